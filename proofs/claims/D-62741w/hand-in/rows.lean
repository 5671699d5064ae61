section
-- ===== PART A: goes FIRST, ahead of the names: the tables' words, and 'selects' of the private methods out of them =====
/-- a private method of a class that the tables say can be made, by its rows of tables_1 -/
def lw_okq (q : MethodName × Nat) : Prop := (q.1.cls ≠ "java/lang/invoke/MethodHandle" ∧ q.1.cls ≠ "java/lang/invoke/VarHandle") ∧ Cond.instantiable q.1.cls q.2 ∈ tables_1 ∧ Cond.privateMethod q.1 ∈ tables_1 ∧ Cond.instanceMethod q.1 ∈ tables_1
set_option maxRecDepth 100000
theorem lw_t1 {w : Cond} (h : w ∈ tables_1_1) : w ∈ tables_1 := List.mem_append_left _ h
theorem lw_t2 {w : Cond} (h : w ∈ tables_1_2) : w ∈ tables_1 := List.mem_append_right _ h
theorem lw_p0 : lw_okq (⟨"ReorderCore", "idle", "()V"⟩, 28) := ⟨⟨by decide +kernel, by decide +kernel⟩, lw_t1 (List.mem_of_getElem? (i := 4) rfl), lw_t1 (List.mem_of_getElem? (i := 104) rfl), lw_t1 (List.mem_of_getElem? (i := 105) rfl)⟩
theorem lw_p1 : lw_okq (⟨"ReorderCore", "refetch", "(I)V"⟩, 28) := ⟨⟨by decide +kernel, by decide +kernel⟩, lw_t1 (List.mem_of_getElem? (i := 4) rfl), lw_t1 (List.mem_of_getElem? (i := 124) rfl), lw_t1 (List.mem_of_getElem? (i := 125) rfl)⟩
theorem lw_p2 : lw_okq (⟨"ReorderCore", "retire", "()I"⟩, 28) := ⟨⟨by decide +kernel, by decide +kernel⟩, lw_t1 (List.mem_of_getElem? (i := 4) rfl), lw_t1 (List.mem_of_getElem? (i := 132) rfl), lw_t1 (List.mem_of_getElem? (i := 133) rfl)⟩
theorem lw_p3 : lw_okq (⟨"ReorderCore", "complete", "()V"⟩, 28) := ⟨⟨by decide +kernel, by decide +kernel⟩, lw_t1 (List.mem_of_getElem? (i := 4) rfl), lw_t1 (List.mem_of_getElem? (i := 136) rfl), lw_t1 (List.mem_of_getElem? (i := 137) rfl)⟩
theorem lw_p4 : lw_okq (⟨"ReorderCore", "work", "(I)V"⟩, 28) := ⟨⟨by decide +kernel, by decide +kernel⟩, lw_t1 (List.mem_of_getElem? (i := 4) rfl), lw_t1 (List.mem_of_getElem? (i := 140) rfl), lw_t1 (List.mem_of_getElem? (i := 141) rfl)⟩
theorem lw_p5 : lw_okq (⟨"ReorderCore", "hand", "(I)V"⟩, 28) := ⟨⟨by decide +kernel, by decide +kernel⟩, lw_t1 (List.mem_of_getElem? (i := 4) rfl), lw_t1 (List.mem_of_getElem? (i := 144) rfl), lw_t1 (List.mem_of_getElem? (i := 145) rfl)⟩
theorem lw_p6 : lw_okq (⟨"ReorderCore", "begin", "()V"⟩, 28) := ⟨⟨by decide +kernel, by decide +kernel⟩, lw_t1 (List.mem_of_getElem? (i := 4) rfl), lw_t1 (List.mem_of_getElem? (i := 148) rfl), lw_t1 (List.mem_of_getElem? (i := 149) rfl)⟩
theorem lw_p7 : lw_okq (⟨"ReorderCore", "issue", "()V"⟩, 28) := ⟨⟨by decide +kernel, by decide +kernel⟩, lw_t1 (List.mem_of_getElem? (i := 4) rfl), lw_t1 (List.mem_of_getElem? (i := 155) rfl), lw_t1 (List.mem_of_getElem? (i := 156) rfl)⟩
theorem lw_p8 : lw_okq (⟨"ReorderCore", "readOperands", "(III)V"⟩, 28) := ⟨⟨by decide +kernel, by decide +kernel⟩, lw_t1 (List.mem_of_getElem? (i := 4) rfl), lw_t1 (List.mem_of_getElem? (i := 159) rfl), lw_t1 (List.mem_of_getElem? (i := 160) rfl)⟩
theorem lw_p9 : lw_okq (⟨"ReorderCore", "readLeft", "(II)V"⟩, 28) := ⟨⟨by decide +kernel, by decide +kernel⟩, lw_t1 (List.mem_of_getElem? (i := 4) rfl), lw_t1 (List.mem_of_getElem? (i := 163) rfl), lw_t1 (List.mem_of_getElem? (i := 164) rfl)⟩
theorem lw_p10 : lw_okq (⟨"ReorderCore", "readRight", "(II)V"⟩, 28) := ⟨⟨by decide +kernel, by decide +kernel⟩, lw_t1 (List.mem_of_getElem? (i := 4) rfl), lw_t1 (List.mem_of_getElem? (i := 167) rfl), lw_t1 (List.mem_of_getElem? (i := 168) rfl)⟩
theorem lw_p11 : lw_okq (⟨"ReorderCore", "follow", "(III)V"⟩, 28) := ⟨⟨by decide +kernel, by decide +kernel⟩, lw_t1 (List.mem_of_getElem? (i := 4) rfl), lw_t1 (List.mem_of_getElem? (i := 171) rfl), lw_t1 (List.mem_of_getElem? (i := 172) rfl)⟩
theorem lw_p12 : lw_okq (⟨"ReorderCoreModel", "idle", "()V"⟩, 9) := ⟨⟨by decide +kernel, by decide +kernel⟩, lw_t1 (List.mem_of_getElem? (i := 199) rfl), lw_t1 (List.mem_of_getElem? (i := 237) rfl), lw_t1 (List.mem_of_getElem? (i := 238) rfl)⟩
theorem lw_p13 : lw_okq (⟨"ReorderCoreModel", "step", "()Z"⟩, 9) := ⟨⟨by decide +kernel, by decide +kernel⟩, lw_t1 (List.mem_of_getElem? (i := 199) rfl), lw_t2 (List.mem_of_getElem? (i := 21) rfl), lw_t2 (List.mem_of_getElem? (i := 22) rfl)⟩
def lw_privs_1 : List (MethodName × Nat) := [(⟨"ReorderCore", "idle", "()V"⟩, 28), (⟨"ReorderCore", "refetch", "(I)V"⟩, 28), (⟨"ReorderCore", "retire", "()I"⟩, 28), (⟨"ReorderCore", "complete", "()V"⟩, 28), (⟨"ReorderCore", "work", "(I)V"⟩, 28), (⟨"ReorderCore", "hand", "(I)V"⟩, 28), (⟨"ReorderCore", "begin", "()V"⟩, 28), (⟨"ReorderCore", "issue", "()V"⟩, 28), (⟨"ReorderCore", "readOperands", "(III)V"⟩, 28), (⟨"ReorderCore", "readLeft", "(II)V"⟩, 28), (⟨"ReorderCore", "readRight", "(II)V"⟩, 28), (⟨"ReorderCore", "follow", "(III)V"⟩, 28), (⟨"ReorderCoreModel", "idle", "()V"⟩, 9), (⟨"ReorderCoreModel", "step", "()Z"⟩, 9)]
theorem lw_r1 : ∀ q ∈ lw_privs_1, lw_okq q := List.forall_mem_cons.mpr ⟨lw_p0, List.forall_mem_cons.mpr ⟨lw_p1, List.forall_mem_cons.mpr ⟨lw_p2, List.forall_mem_cons.mpr ⟨lw_p3, List.forall_mem_cons.mpr ⟨lw_p4, List.forall_mem_cons.mpr ⟨lw_p5, List.forall_mem_cons.mpr ⟨lw_p6, List.forall_mem_cons.mpr ⟨lw_p7, List.forall_mem_cons.mpr ⟨lw_p8, List.forall_mem_cons.mpr ⟨lw_p9, List.forall_mem_cons.mpr ⟨lw_p10, List.forall_mem_cons.mpr ⟨lw_p11, List.forall_mem_cons.mpr ⟨lw_p12, List.forall_mem_cons.mpr ⟨lw_p13, fun _ h => absurd h List.not_mem_nil⟩⟩⟩⟩⟩⟩⟩⟩⟩⟩⟩⟩⟩⟩
def lw_privs : List (MethodName × Nat) := lw_privs_1
def lw_tbl : List Cond := k2_sels lw_privs ++ tables_1
theorem lw_privs_ok : ∀ q ∈ lw_privs, lw_okq q := lw_r1
-- ===== ONE list of words for every method: the tables' words that hold all through a run =====
def lw_all : List Cond := lw_tbl.filter goodWord
/-- a word of the tables by its place: claim/WORDS.tsv -/
theorem lw_w {w : Cond} (i : Nat) (h : lw_tbl[i]? = some w) (g : goodWord w = true) : w ∈ lw_all := List.mem_filter.mpr ⟨List.mem_of_getElem? h, g⟩
theorem lw_all_tbl {w : Cond} (h : w ∈ lw_all) : w ∈ lw_tbl := (List.mem_filter.mp h).1
theorem lw_self : GoodIn lw_all lw_all := fun w h => ⟨h, good_of_word (List.mem_filter.mp h).2⟩
/-- a class's field words, by their places -/
theorem lw_in (ws : List Cond) (ps : List Nat) (hp : ws = ps.filterMap (fun i => lw_tbl[i]?)) (hg : ws.all goodWord = true) : ∀ w ∈ ws, w ∈ lw_all := by
  intro w h
  have h1 := List.all_eq_true.mp hg w h
  rw [hp] at h
  obtain ⟨i, -, hi⟩ := List.mem_filterMap.mp h
  exact lw_w i hi h1
/-- the words of a contract for the method y with code b, L locals, answer r -/
abbrev ws_ (y : MethodName) (b : ByteArray) (L : Nat) (r : Option FieldType) : List Cond := Cond.code y b L r :: lw_all
theorem lw_meth {y : MethodName} {b : ByteArray} {L : Nat} {r : Option FieldType} (h : Cond.code y b L r ∈ lw_all) : GoodIn lw_all (ws_ y b L r) := by
  intro w hw
  rcases List.mem_cons.mp hw with e | e
  · rw [e]
    exact lw_self _ h
  · exact lw_self _ e
theorem lw_app {a c : List Cond} (ha : ∀ w ∈ a, w ∈ lw_all) (hc : GoodIn lw_all c) : GoodIn lw_all (a ++ c) := by
  intro w hw
  rcases List.mem_append.mp hw with e | e
  · exact lw_self w (ha w e)
  · exact hc w e
/-- what a call through an object asks: cwV n hts (lw_V ..) -/
theorem lw_V {own : String} {idx : Nat} {C : String} {y : MethodName} {b : ByteArray} {L : Nat} {r : Option FieldType} (h1 : Cond.methodLink own idx y ∈ lw_all) (h2 : Cond.instanceMethod y ∈ lw_all) (h3 : Cond.selects C y y ∈ lw_all) (h4 : Cond.initialized C ∈ lw_all) (h5 : Cond.code y b L r ∈ lw_all) : GoodIn lw_all (wsV own idx C y (ws_ y b L r)) := by
  refine lw_app ?_ (lw_meth h5)
  intro w hw
  simp only [List.mem_cons, List.not_mem_nil, or_false] at hw
  rcases hw with e | e | e | e
  · rw [e]; exact h1
  · rw [e]; exact h2
  · rw [e]; exact h3
  · rw [e]; exact h4
/-- what a static call asks: va_cwS n hts (lw_S ..) -/
theorem lw_S {own : String} {idx : Nat} {y : MethodName} {b : ByteArray} {L : Nat} {r : Option FieldType} (h1 : Cond.methodLink own idx y ∈ lw_all) (h2 : Cond.static y ∈ lw_all) (h3 : Cond.initialized y.cls ∈ lw_all) (h4 : Cond.code y b L r ∈ lw_all) : GoodIn lw_all (va_wsS own idx y (ws_ y b L r)) := by
  refine lw_app ?_ (lw_meth h4)
  intro w hw
  simp only [List.mem_cons, List.not_mem_nil, or_false] at hw
  rcases hw with e | e | e
  · rw [e]; exact h1
  · rw [e]; exact h2
  · rw [e]; exact h3
/-- the words of a contract for a method WITH HANDLERS (hh: its table) -/
abbrev wsW_ (y : MethodName) (b : ByteArray) (L : Nat) (r : Option FieldType) (hh : List (Nat × Nat × Nat × Nat)) : List Cond := Cond.codeWith y b L r hh :: lw_all
theorem lw_methW {y : MethodName} {b : ByteArray} {L : Nat} {r : Option FieldType} {hh : List (Nat × Nat × Nat × Nat)} (h : Cond.codeWith y b L r hh ∈ lw_all) : GoodIn lw_all (wsW_ y b L r hh) := by
  intro w hw
  rcases List.mem_cons.mp hw with e | e
  · rw [e]
    exact lw_self _ h
  · exact lw_self _ e
/-- any list of words by their places (lw_in), good -/
theorem lw_good {ws : List Cond} (h : ∀ w ∈ ws, w ∈ lw_all) : GoodIn lw_all ws := fun w hw => lw_self w (h w hw)
/-- what a call of a method with handlers asks: vx_cwVW n hts (lw_VW ..), vx_cwSW n hts (lw_SW ..) -/
theorem lw_VW {own : String} {idx : Nat} {C : String} {y : MethodName} {b : ByteArray} {L : Nat} {r : Option FieldType} {hh : List (Nat × Nat × Nat × Nat)} (h1 : Cond.methodLink own idx y ∈ lw_all) (h2 : Cond.instanceMethod y ∈ lw_all) (h3 : Cond.selects C y y ∈ lw_all) (h4 : Cond.initialized C ∈ lw_all) (h5 : Cond.codeWith y b L r hh ∈ lw_all) : GoodIn lw_all (wsV own idx C y (wsW_ y b L r hh)) := by
  refine lw_app ?_ (lw_methW h5)
  intro w hw
  simp only [List.mem_cons, List.not_mem_nil, or_false] at hw
  rcases hw with e | e | e | e
  · rw [e]; exact h1
  · rw [e]; exact h2
  · rw [e]; exact h3
  · rw [e]; exact h4
theorem lw_SW {own : String} {idx : Nat} {y : MethodName} {b : ByteArray} {L : Nat} {r : Option FieldType} {hh : List (Nat × Nat × Nat × Nat)} (h1 : Cond.methodLink own idx y ∈ lw_all) (h2 : Cond.static y ∈ lw_all) (h3 : Cond.initialized y.cls ∈ lw_all) (h4 : Cond.codeWith y b L r hh ∈ lw_all) : GoodIn lw_all (va_wsS own idx y (wsW_ y b L r hh)) := by
  refine lw_app ?_ (lw_methW h4)
  intro w hw
  simp only [List.mem_cons, List.not_mem_nil, or_false] at hw
  rcases hw with e | e | e
  · rw [e]; exact h1
  · rw [e]; exact h2
  · rw [e]; exact h3
/-- a word by its place in its run of the tables -/
theorem lw_at {r : List Cond} (hr : ∀ w ∈ r, w ∈ lw_tbl) {w : Cond} (i : Nat) (h : r[i]? = some w) : w ∈ lw_tbl := hr w (List.mem_of_getElem? h)
theorem lw_g {w : Cond} (h : w ∈ lw_tbl) (g : goodWord w = true) : w ∈ lw_all := List.mem_filter.mpr ⟨h, g⟩
theorem lw_ms : ∀ w ∈ k2_sels lw_privs, w ∈ lw_tbl := fun w h => show w ∈ k2_sels lw_privs ++ tables_1 from List.mem_append_left _ h
theorem lw_m1 : ∀ w ∈ tables_1_1, w ∈ lw_tbl := fun w h => show w ∈ k2_sels lw_privs ++ tables_1 from List.mem_append_right (k2_sels lw_privs) (show w ∈ tables_1 from List.mem_append_left _ h)
theorem lw_m2 : ∀ w ∈ tables_1_2, w ∈ lw_tbl := fun w h => show w ∈ k2_sels lw_privs ++ tables_1 from List.mem_append_right (k2_sels lw_privs) (show w ∈ tables_1 from List.mem_append_right _ h)
theorem qs0 : (Cond.selects "ReorderCore" ⟨"ReorderCore", "idle", "()V"⟩ ⟨"ReorderCore", "idle", "()V"⟩) ∈ lw_all := lw_g (lw_at lw_ms 0 rfl) rfl
theorem qs1 : (Cond.selects "ReorderCore" ⟨"ReorderCore", "refetch", "(I)V"⟩ ⟨"ReorderCore", "refetch", "(I)V"⟩) ∈ lw_all := lw_g (lw_at lw_ms 1 rfl) rfl
theorem qs2 : (Cond.selects "ReorderCore" ⟨"ReorderCore", "retire", "()I"⟩ ⟨"ReorderCore", "retire", "()I"⟩) ∈ lw_all := lw_g (lw_at lw_ms 2 rfl) rfl
theorem qs3 : (Cond.selects "ReorderCore" ⟨"ReorderCore", "complete", "()V"⟩ ⟨"ReorderCore", "complete", "()V"⟩) ∈ lw_all := lw_g (lw_at lw_ms 3 rfl) rfl
theorem qs4 : (Cond.selects "ReorderCore" ⟨"ReorderCore", "work", "(I)V"⟩ ⟨"ReorderCore", "work", "(I)V"⟩) ∈ lw_all := lw_g (lw_at lw_ms 4 rfl) rfl
theorem qs5 : (Cond.selects "ReorderCore" ⟨"ReorderCore", "hand", "(I)V"⟩ ⟨"ReorderCore", "hand", "(I)V"⟩) ∈ lw_all := lw_g (lw_at lw_ms 5 rfl) rfl
theorem qs6 : (Cond.selects "ReorderCore" ⟨"ReorderCore", "begin", "()V"⟩ ⟨"ReorderCore", "begin", "()V"⟩) ∈ lw_all := lw_g (lw_at lw_ms 6 rfl) rfl
theorem qs7 : (Cond.selects "ReorderCore" ⟨"ReorderCore", "issue", "()V"⟩ ⟨"ReorderCore", "issue", "()V"⟩) ∈ lw_all := lw_g (lw_at lw_ms 7 rfl) rfl
theorem qs8 : (Cond.selects "ReorderCore" ⟨"ReorderCore", "readOperands", "(III)V"⟩ ⟨"ReorderCore", "readOperands", "(III)V"⟩) ∈ lw_all := lw_g (lw_at lw_ms 8 rfl) rfl
theorem qs9 : (Cond.selects "ReorderCore" ⟨"ReorderCore", "readLeft", "(II)V"⟩ ⟨"ReorderCore", "readLeft", "(II)V"⟩) ∈ lw_all := lw_g (lw_at lw_ms 9 rfl) rfl
theorem qs10 : (Cond.selects "ReorderCore" ⟨"ReorderCore", "readRight", "(II)V"⟩ ⟨"ReorderCore", "readRight", "(II)V"⟩) ∈ lw_all := lw_g (lw_at lw_ms 10 rfl) rfl
theorem qs11 : (Cond.selects "ReorderCore" ⟨"ReorderCore", "follow", "(III)V"⟩ ⟨"ReorderCore", "follow", "(III)V"⟩) ∈ lw_all := lw_g (lw_at lw_ms 11 rfl) rfl
theorem qs12 : (Cond.selects "ReorderCoreModel" ⟨"ReorderCoreModel", "idle", "()V"⟩ ⟨"ReorderCoreModel", "idle", "()V"⟩) ∈ lw_all := lw_g (lw_at lw_ms 12 rfl) rfl
theorem qs13 : (Cond.selects "ReorderCoreModel" ⟨"ReorderCoreModel", "step", "()Z"⟩ ⟨"ReorderCoreModel", "step", "()Z"⟩) ∈ lw_all := lw_g (lw_at lw_ms 13 rfl) rfl
end
section
/-! ReorderCore -/
set_option maxRecDepth 100000
def RX0 : String := "ReorderCore"
def TX0 : u_T := fun k => match k with
  | 0 => ("ReorderCore", "ops", "[B", true)
  | 1 => ("ReorderCore", "regs", "[B", true)
  | 2 => ("ReorderCore", "numbers", "[I", true)
  | 3 => ("ReorderCore", "size", "I", false)
  | 4 => ("ReorderCore", "registers", "[I", true)
  | 5 => ("ReorderCore", "cells", "[I", true)
  | 6 => ("ReorderCore", "at", "I", false)
  | 7 => ("ReorderCore", "state", "I", false)
  | 8 => ("ReorderCore", "count", "I", false)
  | 9 => ("ReorderCore", "guessBits", "I", false)
  | 10 => ("ReorderCore", "fetchAt", "I", false)
  | 11 => ("ReorderCore", "fetching", "Z", false)
  | 12 => ("ReorderCore", "first", "I", false)
  | 13 => ("ReorderCore", "under", "I", false)
  | 14 => ("ReorderCore", "opOf", "[B", true)
  | 15 => ("ReorderCore", "placeOf", "[I", true)
  | 16 => ("ReorderCore", "stage", "[B", true)
  | 17 => ("ReorderCore", "left", "[B", true)
  | 18 => ("ReorderCore", "result", "[I", true)
  | 19 => ("ReorderCore", "address", "[I", true)
  | 20 => ("ReorderCore", "traps", "[Z", true)
  | 21 => ("ReorderCore", "guessed", "[I", true)
  | 22 => ("ReorderCore", "target", "[B", true)
  | 23 => ("ReorderCore", "leftFrom", "[B", true)
  | 24 => ("ReorderCore", "rightFrom", "[B", true)
  | 25 => ("ReorderCore", "leftValue", "[I", true)
  | 26 => ("ReorderCore", "rightValue", "[I", true)
  | _ => ("ReorderCore", "maker", "[B", true)
def tyX0 : Nat → FieldType := fun k => match k with
  | 0 => .array .byte
  | 1 => .array .byte
  | 2 => .array .int
  | 3 => .int
  | 4 => .array .int
  | 5 => .array .int
  | 6 => .int
  | 7 => .int
  | 8 => .int
  | 9 => .int
  | 10 => .int
  | 11 => .boolean
  | 12 => .int
  | 13 => .int
  | 14 => .array .byte
  | 15 => .array .int
  | 16 => .array .byte
  | 17 => .array .byte
  | 18 => .array .int
  | 19 => .array .int
  | 20 => .array .boolean
  | 21 => .array .int
  | 22 => .array .byte
  | 23 => .array .byte
  | 24 => .array .byte
  | 25 => .array .int
  | 26 => .array .int
  | _ => .array .byte
abbrev wsX00 : List Cond := u_ws RX0 TX0 28
set_option maxRecDepth 100000 in
theorem nmX0 : ∀ a, a < 28 → ∀ b, b < 28 → a ≠ b → (TX0 a).2.1 ≠ (TX0 b).2.1 := by decide +kernel
set_option maxRecDepth 100000 in
theorem tyX0_ok : ∀ k, k < 28 → parseFieldDescriptor (TX0 k).2.2.1 = some (tyX0 k) := by decide +kernel
abbrev cX0_init : ByteArray := prog_1_method_1_code
def yX0_init : MethodName := ⟨RX0, "<init>", "()V"⟩
theorem dX0_init_0 : decode cX0_init 0 = .ok (.aload_n 0, 1) := by decide +kernel
theorem dX0_init_1 : decode cX0_init 1 = .ok (.invokespecial 1, 3) := by decide +kernel
theorem dX0_init_4 : decode cX0_init 4 = .ok (.aload_n 0, 1) := by decide +kernel
theorem dX0_init_5 : decode cX0_init 5 = .ok (.bipush 16, 2) := by decide +kernel
theorem dX0_init_7 : decode cX0_init 7 = .ok (.newarray .byte, 2) := by decide +kernel
theorem dX0_init_9 : decode cX0_init 9 = .ok (.putfield 7, 3) := by decide +kernel
theorem dX0_init_12 : decode cX0_init 12 = .ok (.aload_n 0, 1) := by decide +kernel
theorem dX0_init_13 : decode cX0_init 13 = .ok (.bipush 16, 2) := by decide +kernel
theorem dX0_init_15 : decode cX0_init 15 = .ok (.newarray .byte, 2) := by decide +kernel
theorem dX0_init_17 : decode cX0_init 17 = .ok (.putfield 13, 3) := by decide +kernel
theorem dX0_init_20 : decode cX0_init 20 = .ok (.aload_n 0, 1) := by decide +kernel
theorem dX0_init_21 : decode cX0_init 21 = .ok (.bipush 16, 2) := by decide +kernel
theorem dX0_init_23 : decode cX0_init 23 = .ok (.newarray .int, 2) := by decide +kernel
theorem dX0_init_25 : decode cX0_init 25 = .ok (.putfield 16, 3) := by decide +kernel
theorem dX0_init_28 : decode cX0_init 28 = .ok (.aload_n 0, 1) := by decide +kernel
theorem dX0_init_29 : decode cX0_init 29 = .ok (.iconst 4, 1) := by decide +kernel
theorem dX0_init_30 : decode cX0_init 30 = .ok (.newarray .int, 2) := by decide +kernel
theorem dX0_init_32 : decode cX0_init 32 = .ok (.putfield 20, 3) := by decide +kernel
theorem dX0_init_35 : decode cX0_init 35 = .ok (.aload_n 0, 1) := by decide +kernel
theorem dX0_init_36 : decode cX0_init 36 = .ok (.bipush 8, 2) := by decide +kernel
theorem dX0_init_38 : decode cX0_init 38 = .ok (.newarray .int, 2) := by decide +kernel
theorem dX0_init_40 : decode cX0_init 40 = .ok (.putfield 23, 3) := by decide +kernel
theorem dX0_init_43 : decode cX0_init 43 = .ok (.aload_n 0, 1) := by decide +kernel
theorem dX0_init_44 : decode cX0_init 44 = .ok (.bipush 6, 2) := by decide +kernel
theorem dX0_init_46 : decode cX0_init 46 = .ok (.newarray .byte, 2) := by decide +kernel
theorem dX0_init_48 : decode cX0_init 48 = .ok (.putfield 26, 3) := by decide +kernel
theorem dX0_init_51 : decode cX0_init 51 = .ok (.aload_n 0, 1) := by decide +kernel
theorem dX0_init_52 : decode cX0_init 52 = .ok (.bipush 6, 2) := by decide +kernel
theorem dX0_init_54 : decode cX0_init 54 = .ok (.newarray .int, 2) := by decide +kernel
theorem dX0_init_56 : decode cX0_init 56 = .ok (.putfield 29, 3) := by decide +kernel
theorem dX0_init_59 : decode cX0_init 59 = .ok (.aload_n 0, 1) := by decide +kernel
theorem dX0_init_60 : decode cX0_init 60 = .ok (.bipush 6, 2) := by decide +kernel
theorem dX0_init_62 : decode cX0_init 62 = .ok (.newarray .byte, 2) := by decide +kernel
theorem dX0_init_64 : decode cX0_init 64 = .ok (.putfield 32, 3) := by decide +kernel
theorem dX0_init_67 : decode cX0_init 67 = .ok (.aload_n 0, 1) := by decide +kernel
theorem dX0_init_68 : decode cX0_init 68 = .ok (.bipush 6, 2) := by decide +kernel
theorem dX0_init_70 : decode cX0_init 70 = .ok (.newarray .byte, 2) := by decide +kernel
theorem dX0_init_72 : decode cX0_init 72 = .ok (.putfield 35, 3) := by decide +kernel
theorem dX0_init_75 : decode cX0_init 75 = .ok (.aload_n 0, 1) := by decide +kernel
theorem dX0_init_76 : decode cX0_init 76 = .ok (.bipush 6, 2) := by decide +kernel
theorem dX0_init_78 : decode cX0_init 78 = .ok (.newarray .int, 2) := by decide +kernel
theorem dX0_init_80 : decode cX0_init 80 = .ok (.putfield 38, 3) := by decide +kernel
theorem dX0_init_83 : decode cX0_init 83 = .ok (.aload_n 0, 1) := by decide +kernel
theorem dX0_init_84 : decode cX0_init 84 = .ok (.bipush 6, 2) := by decide +kernel
theorem dX0_init_86 : decode cX0_init 86 = .ok (.newarray .int, 2) := by decide +kernel
theorem dX0_init_88 : decode cX0_init 88 = .ok (.putfield 41, 3) := by decide +kernel
theorem dX0_init_91 : decode cX0_init 91 = .ok (.aload_n 0, 1) := by decide +kernel
theorem dX0_init_92 : decode cX0_init 92 = .ok (.bipush 6, 2) := by decide +kernel
theorem dX0_init_94 : decode cX0_init 94 = .ok (.newarray .boolean, 2) := by decide +kernel
theorem dX0_init_96 : decode cX0_init 96 = .ok (.putfield 44, 3) := by decide +kernel
theorem dX0_init_99 : decode cX0_init 99 = .ok (.aload_n 0, 1) := by decide +kernel
theorem dX0_init_100 : decode cX0_init 100 = .ok (.bipush 6, 2) := by decide +kernel
theorem dX0_init_102 : decode cX0_init 102 = .ok (.newarray .int, 2) := by decide +kernel
theorem dX0_init_104 : decode cX0_init 104 = .ok (.putfield 48, 3) := by decide +kernel
theorem dX0_init_107 : decode cX0_init 107 = .ok (.aload_n 0, 1) := by decide +kernel
theorem dX0_init_108 : decode cX0_init 108 = .ok (.bipush 6, 2) := by decide +kernel
theorem dX0_init_110 : decode cX0_init 110 = .ok (.newarray .byte, 2) := by decide +kernel
theorem dX0_init_112 : decode cX0_init 112 = .ok (.putfield 51, 3) := by decide +kernel
theorem dX0_init_115 : decode cX0_init 115 = .ok (.aload_n 0, 1) := by decide +kernel
theorem dX0_init_116 : decode cX0_init 116 = .ok (.bipush 6, 2) := by decide +kernel
theorem dX0_init_118 : decode cX0_init 118 = .ok (.newarray .byte, 2) := by decide +kernel
theorem dX0_init_120 : decode cX0_init 120 = .ok (.putfield 54, 3) := by decide +kernel
theorem dX0_init_123 : decode cX0_init 123 = .ok (.aload_n 0, 1) := by decide +kernel
theorem dX0_init_124 : decode cX0_init 124 = .ok (.bipush 6, 2) := by decide +kernel
theorem dX0_init_126 : decode cX0_init 126 = .ok (.newarray .byte, 2) := by decide +kernel
theorem dX0_init_128 : decode cX0_init 128 = .ok (.putfield 57, 3) := by decide +kernel
theorem dX0_init_131 : decode cX0_init 131 = .ok (.aload_n 0, 1) := by decide +kernel
theorem dX0_init_132 : decode cX0_init 132 = .ok (.bipush 6, 2) := by decide +kernel
theorem dX0_init_134 : decode cX0_init 134 = .ok (.newarray .int, 2) := by decide +kernel
theorem dX0_init_136 : decode cX0_init 136 = .ok (.putfield 60, 3) := by decide +kernel
theorem dX0_init_139 : decode cX0_init 139 = .ok (.aload_n 0, 1) := by decide +kernel
theorem dX0_init_140 : decode cX0_init 140 = .ok (.bipush 6, 2) := by decide +kernel
theorem dX0_init_142 : decode cX0_init 142 = .ok (.newarray .int, 2) := by decide +kernel
theorem dX0_init_144 : decode cX0_init 144 = .ok (.putfield 63, 3) := by decide +kernel
theorem dX0_init_147 : decode cX0_init 147 = .ok (.aload_n 0, 1) := by decide +kernel
theorem dX0_init_148 : decode cX0_init 148 = .ok (.iconst 4, 1) := by decide +kernel
theorem dX0_init_149 : decode cX0_init 149 = .ok (.newarray .byte, 2) := by decide +kernel
theorem dX0_init_151 : decode cX0_init 151 = .ok (.putfield 66, 3) := by decide +kernel
theorem dX0_init_154 : decode cX0_init 154 = .ok (.return_, 1) := by decide +kernel
abbrev cX0_emit : ByteArray := prog_1_method_2_code
def yX0_emit : MethodName := ⟨RX0, "emit", "(III)I"⟩
theorem dX0_emit_0 : decode cX0_emit 0 = .ok (.iload_n 1, 1) := by decide +kernel
theorem dX0_emit_1 : decode cX0_emit 1 = .ok (.ifCond .lt 19, 3) := by decide +kernel
theorem dX0_emit_4 : decode cX0_emit 4 = .ok (.iload_n 1, 1) := by decide +kernel
theorem dX0_emit_5 : decode cX0_emit 5 = .ok (.bipush 8, 2) := by decide +kernel
theorem dX0_emit_7 : decode cX0_emit 7 = .ok (.if_icmp .gt 13, 3) := by decide +kernel
theorem dX0_emit_10 : decode cX0_emit 10 = .ok (.iload_n 2, 1) := by decide +kernel
theorem dX0_emit_11 : decode cX0_emit 11 = .ok (.ifCond .lt 9, 3) := by decide +kernel
theorem dX0_emit_14 : decode cX0_emit 14 = .ok (.iload_n 2, 1) := by decide +kernel
theorem dX0_emit_15 : decode cX0_emit 15 = .ok (.bipush 63, 2) := by decide +kernel
theorem dX0_emit_17 : decode cX0_emit 17 = .ok (.if_icmp .le 5, 3) := by decide +kernel
theorem dX0_emit_20 : decode cX0_emit 20 = .ok (.iconst (-1), 1) := by decide +kernel
theorem dX0_emit_21 : decode cX0_emit 21 = .ok (.ireturn, 1) := by decide +kernel
theorem dX0_emit_22 : decode cX0_emit 22 = .ok (.aload_n 0, 1) := by decide +kernel
theorem dX0_emit_23 : decode cX0_emit 23 = .ok (.getfield 69, 3) := by decide +kernel
theorem dX0_emit_26 : decode cX0_emit 26 = .ok (.bipush 16, 2) := by decide +kernel
theorem dX0_emit_28 : decode cX0_emit 28 = .ok (.if_icmp .lt 6, 3) := by decide +kernel
theorem dX0_emit_31 : decode cX0_emit 31 = .ok (.bipush (-2), 2) := by decide +kernel
theorem dX0_emit_33 : decode cX0_emit 33 = .ok (.ireturn, 1) := by decide +kernel
theorem dX0_emit_34 : decode cX0_emit 34 = .ok (.aload_n 0, 1) := by decide +kernel
theorem dX0_emit_35 : decode cX0_emit 35 = .ok (.getfield 7, 3) := by decide +kernel
theorem dX0_emit_38 : decode cX0_emit 38 = .ok (.aload_n 0, 1) := by decide +kernel
theorem dX0_emit_39 : decode cX0_emit 39 = .ok (.getfield 69, 3) := by decide +kernel
theorem dX0_emit_42 : decode cX0_emit 42 = .ok (.iload_n 1, 1) := by decide +kernel
theorem dX0_emit_43 : decode cX0_emit 43 = .ok (.i2b, 1) := by decide +kernel
theorem dX0_emit_44 : decode cX0_emit 44 = .ok (.bastore, 1) := by decide +kernel
theorem dX0_emit_45 : decode cX0_emit 45 = .ok (.aload_n 0, 1) := by decide +kernel
theorem dX0_emit_46 : decode cX0_emit 46 = .ok (.getfield 13, 3) := by decide +kernel
theorem dX0_emit_49 : decode cX0_emit 49 = .ok (.aload_n 0, 1) := by decide +kernel
theorem dX0_emit_50 : decode cX0_emit 50 = .ok (.getfield 69, 3) := by decide +kernel
theorem dX0_emit_53 : decode cX0_emit 53 = .ok (.iload_n 2, 1) := by decide +kernel
theorem dX0_emit_54 : decode cX0_emit 54 = .ok (.i2b, 1) := by decide +kernel
theorem dX0_emit_55 : decode cX0_emit 55 = .ok (.bastore, 1) := by decide +kernel
theorem dX0_emit_56 : decode cX0_emit 56 = .ok (.aload_n 0, 1) := by decide +kernel
theorem dX0_emit_57 : decode cX0_emit 57 = .ok (.getfield 16, 3) := by decide +kernel
theorem dX0_emit_60 : decode cX0_emit 60 = .ok (.aload_n 0, 1) := by decide +kernel
theorem dX0_emit_61 : decode cX0_emit 61 = .ok (.getfield 69, 3) := by decide +kernel
theorem dX0_emit_64 : decode cX0_emit 64 = .ok (.iload_n 3, 1) := by decide +kernel
theorem dX0_emit_65 : decode cX0_emit 65 = .ok (.iastore, 1) := by decide +kernel
theorem dX0_emit_66 : decode cX0_emit 66 = .ok (.aload_n 0, 1) := by decide +kernel
theorem dX0_emit_67 : decode cX0_emit 67 = .ok (.dup, 1) := by decide +kernel
theorem dX0_emit_68 : decode cX0_emit 68 = .ok (.getfield 69, 3) := by decide +kernel
theorem dX0_emit_71 : decode cX0_emit 71 = .ok (.iconst 1, 1) := by decide +kernel
theorem dX0_emit_72 : decode cX0_emit 72 = .ok (.iadd, 1) := by decide +kernel
theorem dX0_emit_73 : decode cX0_emit 73 = .ok (.putfield 69, 3) := by decide +kernel
theorem dX0_emit_76 : decode cX0_emit 76 = .ok (.aload_n 0, 1) := by decide +kernel
theorem dX0_emit_77 : decode cX0_emit 77 = .ok (.invokevirtual 73, 3) := by decide +kernel
theorem dX0_emit_80 : decode cX0_emit 80 = .ok (.aload_n 0, 1) := by decide +kernel
theorem dX0_emit_81 : decode cX0_emit 81 = .ok (.getfield 69, 3) := by decide +kernel
theorem dX0_emit_84 : decode cX0_emit 84 = .ok (.iconst 1, 1) := by decide +kernel
theorem dX0_emit_85 : decode cX0_emit 85 = .ok (.isub, 1) := by decide +kernel
theorem dX0_emit_86 : decode cX0_emit 86 = .ok (.ireturn, 1) := by decide +kernel
abbrev cX0_idle : ByteArray := prog_1_method_3_code
def yX0_idle : MethodName := ⟨RX0, "idle", "()V"⟩
theorem dX0_idle_0 : decode cX0_idle 0 = .ok (.aload_n 0, 1) := by decide +kernel
theorem dX0_idle_1 : decode cX0_idle 1 = .ok (.iconst 0, 1) := by decide +kernel
theorem dX0_idle_2 : decode cX0_idle 2 = .ok (.putfield 76, 3) := by decide +kernel
theorem dX0_idle_5 : decode cX0_idle 5 = .ok (.aload_n 0, 1) := by decide +kernel
theorem dX0_idle_6 : decode cX0_idle 6 = .ok (.iconst 0, 1) := by decide +kernel
theorem dX0_idle_7 : decode cX0_idle 7 = .ok (.putfield 79, 3) := by decide +kernel
theorem dX0_idle_10 : decode cX0_idle 10 = .ok (.aload_n 0, 1) := by decide +kernel
theorem dX0_idle_11 : decode cX0_idle 11 = .ok (.iconst 0, 1) := by decide +kernel
theorem dX0_idle_12 : decode cX0_idle 12 = .ok (.putfield 82, 3) := by decide +kernel
theorem dX0_idle_15 : decode cX0_idle 15 = .ok (.return_, 1) := by decide +kernel
abbrev cX0_clear : ByteArray := prog_1_method_4_code
def yX0_clear : MethodName := ⟨RX0, "clear", "()V"⟩
theorem dX0_clear_0 : decode cX0_clear 0 = .ok (.aload_n 0, 1) := by decide +kernel
theorem dX0_clear_1 : decode cX0_clear 1 = .ok (.iconst 0, 1) := by decide +kernel
theorem dX0_clear_2 : decode cX0_clear 2 = .ok (.putfield 69, 3) := by decide +kernel
theorem dX0_clear_5 : decode cX0_clear 5 = .ok (.aload_n 0, 1) := by decide +kernel
theorem dX0_clear_6 : decode cX0_clear 6 = .ok (.invokevirtual 73, 3) := by decide +kernel
theorem dX0_clear_9 : decode cX0_clear 9 = .ok (.return_, 1) := by decide +kernel
abbrev cX0_length : ByteArray := prog_1_method_5_code
def yX0_length : MethodName := ⟨RX0, "length", "()I"⟩
theorem dX0_length_0 : decode cX0_length 0 = .ok (.aload_n 0, 1) := by decide +kernel
theorem dX0_length_1 : decode cX0_length 1 = .ok (.getfield 69, 3) := by decide +kernel
theorem dX0_length_4 : decode cX0_length 4 = .ok (.ireturn, 1) := by decide +kernel
abbrev cX0_set : ByteArray := prog_1_method_6_code
def yX0_set : MethodName := ⟨RX0, "set", "(II)Z"⟩
theorem dX0_set_0 : decode cX0_set 0 = .ok (.aload_n 0, 1) := by decide +kernel
theorem dX0_set_1 : decode cX0_set 1 = .ok (.getfield 76, 3) := by decide +kernel
theorem dX0_set_4 : decode cX0_set 4 = .ok (.iconst 1, 1) := by decide +kernel
theorem dX0_set_5 : decode cX0_set 5 = .ok (.if_icmp .ne 5, 3) := by decide +kernel
theorem dX0_set_8 : decode cX0_set 8 = .ok (.iconst 0, 1) := by decide +kernel
theorem dX0_set_9 : decode cX0_set 9 = .ok (.ireturn, 1) := by decide +kernel
theorem dX0_set_10 : decode cX0_set 10 = .ok (.iload_n 1, 1) := by decide +kernel
theorem dX0_set_11 : decode cX0_set 11 = .ok (.ifCond .lt 17, 3) := by decide +kernel
theorem dX0_set_14 : decode cX0_set 14 = .ok (.iload_n 1, 1) := by decide +kernel
theorem dX0_set_15 : decode cX0_set 15 = .ok (.iconst 4, 1) := by decide +kernel
theorem dX0_set_16 : decode cX0_set 16 = .ok (.if_icmp .ge 12, 3) := by decide +kernel
theorem dX0_set_19 : decode cX0_set 19 = .ok (.aload_n 0, 1) := by decide +kernel
theorem dX0_set_20 : decode cX0_set 20 = .ok (.getfield 20, 3) := by decide +kernel
theorem dX0_set_23 : decode cX0_set 23 = .ok (.iload_n 1, 1) := by decide +kernel
theorem dX0_set_24 : decode cX0_set 24 = .ok (.iload_n 2, 1) := by decide +kernel
theorem dX0_set_25 : decode cX0_set 25 = .ok (.iastore, 1) := by decide +kernel
theorem dX0_set_26 : decode cX0_set 26 = .ok (.iconst 1, 1) := by decide +kernel
theorem dX0_set_27 : decode cX0_set 27 = .ok (.ireturn, 1) := by decide +kernel
theorem dX0_set_28 : decode cX0_set 28 = .ok (.iload_n 1, 1) := by decide +kernel
theorem dX0_set_29 : decode cX0_set 29 = .ok (.bipush 8, 2) := by decide +kernel
theorem dX0_set_31 : decode cX0_set 31 = .ok (.if_icmp .lt 21, 3) := by decide +kernel
theorem dX0_set_34 : decode cX0_set 34 = .ok (.iload_n 1, 1) := by decide +kernel
theorem dX0_set_35 : decode cX0_set 35 = .ok (.bipush 16, 2) := by decide +kernel
theorem dX0_set_37 : decode cX0_set 37 = .ok (.if_icmp .ge 15, 3) := by decide +kernel
theorem dX0_set_40 : decode cX0_set 40 = .ok (.aload_n 0, 1) := by decide +kernel
theorem dX0_set_41 : decode cX0_set 41 = .ok (.getfield 23, 3) := by decide +kernel
theorem dX0_set_44 : decode cX0_set 44 = .ok (.iload_n 1, 1) := by decide +kernel
theorem dX0_set_45 : decode cX0_set 45 = .ok (.bipush 8, 2) := by decide +kernel
theorem dX0_set_47 : decode cX0_set 47 = .ok (.isub, 1) := by decide +kernel
theorem dX0_set_48 : decode cX0_set 48 = .ok (.iload_n 2, 1) := by decide +kernel
theorem dX0_set_49 : decode cX0_set 49 = .ok (.iastore, 1) := by decide +kernel
theorem dX0_set_50 : decode cX0_set 50 = .ok (.iconst 1, 1) := by decide +kernel
theorem dX0_set_51 : decode cX0_set 51 = .ok (.ireturn, 1) := by decide +kernel
theorem dX0_set_52 : decode cX0_set 52 = .ok (.iconst 0, 1) := by decide +kernel
theorem dX0_set_53 : decode cX0_set 53 = .ok (.ireturn, 1) := by decide +kernel
abbrev cX0_start : ByteArray := prog_1_method_7_code
def yX0_start : MethodName := ⟨RX0, "start", "(I)V"⟩
theorem dX0_start_0 : decode cX0_start 0 = .ok (.aload_n 0, 1) := by decide +kernel
theorem dX0_start_1 : decode cX0_start 1 = .ok (.iconst 1, 1) := by decide +kernel
theorem dX0_start_2 : decode cX0_start 2 = .ok (.putfield 76, 3) := by decide +kernel
theorem dX0_start_5 : decode cX0_start 5 = .ok (.aload_n 0, 1) := by decide +kernel
theorem dX0_start_6 : decode cX0_start 6 = .ok (.iconst 0, 1) := by decide +kernel
theorem dX0_start_7 : decode cX0_start 7 = .ok (.putfield 79, 3) := by decide +kernel
theorem dX0_start_10 : decode cX0_start 10 = .ok (.aload_n 0, 1) := by decide +kernel
theorem dX0_start_11 : decode cX0_start 11 = .ok (.iconst 0, 1) := by decide +kernel
theorem dX0_start_12 : decode cX0_start 12 = .ok (.putfield 82, 3) := by decide +kernel
theorem dX0_start_15 : decode cX0_start 15 = .ok (.aload_n 0, 1) := by decide +kernel
theorem dX0_start_16 : decode cX0_start 16 = .ok (.iload_n 1, 1) := by decide +kernel
theorem dX0_start_17 : decode cX0_start 17 = .ok (.putfield 85, 3) := by decide +kernel
theorem dX0_start_20 : decode cX0_start 20 = .ok (.aload_n 0, 1) := by decide +kernel
theorem dX0_start_21 : decode cX0_start 21 = .ok (.iconst 0, 1) := by decide +kernel
theorem dX0_start_22 : decode cX0_start 22 = .ok (.invokevirtual 88, 3) := by decide +kernel
theorem dX0_start_25 : decode cX0_start 25 = .ok (.return_, 1) := by decide +kernel
abbrev cX0_refetch : ByteArray := prog_1_method_8_code
def yX0_refetch : MethodName := ⟨RX0, "refetch", "(I)V"⟩
theorem dX0_refetch_0 : decode cX0_refetch 0 = .ok (.aload_n 0, 1) := by decide +kernel
theorem dX0_refetch_1 : decode cX0_refetch 1 = .ok (.iconst 0, 1) := by decide +kernel
theorem dX0_refetch_2 : decode cX0_refetch 2 = .ok (.putfield 92, 3) := by decide +kernel
theorem dX0_refetch_5 : decode cX0_refetch 5 = .ok (.aload_n 0, 1) := by decide +kernel
theorem dX0_refetch_6 : decode cX0_refetch 6 = .ok (.iconst 0, 1) := by decide +kernel
theorem dX0_refetch_7 : decode cX0_refetch 7 = .ok (.putfield 95, 3) := by decide +kernel
theorem dX0_refetch_10 : decode cX0_refetch 10 = .ok (.aload_n 0, 1) := by decide +kernel
theorem dX0_refetch_11 : decode cX0_refetch 11 = .ok (.iload_n 1, 1) := by decide +kernel
theorem dX0_refetch_12 : decode cX0_refetch 12 = .ok (.putfield 98, 3) := by decide +kernel
theorem dX0_refetch_15 : decode cX0_refetch 15 = .ok (.aload_n 0, 1) := by decide +kernel
theorem dX0_refetch_16 : decode cX0_refetch 16 = .ok (.iconst 1, 1) := by decide +kernel
theorem dX0_refetch_17 : decode cX0_refetch 17 = .ok (.putfield 101, 3) := by decide +kernel
theorem dX0_refetch_20 : decode cX0_refetch 20 = .ok (.iconst 0, 1) := by decide +kernel
theorem dX0_refetch_21 : decode cX0_refetch 21 = .ok (.istore_n 2, 1) := by decide +kernel
theorem dX0_refetch_22 : decode cX0_refetch 22 = .ok (.iload_n 2, 1) := by decide +kernel
theorem dX0_refetch_23 : decode cX0_refetch 23 = .ok (.iconst 4, 1) := by decide +kernel
theorem dX0_refetch_24 : decode cX0_refetch 24 = .ok (.if_icmp .ge 16, 3) := by decide +kernel
theorem dX0_refetch_27 : decode cX0_refetch 27 = .ok (.aload_n 0, 1) := by decide +kernel
theorem dX0_refetch_28 : decode cX0_refetch 28 = .ok (.getfield 66, 3) := by decide +kernel
theorem dX0_refetch_31 : decode cX0_refetch 31 = .ok (.iload_n 2, 1) := by decide +kernel
theorem dX0_refetch_32 : decode cX0_refetch 32 = .ok (.iconst (-1), 1) := by decide +kernel
theorem dX0_refetch_33 : decode cX0_refetch 33 = .ok (.bastore, 1) := by decide +kernel
theorem dX0_refetch_34 : decode cX0_refetch 34 = .ok (.iinc 2 1, 3) := by decide +kernel
theorem dX0_refetch_37 : decode cX0_refetch 37 = .ok (.goto (-15), 3) := by decide +kernel
theorem dX0_refetch_40 : decode cX0_refetch 40 = .ok (.return_, 1) := by decide +kernel
abbrev cX0_finish : ByteArray := prog_1_method_9_code
def yX0_finish : MethodName := ⟨RX0, "finish", "(I)I"⟩
theorem dX0_finish_0 : decode cX0_finish 0 = .ok (.iload_n 1, 1) := by decide +kernel
theorem dX0_finish_1 : decode cX0_finish 1 = .ok (.ifCond .ge 7, 3) := by decide +kernel
theorem dX0_finish_4 : decode cX0_finish 4 = .ok (.iconst 0, 1) := by decide +kernel
theorem dX0_finish_5 : decode cX0_finish 5 = .ok (.goto 17, 3) := by decide +kernel
theorem dX0_finish_8 : decode cX0_finish 8 = .ok (.iload_n 1, 1) := by decide +kernel
theorem dX0_finish_9 : decode cX0_finish 9 = .ok (.sipush 200, 3) := by decide +kernel
theorem dX0_finish_12 : decode cX0_finish 12 = .ok (.if_icmp .le 9, 3) := by decide +kernel
theorem dX0_finish_15 : decode cX0_finish 15 = .ok (.sipush 200, 3) := by decide +kernel
theorem dX0_finish_18 : decode cX0_finish 18 = .ok (.goto 4, 3) := by decide +kernel
theorem dX0_finish_21 : decode cX0_finish 21 = .ok (.iload_n 1, 1) := by decide +kernel
theorem dX0_finish_22 : decode cX0_finish 22 = .ok (.istore_n 2, 1) := by decide +kernel
theorem dX0_finish_23 : decode cX0_finish 23 = .ok (.iconst 0, 1) := by decide +kernel
theorem dX0_finish_24 : decode cX0_finish 24 = .ok (.istore_n 3, 1) := by decide +kernel
theorem dX0_finish_25 : decode cX0_finish 25 = .ok (.iconst 0, 1) := by decide +kernel
theorem dX0_finish_26 : decode cX0_finish 26 = .ok (.istore 4, 2) := by decide +kernel
theorem dX0_finish_28 : decode cX0_finish 28 = .ok (.iload 4, 2) := by decide +kernel
theorem dX0_finish_30 : decode cX0_finish 30 = .ok (.sipush 3216, 3) := by decide +kernel
theorem dX0_finish_33 : decode cX0_finish 33 = .ok (.if_icmp .ge 54, 3) := by decide +kernel
theorem dX0_finish_36 : decode cX0_finish 36 = .ok (.iload_n 3, 1) := by decide +kernel
theorem dX0_finish_37 : decode cX0_finish 37 = .ok (.iload_n 2, 1) := by decide +kernel
theorem dX0_finish_38 : decode cX0_finish 38 = .ok (.if_icmp .ge 49, 3) := by decide +kernel
theorem dX0_finish_41 : decode cX0_finish 41 = .ok (.aload_n 0, 1) := by decide +kernel
theorem dX0_finish_42 : decode cX0_finish 42 = .ok (.getfield 76, 3) := by decide +kernel
theorem dX0_finish_45 : decode cX0_finish 45 = .ok (.iconst 1, 1) := by decide +kernel
theorem dX0_finish_46 : decode cX0_finish 46 = .ok (.if_icmp .ne 41, 3) := by decide +kernel
theorem dX0_finish_49 : decode cX0_finish 49 = .ok (.iload_n 3, 1) := by decide +kernel
theorem dX0_finish_50 : decode cX0_finish 50 = .ok (.aload_n 0, 1) := by decide +kernel
theorem dX0_finish_51 : decode cX0_finish 51 = .ok (.invokevirtual 105, 3) := by decide +kernel
theorem dX0_finish_54 : decode cX0_finish 54 = .ok (.iadd, 1) := by decide +kernel
theorem dX0_finish_55 : decode cX0_finish 55 = .ok (.istore_n 3, 1) := by decide +kernel
theorem dX0_finish_56 : decode cX0_finish 56 = .ok (.iload_n 3, 1) := by decide +kernel
theorem dX0_finish_57 : decode cX0_finish 57 = .ok (.iload_n 2, 1) := by decide +kernel
theorem dX0_finish_58 : decode cX0_finish 58 = .ok (.if_icmp .ge 23, 3) := by decide +kernel
theorem dX0_finish_61 : decode cX0_finish 61 = .ok (.aload_n 0, 1) := by decide +kernel
theorem dX0_finish_62 : decode cX0_finish 62 = .ok (.getfield 76, 3) := by decide +kernel
theorem dX0_finish_65 : decode cX0_finish 65 = .ok (.iconst 1, 1) := by decide +kernel
theorem dX0_finish_66 : decode cX0_finish 66 = .ok (.if_icmp .ne 15, 3) := by decide +kernel
theorem dX0_finish_69 : decode cX0_finish 69 = .ok (.aload_n 0, 1) := by decide +kernel
theorem dX0_finish_70 : decode cX0_finish 70 = .ok (.invokevirtual 109, 3) := by decide +kernel
theorem dX0_finish_73 : decode cX0_finish 73 = .ok (.aload_n 0, 1) := by decide +kernel
theorem dX0_finish_74 : decode cX0_finish 74 = .ok (.invokevirtual 112, 3) := by decide +kernel
theorem dX0_finish_77 : decode cX0_finish 77 = .ok (.aload_n 0, 1) := by decide +kernel
theorem dX0_finish_78 : decode cX0_finish 78 = .ok (.invokevirtual 115, 3) := by decide +kernel
theorem dX0_finish_81 : decode cX0_finish 81 = .ok (.iinc 4 1, 3) := by decide +kernel
theorem dX0_finish_84 : decode cX0_finish 84 = .ok (.goto (-56), 3) := by decide +kernel
theorem dX0_finish_87 : decode cX0_finish 87 = .ok (.iload_n 3, 1) := by decide +kernel
theorem dX0_finish_88 : decode cX0_finish 88 = .ok (.ireturn, 1) := by decide +kernel
abbrev cX0_retire : ByteArray := prog_1_method_10_code
def yX0_retire : MethodName := ⟨RX0, "retire", "()I"⟩
theorem dX0_retire_0 : decode cX0_retire 0 = .ok (.aload_n 0, 1) := by decide +kernel
theorem dX0_retire_1 : decode cX0_retire 1 = .ok (.getfield 95, 3) := by decide +kernel
theorem dX0_retire_4 : decode cX0_retire 4 = .ok (.ifCond .eq 16, 3) := by decide +kernel
theorem dX0_retire_7 : decode cX0_retire 7 = .ok (.aload_n 0, 1) := by decide +kernel
theorem dX0_retire_8 : decode cX0_retire 8 = .ok (.getfield 32, 3) := by decide +kernel
theorem dX0_retire_11 : decode cX0_retire 11 = .ok (.aload_n 0, 1) := by decide +kernel
theorem dX0_retire_12 : decode cX0_retire 12 = .ok (.getfield 92, 3) := by decide +kernel
theorem dX0_retire_15 : decode cX0_retire 15 = .ok (.baload, 1) := by decide +kernel
theorem dX0_retire_16 : decode cX0_retire 16 = .ok (.iconst 2, 1) := by decide +kernel
theorem dX0_retire_17 : decode cX0_retire 17 = .ok (.if_icmp .eq 5, 3) := by decide +kernel
theorem dX0_retire_20 : decode cX0_retire 20 = .ok (.iconst 0, 1) := by decide +kernel
theorem dX0_retire_21 : decode cX0_retire 21 = .ok (.ireturn, 1) := by decide +kernel
theorem dX0_retire_22 : decode cX0_retire 22 = .ok (.aload_n 0, 1) := by decide +kernel
theorem dX0_retire_23 : decode cX0_retire 23 = .ok (.getfield 92, 3) := by decide +kernel
theorem dX0_retire_26 : decode cX0_retire 26 = .ok (.istore_n 1, 1) := by decide +kernel
theorem dX0_retire_27 : decode cX0_retire 27 = .ok (.aload_n 0, 1) := by decide +kernel
theorem dX0_retire_28 : decode cX0_retire 28 = .ok (.getfield 44, 3) := by decide +kernel
theorem dX0_retire_31 : decode cX0_retire 31 = .ok (.iload_n 1, 1) := by decide +kernel
theorem dX0_retire_32 : decode cX0_retire 32 = .ok (.baload, 1) := by decide +kernel
theorem dX0_retire_33 : decode cX0_retire 33 = .ok (.ifCond .eq 10, 3) := by decide +kernel
theorem dX0_retire_36 : decode cX0_retire 36 = .ok (.aload_n 0, 1) := by decide +kernel
theorem dX0_retire_37 : decode cX0_retire 37 = .ok (.iconst 3, 1) := by decide +kernel
theorem dX0_retire_38 : decode cX0_retire 38 = .ok (.putfield 76, 3) := by decide +kernel
theorem dX0_retire_41 : decode cX0_retire 41 = .ok (.iconst 0, 1) := by decide +kernel
theorem dX0_retire_42 : decode cX0_retire 42 = .ok (.ireturn, 1) := by decide +kernel
theorem dX0_retire_43 : decode cX0_retire 43 = .ok (.aload_n 0, 1) := by decide +kernel
theorem dX0_retire_44 : decode cX0_retire 44 = .ok (.getfield 26, 3) := by decide +kernel
theorem dX0_retire_47 : decode cX0_retire 47 = .ok (.iload_n 1, 1) := by decide +kernel
theorem dX0_retire_48 : decode cX0_retire 48 = .ok (.baload, 1) := by decide +kernel
theorem dX0_retire_49 : decode cX0_retire 49 = .ok (.istore_n 2, 1) := by decide +kernel
theorem dX0_retire_50 : decode cX0_retire 50 = .ok (.aload_n 0, 1) := by decide +kernel
theorem dX0_retire_51 : decode cX0_retire 51 = .ok (.dup, 1) := by decide +kernel
theorem dX0_retire_52 : decode cX0_retire 52 = .ok (.getfield 82, 3) := by decide +kernel
theorem dX0_retire_55 : decode cX0_retire 55 = .ok (.iconst 1, 1) := by decide +kernel
theorem dX0_retire_56 : decode cX0_retire 56 = .ok (.iadd, 1) := by decide +kernel
theorem dX0_retire_57 : decode cX0_retire 57 = .ok (.putfield 82, 3) := by decide +kernel
theorem dX0_retire_60 : decode cX0_retire 60 = .ok (.aload_n 0, 1) := by decide +kernel
theorem dX0_retire_61 : decode cX0_retire 61 = .ok (.aload_n 0, 1) := by decide +kernel
theorem dX0_retire_62 : decode cX0_retire 62 = .ok (.getfield 92, 3) := by decide +kernel
theorem dX0_retire_65 : decode cX0_retire 65 = .ok (.iconst 1, 1) := by decide +kernel
theorem dX0_retire_66 : decode cX0_retire 66 = .ok (.iadd, 1) := by decide +kernel
theorem dX0_retire_67 : decode cX0_retire 67 = .ok (.bipush 6, 2) := by decide +kernel
theorem dX0_retire_69 : decode cX0_retire 69 = .ok (.irem, 1) := by decide +kernel
theorem dX0_retire_70 : decode cX0_retire 70 = .ok (.putfield 92, 3) := by decide +kernel
theorem dX0_retire_73 : decode cX0_retire 73 = .ok (.aload_n 0, 1) := by decide +kernel
theorem dX0_retire_74 : decode cX0_retire 74 = .ok (.dup, 1) := by decide +kernel
theorem dX0_retire_75 : decode cX0_retire 75 = .ok (.getfield 95, 3) := by decide +kernel
theorem dX0_retire_78 : decode cX0_retire 78 = .ok (.iconst 1, 1) := by decide +kernel
theorem dX0_retire_79 : decode cX0_retire 79 = .ok (.isub, 1) := by decide +kernel
theorem dX0_retire_80 : decode cX0_retire 80 = .ok (.putfield 95, 3) := by decide +kernel
theorem dX0_retire_83 : decode cX0_retire 83 = .ok (.iload_n 2, 1) := by decide +kernel
theorem dX0_retire_84 : decode cX0_retire 84 = .ok (.iconst 4, 1) := by decide +kernel
theorem dX0_retire_85 : decode cX0_retire 85 = .ok (.if_icmp .gt 50, 3) := by decide +kernel
theorem dX0_retire_88 : decode cX0_retire 88 = .ok (.aload_n 0, 1) := by decide +kernel
theorem dX0_retire_89 : decode cX0_retire 89 = .ok (.getfield 20, 3) := by decide +kernel
theorem dX0_retire_92 : decode cX0_retire 92 = .ok (.aload_n 0, 1) := by decide +kernel
theorem dX0_retire_93 : decode cX0_retire 93 = .ok (.getfield 51, 3) := by decide +kernel
theorem dX0_retire_96 : decode cX0_retire 96 = .ok (.iload_n 1, 1) := by decide +kernel
theorem dX0_retire_97 : decode cX0_retire 97 = .ok (.baload, 1) := by decide +kernel
theorem dX0_retire_98 : decode cX0_retire 98 = .ok (.aload_n 0, 1) := by decide +kernel
theorem dX0_retire_99 : decode cX0_retire 99 = .ok (.getfield 38, 3) := by decide +kernel
theorem dX0_retire_102 : decode cX0_retire 102 = .ok (.iload_n 1, 1) := by decide +kernel
theorem dX0_retire_103 : decode cX0_retire 103 = .ok (.iaload, 1) := by decide +kernel
theorem dX0_retire_104 : decode cX0_retire 104 = .ok (.iastore, 1) := by decide +kernel
theorem dX0_retire_105 : decode cX0_retire 105 = .ok (.aload_n 0, 1) := by decide +kernel
theorem dX0_retire_106 : decode cX0_retire 106 = .ok (.getfield 66, 3) := by decide +kernel
theorem dX0_retire_109 : decode cX0_retire 109 = .ok (.aload_n 0, 1) := by decide +kernel
theorem dX0_retire_110 : decode cX0_retire 110 = .ok (.getfield 51, 3) := by decide +kernel
theorem dX0_retire_113 : decode cX0_retire 113 = .ok (.iload_n 1, 1) := by decide +kernel
theorem dX0_retire_114 : decode cX0_retire 114 = .ok (.baload, 1) := by decide +kernel
theorem dX0_retire_115 : decode cX0_retire 115 = .ok (.baload, 1) := by decide +kernel
theorem dX0_retire_116 : decode cX0_retire 116 = .ok (.iload_n 1, 1) := by decide +kernel
theorem dX0_retire_117 : decode cX0_retire 117 = .ok (.if_icmp .ne 40, 3) := by decide +kernel
theorem dX0_retire_120 : decode cX0_retire 120 = .ok (.aload_n 0, 1) := by decide +kernel
theorem dX0_retire_121 : decode cX0_retire 121 = .ok (.getfield 66, 3) := by decide +kernel
theorem dX0_retire_124 : decode cX0_retire 124 = .ok (.aload_n 0, 1) := by decide +kernel
theorem dX0_retire_125 : decode cX0_retire 125 = .ok (.getfield 51, 3) := by decide +kernel
theorem dX0_retire_128 : decode cX0_retire 128 = .ok (.iload_n 1, 1) := by decide +kernel
theorem dX0_retire_129 : decode cX0_retire 129 = .ok (.baload, 1) := by decide +kernel
theorem dX0_retire_130 : decode cX0_retire 130 = .ok (.iconst (-1), 1) := by decide +kernel
theorem dX0_retire_131 : decode cX0_retire 131 = .ok (.bastore, 1) := by decide +kernel
theorem dX0_retire_132 : decode cX0_retire 132 = .ok (.goto 25, 3) := by decide +kernel
theorem dX0_retire_135 : decode cX0_retire 135 = .ok (.iload_n 2, 1) := by decide +kernel
theorem dX0_retire_136 : decode cX0_retire 136 = .ok (.iconst 5, 1) := by decide +kernel
theorem dX0_retire_137 : decode cX0_retire 137 = .ok (.if_icmp .ne 20, 3) := by decide +kernel
theorem dX0_retire_140 : decode cX0_retire 140 = .ok (.aload_n 0, 1) := by decide +kernel
theorem dX0_retire_141 : decode cX0_retire 141 = .ok (.getfield 23, 3) := by decide +kernel
theorem dX0_retire_144 : decode cX0_retire 144 = .ok (.aload_n 0, 1) := by decide +kernel
theorem dX0_retire_145 : decode cX0_retire 145 = .ok (.getfield 41, 3) := by decide +kernel
theorem dX0_retire_148 : decode cX0_retire 148 = .ok (.iload_n 1, 1) := by decide +kernel
theorem dX0_retire_149 : decode cX0_retire 149 = .ok (.iaload, 1) := by decide +kernel
theorem dX0_retire_150 : decode cX0_retire 150 = .ok (.aload_n 0, 1) := by decide +kernel
theorem dX0_retire_151 : decode cX0_retire 151 = .ok (.getfield 60, 3) := by decide +kernel
theorem dX0_retire_154 : decode cX0_retire 154 = .ok (.iload_n 1, 1) := by decide +kernel
theorem dX0_retire_155 : decode cX0_retire 155 = .ok (.iaload, 1) := by decide +kernel
theorem dX0_retire_156 : decode cX0_retire 156 = .ok (.iastore, 1) := by decide +kernel
theorem dX0_retire_157 : decode cX0_retire 157 = .ok (.iload_n 2, 1) := by decide +kernel
theorem dX0_retire_158 : decode cX0_retire 158 = .ok (.bipush 8, 2) := by decide +kernel
theorem dX0_retire_160 : decode cX0_retire 160 = .ok (.if_icmp .ne 10, 3) := by decide +kernel
theorem dX0_retire_163 : decode cX0_retire 163 = .ok (.aload_n 0, 1) := by decide +kernel
theorem dX0_retire_164 : decode cX0_retire 164 = .ok (.iconst 2, 1) := by decide +kernel
theorem dX0_retire_165 : decode cX0_retire 165 = .ok (.putfield 76, 3) := by decide +kernel
theorem dX0_retire_168 : decode cX0_retire 168 = .ok (.iconst 1, 1) := by decide +kernel
theorem dX0_retire_169 : decode cX0_retire 169 = .ok (.ireturn, 1) := by decide +kernel
theorem dX0_retire_170 : decode cX0_retire 170 = .ok (.aload_n 0, 1) := by decide +kernel
theorem dX0_retire_171 : decode cX0_retire 171 = .ok (.iload_n 2, 1) := by decide +kernel
theorem dX0_retire_172 : decode cX0_retire 172 = .ok (.bipush 6, 2) := by decide +kernel
theorem dX0_retire_174 : decode cX0_retire 174 = .ok (.if_icmp .lt 12, 3) := by decide +kernel
theorem dX0_retire_177 : decode cX0_retire 177 = .ok (.aload_n 0, 1) := by decide +kernel
theorem dX0_retire_178 : decode cX0_retire 178 = .ok (.getfield 38, 3) := by decide +kernel
theorem dX0_retire_181 : decode cX0_retire 181 = .ok (.iload_n 1, 1) := by decide +kernel
theorem dX0_retire_182 : decode cX0_retire 182 = .ok (.iaload, 1) := by decide +kernel
theorem dX0_retire_183 : decode cX0_retire 183 = .ok (.goto 11, 3) := by decide +kernel
theorem dX0_retire_186 : decode cX0_retire 186 = .ok (.aload_n 0, 1) := by decide +kernel
theorem dX0_retire_187 : decode cX0_retire 187 = .ok (.getfield 29, 3) := by decide +kernel
theorem dX0_retire_190 : decode cX0_retire 190 = .ok (.iload_n 1, 1) := by decide +kernel
theorem dX0_retire_191 : decode cX0_retire 191 = .ok (.iaload, 1) := by decide +kernel
theorem dX0_retire_192 : decode cX0_retire 192 = .ok (.iconst 1, 1) := by decide +kernel
theorem dX0_retire_193 : decode cX0_retire 193 = .ok (.iadd, 1) := by decide +kernel
theorem dX0_retire_194 : decode cX0_retire 194 = .ok (.putfield 79, 3) := by decide +kernel
theorem dX0_retire_197 : decode cX0_retire 197 = .ok (.iload_n 2, 1) := by decide +kernel
theorem dX0_retire_198 : decode cX0_retire 198 = .ok (.bipush 6, 2) := by decide +kernel
theorem dX0_retire_200 : decode cX0_retire 200 = .ok (.if_icmp .ne 26, 3) := by decide +kernel
theorem dX0_retire_203 : decode cX0_retire 203 = .ok (.aload_n 0, 1) := by decide +kernel
theorem dX0_retire_204 : decode cX0_retire 204 = .ok (.getfield 38, 3) := by decide +kernel
theorem dX0_retire_207 : decode cX0_retire 207 = .ok (.iload_n 1, 1) := by decide +kernel
theorem dX0_retire_208 : decode cX0_retire 208 = .ok (.iaload, 1) := by decide +kernel
theorem dX0_retire_209 : decode cX0_retire 209 = .ok (.aload_n 0, 1) := by decide +kernel
theorem dX0_retire_210 : decode cX0_retire 210 = .ok (.getfield 48, 3) := by decide +kernel
theorem dX0_retire_213 : decode cX0_retire 213 = .ok (.iload_n 1, 1) := by decide +kernel
theorem dX0_retire_214 : decode cX0_retire 214 = .ok (.iaload, 1) := by decide +kernel
theorem dX0_retire_215 : decode cX0_retire 215 = .ok (.if_icmp .eq 11, 3) := by decide +kernel
theorem dX0_retire_218 : decode cX0_retire 218 = .ok (.aload_n 0, 1) := by decide +kernel
theorem dX0_retire_219 : decode cX0_retire 219 = .ok (.aload_n 0, 1) := by decide +kernel
theorem dX0_retire_220 : decode cX0_retire 220 = .ok (.getfield 79, 3) := by decide +kernel
theorem dX0_retire_223 : decode cX0_retire 223 = .ok (.invokevirtual 88, 3) := by decide +kernel
theorem dX0_retire_226 : decode cX0_retire 226 = .ok (.iconst 1, 1) := by decide +kernel
theorem dX0_retire_227 : decode cX0_retire 227 = .ok (.ireturn, 1) := by decide +kernel
end
section
set_option maxRecDepth 100000
abbrev cX0_complete : ByteArray := prog_1_method_11_code
def yX0_complete : MethodName := ⟨RX0, "complete", "()V"⟩
theorem dX0_complete_0 : decode cX0_complete 0 = .ok (.iconst 1, 1) := by decide +kernel
theorem dX0_complete_1 : decode cX0_complete 1 = .ok (.istore_n 1, 1) := by decide +kernel
theorem dX0_complete_2 : decode cX0_complete 2 = .ok (.iconst 0, 1) := by decide +kernel
theorem dX0_complete_3 : decode cX0_complete 3 = .ok (.istore_n 2, 1) := by decide +kernel
theorem dX0_complete_4 : decode cX0_complete 4 = .ok (.iload_n 2, 1) := by decide +kernel
theorem dX0_complete_5 : decode cX0_complete 5 = .ok (.aload_n 0, 1) := by decide +kernel
theorem dX0_complete_6 : decode cX0_complete 6 = .ok (.getfield 95, 3) := by decide +kernel
theorem dX0_complete_9 : decode cX0_complete 9 = .ok (.if_icmp .ge 81, 3) := by decide +kernel
theorem dX0_complete_12 : decode cX0_complete 12 = .ok (.aload_n 0, 1) := by decide +kernel
theorem dX0_complete_13 : decode cX0_complete 13 = .ok (.getfield 92, 3) := by decide +kernel
theorem dX0_complete_16 : decode cX0_complete 16 = .ok (.iload_n 2, 1) := by decide +kernel
theorem dX0_complete_17 : decode cX0_complete 17 = .ok (.iadd, 1) := by decide +kernel
theorem dX0_complete_18 : decode cX0_complete 18 = .ok (.bipush 6, 2) := by decide +kernel
theorem dX0_complete_20 : decode cX0_complete 20 = .ok (.irem, 1) := by decide +kernel
theorem dX0_complete_21 : decode cX0_complete 21 = .ok (.istore_n 3, 1) := by decide +kernel
theorem dX0_complete_22 : decode cX0_complete 22 = .ok (.aload_n 0, 1) := by decide +kernel
theorem dX0_complete_23 : decode cX0_complete 23 = .ok (.getfield 32, 3) := by decide +kernel
theorem dX0_complete_26 : decode cX0_complete 26 = .ok (.iload_n 3, 1) := by decide +kernel
theorem dX0_complete_27 : decode cX0_complete 27 = .ok (.baload, 1) := by decide +kernel
theorem dX0_complete_28 : decode cX0_complete 28 = .ok (.iconst 1, 1) := by decide +kernel
theorem dX0_complete_29 : decode cX0_complete 29 = .ok (.if_icmp .ne 55, 3) := by decide +kernel
theorem dX0_complete_32 : decode cX0_complete 32 = .ok (.aload_n 0, 1) := by decide +kernel
theorem dX0_complete_33 : decode cX0_complete 33 = .ok (.getfield 35, 3) := by decide +kernel
theorem dX0_complete_36 : decode cX0_complete 36 = .ok (.iload_n 3, 1) := by decide +kernel
theorem dX0_complete_37 : decode cX0_complete 37 = .ok (.baload, 1) := by decide +kernel
theorem dX0_complete_38 : decode cX0_complete 38 = .ok (.ifCond .le 14, 3) := by decide +kernel
theorem dX0_complete_41 : decode cX0_complete 41 = .ok (.aload_n 0, 1) := by decide +kernel
theorem dX0_complete_42 : decode cX0_complete 42 = .ok (.getfield 35, 3) := by decide +kernel
theorem dX0_complete_45 : decode cX0_complete 45 = .ok (.iload_n 3, 1) := by decide +kernel
theorem dX0_complete_46 : decode cX0_complete 46 = .ok (.dup2, 1) := by decide +kernel
theorem dX0_complete_47 : decode cX0_complete 47 = .ok (.baload, 1) := by decide +kernel
theorem dX0_complete_48 : decode cX0_complete 48 = .ok (.iconst 1, 1) := by decide +kernel
theorem dX0_complete_49 : decode cX0_complete 49 = .ok (.isub, 1) := by decide +kernel
theorem dX0_complete_50 : decode cX0_complete 50 = .ok (.i2b, 1) := by decide +kernel
theorem dX0_complete_51 : decode cX0_complete 51 = .ok (.bastore, 1) := by decide +kernel
theorem dX0_complete_52 : decode cX0_complete 52 = .ok (.aload_n 0, 1) := by decide +kernel
theorem dX0_complete_53 : decode cX0_complete 53 = .ok (.getfield 35, 3) := by decide +kernel
theorem dX0_complete_56 : decode cX0_complete 56 = .ok (.iload_n 3, 1) := by decide +kernel
theorem dX0_complete_57 : decode cX0_complete 57 = .ok (.baload, 1) := by decide +kernel
theorem dX0_complete_58 : decode cX0_complete 58 = .ok (.ifCond .ne 26, 3) := by decide +kernel
theorem dX0_complete_61 : decode cX0_complete 61 = .ok (.iload_n 1, 1) := by decide +kernel
theorem dX0_complete_62 : decode cX0_complete 62 = .ok (.ifCond .eq 22, 3) := by decide +kernel
theorem dX0_complete_65 : decode cX0_complete 65 = .ok (.iconst 0, 1) := by decide +kernel
theorem dX0_complete_66 : decode cX0_complete 66 = .ok (.istore_n 1, 1) := by decide +kernel
theorem dX0_complete_67 : decode cX0_complete 67 = .ok (.aload_n 0, 1) := by decide +kernel
theorem dX0_complete_68 : decode cX0_complete 68 = .ok (.iload_n 3, 1) := by decide +kernel
theorem dX0_complete_69 : decode cX0_complete 69 = .ok (.invokevirtual 118, 3) := by decide +kernel
theorem dX0_complete_72 : decode cX0_complete 72 = .ok (.aload_n 0, 1) := by decide +kernel
theorem dX0_complete_73 : decode cX0_complete 73 = .ok (.getfield 32, 3) := by decide +kernel
theorem dX0_complete_76 : decode cX0_complete 76 = .ok (.iload_n 3, 1) := by decide +kernel
theorem dX0_complete_77 : decode cX0_complete 77 = .ok (.iconst 2, 1) := by decide +kernel
theorem dX0_complete_78 : decode cX0_complete 78 = .ok (.bastore, 1) := by decide +kernel
theorem dX0_complete_79 : decode cX0_complete 79 = .ok (.aload_n 0, 1) := by decide +kernel
theorem dX0_complete_80 : decode cX0_complete 80 = .ok (.iload_n 3, 1) := by decide +kernel
theorem dX0_complete_81 : decode cX0_complete 81 = .ok (.invokevirtual 121, 3) := by decide +kernel
theorem dX0_complete_84 : decode cX0_complete 84 = .ok (.iinc 2 1, 3) := by decide +kernel
theorem dX0_complete_87 : decode cX0_complete 87 = .ok (.goto (-83), 3) := by decide +kernel
theorem dX0_complete_90 : decode cX0_complete 90 = .ok (.return_, 1) := by decide +kernel
abbrev cX0_work : ByteArray := prog_1_method_12_code
def yX0_work : MethodName := ⟨RX0, "work", "(I)V"⟩
theorem dX0_work_0 : decode cX0_work 0 = .ok (.aload_n 0, 1) := by decide +kernel
theorem dX0_work_1 : decode cX0_work 1 = .ok (.getfield 60, 3) := by decide +kernel
theorem dX0_work_4 : decode cX0_work 4 = .ok (.iload_n 1, 1) := by decide +kernel
theorem dX0_work_5 : decode cX0_work 5 = .ok (.iaload, 1) := by decide +kernel
theorem dX0_work_6 : decode cX0_work 6 = .ok (.istore_n 2, 1) := by decide +kernel
theorem dX0_work_7 : decode cX0_work 7 = .ok (.aload_n 0, 1) := by decide +kernel
theorem dX0_work_8 : decode cX0_work 8 = .ok (.getfield 63, 3) := by decide +kernel
theorem dX0_work_11 : decode cX0_work 11 = .ok (.iload_n 1, 1) := by decide +kernel
theorem dX0_work_12 : decode cX0_work 12 = .ok (.iaload, 1) := by decide +kernel
theorem dX0_work_13 : decode cX0_work 13 = .ok (.istore_n 3, 1) := by decide +kernel
theorem dX0_work_14 : decode cX0_work 14 = .ok (.aload_n 0, 1) := by decide +kernel
theorem dX0_work_15 : decode cX0_work 15 = .ok (.getfield 26, 3) := by decide +kernel
theorem dX0_work_18 : decode cX0_work 18 = .ok (.iload_n 1, 1) := by decide +kernel
theorem dX0_work_19 : decode cX0_work 19 = .ok (.baload, 1) := by decide +kernel
theorem dX0_work_20 : decode cX0_work 20 = .ok (.istore 4, 2) := by decide +kernel
theorem dX0_work_22 : decode cX0_work 22 = .ok (.iload 4, 2) := by decide +kernel
theorem dX0_work_24 : decode cX0_work 24 = .ok (.iconst 1, 1) := by decide +kernel
theorem dX0_work_25 : decode cX0_work 25 = .ok (.if_icmp .ne 15, 3) := by decide +kernel
theorem dX0_work_28 : decode cX0_work 28 = .ok (.aload_n 0, 1) := by decide +kernel
theorem dX0_work_29 : decode cX0_work 29 = .ok (.getfield 38, 3) := by decide +kernel
theorem dX0_work_32 : decode cX0_work 32 = .ok (.iload_n 1, 1) := by decide +kernel
theorem dX0_work_33 : decode cX0_work 33 = .ok (.iload_n 2, 1) := by decide +kernel
theorem dX0_work_34 : decode cX0_work 34 = .ok (.iload_n 3, 1) := by decide +kernel
theorem dX0_work_35 : decode cX0_work 35 = .ok (.iadd, 1) := by decide +kernel
theorem dX0_work_36 : decode cX0_work 36 = .ok (.iastore, 1) := by decide +kernel
theorem dX0_work_37 : decode cX0_work 37 = .ok (.goto 186, 3) := by decide +kernel
theorem dX0_work_40 : decode cX0_work 40 = .ok (.iload 4, 2) := by decide +kernel
theorem dX0_work_42 : decode cX0_work 42 = .ok (.iconst 2, 1) := by decide +kernel
theorem dX0_work_43 : decode cX0_work 43 = .ok (.if_icmp .ne 15, 3) := by decide +kernel
theorem dX0_work_46 : decode cX0_work 46 = .ok (.aload_n 0, 1) := by decide +kernel
theorem dX0_work_47 : decode cX0_work 47 = .ok (.getfield 38, 3) := by decide +kernel
theorem dX0_work_50 : decode cX0_work 50 = .ok (.iload_n 1, 1) := by decide +kernel
theorem dX0_work_51 : decode cX0_work 51 = .ok (.iload_n 2, 1) := by decide +kernel
theorem dX0_work_52 : decode cX0_work 52 = .ok (.iload_n 3, 1) := by decide +kernel
theorem dX0_work_53 : decode cX0_work 53 = .ok (.imul, 1) := by decide +kernel
theorem dX0_work_54 : decode cX0_work 54 = .ok (.iastore, 1) := by decide +kernel
theorem dX0_work_55 : decode cX0_work 55 = .ok (.goto 168, 3) := by decide +kernel
theorem dX0_work_58 : decode cX0_work 58 = .ok (.iload 4, 2) := by decide +kernel
theorem dX0_work_60 : decode cX0_work 60 = .ok (.iconst 3, 1) := by decide +kernel
theorem dX0_work_61 : decode cX0_work 61 = .ok (.if_icmp .ne 38, 3) := by decide +kernel
theorem dX0_work_64 : decode cX0_work 64 = .ok (.aload_n 0, 1) := by decide +kernel
theorem dX0_work_65 : decode cX0_work 65 = .ok (.getfield 44, 3) := by decide +kernel
theorem dX0_work_68 : decode cX0_work 68 = .ok (.iload_n 1, 1) := by decide +kernel
theorem dX0_work_69 : decode cX0_work 69 = .ok (.iload_n 3, 1) := by decide +kernel
theorem dX0_work_70 : decode cX0_work 70 = .ok (.ifCond .ne 7, 3) := by decide +kernel
theorem dX0_work_73 : decode cX0_work 73 = .ok (.iconst 1, 1) := by decide +kernel
theorem dX0_work_74 : decode cX0_work 74 = .ok (.goto 4, 3) := by decide +kernel
theorem dX0_work_77 : decode cX0_work 77 = .ok (.iconst 0, 1) := by decide +kernel
theorem dX0_work_78 : decode cX0_work 78 = .ok (.bastore, 1) := by decide +kernel
theorem dX0_work_79 : decode cX0_work 79 = .ok (.aload_n 0, 1) := by decide +kernel
theorem dX0_work_80 : decode cX0_work 80 = .ok (.getfield 38, 3) := by decide +kernel
theorem dX0_work_83 : decode cX0_work 83 = .ok (.iload_n 1, 1) := by decide +kernel
theorem dX0_work_84 : decode cX0_work 84 = .ok (.iload_n 3, 1) := by decide +kernel
theorem dX0_work_85 : decode cX0_work 85 = .ok (.ifCond .ne 7, 3) := by decide +kernel
theorem dX0_work_88 : decode cX0_work 88 = .ok (.iconst 0, 1) := by decide +kernel
theorem dX0_work_89 : decode cX0_work 89 = .ok (.goto 6, 3) := by decide +kernel
theorem dX0_work_92 : decode cX0_work 92 = .ok (.iload_n 2, 1) := by decide +kernel
theorem dX0_work_93 : decode cX0_work 93 = .ok (.iload_n 3, 1) := by decide +kernel
theorem dX0_work_94 : decode cX0_work 94 = .ok (.idiv, 1) := by decide +kernel
theorem dX0_work_95 : decode cX0_work 95 = .ok (.iastore, 1) := by decide +kernel
theorem dX0_work_96 : decode cX0_work 96 = .ok (.goto 127, 3) := by decide +kernel
theorem dX0_work_99 : decode cX0_work 99 = .ok (.iload 4, 2) := by decide +kernel
theorem dX0_work_101 : decode cX0_work 101 = .ok (.iconst 4, 1) := by decide +kernel
theorem dX0_work_102 : decode cX0_work 102 = .ok (.if_icmp .ne 36, 3) := by decide +kernel
theorem dX0_work_105 : decode cX0_work 105 = .ok (.aload_n 0, 1) := by decide +kernel
theorem dX0_work_106 : decode cX0_work 106 = .ok (.getfield 44, 3) := by decide +kernel
theorem dX0_work_109 : decode cX0_work 109 = .ok (.iload_n 1, 1) := by decide +kernel
theorem dX0_work_110 : decode cX0_work 110 = .ok (.iload_n 2, 1) := by decide +kernel
theorem dX0_work_111 : decode cX0_work 111 = .ok (.ifCond .ge 7, 3) := by decide +kernel
theorem dX0_work_114 : decode cX0_work 114 = .ok (.iconst 1, 1) := by decide +kernel
theorem dX0_work_115 : decode cX0_work 115 = .ok (.goto 4, 3) := by decide +kernel
theorem dX0_work_118 : decode cX0_work 118 = .ok (.iconst 0, 1) := by decide +kernel
theorem dX0_work_119 : decode cX0_work 119 = .ok (.bastore, 1) := by decide +kernel
theorem dX0_work_120 : decode cX0_work 120 = .ok (.aload_n 0, 1) := by decide +kernel
theorem dX0_work_121 : decode cX0_work 121 = .ok (.getfield 38, 3) := by decide +kernel
theorem dX0_work_124 : decode cX0_work 124 = .ok (.iload_n 1, 1) := by decide +kernel
theorem dX0_work_125 : decode cX0_work 125 = .ok (.aload_n 0, 1) := by decide +kernel
theorem dX0_work_126 : decode cX0_work 126 = .ok (.getfield 23, 3) := by decide +kernel
theorem dX0_work_129 : decode cX0_work 129 = .ok (.iload_n 2, 1) := by decide +kernel
theorem dX0_work_130 : decode cX0_work 130 = .ok (.bipush 7, 2) := by decide +kernel
theorem dX0_work_132 : decode cX0_work 132 = .ok (.iand, 1) := by decide +kernel
theorem dX0_work_133 : decode cX0_work 133 = .ok (.iaload, 1) := by decide +kernel
theorem dX0_work_134 : decode cX0_work 134 = .ok (.iastore, 1) := by decide +kernel
theorem dX0_work_135 : decode cX0_work 135 = .ok (.goto 88, 3) := by decide +kernel
theorem dX0_work_138 : decode cX0_work 138 = .ok (.iload 4, 2) := by decide +kernel
theorem dX0_work_140 : decode cX0_work 140 = .ok (.iconst 5, 1) := by decide +kernel
theorem dX0_work_141 : decode cX0_work 141 = .ok (.if_icmp .ne 31, 3) := by decide +kernel
theorem dX0_work_144 : decode cX0_work 144 = .ok (.aload_n 0, 1) := by decide +kernel
theorem dX0_work_145 : decode cX0_work 145 = .ok (.getfield 44, 3) := by decide +kernel
theorem dX0_work_148 : decode cX0_work 148 = .ok (.iload_n 1, 1) := by decide +kernel
theorem dX0_work_149 : decode cX0_work 149 = .ok (.iload_n 3, 1) := by decide +kernel
theorem dX0_work_150 : decode cX0_work 150 = .ok (.ifCond .ge 7, 3) := by decide +kernel
theorem dX0_work_153 : decode cX0_work 153 = .ok (.iconst 1, 1) := by decide +kernel
theorem dX0_work_154 : decode cX0_work 154 = .ok (.goto 4, 3) := by decide +kernel
theorem dX0_work_157 : decode cX0_work 157 = .ok (.iconst 0, 1) := by decide +kernel
theorem dX0_work_158 : decode cX0_work 158 = .ok (.bastore, 1) := by decide +kernel
theorem dX0_work_159 : decode cX0_work 159 = .ok (.aload_n 0, 1) := by decide +kernel
theorem dX0_work_160 : decode cX0_work 160 = .ok (.getfield 41, 3) := by decide +kernel
theorem dX0_work_163 : decode cX0_work 163 = .ok (.iload_n 1, 1) := by decide +kernel
theorem dX0_work_164 : decode cX0_work 164 = .ok (.iload_n 3, 1) := by decide +kernel
theorem dX0_work_165 : decode cX0_work 165 = .ok (.bipush 7, 2) := by decide +kernel
theorem dX0_work_167 : decode cX0_work 167 = .ok (.iand, 1) := by decide +kernel
theorem dX0_work_168 : decode cX0_work 168 = .ok (.iastore, 1) := by decide +kernel
theorem dX0_work_169 : decode cX0_work 169 = .ok (.goto 54, 3) := by decide +kernel
theorem dX0_work_172 : decode cX0_work 172 = .ok (.iload 4, 2) := by decide +kernel
theorem dX0_work_174 : decode cX0_work 174 = .ok (.bipush 6, 2) := by decide +kernel
theorem dX0_work_176 : decode cX0_work 176 = .ok (.if_icmp .ne 33, 3) := by decide +kernel
theorem dX0_work_179 : decode cX0_work 179 = .ok (.aload_n 0, 1) := by decide +kernel
theorem dX0_work_180 : decode cX0_work 180 = .ok (.getfield 38, 3) := by decide +kernel
theorem dX0_work_183 : decode cX0_work 183 = .ok (.iload_n 1, 1) := by decide +kernel
theorem dX0_work_184 : decode cX0_work 184 = .ok (.iload_n 2, 1) := by decide +kernel
theorem dX0_work_185 : decode cX0_work 185 = .ok (.ifCond .ne 12, 3) := by decide +kernel
theorem dX0_work_188 : decode cX0_work 188 = .ok (.aload_n 0, 1) := by decide +kernel
theorem dX0_work_189 : decode cX0_work 189 = .ok (.getfield 38, 3) := by decide +kernel
theorem dX0_work_192 : decode cX0_work 192 = .ok (.iload_n 1, 1) := by decide +kernel
theorem dX0_work_193 : decode cX0_work 193 = .ok (.iaload, 1) := by decide +kernel
theorem dX0_work_194 : decode cX0_work 194 = .ok (.goto 11, 3) := by decide +kernel
theorem dX0_work_197 : decode cX0_work 197 = .ok (.aload_n 0, 1) := by decide +kernel
theorem dX0_work_198 : decode cX0_work 198 = .ok (.getfield 29, 3) := by decide +kernel
theorem dX0_work_201 : decode cX0_work 201 = .ok (.iload_n 1, 1) := by decide +kernel
theorem dX0_work_202 : decode cX0_work 202 = .ok (.iaload, 1) := by decide +kernel
theorem dX0_work_203 : decode cX0_work 203 = .ok (.iconst 1, 1) := by decide +kernel
theorem dX0_work_204 : decode cX0_work 204 = .ok (.iadd, 1) := by decide +kernel
theorem dX0_work_205 : decode cX0_work 205 = .ok (.iastore, 1) := by decide +kernel
theorem dX0_work_206 : decode cX0_work 206 = .ok (.goto 17, 3) := by decide +kernel
theorem dX0_work_209 : decode cX0_work 209 = .ok (.iload 4, 2) := by decide +kernel
theorem dX0_work_211 : decode cX0_work 211 = .ok (.bipush 9, 2) := by decide +kernel
theorem dX0_work_213 : decode cX0_work 213 = .ok (.if_icmp .ne 10, 3) := by decide +kernel
theorem dX0_work_216 : decode cX0_work 216 = .ok (.aload_n 0, 1) := by decide +kernel
theorem dX0_work_217 : decode cX0_work 217 = .ok (.getfield 44, 3) := by decide +kernel
theorem dX0_work_220 : decode cX0_work 220 = .ok (.iload_n 1, 1) := by decide +kernel
theorem dX0_work_221 : decode cX0_work 221 = .ok (.iconst 1, 1) := by decide +kernel
theorem dX0_work_222 : decode cX0_work 222 = .ok (.bastore, 1) := by decide +kernel
theorem dX0_work_223 : decode cX0_work 223 = .ok (.return_, 1) := by decide +kernel
abbrev cX0_hand : ByteArray := prog_1_method_13_code
def yX0_hand : MethodName := ⟨RX0, "hand", "(I)V"⟩
theorem dX0_hand_0 : decode cX0_hand 0 = .ok (.iconst 0, 1) := by decide +kernel
theorem dX0_hand_1 : decode cX0_hand 1 = .ok (.istore_n 2, 1) := by decide +kernel
theorem dX0_hand_2 : decode cX0_hand 2 = .ok (.iload_n 2, 1) := by decide +kernel
theorem dX0_hand_3 : decode cX0_hand 3 = .ok (.aload_n 0, 1) := by decide +kernel
theorem dX0_hand_4 : decode cX0_hand 4 = .ok (.getfield 95, 3) := by decide +kernel
theorem dX0_hand_7 : decode cX0_hand 7 = .ok (.if_icmp .ge 77, 3) := by decide +kernel
theorem dX0_hand_10 : decode cX0_hand 10 = .ok (.aload_n 0, 1) := by decide +kernel
theorem dX0_hand_11 : decode cX0_hand 11 = .ok (.getfield 92, 3) := by decide +kernel
theorem dX0_hand_14 : decode cX0_hand 14 = .ok (.iload_n 2, 1) := by decide +kernel
theorem dX0_hand_15 : decode cX0_hand 15 = .ok (.iadd, 1) := by decide +kernel
theorem dX0_hand_16 : decode cX0_hand 16 = .ok (.bipush 6, 2) := by decide +kernel
theorem dX0_hand_18 : decode cX0_hand 18 = .ok (.irem, 1) := by decide +kernel
theorem dX0_hand_19 : decode cX0_hand 19 = .ok (.istore_n 3, 1) := by decide +kernel
theorem dX0_hand_20 : decode cX0_hand 20 = .ok (.aload_n 0, 1) := by decide +kernel
theorem dX0_hand_21 : decode cX0_hand 21 = .ok (.getfield 54, 3) := by decide +kernel
theorem dX0_hand_24 : decode cX0_hand 24 = .ok (.iload_n 3, 1) := by decide +kernel
theorem dX0_hand_25 : decode cX0_hand 25 = .ok (.baload, 1) := by decide +kernel
theorem dX0_hand_26 : decode cX0_hand 26 = .ok (.iload_n 1, 1) := by decide +kernel
theorem dX0_hand_27 : decode cX0_hand 27 = .ok (.if_icmp .ne 22, 3) := by decide +kernel
theorem dX0_hand_30 : decode cX0_hand 30 = .ok (.aload_n 0, 1) := by decide +kernel
theorem dX0_hand_31 : decode cX0_hand 31 = .ok (.getfield 54, 3) := by decide +kernel
theorem dX0_hand_34 : decode cX0_hand 34 = .ok (.iload_n 3, 1) := by decide +kernel
theorem dX0_hand_35 : decode cX0_hand 35 = .ok (.iconst (-1), 1) := by decide +kernel
theorem dX0_hand_36 : decode cX0_hand 36 = .ok (.bastore, 1) := by decide +kernel
theorem dX0_hand_37 : decode cX0_hand 37 = .ok (.aload_n 0, 1) := by decide +kernel
theorem dX0_hand_38 : decode cX0_hand 38 = .ok (.getfield 60, 3) := by decide +kernel
theorem dX0_hand_41 : decode cX0_hand 41 = .ok (.iload_n 3, 1) := by decide +kernel
theorem dX0_hand_42 : decode cX0_hand 42 = .ok (.aload_n 0, 1) := by decide +kernel
theorem dX0_hand_43 : decode cX0_hand 43 = .ok (.getfield 38, 3) := by decide +kernel
theorem dX0_hand_46 : decode cX0_hand 46 = .ok (.iload_n 1, 1) := by decide +kernel
theorem dX0_hand_47 : decode cX0_hand 47 = .ok (.iaload, 1) := by decide +kernel
theorem dX0_hand_48 : decode cX0_hand 48 = .ok (.iastore, 1) := by decide +kernel
theorem dX0_hand_49 : decode cX0_hand 49 = .ok (.aload_n 0, 1) := by decide +kernel
theorem dX0_hand_50 : decode cX0_hand 50 = .ok (.getfield 57, 3) := by decide +kernel
theorem dX0_hand_53 : decode cX0_hand 53 = .ok (.iload_n 3, 1) := by decide +kernel
theorem dX0_hand_54 : decode cX0_hand 54 = .ok (.baload, 1) := by decide +kernel
theorem dX0_hand_55 : decode cX0_hand 55 = .ok (.iload_n 1, 1) := by decide +kernel
theorem dX0_hand_56 : decode cX0_hand 56 = .ok (.if_icmp .ne 22, 3) := by decide +kernel
theorem dX0_hand_59 : decode cX0_hand 59 = .ok (.aload_n 0, 1) := by decide +kernel
theorem dX0_hand_60 : decode cX0_hand 60 = .ok (.getfield 57, 3) := by decide +kernel
theorem dX0_hand_63 : decode cX0_hand 63 = .ok (.iload_n 3, 1) := by decide +kernel
theorem dX0_hand_64 : decode cX0_hand 64 = .ok (.iconst (-1), 1) := by decide +kernel
theorem dX0_hand_65 : decode cX0_hand 65 = .ok (.bastore, 1) := by decide +kernel
theorem dX0_hand_66 : decode cX0_hand 66 = .ok (.aload_n 0, 1) := by decide +kernel
theorem dX0_hand_67 : decode cX0_hand 67 = .ok (.getfield 63, 3) := by decide +kernel
theorem dX0_hand_70 : decode cX0_hand 70 = .ok (.iload_n 3, 1) := by decide +kernel
theorem dX0_hand_71 : decode cX0_hand 71 = .ok (.aload_n 0, 1) := by decide +kernel
theorem dX0_hand_72 : decode cX0_hand 72 = .ok (.getfield 38, 3) := by decide +kernel
theorem dX0_hand_75 : decode cX0_hand 75 = .ok (.iload_n 1, 1) := by decide +kernel
theorem dX0_hand_76 : decode cX0_hand 76 = .ok (.iaload, 1) := by decide +kernel
theorem dX0_hand_77 : decode cX0_hand 77 = .ok (.iastore, 1) := by decide +kernel
theorem dX0_hand_78 : decode cX0_hand 78 = .ok (.iinc 2 1, 3) := by decide +kernel
theorem dX0_hand_81 : decode cX0_hand 81 = .ok (.goto (-79), 3) := by decide +kernel
theorem dX0_hand_84 : decode cX0_hand 84 = .ok (.return_, 1) := by decide +kernel
abbrev cX0_begin : ByteArray := prog_1_method_14_code
def yX0_begin : MethodName := ⟨RX0, "begin", "()V"⟩
theorem dX0_begin_0 : decode cX0_begin 0 = .ok (.iconst 0, 1) := by decide +kernel
theorem dX0_begin_1 : decode cX0_begin 1 = .ok (.istore_n 1, 1) := by decide +kernel
theorem dX0_begin_2 : decode cX0_begin 2 = .ok (.iconst 0, 1) := by decide +kernel
theorem dX0_begin_3 : decode cX0_begin 3 = .ok (.istore_n 2, 1) := by decide +kernel
theorem dX0_begin_4 : decode cX0_begin 4 = .ok (.iload_n 2, 1) := by decide +kernel
theorem dX0_begin_5 : decode cX0_begin 5 = .ok (.aload_n 0, 1) := by decide +kernel
theorem dX0_begin_6 : decode cX0_begin 6 = .ok (.getfield 95, 3) := by decide +kernel
theorem dX0_begin_9 : decode cX0_begin 9 = .ok (.if_icmp .ge 57, 3) := by decide +kernel
theorem dX0_begin_12 : decode cX0_begin 12 = .ok (.aload_n 0, 1) := by decide +kernel
theorem dX0_begin_13 : decode cX0_begin 13 = .ok (.getfield 92, 3) := by decide +kernel
theorem dX0_begin_16 : decode cX0_begin 16 = .ok (.iload_n 2, 1) := by decide +kernel
theorem dX0_begin_17 : decode cX0_begin 17 = .ok (.iadd, 1) := by decide +kernel
theorem dX0_begin_18 : decode cX0_begin 18 = .ok (.bipush 6, 2) := by decide +kernel
theorem dX0_begin_20 : decode cX0_begin 20 = .ok (.irem, 1) := by decide +kernel
theorem dX0_begin_21 : decode cX0_begin 21 = .ok (.istore_n 3, 1) := by decide +kernel
theorem dX0_begin_22 : decode cX0_begin 22 = .ok (.iload_n 1, 1) := by decide +kernel
theorem dX0_begin_23 : decode cX0_begin 23 = .ok (.aload_n 0, 1) := by decide +kernel
theorem dX0_begin_24 : decode cX0_begin 24 = .ok (.getfield 32, 3) := by decide +kernel
theorem dX0_begin_27 : decode cX0_begin 27 = .ok (.iload_n 3, 1) := by decide +kernel
theorem dX0_begin_28 : decode cX0_begin 28 = .ok (.baload, 1) := by decide +kernel
theorem dX0_begin_29 : decode cX0_begin 29 = .ok (.iconst 1, 1) := by decide +kernel
theorem dX0_begin_30 : decode cX0_begin 30 = .ok (.if_icmp .ne 27, 3) := by decide +kernel
theorem dX0_begin_33 : decode cX0_begin 33 = .ok (.aload_n 0, 1) := by decide +kernel
theorem dX0_begin_34 : decode cX0_begin 34 = .ok (.getfield 26, 3) := by decide +kernel
theorem dX0_begin_37 : decode cX0_begin 37 = .ok (.iload_n 3, 1) := by decide +kernel
theorem dX0_begin_38 : decode cX0_begin 38 = .ok (.baload, 1) := by decide +kernel
theorem dX0_begin_39 : decode cX0_begin 39 = .ok (.iconst 2, 1) := by decide +kernel
theorem dX0_begin_40 : decode cX0_begin 40 = .ok (.if_icmp .eq 13, 3) := by decide +kernel
theorem dX0_begin_43 : decode cX0_begin 43 = .ok (.aload_n 0, 1) := by decide +kernel
theorem dX0_begin_44 : decode cX0_begin 44 = .ok (.getfield 26, 3) := by decide +kernel
theorem dX0_begin_47 : decode cX0_begin 47 = .ok (.iload_n 3, 1) := by decide +kernel
theorem dX0_begin_48 : decode cX0_begin 48 = .ok (.baload, 1) := by decide +kernel
theorem dX0_begin_49 : decode cX0_begin 49 = .ok (.iconst 3, 1) := by decide +kernel
theorem dX0_begin_50 : decode cX0_begin 50 = .ok (.if_icmp .ne 7, 3) := by decide +kernel
theorem dX0_begin_53 : decode cX0_begin 53 = .ok (.iconst 1, 1) := by decide +kernel
theorem dX0_begin_54 : decode cX0_begin 54 = .ok (.goto 4, 3) := by decide +kernel
theorem dX0_begin_57 : decode cX0_begin 57 = .ok (.iconst 0, 1) := by decide +kernel
theorem dX0_begin_58 : decode cX0_begin 58 = .ok (.ior, 1) := by decide +kernel
theorem dX0_begin_59 : decode cX0_begin 59 = .ok (.istore_n 1, 1) := by decide +kernel
theorem dX0_begin_60 : decode cX0_begin 60 = .ok (.iinc 2 1, 3) := by decide +kernel
theorem dX0_begin_63 : decode cX0_begin 63 = .ok (.goto (-59), 3) := by decide +kernel
theorem dX0_begin_66 : decode cX0_begin 66 = .ok (.iconst 0, 1) := by decide +kernel
theorem dX0_begin_67 : decode cX0_begin 67 = .ok (.istore_n 2, 1) := by decide +kernel
theorem dX0_begin_68 : decode cX0_begin 68 = .ok (.iconst 0, 1) := by decide +kernel
theorem dX0_begin_69 : decode cX0_begin 69 = .ok (.istore_n 3, 1) := by decide +kernel
theorem dX0_begin_70 : decode cX0_begin 70 = .ok (.iload_n 3, 1) := by decide +kernel
theorem dX0_begin_71 : decode cX0_begin 71 = .ok (.aload_n 0, 1) := by decide +kernel
theorem dX0_begin_72 : decode cX0_begin 72 = .ok (.getfield 95, 3) := by decide +kernel
theorem dX0_begin_75 : decode cX0_begin 75 = .ok (.if_icmp .ge 165, 3) := by decide +kernel
theorem dX0_begin_78 : decode cX0_begin 78 = .ok (.aload_n 0, 1) := by decide +kernel
theorem dX0_begin_79 : decode cX0_begin 79 = .ok (.getfield 92, 3) := by decide +kernel
theorem dX0_begin_82 : decode cX0_begin 82 = .ok (.iload_n 3, 1) := by decide +kernel
theorem dX0_begin_83 : decode cX0_begin 83 = .ok (.iadd, 1) := by decide +kernel
theorem dX0_begin_84 : decode cX0_begin 84 = .ok (.bipush 6, 2) := by decide +kernel
theorem dX0_begin_86 : decode cX0_begin 86 = .ok (.irem, 1) := by decide +kernel
theorem dX0_begin_87 : decode cX0_begin 87 = .ok (.istore 4, 2) := by decide +kernel
theorem dX0_begin_89 : decode cX0_begin 89 = .ok (.aload_n 0, 1) := by decide +kernel
theorem dX0_begin_90 : decode cX0_begin 90 = .ok (.getfield 26, 3) := by decide +kernel
theorem dX0_begin_93 : decode cX0_begin 93 = .ok (.iload 4, 2) := by decide +kernel
theorem dX0_begin_95 : decode cX0_begin 95 = .ok (.baload, 1) := by decide +kernel
theorem dX0_begin_96 : decode cX0_begin 96 = .ok (.iconst 2, 1) := by decide +kernel
theorem dX0_begin_97 : decode cX0_begin 97 = .ok (.if_icmp .eq 14, 3) := by decide +kernel
theorem dX0_begin_100 : decode cX0_begin 100 = .ok (.aload_n 0, 1) := by decide +kernel
theorem dX0_begin_101 : decode cX0_begin 101 = .ok (.getfield 26, 3) := by decide +kernel
theorem dX0_begin_104 : decode cX0_begin 104 = .ok (.iload 4, 2) := by decide +kernel
theorem dX0_begin_106 : decode cX0_begin 106 = .ok (.baload, 1) := by decide +kernel
theorem dX0_begin_107 : decode cX0_begin 107 = .ok (.iconst 3, 1) := by decide +kernel
theorem dX0_begin_108 : decode cX0_begin 108 = .ok (.if_icmp .ne 7, 3) := by decide +kernel
theorem dX0_begin_111 : decode cX0_begin 111 = .ok (.iconst 1, 1) := by decide +kernel
theorem dX0_begin_112 : decode cX0_begin 112 = .ok (.goto 4, 3) := by decide +kernel
theorem dX0_begin_115 : decode cX0_begin 115 = .ok (.iconst 0, 1) := by decide +kernel
theorem dX0_begin_116 : decode cX0_begin 116 = .ok (.istore 5, 2) := by decide +kernel
theorem dX0_begin_118 : decode cX0_begin 118 = .ok (.aload_n 0, 1) := by decide +kernel
theorem dX0_begin_119 : decode cX0_begin 119 = .ok (.getfield 32, 3) := by decide +kernel
theorem dX0_begin_122 : decode cX0_begin 122 = .ok (.iload 4, 2) := by decide +kernel
theorem dX0_begin_124 : decode cX0_begin 124 = .ok (.baload, 1) := by decide +kernel
theorem dX0_begin_125 : decode cX0_begin 125 = .ok (.ifCond .ne 27, 3) := by decide +kernel
theorem dX0_begin_128 : decode cX0_begin 128 = .ok (.aload_n 0, 1) := by decide +kernel
theorem dX0_begin_129 : decode cX0_begin 129 = .ok (.getfield 54, 3) := by decide +kernel
theorem dX0_begin_132 : decode cX0_begin 132 = .ok (.iload 4, 2) := by decide +kernel
theorem dX0_begin_134 : decode cX0_begin 134 = .ok (.baload, 1) := by decide +kernel
theorem dX0_begin_135 : decode cX0_begin 135 = .ok (.ifCond .ge 17, 3) := by decide +kernel
theorem dX0_begin_138 : decode cX0_begin 138 = .ok (.aload_n 0, 1) := by decide +kernel
theorem dX0_begin_139 : decode cX0_begin 139 = .ok (.getfield 57, 3) := by decide +kernel
theorem dX0_begin_142 : decode cX0_begin 142 = .ok (.iload 4, 2) := by decide +kernel
theorem dX0_begin_144 : decode cX0_begin 144 = .ok (.baload, 1) := by decide +kernel
theorem dX0_begin_145 : decode cX0_begin 145 = .ok (.ifCond .ge 7, 3) := by decide +kernel
theorem dX0_begin_148 : decode cX0_begin 148 = .ok (.iconst 1, 1) := by decide +kernel
theorem dX0_begin_149 : decode cX0_begin 149 = .ok (.goto 4, 3) := by decide +kernel
theorem dX0_begin_152 : decode cX0_begin 152 = .ok (.iconst 0, 1) := by decide +kernel
theorem dX0_begin_153 : decode cX0_begin 153 = .ok (.istore 6, 2) := by decide +kernel
theorem dX0_begin_155 : decode cX0_begin 155 = .ok (.iload 6, 2) := by decide +kernel
theorem dX0_begin_157 : decode cX0_begin 157 = .ok (.ifCond .eq 58, 3) := by decide +kernel
theorem dX0_begin_160 : decode cX0_begin 160 = .ok (.iload 5, 2) := by decide +kernel
theorem dX0_begin_162 : decode cX0_begin 162 = .ok (.ifCond .eq 7, 3) := by decide +kernel
theorem dX0_begin_165 : decode cX0_begin 165 = .ok (.iload_n 1, 1) := by decide +kernel
theorem dX0_begin_166 : decode cX0_begin 166 = .ok (.ifCond .ne 49, 3) := by decide +kernel
theorem dX0_begin_169 : decode cX0_begin 169 = .ok (.aload_n 0, 1) := by decide +kernel
theorem dX0_begin_170 : decode cX0_begin 170 = .ok (.getfield 26, 3) := by decide +kernel
theorem dX0_begin_173 : decode cX0_begin 173 = .ok (.iload 4, 2) := by decide +kernel
theorem dX0_begin_175 : decode cX0_begin 175 = .ok (.baload, 1) := by decide +kernel
theorem dX0_begin_176 : decode cX0_begin 176 = .ok (.iconst 4, 1) := by decide +kernel
theorem dX0_begin_177 : decode cX0_begin 177 = .ok (.if_icmp .ne 7, 3) := by decide +kernel
theorem dX0_begin_180 : decode cX0_begin 180 = .ok (.iload_n 2, 1) := by decide +kernel
theorem dX0_begin_181 : decode cX0_begin 181 = .ok (.ifCond .ne 34, 3) := by decide +kernel
theorem dX0_begin_184 : decode cX0_begin 184 = .ok (.aload_n 0, 1) := by decide +kernel
theorem dX0_begin_185 : decode cX0_begin 185 = .ok (.getfield 32, 3) := by decide +kernel
theorem dX0_begin_188 : decode cX0_begin 188 = .ok (.iload 4, 2) := by decide +kernel
theorem dX0_begin_190 : decode cX0_begin 190 = .ok (.iconst 1, 1) := by decide +kernel
theorem dX0_begin_191 : decode cX0_begin 191 = .ok (.bastore, 1) := by decide +kernel
theorem dX0_begin_192 : decode cX0_begin 192 = .ok (.aload_n 0, 1) := by decide +kernel
theorem dX0_begin_193 : decode cX0_begin 193 = .ok (.getfield 35, 3) := by decide +kernel
theorem dX0_begin_196 : decode cX0_begin 196 = .ok (.iload 4, 2) := by decide +kernel
theorem dX0_begin_198 : decode cX0_begin 198 = .ok (.aload_n 0, 1) := by decide +kernel
theorem dX0_begin_199 : decode cX0_begin 199 = .ok (.getfield 26, 3) := by decide +kernel
theorem dX0_begin_202 : decode cX0_begin 202 = .ok (.iload 4, 2) := by decide +kernel
theorem dX0_begin_204 : decode cX0_begin 204 = .ok (.baload, 1) := by decide +kernel
theorem dX0_begin_205 : decode cX0_begin 205 = .ok (.invokestatic 124, 3) := by decide +kernel
theorem dX0_begin_208 : decode cX0_begin 208 = .ok (.i2b, 1) := by decide +kernel
theorem dX0_begin_209 : decode cX0_begin 209 = .ok (.bastore, 1) := by decide +kernel
theorem dX0_begin_210 : decode cX0_begin 210 = .ok (.iload_n 1, 1) := by decide +kernel
theorem dX0_begin_211 : decode cX0_begin 211 = .ok (.iload 5, 2) := by decide +kernel
theorem dX0_begin_213 : decode cX0_begin 213 = .ok (.ior, 1) := by decide +kernel
theorem dX0_begin_214 : decode cX0_begin 214 = .ok (.istore_n 1, 1) := by decide +kernel
theorem dX0_begin_215 : decode cX0_begin 215 = .ok (.iload_n 2, 1) := by decide +kernel
theorem dX0_begin_216 : decode cX0_begin 216 = .ok (.aload_n 0, 1) := by decide +kernel
theorem dX0_begin_217 : decode cX0_begin 217 = .ok (.getfield 26, 3) := by decide +kernel
theorem dX0_begin_220 : decode cX0_begin 220 = .ok (.iload 4, 2) := by decide +kernel
theorem dX0_begin_222 : decode cX0_begin 222 = .ok (.baload, 1) := by decide +kernel
theorem dX0_begin_223 : decode cX0_begin 223 = .ok (.iconst 5, 1) := by decide +kernel
theorem dX0_begin_224 : decode cX0_begin 224 = .ok (.if_icmp .ne 7, 3) := by decide +kernel
theorem dX0_begin_227 : decode cX0_begin 227 = .ok (.iconst 1, 1) := by decide +kernel
theorem dX0_begin_228 : decode cX0_begin 228 = .ok (.goto 4, 3) := by decide +kernel
theorem dX0_begin_231 : decode cX0_begin 231 = .ok (.iconst 0, 1) := by decide +kernel
theorem dX0_begin_232 : decode cX0_begin 232 = .ok (.ior, 1) := by decide +kernel
theorem dX0_begin_233 : decode cX0_begin 233 = .ok (.istore_n 2, 1) := by decide +kernel
theorem dX0_begin_234 : decode cX0_begin 234 = .ok (.iinc 3 1, 3) := by decide +kernel
theorem dX0_begin_237 : decode cX0_begin 237 = .ok (.goto (-167), 3) := by decide +kernel
theorem dX0_begin_240 : decode cX0_begin 240 = .ok (.return_, 1) := by decide +kernel
end
section
set_option maxRecDepth 100000
abbrev cX0_latency : ByteArray := prog_1_method_15_code
def yX0_latency : MethodName := ⟨RX0, "latency", "(I)I"⟩
theorem dX0_latency_0 : decode cX0_latency 0 = .ok (.iload_n 0, 1) := by decide +kernel
theorem dX0_latency_1 : decode cX0_latency 1 = .ok (.iconst 3, 1) := by decide +kernel
theorem dX0_latency_2 : decode cX0_latency 2 = .ok (.if_icmp .ne 5, 3) := by decide +kernel
theorem dX0_latency_5 : decode cX0_latency 5 = .ok (.iconst 5, 1) := by decide +kernel
theorem dX0_latency_6 : decode cX0_latency 6 = .ok (.ireturn, 1) := by decide +kernel
theorem dX0_latency_7 : decode cX0_latency 7 = .ok (.iload_n 0, 1) := by decide +kernel
theorem dX0_latency_8 : decode cX0_latency 8 = .ok (.iconst 2, 1) := by decide +kernel
theorem dX0_latency_9 : decode cX0_latency 9 = .ok (.if_icmp .ne 5, 3) := by decide +kernel
theorem dX0_latency_12 : decode cX0_latency 12 = .ok (.iconst 3, 1) := by decide +kernel
theorem dX0_latency_13 : decode cX0_latency 13 = .ok (.ireturn, 1) := by decide +kernel
theorem dX0_latency_14 : decode cX0_latency 14 = .ok (.iload_n 0, 1) := by decide +kernel
theorem dX0_latency_15 : decode cX0_latency 15 = .ok (.iconst 4, 1) := by decide +kernel
theorem dX0_latency_16 : decode cX0_latency 16 = .ok (.if_icmp .ne 7, 3) := by decide +kernel
theorem dX0_latency_19 : decode cX0_latency 19 = .ok (.iconst 2, 1) := by decide +kernel
theorem dX0_latency_20 : decode cX0_latency 20 = .ok (.goto 4, 3) := by decide +kernel
theorem dX0_latency_23 : decode cX0_latency 23 = .ok (.iconst 1, 1) := by decide +kernel
theorem dX0_latency_24 : decode cX0_latency 24 = .ok (.ireturn, 1) := by decide +kernel
abbrev cX0_issue : ByteArray := prog_1_method_16_code
def yX0_issue : MethodName := ⟨RX0, "issue", "()V"⟩
theorem dX0_issue_0 : decode cX0_issue 0 = .ok (.aload_n 0, 1) := by decide +kernel
theorem dX0_issue_1 : decode cX0_issue 1 = .ok (.getfield 95, 3) := by decide +kernel
theorem dX0_issue_4 : decode cX0_issue 4 = .ok (.bipush 6, 2) := by decide +kernel
theorem dX0_issue_6 : decode cX0_issue 6 = .ok (.if_icmp .ge 10, 3) := by decide +kernel
theorem dX0_issue_9 : decode cX0_issue 9 = .ok (.aload_n 0, 1) := by decide +kernel
theorem dX0_issue_10 : decode cX0_issue 10 = .ok (.getfield 101, 3) := by decide +kernel
theorem dX0_issue_13 : decode cX0_issue 13 = .ok (.ifCond .ne 4, 3) := by decide +kernel
theorem dX0_issue_16 : decode cX0_issue 16 = .ok (.return_, 1) := by decide +kernel
theorem dX0_issue_17 : decode cX0_issue 17 = .ok (.aload_n 0, 1) := by decide +kernel
theorem dX0_issue_18 : decode cX0_issue 18 = .ok (.getfield 92, 3) := by decide +kernel
theorem dX0_issue_21 : decode cX0_issue 21 = .ok (.aload_n 0, 1) := by decide +kernel
theorem dX0_issue_22 : decode cX0_issue 22 = .ok (.getfield 95, 3) := by decide +kernel
theorem dX0_issue_25 : decode cX0_issue 25 = .ok (.iadd, 1) := by decide +kernel
theorem dX0_issue_26 : decode cX0_issue 26 = .ok (.bipush 6, 2) := by decide +kernel
theorem dX0_issue_28 : decode cX0_issue 28 = .ok (.irem, 1) := by decide +kernel
theorem dX0_issue_29 : decode cX0_issue 29 = .ok (.istore_n 1, 1) := by decide +kernel
theorem dX0_issue_30 : decode cX0_issue 30 = .ok (.aload_n 0, 1) := by decide +kernel
theorem dX0_issue_31 : decode cX0_issue 31 = .ok (.getfield 98, 3) := by decide +kernel
theorem dX0_issue_34 : decode cX0_issue 34 = .ok (.ifCond .lt 18, 3) := by decide +kernel
theorem dX0_issue_37 : decode cX0_issue 37 = .ok (.aload_n 0, 1) := by decide +kernel
theorem dX0_issue_38 : decode cX0_issue 38 = .ok (.getfield 98, 3) := by decide +kernel
theorem dX0_issue_41 : decode cX0_issue 41 = .ok (.aload_n 0, 1) := by decide +kernel
theorem dX0_issue_42 : decode cX0_issue 42 = .ok (.getfield 69, 3) := by decide +kernel
theorem dX0_issue_45 : decode cX0_issue 45 = .ok (.if_icmp .ge 7, 3) := by decide +kernel
theorem dX0_issue_48 : decode cX0_issue 48 = .ok (.iconst 1, 1) := by decide +kernel
theorem dX0_issue_49 : decode cX0_issue 49 = .ok (.goto 4, 3) := by decide +kernel
theorem dX0_issue_52 : decode cX0_issue 52 = .ok (.iconst 0, 1) := by decide +kernel
theorem dX0_issue_53 : decode cX0_issue 53 = .ok (.istore_n 2, 1) := by decide +kernel
theorem dX0_issue_54 : decode cX0_issue 54 = .ok (.iload_n 2, 1) := by decide +kernel
theorem dX0_issue_55 : decode cX0_issue 55 = .ok (.ifCond .eq 15, 3) := by decide +kernel
theorem dX0_issue_58 : decode cX0_issue 58 = .ok (.aload_n 0, 1) := by decide +kernel
theorem dX0_issue_59 : decode cX0_issue 59 = .ok (.getfield 7, 3) := by decide +kernel
theorem dX0_issue_62 : decode cX0_issue 62 = .ok (.aload_n 0, 1) := by decide +kernel
theorem dX0_issue_63 : decode cX0_issue 63 = .ok (.getfield 98, 3) := by decide +kernel
theorem dX0_issue_66 : decode cX0_issue 66 = .ok (.baload, 1) := by decide +kernel
theorem dX0_issue_67 : decode cX0_issue 67 = .ok (.goto 5, 3) := by decide +kernel
theorem dX0_issue_70 : decode cX0_issue 70 = .ok (.bipush 9, 2) := by decide +kernel
theorem dX0_issue_72 : decode cX0_issue 72 = .ok (.istore_n 3, 1) := by decide +kernel
theorem dX0_issue_73 : decode cX0_issue 73 = .ok (.aload_n 0, 1) := by decide +kernel
theorem dX0_issue_74 : decode cX0_issue 74 = .ok (.getfield 26, 3) := by decide +kernel
theorem dX0_issue_77 : decode cX0_issue 77 = .ok (.iload_n 1, 1) := by decide +kernel
theorem dX0_issue_78 : decode cX0_issue 78 = .ok (.iload_n 3, 1) := by decide +kernel
theorem dX0_issue_79 : decode cX0_issue 79 = .ok (.i2b, 1) := by decide +kernel
theorem dX0_issue_80 : decode cX0_issue 80 = .ok (.bastore, 1) := by decide +kernel
theorem dX0_issue_81 : decode cX0_issue 81 = .ok (.aload_n 0, 1) := by decide +kernel
theorem dX0_issue_82 : decode cX0_issue 82 = .ok (.getfield 29, 3) := by decide +kernel
theorem dX0_issue_85 : decode cX0_issue 85 = .ok (.iload_n 1, 1) := by decide +kernel
theorem dX0_issue_86 : decode cX0_issue 86 = .ok (.aload_n 0, 1) := by decide +kernel
theorem dX0_issue_87 : decode cX0_issue 87 = .ok (.getfield 98, 3) := by decide +kernel
theorem dX0_issue_90 : decode cX0_issue 90 = .ok (.iastore, 1) := by decide +kernel
theorem dX0_issue_91 : decode cX0_issue 91 = .ok (.aload_n 0, 1) := by decide +kernel
theorem dX0_issue_92 : decode cX0_issue 92 = .ok (.getfield 32, 3) := by decide +kernel
theorem dX0_issue_95 : decode cX0_issue 95 = .ok (.iload_n 1, 1) := by decide +kernel
theorem dX0_issue_96 : decode cX0_issue 96 = .ok (.iconst 0, 1) := by decide +kernel
theorem dX0_issue_97 : decode cX0_issue 97 = .ok (.bastore, 1) := by decide +kernel
theorem dX0_issue_98 : decode cX0_issue 98 = .ok (.aload_n 0, 1) := by decide +kernel
theorem dX0_issue_99 : decode cX0_issue 99 = .ok (.getfield 44, 3) := by decide +kernel
theorem dX0_issue_102 : decode cX0_issue 102 = .ok (.iload_n 1, 1) := by decide +kernel
theorem dX0_issue_103 : decode cX0_issue 103 = .ok (.iconst 0, 1) := by decide +kernel
theorem dX0_issue_104 : decode cX0_issue 104 = .ok (.bastore, 1) := by decide +kernel
theorem dX0_issue_105 : decode cX0_issue 105 = .ok (.aload_n 0, 1) := by decide +kernel
theorem dX0_issue_106 : decode cX0_issue 106 = .ok (.getfield 54, 3) := by decide +kernel
theorem dX0_issue_109 : decode cX0_issue 109 = .ok (.iload_n 1, 1) := by decide +kernel
theorem dX0_issue_110 : decode cX0_issue 110 = .ok (.iconst (-1), 1) := by decide +kernel
theorem dX0_issue_111 : decode cX0_issue 111 = .ok (.bastore, 1) := by decide +kernel
theorem dX0_issue_112 : decode cX0_issue 112 = .ok (.aload_n 0, 1) := by decide +kernel
theorem dX0_issue_113 : decode cX0_issue 113 = .ok (.getfield 57, 3) := by decide +kernel
theorem dX0_issue_116 : decode cX0_issue 116 = .ok (.iload_n 1, 1) := by decide +kernel
theorem dX0_issue_117 : decode cX0_issue 117 = .ok (.iconst (-1), 1) := by decide +kernel
theorem dX0_issue_118 : decode cX0_issue 118 = .ok (.bastore, 1) := by decide +kernel
theorem dX0_issue_119 : decode cX0_issue 119 = .ok (.aload_n 0, 1) := by decide +kernel
theorem dX0_issue_120 : decode cX0_issue 120 = .ok (.dup, 1) := by decide +kernel
theorem dX0_issue_121 : decode cX0_issue 121 = .ok (.getfield 95, 3) := by decide +kernel
theorem dX0_issue_124 : decode cX0_issue 124 = .ok (.iconst 1, 1) := by decide +kernel
theorem dX0_issue_125 : decode cX0_issue 125 = .ok (.iadd, 1) := by decide +kernel
theorem dX0_issue_126 : decode cX0_issue 126 = .ok (.putfield 95, 3) := by decide +kernel
theorem dX0_issue_129 : decode cX0_issue 129 = .ok (.iload_n 2, 1) := by decide +kernel
theorem dX0_issue_130 : decode cX0_issue 130 = .ok (.ifCond .eq 36, 3) := by decide +kernel
theorem dX0_issue_133 : decode cX0_issue 133 = .ok (.aload_n 0, 1) := by decide +kernel
theorem dX0_issue_134 : decode cX0_issue 134 = .ok (.iload_n 1, 1) := by decide +kernel
theorem dX0_issue_135 : decode cX0_issue 135 = .ok (.iload_n 3, 1) := by decide +kernel
theorem dX0_issue_136 : decode cX0_issue 136 = .ok (.aload_n 0, 1) := by decide +kernel
theorem dX0_issue_137 : decode cX0_issue 137 = .ok (.getfield 13, 3) := by decide +kernel
theorem dX0_issue_140 : decode cX0_issue 140 = .ok (.aload_n 0, 1) := by decide +kernel
theorem dX0_issue_141 : decode cX0_issue 141 = .ok (.getfield 98, 3) := by decide +kernel
theorem dX0_issue_144 : decode cX0_issue 144 = .ok (.baload, 1) := by decide +kernel
theorem dX0_issue_145 : decode cX0_issue 145 = .ok (.invokevirtual 128, 3) := by decide +kernel
theorem dX0_issue_148 : decode cX0_issue 148 = .ok (.aload_n 0, 1) := by decide +kernel
theorem dX0_issue_149 : decode cX0_issue 149 = .ok (.iload_n 1, 1) := by decide +kernel
theorem dX0_issue_150 : decode cX0_issue 150 = .ok (.iload_n 3, 1) := by decide +kernel
theorem dX0_issue_151 : decode cX0_issue 151 = .ok (.aload_n 0, 1) := by decide +kernel
theorem dX0_issue_152 : decode cX0_issue 152 = .ok (.getfield 16, 3) := by decide +kernel
theorem dX0_issue_155 : decode cX0_issue 155 = .ok (.aload_n 0, 1) := by decide +kernel
theorem dX0_issue_156 : decode cX0_issue 156 = .ok (.getfield 98, 3) := by decide +kernel
theorem dX0_issue_159 : decode cX0_issue 159 = .ok (.iaload, 1) := by decide +kernel
theorem dX0_issue_160 : decode cX0_issue 160 = .ok (.invokevirtual 132, 3) := by decide +kernel
theorem dX0_issue_163 : decode cX0_issue 163 = .ok (.goto 8, 3) := by decide +kernel
theorem dX0_issue_166 : decode cX0_issue 166 = .ok (.aload_n 0, 1) := by decide +kernel
theorem dX0_issue_167 : decode cX0_issue 167 = .ok (.iconst 0, 1) := by decide +kernel
theorem dX0_issue_168 : decode cX0_issue 168 = .ok (.putfield 101, 3) := by decide +kernel
theorem dX0_issue_171 : decode cX0_issue 171 = .ok (.return_, 1) := by decide +kernel
abbrev cX0_readOperands : ByteArray := prog_1_method_17_code
def yX0_readOperands : MethodName := ⟨RX0, "readOperands", "(III)V"⟩
theorem dX0_readOperands_0 : decode cX0_readOperands 0 = .ok (.iload_n 3, 1) := by decide +kernel
theorem dX0_readOperands_1 : decode cX0_readOperands 1 = .ok (.iconst 3, 1) := by decide +kernel
theorem dX0_readOperands_2 : decode cX0_readOperands 2 = .ok (.iand, 1) := by decide +kernel
theorem dX0_readOperands_3 : decode cX0_readOperands 3 = .ok (.istore 4, 2) := by decide +kernel
theorem dX0_readOperands_5 : decode cX0_readOperands 5 = .ok (.iload_n 3, 1) := by decide +kernel
theorem dX0_readOperands_6 : decode cX0_readOperands 6 = .ok (.iconst 2, 1) := by decide +kernel
theorem dX0_readOperands_7 : decode cX0_readOperands 7 = .ok (.ishr, 1) := by decide +kernel
theorem dX0_readOperands_8 : decode cX0_readOperands 8 = .ok (.iconst 3, 1) := by decide +kernel
theorem dX0_readOperands_9 : decode cX0_readOperands 9 = .ok (.iand, 1) := by decide +kernel
theorem dX0_readOperands_10 : decode cX0_readOperands 10 = .ok (.istore 5, 2) := by decide +kernel
theorem dX0_readOperands_12 : decode cX0_readOperands 12 = .ok (.iload_n 3, 1) := by decide +kernel
theorem dX0_readOperands_13 : decode cX0_readOperands 13 = .ok (.iconst 4, 1) := by decide +kernel
theorem dX0_readOperands_14 : decode cX0_readOperands 14 = .ok (.ishr, 1) := by decide +kernel
theorem dX0_readOperands_15 : decode cX0_readOperands 15 = .ok (.istore 6, 2) := by decide +kernel
theorem dX0_readOperands_17 : decode cX0_readOperands 17 = .ok (.iload_n 2, 1) := by decide +kernel
theorem dX0_readOperands_18 : decode cX0_readOperands 18 = .ok (.iconst 1, 1) := by decide +kernel
theorem dX0_readOperands_19 : decode cX0_readOperands 19 = .ok (.if_icmp .lt 30, 3) := by decide +kernel
theorem dX0_readOperands_22 : decode cX0_readOperands 22 = .ok (.iload_n 2, 1) := by decide +kernel
theorem dX0_readOperands_23 : decode cX0_readOperands 23 = .ok (.iconst 4, 1) := by decide +kernel
theorem dX0_readOperands_24 : decode cX0_readOperands 24 = .ok (.if_icmp .gt 25, 3) := by decide +kernel
theorem dX0_readOperands_27 : decode cX0_readOperands 27 = .ok (.aload_n 0, 1) := by decide +kernel
theorem dX0_readOperands_28 : decode cX0_readOperands 28 = .ok (.iload_n 1, 1) := by decide +kernel
theorem dX0_readOperands_29 : decode cX0_readOperands 29 = .ok (.iload 5, 2) := by decide +kernel
theorem dX0_readOperands_31 : decode cX0_readOperands 31 = .ok (.invokevirtual 135, 3) := by decide +kernel
theorem dX0_readOperands_34 : decode cX0_readOperands 34 = .ok (.iload_n 2, 1) := by decide +kernel
theorem dX0_readOperands_35 : decode cX0_readOperands 35 = .ok (.iconst 4, 1) := by decide +kernel
theorem dX0_readOperands_36 : decode cX0_readOperands 36 = .ok (.if_icmp .eq 48, 3) := by decide +kernel
theorem dX0_readOperands_39 : decode cX0_readOperands 39 = .ok (.aload_n 0, 1) := by decide +kernel
theorem dX0_readOperands_40 : decode cX0_readOperands 40 = .ok (.iload_n 1, 1) := by decide +kernel
theorem dX0_readOperands_41 : decode cX0_readOperands 41 = .ok (.iload 6, 2) := by decide +kernel
theorem dX0_readOperands_43 : decode cX0_readOperands 43 = .ok (.invokevirtual 139, 3) := by decide +kernel
theorem dX0_readOperands_46 : decode cX0_readOperands 46 = .ok (.goto 38, 3) := by decide +kernel
theorem dX0_readOperands_49 : decode cX0_readOperands 49 = .ok (.iload_n 2, 1) := by decide +kernel
theorem dX0_readOperands_50 : decode cX0_readOperands 50 = .ok (.iconst 5, 1) := by decide +kernel
theorem dX0_readOperands_51 : decode cX0_readOperands 51 = .ok (.if_icmp .ne 20, 3) := by decide +kernel
theorem dX0_readOperands_54 : decode cX0_readOperands 54 = .ok (.aload_n 0, 1) := by decide +kernel
theorem dX0_readOperands_55 : decode cX0_readOperands 55 = .ok (.iload_n 1, 1) := by decide +kernel
theorem dX0_readOperands_56 : decode cX0_readOperands 56 = .ok (.iload 4, 2) := by decide +kernel
theorem dX0_readOperands_58 : decode cX0_readOperands 58 = .ok (.invokevirtual 135, 3) := by decide +kernel
theorem dX0_readOperands_61 : decode cX0_readOperands 61 = .ok (.aload_n 0, 1) := by decide +kernel
theorem dX0_readOperands_62 : decode cX0_readOperands 62 = .ok (.iload_n 1, 1) := by decide +kernel
theorem dX0_readOperands_63 : decode cX0_readOperands 63 = .ok (.iload 5, 2) := by decide +kernel
theorem dX0_readOperands_65 : decode cX0_readOperands 65 = .ok (.invokevirtual 139, 3) := by decide +kernel
theorem dX0_readOperands_68 : decode cX0_readOperands 68 = .ok (.goto 16, 3) := by decide +kernel
theorem dX0_readOperands_71 : decode cX0_readOperands 71 = .ok (.iload_n 2, 1) := by decide +kernel
theorem dX0_readOperands_72 : decode cX0_readOperands 72 = .ok (.bipush 6, 2) := by decide +kernel
theorem dX0_readOperands_74 : decode cX0_readOperands 74 = .ok (.if_icmp .ne 10, 3) := by decide +kernel
theorem dX0_readOperands_77 : decode cX0_readOperands 77 = .ok (.aload_n 0, 1) := by decide +kernel
theorem dX0_readOperands_78 : decode cX0_readOperands 78 = .ok (.iload_n 1, 1) := by decide +kernel
theorem dX0_readOperands_79 : decode cX0_readOperands 79 = .ok (.iload 4, 2) := by decide +kernel
theorem dX0_readOperands_81 : decode cX0_readOperands 81 = .ok (.invokevirtual 135, 3) := by decide +kernel
theorem dX0_readOperands_84 : decode cX0_readOperands 84 = .ok (.iload_n 2, 1) := by decide +kernel
theorem dX0_readOperands_85 : decode cX0_readOperands 85 = .ok (.iconst 4, 1) := by decide +kernel
theorem dX0_readOperands_86 : decode cX0_readOperands 86 = .ok (.if_icmp .gt 21, 3) := by decide +kernel
theorem dX0_readOperands_89 : decode cX0_readOperands 89 = .ok (.aload_n 0, 1) := by decide +kernel
theorem dX0_readOperands_90 : decode cX0_readOperands 90 = .ok (.getfield 51, 3) := by decide +kernel
theorem dX0_readOperands_93 : decode cX0_readOperands 93 = .ok (.iload_n 1, 1) := by decide +kernel
theorem dX0_readOperands_94 : decode cX0_readOperands 94 = .ok (.iload 4, 2) := by decide +kernel
theorem dX0_readOperands_96 : decode cX0_readOperands 96 = .ok (.i2b, 1) := by decide +kernel
theorem dX0_readOperands_97 : decode cX0_readOperands 97 = .ok (.bastore, 1) := by decide +kernel
theorem dX0_readOperands_98 : decode cX0_readOperands 98 = .ok (.aload_n 0, 1) := by decide +kernel
theorem dX0_readOperands_99 : decode cX0_readOperands 99 = .ok (.getfield 66, 3) := by decide +kernel
theorem dX0_readOperands_102 : decode cX0_readOperands 102 = .ok (.iload 4, 2) := by decide +kernel
theorem dX0_readOperands_104 : decode cX0_readOperands 104 = .ok (.iload_n 1, 1) := by decide +kernel
theorem dX0_readOperands_105 : decode cX0_readOperands 105 = .ok (.i2b, 1) := by decide +kernel
theorem dX0_readOperands_106 : decode cX0_readOperands 106 = .ok (.bastore, 1) := by decide +kernel
theorem dX0_readOperands_107 : decode cX0_readOperands 107 = .ok (.return_, 1) := by decide +kernel
abbrev cX0_readLeft : ByteArray := prog_1_method_18_code
def yX0_readLeft : MethodName := ⟨RX0, "readLeft", "(II)V"⟩
theorem dX0_readLeft_0 : decode cX0_readLeft 0 = .ok (.aload_n 0, 1) := by decide +kernel
theorem dX0_readLeft_1 : decode cX0_readLeft 1 = .ok (.getfield 66, 3) := by decide +kernel
theorem dX0_readLeft_4 : decode cX0_readLeft 4 = .ok (.iload_n 2, 1) := by decide +kernel
theorem dX0_readLeft_5 : decode cX0_readLeft 5 = .ok (.baload, 1) := by decide +kernel
theorem dX0_readLeft_6 : decode cX0_readLeft 6 = .ok (.istore_n 3, 1) := by decide +kernel
theorem dX0_readLeft_7 : decode cX0_readLeft 7 = .ok (.iload_n 3, 1) := by decide +kernel
theorem dX0_readLeft_8 : decode cX0_readLeft 8 = .ok (.ifCond .lt 17, 3) := by decide +kernel
theorem dX0_readLeft_11 : decode cX0_readLeft 11 = .ok (.aload_n 0, 1) := by decide +kernel
theorem dX0_readLeft_12 : decode cX0_readLeft 12 = .ok (.getfield 32, 3) := by decide +kernel
theorem dX0_readLeft_15 : decode cX0_readLeft 15 = .ok (.iload_n 3, 1) := by decide +kernel
theorem dX0_readLeft_16 : decode cX0_readLeft 16 = .ok (.baload, 1) := by decide +kernel
theorem dX0_readLeft_17 : decode cX0_readLeft 17 = .ok (.iconst 2, 1) := by decide +kernel
theorem dX0_readLeft_18 : decode cX0_readLeft 18 = .ok (.if_icmp .eq 7, 3) := by decide +kernel
theorem dX0_readLeft_21 : decode cX0_readLeft 21 = .ok (.iconst 1, 1) := by decide +kernel
theorem dX0_readLeft_22 : decode cX0_readLeft 22 = .ok (.goto 4, 3) := by decide +kernel
theorem dX0_readLeft_25 : decode cX0_readLeft 25 = .ok (.iconst 0, 1) := by decide +kernel
theorem dX0_readLeft_26 : decode cX0_readLeft 26 = .ok (.istore 4, 2) := by decide +kernel
theorem dX0_readLeft_28 : decode cX0_readLeft 28 = .ok (.aload_n 0, 1) := by decide +kernel
theorem dX0_readLeft_29 : decode cX0_readLeft 29 = .ok (.getfield 54, 3) := by decide +kernel
theorem dX0_readLeft_32 : decode cX0_readLeft 32 = .ok (.iload_n 1, 1) := by decide +kernel
theorem dX0_readLeft_33 : decode cX0_readLeft 33 = .ok (.iload 4, 2) := by decide +kernel
theorem dX0_readLeft_35 : decode cX0_readLeft 35 = .ok (.ifCond .eq 7, 3) := by decide +kernel
theorem dX0_readLeft_38 : decode cX0_readLeft 38 = .ok (.iload_n 3, 1) := by decide +kernel
theorem dX0_readLeft_39 : decode cX0_readLeft 39 = .ok (.goto 4, 3) := by decide +kernel
theorem dX0_readLeft_42 : decode cX0_readLeft 42 = .ok (.iconst (-1), 1) := by decide +kernel
theorem dX0_readLeft_43 : decode cX0_readLeft 43 = .ok (.i2b, 1) := by decide +kernel
theorem dX0_readLeft_44 : decode cX0_readLeft 44 = .ok (.bastore, 1) := by decide +kernel
theorem dX0_readLeft_45 : decode cX0_readLeft 45 = .ok (.aload_n 0, 1) := by decide +kernel
theorem dX0_readLeft_46 : decode cX0_readLeft 46 = .ok (.getfield 60, 3) := by decide +kernel
theorem dX0_readLeft_49 : decode cX0_readLeft 49 = .ok (.iload_n 1, 1) := by decide +kernel
theorem dX0_readLeft_50 : decode cX0_readLeft 50 = .ok (.iload_n 3, 1) := by decide +kernel
theorem dX0_readLeft_51 : decode cX0_readLeft 51 = .ok (.ifCond .ge 12, 3) := by decide +kernel
theorem dX0_readLeft_54 : decode cX0_readLeft 54 = .ok (.aload_n 0, 1) := by decide +kernel
theorem dX0_readLeft_55 : decode cX0_readLeft 55 = .ok (.getfield 20, 3) := by decide +kernel
theorem dX0_readLeft_58 : decode cX0_readLeft 58 = .ok (.iload_n 2, 1) := by decide +kernel
theorem dX0_readLeft_59 : decode cX0_readLeft 59 = .ok (.iaload, 1) := by decide +kernel
theorem dX0_readLeft_60 : decode cX0_readLeft 60 = .ok (.goto 9, 3) := by decide +kernel
theorem dX0_readLeft_63 : decode cX0_readLeft 63 = .ok (.aload_n 0, 1) := by decide +kernel
theorem dX0_readLeft_64 : decode cX0_readLeft 64 = .ok (.getfield 38, 3) := by decide +kernel
theorem dX0_readLeft_67 : decode cX0_readLeft 67 = .ok (.iload_n 3, 1) := by decide +kernel
theorem dX0_readLeft_68 : decode cX0_readLeft 68 = .ok (.iaload, 1) := by decide +kernel
theorem dX0_readLeft_69 : decode cX0_readLeft 69 = .ok (.iastore, 1) := by decide +kernel
theorem dX0_readLeft_70 : decode cX0_readLeft 70 = .ok (.return_, 1) := by decide +kernel
abbrev cX0_readRight : ByteArray := prog_1_method_19_code
def yX0_readRight : MethodName := ⟨RX0, "readRight", "(II)V"⟩
theorem dX0_readRight_0 : decode cX0_readRight 0 = .ok (.aload_n 0, 1) := by decide +kernel
theorem dX0_readRight_1 : decode cX0_readRight 1 = .ok (.getfield 66, 3) := by decide +kernel
theorem dX0_readRight_4 : decode cX0_readRight 4 = .ok (.iload_n 2, 1) := by decide +kernel
theorem dX0_readRight_5 : decode cX0_readRight 5 = .ok (.baload, 1) := by decide +kernel
theorem dX0_readRight_6 : decode cX0_readRight 6 = .ok (.istore_n 3, 1) := by decide +kernel
theorem dX0_readRight_7 : decode cX0_readRight 7 = .ok (.iload_n 3, 1) := by decide +kernel
theorem dX0_readRight_8 : decode cX0_readRight 8 = .ok (.ifCond .lt 17, 3) := by decide +kernel
theorem dX0_readRight_11 : decode cX0_readRight 11 = .ok (.aload_n 0, 1) := by decide +kernel
theorem dX0_readRight_12 : decode cX0_readRight 12 = .ok (.getfield 32, 3) := by decide +kernel
theorem dX0_readRight_15 : decode cX0_readRight 15 = .ok (.iload_n 3, 1) := by decide +kernel
theorem dX0_readRight_16 : decode cX0_readRight 16 = .ok (.baload, 1) := by decide +kernel
theorem dX0_readRight_17 : decode cX0_readRight 17 = .ok (.iconst 2, 1) := by decide +kernel
theorem dX0_readRight_18 : decode cX0_readRight 18 = .ok (.if_icmp .eq 7, 3) := by decide +kernel
theorem dX0_readRight_21 : decode cX0_readRight 21 = .ok (.iconst 1, 1) := by decide +kernel
theorem dX0_readRight_22 : decode cX0_readRight 22 = .ok (.goto 4, 3) := by decide +kernel
theorem dX0_readRight_25 : decode cX0_readRight 25 = .ok (.iconst 0, 1) := by decide +kernel
theorem dX0_readRight_26 : decode cX0_readRight 26 = .ok (.istore 4, 2) := by decide +kernel
theorem dX0_readRight_28 : decode cX0_readRight 28 = .ok (.aload_n 0, 1) := by decide +kernel
theorem dX0_readRight_29 : decode cX0_readRight 29 = .ok (.getfield 57, 3) := by decide +kernel
theorem dX0_readRight_32 : decode cX0_readRight 32 = .ok (.iload_n 1, 1) := by decide +kernel
theorem dX0_readRight_33 : decode cX0_readRight 33 = .ok (.iload 4, 2) := by decide +kernel
theorem dX0_readRight_35 : decode cX0_readRight 35 = .ok (.ifCond .eq 7, 3) := by decide +kernel
theorem dX0_readRight_38 : decode cX0_readRight 38 = .ok (.iload_n 3, 1) := by decide +kernel
theorem dX0_readRight_39 : decode cX0_readRight 39 = .ok (.goto 4, 3) := by decide +kernel
theorem dX0_readRight_42 : decode cX0_readRight 42 = .ok (.iconst (-1), 1) := by decide +kernel
theorem dX0_readRight_43 : decode cX0_readRight 43 = .ok (.i2b, 1) := by decide +kernel
theorem dX0_readRight_44 : decode cX0_readRight 44 = .ok (.bastore, 1) := by decide +kernel
theorem dX0_readRight_45 : decode cX0_readRight 45 = .ok (.aload_n 0, 1) := by decide +kernel
theorem dX0_readRight_46 : decode cX0_readRight 46 = .ok (.getfield 63, 3) := by decide +kernel
theorem dX0_readRight_49 : decode cX0_readRight 49 = .ok (.iload_n 1, 1) := by decide +kernel
theorem dX0_readRight_50 : decode cX0_readRight 50 = .ok (.iload_n 3, 1) := by decide +kernel
theorem dX0_readRight_51 : decode cX0_readRight 51 = .ok (.ifCond .ge 12, 3) := by decide +kernel
theorem dX0_readRight_54 : decode cX0_readRight 54 = .ok (.aload_n 0, 1) := by decide +kernel
theorem dX0_readRight_55 : decode cX0_readRight 55 = .ok (.getfield 20, 3) := by decide +kernel
theorem dX0_readRight_58 : decode cX0_readRight 58 = .ok (.iload_n 2, 1) := by decide +kernel
theorem dX0_readRight_59 : decode cX0_readRight 59 = .ok (.iaload, 1) := by decide +kernel
theorem dX0_readRight_60 : decode cX0_readRight 60 = .ok (.goto 9, 3) := by decide +kernel
theorem dX0_readRight_63 : decode cX0_readRight 63 = .ok (.aload_n 0, 1) := by decide +kernel
theorem dX0_readRight_64 : decode cX0_readRight 64 = .ok (.getfield 38, 3) := by decide +kernel
theorem dX0_readRight_67 : decode cX0_readRight 67 = .ok (.iload_n 3, 1) := by decide +kernel
theorem dX0_readRight_68 : decode cX0_readRight 68 = .ok (.iaload, 1) := by decide +kernel
theorem dX0_readRight_69 : decode cX0_readRight 69 = .ok (.iastore, 1) := by decide +kernel
theorem dX0_readRight_70 : decode cX0_readRight 70 = .ok (.return_, 1) := by decide +kernel
abbrev cX0_follow : ByteArray := prog_1_method_20_code
def yX0_follow : MethodName := ⟨RX0, "follow", "(III)V"⟩
theorem dX0_follow_0 : decode cX0_follow 0 = .ok (.aload_n 0, 1) := by decide +kernel
theorem dX0_follow_1 : decode cX0_follow 1 = .ok (.getfield 29, 3) := by decide +kernel
theorem dX0_follow_4 : decode cX0_follow 4 = .ok (.iload_n 1, 1) := by decide +kernel
theorem dX0_follow_5 : decode cX0_follow 5 = .ok (.iaload, 1) := by decide +kernel
theorem dX0_follow_6 : decode cX0_follow 6 = .ok (.iconst 1, 1) := by decide +kernel
theorem dX0_follow_7 : decode cX0_follow 7 = .ok (.iadd, 1) := by decide +kernel
theorem dX0_follow_8 : decode cX0_follow 8 = .ok (.istore 4, 2) := by decide +kernel
theorem dX0_follow_10 : decode cX0_follow 10 = .ok (.iload_n 2, 1) := by decide +kernel
theorem dX0_follow_11 : decode cX0_follow 11 = .ok (.ifCond .eq 9, 3) := by decide +kernel
theorem dX0_follow_14 : decode cX0_follow 14 = .ok (.iload_n 2, 1) := by decide +kernel
theorem dX0_follow_15 : decode cX0_follow 15 = .ok (.bipush 6, 2) := by decide +kernel
theorem dX0_follow_17 : decode cX0_follow 17 = .ok (.if_icmp .lt 10, 3) := by decide +kernel
theorem dX0_follow_20 : decode cX0_follow 20 = .ok (.aload_n 0, 1) := by decide +kernel
theorem dX0_follow_21 : decode cX0_follow 21 = .ok (.getfield 38, 3) := by decide +kernel
theorem dX0_follow_24 : decode cX0_follow 24 = .ok (.iload_n 1, 1) := by decide +kernel
theorem dX0_follow_25 : decode cX0_follow 25 = .ok (.iload_n 3, 1) := by decide +kernel
theorem dX0_follow_26 : decode cX0_follow 26 = .ok (.iastore, 1) := by decide +kernel
theorem dX0_follow_27 : decode cX0_follow 27 = .ok (.iload_n 2, 1) := by decide +kernel
theorem dX0_follow_28 : decode cX0_follow 28 = .ok (.bipush 6, 2) := by decide +kernel
theorem dX0_follow_30 : decode cX0_follow 30 = .ok (.if_icmp .ne 57, 3) := by decide +kernel
theorem dX0_follow_33 : decode cX0_follow 33 = .ok (.aload_n 0, 1) := by decide +kernel
theorem dX0_follow_34 : decode cX0_follow 34 = .ok (.getfield 85, 3) := by decide +kernel
theorem dX0_follow_37 : decode cX0_follow 37 = .ok (.aload_n 0, 1) := by decide +kernel
theorem dX0_follow_38 : decode cX0_follow 38 = .ok (.getfield 29, 3) := by decide +kernel
theorem dX0_follow_41 : decode cX0_follow 41 = .ok (.iload_n 1, 1) := by decide +kernel
theorem dX0_follow_42 : decode cX0_follow 42 = .ok (.iaload, 1) := by decide +kernel
theorem dX0_follow_43 : decode cX0_follow 43 = .ok (.bipush 15, 2) := by decide +kernel
theorem dX0_follow_45 : decode cX0_follow 45 = .ok (.iand, 1) := by decide +kernel
theorem dX0_follow_46 : decode cX0_follow 46 = .ok (.iushr, 1) := by decide +kernel
theorem dX0_follow_47 : decode cX0_follow 47 = .ok (.iconst 1, 1) := by decide +kernel
theorem dX0_follow_48 : decode cX0_follow 48 = .ok (.iand, 1) := by decide +kernel
theorem dX0_follow_49 : decode cX0_follow 49 = .ok (.ifCond .eq 7, 3) := by decide +kernel
theorem dX0_follow_52 : decode cX0_follow 52 = .ok (.iconst 1, 1) := by decide +kernel
theorem dX0_follow_53 : decode cX0_follow 53 = .ok (.goto 4, 3) := by decide +kernel
theorem dX0_follow_56 : decode cX0_follow 56 = .ok (.iconst 0, 1) := by decide +kernel
theorem dX0_follow_57 : decode cX0_follow 57 = .ok (.istore 5, 2) := by decide +kernel
theorem dX0_follow_59 : decode cX0_follow 59 = .ok (.aload_n 0, 1) := by decide +kernel
theorem dX0_follow_60 : decode cX0_follow 60 = .ok (.getfield 48, 3) := by decide +kernel
theorem dX0_follow_63 : decode cX0_follow 63 = .ok (.iload_n 1, 1) := by decide +kernel
theorem dX0_follow_64 : decode cX0_follow 64 = .ok (.iload 5, 2) := by decide +kernel
theorem dX0_follow_66 : decode cX0_follow 66 = .ok (.ifCond .eq 7, 3) := by decide +kernel
theorem dX0_follow_69 : decode cX0_follow 69 = .ok (.iload_n 3, 1) := by decide +kernel
theorem dX0_follow_70 : decode cX0_follow 70 = .ok (.goto 5, 3) := by decide +kernel
theorem dX0_follow_73 : decode cX0_follow 73 = .ok (.iload 4, 2) := by decide +kernel
theorem dX0_follow_75 : decode cX0_follow 75 = .ok (.iastore, 1) := by decide +kernel
theorem dX0_follow_76 : decode cX0_follow 76 = .ok (.aload_n 0, 1) := by decide +kernel
theorem dX0_follow_77 : decode cX0_follow 77 = .ok (.getfield 48, 3) := by decide +kernel
theorem dX0_follow_80 : decode cX0_follow 80 = .ok (.iload_n 1, 1) := by decide +kernel
theorem dX0_follow_81 : decode cX0_follow 81 = .ok (.iaload, 1) := by decide +kernel
theorem dX0_follow_82 : decode cX0_follow 82 = .ok (.istore 4, 2) := by decide +kernel
theorem dX0_follow_84 : decode cX0_follow 84 = .ok (.goto 26, 3) := by decide +kernel
theorem dX0_follow_87 : decode cX0_follow 87 = .ok (.iload_n 2, 1) := by decide +kernel
theorem dX0_follow_88 : decode cX0_follow 88 = .ok (.bipush 7, 2) := by decide +kernel
theorem dX0_follow_90 : decode cX0_follow 90 = .ok (.if_icmp .ne 9, 3) := by decide +kernel
theorem dX0_follow_93 : decode cX0_follow 93 = .ok (.iload_n 3, 1) := by decide +kernel
theorem dX0_follow_94 : decode cX0_follow 94 = .ok (.istore 4, 2) := by decide +kernel
theorem dX0_follow_96 : decode cX0_follow 96 = .ok (.goto 14, 3) := by decide +kernel
theorem dX0_follow_99 : decode cX0_follow 99 = .ok (.iload_n 2, 1) := by decide +kernel
theorem dX0_follow_100 : decode cX0_follow 100 = .ok (.bipush 8, 2) := by decide +kernel
theorem dX0_follow_102 : decode cX0_follow 102 = .ok (.if_icmp .ne 8, 3) := by decide +kernel
theorem dX0_follow_105 : decode cX0_follow 105 = .ok (.aload_n 0, 1) := by decide +kernel
theorem dX0_follow_106 : decode cX0_follow 106 = .ok (.iconst 0, 1) := by decide +kernel
theorem dX0_follow_107 : decode cX0_follow 107 = .ok (.putfield 101, 3) := by decide +kernel
theorem dX0_follow_110 : decode cX0_follow 110 = .ok (.aload_n 0, 1) := by decide +kernel
theorem dX0_follow_111 : decode cX0_follow 111 = .ok (.iload 4, 2) := by decide +kernel
theorem dX0_follow_113 : decode cX0_follow 113 = .ok (.putfield 98, 3) := by decide +kernel
theorem dX0_follow_116 : decode cX0_follow 116 = .ok (.return_, 1) := by decide +kernel
end
section
set_option maxRecDepth 100000
abbrev cX0_status : ByteArray := prog_1_method_21_code
def yX0_status : MethodName := ⟨RX0, "status", "()I"⟩
theorem dX0_status_0 : decode cX0_status 0 = .ok (.aload_n 0, 1) := by decide +kernel
theorem dX0_status_1 : decode cX0_status 1 = .ok (.getfield 76, 3) := by decide +kernel
theorem dX0_status_4 : decode cX0_status 4 = .ok (.ireturn, 1) := by decide +kernel
abbrev cX0_position : ByteArray := prog_1_method_22_code
def yX0_position : MethodName := ⟨RX0, "position", "()I"⟩
theorem dX0_position_0 : decode cX0_position 0 = .ok (.aload_n 0, 1) := by decide +kernel
theorem dX0_position_1 : decode cX0_position 1 = .ok (.getfield 79, 3) := by decide +kernel
theorem dX0_position_4 : decode cX0_position 4 = .ok (.ireturn, 1) := by decide +kernel
abbrev cX0_finished : ByteArray := prog_1_method_23_code
def yX0_finished : MethodName := ⟨RX0, "finished", "()I"⟩
theorem dX0_finished_0 : decode cX0_finished 0 = .ok (.aload_n 0, 1) := by decide +kernel
theorem dX0_finished_1 : decode cX0_finished 1 = .ok (.getfield 82, 3) := by decide +kernel
theorem dX0_finished_4 : decode cX0_finished 4 = .ok (.ireturn, 1) := by decide +kernel
abbrev cX0_register : ByteArray := prog_1_method_24_code
def yX0_register : MethodName := ⟨RX0, "register", "(I)I"⟩
theorem dX0_register_0 : decode cX0_register 0 = .ok (.iload_n 1, 1) := by decide +kernel
theorem dX0_register_1 : decode cX0_register 1 = .ok (.ifCond .lt 8, 3) := by decide +kernel
theorem dX0_register_4 : decode cX0_register 4 = .ok (.iload_n 1, 1) := by decide +kernel
theorem dX0_register_5 : decode cX0_register 5 = .ok (.iconst 3, 1) := by decide +kernel
theorem dX0_register_6 : decode cX0_register 6 = .ok (.if_icmp .le 7, 3) := by decide +kernel
theorem dX0_register_9 : decode cX0_register 9 = .ok (.iconst 0, 1) := by decide +kernel
theorem dX0_register_10 : decode cX0_register 10 = .ok (.goto 9, 3) := by decide +kernel
theorem dX0_register_13 : decode cX0_register 13 = .ok (.aload_n 0, 1) := by decide +kernel
theorem dX0_register_14 : decode cX0_register 14 = .ok (.getfield 20, 3) := by decide +kernel
theorem dX0_register_17 : decode cX0_register 17 = .ok (.iload_n 1, 1) := by decide +kernel
theorem dX0_register_18 : decode cX0_register 18 = .ok (.iaload, 1) := by decide +kernel
theorem dX0_register_19 : decode cX0_register 19 = .ok (.ireturn, 1) := by decide +kernel
abbrev cX0_memory : ByteArray := prog_1_method_25_code
def yX0_memory : MethodName := ⟨RX0, "memory", "(I)I"⟩
theorem dX0_memory_0 : decode cX0_memory 0 = .ok (.iload_n 1, 1) := by decide +kernel
theorem dX0_memory_1 : decode cX0_memory 1 = .ok (.ifCond .lt 9, 3) := by decide +kernel
theorem dX0_memory_4 : decode cX0_memory 4 = .ok (.iload_n 1, 1) := by decide +kernel
theorem dX0_memory_5 : decode cX0_memory 5 = .ok (.bipush 7, 2) := by decide +kernel
theorem dX0_memory_7 : decode cX0_memory 7 = .ok (.if_icmp .le 7, 3) := by decide +kernel
theorem dX0_memory_10 : decode cX0_memory 10 = .ok (.iconst 0, 1) := by decide +kernel
theorem dX0_memory_11 : decode cX0_memory 11 = .ok (.goto 9, 3) := by decide +kernel
theorem dX0_memory_14 : decode cX0_memory 14 = .ok (.aload_n 0, 1) := by decide +kernel
theorem dX0_memory_15 : decode cX0_memory 15 = .ok (.getfield 23, 3) := by decide +kernel
theorem dX0_memory_18 : decode cX0_memory 18 = .ok (.iload_n 1, 1) := by decide +kernel
theorem dX0_memory_19 : decode cX0_memory 19 = .ok (.iaload, 1) := by decide +kernel
theorem dX0_memory_20 : decode cX0_memory 20 = .ok (.ireturn, 1) := by decide +kernel
abbrev cX0_digest : ByteArray := prog_1_method_26_code
def yX0_digest : MethodName := ⟨RX0, "digest", "()I"⟩
theorem dX0_digest_0 : decode cX0_digest 0 = .ok (.iconst 0, 1) := by decide +kernel
theorem dX0_digest_1 : decode cX0_digest 1 = .ok (.istore_n 1, 1) := by decide +kernel
theorem dX0_digest_2 : decode cX0_digest 2 = .ok (.iconst 0, 1) := by decide +kernel
theorem dX0_digest_3 : decode cX0_digest 3 = .ok (.istore_n 2, 1) := by decide +kernel
theorem dX0_digest_4 : decode cX0_digest 4 = .ok (.iload_n 2, 1) := by decide +kernel
theorem dX0_digest_5 : decode cX0_digest 5 = .ok (.iconst 4, 1) := by decide +kernel
theorem dX0_digest_6 : decode cX0_digest 6 = .ok (.if_icmp .ge 22, 3) := by decide +kernel
theorem dX0_digest_9 : decode cX0_digest 9 = .ok (.iload_n 1, 1) := by decide +kernel
theorem dX0_digest_10 : decode cX0_digest 10 = .ok (.iload_n 2, 1) := by decide +kernel
theorem dX0_digest_11 : decode cX0_digest 11 = .ok (.iconst 1, 1) := by decide +kernel
theorem dX0_digest_12 : decode cX0_digest 12 = .ok (.iadd, 1) := by decide +kernel
theorem dX0_digest_13 : decode cX0_digest 13 = .ok (.aload_n 0, 1) := by decide +kernel
theorem dX0_digest_14 : decode cX0_digest 14 = .ok (.getfield 20, 3) := by decide +kernel
theorem dX0_digest_17 : decode cX0_digest 17 = .ok (.iload_n 2, 1) := by decide +kernel
theorem dX0_digest_18 : decode cX0_digest 18 = .ok (.iaload, 1) := by decide +kernel
theorem dX0_digest_19 : decode cX0_digest 19 = .ok (.imul, 1) := by decide +kernel
theorem dX0_digest_20 : decode cX0_digest 20 = .ok (.iadd, 1) := by decide +kernel
theorem dX0_digest_21 : decode cX0_digest 21 = .ok (.istore_n 1, 1) := by decide +kernel
theorem dX0_digest_22 : decode cX0_digest 22 = .ok (.iinc 2 1, 3) := by decide +kernel
theorem dX0_digest_25 : decode cX0_digest 25 = .ok (.goto (-21), 3) := by decide +kernel
theorem dX0_digest_28 : decode cX0_digest 28 = .ok (.iconst 0, 1) := by decide +kernel
theorem dX0_digest_29 : decode cX0_digest 29 = .ok (.istore_n 2, 1) := by decide +kernel
theorem dX0_digest_30 : decode cX0_digest 30 = .ok (.iload_n 2, 1) := by decide +kernel
theorem dX0_digest_31 : decode cX0_digest 31 = .ok (.bipush 8, 2) := by decide +kernel
theorem dX0_digest_33 : decode cX0_digest 33 = .ok (.if_icmp .ge 22, 3) := by decide +kernel
theorem dX0_digest_36 : decode cX0_digest 36 = .ok (.iload_n 1, 1) := by decide +kernel
theorem dX0_digest_37 : decode cX0_digest 37 = .ok (.iload_n 2, 1) := by decide +kernel
theorem dX0_digest_38 : decode cX0_digest 38 = .ok (.iconst 5, 1) := by decide +kernel
theorem dX0_digest_39 : decode cX0_digest 39 = .ok (.iadd, 1) := by decide +kernel
theorem dX0_digest_40 : decode cX0_digest 40 = .ok (.aload_n 0, 1) := by decide +kernel
theorem dX0_digest_41 : decode cX0_digest 41 = .ok (.getfield 23, 3) := by decide +kernel
theorem dX0_digest_44 : decode cX0_digest 44 = .ok (.iload_n 2, 1) := by decide +kernel
theorem dX0_digest_45 : decode cX0_digest 45 = .ok (.iaload, 1) := by decide +kernel
theorem dX0_digest_46 : decode cX0_digest 46 = .ok (.imul, 1) := by decide +kernel
theorem dX0_digest_47 : decode cX0_digest 47 = .ok (.iadd, 1) := by decide +kernel
theorem dX0_digest_48 : decode cX0_digest 48 = .ok (.istore_n 1, 1) := by decide +kernel
theorem dX0_digest_49 : decode cX0_digest 49 = .ok (.iinc 2 1, 3) := by decide +kernel
theorem dX0_digest_52 : decode cX0_digest 52 = .ok (.goto (-22), 3) := by decide +kernel
theorem dX0_digest_55 : decode cX0_digest 55 = .ok (.iload_n 1, 1) := by decide +kernel
theorem dX0_digest_56 : decode cX0_digest 56 = .ok (.ireturn, 1) := by decide +kernel
theorem q15 : (Jvm.Cond.initialized "ReorderCore") ∈ lw_all := lw_g (lw_at lw_m1 1 rfl) rfl
theorem q18 : (Jvm.Cond.instantiable "ReorderCore" (28 : Nat)) ∈ lw_all := lw_g (lw_at lw_m1 4 rfl) rfl
theorem q20 : (Jvm.Cond.instanceMethod ({ cls := "ReorderCore", name := "<init>", desc := "()V" } : Jvm.MethodName)) ∈ lw_all := lw_g (lw_at lw_m1 6 rfl) rfl
theorem q21 : (Jvm.Cond.code ({ cls := "ReorderCore", name := "<init>", desc := "()V" } : Jvm.MethodName) prog_1_method_1_code (1 : Nat) (Option.none : Option Jvm.ClassFile.FieldType)) ∈ lw_all := lw_g (lw_at lw_m1 7 rfl) rfl
theorem q22 : (Jvm.Cond.methodLink "ReorderCore" (1 : Nat) ({ cls := "java/lang/Object", name := "<init>", desc := "()V" } : Jvm.MethodName)) ∈ lw_all := lw_g (lw_at lw_m1 8 rfl) rfl
theorem q25 : (Jvm.Cond.fieldLink "ReorderCore" (7 : Nat) "ReorderCore" "ops" "[B") ∈ lw_all := lw_g (lw_at lw_m1 11 rfl) rfl
theorem q26 : (Jvm.Cond.fieldLink "ReorderCore" (13 : Nat) "ReorderCore" "regs" "[B") ∈ lw_all := lw_g (lw_at lw_m1 12 rfl) rfl
theorem q27 : (Jvm.Cond.fieldLink "ReorderCore" (16 : Nat) "ReorderCore" "numbers" "[I") ∈ lw_all := lw_g (lw_at lw_m1 13 rfl) rfl
theorem q28 : (Jvm.Cond.fieldLink "ReorderCore" (69 : Nat) "ReorderCore" "size" "I") ∈ lw_all := lw_g (lw_at lw_m1 14 rfl) rfl
theorem q29 : (Jvm.Cond.fieldLink "ReorderCore" (20 : Nat) "ReorderCore" "registers" "[I") ∈ lw_all := lw_g (lw_at lw_m1 15 rfl) rfl
theorem q30 : (Jvm.Cond.fieldLink "ReorderCore" (23 : Nat) "ReorderCore" "cells" "[I") ∈ lw_all := lw_g (lw_at lw_m1 16 rfl) rfl
theorem q31 : (Jvm.Cond.fieldLink "ReorderCore" (79 : Nat) "ReorderCore" "at" "I") ∈ lw_all := lw_g (lw_at lw_m1 17 rfl) rfl
theorem q32 : (Jvm.Cond.fieldLink "ReorderCore" (76 : Nat) "ReorderCore" "state" "I") ∈ lw_all := lw_g (lw_at lw_m1 18 rfl) rfl
theorem q33 : (Jvm.Cond.fieldLink "ReorderCore" (82 : Nat) "ReorderCore" "count" "I") ∈ lw_all := lw_g (lw_at lw_m1 19 rfl) rfl
theorem q34 : (Jvm.Cond.fieldLink "ReorderCore" (85 : Nat) "ReorderCore" "guessBits" "I") ∈ lw_all := lw_g (lw_at lw_m1 20 rfl) rfl
theorem q35 : (Jvm.Cond.fieldLink "ReorderCore" (98 : Nat) "ReorderCore" "fetchAt" "I") ∈ lw_all := lw_g (lw_at lw_m1 21 rfl) rfl
theorem q36 : (Jvm.Cond.fieldLink "ReorderCore" (101 : Nat) "ReorderCore" "fetching" "Z") ∈ lw_all := lw_g (lw_at lw_m1 22 rfl) rfl
theorem q37 : (Jvm.Cond.fieldLink "ReorderCore" (92 : Nat) "ReorderCore" "first" "I") ∈ lw_all := lw_g (lw_at lw_m1 23 rfl) rfl
theorem q38 : (Jvm.Cond.fieldLink "ReorderCore" (95 : Nat) "ReorderCore" "under" "I") ∈ lw_all := lw_g (lw_at lw_m1 24 rfl) rfl
theorem q39 : (Jvm.Cond.fieldLink "ReorderCore" (26 : Nat) "ReorderCore" "opOf" "[B") ∈ lw_all := lw_g (lw_at lw_m1 25 rfl) rfl
theorem q40 : (Jvm.Cond.fieldLink "ReorderCore" (29 : Nat) "ReorderCore" "placeOf" "[I") ∈ lw_all := lw_g (lw_at lw_m1 26 rfl) rfl
theorem q41 : (Jvm.Cond.fieldLink "ReorderCore" (32 : Nat) "ReorderCore" "stage" "[B") ∈ lw_all := lw_g (lw_at lw_m1 27 rfl) rfl
theorem q42 : (Jvm.Cond.fieldLink "ReorderCore" (35 : Nat) "ReorderCore" "left" "[B") ∈ lw_all := lw_g (lw_at lw_m1 28 rfl) rfl
theorem q43 : (Jvm.Cond.fieldLink "ReorderCore" (38 : Nat) "ReorderCore" "result" "[I") ∈ lw_all := lw_g (lw_at lw_m1 29 rfl) rfl
theorem q44 : (Jvm.Cond.fieldLink "ReorderCore" (41 : Nat) "ReorderCore" "address" "[I") ∈ lw_all := lw_g (lw_at lw_m1 30 rfl) rfl
theorem q45 : (Jvm.Cond.fieldLink "ReorderCore" (44 : Nat) "ReorderCore" "traps" "[Z") ∈ lw_all := lw_g (lw_at lw_m1 31 rfl) rfl
theorem q46 : (Jvm.Cond.fieldLink "ReorderCore" (48 : Nat) "ReorderCore" "guessed" "[I") ∈ lw_all := lw_g (lw_at lw_m1 32 rfl) rfl
theorem q47 : (Jvm.Cond.fieldLink "ReorderCore" (51 : Nat) "ReorderCore" "target" "[B") ∈ lw_all := lw_g (lw_at lw_m1 33 rfl) rfl
theorem q48 : (Jvm.Cond.fieldLink "ReorderCore" (54 : Nat) "ReorderCore" "leftFrom" "[B") ∈ lw_all := lw_g (lw_at lw_m1 34 rfl) rfl
theorem q49 : (Jvm.Cond.fieldLink "ReorderCore" (57 : Nat) "ReorderCore" "rightFrom" "[B") ∈ lw_all := lw_g (lw_at lw_m1 35 rfl) rfl
theorem q50 : (Jvm.Cond.fieldLink "ReorderCore" (60 : Nat) "ReorderCore" "leftValue" "[I") ∈ lw_all := lw_g (lw_at lw_m1 36 rfl) rfl
theorem q51 : (Jvm.Cond.fieldLink "ReorderCore" (63 : Nat) "ReorderCore" "rightValue" "[I") ∈ lw_all := lw_g (lw_at lw_m1 37 rfl) rfl
theorem q52 : (Jvm.Cond.fieldLink "ReorderCore" (66 : Nat) "ReorderCore" "maker" "[B") ∈ lw_all := lw_g (lw_at lw_m1 38 rfl) rfl
theorem q53 : (Jvm.Cond.laysFinal "ReorderCore" "ReorderCore" "ops" "[B") ∈ lw_all := lw_g (lw_at lw_m1 39 rfl) rfl
theorem q54 : (Jvm.Cond.soleField "ReorderCore" "ops") ∈ lw_all := lw_g (lw_at lw_m1 40 rfl) rfl
theorem q55 : (Jvm.Cond.laysFinal "ReorderCore" "ReorderCore" "regs" "[B") ∈ lw_all := lw_g (lw_at lw_m1 41 rfl) rfl
theorem q56 : (Jvm.Cond.soleField "ReorderCore" "regs") ∈ lw_all := lw_g (lw_at lw_m1 42 rfl) rfl
theorem q57 : (Jvm.Cond.laysFinal "ReorderCore" "ReorderCore" "numbers" "[I") ∈ lw_all := lw_g (lw_at lw_m1 43 rfl) rfl
theorem q58 : (Jvm.Cond.soleField "ReorderCore" "numbers") ∈ lw_all := lw_g (lw_at lw_m1 44 rfl) rfl
theorem q59 : (Jvm.Cond.lays "ReorderCore" "ReorderCore" "size" "I") ∈ lw_all := lw_g (lw_at lw_m1 45 rfl) rfl
theorem q60 : (Jvm.Cond.soleField "ReorderCore" "size") ∈ lw_all := lw_g (lw_at lw_m1 46 rfl) rfl
theorem q61 : (Jvm.Cond.laysFinal "ReorderCore" "ReorderCore" "registers" "[I") ∈ lw_all := lw_g (lw_at lw_m1 47 rfl) rfl
theorem q62 : (Jvm.Cond.soleField "ReorderCore" "registers") ∈ lw_all := lw_g (lw_at lw_m1 48 rfl) rfl
theorem q63 : (Jvm.Cond.laysFinal "ReorderCore" "ReorderCore" "cells" "[I") ∈ lw_all := lw_g (lw_at lw_m1 49 rfl) rfl
theorem q64 : (Jvm.Cond.soleField "ReorderCore" "cells") ∈ lw_all := lw_g (lw_at lw_m1 50 rfl) rfl
theorem q65 : (Jvm.Cond.lays "ReorderCore" "ReorderCore" "at" "I") ∈ lw_all := lw_g (lw_at lw_m1 51 rfl) rfl
theorem q66 : (Jvm.Cond.soleField "ReorderCore" "at") ∈ lw_all := lw_g (lw_at lw_m1 52 rfl) rfl
theorem q67 : (Jvm.Cond.lays "ReorderCore" "ReorderCore" "state" "I") ∈ lw_all := lw_g (lw_at lw_m1 53 rfl) rfl
theorem q68 : (Jvm.Cond.soleField "ReorderCore" "state") ∈ lw_all := lw_g (lw_at lw_m1 54 rfl) rfl
theorem q69 : (Jvm.Cond.lays "ReorderCore" "ReorderCore" "count" "I") ∈ lw_all := lw_g (lw_at lw_m1 55 rfl) rfl
theorem q70 : (Jvm.Cond.soleField "ReorderCore" "count") ∈ lw_all := lw_g (lw_at lw_m1 56 rfl) rfl
theorem q71 : (Jvm.Cond.lays "ReorderCore" "ReorderCore" "guessBits" "I") ∈ lw_all := lw_g (lw_at lw_m1 57 rfl) rfl
theorem q72 : (Jvm.Cond.soleField "ReorderCore" "guessBits") ∈ lw_all := lw_g (lw_at lw_m1 58 rfl) rfl
theorem q73 : (Jvm.Cond.lays "ReorderCore" "ReorderCore" "fetchAt" "I") ∈ lw_all := lw_g (lw_at lw_m1 59 rfl) rfl
theorem q74 : (Jvm.Cond.soleField "ReorderCore" "fetchAt") ∈ lw_all := lw_g (lw_at lw_m1 60 rfl) rfl
theorem q75 : (Jvm.Cond.lays "ReorderCore" "ReorderCore" "fetching" "Z") ∈ lw_all := lw_g (lw_at lw_m1 61 rfl) rfl
theorem q76 : (Jvm.Cond.soleField "ReorderCore" "fetching") ∈ lw_all := lw_g (lw_at lw_m1 62 rfl) rfl
theorem q77 : (Jvm.Cond.lays "ReorderCore" "ReorderCore" "first" "I") ∈ lw_all := lw_g (lw_at lw_m1 63 rfl) rfl
theorem q78 : (Jvm.Cond.soleField "ReorderCore" "first") ∈ lw_all := lw_g (lw_at lw_m1 64 rfl) rfl
theorem q79 : (Jvm.Cond.lays "ReorderCore" "ReorderCore" "under" "I") ∈ lw_all := lw_g (lw_at lw_m1 65 rfl) rfl
theorem q80 : (Jvm.Cond.soleField "ReorderCore" "under") ∈ lw_all := lw_g (lw_at lw_m1 66 rfl) rfl
theorem q81 : (Jvm.Cond.laysFinal "ReorderCore" "ReorderCore" "opOf" "[B") ∈ lw_all := lw_g (lw_at lw_m1 67 rfl) rfl
theorem q82 : (Jvm.Cond.soleField "ReorderCore" "opOf") ∈ lw_all := lw_g (lw_at lw_m1 68 rfl) rfl
theorem q83 : (Jvm.Cond.laysFinal "ReorderCore" "ReorderCore" "placeOf" "[I") ∈ lw_all := lw_g (lw_at lw_m1 69 rfl) rfl
theorem q84 : (Jvm.Cond.soleField "ReorderCore" "placeOf") ∈ lw_all := lw_g (lw_at lw_m1 70 rfl) rfl
theorem q85 : (Jvm.Cond.laysFinal "ReorderCore" "ReorderCore" "stage" "[B") ∈ lw_all := lw_g (lw_at lw_m1 71 rfl) rfl
theorem q86 : (Jvm.Cond.soleField "ReorderCore" "stage") ∈ lw_all := lw_g (lw_at lw_m1 72 rfl) rfl
theorem q87 : (Jvm.Cond.laysFinal "ReorderCore" "ReorderCore" "left" "[B") ∈ lw_all := lw_g (lw_at lw_m1 73 rfl) rfl
theorem q88 : (Jvm.Cond.soleField "ReorderCore" "left") ∈ lw_all := lw_g (lw_at lw_m1 74 rfl) rfl
theorem q89 : (Jvm.Cond.laysFinal "ReorderCore" "ReorderCore" "result" "[I") ∈ lw_all := lw_g (lw_at lw_m1 75 rfl) rfl
theorem q90 : (Jvm.Cond.soleField "ReorderCore" "result") ∈ lw_all := lw_g (lw_at lw_m1 76 rfl) rfl
theorem q91 : (Jvm.Cond.laysFinal "ReorderCore" "ReorderCore" "address" "[I") ∈ lw_all := lw_g (lw_at lw_m1 77 rfl) rfl
theorem q92 : (Jvm.Cond.soleField "ReorderCore" "address") ∈ lw_all := lw_g (lw_at lw_m1 78 rfl) rfl
theorem q93 : (Jvm.Cond.laysFinal "ReorderCore" "ReorderCore" "traps" "[Z") ∈ lw_all := lw_g (lw_at lw_m1 79 rfl) rfl
theorem q94 : (Jvm.Cond.soleField "ReorderCore" "traps") ∈ lw_all := lw_g (lw_at lw_m1 80 rfl) rfl
theorem q95 : (Jvm.Cond.laysFinal "ReorderCore" "ReorderCore" "guessed" "[I") ∈ lw_all := lw_g (lw_at lw_m1 81 rfl) rfl
theorem q96 : (Jvm.Cond.soleField "ReorderCore" "guessed") ∈ lw_all := lw_g (lw_at lw_m1 82 rfl) rfl
theorem q97 : (Jvm.Cond.laysFinal "ReorderCore" "ReorderCore" "target" "[B") ∈ lw_all := lw_g (lw_at lw_m1 83 rfl) rfl
theorem q98 : (Jvm.Cond.soleField "ReorderCore" "target") ∈ lw_all := lw_g (lw_at lw_m1 84 rfl) rfl
theorem q99 : (Jvm.Cond.laysFinal "ReorderCore" "ReorderCore" "leftFrom" "[B") ∈ lw_all := lw_g (lw_at lw_m1 85 rfl) rfl
theorem q100 : (Jvm.Cond.soleField "ReorderCore" "leftFrom") ∈ lw_all := lw_g (lw_at lw_m1 86 rfl) rfl
theorem q101 : (Jvm.Cond.laysFinal "ReorderCore" "ReorderCore" "rightFrom" "[B") ∈ lw_all := lw_g (lw_at lw_m1 87 rfl) rfl
theorem q102 : (Jvm.Cond.soleField "ReorderCore" "rightFrom") ∈ lw_all := lw_g (lw_at lw_m1 88 rfl) rfl
theorem q103 : (Jvm.Cond.laysFinal "ReorderCore" "ReorderCore" "leftValue" "[I") ∈ lw_all := lw_g (lw_at lw_m1 89 rfl) rfl
theorem q104 : (Jvm.Cond.soleField "ReorderCore" "leftValue") ∈ lw_all := lw_g (lw_at lw_m1 90 rfl) rfl
theorem q105 : (Jvm.Cond.laysFinal "ReorderCore" "ReorderCore" "rightValue" "[I") ∈ lw_all := lw_g (lw_at lw_m1 91 rfl) rfl
theorem q106 : (Jvm.Cond.soleField "ReorderCore" "rightValue") ∈ lw_all := lw_g (lw_at lw_m1 92 rfl) rfl
theorem q107 : (Jvm.Cond.laysFinal "ReorderCore" "ReorderCore" "maker" "[B") ∈ lw_all := lw_g (lw_at lw_m1 93 rfl) rfl
theorem q108 : (Jvm.Cond.soleField "ReorderCore" "maker") ∈ lw_all := lw_g (lw_at lw_m1 94 rfl) rfl
theorem q109 : (Jvm.Cond.superclass "ReorderCore" "java/lang/Object") ∈ lw_all := lw_g (lw_at lw_m1 95 rfl) rfl
theorem q114 : (Jvm.Cond.instanceMethod ({ cls := "ReorderCore", name := "emit", desc := "(III)I" } : Jvm.MethodName)) ∈ lw_all := lw_g (lw_at lw_m1 100 rfl) rfl
theorem q115 : (Jvm.Cond.selects "ReorderCore" ({ cls := "ReorderCore", name := "emit", desc := "(III)I" } : Jvm.MethodName) ({ cls := "ReorderCore", name := "emit", desc := "(III)I" } : Jvm.MethodName)) ∈ lw_all := lw_g (lw_at lw_m1 101 rfl) rfl
theorem q116 : (Jvm.Cond.code ({ cls := "ReorderCore", name := "emit", desc := "(III)I" } : Jvm.MethodName) prog_1_method_2_code (4 : Nat) (Option.some Jvm.ClassFile.FieldType.int)) ∈ lw_all := lw_g (lw_at lw_m1 102 rfl) rfl
theorem q117 : (Jvm.Cond.methodLink "ReorderCore" (73 : Nat) ({ cls := "ReorderCore", name := "idle", desc := "()V" } : Jvm.MethodName)) ∈ lw_all := lw_g (lw_at lw_m1 103 rfl) rfl
theorem q118 : (Jvm.Cond.privateMethod ({ cls := "ReorderCore", name := "idle", desc := "()V" } : Jvm.MethodName)) ∈ lw_tbl := lw_at lw_m1 104 rfl
theorem q119 : (Jvm.Cond.instanceMethod ({ cls := "ReorderCore", name := "idle", desc := "()V" } : Jvm.MethodName)) ∈ lw_all := lw_g (lw_at lw_m1 105 rfl) rfl
theorem q120 : (Jvm.Cond.code ({ cls := "ReorderCore", name := "idle", desc := "()V" } : Jvm.MethodName) prog_1_method_3_code (1 : Nat) (Option.none : Option Jvm.ClassFile.FieldType)) ∈ lw_all := lw_g (lw_at lw_m1 106 rfl) rfl
theorem q122 : (Jvm.Cond.instanceMethod ({ cls := "ReorderCore", name := "clear", desc := "()V" } : Jvm.MethodName)) ∈ lw_all := lw_g (lw_at lw_m1 108 rfl) rfl
theorem q123 : (Jvm.Cond.selects "ReorderCore" ({ cls := "ReorderCore", name := "clear", desc := "()V" } : Jvm.MethodName) ({ cls := "ReorderCore", name := "clear", desc := "()V" } : Jvm.MethodName)) ∈ lw_all := lw_g (lw_at lw_m1 109 rfl) rfl
theorem q124 : (Jvm.Cond.code ({ cls := "ReorderCore", name := "clear", desc := "()V" } : Jvm.MethodName) prog_1_method_4_code (1 : Nat) (Option.none : Option Jvm.ClassFile.FieldType)) ∈ lw_all := lw_g (lw_at lw_m1 110 rfl) rfl
theorem q126 : (Jvm.Cond.instanceMethod ({ cls := "ReorderCore", name := "length", desc := "()I" } : Jvm.MethodName)) ∈ lw_all := lw_g (lw_at lw_m1 112 rfl) rfl
theorem q127 : (Jvm.Cond.selects "ReorderCore" ({ cls := "ReorderCore", name := "length", desc := "()I" } : Jvm.MethodName) ({ cls := "ReorderCore", name := "length", desc := "()I" } : Jvm.MethodName)) ∈ lw_all := lw_g (lw_at lw_m1 113 rfl) rfl
theorem q128 : (Jvm.Cond.code ({ cls := "ReorderCore", name := "length", desc := "()I" } : Jvm.MethodName) prog_1_method_5_code (1 : Nat) (Option.some Jvm.ClassFile.FieldType.int)) ∈ lw_all := lw_g (lw_at lw_m1 114 rfl) rfl
theorem q130 : (Jvm.Cond.instanceMethod ({ cls := "ReorderCore", name := "set", desc := "(II)Z" } : Jvm.MethodName)) ∈ lw_all := lw_g (lw_at lw_m1 116 rfl) rfl
theorem q131 : (Jvm.Cond.selects "ReorderCore" ({ cls := "ReorderCore", name := "set", desc := "(II)Z" } : Jvm.MethodName) ({ cls := "ReorderCore", name := "set", desc := "(II)Z" } : Jvm.MethodName)) ∈ lw_all := lw_g (lw_at lw_m1 117 rfl) rfl
theorem q132 : (Jvm.Cond.code ({ cls := "ReorderCore", name := "set", desc := "(II)Z" } : Jvm.MethodName) prog_1_method_6_code (3 : Nat) (Option.some Jvm.ClassFile.FieldType.boolean)) ∈ lw_all := lw_g (lw_at lw_m1 118 rfl) rfl
theorem q134 : (Jvm.Cond.instanceMethod ({ cls := "ReorderCore", name := "start", desc := "(I)V" } : Jvm.MethodName)) ∈ lw_all := lw_g (lw_at lw_m1 120 rfl) rfl
theorem q135 : (Jvm.Cond.selects "ReorderCore" ({ cls := "ReorderCore", name := "start", desc := "(I)V" } : Jvm.MethodName) ({ cls := "ReorderCore", name := "start", desc := "(I)V" } : Jvm.MethodName)) ∈ lw_all := lw_g (lw_at lw_m1 121 rfl) rfl
theorem q136 : (Jvm.Cond.code ({ cls := "ReorderCore", name := "start", desc := "(I)V" } : Jvm.MethodName) prog_1_method_7_code (2 : Nat) (Option.none : Option Jvm.ClassFile.FieldType)) ∈ lw_all := lw_g (lw_at lw_m1 122 rfl) rfl
theorem q137 : (Jvm.Cond.methodLink "ReorderCore" (88 : Nat) ({ cls := "ReorderCore", name := "refetch", desc := "(I)V" } : Jvm.MethodName)) ∈ lw_all := lw_g (lw_at lw_m1 123 rfl) rfl
theorem q138 : (Jvm.Cond.privateMethod ({ cls := "ReorderCore", name := "refetch", desc := "(I)V" } : Jvm.MethodName)) ∈ lw_tbl := lw_at lw_m1 124 rfl
theorem q139 : (Jvm.Cond.instanceMethod ({ cls := "ReorderCore", name := "refetch", desc := "(I)V" } : Jvm.MethodName)) ∈ lw_all := lw_g (lw_at lw_m1 125 rfl) rfl
theorem q140 : (Jvm.Cond.code ({ cls := "ReorderCore", name := "refetch", desc := "(I)V" } : Jvm.MethodName) prog_1_method_8_code (3 : Nat) (Option.none : Option Jvm.ClassFile.FieldType)) ∈ lw_all := lw_g (lw_at lw_m1 126 rfl) rfl
theorem q142 : (Jvm.Cond.instanceMethod ({ cls := "ReorderCore", name := "finish", desc := "(I)I" } : Jvm.MethodName)) ∈ lw_all := lw_g (lw_at lw_m1 128 rfl) rfl
theorem q143 : (Jvm.Cond.selects "ReorderCore" ({ cls := "ReorderCore", name := "finish", desc := "(I)I" } : Jvm.MethodName) ({ cls := "ReorderCore", name := "finish", desc := "(I)I" } : Jvm.MethodName)) ∈ lw_all := lw_g (lw_at lw_m1 129 rfl) rfl
theorem q144 : (Jvm.Cond.code ({ cls := "ReorderCore", name := "finish", desc := "(I)I" } : Jvm.MethodName) prog_1_method_9_code (5 : Nat) (Option.some Jvm.ClassFile.FieldType.int)) ∈ lw_all := lw_g (lw_at lw_m1 130 rfl) rfl
theorem q145 : (Jvm.Cond.methodLink "ReorderCore" (105 : Nat) ({ cls := "ReorderCore", name := "retire", desc := "()I" } : Jvm.MethodName)) ∈ lw_all := lw_g (lw_at lw_m1 131 rfl) rfl
theorem q146 : (Jvm.Cond.privateMethod ({ cls := "ReorderCore", name := "retire", desc := "()I" } : Jvm.MethodName)) ∈ lw_tbl := lw_at lw_m1 132 rfl
theorem q147 : (Jvm.Cond.instanceMethod ({ cls := "ReorderCore", name := "retire", desc := "()I" } : Jvm.MethodName)) ∈ lw_all := lw_g (lw_at lw_m1 133 rfl) rfl
theorem q148 : (Jvm.Cond.code ({ cls := "ReorderCore", name := "retire", desc := "()I" } : Jvm.MethodName) prog_1_method_10_code (3 : Nat) (Option.some Jvm.ClassFile.FieldType.int)) ∈ lw_all := lw_g (lw_at lw_m1 134 rfl) rfl
theorem q149 : (Jvm.Cond.methodLink "ReorderCore" (109 : Nat) ({ cls := "ReorderCore", name := "complete", desc := "()V" } : Jvm.MethodName)) ∈ lw_all := lw_g (lw_at lw_m1 135 rfl) rfl
theorem q150 : (Jvm.Cond.privateMethod ({ cls := "ReorderCore", name := "complete", desc := "()V" } : Jvm.MethodName)) ∈ lw_tbl := lw_at lw_m1 136 rfl
theorem q151 : (Jvm.Cond.instanceMethod ({ cls := "ReorderCore", name := "complete", desc := "()V" } : Jvm.MethodName)) ∈ lw_all := lw_g (lw_at lw_m1 137 rfl) rfl
theorem q152 : (Jvm.Cond.code ({ cls := "ReorderCore", name := "complete", desc := "()V" } : Jvm.MethodName) prog_1_method_11_code (4 : Nat) (Option.none : Option Jvm.ClassFile.FieldType)) ∈ lw_all := lw_g (lw_at lw_m1 138 rfl) rfl
theorem q153 : (Jvm.Cond.methodLink "ReorderCore" (118 : Nat) ({ cls := "ReorderCore", name := "work", desc := "(I)V" } : Jvm.MethodName)) ∈ lw_all := lw_g (lw_at lw_m1 139 rfl) rfl
theorem q154 : (Jvm.Cond.privateMethod ({ cls := "ReorderCore", name := "work", desc := "(I)V" } : Jvm.MethodName)) ∈ lw_tbl := lw_at lw_m1 140 rfl
theorem q155 : (Jvm.Cond.instanceMethod ({ cls := "ReorderCore", name := "work", desc := "(I)V" } : Jvm.MethodName)) ∈ lw_all := lw_g (lw_at lw_m1 141 rfl) rfl
theorem q156 : (Jvm.Cond.code ({ cls := "ReorderCore", name := "work", desc := "(I)V" } : Jvm.MethodName) prog_1_method_12_code (5 : Nat) (Option.none : Option Jvm.ClassFile.FieldType)) ∈ lw_all := lw_g (lw_at lw_m1 142 rfl) rfl
theorem q157 : (Jvm.Cond.methodLink "ReorderCore" (121 : Nat) ({ cls := "ReorderCore", name := "hand", desc := "(I)V" } : Jvm.MethodName)) ∈ lw_all := lw_g (lw_at lw_m1 143 rfl) rfl
theorem q158 : (Jvm.Cond.privateMethod ({ cls := "ReorderCore", name := "hand", desc := "(I)V" } : Jvm.MethodName)) ∈ lw_tbl := lw_at lw_m1 144 rfl
theorem q159 : (Jvm.Cond.instanceMethod ({ cls := "ReorderCore", name := "hand", desc := "(I)V" } : Jvm.MethodName)) ∈ lw_all := lw_g (lw_at lw_m1 145 rfl) rfl
theorem q160 : (Jvm.Cond.code ({ cls := "ReorderCore", name := "hand", desc := "(I)V" } : Jvm.MethodName) prog_1_method_13_code (4 : Nat) (Option.none : Option Jvm.ClassFile.FieldType)) ∈ lw_all := lw_g (lw_at lw_m1 146 rfl) rfl
theorem q161 : (Jvm.Cond.methodLink "ReorderCore" (112 : Nat) ({ cls := "ReorderCore", name := "begin", desc := "()V" } : Jvm.MethodName)) ∈ lw_all := lw_g (lw_at lw_m1 147 rfl) rfl
theorem q162 : (Jvm.Cond.privateMethod ({ cls := "ReorderCore", name := "begin", desc := "()V" } : Jvm.MethodName)) ∈ lw_tbl := lw_at lw_m1 148 rfl
theorem q163 : (Jvm.Cond.instanceMethod ({ cls := "ReorderCore", name := "begin", desc := "()V" } : Jvm.MethodName)) ∈ lw_all := lw_g (lw_at lw_m1 149 rfl) rfl
theorem q164 : (Jvm.Cond.code ({ cls := "ReorderCore", name := "begin", desc := "()V" } : Jvm.MethodName) prog_1_method_14_code (7 : Nat) (Option.none : Option Jvm.ClassFile.FieldType)) ∈ lw_all := lw_g (lw_at lw_m1 150 rfl) rfl
theorem q165 : (Jvm.Cond.methodLink "ReorderCore" (124 : Nat) ({ cls := "ReorderCore", name := "latency", desc := "(I)I" } : Jvm.MethodName)) ∈ lw_all := lw_g (lw_at lw_m1 151 rfl) rfl
theorem q166 : (Jvm.Cond.static ({ cls := "ReorderCore", name := "latency", desc := "(I)I" } : Jvm.MethodName)) ∈ lw_all := lw_g (lw_at lw_m1 152 rfl) rfl
theorem q167 : (Jvm.Cond.code ({ cls := "ReorderCore", name := "latency", desc := "(I)I" } : Jvm.MethodName) prog_1_method_15_code (1 : Nat) (Option.some Jvm.ClassFile.FieldType.int)) ∈ lw_all := lw_g (lw_at lw_m1 153 rfl) rfl
theorem q168 : (Jvm.Cond.methodLink "ReorderCore" (115 : Nat) ({ cls := "ReorderCore", name := "issue", desc := "()V" } : Jvm.MethodName)) ∈ lw_all := lw_g (lw_at lw_m1 154 rfl) rfl
theorem q169 : (Jvm.Cond.privateMethod ({ cls := "ReorderCore", name := "issue", desc := "()V" } : Jvm.MethodName)) ∈ lw_tbl := lw_at lw_m1 155 rfl
theorem q170 : (Jvm.Cond.instanceMethod ({ cls := "ReorderCore", name := "issue", desc := "()V" } : Jvm.MethodName)) ∈ lw_all := lw_g (lw_at lw_m1 156 rfl) rfl
theorem q171 : (Jvm.Cond.code ({ cls := "ReorderCore", name := "issue", desc := "()V" } : Jvm.MethodName) prog_1_method_16_code (4 : Nat) (Option.none : Option Jvm.ClassFile.FieldType)) ∈ lw_all := lw_g (lw_at lw_m1 157 rfl) rfl
theorem q172 : (Jvm.Cond.methodLink "ReorderCore" (128 : Nat) ({ cls := "ReorderCore", name := "readOperands", desc := "(III)V" } : Jvm.MethodName)) ∈ lw_all := lw_g (lw_at lw_m1 158 rfl) rfl
theorem q173 : (Jvm.Cond.privateMethod ({ cls := "ReorderCore", name := "readOperands", desc := "(III)V" } : Jvm.MethodName)) ∈ lw_tbl := lw_at lw_m1 159 rfl
theorem q174 : (Jvm.Cond.instanceMethod ({ cls := "ReorderCore", name := "readOperands", desc := "(III)V" } : Jvm.MethodName)) ∈ lw_all := lw_g (lw_at lw_m1 160 rfl) rfl
theorem q175 : (Jvm.Cond.code ({ cls := "ReorderCore", name := "readOperands", desc := "(III)V" } : Jvm.MethodName) prog_1_method_17_code (7 : Nat) (Option.none : Option Jvm.ClassFile.FieldType)) ∈ lw_all := lw_g (lw_at lw_m1 161 rfl) rfl
theorem q176 : (Jvm.Cond.methodLink "ReorderCore" (135 : Nat) ({ cls := "ReorderCore", name := "readLeft", desc := "(II)V" } : Jvm.MethodName)) ∈ lw_all := lw_g (lw_at lw_m1 162 rfl) rfl
theorem q177 : (Jvm.Cond.privateMethod ({ cls := "ReorderCore", name := "readLeft", desc := "(II)V" } : Jvm.MethodName)) ∈ lw_tbl := lw_at lw_m1 163 rfl
theorem q178 : (Jvm.Cond.instanceMethod ({ cls := "ReorderCore", name := "readLeft", desc := "(II)V" } : Jvm.MethodName)) ∈ lw_all := lw_g (lw_at lw_m1 164 rfl) rfl
theorem q179 : (Jvm.Cond.code ({ cls := "ReorderCore", name := "readLeft", desc := "(II)V" } : Jvm.MethodName) prog_1_method_18_code (5 : Nat) (Option.none : Option Jvm.ClassFile.FieldType)) ∈ lw_all := lw_g (lw_at lw_m1 165 rfl) rfl
theorem q180 : (Jvm.Cond.methodLink "ReorderCore" (139 : Nat) ({ cls := "ReorderCore", name := "readRight", desc := "(II)V" } : Jvm.MethodName)) ∈ lw_all := lw_g (lw_at lw_m1 166 rfl) rfl
theorem q181 : (Jvm.Cond.privateMethod ({ cls := "ReorderCore", name := "readRight", desc := "(II)V" } : Jvm.MethodName)) ∈ lw_tbl := lw_at lw_m1 167 rfl
theorem q182 : (Jvm.Cond.instanceMethod ({ cls := "ReorderCore", name := "readRight", desc := "(II)V" } : Jvm.MethodName)) ∈ lw_all := lw_g (lw_at lw_m1 168 rfl) rfl
theorem q183 : (Jvm.Cond.code ({ cls := "ReorderCore", name := "readRight", desc := "(II)V" } : Jvm.MethodName) prog_1_method_19_code (5 : Nat) (Option.none : Option Jvm.ClassFile.FieldType)) ∈ lw_all := lw_g (lw_at lw_m1 169 rfl) rfl
theorem q184 : (Jvm.Cond.methodLink "ReorderCore" (132 : Nat) ({ cls := "ReorderCore", name := "follow", desc := "(III)V" } : Jvm.MethodName)) ∈ lw_all := lw_g (lw_at lw_m1 170 rfl) rfl
theorem q185 : (Jvm.Cond.privateMethod ({ cls := "ReorderCore", name := "follow", desc := "(III)V" } : Jvm.MethodName)) ∈ lw_tbl := lw_at lw_m1 171 rfl
theorem q186 : (Jvm.Cond.instanceMethod ({ cls := "ReorderCore", name := "follow", desc := "(III)V" } : Jvm.MethodName)) ∈ lw_all := lw_g (lw_at lw_m1 172 rfl) rfl
theorem q187 : (Jvm.Cond.code ({ cls := "ReorderCore", name := "follow", desc := "(III)V" } : Jvm.MethodName) prog_1_method_20_code (6 : Nat) (Option.none : Option Jvm.ClassFile.FieldType)) ∈ lw_all := lw_g (lw_at lw_m1 173 rfl) rfl
theorem q189 : (Jvm.Cond.instanceMethod ({ cls := "ReorderCore", name := "status", desc := "()I" } : Jvm.MethodName)) ∈ lw_all := lw_g (lw_at lw_m1 175 rfl) rfl
theorem q190 : (Jvm.Cond.selects "ReorderCore" ({ cls := "ReorderCore", name := "status", desc := "()I" } : Jvm.MethodName) ({ cls := "ReorderCore", name := "status", desc := "()I" } : Jvm.MethodName)) ∈ lw_all := lw_g (lw_at lw_m1 176 rfl) rfl
theorem q191 : (Jvm.Cond.code ({ cls := "ReorderCore", name := "status", desc := "()I" } : Jvm.MethodName) prog_1_method_21_code (1 : Nat) (Option.some Jvm.ClassFile.FieldType.int)) ∈ lw_all := lw_g (lw_at lw_m1 177 rfl) rfl
theorem q193 : (Jvm.Cond.instanceMethod ({ cls := "ReorderCore", name := "position", desc := "()I" } : Jvm.MethodName)) ∈ lw_all := lw_g (lw_at lw_m1 179 rfl) rfl
theorem q194 : (Jvm.Cond.selects "ReorderCore" ({ cls := "ReorderCore", name := "position", desc := "()I" } : Jvm.MethodName) ({ cls := "ReorderCore", name := "position", desc := "()I" } : Jvm.MethodName)) ∈ lw_all := lw_g (lw_at lw_m1 180 rfl) rfl
theorem q195 : (Jvm.Cond.code ({ cls := "ReorderCore", name := "position", desc := "()I" } : Jvm.MethodName) prog_1_method_22_code (1 : Nat) (Option.some Jvm.ClassFile.FieldType.int)) ∈ lw_all := lw_g (lw_at lw_m1 181 rfl) rfl
theorem q197 : (Jvm.Cond.instanceMethod ({ cls := "ReorderCore", name := "finished", desc := "()I" } : Jvm.MethodName)) ∈ lw_all := lw_g (lw_at lw_m1 183 rfl) rfl
theorem q198 : (Jvm.Cond.selects "ReorderCore" ({ cls := "ReorderCore", name := "finished", desc := "()I" } : Jvm.MethodName) ({ cls := "ReorderCore", name := "finished", desc := "()I" } : Jvm.MethodName)) ∈ lw_all := lw_g (lw_at lw_m1 184 rfl) rfl
theorem q199 : (Jvm.Cond.code ({ cls := "ReorderCore", name := "finished", desc := "()I" } : Jvm.MethodName) prog_1_method_23_code (1 : Nat) (Option.some Jvm.ClassFile.FieldType.int)) ∈ lw_all := lw_g (lw_at lw_m1 185 rfl) rfl
theorem q201 : (Jvm.Cond.instanceMethod ({ cls := "ReorderCore", name := "register", desc := "(I)I" } : Jvm.MethodName)) ∈ lw_all := lw_g (lw_at lw_m1 187 rfl) rfl
theorem q202 : (Jvm.Cond.selects "ReorderCore" ({ cls := "ReorderCore", name := "register", desc := "(I)I" } : Jvm.MethodName) ({ cls := "ReorderCore", name := "register", desc := "(I)I" } : Jvm.MethodName)) ∈ lw_all := lw_g (lw_at lw_m1 188 rfl) rfl
theorem q203 : (Jvm.Cond.code ({ cls := "ReorderCore", name := "register", desc := "(I)I" } : Jvm.MethodName) prog_1_method_24_code (2 : Nat) (Option.some Jvm.ClassFile.FieldType.int)) ∈ lw_all := lw_g (lw_at lw_m1 189 rfl) rfl
theorem q205 : (Jvm.Cond.instanceMethod ({ cls := "ReorderCore", name := "memory", desc := "(I)I" } : Jvm.MethodName)) ∈ lw_all := lw_g (lw_at lw_m1 191 rfl) rfl
theorem q206 : (Jvm.Cond.selects "ReorderCore" ({ cls := "ReorderCore", name := "memory", desc := "(I)I" } : Jvm.MethodName) ({ cls := "ReorderCore", name := "memory", desc := "(I)I" } : Jvm.MethodName)) ∈ lw_all := lw_g (lw_at lw_m1 192 rfl) rfl
theorem q207 : (Jvm.Cond.code ({ cls := "ReorderCore", name := "memory", desc := "(I)I" } : Jvm.MethodName) prog_1_method_25_code (2 : Nat) (Option.some Jvm.ClassFile.FieldType.int)) ∈ lw_all := lw_g (lw_at lw_m1 193 rfl) rfl
theorem q209 : (Jvm.Cond.instanceMethod ({ cls := "ReorderCore", name := "digest", desc := "()I" } : Jvm.MethodName)) ∈ lw_all := lw_g (lw_at lw_m1 195 rfl) rfl
theorem q210 : (Jvm.Cond.selects "ReorderCore" ({ cls := "ReorderCore", name := "digest", desc := "()I" } : Jvm.MethodName) ({ cls := "ReorderCore", name := "digest", desc := "()I" } : Jvm.MethodName)) ∈ lw_all := lw_g (lw_at lw_m1 196 rfl) rfl
theorem q211 : (Jvm.Cond.code ({ cls := "ReorderCore", name := "digest", desc := "()I" } : Jvm.MethodName) prog_1_method_26_code (3 : Nat) (Option.some Jvm.ClassFile.FieldType.int)) ∈ lw_all := lw_g (lw_at lw_m1 197 rfl) rfl
theorem in_X0 : ∀ w ∈ wsX00, w ∈ lw_all := lw_in wsX00 [53, 55, 57, 59, 61, 63, 65, 67, 69, 71, 73, 75, 77, 79, 81, 83, 85, 87, 89, 91, 93, 95, 97, 99, 101, 103, 105, 107] (by decide +kernel) (by decide +kernel)
end
section
/-! ReorderCoreModel -/
set_option maxRecDepth 100000
def RX1 : String := "ReorderCoreModel"
def TX1 : u_T := fun k => match k with
  | 0 => ("ReorderCoreModel", "size", "I", false)
  | 1 => ("ReorderCoreModel", "ops", "[I", false)
  | 2 => ("ReorderCoreModel", "regs", "[I", false)
  | 3 => ("ReorderCoreModel", "ns", "[I", false)
  | 4 => ("ReorderCoreModel", "reg", "[I", false)
  | 5 => ("ReorderCoreModel", "cells", "[I", false)
  | 6 => ("ReorderCoreModel", "state", "I", false)
  | 7 => ("ReorderCoreModel", "at", "I", false)
  | _ => ("ReorderCoreModel", "done", "I", false)
def tyX1 : Nat → FieldType := fun k => match k with
  | 0 => .int
  | 1 => .array .int
  | 2 => .array .int
  | 3 => .array .int
  | 4 => .array .int
  | 5 => .array .int
  | 6 => .int
  | 7 => .int
  | _ => .int
abbrev wsX10 : List Cond := u_ws RX1 TX1 9
theorem nmX1 : ∀ a, a < 9 → ∀ b, b < 9 → a ≠ b → (TX1 a).2.1 ≠ (TX1 b).2.1 := by decide +kernel
theorem tyX1_ok : ∀ k, k < 9 → parseFieldDescriptor (TX1 k).2.2.1 = some (tyX1 k) := by decide +kernel
abbrev cX1_init : ByteArray := prog_3_method_1_code
def yX1_init : MethodName := ⟨RX1, "<init>", "()V"⟩
theorem dX1_init_0 : decode cX1_init 0 = .ok (.aload_n 0, 1) := by decide +kernel
theorem dX1_init_1 : decode cX1_init 1 = .ok (.invokespecial 1, 3) := by decide +kernel
theorem dX1_init_4 : decode cX1_init 4 = .ok (.aload_n 0, 1) := by decide +kernel
theorem dX1_init_5 : decode cX1_init 5 = .ok (.bipush 16, 2) := by decide +kernel
theorem dX1_init_7 : decode cX1_init 7 = .ok (.newarray .int, 2) := by decide +kernel
theorem dX1_init_9 : decode cX1_init 9 = .ok (.putfield 7, 3) := by decide +kernel
theorem dX1_init_12 : decode cX1_init 12 = .ok (.aload_n 0, 1) := by decide +kernel
theorem dX1_init_13 : decode cX1_init 13 = .ok (.bipush 16, 2) := by decide +kernel
theorem dX1_init_15 : decode cX1_init 15 = .ok (.newarray .int, 2) := by decide +kernel
theorem dX1_init_17 : decode cX1_init 17 = .ok (.putfield 13, 3) := by decide +kernel
theorem dX1_init_20 : decode cX1_init 20 = .ok (.aload_n 0, 1) := by decide +kernel
theorem dX1_init_21 : decode cX1_init 21 = .ok (.bipush 16, 2) := by decide +kernel
theorem dX1_init_23 : decode cX1_init 23 = .ok (.newarray .int, 2) := by decide +kernel
theorem dX1_init_25 : decode cX1_init 25 = .ok (.putfield 16, 3) := by decide +kernel
theorem dX1_init_28 : decode cX1_init 28 = .ok (.aload_n 0, 1) := by decide +kernel
theorem dX1_init_29 : decode cX1_init 29 = .ok (.iconst 4, 1) := by decide +kernel
theorem dX1_init_30 : decode cX1_init 30 = .ok (.newarray .int, 2) := by decide +kernel
theorem dX1_init_32 : decode cX1_init 32 = .ok (.putfield 19, 3) := by decide +kernel
theorem dX1_init_35 : decode cX1_init 35 = .ok (.aload_n 0, 1) := by decide +kernel
theorem dX1_init_36 : decode cX1_init 36 = .ok (.bipush 8, 2) := by decide +kernel
theorem dX1_init_38 : decode cX1_init 38 = .ok (.newarray .int, 2) := by decide +kernel
theorem dX1_init_40 : decode cX1_init 40 = .ok (.putfield 22, 3) := by decide +kernel
theorem dX1_init_43 : decode cX1_init 43 = .ok (.return_, 1) := by decide +kernel
abbrev cX1_emit : ByteArray := prog_3_method_3_code
def yX1_emit : MethodName := ⟨RX1, "emit", "(III)I"⟩
theorem dX1_emit_0 : decode cX1_emit 0 = .ok (.iload_n 1, 1) := by decide +kernel
theorem dX1_emit_1 : decode cX1_emit 1 = .ok (.ifCond .lt 19, 3) := by decide +kernel
theorem dX1_emit_4 : decode cX1_emit 4 = .ok (.iload_n 1, 1) := by decide +kernel
theorem dX1_emit_5 : decode cX1_emit 5 = .ok (.bipush 8, 2) := by decide +kernel
theorem dX1_emit_7 : decode cX1_emit 7 = .ok (.if_icmp .gt 13, 3) := by decide +kernel
theorem dX1_emit_10 : decode cX1_emit 10 = .ok (.iload_n 2, 1) := by decide +kernel
theorem dX1_emit_11 : decode cX1_emit 11 = .ok (.ifCond .lt 9, 3) := by decide +kernel
theorem dX1_emit_14 : decode cX1_emit 14 = .ok (.iload_n 2, 1) := by decide +kernel
theorem dX1_emit_15 : decode cX1_emit 15 = .ok (.bipush 63, 2) := by decide +kernel
theorem dX1_emit_17 : decode cX1_emit 17 = .ok (.if_icmp .le 5, 3) := by decide +kernel
theorem dX1_emit_20 : decode cX1_emit 20 = .ok (.iconst (-1), 1) := by decide +kernel
theorem dX1_emit_21 : decode cX1_emit 21 = .ok (.ireturn, 1) := by decide +kernel
theorem dX1_emit_22 : decode cX1_emit 22 = .ok (.aload_n 0, 1) := by decide +kernel
theorem dX1_emit_23 : decode cX1_emit 23 = .ok (.getfield 35, 3) := by decide +kernel
theorem dX1_emit_26 : decode cX1_emit 26 = .ok (.bipush 16, 2) := by decide +kernel
theorem dX1_emit_28 : decode cX1_emit 28 = .ok (.if_icmp .lt 6, 3) := by decide +kernel
theorem dX1_emit_31 : decode cX1_emit 31 = .ok (.bipush (-2), 2) := by decide +kernel
theorem dX1_emit_33 : decode cX1_emit 33 = .ok (.ireturn, 1) := by decide +kernel
theorem dX1_emit_34 : decode cX1_emit 34 = .ok (.aload_n 0, 1) := by decide +kernel
theorem dX1_emit_35 : decode cX1_emit 35 = .ok (.getfield 7, 3) := by decide +kernel
theorem dX1_emit_38 : decode cX1_emit 38 = .ok (.aload_n 0, 1) := by decide +kernel
theorem dX1_emit_39 : decode cX1_emit 39 = .ok (.getfield 35, 3) := by decide +kernel
theorem dX1_emit_42 : decode cX1_emit 42 = .ok (.iload_n 1, 1) := by decide +kernel
theorem dX1_emit_43 : decode cX1_emit 43 = .ok (.iastore, 1) := by decide +kernel
theorem dX1_emit_44 : decode cX1_emit 44 = .ok (.aload_n 0, 1) := by decide +kernel
theorem dX1_emit_45 : decode cX1_emit 45 = .ok (.getfield 13, 3) := by decide +kernel
theorem dX1_emit_48 : decode cX1_emit 48 = .ok (.aload_n 0, 1) := by decide +kernel
theorem dX1_emit_49 : decode cX1_emit 49 = .ok (.getfield 35, 3) := by decide +kernel
theorem dX1_emit_52 : decode cX1_emit 52 = .ok (.iload_n 2, 1) := by decide +kernel
theorem dX1_emit_53 : decode cX1_emit 53 = .ok (.iastore, 1) := by decide +kernel
theorem dX1_emit_54 : decode cX1_emit 54 = .ok (.aload_n 0, 1) := by decide +kernel
theorem dX1_emit_55 : decode cX1_emit 55 = .ok (.getfield 16, 3) := by decide +kernel
theorem dX1_emit_58 : decode cX1_emit 58 = .ok (.aload_n 0, 1) := by decide +kernel
theorem dX1_emit_59 : decode cX1_emit 59 = .ok (.getfield 35, 3) := by decide +kernel
theorem dX1_emit_62 : decode cX1_emit 62 = .ok (.iload_n 3, 1) := by decide +kernel
theorem dX1_emit_63 : decode cX1_emit 63 = .ok (.iastore, 1) := by decide +kernel
theorem dX1_emit_64 : decode cX1_emit 64 = .ok (.aload_n 0, 1) := by decide +kernel
theorem dX1_emit_65 : decode cX1_emit 65 = .ok (.dup, 1) := by decide +kernel
theorem dX1_emit_66 : decode cX1_emit 66 = .ok (.getfield 35, 3) := by decide +kernel
theorem dX1_emit_69 : decode cX1_emit 69 = .ok (.iconst 1, 1) := by decide +kernel
theorem dX1_emit_70 : decode cX1_emit 70 = .ok (.iadd, 1) := by decide +kernel
theorem dX1_emit_71 : decode cX1_emit 71 = .ok (.putfield 35, 3) := by decide +kernel
theorem dX1_emit_74 : decode cX1_emit 74 = .ok (.aload_n 0, 1) := by decide +kernel
theorem dX1_emit_75 : decode cX1_emit 75 = .ok (.invokevirtual 38, 3) := by decide +kernel
theorem dX1_emit_78 : decode cX1_emit 78 = .ok (.aload_n 0, 1) := by decide +kernel
theorem dX1_emit_79 : decode cX1_emit 79 = .ok (.getfield 35, 3) := by decide +kernel
theorem dX1_emit_82 : decode cX1_emit 82 = .ok (.iconst 1, 1) := by decide +kernel
theorem dX1_emit_83 : decode cX1_emit 83 = .ok (.isub, 1) := by decide +kernel
theorem dX1_emit_84 : decode cX1_emit 84 = .ok (.ireturn, 1) := by decide +kernel
abbrev cX1_idle : ByteArray := prog_3_method_2_code
def yX1_idle : MethodName := ⟨RX1, "idle", "()V"⟩
theorem dX1_idle_0 : decode cX1_idle 0 = .ok (.aload_n 0, 1) := by decide +kernel
theorem dX1_idle_1 : decode cX1_idle 1 = .ok (.iconst 0, 1) := by decide +kernel
theorem dX1_idle_2 : decode cX1_idle 2 = .ok (.putfield 25, 3) := by decide +kernel
theorem dX1_idle_5 : decode cX1_idle 5 = .ok (.aload_n 0, 1) := by decide +kernel
theorem dX1_idle_6 : decode cX1_idle 6 = .ok (.iconst 0, 1) := by decide +kernel
theorem dX1_idle_7 : decode cX1_idle 7 = .ok (.putfield 29, 3) := by decide +kernel
theorem dX1_idle_10 : decode cX1_idle 10 = .ok (.aload_n 0, 1) := by decide +kernel
theorem dX1_idle_11 : decode cX1_idle 11 = .ok (.iconst 0, 1) := by decide +kernel
theorem dX1_idle_12 : decode cX1_idle 12 = .ok (.putfield 32, 3) := by decide +kernel
theorem dX1_idle_15 : decode cX1_idle 15 = .ok (.return_, 1) := by decide +kernel
abbrev cX1_clear : ByteArray := prog_3_method_4_code
def yX1_clear : MethodName := ⟨RX1, "clear", "()V"⟩
theorem dX1_clear_0 : decode cX1_clear 0 = .ok (.aload_n 0, 1) := by decide +kernel
theorem dX1_clear_1 : decode cX1_clear 1 = .ok (.iconst 0, 1) := by decide +kernel
theorem dX1_clear_2 : decode cX1_clear 2 = .ok (.putfield 35, 3) := by decide +kernel
theorem dX1_clear_5 : decode cX1_clear 5 = .ok (.aload_n 0, 1) := by decide +kernel
theorem dX1_clear_6 : decode cX1_clear 6 = .ok (.invokevirtual 38, 3) := by decide +kernel
theorem dX1_clear_9 : decode cX1_clear 9 = .ok (.return_, 1) := by decide +kernel
abbrev cX1_length : ByteArray := prog_3_method_5_code
def yX1_length : MethodName := ⟨RX1, "length", "()I"⟩
theorem dX1_length_0 : decode cX1_length 0 = .ok (.aload_n 0, 1) := by decide +kernel
theorem dX1_length_1 : decode cX1_length 1 = .ok (.getfield 35, 3) := by decide +kernel
theorem dX1_length_4 : decode cX1_length 4 = .ok (.ireturn, 1) := by decide +kernel
abbrev cX1_set : ByteArray := prog_3_method_6_code
def yX1_set : MethodName := ⟨RX1, "set", "(II)Z"⟩
theorem dX1_set_0 : decode cX1_set 0 = .ok (.aload_n 0, 1) := by decide +kernel
theorem dX1_set_1 : decode cX1_set 1 = .ok (.getfield 25, 3) := by decide +kernel
theorem dX1_set_4 : decode cX1_set 4 = .ok (.iconst 1, 1) := by decide +kernel
theorem dX1_set_5 : decode cX1_set 5 = .ok (.if_icmp .eq 24, 3) := by decide +kernel
theorem dX1_set_8 : decode cX1_set 8 = .ok (.iload_n 1, 1) := by decide +kernel
theorem dX1_set_9 : decode cX1_set 9 = .ok (.ifCond .lt 20, 3) := by decide +kernel
theorem dX1_set_12 : decode cX1_set 12 = .ok (.iload_n 1, 1) := by decide +kernel
theorem dX1_set_13 : decode cX1_set 13 = .ok (.bipush 15, 2) := by decide +kernel
theorem dX1_set_15 : decode cX1_set 15 = .ok (.if_icmp .gt 14, 3) := by decide +kernel
theorem dX1_set_18 : decode cX1_set 18 = .ok (.iload_n 1, 1) := by decide +kernel
theorem dX1_set_19 : decode cX1_set 19 = .ok (.iconst 3, 1) := by decide +kernel
theorem dX1_set_20 : decode cX1_set 20 = .ok (.if_icmp .le 11, 3) := by decide +kernel
theorem dX1_set_23 : decode cX1_set 23 = .ok (.iload_n 1, 1) := by decide +kernel
theorem dX1_set_24 : decode cX1_set 24 = .ok (.bipush 8, 2) := by decide +kernel
theorem dX1_set_26 : decode cX1_set 26 = .ok (.if_icmp .ge 5, 3) := by decide +kernel
theorem dX1_set_29 : decode cX1_set 29 = .ok (.iconst 0, 1) := by decide +kernel
theorem dX1_set_30 : decode cX1_set 30 = .ok (.ireturn, 1) := by decide +kernel
theorem dX1_set_31 : decode cX1_set 31 = .ok (.iload_n 1, 1) := by decide +kernel
theorem dX1_set_32 : decode cX1_set 32 = .ok (.iconst 3, 1) := by decide +kernel
theorem dX1_set_33 : decode cX1_set 33 = .ok (.if_icmp .gt 13, 3) := by decide +kernel
theorem dX1_set_36 : decode cX1_set 36 = .ok (.aload_n 0, 1) := by decide +kernel
theorem dX1_set_37 : decode cX1_set 37 = .ok (.getfield 19, 3) := by decide +kernel
theorem dX1_set_40 : decode cX1_set 40 = .ok (.iload_n 1, 1) := by decide +kernel
theorem dX1_set_41 : decode cX1_set 41 = .ok (.iload_n 2, 1) := by decide +kernel
theorem dX1_set_42 : decode cX1_set 42 = .ok (.iastore, 1) := by decide +kernel
theorem dX1_set_43 : decode cX1_set 43 = .ok (.goto 13, 3) := by decide +kernel
theorem dX1_set_46 : decode cX1_set 46 = .ok (.aload_n 0, 1) := by decide +kernel
theorem dX1_set_47 : decode cX1_set 47 = .ok (.getfield 22, 3) := by decide +kernel
theorem dX1_set_50 : decode cX1_set 50 = .ok (.iload_n 1, 1) := by decide +kernel
theorem dX1_set_51 : decode cX1_set 51 = .ok (.bipush 8, 2) := by decide +kernel
theorem dX1_set_53 : decode cX1_set 53 = .ok (.isub, 1) := by decide +kernel
theorem dX1_set_54 : decode cX1_set 54 = .ok (.iload_n 2, 1) := by decide +kernel
theorem dX1_set_55 : decode cX1_set 55 = .ok (.iastore, 1) := by decide +kernel
theorem dX1_set_56 : decode cX1_set 56 = .ok (.iconst 1, 1) := by decide +kernel
theorem dX1_set_57 : decode cX1_set 57 = .ok (.ireturn, 1) := by decide +kernel
abbrev cX1_start : ByteArray := prog_3_method_7_code
def yX1_start : MethodName := ⟨RX1, "start", "(I)V"⟩
theorem dX1_start_0 : decode cX1_start 0 = .ok (.aload_n 0, 1) := by decide +kernel
theorem dX1_start_1 : decode cX1_start 1 = .ok (.iconst 1, 1) := by decide +kernel
theorem dX1_start_2 : decode cX1_start 2 = .ok (.putfield 25, 3) := by decide +kernel
theorem dX1_start_5 : decode cX1_start 5 = .ok (.aload_n 0, 1) := by decide +kernel
theorem dX1_start_6 : decode cX1_start 6 = .ok (.iconst 0, 1) := by decide +kernel
theorem dX1_start_7 : decode cX1_start 7 = .ok (.putfield 29, 3) := by decide +kernel
theorem dX1_start_10 : decode cX1_start 10 = .ok (.aload_n 0, 1) := by decide +kernel
theorem dX1_start_11 : decode cX1_start 11 = .ok (.iconst 0, 1) := by decide +kernel
theorem dX1_start_12 : decode cX1_start 12 = .ok (.putfield 32, 3) := by decide +kernel
theorem dX1_start_15 : decode cX1_start 15 = .ok (.return_, 1) := by decide +kernel
abbrev cX1_finish : ByteArray := prog_3_method_9_code
def yX1_finish : MethodName := ⟨RX1, "finish", "(I)I"⟩
theorem dX1_finish_0 : decode cX1_finish 0 = .ok (.iload_n 1, 1) := by decide +kernel
theorem dX1_finish_1 : decode cX1_finish 1 = .ok (.sipush 200, 3) := by decide +kernel
theorem dX1_finish_4 : decode cX1_finish 4 = .ok (.if_icmp .le 9, 3) := by decide +kernel
theorem dX1_finish_7 : decode cX1_finish 7 = .ok (.sipush 200, 3) := by decide +kernel
theorem dX1_finish_10 : decode cX1_finish 10 = .ok (.goto 4, 3) := by decide +kernel
theorem dX1_finish_13 : decode cX1_finish 13 = .ok (.iload_n 1, 1) := by decide +kernel
theorem dX1_finish_14 : decode cX1_finish 14 = .ok (.istore_n 2, 1) := by decide +kernel
theorem dX1_finish_15 : decode cX1_finish 15 = .ok (.iconst 0, 1) := by decide +kernel
theorem dX1_finish_16 : decode cX1_finish 16 = .ok (.istore_n 3, 1) := by decide +kernel
theorem dX1_finish_17 : decode cX1_finish 17 = .ok (.iload_n 3, 1) := by decide +kernel
theorem dX1_finish_18 : decode cX1_finish 18 = .ok (.iload_n 2, 1) := by decide +kernel
theorem dX1_finish_19 : decode cX1_finish 19 = .ok (.if_icmp .ge 32, 3) := by decide +kernel
theorem dX1_finish_22 : decode cX1_finish 22 = .ok (.aload_n 0, 1) := by decide +kernel
theorem dX1_finish_23 : decode cX1_finish 23 = .ok (.getfield 25, 3) := by decide +kernel
theorem dX1_finish_26 : decode cX1_finish 26 = .ok (.iconst 1, 1) := by decide +kernel
theorem dX1_finish_27 : decode cX1_finish 27 = .ok (.if_icmp .ne 24, 3) := by decide +kernel
theorem dX1_finish_30 : decode cX1_finish 30 = .ok (.aload_n 0, 1) := by decide +kernel
theorem dX1_finish_31 : decode cX1_finish 31 = .ok (.invokevirtual 41, 3) := by decide +kernel
theorem dX1_finish_34 : decode cX1_finish 34 = .ok (.ifCond .eq 9, 3) := by decide +kernel
theorem dX1_finish_37 : decode cX1_finish 37 = .ok (.iinc 3 1, 3) := by decide +kernel
theorem dX1_finish_40 : decode cX1_finish 40 = .ok (.goto (-23), 3) := by decide +kernel
theorem dX1_finish_43 : decode cX1_finish 43 = .ok (.aload_n 0, 1) := by decide +kernel
theorem dX1_finish_44 : decode cX1_finish 44 = .ok (.iconst 3, 1) := by decide +kernel
theorem dX1_finish_45 : decode cX1_finish 45 = .ok (.putfield 25, 3) := by decide +kernel
theorem dX1_finish_48 : decode cX1_finish 48 = .ok (.goto (-31), 3) := by decide +kernel
theorem dX1_finish_51 : decode cX1_finish 51 = .ok (.aload_n 0, 1) := by decide +kernel
theorem dX1_finish_52 : decode cX1_finish 52 = .ok (.aload_n 0, 1) := by decide +kernel
theorem dX1_finish_53 : decode cX1_finish 53 = .ok (.getfield 32, 3) := by decide +kernel
theorem dX1_finish_56 : decode cX1_finish 56 = .ok (.iload_n 3, 1) := by decide +kernel
theorem dX1_finish_57 : decode cX1_finish 57 = .ok (.iadd, 1) := by decide +kernel
theorem dX1_finish_58 : decode cX1_finish 58 = .ok (.putfield 32, 3) := by decide +kernel
theorem dX1_finish_61 : decode cX1_finish 61 = .ok (.iload_n 3, 1) := by decide +kernel
theorem dX1_finish_62 : decode cX1_finish 62 = .ok (.ireturn, 1) := by decide +kernel
abbrev cX1_step : ByteArray := prog_3_method_8_code
def yX1_step : MethodName := ⟨RX1, "step", "()Z"⟩
theorem dX1_step_0 : decode cX1_step 0 = .ok (.aload_n 0, 1) := by decide +kernel
theorem dX1_step_1 : decode cX1_step 1 = .ok (.getfield 29, 3) := by decide +kernel
theorem dX1_step_4 : decode cX1_step 4 = .ok (.ifCond .lt 14, 3) := by decide +kernel
theorem dX1_step_7 : decode cX1_step 7 = .ok (.aload_n 0, 1) := by decide +kernel
theorem dX1_step_8 : decode cX1_step 8 = .ok (.getfield 29, 3) := by decide +kernel
theorem dX1_step_11 : decode cX1_step 11 = .ok (.aload_n 0, 1) := by decide +kernel
theorem dX1_step_12 : decode cX1_step 12 = .ok (.getfield 35, 3) := by decide +kernel
theorem dX1_step_15 : decode cX1_step 15 = .ok (.if_icmp .lt 5, 3) := by decide +kernel
theorem dX1_step_18 : decode cX1_step 18 = .ok (.iconst 0, 1) := by decide +kernel
theorem dX1_step_19 : decode cX1_step 19 = .ok (.ireturn, 1) := by decide +kernel
theorem dX1_step_20 : decode cX1_step 20 = .ok (.aload_n 0, 1) := by decide +kernel
theorem dX1_step_21 : decode cX1_step 21 = .ok (.getfield 7, 3) := by decide +kernel
theorem dX1_step_24 : decode cX1_step 24 = .ok (.aload_n 0, 1) := by decide +kernel
theorem dX1_step_25 : decode cX1_step 25 = .ok (.getfield 29, 3) := by decide +kernel
theorem dX1_step_28 : decode cX1_step 28 = .ok (.iaload, 1) := by decide +kernel
theorem dX1_step_29 : decode cX1_step 29 = .ok (.istore_n 1, 1) := by decide +kernel
theorem dX1_step_30 : decode cX1_step 30 = .ok (.aload_n 0, 1) := by decide +kernel
theorem dX1_step_31 : decode cX1_step 31 = .ok (.getfield 13, 3) := by decide +kernel
theorem dX1_step_34 : decode cX1_step 34 = .ok (.aload_n 0, 1) := by decide +kernel
theorem dX1_step_35 : decode cX1_step 35 = .ok (.getfield 29, 3) := by decide +kernel
theorem dX1_step_38 : decode cX1_step 38 = .ok (.iaload, 1) := by decide +kernel
theorem dX1_step_39 : decode cX1_step 39 = .ok (.iconst 3, 1) := by decide +kernel
theorem dX1_step_40 : decode cX1_step 40 = .ok (.iand, 1) := by decide +kernel
theorem dX1_step_41 : decode cX1_step 41 = .ok (.istore_n 2, 1) := by decide +kernel
theorem dX1_step_42 : decode cX1_step 42 = .ok (.aload_n 0, 1) := by decide +kernel
theorem dX1_step_43 : decode cX1_step 43 = .ok (.getfield 13, 3) := by decide +kernel
theorem dX1_step_46 : decode cX1_step 46 = .ok (.aload_n 0, 1) := by decide +kernel
theorem dX1_step_47 : decode cX1_step 47 = .ok (.getfield 29, 3) := by decide +kernel
theorem dX1_step_50 : decode cX1_step 50 = .ok (.iaload, 1) := by decide +kernel
theorem dX1_step_51 : decode cX1_step 51 = .ok (.iconst 2, 1) := by decide +kernel
theorem dX1_step_52 : decode cX1_step 52 = .ok (.ishr, 1) := by decide +kernel
theorem dX1_step_53 : decode cX1_step 53 = .ok (.iconst 3, 1) := by decide +kernel
theorem dX1_step_54 : decode cX1_step 54 = .ok (.iand, 1) := by decide +kernel
theorem dX1_step_55 : decode cX1_step 55 = .ok (.istore_n 3, 1) := by decide +kernel
theorem dX1_step_56 : decode cX1_step 56 = .ok (.aload_n 0, 1) := by decide +kernel
theorem dX1_step_57 : decode cX1_step 57 = .ok (.getfield 13, 3) := by decide +kernel
theorem dX1_step_60 : decode cX1_step 60 = .ok (.aload_n 0, 1) := by decide +kernel
theorem dX1_step_61 : decode cX1_step 61 = .ok (.getfield 29, 3) := by decide +kernel
theorem dX1_step_64 : decode cX1_step 64 = .ok (.iaload, 1) := by decide +kernel
theorem dX1_step_65 : decode cX1_step 65 = .ok (.iconst 4, 1) := by decide +kernel
theorem dX1_step_66 : decode cX1_step 66 = .ok (.ishr, 1) := by decide +kernel
theorem dX1_step_67 : decode cX1_step 67 = .ok (.istore 4, 2) := by decide +kernel
theorem dX1_step_69 : decode cX1_step 69 = .ok (.aload_n 0, 1) := by decide +kernel
theorem dX1_step_70 : decode cX1_step 70 = .ok (.getfield 29, 3) := by decide +kernel
theorem dX1_step_73 : decode cX1_step 73 = .ok (.iconst 1, 1) := by decide +kernel
theorem dX1_step_74 : decode cX1_step 74 = .ok (.iadd, 1) := by decide +kernel
theorem dX1_step_75 : decode cX1_step 75 = .ok (.istore 5, 2) := by decide +kernel
theorem dX1_step_77 : decode cX1_step 77 = .ok (.iload_n 1, 1) := by decide +kernel
theorem dX1_step_78 : decode cX1_step 78 = .ok (.iconst 4, 1) := by decide +kernel
theorem dX1_step_79 : decode cX1_step 79 = .ok (.if_icmp .eq 8, 3) := by decide +kernel
theorem dX1_step_82 : decode cX1_step 82 = .ok (.iload_n 1, 1) := by decide +kernel
theorem dX1_step_83 : decode cX1_step 83 = .ok (.iconst 5, 1) := by decide +kernel
theorem dX1_step_84 : decode cX1_step 84 = .ok (.if_icmp .ne 12, 3) := by decide +kernel
theorem dX1_step_87 : decode cX1_step 87 = .ok (.aload_n 0, 1) := by decide +kernel
theorem dX1_step_88 : decode cX1_step 88 = .ok (.getfield 19, 3) := by decide +kernel
theorem dX1_step_91 : decode cX1_step 91 = .ok (.iload_n 3, 1) := by decide +kernel
theorem dX1_step_92 : decode cX1_step 92 = .ok (.iaload, 1) := by decide +kernel
theorem dX1_step_93 : decode cX1_step 93 = .ok (.ifCond .lt 18, 3) := by decide +kernel
theorem dX1_step_96 : decode cX1_step 96 = .ok (.iload_n 1, 1) := by decide +kernel
theorem dX1_step_97 : decode cX1_step 97 = .ok (.iconst 3, 1) := by decide +kernel
theorem dX1_step_98 : decode cX1_step 98 = .ok (.if_icmp .ne 15, 3) := by decide +kernel
theorem dX1_step_101 : decode cX1_step 101 = .ok (.aload_n 0, 1) := by decide +kernel
theorem dX1_step_102 : decode cX1_step 102 = .ok (.getfield 19, 3) := by decide +kernel
theorem dX1_step_105 : decode cX1_step 105 = .ok (.iload 4, 2) := by decide +kernel
theorem dX1_step_107 : decode cX1_step 107 = .ok (.iaload, 1) := by decide +kernel
theorem dX1_step_108 : decode cX1_step 108 = .ok (.ifCond .ne 5, 3) := by decide +kernel
theorem dX1_step_111 : decode cX1_step 111 = .ok (.iconst 0, 1) := by decide +kernel
theorem dX1_step_112 : decode cX1_step 112 = .ok (.ireturn, 1) := by decide +kernel
theorem dX1_step_113 : decode cX1_step 113 = .ok (.iload_n 1, 1) := by decide +kernel
theorem dX1_step_114 : decode cX1_step 114 = .ok (.ifCond .ne 21, 3) := by decide +kernel
theorem dX1_step_117 : decode cX1_step 117 = .ok (.aload_n 0, 1) := by decide +kernel
theorem dX1_step_118 : decode cX1_step 118 = .ok (.getfield 19, 3) := by decide +kernel
theorem dX1_step_121 : decode cX1_step 121 = .ok (.iload_n 2, 1) := by decide +kernel
theorem dX1_step_122 : decode cX1_step 122 = .ok (.aload_n 0, 1) := by decide +kernel
theorem dX1_step_123 : decode cX1_step 123 = .ok (.getfield 16, 3) := by decide +kernel
theorem dX1_step_126 : decode cX1_step 126 = .ok (.aload_n 0, 1) := by decide +kernel
theorem dX1_step_127 : decode cX1_step 127 = .ok (.getfield 29, 3) := by decide +kernel
theorem dX1_step_130 : decode cX1_step 130 = .ok (.iaload, 1) := by decide +kernel
theorem dX1_step_131 : decode cX1_step 131 = .ok (.iastore, 1) := by decide +kernel
theorem dX1_step_132 : decode cX1_step 132 = .ok (.goto 221, 3) := by decide +kernel
theorem dX1_step_135 : decode cX1_step 135 = .ok (.iload_n 1, 1) := by decide +kernel
theorem dX1_step_136 : decode cX1_step 136 = .ok (.iconst 1, 1) := by decide +kernel
theorem dX1_step_137 : decode cX1_step 137 = .ok (.if_icmp .ne 26, 3) := by decide +kernel
theorem dX1_step_140 : decode cX1_step 140 = .ok (.aload_n 0, 1) := by decide +kernel
theorem dX1_step_141 : decode cX1_step 141 = .ok (.getfield 19, 3) := by decide +kernel
theorem dX1_step_144 : decode cX1_step 144 = .ok (.iload_n 2, 1) := by decide +kernel
theorem dX1_step_145 : decode cX1_step 145 = .ok (.aload_n 0, 1) := by decide +kernel
theorem dX1_step_146 : decode cX1_step 146 = .ok (.getfield 19, 3) := by decide +kernel
theorem dX1_step_149 : decode cX1_step 149 = .ok (.iload_n 3, 1) := by decide +kernel
theorem dX1_step_150 : decode cX1_step 150 = .ok (.iaload, 1) := by decide +kernel
theorem dX1_step_151 : decode cX1_step 151 = .ok (.aload_n 0, 1) := by decide +kernel
theorem dX1_step_152 : decode cX1_step 152 = .ok (.getfield 19, 3) := by decide +kernel
theorem dX1_step_155 : decode cX1_step 155 = .ok (.iload 4, 2) := by decide +kernel
theorem dX1_step_157 : decode cX1_step 157 = .ok (.iaload, 1) := by decide +kernel
theorem dX1_step_158 : decode cX1_step 158 = .ok (.iadd, 1) := by decide +kernel
theorem dX1_step_159 : decode cX1_step 159 = .ok (.iastore, 1) := by decide +kernel
theorem dX1_step_160 : decode cX1_step 160 = .ok (.goto 193, 3) := by decide +kernel
theorem dX1_step_163 : decode cX1_step 163 = .ok (.iload_n 1, 1) := by decide +kernel
theorem dX1_step_164 : decode cX1_step 164 = .ok (.iconst 2, 1) := by decide +kernel
theorem dX1_step_165 : decode cX1_step 165 = .ok (.if_icmp .ne 26, 3) := by decide +kernel
theorem dX1_step_168 : decode cX1_step 168 = .ok (.aload_n 0, 1) := by decide +kernel
theorem dX1_step_169 : decode cX1_step 169 = .ok (.getfield 19, 3) := by decide +kernel
theorem dX1_step_172 : decode cX1_step 172 = .ok (.iload_n 2, 1) := by decide +kernel
theorem dX1_step_173 : decode cX1_step 173 = .ok (.aload_n 0, 1) := by decide +kernel
theorem dX1_step_174 : decode cX1_step 174 = .ok (.getfield 19, 3) := by decide +kernel
theorem dX1_step_177 : decode cX1_step 177 = .ok (.iload_n 3, 1) := by decide +kernel
theorem dX1_step_178 : decode cX1_step 178 = .ok (.iaload, 1) := by decide +kernel
theorem dX1_step_179 : decode cX1_step 179 = .ok (.aload_n 0, 1) := by decide +kernel
theorem dX1_step_180 : decode cX1_step 180 = .ok (.getfield 19, 3) := by decide +kernel
theorem dX1_step_183 : decode cX1_step 183 = .ok (.iload 4, 2) := by decide +kernel
theorem dX1_step_185 : decode cX1_step 185 = .ok (.iaload, 1) := by decide +kernel
theorem dX1_step_186 : decode cX1_step 186 = .ok (.imul, 1) := by decide +kernel
theorem dX1_step_187 : decode cX1_step 187 = .ok (.iastore, 1) := by decide +kernel
theorem dX1_step_188 : decode cX1_step 188 = .ok (.goto 165, 3) := by decide +kernel
theorem dX1_step_191 : decode cX1_step 191 = .ok (.iload_n 1, 1) := by decide +kernel
theorem dX1_step_192 : decode cX1_step 192 = .ok (.iconst 3, 1) := by decide +kernel
theorem dX1_step_193 : decode cX1_step 193 = .ok (.if_icmp .ne 39, 3) := by decide +kernel
theorem dX1_step_196 : decode cX1_step 196 = .ok (.aload_n 0, 1) := by decide +kernel
theorem dX1_step_197 : decode cX1_step 197 = .ok (.getfield 19, 3) := by decide +kernel
theorem dX1_step_200 : decode cX1_step 200 = .ok (.iload 4, 2) := by decide +kernel
theorem dX1_step_202 : decode cX1_step 202 = .ok (.iaload, 1) := by decide +kernel
theorem dX1_step_203 : decode cX1_step 203 = .ok (.istore 6, 2) := by decide +kernel
theorem dX1_step_205 : decode cX1_step 205 = .ok (.aload_n 0, 1) := by decide +kernel
theorem dX1_step_206 : decode cX1_step 206 = .ok (.getfield 19, 3) := by decide +kernel
theorem dX1_step_209 : decode cX1_step 209 = .ok (.iload_n 2, 1) := by decide +kernel
theorem dX1_step_210 : decode cX1_step 210 = .ok (.iload 6, 2) := by decide +kernel
theorem dX1_step_212 : decode cX1_step 212 = .ok (.ifCond .eq 15, 3) := by decide +kernel
theorem dX1_step_215 : decode cX1_step 215 = .ok (.aload_n 0, 1) := by decide +kernel
theorem dX1_step_216 : decode cX1_step 216 = .ok (.getfield 19, 3) := by decide +kernel
theorem dX1_step_219 : decode cX1_step 219 = .ok (.iload_n 3, 1) := by decide +kernel
theorem dX1_step_220 : decode cX1_step 220 = .ok (.iaload, 1) := by decide +kernel
theorem dX1_step_221 : decode cX1_step 221 = .ok (.iload 6, 2) := by decide +kernel
theorem dX1_step_223 : decode cX1_step 223 = .ok (.idiv, 1) := by decide +kernel
theorem dX1_step_224 : decode cX1_step 224 = .ok (.goto 4, 3) := by decide +kernel
theorem dX1_step_227 : decode cX1_step 227 = .ok (.iconst 0, 1) := by decide +kernel
theorem dX1_step_228 : decode cX1_step 228 = .ok (.iastore, 1) := by decide +kernel
theorem dX1_step_229 : decode cX1_step 229 = .ok (.goto 124, 3) := by decide +kernel
theorem dX1_step_232 : decode cX1_step 232 = .ok (.iload_n 1, 1) := by decide +kernel
theorem dX1_step_233 : decode cX1_step 233 = .ok (.iconst 4, 1) := by decide +kernel
theorem dX1_step_234 : decode cX1_step 234 = .ok (.if_icmp .ne 26, 3) := by decide +kernel
theorem dX1_step_237 : decode cX1_step 237 = .ok (.aload_n 0, 1) := by decide +kernel
theorem dX1_step_238 : decode cX1_step 238 = .ok (.getfield 19, 3) := by decide +kernel
theorem dX1_step_241 : decode cX1_step 241 = .ok (.iload_n 2, 1) := by decide +kernel
theorem dX1_step_242 : decode cX1_step 242 = .ok (.aload_n 0, 1) := by decide +kernel
theorem dX1_step_243 : decode cX1_step 243 = .ok (.getfield 22, 3) := by decide +kernel
theorem dX1_step_246 : decode cX1_step 246 = .ok (.aload_n 0, 1) := by decide +kernel
theorem dX1_step_247 : decode cX1_step 247 = .ok (.getfield 19, 3) := by decide +kernel
theorem dX1_step_250 : decode cX1_step 250 = .ok (.iload_n 3, 1) := by decide +kernel
theorem dX1_step_251 : decode cX1_step 251 = .ok (.iaload, 1) := by decide +kernel
theorem dX1_step_252 : decode cX1_step 252 = .ok (.bipush 7, 2) := by decide +kernel
theorem dX1_step_254 : decode cX1_step 254 = .ok (.iand, 1) := by decide +kernel
theorem dX1_step_255 : decode cX1_step 255 = .ok (.iaload, 1) := by decide +kernel
theorem dX1_step_256 : decode cX1_step 256 = .ok (.iastore, 1) := by decide +kernel
theorem dX1_step_257 : decode cX1_step 257 = .ok (.goto 96, 3) := by decide +kernel
theorem dX1_step_260 : decode cX1_step 260 = .ok (.iload_n 1, 1) := by decide +kernel
theorem dX1_step_261 : decode cX1_step 261 = .ok (.iconst 5, 1) := by decide +kernel
theorem dX1_step_262 : decode cX1_step 262 = .ok (.if_icmp .ne 26, 3) := by decide +kernel
theorem dX1_step_265 : decode cX1_step 265 = .ok (.aload_n 0, 1) := by decide +kernel
theorem dX1_step_266 : decode cX1_step 266 = .ok (.getfield 22, 3) := by decide +kernel
theorem dX1_step_269 : decode cX1_step 269 = .ok (.aload_n 0, 1) := by decide +kernel
theorem dX1_step_270 : decode cX1_step 270 = .ok (.getfield 19, 3) := by decide +kernel
theorem dX1_step_273 : decode cX1_step 273 = .ok (.iload_n 3, 1) := by decide +kernel
theorem dX1_step_274 : decode cX1_step 274 = .ok (.iaload, 1) := by decide +kernel
theorem dX1_step_275 : decode cX1_step 275 = .ok (.bipush 7, 2) := by decide +kernel
theorem dX1_step_277 : decode cX1_step 277 = .ok (.iand, 1) := by decide +kernel
theorem dX1_step_278 : decode cX1_step 278 = .ok (.aload_n 0, 1) := by decide +kernel
theorem dX1_step_279 : decode cX1_step 279 = .ok (.getfield 19, 3) := by decide +kernel
theorem dX1_step_282 : decode cX1_step 282 = .ok (.iload_n 2, 1) := by decide +kernel
theorem dX1_step_283 : decode cX1_step 283 = .ok (.iaload, 1) := by decide +kernel
theorem dX1_step_284 : decode cX1_step 284 = .ok (.iastore, 1) := by decide +kernel
theorem dX1_step_285 : decode cX1_step 285 = .ok (.goto 68, 3) := by decide +kernel
theorem dX1_step_288 : decode cX1_step 288 = .ok (.iload_n 1, 1) := by decide +kernel
theorem dX1_step_289 : decode cX1_step 289 = .ok (.bipush 6, 2) := by decide +kernel
theorem dX1_step_291 : decode cX1_step 291 = .ok (.if_icmp .ne 31, 3) := by decide +kernel
theorem dX1_step_294 : decode cX1_step 294 = .ok (.aload_n 0, 1) := by decide +kernel
theorem dX1_step_295 : decode cX1_step 295 = .ok (.getfield 19, 3) := by decide +kernel
theorem dX1_step_298 : decode cX1_step 298 = .ok (.iload_n 2, 1) := by decide +kernel
theorem dX1_step_299 : decode cX1_step 299 = .ok (.iaload, 1) := by decide +kernel
theorem dX1_step_300 : decode cX1_step 300 = .ok (.ifCond .ne 15, 3) := by decide +kernel
theorem dX1_step_303 : decode cX1_step 303 = .ok (.aload_n 0, 1) := by decide +kernel
theorem dX1_step_304 : decode cX1_step 304 = .ok (.getfield 16, 3) := by decide +kernel
theorem dX1_step_307 : decode cX1_step 307 = .ok (.aload_n 0, 1) := by decide +kernel
theorem dX1_step_308 : decode cX1_step 308 = .ok (.getfield 29, 3) := by decide +kernel
theorem dX1_step_311 : decode cX1_step 311 = .ok (.iaload, 1) := by decide +kernel
theorem dX1_step_312 : decode cX1_step 312 = .ok (.goto 5, 3) := by decide +kernel
theorem dX1_step_315 : decode cX1_step 315 = .ok (.iload 5, 2) := by decide +kernel
theorem dX1_step_317 : decode cX1_step 317 = .ok (.istore 5, 2) := by decide +kernel
theorem dX1_step_319 : decode cX1_step 319 = .ok (.goto 34, 3) := by decide +kernel
theorem dX1_step_322 : decode cX1_step 322 = .ok (.iload_n 1, 1) := by decide +kernel
theorem dX1_step_323 : decode cX1_step 323 = .ok (.bipush 7, 2) := by decide +kernel
theorem dX1_step_325 : decode cX1_step 325 = .ok (.if_icmp .ne 17, 3) := by decide +kernel
theorem dX1_step_328 : decode cX1_step 328 = .ok (.aload_n 0, 1) := by decide +kernel
theorem dX1_step_329 : decode cX1_step 329 = .ok (.getfield 16, 3) := by decide +kernel
theorem dX1_step_332 : decode cX1_step 332 = .ok (.aload_n 0, 1) := by decide +kernel
theorem dX1_step_333 : decode cX1_step 333 = .ok (.getfield 29, 3) := by decide +kernel
theorem dX1_step_336 : decode cX1_step 336 = .ok (.iaload, 1) := by decide +kernel
theorem dX1_step_337 : decode cX1_step 337 = .ok (.istore 5, 2) := by decide +kernel
theorem dX1_step_339 : decode cX1_step 339 = .ok (.goto 14, 3) := by decide +kernel
theorem dX1_step_342 : decode cX1_step 342 = .ok (.aload_n 0, 1) := by decide +kernel
theorem dX1_step_343 : decode cX1_step 343 = .ok (.iconst 2, 1) := by decide +kernel
theorem dX1_step_344 : decode cX1_step 344 = .ok (.putfield 25, 3) := by decide +kernel
theorem dX1_step_347 : decode cX1_step 347 = .ok (.aload_n 0, 1) := by decide +kernel
theorem dX1_step_348 : decode cX1_step 348 = .ok (.getfield 29, 3) := by decide +kernel
theorem dX1_step_351 : decode cX1_step 351 = .ok (.istore 5, 2) := by decide +kernel
theorem dX1_step_353 : decode cX1_step 353 = .ok (.aload_n 0, 1) := by decide +kernel
theorem dX1_step_354 : decode cX1_step 354 = .ok (.iload 5, 2) := by decide +kernel
theorem dX1_step_356 : decode cX1_step 356 = .ok (.putfield 29, 3) := by decide +kernel
theorem dX1_step_359 : decode cX1_step 359 = .ok (.iconst 1, 1) := by decide +kernel
theorem dX1_step_360 : decode cX1_step 360 = .ok (.ireturn, 1) := by decide +kernel
end
section
set_option maxRecDepth 100000
abbrev cX1_status : ByteArray := prog_3_method_10_code
def yX1_status : MethodName := ⟨RX1, "status", "()I"⟩
theorem dX1_status_0 : decode cX1_status 0 = .ok (.aload_n 0, 1) := by decide +kernel
theorem dX1_status_1 : decode cX1_status 1 = .ok (.getfield 25, 3) := by decide +kernel
theorem dX1_status_4 : decode cX1_status 4 = .ok (.ireturn, 1) := by decide +kernel
abbrev cX1_position : ByteArray := prog_3_method_11_code
def yX1_position : MethodName := ⟨RX1, "position", "()I"⟩
theorem dX1_position_0 : decode cX1_position 0 = .ok (.aload_n 0, 1) := by decide +kernel
theorem dX1_position_1 : decode cX1_position 1 = .ok (.getfield 29, 3) := by decide +kernel
theorem dX1_position_4 : decode cX1_position 4 = .ok (.ireturn, 1) := by decide +kernel
abbrev cX1_finished : ByteArray := prog_3_method_12_code
def yX1_finished : MethodName := ⟨RX1, "finished", "()I"⟩
theorem dX1_finished_0 : decode cX1_finished 0 = .ok (.aload_n 0, 1) := by decide +kernel
theorem dX1_finished_1 : decode cX1_finished 1 = .ok (.getfield 32, 3) := by decide +kernel
theorem dX1_finished_4 : decode cX1_finished 4 = .ok (.ireturn, 1) := by decide +kernel
abbrev cX1_register : ByteArray := prog_3_method_13_code
def yX1_register : MethodName := ⟨RX1, "register", "(I)I"⟩
theorem dX1_register_0 : decode cX1_register 0 = .ok (.iload_n 1, 1) := by decide +kernel
theorem dX1_register_1 : decode cX1_register 1 = .ok (.ifCond .lt 17, 3) := by decide +kernel
theorem dX1_register_4 : decode cX1_register 4 = .ok (.iload_n 1, 1) := by decide +kernel
theorem dX1_register_5 : decode cX1_register 5 = .ok (.iconst 3, 1) := by decide +kernel
theorem dX1_register_6 : decode cX1_register 6 = .ok (.if_icmp .gt 12, 3) := by decide +kernel
theorem dX1_register_9 : decode cX1_register 9 = .ok (.aload_n 0, 1) := by decide +kernel
theorem dX1_register_10 : decode cX1_register 10 = .ok (.getfield 19, 3) := by decide +kernel
theorem dX1_register_13 : decode cX1_register 13 = .ok (.iload_n 1, 1) := by decide +kernel
theorem dX1_register_14 : decode cX1_register 14 = .ok (.iaload, 1) := by decide +kernel
theorem dX1_register_15 : decode cX1_register 15 = .ok (.goto 4, 3) := by decide +kernel
theorem dX1_register_18 : decode cX1_register 18 = .ok (.iconst 0, 1) := by decide +kernel
theorem dX1_register_19 : decode cX1_register 19 = .ok (.ireturn, 1) := by decide +kernel
abbrev cX1_memory : ByteArray := prog_3_method_14_code
def yX1_memory : MethodName := ⟨RX1, "memory", "(I)I"⟩
theorem dX1_memory_0 : decode cX1_memory 0 = .ok (.iload_n 1, 1) := by decide +kernel
theorem dX1_memory_1 : decode cX1_memory 1 = .ok (.ifCond .lt 18, 3) := by decide +kernel
theorem dX1_memory_4 : decode cX1_memory 4 = .ok (.iload_n 1, 1) := by decide +kernel
theorem dX1_memory_5 : decode cX1_memory 5 = .ok (.bipush 7, 2) := by decide +kernel
theorem dX1_memory_7 : decode cX1_memory 7 = .ok (.if_icmp .gt 12, 3) := by decide +kernel
theorem dX1_memory_10 : decode cX1_memory 10 = .ok (.aload_n 0, 1) := by decide +kernel
theorem dX1_memory_11 : decode cX1_memory 11 = .ok (.getfield 22, 3) := by decide +kernel
theorem dX1_memory_14 : decode cX1_memory 14 = .ok (.iload_n 1, 1) := by decide +kernel
theorem dX1_memory_15 : decode cX1_memory 15 = .ok (.iaload, 1) := by decide +kernel
theorem dX1_memory_16 : decode cX1_memory 16 = .ok (.goto 4, 3) := by decide +kernel
theorem dX1_memory_19 : decode cX1_memory 19 = .ok (.iconst 0, 1) := by decide +kernel
theorem dX1_memory_20 : decode cX1_memory 20 = .ok (.ireturn, 1) := by decide +kernel
abbrev cX1_digest : ByteArray := prog_3_method_15_code
def yX1_digest : MethodName := ⟨RX1, "digest", "()I"⟩
theorem dX1_digest_0 : decode cX1_digest 0 = .ok (.iconst 0, 1) := by decide +kernel
theorem dX1_digest_1 : decode cX1_digest 1 = .ok (.istore_n 1, 1) := by decide +kernel
theorem dX1_digest_2 : decode cX1_digest 2 = .ok (.iconst 0, 1) := by decide +kernel
theorem dX1_digest_3 : decode cX1_digest 3 = .ok (.istore_n 2, 1) := by decide +kernel
theorem dX1_digest_4 : decode cX1_digest 4 = .ok (.iload_n 2, 1) := by decide +kernel
theorem dX1_digest_5 : decode cX1_digest 5 = .ok (.iconst 4, 1) := by decide +kernel
theorem dX1_digest_6 : decode cX1_digest 6 = .ok (.if_icmp .ge 22, 3) := by decide +kernel
theorem dX1_digest_9 : decode cX1_digest 9 = .ok (.iload_n 1, 1) := by decide +kernel
theorem dX1_digest_10 : decode cX1_digest 10 = .ok (.iload_n 2, 1) := by decide +kernel
theorem dX1_digest_11 : decode cX1_digest 11 = .ok (.iconst 1, 1) := by decide +kernel
theorem dX1_digest_12 : decode cX1_digest 12 = .ok (.iadd, 1) := by decide +kernel
theorem dX1_digest_13 : decode cX1_digest 13 = .ok (.aload_n 0, 1) := by decide +kernel
theorem dX1_digest_14 : decode cX1_digest 14 = .ok (.getfield 19, 3) := by decide +kernel
theorem dX1_digest_17 : decode cX1_digest 17 = .ok (.iload_n 2, 1) := by decide +kernel
theorem dX1_digest_18 : decode cX1_digest 18 = .ok (.iaload, 1) := by decide +kernel
theorem dX1_digest_19 : decode cX1_digest 19 = .ok (.imul, 1) := by decide +kernel
theorem dX1_digest_20 : decode cX1_digest 20 = .ok (.iadd, 1) := by decide +kernel
theorem dX1_digest_21 : decode cX1_digest 21 = .ok (.istore_n 1, 1) := by decide +kernel
theorem dX1_digest_22 : decode cX1_digest 22 = .ok (.iinc 2 1, 3) := by decide +kernel
theorem dX1_digest_25 : decode cX1_digest 25 = .ok (.goto (-21), 3) := by decide +kernel
theorem dX1_digest_28 : decode cX1_digest 28 = .ok (.iconst 0, 1) := by decide +kernel
theorem dX1_digest_29 : decode cX1_digest 29 = .ok (.istore_n 2, 1) := by decide +kernel
theorem dX1_digest_30 : decode cX1_digest 30 = .ok (.iload_n 2, 1) := by decide +kernel
theorem dX1_digest_31 : decode cX1_digest 31 = .ok (.bipush 8, 2) := by decide +kernel
theorem dX1_digest_33 : decode cX1_digest 33 = .ok (.if_icmp .ge 22, 3) := by decide +kernel
theorem dX1_digest_36 : decode cX1_digest 36 = .ok (.iload_n 1, 1) := by decide +kernel
theorem dX1_digest_37 : decode cX1_digest 37 = .ok (.iload_n 2, 1) := by decide +kernel
theorem dX1_digest_38 : decode cX1_digest 38 = .ok (.iconst 5, 1) := by decide +kernel
theorem dX1_digest_39 : decode cX1_digest 39 = .ok (.iadd, 1) := by decide +kernel
theorem dX1_digest_40 : decode cX1_digest 40 = .ok (.aload_n 0, 1) := by decide +kernel
theorem dX1_digest_41 : decode cX1_digest 41 = .ok (.getfield 22, 3) := by decide +kernel
theorem dX1_digest_44 : decode cX1_digest 44 = .ok (.iload_n 2, 1) := by decide +kernel
theorem dX1_digest_45 : decode cX1_digest 45 = .ok (.iaload, 1) := by decide +kernel
theorem dX1_digest_46 : decode cX1_digest 46 = .ok (.imul, 1) := by decide +kernel
theorem dX1_digest_47 : decode cX1_digest 47 = .ok (.iadd, 1) := by decide +kernel
theorem dX1_digest_48 : decode cX1_digest 48 = .ok (.istore_n 1, 1) := by decide +kernel
theorem dX1_digest_49 : decode cX1_digest 49 = .ok (.iinc 2 1, 3) := by decide +kernel
theorem dX1_digest_52 : decode cX1_digest 52 = .ok (.goto (-22), 3) := by decide +kernel
theorem dX1_digest_55 : decode cX1_digest 55 = .ok (.iload_n 1, 1) := by decide +kernel
theorem dX1_digest_56 : decode cX1_digest 56 = .ok (.ireturn, 1) := by decide +kernel
theorem q16 : (Jvm.Cond.initialized "ReorderCoreModel") ∈ lw_all := lw_g (lw_at lw_m1 2 rfl) rfl
theorem q213 : (Jvm.Cond.instantiable "ReorderCoreModel" (9 : Nat)) ∈ lw_all := lw_g (lw_at lw_m1 199 rfl) rfl
theorem q215 : (Jvm.Cond.instanceMethod ({ cls := "ReorderCoreModel", name := "<init>", desc := "()V" } : Jvm.MethodName)) ∈ lw_all := lw_g (lw_at lw_m1 201 rfl) rfl
theorem q216 : (Jvm.Cond.code ({ cls := "ReorderCoreModel", name := "<init>", desc := "()V" } : Jvm.MethodName) prog_3_method_1_code (1 : Nat) (Option.none : Option Jvm.ClassFile.FieldType)) ∈ lw_all := lw_g (lw_at lw_m1 202 rfl) rfl
theorem q217 : (Jvm.Cond.methodLink "ReorderCoreModel" (1 : Nat) ({ cls := "java/lang/Object", name := "<init>", desc := "()V" } : Jvm.MethodName)) ∈ lw_all := lw_g (lw_at lw_m1 203 rfl) rfl
theorem q218 : (Jvm.Cond.fieldLink "ReorderCoreModel" (35 : Nat) "ReorderCoreModel" "size" "I") ∈ lw_all := lw_g (lw_at lw_m1 204 rfl) rfl
theorem q219 : (Jvm.Cond.fieldLink "ReorderCoreModel" (7 : Nat) "ReorderCoreModel" "ops" "[I") ∈ lw_all := lw_g (lw_at lw_m1 205 rfl) rfl
theorem q220 : (Jvm.Cond.fieldLink "ReorderCoreModel" (13 : Nat) "ReorderCoreModel" "regs" "[I") ∈ lw_all := lw_g (lw_at lw_m1 206 rfl) rfl
theorem q221 : (Jvm.Cond.fieldLink "ReorderCoreModel" (16 : Nat) "ReorderCoreModel" "ns" "[I") ∈ lw_all := lw_g (lw_at lw_m1 207 rfl) rfl
theorem q222 : (Jvm.Cond.fieldLink "ReorderCoreModel" (19 : Nat) "ReorderCoreModel" "reg" "[I") ∈ lw_all := lw_g (lw_at lw_m1 208 rfl) rfl
theorem q223 : (Jvm.Cond.fieldLink "ReorderCoreModel" (22 : Nat) "ReorderCoreModel" "cells" "[I") ∈ lw_all := lw_g (lw_at lw_m1 209 rfl) rfl
theorem q224 : (Jvm.Cond.fieldLink "ReorderCoreModel" (25 : Nat) "ReorderCoreModel" "state" "I") ∈ lw_all := lw_g (lw_at lw_m1 210 rfl) rfl
theorem q225 : (Jvm.Cond.fieldLink "ReorderCoreModel" (29 : Nat) "ReorderCoreModel" "at" "I") ∈ lw_all := lw_g (lw_at lw_m1 211 rfl) rfl
theorem q226 : (Jvm.Cond.fieldLink "ReorderCoreModel" (32 : Nat) "ReorderCoreModel" "done" "I") ∈ lw_all := lw_g (lw_at lw_m1 212 rfl) rfl
theorem q227 : (Jvm.Cond.lays "ReorderCoreModel" "ReorderCoreModel" "size" "I") ∈ lw_all := lw_g (lw_at lw_m1 213 rfl) rfl
theorem q228 : (Jvm.Cond.soleField "ReorderCoreModel" "size") ∈ lw_all := lw_g (lw_at lw_m1 214 rfl) rfl
theorem q229 : (Jvm.Cond.lays "ReorderCoreModel" "ReorderCoreModel" "ops" "[I") ∈ lw_all := lw_g (lw_at lw_m1 215 rfl) rfl
theorem q230 : (Jvm.Cond.soleField "ReorderCoreModel" "ops") ∈ lw_all := lw_g (lw_at lw_m1 216 rfl) rfl
theorem q231 : (Jvm.Cond.lays "ReorderCoreModel" "ReorderCoreModel" "regs" "[I") ∈ lw_all := lw_g (lw_at lw_m1 217 rfl) rfl
theorem q232 : (Jvm.Cond.soleField "ReorderCoreModel" "regs") ∈ lw_all := lw_g (lw_at lw_m1 218 rfl) rfl
theorem q233 : (Jvm.Cond.lays "ReorderCoreModel" "ReorderCoreModel" "ns" "[I") ∈ lw_all := lw_g (lw_at lw_m1 219 rfl) rfl
theorem q234 : (Jvm.Cond.soleField "ReorderCoreModel" "ns") ∈ lw_all := lw_g (lw_at lw_m1 220 rfl) rfl
theorem q235 : (Jvm.Cond.lays "ReorderCoreModel" "ReorderCoreModel" "reg" "[I") ∈ lw_all := lw_g (lw_at lw_m1 221 rfl) rfl
theorem q236 : (Jvm.Cond.soleField "ReorderCoreModel" "reg") ∈ lw_all := lw_g (lw_at lw_m1 222 rfl) rfl
theorem q237 : (Jvm.Cond.lays "ReorderCoreModel" "ReorderCoreModel" "cells" "[I") ∈ lw_all := lw_g (lw_at lw_m1 223 rfl) rfl
theorem q238 : (Jvm.Cond.soleField "ReorderCoreModel" "cells") ∈ lw_all := lw_g (lw_at lw_m1 224 rfl) rfl
theorem q239 : (Jvm.Cond.lays "ReorderCoreModel" "ReorderCoreModel" "state" "I") ∈ lw_all := lw_g (lw_at lw_m1 225 rfl) rfl
theorem q240 : (Jvm.Cond.soleField "ReorderCoreModel" "state") ∈ lw_all := lw_g (lw_at lw_m1 226 rfl) rfl
theorem q241 : (Jvm.Cond.lays "ReorderCoreModel" "ReorderCoreModel" "at" "I") ∈ lw_all := lw_g (lw_at lw_m1 227 rfl) rfl
theorem q242 : (Jvm.Cond.soleField "ReorderCoreModel" "at") ∈ lw_all := lw_g (lw_at lw_m1 228 rfl) rfl
theorem q243 : (Jvm.Cond.lays "ReorderCoreModel" "ReorderCoreModel" "done" "I") ∈ lw_all := lw_g (lw_at lw_m1 229 rfl) rfl
theorem q244 : (Jvm.Cond.soleField "ReorderCoreModel" "done") ∈ lw_all := lw_g (lw_at lw_m1 230 rfl) rfl
theorem q245 : (Jvm.Cond.superclass "ReorderCoreModel" "java/lang/Object") ∈ lw_all := lw_g (lw_at lw_m1 231 rfl) rfl
theorem q247 : (Jvm.Cond.instanceMethod ({ cls := "ReorderCoreModel", name := "emit", desc := "(III)I" } : Jvm.MethodName)) ∈ lw_all := lw_g (lw_at lw_m1 233 rfl) rfl
theorem q248 : (Jvm.Cond.selects "ReorderCoreModel" ({ cls := "ReorderCoreModel", name := "emit", desc := "(III)I" } : Jvm.MethodName) ({ cls := "ReorderCoreModel", name := "emit", desc := "(III)I" } : Jvm.MethodName)) ∈ lw_all := lw_g (lw_at lw_m1 234 rfl) rfl
theorem q249 : (Jvm.Cond.code ({ cls := "ReorderCoreModel", name := "emit", desc := "(III)I" } : Jvm.MethodName) prog_3_method_3_code (4 : Nat) (Option.some Jvm.ClassFile.FieldType.int)) ∈ lw_all := lw_g (lw_at lw_m1 235 rfl) rfl
theorem q250 : (Jvm.Cond.methodLink "ReorderCoreModel" (38 : Nat) ({ cls := "ReorderCoreModel", name := "idle", desc := "()V" } : Jvm.MethodName)) ∈ lw_all := lw_g (lw_at lw_m1 236 rfl) rfl
theorem q251 : (Jvm.Cond.privateMethod ({ cls := "ReorderCoreModel", name := "idle", desc := "()V" } : Jvm.MethodName)) ∈ lw_tbl := lw_at lw_m1 237 rfl
theorem q252 : (Jvm.Cond.instanceMethod ({ cls := "ReorderCoreModel", name := "idle", desc := "()V" } : Jvm.MethodName)) ∈ lw_all := lw_g (lw_at lw_m1 238 rfl) rfl
theorem q253 : (Jvm.Cond.code ({ cls := "ReorderCoreModel", name := "idle", desc := "()V" } : Jvm.MethodName) prog_3_method_2_code (1 : Nat) (Option.none : Option Jvm.ClassFile.FieldType)) ∈ lw_all := lw_g (lw_at lw_m1 239 rfl) rfl
theorem q255 : (Jvm.Cond.instanceMethod ({ cls := "ReorderCoreModel", name := "clear", desc := "()V" } : Jvm.MethodName)) ∈ lw_all := lw_g (lw_at lw_m2 1 rfl) rfl
theorem q256 : (Jvm.Cond.selects "ReorderCoreModel" ({ cls := "ReorderCoreModel", name := "clear", desc := "()V" } : Jvm.MethodName) ({ cls := "ReorderCoreModel", name := "clear", desc := "()V" } : Jvm.MethodName)) ∈ lw_all := lw_g (lw_at lw_m2 2 rfl) rfl
theorem q257 : (Jvm.Cond.code ({ cls := "ReorderCoreModel", name := "clear", desc := "()V" } : Jvm.MethodName) prog_3_method_4_code (1 : Nat) (Option.none : Option Jvm.ClassFile.FieldType)) ∈ lw_all := lw_g (lw_at lw_m2 3 rfl) rfl
theorem q259 : (Jvm.Cond.instanceMethod ({ cls := "ReorderCoreModel", name := "length", desc := "()I" } : Jvm.MethodName)) ∈ lw_all := lw_g (lw_at lw_m2 5 rfl) rfl
theorem q260 : (Jvm.Cond.selects "ReorderCoreModel" ({ cls := "ReorderCoreModel", name := "length", desc := "()I" } : Jvm.MethodName) ({ cls := "ReorderCoreModel", name := "length", desc := "()I" } : Jvm.MethodName)) ∈ lw_all := lw_g (lw_at lw_m2 6 rfl) rfl
theorem q261 : (Jvm.Cond.code ({ cls := "ReorderCoreModel", name := "length", desc := "()I" } : Jvm.MethodName) prog_3_method_5_code (1 : Nat) (Option.some Jvm.ClassFile.FieldType.int)) ∈ lw_all := lw_g (lw_at lw_m2 7 rfl) rfl
theorem q263 : (Jvm.Cond.instanceMethod ({ cls := "ReorderCoreModel", name := "set", desc := "(II)Z" } : Jvm.MethodName)) ∈ lw_all := lw_g (lw_at lw_m2 9 rfl) rfl
theorem q264 : (Jvm.Cond.selects "ReorderCoreModel" ({ cls := "ReorderCoreModel", name := "set", desc := "(II)Z" } : Jvm.MethodName) ({ cls := "ReorderCoreModel", name := "set", desc := "(II)Z" } : Jvm.MethodName)) ∈ lw_all := lw_g (lw_at lw_m2 10 rfl) rfl
theorem q265 : (Jvm.Cond.code ({ cls := "ReorderCoreModel", name := "set", desc := "(II)Z" } : Jvm.MethodName) prog_3_method_6_code (3 : Nat) (Option.some Jvm.ClassFile.FieldType.boolean)) ∈ lw_all := lw_g (lw_at lw_m2 11 rfl) rfl
theorem q267 : (Jvm.Cond.instanceMethod ({ cls := "ReorderCoreModel", name := "start", desc := "(I)V" } : Jvm.MethodName)) ∈ lw_all := lw_g (lw_at lw_m2 13 rfl) rfl
theorem q268 : (Jvm.Cond.selects "ReorderCoreModel" ({ cls := "ReorderCoreModel", name := "start", desc := "(I)V" } : Jvm.MethodName) ({ cls := "ReorderCoreModel", name := "start", desc := "(I)V" } : Jvm.MethodName)) ∈ lw_all := lw_g (lw_at lw_m2 14 rfl) rfl
theorem q269 : (Jvm.Cond.code ({ cls := "ReorderCoreModel", name := "start", desc := "(I)V" } : Jvm.MethodName) prog_3_method_7_code (2 : Nat) (Option.none : Option Jvm.ClassFile.FieldType)) ∈ lw_all := lw_g (lw_at lw_m2 15 rfl) rfl
theorem q271 : (Jvm.Cond.instanceMethod ({ cls := "ReorderCoreModel", name := "finish", desc := "(I)I" } : Jvm.MethodName)) ∈ lw_all := lw_g (lw_at lw_m2 17 rfl) rfl
theorem q272 : (Jvm.Cond.selects "ReorderCoreModel" ({ cls := "ReorderCoreModel", name := "finish", desc := "(I)I" } : Jvm.MethodName) ({ cls := "ReorderCoreModel", name := "finish", desc := "(I)I" } : Jvm.MethodName)) ∈ lw_all := lw_g (lw_at lw_m2 18 rfl) rfl
theorem q273 : (Jvm.Cond.code ({ cls := "ReorderCoreModel", name := "finish", desc := "(I)I" } : Jvm.MethodName) prog_3_method_9_code (4 : Nat) (Option.some Jvm.ClassFile.FieldType.int)) ∈ lw_all := lw_g (lw_at lw_m2 19 rfl) rfl
theorem q274 : (Jvm.Cond.methodLink "ReorderCoreModel" (41 : Nat) ({ cls := "ReorderCoreModel", name := "step", desc := "()Z" } : Jvm.MethodName)) ∈ lw_all := lw_g (lw_at lw_m2 20 rfl) rfl
theorem q275 : (Jvm.Cond.privateMethod ({ cls := "ReorderCoreModel", name := "step", desc := "()Z" } : Jvm.MethodName)) ∈ lw_tbl := lw_at lw_m2 21 rfl
theorem q276 : (Jvm.Cond.instanceMethod ({ cls := "ReorderCoreModel", name := "step", desc := "()Z" } : Jvm.MethodName)) ∈ lw_all := lw_g (lw_at lw_m2 22 rfl) rfl
theorem q277 : (Jvm.Cond.code ({ cls := "ReorderCoreModel", name := "step", desc := "()Z" } : Jvm.MethodName) prog_3_method_8_code (7 : Nat) (Option.some Jvm.ClassFile.FieldType.boolean)) ∈ lw_all := lw_g (lw_at lw_m2 23 rfl) rfl
theorem q279 : (Jvm.Cond.instanceMethod ({ cls := "ReorderCoreModel", name := "status", desc := "()I" } : Jvm.MethodName)) ∈ lw_all := lw_g (lw_at lw_m2 25 rfl) rfl
theorem q280 : (Jvm.Cond.selects "ReorderCoreModel" ({ cls := "ReorderCoreModel", name := "status", desc := "()I" } : Jvm.MethodName) ({ cls := "ReorderCoreModel", name := "status", desc := "()I" } : Jvm.MethodName)) ∈ lw_all := lw_g (lw_at lw_m2 26 rfl) rfl
theorem q281 : (Jvm.Cond.code ({ cls := "ReorderCoreModel", name := "status", desc := "()I" } : Jvm.MethodName) prog_3_method_10_code (1 : Nat) (Option.some Jvm.ClassFile.FieldType.int)) ∈ lw_all := lw_g (lw_at lw_m2 27 rfl) rfl
theorem q283 : (Jvm.Cond.instanceMethod ({ cls := "ReorderCoreModel", name := "position", desc := "()I" } : Jvm.MethodName)) ∈ lw_all := lw_g (lw_at lw_m2 29 rfl) rfl
theorem q284 : (Jvm.Cond.selects "ReorderCoreModel" ({ cls := "ReorderCoreModel", name := "position", desc := "()I" } : Jvm.MethodName) ({ cls := "ReorderCoreModel", name := "position", desc := "()I" } : Jvm.MethodName)) ∈ lw_all := lw_g (lw_at lw_m2 30 rfl) rfl
theorem q285 : (Jvm.Cond.code ({ cls := "ReorderCoreModel", name := "position", desc := "()I" } : Jvm.MethodName) prog_3_method_11_code (1 : Nat) (Option.some Jvm.ClassFile.FieldType.int)) ∈ lw_all := lw_g (lw_at lw_m2 31 rfl) rfl
theorem q287 : (Jvm.Cond.instanceMethod ({ cls := "ReorderCoreModel", name := "finished", desc := "()I" } : Jvm.MethodName)) ∈ lw_all := lw_g (lw_at lw_m2 33 rfl) rfl
theorem q288 : (Jvm.Cond.selects "ReorderCoreModel" ({ cls := "ReorderCoreModel", name := "finished", desc := "()I" } : Jvm.MethodName) ({ cls := "ReorderCoreModel", name := "finished", desc := "()I" } : Jvm.MethodName)) ∈ lw_all := lw_g (lw_at lw_m2 34 rfl) rfl
theorem q289 : (Jvm.Cond.code ({ cls := "ReorderCoreModel", name := "finished", desc := "()I" } : Jvm.MethodName) prog_3_method_12_code (1 : Nat) (Option.some Jvm.ClassFile.FieldType.int)) ∈ lw_all := lw_g (lw_at lw_m2 35 rfl) rfl
theorem q291 : (Jvm.Cond.instanceMethod ({ cls := "ReorderCoreModel", name := "register", desc := "(I)I" } : Jvm.MethodName)) ∈ lw_all := lw_g (lw_at lw_m2 37 rfl) rfl
theorem q292 : (Jvm.Cond.selects "ReorderCoreModel" ({ cls := "ReorderCoreModel", name := "register", desc := "(I)I" } : Jvm.MethodName) ({ cls := "ReorderCoreModel", name := "register", desc := "(I)I" } : Jvm.MethodName)) ∈ lw_all := lw_g (lw_at lw_m2 38 rfl) rfl
theorem q293 : (Jvm.Cond.code ({ cls := "ReorderCoreModel", name := "register", desc := "(I)I" } : Jvm.MethodName) prog_3_method_13_code (2 : Nat) (Option.some Jvm.ClassFile.FieldType.int)) ∈ lw_all := lw_g (lw_at lw_m2 39 rfl) rfl
theorem q295 : (Jvm.Cond.instanceMethod ({ cls := "ReorderCoreModel", name := "memory", desc := "(I)I" } : Jvm.MethodName)) ∈ lw_all := lw_g (lw_at lw_m2 41 rfl) rfl
theorem q296 : (Jvm.Cond.selects "ReorderCoreModel" ({ cls := "ReorderCoreModel", name := "memory", desc := "(I)I" } : Jvm.MethodName) ({ cls := "ReorderCoreModel", name := "memory", desc := "(I)I" } : Jvm.MethodName)) ∈ lw_all := lw_g (lw_at lw_m2 42 rfl) rfl
theorem q297 : (Jvm.Cond.code ({ cls := "ReorderCoreModel", name := "memory", desc := "(I)I" } : Jvm.MethodName) prog_3_method_14_code (2 : Nat) (Option.some Jvm.ClassFile.FieldType.int)) ∈ lw_all := lw_g (lw_at lw_m2 43 rfl) rfl
theorem q299 : (Jvm.Cond.instanceMethod ({ cls := "ReorderCoreModel", name := "digest", desc := "()I" } : Jvm.MethodName)) ∈ lw_all := lw_g (lw_at lw_m2 45 rfl) rfl
theorem q300 : (Jvm.Cond.selects "ReorderCoreModel" ({ cls := "ReorderCoreModel", name := "digest", desc := "()I" } : Jvm.MethodName) ({ cls := "ReorderCoreModel", name := "digest", desc := "()I" } : Jvm.MethodName)) ∈ lw_all := lw_g (lw_at lw_m2 46 rfl) rfl
theorem q301 : (Jvm.Cond.code ({ cls := "ReorderCoreModel", name := "digest", desc := "()I" } : Jvm.MethodName) prog_3_method_15_code (3 : Nat) (Option.some Jvm.ClassFile.FieldType.int)) ∈ lw_all := lw_g (lw_at lw_m2 47 rfl) rfl
theorem in_X1 : ∀ w ∈ wsX10, w ∈ lw_all := lw_in wsX10 [227, 229, 231, 233, 235, 237, 239, 241, 243] (by decide +kernel) (by decide +kernel)
end
section
/-! java/lang/Object -/
set_option maxRecDepth 100000
def RJ0 : String := "java/lang/Object"
abbrev cJ0_init : ByteArray := object_method_1_code
def yJ0_init : MethodName := ⟨RJ0, "<init>", "()V"⟩
theorem dJ0_init_0 : decode cJ0_init 0 = .ok (.return_, 1) := by decide +kernel
theorem q23 : (Jvm.Cond.instanceMethod ({ cls := "java/lang/Object", name := "<init>", desc := "()V" } : Jvm.MethodName)) ∈ lw_all := lw_g (lw_at lw_m1 9 rfl) rfl
theorem q24 : (Jvm.Cond.code ({ cls := "java/lang/Object", name := "<init>", desc := "()V" } : Jvm.MethodName) object_method_1_code (1 : Nat) (Option.none : Option Jvm.ClassFile.FieldType)) ∈ lw_all := lw_g (lw_at lw_m1 10 rfl) rfl
theorem q110 : (Jvm.Cond.arrayClass Jvm.ClassFile.FieldType.byte) ∈ lw_all := lw_g (lw_at lw_m1 96 rfl) rfl
set_option maxRecDepth 100000
theorem q111 : (Jvm.Cond.arrayClass Jvm.ClassFile.FieldType.int) ∈ lw_all := lw_g (lw_at lw_m1 97 rfl) rfl
theorem q112 : (Jvm.Cond.arrayClass Jvm.ClassFile.FieldType.boolean) ∈ lw_all := lw_g (lw_at lw_m1 98 rfl) rfl
theorem q14 : (Jvm.Cond.initialized "ReorderCoreLaw") ∈ lw_all := lw_g (lw_at lw_m1 0 rfl) rfl
set_option maxRecDepth 100000
theorem q17 : (Jvm.Cond.classLink "ReorderCoreLaw" (7 : Nat) "ReorderCore") ∈ lw_all := lw_g (lw_at lw_m1 3 rfl) rfl
theorem q19 : (Jvm.Cond.methodLink "ReorderCoreLaw" (9 : Nat) ({ cls := "ReorderCore", name := "<init>", desc := "()V" } : Jvm.MethodName)) ∈ lw_all := lw_g (lw_at lw_m1 5 rfl) rfl
theorem q113 : (Jvm.Cond.methodLink "ReorderCoreLaw" (13 : Nat) ({ cls := "ReorderCore", name := "emit", desc := "(III)I" } : Jvm.MethodName)) ∈ lw_all := lw_g (lw_at lw_m1 99 rfl) rfl
theorem q121 : (Jvm.Cond.methodLink "ReorderCoreLaw" (18 : Nat) ({ cls := "ReorderCore", name := "clear", desc := "()V" } : Jvm.MethodName)) ∈ lw_all := lw_g (lw_at lw_m1 107 rfl) rfl
theorem q125 : (Jvm.Cond.methodLink "ReorderCoreLaw" (22 : Nat) ({ cls := "ReorderCore", name := "length", desc := "()I" } : Jvm.MethodName)) ∈ lw_all := lw_g (lw_at lw_m1 111 rfl) rfl
theorem q129 : (Jvm.Cond.methodLink "ReorderCoreLaw" (27 : Nat) ({ cls := "ReorderCore", name := "set", desc := "(II)Z" } : Jvm.MethodName)) ∈ lw_all := lw_g (lw_at lw_m1 115 rfl) rfl
theorem q133 : (Jvm.Cond.methodLink "ReorderCoreLaw" (32 : Nat) ({ cls := "ReorderCore", name := "start", desc := "(I)V" } : Jvm.MethodName)) ∈ lw_all := lw_g (lw_at lw_m1 119 rfl) rfl
theorem q141 : (Jvm.Cond.methodLink "ReorderCoreLaw" (37 : Nat) ({ cls := "ReorderCore", name := "finish", desc := "(I)I" } : Jvm.MethodName)) ∈ lw_all := lw_g (lw_at lw_m1 127 rfl) rfl
theorem q188 : (Jvm.Cond.methodLink "ReorderCoreLaw" (42 : Nat) ({ cls := "ReorderCore", name := "status", desc := "()I" } : Jvm.MethodName)) ∈ lw_all := lw_g (lw_at lw_m1 174 rfl) rfl
theorem q192 : (Jvm.Cond.methodLink "ReorderCoreLaw" (46 : Nat) ({ cls := "ReorderCore", name := "position", desc := "()I" } : Jvm.MethodName)) ∈ lw_all := lw_g (lw_at lw_m1 178 rfl) rfl
theorem q196 : (Jvm.Cond.methodLink "ReorderCoreLaw" (50 : Nat) ({ cls := "ReorderCore", name := "finished", desc := "()I" } : Jvm.MethodName)) ∈ lw_all := lw_g (lw_at lw_m1 182 rfl) rfl
theorem q200 : (Jvm.Cond.methodLink "ReorderCoreLaw" (54 : Nat) ({ cls := "ReorderCore", name := "register", desc := "(I)I" } : Jvm.MethodName)) ∈ lw_all := lw_g (lw_at lw_m1 186 rfl) rfl
theorem q204 : (Jvm.Cond.methodLink "ReorderCoreLaw" (58 : Nat) ({ cls := "ReorderCore", name := "memory", desc := "(I)I" } : Jvm.MethodName)) ∈ lw_all := lw_g (lw_at lw_m1 190 rfl) rfl
theorem q208 : (Jvm.Cond.methodLink "ReorderCoreLaw" (62 : Nat) ({ cls := "ReorderCore", name := "digest", desc := "()I" } : Jvm.MethodName)) ∈ lw_all := lw_g (lw_at lw_m1 194 rfl) rfl
theorem q212 : (Jvm.Cond.classLink "ReorderCoreLaw" (10 : Nat) "ReorderCoreModel") ∈ lw_all := lw_g (lw_at lw_m1 198 rfl) rfl
theorem q214 : (Jvm.Cond.methodLink "ReorderCoreLaw" (12 : Nat) ({ cls := "ReorderCoreModel", name := "<init>", desc := "()V" } : Jvm.MethodName)) ∈ lw_all := lw_g (lw_at lw_m1 200 rfl) rfl
theorem q246 : (Jvm.Cond.methodLink "ReorderCoreLaw" (17 : Nat) ({ cls := "ReorderCoreModel", name := "emit", desc := "(III)I" } : Jvm.MethodName)) ∈ lw_all := lw_g (lw_at lw_m1 232 rfl) rfl
theorem q254 : (Jvm.Cond.methodLink "ReorderCoreLaw" (21 : Nat) ({ cls := "ReorderCoreModel", name := "clear", desc := "()V" } : Jvm.MethodName)) ∈ lw_all := lw_g (lw_at lw_m2 0 rfl) rfl
theorem q258 : (Jvm.Cond.methodLink "ReorderCoreLaw" (26 : Nat) ({ cls := "ReorderCoreModel", name := "length", desc := "()I" } : Jvm.MethodName)) ∈ lw_all := lw_g (lw_at lw_m2 4 rfl) rfl
theorem q262 : (Jvm.Cond.methodLink "ReorderCoreLaw" (31 : Nat) ({ cls := "ReorderCoreModel", name := "set", desc := "(II)Z" } : Jvm.MethodName)) ∈ lw_all := lw_g (lw_at lw_m2 8 rfl) rfl
theorem q266 : (Jvm.Cond.methodLink "ReorderCoreLaw" (36 : Nat) ({ cls := "ReorderCoreModel", name := "start", desc := "(I)V" } : Jvm.MethodName)) ∈ lw_all := lw_g (lw_at lw_m2 12 rfl) rfl
theorem q270 : (Jvm.Cond.methodLink "ReorderCoreLaw" (41 : Nat) ({ cls := "ReorderCoreModel", name := "finish", desc := "(I)I" } : Jvm.MethodName)) ∈ lw_all := lw_g (lw_at lw_m2 16 rfl) rfl
theorem q278 : (Jvm.Cond.methodLink "ReorderCoreLaw" (45 : Nat) ({ cls := "ReorderCoreModel", name := "status", desc := "()I" } : Jvm.MethodName)) ∈ lw_all := lw_g (lw_at lw_m2 24 rfl) rfl
theorem q282 : (Jvm.Cond.methodLink "ReorderCoreLaw" (49 : Nat) ({ cls := "ReorderCoreModel", name := "position", desc := "()I" } : Jvm.MethodName)) ∈ lw_all := lw_g (lw_at lw_m2 28 rfl) rfl
theorem q286 : (Jvm.Cond.methodLink "ReorderCoreLaw" (53 : Nat) ({ cls := "ReorderCoreModel", name := "finished", desc := "()I" } : Jvm.MethodName)) ∈ lw_all := lw_g (lw_at lw_m2 32 rfl) rfl
theorem q290 : (Jvm.Cond.methodLink "ReorderCoreLaw" (57 : Nat) ({ cls := "ReorderCoreModel", name := "register", desc := "(I)I" } : Jvm.MethodName)) ∈ lw_all := lw_g (lw_at lw_m2 36 rfl) rfl
theorem q294 : (Jvm.Cond.methodLink "ReorderCoreLaw" (61 : Nat) ({ cls := "ReorderCoreModel", name := "memory", desc := "(I)I" } : Jvm.MethodName)) ∈ lw_all := lw_g (lw_at lw_m2 40 rfl) rfl
theorem q298 : (Jvm.Cond.methodLink "ReorderCoreLaw" (65 : Nat) ({ cls := "ReorderCoreModel", name := "digest", desc := "()I" } : Jvm.MethodName)) ∈ lw_all := lw_g (lw_at lw_m2 44 rfl) rfl
/-! the law's own entry -/
set_option maxRecDepth 100000
abbrev cL_law : ByteArray := code
theorem dL_law_0 : decode cL_law 0 = .ok (.new 7, 3) := by decide +kernel
theorem dL_law_3 : decode cL_law 3 = .ok (.dup, 1) := by decide +kernel
theorem dL_law_4 : decode cL_law 4 = .ok (.invokespecial 9, 3) := by decide +kernel
theorem dL_law_7 : decode cL_law 7 = .ok (.astore_n 1, 1) := by decide +kernel
theorem dL_law_8 : decode cL_law 8 = .ok (.new 10, 3) := by decide +kernel
theorem dL_law_11 : decode cL_law 11 = .ok (.dup, 1) := by decide +kernel
theorem dL_law_12 : decode cL_law 12 = .ok (.invokespecial 12, 3) := by decide +kernel
theorem dL_law_15 : decode cL_law 15 = .ok (.astore_n 2, 1) := by decide +kernel
theorem dL_law_16 : decode cL_law 16 = .ok (.iconst 0, 1) := by decide +kernel
theorem dL_law_17 : decode cL_law 17 = .ok (.istore_n 3, 1) := by decide +kernel
theorem dL_law_18 : decode cL_law 18 = .ok (.iload_n 3, 1) := by decide +kernel
theorem dL_law_19 : decode cL_law 19 = .ok (.aload_n 0, 1) := by decide +kernel
theorem dL_law_20 : decode cL_law 20 = .ok (.arraylength, 1) := by decide +kernel
theorem dL_law_21 : decode cL_law 21 = .ok (.iconst 4, 1) := by decide +kernel
theorem dL_law_22 : decode cL_law 22 = .ok (.isub, 1) := by decide +kernel
theorem dL_law_23 : decode cL_law 23 = .ok (.if_icmp .gt 321, 3) := by decide +kernel
theorem dL_law_26 : decode cL_law 26 = .ok (.aload_n 0, 1) := by decide +kernel
theorem dL_law_27 : decode cL_law 27 = .ok (.iload_n 3, 1) := by decide +kernel
theorem dL_law_28 : decode cL_law 28 = .ok (.iaload, 1) := by decide +kernel
theorem dL_law_29 : decode cL_law 29 = .ok (.bipush 15, 2) := by decide +kernel
theorem dL_law_31 : decode cL_law 31 = .ok (.iand, 1) := by decide +kernel
theorem dL_law_32 : decode cL_law 32 = .ok (.tableswitch 306 0 11 #[64, 107, 118, 131, 164, 185, 208, 221, 234, 247, 270, 293], 64) := by decide +kernel
theorem dL_law_96 : decode cL_law 96 = .ok (.aload_n 1, 1) := by decide +kernel
theorem dL_law_97 : decode cL_law 97 = .ok (.aload_n 0, 1) := by decide +kernel
theorem dL_law_98 : decode cL_law 98 = .ok (.iload_n 3, 1) := by decide +kernel
theorem dL_law_99 : decode cL_law 99 = .ok (.iconst 1, 1) := by decide +kernel
theorem dL_law_100 : decode cL_law 100 = .ok (.iadd, 1) := by decide +kernel
theorem dL_law_101 : decode cL_law 101 = .ok (.iaload, 1) := by decide +kernel
theorem dL_law_102 : decode cL_law 102 = .ok (.aload_n 0, 1) := by decide +kernel
theorem dL_law_103 : decode cL_law 103 = .ok (.iload_n 3, 1) := by decide +kernel
theorem dL_law_104 : decode cL_law 104 = .ok (.iconst 2, 1) := by decide +kernel
theorem dL_law_105 : decode cL_law 105 = .ok (.iadd, 1) := by decide +kernel
theorem dL_law_106 : decode cL_law 106 = .ok (.iaload, 1) := by decide +kernel
theorem dL_law_107 : decode cL_law 107 = .ok (.aload_n 0, 1) := by decide +kernel
theorem dL_law_108 : decode cL_law 108 = .ok (.iload_n 3, 1) := by decide +kernel
theorem dL_law_109 : decode cL_law 109 = .ok (.iconst 3, 1) := by decide +kernel
theorem dL_law_110 : decode cL_law 110 = .ok (.iadd, 1) := by decide +kernel
theorem dL_law_111 : decode cL_law 111 = .ok (.iaload, 1) := by decide +kernel
theorem dL_law_112 : decode cL_law 112 = .ok (.invokevirtual 13, 3) := by decide +kernel
theorem dL_law_115 : decode cL_law 115 = .ok (.aload_n 2, 1) := by decide +kernel
theorem dL_law_116 : decode cL_law 116 = .ok (.aload_n 0, 1) := by decide +kernel
theorem dL_law_117 : decode cL_law 117 = .ok (.iload_n 3, 1) := by decide +kernel
theorem dL_law_118 : decode cL_law 118 = .ok (.iconst 1, 1) := by decide +kernel
theorem dL_law_119 : decode cL_law 119 = .ok (.iadd, 1) := by decide +kernel
theorem dL_law_120 : decode cL_law 120 = .ok (.iaload, 1) := by decide +kernel
theorem dL_law_121 : decode cL_law 121 = .ok (.aload_n 0, 1) := by decide +kernel
theorem dL_law_122 : decode cL_law 122 = .ok (.iload_n 3, 1) := by decide +kernel
theorem dL_law_123 : decode cL_law 123 = .ok (.iconst 2, 1) := by decide +kernel
theorem dL_law_124 : decode cL_law 124 = .ok (.iadd, 1) := by decide +kernel
theorem dL_law_125 : decode cL_law 125 = .ok (.iaload, 1) := by decide +kernel
theorem dL_law_126 : decode cL_law 126 = .ok (.aload_n 0, 1) := by decide +kernel
theorem dL_law_127 : decode cL_law 127 = .ok (.iload_n 3, 1) := by decide +kernel
theorem dL_law_128 : decode cL_law 128 = .ok (.iconst 3, 1) := by decide +kernel
theorem dL_law_129 : decode cL_law 129 = .ok (.iadd, 1) := by decide +kernel
theorem dL_law_130 : decode cL_law 130 = .ok (.iaload, 1) := by decide +kernel
theorem dL_law_131 : decode cL_law 131 = .ok (.invokevirtual 17, 3) := by decide +kernel
theorem dL_law_134 : decode cL_law 134 = .ok (.if_icmp .eq 204, 3) := by decide +kernel
theorem dL_law_137 : decode cL_law 137 = .ok (.iconst 0, 1) := by decide +kernel
theorem dL_law_138 : decode cL_law 138 = .ok (.ireturn, 1) := by decide +kernel
theorem dL_law_139 : decode cL_law 139 = .ok (.aload_n 1, 1) := by decide +kernel
theorem dL_law_140 : decode cL_law 140 = .ok (.invokevirtual 18, 3) := by decide +kernel
theorem dL_law_143 : decode cL_law 143 = .ok (.aload_n 2, 1) := by decide +kernel
theorem dL_law_144 : decode cL_law 144 = .ok (.invokevirtual 21, 3) := by decide +kernel
theorem dL_law_147 : decode cL_law 147 = .ok (.goto 191, 3) := by decide +kernel
theorem dL_law_150 : decode cL_law 150 = .ok (.aload_n 1, 1) := by decide +kernel
theorem dL_law_151 : decode cL_law 151 = .ok (.invokevirtual 22, 3) := by decide +kernel
theorem dL_law_154 : decode cL_law 154 = .ok (.aload_n 2, 1) := by decide +kernel
theorem dL_law_155 : decode cL_law 155 = .ok (.invokevirtual 26, 3) := by decide +kernel
theorem dL_law_158 : decode cL_law 158 = .ok (.if_icmp .eq 180, 3) := by decide +kernel
theorem dL_law_161 : decode cL_law 161 = .ok (.iconst 0, 1) := by decide +kernel
theorem dL_law_162 : decode cL_law 162 = .ok (.ireturn, 1) := by decide +kernel
theorem dL_law_163 : decode cL_law 163 = .ok (.aload_n 1, 1) := by decide +kernel
theorem dL_law_164 : decode cL_law 164 = .ok (.aload_n 0, 1) := by decide +kernel
theorem dL_law_165 : decode cL_law 165 = .ok (.iload_n 3, 1) := by decide +kernel
theorem dL_law_166 : decode cL_law 166 = .ok (.iconst 1, 1) := by decide +kernel
theorem dL_law_167 : decode cL_law 167 = .ok (.iadd, 1) := by decide +kernel
theorem dL_law_168 : decode cL_law 168 = .ok (.iaload, 1) := by decide +kernel
theorem dL_law_169 : decode cL_law 169 = .ok (.aload_n 0, 1) := by decide +kernel
theorem dL_law_170 : decode cL_law 170 = .ok (.iload_n 3, 1) := by decide +kernel
theorem dL_law_171 : decode cL_law 171 = .ok (.iconst 2, 1) := by decide +kernel
theorem dL_law_172 : decode cL_law 172 = .ok (.iadd, 1) := by decide +kernel
theorem dL_law_173 : decode cL_law 173 = .ok (.iaload, 1) := by decide +kernel
theorem dL_law_174 : decode cL_law 174 = .ok (.invokevirtual 27, 3) := by decide +kernel
theorem dL_law_177 : decode cL_law 177 = .ok (.aload_n 2, 1) := by decide +kernel
theorem dL_law_178 : decode cL_law 178 = .ok (.aload_n 0, 1) := by decide +kernel
theorem dL_law_179 : decode cL_law 179 = .ok (.iload_n 3, 1) := by decide +kernel
theorem dL_law_180 : decode cL_law 180 = .ok (.iconst 1, 1) := by decide +kernel
theorem dL_law_181 : decode cL_law 181 = .ok (.iadd, 1) := by decide +kernel
theorem dL_law_182 : decode cL_law 182 = .ok (.iaload, 1) := by decide +kernel
theorem dL_law_183 : decode cL_law 183 = .ok (.aload_n 0, 1) := by decide +kernel
theorem dL_law_184 : decode cL_law 184 = .ok (.iload_n 3, 1) := by decide +kernel
theorem dL_law_185 : decode cL_law 185 = .ok (.iconst 2, 1) := by decide +kernel
theorem dL_law_186 : decode cL_law 186 = .ok (.iadd, 1) := by decide +kernel
theorem dL_law_187 : decode cL_law 187 = .ok (.iaload, 1) := by decide +kernel
theorem dL_law_188 : decode cL_law 188 = .ok (.invokevirtual 31, 3) := by decide +kernel
theorem dL_law_191 : decode cL_law 191 = .ok (.if_icmp .eq 147, 3) := by decide +kernel
theorem dL_law_194 : decode cL_law 194 = .ok (.iconst 0, 1) := by decide +kernel
theorem dL_law_195 : decode cL_law 195 = .ok (.ireturn, 1) := by decide +kernel
theorem dL_law_196 : decode cL_law 196 = .ok (.aload_n 1, 1) := by decide +kernel
theorem dL_law_197 : decode cL_law 197 = .ok (.aload_n 0, 1) := by decide +kernel
theorem dL_law_198 : decode cL_law 198 = .ok (.iload_n 3, 1) := by decide +kernel
theorem dL_law_199 : decode cL_law 199 = .ok (.iconst 1, 1) := by decide +kernel
theorem dL_law_200 : decode cL_law 200 = .ok (.iadd, 1) := by decide +kernel
theorem dL_law_201 : decode cL_law 201 = .ok (.iaload, 1) := by decide +kernel
theorem dL_law_202 : decode cL_law 202 = .ok (.invokevirtual 32, 3) := by decide +kernel
theorem dL_law_205 : decode cL_law 205 = .ok (.aload_n 2, 1) := by decide +kernel
theorem dL_law_206 : decode cL_law 206 = .ok (.aload_n 0, 1) := by decide +kernel
theorem dL_law_207 : decode cL_law 207 = .ok (.iload_n 3, 1) := by decide +kernel
theorem dL_law_208 : decode cL_law 208 = .ok (.iconst 1, 1) := by decide +kernel
theorem dL_law_209 : decode cL_law 209 = .ok (.iadd, 1) := by decide +kernel
theorem dL_law_210 : decode cL_law 210 = .ok (.iaload, 1) := by decide +kernel
theorem dL_law_211 : decode cL_law 211 = .ok (.invokevirtual 36, 3) := by decide +kernel
theorem dL_law_214 : decode cL_law 214 = .ok (.goto 124, 3) := by decide +kernel
theorem dL_law_217 : decode cL_law 217 = .ok (.aload_n 1, 1) := by decide +kernel
theorem dL_law_218 : decode cL_law 218 = .ok (.aload_n 0, 1) := by decide +kernel
theorem dL_law_219 : decode cL_law 219 = .ok (.iload_n 3, 1) := by decide +kernel
theorem dL_law_220 : decode cL_law 220 = .ok (.iconst 1, 1) := by decide +kernel
theorem dL_law_221 : decode cL_law 221 = .ok (.iadd, 1) := by decide +kernel
theorem dL_law_222 : decode cL_law 222 = .ok (.iaload, 1) := by decide +kernel
theorem dL_law_223 : decode cL_law 223 = .ok (.invokevirtual 37, 3) := by decide +kernel
theorem dL_law_226 : decode cL_law 226 = .ok (.aload_n 2, 1) := by decide +kernel
theorem dL_law_227 : decode cL_law 227 = .ok (.aload_n 0, 1) := by decide +kernel
theorem dL_law_228 : decode cL_law 228 = .ok (.iload_n 3, 1) := by decide +kernel
theorem dL_law_229 : decode cL_law 229 = .ok (.iconst 1, 1) := by decide +kernel
theorem dL_law_230 : decode cL_law 230 = .ok (.iadd, 1) := by decide +kernel
theorem dL_law_231 : decode cL_law 231 = .ok (.iaload, 1) := by decide +kernel
theorem dL_law_232 : decode cL_law 232 = .ok (.invokevirtual 41, 3) := by decide +kernel
theorem dL_law_235 : decode cL_law 235 = .ok (.if_icmp .eq 103, 3) := by decide +kernel
theorem dL_law_238 : decode cL_law 238 = .ok (.iconst 0, 1) := by decide +kernel
theorem dL_law_239 : decode cL_law 239 = .ok (.ireturn, 1) := by decide +kernel
theorem dL_law_240 : decode cL_law 240 = .ok (.aload_n 1, 1) := by decide +kernel
theorem dL_law_241 : decode cL_law 241 = .ok (.invokevirtual 42, 3) := by decide +kernel
theorem dL_law_244 : decode cL_law 244 = .ok (.aload_n 2, 1) := by decide +kernel
theorem dL_law_245 : decode cL_law 245 = .ok (.invokevirtual 45, 3) := by decide +kernel
theorem dL_law_248 : decode cL_law 248 = .ok (.if_icmp .eq 90, 3) := by decide +kernel
theorem dL_law_251 : decode cL_law 251 = .ok (.iconst 0, 1) := by decide +kernel
theorem dL_law_252 : decode cL_law 252 = .ok (.ireturn, 1) := by decide +kernel
theorem dL_law_253 : decode cL_law 253 = .ok (.aload_n 1, 1) := by decide +kernel
theorem dL_law_254 : decode cL_law 254 = .ok (.invokevirtual 46, 3) := by decide +kernel
theorem dL_law_257 : decode cL_law 257 = .ok (.aload_n 2, 1) := by decide +kernel
theorem dL_law_258 : decode cL_law 258 = .ok (.invokevirtual 49, 3) := by decide +kernel
theorem dL_law_261 : decode cL_law 261 = .ok (.if_icmp .eq 77, 3) := by decide +kernel
theorem dL_law_264 : decode cL_law 264 = .ok (.iconst 0, 1) := by decide +kernel
theorem dL_law_265 : decode cL_law 265 = .ok (.ireturn, 1) := by decide +kernel
theorem dL_law_266 : decode cL_law 266 = .ok (.aload_n 1, 1) := by decide +kernel
theorem dL_law_267 : decode cL_law 267 = .ok (.invokevirtual 50, 3) := by decide +kernel
theorem dL_law_270 : decode cL_law 270 = .ok (.aload_n 2, 1) := by decide +kernel
theorem dL_law_271 : decode cL_law 271 = .ok (.invokevirtual 53, 3) := by decide +kernel
theorem dL_law_274 : decode cL_law 274 = .ok (.if_icmp .eq 64, 3) := by decide +kernel
theorem dL_law_277 : decode cL_law 277 = .ok (.iconst 0, 1) := by decide +kernel
theorem dL_law_278 : decode cL_law 278 = .ok (.ireturn, 1) := by decide +kernel
theorem dL_law_279 : decode cL_law 279 = .ok (.aload_n 1, 1) := by decide +kernel
theorem dL_law_280 : decode cL_law 280 = .ok (.aload_n 0, 1) := by decide +kernel
theorem dL_law_281 : decode cL_law 281 = .ok (.iload_n 3, 1) := by decide +kernel
theorem dL_law_282 : decode cL_law 282 = .ok (.iconst 1, 1) := by decide +kernel
theorem dL_law_283 : decode cL_law 283 = .ok (.iadd, 1) := by decide +kernel
theorem dL_law_284 : decode cL_law 284 = .ok (.iaload, 1) := by decide +kernel
theorem dL_law_285 : decode cL_law 285 = .ok (.invokevirtual 54, 3) := by decide +kernel
theorem dL_law_288 : decode cL_law 288 = .ok (.aload_n 2, 1) := by decide +kernel
theorem dL_law_289 : decode cL_law 289 = .ok (.aload_n 0, 1) := by decide +kernel
theorem dL_law_290 : decode cL_law 290 = .ok (.iload_n 3, 1) := by decide +kernel
theorem dL_law_291 : decode cL_law 291 = .ok (.iconst 1, 1) := by decide +kernel
theorem dL_law_292 : decode cL_law 292 = .ok (.iadd, 1) := by decide +kernel
theorem dL_law_293 : decode cL_law 293 = .ok (.iaload, 1) := by decide +kernel
theorem dL_law_294 : decode cL_law 294 = .ok (.invokevirtual 57, 3) := by decide +kernel
theorem dL_law_297 : decode cL_law 297 = .ok (.if_icmp .eq 41, 3) := by decide +kernel
theorem dL_law_300 : decode cL_law 300 = .ok (.iconst 0, 1) := by decide +kernel
theorem dL_law_301 : decode cL_law 301 = .ok (.ireturn, 1) := by decide +kernel
theorem dL_law_302 : decode cL_law 302 = .ok (.aload_n 1, 1) := by decide +kernel
theorem dL_law_303 : decode cL_law 303 = .ok (.aload_n 0, 1) := by decide +kernel
theorem dL_law_304 : decode cL_law 304 = .ok (.iload_n 3, 1) := by decide +kernel
theorem dL_law_305 : decode cL_law 305 = .ok (.iconst 1, 1) := by decide +kernel
theorem dL_law_306 : decode cL_law 306 = .ok (.iadd, 1) := by decide +kernel
theorem dL_law_307 : decode cL_law 307 = .ok (.iaload, 1) := by decide +kernel
theorem dL_law_308 : decode cL_law 308 = .ok (.invokevirtual 58, 3) := by decide +kernel
theorem dL_law_311 : decode cL_law 311 = .ok (.aload_n 2, 1) := by decide +kernel
theorem dL_law_312 : decode cL_law 312 = .ok (.aload_n 0, 1) := by decide +kernel
theorem dL_law_313 : decode cL_law 313 = .ok (.iload_n 3, 1) := by decide +kernel
theorem dL_law_314 : decode cL_law 314 = .ok (.iconst 1, 1) := by decide +kernel
theorem dL_law_315 : decode cL_law 315 = .ok (.iadd, 1) := by decide +kernel
theorem dL_law_316 : decode cL_law 316 = .ok (.iaload, 1) := by decide +kernel
theorem dL_law_317 : decode cL_law 317 = .ok (.invokevirtual 61, 3) := by decide +kernel
theorem dL_law_320 : decode cL_law 320 = .ok (.if_icmp .eq 18, 3) := by decide +kernel
theorem dL_law_323 : decode cL_law 323 = .ok (.iconst 0, 1) := by decide +kernel
theorem dL_law_324 : decode cL_law 324 = .ok (.ireturn, 1) := by decide +kernel
theorem dL_law_325 : decode cL_law 325 = .ok (.aload_n 1, 1) := by decide +kernel
theorem dL_law_326 : decode cL_law 326 = .ok (.invokevirtual 62, 3) := by decide +kernel
theorem dL_law_329 : decode cL_law 329 = .ok (.aload_n 2, 1) := by decide +kernel
theorem dL_law_330 : decode cL_law 330 = .ok (.invokevirtual 65, 3) := by decide +kernel
theorem dL_law_333 : decode cL_law 333 = .ok (.if_icmp .eq 5, 3) := by decide +kernel
theorem dL_law_336 : decode cL_law 336 = .ok (.iconst 0, 1) := by decide +kernel
theorem dL_law_337 : decode cL_law 337 = .ok (.ireturn, 1) := by decide +kernel
theorem dL_law_338 : decode cL_law 338 = .ok (.iinc 3 4, 3) := by decide +kernel
theorem dL_law_341 : decode cL_law 341 = .ok (.goto (-323), 3) := by decide +kernel
theorem dL_law_344 : decode cL_law 344 = .ok (.iconst 1, 1) := by decide +kernel
theorem dL_law_345 : decode cL_law 345 = .ok (.ireturn, 1) := by decide +kernel
end
section
/-! an object's numbers: place k of its fields, index j (0 for a plain field) -/
abbrev MM : Type := Nat → Nat → Int32
def mu (M : MM) (k j : Nat) (v : Int32) : MM := fun a => if a = k then upd (M k) j v else M a
def inb (i : Int32) (n : Nat) : Bool := decide (¬ (i < 0 ∨ n ≤ i.toNatClampNeg))
theorem inb_in {i : Int32} {n : Nat} (h : inb i n = true) : vp_in i n := of_decide_eq_true (p := ¬ (i < 0 ∨ n ≤ i.toNatClampNeg)) h
theorem og {α : Type} {b : Bool} {a : Option α} {r : α} (h : (if b = true then a else none) = some r) : b = true ∧ a = some r := by
  by_cases hb : b = true
  · rw [if_pos hb] at h; exact ⟨hb, h⟩
  · rw [if_neg hb] at h; cases h
theorem ogn {α : Type} {b : Prop} [Decidable b] {a : Option α} {r : α} (h : (if b then none else a) = some r) : ¬ b ∧ a = some r := by
  by_cases hb : b
  · rw [if_pos hb] at h; cases h
  · rw [if_neg hb] at h; exact ⟨hb, h⟩
theorem ob {α β : Type} {o : Option α} {k : α → Option β} {r : β} (h : o.bind k = some r) : ∃ q, o = some q ∧ k q = some r := by
  cases o with
  | none => cases h
  | some q => exact ⟨q, rfl, h⟩
/-! ReorderCore.idle -/
def fX0_idle_15 (fl : Nat) (M : MM) : Option (Int32 × MM) := some (0, M)
def fX0_idle_10 (fl : Nat) (M : MM) : Option (Int32 × MM) := fX0_idle_15 fl (mu M 8 0 0)
def fX0_idle_5 (fl : Nat) (M : MM) : Option (Int32 × MM) := fX0_idle_10 fl (mu M 6 0 0)
def fX0_idle_0 (fl : Nat) (M : MM) : Option (Int32 × MM) := fX0_idle_5 fl (mu M 7 0 0)
def fX0_idle (fl : Nat) (M : MM) : Option (Int32 × MM) := fX0_idle_0 fl M
/-! ReorderCore.emit -/
def fX0_emit_20 (fl : Nat) (M : MM) : Option (Int32 × MM) := some ((-1), M)
def fX0_emit_80 (fl : Nat) (M : MM) : Option (Int32 × MM) := some (((M 3 0) - 1), M)
def fX0_emit_76 (fl : Nat) (M : MM) : Option (Int32 × MM) := (fX0_idle fl M).bind (fun q => fX0_emit_80 fl q.2)
def fX0_emit_66 (fl : Nat) (M : MM) : Option (Int32 × MM) := fX0_emit_76 fl (mu M 3 0 ((M 3 0) + 1))
def fX0_emit_56 (fl : Nat) (x3 : Int32) (M : MM) : Option (Int32 × MM) := if inb (M 3 0) 16 = true then (fX0_emit_66 fl (mu M 2 (M 3 0).toNatClampNeg x3)) else none
def fX0_emit_45 (fl : Nat) (x2 x3 : Int32) (M : MM) : Option (Int32 × MM) := if inb (M 3 0) 16 = true then (fX0_emit_56 fl x3 (mu M 1 (M 3 0).toNatClampNeg (vp_nar .byte x2.toInt8.toInt32))) else none
def fX0_emit_0 (fl : Nat) (x1 x2 x3 : Int32) (M : MM) : Option (Int32 × MM) := if x1 < 0 then (fX0_emit_20 fl M) else (if 8 < x1 then (fX0_emit_20 fl M) else (if x2 < 0 then (fX0_emit_20 fl M) else (if x2 ≤ 63 then (if M 3 0 < 16 then (if inb (M 3 0) 16 = true then (fX0_emit_45 fl x2 x3 (mu M 0 (M 3 0).toNatClampNeg (vp_nar .byte x1.toInt8.toInt32))) else none) else (some ((-2), M))) else (fX0_emit_20 fl M))))
def fX0_emit (fl : Nat) (x1 x2 x3 : Int32) (M : MM) : Option (Int32 × MM) := fX0_emit_0 fl x1 x2 x3 M
/-! ReorderCore.clear -/
def fX0_clear_9 (fl : Nat) (M : MM) : Option (Int32 × MM) := some (0, M)
def fX0_clear_5 (fl : Nat) (M : MM) : Option (Int32 × MM) := (fX0_idle fl M).bind (fun q => fX0_clear_9 fl q.2)
def fX0_clear_0 (fl : Nat) (M : MM) : Option (Int32 × MM) := fX0_clear_5 fl (mu M 3 0 0)
def fX0_clear (fl : Nat) (M : MM) : Option (Int32 × MM) := fX0_clear_0 fl M
/-! ReorderCore.length -/
def fX0_length_0 (fl : Nat) (M : MM) : Option (Int32 × MM) := some (M 3 0, M)
def fX0_length (fl : Nat) (M : MM) : Option (Int32 × MM) := fX0_length_0 fl M
/-! ReorderCore.set -/
def fX0_set_26 (fl : Nat) (M : MM) : Option (Int32 × MM) := some (1, M)
def fX0_set_50 (fl : Nat) (M : MM) : Option (Int32 × MM) := some (1, M)
def fX0_set_52 (fl : Nat) (M : MM) : Option (Int32 × MM) := some (0, M)
def fX0_set_28 (fl : Nat) (x1 x2 : Int32) (M : MM) : Option (Int32 × MM) := if x1 < 8 then (fX0_set_52 fl M) else (if 16 ≤ x1 then (fX0_set_52 fl M) else (if inb (x1 - 8) 8 = true then (fX0_set_50 fl (mu M 5 (x1 - 8).toNatClampNeg x2)) else none))
def fX0_set_0 (fl : Nat) (x1 x2 : Int32) (M : MM) : Option (Int32 × MM) := if M 7 0 = 1 then (some (0, M)) else (if x1 < 0 then (fX0_set_28 fl x1 x2 M) else (if 4 ≤ x1 then (fX0_set_28 fl x1 x2 M) else (if inb x1 4 = true then (fX0_set_26 fl (mu M 4 x1.toNatClampNeg x2)) else none)))
def fX0_set (fl : Nat) (x1 x2 : Int32) (M : MM) : Option (Int32 × MM) := fX0_set_0 fl x1 x2 M
/-! ReorderCore.refetch -/
def fX0_refetch_34 (fl : Nat) (K : Int32 → MM → Option (Int32 × MM)) (x2 : Int32) (M : MM) : Option (Int32 × MM) := K (x2 + 1) M
def fX0_refetch_22 (fl : Nat) : Nat → Int32 → MM → Option (Int32 × MM)
  | 0, _, _ => none
  | n + 1, x2, M => if 4 ≤ x2 then (some (0, M)) else (if inb x2 4 = true then (fX0_refetch_34 fl (fX0_refetch_22 fl n) x2 (mu M 27 x2.toNatClampNeg (vp_nar .byte (-1)))) else none)
def fX0_refetch_20 (fl : Nat) (M : MM) : Option (Int32 × MM) := fX0_refetch_22 fl fl 0 M
def fX0_refetch_15 (fl : Nat) (M : MM) : Option (Int32 × MM) := fX0_refetch_20 fl (mu M 11 0 1)
def fX0_refetch_10 (fl : Nat) (x1 : Int32) (M : MM) : Option (Int32 × MM) := fX0_refetch_15 fl (mu M 10 0 x1)
def fX0_refetch_5 (fl : Nat) (x1 : Int32) (M : MM) : Option (Int32 × MM) := fX0_refetch_10 fl x1 (mu M 13 0 0)
def fX0_refetch_0 (fl : Nat) (x1 : Int32) (M : MM) : Option (Int32 × MM) := fX0_refetch_5 fl x1 (mu M 12 0 0)
def fX0_refetch (fl : Nat) (x1 : Int32) (M : MM) : Option (Int32 × MM) := fX0_refetch_0 fl x1 M
/-! ReorderCore.start -/
def fX0_start_25 (fl : Nat) (M : MM) : Option (Int32 × MM) := some (0, M)
def fX0_start_20 (fl : Nat) (M : MM) : Option (Int32 × MM) := (fX0_refetch fl 0 M).bind (fun q => fX0_start_25 fl q.2)
def fX0_start_15 (fl : Nat) (x1 : Int32) (M : MM) : Option (Int32 × MM) := fX0_start_20 fl (mu M 9 0 x1)
def fX0_start_10 (fl : Nat) (x1 : Int32) (M : MM) : Option (Int32 × MM) := fX0_start_15 fl x1 (mu M 8 0 0)
def fX0_start_5 (fl : Nat) (x1 : Int32) (M : MM) : Option (Int32 × MM) := fX0_start_10 fl x1 (mu M 6 0 0)
def fX0_start_0 (fl : Nat) (x1 : Int32) (M : MM) : Option (Int32 × MM) := fX0_start_5 fl x1 (mu M 7 0 1)
def fX0_start (fl : Nat) (x1 : Int32) (M : MM) : Option (Int32 × MM) := fX0_start_0 fl x1 M
/-! ReorderCore.latency -/
def fX0_latency_24 (fl : Nat) (y0 : Int32) (M : MM) : Option (Int32 × MM) := some (y0, M)
def fX0_latency_0 (fl : Nat) (x0 : Int32) (M : MM) : Option (Int32 × MM) := if x0 = 3 then (some (5, M)) else (if x0 = 2 then (some (3, M)) else (if x0 = 4 then (fX0_latency_24 fl 2 M) else (fX0_latency_24 fl 1 M)))
def fX0_latency (fl : Nat) (x0 : Int32) (M : MM) : Option (Int32 × MM) := fX0_latency_0 fl x0 M
/-! ReorderCore.begin -/
def fX0_begin_60 (fl : Nat) (K : Int32 → Int32 → MM → Option (Int32 × MM)) (x1 x2 : Int32) (M : MM) : Option (Int32 × MM) := K x1 (x2 + 1) M
def fX0_begin_58 (fl : Nat) (K : Int32 → Int32 → MM → Option (Int32 × MM)) (x2 y0 y1 : Int32) (M : MM) : Option (Int32 × MM) := fX0_begin_60 fl K (y0 ||| y1) x2 M
def fX0_begin_53 (fl : Nat) (K : Int32 → Int32 → MM → Option (Int32 × MM)) (x2 y0 : Int32) (M : MM) : Option (Int32 × MM) := fX0_begin_58 fl K x2 y0 1 M
def fX0_begin_57 (fl : Nat) (K : Int32 → Int32 → MM → Option (Int32 × MM)) (x2 y0 : Int32) (M : MM) : Option (Int32 × MM) := fX0_begin_58 fl K x2 y0 0 M
def fX0_begin_22 (fl : Nat) (K : Int32 → Int32 → MM → Option (Int32 × MM)) (x1 x2 x3 : Int32) (M : MM) : Option (Int32 × MM) := if inb x3 6 = true then (if M 16 x3.toNatClampNeg = 1 then (if inb x3 6 = true then (if M 14 x3.toNatClampNeg = 2 then (fX0_begin_53 fl K x2 x1 M) else (if inb x3 6 = true then (if M 14 x3.toNatClampNeg = 3 then (fX0_begin_53 fl K x2 x1 M) else (fX0_begin_57 fl K x2 x1 M)) else none)) else none) else (fX0_begin_57 fl K x2 x1 M)) else none
def fX0_begin_234 (fl : Nat) (K : Int32 → Int32 → Int32 → MM → Option (Int32 × MM)) (x1 x2 x3 : Int32) (M : MM) : Option (Int32 × MM) := K x1 x2 (x3 + 1) M
def fX0_begin_232 (fl : Nat) (K : Int32 → Int32 → Int32 → MM → Option (Int32 × MM)) (x1 x3 y0 y1 : Int32) (M : MM) : Option (Int32 × MM) := fX0_begin_234 fl K x1 (y0 ||| y1) x3 M
def fX0_begin_215 (fl : Nat) (K : Int32 → Int32 → Int32 → MM → Option (Int32 × MM)) (x1 x2 x3 x4 : Int32) (M : MM) : Option (Int32 × MM) := if inb x4 6 = true then (if M 14 x4.toNatClampNeg = 5 then (fX0_begin_232 fl K x1 x3 x2 1 M) else (fX0_begin_232 fl K x1 x3 x2 0 M)) else none
def fX0_begin_210 (fl : Nat) (K : Int32 → Int32 → Int32 → MM → Option (Int32 × MM)) (x1 x2 x3 x4 x5 : Int32) (M : MM) : Option (Int32 × MM) := fX0_begin_215 fl K (x1 ||| x5) x2 x3 x4 M
def fX0_begin_208 (fl : Nat) (K : Int32 → Int32 → Int32 → MM → Option (Int32 × MM)) (x1 x2 x3 x4 x5 y0 y1 : Int32) (M : MM) : Option (Int32 × MM) := if inb y0 6 = true then (fX0_begin_210 fl K x1 x2 x3 x4 x5 (mu M 17 y0.toNatClampNeg (vp_nar .byte y1.toInt8.toInt32))) else none
def fX0_begin_192 (fl : Nat) (K : Int32 → Int32 → Int32 → MM → Option (Int32 × MM)) (x1 x2 x3 x4 x5 : Int32) (M : MM) : Option (Int32 × MM) := if inb x4 6 = true then ((fX0_latency fl (M 14 x4.toNatClampNeg) M).bind (fun q => fX0_begin_208 fl K x1 x2 x3 x4 x5 x4 q.1 M)) else none
def fX0_begin_184 (fl : Nat) (K : Int32 → Int32 → Int32 → MM → Option (Int32 × MM)) (x1 x2 x3 x4 x5 : Int32) (M : MM) : Option (Int32 × MM) := if inb x4 6 = true then (fX0_begin_192 fl K x1 x2 x3 x4 x5 (mu M 16 x4.toNatClampNeg (vp_nar .byte 1))) else none
def fX0_begin_169 (fl : Nat) (K : Int32 → Int32 → Int32 → MM → Option (Int32 × MM)) (x1 x2 x3 x4 x5 : Int32) (M : MM) : Option (Int32 × MM) := if inb x4 6 = true then (if M 14 x4.toNatClampNeg = 4 then (if x2 = 0 then (fX0_begin_184 fl K x1 x2 x3 x4 x5 M) else (fX0_begin_215 fl K x1 x2 x3 x4 M)) else (fX0_begin_184 fl K x1 x2 x3 x4 x5 M)) else none
def fX0_begin_155 (fl : Nat) (K : Int32 → Int32 → Int32 → MM → Option (Int32 × MM)) (x1 x2 x3 x4 x5 x6 : Int32) (M : MM) : Option (Int32 × MM) := if x6 = 0 then (fX0_begin_215 fl K x1 x2 x3 x4 M) else (if x5 = 0 then (fX0_begin_169 fl K x1 x2 x3 x4 x5 M) else (if x1 = 0 then (fX0_begin_169 fl K x1 x2 x3 x4 x5 M) else (fX0_begin_215 fl K x1 x2 x3 x4 M)))
def fX0_begin_153 (fl : Nat) (K : Int32 → Int32 → Int32 → MM → Option (Int32 × MM)) (x1 x2 x3 x4 x5 y0 : Int32) (M : MM) : Option (Int32 × MM) := fX0_begin_155 fl K x1 x2 x3 x4 x5 y0 M
def fX0_begin_152 (fl : Nat) (K : Int32 → Int32 → Int32 → MM → Option (Int32 × MM)) (x1 x2 x3 x4 x5 : Int32) (M : MM) : Option (Int32 × MM) := fX0_begin_153 fl K x1 x2 x3 x4 x5 0 M
def fX0_begin_118 (fl : Nat) (K : Int32 → Int32 → Int32 → MM → Option (Int32 × MM)) (x1 x2 x3 x4 x5 : Int32) (M : MM) : Option (Int32 × MM) := if inb x4 6 = true then (if M 16 x4.toNatClampNeg = 0 then (if inb x4 6 = true then (if 0 ≤ M 23 x4.toNatClampNeg then (fX0_begin_152 fl K x1 x2 x3 x4 x5 M) else (if inb x4 6 = true then (if 0 ≤ M 24 x4.toNatClampNeg then (fX0_begin_152 fl K x1 x2 x3 x4 x5 M) else (fX0_begin_153 fl K x1 x2 x3 x4 x5 1 M)) else none)) else none) else (fX0_begin_152 fl K x1 x2 x3 x4 x5 M)) else none
def fX0_begin_116 (fl : Nat) (K : Int32 → Int32 → Int32 → MM → Option (Int32 × MM)) (x1 x2 x3 x4 y0 : Int32) (M : MM) : Option (Int32 × MM) := fX0_begin_118 fl K x1 x2 x3 x4 y0 M
def fX0_begin_111 (fl : Nat) (K : Int32 → Int32 → Int32 → MM → Option (Int32 × MM)) (x1 x2 x3 x4 : Int32) (M : MM) : Option (Int32 × MM) := fX0_begin_116 fl K x1 x2 x3 x4 1 M
def fX0_begin_89 (fl : Nat) (K : Int32 → Int32 → Int32 → MM → Option (Int32 × MM)) (x1 x2 x3 x4 : Int32) (M : MM) : Option (Int32 × MM) := if inb x4 6 = true then (if M 14 x4.toNatClampNeg = 2 then (fX0_begin_111 fl K x1 x2 x3 x4 M) else (if inb x4 6 = true then (if M 14 x4.toNatClampNeg = 3 then (fX0_begin_111 fl K x1 x2 x3 x4 M) else (fX0_begin_116 fl K x1 x2 x3 x4 0 M)) else none)) else none
def fX0_begin_70 (fl : Nat) : Nat → Int32 → Int32 → Int32 → MM → Option (Int32 × MM)
  | 0, _, _, _, _ => none
  | n + 1, x1, x2, x3, M => if M 13 0 ≤ x3 then (some (0, M)) else (fX0_begin_89 fl (fX0_begin_70 fl n) x1 x2 x3 (((M 12 0) + x3) - ((M 12 0) + x3) / 6 * 6) M)
def fX0_begin_68 (fl : Nat) (x1 x2 : Int32) (M : MM) : Option (Int32 × MM) := fX0_begin_70 fl fl x1 x2 0 M
def fX0_begin_4 (fl : Nat) : Nat → Int32 → Int32 → MM → Option (Int32 × MM)
  | 0, _, _, _ => none
  | n + 1, x1, x2, M => if M 13 0 ≤ x2 then (fX0_begin_68 fl x1 0 M) else (fX0_begin_22 fl (fX0_begin_4 fl n) x1 x2 (((M 12 0) + x2) - ((M 12 0) + x2) / 6 * 6) M)
def fX0_begin_2 (fl : Nat) (x1 : Int32) (M : MM) : Option (Int32 × MM) := fX0_begin_4 fl fl x1 0 M
def fX0_begin_0 (fl : Nat) (M : MM) : Option (Int32 × MM) := fX0_begin_2 fl 0 M
def fX0_begin (fl : Nat) (M : MM) : Option (Int32 × MM) := fX0_begin_0 fl M
/-! ReorderCore.hand -/
def fX0_hand_78 (fl : Nat) (K : Int32 → Int32 → MM → Option (Int32 × MM)) (x1 x2 : Int32) (M : MM) : Option (Int32 × MM) := K x1 (x2 + 1) M
def fX0_hand_66 (fl : Nat) (K : Int32 → Int32 → MM → Option (Int32 × MM)) (x1 x2 x3 : Int32) (M : MM) : Option (Int32 × MM) := if inb x1 6 = true then (if inb x3 6 = true then (fX0_hand_78 fl K x1 x2 (mu M 26 x3.toNatClampNeg (M 18 x1.toNatClampNeg))) else none) else none
def fX0_hand_49 (fl : Nat) (K : Int32 → Int32 → MM → Option (Int32 × MM)) (x1 x2 x3 : Int32) (M : MM) : Option (Int32 × MM) := if inb x3 6 = true then (if M 24 x3.toNatClampNeg = x1 then (if inb x3 6 = true then (fX0_hand_66 fl K x1 x2 x3 (mu M 24 x3.toNatClampNeg (vp_nar .byte (-1)))) else none) else (fX0_hand_78 fl K x1 x2 M)) else none
def fX0_hand_37 (fl : Nat) (K : Int32 → Int32 → MM → Option (Int32 × MM)) (x1 x2 x3 : Int32) (M : MM) : Option (Int32 × MM) := if inb x1 6 = true then (if inb x3 6 = true then (fX0_hand_49 fl K x1 x2 x3 (mu M 25 x3.toNatClampNeg (M 18 x1.toNatClampNeg))) else none) else none
def fX0_hand_20 (fl : Nat) (K : Int32 → Int32 → MM → Option (Int32 × MM)) (x1 x2 x3 : Int32) (M : MM) : Option (Int32 × MM) := if inb x3 6 = true then (if M 23 x3.toNatClampNeg = x1 then (if inb x3 6 = true then (fX0_hand_37 fl K x1 x2 x3 (mu M 23 x3.toNatClampNeg (vp_nar .byte (-1)))) else none) else (fX0_hand_49 fl K x1 x2 x3 M)) else none
def fX0_hand_2 (fl : Nat) : Nat → Int32 → Int32 → MM → Option (Int32 × MM)
  | 0, _, _, _ => none
  | n + 1, x1, x2, M => if M 13 0 ≤ x2 then (some (0, M)) else (fX0_hand_20 fl (fX0_hand_2 fl n) x1 x2 (((M 12 0) + x2) - ((M 12 0) + x2) / 6 * 6) M)
def fX0_hand_0 (fl : Nat) (x1 : Int32) (M : MM) : Option (Int32 × MM) := fX0_hand_2 fl fl x1 0 M
def fX0_hand (fl : Nat) (x1 : Int32) (M : MM) : Option (Int32 × MM) := fX0_hand_0 fl x1 M
/-! ReorderCore.work -/
def fX0_work_223 (fl : Nat) (M : MM) : Option (Int32 × MM) := some (0, M)
def fX0_work_95 (fl : Nat) (y0 y1 : Int32) (M : MM) : Option (Int32 × MM) := if inb y0 6 = true then (fX0_work_223 fl (mu M 18 y0.toNatClampNeg y1)) else none
def fX0_work_79 (fl : Nat) (x1 x2 x3 : Int32) (M : MM) : Option (Int32 × MM) := if x3 = 0 then (fX0_work_95 fl x1 0 M) else (if x3 = 0 then none else (fX0_work_95 fl x1 (x2 / x3) M))
def fX0_work_78 (fl : Nat) (x1 x2 x3 y0 y1 : Int32) (M : MM) : Option (Int32 × MM) := if inb y0 6 = true then (fX0_work_79 fl x1 x2 x3 (mu M 20 y0.toNatClampNeg (vp_nar .boolean y1))) else none
def fX0_work_120 (fl : Nat) (x1 x2 : Int32) (M : MM) : Option (Int32 × MM) := if inb (x2 &&& 7) 8 = true then (if inb x1 6 = true then (fX0_work_223 fl (mu M 18 x1.toNatClampNeg (M 5 (x2 &&& 7).toNatClampNeg))) else none) else none
def fX0_work_119 (fl : Nat) (x1 x2 y0 y1 : Int32) (M : MM) : Option (Int32 × MM) := if inb y0 6 = true then (fX0_work_120 fl x1 x2 (mu M 20 y0.toNatClampNeg (vp_nar .boolean y1))) else none
def fX0_work_159 (fl : Nat) (x1 x3 : Int32) (M : MM) : Option (Int32 × MM) := if inb x1 6 = true then (fX0_work_223 fl (mu M 19 x1.toNatClampNeg (x3 &&& 7))) else none
def fX0_work_158 (fl : Nat) (x1 x3 y0 y1 : Int32) (M : MM) : Option (Int32 × MM) := if inb y0 6 = true then (fX0_work_159 fl x1 x3 (mu M 20 y0.toNatClampNeg (vp_nar .boolean y1))) else none
def fX0_work_205 (fl : Nat) (y0 y1 : Int32) (M : MM) : Option (Int32 × MM) := if inb y0 6 = true then (fX0_work_223 fl (mu M 18 y0.toNatClampNeg y1)) else none
def fX0_work_22 (fl : Nat) (x1 x2 x3 x4 : Int32) (M : MM) : Option (Int32 × MM) := if x4 = 1 then (if inb x1 6 = true then (fX0_work_223 fl (mu M 18 x1.toNatClampNeg (x2 + x3))) else none) else (if x4 = 2 then (if inb x1 6 = true then (fX0_work_223 fl (mu M 18 x1.toNatClampNeg (x2 * x3))) else none) else (if x4 = 3 then (if x3 = 0 then (fX0_work_78 fl x1 x2 x3 x1 1 M) else (fX0_work_78 fl x1 x2 x3 x1 0 M)) else (if x4 = 4 then (if 0 ≤ x2 then (fX0_work_119 fl x1 x2 x1 0 M) else (fX0_work_119 fl x1 x2 x1 1 M)) else (if x4 = 5 then (if 0 ≤ x3 then (fX0_work_158 fl x1 x3 x1 0 M) else (fX0_work_158 fl x1 x3 x1 1 M)) else (if x4 = 6 then (if x2 = 0 then (if inb x1 6 = true then (fX0_work_205 fl x1 (M 18 x1.toNatClampNeg) M) else none) else (if inb x1 6 = true then (fX0_work_205 fl x1 ((M 15 x1.toNatClampNeg) + 1) M) else none)) else (if x4 = 9 then (if inb x1 6 = true then (fX0_work_223 fl (mu M 20 x1.toNatClampNeg (vp_nar .boolean 1))) else none) else (fX0_work_223 fl M)))))))
def fX0_work_14 (fl : Nat) (x1 x2 x3 : Int32) (M : MM) : Option (Int32 × MM) := if inb x1 6 = true then (fX0_work_22 fl x1 x2 x3 (M 14 x1.toNatClampNeg) M) else none
def fX0_work_7 (fl : Nat) (x1 x2 : Int32) (M : MM) : Option (Int32 × MM) := if inb x1 6 = true then (fX0_work_14 fl x1 x2 (M 26 x1.toNatClampNeg) M) else none
def fX0_work_0 (fl : Nat) (x1 : Int32) (M : MM) : Option (Int32 × MM) := if inb x1 6 = true then (fX0_work_7 fl x1 (M 25 x1.toNatClampNeg) M) else none
def fX0_work (fl : Nat) (x1 : Int32) (M : MM) : Option (Int32 × MM) := fX0_work_0 fl x1 M
/-! ReorderCore.complete -/
def fX0_complete_84 (fl : Nat) (K : Int32 → Int32 → MM → Option (Int32 × MM)) (x1 x2 : Int32) (M : MM) : Option (Int32 × MM) := K x1 (x2 + 1) M
def fX0_complete_79 (fl : Nat) (K : Int32 → Int32 → MM → Option (Int32 × MM)) (x1 x2 x3 : Int32) (M : MM) : Option (Int32 × MM) := (fX0_hand fl x3 M).bind (fun q => fX0_complete_84 fl K x1 x2 q.2)
def fX0_complete_72 (fl : Nat) (K : Int32 → Int32 → MM → Option (Int32 × MM)) (x1 x2 x3 : Int32) (M : MM) : Option (Int32 × MM) := if inb x3 6 = true then (fX0_complete_79 fl K x1 x2 x3 (mu M 16 x3.toNatClampNeg (vp_nar .byte 2))) else none
def fX0_complete_67 (fl : Nat) (K : Int32 → Int32 → MM → Option (Int32 × MM)) (x1 x2 x3 : Int32) (M : MM) : Option (Int32 × MM) := (fX0_work fl x3 M).bind (fun q => fX0_complete_72 fl K x1 x2 x3 q.2)
def fX0_complete_52 (fl : Nat) (K : Int32 → Int32 → MM → Option (Int32 × MM)) (x1 x2 x3 : Int32) (M : MM) : Option (Int32 × MM) := if inb x3 6 = true then (if M 17 x3.toNatClampNeg = 0 then (if x1 = 0 then (fX0_complete_84 fl K x1 x2 M) else (fX0_complete_67 fl K 0 x2 x3 M)) else (fX0_complete_84 fl K x1 x2 M)) else none
def fX0_complete_22 (fl : Nat) (K : Int32 → Int32 → MM → Option (Int32 × MM)) (x1 x2 x3 : Int32) (M : MM) : Option (Int32 × MM) := if inb x3 6 = true then (if M 16 x3.toNatClampNeg = 1 then (if inb x3 6 = true then (if M 17 x3.toNatClampNeg ≤ 0 then (fX0_complete_52 fl K x1 x2 x3 M) else (if inb x3 6 = true then (if inb x3 6 = true then (fX0_complete_52 fl K x1 x2 x3 (mu M 17 x3.toNatClampNeg (vp_nar .byte (((M 17 x3.toNatClampNeg) - 1).toInt8.toInt32)))) else none) else none)) else none) else (fX0_complete_84 fl K x1 x2 M)) else none
def fX0_complete_4 (fl : Nat) : Nat → Int32 → Int32 → MM → Option (Int32 × MM)
  | 0, _, _, _ => none
  | n + 1, x1, x2, M => if M 13 0 ≤ x2 then (some (0, M)) else (fX0_complete_22 fl (fX0_complete_4 fl n) x1 x2 (((M 12 0) + x2) - ((M 12 0) + x2) / 6 * 6) M)
def fX0_complete_2 (fl : Nat) (x1 : Int32) (M : MM) : Option (Int32 × MM) := fX0_complete_4 fl fl x1 0 M
def fX0_complete_0 (fl : Nat) (M : MM) : Option (Int32 × MM) := fX0_complete_2 fl 1 M
def fX0_complete (fl : Nat) (M : MM) : Option (Int32 × MM) := fX0_complete_0 fl M
/-! ReorderCore.follow -/
def fX0_follow_116 (fl : Nat) (M : MM) : Option (Int32 × MM) := some (0, M)
def fX0_follow_110 (fl : Nat) (x4 : Int32) (M : MM) : Option (Int32 × MM) := fX0_follow_116 fl (mu M 10 0 x4)
def fX0_follow_76 (fl : Nat) (x1 : Int32) (M : MM) : Option (Int32 × MM) := if inb x1 6 = true then (fX0_follow_110 fl (M 21 x1.toNatClampNeg) M) else none
def fX0_follow_75 (fl : Nat) (x1 y0 y1 : Int32) (M : MM) : Option (Int32 × MM) := if inb y0 6 = true then (fX0_follow_76 fl x1 (mu M 21 y0.toNatClampNeg y1)) else none
def fX0_follow_59 (fl : Nat) (x1 x3 x4 x5 : Int32) (M : MM) : Option (Int32 × MM) := if x5 = 0 then (fX0_follow_75 fl x1 x1 x4 M) else (fX0_follow_75 fl x1 x1 x3 M)
def fX0_follow_57 (fl : Nat) (x1 x3 x4 y0 : Int32) (M : MM) : Option (Int32 × MM) := fX0_follow_59 fl x1 x3 x4 y0 M
def fX0_follow_27 (fl : Nat) (x1 x2 x3 x4 : Int32) (M : MM) : Option (Int32 × MM) := if x2 = 6 then (if inb x1 6 = true then (if ((((M 9 0).toUInt32 >>> (((M 15 x1.toNatClampNeg) &&& 15).toUInt32 &&& Int32.toUInt32 31)).toInt32) &&& 1) = 0 then (fX0_follow_57 fl x1 x3 x4 0 M) else (fX0_follow_57 fl x1 x3 x4 1 M)) else none) else (if x2 = 7 then (fX0_follow_110 fl x3 M) else (if x2 = 8 then (fX0_follow_110 fl x4 (mu M 11 0 0)) else (fX0_follow_110 fl x4 M)))
def fX0_follow_20 (fl : Nat) (x1 x2 x3 x4 : Int32) (M : MM) : Option (Int32 × MM) := if inb x1 6 = true then (fX0_follow_27 fl x1 x2 x3 x4 (mu M 18 x1.toNatClampNeg x3)) else none
def fX0_follow_10 (fl : Nat) (x1 x2 x3 x4 : Int32) (M : MM) : Option (Int32 × MM) := if x2 = 0 then (fX0_follow_20 fl x1 x2 x3 x4 M) else (if x2 < 6 then (fX0_follow_27 fl x1 x2 x3 x4 M) else (fX0_follow_20 fl x1 x2 x3 x4 M))
def fX0_follow_0 (fl : Nat) (x1 x2 x3 : Int32) (M : MM) : Option (Int32 × MM) := if inb x1 6 = true then (fX0_follow_10 fl x1 x2 x3 ((M 15 x1.toNatClampNeg) + 1) M) else none
def fX0_follow (fl : Nat) (x1 x2 x3 : Int32) (M : MM) : Option (Int32 × MM) := fX0_follow_0 fl x1 x2 x3 M
/-! ReorderCore.readLeft -/
def fX0_readLeft_70 (fl : Nat) (M : MM) : Option (Int32 × MM) := some (0, M)
def fX0_readLeft_69 (fl : Nat) (y0 y1 : Int32) (M : MM) : Option (Int32 × MM) := if inb y0 6 = true then (fX0_readLeft_70 fl (mu M 25 y0.toNatClampNeg y1)) else none
def fX0_readLeft_45 (fl : Nat) (x1 x2 x3 : Int32) (M : MM) : Option (Int32 × MM) := if 0 ≤ x3 then (if inb x3 6 = true then (fX0_readLeft_69 fl x1 (M 18 x3.toNatClampNeg) M) else none) else (if inb x2 4 = true then (fX0_readLeft_69 fl x1 (M 4 x2.toNatClampNeg) M) else none)
def fX0_readLeft_43 (fl : Nat) (x1 x2 x3 y0 y1 : Int32) (M : MM) : Option (Int32 × MM) := if inb y0 6 = true then (fX0_readLeft_45 fl x1 x2 x3 (mu M 23 y0.toNatClampNeg (vp_nar .byte y1.toInt8.toInt32))) else none
def fX0_readLeft_28 (fl : Nat) (x1 x2 x3 x4 : Int32) (M : MM) : Option (Int32 × MM) := if x4 = 0 then (fX0_readLeft_43 fl x1 x2 x3 x1 (-1) M) else (fX0_readLeft_43 fl x1 x2 x3 x1 x3 M)
def fX0_readLeft_26 (fl : Nat) (x1 x2 x3 y0 : Int32) (M : MM) : Option (Int32 × MM) := fX0_readLeft_28 fl x1 x2 x3 y0 M
def fX0_readLeft_25 (fl : Nat) (x1 x2 x3 : Int32) (M : MM) : Option (Int32 × MM) := fX0_readLeft_26 fl x1 x2 x3 0 M
def fX0_readLeft_7 (fl : Nat) (x1 x2 x3 : Int32) (M : MM) : Option (Int32 × MM) := if x3 < 0 then (fX0_readLeft_25 fl x1 x2 x3 M) else (if inb x3 6 = true then (if M 16 x3.toNatClampNeg = 2 then (fX0_readLeft_25 fl x1 x2 x3 M) else (fX0_readLeft_26 fl x1 x2 x3 1 M)) else none)
def fX0_readLeft_0 (fl : Nat) (x1 x2 : Int32) (M : MM) : Option (Int32 × MM) := if inb x2 4 = true then (fX0_readLeft_7 fl x1 x2 (M 27 x2.toNatClampNeg) M) else none
def fX0_readLeft (fl : Nat) (x1 x2 : Int32) (M : MM) : Option (Int32 × MM) := fX0_readLeft_0 fl x1 x2 M
/-! ReorderCore.readRight -/
def fX0_readRight_70 (fl : Nat) (M : MM) : Option (Int32 × MM) := some (0, M)
def fX0_readRight_69 (fl : Nat) (y0 y1 : Int32) (M : MM) : Option (Int32 × MM) := if inb y0 6 = true then (fX0_readRight_70 fl (mu M 26 y0.toNatClampNeg y1)) else none
def fX0_readRight_45 (fl : Nat) (x1 x2 x3 : Int32) (M : MM) : Option (Int32 × MM) := if 0 ≤ x3 then (if inb x3 6 = true then (fX0_readRight_69 fl x1 (M 18 x3.toNatClampNeg) M) else none) else (if inb x2 4 = true then (fX0_readRight_69 fl x1 (M 4 x2.toNatClampNeg) M) else none)
def fX0_readRight_43 (fl : Nat) (x1 x2 x3 y0 y1 : Int32) (M : MM) : Option (Int32 × MM) := if inb y0 6 = true then (fX0_readRight_45 fl x1 x2 x3 (mu M 24 y0.toNatClampNeg (vp_nar .byte y1.toInt8.toInt32))) else none
def fX0_readRight_28 (fl : Nat) (x1 x2 x3 x4 : Int32) (M : MM) : Option (Int32 × MM) := if x4 = 0 then (fX0_readRight_43 fl x1 x2 x3 x1 (-1) M) else (fX0_readRight_43 fl x1 x2 x3 x1 x3 M)
def fX0_readRight_26 (fl : Nat) (x1 x2 x3 y0 : Int32) (M : MM) : Option (Int32 × MM) := fX0_readRight_28 fl x1 x2 x3 y0 M
def fX0_readRight_25 (fl : Nat) (x1 x2 x3 : Int32) (M : MM) : Option (Int32 × MM) := fX0_readRight_26 fl x1 x2 x3 0 M
def fX0_readRight_7 (fl : Nat) (x1 x2 x3 : Int32) (M : MM) : Option (Int32 × MM) := if x3 < 0 then (fX0_readRight_25 fl x1 x2 x3 M) else (if inb x3 6 = true then (if M 16 x3.toNatClampNeg = 2 then (fX0_readRight_25 fl x1 x2 x3 M) else (fX0_readRight_26 fl x1 x2 x3 1 M)) else none)
def fX0_readRight_0 (fl : Nat) (x1 x2 : Int32) (M : MM) : Option (Int32 × MM) := if inb x2 4 = true then (fX0_readRight_7 fl x1 x2 (M 27 x2.toNatClampNeg) M) else none
def fX0_readRight (fl : Nat) (x1 x2 : Int32) (M : MM) : Option (Int32 × MM) := fX0_readRight_0 fl x1 x2 M
/-! ReorderCore.readOperands -/
def fX0_readOperands_107 (fl : Nat) (M : MM) : Option (Int32 × MM) := some (0, M)
def fX0_readOperands_98 (fl : Nat) (x1 x4 : Int32) (M : MM) : Option (Int32 × MM) := if inb x4 4 = true then (fX0_readOperands_107 fl (mu M 27 x4.toNatClampNeg (vp_nar .byte x1.toInt8.toInt32))) else none
def fX0_readOperands_84 (fl : Nat) (x1 x2 x4 : Int32) (M : MM) : Option (Int32 × MM) := if 4 < x2 then (fX0_readOperands_107 fl M) else (if inb x1 6 = true then (fX0_readOperands_98 fl x1 x4 (mu M 22 x1.toNatClampNeg (vp_nar .byte x4.toInt8.toInt32))) else none)
def fX0_readOperands_34 (fl : Nat) (x1 x2 x4 x6 : Int32) (M : MM) : Option (Int32 × MM) := if x2 = 4 then (fX0_readOperands_84 fl x1 x2 x4 M) else ((fX0_readRight fl x1 x6 M).bind (fun q => fX0_readOperands_84 fl x1 x2 x4 q.2))
def fX0_readOperands_61 (fl : Nat) (x1 x2 x4 x5 : Int32) (M : MM) : Option (Int32 × MM) := (fX0_readRight fl x1 x5 M).bind (fun q => fX0_readOperands_84 fl x1 x2 x4 q.2)
def fX0_readOperands_49 (fl : Nat) (x1 x2 x4 x5 : Int32) (M : MM) : Option (Int32 × MM) := if x2 = 5 then ((fX0_readLeft fl x1 x4 M).bind (fun q => fX0_readOperands_61 fl x1 x2 x4 x5 q.2)) else (if x2 = 6 then ((fX0_readLeft fl x1 x4 M).bind (fun q => fX0_readOperands_84 fl x1 x2 x4 q.2)) else (fX0_readOperands_84 fl x1 x2 x4 M))
def fX0_readOperands_17 (fl : Nat) (x1 x2 x4 x5 x6 : Int32) (M : MM) : Option (Int32 × MM) := if x2 < 1 then (fX0_readOperands_49 fl x1 x2 x4 x5 M) else (if 4 < x2 then (fX0_readOperands_49 fl x1 x2 x4 x5 M) else ((fX0_readLeft fl x1 x5 M).bind (fun q => fX0_readOperands_34 fl x1 x2 x4 x6 q.2)))
def fX0_readOperands_12 (fl : Nat) (x1 x2 x3 x4 x5 : Int32) (M : MM) : Option (Int32 × MM) := fX0_readOperands_17 fl x1 x2 x4 x5 (x3 >>> (4 &&& 31)) M
def fX0_readOperands_5 (fl : Nat) (x1 x2 x3 x4 : Int32) (M : MM) : Option (Int32 × MM) := fX0_readOperands_12 fl x1 x2 x3 x4 ((x3 >>> (2 &&& 31)) &&& 3) M
def fX0_readOperands_0 (fl : Nat) (x1 x2 x3 : Int32) (M : MM) : Option (Int32 × MM) := fX0_readOperands_5 fl x1 x2 x3 (x3 &&& 3) M
def fX0_readOperands (fl : Nat) (x1 x2 x3 : Int32) (M : MM) : Option (Int32 × MM) := fX0_readOperands_0 fl x1 x2 x3 M
/-! ReorderCore.issue -/
def fX0_issue_16 (fl : Nat) (M : MM) : Option (Int32 × MM) := some (0, M)
def fX0_issue_171 (fl : Nat) (M : MM) : Option (Int32 × MM) := some (0, M)
def fX0_issue_148 (fl : Nat) (x1 x3 : Int32) (M : MM) : Option (Int32 × MM) := if inb (M 10 0) 16 = true then ((fX0_follow fl x1 x3 (M 2 (M 10 0).toNatClampNeg) M).bind (fun q => fX0_issue_171 fl q.2)) else none
def fX0_issue_129 (fl : Nat) (x1 x2 x3 : Int32) (M : MM) : Option (Int32 × MM) := if x2 = 0 then (fX0_issue_171 fl (mu M 11 0 0)) else (if inb (M 10 0) 16 = true then ((fX0_readOperands fl x1 x3 (M 1 (M 10 0).toNatClampNeg) M).bind (fun q => fX0_issue_148 fl x1 x3 q.2)) else none)
def fX0_issue_119 (fl : Nat) (x1 x2 x3 : Int32) (M : MM) : Option (Int32 × MM) := fX0_issue_129 fl x1 x2 x3 (mu M 13 0 ((M 13 0) + 1))
def fX0_issue_112 (fl : Nat) (x1 x2 x3 : Int32) (M : MM) : Option (Int32 × MM) := if inb x1 6 = true then (fX0_issue_119 fl x1 x2 x3 (mu M 24 x1.toNatClampNeg (vp_nar .byte (-1)))) else none
def fX0_issue_105 (fl : Nat) (x1 x2 x3 : Int32) (M : MM) : Option (Int32 × MM) := if inb x1 6 = true then (fX0_issue_112 fl x1 x2 x3 (mu M 23 x1.toNatClampNeg (vp_nar .byte (-1)))) else none
def fX0_issue_98 (fl : Nat) (x1 x2 x3 : Int32) (M : MM) : Option (Int32 × MM) := if inb x1 6 = true then (fX0_issue_105 fl x1 x2 x3 (mu M 20 x1.toNatClampNeg (vp_nar .boolean 0))) else none
def fX0_issue_91 (fl : Nat) (x1 x2 x3 : Int32) (M : MM) : Option (Int32 × MM) := if inb x1 6 = true then (fX0_issue_98 fl x1 x2 x3 (mu M 16 x1.toNatClampNeg (vp_nar .byte 0))) else none
def fX0_issue_81 (fl : Nat) (x1 x2 x3 : Int32) (M : MM) : Option (Int32 × MM) := if inb x1 6 = true then (fX0_issue_91 fl x1 x2 x3 (mu M 15 x1.toNatClampNeg (M 10 0))) else none
def fX0_issue_73 (fl : Nat) (x1 x2 x3 : Int32) (M : MM) : Option (Int32 × MM) := if inb x1 6 = true then (fX0_issue_81 fl x1 x2 x3 (mu M 14 x1.toNatClampNeg (vp_nar .byte x3.toInt8.toInt32))) else none
def fX0_issue_72 (fl : Nat) (x1 x2 y0 : Int32) (M : MM) : Option (Int32 × MM) := fX0_issue_73 fl x1 x2 y0 M
def fX0_issue_54 (fl : Nat) (x1 x2 : Int32) (M : MM) : Option (Int32 × MM) := if x2 = 0 then (fX0_issue_72 fl x1 x2 9 M) else (if inb (M 10 0) 16 = true then (fX0_issue_72 fl x1 x2 (M 0 (M 10 0).toNatClampNeg) M) else none)
def fX0_issue_53 (fl : Nat) (x1 y0 : Int32) (M : MM) : Option (Int32 × MM) := fX0_issue_54 fl x1 y0 M
def fX0_issue_52 (fl : Nat) (x1 : Int32) (M : MM) : Option (Int32 × MM) := fX0_issue_53 fl x1 0 M
def fX0_issue_30 (fl : Nat) (x1 : Int32) (M : MM) : Option (Int32 × MM) := if M 10 0 < 0 then (fX0_issue_52 fl x1 M) else (if M 3 0 ≤ M 10 0 then (fX0_issue_52 fl x1 M) else (fX0_issue_53 fl x1 1 M))
def fX0_issue_0 (fl : Nat) (M : MM) : Option (Int32 × MM) := if 6 ≤ M 13 0 then (fX0_issue_16 fl M) else (if M 11 0 = 0 then (fX0_issue_16 fl M) else (fX0_issue_30 fl (((M 12 0) + (M 13 0)) - ((M 12 0) + (M 13 0)) / 6 * 6) M))
def fX0_issue (fl : Nat) (M : MM) : Option (Int32 × MM) := fX0_issue_0 fl M
/-! ReorderCore.retire -/
def fX0_retire_20 (fl : Nat) (M : MM) : Option (Int32 × MM) := some (0, M)
def fX0_retire_41 (fl : Nat) (M : MM) : Option (Int32 × MM) := some (0, M)
def fX0_retire_168 (fl : Nat) (M : MM) : Option (Int32 × MM) := some (1, M)
def fX0_retire_226 (fl : Nat) (M : MM) : Option (Int32 × MM) := some (1, M)
def fX0_retire_197 (fl : Nat) (x1 x2 : Int32) (M : MM) : Option (Int32 × MM) := if x2 = 6 then (if inb x1 6 = true then (if inb x1 6 = true then (if M 18 x1.toNatClampNeg = M 21 x1.toNatClampNeg then (fX0_retire_226 fl M) else ((fX0_refetch fl (M 6 0) M).bind (fun q => fX0_retire_226 fl q.2))) else none) else none) else (fX0_retire_226 fl M)
def fX0_retire_194 (fl : Nat) (x1 x2 y0 : Int32) (M : MM) : Option (Int32 × MM) := fX0_retire_197 fl x1 x2 (mu M 6 0 y0)
def fX0_retire_157 (fl : Nat) (x1 x2 : Int32) (M : MM) : Option (Int32 × MM) := if x2 = 8 then (fX0_retire_168 fl (mu M 7 0 2)) else (if x2 < 6 then (if inb x1 6 = true then (fX0_retire_194 fl x1 x2 ((M 15 x1.toNatClampNeg) + 1) M) else none) else (if inb x1 6 = true then (fX0_retire_194 fl x1 x2 (M 18 x1.toNatClampNeg) M) else none))
def fX0_retire_105 (fl : Nat) (x1 x2 : Int32) (M : MM) : Option (Int32 × MM) := if inb x1 6 = true then (if inb (M 22 x1.toNatClampNeg) 4 = true then (if M 27 (M 22 x1.toNatClampNeg).toNatClampNeg = x1 then (if inb x1 6 = true then (if inb (M 22 x1.toNatClampNeg) 4 = true then (fX0_retire_157 fl x1 x2 (mu M 27 (M 22 x1.toNatClampNeg).toNatClampNeg (vp_nar .byte (-1)))) else none) else none) else (fX0_retire_157 fl x1 x2 M)) else none) else none
def fX0_retire_83 (fl : Nat) (x1 x2 : Int32) (M : MM) : Option (Int32 × MM) := if 4 < x2 then (if x2 = 5 then (if inb x1 6 = true then (if inb x1 6 = true then (if inb (M 19 x1.toNatClampNeg) 8 = true then (fX0_retire_157 fl x1 x2 (mu M 5 (M 19 x1.toNatClampNeg).toNatClampNeg (M 25 x1.toNatClampNeg))) else none) else none) else none) else (fX0_retire_157 fl x1 x2 M)) else (if inb x1 6 = true then (if inb x1 6 = true then (if inb (M 22 x1.toNatClampNeg) 4 = true then (fX0_retire_105 fl x1 x2 (mu M 4 (M 22 x1.toNatClampNeg).toNatClampNeg (M 18 x1.toNatClampNeg))) else none) else none) else none)
def fX0_retire_73 (fl : Nat) (x1 x2 : Int32) (M : MM) : Option (Int32 × MM) := fX0_retire_83 fl x1 x2 (mu M 13 0 ((M 13 0) - 1))
def fX0_retire_60 (fl : Nat) (x1 x2 : Int32) (M : MM) : Option (Int32 × MM) := fX0_retire_73 fl x1 x2 (mu M 12 0 (((M 12 0) + 1) - ((M 12 0) + 1) / 6 * 6))
def fX0_retire_50 (fl : Nat) (x1 x2 : Int32) (M : MM) : Option (Int32 × MM) := fX0_retire_60 fl x1 x2 (mu M 8 0 ((M 8 0) + 1))
def fX0_retire_27 (fl : Nat) (x1 : Int32) (M : MM) : Option (Int32 × MM) := if inb x1 6 = true then (if M 20 x1.toNatClampNeg = 0 then (if inb x1 6 = true then (fX0_retire_50 fl x1 (M 14 x1.toNatClampNeg) M) else none) else (fX0_retire_41 fl (mu M 7 0 3))) else none
def fX0_retire_0 (fl : Nat) (M : MM) : Option (Int32 × MM) := if M 13 0 = 0 then (fX0_retire_20 fl M) else (if inb (M 12 0) 6 = true then (if M 16 (M 12 0).toNatClampNeg = 2 then (fX0_retire_27 fl (M 12 0) M) else (fX0_retire_20 fl M)) else none)
def fX0_retire (fl : Nat) (M : MM) : Option (Int32 × MM) := fX0_retire_0 fl M
/-! ReorderCore.finish -/
def fX0_finish_81 (fl : Nat) (K : Int32 → Int32 → Int32 → MM → Option (Int32 × MM)) (x2 x3 x4 : Int32) (M : MM) : Option (Int32 × MM) := K x2 x3 (x4 + 1) M
def fX0_finish_77 (fl : Nat) (K : Int32 → Int32 → Int32 → MM → Option (Int32 × MM)) (x2 x3 x4 : Int32) (M : MM) : Option (Int32 × MM) := (fX0_issue fl M).bind (fun q => fX0_finish_81 fl K x2 x3 x4 q.2)
def fX0_finish_73 (fl : Nat) (K : Int32 → Int32 → Int32 → MM → Option (Int32 × MM)) (x2 x3 x4 : Int32) (M : MM) : Option (Int32 × MM) := (fX0_begin fl M).bind (fun q => fX0_finish_77 fl K x2 x3 x4 q.2)
def fX0_finish_56 (fl : Nat) (K : Int32 → Int32 → Int32 → MM → Option (Int32 × MM)) (x2 x3 x4 : Int32) (M : MM) : Option (Int32 × MM) := if x2 ≤ x3 then (fX0_finish_81 fl K x2 x3 x4 M) else (if M 7 0 = 1 then ((fX0_complete fl M).bind (fun q => fX0_finish_73 fl K x2 x3 x4 q.2)) else (fX0_finish_81 fl K x2 x3 x4 M))
def fX0_finish_54 (fl : Nat) (K : Int32 → Int32 → Int32 → MM → Option (Int32 × MM)) (x2 x4 y0 y1 : Int32) (M : MM) : Option (Int32 × MM) := fX0_finish_56 fl K x2 (y0 + y1) x4 M
def fX0_finish_87 (fl : Nat) (x3 : Int32) (M : MM) : Option (Int32 × MM) := some (x3, M)
def fX0_finish_28 (fl : Nat) : Nat → Int32 → Int32 → Int32 → MM → Option (Int32 × MM)
  | 0, _, _, _, _ => none
  | n + 1, x2, x3, x4, M => if 3216 ≤ x4 then (fX0_finish_87 fl x3 M) else (if x2 ≤ x3 then (fX0_finish_87 fl x3 M) else (if M 7 0 = 1 then ((fX0_retire fl M).bind (fun q => fX0_finish_54 fl (fX0_finish_28 fl n) x2 x4 x3 q.1 q.2)) else (fX0_finish_87 fl x3 M)))
def fX0_finish_25 (fl : Nat) (x2 x3 : Int32) (M : MM) : Option (Int32 × MM) := fX0_finish_28 fl fl x2 x3 0 M
def fX0_finish_23 (fl : Nat) (x2 : Int32) (M : MM) : Option (Int32 × MM) := fX0_finish_25 fl x2 0 M
def fX0_finish_22 (fl : Nat) (y0 : Int32) (M : MM) : Option (Int32 × MM) := fX0_finish_23 fl y0 M
def fX0_finish_0 (fl : Nat) (x1 : Int32) (M : MM) : Option (Int32 × MM) := if 0 ≤ x1 then (if x1 ≤ 200 then (fX0_finish_22 fl x1 M) else (fX0_finish_22 fl 200 M)) else (fX0_finish_22 fl 0 M)
def fX0_finish (fl : Nat) (x1 : Int32) (M : MM) : Option (Int32 × MM) := fX0_finish_0 fl x1 M
/-! ReorderCore.status -/
def fX0_status_0 (fl : Nat) (M : MM) : Option (Int32 × MM) := some (M 7 0, M)
def fX0_status (fl : Nat) (M : MM) : Option (Int32 × MM) := fX0_status_0 fl M
/-! ReorderCore.position -/
def fX0_position_0 (fl : Nat) (M : MM) : Option (Int32 × MM) := some (M 6 0, M)
def fX0_position (fl : Nat) (M : MM) : Option (Int32 × MM) := fX0_position_0 fl M
/-! ReorderCore.finished -/
def fX0_finished_0 (fl : Nat) (M : MM) : Option (Int32 × MM) := some (M 8 0, M)
def fX0_finished (fl : Nat) (M : MM) : Option (Int32 × MM) := fX0_finished_0 fl M
/-! ReorderCore.register -/
def fX0_register_19 (fl : Nat) (y0 : Int32) (M : MM) : Option (Int32 × MM) := some (y0, M)
def fX0_register_9 (fl : Nat) (M : MM) : Option (Int32 × MM) := fX0_register_19 fl 0 M
def fX0_register_0 (fl : Nat) (x1 : Int32) (M : MM) : Option (Int32 × MM) := if x1 < 0 then (fX0_register_9 fl M) else (if x1 ≤ 3 then (if inb x1 4 = true then (fX0_register_19 fl (M 4 x1.toNatClampNeg) M) else none) else (fX0_register_9 fl M))
def fX0_register (fl : Nat) (x1 : Int32) (M : MM) : Option (Int32 × MM) := fX0_register_0 fl x1 M
/-! ReorderCore.memory -/
def fX0_memory_20 (fl : Nat) (y0 : Int32) (M : MM) : Option (Int32 × MM) := some (y0, M)
def fX0_memory_10 (fl : Nat) (M : MM) : Option (Int32 × MM) := fX0_memory_20 fl 0 M
def fX0_memory_0 (fl : Nat) (x1 : Int32) (M : MM) : Option (Int32 × MM) := if x1 < 0 then (fX0_memory_10 fl M) else (if x1 ≤ 7 then (if inb x1 8 = true then (fX0_memory_20 fl (M 5 x1.toNatClampNeg) M) else none) else (fX0_memory_10 fl M))
def fX0_memory (fl : Nat) (x1 : Int32) (M : MM) : Option (Int32 × MM) := fX0_memory_0 fl x1 M
/-! ReorderCore.digest -/
def fX0_digest_22 (fl : Nat) (K : Int32 → Int32 → MM → Option (Int32 × MM)) (x1 x2 : Int32) (M : MM) : Option (Int32 × MM) := K x1 (x2 + 1) M
def fX0_digest_49 (fl : Nat) (K : Int32 → Int32 → MM → Option (Int32 × MM)) (x1 x2 : Int32) (M : MM) : Option (Int32 × MM) := K x1 (x2 + 1) M
def fX0_digest_30 (fl : Nat) : Nat → Int32 → Int32 → MM → Option (Int32 × MM)
  | 0, _, _, _ => none
  | n + 1, x1, x2, M => if 8 ≤ x2 then (some (x1, M)) else (if inb x2 8 = true then (fX0_digest_49 fl (fX0_digest_30 fl n) (x1 + ((x2 + 5) * (M 5 x2.toNatClampNeg))) x2 M) else none)
def fX0_digest_4 (fl : Nat) : Nat → Int32 → Int32 → MM → Option (Int32 × MM)
  | 0, _, _, _ => none
  | n + 1, x1, x2, M => if 4 ≤ x2 then (fX0_digest_30 fl fl x1 0 M) else (if inb x2 4 = true then (fX0_digest_22 fl (fX0_digest_4 fl n) (x1 + ((x2 + 1) * (M 4 x2.toNatClampNeg))) x2 M) else none)
def fX0_digest_2 (fl : Nat) (x1 : Int32) (M : MM) : Option (Int32 × MM) := fX0_digest_4 fl fl x1 0 M
def fX0_digest_0 (fl : Nat) (M : MM) : Option (Int32 × MM) := fX0_digest_2 fl 0 M
def fX0_digest (fl : Nat) (M : MM) : Option (Int32 × MM) := fX0_digest_0 fl M
/-! ReorderCoreModel.idle -/
def fX1_idle_15 (fl : Nat) (M : MM) : Option (Int32 × MM) := some (0, M)
def fX1_idle_10 (fl : Nat) (M : MM) : Option (Int32 × MM) := fX1_idle_15 fl (mu M 8 0 0)
def fX1_idle_5 (fl : Nat) (M : MM) : Option (Int32 × MM) := fX1_idle_10 fl (mu M 7 0 0)
def fX1_idle_0 (fl : Nat) (M : MM) : Option (Int32 × MM) := fX1_idle_5 fl (mu M 6 0 0)
def fX1_idle (fl : Nat) (M : MM) : Option (Int32 × MM) := fX1_idle_0 fl M
/-! ReorderCoreModel.emit -/
def fX1_emit_20 (fl : Nat) (M : MM) : Option (Int32 × MM) := some ((-1), M)
def fX1_emit_78 (fl : Nat) (M : MM) : Option (Int32 × MM) := some (((M 0 0) - 1), M)
def fX1_emit_74 (fl : Nat) (M : MM) : Option (Int32 × MM) := (fX1_idle fl M).bind (fun q => fX1_emit_78 fl q.2)
def fX1_emit_64 (fl : Nat) (M : MM) : Option (Int32 × MM) := fX1_emit_74 fl (mu M 0 0 ((M 0 0) + 1))
def fX1_emit_54 (fl : Nat) (x3 : Int32) (M : MM) : Option (Int32 × MM) := if inb (M 0 0) 16 = true then (fX1_emit_64 fl (mu M 3 (M 0 0).toNatClampNeg x3)) else none
def fX1_emit_44 (fl : Nat) (x2 x3 : Int32) (M : MM) : Option (Int32 × MM) := if inb (M 0 0) 16 = true then (fX1_emit_54 fl x3 (mu M 2 (M 0 0).toNatClampNeg x2)) else none
def fX1_emit_0 (fl : Nat) (x1 x2 x3 : Int32) (M : MM) : Option (Int32 × MM) := if x1 < 0 then (fX1_emit_20 fl M) else (if 8 < x1 then (fX1_emit_20 fl M) else (if x2 < 0 then (fX1_emit_20 fl M) else (if x2 ≤ 63 then (if M 0 0 < 16 then (if inb (M 0 0) 16 = true then (fX1_emit_44 fl x2 x3 (mu M 1 (M 0 0).toNatClampNeg x1)) else none) else (some ((-2), M))) else (fX1_emit_20 fl M))))
def fX1_emit (fl : Nat) (x1 x2 x3 : Int32) (M : MM) : Option (Int32 × MM) := fX1_emit_0 fl x1 x2 x3 M
/-! ReorderCoreModel.clear -/
def fX1_clear_9 (fl : Nat) (M : MM) : Option (Int32 × MM) := some (0, M)
def fX1_clear_5 (fl : Nat) (M : MM) : Option (Int32 × MM) := (fX1_idle fl M).bind (fun q => fX1_clear_9 fl q.2)
def fX1_clear_0 (fl : Nat) (M : MM) : Option (Int32 × MM) := fX1_clear_5 fl (mu M 0 0 0)
def fX1_clear (fl : Nat) (M : MM) : Option (Int32 × MM) := fX1_clear_0 fl M
/-! ReorderCoreModel.length -/
def fX1_length_0 (fl : Nat) (M : MM) : Option (Int32 × MM) := some (M 0 0, M)
def fX1_length (fl : Nat) (M : MM) : Option (Int32 × MM) := fX1_length_0 fl M
/-! ReorderCoreModel.set -/
def fX1_set_29 (fl : Nat) (M : MM) : Option (Int32 × MM) := some (0, M)
def fX1_set_56 (fl : Nat) (M : MM) : Option (Int32 × MM) := some (1, M)
def fX1_set_31 (fl : Nat) (x1 x2 : Int32) (M : MM) : Option (Int32 × MM) := if 3 < x1 then (if inb (x1 - 8) 8 = true then (fX1_set_56 fl (mu M 5 (x1 - 8).toNatClampNeg x2)) else none) else (if inb x1 4 = true then (fX1_set_56 fl (mu M 4 x1.toNatClampNeg x2)) else none)
def fX1_set_0 (fl : Nat) (x1 x2 : Int32) (M : MM) : Option (Int32 × MM) := if M 6 0 = 1 then (fX1_set_29 fl M) else (if x1 < 0 then (fX1_set_29 fl M) else (if 15 < x1 then (fX1_set_29 fl M) else (if x1 ≤ 3 then (fX1_set_31 fl x1 x2 M) else (if 8 ≤ x1 then (fX1_set_31 fl x1 x2 M) else (fX1_set_29 fl M)))))
def fX1_set (fl : Nat) (x1 x2 : Int32) (M : MM) : Option (Int32 × MM) := fX1_set_0 fl x1 x2 M
/-! ReorderCoreModel.start -/
def fX1_start_15 (fl : Nat) (M : MM) : Option (Int32 × MM) := some (0, M)
def fX1_start_10 (fl : Nat) (M : MM) : Option (Int32 × MM) := fX1_start_15 fl (mu M 8 0 0)
def fX1_start_5 (fl : Nat) (M : MM) : Option (Int32 × MM) := fX1_start_10 fl (mu M 7 0 0)
def fX1_start_0 (fl : Nat) (x1 : Int32) (M : MM) : Option (Int32 × MM) := fX1_start_5 fl (mu M 6 0 1)
def fX1_start (fl : Nat) (x1 : Int32) (M : MM) : Option (Int32 × MM) := fX1_start_0 fl x1 M
/-! ReorderCoreModel.step -/
def fX1_step_18 (fl : Nat) (M : MM) : Option (Int32 × MM) := some (0, M)
def fX1_step_111 (fl : Nat) (M : MM) : Option (Int32 × MM) := some (0, M)
def fX1_step_359 (fl : Nat) (M : MM) : Option (Int32 × MM) := some (1, M)
def fX1_step_353 (fl : Nat) (x5 : Int32) (M : MM) : Option (Int32 × MM) := fX1_step_359 fl (mu M 7 0 x5)
def fX1_step_228 (fl : Nat) (x5 y0 y1 : Int32) (M : MM) : Option (Int32 × MM) := if inb y0 4 = true then (fX1_step_353 fl x5 (mu M 4 y0.toNatClampNeg y1)) else none
def fX1_step_205 (fl : Nat) (x2 x3 x5 x6 : Int32) (M : MM) : Option (Int32 × MM) := if x6 = 0 then (fX1_step_228 fl x5 x2 0 M) else (if inb x3 4 = true then (if x6 = 0 then none else (fX1_step_228 fl x5 x2 ((M 4 x3.toNatClampNeg) / x6) M)) else none)
def fX1_step_317 (fl : Nat) (y0 : Int32) (M : MM) : Option (Int32 × MM) := fX1_step_353 fl y0 M
def fX1_step_347 (fl : Nat) (M : MM) : Option (Int32 × MM) := fX1_step_353 fl (M 7 0) M
def fX1_step_113 (fl : Nat) (x1 x2 x3 x4 x5 : Int32) (M : MM) : Option (Int32 × MM) := if x1 = 0 then (if inb (M 7 0) 16 = true then (if inb x2 4 = true then (fX1_step_353 fl x5 (mu M 4 x2.toNatClampNeg (M 3 (M 7 0).toNatClampNeg))) else none) else none) else (if x1 = 1 then (if inb x3 4 = true then (if inb x4 4 = true then (if inb x2 4 = true then (fX1_step_353 fl x5 (mu M 4 x2.toNatClampNeg ((M 4 x3.toNatClampNeg) + (M 4 x4.toNatClampNeg)))) else none) else none) else none) else (if x1 = 2 then (if inb x3 4 = true then (if inb x4 4 = true then (if inb x2 4 = true then (fX1_step_353 fl x5 (mu M 4 x2.toNatClampNeg ((M 4 x3.toNatClampNeg) * (M 4 x4.toNatClampNeg)))) else none) else none) else none) else (if x1 = 3 then (if inb x4 4 = true then (fX1_step_205 fl x2 x3 x5 (M 4 x4.toNatClampNeg) M) else none) else (if x1 = 4 then (if inb x3 4 = true then (if inb ((M 4 x3.toNatClampNeg) &&& 7) 8 = true then (if inb x2 4 = true then (fX1_step_353 fl x5 (mu M 4 x2.toNatClampNeg (M 5 ((M 4 x3.toNatClampNeg) &&& 7).toNatClampNeg))) else none) else none) else none) else (if x1 = 5 then (if inb x3 4 = true then (if inb x2 4 = true then (if inb ((M 4 x3.toNatClampNeg) &&& 7) 8 = true then (fX1_step_353 fl x5 (mu M 5 ((M 4 x3.toNatClampNeg) &&& 7).toNatClampNeg (M 4 x2.toNatClampNeg))) else none) else none) else none) else (if x1 = 6 then (if inb x2 4 = true then (if M 4 x2.toNatClampNeg = 0 then (if inb (M 7 0) 16 = true then (fX1_step_317 fl (M 3 (M 7 0).toNatClampNeg) M) else none) else (fX1_step_317 fl x5 M)) else none) else (if x1 = 7 then (if inb (M 7 0) 16 = true then (fX1_step_353 fl (M 3 (M 7 0).toNatClampNeg) M) else none) else (fX1_step_347 fl (mu M 6 0 2)))))))))
def fX1_step_96 (fl : Nat) (x1 x2 x3 x4 x5 : Int32) (M : MM) : Option (Int32 × MM) := if x1 = 3 then (if inb x4 4 = true then (if M 4 x4.toNatClampNeg = 0 then (fX1_step_111 fl M) else (fX1_step_113 fl x1 x2 x3 x4 x5 M)) else none) else (fX1_step_113 fl x1 x2 x3 x4 x5 M)
def fX1_step_87 (fl : Nat) (x1 x2 x3 x4 x5 : Int32) (M : MM) : Option (Int32 × MM) := if inb x3 4 = true then (if M 4 x3.toNatClampNeg < 0 then (fX1_step_111 fl M) else (fX1_step_96 fl x1 x2 x3 x4 x5 M)) else none
def fX1_step_77 (fl : Nat) (x1 x2 x3 x4 x5 : Int32) (M : MM) : Option (Int32 × MM) := if x1 = 4 then (fX1_step_87 fl x1 x2 x3 x4 x5 M) else (if x1 = 5 then (fX1_step_87 fl x1 x2 x3 x4 x5 M) else (fX1_step_96 fl x1 x2 x3 x4 x5 M))
def fX1_step_69 (fl : Nat) (x1 x2 x3 x4 : Int32) (M : MM) : Option (Int32 × MM) := fX1_step_77 fl x1 x2 x3 x4 ((M 7 0) + 1) M
def fX1_step_56 (fl : Nat) (x1 x2 x3 : Int32) (M : MM) : Option (Int32 × MM) := if inb (M 7 0) 16 = true then (fX1_step_69 fl x1 x2 x3 ((M 2 (M 7 0).toNatClampNeg) >>> (4 &&& 31)) M) else none
def fX1_step_42 (fl : Nat) (x1 x2 : Int32) (M : MM) : Option (Int32 × MM) := if inb (M 7 0) 16 = true then (fX1_step_56 fl x1 x2 (((M 2 (M 7 0).toNatClampNeg) >>> (2 &&& 31)) &&& 3) M) else none
def fX1_step_30 (fl : Nat) (x1 : Int32) (M : MM) : Option (Int32 × MM) := if inb (M 7 0) 16 = true then (fX1_step_42 fl x1 ((M 2 (M 7 0).toNatClampNeg) &&& 3) M) else none
def fX1_step_0 (fl : Nat) (M : MM) : Option (Int32 × MM) := if M 7 0 < 0 then (fX1_step_18 fl M) else (if M 7 0 < M 0 0 then (if inb (M 7 0) 16 = true then (fX1_step_30 fl (M 1 (M 7 0).toNatClampNeg) M) else none) else (fX1_step_18 fl M))
def fX1_step (fl : Nat) (M : MM) : Option (Int32 × MM) := fX1_step_0 fl M
/-! ReorderCoreModel.finish -/
def fX1_finish_34 (fl : Nat) (K : Int32 → Int32 → MM → Option (Int32 × MM)) (x2 x3 y0 : Int32) (M : MM) : Option (Int32 × MM) := if y0 = 0 then (K x2 x3 (mu M 6 0 3)) else (K x2 (x3 + 1) M)
def fX1_finish_61 (fl : Nat) (x3 : Int32) (M : MM) : Option (Int32 × MM) := some (x3, M)
def fX1_finish_51 (fl : Nat) (x3 : Int32) (M : MM) : Option (Int32 × MM) := fX1_finish_61 fl x3 (mu M 8 0 ((M 8 0) + x3))
def fX1_finish_17 (fl : Nat) : Nat → Int32 → Int32 → MM → Option (Int32 × MM)
  | 0, _, _, _ => none
  | n + 1, x2, x3, M => if x2 ≤ x3 then (fX1_finish_51 fl x3 M) else (if M 6 0 = 1 then ((fX1_step fl M).bind (fun q => fX1_finish_34 fl (fX1_finish_17 fl n) x2 x3 q.1 q.2)) else (fX1_finish_51 fl x3 M))
def fX1_finish_15 (fl : Nat) (x2 : Int32) (M : MM) : Option (Int32 × MM) := fX1_finish_17 fl fl x2 0 M
def fX1_finish_14 (fl : Nat) (y0 : Int32) (M : MM) : Option (Int32 × MM) := fX1_finish_15 fl y0 M
def fX1_finish_0 (fl : Nat) (x1 : Int32) (M : MM) : Option (Int32 × MM) := if x1 ≤ 200 then (fX1_finish_14 fl x1 M) else (fX1_finish_14 fl 200 M)
def fX1_finish (fl : Nat) (x1 : Int32) (M : MM) : Option (Int32 × MM) := fX1_finish_0 fl x1 M
/-! ReorderCoreModel.status -/
def fX1_status_0 (fl : Nat) (M : MM) : Option (Int32 × MM) := some (M 6 0, M)
def fX1_status (fl : Nat) (M : MM) : Option (Int32 × MM) := fX1_status_0 fl M
/-! ReorderCoreModel.position -/
def fX1_position_0 (fl : Nat) (M : MM) : Option (Int32 × MM) := some (M 7 0, M)
def fX1_position (fl : Nat) (M : MM) : Option (Int32 × MM) := fX1_position_0 fl M
/-! ReorderCoreModel.finished -/
def fX1_finished_0 (fl : Nat) (M : MM) : Option (Int32 × MM) := some (M 8 0, M)
def fX1_finished (fl : Nat) (M : MM) : Option (Int32 × MM) := fX1_finished_0 fl M
/-! ReorderCoreModel.register -/
def fX1_register_19 (fl : Nat) (y0 : Int32) (M : MM) : Option (Int32 × MM) := some (y0, M)
def fX1_register_18 (fl : Nat) (M : MM) : Option (Int32 × MM) := fX1_register_19 fl 0 M
def fX1_register_0 (fl : Nat) (x1 : Int32) (M : MM) : Option (Int32 × MM) := if x1 < 0 then (fX1_register_18 fl M) else (if 3 < x1 then (fX1_register_18 fl M) else (if inb x1 4 = true then (fX1_register_19 fl (M 4 x1.toNatClampNeg) M) else none))
def fX1_register (fl : Nat) (x1 : Int32) (M : MM) : Option (Int32 × MM) := fX1_register_0 fl x1 M
/-! ReorderCoreModel.memory -/
def fX1_memory_20 (fl : Nat) (y0 : Int32) (M : MM) : Option (Int32 × MM) := some (y0, M)
def fX1_memory_19 (fl : Nat) (M : MM) : Option (Int32 × MM) := fX1_memory_20 fl 0 M
def fX1_memory_0 (fl : Nat) (x1 : Int32) (M : MM) : Option (Int32 × MM) := if x1 < 0 then (fX1_memory_19 fl M) else (if 7 < x1 then (fX1_memory_19 fl M) else (if inb x1 8 = true then (fX1_memory_20 fl (M 5 x1.toNatClampNeg) M) else none))
def fX1_memory (fl : Nat) (x1 : Int32) (M : MM) : Option (Int32 × MM) := fX1_memory_0 fl x1 M
/-! ReorderCoreModel.digest -/
def fX1_digest_22 (fl : Nat) (K : Int32 → Int32 → MM → Option (Int32 × MM)) (x1 x2 : Int32) (M : MM) : Option (Int32 × MM) := K x1 (x2 + 1) M
def fX1_digest_49 (fl : Nat) (K : Int32 → Int32 → MM → Option (Int32 × MM)) (x1 x2 : Int32) (M : MM) : Option (Int32 × MM) := K x1 (x2 + 1) M
def fX1_digest_30 (fl : Nat) : Nat → Int32 → Int32 → MM → Option (Int32 × MM)
  | 0, _, _, _ => none
  | n + 1, x1, x2, M => if 8 ≤ x2 then (some (x1, M)) else (if inb x2 8 = true then (fX1_digest_49 fl (fX1_digest_30 fl n) (x1 + ((x2 + 5) * (M 5 x2.toNatClampNeg))) x2 M) else none)
def fX1_digest_4 (fl : Nat) : Nat → Int32 → Int32 → MM → Option (Int32 × MM)
  | 0, _, _, _ => none
  | n + 1, x1, x2, M => if 4 ≤ x2 then (fX1_digest_30 fl fl x1 0 M) else (if inb x2 4 = true then (fX1_digest_22 fl (fX1_digest_4 fl n) (x1 + ((x2 + 1) * (M 4 x2.toNatClampNeg))) x2 M) else none)
def fX1_digest_2 (fl : Nat) (x1 : Int32) (M : MM) : Option (Int32 × MM) := fX1_digest_4 fl fl x1 0 M
def fX1_digest_0 (fl : Nat) (M : MM) : Option (Int32 × MM) := fX1_digest_2 fl 0 M
def fX1_digest (fl : Nat) (M : MM) : Option (Int32 × MM) := fX1_digest_0 fl M
end
section
set_option maxRecDepth 100000
abbrev vwCl : List vw_C := [(RX0, TX0, 28), (RX1, TX1, 9)]
def fC (h : Nat → Nat) (M : MM) : List Value := [.ref (h 0), .ref (h 1), .ref (h 2), .int (M 3 0), .ref (h 4), .ref (h 5), .int (M 6 0), .int (M 7 0), .int (M 8 0), .int (M 9 0), .int (M 10 0), .int (M 11 0), .int (M 12 0), .int (M 13 0), .ref (h 14), .ref (h 15), .ref (h 16), .ref (h 17), .ref (h 18), .ref (h 19), .ref (h 20), .ref (h 21), .ref (h 22), .ref (h 23), .ref (h 24), .ref (h 25), .ref (h 26), .ref (h 27)]
def wC (h : Nat → Nat) (cA : Nat → ClassId) (M : MM) : va_W := [(h 28, .inr (0, fC h M)), (h 0, .inl (cA 0, 16, .inl (M 0))), (h 1, .inl (cA 1, 16, .inl (M 1))), (h 2, .inl (cA 2, 16, .inl (M 2))), (h 4, .inl (cA 4, 4, .inl (M 4))), (h 5, .inl (cA 5, 8, .inl (M 5))), (h 14, .inl (cA 14, 6, .inl (M 14))), (h 15, .inl (cA 15, 6, .inl (M 15))), (h 16, .inl (cA 16, 6, .inl (M 16))), (h 17, .inl (cA 17, 6, .inl (M 17))), (h 18, .inl (cA 18, 6, .inl (M 18))), (h 19, .inl (cA 19, 6, .inl (M 19))), (h 20, .inl (cA 20, 6, .inl (M 20))), (h 21, .inl (cA 21, 6, .inl (M 21))), (h 22, .inl (cA 22, 6, .inl (M 22))), (h 23, .inl (cA 23, 6, .inl (M 23))), (h 24, .inl (cA 24, 6, .inl (M 24))), (h 25, .inl (cA 25, 6, .inl (M 25))), (h 26, .inl (cA 26, 6, .inl (M 26))), (h 27, .inl (cA 27, 4, .inl (M 27)))]
def tysC (cA : Nat → ClassId) : List (ClassId × FieldType) := [(cA 0, .byte), (cA 1, .byte), (cA 2, .int), (cA 4, .int), (cA 5, .int), (cA 14, .byte), (cA 15, .int), (cA 16, .byte), (cA 17, .byte), (cA 18, .int), (cA 19, .int), (cA 20, .boolean), (cA 21, .int), (cA 22, .byte), (cA 23, .byte), (cA 24, .byte), (cA 25, .int), (cA 26, .int), (cA 27, .byte)]
def adC (h : Nat → Nat) : List Nat := [h 28, h 0, h 1, h 2, h 4, h 5, h 14, h 15, h 16, h 17, h 18, h 19, h 20, h 21, h 22, h 23, h 24, h 25, h 26, h 27]
def aC (h : Nat → Nat) : Nat → Prop := fun q => q ∈ adC h
def njC (h : Nat → Nat) : Prop := ∀ (i j a : Nat), (adC h)[i]? = some a → (adC h)[j]? = some a → i = j
theorem wC_ad {h : Nat → Nat} {cA : Nat → ClassId} {M : MM} : (wC h cA M).map Prod.fst = adC h := rfl
theorem wC_at {h : Nat → Nat} {cA : Nat → ClassId} {M : MM} {i : Nat} {q : Nat × va_E} (hi : (wC h cA M)[i]? = some q) : (adC h)[i]? = some q.1 := by
  rw [← wC_ad (cA := cA) (M := M), List.getElem?_map, hi]; rfl
theorem dC_of {h : Nat → Nat} {cA : Nat → ClassId} {M : MM} (hn : njC h) : va_D (aC h) (wC h cA M) :=
  ⟨fun i j p q hi hj e => hn i j p.1 (wC_at hi) (by rw [e]; exact wC_at hj), fun k q hk => List.mem_of_getElem? (wC_at hk)⟩
theorem wC_put3 {h : Nat → Nat} {cA : Nat → ClassId} {M : MM} {v : Int32} : (wC h cA M).set 0 (h 28, .inr (0, (fC h M).set 3 (.int v))) = wC h cA (mu M 3 0 v) := rfl
theorem wC_put6 {h : Nat → Nat} {cA : Nat → ClassId} {M : MM} {v : Int32} : (wC h cA M).set 0 (h 28, .inr (0, (fC h M).set 6 (.int v))) = wC h cA (mu M 6 0 v) := rfl
theorem wC_put7 {h : Nat → Nat} {cA : Nat → ClassId} {M : MM} {v : Int32} : (wC h cA M).set 0 (h 28, .inr (0, (fC h M).set 7 (.int v))) = wC h cA (mu M 7 0 v) := rfl
theorem wC_put8 {h : Nat → Nat} {cA : Nat → ClassId} {M : MM} {v : Int32} : (wC h cA M).set 0 (h 28, .inr (0, (fC h M).set 8 (.int v))) = wC h cA (mu M 8 0 v) := rfl
theorem wC_put9 {h : Nat → Nat} {cA : Nat → ClassId} {M : MM} {v : Int32} : (wC h cA M).set 0 (h 28, .inr (0, (fC h M).set 9 (.int v))) = wC h cA (mu M 9 0 v) := rfl
theorem wC_put10 {h : Nat → Nat} {cA : Nat → ClassId} {M : MM} {v : Int32} : (wC h cA M).set 0 (h 28, .inr (0, (fC h M).set 10 (.int v))) = wC h cA (mu M 10 0 v) := rfl
theorem wC_put11 {h : Nat → Nat} {cA : Nat → ClassId} {M : MM} {v : Int32} : (wC h cA M).set 0 (h 28, .inr (0, (fC h M).set 11 (.int v))) = wC h cA (mu M 11 0 v) := rfl
theorem wC_put12 {h : Nat → Nat} {cA : Nat → ClassId} {M : MM} {v : Int32} : (wC h cA M).set 0 (h 28, .inr (0, (fC h M).set 12 (.int v))) = wC h cA (mu M 12 0 v) := rfl
theorem wC_put13 {h : Nat → Nat} {cA : Nat → ClassId} {M : MM} {v : Int32} : (wC h cA M).set 0 (h 28, .inr (0, (fC h M).set 13 (.int v))) = wC h cA (mu M 13 0 v) := rfl
theorem wC_ast0 {h : Nat → Nat} {cA : Nat → ClassId} {M : MM} {j : Nat} {v : Int32} : (wC h cA M).set 1 (h 0, .inl (cA 0, 16, .inl (upd (M 0) j v))) = wC h cA (mu M 0 j v) := rfl
theorem wC_ast1 {h : Nat → Nat} {cA : Nat → ClassId} {M : MM} {j : Nat} {v : Int32} : (wC h cA M).set 2 (h 1, .inl (cA 1, 16, .inl (upd (M 1) j v))) = wC h cA (mu M 1 j v) := rfl
theorem wC_ast2 {h : Nat → Nat} {cA : Nat → ClassId} {M : MM} {j : Nat} {v : Int32} : (wC h cA M).set 3 (h 2, .inl (cA 2, 16, .inl (upd (M 2) j v))) = wC h cA (mu M 2 j v) := rfl
theorem wC_ast4 {h : Nat → Nat} {cA : Nat → ClassId} {M : MM} {j : Nat} {v : Int32} : (wC h cA M).set 4 (h 4, .inl (cA 4, 4, .inl (upd (M 4) j v))) = wC h cA (mu M 4 j v) := rfl
theorem wC_ast5 {h : Nat → Nat} {cA : Nat → ClassId} {M : MM} {j : Nat} {v : Int32} : (wC h cA M).set 5 (h 5, .inl (cA 5, 8, .inl (upd (M 5) j v))) = wC h cA (mu M 5 j v) := rfl
theorem wC_ast14 {h : Nat → Nat} {cA : Nat → ClassId} {M : MM} {j : Nat} {v : Int32} : (wC h cA M).set 6 (h 14, .inl (cA 14, 6, .inl (upd (M 14) j v))) = wC h cA (mu M 14 j v) := rfl
theorem wC_ast15 {h : Nat → Nat} {cA : Nat → ClassId} {M : MM} {j : Nat} {v : Int32} : (wC h cA M).set 7 (h 15, .inl (cA 15, 6, .inl (upd (M 15) j v))) = wC h cA (mu M 15 j v) := rfl
theorem wC_ast16 {h : Nat → Nat} {cA : Nat → ClassId} {M : MM} {j : Nat} {v : Int32} : (wC h cA M).set 8 (h 16, .inl (cA 16, 6, .inl (upd (M 16) j v))) = wC h cA (mu M 16 j v) := rfl
theorem wC_ast17 {h : Nat → Nat} {cA : Nat → ClassId} {M : MM} {j : Nat} {v : Int32} : (wC h cA M).set 9 (h 17, .inl (cA 17, 6, .inl (upd (M 17) j v))) = wC h cA (mu M 17 j v) := rfl
theorem wC_ast18 {h : Nat → Nat} {cA : Nat → ClassId} {M : MM} {j : Nat} {v : Int32} : (wC h cA M).set 10 (h 18, .inl (cA 18, 6, .inl (upd (M 18) j v))) = wC h cA (mu M 18 j v) := rfl
theorem wC_ast19 {h : Nat → Nat} {cA : Nat → ClassId} {M : MM} {j : Nat} {v : Int32} : (wC h cA M).set 11 (h 19, .inl (cA 19, 6, .inl (upd (M 19) j v))) = wC h cA (mu M 19 j v) := rfl
theorem wC_ast20 {h : Nat → Nat} {cA : Nat → ClassId} {M : MM} {j : Nat} {v : Int32} : (wC h cA M).set 12 (h 20, .inl (cA 20, 6, .inl (upd (M 20) j v))) = wC h cA (mu M 20 j v) := rfl
theorem wC_ast21 {h : Nat → Nat} {cA : Nat → ClassId} {M : MM} {j : Nat} {v : Int32} : (wC h cA M).set 13 (h 21, .inl (cA 21, 6, .inl (upd (M 21) j v))) = wC h cA (mu M 21 j v) := rfl
theorem wC_ast22 {h : Nat → Nat} {cA : Nat → ClassId} {M : MM} {j : Nat} {v : Int32} : (wC h cA M).set 14 (h 22, .inl (cA 22, 6, .inl (upd (M 22) j v))) = wC h cA (mu M 22 j v) := rfl
theorem wC_ast23 {h : Nat → Nat} {cA : Nat → ClassId} {M : MM} {j : Nat} {v : Int32} : (wC h cA M).set 15 (h 23, .inl (cA 23, 6, .inl (upd (M 23) j v))) = wC h cA (mu M 23 j v) := rfl
theorem wC_ast24 {h : Nat → Nat} {cA : Nat → ClassId} {M : MM} {j : Nat} {v : Int32} : (wC h cA M).set 16 (h 24, .inl (cA 24, 6, .inl (upd (M 24) j v))) = wC h cA (mu M 24 j v) := rfl
theorem wC_ast25 {h : Nat → Nat} {cA : Nat → ClassId} {M : MM} {j : Nat} {v : Int32} : (wC h cA M).set 17 (h 25, .inl (cA 25, 6, .inl (upd (M 25) j v))) = wC h cA (mu M 25 j v) := rfl
theorem wC_ast26 {h : Nat → Nat} {cA : Nat → ClassId} {M : MM} {j : Nat} {v : Int32} : (wC h cA M).set 18 (h 26, .inl (cA 26, 6, .inl (upd (M 26) j v))) = wC h cA (mu M 26 j v) := rfl
theorem wC_ast27 {h : Nat → Nat} {cA : Nat → ClassId} {M : MM} {j : Nat} {v : Int32} : (wC h cA M).set 19 (h 27, .inl (cA 27, 4, .inl (upd (M 27) j v))) = wC h cA (mu M 27 j v) := rfl
def fM (h : Nat → Nat) (M : MM) : List Value := [.int (M 0 0), .ref (h 1), .ref (h 2), .ref (h 3), .ref (h 4), .ref (h 5), .int (M 6 0), .int (M 7 0), .int (M 8 0)]
def wM (h : Nat → Nat) (cA : Nat → ClassId) (M : MM) : va_W := [(h 9, .inr (1, fM h M)), (h 1, .inl (cA 1, 16, .inl (M 1))), (h 2, .inl (cA 2, 16, .inl (M 2))), (h 3, .inl (cA 3, 16, .inl (M 3))), (h 4, .inl (cA 4, 4, .inl (M 4))), (h 5, .inl (cA 5, 8, .inl (M 5)))]
def tysM (cA : Nat → ClassId) : List (ClassId × FieldType) := [(cA 1, .int), (cA 2, .int), (cA 3, .int), (cA 4, .int), (cA 5, .int)]
def adM (h : Nat → Nat) : List Nat := [h 9, h 1, h 2, h 3, h 4, h 5]
def aM (h : Nat → Nat) : Nat → Prop := fun q => q ∈ adM h
def njM (h : Nat → Nat) : Prop := ∀ (i j a : Nat), (adM h)[i]? = some a → (adM h)[j]? = some a → i = j
theorem wM_ad {h : Nat → Nat} {cA : Nat → ClassId} {M : MM} : (wM h cA M).map Prod.fst = adM h := rfl
theorem wM_at {h : Nat → Nat} {cA : Nat → ClassId} {M : MM} {i : Nat} {q : Nat × va_E} (hi : (wM h cA M)[i]? = some q) : (adM h)[i]? = some q.1 := by
  rw [← wM_ad (cA := cA) (M := M), List.getElem?_map, hi]; rfl
theorem dM_of {h : Nat → Nat} {cA : Nat → ClassId} {M : MM} (hn : njM h) : va_D (aM h) (wM h cA M) :=
  ⟨fun i j p q hi hj e => hn i j p.1 (wM_at hi) (by rw [e]; exact wM_at hj), fun k q hk => List.mem_of_getElem? (wM_at hk)⟩
theorem wM_put0 {h : Nat → Nat} {cA : Nat → ClassId} {M : MM} {v : Int32} : (wM h cA M).set 0 (h 9, .inr (1, (fM h M).set 0 (.int v))) = wM h cA (mu M 0 0 v) := rfl
theorem wM_put6 {h : Nat → Nat} {cA : Nat → ClassId} {M : MM} {v : Int32} : (wM h cA M).set 0 (h 9, .inr (1, (fM h M).set 6 (.int v))) = wM h cA (mu M 6 0 v) := rfl
theorem wM_put7 {h : Nat → Nat} {cA : Nat → ClassId} {M : MM} {v : Int32} : (wM h cA M).set 0 (h 9, .inr (1, (fM h M).set 7 (.int v))) = wM h cA (mu M 7 0 v) := rfl
theorem wM_put8 {h : Nat → Nat} {cA : Nat → ClassId} {M : MM} {v : Int32} : (wM h cA M).set 0 (h 9, .inr (1, (fM h M).set 8 (.int v))) = wM h cA (mu M 8 0 v) := rfl
theorem wM_ast1 {h : Nat → Nat} {cA : Nat → ClassId} {M : MM} {j : Nat} {v : Int32} : (wM h cA M).set 1 (h 1, .inl (cA 1, 16, .inl (upd (M 1) j v))) = wM h cA (mu M 1 j v) := rfl
theorem wM_ast2 {h : Nat → Nat} {cA : Nat → ClassId} {M : MM} {j : Nat} {v : Int32} : (wM h cA M).set 2 (h 2, .inl (cA 2, 16, .inl (upd (M 2) j v))) = wM h cA (mu M 2 j v) := rfl
theorem wM_ast3 {h : Nat → Nat} {cA : Nat → ClassId} {M : MM} {j : Nat} {v : Int32} : (wM h cA M).set 3 (h 3, .inl (cA 3, 16, .inl (upd (M 3) j v))) = wM h cA (mu M 3 j v) := rfl
theorem wM_ast4 {h : Nat → Nat} {cA : Nat → ClassId} {M : MM} {j : Nat} {v : Int32} : (wM h cA M).set 4 (h 4, .inl (cA 4, 4, .inl (upd (M 4) j v))) = wM h cA (mu M 4 j v) := rfl
theorem wM_ast5 {h : Nat → Nat} {cA : Nat → ClassId} {M : MM} {j : Nat} {v : Int32} : (wM h cA M).set 5 (h 5, .inl (cA 5, 8, .inl (upd (M 5) j v))) = wM h cA (mu M 5 j v) := rfl
/-- the machine at pc, with the world w, the locals L and the stack st, comes to Q -/
def gg (p : Program) (l : Launch) (e : Env) (R : Room) (s : State) (m : MethodId) (args : Array Value) (below : List Frame) (meth : Method) (c : Code) (D : va_G) (A : Nat → Prop) (k n nL : Nat) (Q : State → Prop) (w : va_W) (pc : Nat) (L : List (Nat × Value)) (st : List Value) : Prop :=
  ∀ (H : Heap) (locs : List Loc) (ls : Array Slot), va_P D vwCl w H → va_S A s.heap H locs → lv_has ls nL L → W p l e R s m args below meth c H locs k n Q (F0 m pc ls st)
section
variable {p : Program} {l : Launch} {e : Env} {R : Room} {s : State} {m : MethodId} {args : Array Value} {below : List Frame} {meth : Method} {c : Code} {D : va_G} {A : Nat → Prop} {k n nL : Nat} {Q : State → Prop} {w : va_W} {pc : Nat} {L : List (Nat × Value)} {st : List Value} {cc : ByteArray} {α : Type} {r : α}
theorem g_iconst (hx : p.tables.exec = Jvm.exec) (hb : c.code = cc) {i : Int} {v : Int32} (hd : decode cc pc = .ok (.iconst i, 1)) (hv : Int32.ofInt i = v) (kk : gg p l e R s m args below meth c D A k n nL Q w (pc + 1) L (.int v :: st)) : gg p l e R s m args below meth c D A k n nL Q w pc L st := fun H locs ls hP hS hl => lv_iconst hx hb hd hv (kk H locs ls hP hS hl)
theorem g_bipush (hx : p.tables.exec = Jvm.exec) (hb : c.code = cc) {i : Int} {v : Int32} (hd : decode cc pc = .ok (.bipush i, 2)) (hv : (Int8.ofInt i).toInt32 = v) (kk : gg p l e R s m args below meth c D A k n nL Q w (pc + 2) L (.int v :: st)) : gg p l e R s m args below meth c D A k n nL Q w pc L st := fun H locs ls hP hS hl => lv_bipush hx hb hd hv (kk H locs ls hP hS hl)
theorem g_sipush (hx : p.tables.exec = Jvm.exec) (hb : c.code = cc) {i : Int} {v : Int32} (hd : decode cc pc = .ok (.sipush i, 3)) (hv : (Int16.ofInt i).toInt32 = v) (kk : gg p l e R s m args below meth c D A k n nL Q w (pc + 3) L (.int v :: st)) : gg p l e R s m args below meth c D A k n nL Q w pc L st := fun H locs ls hP hS hl => lv_sipush hx hb hd hv (kk H locs ls hP hS hl)
theorem g_iload_n (hx : p.tables.exec = Jvm.exec) (hb : c.code = cc) {q : Fin 4} {i : Nat} {x : Int32} (hd : decode cc pc = .ok (.iload_n q, 1)) (hi : (q : Nat) = i) (j : Nat) (hj : L[j]? = some (i, .int x)) (kk : gg p l e R s m args below meth c D A k n nL Q w (pc + 1) L (.int x :: st)) : gg p l e R s m args below meth c D A k n nL Q w pc L st := fun H locs ls hP hS hl => lv_iload_n hx hb hd hi (lv_at hl j hj) (kk H locs ls hP hS hl)
theorem g_iload (hx : p.tables.exec = Jvm.exec) (hb : c.code = cc) {i : Nat} {x : Int32} (hd : decode cc pc = .ok (.iload i, 2)) (j : Nat) (hj : L[j]? = some (i, .int x)) (kk : gg p l e R s m args below meth c D A k n nL Q w (pc + 2) L (.int x :: st)) : gg p l e R s m args below meth c D A k n nL Q w pc L st := fun H locs ls hP hS hl => lv_iload hx hb hd (lv_at hl j hj) (kk H locs ls hP hS hl)
theorem g_aload_n (hx : p.tables.exec = Jvm.exec) (hb : c.code = cc) {q : Fin 4} {i x : Nat} (hd : decode cc pc = .ok (.aload_n q, 1)) (hi : (q : Nat) = i) (j : Nat) (hj : L[j]? = some (i, .ref x)) (kk : gg p l e R s m args below meth c D A k n nL Q w (pc + 1) L (.ref x :: st)) : gg p l e R s m args below meth c D A k n nL Q w pc L st := fun H locs ls hP hS hl => lv_aload_n hx hb hd hi (lv_at hl j hj) (kk H locs ls hP hS hl)
theorem g_iadd (hx : p.tables.exec = Jvm.exec) (hb : c.code = cc) {x y : Int32} (hd : decode cc pc = .ok (.iadd, 1))  (kk : gg p l e R s m args below meth c D A k n nL Q w (pc + 1) L (.int (x + y) :: st)) : gg p l e R s m args below meth c D A k n nL Q w pc L (.int y :: .int x :: st) := fun H locs ls hP hS hl => lv_iadd hx hb hd (kk H locs ls hP hS hl)
theorem g_isub (hx : p.tables.exec = Jvm.exec) (hb : c.code = cc) {x y : Int32} (hd : decode cc pc = .ok (.isub, 1))  (kk : gg p l e R s m args below meth c D A k n nL Q w (pc + 1) L (.int (x - y) :: st)) : gg p l e R s m args below meth c D A k n nL Q w pc L (.int y :: .int x :: st) := fun H locs ls hP hS hl => lv_isub hx hb hd (kk H locs ls hP hS hl)
theorem g_imul (hx : p.tables.exec = Jvm.exec) (hb : c.code = cc) {x y : Int32} (hd : decode cc pc = .ok (.imul, 1))  (kk : gg p l e R s m args below meth c D A k n nL Q w (pc + 1) L (.int (x * y) :: st)) : gg p l e R s m args below meth c D A k n nL Q w pc L (.int y :: .int x :: st) := fun H locs ls hP hS hl => lv_imul hx hb hd (kk H locs ls hP hS hl)
theorem g_iand (hx : p.tables.exec = Jvm.exec) (hb : c.code = cc) {x y : Int32} (hd : decode cc pc = .ok (.iand, 1))  (kk : gg p l e R s m args below meth c D A k n nL Q w (pc + 1) L (.int (x &&& y) :: st)) : gg p l e R s m args below meth c D A k n nL Q w pc L (.int y :: .int x :: st) := fun H locs ls hP hS hl => lv_iand hx hb hd (kk H locs ls hP hS hl)
theorem g_ior (hx : p.tables.exec = Jvm.exec) (hb : c.code = cc) {x y : Int32} (hd : decode cc pc = .ok (.ior, 1))  (kk : gg p l e R s m args below meth c D A k n nL Q w (pc + 1) L (.int (x ||| y) :: st)) : gg p l e R s m args below meth c D A k n nL Q w pc L (.int y :: .int x :: st) := fun H locs ls hP hS hl => lv_ior hx hb hd (kk H locs ls hP hS hl)
theorem g_ishr (hx : p.tables.exec = Jvm.exec) (hb : c.code = cc) {x y : Int32} (hd : decode cc pc = .ok (.ishr, 1))  (kk : gg p l e R s m args below meth c D A k n nL Q w (pc + 1) L (.int (x >>> (y &&& 31)) :: st)) : gg p l e R s m args below meth c D A k n nL Q w pc L (.int y :: .int x :: st) := fun H locs ls hP hS hl => lv_ishr hx hb hd (kk H locs ls hP hS hl)
theorem g_irem (hx : p.tables.exec = Jvm.exec) (hb : c.code = cc) {x y : Int32} (hd : decode cc pc = .ok (.irem, 1)) (hne : ¬ y = 0) (kk : gg p l e R s m args below meth c D A k n nL Q w (pc + 1) L (.int (x - x / y * y) :: st)) : gg p l e R s m args below meth c D A k n nL Q w pc L (.int y :: .int x :: st) := fun H locs ls hP hS hl => lv_irem hx hb hd hne (kk H locs ls hP hS hl)
theorem g_iushr (hx : p.tables.exec = Jvm.exec) (hb : c.code = cc) {x y : Int32} (hd : decode cc pc = .ok (.iushr, 1))  (kk : gg p l e R s m args below meth c D A k n nL Q w (pc + 1) L (.int ((x.toUInt32 >>> (y.toUInt32 &&& Int32.toUInt32 31)).toInt32) :: st)) : gg p l e R s m args below meth c D A k n nL Q w pc L (.int y :: .int x :: st) := fun H locs ls hP hS hl => lv_iushr hx hb hd rfl (kk H locs ls hP hS hl)
theorem g_i2b (hx : p.tables.exec = Jvm.exec) (hb : c.code = cc) {x : Int32} (hd : decode cc pc = .ok (.i2b, 1))  (kk : gg p l e R s m args below meth c D A k n nL Q w (pc + 1) L (.int (x.toInt8.toInt32) :: st)) : gg p l e R s m args below meth c D A k n nL Q w pc L (.int x :: st) := fun H locs ls hP hS hl => lv_i2b hx hb hd rfl (kk H locs ls hP hS hl)
theorem g_dup (hx : p.tables.exec = Jvm.exec) (hb : c.code = cc) {va : Value} (hd : decode cc pc = .ok (.dup, 1)) (ha : va.category = 1) (kk : gg p l e R s m args below meth c D A k n nL Q w (pc + 1) L (va :: va :: st)) : gg p l e R s m args below meth c D A k n nL Q w pc L (va :: st) := fun H locs ls hP hS hl => lv_dup hx hb hd ha (kk H locs ls hP hS hl)
theorem g_dup2 (hx : p.tables.exec = Jvm.exec) (hb : c.code = cc) {va vb : Value} (hd : decode cc pc = .ok (.dup2, 1)) (ha : va.category = 1) (hb' : vb.category = 1) (kk : gg p l e R s m args below meth c D A k n nL Q w (pc + 1) L (va :: vb :: va :: vb :: st)) : gg p l e R s m args below meth c D A k n nL Q w pc L (va :: vb :: st) := fun H locs ls hP hS hl => lv_dup2_11 hx hb hd ha hb' (kk H locs ls hP hS hl)
theorem g_idiv (hx : p.tables.exec = Jvm.exec) (hb : c.code = cc) {x y : Int32} {a : Option α} (hd : decode cc pc = .ok (.idiv, 1)) (hf : (if y = 0 then none else a) = some r) (kk : a = some r → gg p l e R s m args below meth c D A k n nL Q w (pc + 1) L (.int (x / y) :: st)) : gg p l e R s m args below meth c D A k n nL Q w pc L (.int y :: .int x :: st) := fun H locs ls hP hS hl => lv_idiv hx hb hd (ogn hf).1 (kk (ogn hf).2 H locs ls hP hS hl)
theorem g_goto (hx : p.tables.exec = Jvm.exec) (hb : c.code = cc) {off : Int} {tgt : Nat} (hd : decode cc pc = .ok (.goto off, 3)) (ht : (pc : Int) + off = (tgt : Int)) (kk : gg p l e R s m args below meth c D A k n nL Q w tgt L st) : gg p l e R s m args below meth c D A k n nL Q w pc L st := fun H locs ls hP hS hl => lv_goto hx hb hd ht (kk H locs ls hP hS hl)
theorem g_istore_n (hx : p.tables.exec = Jvm.exec) (hb : c.code = cc) {q : Fin 4} {i : Nat} {x : Int32} {L' : List (Nat × Value)} (hd : decode cc pc = .ok (.istore_n q, 1)) (hi : (q : Nat) = i) (hn : i < nL) (ks : List Nat) (hL : lv_pick ((i, Value.int x) :: L.filter (fun q => !(q.1 == i) && !(q.1 + 1 == i && q.2.category == 2))) ks = L') (kk : gg p l e R s m args below meth c D A k n nL Q w (pc + 1) L' st) : gg p l e R s m args below meth c D A k n nL Q w pc L (.int x :: st) := fun H locs ls hP hS hl => lv_istore_n hx hb hd hi hl hn rfl (fun ls' hl' => kk H locs ls' hP hS (lv_sub hl' ks hL))
theorem g_istore (hx : p.tables.exec = Jvm.exec) (hb : c.code = cc) {i : Nat} {x : Int32} {L' : List (Nat × Value)} (hd : decode cc pc = .ok (.istore i, 2)) (hn : i < nL) (ks : List Nat) (hL : lv_pick ((i, Value.int x) :: L.filter (fun q => !(q.1 == i) && !(q.1 + 1 == i && q.2.category == 2))) ks = L') (kk : gg p l e R s m args below meth c D A k n nL Q w (pc + 2) L' st) : gg p l e R s m args below meth c D A k n nL Q w pc L (.int x :: st) := fun H locs ls hP hS hl => lv_istore hx hb hd hl hn rfl (fun ls' hl' => kk H locs ls' hP hS (lv_sub hl' ks hL))
theorem g_iinc (hx : p.tables.exec = Jvm.exec) (hb : c.code = cc) {i : Nat} {u : Int} {x v : Int32} {L' : List (Nat × Value)} (hd : decode cc pc = .ok (.iinc i u, 3)) (j : Nat) (hj : L[j]? = some (i, .int x)) (hv : x + Int32.ofInt u = v) (hn : i < nL) (ks : List Nat) (hL : lv_pick ((i, Value.int v) :: L.filter (fun q => !(q.1 == i) && !(q.1 + 1 == i && q.2.category == 2))) ks = L') (kk : gg p l e R s m args below meth c D A k n nL Q w (pc + 3) L' st) : gg p l e R s m args below meth c D A k n nL Q w pc L st := fun H locs ls hP hS hl => lv_iinc hx hb hd hl hj hv hn rfl (fun ls' hl' => kk H locs ls' hP hS (lv_sub hl' ks hL))
theorem g_sub {L' : List (Nat × Value)} (ks : List Nat) (hL : lv_pick L ks = L') (kk : gg p l e R s m args below meth c D A k n nL Q w pc L' st) : gg p l e R s m args below meth c D A k n nL Q w pc L st := fun H locs ls hP hS hl => kk H locs ls hP hS (lv_sub hl ks hL)
theorem g_if_eq (hx : p.tables.exec = Jvm.exec) (hb : c.code = cc) {x : Int32} {off : Int} {tgt : Nat} {a b : Option α} (hd : decode cc pc = .ok (.ifCond .eq off, 3)) (ht : (pc : Int) + off = (tgt : Int)) (hf : (if x = 0 then a else b) = some r) (ka : a = some r → gg p l e R s m args below meth c D A k n nL Q w tgt L st) (kb : b = some r → gg p l e R s m args below meth c D A k n nL Q w (pc + 3) L st) : gg p l e R s m args below meth c D A k n nL Q w pc L (.int x :: st) := fun H locs ls hP hS hl => lv_if_eq hx hb hd ht (fun hc => ka (by rw [if_pos hc] at hf; exact hf) H locs ls hP hS hl) (fun hc => kb (by rw [if_neg hc] at hf; exact hf) H locs ls hP hS hl)
theorem g_icmp_eq (hx : p.tables.exec = Jvm.exec) (hb : c.code = cc) {x y : Int32} {off : Int} {tgt : Nat} {a b : Option α} (hd : decode cc pc = .ok (.if_icmp .eq off, 3)) (ht : (pc : Int) + off = (tgt : Int)) (hf : (if x = y then a else b) = some r) (ka : a = some r → gg p l e R s m args below meth c D A k n nL Q w tgt L st) (kb : b = some r → gg p l e R s m args below meth c D A k n nL Q w (pc + 3) L st) : gg p l e R s m args below meth c D A k n nL Q w pc L (.int y :: .int x :: st) := fun H locs ls hP hS hl => lv_icmp_eq hx hb hd ht (fun hc => ka (by rw [if_pos hc] at hf; exact hf) H locs ls hP hS hl) (fun hc => kb (by rw [if_neg hc] at hf; exact hf) H locs ls hP hS hl)
theorem g_if_ne (hx : p.tables.exec = Jvm.exec) (hb : c.code = cc) {x : Int32} {off : Int} {tgt : Nat} {a b : Option α} (hd : decode cc pc = .ok (.ifCond .ne off, 3)) (ht : (pc : Int) + off = (tgt : Int)) (hf : (if x = 0 then a else b) = some r) (ka : a = some r → gg p l e R s m args below meth c D A k n nL Q w (pc + 3) L st) (kb : b = some r → gg p l e R s m args below meth c D A k n nL Q w tgt L st) : gg p l e R s m args below meth c D A k n nL Q w pc L (.int x :: st) := fun H locs ls hP hS hl => lv_if_ne hx hb hd ht (fun hc => kb (by rw [if_neg hc] at hf; exact hf) H locs ls hP hS hl) (fun hc => ka (by rw [if_pos hc] at hf; exact hf) H locs ls hP hS hl)
theorem g_icmp_ne (hx : p.tables.exec = Jvm.exec) (hb : c.code = cc) {x y : Int32} {off : Int} {tgt : Nat} {a b : Option α} (hd : decode cc pc = .ok (.if_icmp .ne off, 3)) (ht : (pc : Int) + off = (tgt : Int)) (hf : (if x = y then a else b) = some r) (ka : a = some r → gg p l e R s m args below meth c D A k n nL Q w (pc + 3) L st) (kb : b = some r → gg p l e R s m args below meth c D A k n nL Q w tgt L st) : gg p l e R s m args below meth c D A k n nL Q w pc L (.int y :: .int x :: st) := fun H locs ls hP hS hl => lv_icmp_ne hx hb hd ht (fun hc => kb (by rw [if_neg hc] at hf; exact hf) H locs ls hP hS hl) (fun hc => ka (by rw [if_pos hc] at hf; exact hf) H locs ls hP hS hl)
theorem g_if_lt (hx : p.tables.exec = Jvm.exec) (hb : c.code = cc) {x : Int32} {off : Int} {tgt : Nat} {a b : Option α} (hd : decode cc pc = .ok (.ifCond .lt off, 3)) (ht : (pc : Int) + off = (tgt : Int)) (hf : (if x < 0 then a else b) = some r) (ka : a = some r → gg p l e R s m args below meth c D A k n nL Q w tgt L st) (kb : b = some r → gg p l e R s m args below meth c D A k n nL Q w (pc + 3) L st) : gg p l e R s m args below meth c D A k n nL Q w pc L (.int x :: st) := fun H locs ls hP hS hl => lv_if_lt hx hb hd ht (fun hc => ka (by rw [if_pos hc] at hf; exact hf) H locs ls hP hS hl) (fun hc => kb (by rw [if_neg hc] at hf; exact hf) H locs ls hP hS hl)
theorem g_icmp_lt (hx : p.tables.exec = Jvm.exec) (hb : c.code = cc) {x y : Int32} {off : Int} {tgt : Nat} {a b : Option α} (hd : decode cc pc = .ok (.if_icmp .lt off, 3)) (ht : (pc : Int) + off = (tgt : Int)) (hf : (if x < y then a else b) = some r) (ka : a = some r → gg p l e R s m args below meth c D A k n nL Q w tgt L st) (kb : b = some r → gg p l e R s m args below meth c D A k n nL Q w (pc + 3) L st) : gg p l e R s m args below meth c D A k n nL Q w pc L (.int y :: .int x :: st) := fun H locs ls hP hS hl => lv_icmp_lt hx hb hd ht (fun hc => ka (by rw [if_pos hc] at hf; exact hf) H locs ls hP hS hl) (fun hc => kb (by rw [if_neg hc] at hf; exact hf) H locs ls hP hS hl)
theorem g_if_ge (hx : p.tables.exec = Jvm.exec) (hb : c.code = cc) {x : Int32} {off : Int} {tgt : Nat} {a b : Option α} (hd : decode cc pc = .ok (.ifCond .ge off, 3)) (ht : (pc : Int) + off = (tgt : Int)) (hf : (if 0 ≤ x then a else b) = some r) (ka : a = some r → gg p l e R s m args below meth c D A k n nL Q w tgt L st) (kb : b = some r → gg p l e R s m args below meth c D A k n nL Q w (pc + 3) L st) : gg p l e R s m args below meth c D A k n nL Q w pc L (.int x :: st) := fun H locs ls hP hS hl => lv_if_ge hx hb hd ht (fun hc => ka (by rw [if_pos hc] at hf; exact hf) H locs ls hP hS hl) (fun hc => kb (by rw [if_neg hc] at hf; exact hf) H locs ls hP hS hl)
theorem g_icmp_ge (hx : p.tables.exec = Jvm.exec) (hb : c.code = cc) {x y : Int32} {off : Int} {tgt : Nat} {a b : Option α} (hd : decode cc pc = .ok (.if_icmp .ge off, 3)) (ht : (pc : Int) + off = (tgt : Int)) (hf : (if y ≤ x then a else b) = some r) (ka : a = some r → gg p l e R s m args below meth c D A k n nL Q w tgt L st) (kb : b = some r → gg p l e R s m args below meth c D A k n nL Q w (pc + 3) L st) : gg p l e R s m args below meth c D A k n nL Q w pc L (.int y :: .int x :: st) := fun H locs ls hP hS hl => lv_icmp_ge hx hb hd ht (fun hc => ka (by rw [if_pos hc] at hf; exact hf) H locs ls hP hS hl) (fun hc => kb (by rw [if_neg hc] at hf; exact hf) H locs ls hP hS hl)
theorem g_if_gt (hx : p.tables.exec = Jvm.exec) (hb : c.code = cc) {x : Int32} {off : Int} {tgt : Nat} {a b : Option α} (hd : decode cc pc = .ok (.ifCond .gt off, 3)) (ht : (pc : Int) + off = (tgt : Int)) (hf : (if 0 < x then a else b) = some r) (ka : a = some r → gg p l e R s m args below meth c D A k n nL Q w tgt L st) (kb : b = some r → gg p l e R s m args below meth c D A k n nL Q w (pc + 3) L st) : gg p l e R s m args below meth c D A k n nL Q w pc L (.int x :: st) := fun H locs ls hP hS hl => lv_if_gt hx hb hd ht (fun hc => ka (by rw [if_pos hc] at hf; exact hf) H locs ls hP hS hl) (fun hc => kb (by rw [if_neg hc] at hf; exact hf) H locs ls hP hS hl)
theorem g_icmp_gt (hx : p.tables.exec = Jvm.exec) (hb : c.code = cc) {x y : Int32} {off : Int} {tgt : Nat} {a b : Option α} (hd : decode cc pc = .ok (.if_icmp .gt off, 3)) (ht : (pc : Int) + off = (tgt : Int)) (hf : (if y < x then a else b) = some r) (ka : a = some r → gg p l e R s m args below meth c D A k n nL Q w tgt L st) (kb : b = some r → gg p l e R s m args below meth c D A k n nL Q w (pc + 3) L st) : gg p l e R s m args below meth c D A k n nL Q w pc L (.int y :: .int x :: st) := fun H locs ls hP hS hl => lv_icmp_gt hx hb hd ht (fun hc => ka (by rw [if_pos hc] at hf; exact hf) H locs ls hP hS hl) (fun hc => kb (by rw [if_neg hc] at hf; exact hf) H locs ls hP hS hl)
theorem g_if_le (hx : p.tables.exec = Jvm.exec) (hb : c.code = cc) {x : Int32} {off : Int} {tgt : Nat} {a b : Option α} (hd : decode cc pc = .ok (.ifCond .le off, 3)) (ht : (pc : Int) + off = (tgt : Int)) (hf : (if x ≤ 0 then a else b) = some r) (ka : a = some r → gg p l e R s m args below meth c D A k n nL Q w tgt L st) (kb : b = some r → gg p l e R s m args below meth c D A k n nL Q w (pc + 3) L st) : gg p l e R s m args below meth c D A k n nL Q w pc L (.int x :: st) := fun H locs ls hP hS hl => lv_if_le hx hb hd ht (fun hc => ka (by rw [if_pos hc] at hf; exact hf) H locs ls hP hS hl) (fun hc => kb (by rw [if_neg hc] at hf; exact hf) H locs ls hP hS hl)
theorem g_icmp_le (hx : p.tables.exec = Jvm.exec) (hb : c.code = cc) {x y : Int32} {off : Int} {tgt : Nat} {a b : Option α} (hd : decode cc pc = .ok (.if_icmp .le off, 3)) (ht : (pc : Int) + off = (tgt : Int)) (hf : (if x ≤ y then a else b) = some r) (ka : a = some r → gg p l e R s m args below meth c D A k n nL Q w tgt L st) (kb : b = some r → gg p l e R s m args below meth c D A k n nL Q w (pc + 3) L st) : gg p l e R s m args below meth c D A k n nL Q w pc L (.int y :: .int x :: st) := fun H locs ls hP hS hl => lv_icmp_le hx hb hd ht (fun hc => ka (by rw [if_pos hc] at hf; exact hf) H locs ls hP hS hl) (fun hc => kb (by rw [if_neg hc] at hf; exact hf) H locs ls hP hS hl)
end
def qiS (res : Int32 × MM) : Array Value → State → Outcome → State → Prop := va_Qi (fun (r : Int32) (_ : Unit) => r = res.1) (fun _ _ => True) (fun _ => False)
def cxS (p : Program) (meth : Method) (c : Code) (cc : ByteArray) (ret : Option FieldType) : Prop := p.tables.exec = Jvm.exec ∧ c.code = cc ∧ meth.sig.returnType = ret ∧ meth.locks = false
abbrev gS (p : Program) (l : Launch) (e : Env) (R : Room) (s : State) (m : MethodId) (args : Array Value) (below : List Frame) (meth : Method) (c : Code) (D : va_G) (nL : Nat) (res : Int32 × MM) (pc : Nat) (L : List (Nat × Value)) (st : List Value) : Prop :=
  gg p l e R s m args below meth c D (fun _ => False) 0 0 nL (MQ below (qiS res) args s 0 0 (fun _ => False)) [] pc L st
theorem gS_iret {p : Program} {l : Launch} {e : Env} {R : Room} {s : State} {m : MethodId} {args : Array Value} {below : List Frame} {meth : Method} {c : Code} {D : va_G} {nL pc : Nat} {L : List (Nat × Value)} {cc : ByteArray} {M : MM} {res : Int32 × MM} (cx : cxS p meth c cc (some .int)) {v : Int32} (hf : some (v, M) = some res) (hd : decode cc pc = .ok (.ireturn, 1)) : gS p l e R s m args below meth c D nL res pc L [.int v] := by
  obtain ⟨hx, hb, hr, hlk⟩ := cx
  intro H locs ls hP hS hl
  exact W.iret (v := v) hx hb hr (fun t ht hW => ⟨⟨v, (), rfl, congrArg Prod.fst (Option.some.inj hf), trivial⟩, hS.F ht⟩) hS.2.2 hd hlk
def pcC (D : va_G) (h : Nat → Nat) (cA : Nat → ClassId) (M : MM) (as : List Value) : Array Value → State → Prop := va_Pc (.ref (h 28) :: as) (fun U => va_P D vwCl (wC h cA M) U.heap ∧ va_K D vwCl (tysC cA) U)
def qiC (D : va_G) (h : Nat → Nat) (cA : Nat → ClassId) (res : Int32 × MM) : Array Value → State → Outcome → State → Prop := va_Qi (fun (r : Int32) (M : MM) => (r, M) = res) (fun M t => va_P D vwCl (wC h cA M) t.heap) (aC h)
def qvC (D : va_G) (h : Nat → Nat) (cA : Nat → ClassId) (res : Int32 × MM) : Array Value → State → Outcome → State → Prop := va_Qv (fun (M : MM) => M = res.2) (fun M t => va_P D vwCl (wC h cA M) t.heap) (aC h)
/-- what holds all through a method of the class -/
def cxC (p : Program) (R : Room) (s : State) (m : MethodId) (args : Array Value) (meth : Method) (c : Code) (D : va_G) (h : Nat → Nat) (cA : Nat → ClassId) (cc : ByteArray) (nL : Nat) (ret : Option FieldType) (fr lo : Nat) : Prop :=
  p.tables.exec = Jvm.exec ∧ c.code = cc ∧ c.maxLocals = nL ∧ s.vm.findClass RX0 = some m.cls ∧ (∀ w ∈ lw_all, w.before args s = true) ∧ va_K D vwCl (tysC cA) s ∧ (∀ M : MM, va_D (aC h) (wC h cA M)) ∧ meth.sig.returnType = ret ∧ meth.locks = false ∧ fr ≤ R.frames ∧ lo ≤ R.locals ∧ njC h
abbrev gCi (p : Program) (l : Launch) (e : Env) (R : Room) (s : State) (m : MethodId) (args : Array Value) (below : List Frame) (meth : Method) (c : Code) (D : va_G) (h : Nat → Nat) (cA : Nat → ClassId) (nL : Nat) (res : Int32 × MM) (M : MM) (pc : Nat) (L : List (Nat × Value)) (st : List Value) : Prop :=
  gg p l e R s m args below meth c D (aC h) 0 0 nL (MQ below (qiC D h cA res) args s 0 0 (aC h)) (wC h cA M) pc L st
abbrev gCv (p : Program) (l : Launch) (e : Env) (R : Room) (s : State) (m : MethodId) (args : Array Value) (below : List Frame) (meth : Method) (c : Code) (D : va_G) (h : Nat → Nat) (cA : Nat → ClassId) (nL : Nat) (res : Int32 × MM) (M : MM) (pc : Nat) (L : List (Nat × Value)) (st : List Value) : Prop :=
  gg p l e R s m args below meth c D (aC h) 0 0 nL (MQ below (qvC D h cA res) args s 0 0 (aC h)) (wC h cA M) pc L st
section
variable {p : Program} {l : Launch} {e : Env} {R : Room} {s : State} {m : MethodId} {args : Array Value} {below : List Frame} {meth : Method} {c : Code} {D : va_G} {h : Nat → Nat} {cA : Nat → ClassId} {k n nL fr lo : Nat} {Q : State → Prop} {pc : Nat} {L : List (Nat × Value)} {st : List Value} {cc : ByteArray} {ret : Option FieldType} {M : MM} {res : Int32 × MM} {α : Type} {r : α}
theorem cxC.nj (cx : cxC p R s m args meth c D h cA cc nL ret fr lo) : njC h := cx.2.2.2.2.2.2.2.2.2.2.2
theorem rC_g0 (cx : cxC p R s m args meth c D h cA cc nL ret fr lo) (hd : decode cc pc = .ok (.getfield 7, 3)) (kk : gg p l e R s m args below meth c D (aC h) k n nL Q (wC h cA M) (pc + 3) L (.ref (h 0) :: st)) : gg p l e R s m args below meth c D (aC h) k n nL Q (wC h cA M) pc L (.ref (h 28) :: st) := by
  obtain ⟨hx, hb, hml, hown, hts, hK, hD, hr, hlk, hfr, hlo, hnj⟩ := cx
  exact fun H locs ls hP hS hl => va_get (D := D) (ci := 0) (v := .ref (h 0)) (C := RX0) (T := TX0) (N := 28) hx hb hts in_X0 hown hK hP 0 rfl rfl 0 (by decide) (hts _ q25) (fun _ h9 => h9) rfl hd (kk H locs ls hP hS hl)
theorem rC_g1 (cx : cxC p R s m args meth c D h cA cc nL ret fr lo) (hd : decode cc pc = .ok (.getfield 13, 3)) (kk : gg p l e R s m args below meth c D (aC h) k n nL Q (wC h cA M) (pc + 3) L (.ref (h 1) :: st)) : gg p l e R s m args below meth c D (aC h) k n nL Q (wC h cA M) pc L (.ref (h 28) :: st) := by
  obtain ⟨hx, hb, hml, hown, hts, hK, hD, hr, hlk, hfr, hlo, hnj⟩ := cx
  exact fun H locs ls hP hS hl => va_get (D := D) (ci := 0) (v := .ref (h 1)) (C := RX0) (T := TX0) (N := 28) hx hb hts in_X0 hown hK hP 0 rfl rfl 1 (by decide) (hts _ q26) (fun _ h9 => h9) rfl hd (kk H locs ls hP hS hl)
theorem rC_g2 (cx : cxC p R s m args meth c D h cA cc nL ret fr lo) (hd : decode cc pc = .ok (.getfield 16, 3)) (kk : gg p l e R s m args below meth c D (aC h) k n nL Q (wC h cA M) (pc + 3) L (.ref (h 2) :: st)) : gg p l e R s m args below meth c D (aC h) k n nL Q (wC h cA M) pc L (.ref (h 28) :: st) := by
  obtain ⟨hx, hb, hml, hown, hts, hK, hD, hr, hlk, hfr, hlo, hnj⟩ := cx
  exact fun H locs ls hP hS hl => va_get (D := D) (ci := 0) (v := .ref (h 2)) (C := RX0) (T := TX0) (N := 28) hx hb hts in_X0 hown hK hP 0 rfl rfl 2 (by decide) (hts _ q27) (fun _ h9 => h9) rfl hd (kk H locs ls hP hS hl)
theorem rC_g3 (cx : cxC p R s m args meth c D h cA cc nL ret fr lo) (hd : decode cc pc = .ok (.getfield 69, 3)) (kk : gg p l e R s m args below meth c D (aC h) k n nL Q (wC h cA M) (pc + 3) L (.int (M 3 0) :: st)) : gg p l e R s m args below meth c D (aC h) k n nL Q (wC h cA M) pc L (.ref (h 28) :: st) := by
  obtain ⟨hx, hb, hml, hown, hts, hK, hD, hr, hlk, hfr, hlo, hnj⟩ := cx
  exact fun H locs ls hP hS hl => va_get (D := D) (ci := 0) (v := .int (M 3 0)) (C := RX0) (T := TX0) (N := 28) hx hb hts in_X0 hown hK hP 0 rfl rfl 3 (by decide) (hts _ q28) (fun _ h9 => h9) rfl hd (kk H locs ls hP hS hl)
theorem rC_p3 (cx : cxC p R s m args meth c D h cA cc nL ret fr lo) {v : Int32} (hd : decode cc pc = .ok (.putfield 69, 3)) (kk : gg p l e R s m args below meth c D (aC h) k n nL Q (wC h cA (mu M 3 0 v)) (pc + 3) L st) : gg p l e R s m args below meth c D (aC h) k n nL Q (wC h cA M) pc L (.int v :: .ref (h 28) :: st) := by
  obtain ⟨hx, hb, hml, hown, hts, hK, hD, hr, hlk, hfr, hlo, hnj⟩ := cx
  exact fun H locs ls hP hS hl => va_put (D := D) (ci := 0) (v := .int v) (ty := .int) (C := RX0) (T := TX0) (N := 28) hx hb hts in_X0 tyX0 tyX0_ok nmX0 hown hK hP (hD M) hS 0 rfl rfl 3 (by decide) (hts _ q28) (fun _ h9 => h9) rfl (by decide +kernel) rfl rfl (Nat.le_of_ble_eq_true rfl) hd (fun H1 locs1 hP1 _ hS1 => kk H1 locs1 ls hP1 hS1 hl)
theorem rC_g4 (cx : cxC p R s m args meth c D h cA cc nL ret fr lo) (hd : decode cc pc = .ok (.getfield 20, 3)) (kk : gg p l e R s m args below meth c D (aC h) k n nL Q (wC h cA M) (pc + 3) L (.ref (h 4) :: st)) : gg p l e R s m args below meth c D (aC h) k n nL Q (wC h cA M) pc L (.ref (h 28) :: st) := by
  obtain ⟨hx, hb, hml, hown, hts, hK, hD, hr, hlk, hfr, hlo, hnj⟩ := cx
  exact fun H locs ls hP hS hl => va_get (D := D) (ci := 0) (v := .ref (h 4)) (C := RX0) (T := TX0) (N := 28) hx hb hts in_X0 hown hK hP 0 rfl rfl 4 (by decide) (hts _ q29) (fun _ h9 => h9) rfl hd (kk H locs ls hP hS hl)
theorem rC_g5 (cx : cxC p R s m args meth c D h cA cc nL ret fr lo) (hd : decode cc pc = .ok (.getfield 23, 3)) (kk : gg p l e R s m args below meth c D (aC h) k n nL Q (wC h cA M) (pc + 3) L (.ref (h 5) :: st)) : gg p l e R s m args below meth c D (aC h) k n nL Q (wC h cA M) pc L (.ref (h 28) :: st) := by
  obtain ⟨hx, hb, hml, hown, hts, hK, hD, hr, hlk, hfr, hlo, hnj⟩ := cx
  exact fun H locs ls hP hS hl => va_get (D := D) (ci := 0) (v := .ref (h 5)) (C := RX0) (T := TX0) (N := 28) hx hb hts in_X0 hown hK hP 0 rfl rfl 5 (by decide) (hts _ q30) (fun _ h9 => h9) rfl hd (kk H locs ls hP hS hl)
theorem rC_g6 (cx : cxC p R s m args meth c D h cA cc nL ret fr lo) (hd : decode cc pc = .ok (.getfield 79, 3)) (kk : gg p l e R s m args below meth c D (aC h) k n nL Q (wC h cA M) (pc + 3) L (.int (M 6 0) :: st)) : gg p l e R s m args below meth c D (aC h) k n nL Q (wC h cA M) pc L (.ref (h 28) :: st) := by
  obtain ⟨hx, hb, hml, hown, hts, hK, hD, hr, hlk, hfr, hlo, hnj⟩ := cx
  exact fun H locs ls hP hS hl => va_get (D := D) (ci := 0) (v := .int (M 6 0)) (C := RX0) (T := TX0) (N := 28) hx hb hts in_X0 hown hK hP 0 rfl rfl 6 (by decide) (hts _ q31) (fun _ h9 => h9) rfl hd (kk H locs ls hP hS hl)
theorem rC_p6 (cx : cxC p R s m args meth c D h cA cc nL ret fr lo) {v : Int32} (hd : decode cc pc = .ok (.putfield 79, 3)) (kk : gg p l e R s m args below meth c D (aC h) k n nL Q (wC h cA (mu M 6 0 v)) (pc + 3) L st) : gg p l e R s m args below meth c D (aC h) k n nL Q (wC h cA M) pc L (.int v :: .ref (h 28) :: st) := by
  obtain ⟨hx, hb, hml, hown, hts, hK, hD, hr, hlk, hfr, hlo, hnj⟩ := cx
  exact fun H locs ls hP hS hl => va_put (D := D) (ci := 0) (v := .int v) (ty := .int) (C := RX0) (T := TX0) (N := 28) hx hb hts in_X0 tyX0 tyX0_ok nmX0 hown hK hP (hD M) hS 0 rfl rfl 6 (by decide) (hts _ q31) (fun _ h9 => h9) rfl (by decide +kernel) rfl rfl (Nat.le_of_ble_eq_true rfl) hd (fun H1 locs1 hP1 _ hS1 => kk H1 locs1 ls hP1 hS1 hl)
theorem rC_g7 (cx : cxC p R s m args meth c D h cA cc nL ret fr lo) (hd : decode cc pc = .ok (.getfield 76, 3)) (kk : gg p l e R s m args below meth c D (aC h) k n nL Q (wC h cA M) (pc + 3) L (.int (M 7 0) :: st)) : gg p l e R s m args below meth c D (aC h) k n nL Q (wC h cA M) pc L (.ref (h 28) :: st) := by
  obtain ⟨hx, hb, hml, hown, hts, hK, hD, hr, hlk, hfr, hlo, hnj⟩ := cx
  exact fun H locs ls hP hS hl => va_get (D := D) (ci := 0) (v := .int (M 7 0)) (C := RX0) (T := TX0) (N := 28) hx hb hts in_X0 hown hK hP 0 rfl rfl 7 (by decide) (hts _ q32) (fun _ h9 => h9) rfl hd (kk H locs ls hP hS hl)
theorem rC_p7 (cx : cxC p R s m args meth c D h cA cc nL ret fr lo) {v : Int32} (hd : decode cc pc = .ok (.putfield 76, 3)) (kk : gg p l e R s m args below meth c D (aC h) k n nL Q (wC h cA (mu M 7 0 v)) (pc + 3) L st) : gg p l e R s m args below meth c D (aC h) k n nL Q (wC h cA M) pc L (.int v :: .ref (h 28) :: st) := by
  obtain ⟨hx, hb, hml, hown, hts, hK, hD, hr, hlk, hfr, hlo, hnj⟩ := cx
  exact fun H locs ls hP hS hl => va_put (D := D) (ci := 0) (v := .int v) (ty := .int) (C := RX0) (T := TX0) (N := 28) hx hb hts in_X0 tyX0 tyX0_ok nmX0 hown hK hP (hD M) hS 0 rfl rfl 7 (by decide) (hts _ q32) (fun _ h9 => h9) rfl (by decide +kernel) rfl rfl (Nat.le_of_ble_eq_true rfl) hd (fun H1 locs1 hP1 _ hS1 => kk H1 locs1 ls hP1 hS1 hl)
theorem rC_g8 (cx : cxC p R s m args meth c D h cA cc nL ret fr lo) (hd : decode cc pc = .ok (.getfield 82, 3)) (kk : gg p l e R s m args below meth c D (aC h) k n nL Q (wC h cA M) (pc + 3) L (.int (M 8 0) :: st)) : gg p l e R s m args below meth c D (aC h) k n nL Q (wC h cA M) pc L (.ref (h 28) :: st) := by
  obtain ⟨hx, hb, hml, hown, hts, hK, hD, hr, hlk, hfr, hlo, hnj⟩ := cx
  exact fun H locs ls hP hS hl => va_get (D := D) (ci := 0) (v := .int (M 8 0)) (C := RX0) (T := TX0) (N := 28) hx hb hts in_X0 hown hK hP 0 rfl rfl 8 (by decide) (hts _ q33) (fun _ h9 => h9) rfl hd (kk H locs ls hP hS hl)
theorem rC_p8 (cx : cxC p R s m args meth c D h cA cc nL ret fr lo) {v : Int32} (hd : decode cc pc = .ok (.putfield 82, 3)) (kk : gg p l e R s m args below meth c D (aC h) k n nL Q (wC h cA (mu M 8 0 v)) (pc + 3) L st) : gg p l e R s m args below meth c D (aC h) k n nL Q (wC h cA M) pc L (.int v :: .ref (h 28) :: st) := by
  obtain ⟨hx, hb, hml, hown, hts, hK, hD, hr, hlk, hfr, hlo, hnj⟩ := cx
  exact fun H locs ls hP hS hl => va_put (D := D) (ci := 0) (v := .int v) (ty := .int) (C := RX0) (T := TX0) (N := 28) hx hb hts in_X0 tyX0 tyX0_ok nmX0 hown hK hP (hD M) hS 0 rfl rfl 8 (by decide) (hts _ q33) (fun _ h9 => h9) rfl (by decide +kernel) rfl rfl (Nat.le_of_ble_eq_true rfl) hd (fun H1 locs1 hP1 _ hS1 => kk H1 locs1 ls hP1 hS1 hl)
theorem rC_g9 (cx : cxC p R s m args meth c D h cA cc nL ret fr lo) (hd : decode cc pc = .ok (.getfield 85, 3)) (kk : gg p l e R s m args below meth c D (aC h) k n nL Q (wC h cA M) (pc + 3) L (.int (M 9 0) :: st)) : gg p l e R s m args below meth c D (aC h) k n nL Q (wC h cA M) pc L (.ref (h 28) :: st) := by
  obtain ⟨hx, hb, hml, hown, hts, hK, hD, hr, hlk, hfr, hlo, hnj⟩ := cx
  exact fun H locs ls hP hS hl => va_get (D := D) (ci := 0) (v := .int (M 9 0)) (C := RX0) (T := TX0) (N := 28) hx hb hts in_X0 hown hK hP 0 rfl rfl 9 (by decide) (hts _ q34) (fun _ h9 => h9) rfl hd (kk H locs ls hP hS hl)
theorem rC_p9 (cx : cxC p R s m args meth c D h cA cc nL ret fr lo) {v : Int32} (hd : decode cc pc = .ok (.putfield 85, 3)) (kk : gg p l e R s m args below meth c D (aC h) k n nL Q (wC h cA (mu M 9 0 v)) (pc + 3) L st) : gg p l e R s m args below meth c D (aC h) k n nL Q (wC h cA M) pc L (.int v :: .ref (h 28) :: st) := by
  obtain ⟨hx, hb, hml, hown, hts, hK, hD, hr, hlk, hfr, hlo, hnj⟩ := cx
  exact fun H locs ls hP hS hl => va_put (D := D) (ci := 0) (v := .int v) (ty := .int) (C := RX0) (T := TX0) (N := 28) hx hb hts in_X0 tyX0 tyX0_ok nmX0 hown hK hP (hD M) hS 0 rfl rfl 9 (by decide) (hts _ q34) (fun _ h9 => h9) rfl (by decide +kernel) rfl rfl (Nat.le_of_ble_eq_true rfl) hd (fun H1 locs1 hP1 _ hS1 => kk H1 locs1 ls hP1 hS1 hl)
theorem rC_g10 (cx : cxC p R s m args meth c D h cA cc nL ret fr lo) (hd : decode cc pc = .ok (.getfield 98, 3)) (kk : gg p l e R s m args below meth c D (aC h) k n nL Q (wC h cA M) (pc + 3) L (.int (M 10 0) :: st)) : gg p l e R s m args below meth c D (aC h) k n nL Q (wC h cA M) pc L (.ref (h 28) :: st) := by
  obtain ⟨hx, hb, hml, hown, hts, hK, hD, hr, hlk, hfr, hlo, hnj⟩ := cx
  exact fun H locs ls hP hS hl => va_get (D := D) (ci := 0) (v := .int (M 10 0)) (C := RX0) (T := TX0) (N := 28) hx hb hts in_X0 hown hK hP 0 rfl rfl 10 (by decide) (hts _ q35) (fun _ h9 => h9) rfl hd (kk H locs ls hP hS hl)
theorem rC_p10 (cx : cxC p R s m args meth c D h cA cc nL ret fr lo) {v : Int32} (hd : decode cc pc = .ok (.putfield 98, 3)) (kk : gg p l e R s m args below meth c D (aC h) k n nL Q (wC h cA (mu M 10 0 v)) (pc + 3) L st) : gg p l e R s m args below meth c D (aC h) k n nL Q (wC h cA M) pc L (.int v :: .ref (h 28) :: st) := by
  obtain ⟨hx, hb, hml, hown, hts, hK, hD, hr, hlk, hfr, hlo, hnj⟩ := cx
  exact fun H locs ls hP hS hl => va_put (D := D) (ci := 0) (v := .int v) (ty := .int) (C := RX0) (T := TX0) (N := 28) hx hb hts in_X0 tyX0 tyX0_ok nmX0 hown hK hP (hD M) hS 0 rfl rfl 10 (by decide) (hts _ q35) (fun _ h9 => h9) rfl (by decide +kernel) rfl rfl (Nat.le_of_ble_eq_true rfl) hd (fun H1 locs1 hP1 _ hS1 => kk H1 locs1 ls hP1 hS1 hl)
theorem rC_g11 (cx : cxC p R s m args meth c D h cA cc nL ret fr lo) (hd : decode cc pc = .ok (.getfield 101, 3)) (kk : gg p l e R s m args below meth c D (aC h) k n nL Q (wC h cA M) (pc + 3) L (.int (M 11 0) :: st)) : gg p l e R s m args below meth c D (aC h) k n nL Q (wC h cA M) pc L (.ref (h 28) :: st) := by
  obtain ⟨hx, hb, hml, hown, hts, hK, hD, hr, hlk, hfr, hlo, hnj⟩ := cx
  exact fun H locs ls hP hS hl => va_get (D := D) (ci := 0) (v := .int (M 11 0)) (C := RX0) (T := TX0) (N := 28) hx hb hts in_X0 hown hK hP 0 rfl rfl 11 (by decide) (hts _ q36) (fun _ h9 => h9) rfl hd (kk H locs ls hP hS hl)
theorem rC_p11 (cx : cxC p R s m args meth c D h cA cc nL ret fr lo) {v : Int32} (hd : decode cc pc = .ok (.putfield 101, 3)) (hn : narrow .boolean (.int v) = .int v) (hfit : fits .boolean (.int v) = true) (kk : gg p l e R s m args below meth c D (aC h) k n nL Q (wC h cA (mu M 11 0 v)) (pc + 3) L st) : gg p l e R s m args below meth c D (aC h) k n nL Q (wC h cA M) pc L (.int v :: .ref (h 28) :: st) := by
  obtain ⟨hx, hb, hml, hown, hts, hK, hD, hr, hlk, hfr, hlo, hnj⟩ := cx
  exact fun H locs ls hP hS hl => va_put (D := D) (ci := 0) (v := .int v) (ty := .boolean) (C := RX0) (T := TX0) (N := 28) hx hb hts in_X0 tyX0 tyX0_ok nmX0 hown hK hP (hD M) hS 0 rfl rfl 11 (by decide) (hts _ q36) (fun _ h9 => h9) rfl (by decide +kernel) hn hfit (Nat.le_of_ble_eq_true rfl) hd (fun H1 locs1 hP1 _ hS1 => kk H1 locs1 ls hP1 hS1 hl)
theorem rC_g12 (cx : cxC p R s m args meth c D h cA cc nL ret fr lo) (hd : decode cc pc = .ok (.getfield 92, 3)) (kk : gg p l e R s m args below meth c D (aC h) k n nL Q (wC h cA M) (pc + 3) L (.int (M 12 0) :: st)) : gg p l e R s m args below meth c D (aC h) k n nL Q (wC h cA M) pc L (.ref (h 28) :: st) := by
  obtain ⟨hx, hb, hml, hown, hts, hK, hD, hr, hlk, hfr, hlo, hnj⟩ := cx
  exact fun H locs ls hP hS hl => va_get (D := D) (ci := 0) (v := .int (M 12 0)) (C := RX0) (T := TX0) (N := 28) hx hb hts in_X0 hown hK hP 0 rfl rfl 12 (by decide) (hts _ q37) (fun _ h9 => h9) rfl hd (kk H locs ls hP hS hl)
theorem rC_p12 (cx : cxC p R s m args meth c D h cA cc nL ret fr lo) {v : Int32} (hd : decode cc pc = .ok (.putfield 92, 3)) (kk : gg p l e R s m args below meth c D (aC h) k n nL Q (wC h cA (mu M 12 0 v)) (pc + 3) L st) : gg p l e R s m args below meth c D (aC h) k n nL Q (wC h cA M) pc L (.int v :: .ref (h 28) :: st) := by
  obtain ⟨hx, hb, hml, hown, hts, hK, hD, hr, hlk, hfr, hlo, hnj⟩ := cx
  exact fun H locs ls hP hS hl => va_put (D := D) (ci := 0) (v := .int v) (ty := .int) (C := RX0) (T := TX0) (N := 28) hx hb hts in_X0 tyX0 tyX0_ok nmX0 hown hK hP (hD M) hS 0 rfl rfl 12 (by decide) (hts _ q37) (fun _ h9 => h9) rfl (by decide +kernel) rfl rfl (Nat.le_of_ble_eq_true rfl) hd (fun H1 locs1 hP1 _ hS1 => kk H1 locs1 ls hP1 hS1 hl)
theorem rC_g13 (cx : cxC p R s m args meth c D h cA cc nL ret fr lo) (hd : decode cc pc = .ok (.getfield 95, 3)) (kk : gg p l e R s m args below meth c D (aC h) k n nL Q (wC h cA M) (pc + 3) L (.int (M 13 0) :: st)) : gg p l e R s m args below meth c D (aC h) k n nL Q (wC h cA M) pc L (.ref (h 28) :: st) := by
  obtain ⟨hx, hb, hml, hown, hts, hK, hD, hr, hlk, hfr, hlo, hnj⟩ := cx
  exact fun H locs ls hP hS hl => va_get (D := D) (ci := 0) (v := .int (M 13 0)) (C := RX0) (T := TX0) (N := 28) hx hb hts in_X0 hown hK hP 0 rfl rfl 13 (by decide) (hts _ q38) (fun _ h9 => h9) rfl hd (kk H locs ls hP hS hl)
theorem rC_p13 (cx : cxC p R s m args meth c D h cA cc nL ret fr lo) {v : Int32} (hd : decode cc pc = .ok (.putfield 95, 3)) (kk : gg p l e R s m args below meth c D (aC h) k n nL Q (wC h cA (mu M 13 0 v)) (pc + 3) L st) : gg p l e R s m args below meth c D (aC h) k n nL Q (wC h cA M) pc L (.int v :: .ref (h 28) :: st) := by
  obtain ⟨hx, hb, hml, hown, hts, hK, hD, hr, hlk, hfr, hlo, hnj⟩ := cx
  exact fun H locs ls hP hS hl => va_put (D := D) (ci := 0) (v := .int v) (ty := .int) (C := RX0) (T := TX0) (N := 28) hx hb hts in_X0 tyX0 tyX0_ok nmX0 hown hK hP (hD M) hS 0 rfl rfl 13 (by decide) (hts _ q38) (fun _ h9 => h9) rfl (by decide +kernel) rfl rfl (Nat.le_of_ble_eq_true rfl) hd (fun H1 locs1 hP1 _ hS1 => kk H1 locs1 ls hP1 hS1 hl)
theorem rC_g14 (cx : cxC p R s m args meth c D h cA cc nL ret fr lo) (hd : decode cc pc = .ok (.getfield 26, 3)) (kk : gg p l e R s m args below meth c D (aC h) k n nL Q (wC h cA M) (pc + 3) L (.ref (h 14) :: st)) : gg p l e R s m args below meth c D (aC h) k n nL Q (wC h cA M) pc L (.ref (h 28) :: st) := by
  obtain ⟨hx, hb, hml, hown, hts, hK, hD, hr, hlk, hfr, hlo, hnj⟩ := cx
  exact fun H locs ls hP hS hl => va_get (D := D) (ci := 0) (v := .ref (h 14)) (C := RX0) (T := TX0) (N := 28) hx hb hts in_X0 hown hK hP 0 rfl rfl 14 (by decide) (hts _ q39) (fun _ h9 => h9) rfl hd (kk H locs ls hP hS hl)
theorem rC_g15 (cx : cxC p R s m args meth c D h cA cc nL ret fr lo) (hd : decode cc pc = .ok (.getfield 29, 3)) (kk : gg p l e R s m args below meth c D (aC h) k n nL Q (wC h cA M) (pc + 3) L (.ref (h 15) :: st)) : gg p l e R s m args below meth c D (aC h) k n nL Q (wC h cA M) pc L (.ref (h 28) :: st) := by
  obtain ⟨hx, hb, hml, hown, hts, hK, hD, hr, hlk, hfr, hlo, hnj⟩ := cx
  exact fun H locs ls hP hS hl => va_get (D := D) (ci := 0) (v := .ref (h 15)) (C := RX0) (T := TX0) (N := 28) hx hb hts in_X0 hown hK hP 0 rfl rfl 15 (by decide) (hts _ q40) (fun _ h9 => h9) rfl hd (kk H locs ls hP hS hl)
theorem rC_g16 (cx : cxC p R s m args meth c D h cA cc nL ret fr lo) (hd : decode cc pc = .ok (.getfield 32, 3)) (kk : gg p l e R s m args below meth c D (aC h) k n nL Q (wC h cA M) (pc + 3) L (.ref (h 16) :: st)) : gg p l e R s m args below meth c D (aC h) k n nL Q (wC h cA M) pc L (.ref (h 28) :: st) := by
  obtain ⟨hx, hb, hml, hown, hts, hK, hD, hr, hlk, hfr, hlo, hnj⟩ := cx
  exact fun H locs ls hP hS hl => va_get (D := D) (ci := 0) (v := .ref (h 16)) (C := RX0) (T := TX0) (N := 28) hx hb hts in_X0 hown hK hP 0 rfl rfl 16 (by decide) (hts _ q41) (fun _ h9 => h9) rfl hd (kk H locs ls hP hS hl)
theorem rC_g17 (cx : cxC p R s m args meth c D h cA cc nL ret fr lo) (hd : decode cc pc = .ok (.getfield 35, 3)) (kk : gg p l e R s m args below meth c D (aC h) k n nL Q (wC h cA M) (pc + 3) L (.ref (h 17) :: st)) : gg p l e R s m args below meth c D (aC h) k n nL Q (wC h cA M) pc L (.ref (h 28) :: st) := by
  obtain ⟨hx, hb, hml, hown, hts, hK, hD, hr, hlk, hfr, hlo, hnj⟩ := cx
  exact fun H locs ls hP hS hl => va_get (D := D) (ci := 0) (v := .ref (h 17)) (C := RX0) (T := TX0) (N := 28) hx hb hts in_X0 hown hK hP 0 rfl rfl 17 (by decide) (hts _ q42) (fun _ h9 => h9) rfl hd (kk H locs ls hP hS hl)
theorem rC_g18 (cx : cxC p R s m args meth c D h cA cc nL ret fr lo) (hd : decode cc pc = .ok (.getfield 38, 3)) (kk : gg p l e R s m args below meth c D (aC h) k n nL Q (wC h cA M) (pc + 3) L (.ref (h 18) :: st)) : gg p l e R s m args below meth c D (aC h) k n nL Q (wC h cA M) pc L (.ref (h 28) :: st) := by
  obtain ⟨hx, hb, hml, hown, hts, hK, hD, hr, hlk, hfr, hlo, hnj⟩ := cx
  exact fun H locs ls hP hS hl => va_get (D := D) (ci := 0) (v := .ref (h 18)) (C := RX0) (T := TX0) (N := 28) hx hb hts in_X0 hown hK hP 0 rfl rfl 18 (by decide) (hts _ q43) (fun _ h9 => h9) rfl hd (kk H locs ls hP hS hl)
theorem rC_g19 (cx : cxC p R s m args meth c D h cA cc nL ret fr lo) (hd : decode cc pc = .ok (.getfield 41, 3)) (kk : gg p l e R s m args below meth c D (aC h) k n nL Q (wC h cA M) (pc + 3) L (.ref (h 19) :: st)) : gg p l e R s m args below meth c D (aC h) k n nL Q (wC h cA M) pc L (.ref (h 28) :: st) := by
  obtain ⟨hx, hb, hml, hown, hts, hK, hD, hr, hlk, hfr, hlo, hnj⟩ := cx
  exact fun H locs ls hP hS hl => va_get (D := D) (ci := 0) (v := .ref (h 19)) (C := RX0) (T := TX0) (N := 28) hx hb hts in_X0 hown hK hP 0 rfl rfl 19 (by decide) (hts _ q44) (fun _ h9 => h9) rfl hd (kk H locs ls hP hS hl)
theorem rC_g20 (cx : cxC p R s m args meth c D h cA cc nL ret fr lo) (hd : decode cc pc = .ok (.getfield 44, 3)) (kk : gg p l e R s m args below meth c D (aC h) k n nL Q (wC h cA M) (pc + 3) L (.ref (h 20) :: st)) : gg p l e R s m args below meth c D (aC h) k n nL Q (wC h cA M) pc L (.ref (h 28) :: st) := by
  obtain ⟨hx, hb, hml, hown, hts, hK, hD, hr, hlk, hfr, hlo, hnj⟩ := cx
  exact fun H locs ls hP hS hl => va_get (D := D) (ci := 0) (v := .ref (h 20)) (C := RX0) (T := TX0) (N := 28) hx hb hts in_X0 hown hK hP 0 rfl rfl 20 (by decide) (hts _ q45) (fun _ h9 => h9) rfl hd (kk H locs ls hP hS hl)
theorem rC_g21 (cx : cxC p R s m args meth c D h cA cc nL ret fr lo) (hd : decode cc pc = .ok (.getfield 48, 3)) (kk : gg p l e R s m args below meth c D (aC h) k n nL Q (wC h cA M) (pc + 3) L (.ref (h 21) :: st)) : gg p l e R s m args below meth c D (aC h) k n nL Q (wC h cA M) pc L (.ref (h 28) :: st) := by
  obtain ⟨hx, hb, hml, hown, hts, hK, hD, hr, hlk, hfr, hlo, hnj⟩ := cx
  exact fun H locs ls hP hS hl => va_get (D := D) (ci := 0) (v := .ref (h 21)) (C := RX0) (T := TX0) (N := 28) hx hb hts in_X0 hown hK hP 0 rfl rfl 21 (by decide) (hts _ q46) (fun _ h9 => h9) rfl hd (kk H locs ls hP hS hl)
theorem rC_g22 (cx : cxC p R s m args meth c D h cA cc nL ret fr lo) (hd : decode cc pc = .ok (.getfield 51, 3)) (kk : gg p l e R s m args below meth c D (aC h) k n nL Q (wC h cA M) (pc + 3) L (.ref (h 22) :: st)) : gg p l e R s m args below meth c D (aC h) k n nL Q (wC h cA M) pc L (.ref (h 28) :: st) := by
  obtain ⟨hx, hb, hml, hown, hts, hK, hD, hr, hlk, hfr, hlo, hnj⟩ := cx
  exact fun H locs ls hP hS hl => va_get (D := D) (ci := 0) (v := .ref (h 22)) (C := RX0) (T := TX0) (N := 28) hx hb hts in_X0 hown hK hP 0 rfl rfl 22 (by decide) (hts _ q47) (fun _ h9 => h9) rfl hd (kk H locs ls hP hS hl)
theorem rC_g23 (cx : cxC p R s m args meth c D h cA cc nL ret fr lo) (hd : decode cc pc = .ok (.getfield 54, 3)) (kk : gg p l e R s m args below meth c D (aC h) k n nL Q (wC h cA M) (pc + 3) L (.ref (h 23) :: st)) : gg p l e R s m args below meth c D (aC h) k n nL Q (wC h cA M) pc L (.ref (h 28) :: st) := by
  obtain ⟨hx, hb, hml, hown, hts, hK, hD, hr, hlk, hfr, hlo, hnj⟩ := cx
  exact fun H locs ls hP hS hl => va_get (D := D) (ci := 0) (v := .ref (h 23)) (C := RX0) (T := TX0) (N := 28) hx hb hts in_X0 hown hK hP 0 rfl rfl 23 (by decide) (hts _ q48) (fun _ h9 => h9) rfl hd (kk H locs ls hP hS hl)
theorem rC_g24 (cx : cxC p R s m args meth c D h cA cc nL ret fr lo) (hd : decode cc pc = .ok (.getfield 57, 3)) (kk : gg p l e R s m args below meth c D (aC h) k n nL Q (wC h cA M) (pc + 3) L (.ref (h 24) :: st)) : gg p l e R s m args below meth c D (aC h) k n nL Q (wC h cA M) pc L (.ref (h 28) :: st) := by
  obtain ⟨hx, hb, hml, hown, hts, hK, hD, hr, hlk, hfr, hlo, hnj⟩ := cx
  exact fun H locs ls hP hS hl => va_get (D := D) (ci := 0) (v := .ref (h 24)) (C := RX0) (T := TX0) (N := 28) hx hb hts in_X0 hown hK hP 0 rfl rfl 24 (by decide) (hts _ q49) (fun _ h9 => h9) rfl hd (kk H locs ls hP hS hl)
theorem rC_g25 (cx : cxC p R s m args meth c D h cA cc nL ret fr lo) (hd : decode cc pc = .ok (.getfield 60, 3)) (kk : gg p l e R s m args below meth c D (aC h) k n nL Q (wC h cA M) (pc + 3) L (.ref (h 25) :: st)) : gg p l e R s m args below meth c D (aC h) k n nL Q (wC h cA M) pc L (.ref (h 28) :: st) := by
  obtain ⟨hx, hb, hml, hown, hts, hK, hD, hr, hlk, hfr, hlo, hnj⟩ := cx
  exact fun H locs ls hP hS hl => va_get (D := D) (ci := 0) (v := .ref (h 25)) (C := RX0) (T := TX0) (N := 28) hx hb hts in_X0 hown hK hP 0 rfl rfl 25 (by decide) (hts _ q50) (fun _ h9 => h9) rfl hd (kk H locs ls hP hS hl)
theorem rC_g26 (cx : cxC p R s m args meth c D h cA cc nL ret fr lo) (hd : decode cc pc = .ok (.getfield 63, 3)) (kk : gg p l e R s m args below meth c D (aC h) k n nL Q (wC h cA M) (pc + 3) L (.ref (h 26) :: st)) : gg p l e R s m args below meth c D (aC h) k n nL Q (wC h cA M) pc L (.ref (h 28) :: st) := by
  obtain ⟨hx, hb, hml, hown, hts, hK, hD, hr, hlk, hfr, hlo, hnj⟩ := cx
  exact fun H locs ls hP hS hl => va_get (D := D) (ci := 0) (v := .ref (h 26)) (C := RX0) (T := TX0) (N := 28) hx hb hts in_X0 hown hK hP 0 rfl rfl 26 (by decide) (hts _ q51) (fun _ h9 => h9) rfl hd (kk H locs ls hP hS hl)
theorem rC_g27 (cx : cxC p R s m args meth c D h cA cc nL ret fr lo) (hd : decode cc pc = .ok (.getfield 66, 3)) (kk : gg p l e R s m args below meth c D (aC h) k n nL Q (wC h cA M) (pc + 3) L (.ref (h 27) :: st)) : gg p l e R s m args below meth c D (aC h) k n nL Q (wC h cA M) pc L (.ref (h 28) :: st) := by
  obtain ⟨hx, hb, hml, hown, hts, hK, hD, hr, hlk, hfr, hlo, hnj⟩ := cx
  exact fun H locs ls hP hS hl => va_get (D := D) (ci := 0) (v := .ref (h 27)) (C := RX0) (T := TX0) (N := 28) hx hb hts in_X0 hown hK hP 0 rfl rfl 27 (by decide) (hts _ q52) (fun _ h9 => h9) rfl hd (kk H locs ls hP hS hl)
theorem rC_l0 (cx : cxC p R s m args meth c D h cA cc nL ret fr lo) {i : Int32} {a : Option α} (hd : decode cc pc = .ok (.baload, 1)) (hf : (if inb i 16 = true then a else none) = some r) (kk : a = some r → gg p l e R s m args below meth c D (aC h) k n nL Q (wC h cA M) (pc + 1) L (.int (M 0 i.toNatClampNeg) :: st)) : gg p l e R s m args below meth c D (aC h) k n nL Q (wC h cA M) pc L (.int i :: .ref (h 0) :: st) := by
  obtain ⟨hx, hb, hml, hown, hts, hK, hD, hr, hlk, hfr, hlo, hnj⟩ := cx
  exact fun H locs ls hP hS hl => va_bald hx hb hK hP 1 0 rfl rfl (inb_in (og hf).1) hd (kk (og hf).2 H locs ls hP hS hl)
theorem rC_s0 (cx : cxC p R s m args meth c D h cA cc nL ret fr lo) {i x : Int32} {a : Option α} (hd : decode cc pc = .ok (.bastore, 1)) (hf : (if inb i 16 = true then a else none) = some r) (kk : a = some r → gg p l e R s m args below meth c D (aC h) k n nL Q (wC h cA (mu M 0 i.toNatClampNeg (vp_nar .byte x))) (pc + 1) L st) : gg p l e R s m args below meth c D (aC h) k n nL Q (wC h cA M) pc L (.int x :: .int i :: .ref (h 0) :: st) := by
  obtain ⟨hx, hb, hml, hown, hts, hK, hD, hr, hlk, hfr, hlo, hnj⟩ := cx
  exact fun H locs ls hP hS hl => va_bast hx hb hK hP (hD M) hS 1 0 rfl rfl (inb_in (og hf).1) hd (fun H1 locs1 hP1 _ hS1 => kk (og hf).2 H1 locs1 ls hP1 hS1 hl)
theorem rC_l1 (cx : cxC p R s m args meth c D h cA cc nL ret fr lo) {i : Int32} {a : Option α} (hd : decode cc pc = .ok (.baload, 1)) (hf : (if inb i 16 = true then a else none) = some r) (kk : a = some r → gg p l e R s m args below meth c D (aC h) k n nL Q (wC h cA M) (pc + 1) L (.int (M 1 i.toNatClampNeg) :: st)) : gg p l e R s m args below meth c D (aC h) k n nL Q (wC h cA M) pc L (.int i :: .ref (h 1) :: st) := by
  obtain ⟨hx, hb, hml, hown, hts, hK, hD, hr, hlk, hfr, hlo, hnj⟩ := cx
  exact fun H locs ls hP hS hl => va_bald hx hb hK hP 2 1 rfl rfl (inb_in (og hf).1) hd (kk (og hf).2 H locs ls hP hS hl)
theorem rC_s1 (cx : cxC p R s m args meth c D h cA cc nL ret fr lo) {i x : Int32} {a : Option α} (hd : decode cc pc = .ok (.bastore, 1)) (hf : (if inb i 16 = true then a else none) = some r) (kk : a = some r → gg p l e R s m args below meth c D (aC h) k n nL Q (wC h cA (mu M 1 i.toNatClampNeg (vp_nar .byte x))) (pc + 1) L st) : gg p l e R s m args below meth c D (aC h) k n nL Q (wC h cA M) pc L (.int x :: .int i :: .ref (h 1) :: st) := by
  obtain ⟨hx, hb, hml, hown, hts, hK, hD, hr, hlk, hfr, hlo, hnj⟩ := cx
  exact fun H locs ls hP hS hl => va_bast hx hb hK hP (hD M) hS 2 1 rfl rfl (inb_in (og hf).1) hd (fun H1 locs1 hP1 _ hS1 => kk (og hf).2 H1 locs1 ls hP1 hS1 hl)
theorem rC_l2 (cx : cxC p R s m args meth c D h cA cc nL ret fr lo) {i : Int32} {a : Option α} (hd : decode cc pc = .ok (.iaload, 1)) (hf : (if inb i 16 = true then a else none) = some r) (kk : a = some r → gg p l e R s m args below meth c D (aC h) k n nL Q (wC h cA M) (pc + 1) L (.int (M 2 i.toNatClampNeg) :: st)) : gg p l e R s m args below meth c D (aC h) k n nL Q (wC h cA M) pc L (.int i :: .ref (h 2) :: st) := by
  obtain ⟨hx, hb, hml, hown, hts, hK, hD, hr, hlk, hfr, hlo, hnj⟩ := cx
  exact fun H locs ls hP hS hl => va_iald hx hb hK hP 3 2 rfl rfl (inb_in (og hf).1) hd (kk (og hf).2 H locs ls hP hS hl)
theorem rC_s2 (cx : cxC p R s m args meth c D h cA cc nL ret fr lo) {i x : Int32} {a : Option α} (hd : decode cc pc = .ok (.iastore, 1)) (hf : (if inb i 16 = true then a else none) = some r) (kk : a = some r → gg p l e R s m args below meth c D (aC h) k n nL Q (wC h cA (mu M 2 i.toNatClampNeg x)) (pc + 1) L st) : gg p l e R s m args below meth c D (aC h) k n nL Q (wC h cA M) pc L (.int x :: .int i :: .ref (h 2) :: st) := by
  obtain ⟨hx, hb, hml, hown, hts, hK, hD, hr, hlk, hfr, hlo, hnj⟩ := cx
  exact fun H locs ls hP hS hl => va_iast hx hb hK hP (hD M) hS 3 2 rfl rfl (inb_in (og hf).1) hd (fun H1 locs1 hP1 _ hS1 => kk (og hf).2 H1 locs1 ls hP1 hS1 hl)
theorem rC_l4 (cx : cxC p R s m args meth c D h cA cc nL ret fr lo) {i : Int32} {a : Option α} (hd : decode cc pc = .ok (.iaload, 1)) (hf : (if inb i 4 = true then a else none) = some r) (kk : a = some r → gg p l e R s m args below meth c D (aC h) k n nL Q (wC h cA M) (pc + 1) L (.int (M 4 i.toNatClampNeg) :: st)) : gg p l e R s m args below meth c D (aC h) k n nL Q (wC h cA M) pc L (.int i :: .ref (h 4) :: st) := by
  obtain ⟨hx, hb, hml, hown, hts, hK, hD, hr, hlk, hfr, hlo, hnj⟩ := cx
  exact fun H locs ls hP hS hl => va_iald hx hb hK hP 4 3 rfl rfl (inb_in (og hf).1) hd (kk (og hf).2 H locs ls hP hS hl)
theorem rC_s4 (cx : cxC p R s m args meth c D h cA cc nL ret fr lo) {i x : Int32} {a : Option α} (hd : decode cc pc = .ok (.iastore, 1)) (hf : (if inb i 4 = true then a else none) = some r) (kk : a = some r → gg p l e R s m args below meth c D (aC h) k n nL Q (wC h cA (mu M 4 i.toNatClampNeg x)) (pc + 1) L st) : gg p l e R s m args below meth c D (aC h) k n nL Q (wC h cA M) pc L (.int x :: .int i :: .ref (h 4) :: st) := by
  obtain ⟨hx, hb, hml, hown, hts, hK, hD, hr, hlk, hfr, hlo, hnj⟩ := cx
  exact fun H locs ls hP hS hl => va_iast hx hb hK hP (hD M) hS 4 3 rfl rfl (inb_in (og hf).1) hd (fun H1 locs1 hP1 _ hS1 => kk (og hf).2 H1 locs1 ls hP1 hS1 hl)
theorem rC_l5 (cx : cxC p R s m args meth c D h cA cc nL ret fr lo) {i : Int32} {a : Option α} (hd : decode cc pc = .ok (.iaload, 1)) (hf : (if inb i 8 = true then a else none) = some r) (kk : a = some r → gg p l e R s m args below meth c D (aC h) k n nL Q (wC h cA M) (pc + 1) L (.int (M 5 i.toNatClampNeg) :: st)) : gg p l e R s m args below meth c D (aC h) k n nL Q (wC h cA M) pc L (.int i :: .ref (h 5) :: st) := by
  obtain ⟨hx, hb, hml, hown, hts, hK, hD, hr, hlk, hfr, hlo, hnj⟩ := cx
  exact fun H locs ls hP hS hl => va_iald hx hb hK hP 5 4 rfl rfl (inb_in (og hf).1) hd (kk (og hf).2 H locs ls hP hS hl)
theorem rC_s5 (cx : cxC p R s m args meth c D h cA cc nL ret fr lo) {i x : Int32} {a : Option α} (hd : decode cc pc = .ok (.iastore, 1)) (hf : (if inb i 8 = true then a else none) = some r) (kk : a = some r → gg p l e R s m args below meth c D (aC h) k n nL Q (wC h cA (mu M 5 i.toNatClampNeg x)) (pc + 1) L st) : gg p l e R s m args below meth c D (aC h) k n nL Q (wC h cA M) pc L (.int x :: .int i :: .ref (h 5) :: st) := by
  obtain ⟨hx, hb, hml, hown, hts, hK, hD, hr, hlk, hfr, hlo, hnj⟩ := cx
  exact fun H locs ls hP hS hl => va_iast hx hb hK hP (hD M) hS 5 4 rfl rfl (inb_in (og hf).1) hd (fun H1 locs1 hP1 _ hS1 => kk (og hf).2 H1 locs1 ls hP1 hS1 hl)
theorem rC_l14 (cx : cxC p R s m args meth c D h cA cc nL ret fr lo) {i : Int32} {a : Option α} (hd : decode cc pc = .ok (.baload, 1)) (hf : (if inb i 6 = true then a else none) = some r) (kk : a = some r → gg p l e R s m args below meth c D (aC h) k n nL Q (wC h cA M) (pc + 1) L (.int (M 14 i.toNatClampNeg) :: st)) : gg p l e R s m args below meth c D (aC h) k n nL Q (wC h cA M) pc L (.int i :: .ref (h 14) :: st) := by
  obtain ⟨hx, hb, hml, hown, hts, hK, hD, hr, hlk, hfr, hlo, hnj⟩ := cx
  exact fun H locs ls hP hS hl => va_bald hx hb hK hP 6 5 rfl rfl (inb_in (og hf).1) hd (kk (og hf).2 H locs ls hP hS hl)
theorem rC_s14 (cx : cxC p R s m args meth c D h cA cc nL ret fr lo) {i x : Int32} {a : Option α} (hd : decode cc pc = .ok (.bastore, 1)) (hf : (if inb i 6 = true then a else none) = some r) (kk : a = some r → gg p l e R s m args below meth c D (aC h) k n nL Q (wC h cA (mu M 14 i.toNatClampNeg (vp_nar .byte x))) (pc + 1) L st) : gg p l e R s m args below meth c D (aC h) k n nL Q (wC h cA M) pc L (.int x :: .int i :: .ref (h 14) :: st) := by
  obtain ⟨hx, hb, hml, hown, hts, hK, hD, hr, hlk, hfr, hlo, hnj⟩ := cx
  exact fun H locs ls hP hS hl => va_bast hx hb hK hP (hD M) hS 6 5 rfl rfl (inb_in (og hf).1) hd (fun H1 locs1 hP1 _ hS1 => kk (og hf).2 H1 locs1 ls hP1 hS1 hl)
theorem rC_l15 (cx : cxC p R s m args meth c D h cA cc nL ret fr lo) {i : Int32} {a : Option α} (hd : decode cc pc = .ok (.iaload, 1)) (hf : (if inb i 6 = true then a else none) = some r) (kk : a = some r → gg p l e R s m args below meth c D (aC h) k n nL Q (wC h cA M) (pc + 1) L (.int (M 15 i.toNatClampNeg) :: st)) : gg p l e R s m args below meth c D (aC h) k n nL Q (wC h cA M) pc L (.int i :: .ref (h 15) :: st) := by
  obtain ⟨hx, hb, hml, hown, hts, hK, hD, hr, hlk, hfr, hlo, hnj⟩ := cx
  exact fun H locs ls hP hS hl => va_iald hx hb hK hP 7 6 rfl rfl (inb_in (og hf).1) hd (kk (og hf).2 H locs ls hP hS hl)
theorem rC_s15 (cx : cxC p R s m args meth c D h cA cc nL ret fr lo) {i x : Int32} {a : Option α} (hd : decode cc pc = .ok (.iastore, 1)) (hf : (if inb i 6 = true then a else none) = some r) (kk : a = some r → gg p l e R s m args below meth c D (aC h) k n nL Q (wC h cA (mu M 15 i.toNatClampNeg x)) (pc + 1) L st) : gg p l e R s m args below meth c D (aC h) k n nL Q (wC h cA M) pc L (.int x :: .int i :: .ref (h 15) :: st) := by
  obtain ⟨hx, hb, hml, hown, hts, hK, hD, hr, hlk, hfr, hlo, hnj⟩ := cx
  exact fun H locs ls hP hS hl => va_iast hx hb hK hP (hD M) hS 7 6 rfl rfl (inb_in (og hf).1) hd (fun H1 locs1 hP1 _ hS1 => kk (og hf).2 H1 locs1 ls hP1 hS1 hl)
theorem rC_l16 (cx : cxC p R s m args meth c D h cA cc nL ret fr lo) {i : Int32} {a : Option α} (hd : decode cc pc = .ok (.baload, 1)) (hf : (if inb i 6 = true then a else none) = some r) (kk : a = some r → gg p l e R s m args below meth c D (aC h) k n nL Q (wC h cA M) (pc + 1) L (.int (M 16 i.toNatClampNeg) :: st)) : gg p l e R s m args below meth c D (aC h) k n nL Q (wC h cA M) pc L (.int i :: .ref (h 16) :: st) := by
  obtain ⟨hx, hb, hml, hown, hts, hK, hD, hr, hlk, hfr, hlo, hnj⟩ := cx
  exact fun H locs ls hP hS hl => va_bald hx hb hK hP 8 7 rfl rfl (inb_in (og hf).1) hd (kk (og hf).2 H locs ls hP hS hl)
theorem rC_s16 (cx : cxC p R s m args meth c D h cA cc nL ret fr lo) {i x : Int32} {a : Option α} (hd : decode cc pc = .ok (.bastore, 1)) (hf : (if inb i 6 = true then a else none) = some r) (kk : a = some r → gg p l e R s m args below meth c D (aC h) k n nL Q (wC h cA (mu M 16 i.toNatClampNeg (vp_nar .byte x))) (pc + 1) L st) : gg p l e R s m args below meth c D (aC h) k n nL Q (wC h cA M) pc L (.int x :: .int i :: .ref (h 16) :: st) := by
  obtain ⟨hx, hb, hml, hown, hts, hK, hD, hr, hlk, hfr, hlo, hnj⟩ := cx
  exact fun H locs ls hP hS hl => va_bast hx hb hK hP (hD M) hS 8 7 rfl rfl (inb_in (og hf).1) hd (fun H1 locs1 hP1 _ hS1 => kk (og hf).2 H1 locs1 ls hP1 hS1 hl)
theorem rC_l17 (cx : cxC p R s m args meth c D h cA cc nL ret fr lo) {i : Int32} {a : Option α} (hd : decode cc pc = .ok (.baload, 1)) (hf : (if inb i 6 = true then a else none) = some r) (kk : a = some r → gg p l e R s m args below meth c D (aC h) k n nL Q (wC h cA M) (pc + 1) L (.int (M 17 i.toNatClampNeg) :: st)) : gg p l e R s m args below meth c D (aC h) k n nL Q (wC h cA M) pc L (.int i :: .ref (h 17) :: st) := by
  obtain ⟨hx, hb, hml, hown, hts, hK, hD, hr, hlk, hfr, hlo, hnj⟩ := cx
  exact fun H locs ls hP hS hl => va_bald hx hb hK hP 9 8 rfl rfl (inb_in (og hf).1) hd (kk (og hf).2 H locs ls hP hS hl)
theorem rC_s17 (cx : cxC p R s m args meth c D h cA cc nL ret fr lo) {i x : Int32} {a : Option α} (hd : decode cc pc = .ok (.bastore, 1)) (hf : (if inb i 6 = true then a else none) = some r) (kk : a = some r → gg p l e R s m args below meth c D (aC h) k n nL Q (wC h cA (mu M 17 i.toNatClampNeg (vp_nar .byte x))) (pc + 1) L st) : gg p l e R s m args below meth c D (aC h) k n nL Q (wC h cA M) pc L (.int x :: .int i :: .ref (h 17) :: st) := by
  obtain ⟨hx, hb, hml, hown, hts, hK, hD, hr, hlk, hfr, hlo, hnj⟩ := cx
  exact fun H locs ls hP hS hl => va_bast hx hb hK hP (hD M) hS 9 8 rfl rfl (inb_in (og hf).1) hd (fun H1 locs1 hP1 _ hS1 => kk (og hf).2 H1 locs1 ls hP1 hS1 hl)
theorem rC_l18 (cx : cxC p R s m args meth c D h cA cc nL ret fr lo) {i : Int32} {a : Option α} (hd : decode cc pc = .ok (.iaload, 1)) (hf : (if inb i 6 = true then a else none) = some r) (kk : a = some r → gg p l e R s m args below meth c D (aC h) k n nL Q (wC h cA M) (pc + 1) L (.int (M 18 i.toNatClampNeg) :: st)) : gg p l e R s m args below meth c D (aC h) k n nL Q (wC h cA M) pc L (.int i :: .ref (h 18) :: st) := by
  obtain ⟨hx, hb, hml, hown, hts, hK, hD, hr, hlk, hfr, hlo, hnj⟩ := cx
  exact fun H locs ls hP hS hl => va_iald hx hb hK hP 10 9 rfl rfl (inb_in (og hf).1) hd (kk (og hf).2 H locs ls hP hS hl)
theorem rC_s18 (cx : cxC p R s m args meth c D h cA cc nL ret fr lo) {i x : Int32} {a : Option α} (hd : decode cc pc = .ok (.iastore, 1)) (hf : (if inb i 6 = true then a else none) = some r) (kk : a = some r → gg p l e R s m args below meth c D (aC h) k n nL Q (wC h cA (mu M 18 i.toNatClampNeg x)) (pc + 1) L st) : gg p l e R s m args below meth c D (aC h) k n nL Q (wC h cA M) pc L (.int x :: .int i :: .ref (h 18) :: st) := by
  obtain ⟨hx, hb, hml, hown, hts, hK, hD, hr, hlk, hfr, hlo, hnj⟩ := cx
  exact fun H locs ls hP hS hl => va_iast hx hb hK hP (hD M) hS 10 9 rfl rfl (inb_in (og hf).1) hd (fun H1 locs1 hP1 _ hS1 => kk (og hf).2 H1 locs1 ls hP1 hS1 hl)
theorem rC_l19 (cx : cxC p R s m args meth c D h cA cc nL ret fr lo) {i : Int32} {a : Option α} (hd : decode cc pc = .ok (.iaload, 1)) (hf : (if inb i 6 = true then a else none) = some r) (kk : a = some r → gg p l e R s m args below meth c D (aC h) k n nL Q (wC h cA M) (pc + 1) L (.int (M 19 i.toNatClampNeg) :: st)) : gg p l e R s m args below meth c D (aC h) k n nL Q (wC h cA M) pc L (.int i :: .ref (h 19) :: st) := by
  obtain ⟨hx, hb, hml, hown, hts, hK, hD, hr, hlk, hfr, hlo, hnj⟩ := cx
  exact fun H locs ls hP hS hl => va_iald hx hb hK hP 11 10 rfl rfl (inb_in (og hf).1) hd (kk (og hf).2 H locs ls hP hS hl)
theorem rC_s19 (cx : cxC p R s m args meth c D h cA cc nL ret fr lo) {i x : Int32} {a : Option α} (hd : decode cc pc = .ok (.iastore, 1)) (hf : (if inb i 6 = true then a else none) = some r) (kk : a = some r → gg p l e R s m args below meth c D (aC h) k n nL Q (wC h cA (mu M 19 i.toNatClampNeg x)) (pc + 1) L st) : gg p l e R s m args below meth c D (aC h) k n nL Q (wC h cA M) pc L (.int x :: .int i :: .ref (h 19) :: st) := by
  obtain ⟨hx, hb, hml, hown, hts, hK, hD, hr, hlk, hfr, hlo, hnj⟩ := cx
  exact fun H locs ls hP hS hl => va_iast hx hb hK hP (hD M) hS 11 10 rfl rfl (inb_in (og hf).1) hd (fun H1 locs1 hP1 _ hS1 => kk (og hf).2 H1 locs1 ls hP1 hS1 hl)
theorem rC_l20 (cx : cxC p R s m args meth c D h cA cc nL ret fr lo) {i : Int32} {a : Option α} (hd : decode cc pc = .ok (.baload, 1)) (hf : (if inb i 6 = true then a else none) = some r) (kk : a = some r → gg p l e R s m args below meth c D (aC h) k n nL Q (wC h cA M) (pc + 1) L (.int (M 20 i.toNatClampNeg) :: st)) : gg p l e R s m args below meth c D (aC h) k n nL Q (wC h cA M) pc L (.int i :: .ref (h 20) :: st) := by
  obtain ⟨hx, hb, hml, hown, hts, hK, hD, hr, hlk, hfr, hlo, hnj⟩ := cx
  exact fun H locs ls hP hS hl => va_zald hx hb hK hP 12 11 rfl rfl (inb_in (og hf).1) hd (kk (og hf).2 H locs ls hP hS hl)
theorem rC_s20 (cx : cxC p R s m args meth c D h cA cc nL ret fr lo) {i x : Int32} {a : Option α} (hd : decode cc pc = .ok (.bastore, 1)) (hf : (if inb i 6 = true then a else none) = some r) (kk : a = some r → gg p l e R s m args below meth c D (aC h) k n nL Q (wC h cA (mu M 20 i.toNatClampNeg (vp_nar .boolean x))) (pc + 1) L st) : gg p l e R s m args below meth c D (aC h) k n nL Q (wC h cA M) pc L (.int x :: .int i :: .ref (h 20) :: st) := by
  obtain ⟨hx, hb, hml, hown, hts, hK, hD, hr, hlk, hfr, hlo, hnj⟩ := cx
  exact fun H locs ls hP hS hl => va_zast hx hb hK hP (hD M) hS 12 11 rfl rfl (inb_in (og hf).1) hd (fun H1 locs1 hP1 _ hS1 => kk (og hf).2 H1 locs1 ls hP1 hS1 hl)
theorem rC_l21 (cx : cxC p R s m args meth c D h cA cc nL ret fr lo) {i : Int32} {a : Option α} (hd : decode cc pc = .ok (.iaload, 1)) (hf : (if inb i 6 = true then a else none) = some r) (kk : a = some r → gg p l e R s m args below meth c D (aC h) k n nL Q (wC h cA M) (pc + 1) L (.int (M 21 i.toNatClampNeg) :: st)) : gg p l e R s m args below meth c D (aC h) k n nL Q (wC h cA M) pc L (.int i :: .ref (h 21) :: st) := by
  obtain ⟨hx, hb, hml, hown, hts, hK, hD, hr, hlk, hfr, hlo, hnj⟩ := cx
  exact fun H locs ls hP hS hl => va_iald hx hb hK hP 13 12 rfl rfl (inb_in (og hf).1) hd (kk (og hf).2 H locs ls hP hS hl)
theorem rC_s21 (cx : cxC p R s m args meth c D h cA cc nL ret fr lo) {i x : Int32} {a : Option α} (hd : decode cc pc = .ok (.iastore, 1)) (hf : (if inb i 6 = true then a else none) = some r) (kk : a = some r → gg p l e R s m args below meth c D (aC h) k n nL Q (wC h cA (mu M 21 i.toNatClampNeg x)) (pc + 1) L st) : gg p l e R s m args below meth c D (aC h) k n nL Q (wC h cA M) pc L (.int x :: .int i :: .ref (h 21) :: st) := by
  obtain ⟨hx, hb, hml, hown, hts, hK, hD, hr, hlk, hfr, hlo, hnj⟩ := cx
  exact fun H locs ls hP hS hl => va_iast hx hb hK hP (hD M) hS 13 12 rfl rfl (inb_in (og hf).1) hd (fun H1 locs1 hP1 _ hS1 => kk (og hf).2 H1 locs1 ls hP1 hS1 hl)
theorem rC_l22 (cx : cxC p R s m args meth c D h cA cc nL ret fr lo) {i : Int32} {a : Option α} (hd : decode cc pc = .ok (.baload, 1)) (hf : (if inb i 6 = true then a else none) = some r) (kk : a = some r → gg p l e R s m args below meth c D (aC h) k n nL Q (wC h cA M) (pc + 1) L (.int (M 22 i.toNatClampNeg) :: st)) : gg p l e R s m args below meth c D (aC h) k n nL Q (wC h cA M) pc L (.int i :: .ref (h 22) :: st) := by
  obtain ⟨hx, hb, hml, hown, hts, hK, hD, hr, hlk, hfr, hlo, hnj⟩ := cx
  exact fun H locs ls hP hS hl => va_bald hx hb hK hP 14 13 rfl rfl (inb_in (og hf).1) hd (kk (og hf).2 H locs ls hP hS hl)
theorem rC_s22 (cx : cxC p R s m args meth c D h cA cc nL ret fr lo) {i x : Int32} {a : Option α} (hd : decode cc pc = .ok (.bastore, 1)) (hf : (if inb i 6 = true then a else none) = some r) (kk : a = some r → gg p l e R s m args below meth c D (aC h) k n nL Q (wC h cA (mu M 22 i.toNatClampNeg (vp_nar .byte x))) (pc + 1) L st) : gg p l e R s m args below meth c D (aC h) k n nL Q (wC h cA M) pc L (.int x :: .int i :: .ref (h 22) :: st) := by
  obtain ⟨hx, hb, hml, hown, hts, hK, hD, hr, hlk, hfr, hlo, hnj⟩ := cx
  exact fun H locs ls hP hS hl => va_bast hx hb hK hP (hD M) hS 14 13 rfl rfl (inb_in (og hf).1) hd (fun H1 locs1 hP1 _ hS1 => kk (og hf).2 H1 locs1 ls hP1 hS1 hl)
theorem rC_l23 (cx : cxC p R s m args meth c D h cA cc nL ret fr lo) {i : Int32} {a : Option α} (hd : decode cc pc = .ok (.baload, 1)) (hf : (if inb i 6 = true then a else none) = some r) (kk : a = some r → gg p l e R s m args below meth c D (aC h) k n nL Q (wC h cA M) (pc + 1) L (.int (M 23 i.toNatClampNeg) :: st)) : gg p l e R s m args below meth c D (aC h) k n nL Q (wC h cA M) pc L (.int i :: .ref (h 23) :: st) := by
  obtain ⟨hx, hb, hml, hown, hts, hK, hD, hr, hlk, hfr, hlo, hnj⟩ := cx
  exact fun H locs ls hP hS hl => va_bald hx hb hK hP 15 14 rfl rfl (inb_in (og hf).1) hd (kk (og hf).2 H locs ls hP hS hl)
theorem rC_s23 (cx : cxC p R s m args meth c D h cA cc nL ret fr lo) {i x : Int32} {a : Option α} (hd : decode cc pc = .ok (.bastore, 1)) (hf : (if inb i 6 = true then a else none) = some r) (kk : a = some r → gg p l e R s m args below meth c D (aC h) k n nL Q (wC h cA (mu M 23 i.toNatClampNeg (vp_nar .byte x))) (pc + 1) L st) : gg p l e R s m args below meth c D (aC h) k n nL Q (wC h cA M) pc L (.int x :: .int i :: .ref (h 23) :: st) := by
  obtain ⟨hx, hb, hml, hown, hts, hK, hD, hr, hlk, hfr, hlo, hnj⟩ := cx
  exact fun H locs ls hP hS hl => va_bast hx hb hK hP (hD M) hS 15 14 rfl rfl (inb_in (og hf).1) hd (fun H1 locs1 hP1 _ hS1 => kk (og hf).2 H1 locs1 ls hP1 hS1 hl)
theorem rC_l24 (cx : cxC p R s m args meth c D h cA cc nL ret fr lo) {i : Int32} {a : Option α} (hd : decode cc pc = .ok (.baload, 1)) (hf : (if inb i 6 = true then a else none) = some r) (kk : a = some r → gg p l e R s m args below meth c D (aC h) k n nL Q (wC h cA M) (pc + 1) L (.int (M 24 i.toNatClampNeg) :: st)) : gg p l e R s m args below meth c D (aC h) k n nL Q (wC h cA M) pc L (.int i :: .ref (h 24) :: st) := by
  obtain ⟨hx, hb, hml, hown, hts, hK, hD, hr, hlk, hfr, hlo, hnj⟩ := cx
  exact fun H locs ls hP hS hl => va_bald hx hb hK hP 16 15 rfl rfl (inb_in (og hf).1) hd (kk (og hf).2 H locs ls hP hS hl)
theorem rC_s24 (cx : cxC p R s m args meth c D h cA cc nL ret fr lo) {i x : Int32} {a : Option α} (hd : decode cc pc = .ok (.bastore, 1)) (hf : (if inb i 6 = true then a else none) = some r) (kk : a = some r → gg p l e R s m args below meth c D (aC h) k n nL Q (wC h cA (mu M 24 i.toNatClampNeg (vp_nar .byte x))) (pc + 1) L st) : gg p l e R s m args below meth c D (aC h) k n nL Q (wC h cA M) pc L (.int x :: .int i :: .ref (h 24) :: st) := by
  obtain ⟨hx, hb, hml, hown, hts, hK, hD, hr, hlk, hfr, hlo, hnj⟩ := cx
  exact fun H locs ls hP hS hl => va_bast hx hb hK hP (hD M) hS 16 15 rfl rfl (inb_in (og hf).1) hd (fun H1 locs1 hP1 _ hS1 => kk (og hf).2 H1 locs1 ls hP1 hS1 hl)
theorem rC_l25 (cx : cxC p R s m args meth c D h cA cc nL ret fr lo) {i : Int32} {a : Option α} (hd : decode cc pc = .ok (.iaload, 1)) (hf : (if inb i 6 = true then a else none) = some r) (kk : a = some r → gg p l e R s m args below meth c D (aC h) k n nL Q (wC h cA M) (pc + 1) L (.int (M 25 i.toNatClampNeg) :: st)) : gg p l e R s m args below meth c D (aC h) k n nL Q (wC h cA M) pc L (.int i :: .ref (h 25) :: st) := by
  obtain ⟨hx, hb, hml, hown, hts, hK, hD, hr, hlk, hfr, hlo, hnj⟩ := cx
  exact fun H locs ls hP hS hl => va_iald hx hb hK hP 17 16 rfl rfl (inb_in (og hf).1) hd (kk (og hf).2 H locs ls hP hS hl)
theorem rC_s25 (cx : cxC p R s m args meth c D h cA cc nL ret fr lo) {i x : Int32} {a : Option α} (hd : decode cc pc = .ok (.iastore, 1)) (hf : (if inb i 6 = true then a else none) = some r) (kk : a = some r → gg p l e R s m args below meth c D (aC h) k n nL Q (wC h cA (mu M 25 i.toNatClampNeg x)) (pc + 1) L st) : gg p l e R s m args below meth c D (aC h) k n nL Q (wC h cA M) pc L (.int x :: .int i :: .ref (h 25) :: st) := by
  obtain ⟨hx, hb, hml, hown, hts, hK, hD, hr, hlk, hfr, hlo, hnj⟩ := cx
  exact fun H locs ls hP hS hl => va_iast hx hb hK hP (hD M) hS 17 16 rfl rfl (inb_in (og hf).1) hd (fun H1 locs1 hP1 _ hS1 => kk (og hf).2 H1 locs1 ls hP1 hS1 hl)
theorem rC_l26 (cx : cxC p R s m args meth c D h cA cc nL ret fr lo) {i : Int32} {a : Option α} (hd : decode cc pc = .ok (.iaload, 1)) (hf : (if inb i 6 = true then a else none) = some r) (kk : a = some r → gg p l e R s m args below meth c D (aC h) k n nL Q (wC h cA M) (pc + 1) L (.int (M 26 i.toNatClampNeg) :: st)) : gg p l e R s m args below meth c D (aC h) k n nL Q (wC h cA M) pc L (.int i :: .ref (h 26) :: st) := by
  obtain ⟨hx, hb, hml, hown, hts, hK, hD, hr, hlk, hfr, hlo, hnj⟩ := cx
  exact fun H locs ls hP hS hl => va_iald hx hb hK hP 18 17 rfl rfl (inb_in (og hf).1) hd (kk (og hf).2 H locs ls hP hS hl)
theorem rC_s26 (cx : cxC p R s m args meth c D h cA cc nL ret fr lo) {i x : Int32} {a : Option α} (hd : decode cc pc = .ok (.iastore, 1)) (hf : (if inb i 6 = true then a else none) = some r) (kk : a = some r → gg p l e R s m args below meth c D (aC h) k n nL Q (wC h cA (mu M 26 i.toNatClampNeg x)) (pc + 1) L st) : gg p l e R s m args below meth c D (aC h) k n nL Q (wC h cA M) pc L (.int x :: .int i :: .ref (h 26) :: st) := by
  obtain ⟨hx, hb, hml, hown, hts, hK, hD, hr, hlk, hfr, hlo, hnj⟩ := cx
  exact fun H locs ls hP hS hl => va_iast hx hb hK hP (hD M) hS 18 17 rfl rfl (inb_in (og hf).1) hd (fun H1 locs1 hP1 _ hS1 => kk (og hf).2 H1 locs1 ls hP1 hS1 hl)
theorem rC_l27 (cx : cxC p R s m args meth c D h cA cc nL ret fr lo) {i : Int32} {a : Option α} (hd : decode cc pc = .ok (.baload, 1)) (hf : (if inb i 4 = true then a else none) = some r) (kk : a = some r → gg p l e R s m args below meth c D (aC h) k n nL Q (wC h cA M) (pc + 1) L (.int (M 27 i.toNatClampNeg) :: st)) : gg p l e R s m args below meth c D (aC h) k n nL Q (wC h cA M) pc L (.int i :: .ref (h 27) :: st) := by
  obtain ⟨hx, hb, hml, hown, hts, hK, hD, hr, hlk, hfr, hlo, hnj⟩ := cx
  exact fun H locs ls hP hS hl => va_bald hx hb hK hP 19 18 rfl rfl (inb_in (og hf).1) hd (kk (og hf).2 H locs ls hP hS hl)
theorem rC_s27 (cx : cxC p R s m args meth c D h cA cc nL ret fr lo) {i x : Int32} {a : Option α} (hd : decode cc pc = .ok (.bastore, 1)) (hf : (if inb i 4 = true then a else none) = some r) (kk : a = some r → gg p l e R s m args below meth c D (aC h) k n nL Q (wC h cA (mu M 27 i.toNatClampNeg (vp_nar .byte x))) (pc + 1) L st) : gg p l e R s m args below meth c D (aC h) k n nL Q (wC h cA M) pc L (.int x :: .int i :: .ref (h 27) :: st) := by
  obtain ⟨hx, hb, hml, hown, hts, hK, hD, hr, hlk, hfr, hlo, hnj⟩ := cx
  exact fun H locs ls hP hS hl => va_bast hx hb hK hP (hD M) hS 19 18 rfl rfl (inb_in (og hf).1) hd (fun H1 locs1 hP1 _ hS1 => kk (og hf).2 H1 locs1 ls hP1 hS1 hl)
theorem gC_iret (cx : cxC p R s m args meth c D h cA cc nL (some .int) fr lo) {v : Int32} (hf : some (v, M) = some res) (hd : decode cc pc = .ok (.ireturn, 1)) : gg p l e R s m args below meth c D (aC h) 0 0 nL (MQ below (qiC D h cA res) args s 0 0 (aC h)) (wC h cA M) pc L [.int v] := by
  obtain ⟨hx, hb, hml, hown, hts, hK, hD, hr, hlk, hfr, hlo, hnj⟩ := cx
  intro H locs ls hP hS hl
  exact W.iret (v := v) hx hb hr (fun t ht hW => ⟨⟨v, M, rfl, Option.some.inj hf, by subst ht; exact hP⟩, hS.F ht⟩) hS.2.2 hd hlk
theorem gC_zret (cx : cxC p R s m args meth c D h cA cc nL (some .boolean) fr lo) {v : Int32} (hn : narrow .boolean (.int v) = .int v) (hf : some (v, M) = some res) (hd : decode cc pc = .ok (.ireturn, 1)) : gg p l e R s m args below meth c D (aC h) 0 0 nL (MQ below (qiC D h cA res) args s 0 0 (aC h)) (wC h cA M) pc L [.int v] := by
  obtain ⟨hx, hb, hml, hown, hts, hK, hD, hr, hlk, hfr, hlo, hnj⟩ := cx
  intro H locs ls hP hS hl
  exact W.zret (v := v) hx hb hr hn (fun t ht hW => ⟨⟨v, M, rfl, Option.some.inj hf, by subst ht; exact hP⟩, hS.F ht⟩) hS.2.2 hd hlk
theorem gC_vret (cx : cxC p R s m args meth c D h cA cc nL none fr lo) (hf : some ((0 : Int32), M) = some res) (hd : decode cc pc = .ok (.return_, 1)) : gg p l e R s m args below meth c D (aC h) 0 0 nL (MQ below (qvC D h cA res) args s 0 0 (aC h)) (wC h cA M) pc L [] := by
  obtain ⟨hx, hb, hml, hown, hts, hK, hD, hr, hlk, hfr, hlo, hnj⟩ := cx
  intro H locs ls hP hS hl
  exact W.vret hx hb hr (fun t ht hW => ⟨⟨M, rfl, by rw [← Option.some.inj hf], by subst ht; exact hP⟩, hS.F ht⟩) hS.2.2 hd hlk
theorem pcC_blind {as : List Value} : FrameBlind (pcC D h cA M as) := fun a U g mk q => by obtain ⟨q0, qP, qK⟩ := q; exact ⟨q0, qP, va_K.moved (u := U) (U := U.calling g mk a) (Vm.Alike.refl U.vm) qK⟩
theorem gC_calli (cx : cxC p R s m args meth c D h cA cc nL ret fr lo) {y : MethodName} {b2 : ByteArray} {nL2 np idx : Nat} {ret2 : Option FieldType} {rm : Room} {as rest : List Value} {q : Int32 × MM} (hM : Met l y (ws_ y b2 nL2 ret2) rm (pcC D h cA M as) (qiC D h cA q) 0 0 (aC h)) (hg : GoodIn lw_all (wsV RX0 idx RX0 y (ws_ y b2 nL2 ret2))) (hrc : rm.cells = 0) (hrs : rm.slots = 0) (hy : y.cls = RX0 ∧ y.cls ≠ "java/lang/invoke/MethodHandle" ∧ y.cls ≠ "java/lang/invoke/VarHandle" ∧ (parseMethodDescriptor y.desc).map (fun d => d.parameters.length) = some np) (hR : rm.frames + 1 ≤ fr ∧ 8 + (nL2 + 11) + rm.locals ≤ lo) (hn : as.length = np) (hrm : (rest.map fun v => v.category).sum ≤ 8) (hd : decode cc pc = .ok (.invokevirtual idx, 3)) (hst : st = as.reverse ++ .ref (h 28) :: rest) (kk : gg p l e R s m args below meth c D (aC h) 0 0 nL Q (wC h cA q.2) (pc + 3) L (.int q.1 :: rest)) : gg p l e R s m args below meth c D (aC h) 0 0 nL Q (wC h cA M) pc L st := by
  obtain ⟨hx, hb, hml, hown, hts, hK, hD, hr, hlk, hfr, hlo, hnj⟩ := cx
  subst hst
  intro H locs ls hP hS hl
  refine va_calli (va_runV (As := as) (rest := rest) ⟨hx, hb, hml, hown, hts⟩ hM (cwV np hts hg rfl hrc hrs hy ⟨Nat.le_trans hR.1 hfr, Nat.le_trans hR.2 hlo⟩) ⟨pcC_blind, va_recv hK hP (ci := 0) (q0 := 0) rfl rfl, fun U hU hW => ⟨rfl, by rw [hU]; exact hP, va_K.moved hW.alike hK⟩⟩ rfl hn hl.1 rfl (lv_room hrm) hd ⟨Nat.zero_le _, Nat.zero_le _⟩) hS (fun _ _ z => z) (fun _ z => z) (fun r0 u t H1 locs1 ht hvm hw hB hz hk1 hS1 => ?_)
  have e1 : r0 = q.1 := congrArg Prod.fst hw
  have e2 : u = q.2 := congrArg Prod.snd hw
  subst e1
  subst e2
  exact kk H1 locs1 ls (by rw [← ht]; exact hB) hS1 hl
theorem gC_callv (cx : cxC p R s m args meth c D h cA cc nL ret fr lo) {y : MethodName} {b2 : ByteArray} {nL2 np idx : Nat} {ret2 : Option FieldType} {rm : Room} {as rest : List Value} {q : Int32 × MM} (hM : Met l y (ws_ y b2 nL2 ret2) rm (pcC D h cA M as) (qvC D h cA q) 0 0 (aC h)) (hg : GoodIn lw_all (wsV RX0 idx RX0 y (ws_ y b2 nL2 ret2))) (hrc : rm.cells = 0) (hrs : rm.slots = 0) (hy : y.cls = RX0 ∧ y.cls ≠ "java/lang/invoke/MethodHandle" ∧ y.cls ≠ "java/lang/invoke/VarHandle" ∧ (parseMethodDescriptor y.desc).map (fun d => d.parameters.length) = some np) (hR : rm.frames + 1 ≤ fr ∧ 8 + (nL2 + 11) + rm.locals ≤ lo) (hn : as.length = np) (hrm : (rest.map fun v => v.category).sum ≤ 8) (hd : decode cc pc = .ok (.invokevirtual idx, 3)) (hst : st = as.reverse ++ .ref (h 28) :: rest) (kk : gg p l e R s m args below meth c D (aC h) 0 0 nL Q (wC h cA q.2) (pc + 3) L rest) : gg p l e R s m args below meth c D (aC h) 0 0 nL Q (wC h cA M) pc L st := by
  obtain ⟨hx, hb, hml, hown, hts, hK, hD, hr, hlk, hfr, hlo, hnj⟩ := cx
  subst hst
  intro H locs ls hP hS hl
  refine va_callv (va_runV (As := as) (rest := rest) ⟨hx, hb, hml, hown, hts⟩ hM (cwV np hts hg rfl hrc hrs hy ⟨Nat.le_trans hR.1 hfr, Nat.le_trans hR.2 hlo⟩) ⟨pcC_blind, va_recv hK hP (ci := 0) (q0 := 0) rfl rfl, fun U hU hW => ⟨rfl, by rw [hU]; exact hP, va_K.moved hW.alike hK⟩⟩ rfl hn hl.1 rfl (lv_room hrm) hd ⟨Nat.zero_le _, Nat.zero_le _⟩) hS (fun _ _ z => z) (fun _ z => z) (fun u t H1 locs1 ht hvm hw hB hz hk1 hS1 => ?_)
  have e2 : u = q.2 := hw
  subst e2
  exact kk H1 locs1 ls (by rw [← ht]; exact hB) hS1 hl
theorem gC_calls (cx : cxC p R s m args meth c D h cA cc nL ret fr lo) {y : MethodName} {b2 : ByteArray} {nL2 np idx : Nat} {ret2 : Option FieldType} {rm : Room} {as : List Value} {q : Int32 × MM} {rest : List Value} (hM : Met l y (ws_ y b2 nL2 ret2) rm (va_Pc as (fun _ => True)) (qiS q) 0 0 (fun _ => False)) (hg : GoodIn lw_all (va_wsS RX0 idx y (ws_ y b2 nL2 ret2))) (hrc : rm.cells = 0) (hrs : rm.slots = 0) (hy : y.cls ≠ "java/lang/invoke/MethodHandle" ∧ y.cls ≠ "java/lang/invoke/VarHandle" ∧ (parseMethodDescriptor y.desc).map (fun d => d.parameters.length) = some np) (hR : rm.frames + 1 ≤ fr ∧ 8 + (nL2 + 11) + rm.locals ≤ lo) (hn : as.length = np) (hrm : (rest.map fun v => v.category).sum ≤ 8) (hd : decode cc pc = .ok (.invokestatic idx, 3)) (hst : st = as.reverse ++ rest) (kk : gg p l e R s m args below meth c D (aC h) 0 0 nL Q (wC h cA M) (pc + 3) L (.int q.1 :: rest)) : gg p l e R s m args below meth c D (aC h) 0 0 nL Q (wC h cA M) pc L st := by
  obtain ⟨hx, hb, hml, hown, hts, hK, hD, hr, hlk, hfr, hlo, hnj⟩ := cx
  subst hst
  intro H locs ls hP hS hl
  refine va_calli (va_runS (As := as) (rest := rest) ⟨hx, hb, hml, hown, hts⟩ hM (va_cwS np hts hg rfl hrc hrs hy ⟨Nat.le_trans hR.1 hfr, Nat.le_trans hR.2 hlo⟩) ⟨fun a U g mk q => q, fun U hU hW => ⟨rfl, trivial⟩⟩ rfl hn hl.1 rfl (lv_room hrm) hd ⟨Nat.zero_le _, Nat.zero_le _⟩) hS (fun _ _ z => z.elim) (fun _ z => z.elim) (fun r0 u t H1 locs1 ht hvm hw hB hz hk1 hS1 => ?_)
  have e1 : r0 = q.1 := hw
  subst e1
  exact kk H1 locs1 ls (hP.kept (fun i x hx => hk1 x.1 (hP i x hx).lt id)) hS1 hl
end
def pcM (D : va_G) (h : Nat → Nat) (cA : Nat → ClassId) (M : MM) (as : List Value) : Array Value → State → Prop := va_Pc (.ref (h 9) :: as) (fun U => va_P D vwCl (wM h cA M) U.heap ∧ va_K D vwCl (tysM cA) U)
def qiM (D : va_G) (h : Nat → Nat) (cA : Nat → ClassId) (res : Int32 × MM) : Array Value → State → Outcome → State → Prop := va_Qi (fun (r : Int32) (M : MM) => (r, M) = res) (fun M t => va_P D vwCl (wM h cA M) t.heap) (aM h)
def qvM (D : va_G) (h : Nat → Nat) (cA : Nat → ClassId) (res : Int32 × MM) : Array Value → State → Outcome → State → Prop := va_Qv (fun (M : MM) => M = res.2) (fun M t => va_P D vwCl (wM h cA M) t.heap) (aM h)
/-- what holds all through a method of the class -/
def cxM (p : Program) (R : Room) (s : State) (m : MethodId) (args : Array Value) (meth : Method) (c : Code) (D : va_G) (h : Nat → Nat) (cA : Nat → ClassId) (cc : ByteArray) (nL : Nat) (ret : Option FieldType) (fr lo : Nat) : Prop :=
  p.tables.exec = Jvm.exec ∧ c.code = cc ∧ c.maxLocals = nL ∧ s.vm.findClass RX1 = some m.cls ∧ (∀ w ∈ lw_all, w.before args s = true) ∧ va_K D vwCl (tysM cA) s ∧ (∀ M : MM, va_D (aM h) (wM h cA M)) ∧ meth.sig.returnType = ret ∧ meth.locks = false ∧ fr ≤ R.frames ∧ lo ≤ R.locals ∧ njM h
abbrev gMi (p : Program) (l : Launch) (e : Env) (R : Room) (s : State) (m : MethodId) (args : Array Value) (below : List Frame) (meth : Method) (c : Code) (D : va_G) (h : Nat → Nat) (cA : Nat → ClassId) (nL : Nat) (res : Int32 × MM) (M : MM) (pc : Nat) (L : List (Nat × Value)) (st : List Value) : Prop :=
  gg p l e R s m args below meth c D (aM h) 0 0 nL (MQ below (qiM D h cA res) args s 0 0 (aM h)) (wM h cA M) pc L st
abbrev gMv (p : Program) (l : Launch) (e : Env) (R : Room) (s : State) (m : MethodId) (args : Array Value) (below : List Frame) (meth : Method) (c : Code) (D : va_G) (h : Nat → Nat) (cA : Nat → ClassId) (nL : Nat) (res : Int32 × MM) (M : MM) (pc : Nat) (L : List (Nat × Value)) (st : List Value) : Prop :=
  gg p l e R s m args below meth c D (aM h) 0 0 nL (MQ below (qvM D h cA res) args s 0 0 (aM h)) (wM h cA M) pc L st
section
variable {p : Program} {l : Launch} {e : Env} {R : Room} {s : State} {m : MethodId} {args : Array Value} {below : List Frame} {meth : Method} {c : Code} {D : va_G} {h : Nat → Nat} {cA : Nat → ClassId} {k n nL fr lo : Nat} {Q : State → Prop} {pc : Nat} {L : List (Nat × Value)} {st : List Value} {cc : ByteArray} {ret : Option FieldType} {M : MM} {res : Int32 × MM} {α : Type} {r : α}
theorem cxM.nj (cx : cxM p R s m args meth c D h cA cc nL ret fr lo) : njM h := cx.2.2.2.2.2.2.2.2.2.2.2
theorem rM_g0 (cx : cxM p R s m args meth c D h cA cc nL ret fr lo) (hd : decode cc pc = .ok (.getfield 35, 3)) (kk : gg p l e R s m args below meth c D (aM h) k n nL Q (wM h cA M) (pc + 3) L (.int (M 0 0) :: st)) : gg p l e R s m args below meth c D (aM h) k n nL Q (wM h cA M) pc L (.ref (h 9) :: st) := by
  obtain ⟨hx, hb, hml, hown, hts, hK, hD, hr, hlk, hfr, hlo, hnj⟩ := cx
  exact fun H locs ls hP hS hl => va_get (D := D) (ci := 1) (v := .int (M 0 0)) (C := RX1) (T := TX1) (N := 9) hx hb hts in_X1 hown hK hP 0 rfl rfl 0 (by decide) (hts _ q218) (fun _ h9 => h9) rfl hd (kk H locs ls hP hS hl)
theorem rM_p0 (cx : cxM p R s m args meth c D h cA cc nL ret fr lo) {v : Int32} (hd : decode cc pc = .ok (.putfield 35, 3)) (kk : gg p l e R s m args below meth c D (aM h) k n nL Q (wM h cA (mu M 0 0 v)) (pc + 3) L st) : gg p l e R s m args below meth c D (aM h) k n nL Q (wM h cA M) pc L (.int v :: .ref (h 9) :: st) := by
  obtain ⟨hx, hb, hml, hown, hts, hK, hD, hr, hlk, hfr, hlo, hnj⟩ := cx
  exact fun H locs ls hP hS hl => va_put (D := D) (ci := 1) (v := .int v) (ty := .int) (C := RX1) (T := TX1) (N := 9) hx hb hts in_X1 tyX1 tyX1_ok nmX1 hown hK hP (hD M) hS 0 rfl rfl 0 (by decide) (hts _ q218) (fun _ h9 => h9) rfl (by decide +kernel) rfl rfl (Nat.le_of_ble_eq_true rfl) hd (fun H1 locs1 hP1 _ hS1 => kk H1 locs1 ls hP1 hS1 hl)
theorem rM_g1 (cx : cxM p R s m args meth c D h cA cc nL ret fr lo) (hd : decode cc pc = .ok (.getfield 7, 3)) (kk : gg p l e R s m args below meth c D (aM h) k n nL Q (wM h cA M) (pc + 3) L (.ref (h 1) :: st)) : gg p l e R s m args below meth c D (aM h) k n nL Q (wM h cA M) pc L (.ref (h 9) :: st) := by
  obtain ⟨hx, hb, hml, hown, hts, hK, hD, hr, hlk, hfr, hlo, hnj⟩ := cx
  exact fun H locs ls hP hS hl => va_get (D := D) (ci := 1) (v := .ref (h 1)) (C := RX1) (T := TX1) (N := 9) hx hb hts in_X1 hown hK hP 0 rfl rfl 1 (by decide) (hts _ q219) (fun _ h9 => h9) rfl hd (kk H locs ls hP hS hl)
theorem rM_g2 (cx : cxM p R s m args meth c D h cA cc nL ret fr lo) (hd : decode cc pc = .ok (.getfield 13, 3)) (kk : gg p l e R s m args below meth c D (aM h) k n nL Q (wM h cA M) (pc + 3) L (.ref (h 2) :: st)) : gg p l e R s m args below meth c D (aM h) k n nL Q (wM h cA M) pc L (.ref (h 9) :: st) := by
  obtain ⟨hx, hb, hml, hown, hts, hK, hD, hr, hlk, hfr, hlo, hnj⟩ := cx
  exact fun H locs ls hP hS hl => va_get (D := D) (ci := 1) (v := .ref (h 2)) (C := RX1) (T := TX1) (N := 9) hx hb hts in_X1 hown hK hP 0 rfl rfl 2 (by decide) (hts _ q220) (fun _ h9 => h9) rfl hd (kk H locs ls hP hS hl)
theorem rM_g3 (cx : cxM p R s m args meth c D h cA cc nL ret fr lo) (hd : decode cc pc = .ok (.getfield 16, 3)) (kk : gg p l e R s m args below meth c D (aM h) k n nL Q (wM h cA M) (pc + 3) L (.ref (h 3) :: st)) : gg p l e R s m args below meth c D (aM h) k n nL Q (wM h cA M) pc L (.ref (h 9) :: st) := by
  obtain ⟨hx, hb, hml, hown, hts, hK, hD, hr, hlk, hfr, hlo, hnj⟩ := cx
  exact fun H locs ls hP hS hl => va_get (D := D) (ci := 1) (v := .ref (h 3)) (C := RX1) (T := TX1) (N := 9) hx hb hts in_X1 hown hK hP 0 rfl rfl 3 (by decide) (hts _ q221) (fun _ h9 => h9) rfl hd (kk H locs ls hP hS hl)
theorem rM_g4 (cx : cxM p R s m args meth c D h cA cc nL ret fr lo) (hd : decode cc pc = .ok (.getfield 19, 3)) (kk : gg p l e R s m args below meth c D (aM h) k n nL Q (wM h cA M) (pc + 3) L (.ref (h 4) :: st)) : gg p l e R s m args below meth c D (aM h) k n nL Q (wM h cA M) pc L (.ref (h 9) :: st) := by
  obtain ⟨hx, hb, hml, hown, hts, hK, hD, hr, hlk, hfr, hlo, hnj⟩ := cx
  exact fun H locs ls hP hS hl => va_get (D := D) (ci := 1) (v := .ref (h 4)) (C := RX1) (T := TX1) (N := 9) hx hb hts in_X1 hown hK hP 0 rfl rfl 4 (by decide) (hts _ q222) (fun _ h9 => h9) rfl hd (kk H locs ls hP hS hl)
theorem rM_g5 (cx : cxM p R s m args meth c D h cA cc nL ret fr lo) (hd : decode cc pc = .ok (.getfield 22, 3)) (kk : gg p l e R s m args below meth c D (aM h) k n nL Q (wM h cA M) (pc + 3) L (.ref (h 5) :: st)) : gg p l e R s m args below meth c D (aM h) k n nL Q (wM h cA M) pc L (.ref (h 9) :: st) := by
  obtain ⟨hx, hb, hml, hown, hts, hK, hD, hr, hlk, hfr, hlo, hnj⟩ := cx
  exact fun H locs ls hP hS hl => va_get (D := D) (ci := 1) (v := .ref (h 5)) (C := RX1) (T := TX1) (N := 9) hx hb hts in_X1 hown hK hP 0 rfl rfl 5 (by decide) (hts _ q223) (fun _ h9 => h9) rfl hd (kk H locs ls hP hS hl)
theorem rM_g6 (cx : cxM p R s m args meth c D h cA cc nL ret fr lo) (hd : decode cc pc = .ok (.getfield 25, 3)) (kk : gg p l e R s m args below meth c D (aM h) k n nL Q (wM h cA M) (pc + 3) L (.int (M 6 0) :: st)) : gg p l e R s m args below meth c D (aM h) k n nL Q (wM h cA M) pc L (.ref (h 9) :: st) := by
  obtain ⟨hx, hb, hml, hown, hts, hK, hD, hr, hlk, hfr, hlo, hnj⟩ := cx
  exact fun H locs ls hP hS hl => va_get (D := D) (ci := 1) (v := .int (M 6 0)) (C := RX1) (T := TX1) (N := 9) hx hb hts in_X1 hown hK hP 0 rfl rfl 6 (by decide) (hts _ q224) (fun _ h9 => h9) rfl hd (kk H locs ls hP hS hl)
theorem rM_p6 (cx : cxM p R s m args meth c D h cA cc nL ret fr lo) {v : Int32} (hd : decode cc pc = .ok (.putfield 25, 3)) (kk : gg p l e R s m args below meth c D (aM h) k n nL Q (wM h cA (mu M 6 0 v)) (pc + 3) L st) : gg p l e R s m args below meth c D (aM h) k n nL Q (wM h cA M) pc L (.int v :: .ref (h 9) :: st) := by
  obtain ⟨hx, hb, hml, hown, hts, hK, hD, hr, hlk, hfr, hlo, hnj⟩ := cx
  exact fun H locs ls hP hS hl => va_put (D := D) (ci := 1) (v := .int v) (ty := .int) (C := RX1) (T := TX1) (N := 9) hx hb hts in_X1 tyX1 tyX1_ok nmX1 hown hK hP (hD M) hS 0 rfl rfl 6 (by decide) (hts _ q224) (fun _ h9 => h9) rfl (by decide +kernel) rfl rfl (Nat.le_of_ble_eq_true rfl) hd (fun H1 locs1 hP1 _ hS1 => kk H1 locs1 ls hP1 hS1 hl)
theorem rM_g7 (cx : cxM p R s m args meth c D h cA cc nL ret fr lo) (hd : decode cc pc = .ok (.getfield 29, 3)) (kk : gg p l e R s m args below meth c D (aM h) k n nL Q (wM h cA M) (pc + 3) L (.int (M 7 0) :: st)) : gg p l e R s m args below meth c D (aM h) k n nL Q (wM h cA M) pc L (.ref (h 9) :: st) := by
  obtain ⟨hx, hb, hml, hown, hts, hK, hD, hr, hlk, hfr, hlo, hnj⟩ := cx
  exact fun H locs ls hP hS hl => va_get (D := D) (ci := 1) (v := .int (M 7 0)) (C := RX1) (T := TX1) (N := 9) hx hb hts in_X1 hown hK hP 0 rfl rfl 7 (by decide) (hts _ q225) (fun _ h9 => h9) rfl hd (kk H locs ls hP hS hl)
theorem rM_p7 (cx : cxM p R s m args meth c D h cA cc nL ret fr lo) {v : Int32} (hd : decode cc pc = .ok (.putfield 29, 3)) (kk : gg p l e R s m args below meth c D (aM h) k n nL Q (wM h cA (mu M 7 0 v)) (pc + 3) L st) : gg p l e R s m args below meth c D (aM h) k n nL Q (wM h cA M) pc L (.int v :: .ref (h 9) :: st) := by
  obtain ⟨hx, hb, hml, hown, hts, hK, hD, hr, hlk, hfr, hlo, hnj⟩ := cx
  exact fun H locs ls hP hS hl => va_put (D := D) (ci := 1) (v := .int v) (ty := .int) (C := RX1) (T := TX1) (N := 9) hx hb hts in_X1 tyX1 tyX1_ok nmX1 hown hK hP (hD M) hS 0 rfl rfl 7 (by decide) (hts _ q225) (fun _ h9 => h9) rfl (by decide +kernel) rfl rfl (Nat.le_of_ble_eq_true rfl) hd (fun H1 locs1 hP1 _ hS1 => kk H1 locs1 ls hP1 hS1 hl)
theorem rM_g8 (cx : cxM p R s m args meth c D h cA cc nL ret fr lo) (hd : decode cc pc = .ok (.getfield 32, 3)) (kk : gg p l e R s m args below meth c D (aM h) k n nL Q (wM h cA M) (pc + 3) L (.int (M 8 0) :: st)) : gg p l e R s m args below meth c D (aM h) k n nL Q (wM h cA M) pc L (.ref (h 9) :: st) := by
  obtain ⟨hx, hb, hml, hown, hts, hK, hD, hr, hlk, hfr, hlo, hnj⟩ := cx
  exact fun H locs ls hP hS hl => va_get (D := D) (ci := 1) (v := .int (M 8 0)) (C := RX1) (T := TX1) (N := 9) hx hb hts in_X1 hown hK hP 0 rfl rfl 8 (by decide) (hts _ q226) (fun _ h9 => h9) rfl hd (kk H locs ls hP hS hl)
theorem rM_p8 (cx : cxM p R s m args meth c D h cA cc nL ret fr lo) {v : Int32} (hd : decode cc pc = .ok (.putfield 32, 3)) (kk : gg p l e R s m args below meth c D (aM h) k n nL Q (wM h cA (mu M 8 0 v)) (pc + 3) L st) : gg p l e R s m args below meth c D (aM h) k n nL Q (wM h cA M) pc L (.int v :: .ref (h 9) :: st) := by
  obtain ⟨hx, hb, hml, hown, hts, hK, hD, hr, hlk, hfr, hlo, hnj⟩ := cx
  exact fun H locs ls hP hS hl => va_put (D := D) (ci := 1) (v := .int v) (ty := .int) (C := RX1) (T := TX1) (N := 9) hx hb hts in_X1 tyX1 tyX1_ok nmX1 hown hK hP (hD M) hS 0 rfl rfl 8 (by decide) (hts _ q226) (fun _ h9 => h9) rfl (by decide +kernel) rfl rfl (Nat.le_of_ble_eq_true rfl) hd (fun H1 locs1 hP1 _ hS1 => kk H1 locs1 ls hP1 hS1 hl)
theorem rM_l1 (cx : cxM p R s m args meth c D h cA cc nL ret fr lo) {i : Int32} {a : Option α} (hd : decode cc pc = .ok (.iaload, 1)) (hf : (if inb i 16 = true then a else none) = some r) (kk : a = some r → gg p l e R s m args below meth c D (aM h) k n nL Q (wM h cA M) (pc + 1) L (.int (M 1 i.toNatClampNeg) :: st)) : gg p l e R s m args below meth c D (aM h) k n nL Q (wM h cA M) pc L (.int i :: .ref (h 1) :: st) := by
  obtain ⟨hx, hb, hml, hown, hts, hK, hD, hr, hlk, hfr, hlo, hnj⟩ := cx
  exact fun H locs ls hP hS hl => va_iald hx hb hK hP 1 0 rfl rfl (inb_in (og hf).1) hd (kk (og hf).2 H locs ls hP hS hl)
theorem rM_s1 (cx : cxM p R s m args meth c D h cA cc nL ret fr lo) {i x : Int32} {a : Option α} (hd : decode cc pc = .ok (.iastore, 1)) (hf : (if inb i 16 = true then a else none) = some r) (kk : a = some r → gg p l e R s m args below meth c D (aM h) k n nL Q (wM h cA (mu M 1 i.toNatClampNeg x)) (pc + 1) L st) : gg p l e R s m args below meth c D (aM h) k n nL Q (wM h cA M) pc L (.int x :: .int i :: .ref (h 1) :: st) := by
  obtain ⟨hx, hb, hml, hown, hts, hK, hD, hr, hlk, hfr, hlo, hnj⟩ := cx
  exact fun H locs ls hP hS hl => va_iast hx hb hK hP (hD M) hS 1 0 rfl rfl (inb_in (og hf).1) hd (fun H1 locs1 hP1 _ hS1 => kk (og hf).2 H1 locs1 ls hP1 hS1 hl)
theorem rM_l2 (cx : cxM p R s m args meth c D h cA cc nL ret fr lo) {i : Int32} {a : Option α} (hd : decode cc pc = .ok (.iaload, 1)) (hf : (if inb i 16 = true then a else none) = some r) (kk : a = some r → gg p l e R s m args below meth c D (aM h) k n nL Q (wM h cA M) (pc + 1) L (.int (M 2 i.toNatClampNeg) :: st)) : gg p l e R s m args below meth c D (aM h) k n nL Q (wM h cA M) pc L (.int i :: .ref (h 2) :: st) := by
  obtain ⟨hx, hb, hml, hown, hts, hK, hD, hr, hlk, hfr, hlo, hnj⟩ := cx
  exact fun H locs ls hP hS hl => va_iald hx hb hK hP 2 1 rfl rfl (inb_in (og hf).1) hd (kk (og hf).2 H locs ls hP hS hl)
theorem rM_s2 (cx : cxM p R s m args meth c D h cA cc nL ret fr lo) {i x : Int32} {a : Option α} (hd : decode cc pc = .ok (.iastore, 1)) (hf : (if inb i 16 = true then a else none) = some r) (kk : a = some r → gg p l e R s m args below meth c D (aM h) k n nL Q (wM h cA (mu M 2 i.toNatClampNeg x)) (pc + 1) L st) : gg p l e R s m args below meth c D (aM h) k n nL Q (wM h cA M) pc L (.int x :: .int i :: .ref (h 2) :: st) := by
  obtain ⟨hx, hb, hml, hown, hts, hK, hD, hr, hlk, hfr, hlo, hnj⟩ := cx
  exact fun H locs ls hP hS hl => va_iast hx hb hK hP (hD M) hS 2 1 rfl rfl (inb_in (og hf).1) hd (fun H1 locs1 hP1 _ hS1 => kk (og hf).2 H1 locs1 ls hP1 hS1 hl)
theorem rM_l3 (cx : cxM p R s m args meth c D h cA cc nL ret fr lo) {i : Int32} {a : Option α} (hd : decode cc pc = .ok (.iaload, 1)) (hf : (if inb i 16 = true then a else none) = some r) (kk : a = some r → gg p l e R s m args below meth c D (aM h) k n nL Q (wM h cA M) (pc + 1) L (.int (M 3 i.toNatClampNeg) :: st)) : gg p l e R s m args below meth c D (aM h) k n nL Q (wM h cA M) pc L (.int i :: .ref (h 3) :: st) := by
  obtain ⟨hx, hb, hml, hown, hts, hK, hD, hr, hlk, hfr, hlo, hnj⟩ := cx
  exact fun H locs ls hP hS hl => va_iald hx hb hK hP 3 2 rfl rfl (inb_in (og hf).1) hd (kk (og hf).2 H locs ls hP hS hl)
theorem rM_s3 (cx : cxM p R s m args meth c D h cA cc nL ret fr lo) {i x : Int32} {a : Option α} (hd : decode cc pc = .ok (.iastore, 1)) (hf : (if inb i 16 = true then a else none) = some r) (kk : a = some r → gg p l e R s m args below meth c D (aM h) k n nL Q (wM h cA (mu M 3 i.toNatClampNeg x)) (pc + 1) L st) : gg p l e R s m args below meth c D (aM h) k n nL Q (wM h cA M) pc L (.int x :: .int i :: .ref (h 3) :: st) := by
  obtain ⟨hx, hb, hml, hown, hts, hK, hD, hr, hlk, hfr, hlo, hnj⟩ := cx
  exact fun H locs ls hP hS hl => va_iast hx hb hK hP (hD M) hS 3 2 rfl rfl (inb_in (og hf).1) hd (fun H1 locs1 hP1 _ hS1 => kk (og hf).2 H1 locs1 ls hP1 hS1 hl)
theorem rM_l4 (cx : cxM p R s m args meth c D h cA cc nL ret fr lo) {i : Int32} {a : Option α} (hd : decode cc pc = .ok (.iaload, 1)) (hf : (if inb i 4 = true then a else none) = some r) (kk : a = some r → gg p l e R s m args below meth c D (aM h) k n nL Q (wM h cA M) (pc + 1) L (.int (M 4 i.toNatClampNeg) :: st)) : gg p l e R s m args below meth c D (aM h) k n nL Q (wM h cA M) pc L (.int i :: .ref (h 4) :: st) := by
  obtain ⟨hx, hb, hml, hown, hts, hK, hD, hr, hlk, hfr, hlo, hnj⟩ := cx
  exact fun H locs ls hP hS hl => va_iald hx hb hK hP 4 3 rfl rfl (inb_in (og hf).1) hd (kk (og hf).2 H locs ls hP hS hl)
theorem rM_s4 (cx : cxM p R s m args meth c D h cA cc nL ret fr lo) {i x : Int32} {a : Option α} (hd : decode cc pc = .ok (.iastore, 1)) (hf : (if inb i 4 = true then a else none) = some r) (kk : a = some r → gg p l e R s m args below meth c D (aM h) k n nL Q (wM h cA (mu M 4 i.toNatClampNeg x)) (pc + 1) L st) : gg p l e R s m args below meth c D (aM h) k n nL Q (wM h cA M) pc L (.int x :: .int i :: .ref (h 4) :: st) := by
  obtain ⟨hx, hb, hml, hown, hts, hK, hD, hr, hlk, hfr, hlo, hnj⟩ := cx
  exact fun H locs ls hP hS hl => va_iast hx hb hK hP (hD M) hS 4 3 rfl rfl (inb_in (og hf).1) hd (fun H1 locs1 hP1 _ hS1 => kk (og hf).2 H1 locs1 ls hP1 hS1 hl)
theorem rM_l5 (cx : cxM p R s m args meth c D h cA cc nL ret fr lo) {i : Int32} {a : Option α} (hd : decode cc pc = .ok (.iaload, 1)) (hf : (if inb i 8 = true then a else none) = some r) (kk : a = some r → gg p l e R s m args below meth c D (aM h) k n nL Q (wM h cA M) (pc + 1) L (.int (M 5 i.toNatClampNeg) :: st)) : gg p l e R s m args below meth c D (aM h) k n nL Q (wM h cA M) pc L (.int i :: .ref (h 5) :: st) := by
  obtain ⟨hx, hb, hml, hown, hts, hK, hD, hr, hlk, hfr, hlo, hnj⟩ := cx
  exact fun H locs ls hP hS hl => va_iald hx hb hK hP 5 4 rfl rfl (inb_in (og hf).1) hd (kk (og hf).2 H locs ls hP hS hl)
theorem rM_s5 (cx : cxM p R s m args meth c D h cA cc nL ret fr lo) {i x : Int32} {a : Option α} (hd : decode cc pc = .ok (.iastore, 1)) (hf : (if inb i 8 = true then a else none) = some r) (kk : a = some r → gg p l e R s m args below meth c D (aM h) k n nL Q (wM h cA (mu M 5 i.toNatClampNeg x)) (pc + 1) L st) : gg p l e R s m args below meth c D (aM h) k n nL Q (wM h cA M) pc L (.int x :: .int i :: .ref (h 5) :: st) := by
  obtain ⟨hx, hb, hml, hown, hts, hK, hD, hr, hlk, hfr, hlo, hnj⟩ := cx
  exact fun H locs ls hP hS hl => va_iast hx hb hK hP (hD M) hS 5 4 rfl rfl (inb_in (og hf).1) hd (fun H1 locs1 hP1 _ hS1 => kk (og hf).2 H1 locs1 ls hP1 hS1 hl)
theorem gM_iret (cx : cxM p R s m args meth c D h cA cc nL (some .int) fr lo) {v : Int32} (hf : some (v, M) = some res) (hd : decode cc pc = .ok (.ireturn, 1)) : gg p l e R s m args below meth c D (aM h) 0 0 nL (MQ below (qiM D h cA res) args s 0 0 (aM h)) (wM h cA M) pc L [.int v] := by
  obtain ⟨hx, hb, hml, hown, hts, hK, hD, hr, hlk, hfr, hlo, hnj⟩ := cx
  intro H locs ls hP hS hl
  exact W.iret (v := v) hx hb hr (fun t ht hW => ⟨⟨v, M, rfl, Option.some.inj hf, by subst ht; exact hP⟩, hS.F ht⟩) hS.2.2 hd hlk
theorem gM_zret (cx : cxM p R s m args meth c D h cA cc nL (some .boolean) fr lo) {v : Int32} (hn : narrow .boolean (.int v) = .int v) (hf : some (v, M) = some res) (hd : decode cc pc = .ok (.ireturn, 1)) : gg p l e R s m args below meth c D (aM h) 0 0 nL (MQ below (qiM D h cA res) args s 0 0 (aM h)) (wM h cA M) pc L [.int v] := by
  obtain ⟨hx, hb, hml, hown, hts, hK, hD, hr, hlk, hfr, hlo, hnj⟩ := cx
  intro H locs ls hP hS hl
  exact W.zret (v := v) hx hb hr hn (fun t ht hW => ⟨⟨v, M, rfl, Option.some.inj hf, by subst ht; exact hP⟩, hS.F ht⟩) hS.2.2 hd hlk
theorem gM_vret (cx : cxM p R s m args meth c D h cA cc nL none fr lo) (hf : some ((0 : Int32), M) = some res) (hd : decode cc pc = .ok (.return_, 1)) : gg p l e R s m args below meth c D (aM h) 0 0 nL (MQ below (qvM D h cA res) args s 0 0 (aM h)) (wM h cA M) pc L [] := by
  obtain ⟨hx, hb, hml, hown, hts, hK, hD, hr, hlk, hfr, hlo, hnj⟩ := cx
  intro H locs ls hP hS hl
  exact W.vret hx hb hr (fun t ht hW => ⟨⟨M, rfl, by rw [← Option.some.inj hf], by subst ht; exact hP⟩, hS.F ht⟩) hS.2.2 hd hlk
theorem pcM_blind {as : List Value} : FrameBlind (pcM D h cA M as) := fun a U g mk q => by obtain ⟨q0, qP, qK⟩ := q; exact ⟨q0, qP, va_K.moved (u := U) (U := U.calling g mk a) (Vm.Alike.refl U.vm) qK⟩
theorem gM_calli (cx : cxM p R s m args meth c D h cA cc nL ret fr lo) {y : MethodName} {b2 : ByteArray} {nL2 np idx : Nat} {ret2 : Option FieldType} {rm : Room} {as rest : List Value} {q : Int32 × MM} (hM : Met l y (ws_ y b2 nL2 ret2) rm (pcM D h cA M as) (qiM D h cA q) 0 0 (aM h)) (hg : GoodIn lw_all (wsV RX1 idx RX1 y (ws_ y b2 nL2 ret2))) (hrc : rm.cells = 0) (hrs : rm.slots = 0) (hy : y.cls = RX1 ∧ y.cls ≠ "java/lang/invoke/MethodHandle" ∧ y.cls ≠ "java/lang/invoke/VarHandle" ∧ (parseMethodDescriptor y.desc).map (fun d => d.parameters.length) = some np) (hR : rm.frames + 1 ≤ fr ∧ 8 + (nL2 + 11) + rm.locals ≤ lo) (hn : as.length = np) (hrm : (rest.map fun v => v.category).sum ≤ 8) (hd : decode cc pc = .ok (.invokevirtual idx, 3)) (hst : st = as.reverse ++ .ref (h 9) :: rest) (kk : gg p l e R s m args below meth c D (aM h) 0 0 nL Q (wM h cA q.2) (pc + 3) L (.int q.1 :: rest)) : gg p l e R s m args below meth c D (aM h) 0 0 nL Q (wM h cA M) pc L st := by
  obtain ⟨hx, hb, hml, hown, hts, hK, hD, hr, hlk, hfr, hlo, hnj⟩ := cx
  subst hst
  intro H locs ls hP hS hl
  refine va_calli (va_runV (As := as) (rest := rest) ⟨hx, hb, hml, hown, hts⟩ hM (cwV np hts hg rfl hrc hrs hy ⟨Nat.le_trans hR.1 hfr, Nat.le_trans hR.2 hlo⟩) ⟨pcM_blind, va_recv hK hP (ci := 1) (q0 := 0) rfl rfl, fun U hU hW => ⟨rfl, by rw [hU]; exact hP, va_K.moved hW.alike hK⟩⟩ rfl hn hl.1 rfl (lv_room hrm) hd ⟨Nat.zero_le _, Nat.zero_le _⟩) hS (fun _ _ z => z) (fun _ z => z) (fun r0 u t H1 locs1 ht hvm hw hB hz hk1 hS1 => ?_)
  have e1 : r0 = q.1 := congrArg Prod.fst hw
  have e2 : u = q.2 := congrArg Prod.snd hw
  subst e1
  subst e2
  exact kk H1 locs1 ls (by rw [← ht]; exact hB) hS1 hl
theorem gM_callv (cx : cxM p R s m args meth c D h cA cc nL ret fr lo) {y : MethodName} {b2 : ByteArray} {nL2 np idx : Nat} {ret2 : Option FieldType} {rm : Room} {as rest : List Value} {q : Int32 × MM} (hM : Met l y (ws_ y b2 nL2 ret2) rm (pcM D h cA M as) (qvM D h cA q) 0 0 (aM h)) (hg : GoodIn lw_all (wsV RX1 idx RX1 y (ws_ y b2 nL2 ret2))) (hrc : rm.cells = 0) (hrs : rm.slots = 0) (hy : y.cls = RX1 ∧ y.cls ≠ "java/lang/invoke/MethodHandle" ∧ y.cls ≠ "java/lang/invoke/VarHandle" ∧ (parseMethodDescriptor y.desc).map (fun d => d.parameters.length) = some np) (hR : rm.frames + 1 ≤ fr ∧ 8 + (nL2 + 11) + rm.locals ≤ lo) (hn : as.length = np) (hrm : (rest.map fun v => v.category).sum ≤ 8) (hd : decode cc pc = .ok (.invokevirtual idx, 3)) (hst : st = as.reverse ++ .ref (h 9) :: rest) (kk : gg p l e R s m args below meth c D (aM h) 0 0 nL Q (wM h cA q.2) (pc + 3) L rest) : gg p l e R s m args below meth c D (aM h) 0 0 nL Q (wM h cA M) pc L st := by
  obtain ⟨hx, hb, hml, hown, hts, hK, hD, hr, hlk, hfr, hlo, hnj⟩ := cx
  subst hst
  intro H locs ls hP hS hl
  refine va_callv (va_runV (As := as) (rest := rest) ⟨hx, hb, hml, hown, hts⟩ hM (cwV np hts hg rfl hrc hrs hy ⟨Nat.le_trans hR.1 hfr, Nat.le_trans hR.2 hlo⟩) ⟨pcM_blind, va_recv hK hP (ci := 1) (q0 := 0) rfl rfl, fun U hU hW => ⟨rfl, by rw [hU]; exact hP, va_K.moved hW.alike hK⟩⟩ rfl hn hl.1 rfl (lv_room hrm) hd ⟨Nat.zero_le _, Nat.zero_le _⟩) hS (fun _ _ z => z) (fun _ z => z) (fun u t H1 locs1 ht hvm hw hB hz hk1 hS1 => ?_)
  have e2 : u = q.2 := hw
  subst e2
  exact kk H1 locs1 ls (by rw [← ht]; exact hB) hS1 hl
end
end
section
set_option maxRecDepth 100000
section
variable {p : Program} {l : Launch} {e : Env} {R : Room} {s : State} {m : MethodId} {args : Array Value} {below : List Frame} {meth : Method} {c : Code} {D : va_G} {h : Nat → Nat} {cA : Nat → ClassId}
theorem wX0_idle_15 (cx : cxC p R s m args meth c D h cA cX0_idle 1 none 0 0) {res : Int32 × MM} {fl : Nat} {M : MM} (hf : fX0_idle_15 fl M = some res) : gCv p l e R s m args below meth c D h cA 1 res M 15 [(0, .ref (h 28))] [] := by
  have hx := cx.1
  have hb := cx.2.1
  unfold fX0_idle_15 at hf
  exact gC_vret cx hf dX0_idle_15
theorem wX0_idle_10 (cx : cxC p R s m args meth c D h cA cX0_idle 1 none 0 0) {res : Int32 × MM} {fl : Nat} {M : MM} (hf : fX0_idle_10 fl M = some res) : gCv p l e R s m args below meth c D h cA 1 res M 10 [(0, .ref (h 28))] [] := by
  have hx := cx.1
  have hb := cx.2.1
  unfold fX0_idle_10 at hf
  refine g_aload_n hx hb dX0_idle_10 rfl 0 rfl ?_
  refine g_iconst hx hb (v := 0) dX0_idle_11 (by decide) ?_
  refine rC_p8 cx dX0_idle_12 ?_
  exact wX0_idle_15 cx hf
theorem wX0_idle_5 (cx : cxC p R s m args meth c D h cA cX0_idle 1 none 0 0) {res : Int32 × MM} {fl : Nat} {M : MM} (hf : fX0_idle_5 fl M = some res) : gCv p l e R s m args below meth c D h cA 1 res M 5 [(0, .ref (h 28))] [] := by
  have hx := cx.1
  have hb := cx.2.1
  unfold fX0_idle_5 at hf
  refine g_aload_n hx hb dX0_idle_5 rfl 0 rfl ?_
  refine g_iconst hx hb (v := 0) dX0_idle_6 (by decide) ?_
  refine rC_p6 cx dX0_idle_7 ?_
  exact wX0_idle_10 cx hf
theorem wX0_idle_0 (cx : cxC p R s m args meth c D h cA cX0_idle 1 none 0 0) {res : Int32 × MM} {fl : Nat} {M : MM} (hf : fX0_idle_0 fl M = some res) : gCv p l e R s m args below meth c D h cA 1 res M 0 [(0, .ref (h 28))] [] := by
  have hx := cx.1
  have hb := cx.2.1
  unfold fX0_idle_0 at hf
  refine g_aload_n hx hb dX0_idle_0 rfl 0 rfl ?_
  refine g_iconst hx hb (v := 0) dX0_idle_1 (by decide) ?_
  refine rC_p7 cx dX0_idle_2 ?_
  exact wX0_idle_5 cx hf
end
theorem metX0_idle {l : Launch} {D : va_G} {h : Nat → Nat} {cA : Nat → ClassId} {fl : Nat} {M : MM} {res : Int32 × MM} (hn : njC h) (hf : fX0_idle fl M = some res) : Met l yX0_idle (ws_ yX0_idle cX0_idle 1 none) ({ frames := 0, cells := 0, slots := 0, locals := 0 }) (pcC D h cA M []) (qvC D h cA res) 0 0 (aC h) := by
  refine Met.ofW (cc := cX0_idle) (maxL := 1) (ret := none) (by decide) rfl ?_
  intro p e s m args below meth c s₁ B hml hv
  have hts := atoms_spec (ws := ws_ yX0_idle cX0_idle 1 none) B.pre
  have hts : ∀ w ∈ lw_all, w.before _ s = true := fun w h => hts w (List.mem_cons_of_mem _ h)
  obtain ⟨rfl, hP, hK⟩ := hv
  rw [lg_entry_eq]
  exact wX0_idle_0 (R := { frames := 0, cells := 0, slots := 0, locals := 0 }) ⟨B.exec, B.bytes, hml, findClass_of_methodNamed B.named, hts, hK, fun M => dC_of hn, B.returns, B.notSynchronized, Nat.le_refl _, Nat.le_refl _, hn⟩ hf s.heap [] _ hP va_S.rf (lv_entry ([.ref (h 28)]) (n := 1) (Nat.le_of_ble_eq_true rfl))
set_option maxRecDepth 100000
section
variable {p : Program} {l : Launch} {e : Env} {R : Room} {s : State} {m : MethodId} {args : Array Value} {below : List Frame} {meth : Method} {c : Code} {D : va_G} {h : Nat → Nat} {cA : Nat → ClassId}
theorem wX0_emit_20 (cx : cxC p R s m args meth c D h cA cX0_emit 4 (some .int) 1 20) {res : Int32 × MM} {fl : Nat} {M : MM} (hf : fX0_emit_20 fl M = some res) : gCi p l e R s m args below meth c D h cA 4 res M 20 [(0, .ref (h 28))] [] := by
  have hx := cx.1
  have hb := cx.2.1
  unfold fX0_emit_20 at hf
  refine g_iconst hx hb (v := (-1)) dX0_emit_20 (by decide) ?_
  exact gC_iret cx hf dX0_emit_21
theorem wX0_emit_80 (cx : cxC p R s m args meth c D h cA cX0_emit 4 (some .int) 1 20) {res : Int32 × MM} {fl : Nat} {M : MM} (hf : fX0_emit_80 fl M = some res) : gCi p l e R s m args below meth c D h cA 4 res M 80 [(0, .ref (h 28))] [] := by
  have hx := cx.1
  have hb := cx.2.1
  unfold fX0_emit_80 at hf
  refine g_aload_n hx hb dX0_emit_80 rfl 0 rfl ?_
  refine rC_g3 cx dX0_emit_81 ?_
  refine g_iconst hx hb (v := 1) dX0_emit_84 (by decide) ?_
  refine g_isub hx hb dX0_emit_85 ?_
  exact gC_iret cx hf dX0_emit_86
theorem wX0_emit_76 (cx : cxC p R s m args meth c D h cA cX0_emit 4 (some .int) 1 20) {res : Int32 × MM} {fl : Nat} {M : MM} (hf : fX0_emit_76 fl M = some res) : gCi p l e R s m args below meth c D h cA 4 res M 76 [(0, .ref (h 28))] [] := by
  have hx := cx.1
  have hb := cx.2.1
  unfold fX0_emit_76 at hf
  refine g_aload_n hx hb dX0_emit_76 rfl 0 rfl ?_
  obtain ⟨q, hq, hf⟩ := ob hf
  refine gC_callv cx (np := 0) (as := []) (metX0_idle (l := l) (D := D) (cA := cA) cx.nj hq) (lw_V q117 q119 qs0 q15 q120) rfl rfl ⟨rfl, by decide, by decide, by decide +kernel⟩ ⟨by decide, by decide⟩ rfl (Nat.le_of_ble_eq_true rfl) dX0_emit_77 rfl ?_
  exact wX0_emit_80 cx hf
theorem wX0_emit_66 (cx : cxC p R s m args meth c D h cA cX0_emit 4 (some .int) 1 20) {res : Int32 × MM} {fl : Nat} {M : MM} (hf : fX0_emit_66 fl M = some res) : gCi p l e R s m args below meth c D h cA 4 res M 66 [(0, .ref (h 28))] [] := by
  have hx := cx.1
  have hb := cx.2.1
  unfold fX0_emit_66 at hf
  refine g_aload_n hx hb dX0_emit_66 rfl 0 rfl ?_
  refine g_dup hx hb dX0_emit_67 rfl ?_
  refine rC_g3 cx dX0_emit_68 ?_
  refine g_iconst hx hb (v := 1) dX0_emit_71 (by decide) ?_
  refine g_iadd hx hb dX0_emit_72 ?_
  refine rC_p3 cx dX0_emit_73 ?_
  exact wX0_emit_76 cx hf
theorem wX0_emit_56 (cx : cxC p R s m args meth c D h cA cX0_emit 4 (some .int) 1 20) {res : Int32 × MM} {fl : Nat} {x3 : Int32} {M : MM} (hf : fX0_emit_56 fl x3 M = some res) : gCi p l e R s m args below meth c D h cA 4 res M 56 [(0, .ref (h 28)), (3, .int x3)] [] := by
  have hx := cx.1
  have hb := cx.2.1
  unfold fX0_emit_56 at hf
  refine g_aload_n hx hb dX0_emit_56 rfl 0 rfl ?_
  refine rC_g2 cx dX0_emit_57 ?_
  refine g_aload_n hx hb dX0_emit_60 rfl 0 rfl ?_
  refine rC_g3 cx dX0_emit_61 ?_
  refine g_iload_n hx hb dX0_emit_64 rfl 1 rfl ?_
  refine rC_s2 cx dX0_emit_65 hf (fun hf => ?_)
  refine g_sub [0] (L' := [(0, _)]) rfl ?_
  exact wX0_emit_66 cx hf
theorem wX0_emit_45 (cx : cxC p R s m args meth c D h cA cX0_emit 4 (some .int) 1 20) {res : Int32 × MM} {fl : Nat} {x2 x3 : Int32} {M : MM} (hf : fX0_emit_45 fl x2 x3 M = some res) : gCi p l e R s m args below meth c D h cA 4 res M 45 [(0, .ref (h 28)), (2, .int x2), (3, .int x3)] [] := by
  have hx := cx.1
  have hb := cx.2.1
  unfold fX0_emit_45 at hf
  refine g_aload_n hx hb dX0_emit_45 rfl 0 rfl ?_
  refine rC_g1 cx dX0_emit_46 ?_
  refine g_aload_n hx hb dX0_emit_49 rfl 0 rfl ?_
  refine rC_g3 cx dX0_emit_50 ?_
  refine g_iload_n hx hb dX0_emit_53 rfl 1 rfl ?_
  refine g_i2b hx hb dX0_emit_54 ?_
  refine rC_s1 cx dX0_emit_55 hf (fun hf => ?_)
  refine g_sub [0, 2] (L' := [(0, _), (3, _)]) rfl ?_
  exact wX0_emit_56 cx hf
theorem wX0_emit_0 (cx : cxC p R s m args meth c D h cA cX0_emit 4 (some .int) 1 20) {res : Int32 × MM} {fl : Nat} {x1 x2 x3 : Int32} {M : MM} (hf : fX0_emit_0 fl x1 x2 x3 M = some res) : gCi p l e R s m args below meth c D h cA 4 res M 0 [(0, .ref (h 28)), (1, .int x1), (2, .int x2), (3, .int x3)] [] := by
  have hx := cx.1
  have hb := cx.2.1
  unfold fX0_emit_0 at hf
  refine g_iload_n hx hb dX0_emit_0 rfl 1 rfl ?_
  refine g_if_lt hx hb dX0_emit_1 (tgt := 20) (by decide) hf (fun hf => ?_) (fun hf => ?_)
  · refine g_sub [0] (L' := [(0, _)]) rfl ?_
    exact wX0_emit_20 cx hf
  · refine g_iload_n hx hb dX0_emit_4 rfl 1 rfl ?_
    refine g_bipush hx hb (v := 8) dX0_emit_5 (by decide) ?_
    refine g_icmp_gt hx hb dX0_emit_7 (tgt := 20) (by decide) hf (fun hf => ?_) (fun hf => ?_)
    · refine g_sub [0] (L' := [(0, _)]) rfl ?_
      exact wX0_emit_20 cx hf
    · refine g_iload_n hx hb dX0_emit_10 rfl 2 rfl ?_
      refine g_if_lt hx hb dX0_emit_11 (tgt := 20) (by decide) hf (fun hf => ?_) (fun hf => ?_)
      · refine g_sub [0] (L' := [(0, _)]) rfl ?_
        exact wX0_emit_20 cx hf
      · refine g_iload_n hx hb dX0_emit_14 rfl 2 rfl ?_
        refine g_bipush hx hb (v := 63) dX0_emit_15 (by decide) ?_
        refine g_icmp_le hx hb dX0_emit_17 (tgt := 22) (by decide) hf (fun hf => ?_) (fun hf => ?_)
        · refine g_aload_n hx hb dX0_emit_22 rfl 0 rfl ?_
          refine rC_g3 cx dX0_emit_23 ?_
          refine g_bipush hx hb (v := 16) dX0_emit_26 (by decide) ?_
          refine g_icmp_lt hx hb dX0_emit_28 (tgt := 34) (by decide) hf (fun hf => ?_) (fun hf => ?_)
          · refine g_aload_n hx hb dX0_emit_34 rfl 0 rfl ?_
            refine rC_g0 cx dX0_emit_35 ?_
            refine g_aload_n hx hb dX0_emit_38 rfl 0 rfl ?_
            refine rC_g3 cx dX0_emit_39 ?_
            refine g_iload_n hx hb dX0_emit_42 rfl 1 rfl ?_
            refine g_i2b hx hb dX0_emit_43 ?_
            refine rC_s0 cx dX0_emit_44 hf (fun hf => ?_)
            refine g_sub [0, 2, 3] (L' := [(0, _), (2, _), (3, _)]) rfl ?_
            exact wX0_emit_45 cx hf
          · refine g_bipush hx hb (v := (-2)) dX0_emit_31 (by decide) ?_
            exact gC_iret cx hf dX0_emit_33
        · refine g_sub [0] (L' := [(0, _)]) rfl ?_
          exact wX0_emit_20 cx hf
end
theorem metX0_emit {l : Launch} {D : va_G} {h : Nat → Nat} {cA : Nat → ClassId} {fl : Nat} {x1 x2 x3 : Int32} {M : MM} {res : Int32 × MM} (hn : njC h) (hf : fX0_emit fl x1 x2 x3 M = some res) : Met l yX0_emit (ws_ yX0_emit cX0_emit 4 (some .int)) ({ frames := 1, cells := 0, slots := 0, locals := 20 }) (pcC D h cA M [.int x1, .int x2, .int x3]) (qiC D h cA res) 0 0 (aC h) := by
  refine Met.ofW (cc := cX0_emit) (maxL := 4) (ret := (some .int)) (by decide) rfl ?_
  intro p e s m args below meth c s₁ B hml hv
  have hts := atoms_spec (ws := ws_ yX0_emit cX0_emit 4 (some .int)) B.pre
  have hts : ∀ w ∈ lw_all, w.before _ s = true := fun w h => hts w (List.mem_cons_of_mem _ h)
  obtain ⟨rfl, hP, hK⟩ := hv
  rw [lg_entry_eq]
  exact wX0_emit_0 (R := { frames := 1, cells := 0, slots := 0, locals := 20 }) ⟨B.exec, B.bytes, hml, findClass_of_methodNamed B.named, hts, hK, fun M => dC_of hn, B.returns, B.notSynchronized, Nat.le_refl _, Nat.le_refl _, hn⟩ hf s.heap [] _ hP va_S.rf (lv_entry ([.ref (h 28), .int x1, .int x2, .int x3]) (n := 4) (Nat.le_of_ble_eq_true rfl))
set_option maxRecDepth 100000
section
variable {p : Program} {l : Launch} {e : Env} {R : Room} {s : State} {m : MethodId} {args : Array Value} {below : List Frame} {meth : Method} {c : Code} {D : va_G} {h : Nat → Nat} {cA : Nat → ClassId}
theorem wX0_clear_9 (cx : cxC p R s m args meth c D h cA cX0_clear 1 none 1 20) {res : Int32 × MM} {fl : Nat} {M : MM} (hf : fX0_clear_9 fl M = some res) : gCv p l e R s m args below meth c D h cA 1 res M 9 [(0, .ref (h 28))] [] := by
  have hx := cx.1
  have hb := cx.2.1
  unfold fX0_clear_9 at hf
  exact gC_vret cx hf dX0_clear_9
theorem wX0_clear_5 (cx : cxC p R s m args meth c D h cA cX0_clear 1 none 1 20) {res : Int32 × MM} {fl : Nat} {M : MM} (hf : fX0_clear_5 fl M = some res) : gCv p l e R s m args below meth c D h cA 1 res M 5 [(0, .ref (h 28))] [] := by
  have hx := cx.1
  have hb := cx.2.1
  unfold fX0_clear_5 at hf
  refine g_aload_n hx hb dX0_clear_5 rfl 0 rfl ?_
  obtain ⟨q, hq, hf⟩ := ob hf
  refine gC_callv cx (np := 0) (as := []) (metX0_idle (l := l) (D := D) (cA := cA) cx.nj hq) (lw_V q117 q119 qs0 q15 q120) rfl rfl ⟨rfl, by decide, by decide, by decide +kernel⟩ ⟨by decide, by decide⟩ rfl (Nat.le_of_ble_eq_true rfl) dX0_clear_6 rfl ?_
  exact wX0_clear_9 cx hf
theorem wX0_clear_0 (cx : cxC p R s m args meth c D h cA cX0_clear 1 none 1 20) {res : Int32 × MM} {fl : Nat} {M : MM} (hf : fX0_clear_0 fl M = some res) : gCv p l e R s m args below meth c D h cA 1 res M 0 [(0, .ref (h 28))] [] := by
  have hx := cx.1
  have hb := cx.2.1
  unfold fX0_clear_0 at hf
  refine g_aload_n hx hb dX0_clear_0 rfl 0 rfl ?_
  refine g_iconst hx hb (v := 0) dX0_clear_1 (by decide) ?_
  refine rC_p3 cx dX0_clear_2 ?_
  exact wX0_clear_5 cx hf
end
theorem metX0_clear {l : Launch} {D : va_G} {h : Nat → Nat} {cA : Nat → ClassId} {fl : Nat} {M : MM} {res : Int32 × MM} (hn : njC h) (hf : fX0_clear fl M = some res) : Met l yX0_clear (ws_ yX0_clear cX0_clear 1 none) ({ frames := 1, cells := 0, slots := 0, locals := 20 }) (pcC D h cA M []) (qvC D h cA res) 0 0 (aC h) := by
  refine Met.ofW (cc := cX0_clear) (maxL := 1) (ret := none) (by decide) rfl ?_
  intro p e s m args below meth c s₁ B hml hv
  have hts := atoms_spec (ws := ws_ yX0_clear cX0_clear 1 none) B.pre
  have hts : ∀ w ∈ lw_all, w.before _ s = true := fun w h => hts w (List.mem_cons_of_mem _ h)
  obtain ⟨rfl, hP, hK⟩ := hv
  rw [lg_entry_eq]
  exact wX0_clear_0 (R := { frames := 1, cells := 0, slots := 0, locals := 20 }) ⟨B.exec, B.bytes, hml, findClass_of_methodNamed B.named, hts, hK, fun M => dC_of hn, B.returns, B.notSynchronized, Nat.le_refl _, Nat.le_refl _, hn⟩ hf s.heap [] _ hP va_S.rf (lv_entry ([.ref (h 28)]) (n := 1) (Nat.le_of_ble_eq_true rfl))
set_option maxRecDepth 100000
section
variable {p : Program} {l : Launch} {e : Env} {R : Room} {s : State} {m : MethodId} {args : Array Value} {below : List Frame} {meth : Method} {c : Code} {D : va_G} {h : Nat → Nat} {cA : Nat → ClassId}
theorem wX0_length_0 (cx : cxC p R s m args meth c D h cA cX0_length 1 (some .int) 0 0) {res : Int32 × MM} {fl : Nat} {M : MM} (hf : fX0_length_0 fl M = some res) : gCi p l e R s m args below meth c D h cA 1 res M 0 [(0, .ref (h 28))] [] := by
  have hx := cx.1
  have hb := cx.2.1
  unfold fX0_length_0 at hf
  refine g_aload_n hx hb dX0_length_0 rfl 0 rfl ?_
  refine rC_g3 cx dX0_length_1 ?_
  exact gC_iret cx hf dX0_length_4
end
theorem metX0_length {l : Launch} {D : va_G} {h : Nat → Nat} {cA : Nat → ClassId} {fl : Nat} {M : MM} {res : Int32 × MM} (hn : njC h) (hf : fX0_length fl M = some res) : Met l yX0_length (ws_ yX0_length cX0_length 1 (some .int)) ({ frames := 0, cells := 0, slots := 0, locals := 0 }) (pcC D h cA M []) (qiC D h cA res) 0 0 (aC h) := by
  refine Met.ofW (cc := cX0_length) (maxL := 1) (ret := (some .int)) (by decide) rfl ?_
  intro p e s m args below meth c s₁ B hml hv
  have hts := atoms_spec (ws := ws_ yX0_length cX0_length 1 (some .int)) B.pre
  have hts : ∀ w ∈ lw_all, w.before _ s = true := fun w h => hts w (List.mem_cons_of_mem _ h)
  obtain ⟨rfl, hP, hK⟩ := hv
  rw [lg_entry_eq]
  exact wX0_length_0 (R := { frames := 0, cells := 0, slots := 0, locals := 0 }) ⟨B.exec, B.bytes, hml, findClass_of_methodNamed B.named, hts, hK, fun M => dC_of hn, B.returns, B.notSynchronized, Nat.le_refl _, Nat.le_refl _, hn⟩ hf s.heap [] _ hP va_S.rf (lv_entry ([.ref (h 28)]) (n := 1) (Nat.le_of_ble_eq_true rfl))
set_option maxRecDepth 100000
section
variable {p : Program} {l : Launch} {e : Env} {R : Room} {s : State} {m : MethodId} {args : Array Value} {below : List Frame} {meth : Method} {c : Code} {D : va_G} {h : Nat → Nat} {cA : Nat → ClassId}
theorem wX0_set_26 (cx : cxC p R s m args meth c D h cA cX0_set 3 (some .boolean) 0 0) {res : Int32 × MM} {fl : Nat} {M : MM} (hf : fX0_set_26 fl M = some res) : gCi p l e R s m args below meth c D h cA 3 res M 26 [(0, .ref (h 28))] [] := by
  have hx := cx.1
  have hb := cx.2.1
  unfold fX0_set_26 at hf
  refine g_iconst hx hb (v := 1) dX0_set_26 (by decide) ?_
  exact gC_zret cx rfl hf dX0_set_27
theorem wX0_set_50 (cx : cxC p R s m args meth c D h cA cX0_set 3 (some .boolean) 0 0) {res : Int32 × MM} {fl : Nat} {M : MM} (hf : fX0_set_50 fl M = some res) : gCi p l e R s m args below meth c D h cA 3 res M 50 [(0, .ref (h 28))] [] := by
  have hx := cx.1
  have hb := cx.2.1
  unfold fX0_set_50 at hf
  refine g_iconst hx hb (v := 1) dX0_set_50 (by decide) ?_
  exact gC_zret cx rfl hf dX0_set_51
theorem wX0_set_52 (cx : cxC p R s m args meth c D h cA cX0_set 3 (some .boolean) 0 0) {res : Int32 × MM} {fl : Nat} {M : MM} (hf : fX0_set_52 fl M = some res) : gCi p l e R s m args below meth c D h cA 3 res M 52 [(0, .ref (h 28))] [] := by
  have hx := cx.1
  have hb := cx.2.1
  unfold fX0_set_52 at hf
  refine g_iconst hx hb (v := 0) dX0_set_52 (by decide) ?_
  exact gC_zret cx rfl hf dX0_set_53
theorem wX0_set_28 (cx : cxC p R s m args meth c D h cA cX0_set 3 (some .boolean) 0 0) {res : Int32 × MM} {fl : Nat} {x1 x2 : Int32} {M : MM} (hf : fX0_set_28 fl x1 x2 M = some res) : gCi p l e R s m args below meth c D h cA 3 res M 28 [(0, .ref (h 28)), (1, .int x1), (2, .int x2)] [] := by
  have hx := cx.1
  have hb := cx.2.1
  unfold fX0_set_28 at hf
  refine g_iload_n hx hb dX0_set_28 rfl 1 rfl ?_
  refine g_bipush hx hb (v := 8) dX0_set_29 (by decide) ?_
  refine g_icmp_lt hx hb dX0_set_31 (tgt := 52) (by decide) hf (fun hf => ?_) (fun hf => ?_)
  · refine g_sub [0] (L' := [(0, _)]) rfl ?_
    exact wX0_set_52 cx hf
  · refine g_iload_n hx hb dX0_set_34 rfl 1 rfl ?_
    refine g_bipush hx hb (v := 16) dX0_set_35 (by decide) ?_
    refine g_icmp_ge hx hb dX0_set_37 (tgt := 52) (by decide) hf (fun hf => ?_) (fun hf => ?_)
    · refine g_sub [0] (L' := [(0, _)]) rfl ?_
      exact wX0_set_52 cx hf
    · refine g_aload_n hx hb dX0_set_40 rfl 0 rfl ?_
      refine rC_g5 cx dX0_set_41 ?_
      refine g_iload_n hx hb dX0_set_44 rfl 1 rfl ?_
      refine g_bipush hx hb (v := 8) dX0_set_45 (by decide) ?_
      refine g_isub hx hb dX0_set_47 ?_
      refine g_iload_n hx hb dX0_set_48 rfl 2 rfl ?_
      refine rC_s5 cx dX0_set_49 hf (fun hf => ?_)
      refine g_sub [0] (L' := [(0, _)]) rfl ?_
      exact wX0_set_50 cx hf
theorem wX0_set_0 (cx : cxC p R s m args meth c D h cA cX0_set 3 (some .boolean) 0 0) {res : Int32 × MM} {fl : Nat} {x1 x2 : Int32} {M : MM} (hf : fX0_set_0 fl x1 x2 M = some res) : gCi p l e R s m args below meth c D h cA 3 res M 0 [(0, .ref (h 28)), (1, .int x1), (2, .int x2)] [] := by
  have hx := cx.1
  have hb := cx.2.1
  unfold fX0_set_0 at hf
  refine g_aload_n hx hb dX0_set_0 rfl 0 rfl ?_
  refine rC_g7 cx dX0_set_1 ?_
  refine g_iconst hx hb (v := 1) dX0_set_4 (by decide) ?_
  refine g_icmp_ne hx hb dX0_set_5 (tgt := 10) (by decide) hf (fun hf => ?_) (fun hf => ?_)
  · refine g_iconst hx hb (v := 0) dX0_set_8 (by decide) ?_
    exact gC_zret cx rfl hf dX0_set_9
  · refine g_iload_n hx hb dX0_set_10 rfl 1 rfl ?_
    refine g_if_lt hx hb dX0_set_11 (tgt := 28) (by decide) hf (fun hf => ?_) (fun hf => ?_)
    · exact wX0_set_28 cx hf
    · refine g_iload_n hx hb dX0_set_14 rfl 1 rfl ?_
      refine g_iconst hx hb (v := 4) dX0_set_15 (by decide) ?_
      refine g_icmp_ge hx hb dX0_set_16 (tgt := 28) (by decide) hf (fun hf => ?_) (fun hf => ?_)
      · exact wX0_set_28 cx hf
      · refine g_aload_n hx hb dX0_set_19 rfl 0 rfl ?_
        refine rC_g4 cx dX0_set_20 ?_
        refine g_iload_n hx hb dX0_set_23 rfl 1 rfl ?_
        refine g_iload_n hx hb dX0_set_24 rfl 2 rfl ?_
        refine rC_s4 cx dX0_set_25 hf (fun hf => ?_)
        refine g_sub [0] (L' := [(0, _)]) rfl ?_
        exact wX0_set_26 cx hf
end
theorem metX0_set {l : Launch} {D : va_G} {h : Nat → Nat} {cA : Nat → ClassId} {fl : Nat} {x1 x2 : Int32} {M : MM} {res : Int32 × MM} (hn : njC h) (hf : fX0_set fl x1 x2 M = some res) : Met l yX0_set (ws_ yX0_set cX0_set 3 (some .boolean)) ({ frames := 0, cells := 0, slots := 0, locals := 0 }) (pcC D h cA M [.int x1, .int x2]) (qiC D h cA res) 0 0 (aC h) := by
  refine Met.ofW (cc := cX0_set) (maxL := 3) (ret := (some .boolean)) (by decide) rfl ?_
  intro p e s m args below meth c s₁ B hml hv
  have hts := atoms_spec (ws := ws_ yX0_set cX0_set 3 (some .boolean)) B.pre
  have hts : ∀ w ∈ lw_all, w.before _ s = true := fun w h => hts w (List.mem_cons_of_mem _ h)
  obtain ⟨rfl, hP, hK⟩ := hv
  rw [lg_entry_eq]
  exact wX0_set_0 (R := { frames := 0, cells := 0, slots := 0, locals := 0 }) ⟨B.exec, B.bytes, hml, findClass_of_methodNamed B.named, hts, hK, fun M => dC_of hn, B.returns, B.notSynchronized, Nat.le_refl _, Nat.le_refl _, hn⟩ hf s.heap [] _ hP va_S.rf (lv_entry ([.ref (h 28), .int x1, .int x2]) (n := 3) (Nat.le_of_ble_eq_true rfl))
set_option maxRecDepth 100000
section
variable {p : Program} {l : Launch} {e : Env} {R : Room} {s : State} {m : MethodId} {args : Array Value} {below : List Frame} {meth : Method} {c : Code} {D : va_G} {h : Nat → Nat} {cA : Nat → ClassId}
theorem wX0_refetch_34 (cx : cxC p R s m args meth c D h cA cX0_refetch 3 none 0 0) {res : Int32 × MM} {fl : Nat} {K : Int32 → MM → Option (Int32 × MM)} (hK : ∀ {x2 : Int32} {M : MM}, K x2 M = some res → gCv p l e R s m args below meth c D h cA 3 res M 22 [(0, .ref (h 28)), (2, .int x2)] []) {x2 : Int32} {M : MM} (hf : fX0_refetch_34 fl K x2 M = some res) : gCv p l e R s m args below meth c D h cA 3 res M 34 [(0, .ref (h 28)), (2, .int x2)] [] := by
  have hx := cx.1
  have hb := cx.2.1
  unfold fX0_refetch_34 at hf
  refine g_iinc hx hb (v := _ + 1) dX0_refetch_34 1 rfl rfl (by decide) [1, 0] (L' := [(0, _), (2, _)]) rfl ?_
  refine g_goto hx hb dX0_refetch_37 (tgt := 22) (by decide) ?_
  exact hK hf
theorem wX0_refetch_22 (cx : cxC p R s m args meth c D h cA cX0_refetch 3 none 0 0) {res : Int32 × MM} {fl : Nat} : ∀ {n : Nat} {x2 : Int32} {M : MM}, fX0_refetch_22 fl n x2 M = some res → gCv p l e R s m args below meth c D h cA 3 res M 22 [(0, .ref (h 28)), (2, .int x2)] [] := by
  have hx := cx.1
  have hb := cx.2.1
  intro n
  induction n with
  | zero => intro x2 M hf; exact absurd hf (by simp [fX0_refetch_22])
  | succ n ih =>
    intro x2 M hf
    unfold fX0_refetch_22 at hf
    refine g_iload_n hx hb dX0_refetch_22 rfl 1 rfl ?_
    refine g_iconst hx hb (v := 4) dX0_refetch_23 (by decide) ?_
    refine g_icmp_ge hx hb dX0_refetch_24 (tgt := 40) (by decide) hf (fun hf => ?_) (fun hf => ?_)
    · exact gC_vret cx hf dX0_refetch_40
    · refine g_aload_n hx hb dX0_refetch_27 rfl 0 rfl ?_
      refine rC_g27 cx dX0_refetch_28 ?_
      refine g_iload_n hx hb dX0_refetch_31 rfl 1 rfl ?_
      refine g_iconst hx hb (v := (-1)) dX0_refetch_32 (by decide) ?_
      refine rC_s27 cx dX0_refetch_33 hf (fun hf => ?_)
      exact wX0_refetch_34 cx ih hf
theorem wX0_refetch_20 (cx : cxC p R s m args meth c D h cA cX0_refetch 3 none 0 0) {res : Int32 × MM} {fl : Nat} {M : MM} (hf : fX0_refetch_20 fl M = some res) : gCv p l e R s m args below meth c D h cA 3 res M 20 [(0, .ref (h 28))] [] := by
  have hx := cx.1
  have hb := cx.2.1
  unfold fX0_refetch_20 at hf
  refine g_iconst hx hb (v := 0) dX0_refetch_20 (by decide) ?_
  refine g_istore_n hx hb dX0_refetch_21 rfl (by decide) [1, 0] (L' := [(0, _), (2, _)]) rfl ?_
  exact wX0_refetch_22 cx hf
theorem wX0_refetch_15 (cx : cxC p R s m args meth c D h cA cX0_refetch 3 none 0 0) {res : Int32 × MM} {fl : Nat} {M : MM} (hf : fX0_refetch_15 fl M = some res) : gCv p l e R s m args below meth c D h cA 3 res M 15 [(0, .ref (h 28))] [] := by
  have hx := cx.1
  have hb := cx.2.1
  unfold fX0_refetch_15 at hf
  refine g_aload_n hx hb dX0_refetch_15 rfl 0 rfl ?_
  refine g_iconst hx hb (v := 1) dX0_refetch_16 (by decide) ?_
  refine rC_p11 cx dX0_refetch_17 rfl rfl ?_
  exact wX0_refetch_20 cx hf
theorem wX0_refetch_10 (cx : cxC p R s m args meth c D h cA cX0_refetch 3 none 0 0) {res : Int32 × MM} {fl : Nat} {x1 : Int32} {M : MM} (hf : fX0_refetch_10 fl x1 M = some res) : gCv p l e R s m args below meth c D h cA 3 res M 10 [(0, .ref (h 28)), (1, .int x1)] [] := by
  have hx := cx.1
  have hb := cx.2.1
  unfold fX0_refetch_10 at hf
  refine g_aload_n hx hb dX0_refetch_10 rfl 0 rfl ?_
  refine g_iload_n hx hb dX0_refetch_11 rfl 1 rfl ?_
  refine rC_p10 cx dX0_refetch_12 ?_
  refine g_sub [0] (L' := [(0, _)]) rfl ?_
  exact wX0_refetch_15 cx hf
theorem wX0_refetch_5 (cx : cxC p R s m args meth c D h cA cX0_refetch 3 none 0 0) {res : Int32 × MM} {fl : Nat} {x1 : Int32} {M : MM} (hf : fX0_refetch_5 fl x1 M = some res) : gCv p l e R s m args below meth c D h cA 3 res M 5 [(0, .ref (h 28)), (1, .int x1)] [] := by
  have hx := cx.1
  have hb := cx.2.1
  unfold fX0_refetch_5 at hf
  refine g_aload_n hx hb dX0_refetch_5 rfl 0 rfl ?_
  refine g_iconst hx hb (v := 0) dX0_refetch_6 (by decide) ?_
  refine rC_p13 cx dX0_refetch_7 ?_
  exact wX0_refetch_10 cx hf
theorem wX0_refetch_0 (cx : cxC p R s m args meth c D h cA cX0_refetch 3 none 0 0) {res : Int32 × MM} {fl : Nat} {x1 : Int32} {M : MM} (hf : fX0_refetch_0 fl x1 M = some res) : gCv p l e R s m args below meth c D h cA 3 res M 0 [(0, .ref (h 28)), (1, .int x1)] [] := by
  have hx := cx.1
  have hb := cx.2.1
  unfold fX0_refetch_0 at hf
  refine g_aload_n hx hb dX0_refetch_0 rfl 0 rfl ?_
  refine g_iconst hx hb (v := 0) dX0_refetch_1 (by decide) ?_
  refine rC_p12 cx dX0_refetch_2 ?_
  exact wX0_refetch_5 cx hf
end
theorem metX0_refetch {l : Launch} {D : va_G} {h : Nat → Nat} {cA : Nat → ClassId} {fl : Nat} {x1 : Int32} {M : MM} {res : Int32 × MM} (hn : njC h) (hf : fX0_refetch fl x1 M = some res) : Met l yX0_refetch (ws_ yX0_refetch cX0_refetch 3 none) ({ frames := 0, cells := 0, slots := 0, locals := 0 }) (pcC D h cA M [.int x1]) (qvC D h cA res) 0 0 (aC h) := by
  refine Met.ofW (cc := cX0_refetch) (maxL := 3) (ret := none) (by decide) rfl ?_
  intro p e s m args below meth c s₁ B hml hv
  have hts := atoms_spec (ws := ws_ yX0_refetch cX0_refetch 3 none) B.pre
  have hts : ∀ w ∈ lw_all, w.before _ s = true := fun w h => hts w (List.mem_cons_of_mem _ h)
  obtain ⟨rfl, hP, hK⟩ := hv
  rw [lg_entry_eq]
  exact wX0_refetch_0 (R := { frames := 0, cells := 0, slots := 0, locals := 0 }) ⟨B.exec, B.bytes, hml, findClass_of_methodNamed B.named, hts, hK, fun M => dC_of hn, B.returns, B.notSynchronized, Nat.le_refl _, Nat.le_refl _, hn⟩ hf s.heap [] _ hP va_S.rf (lv_entry ([.ref (h 28), .int x1]) (n := 3) (Nat.le_of_ble_eq_true rfl))
set_option maxRecDepth 100000
section
variable {p : Program} {l : Launch} {e : Env} {R : Room} {s : State} {m : MethodId} {args : Array Value} {below : List Frame} {meth : Method} {c : Code} {D : va_G} {h : Nat → Nat} {cA : Nat → ClassId}
theorem wX0_start_25 (cx : cxC p R s m args meth c D h cA cX0_start 2 none 1 22) {res : Int32 × MM} {fl : Nat} {M : MM} (hf : fX0_start_25 fl M = some res) : gCv p l e R s m args below meth c D h cA 2 res M 25 [(0, .ref (h 28))] [] := by
  have hx := cx.1
  have hb := cx.2.1
  unfold fX0_start_25 at hf
  exact gC_vret cx hf dX0_start_25
theorem wX0_start_20 (cx : cxC p R s m args meth c D h cA cX0_start 2 none 1 22) {res : Int32 × MM} {fl : Nat} {M : MM} (hf : fX0_start_20 fl M = some res) : gCv p l e R s m args below meth c D h cA 2 res M 20 [(0, .ref (h 28))] [] := by
  have hx := cx.1
  have hb := cx.2.1
  unfold fX0_start_20 at hf
  refine g_aload_n hx hb dX0_start_20 rfl 0 rfl ?_
  refine g_iconst hx hb (v := 0) dX0_start_21 (by decide) ?_
  obtain ⟨q, hq, hf⟩ := ob hf
  refine gC_callv cx (np := 1) (as := [.int 0]) (metX0_refetch (l := l) (D := D) (cA := cA) cx.nj hq) (lw_V q137 q139 qs1 q15 q140) rfl rfl ⟨rfl, by decide, by decide, by decide +kernel⟩ ⟨by decide, by decide⟩ rfl (Nat.le_of_ble_eq_true rfl) dX0_start_22 rfl ?_
  exact wX0_start_25 cx hf
theorem wX0_start_15 (cx : cxC p R s m args meth c D h cA cX0_start 2 none 1 22) {res : Int32 × MM} {fl : Nat} {x1 : Int32} {M : MM} (hf : fX0_start_15 fl x1 M = some res) : gCv p l e R s m args below meth c D h cA 2 res M 15 [(0, .ref (h 28)), (1, .int x1)] [] := by
  have hx := cx.1
  have hb := cx.2.1
  unfold fX0_start_15 at hf
  refine g_aload_n hx hb dX0_start_15 rfl 0 rfl ?_
  refine g_iload_n hx hb dX0_start_16 rfl 1 rfl ?_
  refine rC_p9 cx dX0_start_17 ?_
  refine g_sub [0] (L' := [(0, _)]) rfl ?_
  exact wX0_start_20 cx hf
theorem wX0_start_10 (cx : cxC p R s m args meth c D h cA cX0_start 2 none 1 22) {res : Int32 × MM} {fl : Nat} {x1 : Int32} {M : MM} (hf : fX0_start_10 fl x1 M = some res) : gCv p l e R s m args below meth c D h cA 2 res M 10 [(0, .ref (h 28)), (1, .int x1)] [] := by
  have hx := cx.1
  have hb := cx.2.1
  unfold fX0_start_10 at hf
  refine g_aload_n hx hb dX0_start_10 rfl 0 rfl ?_
  refine g_iconst hx hb (v := 0) dX0_start_11 (by decide) ?_
  refine rC_p8 cx dX0_start_12 ?_
  exact wX0_start_15 cx hf
theorem wX0_start_5 (cx : cxC p R s m args meth c D h cA cX0_start 2 none 1 22) {res : Int32 × MM} {fl : Nat} {x1 : Int32} {M : MM} (hf : fX0_start_5 fl x1 M = some res) : gCv p l e R s m args below meth c D h cA 2 res M 5 [(0, .ref (h 28)), (1, .int x1)] [] := by
  have hx := cx.1
  have hb := cx.2.1
  unfold fX0_start_5 at hf
  refine g_aload_n hx hb dX0_start_5 rfl 0 rfl ?_
  refine g_iconst hx hb (v := 0) dX0_start_6 (by decide) ?_
  refine rC_p6 cx dX0_start_7 ?_
  exact wX0_start_10 cx hf
theorem wX0_start_0 (cx : cxC p R s m args meth c D h cA cX0_start 2 none 1 22) {res : Int32 × MM} {fl : Nat} {x1 : Int32} {M : MM} (hf : fX0_start_0 fl x1 M = some res) : gCv p l e R s m args below meth c D h cA 2 res M 0 [(0, .ref (h 28)), (1, .int x1)] [] := by
  have hx := cx.1
  have hb := cx.2.1
  unfold fX0_start_0 at hf
  refine g_aload_n hx hb dX0_start_0 rfl 0 rfl ?_
  refine g_iconst hx hb (v := 1) dX0_start_1 (by decide) ?_
  refine rC_p7 cx dX0_start_2 ?_
  exact wX0_start_5 cx hf
end
theorem metX0_start {l : Launch} {D : va_G} {h : Nat → Nat} {cA : Nat → ClassId} {fl : Nat} {x1 : Int32} {M : MM} {res : Int32 × MM} (hn : njC h) (hf : fX0_start fl x1 M = some res) : Met l yX0_start (ws_ yX0_start cX0_start 2 none) ({ frames := 1, cells := 0, slots := 0, locals := 22 }) (pcC D h cA M [.int x1]) (qvC D h cA res) 0 0 (aC h) := by
  refine Met.ofW (cc := cX0_start) (maxL := 2) (ret := none) (by decide) rfl ?_
  intro p e s m args below meth c s₁ B hml hv
  have hts := atoms_spec (ws := ws_ yX0_start cX0_start 2 none) B.pre
  have hts : ∀ w ∈ lw_all, w.before _ s = true := fun w h => hts w (List.mem_cons_of_mem _ h)
  obtain ⟨rfl, hP, hK⟩ := hv
  rw [lg_entry_eq]
  exact wX0_start_0 (R := { frames := 1, cells := 0, slots := 0, locals := 22 }) ⟨B.exec, B.bytes, hml, findClass_of_methodNamed B.named, hts, hK, fun M => dC_of hn, B.returns, B.notSynchronized, Nat.le_refl _, Nat.le_refl _, hn⟩ hf s.heap [] _ hP va_S.rf (lv_entry ([.ref (h 28), .int x1]) (n := 2) (Nat.le_of_ble_eq_true rfl))
set_option maxRecDepth 100000
section
variable {p : Program} {l : Launch} {e : Env} {R : Room} {s : State} {m : MethodId} {args : Array Value} {below : List Frame} {meth : Method} {c : Code} {D : va_G} {h : Nat → Nat} {cA : Nat → ClassId}
theorem wX0_status_0 (cx : cxC p R s m args meth c D h cA cX0_status 1 (some .int) 0 0) {res : Int32 × MM} {fl : Nat} {M : MM} (hf : fX0_status_0 fl M = some res) : gCi p l e R s m args below meth c D h cA 1 res M 0 [(0, .ref (h 28))] [] := by
  have hx := cx.1
  have hb := cx.2.1
  unfold fX0_status_0 at hf
  refine g_aload_n hx hb dX0_status_0 rfl 0 rfl ?_
  refine rC_g7 cx dX0_status_1 ?_
  exact gC_iret cx hf dX0_status_4
end
theorem metX0_status {l : Launch} {D : va_G} {h : Nat → Nat} {cA : Nat → ClassId} {fl : Nat} {M : MM} {res : Int32 × MM} (hn : njC h) (hf : fX0_status fl M = some res) : Met l yX0_status (ws_ yX0_status cX0_status 1 (some .int)) ({ frames := 0, cells := 0, slots := 0, locals := 0 }) (pcC D h cA M []) (qiC D h cA res) 0 0 (aC h) := by
  refine Met.ofW (cc := cX0_status) (maxL := 1) (ret := (some .int)) (by decide) rfl ?_
  intro p e s m args below meth c s₁ B hml hv
  have hts := atoms_spec (ws := ws_ yX0_status cX0_status 1 (some .int)) B.pre
  have hts : ∀ w ∈ lw_all, w.before _ s = true := fun w h => hts w (List.mem_cons_of_mem _ h)
  obtain ⟨rfl, hP, hK⟩ := hv
  rw [lg_entry_eq]
  exact wX0_status_0 (R := { frames := 0, cells := 0, slots := 0, locals := 0 }) ⟨B.exec, B.bytes, hml, findClass_of_methodNamed B.named, hts, hK, fun M => dC_of hn, B.returns, B.notSynchronized, Nat.le_refl _, Nat.le_refl _, hn⟩ hf s.heap [] _ hP va_S.rf (lv_entry ([.ref (h 28)]) (n := 1) (Nat.le_of_ble_eq_true rfl))
set_option maxRecDepth 100000
section
variable {p : Program} {l : Launch} {e : Env} {R : Room} {s : State} {m : MethodId} {args : Array Value} {below : List Frame} {meth : Method} {c : Code} {D : va_G} {h : Nat → Nat} {cA : Nat → ClassId}
theorem wX0_position_0 (cx : cxC p R s m args meth c D h cA cX0_position 1 (some .int) 0 0) {res : Int32 × MM} {fl : Nat} {M : MM} (hf : fX0_position_0 fl M = some res) : gCi p l e R s m args below meth c D h cA 1 res M 0 [(0, .ref (h 28))] [] := by
  have hx := cx.1
  have hb := cx.2.1
  unfold fX0_position_0 at hf
  refine g_aload_n hx hb dX0_position_0 rfl 0 rfl ?_
  refine rC_g6 cx dX0_position_1 ?_
  exact gC_iret cx hf dX0_position_4
end
theorem metX0_position {l : Launch} {D : va_G} {h : Nat → Nat} {cA : Nat → ClassId} {fl : Nat} {M : MM} {res : Int32 × MM} (hn : njC h) (hf : fX0_position fl M = some res) : Met l yX0_position (ws_ yX0_position cX0_position 1 (some .int)) ({ frames := 0, cells := 0, slots := 0, locals := 0 }) (pcC D h cA M []) (qiC D h cA res) 0 0 (aC h) := by
  refine Met.ofW (cc := cX0_position) (maxL := 1) (ret := (some .int)) (by decide) rfl ?_
  intro p e s m args below meth c s₁ B hml hv
  have hts := atoms_spec (ws := ws_ yX0_position cX0_position 1 (some .int)) B.pre
  have hts : ∀ w ∈ lw_all, w.before _ s = true := fun w h => hts w (List.mem_cons_of_mem _ h)
  obtain ⟨rfl, hP, hK⟩ := hv
  rw [lg_entry_eq]
  exact wX0_position_0 (R := { frames := 0, cells := 0, slots := 0, locals := 0 }) ⟨B.exec, B.bytes, hml, findClass_of_methodNamed B.named, hts, hK, fun M => dC_of hn, B.returns, B.notSynchronized, Nat.le_refl _, Nat.le_refl _, hn⟩ hf s.heap [] _ hP va_S.rf (lv_entry ([.ref (h 28)]) (n := 1) (Nat.le_of_ble_eq_true rfl))
set_option maxRecDepth 100000
section
variable {p : Program} {l : Launch} {e : Env} {R : Room} {s : State} {m : MethodId} {args : Array Value} {below : List Frame} {meth : Method} {c : Code} {D : va_G} {h : Nat → Nat} {cA : Nat → ClassId}
theorem wX0_finished_0 (cx : cxC p R s m args meth c D h cA cX0_finished 1 (some .int) 0 0) {res : Int32 × MM} {fl : Nat} {M : MM} (hf : fX0_finished_0 fl M = some res) : gCi p l e R s m args below meth c D h cA 1 res M 0 [(0, .ref (h 28))] [] := by
  have hx := cx.1
  have hb := cx.2.1
  unfold fX0_finished_0 at hf
  refine g_aload_n hx hb dX0_finished_0 rfl 0 rfl ?_
  refine rC_g8 cx dX0_finished_1 ?_
  exact gC_iret cx hf dX0_finished_4
end
theorem metX0_finished {l : Launch} {D : va_G} {h : Nat → Nat} {cA : Nat → ClassId} {fl : Nat} {M : MM} {res : Int32 × MM} (hn : njC h) (hf : fX0_finished fl M = some res) : Met l yX0_finished (ws_ yX0_finished cX0_finished 1 (some .int)) ({ frames := 0, cells := 0, slots := 0, locals := 0 }) (pcC D h cA M []) (qiC D h cA res) 0 0 (aC h) := by
  refine Met.ofW (cc := cX0_finished) (maxL := 1) (ret := (some .int)) (by decide) rfl ?_
  intro p e s m args below meth c s₁ B hml hv
  have hts := atoms_spec (ws := ws_ yX0_finished cX0_finished 1 (some .int)) B.pre
  have hts : ∀ w ∈ lw_all, w.before _ s = true := fun w h => hts w (List.mem_cons_of_mem _ h)
  obtain ⟨rfl, hP, hK⟩ := hv
  rw [lg_entry_eq]
  exact wX0_finished_0 (R := { frames := 0, cells := 0, slots := 0, locals := 0 }) ⟨B.exec, B.bytes, hml, findClass_of_methodNamed B.named, hts, hK, fun M => dC_of hn, B.returns, B.notSynchronized, Nat.le_refl _, Nat.le_refl _, hn⟩ hf s.heap [] _ hP va_S.rf (lv_entry ([.ref (h 28)]) (n := 1) (Nat.le_of_ble_eq_true rfl))
set_option maxRecDepth 100000
section
variable {p : Program} {l : Launch} {e : Env} {R : Room} {s : State} {m : MethodId} {args : Array Value} {below : List Frame} {meth : Method} {c : Code} {D : va_G} {h : Nat → Nat} {cA : Nat → ClassId}
theorem wX0_register_19 (cx : cxC p R s m args meth c D h cA cX0_register 2 (some .int) 0 0) {res : Int32 × MM} {fl : Nat} {y0 : Int32} {M : MM} (hf : fX0_register_19 fl y0 M = some res) : gCi p l e R s m args below meth c D h cA 2 res M 19 [(0, .ref (h 28))] [.int y0] := by
  have hx := cx.1
  have hb := cx.2.1
  unfold fX0_register_19 at hf
  exact gC_iret cx hf dX0_register_19
theorem wX0_register_9 (cx : cxC p R s m args meth c D h cA cX0_register 2 (some .int) 0 0) {res : Int32 × MM} {fl : Nat} {M : MM} (hf : fX0_register_9 fl M = some res) : gCi p l e R s m args below meth c D h cA 2 res M 9 [(0, .ref (h 28))] [] := by
  have hx := cx.1
  have hb := cx.2.1
  unfold fX0_register_9 at hf
  refine g_iconst hx hb (v := 0) dX0_register_9 (by decide) ?_
  refine g_goto hx hb dX0_register_10 (tgt := 19) (by decide) ?_
  exact wX0_register_19 cx hf
theorem wX0_register_0 (cx : cxC p R s m args meth c D h cA cX0_register 2 (some .int) 0 0) {res : Int32 × MM} {fl : Nat} {x1 : Int32} {M : MM} (hf : fX0_register_0 fl x1 M = some res) : gCi p l e R s m args below meth c D h cA 2 res M 0 [(0, .ref (h 28)), (1, .int x1)] [] := by
  have hx := cx.1
  have hb := cx.2.1
  unfold fX0_register_0 at hf
  refine g_iload_n hx hb dX0_register_0 rfl 1 rfl ?_
  refine g_if_lt hx hb dX0_register_1 (tgt := 9) (by decide) hf (fun hf => ?_) (fun hf => ?_)
  · refine g_sub [0] (L' := [(0, _)]) rfl ?_
    exact wX0_register_9 cx hf
  · refine g_iload_n hx hb dX0_register_4 rfl 1 rfl ?_
    refine g_iconst hx hb (v := 3) dX0_register_5 (by decide) ?_
    refine g_icmp_le hx hb dX0_register_6 (tgt := 13) (by decide) hf (fun hf => ?_) (fun hf => ?_)
    · refine g_aload_n hx hb dX0_register_13 rfl 0 rfl ?_
      refine rC_g4 cx dX0_register_14 ?_
      refine g_iload_n hx hb dX0_register_17 rfl 1 rfl ?_
      refine rC_l4 cx dX0_register_18 hf (fun hf => ?_)
      refine g_sub [0] (L' := [(0, _)]) rfl ?_
      exact wX0_register_19 cx hf
    · refine g_sub [0] (L' := [(0, _)]) rfl ?_
      exact wX0_register_9 cx hf
end
theorem metX0_register {l : Launch} {D : va_G} {h : Nat → Nat} {cA : Nat → ClassId} {fl : Nat} {x1 : Int32} {M : MM} {res : Int32 × MM} (hn : njC h) (hf : fX0_register fl x1 M = some res) : Met l yX0_register (ws_ yX0_register cX0_register 2 (some .int)) ({ frames := 0, cells := 0, slots := 0, locals := 0 }) (pcC D h cA M [.int x1]) (qiC D h cA res) 0 0 (aC h) := by
  refine Met.ofW (cc := cX0_register) (maxL := 2) (ret := (some .int)) (by decide) rfl ?_
  intro p e s m args below meth c s₁ B hml hv
  have hts := atoms_spec (ws := ws_ yX0_register cX0_register 2 (some .int)) B.pre
  have hts : ∀ w ∈ lw_all, w.before _ s = true := fun w h => hts w (List.mem_cons_of_mem _ h)
  obtain ⟨rfl, hP, hK⟩ := hv
  rw [lg_entry_eq]
  exact wX0_register_0 (R := { frames := 0, cells := 0, slots := 0, locals := 0 }) ⟨B.exec, B.bytes, hml, findClass_of_methodNamed B.named, hts, hK, fun M => dC_of hn, B.returns, B.notSynchronized, Nat.le_refl _, Nat.le_refl _, hn⟩ hf s.heap [] _ hP va_S.rf (lv_entry ([.ref (h 28), .int x1]) (n := 2) (Nat.le_of_ble_eq_true rfl))
set_option maxRecDepth 100000
section
variable {p : Program} {l : Launch} {e : Env} {R : Room} {s : State} {m : MethodId} {args : Array Value} {below : List Frame} {meth : Method} {c : Code} {D : va_G} {h : Nat → Nat} {cA : Nat → ClassId}
theorem wX0_memory_20 (cx : cxC p R s m args meth c D h cA cX0_memory 2 (some .int) 0 0) {res : Int32 × MM} {fl : Nat} {y0 : Int32} {M : MM} (hf : fX0_memory_20 fl y0 M = some res) : gCi p l e R s m args below meth c D h cA 2 res M 20 [(0, .ref (h 28))] [.int y0] := by
  have hx := cx.1
  have hb := cx.2.1
  unfold fX0_memory_20 at hf
  exact gC_iret cx hf dX0_memory_20
theorem wX0_memory_10 (cx : cxC p R s m args meth c D h cA cX0_memory 2 (some .int) 0 0) {res : Int32 × MM} {fl : Nat} {M : MM} (hf : fX0_memory_10 fl M = some res) : gCi p l e R s m args below meth c D h cA 2 res M 10 [(0, .ref (h 28))] [] := by
  have hx := cx.1
  have hb := cx.2.1
  unfold fX0_memory_10 at hf
  refine g_iconst hx hb (v := 0) dX0_memory_10 (by decide) ?_
  refine g_goto hx hb dX0_memory_11 (tgt := 20) (by decide) ?_
  exact wX0_memory_20 cx hf
theorem wX0_memory_0 (cx : cxC p R s m args meth c D h cA cX0_memory 2 (some .int) 0 0) {res : Int32 × MM} {fl : Nat} {x1 : Int32} {M : MM} (hf : fX0_memory_0 fl x1 M = some res) : gCi p l e R s m args below meth c D h cA 2 res M 0 [(0, .ref (h 28)), (1, .int x1)] [] := by
  have hx := cx.1
  have hb := cx.2.1
  unfold fX0_memory_0 at hf
  refine g_iload_n hx hb dX0_memory_0 rfl 1 rfl ?_
  refine g_if_lt hx hb dX0_memory_1 (tgt := 10) (by decide) hf (fun hf => ?_) (fun hf => ?_)
  · refine g_sub [0] (L' := [(0, _)]) rfl ?_
    exact wX0_memory_10 cx hf
  · refine g_iload_n hx hb dX0_memory_4 rfl 1 rfl ?_
    refine g_bipush hx hb (v := 7) dX0_memory_5 (by decide) ?_
    refine g_icmp_le hx hb dX0_memory_7 (tgt := 14) (by decide) hf (fun hf => ?_) (fun hf => ?_)
    · refine g_aload_n hx hb dX0_memory_14 rfl 0 rfl ?_
      refine rC_g5 cx dX0_memory_15 ?_
      refine g_iload_n hx hb dX0_memory_18 rfl 1 rfl ?_
      refine rC_l5 cx dX0_memory_19 hf (fun hf => ?_)
      refine g_sub [0] (L' := [(0, _)]) rfl ?_
      exact wX0_memory_20 cx hf
    · refine g_sub [0] (L' := [(0, _)]) rfl ?_
      exact wX0_memory_10 cx hf
end
theorem metX0_memory {l : Launch} {D : va_G} {h : Nat → Nat} {cA : Nat → ClassId} {fl : Nat} {x1 : Int32} {M : MM} {res : Int32 × MM} (hn : njC h) (hf : fX0_memory fl x1 M = some res) : Met l yX0_memory (ws_ yX0_memory cX0_memory 2 (some .int)) ({ frames := 0, cells := 0, slots := 0, locals := 0 }) (pcC D h cA M [.int x1]) (qiC D h cA res) 0 0 (aC h) := by
  refine Met.ofW (cc := cX0_memory) (maxL := 2) (ret := (some .int)) (by decide) rfl ?_
  intro p e s m args below meth c s₁ B hml hv
  have hts := atoms_spec (ws := ws_ yX0_memory cX0_memory 2 (some .int)) B.pre
  have hts : ∀ w ∈ lw_all, w.before _ s = true := fun w h => hts w (List.mem_cons_of_mem _ h)
  obtain ⟨rfl, hP, hK⟩ := hv
  rw [lg_entry_eq]
  exact wX0_memory_0 (R := { frames := 0, cells := 0, slots := 0, locals := 0 }) ⟨B.exec, B.bytes, hml, findClass_of_methodNamed B.named, hts, hK, fun M => dC_of hn, B.returns, B.notSynchronized, Nat.le_refl _, Nat.le_refl _, hn⟩ hf s.heap [] _ hP va_S.rf (lv_entry ([.ref (h 28), .int x1]) (n := 2) (Nat.le_of_ble_eq_true rfl))
set_option maxRecDepth 100000
section
variable {p : Program} {l : Launch} {e : Env} {R : Room} {s : State} {m : MethodId} {args : Array Value} {below : List Frame} {meth : Method} {c : Code} {D : va_G} {h : Nat → Nat} {cA : Nat → ClassId}
theorem wX0_digest_22 (cx : cxC p R s m args meth c D h cA cX0_digest 3 (some .int) 0 0) {res : Int32 × MM} {fl : Nat} {K : Int32 → Int32 → MM → Option (Int32 × MM)} (hK : ∀ {x1 x2 : Int32} {M : MM}, K x1 x2 M = some res → gCi p l e R s m args below meth c D h cA 3 res M 4 [(0, .ref (h 28)), (1, .int x1), (2, .int x2)] []) {x1 x2 : Int32} {M : MM} (hf : fX0_digest_22 fl K x1 x2 M = some res) : gCi p l e R s m args below meth c D h cA 3 res M 22 [(0, .ref (h 28)), (1, .int x1), (2, .int x2)] [] := by
  have hx := cx.1
  have hb := cx.2.1
  unfold fX0_digest_22 at hf
  refine g_iinc hx hb (v := _ + 1) dX0_digest_22 2 rfl rfl (by decide) [1, 2, 0] (L' := [(0, _), (1, _), (2, _)]) rfl ?_
  refine g_goto hx hb dX0_digest_25 (tgt := 4) (by decide) ?_
  exact hK hf
theorem wX0_digest_49 (cx : cxC p R s m args meth c D h cA cX0_digest 3 (some .int) 0 0) {res : Int32 × MM} {fl : Nat} {K : Int32 → Int32 → MM → Option (Int32 × MM)} (hK : ∀ {x1 x2 : Int32} {M : MM}, K x1 x2 M = some res → gCi p l e R s m args below meth c D h cA 3 res M 30 [(0, .ref (h 28)), (1, .int x1), (2, .int x2)] []) {x1 x2 : Int32} {M : MM} (hf : fX0_digest_49 fl K x1 x2 M = some res) : gCi p l e R s m args below meth c D h cA 3 res M 49 [(0, .ref (h 28)), (1, .int x1), (2, .int x2)] [] := by
  have hx := cx.1
  have hb := cx.2.1
  unfold fX0_digest_49 at hf
  refine g_iinc hx hb (v := _ + 1) dX0_digest_49 2 rfl rfl (by decide) [1, 2, 0] (L' := [(0, _), (1, _), (2, _)]) rfl ?_
  refine g_goto hx hb dX0_digest_52 (tgt := 30) (by decide) ?_
  exact hK hf
theorem wX0_digest_30 (cx : cxC p R s m args meth c D h cA cX0_digest 3 (some .int) 0 0) {res : Int32 × MM} {fl : Nat} : ∀ {n : Nat} {x1 x2 : Int32} {M : MM}, fX0_digest_30 fl n x1 x2 M = some res → gCi p l e R s m args below meth c D h cA 3 res M 30 [(0, .ref (h 28)), (1, .int x1), (2, .int x2)] [] := by
  have hx := cx.1
  have hb := cx.2.1
  intro n
  induction n with
  | zero => intro x1 x2 M hf; exact absurd hf (by simp [fX0_digest_30])
  | succ n ih =>
    intro x1 x2 M hf
    unfold fX0_digest_30 at hf
    refine g_iload_n hx hb dX0_digest_30 rfl 2 rfl ?_
    refine g_bipush hx hb (v := 8) dX0_digest_31 (by decide) ?_
    refine g_icmp_ge hx hb dX0_digest_33 (tgt := 55) (by decide) hf (fun hf => ?_) (fun hf => ?_)
    · refine g_iload_n hx hb dX0_digest_55 rfl 1 rfl ?_
      exact gC_iret cx hf dX0_digest_56
    · refine g_iload_n hx hb dX0_digest_36 rfl 1 rfl ?_
      refine g_iload_n hx hb dX0_digest_37 rfl 2 rfl ?_
      refine g_iconst hx hb (v := 5) dX0_digest_38 (by decide) ?_
      refine g_iadd hx hb dX0_digest_39 ?_
      refine g_aload_n hx hb dX0_digest_40 rfl 0 rfl ?_
      refine rC_g5 cx dX0_digest_41 ?_
      refine g_iload_n hx hb dX0_digest_44 rfl 2 rfl ?_
      refine rC_l5 cx dX0_digest_45 hf (fun hf => ?_)
      refine g_imul hx hb dX0_digest_46 ?_
      refine g_iadd hx hb dX0_digest_47 ?_
      refine g_istore_n hx hb dX0_digest_48 rfl (by decide) [1, 0, 2] (L' := [(0, _), (1, _), (2, _)]) rfl ?_
      exact wX0_digest_49 cx ih hf
theorem wX0_digest_4 (cx : cxC p R s m args meth c D h cA cX0_digest 3 (some .int) 0 0) {res : Int32 × MM} {fl : Nat} : ∀ {n : Nat} {x1 x2 : Int32} {M : MM}, fX0_digest_4 fl n x1 x2 M = some res → gCi p l e R s m args below meth c D h cA 3 res M 4 [(0, .ref (h 28)), (1, .int x1), (2, .int x2)] [] := by
  have hx := cx.1
  have hb := cx.2.1
  intro n
  induction n with
  | zero => intro x1 x2 M hf; exact absurd hf (by simp [fX0_digest_4])
  | succ n ih =>
    intro x1 x2 M hf
    unfold fX0_digest_4 at hf
    refine g_iload_n hx hb dX0_digest_4 rfl 2 rfl ?_
    refine g_iconst hx hb (v := 4) dX0_digest_5 (by decide) ?_
    refine g_icmp_ge hx hb dX0_digest_6 (tgt := 28) (by decide) hf (fun hf => ?_) (fun hf => ?_)
    · refine g_iconst hx hb (v := 0) dX0_digest_28 (by decide) ?_
      refine g_istore_n hx hb dX0_digest_29 rfl (by decide) [1, 2, 0] (L' := [(0, _), (1, _), (2, _)]) rfl ?_
      exact wX0_digest_30 cx hf
    · refine g_iload_n hx hb dX0_digest_9 rfl 1 rfl ?_
      refine g_iload_n hx hb dX0_digest_10 rfl 2 rfl ?_
      refine g_iconst hx hb (v := 1) dX0_digest_11 (by decide) ?_
      refine g_iadd hx hb dX0_digest_12 ?_
      refine g_aload_n hx hb dX0_digest_13 rfl 0 rfl ?_
      refine rC_g4 cx dX0_digest_14 ?_
      refine g_iload_n hx hb dX0_digest_17 rfl 2 rfl ?_
      refine rC_l4 cx dX0_digest_18 hf (fun hf => ?_)
      refine g_imul hx hb dX0_digest_19 ?_
      refine g_iadd hx hb dX0_digest_20 ?_
      refine g_istore_n hx hb dX0_digest_21 rfl (by decide) [1, 0, 2] (L' := [(0, _), (1, _), (2, _)]) rfl ?_
      exact wX0_digest_22 cx ih hf
theorem wX0_digest_2 (cx : cxC p R s m args meth c D h cA cX0_digest 3 (some .int) 0 0) {res : Int32 × MM} {fl : Nat} {x1 : Int32} {M : MM} (hf : fX0_digest_2 fl x1 M = some res) : gCi p l e R s m args below meth c D h cA 3 res M 2 [(0, .ref (h 28)), (1, .int x1)] [] := by
  have hx := cx.1
  have hb := cx.2.1
  unfold fX0_digest_2 at hf
  refine g_iconst hx hb (v := 0) dX0_digest_2 (by decide) ?_
  refine g_istore_n hx hb dX0_digest_3 rfl (by decide) [1, 2, 0] (L' := [(0, _), (1, _), (2, _)]) rfl ?_
  exact wX0_digest_4 cx hf
theorem wX0_digest_0 (cx : cxC p R s m args meth c D h cA cX0_digest 3 (some .int) 0 0) {res : Int32 × MM} {fl : Nat} {M : MM} (hf : fX0_digest_0 fl M = some res) : gCi p l e R s m args below meth c D h cA 3 res M 0 [(0, .ref (h 28))] [] := by
  have hx := cx.1
  have hb := cx.2.1
  unfold fX0_digest_0 at hf
  refine g_iconst hx hb (v := 0) dX0_digest_0 (by decide) ?_
  refine g_istore_n hx hb dX0_digest_1 rfl (by decide) [1, 0] (L' := [(0, _), (1, _)]) rfl ?_
  exact wX0_digest_2 cx hf
end
theorem metX0_digest {l : Launch} {D : va_G} {h : Nat → Nat} {cA : Nat → ClassId} {fl : Nat} {M : MM} {res : Int32 × MM} (hn : njC h) (hf : fX0_digest fl M = some res) : Met l yX0_digest (ws_ yX0_digest cX0_digest 3 (some .int)) ({ frames := 0, cells := 0, slots := 0, locals := 0 }) (pcC D h cA M []) (qiC D h cA res) 0 0 (aC h) := by
  refine Met.ofW (cc := cX0_digest) (maxL := 3) (ret := (some .int)) (by decide) rfl ?_
  intro p e s m args below meth c s₁ B hml hv
  have hts := atoms_spec (ws := ws_ yX0_digest cX0_digest 3 (some .int)) B.pre
  have hts : ∀ w ∈ lw_all, w.before _ s = true := fun w h => hts w (List.mem_cons_of_mem _ h)
  obtain ⟨rfl, hP, hK⟩ := hv
  rw [lg_entry_eq]
  exact wX0_digest_0 (R := { frames := 0, cells := 0, slots := 0, locals := 0 }) ⟨B.exec, B.bytes, hml, findClass_of_methodNamed B.named, hts, hK, fun M => dC_of hn, B.returns, B.notSynchronized, Nat.le_refl _, Nat.le_refl _, hn⟩ hf s.heap [] _ hP va_S.rf (lv_entry ([.ref (h 28)]) (n := 3) (Nat.le_of_ble_eq_true rfl))
end
section
set_option maxRecDepth 100000
section
variable {p : Program} {l : Launch} {e : Env} {R : Room} {s : State} {m : MethodId} {args : Array Value} {below : List Frame} {meth : Method} {c : Code} {D : va_G} {h : Nat → Nat} {cA : Nat → ClassId}
theorem wX0_latency_24 (cx : cxS p meth c cX0_latency (some .int)) {res : Int32 × MM} {fl : Nat} {y0 : Int32} {M : MM} (hf : fX0_latency_24 fl y0 M = some res) : gS p l e R s m args below meth c D 1 res 24 [] [.int y0] := by
  have hx := cx.1
  have hb := cx.2.1
  unfold fX0_latency_24 at hf
  exact gS_iret cx hf dX0_latency_24
theorem wX0_latency_0 (cx : cxS p meth c cX0_latency (some .int)) {res : Int32 × MM} {fl : Nat} {x0 : Int32} {M : MM} (hf : fX0_latency_0 fl x0 M = some res) : gS p l e R s m args below meth c D 1 res 0 [(0, .int x0)] [] := by
  have hx := cx.1
  have hb := cx.2.1
  unfold fX0_latency_0 at hf
  refine g_iload_n hx hb dX0_latency_0 rfl 0 rfl ?_
  refine g_iconst hx hb (v := 3) dX0_latency_1 (by decide) ?_
  refine g_icmp_ne hx hb dX0_latency_2 (tgt := 7) (by decide) hf (fun hf => ?_) (fun hf => ?_)
  · refine g_iconst hx hb (v := 5) dX0_latency_5 (by decide) ?_
    exact gS_iret cx hf dX0_latency_6
  · refine g_iload_n hx hb dX0_latency_7 rfl 0 rfl ?_
    refine g_iconst hx hb (v := 2) dX0_latency_8 (by decide) ?_
    refine g_icmp_ne hx hb dX0_latency_9 (tgt := 14) (by decide) hf (fun hf => ?_) (fun hf => ?_)
    · refine g_iconst hx hb (v := 3) dX0_latency_12 (by decide) ?_
      exact gS_iret cx hf dX0_latency_13
    · refine g_iload_n hx hb dX0_latency_14 rfl 0 rfl ?_
      refine g_iconst hx hb (v := 4) dX0_latency_15 (by decide) ?_
      refine g_icmp_ne hx hb dX0_latency_16 (tgt := 23) (by decide) hf (fun hf => ?_) (fun hf => ?_)
      · refine g_iconst hx hb (v := 2) dX0_latency_19 (by decide) ?_
        refine g_goto hx hb dX0_latency_20 (tgt := 24) (by decide) ?_
        refine g_sub [] (L' := []) rfl ?_
        exact wX0_latency_24 cx hf
      · refine g_iconst hx hb (v := 1) dX0_latency_23 (by decide) ?_
        refine g_sub [] (L' := []) rfl ?_
        exact wX0_latency_24 cx hf
end
theorem metX0_latency {l : Launch} {fl : Nat} {x0 : Int32} {M : MM} {res : Int32 × MM} (hf : fX0_latency fl x0 M = some res) : Met l yX0_latency (ws_ yX0_latency cX0_latency 1 (some .int)) ({ frames := 0, cells := 0, slots := 0, locals := 0 }) (va_Pc [.int x0] (fun _ => True)) (qiS res) 0 0 (fun _ => False) := by
  refine Met.ofW (cc := cX0_latency) (maxL := 1) (ret := (some .int)) (by decide) rfl ?_
  intro p e s m args below meth c s₁ B hml hv
  have hts := atoms_spec (ws := ws_ yX0_latency cX0_latency 1 (some .int)) B.pre
  have hts : ∀ w ∈ lw_all, w.before _ s = true := fun w h => hts w (List.mem_cons_of_mem _ h)
  obtain ⟨rfl, -⟩ := hv
  rw [lg_entry_eq]
  exact wX0_latency_0 (D := (fun _ => 0, fun _ _ => 0)) ⟨B.exec, B.bytes, B.returns, B.notSynchronized⟩ hf s.heap [] _ (fun k q h => by cases h) va_S.rf (lv_entry ([.int x0]) (n := 1) (Nat.le_of_ble_eq_true rfl))
set_option maxRecDepth 100000
section
variable {p : Program} {l : Launch} {e : Env} {R : Room} {s : State} {m : MethodId} {args : Array Value} {below : List Frame} {meth : Method} {c : Code} {D : va_G} {h : Nat → Nat} {cA : Nat → ClassId}
theorem wX0_begin_60 (cx : cxC p R s m args meth c D h cA cX0_begin 7 none 1 20) {res : Int32 × MM} {fl : Nat} {K : Int32 → Int32 → MM → Option (Int32 × MM)} (hK : ∀ {x1 x2 : Int32} {M : MM}, K x1 x2 M = some res → gCv p l e R s m args below meth c D h cA 7 res M 4 [(0, .ref (h 28)), (1, .int x1), (2, .int x2)] []) {x1 x2 : Int32} {M : MM} (hf : fX0_begin_60 fl K x1 x2 M = some res) : gCv p l e R s m args below meth c D h cA 7 res M 60 [(0, .ref (h 28)), (1, .int x1), (2, .int x2)] [] := by
  have hx := cx.1
  have hb := cx.2.1
  unfold fX0_begin_60 at hf
  refine g_iinc hx hb (v := _ + 1) dX0_begin_60 2 rfl rfl (by decide) [1, 2, 0] (L' := [(0, _), (1, _), (2, _)]) rfl ?_
  refine g_goto hx hb dX0_begin_63 (tgt := 4) (by decide) ?_
  exact hK hf
theorem wX0_begin_58 (cx : cxC p R s m args meth c D h cA cX0_begin 7 none 1 20) {res : Int32 × MM} {fl : Nat} {K : Int32 → Int32 → MM → Option (Int32 × MM)} (hK : ∀ {x1 x2 : Int32} {M : MM}, K x1 x2 M = some res → gCv p l e R s m args below meth c D h cA 7 res M 4 [(0, .ref (h 28)), (1, .int x1), (2, .int x2)] []) {x2 y0 y1 : Int32} {M : MM} (hf : fX0_begin_58 fl K x2 y0 y1 M = some res) : gCv p l e R s m args below meth c D h cA 7 res M 58 [(0, .ref (h 28)), (2, .int x2)] [.int y1, .int y0] := by
  have hx := cx.1
  have hb := cx.2.1
  unfold fX0_begin_58 at hf
  refine g_ior hx hb dX0_begin_58 ?_
  refine g_istore_n hx hb dX0_begin_59 rfl (by decide) [1, 0, 2] (L' := [(0, _), (1, _), (2, _)]) rfl ?_
  exact wX0_begin_60 cx hK hf
theorem wX0_begin_53 (cx : cxC p R s m args meth c D h cA cX0_begin 7 none 1 20) {res : Int32 × MM} {fl : Nat} {K : Int32 → Int32 → MM → Option (Int32 × MM)} (hK : ∀ {x1 x2 : Int32} {M : MM}, K x1 x2 M = some res → gCv p l e R s m args below meth c D h cA 7 res M 4 [(0, .ref (h 28)), (1, .int x1), (2, .int x2)] []) {x2 y0 : Int32} {M : MM} (hf : fX0_begin_53 fl K x2 y0 M = some res) : gCv p l e R s m args below meth c D h cA 7 res M 53 [(0, .ref (h 28)), (2, .int x2)] [.int y0] := by
  have hx := cx.1
  have hb := cx.2.1
  unfold fX0_begin_53 at hf
  refine g_iconst hx hb (v := 1) dX0_begin_53 (by decide) ?_
  refine g_goto hx hb dX0_begin_54 (tgt := 58) (by decide) ?_
  exact wX0_begin_58 cx hK hf
theorem wX0_begin_57 (cx : cxC p R s m args meth c D h cA cX0_begin 7 none 1 20) {res : Int32 × MM} {fl : Nat} {K : Int32 → Int32 → MM → Option (Int32 × MM)} (hK : ∀ {x1 x2 : Int32} {M : MM}, K x1 x2 M = some res → gCv p l e R s m args below meth c D h cA 7 res M 4 [(0, .ref (h 28)), (1, .int x1), (2, .int x2)] []) {x2 y0 : Int32} {M : MM} (hf : fX0_begin_57 fl K x2 y0 M = some res) : gCv p l e R s m args below meth c D h cA 7 res M 57 [(0, .ref (h 28)), (2, .int x2)] [.int y0] := by
  have hx := cx.1
  have hb := cx.2.1
  unfold fX0_begin_57 at hf
  refine g_iconst hx hb (v := 0) dX0_begin_57 (by decide) ?_
  exact wX0_begin_58 cx hK hf
theorem wX0_begin_22 (cx : cxC p R s m args meth c D h cA cX0_begin 7 none 1 20) {res : Int32 × MM} {fl : Nat} {K : Int32 → Int32 → MM → Option (Int32 × MM)} (hK : ∀ {x1 x2 : Int32} {M : MM}, K x1 x2 M = some res → gCv p l e R s m args below meth c D h cA 7 res M 4 [(0, .ref (h 28)), (1, .int x1), (2, .int x2)] []) {x1 x2 x3 : Int32} {M : MM} (hf : fX0_begin_22 fl K x1 x2 x3 M = some res) : gCv p l e R s m args below meth c D h cA 7 res M 22 [(0, .ref (h 28)), (1, .int x1), (2, .int x2), (3, .int x3)] [] := by
  have hx := cx.1
  have hb := cx.2.1
  unfold fX0_begin_22 at hf
  refine g_iload_n hx hb dX0_begin_22 rfl 1 rfl ?_
  refine g_aload_n hx hb dX0_begin_23 rfl 0 rfl ?_
  refine rC_g16 cx dX0_begin_24 ?_
  refine g_iload_n hx hb dX0_begin_27 rfl 3 rfl ?_
  refine rC_l16 cx dX0_begin_28 hf (fun hf => ?_)
  refine g_iconst hx hb (v := 1) dX0_begin_29 (by decide) ?_
  refine g_icmp_ne hx hb dX0_begin_30 (tgt := 57) (by decide) hf (fun hf => ?_) (fun hf => ?_)
  · refine g_aload_n hx hb dX0_begin_33 rfl 0 rfl ?_
    refine rC_g14 cx dX0_begin_34 ?_
    refine g_iload_n hx hb dX0_begin_37 rfl 3 rfl ?_
    refine rC_l14 cx dX0_begin_38 hf (fun hf => ?_)
    refine g_iconst hx hb (v := 2) dX0_begin_39 (by decide) ?_
    refine g_icmp_eq hx hb dX0_begin_40 (tgt := 53) (by decide) hf (fun hf => ?_) (fun hf => ?_)
    · refine g_sub [0, 2] (L' := [(0, _), (2, _)]) rfl ?_
      exact wX0_begin_53 cx hK hf
    · refine g_aload_n hx hb dX0_begin_43 rfl 0 rfl ?_
      refine rC_g14 cx dX0_begin_44 ?_
      refine g_iload_n hx hb dX0_begin_47 rfl 3 rfl ?_
      refine rC_l14 cx dX0_begin_48 hf (fun hf => ?_)
      refine g_iconst hx hb (v := 3) dX0_begin_49 (by decide) ?_
      refine g_icmp_ne hx hb dX0_begin_50 (tgt := 57) (by decide) hf (fun hf => ?_) (fun hf => ?_)
      · refine g_sub [0, 2] (L' := [(0, _), (2, _)]) rfl ?_
        exact wX0_begin_53 cx hK hf
      · refine g_sub [0, 2] (L' := [(0, _), (2, _)]) rfl ?_
        exact wX0_begin_57 cx hK hf
  · refine g_sub [0, 2] (L' := [(0, _), (2, _)]) rfl ?_
    exact wX0_begin_57 cx hK hf
theorem wX0_begin_234 (cx : cxC p R s m args meth c D h cA cX0_begin 7 none 1 20) {res : Int32 × MM} {fl : Nat} {K : Int32 → Int32 → Int32 → MM → Option (Int32 × MM)} (hK : ∀ {x1 x2 x3 : Int32} {M : MM}, K x1 x2 x3 M = some res → gCv p l e R s m args below meth c D h cA 7 res M 70 [(0, .ref (h 28)), (1, .int x1), (2, .int x2), (3, .int x3)] []) {x1 x2 x3 : Int32} {M : MM} (hf : fX0_begin_234 fl K x1 x2 x3 M = some res) : gCv p l e R s m args below meth c D h cA 7 res M 234 [(0, .ref (h 28)), (1, .int x1), (2, .int x2), (3, .int x3)] [] := by
  have hx := cx.1
  have hb := cx.2.1
  unfold fX0_begin_234 at hf
  refine g_iinc hx hb (v := _ + 1) dX0_begin_234 3 rfl rfl (by decide) [1, 2, 3, 0] (L' := [(0, _), (1, _), (2, _), (3, _)]) rfl ?_
  refine g_goto hx hb dX0_begin_237 (tgt := 70) (by decide) ?_
  exact hK hf
theorem wX0_begin_232 (cx : cxC p R s m args meth c D h cA cX0_begin 7 none 1 20) {res : Int32 × MM} {fl : Nat} {K : Int32 → Int32 → Int32 → MM → Option (Int32 × MM)} (hK : ∀ {x1 x2 x3 : Int32} {M : MM}, K x1 x2 x3 M = some res → gCv p l e R s m args below meth c D h cA 7 res M 70 [(0, .ref (h 28)), (1, .int x1), (2, .int x2), (3, .int x3)] []) {x1 x3 y0 y1 : Int32} {M : MM} (hf : fX0_begin_232 fl K x1 x3 y0 y1 M = some res) : gCv p l e R s m args below meth c D h cA 7 res M 232 [(0, .ref (h 28)), (1, .int x1), (3, .int x3)] [.int y1, .int y0] := by
  have hx := cx.1
  have hb := cx.2.1
  unfold fX0_begin_232 at hf
  refine g_ior hx hb dX0_begin_232 ?_
  refine g_istore_n hx hb dX0_begin_233 rfl (by decide) [1, 2, 0, 3] (L' := [(0, _), (1, _), (2, _), (3, _)]) rfl ?_
  exact wX0_begin_234 cx hK hf
theorem wX0_begin_215 (cx : cxC p R s m args meth c D h cA cX0_begin 7 none 1 20) {res : Int32 × MM} {fl : Nat} {K : Int32 → Int32 → Int32 → MM → Option (Int32 × MM)} (hK : ∀ {x1 x2 x3 : Int32} {M : MM}, K x1 x2 x3 M = some res → gCv p l e R s m args below meth c D h cA 7 res M 70 [(0, .ref (h 28)), (1, .int x1), (2, .int x2), (3, .int x3)] []) {x1 x2 x3 x4 : Int32} {M : MM} (hf : fX0_begin_215 fl K x1 x2 x3 x4 M = some res) : gCv p l e R s m args below meth c D h cA 7 res M 215 [(0, .ref (h 28)), (1, .int x1), (2, .int x2), (3, .int x3), (4, .int x4)] [] := by
  have hx := cx.1
  have hb := cx.2.1
  unfold fX0_begin_215 at hf
  refine g_iload_n hx hb dX0_begin_215 rfl 2 rfl ?_
  refine g_aload_n hx hb dX0_begin_216 rfl 0 rfl ?_
  refine rC_g14 cx dX0_begin_217 ?_
  refine g_iload hx hb dX0_begin_220 4 rfl ?_
  refine rC_l14 cx dX0_begin_222 hf (fun hf => ?_)
  refine g_iconst hx hb (v := 5) dX0_begin_223 (by decide) ?_
  refine g_icmp_ne hx hb dX0_begin_224 (tgt := 231) (by decide) hf (fun hf => ?_) (fun hf => ?_)
  · refine g_iconst hx hb (v := 1) dX0_begin_227 (by decide) ?_
    refine g_goto hx hb dX0_begin_228 (tgt := 232) (by decide) ?_
    refine g_sub [0, 1, 3] (L' := [(0, _), (1, _), (3, _)]) rfl ?_
    exact wX0_begin_232 cx hK hf
  · refine g_iconst hx hb (v := 0) dX0_begin_231 (by decide) ?_
    refine g_sub [0, 1, 3] (L' := [(0, _), (1, _), (3, _)]) rfl ?_
    exact wX0_begin_232 cx hK hf
theorem wX0_begin_210 (cx : cxC p R s m args meth c D h cA cX0_begin 7 none 1 20) {res : Int32 × MM} {fl : Nat} {K : Int32 → Int32 → Int32 → MM → Option (Int32 × MM)} (hK : ∀ {x1 x2 x3 : Int32} {M : MM}, K x1 x2 x3 M = some res → gCv p l e R s m args below meth c D h cA 7 res M 70 [(0, .ref (h 28)), (1, .int x1), (2, .int x2), (3, .int x3)] []) {x1 x2 x3 x4 x5 : Int32} {M : MM} (hf : fX0_begin_210 fl K x1 x2 x3 x4 x5 M = some res) : gCv p l e R s m args below meth c D h cA 7 res M 210 [(0, .ref (h 28)), (1, .int x1), (2, .int x2), (3, .int x3), (4, .int x4), (5, .int x5)] [] := by
  have hx := cx.1
  have hb := cx.2.1
  unfold fX0_begin_210 at hf
  refine g_iload_n hx hb dX0_begin_210 rfl 1 rfl ?_
  refine g_iload hx hb dX0_begin_211 5 rfl ?_
  refine g_ior hx hb dX0_begin_213 ?_
  refine g_istore_n hx hb dX0_begin_214 rfl (by decide) [1, 0, 2, 3, 4] (L' := [(0, _), (1, _), (2, _), (3, _), (4, _)]) rfl ?_
  exact wX0_begin_215 cx hK hf
theorem wX0_begin_208 (cx : cxC p R s m args meth c D h cA cX0_begin 7 none 1 20) {res : Int32 × MM} {fl : Nat} {K : Int32 → Int32 → Int32 → MM → Option (Int32 × MM)} (hK : ∀ {x1 x2 x3 : Int32} {M : MM}, K x1 x2 x3 M = some res → gCv p l e R s m args below meth c D h cA 7 res M 70 [(0, .ref (h 28)), (1, .int x1), (2, .int x2), (3, .int x3)] []) {x1 x2 x3 x4 x5 y0 y1 : Int32} {M : MM} (hf : fX0_begin_208 fl K x1 x2 x3 x4 x5 y0 y1 M = some res) : gCv p l e R s m args below meth c D h cA 7 res M 208 [(0, .ref (h 28)), (1, .int x1), (2, .int x2), (3, .int x3), (4, .int x4), (5, .int x5)] [.int y1, .int y0, .ref (h 17)] := by
  have hx := cx.1
  have hb := cx.2.1
  unfold fX0_begin_208 at hf
  refine g_i2b hx hb dX0_begin_208 ?_
  refine rC_s17 cx dX0_begin_209 hf (fun hf => ?_)
  exact wX0_begin_210 cx hK hf
theorem wX0_begin_192 (cx : cxC p R s m args meth c D h cA cX0_begin 7 none 1 20) {res : Int32 × MM} {fl : Nat} {K : Int32 → Int32 → Int32 → MM → Option (Int32 × MM)} (hK : ∀ {x1 x2 x3 : Int32} {M : MM}, K x1 x2 x3 M = some res → gCv p l e R s m args below meth c D h cA 7 res M 70 [(0, .ref (h 28)), (1, .int x1), (2, .int x2), (3, .int x3)] []) {x1 x2 x3 x4 x5 : Int32} {M : MM} (hf : fX0_begin_192 fl K x1 x2 x3 x4 x5 M = some res) : gCv p l e R s m args below meth c D h cA 7 res M 192 [(0, .ref (h 28)), (1, .int x1), (2, .int x2), (3, .int x3), (4, .int x4), (5, .int x5)] [] := by
  have hx := cx.1
  have hb := cx.2.1
  unfold fX0_begin_192 at hf
  refine g_aload_n hx hb dX0_begin_192 rfl 0 rfl ?_
  refine rC_g17 cx dX0_begin_193 ?_
  refine g_iload hx hb dX0_begin_196 4 rfl ?_
  refine g_aload_n hx hb dX0_begin_198 rfl 0 rfl ?_
  refine rC_g14 cx dX0_begin_199 ?_
  refine g_iload hx hb dX0_begin_202 4 rfl ?_
  refine rC_l14 cx dX0_begin_204 hf (fun hf => ?_)
  obtain ⟨q, hq, hf⟩ := ob hf
  refine gC_calls cx (np := 1) (as := [.int (M 14 x4.toNatClampNeg)]) (metX0_latency (l := l) hq) (lw_S q165 q166 q15 q167) rfl rfl ⟨by decide, by decide, by decide +kernel⟩ ⟨by decide, by decide⟩ rfl (Nat.le_of_ble_eq_true rfl) dX0_begin_205 rfl ?_
  exact wX0_begin_208 cx hK hf
theorem wX0_begin_184 (cx : cxC p R s m args meth c D h cA cX0_begin 7 none 1 20) {res : Int32 × MM} {fl : Nat} {K : Int32 → Int32 → Int32 → MM → Option (Int32 × MM)} (hK : ∀ {x1 x2 x3 : Int32} {M : MM}, K x1 x2 x3 M = some res → gCv p l e R s m args below meth c D h cA 7 res M 70 [(0, .ref (h 28)), (1, .int x1), (2, .int x2), (3, .int x3)] []) {x1 x2 x3 x4 x5 : Int32} {M : MM} (hf : fX0_begin_184 fl K x1 x2 x3 x4 x5 M = some res) : gCv p l e R s m args below meth c D h cA 7 res M 184 [(0, .ref (h 28)), (1, .int x1), (2, .int x2), (3, .int x3), (4, .int x4), (5, .int x5)] [] := by
  have hx := cx.1
  have hb := cx.2.1
  unfold fX0_begin_184 at hf
  refine g_aload_n hx hb dX0_begin_184 rfl 0 rfl ?_
  refine rC_g16 cx dX0_begin_185 ?_
  refine g_iload hx hb dX0_begin_188 4 rfl ?_
  refine g_iconst hx hb (v := 1) dX0_begin_190 (by decide) ?_
  refine rC_s16 cx dX0_begin_191 hf (fun hf => ?_)
  exact wX0_begin_192 cx hK hf
theorem wX0_begin_169 (cx : cxC p R s m args meth c D h cA cX0_begin 7 none 1 20) {res : Int32 × MM} {fl : Nat} {K : Int32 → Int32 → Int32 → MM → Option (Int32 × MM)} (hK : ∀ {x1 x2 x3 : Int32} {M : MM}, K x1 x2 x3 M = some res → gCv p l e R s m args below meth c D h cA 7 res M 70 [(0, .ref (h 28)), (1, .int x1), (2, .int x2), (3, .int x3)] []) {x1 x2 x3 x4 x5 : Int32} {M : MM} (hf : fX0_begin_169 fl K x1 x2 x3 x4 x5 M = some res) : gCv p l e R s m args below meth c D h cA 7 res M 169 [(0, .ref (h 28)), (1, .int x1), (2, .int x2), (3, .int x3), (4, .int x4), (5, .int x5)] [] := by
  have hx := cx.1
  have hb := cx.2.1
  unfold fX0_begin_169 at hf
  refine g_aload_n hx hb dX0_begin_169 rfl 0 rfl ?_
  refine rC_g14 cx dX0_begin_170 ?_
  refine g_iload hx hb dX0_begin_173 4 rfl ?_
  refine rC_l14 cx dX0_begin_175 hf (fun hf => ?_)
  refine g_iconst hx hb (v := 4) dX0_begin_176 (by decide) ?_
  refine g_icmp_ne hx hb dX0_begin_177 (tgt := 184) (by decide) hf (fun hf => ?_) (fun hf => ?_)
  · refine g_iload_n hx hb dX0_begin_180 rfl 2 rfl ?_
    refine g_if_ne hx hb dX0_begin_181 (tgt := 215) (by decide) hf (fun hf => ?_) (fun hf => ?_)
    · exact wX0_begin_184 cx hK hf
    · refine g_sub [0, 1, 2, 3, 4] (L' := [(0, _), (1, _), (2, _), (3, _), (4, _)]) rfl ?_
      exact wX0_begin_215 cx hK hf
  · exact wX0_begin_184 cx hK hf
theorem wX0_begin_155 (cx : cxC p R s m args meth c D h cA cX0_begin 7 none 1 20) {res : Int32 × MM} {fl : Nat} {K : Int32 → Int32 → Int32 → MM → Option (Int32 × MM)} (hK : ∀ {x1 x2 x3 : Int32} {M : MM}, K x1 x2 x3 M = some res → gCv p l e R s m args below meth c D h cA 7 res M 70 [(0, .ref (h 28)), (1, .int x1), (2, .int x2), (3, .int x3)] []) {x1 x2 x3 x4 x5 x6 : Int32} {M : MM} (hf : fX0_begin_155 fl K x1 x2 x3 x4 x5 x6 M = some res) : gCv p l e R s m args below meth c D h cA 7 res M 155 [(0, .ref (h 28)), (1, .int x1), (2, .int x2), (3, .int x3), (4, .int x4), (5, .int x5), (6, .int x6)] [] := by
  have hx := cx.1
  have hb := cx.2.1
  unfold fX0_begin_155 at hf
  refine g_iload hx hb dX0_begin_155 6 rfl ?_
  refine g_if_eq hx hb dX0_begin_157 (tgt := 215) (by decide) hf (fun hf => ?_) (fun hf => ?_)
  · refine g_sub [0, 1, 2, 3, 4] (L' := [(0, _), (1, _), (2, _), (3, _), (4, _)]) rfl ?_
    exact wX0_begin_215 cx hK hf
  · refine g_iload hx hb dX0_begin_160 5 rfl ?_
    refine g_if_eq hx hb dX0_begin_162 (tgt := 169) (by decide) hf (fun hf => ?_) (fun hf => ?_)
    · refine g_sub [0, 1, 2, 3, 4, 5] (L' := [(0, _), (1, _), (2, _), (3, _), (4, _), (5, _)]) rfl ?_
      exact wX0_begin_169 cx hK hf
    · refine g_iload_n hx hb dX0_begin_165 rfl 1 rfl ?_
      refine g_if_ne hx hb dX0_begin_166 (tgt := 215) (by decide) hf (fun hf => ?_) (fun hf => ?_)
      · refine g_sub [0, 1, 2, 3, 4, 5] (L' := [(0, _), (1, _), (2, _), (3, _), (4, _), (5, _)]) rfl ?_
        exact wX0_begin_169 cx hK hf
      · refine g_sub [0, 1, 2, 3, 4] (L' := [(0, _), (1, _), (2, _), (3, _), (4, _)]) rfl ?_
        exact wX0_begin_215 cx hK hf
theorem wX0_begin_153 (cx : cxC p R s m args meth c D h cA cX0_begin 7 none 1 20) {res : Int32 × MM} {fl : Nat} {K : Int32 → Int32 → Int32 → MM → Option (Int32 × MM)} (hK : ∀ {x1 x2 x3 : Int32} {M : MM}, K x1 x2 x3 M = some res → gCv p l e R s m args below meth c D h cA 7 res M 70 [(0, .ref (h 28)), (1, .int x1), (2, .int x2), (3, .int x3)] []) {x1 x2 x3 x4 x5 y0 : Int32} {M : MM} (hf : fX0_begin_153 fl K x1 x2 x3 x4 x5 y0 M = some res) : gCv p l e R s m args below meth c D h cA 7 res M 153 [(0, .ref (h 28)), (1, .int x1), (2, .int x2), (3, .int x3), (4, .int x4), (5, .int x5)] [.int y0] := by
  have hx := cx.1
  have hb := cx.2.1
  unfold fX0_begin_153 at hf
  refine g_istore hx hb dX0_begin_153 (by decide) [1, 2, 3, 4, 5, 6, 0] (L' := [(0, _), (1, _), (2, _), (3, _), (4, _), (5, _), (6, _)]) rfl ?_
  exact wX0_begin_155 cx hK hf
theorem wX0_begin_152 (cx : cxC p R s m args meth c D h cA cX0_begin 7 none 1 20) {res : Int32 × MM} {fl : Nat} {K : Int32 → Int32 → Int32 → MM → Option (Int32 × MM)} (hK : ∀ {x1 x2 x3 : Int32} {M : MM}, K x1 x2 x3 M = some res → gCv p l e R s m args below meth c D h cA 7 res M 70 [(0, .ref (h 28)), (1, .int x1), (2, .int x2), (3, .int x3)] []) {x1 x2 x3 x4 x5 : Int32} {M : MM} (hf : fX0_begin_152 fl K x1 x2 x3 x4 x5 M = some res) : gCv p l e R s m args below meth c D h cA 7 res M 152 [(0, .ref (h 28)), (1, .int x1), (2, .int x2), (3, .int x3), (4, .int x4), (5, .int x5)] [] := by
  have hx := cx.1
  have hb := cx.2.1
  unfold fX0_begin_152 at hf
  refine g_iconst hx hb (v := 0) dX0_begin_152 (by decide) ?_
  exact wX0_begin_153 cx hK hf
theorem wX0_begin_118 (cx : cxC p R s m args meth c D h cA cX0_begin 7 none 1 20) {res : Int32 × MM} {fl : Nat} {K : Int32 → Int32 → Int32 → MM → Option (Int32 × MM)} (hK : ∀ {x1 x2 x3 : Int32} {M : MM}, K x1 x2 x3 M = some res → gCv p l e R s m args below meth c D h cA 7 res M 70 [(0, .ref (h 28)), (1, .int x1), (2, .int x2), (3, .int x3)] []) {x1 x2 x3 x4 x5 : Int32} {M : MM} (hf : fX0_begin_118 fl K x1 x2 x3 x4 x5 M = some res) : gCv p l e R s m args below meth c D h cA 7 res M 118 [(0, .ref (h 28)), (1, .int x1), (2, .int x2), (3, .int x3), (4, .int x4), (5, .int x5)] [] := by
  have hx := cx.1
  have hb := cx.2.1
  unfold fX0_begin_118 at hf
  refine g_aload_n hx hb dX0_begin_118 rfl 0 rfl ?_
  refine rC_g16 cx dX0_begin_119 ?_
  refine g_iload hx hb dX0_begin_122 4 rfl ?_
  refine rC_l16 cx dX0_begin_124 hf (fun hf => ?_)
  refine g_if_ne hx hb dX0_begin_125 (tgt := 152) (by decide) hf (fun hf => ?_) (fun hf => ?_)
  · refine g_aload_n hx hb dX0_begin_128 rfl 0 rfl ?_
    refine rC_g23 cx dX0_begin_129 ?_
    refine g_iload hx hb dX0_begin_132 4 rfl ?_
    refine rC_l23 cx dX0_begin_134 hf (fun hf => ?_)
    refine g_if_ge hx hb dX0_begin_135 (tgt := 152) (by decide) hf (fun hf => ?_) (fun hf => ?_)
    · exact wX0_begin_152 cx hK hf
    · refine g_aload_n hx hb dX0_begin_138 rfl 0 rfl ?_
      refine rC_g24 cx dX0_begin_139 ?_
      refine g_iload hx hb dX0_begin_142 4 rfl ?_
      refine rC_l24 cx dX0_begin_144 hf (fun hf => ?_)
      refine g_if_ge hx hb dX0_begin_145 (tgt := 152) (by decide) hf (fun hf => ?_) (fun hf => ?_)
      · exact wX0_begin_152 cx hK hf
      · refine g_iconst hx hb (v := 1) dX0_begin_148 (by decide) ?_
        refine g_goto hx hb dX0_begin_149 (tgt := 153) (by decide) ?_
        exact wX0_begin_153 cx hK hf
  · exact wX0_begin_152 cx hK hf
theorem wX0_begin_116 (cx : cxC p R s m args meth c D h cA cX0_begin 7 none 1 20) {res : Int32 × MM} {fl : Nat} {K : Int32 → Int32 → Int32 → MM → Option (Int32 × MM)} (hK : ∀ {x1 x2 x3 : Int32} {M : MM}, K x1 x2 x3 M = some res → gCv p l e R s m args below meth c D h cA 7 res M 70 [(0, .ref (h 28)), (1, .int x1), (2, .int x2), (3, .int x3)] []) {x1 x2 x3 x4 y0 : Int32} {M : MM} (hf : fX0_begin_116 fl K x1 x2 x3 x4 y0 M = some res) : gCv p l e R s m args below meth c D h cA 7 res M 116 [(0, .ref (h 28)), (1, .int x1), (2, .int x2), (3, .int x3), (4, .int x4)] [.int y0] := by
  have hx := cx.1
  have hb := cx.2.1
  unfold fX0_begin_116 at hf
  refine g_istore hx hb dX0_begin_116 (by decide) [1, 2, 3, 4, 5, 0] (L' := [(0, _), (1, _), (2, _), (3, _), (4, _), (5, _)]) rfl ?_
  exact wX0_begin_118 cx hK hf
theorem wX0_begin_111 (cx : cxC p R s m args meth c D h cA cX0_begin 7 none 1 20) {res : Int32 × MM} {fl : Nat} {K : Int32 → Int32 → Int32 → MM → Option (Int32 × MM)} (hK : ∀ {x1 x2 x3 : Int32} {M : MM}, K x1 x2 x3 M = some res → gCv p l e R s m args below meth c D h cA 7 res M 70 [(0, .ref (h 28)), (1, .int x1), (2, .int x2), (3, .int x3)] []) {x1 x2 x3 x4 : Int32} {M : MM} (hf : fX0_begin_111 fl K x1 x2 x3 x4 M = some res) : gCv p l e R s m args below meth c D h cA 7 res M 111 [(0, .ref (h 28)), (1, .int x1), (2, .int x2), (3, .int x3), (4, .int x4)] [] := by
  have hx := cx.1
  have hb := cx.2.1
  unfold fX0_begin_111 at hf
  refine g_iconst hx hb (v := 1) dX0_begin_111 (by decide) ?_
  refine g_goto hx hb dX0_begin_112 (tgt := 116) (by decide) ?_
  exact wX0_begin_116 cx hK hf
theorem wX0_begin_89 (cx : cxC p R s m args meth c D h cA cX0_begin 7 none 1 20) {res : Int32 × MM} {fl : Nat} {K : Int32 → Int32 → Int32 → MM → Option (Int32 × MM)} (hK : ∀ {x1 x2 x3 : Int32} {M : MM}, K x1 x2 x3 M = some res → gCv p l e R s m args below meth c D h cA 7 res M 70 [(0, .ref (h 28)), (1, .int x1), (2, .int x2), (3, .int x3)] []) {x1 x2 x3 x4 : Int32} {M : MM} (hf : fX0_begin_89 fl K x1 x2 x3 x4 M = some res) : gCv p l e R s m args below meth c D h cA 7 res M 89 [(0, .ref (h 28)), (1, .int x1), (2, .int x2), (3, .int x3), (4, .int x4)] [] := by
  have hx := cx.1
  have hb := cx.2.1
  unfold fX0_begin_89 at hf
  refine g_aload_n hx hb dX0_begin_89 rfl 0 rfl ?_
  refine rC_g14 cx dX0_begin_90 ?_
  refine g_iload hx hb dX0_begin_93 4 rfl ?_
  refine rC_l14 cx dX0_begin_95 hf (fun hf => ?_)
  refine g_iconst hx hb (v := 2) dX0_begin_96 (by decide) ?_
  refine g_icmp_eq hx hb dX0_begin_97 (tgt := 111) (by decide) hf (fun hf => ?_) (fun hf => ?_)
  · exact wX0_begin_111 cx hK hf
  · refine g_aload_n hx hb dX0_begin_100 rfl 0 rfl ?_
    refine rC_g14 cx dX0_begin_101 ?_
    refine g_iload hx hb dX0_begin_104 4 rfl ?_
    refine rC_l14 cx dX0_begin_106 hf (fun hf => ?_)
    refine g_iconst hx hb (v := 3) dX0_begin_107 (by decide) ?_
    refine g_icmp_ne hx hb dX0_begin_108 (tgt := 115) (by decide) hf (fun hf => ?_) (fun hf => ?_)
    · exact wX0_begin_111 cx hK hf
    · refine g_iconst hx hb (v := 0) dX0_begin_115 (by decide) ?_
      exact wX0_begin_116 cx hK hf
theorem wX0_begin_70 (cx : cxC p R s m args meth c D h cA cX0_begin 7 none 1 20) {res : Int32 × MM} {fl : Nat} : ∀ {n : Nat} {x1 x2 x3 : Int32} {M : MM}, fX0_begin_70 fl n x1 x2 x3 M = some res → gCv p l e R s m args below meth c D h cA 7 res M 70 [(0, .ref (h 28)), (1, .int x1), (2, .int x2), (3, .int x3)] [] := by
  have hx := cx.1
  have hb := cx.2.1
  intro n
  induction n with
  | zero => intro x1 x2 x3 M hf; exact absurd hf (by simp [fX0_begin_70])
  | succ n ih =>
    intro x1 x2 x3 M hf
    unfold fX0_begin_70 at hf
    refine g_iload_n hx hb dX0_begin_70 rfl 3 rfl ?_
    refine g_aload_n hx hb dX0_begin_71 rfl 0 rfl ?_
    refine rC_g13 cx dX0_begin_72 ?_
    refine g_icmp_ge hx hb dX0_begin_75 (tgt := 240) (by decide) hf (fun hf => ?_) (fun hf => ?_)
    · exact gC_vret cx hf dX0_begin_240
    · refine g_aload_n hx hb dX0_begin_78 rfl 0 rfl ?_
      refine rC_g12 cx dX0_begin_79 ?_
      refine g_iload_n hx hb dX0_begin_82 rfl 3 rfl ?_
      refine g_iadd hx hb dX0_begin_83 ?_
      refine g_bipush hx hb (v := 6) dX0_begin_84 (by decide) ?_
      refine g_irem hx hb dX0_begin_86 (by decide) ?_
      refine g_istore hx hb dX0_begin_87 (by decide) [1, 2, 3, 4, 0] (L' := [(0, _), (1, _), (2, _), (3, _), (4, _)]) rfl ?_
      exact wX0_begin_89 cx ih hf
theorem wX0_begin_68 (cx : cxC p R s m args meth c D h cA cX0_begin 7 none 1 20) {res : Int32 × MM} {fl : Nat} {x1 x2 : Int32} {M : MM} (hf : fX0_begin_68 fl x1 x2 M = some res) : gCv p l e R s m args below meth c D h cA 7 res M 68 [(0, .ref (h 28)), (1, .int x1), (2, .int x2)] [] := by
  have hx := cx.1
  have hb := cx.2.1
  unfold fX0_begin_68 at hf
  refine g_iconst hx hb (v := 0) dX0_begin_68 (by decide) ?_
  refine g_istore_n hx hb dX0_begin_69 rfl (by decide) [1, 2, 3, 0] (L' := [(0, _), (1, _), (2, _), (3, _)]) rfl ?_
  exact wX0_begin_70 cx hf
theorem wX0_begin_4 (cx : cxC p R s m args meth c D h cA cX0_begin 7 none 1 20) {res : Int32 × MM} {fl : Nat} : ∀ {n : Nat} {x1 x2 : Int32} {M : MM}, fX0_begin_4 fl n x1 x2 M = some res → gCv p l e R s m args below meth c D h cA 7 res M 4 [(0, .ref (h 28)), (1, .int x1), (2, .int x2)] [] := by
  have hx := cx.1
  have hb := cx.2.1
  intro n
  induction n with
  | zero => intro x1 x2 M hf; exact absurd hf (by simp [fX0_begin_4])
  | succ n ih =>
    intro x1 x2 M hf
    unfold fX0_begin_4 at hf
    refine g_iload_n hx hb dX0_begin_4 rfl 2 rfl ?_
    refine g_aload_n hx hb dX0_begin_5 rfl 0 rfl ?_
    refine rC_g13 cx dX0_begin_6 ?_
    refine g_icmp_ge hx hb dX0_begin_9 (tgt := 66) (by decide) hf (fun hf => ?_) (fun hf => ?_)
    · refine g_iconst hx hb (v := 0) dX0_begin_66 (by decide) ?_
      refine g_istore_n hx hb dX0_begin_67 rfl (by decide) [1, 2, 0] (L' := [(0, _), (1, _), (2, _)]) rfl ?_
      exact wX0_begin_68 cx hf
    · refine g_aload_n hx hb dX0_begin_12 rfl 0 rfl ?_
      refine rC_g12 cx dX0_begin_13 ?_
      refine g_iload_n hx hb dX0_begin_16 rfl 2 rfl ?_
      refine g_iadd hx hb dX0_begin_17 ?_
      refine g_bipush hx hb (v := 6) dX0_begin_18 (by decide) ?_
      refine g_irem hx hb dX0_begin_20 (by decide) ?_
      refine g_istore_n hx hb dX0_begin_21 rfl (by decide) [1, 2, 3, 0] (L' := [(0, _), (1, _), (2, _), (3, _)]) rfl ?_
      exact wX0_begin_22 cx ih hf
theorem wX0_begin_2 (cx : cxC p R s m args meth c D h cA cX0_begin 7 none 1 20) {res : Int32 × MM} {fl : Nat} {x1 : Int32} {M : MM} (hf : fX0_begin_2 fl x1 M = some res) : gCv p l e R s m args below meth c D h cA 7 res M 2 [(0, .ref (h 28)), (1, .int x1)] [] := by
  have hx := cx.1
  have hb := cx.2.1
  unfold fX0_begin_2 at hf
  refine g_iconst hx hb (v := 0) dX0_begin_2 (by decide) ?_
  refine g_istore_n hx hb dX0_begin_3 rfl (by decide) [1, 2, 0] (L' := [(0, _), (1, _), (2, _)]) rfl ?_
  exact wX0_begin_4 cx hf
theorem wX0_begin_0 (cx : cxC p R s m args meth c D h cA cX0_begin 7 none 1 20) {res : Int32 × MM} {fl : Nat} {M : MM} (hf : fX0_begin_0 fl M = some res) : gCv p l e R s m args below meth c D h cA 7 res M 0 [(0, .ref (h 28))] [] := by
  have hx := cx.1
  have hb := cx.2.1
  unfold fX0_begin_0 at hf
  refine g_iconst hx hb (v := 0) dX0_begin_0 (by decide) ?_
  refine g_istore_n hx hb dX0_begin_1 rfl (by decide) [1, 0] (L' := [(0, _), (1, _)]) rfl ?_
  exact wX0_begin_2 cx hf
end
theorem metX0_begin {l : Launch} {D : va_G} {h : Nat → Nat} {cA : Nat → ClassId} {fl : Nat} {M : MM} {res : Int32 × MM} (hn : njC h) (hf : fX0_begin fl M = some res) : Met l yX0_begin (ws_ yX0_begin cX0_begin 7 none) ({ frames := 1, cells := 0, slots := 0, locals := 20 }) (pcC D h cA M []) (qvC D h cA res) 0 0 (aC h) := by
  refine Met.ofW (cc := cX0_begin) (maxL := 7) (ret := none) (by decide) rfl ?_
  intro p e s m args below meth c s₁ B hml hv
  have hts := atoms_spec (ws := ws_ yX0_begin cX0_begin 7 none) B.pre
  have hts : ∀ w ∈ lw_all, w.before _ s = true := fun w h => hts w (List.mem_cons_of_mem _ h)
  obtain ⟨rfl, hP, hK⟩ := hv
  rw [lg_entry_eq]
  exact wX0_begin_0 (R := { frames := 1, cells := 0, slots := 0, locals := 20 }) ⟨B.exec, B.bytes, hml, findClass_of_methodNamed B.named, hts, hK, fun M => dC_of hn, B.returns, B.notSynchronized, Nat.le_refl _, Nat.le_refl _, hn⟩ hf s.heap [] _ hP va_S.rf (lv_entry ([.ref (h 28)]) (n := 7) (Nat.le_of_ble_eq_true rfl))
end
section
set_option maxRecDepth 100000
section
variable {p : Program} {l : Launch} {e : Env} {R : Room} {s : State} {m : MethodId} {args : Array Value} {below : List Frame} {meth : Method} {c : Code} {D : va_G} {h : Nat → Nat} {cA : Nat → ClassId}
theorem wX0_hand_78 (cx : cxC p R s m args meth c D h cA cX0_hand 4 none 0 0) {res : Int32 × MM} {fl : Nat} {K : Int32 → Int32 → MM → Option (Int32 × MM)} (hK : ∀ {x1 x2 : Int32} {M : MM}, K x1 x2 M = some res → gCv p l e R s m args below meth c D h cA 4 res M 2 [(0, .ref (h 28)), (1, .int x1), (2, .int x2)] []) {x1 x2 : Int32} {M : MM} (hf : fX0_hand_78 fl K x1 x2 M = some res) : gCv p l e R s m args below meth c D h cA 4 res M 78 [(0, .ref (h 28)), (1, .int x1), (2, .int x2)] [] := by
  have hx := cx.1
  have hb := cx.2.1
  unfold fX0_hand_78 at hf
  refine g_iinc hx hb (v := _ + 1) dX0_hand_78 2 rfl rfl (by decide) [1, 2, 0] (L' := [(0, _), (1, _), (2, _)]) rfl ?_
  refine g_goto hx hb dX0_hand_81 (tgt := 2) (by decide) ?_
  exact hK hf
theorem wX0_hand_66 (cx : cxC p R s m args meth c D h cA cX0_hand 4 none 0 0) {res : Int32 × MM} {fl : Nat} {K : Int32 → Int32 → MM → Option (Int32 × MM)} (hK : ∀ {x1 x2 : Int32} {M : MM}, K x1 x2 M = some res → gCv p l e R s m args below meth c D h cA 4 res M 2 [(0, .ref (h 28)), (1, .int x1), (2, .int x2)] []) {x1 x2 x3 : Int32} {M : MM} (hf : fX0_hand_66 fl K x1 x2 x3 M = some res) : gCv p l e R s m args below meth c D h cA 4 res M 66 [(0, .ref (h 28)), (1, .int x1), (2, .int x2), (3, .int x3)] [] := by
  have hx := cx.1
  have hb := cx.2.1
  unfold fX0_hand_66 at hf
  refine g_aload_n hx hb dX0_hand_66 rfl 0 rfl ?_
  refine rC_g26 cx dX0_hand_67 ?_
  refine g_iload_n hx hb dX0_hand_70 rfl 3 rfl ?_
  refine g_aload_n hx hb dX0_hand_71 rfl 0 rfl ?_
  refine rC_g18 cx dX0_hand_72 ?_
  refine g_iload_n hx hb dX0_hand_75 rfl 1 rfl ?_
  refine rC_l18 cx dX0_hand_76 hf (fun hf => ?_)
  refine rC_s26 cx dX0_hand_77 hf (fun hf => ?_)
  refine g_sub [0, 1, 2] (L' := [(0, _), (1, _), (2, _)]) rfl ?_
  exact wX0_hand_78 cx hK hf
theorem wX0_hand_49 (cx : cxC p R s m args meth c D h cA cX0_hand 4 none 0 0) {res : Int32 × MM} {fl : Nat} {K : Int32 → Int32 → MM → Option (Int32 × MM)} (hK : ∀ {x1 x2 : Int32} {M : MM}, K x1 x2 M = some res → gCv p l e R s m args below meth c D h cA 4 res M 2 [(0, .ref (h 28)), (1, .int x1), (2, .int x2)] []) {x1 x2 x3 : Int32} {M : MM} (hf : fX0_hand_49 fl K x1 x2 x3 M = some res) : gCv p l e R s m args below meth c D h cA 4 res M 49 [(0, .ref (h 28)), (1, .int x1), (2, .int x2), (3, .int x3)] [] := by
  have hx := cx.1
  have hb := cx.2.1
  unfold fX0_hand_49 at hf
  refine g_aload_n hx hb dX0_hand_49 rfl 0 rfl ?_
  refine rC_g24 cx dX0_hand_50 ?_
  refine g_iload_n hx hb dX0_hand_53 rfl 3 rfl ?_
  refine rC_l24 cx dX0_hand_54 hf (fun hf => ?_)
  refine g_iload_n hx hb dX0_hand_55 rfl 1 rfl ?_
  refine g_icmp_ne hx hb dX0_hand_56 (tgt := 78) (by decide) hf (fun hf => ?_) (fun hf => ?_)
  · refine g_aload_n hx hb dX0_hand_59 rfl 0 rfl ?_
    refine rC_g24 cx dX0_hand_60 ?_
    refine g_iload_n hx hb dX0_hand_63 rfl 3 rfl ?_
    refine g_iconst hx hb (v := (-1)) dX0_hand_64 (by decide) ?_
    refine rC_s24 cx dX0_hand_65 hf (fun hf => ?_)
    exact wX0_hand_66 cx hK hf
  · refine g_sub [0, 1, 2] (L' := [(0, _), (1, _), (2, _)]) rfl ?_
    exact wX0_hand_78 cx hK hf
theorem wX0_hand_37 (cx : cxC p R s m args meth c D h cA cX0_hand 4 none 0 0) {res : Int32 × MM} {fl : Nat} {K : Int32 → Int32 → MM → Option (Int32 × MM)} (hK : ∀ {x1 x2 : Int32} {M : MM}, K x1 x2 M = some res → gCv p l e R s m args below meth c D h cA 4 res M 2 [(0, .ref (h 28)), (1, .int x1), (2, .int x2)] []) {x1 x2 x3 : Int32} {M : MM} (hf : fX0_hand_37 fl K x1 x2 x3 M = some res) : gCv p l e R s m args below meth c D h cA 4 res M 37 [(0, .ref (h 28)), (1, .int x1), (2, .int x2), (3, .int x3)] [] := by
  have hx := cx.1
  have hb := cx.2.1
  unfold fX0_hand_37 at hf
  refine g_aload_n hx hb dX0_hand_37 rfl 0 rfl ?_
  refine rC_g25 cx dX0_hand_38 ?_
  refine g_iload_n hx hb dX0_hand_41 rfl 3 rfl ?_
  refine g_aload_n hx hb dX0_hand_42 rfl 0 rfl ?_
  refine rC_g18 cx dX0_hand_43 ?_
  refine g_iload_n hx hb dX0_hand_46 rfl 1 rfl ?_
  refine rC_l18 cx dX0_hand_47 hf (fun hf => ?_)
  refine rC_s25 cx dX0_hand_48 hf (fun hf => ?_)
  exact wX0_hand_49 cx hK hf
theorem wX0_hand_20 (cx : cxC p R s m args meth c D h cA cX0_hand 4 none 0 0) {res : Int32 × MM} {fl : Nat} {K : Int32 → Int32 → MM → Option (Int32 × MM)} (hK : ∀ {x1 x2 : Int32} {M : MM}, K x1 x2 M = some res → gCv p l e R s m args below meth c D h cA 4 res M 2 [(0, .ref (h 28)), (1, .int x1), (2, .int x2)] []) {x1 x2 x3 : Int32} {M : MM} (hf : fX0_hand_20 fl K x1 x2 x3 M = some res) : gCv p l e R s m args below meth c D h cA 4 res M 20 [(0, .ref (h 28)), (1, .int x1), (2, .int x2), (3, .int x3)] [] := by
  have hx := cx.1
  have hb := cx.2.1
  unfold fX0_hand_20 at hf
  refine g_aload_n hx hb dX0_hand_20 rfl 0 rfl ?_
  refine rC_g23 cx dX0_hand_21 ?_
  refine g_iload_n hx hb dX0_hand_24 rfl 3 rfl ?_
  refine rC_l23 cx dX0_hand_25 hf (fun hf => ?_)
  refine g_iload_n hx hb dX0_hand_26 rfl 1 rfl ?_
  refine g_icmp_ne hx hb dX0_hand_27 (tgt := 49) (by decide) hf (fun hf => ?_) (fun hf => ?_)
  · refine g_aload_n hx hb dX0_hand_30 rfl 0 rfl ?_
    refine rC_g23 cx dX0_hand_31 ?_
    refine g_iload_n hx hb dX0_hand_34 rfl 3 rfl ?_
    refine g_iconst hx hb (v := (-1)) dX0_hand_35 (by decide) ?_
    refine rC_s23 cx dX0_hand_36 hf (fun hf => ?_)
    exact wX0_hand_37 cx hK hf
  · exact wX0_hand_49 cx hK hf
theorem wX0_hand_2 (cx : cxC p R s m args meth c D h cA cX0_hand 4 none 0 0) {res : Int32 × MM} {fl : Nat} : ∀ {n : Nat} {x1 x2 : Int32} {M : MM}, fX0_hand_2 fl n x1 x2 M = some res → gCv p l e R s m args below meth c D h cA 4 res M 2 [(0, .ref (h 28)), (1, .int x1), (2, .int x2)] [] := by
  have hx := cx.1
  have hb := cx.2.1
  intro n
  induction n with
  | zero => intro x1 x2 M hf; exact absurd hf (by simp [fX0_hand_2])
  | succ n ih =>
    intro x1 x2 M hf
    unfold fX0_hand_2 at hf
    refine g_iload_n hx hb dX0_hand_2 rfl 2 rfl ?_
    refine g_aload_n hx hb dX0_hand_3 rfl 0 rfl ?_
    refine rC_g13 cx dX0_hand_4 ?_
    refine g_icmp_ge hx hb dX0_hand_7 (tgt := 84) (by decide) hf (fun hf => ?_) (fun hf => ?_)
    · exact gC_vret cx hf dX0_hand_84
    · refine g_aload_n hx hb dX0_hand_10 rfl 0 rfl ?_
      refine rC_g12 cx dX0_hand_11 ?_
      refine g_iload_n hx hb dX0_hand_14 rfl 2 rfl ?_
      refine g_iadd hx hb dX0_hand_15 ?_
      refine g_bipush hx hb (v := 6) dX0_hand_16 (by decide) ?_
      refine g_irem hx hb dX0_hand_18 (by decide) ?_
      refine g_istore_n hx hb dX0_hand_19 rfl (by decide) [1, 2, 3, 0] (L' := [(0, _), (1, _), (2, _), (3, _)]) rfl ?_
      exact wX0_hand_20 cx ih hf
theorem wX0_hand_0 (cx : cxC p R s m args meth c D h cA cX0_hand 4 none 0 0) {res : Int32 × MM} {fl : Nat} {x1 : Int32} {M : MM} (hf : fX0_hand_0 fl x1 M = some res) : gCv p l e R s m args below meth c D h cA 4 res M 0 [(0, .ref (h 28)), (1, .int x1)] [] := by
  have hx := cx.1
  have hb := cx.2.1
  unfold fX0_hand_0 at hf
  refine g_iconst hx hb (v := 0) dX0_hand_0 (by decide) ?_
  refine g_istore_n hx hb dX0_hand_1 rfl (by decide) [1, 2, 0] (L' := [(0, _), (1, _), (2, _)]) rfl ?_
  exact wX0_hand_2 cx hf
end
theorem metX0_hand {l : Launch} {D : va_G} {h : Nat → Nat} {cA : Nat → ClassId} {fl : Nat} {x1 : Int32} {M : MM} {res : Int32 × MM} (hn : njC h) (hf : fX0_hand fl x1 M = some res) : Met l yX0_hand (ws_ yX0_hand cX0_hand 4 none) ({ frames := 0, cells := 0, slots := 0, locals := 0 }) (pcC D h cA M [.int x1]) (qvC D h cA res) 0 0 (aC h) := by
  refine Met.ofW (cc := cX0_hand) (maxL := 4) (ret := none) (by decide) rfl ?_
  intro p e s m args below meth c s₁ B hml hv
  have hts := atoms_spec (ws := ws_ yX0_hand cX0_hand 4 none) B.pre
  have hts : ∀ w ∈ lw_all, w.before _ s = true := fun w h => hts w (List.mem_cons_of_mem _ h)
  obtain ⟨rfl, hP, hK⟩ := hv
  rw [lg_entry_eq]
  exact wX0_hand_0 (R := { frames := 0, cells := 0, slots := 0, locals := 0 }) ⟨B.exec, B.bytes, hml, findClass_of_methodNamed B.named, hts, hK, fun M => dC_of hn, B.returns, B.notSynchronized, Nat.le_refl _, Nat.le_refl _, hn⟩ hf s.heap [] _ hP va_S.rf (lv_entry ([.ref (h 28), .int x1]) (n := 4) (Nat.le_of_ble_eq_true rfl))
set_option maxRecDepth 100000
section
variable {p : Program} {l : Launch} {e : Env} {R : Room} {s : State} {m : MethodId} {args : Array Value} {below : List Frame} {meth : Method} {c : Code} {D : va_G} {h : Nat → Nat} {cA : Nat → ClassId}
theorem wX0_work_223 (cx : cxC p R s m args meth c D h cA cX0_work 5 none 0 0) {res : Int32 × MM} {fl : Nat} {M : MM} (hf : fX0_work_223 fl M = some res) : gCv p l e R s m args below meth c D h cA 5 res M 223 [(0, .ref (h 28))] [] := by
  have hx := cx.1
  have hb := cx.2.1
  unfold fX0_work_223 at hf
  exact gC_vret cx hf dX0_work_223
theorem wX0_work_95 (cx : cxC p R s m args meth c D h cA cX0_work 5 none 0 0) {res : Int32 × MM} {fl : Nat} {y0 y1 : Int32} {M : MM} (hf : fX0_work_95 fl y0 y1 M = some res) : gCv p l e R s m args below meth c D h cA 5 res M 95 [(0, .ref (h 28))] [.int y1, .int y0, .ref (h 18)] := by
  have hx := cx.1
  have hb := cx.2.1
  unfold fX0_work_95 at hf
  refine rC_s18 cx dX0_work_95 hf (fun hf => ?_)
  refine g_goto hx hb dX0_work_96 (tgt := 223) (by decide) ?_
  exact wX0_work_223 cx hf
theorem wX0_work_79 (cx : cxC p R s m args meth c D h cA cX0_work 5 none 0 0) {res : Int32 × MM} {fl : Nat} {x1 x2 x3 : Int32} {M : MM} (hf : fX0_work_79 fl x1 x2 x3 M = some res) : gCv p l e R s m args below meth c D h cA 5 res M 79 [(0, .ref (h 28)), (1, .int x1), (2, .int x2), (3, .int x3)] [] := by
  have hx := cx.1
  have hb := cx.2.1
  unfold fX0_work_79 at hf
  refine g_aload_n hx hb dX0_work_79 rfl 0 rfl ?_
  refine rC_g18 cx dX0_work_80 ?_
  refine g_iload_n hx hb dX0_work_83 rfl 1 rfl ?_
  refine g_iload_n hx hb dX0_work_84 rfl 3 rfl ?_
  refine g_if_ne hx hb dX0_work_85 (tgt := 92) (by decide) hf (fun hf => ?_) (fun hf => ?_)
  · refine g_iconst hx hb (v := 0) dX0_work_88 (by decide) ?_
    refine g_goto hx hb dX0_work_89 (tgt := 95) (by decide) ?_
    refine g_sub [0] (L' := [(0, _)]) rfl ?_
    exact wX0_work_95 cx hf
  · refine g_iload_n hx hb dX0_work_92 rfl 2 rfl ?_
    refine g_iload_n hx hb dX0_work_93 rfl 3 rfl ?_
    refine g_idiv hx hb dX0_work_94 hf (fun hf => ?_)
    refine g_sub [0] (L' := [(0, _)]) rfl ?_
    exact wX0_work_95 cx hf
theorem wX0_work_78 (cx : cxC p R s m args meth c D h cA cX0_work 5 none 0 0) {res : Int32 × MM} {fl : Nat} {x1 x2 x3 y0 y1 : Int32} {M : MM} (hf : fX0_work_78 fl x1 x2 x3 y0 y1 M = some res) : gCv p l e R s m args below meth c D h cA 5 res M 78 [(0, .ref (h 28)), (1, .int x1), (2, .int x2), (3, .int x3)] [.int y1, .int y0, .ref (h 20)] := by
  have hx := cx.1
  have hb := cx.2.1
  unfold fX0_work_78 at hf
  refine rC_s20 cx dX0_work_78 hf (fun hf => ?_)
  exact wX0_work_79 cx hf
theorem wX0_work_120 (cx : cxC p R s m args meth c D h cA cX0_work 5 none 0 0) {res : Int32 × MM} {fl : Nat} {x1 x2 : Int32} {M : MM} (hf : fX0_work_120 fl x1 x2 M = some res) : gCv p l e R s m args below meth c D h cA 5 res M 120 [(0, .ref (h 28)), (1, .int x1), (2, .int x2)] [] := by
  have hx := cx.1
  have hb := cx.2.1
  unfold fX0_work_120 at hf
  refine g_aload_n hx hb dX0_work_120 rfl 0 rfl ?_
  refine rC_g18 cx dX0_work_121 ?_
  refine g_iload_n hx hb dX0_work_124 rfl 1 rfl ?_
  refine g_aload_n hx hb dX0_work_125 rfl 0 rfl ?_
  refine rC_g5 cx dX0_work_126 ?_
  refine g_iload_n hx hb dX0_work_129 rfl 2 rfl ?_
  refine g_bipush hx hb (v := 7) dX0_work_130 (by decide) ?_
  refine g_iand hx hb dX0_work_132 ?_
  refine rC_l5 cx dX0_work_133 hf (fun hf => ?_)
  refine rC_s18 cx dX0_work_134 hf (fun hf => ?_)
  refine g_goto hx hb dX0_work_135 (tgt := 223) (by decide) ?_
  refine g_sub [0] (L' := [(0, _)]) rfl ?_
  exact wX0_work_223 cx hf
theorem wX0_work_119 (cx : cxC p R s m args meth c D h cA cX0_work 5 none 0 0) {res : Int32 × MM} {fl : Nat} {x1 x2 y0 y1 : Int32} {M : MM} (hf : fX0_work_119 fl x1 x2 y0 y1 M = some res) : gCv p l e R s m args below meth c D h cA 5 res M 119 [(0, .ref (h 28)), (1, .int x1), (2, .int x2)] [.int y1, .int y0, .ref (h 20)] := by
  have hx := cx.1
  have hb := cx.2.1
  unfold fX0_work_119 at hf
  refine rC_s20 cx dX0_work_119 hf (fun hf => ?_)
  exact wX0_work_120 cx hf
theorem wX0_work_159 (cx : cxC p R s m args meth c D h cA cX0_work 5 none 0 0) {res : Int32 × MM} {fl : Nat} {x1 x3 : Int32} {M : MM} (hf : fX0_work_159 fl x1 x3 M = some res) : gCv p l e R s m args below meth c D h cA 5 res M 159 [(0, .ref (h 28)), (1, .int x1), (3, .int x3)] [] := by
  have hx := cx.1
  have hb := cx.2.1
  unfold fX0_work_159 at hf
  refine g_aload_n hx hb dX0_work_159 rfl 0 rfl ?_
  refine rC_g19 cx dX0_work_160 ?_
  refine g_iload_n hx hb dX0_work_163 rfl 1 rfl ?_
  refine g_iload_n hx hb dX0_work_164 rfl 2 rfl ?_
  refine g_bipush hx hb (v := 7) dX0_work_165 (by decide) ?_
  refine g_iand hx hb dX0_work_167 ?_
  refine rC_s19 cx dX0_work_168 hf (fun hf => ?_)
  refine g_goto hx hb dX0_work_169 (tgt := 223) (by decide) ?_
  refine g_sub [0] (L' := [(0, _)]) rfl ?_
  exact wX0_work_223 cx hf
theorem wX0_work_158 (cx : cxC p R s m args meth c D h cA cX0_work 5 none 0 0) {res : Int32 × MM} {fl : Nat} {x1 x3 y0 y1 : Int32} {M : MM} (hf : fX0_work_158 fl x1 x3 y0 y1 M = some res) : gCv p l e R s m args below meth c D h cA 5 res M 158 [(0, .ref (h 28)), (1, .int x1), (3, .int x3)] [.int y1, .int y0, .ref (h 20)] := by
  have hx := cx.1
  have hb := cx.2.1
  unfold fX0_work_158 at hf
  refine rC_s20 cx dX0_work_158 hf (fun hf => ?_)
  exact wX0_work_159 cx hf
theorem wX0_work_205 (cx : cxC p R s m args meth c D h cA cX0_work 5 none 0 0) {res : Int32 × MM} {fl : Nat} {y0 y1 : Int32} {M : MM} (hf : fX0_work_205 fl y0 y1 M = some res) : gCv p l e R s m args below meth c D h cA 5 res M 205 [(0, .ref (h 28))] [.int y1, .int y0, .ref (h 18)] := by
  have hx := cx.1
  have hb := cx.2.1
  unfold fX0_work_205 at hf
  refine rC_s18 cx dX0_work_205 hf (fun hf => ?_)
  refine g_goto hx hb dX0_work_206 (tgt := 223) (by decide) ?_
  exact wX0_work_223 cx hf
theorem wX0_work_22 (cx : cxC p R s m args meth c D h cA cX0_work 5 none 0 0) {res : Int32 × MM} {fl : Nat} {x1 x2 x3 x4 : Int32} {M : MM} (hf : fX0_work_22 fl x1 x2 x3 x4 M = some res) : gCv p l e R s m args below meth c D h cA 5 res M 22 [(0, .ref (h 28)), (1, .int x1), (2, .int x2), (3, .int x3), (4, .int x4)] [] := by
  have hx := cx.1
  have hb := cx.2.1
  unfold fX0_work_22 at hf
  refine g_iload hx hb dX0_work_22 4 rfl ?_
  refine g_iconst hx hb (v := 1) dX0_work_24 (by decide) ?_
  refine g_icmp_ne hx hb dX0_work_25 (tgt := 40) (by decide) hf (fun hf => ?_) (fun hf => ?_)
  · refine g_aload_n hx hb dX0_work_28 rfl 0 rfl ?_
    refine rC_g18 cx dX0_work_29 ?_
    refine g_iload_n hx hb dX0_work_32 rfl 1 rfl ?_
    refine g_iload_n hx hb dX0_work_33 rfl 2 rfl ?_
    refine g_iload_n hx hb dX0_work_34 rfl 3 rfl ?_
    refine g_iadd hx hb dX0_work_35 ?_
    refine rC_s18 cx dX0_work_36 hf (fun hf => ?_)
    refine g_goto hx hb dX0_work_37 (tgt := 223) (by decide) ?_
    refine g_sub [0] (L' := [(0, _)]) rfl ?_
    exact wX0_work_223 cx hf
  · refine g_iload hx hb dX0_work_40 4 rfl ?_
    refine g_iconst hx hb (v := 2) dX0_work_42 (by decide) ?_
    refine g_icmp_ne hx hb dX0_work_43 (tgt := 58) (by decide) hf (fun hf => ?_) (fun hf => ?_)
    · refine g_aload_n hx hb dX0_work_46 rfl 0 rfl ?_
      refine rC_g18 cx dX0_work_47 ?_
      refine g_iload_n hx hb dX0_work_50 rfl 1 rfl ?_
      refine g_iload_n hx hb dX0_work_51 rfl 2 rfl ?_
      refine g_iload_n hx hb dX0_work_52 rfl 3 rfl ?_
      refine g_imul hx hb dX0_work_53 ?_
      refine rC_s18 cx dX0_work_54 hf (fun hf => ?_)
      refine g_goto hx hb dX0_work_55 (tgt := 223) (by decide) ?_
      refine g_sub [0] (L' := [(0, _)]) rfl ?_
      exact wX0_work_223 cx hf
    · refine g_iload hx hb dX0_work_58 4 rfl ?_
      refine g_iconst hx hb (v := 3) dX0_work_60 (by decide) ?_
      refine g_icmp_ne hx hb dX0_work_61 (tgt := 99) (by decide) hf (fun hf => ?_) (fun hf => ?_)
      · refine g_aload_n hx hb dX0_work_64 rfl 0 rfl ?_
        refine rC_g20 cx dX0_work_65 ?_
        refine g_iload_n hx hb dX0_work_68 rfl 1 rfl ?_
        refine g_iload_n hx hb dX0_work_69 rfl 3 rfl ?_
        refine g_if_ne hx hb dX0_work_70 (tgt := 77) (by decide) hf (fun hf => ?_) (fun hf => ?_)
        · refine g_iconst hx hb (v := 1) dX0_work_73 (by decide) ?_
          refine g_goto hx hb dX0_work_74 (tgt := 78) (by decide) ?_
          refine g_sub [0, 1, 2, 3] (L' := [(0, _), (1, _), (2, _), (3, _)]) rfl ?_
          exact wX0_work_78 cx hf
        · refine g_iconst hx hb (v := 0) dX0_work_77 (by decide) ?_
          refine g_sub [0, 1, 2, 3] (L' := [(0, _), (1, _), (2, _), (3, _)]) rfl ?_
          exact wX0_work_78 cx hf
      · refine g_iload hx hb dX0_work_99 4 rfl ?_
        refine g_iconst hx hb (v := 4) dX0_work_101 (by decide) ?_
        refine g_icmp_ne hx hb dX0_work_102 (tgt := 138) (by decide) hf (fun hf => ?_) (fun hf => ?_)
        · refine g_aload_n hx hb dX0_work_105 rfl 0 rfl ?_
          refine rC_g20 cx dX0_work_106 ?_
          refine g_iload_n hx hb dX0_work_109 rfl 1 rfl ?_
          refine g_iload_n hx hb dX0_work_110 rfl 2 rfl ?_
          refine g_if_ge hx hb dX0_work_111 (tgt := 118) (by decide) hf (fun hf => ?_) (fun hf => ?_)
          · refine g_iconst hx hb (v := 0) dX0_work_118 (by decide) ?_
            refine g_sub [0, 1, 2] (L' := [(0, _), (1, _), (2, _)]) rfl ?_
            exact wX0_work_119 cx hf
          · refine g_iconst hx hb (v := 1) dX0_work_114 (by decide) ?_
            refine g_goto hx hb dX0_work_115 (tgt := 119) (by decide) ?_
            refine g_sub [0, 1, 2] (L' := [(0, _), (1, _), (2, _)]) rfl ?_
            exact wX0_work_119 cx hf
        · refine g_iload hx hb dX0_work_138 4 rfl ?_
          refine g_iconst hx hb (v := 5) dX0_work_140 (by decide) ?_
          refine g_icmp_ne hx hb dX0_work_141 (tgt := 172) (by decide) hf (fun hf => ?_) (fun hf => ?_)
          · refine g_aload_n hx hb dX0_work_144 rfl 0 rfl ?_
            refine rC_g20 cx dX0_work_145 ?_
            refine g_iload_n hx hb dX0_work_148 rfl 1 rfl ?_
            refine g_iload_n hx hb dX0_work_149 rfl 3 rfl ?_
            refine g_if_ge hx hb dX0_work_150 (tgt := 157) (by decide) hf (fun hf => ?_) (fun hf => ?_)
            · refine g_iconst hx hb (v := 0) dX0_work_157 (by decide) ?_
              refine g_sub [0, 1, 3] (L' := [(0, _), (1, _), (3, _)]) rfl ?_
              exact wX0_work_158 cx hf
            · refine g_iconst hx hb (v := 1) dX0_work_153 (by decide) ?_
              refine g_goto hx hb dX0_work_154 (tgt := 158) (by decide) ?_
              refine g_sub [0, 1, 3] (L' := [(0, _), (1, _), (3, _)]) rfl ?_
              exact wX0_work_158 cx hf
          · refine g_iload hx hb dX0_work_172 4 rfl ?_
            refine g_bipush hx hb (v := 6) dX0_work_174 (by decide) ?_
            refine g_icmp_ne hx hb dX0_work_176 (tgt := 209) (by decide) hf (fun hf => ?_) (fun hf => ?_)
            · refine g_aload_n hx hb dX0_work_179 rfl 0 rfl ?_
              refine rC_g18 cx dX0_work_180 ?_
              refine g_iload_n hx hb dX0_work_183 rfl 1 rfl ?_
              refine g_iload_n hx hb dX0_work_184 rfl 2 rfl ?_
              refine g_if_ne hx hb dX0_work_185 (tgt := 197) (by decide) hf (fun hf => ?_) (fun hf => ?_)
              · refine g_aload_n hx hb dX0_work_188 rfl 0 rfl ?_
                refine rC_g18 cx dX0_work_189 ?_
                refine g_iload_n hx hb dX0_work_192 rfl 1 rfl ?_
                refine rC_l18 cx dX0_work_193 hf (fun hf => ?_)
                refine g_goto hx hb dX0_work_194 (tgt := 205) (by decide) ?_
                refine g_sub [0] (L' := [(0, _)]) rfl ?_
                exact wX0_work_205 cx hf
              · refine g_aload_n hx hb dX0_work_197 rfl 0 rfl ?_
                refine rC_g15 cx dX0_work_198 ?_
                refine g_iload_n hx hb dX0_work_201 rfl 1 rfl ?_
                refine rC_l15 cx dX0_work_202 hf (fun hf => ?_)
                refine g_iconst hx hb (v := 1) dX0_work_203 (by decide) ?_
                refine g_iadd hx hb dX0_work_204 ?_
                refine g_sub [0] (L' := [(0, _)]) rfl ?_
                exact wX0_work_205 cx hf
            · refine g_iload hx hb dX0_work_209 4 rfl ?_
              refine g_bipush hx hb (v := 9) dX0_work_211 (by decide) ?_
              refine g_icmp_ne hx hb dX0_work_213 (tgt := 223) (by decide) hf (fun hf => ?_) (fun hf => ?_)
              · refine g_aload_n hx hb dX0_work_216 rfl 0 rfl ?_
                refine rC_g20 cx dX0_work_217 ?_
                refine g_iload_n hx hb dX0_work_220 rfl 1 rfl ?_
                refine g_iconst hx hb (v := 1) dX0_work_221 (by decide) ?_
                refine rC_s20 cx dX0_work_222 hf (fun hf => ?_)
                refine g_sub [0] (L' := [(0, _)]) rfl ?_
                exact wX0_work_223 cx hf
              · refine g_sub [0] (L' := [(0, _)]) rfl ?_
                exact wX0_work_223 cx hf
theorem wX0_work_14 (cx : cxC p R s m args meth c D h cA cX0_work 5 none 0 0) {res : Int32 × MM} {fl : Nat} {x1 x2 x3 : Int32} {M : MM} (hf : fX0_work_14 fl x1 x2 x3 M = some res) : gCv p l e R s m args below meth c D h cA 5 res M 14 [(0, .ref (h 28)), (1, .int x1), (2, .int x2), (3, .int x3)] [] := by
  have hx := cx.1
  have hb := cx.2.1
  unfold fX0_work_14 at hf
  refine g_aload_n hx hb dX0_work_14 rfl 0 rfl ?_
  refine rC_g14 cx dX0_work_15 ?_
  refine g_iload_n hx hb dX0_work_18 rfl 1 rfl ?_
  refine rC_l14 cx dX0_work_19 hf (fun hf => ?_)
  refine g_istore hx hb dX0_work_20 (by decide) [1, 2, 3, 4, 0] (L' := [(0, _), (1, _), (2, _), (3, _), (4, _)]) rfl ?_
  exact wX0_work_22 cx hf
theorem wX0_work_7 (cx : cxC p R s m args meth c D h cA cX0_work 5 none 0 0) {res : Int32 × MM} {fl : Nat} {x1 x2 : Int32} {M : MM} (hf : fX0_work_7 fl x1 x2 M = some res) : gCv p l e R s m args below meth c D h cA 5 res M 7 [(0, .ref (h 28)), (1, .int x1), (2, .int x2)] [] := by
  have hx := cx.1
  have hb := cx.2.1
  unfold fX0_work_7 at hf
  refine g_aload_n hx hb dX0_work_7 rfl 0 rfl ?_
  refine rC_g26 cx dX0_work_8 ?_
  refine g_iload_n hx hb dX0_work_11 rfl 1 rfl ?_
  refine rC_l26 cx dX0_work_12 hf (fun hf => ?_)
  refine g_istore_n hx hb dX0_work_13 rfl (by decide) [1, 2, 3, 0] (L' := [(0, _), (1, _), (2, _), (3, _)]) rfl ?_
  exact wX0_work_14 cx hf
theorem wX0_work_0 (cx : cxC p R s m args meth c D h cA cX0_work 5 none 0 0) {res : Int32 × MM} {fl : Nat} {x1 : Int32} {M : MM} (hf : fX0_work_0 fl x1 M = some res) : gCv p l e R s m args below meth c D h cA 5 res M 0 [(0, .ref (h 28)), (1, .int x1)] [] := by
  have hx := cx.1
  have hb := cx.2.1
  unfold fX0_work_0 at hf
  refine g_aload_n hx hb dX0_work_0 rfl 0 rfl ?_
  refine rC_g25 cx dX0_work_1 ?_
  refine g_iload_n hx hb dX0_work_4 rfl 1 rfl ?_
  refine rC_l25 cx dX0_work_5 hf (fun hf => ?_)
  refine g_istore_n hx hb dX0_work_6 rfl (by decide) [1, 2, 0] (L' := [(0, _), (1, _), (2, _)]) rfl ?_
  exact wX0_work_7 cx hf
end
theorem metX0_work {l : Launch} {D : va_G} {h : Nat → Nat} {cA : Nat → ClassId} {fl : Nat} {x1 : Int32} {M : MM} {res : Int32 × MM} (hn : njC h) (hf : fX0_work fl x1 M = some res) : Met l yX0_work (ws_ yX0_work cX0_work 5 none) ({ frames := 0, cells := 0, slots := 0, locals := 0 }) (pcC D h cA M [.int x1]) (qvC D h cA res) 0 0 (aC h) := by
  refine Met.ofW (cc := cX0_work) (maxL := 5) (ret := none) (by decide) rfl ?_
  intro p e s m args below meth c s₁ B hml hv
  have hts := atoms_spec (ws := ws_ yX0_work cX0_work 5 none) B.pre
  have hts : ∀ w ∈ lw_all, w.before _ s = true := fun w h => hts w (List.mem_cons_of_mem _ h)
  obtain ⟨rfl, hP, hK⟩ := hv
  rw [lg_entry_eq]
  exact wX0_work_0 (R := { frames := 0, cells := 0, slots := 0, locals := 0 }) ⟨B.exec, B.bytes, hml, findClass_of_methodNamed B.named, hts, hK, fun M => dC_of hn, B.returns, B.notSynchronized, Nat.le_refl _, Nat.le_refl _, hn⟩ hf s.heap [] _ hP va_S.rf (lv_entry ([.ref (h 28), .int x1]) (n := 5) (Nat.le_of_ble_eq_true rfl))
set_option maxRecDepth 100000
section
variable {p : Program} {l : Launch} {e : Env} {R : Room} {s : State} {m : MethodId} {args : Array Value} {below : List Frame} {meth : Method} {c : Code} {D : va_G} {h : Nat → Nat} {cA : Nat → ClassId}
theorem wX0_complete_84 (cx : cxC p R s m args meth c D h cA cX0_complete 4 none 1 24) {res : Int32 × MM} {fl : Nat} {K : Int32 → Int32 → MM → Option (Int32 × MM)} (hK : ∀ {x1 x2 : Int32} {M : MM}, K x1 x2 M = some res → gCv p l e R s m args below meth c D h cA 4 res M 4 [(0, .ref (h 28)), (1, .int x1), (2, .int x2)] []) {x1 x2 : Int32} {M : MM} (hf : fX0_complete_84 fl K x1 x2 M = some res) : gCv p l e R s m args below meth c D h cA 4 res M 84 [(0, .ref (h 28)), (1, .int x1), (2, .int x2)] [] := by
  have hx := cx.1
  have hb := cx.2.1
  unfold fX0_complete_84 at hf
  refine g_iinc hx hb (v := _ + 1) dX0_complete_84 2 rfl rfl (by decide) [1, 2, 0] (L' := [(0, _), (1, _), (2, _)]) rfl ?_
  refine g_goto hx hb dX0_complete_87 (tgt := 4) (by decide) ?_
  exact hK hf
theorem wX0_complete_79 (cx : cxC p R s m args meth c D h cA cX0_complete 4 none 1 24) {res : Int32 × MM} {fl : Nat} {K : Int32 → Int32 → MM → Option (Int32 × MM)} (hK : ∀ {x1 x2 : Int32} {M : MM}, K x1 x2 M = some res → gCv p l e R s m args below meth c D h cA 4 res M 4 [(0, .ref (h 28)), (1, .int x1), (2, .int x2)] []) {x1 x2 x3 : Int32} {M : MM} (hf : fX0_complete_79 fl K x1 x2 x3 M = some res) : gCv p l e R s m args below meth c D h cA 4 res M 79 [(0, .ref (h 28)), (1, .int x1), (2, .int x2), (3, .int x3)] [] := by
  have hx := cx.1
  have hb := cx.2.1
  unfold fX0_complete_79 at hf
  refine g_aload_n hx hb dX0_complete_79 rfl 0 rfl ?_
  refine g_iload_n hx hb dX0_complete_80 rfl 3 rfl ?_
  obtain ⟨q, hq, hf⟩ := ob hf
  refine gC_callv cx (np := 1) (as := [.int x3]) (metX0_hand (l := l) (D := D) (cA := cA) cx.nj hq) (lw_V q157 q159 qs5 q15 q160) rfl rfl ⟨rfl, by decide, by decide, by decide +kernel⟩ ⟨by decide, by decide⟩ rfl (Nat.le_of_ble_eq_true rfl) dX0_complete_81 rfl ?_
  refine g_sub [0, 1, 2] (L' := [(0, _), (1, _), (2, _)]) rfl ?_
  exact wX0_complete_84 cx hK hf
theorem wX0_complete_72 (cx : cxC p R s m args meth c D h cA cX0_complete 4 none 1 24) {res : Int32 × MM} {fl : Nat} {K : Int32 → Int32 → MM → Option (Int32 × MM)} (hK : ∀ {x1 x2 : Int32} {M : MM}, K x1 x2 M = some res → gCv p l e R s m args below meth c D h cA 4 res M 4 [(0, .ref (h 28)), (1, .int x1), (2, .int x2)] []) {x1 x2 x3 : Int32} {M : MM} (hf : fX0_complete_72 fl K x1 x2 x3 M = some res) : gCv p l e R s m args below meth c D h cA 4 res M 72 [(0, .ref (h 28)), (1, .int x1), (2, .int x2), (3, .int x3)] [] := by
  have hx := cx.1
  have hb := cx.2.1
  unfold fX0_complete_72 at hf
  refine g_aload_n hx hb dX0_complete_72 rfl 0 rfl ?_
  refine rC_g16 cx dX0_complete_73 ?_
  refine g_iload_n hx hb dX0_complete_76 rfl 3 rfl ?_
  refine g_iconst hx hb (v := 2) dX0_complete_77 (by decide) ?_
  refine rC_s16 cx dX0_complete_78 hf (fun hf => ?_)
  exact wX0_complete_79 cx hK hf
theorem wX0_complete_67 (cx : cxC p R s m args meth c D h cA cX0_complete 4 none 1 24) {res : Int32 × MM} {fl : Nat} {K : Int32 → Int32 → MM → Option (Int32 × MM)} (hK : ∀ {x1 x2 : Int32} {M : MM}, K x1 x2 M = some res → gCv p l e R s m args below meth c D h cA 4 res M 4 [(0, .ref (h 28)), (1, .int x1), (2, .int x2)] []) {x1 x2 x3 : Int32} {M : MM} (hf : fX0_complete_67 fl K x1 x2 x3 M = some res) : gCv p l e R s m args below meth c D h cA 4 res M 67 [(0, .ref (h 28)), (1, .int x1), (2, .int x2), (3, .int x3)] [] := by
  have hx := cx.1
  have hb := cx.2.1
  unfold fX0_complete_67 at hf
  refine g_aload_n hx hb dX0_complete_67 rfl 0 rfl ?_
  refine g_iload_n hx hb dX0_complete_68 rfl 3 rfl ?_
  obtain ⟨q, hq, hf⟩ := ob hf
  refine gC_callv cx (np := 1) (as := [.int x3]) (metX0_work (l := l) (D := D) (cA := cA) cx.nj hq) (lw_V q153 q155 qs4 q15 q156) rfl rfl ⟨rfl, by decide, by decide, by decide +kernel⟩ ⟨by decide, by decide⟩ rfl (Nat.le_of_ble_eq_true rfl) dX0_complete_69 rfl ?_
  exact wX0_complete_72 cx hK hf
theorem wX0_complete_52 (cx : cxC p R s m args meth c D h cA cX0_complete 4 none 1 24) {res : Int32 × MM} {fl : Nat} {K : Int32 → Int32 → MM → Option (Int32 × MM)} (hK : ∀ {x1 x2 : Int32} {M : MM}, K x1 x2 M = some res → gCv p l e R s m args below meth c D h cA 4 res M 4 [(0, .ref (h 28)), (1, .int x1), (2, .int x2)] []) {x1 x2 x3 : Int32} {M : MM} (hf : fX0_complete_52 fl K x1 x2 x3 M = some res) : gCv p l e R s m args below meth c D h cA 4 res M 52 [(0, .ref (h 28)), (1, .int x1), (2, .int x2), (3, .int x3)] [] := by
  have hx := cx.1
  have hb := cx.2.1
  unfold fX0_complete_52 at hf
  refine g_aload_n hx hb dX0_complete_52 rfl 0 rfl ?_
  refine rC_g17 cx dX0_complete_53 ?_
  refine g_iload_n hx hb dX0_complete_56 rfl 3 rfl ?_
  refine rC_l17 cx dX0_complete_57 hf (fun hf => ?_)
  refine g_if_ne hx hb dX0_complete_58 (tgt := 84) (by decide) hf (fun hf => ?_) (fun hf => ?_)
  · refine g_iload_n hx hb dX0_complete_61 rfl 1 rfl ?_
    refine g_if_eq hx hb dX0_complete_62 (tgt := 84) (by decide) hf (fun hf => ?_) (fun hf => ?_)
    · refine g_sub [0, 1, 2] (L' := [(0, _), (1, _), (2, _)]) rfl ?_
      exact wX0_complete_84 cx hK hf
    · refine g_iconst hx hb (v := 0) dX0_complete_65 (by decide) ?_
      refine g_istore_n hx hb dX0_complete_66 rfl (by decide) [1, 0, 2, 3] (L' := [(0, _), (1, _), (2, _), (3, _)]) rfl ?_
      exact wX0_complete_67 cx hK hf
  · refine g_sub [0, 1, 2] (L' := [(0, _), (1, _), (2, _)]) rfl ?_
    exact wX0_complete_84 cx hK hf
theorem wX0_complete_22 (cx : cxC p R s m args meth c D h cA cX0_complete 4 none 1 24) {res : Int32 × MM} {fl : Nat} {K : Int32 → Int32 → MM → Option (Int32 × MM)} (hK : ∀ {x1 x2 : Int32} {M : MM}, K x1 x2 M = some res → gCv p l e R s m args below meth c D h cA 4 res M 4 [(0, .ref (h 28)), (1, .int x1), (2, .int x2)] []) {x1 x2 x3 : Int32} {M : MM} (hf : fX0_complete_22 fl K x1 x2 x3 M = some res) : gCv p l e R s m args below meth c D h cA 4 res M 22 [(0, .ref (h 28)), (1, .int x1), (2, .int x2), (3, .int x3)] [] := by
  have hx := cx.1
  have hb := cx.2.1
  unfold fX0_complete_22 at hf
  refine g_aload_n hx hb dX0_complete_22 rfl 0 rfl ?_
  refine rC_g16 cx dX0_complete_23 ?_
  refine g_iload_n hx hb dX0_complete_26 rfl 3 rfl ?_
  refine rC_l16 cx dX0_complete_27 hf (fun hf => ?_)
  refine g_iconst hx hb (v := 1) dX0_complete_28 (by decide) ?_
  refine g_icmp_ne hx hb dX0_complete_29 (tgt := 84) (by decide) hf (fun hf => ?_) (fun hf => ?_)
  · refine g_aload_n hx hb dX0_complete_32 rfl 0 rfl ?_
    refine rC_g17 cx dX0_complete_33 ?_
    refine g_iload_n hx hb dX0_complete_36 rfl 3 rfl ?_
    refine rC_l17 cx dX0_complete_37 hf (fun hf => ?_)
    refine g_if_le hx hb dX0_complete_38 (tgt := 52) (by decide) hf (fun hf => ?_) (fun hf => ?_)
    · exact wX0_complete_52 cx hK hf
    · refine g_aload_n hx hb dX0_complete_41 rfl 0 rfl ?_
      refine rC_g17 cx dX0_complete_42 ?_
      refine g_iload_n hx hb dX0_complete_45 rfl 3 rfl ?_
      refine g_dup2 hx hb dX0_complete_46 rfl rfl ?_
      refine rC_l17 cx dX0_complete_47 hf (fun hf => ?_)
      refine g_iconst hx hb (v := 1) dX0_complete_48 (by decide) ?_
      refine g_isub hx hb dX0_complete_49 ?_
      refine g_i2b hx hb dX0_complete_50 ?_
      refine rC_s17 cx dX0_complete_51 hf (fun hf => ?_)
      exact wX0_complete_52 cx hK hf
  · refine g_sub [0, 1, 2] (L' := [(0, _), (1, _), (2, _)]) rfl ?_
    exact wX0_complete_84 cx hK hf
theorem wX0_complete_4 (cx : cxC p R s m args meth c D h cA cX0_complete 4 none 1 24) {res : Int32 × MM} {fl : Nat} : ∀ {n : Nat} {x1 x2 : Int32} {M : MM}, fX0_complete_4 fl n x1 x2 M = some res → gCv p l e R s m args below meth c D h cA 4 res M 4 [(0, .ref (h 28)), (1, .int x1), (2, .int x2)] [] := by
  have hx := cx.1
  have hb := cx.2.1
  intro n
  induction n with
  | zero => intro x1 x2 M hf; exact absurd hf (by simp [fX0_complete_4])
  | succ n ih =>
    intro x1 x2 M hf
    unfold fX0_complete_4 at hf
    refine g_iload_n hx hb dX0_complete_4 rfl 2 rfl ?_
    refine g_aload_n hx hb dX0_complete_5 rfl 0 rfl ?_
    refine rC_g13 cx dX0_complete_6 ?_
    refine g_icmp_ge hx hb dX0_complete_9 (tgt := 90) (by decide) hf (fun hf => ?_) (fun hf => ?_)
    · exact gC_vret cx hf dX0_complete_90
    · refine g_aload_n hx hb dX0_complete_12 rfl 0 rfl ?_
      refine rC_g12 cx dX0_complete_13 ?_
      refine g_iload_n hx hb dX0_complete_16 rfl 2 rfl ?_
      refine g_iadd hx hb dX0_complete_17 ?_
      refine g_bipush hx hb (v := 6) dX0_complete_18 (by decide) ?_
      refine g_irem hx hb dX0_complete_20 (by decide) ?_
      refine g_istore_n hx hb dX0_complete_21 rfl (by decide) [1, 2, 3, 0] (L' := [(0, _), (1, _), (2, _), (3, _)]) rfl ?_
      exact wX0_complete_22 cx ih hf
theorem wX0_complete_2 (cx : cxC p R s m args meth c D h cA cX0_complete 4 none 1 24) {res : Int32 × MM} {fl : Nat} {x1 : Int32} {M : MM} (hf : fX0_complete_2 fl x1 M = some res) : gCv p l e R s m args below meth c D h cA 4 res M 2 [(0, .ref (h 28)), (1, .int x1)] [] := by
  have hx := cx.1
  have hb := cx.2.1
  unfold fX0_complete_2 at hf
  refine g_iconst hx hb (v := 0) dX0_complete_2 (by decide) ?_
  refine g_istore_n hx hb dX0_complete_3 rfl (by decide) [1, 2, 0] (L' := [(0, _), (1, _), (2, _)]) rfl ?_
  exact wX0_complete_4 cx hf
theorem wX0_complete_0 (cx : cxC p R s m args meth c D h cA cX0_complete 4 none 1 24) {res : Int32 × MM} {fl : Nat} {M : MM} (hf : fX0_complete_0 fl M = some res) : gCv p l e R s m args below meth c D h cA 4 res M 0 [(0, .ref (h 28))] [] := by
  have hx := cx.1
  have hb := cx.2.1
  unfold fX0_complete_0 at hf
  refine g_iconst hx hb (v := 1) dX0_complete_0 (by decide) ?_
  refine g_istore_n hx hb dX0_complete_1 rfl (by decide) [1, 0] (L' := [(0, _), (1, _)]) rfl ?_
  exact wX0_complete_2 cx hf
end
theorem metX0_complete {l : Launch} {D : va_G} {h : Nat → Nat} {cA : Nat → ClassId} {fl : Nat} {M : MM} {res : Int32 × MM} (hn : njC h) (hf : fX0_complete fl M = some res) : Met l yX0_complete (ws_ yX0_complete cX0_complete 4 none) ({ frames := 1, cells := 0, slots := 0, locals := 24 }) (pcC D h cA M []) (qvC D h cA res) 0 0 (aC h) := by
  refine Met.ofW (cc := cX0_complete) (maxL := 4) (ret := none) (by decide) rfl ?_
  intro p e s m args below meth c s₁ B hml hv
  have hts := atoms_spec (ws := ws_ yX0_complete cX0_complete 4 none) B.pre
  have hts : ∀ w ∈ lw_all, w.before _ s = true := fun w h => hts w (List.mem_cons_of_mem _ h)
  obtain ⟨rfl, hP, hK⟩ := hv
  rw [lg_entry_eq]
  exact wX0_complete_0 (R := { frames := 1, cells := 0, slots := 0, locals := 24 }) ⟨B.exec, B.bytes, hml, findClass_of_methodNamed B.named, hts, hK, fun M => dC_of hn, B.returns, B.notSynchronized, Nat.le_refl _, Nat.le_refl _, hn⟩ hf s.heap [] _ hP va_S.rf (lv_entry ([.ref (h 28)]) (n := 4) (Nat.le_of_ble_eq_true rfl))
end
section
set_option maxRecDepth 100000
section
variable {p : Program} {l : Launch} {e : Env} {R : Room} {s : State} {m : MethodId} {args : Array Value} {below : List Frame} {meth : Method} {c : Code} {D : va_G} {h : Nat → Nat} {cA : Nat → ClassId}
theorem wX0_readLeft_70 (cx : cxC p R s m args meth c D h cA cX0_readLeft 5 none 0 0) {res : Int32 × MM} {fl : Nat} {M : MM} (hf : fX0_readLeft_70 fl M = some res) : gCv p l e R s m args below meth c D h cA 5 res M 70 [(0, .ref (h 28))] [] := by
  have hx := cx.1
  have hb := cx.2.1
  unfold fX0_readLeft_70 at hf
  exact gC_vret cx hf dX0_readLeft_70
theorem wX0_readLeft_69 (cx : cxC p R s m args meth c D h cA cX0_readLeft 5 none 0 0) {res : Int32 × MM} {fl : Nat} {y0 y1 : Int32} {M : MM} (hf : fX0_readLeft_69 fl y0 y1 M = some res) : gCv p l e R s m args below meth c D h cA 5 res M 69 [(0, .ref (h 28))] [.int y1, .int y0, .ref (h 25)] := by
  have hx := cx.1
  have hb := cx.2.1
  unfold fX0_readLeft_69 at hf
  refine rC_s25 cx dX0_readLeft_69 hf (fun hf => ?_)
  exact wX0_readLeft_70 cx hf
theorem wX0_readLeft_45 (cx : cxC p R s m args meth c D h cA cX0_readLeft 5 none 0 0) {res : Int32 × MM} {fl : Nat} {x1 x2 x3 : Int32} {M : MM} (hf : fX0_readLeft_45 fl x1 x2 x3 M = some res) : gCv p l e R s m args below meth c D h cA 5 res M 45 [(0, .ref (h 28)), (1, .int x1), (2, .int x2), (3, .int x3)] [] := by
  have hx := cx.1
  have hb := cx.2.1
  unfold fX0_readLeft_45 at hf
  refine g_aload_n hx hb dX0_readLeft_45 rfl 0 rfl ?_
  refine rC_g25 cx dX0_readLeft_46 ?_
  refine g_iload_n hx hb dX0_readLeft_49 rfl 1 rfl ?_
  refine g_iload_n hx hb dX0_readLeft_50 rfl 3 rfl ?_
  refine g_if_ge hx hb dX0_readLeft_51 (tgt := 63) (by decide) hf (fun hf => ?_) (fun hf => ?_)
  · refine g_aload_n hx hb dX0_readLeft_63 rfl 0 rfl ?_
    refine rC_g18 cx dX0_readLeft_64 ?_
    refine g_iload_n hx hb dX0_readLeft_67 rfl 3 rfl ?_
    refine rC_l18 cx dX0_readLeft_68 hf (fun hf => ?_)
    refine g_sub [0] (L' := [(0, _)]) rfl ?_
    exact wX0_readLeft_69 cx hf
  · refine g_aload_n hx hb dX0_readLeft_54 rfl 0 rfl ?_
    refine rC_g4 cx dX0_readLeft_55 ?_
    refine g_iload_n hx hb dX0_readLeft_58 rfl 2 rfl ?_
    refine rC_l4 cx dX0_readLeft_59 hf (fun hf => ?_)
    refine g_goto hx hb dX0_readLeft_60 (tgt := 69) (by decide) ?_
    refine g_sub [0] (L' := [(0, _)]) rfl ?_
    exact wX0_readLeft_69 cx hf
theorem wX0_readLeft_43 (cx : cxC p R s m args meth c D h cA cX0_readLeft 5 none 0 0) {res : Int32 × MM} {fl : Nat} {x1 x2 x3 y0 y1 : Int32} {M : MM} (hf : fX0_readLeft_43 fl x1 x2 x3 y0 y1 M = some res) : gCv p l e R s m args below meth c D h cA 5 res M 43 [(0, .ref (h 28)), (1, .int x1), (2, .int x2), (3, .int x3)] [.int y1, .int y0, .ref (h 23)] := by
  have hx := cx.1
  have hb := cx.2.1
  unfold fX0_readLeft_43 at hf
  refine g_i2b hx hb dX0_readLeft_43 ?_
  refine rC_s23 cx dX0_readLeft_44 hf (fun hf => ?_)
  exact wX0_readLeft_45 cx hf
theorem wX0_readLeft_28 (cx : cxC p R s m args meth c D h cA cX0_readLeft 5 none 0 0) {res : Int32 × MM} {fl : Nat} {x1 x2 x3 x4 : Int32} {M : MM} (hf : fX0_readLeft_28 fl x1 x2 x3 x4 M = some res) : gCv p l e R s m args below meth c D h cA 5 res M 28 [(0, .ref (h 28)), (1, .int x1), (2, .int x2), (3, .int x3), (4, .int x4)] [] := by
  have hx := cx.1
  have hb := cx.2.1
  unfold fX0_readLeft_28 at hf
  refine g_aload_n hx hb dX0_readLeft_28 rfl 0 rfl ?_
  refine rC_g23 cx dX0_readLeft_29 ?_
  refine g_iload_n hx hb dX0_readLeft_32 rfl 1 rfl ?_
  refine g_iload hx hb dX0_readLeft_33 4 rfl ?_
  refine g_if_eq hx hb dX0_readLeft_35 (tgt := 42) (by decide) hf (fun hf => ?_) (fun hf => ?_)
  · refine g_iconst hx hb (v := (-1)) dX0_readLeft_42 (by decide) ?_
    refine g_sub [0, 1, 2, 3] (L' := [(0, _), (1, _), (2, _), (3, _)]) rfl ?_
    exact wX0_readLeft_43 cx hf
  · refine g_iload_n hx hb dX0_readLeft_38 rfl 3 rfl ?_
    refine g_goto hx hb dX0_readLeft_39 (tgt := 43) (by decide) ?_
    refine g_sub [0, 1, 2, 3] (L' := [(0, _), (1, _), (2, _), (3, _)]) rfl ?_
    exact wX0_readLeft_43 cx hf
theorem wX0_readLeft_26 (cx : cxC p R s m args meth c D h cA cX0_readLeft 5 none 0 0) {res : Int32 × MM} {fl : Nat} {x1 x2 x3 y0 : Int32} {M : MM} (hf : fX0_readLeft_26 fl x1 x2 x3 y0 M = some res) : gCv p l e R s m args below meth c D h cA 5 res M 26 [(0, .ref (h 28)), (1, .int x1), (2, .int x2), (3, .int x3)] [.int y0] := by
  have hx := cx.1
  have hb := cx.2.1
  unfold fX0_readLeft_26 at hf
  refine g_istore hx hb dX0_readLeft_26 (by decide) [1, 2, 3, 4, 0] (L' := [(0, _), (1, _), (2, _), (3, _), (4, _)]) rfl ?_
  exact wX0_readLeft_28 cx hf
theorem wX0_readLeft_25 (cx : cxC p R s m args meth c D h cA cX0_readLeft 5 none 0 0) {res : Int32 × MM} {fl : Nat} {x1 x2 x3 : Int32} {M : MM} (hf : fX0_readLeft_25 fl x1 x2 x3 M = some res) : gCv p l e R s m args below meth c D h cA 5 res M 25 [(0, .ref (h 28)), (1, .int x1), (2, .int x2), (3, .int x3)] [] := by
  have hx := cx.1
  have hb := cx.2.1
  unfold fX0_readLeft_25 at hf
  refine g_iconst hx hb (v := 0) dX0_readLeft_25 (by decide) ?_
  exact wX0_readLeft_26 cx hf
theorem wX0_readLeft_7 (cx : cxC p R s m args meth c D h cA cX0_readLeft 5 none 0 0) {res : Int32 × MM} {fl : Nat} {x1 x2 x3 : Int32} {M : MM} (hf : fX0_readLeft_7 fl x1 x2 x3 M = some res) : gCv p l e R s m args below meth c D h cA 5 res M 7 [(0, .ref (h 28)), (1, .int x1), (2, .int x2), (3, .int x3)] [] := by
  have hx := cx.1
  have hb := cx.2.1
  unfold fX0_readLeft_7 at hf
  refine g_iload_n hx hb dX0_readLeft_7 rfl 3 rfl ?_
  refine g_if_lt hx hb dX0_readLeft_8 (tgt := 25) (by decide) hf (fun hf => ?_) (fun hf => ?_)
  · exact wX0_readLeft_25 cx hf
  · refine g_aload_n hx hb dX0_readLeft_11 rfl 0 rfl ?_
    refine rC_g16 cx dX0_readLeft_12 ?_
    refine g_iload_n hx hb dX0_readLeft_15 rfl 3 rfl ?_
    refine rC_l16 cx dX0_readLeft_16 hf (fun hf => ?_)
    refine g_iconst hx hb (v := 2) dX0_readLeft_17 (by decide) ?_
    refine g_icmp_eq hx hb dX0_readLeft_18 (tgt := 25) (by decide) hf (fun hf => ?_) (fun hf => ?_)
    · exact wX0_readLeft_25 cx hf
    · refine g_iconst hx hb (v := 1) dX0_readLeft_21 (by decide) ?_
      refine g_goto hx hb dX0_readLeft_22 (tgt := 26) (by decide) ?_
      exact wX0_readLeft_26 cx hf
theorem wX0_readLeft_0 (cx : cxC p R s m args meth c D h cA cX0_readLeft 5 none 0 0) {res : Int32 × MM} {fl : Nat} {x1 x2 : Int32} {M : MM} (hf : fX0_readLeft_0 fl x1 x2 M = some res) : gCv p l e R s m args below meth c D h cA 5 res M 0 [(0, .ref (h 28)), (1, .int x1), (2, .int x2)] [] := by
  have hx := cx.1
  have hb := cx.2.1
  unfold fX0_readLeft_0 at hf
  refine g_aload_n hx hb dX0_readLeft_0 rfl 0 rfl ?_
  refine rC_g27 cx dX0_readLeft_1 ?_
  refine g_iload_n hx hb dX0_readLeft_4 rfl 2 rfl ?_
  refine rC_l27 cx dX0_readLeft_5 hf (fun hf => ?_)
  refine g_istore_n hx hb dX0_readLeft_6 rfl (by decide) [1, 2, 3, 0] (L' := [(0, _), (1, _), (2, _), (3, _)]) rfl ?_
  exact wX0_readLeft_7 cx hf
end
theorem metX0_readLeft {l : Launch} {D : va_G} {h : Nat → Nat} {cA : Nat → ClassId} {fl : Nat} {x1 x2 : Int32} {M : MM} {res : Int32 × MM} (hn : njC h) (hf : fX0_readLeft fl x1 x2 M = some res) : Met l yX0_readLeft (ws_ yX0_readLeft cX0_readLeft 5 none) ({ frames := 0, cells := 0, slots := 0, locals := 0 }) (pcC D h cA M [.int x1, .int x2]) (qvC D h cA res) 0 0 (aC h) := by
  refine Met.ofW (cc := cX0_readLeft) (maxL := 5) (ret := none) (by decide) rfl ?_
  intro p e s m args below meth c s₁ B hml hv
  have hts := atoms_spec (ws := ws_ yX0_readLeft cX0_readLeft 5 none) B.pre
  have hts : ∀ w ∈ lw_all, w.before _ s = true := fun w h => hts w (List.mem_cons_of_mem _ h)
  obtain ⟨rfl, hP, hK⟩ := hv
  rw [lg_entry_eq]
  exact wX0_readLeft_0 (R := { frames := 0, cells := 0, slots := 0, locals := 0 }) ⟨B.exec, B.bytes, hml, findClass_of_methodNamed B.named, hts, hK, fun M => dC_of hn, B.returns, B.notSynchronized, Nat.le_refl _, Nat.le_refl _, hn⟩ hf s.heap [] _ hP va_S.rf (lv_entry ([.ref (h 28), .int x1, .int x2]) (n := 5) (Nat.le_of_ble_eq_true rfl))
set_option maxRecDepth 100000
section
variable {p : Program} {l : Launch} {e : Env} {R : Room} {s : State} {m : MethodId} {args : Array Value} {below : List Frame} {meth : Method} {c : Code} {D : va_G} {h : Nat → Nat} {cA : Nat → ClassId}
theorem wX0_readRight_70 (cx : cxC p R s m args meth c D h cA cX0_readRight 5 none 0 0) {res : Int32 × MM} {fl : Nat} {M : MM} (hf : fX0_readRight_70 fl M = some res) : gCv p l e R s m args below meth c D h cA 5 res M 70 [(0, .ref (h 28))] [] := by
  have hx := cx.1
  have hb := cx.2.1
  unfold fX0_readRight_70 at hf
  exact gC_vret cx hf dX0_readRight_70
theorem wX0_readRight_69 (cx : cxC p R s m args meth c D h cA cX0_readRight 5 none 0 0) {res : Int32 × MM} {fl : Nat} {y0 y1 : Int32} {M : MM} (hf : fX0_readRight_69 fl y0 y1 M = some res) : gCv p l e R s m args below meth c D h cA 5 res M 69 [(0, .ref (h 28))] [.int y1, .int y0, .ref (h 26)] := by
  have hx := cx.1
  have hb := cx.2.1
  unfold fX0_readRight_69 at hf
  refine rC_s26 cx dX0_readRight_69 hf (fun hf => ?_)
  exact wX0_readRight_70 cx hf
theorem wX0_readRight_45 (cx : cxC p R s m args meth c D h cA cX0_readRight 5 none 0 0) {res : Int32 × MM} {fl : Nat} {x1 x2 x3 : Int32} {M : MM} (hf : fX0_readRight_45 fl x1 x2 x3 M = some res) : gCv p l e R s m args below meth c D h cA 5 res M 45 [(0, .ref (h 28)), (1, .int x1), (2, .int x2), (3, .int x3)] [] := by
  have hx := cx.1
  have hb := cx.2.1
  unfold fX0_readRight_45 at hf
  refine g_aload_n hx hb dX0_readRight_45 rfl 0 rfl ?_
  refine rC_g26 cx dX0_readRight_46 ?_
  refine g_iload_n hx hb dX0_readRight_49 rfl 1 rfl ?_
  refine g_iload_n hx hb dX0_readRight_50 rfl 3 rfl ?_
  refine g_if_ge hx hb dX0_readRight_51 (tgt := 63) (by decide) hf (fun hf => ?_) (fun hf => ?_)
  · refine g_aload_n hx hb dX0_readRight_63 rfl 0 rfl ?_
    refine rC_g18 cx dX0_readRight_64 ?_
    refine g_iload_n hx hb dX0_readRight_67 rfl 3 rfl ?_
    refine rC_l18 cx dX0_readRight_68 hf (fun hf => ?_)
    refine g_sub [0] (L' := [(0, _)]) rfl ?_
    exact wX0_readRight_69 cx hf
  · refine g_aload_n hx hb dX0_readRight_54 rfl 0 rfl ?_
    refine rC_g4 cx dX0_readRight_55 ?_
    refine g_iload_n hx hb dX0_readRight_58 rfl 2 rfl ?_
    refine rC_l4 cx dX0_readRight_59 hf (fun hf => ?_)
    refine g_goto hx hb dX0_readRight_60 (tgt := 69) (by decide) ?_
    refine g_sub [0] (L' := [(0, _)]) rfl ?_
    exact wX0_readRight_69 cx hf
theorem wX0_readRight_43 (cx : cxC p R s m args meth c D h cA cX0_readRight 5 none 0 0) {res : Int32 × MM} {fl : Nat} {x1 x2 x3 y0 y1 : Int32} {M : MM} (hf : fX0_readRight_43 fl x1 x2 x3 y0 y1 M = some res) : gCv p l e R s m args below meth c D h cA 5 res M 43 [(0, .ref (h 28)), (1, .int x1), (2, .int x2), (3, .int x3)] [.int y1, .int y0, .ref (h 24)] := by
  have hx := cx.1
  have hb := cx.2.1
  unfold fX0_readRight_43 at hf
  refine g_i2b hx hb dX0_readRight_43 ?_
  refine rC_s24 cx dX0_readRight_44 hf (fun hf => ?_)
  exact wX0_readRight_45 cx hf
theorem wX0_readRight_28 (cx : cxC p R s m args meth c D h cA cX0_readRight 5 none 0 0) {res : Int32 × MM} {fl : Nat} {x1 x2 x3 x4 : Int32} {M : MM} (hf : fX0_readRight_28 fl x1 x2 x3 x4 M = some res) : gCv p l e R s m args below meth c D h cA 5 res M 28 [(0, .ref (h 28)), (1, .int x1), (2, .int x2), (3, .int x3), (4, .int x4)] [] := by
  have hx := cx.1
  have hb := cx.2.1
  unfold fX0_readRight_28 at hf
  refine g_aload_n hx hb dX0_readRight_28 rfl 0 rfl ?_
  refine rC_g24 cx dX0_readRight_29 ?_
  refine g_iload_n hx hb dX0_readRight_32 rfl 1 rfl ?_
  refine g_iload hx hb dX0_readRight_33 4 rfl ?_
  refine g_if_eq hx hb dX0_readRight_35 (tgt := 42) (by decide) hf (fun hf => ?_) (fun hf => ?_)
  · refine g_iconst hx hb (v := (-1)) dX0_readRight_42 (by decide) ?_
    refine g_sub [0, 1, 2, 3] (L' := [(0, _), (1, _), (2, _), (3, _)]) rfl ?_
    exact wX0_readRight_43 cx hf
  · refine g_iload_n hx hb dX0_readRight_38 rfl 3 rfl ?_
    refine g_goto hx hb dX0_readRight_39 (tgt := 43) (by decide) ?_
    refine g_sub [0, 1, 2, 3] (L' := [(0, _), (1, _), (2, _), (3, _)]) rfl ?_
    exact wX0_readRight_43 cx hf
theorem wX0_readRight_26 (cx : cxC p R s m args meth c D h cA cX0_readRight 5 none 0 0) {res : Int32 × MM} {fl : Nat} {x1 x2 x3 y0 : Int32} {M : MM} (hf : fX0_readRight_26 fl x1 x2 x3 y0 M = some res) : gCv p l e R s m args below meth c D h cA 5 res M 26 [(0, .ref (h 28)), (1, .int x1), (2, .int x2), (3, .int x3)] [.int y0] := by
  have hx := cx.1
  have hb := cx.2.1
  unfold fX0_readRight_26 at hf
  refine g_istore hx hb dX0_readRight_26 (by decide) [1, 2, 3, 4, 0] (L' := [(0, _), (1, _), (2, _), (3, _), (4, _)]) rfl ?_
  exact wX0_readRight_28 cx hf
theorem wX0_readRight_25 (cx : cxC p R s m args meth c D h cA cX0_readRight 5 none 0 0) {res : Int32 × MM} {fl : Nat} {x1 x2 x3 : Int32} {M : MM} (hf : fX0_readRight_25 fl x1 x2 x3 M = some res) : gCv p l e R s m args below meth c D h cA 5 res M 25 [(0, .ref (h 28)), (1, .int x1), (2, .int x2), (3, .int x3)] [] := by
  have hx := cx.1
  have hb := cx.2.1
  unfold fX0_readRight_25 at hf
  refine g_iconst hx hb (v := 0) dX0_readRight_25 (by decide) ?_
  exact wX0_readRight_26 cx hf
theorem wX0_readRight_7 (cx : cxC p R s m args meth c D h cA cX0_readRight 5 none 0 0) {res : Int32 × MM} {fl : Nat} {x1 x2 x3 : Int32} {M : MM} (hf : fX0_readRight_7 fl x1 x2 x3 M = some res) : gCv p l e R s m args below meth c D h cA 5 res M 7 [(0, .ref (h 28)), (1, .int x1), (2, .int x2), (3, .int x3)] [] := by
  have hx := cx.1
  have hb := cx.2.1
  unfold fX0_readRight_7 at hf
  refine g_iload_n hx hb dX0_readRight_7 rfl 3 rfl ?_
  refine g_if_lt hx hb dX0_readRight_8 (tgt := 25) (by decide) hf (fun hf => ?_) (fun hf => ?_)
  · exact wX0_readRight_25 cx hf
  · refine g_aload_n hx hb dX0_readRight_11 rfl 0 rfl ?_
    refine rC_g16 cx dX0_readRight_12 ?_
    refine g_iload_n hx hb dX0_readRight_15 rfl 3 rfl ?_
    refine rC_l16 cx dX0_readRight_16 hf (fun hf => ?_)
    refine g_iconst hx hb (v := 2) dX0_readRight_17 (by decide) ?_
    refine g_icmp_eq hx hb dX0_readRight_18 (tgt := 25) (by decide) hf (fun hf => ?_) (fun hf => ?_)
    · exact wX0_readRight_25 cx hf
    · refine g_iconst hx hb (v := 1) dX0_readRight_21 (by decide) ?_
      refine g_goto hx hb dX0_readRight_22 (tgt := 26) (by decide) ?_
      exact wX0_readRight_26 cx hf
theorem wX0_readRight_0 (cx : cxC p R s m args meth c D h cA cX0_readRight 5 none 0 0) {res : Int32 × MM} {fl : Nat} {x1 x2 : Int32} {M : MM} (hf : fX0_readRight_0 fl x1 x2 M = some res) : gCv p l e R s m args below meth c D h cA 5 res M 0 [(0, .ref (h 28)), (1, .int x1), (2, .int x2)] [] := by
  have hx := cx.1
  have hb := cx.2.1
  unfold fX0_readRight_0 at hf
  refine g_aload_n hx hb dX0_readRight_0 rfl 0 rfl ?_
  refine rC_g27 cx dX0_readRight_1 ?_
  refine g_iload_n hx hb dX0_readRight_4 rfl 2 rfl ?_
  refine rC_l27 cx dX0_readRight_5 hf (fun hf => ?_)
  refine g_istore_n hx hb dX0_readRight_6 rfl (by decide) [1, 2, 3, 0] (L' := [(0, _), (1, _), (2, _), (3, _)]) rfl ?_
  exact wX0_readRight_7 cx hf
end
theorem metX0_readRight {l : Launch} {D : va_G} {h : Nat → Nat} {cA : Nat → ClassId} {fl : Nat} {x1 x2 : Int32} {M : MM} {res : Int32 × MM} (hn : njC h) (hf : fX0_readRight fl x1 x2 M = some res) : Met l yX0_readRight (ws_ yX0_readRight cX0_readRight 5 none) ({ frames := 0, cells := 0, slots := 0, locals := 0 }) (pcC D h cA M [.int x1, .int x2]) (qvC D h cA res) 0 0 (aC h) := by
  refine Met.ofW (cc := cX0_readRight) (maxL := 5) (ret := none) (by decide) rfl ?_
  intro p e s m args below meth c s₁ B hml hv
  have hts := atoms_spec (ws := ws_ yX0_readRight cX0_readRight 5 none) B.pre
  have hts : ∀ w ∈ lw_all, w.before _ s = true := fun w h => hts w (List.mem_cons_of_mem _ h)
  obtain ⟨rfl, hP, hK⟩ := hv
  rw [lg_entry_eq]
  exact wX0_readRight_0 (R := { frames := 0, cells := 0, slots := 0, locals := 0 }) ⟨B.exec, B.bytes, hml, findClass_of_methodNamed B.named, hts, hK, fun M => dC_of hn, B.returns, B.notSynchronized, Nat.le_refl _, Nat.le_refl _, hn⟩ hf s.heap [] _ hP va_S.rf (lv_entry ([.ref (h 28), .int x1, .int x2]) (n := 5) (Nat.le_of_ble_eq_true rfl))
set_option maxRecDepth 100000
section
variable {p : Program} {l : Launch} {e : Env} {R : Room} {s : State} {m : MethodId} {args : Array Value} {below : List Frame} {meth : Method} {c : Code} {D : va_G} {h : Nat → Nat} {cA : Nat → ClassId}
theorem wX0_readOperands_107 (cx : cxC p R s m args meth c D h cA cX0_readOperands 7 none 1 24) {res : Int32 × MM} {fl : Nat} {M : MM} (hf : fX0_readOperands_107 fl M = some res) : gCv p l e R s m args below meth c D h cA 7 res M 107 [(0, .ref (h 28))] [] := by
  have hx := cx.1
  have hb := cx.2.1
  unfold fX0_readOperands_107 at hf
  exact gC_vret cx hf dX0_readOperands_107
theorem wX0_readOperands_98 (cx : cxC p R s m args meth c D h cA cX0_readOperands 7 none 1 24) {res : Int32 × MM} {fl : Nat} {x1 x4 : Int32} {M : MM} (hf : fX0_readOperands_98 fl x1 x4 M = some res) : gCv p l e R s m args below meth c D h cA 7 res M 98 [(0, .ref (h 28)), (1, .int x1), (4, .int x4)] [] := by
  have hx := cx.1
  have hb := cx.2.1
  unfold fX0_readOperands_98 at hf
  refine g_aload_n hx hb dX0_readOperands_98 rfl 0 rfl ?_
  refine rC_g27 cx dX0_readOperands_99 ?_
  refine g_iload hx hb dX0_readOperands_102 2 rfl ?_
  refine g_iload_n hx hb dX0_readOperands_104 rfl 1 rfl ?_
  refine g_i2b hx hb dX0_readOperands_105 ?_
  refine rC_s27 cx dX0_readOperands_106 hf (fun hf => ?_)
  refine g_sub [0] (L' := [(0, _)]) rfl ?_
  exact wX0_readOperands_107 cx hf
theorem wX0_readOperands_84 (cx : cxC p R s m args meth c D h cA cX0_readOperands 7 none 1 24) {res : Int32 × MM} {fl : Nat} {x1 x2 x4 : Int32} {M : MM} (hf : fX0_readOperands_84 fl x1 x2 x4 M = some res) : gCv p l e R s m args below meth c D h cA 7 res M 84 [(0, .ref (h 28)), (1, .int x1), (2, .int x2), (4, .int x4)] [] := by
  have hx := cx.1
  have hb := cx.2.1
  unfold fX0_readOperands_84 at hf
  refine g_iload_n hx hb dX0_readOperands_84 rfl 2 rfl ?_
  refine g_iconst hx hb (v := 4) dX0_readOperands_85 (by decide) ?_
  refine g_icmp_gt hx hb dX0_readOperands_86 (tgt := 107) (by decide) hf (fun hf => ?_) (fun hf => ?_)
  · refine g_sub [0] (L' := [(0, _)]) rfl ?_
    exact wX0_readOperands_107 cx hf
  · refine g_aload_n hx hb dX0_readOperands_89 rfl 0 rfl ?_
    refine rC_g22 cx dX0_readOperands_90 ?_
    refine g_iload_n hx hb dX0_readOperands_93 rfl 1 rfl ?_
    refine g_iload hx hb dX0_readOperands_94 3 rfl ?_
    refine g_i2b hx hb dX0_readOperands_96 ?_
    refine rC_s22 cx dX0_readOperands_97 hf (fun hf => ?_)
    refine g_sub [0, 1, 3] (L' := [(0, _), (1, _), (4, _)]) rfl ?_
    exact wX0_readOperands_98 cx hf
theorem wX0_readOperands_34 (cx : cxC p R s m args meth c D h cA cX0_readOperands 7 none 1 24) {res : Int32 × MM} {fl : Nat} {x1 x2 x4 x6 : Int32} {M : MM} (hf : fX0_readOperands_34 fl x1 x2 x4 x6 M = some res) : gCv p l e R s m args below meth c D h cA 7 res M 34 [(0, .ref (h 28)), (1, .int x1), (2, .int x2), (4, .int x4), (6, .int x6)] [] := by
  have hx := cx.1
  have hb := cx.2.1
  unfold fX0_readOperands_34 at hf
  refine g_iload_n hx hb dX0_readOperands_34 rfl 2 rfl ?_
  refine g_iconst hx hb (v := 4) dX0_readOperands_35 (by decide) ?_
  refine g_icmp_eq hx hb dX0_readOperands_36 (tgt := 84) (by decide) hf (fun hf => ?_) (fun hf => ?_)
  · refine g_sub [0, 1, 2, 3] (L' := [(0, _), (1, _), (2, _), (4, _)]) rfl ?_
    exact wX0_readOperands_84 cx hf
  · refine g_aload_n hx hb dX0_readOperands_39 rfl 0 rfl ?_
    refine g_iload_n hx hb dX0_readOperands_40 rfl 1 rfl ?_
    refine g_iload hx hb dX0_readOperands_41 4 rfl ?_
    obtain ⟨q, hq, hf⟩ := ob hf
    refine gC_callv cx (np := 2) (as := [.int x1, .int x6]) (metX0_readRight (l := l) (D := D) (cA := cA) cx.nj hq) (lw_V q180 q182 qs10 q15 q183) rfl rfl ⟨rfl, by decide, by decide, by decide +kernel⟩ ⟨by decide, by decide⟩ rfl (Nat.le_of_ble_eq_true rfl) dX0_readOperands_43 rfl ?_
    refine g_goto hx hb dX0_readOperands_46 (tgt := 84) (by decide) ?_
    refine g_sub [0, 1, 2, 3] (L' := [(0, _), (1, _), (2, _), (4, _)]) rfl ?_
    exact wX0_readOperands_84 cx hf
theorem wX0_readOperands_61 (cx : cxC p R s m args meth c D h cA cX0_readOperands 7 none 1 24) {res : Int32 × MM} {fl : Nat} {x1 x2 x4 x5 : Int32} {M : MM} (hf : fX0_readOperands_61 fl x1 x2 x4 x5 M = some res) : gCv p l e R s m args below meth c D h cA 7 res M 61 [(0, .ref (h 28)), (1, .int x1), (2, .int x2), (4, .int x4), (5, .int x5)] [] := by
  have hx := cx.1
  have hb := cx.2.1
  unfold fX0_readOperands_61 at hf
  refine g_aload_n hx hb dX0_readOperands_61 rfl 0 rfl ?_
  refine g_iload_n hx hb dX0_readOperands_62 rfl 1 rfl ?_
  refine g_iload hx hb dX0_readOperands_63 4 rfl ?_
  obtain ⟨q, hq, hf⟩ := ob hf
  refine gC_callv cx (np := 2) (as := [.int x1, .int x5]) (metX0_readRight (l := l) (D := D) (cA := cA) cx.nj hq) (lw_V q180 q182 qs10 q15 q183) rfl rfl ⟨rfl, by decide, by decide, by decide +kernel⟩ ⟨by decide, by decide⟩ rfl (Nat.le_of_ble_eq_true rfl) dX0_readOperands_65 rfl ?_
  refine g_goto hx hb dX0_readOperands_68 (tgt := 84) (by decide) ?_
  refine g_sub [0, 1, 2, 3] (L' := [(0, _), (1, _), (2, _), (4, _)]) rfl ?_
  exact wX0_readOperands_84 cx hf
theorem wX0_readOperands_49 (cx : cxC p R s m args meth c D h cA cX0_readOperands 7 none 1 24) {res : Int32 × MM} {fl : Nat} {x1 x2 x4 x5 : Int32} {M : MM} (hf : fX0_readOperands_49 fl x1 x2 x4 x5 M = some res) : gCv p l e R s m args below meth c D h cA 7 res M 49 [(0, .ref (h 28)), (1, .int x1), (2, .int x2), (4, .int x4), (5, .int x5)] [] := by
  have hx := cx.1
  have hb := cx.2.1
  unfold fX0_readOperands_49 at hf
  refine g_iload_n hx hb dX0_readOperands_49 rfl 2 rfl ?_
  refine g_iconst hx hb (v := 5) dX0_readOperands_50 (by decide) ?_
  refine g_icmp_ne hx hb dX0_readOperands_51 (tgt := 71) (by decide) hf (fun hf => ?_) (fun hf => ?_)
  · refine g_aload_n hx hb dX0_readOperands_54 rfl 0 rfl ?_
    refine g_iload_n hx hb dX0_readOperands_55 rfl 1 rfl ?_
    refine g_iload hx hb dX0_readOperands_56 3 rfl ?_
    obtain ⟨q, hq, hf⟩ := ob hf
    refine gC_callv cx (np := 2) (as := [.int x1, .int x4]) (metX0_readLeft (l := l) (D := D) (cA := cA) cx.nj hq) (lw_V q176 q178 qs9 q15 q179) rfl rfl ⟨rfl, by decide, by decide, by decide +kernel⟩ ⟨by decide, by decide⟩ rfl (Nat.le_of_ble_eq_true rfl) dX0_readOperands_58 rfl ?_
    exact wX0_readOperands_61 cx hf
  · refine g_iload_n hx hb dX0_readOperands_71 rfl 2 rfl ?_
    refine g_bipush hx hb (v := 6) dX0_readOperands_72 (by decide) ?_
    refine g_icmp_ne hx hb dX0_readOperands_74 (tgt := 84) (by decide) hf (fun hf => ?_) (fun hf => ?_)
    · refine g_aload_n hx hb dX0_readOperands_77 rfl 0 rfl ?_
      refine g_iload_n hx hb dX0_readOperands_78 rfl 1 rfl ?_
      refine g_iload hx hb dX0_readOperands_79 3 rfl ?_
      obtain ⟨q, hq, hf⟩ := ob hf
      refine gC_callv cx (np := 2) (as := [.int x1, .int x4]) (metX0_readLeft (l := l) (D := D) (cA := cA) cx.nj hq) (lw_V q176 q178 qs9 q15 q179) rfl rfl ⟨rfl, by decide, by decide, by decide +kernel⟩ ⟨by decide, by decide⟩ rfl (Nat.le_of_ble_eq_true rfl) dX0_readOperands_81 rfl ?_
      refine g_sub [0, 1, 2, 3] (L' := [(0, _), (1, _), (2, _), (4, _)]) rfl ?_
      exact wX0_readOperands_84 cx hf
    · refine g_sub [0, 1, 2, 3] (L' := [(0, _), (1, _), (2, _), (4, _)]) rfl ?_
      exact wX0_readOperands_84 cx hf
theorem wX0_readOperands_17 (cx : cxC p R s m args meth c D h cA cX0_readOperands 7 none 1 24) {res : Int32 × MM} {fl : Nat} {x1 x2 x4 x5 x6 : Int32} {M : MM} (hf : fX0_readOperands_17 fl x1 x2 x4 x5 x6 M = some res) : gCv p l e R s m args below meth c D h cA 7 res M 17 [(0, .ref (h 28)), (1, .int x1), (2, .int x2), (4, .int x4), (5, .int x5), (6, .int x6)] [] := by
  have hx := cx.1
  have hb := cx.2.1
  unfold fX0_readOperands_17 at hf
  refine g_iload_n hx hb dX0_readOperands_17 rfl 2 rfl ?_
  refine g_iconst hx hb (v := 1) dX0_readOperands_18 (by decide) ?_
  refine g_icmp_lt hx hb dX0_readOperands_19 (tgt := 49) (by decide) hf (fun hf => ?_) (fun hf => ?_)
  · refine g_sub [0, 1, 2, 3, 4] (L' := [(0, _), (1, _), (2, _), (4, _), (5, _)]) rfl ?_
    exact wX0_readOperands_49 cx hf
  · refine g_iload_n hx hb dX0_readOperands_22 rfl 2 rfl ?_
    refine g_iconst hx hb (v := 4) dX0_readOperands_23 (by decide) ?_
    refine g_icmp_gt hx hb dX0_readOperands_24 (tgt := 49) (by decide) hf (fun hf => ?_) (fun hf => ?_)
    · refine g_sub [0, 1, 2, 3, 4] (L' := [(0, _), (1, _), (2, _), (4, _), (5, _)]) rfl ?_
      exact wX0_readOperands_49 cx hf
    · refine g_aload_n hx hb dX0_readOperands_27 rfl 0 rfl ?_
      refine g_iload_n hx hb dX0_readOperands_28 rfl 1 rfl ?_
      refine g_iload hx hb dX0_readOperands_29 4 rfl ?_
      obtain ⟨q, hq, hf⟩ := ob hf
      refine gC_callv cx (np := 2) (as := [.int x1, .int x5]) (metX0_readLeft (l := l) (D := D) (cA := cA) cx.nj hq) (lw_V q176 q178 qs9 q15 q179) rfl rfl ⟨rfl, by decide, by decide, by decide +kernel⟩ ⟨by decide, by decide⟩ rfl (Nat.le_of_ble_eq_true rfl) dX0_readOperands_31 rfl ?_
      refine g_sub [0, 1, 2, 3, 5] (L' := [(0, _), (1, _), (2, _), (4, _), (6, _)]) rfl ?_
      exact wX0_readOperands_34 cx hf
theorem wX0_readOperands_12 (cx : cxC p R s m args meth c D h cA cX0_readOperands 7 none 1 24) {res : Int32 × MM} {fl : Nat} {x1 x2 x3 x4 x5 : Int32} {M : MM} (hf : fX0_readOperands_12 fl x1 x2 x3 x4 x5 M = some res) : gCv p l e R s m args below meth c D h cA 7 res M 12 [(0, .ref (h 28)), (1, .int x1), (2, .int x2), (3, .int x3), (4, .int x4), (5, .int x5)] [] := by
  have hx := cx.1
  have hb := cx.2.1
  unfold fX0_readOperands_12 at hf
  refine g_iload_n hx hb dX0_readOperands_12 rfl 3 rfl ?_
  refine g_iconst hx hb (v := 4) dX0_readOperands_13 (by decide) ?_
  refine g_ishr hx hb dX0_readOperands_14 ?_
  refine g_istore hx hb dX0_readOperands_15 (by decide) [1, 2, 3, 5, 6, 0] (L' := [(0, _), (1, _), (2, _), (4, _), (5, _), (6, _)]) rfl ?_
  exact wX0_readOperands_17 cx hf
theorem wX0_readOperands_5 (cx : cxC p R s m args meth c D h cA cX0_readOperands 7 none 1 24) {res : Int32 × MM} {fl : Nat} {x1 x2 x3 x4 : Int32} {M : MM} (hf : fX0_readOperands_5 fl x1 x2 x3 x4 M = some res) : gCv p l e R s m args below meth c D h cA 7 res M 5 [(0, .ref (h 28)), (1, .int x1), (2, .int x2), (3, .int x3), (4, .int x4)] [] := by
  have hx := cx.1
  have hb := cx.2.1
  unfold fX0_readOperands_5 at hf
  refine g_iload_n hx hb dX0_readOperands_5 rfl 3 rfl ?_
  refine g_iconst hx hb (v := 2) dX0_readOperands_6 (by decide) ?_
  refine g_ishr hx hb dX0_readOperands_7 ?_
  refine g_iconst hx hb (v := 3) dX0_readOperands_8 (by decide) ?_
  refine g_iand hx hb dX0_readOperands_9 ?_
  refine g_istore hx hb dX0_readOperands_10 (by decide) [1, 2, 3, 4, 5, 0] (L' := [(0, _), (1, _), (2, _), (3, _), (4, _), (5, _)]) rfl ?_
  exact wX0_readOperands_12 cx hf
theorem wX0_readOperands_0 (cx : cxC p R s m args meth c D h cA cX0_readOperands 7 none 1 24) {res : Int32 × MM} {fl : Nat} {x1 x2 x3 : Int32} {M : MM} (hf : fX0_readOperands_0 fl x1 x2 x3 M = some res) : gCv p l e R s m args below meth c D h cA 7 res M 0 [(0, .ref (h 28)), (1, .int x1), (2, .int x2), (3, .int x3)] [] := by
  have hx := cx.1
  have hb := cx.2.1
  unfold fX0_readOperands_0 at hf
  refine g_iload_n hx hb dX0_readOperands_0 rfl 3 rfl ?_
  refine g_iconst hx hb (v := 3) dX0_readOperands_1 (by decide) ?_
  refine g_iand hx hb dX0_readOperands_2 ?_
  refine g_istore hx hb dX0_readOperands_3 (by decide) [1, 2, 3, 4, 0] (L' := [(0, _), (1, _), (2, _), (3, _), (4, _)]) rfl ?_
  exact wX0_readOperands_5 cx hf
end
theorem metX0_readOperands {l : Launch} {D : va_G} {h : Nat → Nat} {cA : Nat → ClassId} {fl : Nat} {x1 x2 x3 : Int32} {M : MM} {res : Int32 × MM} (hn : njC h) (hf : fX0_readOperands fl x1 x2 x3 M = some res) : Met l yX0_readOperands (ws_ yX0_readOperands cX0_readOperands 7 none) ({ frames := 1, cells := 0, slots := 0, locals := 24 }) (pcC D h cA M [.int x1, .int x2, .int x3]) (qvC D h cA res) 0 0 (aC h) := by
  refine Met.ofW (cc := cX0_readOperands) (maxL := 7) (ret := none) (by decide) rfl ?_
  intro p e s m args below meth c s₁ B hml hv
  have hts := atoms_spec (ws := ws_ yX0_readOperands cX0_readOperands 7 none) B.pre
  have hts : ∀ w ∈ lw_all, w.before _ s = true := fun w h => hts w (List.mem_cons_of_mem _ h)
  obtain ⟨rfl, hP, hK⟩ := hv
  rw [lg_entry_eq]
  exact wX0_readOperands_0 (R := { frames := 1, cells := 0, slots := 0, locals := 24 }) ⟨B.exec, B.bytes, hml, findClass_of_methodNamed B.named, hts, hK, fun M => dC_of hn, B.returns, B.notSynchronized, Nat.le_refl _, Nat.le_refl _, hn⟩ hf s.heap [] _ hP va_S.rf (lv_entry ([.ref (h 28), .int x1, .int x2, .int x3]) (n := 7) (Nat.le_of_ble_eq_true rfl))
set_option maxRecDepth 100000
section
variable {p : Program} {l : Launch} {e : Env} {R : Room} {s : State} {m : MethodId} {args : Array Value} {below : List Frame} {meth : Method} {c : Code} {D : va_G} {h : Nat → Nat} {cA : Nat → ClassId}
theorem wX0_follow_116 (cx : cxC p R s m args meth c D h cA cX0_follow 6 none 0 0) {res : Int32 × MM} {fl : Nat} {M : MM} (hf : fX0_follow_116 fl M = some res) : gCv p l e R s m args below meth c D h cA 6 res M 116 [(0, .ref (h 28))] [] := by
  have hx := cx.1
  have hb := cx.2.1
  unfold fX0_follow_116 at hf
  exact gC_vret cx hf dX0_follow_116
theorem wX0_follow_110 (cx : cxC p R s m args meth c D h cA cX0_follow 6 none 0 0) {res : Int32 × MM} {fl : Nat} {x4 : Int32} {M : MM} (hf : fX0_follow_110 fl x4 M = some res) : gCv p l e R s m args below meth c D h cA 6 res M 110 [(0, .ref (h 28)), (4, .int x4)] [] := by
  have hx := cx.1
  have hb := cx.2.1
  unfold fX0_follow_110 at hf
  refine g_aload_n hx hb dX0_follow_110 rfl 0 rfl ?_
  refine g_iload hx hb dX0_follow_111 1 rfl ?_
  refine rC_p10 cx dX0_follow_113 ?_
  refine g_sub [0] (L' := [(0, _)]) rfl ?_
  exact wX0_follow_116 cx hf
theorem wX0_follow_76 (cx : cxC p R s m args meth c D h cA cX0_follow 6 none 0 0) {res : Int32 × MM} {fl : Nat} {x1 : Int32} {M : MM} (hf : fX0_follow_76 fl x1 M = some res) : gCv p l e R s m args below meth c D h cA 6 res M 76 [(0, .ref (h 28)), (1, .int x1)] [] := by
  have hx := cx.1
  have hb := cx.2.1
  unfold fX0_follow_76 at hf
  refine g_aload_n hx hb dX0_follow_76 rfl 0 rfl ?_
  refine rC_g21 cx dX0_follow_77 ?_
  refine g_iload_n hx hb dX0_follow_80 rfl 1 rfl ?_
  refine rC_l21 cx dX0_follow_81 hf (fun hf => ?_)
  refine g_istore hx hb dX0_follow_82 (by decide) [1, 0] (L' := [(0, _), (4, _)]) rfl ?_
  refine g_goto hx hb dX0_follow_84 (tgt := 110) (by decide) ?_
  exact wX0_follow_110 cx hf
theorem wX0_follow_75 (cx : cxC p R s m args meth c D h cA cX0_follow 6 none 0 0) {res : Int32 × MM} {fl : Nat} {x1 y0 y1 : Int32} {M : MM} (hf : fX0_follow_75 fl x1 y0 y1 M = some res) : gCv p l e R s m args below meth c D h cA 6 res M 75 [(0, .ref (h 28)), (1, .int x1)] [.int y1, .int y0, .ref (h 21)] := by
  have hx := cx.1
  have hb := cx.2.1
  unfold fX0_follow_75 at hf
  refine rC_s21 cx dX0_follow_75 hf (fun hf => ?_)
  exact wX0_follow_76 cx hf
theorem wX0_follow_59 (cx : cxC p R s m args meth c D h cA cX0_follow 6 none 0 0) {res : Int32 × MM} {fl : Nat} {x1 x3 x4 x5 : Int32} {M : MM} (hf : fX0_follow_59 fl x1 x3 x4 x5 M = some res) : gCv p l e R s m args below meth c D h cA 6 res M 59 [(0, .ref (h 28)), (1, .int x1), (3, .int x3), (4, .int x4), (5, .int x5)] [] := by
  have hx := cx.1
  have hb := cx.2.1
  unfold fX0_follow_59 at hf
  refine g_aload_n hx hb dX0_follow_59 rfl 0 rfl ?_
  refine rC_g21 cx dX0_follow_60 ?_
  refine g_iload_n hx hb dX0_follow_63 rfl 1 rfl ?_
  refine g_iload hx hb dX0_follow_64 4 rfl ?_
  refine g_if_eq hx hb dX0_follow_66 (tgt := 73) (by decide) hf (fun hf => ?_) (fun hf => ?_)
  · refine g_iload hx hb dX0_follow_73 3 rfl ?_
    refine g_sub [0, 1] (L' := [(0, _), (1, _)]) rfl ?_
    exact wX0_follow_75 cx hf
  · refine g_iload_n hx hb dX0_follow_69 rfl 2 rfl ?_
    refine g_goto hx hb dX0_follow_70 (tgt := 75) (by decide) ?_
    refine g_sub [0, 1] (L' := [(0, _), (1, _)]) rfl ?_
    exact wX0_follow_75 cx hf
theorem wX0_follow_57 (cx : cxC p R s m args meth c D h cA cX0_follow 6 none 0 0) {res : Int32 × MM} {fl : Nat} {x1 x3 x4 y0 : Int32} {M : MM} (hf : fX0_follow_57 fl x1 x3 x4 y0 M = some res) : gCv p l e R s m args below meth c D h cA 6 res M 57 [(0, .ref (h 28)), (1, .int x1), (3, .int x3), (4, .int x4)] [.int y0] := by
  have hx := cx.1
  have hb := cx.2.1
  unfold fX0_follow_57 at hf
  refine g_istore hx hb dX0_follow_57 (by decide) [1, 2, 3, 4, 0] (L' := [(0, _), (1, _), (3, _), (4, _), (5, _)]) rfl ?_
  exact wX0_follow_59 cx hf
theorem wX0_follow_27 (cx : cxC p R s m args meth c D h cA cX0_follow 6 none 0 0) {res : Int32 × MM} {fl : Nat} {x1 x2 x3 x4 : Int32} {M : MM} (hf : fX0_follow_27 fl x1 x2 x3 x4 M = some res) : gCv p l e R s m args below meth c D h cA 6 res M 27 [(0, .ref (h 28)), (1, .int x1), (2, .int x2), (3, .int x3), (4, .int x4)] [] := by
  have hx := cx.1
  have hb := cx.2.1
  unfold fX0_follow_27 at hf
  refine g_iload_n hx hb dX0_follow_27 rfl 2 rfl ?_
  refine g_bipush hx hb (v := 6) dX0_follow_28 (by decide) ?_
  refine g_icmp_ne hx hb dX0_follow_30 (tgt := 87) (by decide) hf (fun hf => ?_) (fun hf => ?_)
  · refine g_aload_n hx hb dX0_follow_33 rfl 0 rfl ?_
    refine rC_g9 cx dX0_follow_34 ?_
    refine g_aload_n hx hb dX0_follow_37 rfl 0 rfl ?_
    refine rC_g15 cx dX0_follow_38 ?_
    refine g_iload_n hx hb dX0_follow_41 rfl 1 rfl ?_
    refine rC_l15 cx dX0_follow_42 hf (fun hf => ?_)
    refine g_bipush hx hb (v := 15) dX0_follow_43 (by decide) ?_
    refine g_iand hx hb dX0_follow_45 ?_
    refine g_iushr hx hb dX0_follow_46 ?_
    refine g_iconst hx hb (v := 1) dX0_follow_47 (by decide) ?_
    refine g_iand hx hb dX0_follow_48 ?_
    refine g_if_eq hx hb dX0_follow_49 (tgt := 56) (by decide) hf (fun hf => ?_) (fun hf => ?_)
    · refine g_iconst hx hb (v := 0) dX0_follow_56 (by decide) ?_
      refine g_sub [0, 1, 3, 4] (L' := [(0, _), (1, _), (3, _), (4, _)]) rfl ?_
      exact wX0_follow_57 cx hf
    · refine g_iconst hx hb (v := 1) dX0_follow_52 (by decide) ?_
      refine g_goto hx hb dX0_follow_53 (tgt := 57) (by decide) ?_
      refine g_sub [0, 1, 3, 4] (L' := [(0, _), (1, _), (3, _), (4, _)]) rfl ?_
      exact wX0_follow_57 cx hf
  · refine g_iload_n hx hb dX0_follow_87 rfl 2 rfl ?_
    refine g_bipush hx hb (v := 7) dX0_follow_88 (by decide) ?_
    refine g_icmp_ne hx hb dX0_follow_90 (tgt := 99) (by decide) hf (fun hf => ?_) (fun hf => ?_)
    · refine g_iload_n hx hb dX0_follow_93 rfl 3 rfl ?_
      refine g_istore hx hb dX0_follow_94 (by decide) [1, 0] (L' := [(0, _), (4, _)]) rfl ?_
      refine g_goto hx hb dX0_follow_96 (tgt := 110) (by decide) ?_
      exact wX0_follow_110 cx hf
    · refine g_iload_n hx hb dX0_follow_99 rfl 2 rfl ?_
      refine g_bipush hx hb (v := 8) dX0_follow_100 (by decide) ?_
      refine g_icmp_ne hx hb dX0_follow_102 (tgt := 110) (by decide) hf (fun hf => ?_) (fun hf => ?_)
      · refine g_aload_n hx hb dX0_follow_105 rfl 0 rfl ?_
        refine g_iconst hx hb (v := 0) dX0_follow_106 (by decide) ?_
        refine rC_p11 cx dX0_follow_107 rfl rfl ?_
        refine g_sub [0, 4] (L' := [(0, _), (4, _)]) rfl ?_
        exact wX0_follow_110 cx hf
      · refine g_sub [0, 4] (L' := [(0, _), (4, _)]) rfl ?_
        exact wX0_follow_110 cx hf
theorem wX0_follow_20 (cx : cxC p R s m args meth c D h cA cX0_follow 6 none 0 0) {res : Int32 × MM} {fl : Nat} {x1 x2 x3 x4 : Int32} {M : MM} (hf : fX0_follow_20 fl x1 x2 x3 x4 M = some res) : gCv p l e R s m args below meth c D h cA 6 res M 20 [(0, .ref (h 28)), (1, .int x1), (2, .int x2), (3, .int x3), (4, .int x4)] [] := by
  have hx := cx.1
  have hb := cx.2.1
  unfold fX0_follow_20 at hf
  refine g_aload_n hx hb dX0_follow_20 rfl 0 rfl ?_
  refine rC_g18 cx dX0_follow_21 ?_
  refine g_iload_n hx hb dX0_follow_24 rfl 1 rfl ?_
  refine g_iload_n hx hb dX0_follow_25 rfl 3 rfl ?_
  refine rC_s18 cx dX0_follow_26 hf (fun hf => ?_)
  exact wX0_follow_27 cx hf
theorem wX0_follow_10 (cx : cxC p R s m args meth c D h cA cX0_follow 6 none 0 0) {res : Int32 × MM} {fl : Nat} {x1 x2 x3 x4 : Int32} {M : MM} (hf : fX0_follow_10 fl x1 x2 x3 x4 M = some res) : gCv p l e R s m args below meth c D h cA 6 res M 10 [(0, .ref (h 28)), (1, .int x1), (2, .int x2), (3, .int x3), (4, .int x4)] [] := by
  have hx := cx.1
  have hb := cx.2.1
  unfold fX0_follow_10 at hf
  refine g_iload_n hx hb dX0_follow_10 rfl 2 rfl ?_
  refine g_if_eq hx hb dX0_follow_11 (tgt := 20) (by decide) hf (fun hf => ?_) (fun hf => ?_)
  · exact wX0_follow_20 cx hf
  · refine g_iload_n hx hb dX0_follow_14 rfl 2 rfl ?_
    refine g_bipush hx hb (v := 6) dX0_follow_15 (by decide) ?_
    refine g_icmp_lt hx hb dX0_follow_17 (tgt := 27) (by decide) hf (fun hf => ?_) (fun hf => ?_)
    · exact wX0_follow_27 cx hf
    · exact wX0_follow_20 cx hf
theorem wX0_follow_0 (cx : cxC p R s m args meth c D h cA cX0_follow 6 none 0 0) {res : Int32 × MM} {fl : Nat} {x1 x2 x3 : Int32} {M : MM} (hf : fX0_follow_0 fl x1 x2 x3 M = some res) : gCv p l e R s m args below meth c D h cA 6 res M 0 [(0, .ref (h 28)), (1, .int x1), (2, .int x2), (3, .int x3)] [] := by
  have hx := cx.1
  have hb := cx.2.1
  unfold fX0_follow_0 at hf
  refine g_aload_n hx hb dX0_follow_0 rfl 0 rfl ?_
  refine rC_g15 cx dX0_follow_1 ?_
  refine g_iload_n hx hb dX0_follow_4 rfl 1 rfl ?_
  refine rC_l15 cx dX0_follow_5 hf (fun hf => ?_)
  refine g_iconst hx hb (v := 1) dX0_follow_6 (by decide) ?_
  refine g_iadd hx hb dX0_follow_7 ?_
  refine g_istore hx hb dX0_follow_8 (by decide) [1, 2, 3, 4, 0] (L' := [(0, _), (1, _), (2, _), (3, _), (4, _)]) rfl ?_
  exact wX0_follow_10 cx hf
end
theorem metX0_follow {l : Launch} {D : va_G} {h : Nat → Nat} {cA : Nat → ClassId} {fl : Nat} {x1 x2 x3 : Int32} {M : MM} {res : Int32 × MM} (hn : njC h) (hf : fX0_follow fl x1 x2 x3 M = some res) : Met l yX0_follow (ws_ yX0_follow cX0_follow 6 none) ({ frames := 0, cells := 0, slots := 0, locals := 0 }) (pcC D h cA M [.int x1, .int x2, .int x3]) (qvC D h cA res) 0 0 (aC h) := by
  refine Met.ofW (cc := cX0_follow) (maxL := 6) (ret := none) (by decide) rfl ?_
  intro p e s m args below meth c s₁ B hml hv
  have hts := atoms_spec (ws := ws_ yX0_follow cX0_follow 6 none) B.pre
  have hts : ∀ w ∈ lw_all, w.before _ s = true := fun w h => hts w (List.mem_cons_of_mem _ h)
  obtain ⟨rfl, hP, hK⟩ := hv
  rw [lg_entry_eq]
  exact wX0_follow_0 (R := { frames := 0, cells := 0, slots := 0, locals := 0 }) ⟨B.exec, B.bytes, hml, findClass_of_methodNamed B.named, hts, hK, fun M => dC_of hn, B.returns, B.notSynchronized, Nat.le_refl _, Nat.le_refl _, hn⟩ hf s.heap [] _ hP va_S.rf (lv_entry ([.ref (h 28), .int x1, .int x2, .int x3]) (n := 6) (Nat.le_of_ble_eq_true rfl))
set_option maxRecDepth 100000
section
variable {p : Program} {l : Launch} {e : Env} {R : Room} {s : State} {m : MethodId} {args : Array Value} {below : List Frame} {meth : Method} {c : Code} {D : va_G} {h : Nat → Nat} {cA : Nat → ClassId}
theorem wX0_issue_16 (cx : cxC p R s m args meth c D h cA cX0_issue 4 none 2 50) {res : Int32 × MM} {fl : Nat} {M : MM} (hf : fX0_issue_16 fl M = some res) : gCv p l e R s m args below meth c D h cA 4 res M 16 [(0, .ref (h 28))] [] := by
  have hx := cx.1
  have hb := cx.2.1
  unfold fX0_issue_16 at hf
  exact gC_vret cx hf dX0_issue_16
theorem wX0_issue_171 (cx : cxC p R s m args meth c D h cA cX0_issue 4 none 2 50) {res : Int32 × MM} {fl : Nat} {M : MM} (hf : fX0_issue_171 fl M = some res) : gCv p l e R s m args below meth c D h cA 4 res M 171 [(0, .ref (h 28))] [] := by
  have hx := cx.1
  have hb := cx.2.1
  unfold fX0_issue_171 at hf
  exact gC_vret cx hf dX0_issue_171
theorem wX0_issue_148 (cx : cxC p R s m args meth c D h cA cX0_issue 4 none 2 50) {res : Int32 × MM} {fl : Nat} {x1 x3 : Int32} {M : MM} (hf : fX0_issue_148 fl x1 x3 M = some res) : gCv p l e R s m args below meth c D h cA 4 res M 148 [(0, .ref (h 28)), (1, .int x1), (3, .int x3)] [] := by
  have hx := cx.1
  have hb := cx.2.1
  unfold fX0_issue_148 at hf
  refine g_aload_n hx hb dX0_issue_148 rfl 0 rfl ?_
  refine g_iload_n hx hb dX0_issue_149 rfl 1 rfl ?_
  refine g_iload_n hx hb dX0_issue_150 rfl 2 rfl ?_
  refine g_aload_n hx hb dX0_issue_151 rfl 0 rfl ?_
  refine rC_g2 cx dX0_issue_152 ?_
  refine g_aload_n hx hb dX0_issue_155 rfl 0 rfl ?_
  refine rC_g10 cx dX0_issue_156 ?_
  refine rC_l2 cx dX0_issue_159 hf (fun hf => ?_)
  obtain ⟨q, hq, hf⟩ := ob hf
  refine gC_callv cx (np := 3) (as := [.int x1, .int x3, .int (M 2 (M 10 0).toNatClampNeg)]) (metX0_follow (l := l) (D := D) (cA := cA) cx.nj hq) (lw_V q184 q186 qs11 q15 q187) rfl rfl ⟨rfl, by decide, by decide, by decide +kernel⟩ ⟨by decide, by decide⟩ rfl (Nat.le_of_ble_eq_true rfl) dX0_issue_160 rfl ?_
  refine g_goto hx hb dX0_issue_163 (tgt := 171) (by decide) ?_
  refine g_sub [0] (L' := [(0, _)]) rfl ?_
  exact wX0_issue_171 cx hf
theorem wX0_issue_129 (cx : cxC p R s m args meth c D h cA cX0_issue 4 none 2 50) {res : Int32 × MM} {fl : Nat} {x1 x2 x3 : Int32} {M : MM} (hf : fX0_issue_129 fl x1 x2 x3 M = some res) : gCv p l e R s m args below meth c D h cA 4 res M 129 [(0, .ref (h 28)), (1, .int x1), (2, .int x2), (3, .int x3)] [] := by
  have hx := cx.1
  have hb := cx.2.1
  unfold fX0_issue_129 at hf
  refine g_iload_n hx hb dX0_issue_129 rfl 2 rfl ?_
  refine g_if_eq hx hb dX0_issue_130 (tgt := 166) (by decide) hf (fun hf => ?_) (fun hf => ?_)
  · refine g_aload_n hx hb dX0_issue_166 rfl 0 rfl ?_
    refine g_iconst hx hb (v := 0) dX0_issue_167 (by decide) ?_
    refine rC_p11 cx dX0_issue_168 rfl rfl ?_
    refine g_sub [0] (L' := [(0, _)]) rfl ?_
    exact wX0_issue_171 cx hf
  · refine g_aload_n hx hb dX0_issue_133 rfl 0 rfl ?_
    refine g_iload_n hx hb dX0_issue_134 rfl 1 rfl ?_
    refine g_iload_n hx hb dX0_issue_135 rfl 3 rfl ?_
    refine g_aload_n hx hb dX0_issue_136 rfl 0 rfl ?_
    refine rC_g1 cx dX0_issue_137 ?_
    refine g_aload_n hx hb dX0_issue_140 rfl 0 rfl ?_
    refine rC_g10 cx dX0_issue_141 ?_
    refine rC_l1 cx dX0_issue_144 hf (fun hf => ?_)
    obtain ⟨q, hq, hf⟩ := ob hf
    refine gC_callv cx (np := 3) (as := [.int x1, .int x3, .int (M 1 (M 10 0).toNatClampNeg)]) (metX0_readOperands (l := l) (D := D) (cA := cA) cx.nj hq) (lw_V q172 q174 qs8 q15 q175) rfl rfl ⟨rfl, by decide, by decide, by decide +kernel⟩ ⟨by decide, by decide⟩ rfl (Nat.le_of_ble_eq_true rfl) dX0_issue_145 rfl ?_
    refine g_sub [0, 1, 3] (L' := [(0, _), (1, _), (3, _)]) rfl ?_
    exact wX0_issue_148 cx hf
theorem wX0_issue_119 (cx : cxC p R s m args meth c D h cA cX0_issue 4 none 2 50) {res : Int32 × MM} {fl : Nat} {x1 x2 x3 : Int32} {M : MM} (hf : fX0_issue_119 fl x1 x2 x3 M = some res) : gCv p l e R s m args below meth c D h cA 4 res M 119 [(0, .ref (h 28)), (1, .int x1), (2, .int x2), (3, .int x3)] [] := by
  have hx := cx.1
  have hb := cx.2.1
  unfold fX0_issue_119 at hf
  refine g_aload_n hx hb dX0_issue_119 rfl 0 rfl ?_
  refine g_dup hx hb dX0_issue_120 rfl ?_
  refine rC_g13 cx dX0_issue_121 ?_
  refine g_iconst hx hb (v := 1) dX0_issue_124 (by decide) ?_
  refine g_iadd hx hb dX0_issue_125 ?_
  refine rC_p13 cx dX0_issue_126 ?_
  exact wX0_issue_129 cx hf
theorem wX0_issue_112 (cx : cxC p R s m args meth c D h cA cX0_issue 4 none 2 50) {res : Int32 × MM} {fl : Nat} {x1 x2 x3 : Int32} {M : MM} (hf : fX0_issue_112 fl x1 x2 x3 M = some res) : gCv p l e R s m args below meth c D h cA 4 res M 112 [(0, .ref (h 28)), (1, .int x1), (2, .int x2), (3, .int x3)] [] := by
  have hx := cx.1
  have hb := cx.2.1
  unfold fX0_issue_112 at hf
  refine g_aload_n hx hb dX0_issue_112 rfl 0 rfl ?_
  refine rC_g24 cx dX0_issue_113 ?_
  refine g_iload_n hx hb dX0_issue_116 rfl 1 rfl ?_
  refine g_iconst hx hb (v := (-1)) dX0_issue_117 (by decide) ?_
  refine rC_s24 cx dX0_issue_118 hf (fun hf => ?_)
  exact wX0_issue_119 cx hf
theorem wX0_issue_105 (cx : cxC p R s m args meth c D h cA cX0_issue 4 none 2 50) {res : Int32 × MM} {fl : Nat} {x1 x2 x3 : Int32} {M : MM} (hf : fX0_issue_105 fl x1 x2 x3 M = some res) : gCv p l e R s m args below meth c D h cA 4 res M 105 [(0, .ref (h 28)), (1, .int x1), (2, .int x2), (3, .int x3)] [] := by
  have hx := cx.1
  have hb := cx.2.1
  unfold fX0_issue_105 at hf
  refine g_aload_n hx hb dX0_issue_105 rfl 0 rfl ?_
  refine rC_g23 cx dX0_issue_106 ?_
  refine g_iload_n hx hb dX0_issue_109 rfl 1 rfl ?_
  refine g_iconst hx hb (v := (-1)) dX0_issue_110 (by decide) ?_
  refine rC_s23 cx dX0_issue_111 hf (fun hf => ?_)
  exact wX0_issue_112 cx hf
theorem wX0_issue_98 (cx : cxC p R s m args meth c D h cA cX0_issue 4 none 2 50) {res : Int32 × MM} {fl : Nat} {x1 x2 x3 : Int32} {M : MM} (hf : fX0_issue_98 fl x1 x2 x3 M = some res) : gCv p l e R s m args below meth c D h cA 4 res M 98 [(0, .ref (h 28)), (1, .int x1), (2, .int x2), (3, .int x3)] [] := by
  have hx := cx.1
  have hb := cx.2.1
  unfold fX0_issue_98 at hf
  refine g_aload_n hx hb dX0_issue_98 rfl 0 rfl ?_
  refine rC_g20 cx dX0_issue_99 ?_
  refine g_iload_n hx hb dX0_issue_102 rfl 1 rfl ?_
  refine g_iconst hx hb (v := 0) dX0_issue_103 (by decide) ?_
  refine rC_s20 cx dX0_issue_104 hf (fun hf => ?_)
  exact wX0_issue_105 cx hf
theorem wX0_issue_91 (cx : cxC p R s m args meth c D h cA cX0_issue 4 none 2 50) {res : Int32 × MM} {fl : Nat} {x1 x2 x3 : Int32} {M : MM} (hf : fX0_issue_91 fl x1 x2 x3 M = some res) : gCv p l e R s m args below meth c D h cA 4 res M 91 [(0, .ref (h 28)), (1, .int x1), (2, .int x2), (3, .int x3)] [] := by
  have hx := cx.1
  have hb := cx.2.1
  unfold fX0_issue_91 at hf
  refine g_aload_n hx hb dX0_issue_91 rfl 0 rfl ?_
  refine rC_g16 cx dX0_issue_92 ?_
  refine g_iload_n hx hb dX0_issue_95 rfl 1 rfl ?_
  refine g_iconst hx hb (v := 0) dX0_issue_96 (by decide) ?_
  refine rC_s16 cx dX0_issue_97 hf (fun hf => ?_)
  exact wX0_issue_98 cx hf
theorem wX0_issue_81 (cx : cxC p R s m args meth c D h cA cX0_issue 4 none 2 50) {res : Int32 × MM} {fl : Nat} {x1 x2 x3 : Int32} {M : MM} (hf : fX0_issue_81 fl x1 x2 x3 M = some res) : gCv p l e R s m args below meth c D h cA 4 res M 81 [(0, .ref (h 28)), (1, .int x1), (2, .int x2), (3, .int x3)] [] := by
  have hx := cx.1
  have hb := cx.2.1
  unfold fX0_issue_81 at hf
  refine g_aload_n hx hb dX0_issue_81 rfl 0 rfl ?_
  refine rC_g15 cx dX0_issue_82 ?_
  refine g_iload_n hx hb dX0_issue_85 rfl 1 rfl ?_
  refine g_aload_n hx hb dX0_issue_86 rfl 0 rfl ?_
  refine rC_g10 cx dX0_issue_87 ?_
  refine rC_s15 cx dX0_issue_90 hf (fun hf => ?_)
  exact wX0_issue_91 cx hf
theorem wX0_issue_73 (cx : cxC p R s m args meth c D h cA cX0_issue 4 none 2 50) {res : Int32 × MM} {fl : Nat} {x1 x2 x3 : Int32} {M : MM} (hf : fX0_issue_73 fl x1 x2 x3 M = some res) : gCv p l e R s m args below meth c D h cA 4 res M 73 [(0, .ref (h 28)), (1, .int x1), (2, .int x2), (3, .int x3)] [] := by
  have hx := cx.1
  have hb := cx.2.1
  unfold fX0_issue_73 at hf
  refine g_aload_n hx hb dX0_issue_73 rfl 0 rfl ?_
  refine rC_g14 cx dX0_issue_74 ?_
  refine g_iload_n hx hb dX0_issue_77 rfl 1 rfl ?_
  refine g_iload_n hx hb dX0_issue_78 rfl 3 rfl ?_
  refine g_i2b hx hb dX0_issue_79 ?_
  refine rC_s14 cx dX0_issue_80 hf (fun hf => ?_)
  exact wX0_issue_81 cx hf
theorem wX0_issue_72 (cx : cxC p R s m args meth c D h cA cX0_issue 4 none 2 50) {res : Int32 × MM} {fl : Nat} {x1 x2 y0 : Int32} {M : MM} (hf : fX0_issue_72 fl x1 x2 y0 M = some res) : gCv p l e R s m args below meth c D h cA 4 res M 72 [(0, .ref (h 28)), (1, .int x1), (2, .int x2)] [.int y0] := by
  have hx := cx.1
  have hb := cx.2.1
  unfold fX0_issue_72 at hf
  refine g_istore_n hx hb dX0_issue_72 rfl (by decide) [1, 2, 3, 0] (L' := [(0, _), (1, _), (2, _), (3, _)]) rfl ?_
  exact wX0_issue_73 cx hf
theorem wX0_issue_54 (cx : cxC p R s m args meth c D h cA cX0_issue 4 none 2 50) {res : Int32 × MM} {fl : Nat} {x1 x2 : Int32} {M : MM} (hf : fX0_issue_54 fl x1 x2 M = some res) : gCv p l e R s m args below meth c D h cA 4 res M 54 [(0, .ref (h 28)), (1, .int x1), (2, .int x2)] [] := by
  have hx := cx.1
  have hb := cx.2.1
  unfold fX0_issue_54 at hf
  refine g_iload_n hx hb dX0_issue_54 rfl 2 rfl ?_
  refine g_if_eq hx hb dX0_issue_55 (tgt := 70) (by decide) hf (fun hf => ?_) (fun hf => ?_)
  · refine g_bipush hx hb (v := 9) dX0_issue_70 (by decide) ?_
    exact wX0_issue_72 cx hf
  · refine g_aload_n hx hb dX0_issue_58 rfl 0 rfl ?_
    refine rC_g0 cx dX0_issue_59 ?_
    refine g_aload_n hx hb dX0_issue_62 rfl 0 rfl ?_
    refine rC_g10 cx dX0_issue_63 ?_
    refine rC_l0 cx dX0_issue_66 hf (fun hf => ?_)
    refine g_goto hx hb dX0_issue_67 (tgt := 72) (by decide) ?_
    exact wX0_issue_72 cx hf
theorem wX0_issue_53 (cx : cxC p R s m args meth c D h cA cX0_issue 4 none 2 50) {res : Int32 × MM} {fl : Nat} {x1 y0 : Int32} {M : MM} (hf : fX0_issue_53 fl x1 y0 M = some res) : gCv p l e R s m args below meth c D h cA 4 res M 53 [(0, .ref (h 28)), (1, .int x1)] [.int y0] := by
  have hx := cx.1
  have hb := cx.2.1
  unfold fX0_issue_53 at hf
  refine g_istore_n hx hb dX0_issue_53 rfl (by decide) [1, 2, 0] (L' := [(0, _), (1, _), (2, _)]) rfl ?_
  exact wX0_issue_54 cx hf
theorem wX0_issue_52 (cx : cxC p R s m args meth c D h cA cX0_issue 4 none 2 50) {res : Int32 × MM} {fl : Nat} {x1 : Int32} {M : MM} (hf : fX0_issue_52 fl x1 M = some res) : gCv p l e R s m args below meth c D h cA 4 res M 52 [(0, .ref (h 28)), (1, .int x1)] [] := by
  have hx := cx.1
  have hb := cx.2.1
  unfold fX0_issue_52 at hf
  refine g_iconst hx hb (v := 0) dX0_issue_52 (by decide) ?_
  exact wX0_issue_53 cx hf
theorem wX0_issue_30 (cx : cxC p R s m args meth c D h cA cX0_issue 4 none 2 50) {res : Int32 × MM} {fl : Nat} {x1 : Int32} {M : MM} (hf : fX0_issue_30 fl x1 M = some res) : gCv p l e R s m args below meth c D h cA 4 res M 30 [(0, .ref (h 28)), (1, .int x1)] [] := by
  have hx := cx.1
  have hb := cx.2.1
  unfold fX0_issue_30 at hf
  refine g_aload_n hx hb dX0_issue_30 rfl 0 rfl ?_
  refine rC_g10 cx dX0_issue_31 ?_
  refine g_if_lt hx hb dX0_issue_34 (tgt := 52) (by decide) hf (fun hf => ?_) (fun hf => ?_)
  · exact wX0_issue_52 cx hf
  · refine g_aload_n hx hb dX0_issue_37 rfl 0 rfl ?_
    refine rC_g10 cx dX0_issue_38 ?_
    refine g_aload_n hx hb dX0_issue_41 rfl 0 rfl ?_
    refine rC_g3 cx dX0_issue_42 ?_
    refine g_icmp_ge hx hb dX0_issue_45 (tgt := 52) (by decide) hf (fun hf => ?_) (fun hf => ?_)
    · exact wX0_issue_52 cx hf
    · refine g_iconst hx hb (v := 1) dX0_issue_48 (by decide) ?_
      refine g_goto hx hb dX0_issue_49 (tgt := 53) (by decide) ?_
      exact wX0_issue_53 cx hf
theorem wX0_issue_0 (cx : cxC p R s m args meth c D h cA cX0_issue 4 none 2 50) {res : Int32 × MM} {fl : Nat} {M : MM} (hf : fX0_issue_0 fl M = some res) : gCv p l e R s m args below meth c D h cA 4 res M 0 [(0, .ref (h 28))] [] := by
  have hx := cx.1
  have hb := cx.2.1
  unfold fX0_issue_0 at hf
  refine g_aload_n hx hb dX0_issue_0 rfl 0 rfl ?_
  refine rC_g13 cx dX0_issue_1 ?_
  refine g_bipush hx hb (v := 6) dX0_issue_4 (by decide) ?_
  refine g_icmp_ge hx hb dX0_issue_6 (tgt := 16) (by decide) hf (fun hf => ?_) (fun hf => ?_)
  · exact wX0_issue_16 cx hf
  · refine g_aload_n hx hb dX0_issue_9 rfl 0 rfl ?_
    refine rC_g11 cx dX0_issue_10 ?_
    refine g_if_ne hx hb dX0_issue_13 (tgt := 17) (by decide) hf (fun hf => ?_) (fun hf => ?_)
    · exact wX0_issue_16 cx hf
    · refine g_aload_n hx hb dX0_issue_17 rfl 0 rfl ?_
      refine rC_g12 cx dX0_issue_18 ?_
      refine g_aload_n hx hb dX0_issue_21 rfl 0 rfl ?_
      refine rC_g13 cx dX0_issue_22 ?_
      refine g_iadd hx hb dX0_issue_25 ?_
      refine g_bipush hx hb (v := 6) dX0_issue_26 (by decide) ?_
      refine g_irem hx hb dX0_issue_28 (by decide) ?_
      refine g_istore_n hx hb dX0_issue_29 rfl (by decide) [1, 0] (L' := [(0, _), (1, _)]) rfl ?_
      exact wX0_issue_30 cx hf
end
theorem metX0_issue {l : Launch} {D : va_G} {h : Nat → Nat} {cA : Nat → ClassId} {fl : Nat} {M : MM} {res : Int32 × MM} (hn : njC h) (hf : fX0_issue fl M = some res) : Met l yX0_issue (ws_ yX0_issue cX0_issue 4 none) ({ frames := 2, cells := 0, slots := 0, locals := 50 }) (pcC D h cA M []) (qvC D h cA res) 0 0 (aC h) := by
  refine Met.ofW (cc := cX0_issue) (maxL := 4) (ret := none) (by decide) rfl ?_
  intro p e s m args below meth c s₁ B hml hv
  have hts := atoms_spec (ws := ws_ yX0_issue cX0_issue 4 none) B.pre
  have hts : ∀ w ∈ lw_all, w.before _ s = true := fun w h => hts w (List.mem_cons_of_mem _ h)
  obtain ⟨rfl, hP, hK⟩ := hv
  rw [lg_entry_eq]
  exact wX0_issue_0 (R := { frames := 2, cells := 0, slots := 0, locals := 50 }) ⟨B.exec, B.bytes, hml, findClass_of_methodNamed B.named, hts, hK, fun M => dC_of hn, B.returns, B.notSynchronized, Nat.le_refl _, Nat.le_refl _, hn⟩ hf s.heap [] _ hP va_S.rf (lv_entry ([.ref (h 28)]) (n := 4) (Nat.le_of_ble_eq_true rfl))
end
section
set_option maxRecDepth 100000
section
variable {p : Program} {l : Launch} {e : Env} {R : Room} {s : State} {m : MethodId} {args : Array Value} {below : List Frame} {meth : Method} {c : Code} {D : va_G} {h : Nat → Nat} {cA : Nat → ClassId}
theorem wX0_retire_20 (cx : cxC p R s m args meth c D h cA cX0_retire 3 (some .int) 1 22) {res : Int32 × MM} {fl : Nat} {M : MM} (hf : fX0_retire_20 fl M = some res) : gCi p l e R s m args below meth c D h cA 3 res M 20 [(0, .ref (h 28))] [] := by
  have hx := cx.1
  have hb := cx.2.1
  unfold fX0_retire_20 at hf
  refine g_iconst hx hb (v := 0) dX0_retire_20 (by decide) ?_
  exact gC_iret cx hf dX0_retire_21
theorem wX0_retire_41 (cx : cxC p R s m args meth c D h cA cX0_retire 3 (some .int) 1 22) {res : Int32 × MM} {fl : Nat} {M : MM} (hf : fX0_retire_41 fl M = some res) : gCi p l e R s m args below meth c D h cA 3 res M 41 [(0, .ref (h 28))] [] := by
  have hx := cx.1
  have hb := cx.2.1
  unfold fX0_retire_41 at hf
  refine g_iconst hx hb (v := 0) dX0_retire_41 (by decide) ?_
  exact gC_iret cx hf dX0_retire_42
theorem wX0_retire_168 (cx : cxC p R s m args meth c D h cA cX0_retire 3 (some .int) 1 22) {res : Int32 × MM} {fl : Nat} {M : MM} (hf : fX0_retire_168 fl M = some res) : gCi p l e R s m args below meth c D h cA 3 res M 168 [(0, .ref (h 28))] [] := by
  have hx := cx.1
  have hb := cx.2.1
  unfold fX0_retire_168 at hf
  refine g_iconst hx hb (v := 1) dX0_retire_168 (by decide) ?_
  exact gC_iret cx hf dX0_retire_169
theorem wX0_retire_226 (cx : cxC p R s m args meth c D h cA cX0_retire 3 (some .int) 1 22) {res : Int32 × MM} {fl : Nat} {M : MM} (hf : fX0_retire_226 fl M = some res) : gCi p l e R s m args below meth c D h cA 3 res M 226 [(0, .ref (h 28))] [] := by
  have hx := cx.1
  have hb := cx.2.1
  unfold fX0_retire_226 at hf
  refine g_iconst hx hb (v := 1) dX0_retire_226 (by decide) ?_
  exact gC_iret cx hf dX0_retire_227
theorem wX0_retire_197 (cx : cxC p R s m args meth c D h cA cX0_retire 3 (some .int) 1 22) {res : Int32 × MM} {fl : Nat} {x1 x2 : Int32} {M : MM} (hf : fX0_retire_197 fl x1 x2 M = some res) : gCi p l e R s m args below meth c D h cA 3 res M 197 [(0, .ref (h 28)), (1, .int x1), (2, .int x2)] [] := by
  have hx := cx.1
  have hb := cx.2.1
  unfold fX0_retire_197 at hf
  refine g_iload_n hx hb dX0_retire_197 rfl 2 rfl ?_
  refine g_bipush hx hb (v := 6) dX0_retire_198 (by decide) ?_
  refine g_icmp_ne hx hb dX0_retire_200 (tgt := 226) (by decide) hf (fun hf => ?_) (fun hf => ?_)
  · refine g_aload_n hx hb dX0_retire_203 rfl 0 rfl ?_
    refine rC_g18 cx dX0_retire_204 ?_
    refine g_iload_n hx hb dX0_retire_207 rfl 1 rfl ?_
    refine rC_l18 cx dX0_retire_208 hf (fun hf => ?_)
    refine g_aload_n hx hb dX0_retire_209 rfl 0 rfl ?_
    refine rC_g21 cx dX0_retire_210 ?_
    refine g_iload_n hx hb dX0_retire_213 rfl 1 rfl ?_
    refine rC_l21 cx dX0_retire_214 hf (fun hf => ?_)
    refine g_icmp_eq hx hb dX0_retire_215 (tgt := 226) (by decide) hf (fun hf => ?_) (fun hf => ?_)
    · refine g_sub [0] (L' := [(0, _)]) rfl ?_
      exact wX0_retire_226 cx hf
    · refine g_aload_n hx hb dX0_retire_218 rfl 0 rfl ?_
      refine g_aload_n hx hb dX0_retire_219 rfl 0 rfl ?_
      refine rC_g6 cx dX0_retire_220 ?_
      obtain ⟨q, hq, hf⟩ := ob hf
      refine gC_callv cx (np := 1) (as := [.int (M 6 0)]) (metX0_refetch (l := l) (D := D) (cA := cA) cx.nj hq) (lw_V q137 q139 qs1 q15 q140) rfl rfl ⟨rfl, by decide, by decide, by decide +kernel⟩ ⟨by decide, by decide⟩ rfl (Nat.le_of_ble_eq_true rfl) dX0_retire_223 rfl ?_
      refine g_sub [0] (L' := [(0, _)]) rfl ?_
      exact wX0_retire_226 cx hf
  · refine g_sub [0] (L' := [(0, _)]) rfl ?_
    exact wX0_retire_226 cx hf
theorem wX0_retire_194 (cx : cxC p R s m args meth c D h cA cX0_retire 3 (some .int) 1 22) {res : Int32 × MM} {fl : Nat} {x1 x2 y0 : Int32} {M : MM} (hf : fX0_retire_194 fl x1 x2 y0 M = some res) : gCi p l e R s m args below meth c D h cA 3 res M 194 [(0, .ref (h 28)), (1, .int x1), (2, .int x2)] [.int y0, .ref (h 28)] := by
  have hx := cx.1
  have hb := cx.2.1
  unfold fX0_retire_194 at hf
  refine rC_p6 cx dX0_retire_194 ?_
  exact wX0_retire_197 cx hf
theorem wX0_retire_157 (cx : cxC p R s m args meth c D h cA cX0_retire 3 (some .int) 1 22) {res : Int32 × MM} {fl : Nat} {x1 x2 : Int32} {M : MM} (hf : fX0_retire_157 fl x1 x2 M = some res) : gCi p l e R s m args below meth c D h cA 3 res M 157 [(0, .ref (h 28)), (1, .int x1), (2, .int x2)] [] := by
  have hx := cx.1
  have hb := cx.2.1
  unfold fX0_retire_157 at hf
  refine g_iload_n hx hb dX0_retire_157 rfl 2 rfl ?_
  refine g_bipush hx hb (v := 8) dX0_retire_158 (by decide) ?_
  refine g_icmp_ne hx hb dX0_retire_160 (tgt := 170) (by decide) hf (fun hf => ?_) (fun hf => ?_)
  · refine g_aload_n hx hb dX0_retire_163 rfl 0 rfl ?_
    refine g_iconst hx hb (v := 2) dX0_retire_164 (by decide) ?_
    refine rC_p7 cx dX0_retire_165 ?_
    refine g_sub [0] (L' := [(0, _)]) rfl ?_
    exact wX0_retire_168 cx hf
  · refine g_aload_n hx hb dX0_retire_170 rfl 0 rfl ?_
    refine g_iload_n hx hb dX0_retire_171 rfl 2 rfl ?_
    refine g_bipush hx hb (v := 6) dX0_retire_172 (by decide) ?_
    refine g_icmp_lt hx hb dX0_retire_174 (tgt := 186) (by decide) hf (fun hf => ?_) (fun hf => ?_)
    · refine g_aload_n hx hb dX0_retire_186 rfl 0 rfl ?_
      refine rC_g15 cx dX0_retire_187 ?_
      refine g_iload_n hx hb dX0_retire_190 rfl 1 rfl ?_
      refine rC_l15 cx dX0_retire_191 hf (fun hf => ?_)
      refine g_iconst hx hb (v := 1) dX0_retire_192 (by decide) ?_
      refine g_iadd hx hb dX0_retire_193 ?_
      exact wX0_retire_194 cx hf
    · refine g_aload_n hx hb dX0_retire_177 rfl 0 rfl ?_
      refine rC_g18 cx dX0_retire_178 ?_
      refine g_iload_n hx hb dX0_retire_181 rfl 1 rfl ?_
      refine rC_l18 cx dX0_retire_182 hf (fun hf => ?_)
      refine g_goto hx hb dX0_retire_183 (tgt := 194) (by decide) ?_
      exact wX0_retire_194 cx hf
theorem wX0_retire_105 (cx : cxC p R s m args meth c D h cA cX0_retire 3 (some .int) 1 22) {res : Int32 × MM} {fl : Nat} {x1 x2 : Int32} {M : MM} (hf : fX0_retire_105 fl x1 x2 M = some res) : gCi p l e R s m args below meth c D h cA 3 res M 105 [(0, .ref (h 28)), (1, .int x1), (2, .int x2)] [] := by
  have hx := cx.1
  have hb := cx.2.1
  unfold fX0_retire_105 at hf
  refine g_aload_n hx hb dX0_retire_105 rfl 0 rfl ?_
  refine rC_g27 cx dX0_retire_106 ?_
  refine g_aload_n hx hb dX0_retire_109 rfl 0 rfl ?_
  refine rC_g22 cx dX0_retire_110 ?_
  refine g_iload_n hx hb dX0_retire_113 rfl 1 rfl ?_
  refine rC_l22 cx dX0_retire_114 hf (fun hf => ?_)
  refine rC_l27 cx dX0_retire_115 hf (fun hf => ?_)
  refine g_iload_n hx hb dX0_retire_116 rfl 1 rfl ?_
  refine g_icmp_ne hx hb dX0_retire_117 (tgt := 157) (by decide) hf (fun hf => ?_) (fun hf => ?_)
  · refine g_aload_n hx hb dX0_retire_120 rfl 0 rfl ?_
    refine rC_g27 cx dX0_retire_121 ?_
    refine g_aload_n hx hb dX0_retire_124 rfl 0 rfl ?_
    refine rC_g22 cx dX0_retire_125 ?_
    refine g_iload_n hx hb dX0_retire_128 rfl 1 rfl ?_
    refine rC_l22 cx dX0_retire_129 hf (fun hf => ?_)
    refine g_iconst hx hb (v := (-1)) dX0_retire_130 (by decide) ?_
    refine rC_s27 cx dX0_retire_131 hf (fun hf => ?_)
    refine g_goto hx hb dX0_retire_132 (tgt := 157) (by decide) ?_
    exact wX0_retire_157 cx hf
  · exact wX0_retire_157 cx hf
theorem wX0_retire_83 (cx : cxC p R s m args meth c D h cA cX0_retire 3 (some .int) 1 22) {res : Int32 × MM} {fl : Nat} {x1 x2 : Int32} {M : MM} (hf : fX0_retire_83 fl x1 x2 M = some res) : gCi p l e R s m args below meth c D h cA 3 res M 83 [(0, .ref (h 28)), (1, .int x1), (2, .int x2)] [] := by
  have hx := cx.1
  have hb := cx.2.1
  unfold fX0_retire_83 at hf
  refine g_iload_n hx hb dX0_retire_83 rfl 2 rfl ?_
  refine g_iconst hx hb (v := 4) dX0_retire_84 (by decide) ?_
  refine g_icmp_gt hx hb dX0_retire_85 (tgt := 135) (by decide) hf (fun hf => ?_) (fun hf => ?_)
  · refine g_iload_n hx hb dX0_retire_135 rfl 2 rfl ?_
    refine g_iconst hx hb (v := 5) dX0_retire_136 (by decide) ?_
    refine g_icmp_ne hx hb dX0_retire_137 (tgt := 157) (by decide) hf (fun hf => ?_) (fun hf => ?_)
    · refine g_aload_n hx hb dX0_retire_140 rfl 0 rfl ?_
      refine rC_g5 cx dX0_retire_141 ?_
      refine g_aload_n hx hb dX0_retire_144 rfl 0 rfl ?_
      refine rC_g19 cx dX0_retire_145 ?_
      refine g_iload_n hx hb dX0_retire_148 rfl 1 rfl ?_
      refine rC_l19 cx dX0_retire_149 hf (fun hf => ?_)
      refine g_aload_n hx hb dX0_retire_150 rfl 0 rfl ?_
      refine rC_g25 cx dX0_retire_151 ?_
      refine g_iload_n hx hb dX0_retire_154 rfl 1 rfl ?_
      refine rC_l25 cx dX0_retire_155 hf (fun hf => ?_)
      refine rC_s5 cx dX0_retire_156 hf (fun hf => ?_)
      exact wX0_retire_157 cx hf
    · exact wX0_retire_157 cx hf
  · refine g_aload_n hx hb dX0_retire_88 rfl 0 rfl ?_
    refine rC_g4 cx dX0_retire_89 ?_
    refine g_aload_n hx hb dX0_retire_92 rfl 0 rfl ?_
    refine rC_g22 cx dX0_retire_93 ?_
    refine g_iload_n hx hb dX0_retire_96 rfl 1 rfl ?_
    refine rC_l22 cx dX0_retire_97 hf (fun hf => ?_)
    refine g_aload_n hx hb dX0_retire_98 rfl 0 rfl ?_
    refine rC_g18 cx dX0_retire_99 ?_
    refine g_iload_n hx hb dX0_retire_102 rfl 1 rfl ?_
    refine rC_l18 cx dX0_retire_103 hf (fun hf => ?_)
    refine rC_s4 cx dX0_retire_104 hf (fun hf => ?_)
    exact wX0_retire_105 cx hf
theorem wX0_retire_73 (cx : cxC p R s m args meth c D h cA cX0_retire 3 (some .int) 1 22) {res : Int32 × MM} {fl : Nat} {x1 x2 : Int32} {M : MM} (hf : fX0_retire_73 fl x1 x2 M = some res) : gCi p l e R s m args below meth c D h cA 3 res M 73 [(0, .ref (h 28)), (1, .int x1), (2, .int x2)] [] := by
  have hx := cx.1
  have hb := cx.2.1
  unfold fX0_retire_73 at hf
  refine g_aload_n hx hb dX0_retire_73 rfl 0 rfl ?_
  refine g_dup hx hb dX0_retire_74 rfl ?_
  refine rC_g13 cx dX0_retire_75 ?_
  refine g_iconst hx hb (v := 1) dX0_retire_78 (by decide) ?_
  refine g_isub hx hb dX0_retire_79 ?_
  refine rC_p13 cx dX0_retire_80 ?_
  exact wX0_retire_83 cx hf
theorem wX0_retire_60 (cx : cxC p R s m args meth c D h cA cX0_retire 3 (some .int) 1 22) {res : Int32 × MM} {fl : Nat} {x1 x2 : Int32} {M : MM} (hf : fX0_retire_60 fl x1 x2 M = some res) : gCi p l e R s m args below meth c D h cA 3 res M 60 [(0, .ref (h 28)), (1, .int x1), (2, .int x2)] [] := by
  have hx := cx.1
  have hb := cx.2.1
  unfold fX0_retire_60 at hf
  refine g_aload_n hx hb dX0_retire_60 rfl 0 rfl ?_
  refine g_aload_n hx hb dX0_retire_61 rfl 0 rfl ?_
  refine rC_g12 cx dX0_retire_62 ?_
  refine g_iconst hx hb (v := 1) dX0_retire_65 (by decide) ?_
  refine g_iadd hx hb dX0_retire_66 ?_
  refine g_bipush hx hb (v := 6) dX0_retire_67 (by decide) ?_
  refine g_irem hx hb dX0_retire_69 (by decide) ?_
  refine rC_p12 cx dX0_retire_70 ?_
  exact wX0_retire_73 cx hf
theorem wX0_retire_50 (cx : cxC p R s m args meth c D h cA cX0_retire 3 (some .int) 1 22) {res : Int32 × MM} {fl : Nat} {x1 x2 : Int32} {M : MM} (hf : fX0_retire_50 fl x1 x2 M = some res) : gCi p l e R s m args below meth c D h cA 3 res M 50 [(0, .ref (h 28)), (1, .int x1), (2, .int x2)] [] := by
  have hx := cx.1
  have hb := cx.2.1
  unfold fX0_retire_50 at hf
  refine g_aload_n hx hb dX0_retire_50 rfl 0 rfl ?_
  refine g_dup hx hb dX0_retire_51 rfl ?_
  refine rC_g8 cx dX0_retire_52 ?_
  refine g_iconst hx hb (v := 1) dX0_retire_55 (by decide) ?_
  refine g_iadd hx hb dX0_retire_56 ?_
  refine rC_p8 cx dX0_retire_57 ?_
  exact wX0_retire_60 cx hf
theorem wX0_retire_27 (cx : cxC p R s m args meth c D h cA cX0_retire 3 (some .int) 1 22) {res : Int32 × MM} {fl : Nat} {x1 : Int32} {M : MM} (hf : fX0_retire_27 fl x1 M = some res) : gCi p l e R s m args below meth c D h cA 3 res M 27 [(0, .ref (h 28)), (1, .int x1)] [] := by
  have hx := cx.1
  have hb := cx.2.1
  unfold fX0_retire_27 at hf
  refine g_aload_n hx hb dX0_retire_27 rfl 0 rfl ?_
  refine rC_g20 cx dX0_retire_28 ?_
  refine g_iload_n hx hb dX0_retire_31 rfl 1 rfl ?_
  refine rC_l20 cx dX0_retire_32 hf (fun hf => ?_)
  refine g_if_eq hx hb dX0_retire_33 (tgt := 43) (by decide) hf (fun hf => ?_) (fun hf => ?_)
  · refine g_aload_n hx hb dX0_retire_43 rfl 0 rfl ?_
    refine rC_g14 cx dX0_retire_44 ?_
    refine g_iload_n hx hb dX0_retire_47 rfl 1 rfl ?_
    refine rC_l14 cx dX0_retire_48 hf (fun hf => ?_)
    refine g_istore_n hx hb dX0_retire_49 rfl (by decide) [1, 2, 0] (L' := [(0, _), (1, _), (2, _)]) rfl ?_
    exact wX0_retire_50 cx hf
  · refine g_aload_n hx hb dX0_retire_36 rfl 0 rfl ?_
    refine g_iconst hx hb (v := 3) dX0_retire_37 (by decide) ?_
    refine rC_p7 cx dX0_retire_38 ?_
    refine g_sub [0] (L' := [(0, _)]) rfl ?_
    exact wX0_retire_41 cx hf
theorem wX0_retire_0 (cx : cxC p R s m args meth c D h cA cX0_retire 3 (some .int) 1 22) {res : Int32 × MM} {fl : Nat} {M : MM} (hf : fX0_retire_0 fl M = some res) : gCi p l e R s m args below meth c D h cA 3 res M 0 [(0, .ref (h 28))] [] := by
  have hx := cx.1
  have hb := cx.2.1
  unfold fX0_retire_0 at hf
  refine g_aload_n hx hb dX0_retire_0 rfl 0 rfl ?_
  refine rC_g13 cx dX0_retire_1 ?_
  refine g_if_eq hx hb dX0_retire_4 (tgt := 20) (by decide) hf (fun hf => ?_) (fun hf => ?_)
  · exact wX0_retire_20 cx hf
  · refine g_aload_n hx hb dX0_retire_7 rfl 0 rfl ?_
    refine rC_g16 cx dX0_retire_8 ?_
    refine g_aload_n hx hb dX0_retire_11 rfl 0 rfl ?_
    refine rC_g12 cx dX0_retire_12 ?_
    refine rC_l16 cx dX0_retire_15 hf (fun hf => ?_)
    refine g_iconst hx hb (v := 2) dX0_retire_16 (by decide) ?_
    refine g_icmp_eq hx hb dX0_retire_17 (tgt := 22) (by decide) hf (fun hf => ?_) (fun hf => ?_)
    · refine g_aload_n hx hb dX0_retire_22 rfl 0 rfl ?_
      refine rC_g12 cx dX0_retire_23 ?_
      refine g_istore_n hx hb dX0_retire_26 rfl (by decide) [1, 0] (L' := [(0, _), (1, _)]) rfl ?_
      exact wX0_retire_27 cx hf
    · exact wX0_retire_20 cx hf
end
theorem metX0_retire {l : Launch} {D : va_G} {h : Nat → Nat} {cA : Nat → ClassId} {fl : Nat} {M : MM} {res : Int32 × MM} (hn : njC h) (hf : fX0_retire fl M = some res) : Met l yX0_retire (ws_ yX0_retire cX0_retire 3 (some .int)) ({ frames := 1, cells := 0, slots := 0, locals := 22 }) (pcC D h cA M []) (qiC D h cA res) 0 0 (aC h) := by
  refine Met.ofW (cc := cX0_retire) (maxL := 3) (ret := (some .int)) (by decide) rfl ?_
  intro p e s m args below meth c s₁ B hml hv
  have hts := atoms_spec (ws := ws_ yX0_retire cX0_retire 3 (some .int)) B.pre
  have hts : ∀ w ∈ lw_all, w.before _ s = true := fun w h => hts w (List.mem_cons_of_mem _ h)
  obtain ⟨rfl, hP, hK⟩ := hv
  rw [lg_entry_eq]
  exact wX0_retire_0 (R := { frames := 1, cells := 0, slots := 0, locals := 22 }) ⟨B.exec, B.bytes, hml, findClass_of_methodNamed B.named, hts, hK, fun M => dC_of hn, B.returns, B.notSynchronized, Nat.le_refl _, Nat.le_refl _, hn⟩ hf s.heap [] _ hP va_S.rf (lv_entry ([.ref (h 28)]) (n := 3) (Nat.le_of_ble_eq_true rfl))
set_option maxRecDepth 100000
section
variable {p : Program} {l : Launch} {e : Env} {R : Room} {s : State} {m : MethodId} {args : Array Value} {below : List Frame} {meth : Method} {c : Code} {D : va_G} {h : Nat → Nat} {cA : Nat → ClassId}
theorem wX0_finish_81 (cx : cxC p R s m args meth c D h cA cX0_finish 5 (some .int) 3 73) {res : Int32 × MM} {fl : Nat} {K : Int32 → Int32 → Int32 → MM → Option (Int32 × MM)} (hK : ∀ {x2 x3 x4 : Int32} {M : MM}, K x2 x3 x4 M = some res → gCi p l e R s m args below meth c D h cA 5 res M 28 [(0, .ref (h 28)), (2, .int x2), (3, .int x3), (4, .int x4)] []) {x2 x3 x4 : Int32} {M : MM} (hf : fX0_finish_81 fl K x2 x3 x4 M = some res) : gCi p l e R s m args below meth c D h cA 5 res M 81 [(0, .ref (h 28)), (2, .int x2), (3, .int x3), (4, .int x4)] [] := by
  have hx := cx.1
  have hb := cx.2.1
  unfold fX0_finish_81 at hf
  refine g_iinc hx hb (v := _ + 1) dX0_finish_81 3 rfl rfl (by decide) [1, 2, 3, 0] (L' := [(0, _), (2, _), (3, _), (4, _)]) rfl ?_
  refine g_goto hx hb dX0_finish_84 (tgt := 28) (by decide) ?_
  exact hK hf
theorem wX0_finish_77 (cx : cxC p R s m args meth c D h cA cX0_finish 5 (some .int) 3 73) {res : Int32 × MM} {fl : Nat} {K : Int32 → Int32 → Int32 → MM → Option (Int32 × MM)} (hK : ∀ {x2 x3 x4 : Int32} {M : MM}, K x2 x3 x4 M = some res → gCi p l e R s m args below meth c D h cA 5 res M 28 [(0, .ref (h 28)), (2, .int x2), (3, .int x3), (4, .int x4)] []) {x2 x3 x4 : Int32} {M : MM} (hf : fX0_finish_77 fl K x2 x3 x4 M = some res) : gCi p l e R s m args below meth c D h cA 5 res M 77 [(0, .ref (h 28)), (2, .int x2), (3, .int x3), (4, .int x4)] [] := by
  have hx := cx.1
  have hb := cx.2.1
  unfold fX0_finish_77 at hf
  refine g_aload_n hx hb dX0_finish_77 rfl 0 rfl ?_
  obtain ⟨q, hq, hf⟩ := ob hf
  refine gC_callv cx (np := 0) (as := []) (metX0_issue (l := l) (D := D) (cA := cA) cx.nj hq) (lw_V q168 q170 qs7 q15 q171) rfl rfl ⟨rfl, by decide, by decide, by decide +kernel⟩ ⟨by decide, by decide⟩ rfl (Nat.le_of_ble_eq_true rfl) dX0_finish_78 rfl ?_
  exact wX0_finish_81 cx hK hf
theorem wX0_finish_73 (cx : cxC p R s m args meth c D h cA cX0_finish 5 (some .int) 3 73) {res : Int32 × MM} {fl : Nat} {K : Int32 → Int32 → Int32 → MM → Option (Int32 × MM)} (hK : ∀ {x2 x3 x4 : Int32} {M : MM}, K x2 x3 x4 M = some res → gCi p l e R s m args below meth c D h cA 5 res M 28 [(0, .ref (h 28)), (2, .int x2), (3, .int x3), (4, .int x4)] []) {x2 x3 x4 : Int32} {M : MM} (hf : fX0_finish_73 fl K x2 x3 x4 M = some res) : gCi p l e R s m args below meth c D h cA 5 res M 73 [(0, .ref (h 28)), (2, .int x2), (3, .int x3), (4, .int x4)] [] := by
  have hx := cx.1
  have hb := cx.2.1
  unfold fX0_finish_73 at hf
  refine g_aload_n hx hb dX0_finish_73 rfl 0 rfl ?_
  obtain ⟨q, hq, hf⟩ := ob hf
  refine gC_callv cx (np := 0) (as := []) (metX0_begin (l := l) (D := D) (cA := cA) cx.nj hq) (lw_V q161 q163 qs6 q15 q164) rfl rfl ⟨rfl, by decide, by decide, by decide +kernel⟩ ⟨by decide, by decide⟩ rfl (Nat.le_of_ble_eq_true rfl) dX0_finish_74 rfl ?_
  exact wX0_finish_77 cx hK hf
theorem wX0_finish_56 (cx : cxC p R s m args meth c D h cA cX0_finish 5 (some .int) 3 73) {res : Int32 × MM} {fl : Nat} {K : Int32 → Int32 → Int32 → MM → Option (Int32 × MM)} (hK : ∀ {x2 x3 x4 : Int32} {M : MM}, K x2 x3 x4 M = some res → gCi p l e R s m args below meth c D h cA 5 res M 28 [(0, .ref (h 28)), (2, .int x2), (3, .int x3), (4, .int x4)] []) {x2 x3 x4 : Int32} {M : MM} (hf : fX0_finish_56 fl K x2 x3 x4 M = some res) : gCi p l e R s m args below meth c D h cA 5 res M 56 [(0, .ref (h 28)), (2, .int x2), (3, .int x3), (4, .int x4)] [] := by
  have hx := cx.1
  have hb := cx.2.1
  unfold fX0_finish_56 at hf
  refine g_iload_n hx hb dX0_finish_56 rfl 2 rfl ?_
  refine g_iload_n hx hb dX0_finish_57 rfl 1 rfl ?_
  refine g_icmp_ge hx hb dX0_finish_58 (tgt := 81) (by decide) hf (fun hf => ?_) (fun hf => ?_)
  · exact wX0_finish_81 cx hK hf
  · refine g_aload_n hx hb dX0_finish_61 rfl 0 rfl ?_
    refine rC_g7 cx dX0_finish_62 ?_
    refine g_iconst hx hb (v := 1) dX0_finish_65 (by decide) ?_
    refine g_icmp_ne hx hb dX0_finish_66 (tgt := 81) (by decide) hf (fun hf => ?_) (fun hf => ?_)
    · refine g_aload_n hx hb dX0_finish_69 rfl 0 rfl ?_
      obtain ⟨q, hq, hf⟩ := ob hf
      refine gC_callv cx (np := 0) (as := []) (metX0_complete (l := l) (D := D) (cA := cA) cx.nj hq) (lw_V q149 q151 qs3 q15 q152) rfl rfl ⟨rfl, by decide, by decide, by decide +kernel⟩ ⟨by decide, by decide⟩ rfl (Nat.le_of_ble_eq_true rfl) dX0_finish_70 rfl ?_
      exact wX0_finish_73 cx hK hf
    · exact wX0_finish_81 cx hK hf
theorem wX0_finish_54 (cx : cxC p R s m args meth c D h cA cX0_finish 5 (some .int) 3 73) {res : Int32 × MM} {fl : Nat} {K : Int32 → Int32 → Int32 → MM → Option (Int32 × MM)} (hK : ∀ {x2 x3 x4 : Int32} {M : MM}, K x2 x3 x4 M = some res → gCi p l e R s m args below meth c D h cA 5 res M 28 [(0, .ref (h 28)), (2, .int x2), (3, .int x3), (4, .int x4)] []) {x2 x4 y0 y1 : Int32} {M : MM} (hf : fX0_finish_54 fl K x2 x4 y0 y1 M = some res) : gCi p l e R s m args below meth c D h cA 5 res M 54 [(0, .ref (h 28)), (2, .int x2), (4, .int x4)] [.int y1, .int y0] := by
  have hx := cx.1
  have hb := cx.2.1
  unfold fX0_finish_54 at hf
  refine g_iadd hx hb dX0_finish_54 ?_
  refine g_istore_n hx hb dX0_finish_55 rfl (by decide) [1, 2, 0, 3] (L' := [(0, _), (2, _), (3, _), (4, _)]) rfl ?_
  exact wX0_finish_56 cx hK hf
theorem wX0_finish_87 (cx : cxC p R s m args meth c D h cA cX0_finish 5 (some .int) 3 73) {res : Int32 × MM} {fl : Nat} {x3 : Int32} {M : MM} (hf : fX0_finish_87 fl x3 M = some res) : gCi p l e R s m args below meth c D h cA 5 res M 87 [(0, .ref (h 28)), (3, .int x3)] [] := by
  have hx := cx.1
  have hb := cx.2.1
  unfold fX0_finish_87 at hf
  refine g_iload_n hx hb dX0_finish_87 rfl 1 rfl ?_
  exact gC_iret cx hf dX0_finish_88
theorem wX0_finish_28 (cx : cxC p R s m args meth c D h cA cX0_finish 5 (some .int) 3 73) {res : Int32 × MM} {fl : Nat} : ∀ {n : Nat} {x2 x3 x4 : Int32} {M : MM}, fX0_finish_28 fl n x2 x3 x4 M = some res → gCi p l e R s m args below meth c D h cA 5 res M 28 [(0, .ref (h 28)), (2, .int x2), (3, .int x3), (4, .int x4)] [] := by
  have hx := cx.1
  have hb := cx.2.1
  intro n
  induction n with
  | zero => intro x2 x3 x4 M hf; exact absurd hf (by simp [fX0_finish_28])
  | succ n ih =>
    intro x2 x3 x4 M hf
    unfold fX0_finish_28 at hf
    refine g_iload hx hb dX0_finish_28 3 rfl ?_
    refine g_sipush hx hb (v := 3216) dX0_finish_30 (by decide) ?_
    refine g_icmp_ge hx hb dX0_finish_33 (tgt := 87) (by decide) hf (fun hf => ?_) (fun hf => ?_)
    · refine g_sub [0, 2] (L' := [(0, _), (3, _)]) rfl ?_
      exact wX0_finish_87 cx hf
    · refine g_iload_n hx hb dX0_finish_36 rfl 2 rfl ?_
      refine g_iload_n hx hb dX0_finish_37 rfl 1 rfl ?_
      refine g_icmp_ge hx hb dX0_finish_38 (tgt := 87) (by decide) hf (fun hf => ?_) (fun hf => ?_)
      · refine g_sub [0, 2] (L' := [(0, _), (3, _)]) rfl ?_
        exact wX0_finish_87 cx hf
      · refine g_aload_n hx hb dX0_finish_41 rfl 0 rfl ?_
        refine rC_g7 cx dX0_finish_42 ?_
        refine g_iconst hx hb (v := 1) dX0_finish_45 (by decide) ?_
        refine g_icmp_ne hx hb dX0_finish_46 (tgt := 87) (by decide) hf (fun hf => ?_) (fun hf => ?_)
        · refine g_iload_n hx hb dX0_finish_49 rfl 2 rfl ?_
          refine g_aload_n hx hb dX0_finish_50 rfl 0 rfl ?_
          obtain ⟨q, hq, hf⟩ := ob hf
          refine gC_calli cx (np := 0) (as := []) (metX0_retire (l := l) (D := D) (cA := cA) cx.nj hq) (lw_V q145 q147 qs2 q15 q148) rfl rfl ⟨rfl, by decide, by decide, by decide +kernel⟩ ⟨by decide, by decide⟩ rfl (Nat.le_of_ble_eq_true rfl) dX0_finish_51 rfl ?_
          refine g_sub [0, 1, 3] (L' := [(0, _), (2, _), (4, _)]) rfl ?_
          exact wX0_finish_54 cx ih hf
        · refine g_sub [0, 2] (L' := [(0, _), (3, _)]) rfl ?_
          exact wX0_finish_87 cx hf
theorem wX0_finish_25 (cx : cxC p R s m args meth c D h cA cX0_finish 5 (some .int) 3 73) {res : Int32 × MM} {fl : Nat} {x2 x3 : Int32} {M : MM} (hf : fX0_finish_25 fl x2 x3 M = some res) : gCi p l e R s m args below meth c D h cA 5 res M 25 [(0, .ref (h 28)), (2, .int x2), (3, .int x3)] [] := by
  have hx := cx.1
  have hb := cx.2.1
  unfold fX0_finish_25 at hf
  refine g_iconst hx hb (v := 0) dX0_finish_25 (by decide) ?_
  refine g_istore hx hb dX0_finish_26 (by decide) [1, 2, 3, 0] (L' := [(0, _), (2, _), (3, _), (4, _)]) rfl ?_
  exact wX0_finish_28 cx hf
theorem wX0_finish_23 (cx : cxC p R s m args meth c D h cA cX0_finish 5 (some .int) 3 73) {res : Int32 × MM} {fl : Nat} {x2 : Int32} {M : MM} (hf : fX0_finish_23 fl x2 M = some res) : gCi p l e R s m args below meth c D h cA 5 res M 23 [(0, .ref (h 28)), (2, .int x2)] [] := by
  have hx := cx.1
  have hb := cx.2.1
  unfold fX0_finish_23 at hf
  refine g_iconst hx hb (v := 0) dX0_finish_23 (by decide) ?_
  refine g_istore_n hx hb dX0_finish_24 rfl (by decide) [1, 2, 0] (L' := [(0, _), (2, _), (3, _)]) rfl ?_
  exact wX0_finish_25 cx hf
theorem wX0_finish_22 (cx : cxC p R s m args meth c D h cA cX0_finish 5 (some .int) 3 73) {res : Int32 × MM} {fl : Nat} {y0 : Int32} {M : MM} (hf : fX0_finish_22 fl y0 M = some res) : gCi p l e R s m args below meth c D h cA 5 res M 22 [(0, .ref (h 28))] [.int y0] := by
  have hx := cx.1
  have hb := cx.2.1
  unfold fX0_finish_22 at hf
  refine g_istore_n hx hb dX0_finish_22 rfl (by decide) [1, 0] (L' := [(0, _), (2, _)]) rfl ?_
  exact wX0_finish_23 cx hf
theorem wX0_finish_0 (cx : cxC p R s m args meth c D h cA cX0_finish 5 (some .int) 3 73) {res : Int32 × MM} {fl : Nat} {x1 : Int32} {M : MM} (hf : fX0_finish_0 fl x1 M = some res) : gCi p l e R s m args below meth c D h cA 5 res M 0 [(0, .ref (h 28)), (1, .int x1)] [] := by
  have hx := cx.1
  have hb := cx.2.1
  unfold fX0_finish_0 at hf
  refine g_iload_n hx hb dX0_finish_0 rfl 1 rfl ?_
  refine g_if_ge hx hb dX0_finish_1 (tgt := 8) (by decide) hf (fun hf => ?_) (fun hf => ?_)
  · refine g_iload_n hx hb dX0_finish_8 rfl 1 rfl ?_
    refine g_sipush hx hb (v := 200) dX0_finish_9 (by decide) ?_
    refine g_icmp_le hx hb dX0_finish_12 (tgt := 21) (by decide) hf (fun hf => ?_) (fun hf => ?_)
    · refine g_iload_n hx hb dX0_finish_21 rfl 1 rfl ?_
      refine g_sub [0] (L' := [(0, _)]) rfl ?_
      exact wX0_finish_22 cx hf
    · refine g_sipush hx hb (v := 200) dX0_finish_15 (by decide) ?_
      refine g_goto hx hb dX0_finish_18 (tgt := 22) (by decide) ?_
      refine g_sub [0] (L' := [(0, _)]) rfl ?_
      exact wX0_finish_22 cx hf
  · refine g_iconst hx hb (v := 0) dX0_finish_4 (by decide) ?_
    refine g_goto hx hb dX0_finish_5 (tgt := 22) (by decide) ?_
    refine g_sub [0] (L' := [(0, _)]) rfl ?_
    exact wX0_finish_22 cx hf
end
theorem metX0_finish {l : Launch} {D : va_G} {h : Nat → Nat} {cA : Nat → ClassId} {fl : Nat} {x1 : Int32} {M : MM} {res : Int32 × MM} (hn : njC h) (hf : fX0_finish fl x1 M = some res) : Met l yX0_finish (ws_ yX0_finish cX0_finish 5 (some .int)) ({ frames := 3, cells := 0, slots := 0, locals := 73 }) (pcC D h cA M [.int x1]) (qiC D h cA res) 0 0 (aC h) := by
  refine Met.ofW (cc := cX0_finish) (maxL := 5) (ret := (some .int)) (by decide) rfl ?_
  intro p e s m args below meth c s₁ B hml hv
  have hts := atoms_spec (ws := ws_ yX0_finish cX0_finish 5 (some .int)) B.pre
  have hts : ∀ w ∈ lw_all, w.before _ s = true := fun w h => hts w (List.mem_cons_of_mem _ h)
  obtain ⟨rfl, hP, hK⟩ := hv
  rw [lg_entry_eq]
  exact wX0_finish_0 (R := { frames := 3, cells := 0, slots := 0, locals := 73 }) ⟨B.exec, B.bytes, hml, findClass_of_methodNamed B.named, hts, hK, fun M => dC_of hn, B.returns, B.notSynchronized, Nat.le_refl _, Nat.le_refl _, hn⟩ hf s.heap [] _ hP va_S.rf (lv_entry ([.ref (h 28), .int x1]) (n := 5) (Nat.le_of_ble_eq_true rfl))
end
section
set_option maxRecDepth 100000
section
variable {p : Program} {l : Launch} {e : Env} {R : Room} {s : State} {m : MethodId} {args : Array Value} {below : List Frame} {meth : Method} {c : Code} {D : va_G} {h : Nat → Nat} {cA : Nat → ClassId}
theorem wX1_idle_15 (cx : cxM p R s m args meth c D h cA cX1_idle 1 none 0 0) {res : Int32 × MM} {fl : Nat} {M : MM} (hf : fX1_idle_15 fl M = some res) : gMv p l e R s m args below meth c D h cA 1 res M 15 [(0, .ref (h 9))] [] := by
  have hx := cx.1
  have hb := cx.2.1
  unfold fX1_idle_15 at hf
  exact gM_vret cx hf dX1_idle_15
theorem wX1_idle_10 (cx : cxM p R s m args meth c D h cA cX1_idle 1 none 0 0) {res : Int32 × MM} {fl : Nat} {M : MM} (hf : fX1_idle_10 fl M = some res) : gMv p l e R s m args below meth c D h cA 1 res M 10 [(0, .ref (h 9))] [] := by
  have hx := cx.1
  have hb := cx.2.1
  unfold fX1_idle_10 at hf
  refine g_aload_n hx hb dX1_idle_10 rfl 0 rfl ?_
  refine g_iconst hx hb (v := 0) dX1_idle_11 (by decide) ?_
  refine rM_p8 cx dX1_idle_12 ?_
  exact wX1_idle_15 cx hf
theorem wX1_idle_5 (cx : cxM p R s m args meth c D h cA cX1_idle 1 none 0 0) {res : Int32 × MM} {fl : Nat} {M : MM} (hf : fX1_idle_5 fl M = some res) : gMv p l e R s m args below meth c D h cA 1 res M 5 [(0, .ref (h 9))] [] := by
  have hx := cx.1
  have hb := cx.2.1
  unfold fX1_idle_5 at hf
  refine g_aload_n hx hb dX1_idle_5 rfl 0 rfl ?_
  refine g_iconst hx hb (v := 0) dX1_idle_6 (by decide) ?_
  refine rM_p7 cx dX1_idle_7 ?_
  exact wX1_idle_10 cx hf
theorem wX1_idle_0 (cx : cxM p R s m args meth c D h cA cX1_idle 1 none 0 0) {res : Int32 × MM} {fl : Nat} {M : MM} (hf : fX1_idle_0 fl M = some res) : gMv p l e R s m args below meth c D h cA 1 res M 0 [(0, .ref (h 9))] [] := by
  have hx := cx.1
  have hb := cx.2.1
  unfold fX1_idle_0 at hf
  refine g_aload_n hx hb dX1_idle_0 rfl 0 rfl ?_
  refine g_iconst hx hb (v := 0) dX1_idle_1 (by decide) ?_
  refine rM_p6 cx dX1_idle_2 ?_
  exact wX1_idle_5 cx hf
end
theorem metX1_idle {l : Launch} {D : va_G} {h : Nat → Nat} {cA : Nat → ClassId} {fl : Nat} {M : MM} {res : Int32 × MM} (hn : njM h) (hf : fX1_idle fl M = some res) : Met l yX1_idle (ws_ yX1_idle cX1_idle 1 none) ({ frames := 0, cells := 0, slots := 0, locals := 0 }) (pcM D h cA M []) (qvM D h cA res) 0 0 (aM h) := by
  refine Met.ofW (cc := cX1_idle) (maxL := 1) (ret := none) (by decide) rfl ?_
  intro p e s m args below meth c s₁ B hml hv
  have hts := atoms_spec (ws := ws_ yX1_idle cX1_idle 1 none) B.pre
  have hts : ∀ w ∈ lw_all, w.before _ s = true := fun w h => hts w (List.mem_cons_of_mem _ h)
  obtain ⟨rfl, hP, hK⟩ := hv
  rw [lg_entry_eq]
  exact wX1_idle_0 (R := { frames := 0, cells := 0, slots := 0, locals := 0 }) ⟨B.exec, B.bytes, hml, findClass_of_methodNamed B.named, hts, hK, fun M => dM_of hn, B.returns, B.notSynchronized, Nat.le_refl _, Nat.le_refl _, hn⟩ hf s.heap [] _ hP va_S.rf (lv_entry ([.ref (h 9)]) (n := 1) (Nat.le_of_ble_eq_true rfl))
set_option maxRecDepth 100000
section
variable {p : Program} {l : Launch} {e : Env} {R : Room} {s : State} {m : MethodId} {args : Array Value} {below : List Frame} {meth : Method} {c : Code} {D : va_G} {h : Nat → Nat} {cA : Nat → ClassId}
theorem wX1_emit_20 (cx : cxM p R s m args meth c D h cA cX1_emit 4 (some .int) 1 20) {res : Int32 × MM} {fl : Nat} {M : MM} (hf : fX1_emit_20 fl M = some res) : gMi p l e R s m args below meth c D h cA 4 res M 20 [(0, .ref (h 9))] [] := by
  have hx := cx.1
  have hb := cx.2.1
  unfold fX1_emit_20 at hf
  refine g_iconst hx hb (v := (-1)) dX1_emit_20 (by decide) ?_
  exact gM_iret cx hf dX1_emit_21
theorem wX1_emit_78 (cx : cxM p R s m args meth c D h cA cX1_emit 4 (some .int) 1 20) {res : Int32 × MM} {fl : Nat} {M : MM} (hf : fX1_emit_78 fl M = some res) : gMi p l e R s m args below meth c D h cA 4 res M 78 [(0, .ref (h 9))] [] := by
  have hx := cx.1
  have hb := cx.2.1
  unfold fX1_emit_78 at hf
  refine g_aload_n hx hb dX1_emit_78 rfl 0 rfl ?_
  refine rM_g0 cx dX1_emit_79 ?_
  refine g_iconst hx hb (v := 1) dX1_emit_82 (by decide) ?_
  refine g_isub hx hb dX1_emit_83 ?_
  exact gM_iret cx hf dX1_emit_84
theorem wX1_emit_74 (cx : cxM p R s m args meth c D h cA cX1_emit 4 (some .int) 1 20) {res : Int32 × MM} {fl : Nat} {M : MM} (hf : fX1_emit_74 fl M = some res) : gMi p l e R s m args below meth c D h cA 4 res M 74 [(0, .ref (h 9))] [] := by
  have hx := cx.1
  have hb := cx.2.1
  unfold fX1_emit_74 at hf
  refine g_aload_n hx hb dX1_emit_74 rfl 0 rfl ?_
  obtain ⟨q, hq, hf⟩ := ob hf
  refine gM_callv cx (np := 0) (as := []) (metX1_idle (l := l) (D := D) (cA := cA) cx.nj hq) (lw_V q250 q252 qs12 q16 q253) rfl rfl ⟨rfl, by decide, by decide, by decide +kernel⟩ ⟨by decide, by decide⟩ rfl (Nat.le_of_ble_eq_true rfl) dX1_emit_75 rfl ?_
  exact wX1_emit_78 cx hf
theorem wX1_emit_64 (cx : cxM p R s m args meth c D h cA cX1_emit 4 (some .int) 1 20) {res : Int32 × MM} {fl : Nat} {M : MM} (hf : fX1_emit_64 fl M = some res) : gMi p l e R s m args below meth c D h cA 4 res M 64 [(0, .ref (h 9))] [] := by
  have hx := cx.1
  have hb := cx.2.1
  unfold fX1_emit_64 at hf
  refine g_aload_n hx hb dX1_emit_64 rfl 0 rfl ?_
  refine g_dup hx hb dX1_emit_65 rfl ?_
  refine rM_g0 cx dX1_emit_66 ?_
  refine g_iconst hx hb (v := 1) dX1_emit_69 (by decide) ?_
  refine g_iadd hx hb dX1_emit_70 ?_
  refine rM_p0 cx dX1_emit_71 ?_
  exact wX1_emit_74 cx hf
theorem wX1_emit_54 (cx : cxM p R s m args meth c D h cA cX1_emit 4 (some .int) 1 20) {res : Int32 × MM} {fl : Nat} {x3 : Int32} {M : MM} (hf : fX1_emit_54 fl x3 M = some res) : gMi p l e R s m args below meth c D h cA 4 res M 54 [(0, .ref (h 9)), (3, .int x3)] [] := by
  have hx := cx.1
  have hb := cx.2.1
  unfold fX1_emit_54 at hf
  refine g_aload_n hx hb dX1_emit_54 rfl 0 rfl ?_
  refine rM_g3 cx dX1_emit_55 ?_
  refine g_aload_n hx hb dX1_emit_58 rfl 0 rfl ?_
  refine rM_g0 cx dX1_emit_59 ?_
  refine g_iload_n hx hb dX1_emit_62 rfl 1 rfl ?_
  refine rM_s3 cx dX1_emit_63 hf (fun hf => ?_)
  refine g_sub [0] (L' := [(0, _)]) rfl ?_
  exact wX1_emit_64 cx hf
theorem wX1_emit_44 (cx : cxM p R s m args meth c D h cA cX1_emit 4 (some .int) 1 20) {res : Int32 × MM} {fl : Nat} {x2 x3 : Int32} {M : MM} (hf : fX1_emit_44 fl x2 x3 M = some res) : gMi p l e R s m args below meth c D h cA 4 res M 44 [(0, .ref (h 9)), (2, .int x2), (3, .int x3)] [] := by
  have hx := cx.1
  have hb := cx.2.1
  unfold fX1_emit_44 at hf
  refine g_aload_n hx hb dX1_emit_44 rfl 0 rfl ?_
  refine rM_g2 cx dX1_emit_45 ?_
  refine g_aload_n hx hb dX1_emit_48 rfl 0 rfl ?_
  refine rM_g0 cx dX1_emit_49 ?_
  refine g_iload_n hx hb dX1_emit_52 rfl 1 rfl ?_
  refine rM_s2 cx dX1_emit_53 hf (fun hf => ?_)
  refine g_sub [0, 2] (L' := [(0, _), (3, _)]) rfl ?_
  exact wX1_emit_54 cx hf
theorem wX1_emit_0 (cx : cxM p R s m args meth c D h cA cX1_emit 4 (some .int) 1 20) {res : Int32 × MM} {fl : Nat} {x1 x2 x3 : Int32} {M : MM} (hf : fX1_emit_0 fl x1 x2 x3 M = some res) : gMi p l e R s m args below meth c D h cA 4 res M 0 [(0, .ref (h 9)), (1, .int x1), (2, .int x2), (3, .int x3)] [] := by
  have hx := cx.1
  have hb := cx.2.1
  unfold fX1_emit_0 at hf
  refine g_iload_n hx hb dX1_emit_0 rfl 1 rfl ?_
  refine g_if_lt hx hb dX1_emit_1 (tgt := 20) (by decide) hf (fun hf => ?_) (fun hf => ?_)
  · refine g_sub [0] (L' := [(0, _)]) rfl ?_
    exact wX1_emit_20 cx hf
  · refine g_iload_n hx hb dX1_emit_4 rfl 1 rfl ?_
    refine g_bipush hx hb (v := 8) dX1_emit_5 (by decide) ?_
    refine g_icmp_gt hx hb dX1_emit_7 (tgt := 20) (by decide) hf (fun hf => ?_) (fun hf => ?_)
    · refine g_sub [0] (L' := [(0, _)]) rfl ?_
      exact wX1_emit_20 cx hf
    · refine g_iload_n hx hb dX1_emit_10 rfl 2 rfl ?_
      refine g_if_lt hx hb dX1_emit_11 (tgt := 20) (by decide) hf (fun hf => ?_) (fun hf => ?_)
      · refine g_sub [0] (L' := [(0, _)]) rfl ?_
        exact wX1_emit_20 cx hf
      · refine g_iload_n hx hb dX1_emit_14 rfl 2 rfl ?_
        refine g_bipush hx hb (v := 63) dX1_emit_15 (by decide) ?_
        refine g_icmp_le hx hb dX1_emit_17 (tgt := 22) (by decide) hf (fun hf => ?_) (fun hf => ?_)
        · refine g_aload_n hx hb dX1_emit_22 rfl 0 rfl ?_
          refine rM_g0 cx dX1_emit_23 ?_
          refine g_bipush hx hb (v := 16) dX1_emit_26 (by decide) ?_
          refine g_icmp_lt hx hb dX1_emit_28 (tgt := 34) (by decide) hf (fun hf => ?_) (fun hf => ?_)
          · refine g_aload_n hx hb dX1_emit_34 rfl 0 rfl ?_
            refine rM_g1 cx dX1_emit_35 ?_
            refine g_aload_n hx hb dX1_emit_38 rfl 0 rfl ?_
            refine rM_g0 cx dX1_emit_39 ?_
            refine g_iload_n hx hb dX1_emit_42 rfl 1 rfl ?_
            refine rM_s1 cx dX1_emit_43 hf (fun hf => ?_)
            refine g_sub [0, 2, 3] (L' := [(0, _), (2, _), (3, _)]) rfl ?_
            exact wX1_emit_44 cx hf
          · refine g_bipush hx hb (v := (-2)) dX1_emit_31 (by decide) ?_
            exact gM_iret cx hf dX1_emit_33
        · refine g_sub [0] (L' := [(0, _)]) rfl ?_
          exact wX1_emit_20 cx hf
end
theorem metX1_emit {l : Launch} {D : va_G} {h : Nat → Nat} {cA : Nat → ClassId} {fl : Nat} {x1 x2 x3 : Int32} {M : MM} {res : Int32 × MM} (hn : njM h) (hf : fX1_emit fl x1 x2 x3 M = some res) : Met l yX1_emit (ws_ yX1_emit cX1_emit 4 (some .int)) ({ frames := 1, cells := 0, slots := 0, locals := 20 }) (pcM D h cA M [.int x1, .int x2, .int x3]) (qiM D h cA res) 0 0 (aM h) := by
  refine Met.ofW (cc := cX1_emit) (maxL := 4) (ret := (some .int)) (by decide) rfl ?_
  intro p e s m args below meth c s₁ B hml hv
  have hts := atoms_spec (ws := ws_ yX1_emit cX1_emit 4 (some .int)) B.pre
  have hts : ∀ w ∈ lw_all, w.before _ s = true := fun w h => hts w (List.mem_cons_of_mem _ h)
  obtain ⟨rfl, hP, hK⟩ := hv
  rw [lg_entry_eq]
  exact wX1_emit_0 (R := { frames := 1, cells := 0, slots := 0, locals := 20 }) ⟨B.exec, B.bytes, hml, findClass_of_methodNamed B.named, hts, hK, fun M => dM_of hn, B.returns, B.notSynchronized, Nat.le_refl _, Nat.le_refl _, hn⟩ hf s.heap [] _ hP va_S.rf (lv_entry ([.ref (h 9), .int x1, .int x2, .int x3]) (n := 4) (Nat.le_of_ble_eq_true rfl))
set_option maxRecDepth 100000
section
variable {p : Program} {l : Launch} {e : Env} {R : Room} {s : State} {m : MethodId} {args : Array Value} {below : List Frame} {meth : Method} {c : Code} {D : va_G} {h : Nat → Nat} {cA : Nat → ClassId}
theorem wX1_clear_9 (cx : cxM p R s m args meth c D h cA cX1_clear 1 none 1 20) {res : Int32 × MM} {fl : Nat} {M : MM} (hf : fX1_clear_9 fl M = some res) : gMv p l e R s m args below meth c D h cA 1 res M 9 [(0, .ref (h 9))] [] := by
  have hx := cx.1
  have hb := cx.2.1
  unfold fX1_clear_9 at hf
  exact gM_vret cx hf dX1_clear_9
theorem wX1_clear_5 (cx : cxM p R s m args meth c D h cA cX1_clear 1 none 1 20) {res : Int32 × MM} {fl : Nat} {M : MM} (hf : fX1_clear_5 fl M = some res) : gMv p l e R s m args below meth c D h cA 1 res M 5 [(0, .ref (h 9))] [] := by
  have hx := cx.1
  have hb := cx.2.1
  unfold fX1_clear_5 at hf
  refine g_aload_n hx hb dX1_clear_5 rfl 0 rfl ?_
  obtain ⟨q, hq, hf⟩ := ob hf
  refine gM_callv cx (np := 0) (as := []) (metX1_idle (l := l) (D := D) (cA := cA) cx.nj hq) (lw_V q250 q252 qs12 q16 q253) rfl rfl ⟨rfl, by decide, by decide, by decide +kernel⟩ ⟨by decide, by decide⟩ rfl (Nat.le_of_ble_eq_true rfl) dX1_clear_6 rfl ?_
  exact wX1_clear_9 cx hf
theorem wX1_clear_0 (cx : cxM p R s m args meth c D h cA cX1_clear 1 none 1 20) {res : Int32 × MM} {fl : Nat} {M : MM} (hf : fX1_clear_0 fl M = some res) : gMv p l e R s m args below meth c D h cA 1 res M 0 [(0, .ref (h 9))] [] := by
  have hx := cx.1
  have hb := cx.2.1
  unfold fX1_clear_0 at hf
  refine g_aload_n hx hb dX1_clear_0 rfl 0 rfl ?_
  refine g_iconst hx hb (v := 0) dX1_clear_1 (by decide) ?_
  refine rM_p0 cx dX1_clear_2 ?_
  exact wX1_clear_5 cx hf
end
theorem metX1_clear {l : Launch} {D : va_G} {h : Nat → Nat} {cA : Nat → ClassId} {fl : Nat} {M : MM} {res : Int32 × MM} (hn : njM h) (hf : fX1_clear fl M = some res) : Met l yX1_clear (ws_ yX1_clear cX1_clear 1 none) ({ frames := 1, cells := 0, slots := 0, locals := 20 }) (pcM D h cA M []) (qvM D h cA res) 0 0 (aM h) := by
  refine Met.ofW (cc := cX1_clear) (maxL := 1) (ret := none) (by decide) rfl ?_
  intro p e s m args below meth c s₁ B hml hv
  have hts := atoms_spec (ws := ws_ yX1_clear cX1_clear 1 none) B.pre
  have hts : ∀ w ∈ lw_all, w.before _ s = true := fun w h => hts w (List.mem_cons_of_mem _ h)
  obtain ⟨rfl, hP, hK⟩ := hv
  rw [lg_entry_eq]
  exact wX1_clear_0 (R := { frames := 1, cells := 0, slots := 0, locals := 20 }) ⟨B.exec, B.bytes, hml, findClass_of_methodNamed B.named, hts, hK, fun M => dM_of hn, B.returns, B.notSynchronized, Nat.le_refl _, Nat.le_refl _, hn⟩ hf s.heap [] _ hP va_S.rf (lv_entry ([.ref (h 9)]) (n := 1) (Nat.le_of_ble_eq_true rfl))
set_option maxRecDepth 100000
section
variable {p : Program} {l : Launch} {e : Env} {R : Room} {s : State} {m : MethodId} {args : Array Value} {below : List Frame} {meth : Method} {c : Code} {D : va_G} {h : Nat → Nat} {cA : Nat → ClassId}
theorem wX1_length_0 (cx : cxM p R s m args meth c D h cA cX1_length 1 (some .int) 0 0) {res : Int32 × MM} {fl : Nat} {M : MM} (hf : fX1_length_0 fl M = some res) : gMi p l e R s m args below meth c D h cA 1 res M 0 [(0, .ref (h 9))] [] := by
  have hx := cx.1
  have hb := cx.2.1
  unfold fX1_length_0 at hf
  refine g_aload_n hx hb dX1_length_0 rfl 0 rfl ?_
  refine rM_g0 cx dX1_length_1 ?_
  exact gM_iret cx hf dX1_length_4
end
theorem metX1_length {l : Launch} {D : va_G} {h : Nat → Nat} {cA : Nat → ClassId} {fl : Nat} {M : MM} {res : Int32 × MM} (hn : njM h) (hf : fX1_length fl M = some res) : Met l yX1_length (ws_ yX1_length cX1_length 1 (some .int)) ({ frames := 0, cells := 0, slots := 0, locals := 0 }) (pcM D h cA M []) (qiM D h cA res) 0 0 (aM h) := by
  refine Met.ofW (cc := cX1_length) (maxL := 1) (ret := (some .int)) (by decide) rfl ?_
  intro p e s m args below meth c s₁ B hml hv
  have hts := atoms_spec (ws := ws_ yX1_length cX1_length 1 (some .int)) B.pre
  have hts : ∀ w ∈ lw_all, w.before _ s = true := fun w h => hts w (List.mem_cons_of_mem _ h)
  obtain ⟨rfl, hP, hK⟩ := hv
  rw [lg_entry_eq]
  exact wX1_length_0 (R := { frames := 0, cells := 0, slots := 0, locals := 0 }) ⟨B.exec, B.bytes, hml, findClass_of_methodNamed B.named, hts, hK, fun M => dM_of hn, B.returns, B.notSynchronized, Nat.le_refl _, Nat.le_refl _, hn⟩ hf s.heap [] _ hP va_S.rf (lv_entry ([.ref (h 9)]) (n := 1) (Nat.le_of_ble_eq_true rfl))
set_option maxRecDepth 100000
section
variable {p : Program} {l : Launch} {e : Env} {R : Room} {s : State} {m : MethodId} {args : Array Value} {below : List Frame} {meth : Method} {c : Code} {D : va_G} {h : Nat → Nat} {cA : Nat → ClassId}
theorem wX1_set_29 (cx : cxM p R s m args meth c D h cA cX1_set 3 (some .boolean) 0 0) {res : Int32 × MM} {fl : Nat} {M : MM} (hf : fX1_set_29 fl M = some res) : gMi p l e R s m args below meth c D h cA 3 res M 29 [(0, .ref (h 9))] [] := by
  have hx := cx.1
  have hb := cx.2.1
  unfold fX1_set_29 at hf
  refine g_iconst hx hb (v := 0) dX1_set_29 (by decide) ?_
  exact gM_zret cx rfl hf dX1_set_30
theorem wX1_set_56 (cx : cxM p R s m args meth c D h cA cX1_set 3 (some .boolean) 0 0) {res : Int32 × MM} {fl : Nat} {M : MM} (hf : fX1_set_56 fl M = some res) : gMi p l e R s m args below meth c D h cA 3 res M 56 [(0, .ref (h 9))] [] := by
  have hx := cx.1
  have hb := cx.2.1
  unfold fX1_set_56 at hf
  refine g_iconst hx hb (v := 1) dX1_set_56 (by decide) ?_
  exact gM_zret cx rfl hf dX1_set_57
theorem wX1_set_31 (cx : cxM p R s m args meth c D h cA cX1_set 3 (some .boolean) 0 0) {res : Int32 × MM} {fl : Nat} {x1 x2 : Int32} {M : MM} (hf : fX1_set_31 fl x1 x2 M = some res) : gMi p l e R s m args below meth c D h cA 3 res M 31 [(0, .ref (h 9)), (1, .int x1), (2, .int x2)] [] := by
  have hx := cx.1
  have hb := cx.2.1
  unfold fX1_set_31 at hf
  refine g_iload_n hx hb dX1_set_31 rfl 1 rfl ?_
  refine g_iconst hx hb (v := 3) dX1_set_32 (by decide) ?_
  refine g_icmp_gt hx hb dX1_set_33 (tgt := 46) (by decide) hf (fun hf => ?_) (fun hf => ?_)
  · refine g_aload_n hx hb dX1_set_46 rfl 0 rfl ?_
    refine rM_g5 cx dX1_set_47 ?_
    refine g_iload_n hx hb dX1_set_50 rfl 1 rfl ?_
    refine g_bipush hx hb (v := 8) dX1_set_51 (by decide) ?_
    refine g_isub hx hb dX1_set_53 ?_
    refine g_iload_n hx hb dX1_set_54 rfl 2 rfl ?_
    refine rM_s5 cx dX1_set_55 hf (fun hf => ?_)
    refine g_sub [0] (L' := [(0, _)]) rfl ?_
    exact wX1_set_56 cx hf
  · refine g_aload_n hx hb dX1_set_36 rfl 0 rfl ?_
    refine rM_g4 cx dX1_set_37 ?_
    refine g_iload_n hx hb dX1_set_40 rfl 1 rfl ?_
    refine g_iload_n hx hb dX1_set_41 rfl 2 rfl ?_
    refine rM_s4 cx dX1_set_42 hf (fun hf => ?_)
    refine g_goto hx hb dX1_set_43 (tgt := 56) (by decide) ?_
    refine g_sub [0] (L' := [(0, _)]) rfl ?_
    exact wX1_set_56 cx hf
theorem wX1_set_0 (cx : cxM p R s m args meth c D h cA cX1_set 3 (some .boolean) 0 0) {res : Int32 × MM} {fl : Nat} {x1 x2 : Int32} {M : MM} (hf : fX1_set_0 fl x1 x2 M = some res) : gMi p l e R s m args below meth c D h cA 3 res M 0 [(0, .ref (h 9)), (1, .int x1), (2, .int x2)] [] := by
  have hx := cx.1
  have hb := cx.2.1
  unfold fX1_set_0 at hf
  refine g_aload_n hx hb dX1_set_0 rfl 0 rfl ?_
  refine rM_g6 cx dX1_set_1 ?_
  refine g_iconst hx hb (v := 1) dX1_set_4 (by decide) ?_
  refine g_icmp_eq hx hb dX1_set_5 (tgt := 29) (by decide) hf (fun hf => ?_) (fun hf => ?_)
  · refine g_sub [0] (L' := [(0, _)]) rfl ?_
    exact wX1_set_29 cx hf
  · refine g_iload_n hx hb dX1_set_8 rfl 1 rfl ?_
    refine g_if_lt hx hb dX1_set_9 (tgt := 29) (by decide) hf (fun hf => ?_) (fun hf => ?_)
    · refine g_sub [0] (L' := [(0, _)]) rfl ?_
      exact wX1_set_29 cx hf
    · refine g_iload_n hx hb dX1_set_12 rfl 1 rfl ?_
      refine g_bipush hx hb (v := 15) dX1_set_13 (by decide) ?_
      refine g_icmp_gt hx hb dX1_set_15 (tgt := 29) (by decide) hf (fun hf => ?_) (fun hf => ?_)
      · refine g_sub [0] (L' := [(0, _)]) rfl ?_
        exact wX1_set_29 cx hf
      · refine g_iload_n hx hb dX1_set_18 rfl 1 rfl ?_
        refine g_iconst hx hb (v := 3) dX1_set_19 (by decide) ?_
        refine g_icmp_le hx hb dX1_set_20 (tgt := 31) (by decide) hf (fun hf => ?_) (fun hf => ?_)
        · exact wX1_set_31 cx hf
        · refine g_iload_n hx hb dX1_set_23 rfl 1 rfl ?_
          refine g_bipush hx hb (v := 8) dX1_set_24 (by decide) ?_
          refine g_icmp_ge hx hb dX1_set_26 (tgt := 31) (by decide) hf (fun hf => ?_) (fun hf => ?_)
          · exact wX1_set_31 cx hf
          · refine g_sub [0] (L' := [(0, _)]) rfl ?_
            exact wX1_set_29 cx hf
end
theorem metX1_set {l : Launch} {D : va_G} {h : Nat → Nat} {cA : Nat → ClassId} {fl : Nat} {x1 x2 : Int32} {M : MM} {res : Int32 × MM} (hn : njM h) (hf : fX1_set fl x1 x2 M = some res) : Met l yX1_set (ws_ yX1_set cX1_set 3 (some .boolean)) ({ frames := 0, cells := 0, slots := 0, locals := 0 }) (pcM D h cA M [.int x1, .int x2]) (qiM D h cA res) 0 0 (aM h) := by
  refine Met.ofW (cc := cX1_set) (maxL := 3) (ret := (some .boolean)) (by decide) rfl ?_
  intro p e s m args below meth c s₁ B hml hv
  have hts := atoms_spec (ws := ws_ yX1_set cX1_set 3 (some .boolean)) B.pre
  have hts : ∀ w ∈ lw_all, w.before _ s = true := fun w h => hts w (List.mem_cons_of_mem _ h)
  obtain ⟨rfl, hP, hK⟩ := hv
  rw [lg_entry_eq]
  exact wX1_set_0 (R := { frames := 0, cells := 0, slots := 0, locals := 0 }) ⟨B.exec, B.bytes, hml, findClass_of_methodNamed B.named, hts, hK, fun M => dM_of hn, B.returns, B.notSynchronized, Nat.le_refl _, Nat.le_refl _, hn⟩ hf s.heap [] _ hP va_S.rf (lv_entry ([.ref (h 9), .int x1, .int x2]) (n := 3) (Nat.le_of_ble_eq_true rfl))
set_option maxRecDepth 100000
section
variable {p : Program} {l : Launch} {e : Env} {R : Room} {s : State} {m : MethodId} {args : Array Value} {below : List Frame} {meth : Method} {c : Code} {D : va_G} {h : Nat → Nat} {cA : Nat → ClassId}
theorem wX1_start_15 (cx : cxM p R s m args meth c D h cA cX1_start 2 none 0 0) {res : Int32 × MM} {fl : Nat} {M : MM} (hf : fX1_start_15 fl M = some res) : gMv p l e R s m args below meth c D h cA 2 res M 15 [(0, .ref (h 9))] [] := by
  have hx := cx.1
  have hb := cx.2.1
  unfold fX1_start_15 at hf
  exact gM_vret cx hf dX1_start_15
theorem wX1_start_10 (cx : cxM p R s m args meth c D h cA cX1_start 2 none 0 0) {res : Int32 × MM} {fl : Nat} {M : MM} (hf : fX1_start_10 fl M = some res) : gMv p l e R s m args below meth c D h cA 2 res M 10 [(0, .ref (h 9))] [] := by
  have hx := cx.1
  have hb := cx.2.1
  unfold fX1_start_10 at hf
  refine g_aload_n hx hb dX1_start_10 rfl 0 rfl ?_
  refine g_iconst hx hb (v := 0) dX1_start_11 (by decide) ?_
  refine rM_p8 cx dX1_start_12 ?_
  exact wX1_start_15 cx hf
theorem wX1_start_5 (cx : cxM p R s m args meth c D h cA cX1_start 2 none 0 0) {res : Int32 × MM} {fl : Nat} {M : MM} (hf : fX1_start_5 fl M = some res) : gMv p l e R s m args below meth c D h cA 2 res M 5 [(0, .ref (h 9))] [] := by
  have hx := cx.1
  have hb := cx.2.1
  unfold fX1_start_5 at hf
  refine g_aload_n hx hb dX1_start_5 rfl 0 rfl ?_
  refine g_iconst hx hb (v := 0) dX1_start_6 (by decide) ?_
  refine rM_p7 cx dX1_start_7 ?_
  exact wX1_start_10 cx hf
theorem wX1_start_0 (cx : cxM p R s m args meth c D h cA cX1_start 2 none 0 0) {res : Int32 × MM} {fl : Nat} {x1 : Int32} {M : MM} (hf : fX1_start_0 fl x1 M = some res) : gMv p l e R s m args below meth c D h cA 2 res M 0 [(0, .ref (h 9)), (1, .int x1)] [] := by
  have hx := cx.1
  have hb := cx.2.1
  unfold fX1_start_0 at hf
  refine g_aload_n hx hb dX1_start_0 rfl 0 rfl ?_
  refine g_iconst hx hb (v := 1) dX1_start_1 (by decide) ?_
  refine rM_p6 cx dX1_start_2 ?_
  refine g_sub [0] (L' := [(0, _)]) rfl ?_
  exact wX1_start_5 cx hf
end
theorem metX1_start {l : Launch} {D : va_G} {h : Nat → Nat} {cA : Nat → ClassId} {fl : Nat} {x1 : Int32} {M : MM} {res : Int32 × MM} (hn : njM h) (hf : fX1_start fl x1 M = some res) : Met l yX1_start (ws_ yX1_start cX1_start 2 none) ({ frames := 0, cells := 0, slots := 0, locals := 0 }) (pcM D h cA M [.int x1]) (qvM D h cA res) 0 0 (aM h) := by
  refine Met.ofW (cc := cX1_start) (maxL := 2) (ret := none) (by decide) rfl ?_
  intro p e s m args below meth c s₁ B hml hv
  have hts := atoms_spec (ws := ws_ yX1_start cX1_start 2 none) B.pre
  have hts : ∀ w ∈ lw_all, w.before _ s = true := fun w h => hts w (List.mem_cons_of_mem _ h)
  obtain ⟨rfl, hP, hK⟩ := hv
  rw [lg_entry_eq]
  exact wX1_start_0 (R := { frames := 0, cells := 0, slots := 0, locals := 0 }) ⟨B.exec, B.bytes, hml, findClass_of_methodNamed B.named, hts, hK, fun M => dM_of hn, B.returns, B.notSynchronized, Nat.le_refl _, Nat.le_refl _, hn⟩ hf s.heap [] _ hP va_S.rf (lv_entry ([.ref (h 9), .int x1]) (n := 2) (Nat.le_of_ble_eq_true rfl))
set_option maxRecDepth 100000
section
variable {p : Program} {l : Launch} {e : Env} {R : Room} {s : State} {m : MethodId} {args : Array Value} {below : List Frame} {meth : Method} {c : Code} {D : va_G} {h : Nat → Nat} {cA : Nat → ClassId}
theorem wX1_step_18 (cx : cxM p R s m args meth c D h cA cX1_step 7 (some .boolean) 0 0) {res : Int32 × MM} {fl : Nat} {M : MM} (hf : fX1_step_18 fl M = some res) : gMi p l e R s m args below meth c D h cA 7 res M 18 [(0, .ref (h 9))] [] := by
  have hx := cx.1
  have hb := cx.2.1
  unfold fX1_step_18 at hf
  refine g_iconst hx hb (v := 0) dX1_step_18 (by decide) ?_
  exact gM_zret cx rfl hf dX1_step_19
theorem wX1_step_111 (cx : cxM p R s m args meth c D h cA cX1_step 7 (some .boolean) 0 0) {res : Int32 × MM} {fl : Nat} {M : MM} (hf : fX1_step_111 fl M = some res) : gMi p l e R s m args below meth c D h cA 7 res M 111 [(0, .ref (h 9))] [] := by
  have hx := cx.1
  have hb := cx.2.1
  unfold fX1_step_111 at hf
  refine g_iconst hx hb (v := 0) dX1_step_111 (by decide) ?_
  exact gM_zret cx rfl hf dX1_step_112
theorem wX1_step_359 (cx : cxM p R s m args meth c D h cA cX1_step 7 (some .boolean) 0 0) {res : Int32 × MM} {fl : Nat} {M : MM} (hf : fX1_step_359 fl M = some res) : gMi p l e R s m args below meth c D h cA 7 res M 359 [(0, .ref (h 9))] [] := by
  have hx := cx.1
  have hb := cx.2.1
  unfold fX1_step_359 at hf
  refine g_iconst hx hb (v := 1) dX1_step_359 (by decide) ?_
  exact gM_zret cx rfl hf dX1_step_360
theorem wX1_step_353 (cx : cxM p R s m args meth c D h cA cX1_step 7 (some .boolean) 0 0) {res : Int32 × MM} {fl : Nat} {x5 : Int32} {M : MM} (hf : fX1_step_353 fl x5 M = some res) : gMi p l e R s m args below meth c D h cA 7 res M 353 [(0, .ref (h 9)), (5, .int x5)] [] := by
  have hx := cx.1
  have hb := cx.2.1
  unfold fX1_step_353 at hf
  refine g_aload_n hx hb dX1_step_353 rfl 0 rfl ?_
  refine g_iload hx hb dX1_step_354 1 rfl ?_
  refine rM_p7 cx dX1_step_356 ?_
  refine g_sub [0] (L' := [(0, _)]) rfl ?_
  exact wX1_step_359 cx hf
theorem wX1_step_228 (cx : cxM p R s m args meth c D h cA cX1_step 7 (some .boolean) 0 0) {res : Int32 × MM} {fl : Nat} {x5 y0 y1 : Int32} {M : MM} (hf : fX1_step_228 fl x5 y0 y1 M = some res) : gMi p l e R s m args below meth c D h cA 7 res M 228 [(0, .ref (h 9)), (5, .int x5)] [.int y1, .int y0, .ref (h 4)] := by
  have hx := cx.1
  have hb := cx.2.1
  unfold fX1_step_228 at hf
  refine rM_s4 cx dX1_step_228 hf (fun hf => ?_)
  refine g_goto hx hb dX1_step_229 (tgt := 353) (by decide) ?_
  exact wX1_step_353 cx hf
theorem wX1_step_205 (cx : cxM p R s m args meth c D h cA cX1_step 7 (some .boolean) 0 0) {res : Int32 × MM} {fl : Nat} {x2 x3 x5 x6 : Int32} {M : MM} (hf : fX1_step_205 fl x2 x3 x5 x6 M = some res) : gMi p l e R s m args below meth c D h cA 7 res M 205 [(0, .ref (h 9)), (2, .int x2), (3, .int x3), (5, .int x5), (6, .int x6)] [] := by
  have hx := cx.1
  have hb := cx.2.1
  unfold fX1_step_205 at hf
  refine g_aload_n hx hb dX1_step_205 rfl 0 rfl ?_
  refine rM_g4 cx dX1_step_206 ?_
  refine g_iload_n hx hb dX1_step_209 rfl 1 rfl ?_
  refine g_iload hx hb dX1_step_210 4 rfl ?_
  refine g_if_eq hx hb dX1_step_212 (tgt := 227) (by decide) hf (fun hf => ?_) (fun hf => ?_)
  · refine g_iconst hx hb (v := 0) dX1_step_227 (by decide) ?_
    refine g_sub [0, 3] (L' := [(0, _), (5, _)]) rfl ?_
    exact wX1_step_228 cx hf
  · refine g_aload_n hx hb dX1_step_215 rfl 0 rfl ?_
    refine rM_g4 cx dX1_step_216 ?_
    refine g_iload_n hx hb dX1_step_219 rfl 2 rfl ?_
    refine rM_l4 cx dX1_step_220 hf (fun hf => ?_)
    refine g_iload hx hb dX1_step_221 4 rfl ?_
    refine g_idiv hx hb dX1_step_223 hf (fun hf => ?_)
    refine g_goto hx hb dX1_step_224 (tgt := 228) (by decide) ?_
    refine g_sub [0, 3] (L' := [(0, _), (5, _)]) rfl ?_
    exact wX1_step_228 cx hf
theorem wX1_step_317 (cx : cxM p R s m args meth c D h cA cX1_step 7 (some .boolean) 0 0) {res : Int32 × MM} {fl : Nat} {y0 : Int32} {M : MM} (hf : fX1_step_317 fl y0 M = some res) : gMi p l e R s m args below meth c D h cA 7 res M 317 [(0, .ref (h 9))] [.int y0] := by
  have hx := cx.1
  have hb := cx.2.1
  unfold fX1_step_317 at hf
  refine g_istore hx hb dX1_step_317 (by decide) [1, 0] (L' := [(0, _), (5, _)]) rfl ?_
  refine g_goto hx hb dX1_step_319 (tgt := 353) (by decide) ?_
  exact wX1_step_353 cx hf
theorem wX1_step_347 (cx : cxM p R s m args meth c D h cA cX1_step 7 (some .boolean) 0 0) {res : Int32 × MM} {fl : Nat} {M : MM} (hf : fX1_step_347 fl M = some res) : gMi p l e R s m args below meth c D h cA 7 res M 347 [(0, .ref (h 9))] [] := by
  have hx := cx.1
  have hb := cx.2.1
  unfold fX1_step_347 at hf
  refine g_aload_n hx hb dX1_step_347 rfl 0 rfl ?_
  refine rM_g7 cx dX1_step_348 ?_
  refine g_istore hx hb dX1_step_351 (by decide) [1, 0] (L' := [(0, _), (5, _)]) rfl ?_
  exact wX1_step_353 cx hf
theorem wX1_step_113 (cx : cxM p R s m args meth c D h cA cX1_step 7 (some .boolean) 0 0) {res : Int32 × MM} {fl : Nat} {x1 x2 x3 x4 x5 : Int32} {M : MM} (hf : fX1_step_113 fl x1 x2 x3 x4 x5 M = some res) : gMi p l e R s m args below meth c D h cA 7 res M 113 [(0, .ref (h 9)), (1, .int x1), (2, .int x2), (3, .int x3), (4, .int x4), (5, .int x5)] [] := by
  have hx := cx.1
  have hb := cx.2.1
  unfold fX1_step_113 at hf
  refine g_iload_n hx hb dX1_step_113 rfl 1 rfl ?_
  refine g_if_ne hx hb dX1_step_114 (tgt := 135) (by decide) hf (fun hf => ?_) (fun hf => ?_)
  · refine g_aload_n hx hb dX1_step_117 rfl 0 rfl ?_
    refine rM_g4 cx dX1_step_118 ?_
    refine g_iload_n hx hb dX1_step_121 rfl 2 rfl ?_
    refine g_aload_n hx hb dX1_step_122 rfl 0 rfl ?_
    refine rM_g3 cx dX1_step_123 ?_
    refine g_aload_n hx hb dX1_step_126 rfl 0 rfl ?_
    refine rM_g7 cx dX1_step_127 ?_
    refine rM_l3 cx dX1_step_130 hf (fun hf => ?_)
    refine rM_s4 cx dX1_step_131 hf (fun hf => ?_)
    refine g_goto hx hb dX1_step_132 (tgt := 353) (by decide) ?_
    refine g_sub [0, 5] (L' := [(0, _), (5, _)]) rfl ?_
    exact wX1_step_353 cx hf
  · refine g_iload_n hx hb dX1_step_135 rfl 1 rfl ?_
    refine g_iconst hx hb (v := 1) dX1_step_136 (by decide) ?_
    refine g_icmp_ne hx hb dX1_step_137 (tgt := 163) (by decide) hf (fun hf => ?_) (fun hf => ?_)
    · refine g_aload_n hx hb dX1_step_140 rfl 0 rfl ?_
      refine rM_g4 cx dX1_step_141 ?_
      refine g_iload_n hx hb dX1_step_144 rfl 2 rfl ?_
      refine g_aload_n hx hb dX1_step_145 rfl 0 rfl ?_
      refine rM_g4 cx dX1_step_146 ?_
      refine g_iload_n hx hb dX1_step_149 rfl 3 rfl ?_
      refine rM_l4 cx dX1_step_150 hf (fun hf => ?_)
      refine g_aload_n hx hb dX1_step_151 rfl 0 rfl ?_
      refine rM_g4 cx dX1_step_152 ?_
      refine g_iload hx hb dX1_step_155 4 rfl ?_
      refine rM_l4 cx dX1_step_157 hf (fun hf => ?_)
      refine g_iadd hx hb dX1_step_158 ?_
      refine rM_s4 cx dX1_step_159 hf (fun hf => ?_)
      refine g_goto hx hb dX1_step_160 (tgt := 353) (by decide) ?_
      refine g_sub [0, 5] (L' := [(0, _), (5, _)]) rfl ?_
      exact wX1_step_353 cx hf
    · refine g_iload_n hx hb dX1_step_163 rfl 1 rfl ?_
      refine g_iconst hx hb (v := 2) dX1_step_164 (by decide) ?_
      refine g_icmp_ne hx hb dX1_step_165 (tgt := 191) (by decide) hf (fun hf => ?_) (fun hf => ?_)
      · refine g_aload_n hx hb dX1_step_168 rfl 0 rfl ?_
        refine rM_g4 cx dX1_step_169 ?_
        refine g_iload_n hx hb dX1_step_172 rfl 2 rfl ?_
        refine g_aload_n hx hb dX1_step_173 rfl 0 rfl ?_
        refine rM_g4 cx dX1_step_174 ?_
        refine g_iload_n hx hb dX1_step_177 rfl 3 rfl ?_
        refine rM_l4 cx dX1_step_178 hf (fun hf => ?_)
        refine g_aload_n hx hb dX1_step_179 rfl 0 rfl ?_
        refine rM_g4 cx dX1_step_180 ?_
        refine g_iload hx hb dX1_step_183 4 rfl ?_
        refine rM_l4 cx dX1_step_185 hf (fun hf => ?_)
        refine g_imul hx hb dX1_step_186 ?_
        refine rM_s4 cx dX1_step_187 hf (fun hf => ?_)
        refine g_goto hx hb dX1_step_188 (tgt := 353) (by decide) ?_
        refine g_sub [0, 5] (L' := [(0, _), (5, _)]) rfl ?_
        exact wX1_step_353 cx hf
      · refine g_iload_n hx hb dX1_step_191 rfl 1 rfl ?_
        refine g_iconst hx hb (v := 3) dX1_step_192 (by decide) ?_
        refine g_icmp_ne hx hb dX1_step_193 (tgt := 232) (by decide) hf (fun hf => ?_) (fun hf => ?_)
        · refine g_aload_n hx hb dX1_step_196 rfl 0 rfl ?_
          refine rM_g4 cx dX1_step_197 ?_
          refine g_iload hx hb dX1_step_200 4 rfl ?_
          refine rM_l4 cx dX1_step_202 hf (fun hf => ?_)
          refine g_istore hx hb dX1_step_203 (by decide) [1, 3, 4, 6, 0] (L' := [(0, _), (2, _), (3, _), (5, _), (6, _)]) rfl ?_
          exact wX1_step_205 cx hf
        · refine g_iload_n hx hb dX1_step_232 rfl 1 rfl ?_
          refine g_iconst hx hb (v := 4) dX1_step_233 (by decide) ?_
          refine g_icmp_ne hx hb dX1_step_234 (tgt := 260) (by decide) hf (fun hf => ?_) (fun hf => ?_)
          · refine g_aload_n hx hb dX1_step_237 rfl 0 rfl ?_
            refine rM_g4 cx dX1_step_238 ?_
            refine g_iload_n hx hb dX1_step_241 rfl 2 rfl ?_
            refine g_aload_n hx hb dX1_step_242 rfl 0 rfl ?_
            refine rM_g5 cx dX1_step_243 ?_
            refine g_aload_n hx hb dX1_step_246 rfl 0 rfl ?_
            refine rM_g4 cx dX1_step_247 ?_
            refine g_iload_n hx hb dX1_step_250 rfl 3 rfl ?_
            refine rM_l4 cx dX1_step_251 hf (fun hf => ?_)
            refine g_bipush hx hb (v := 7) dX1_step_252 (by decide) ?_
            refine g_iand hx hb dX1_step_254 ?_
            refine rM_l5 cx dX1_step_255 hf (fun hf => ?_)
            refine rM_s4 cx dX1_step_256 hf (fun hf => ?_)
            refine g_goto hx hb dX1_step_257 (tgt := 353) (by decide) ?_
            refine g_sub [0, 5] (L' := [(0, _), (5, _)]) rfl ?_
            exact wX1_step_353 cx hf
          · refine g_iload_n hx hb dX1_step_260 rfl 1 rfl ?_
            refine g_iconst hx hb (v := 5) dX1_step_261 (by decide) ?_
            refine g_icmp_ne hx hb dX1_step_262 (tgt := 288) (by decide) hf (fun hf => ?_) (fun hf => ?_)
            · refine g_aload_n hx hb dX1_step_265 rfl 0 rfl ?_
              refine rM_g5 cx dX1_step_266 ?_
              refine g_aload_n hx hb dX1_step_269 rfl 0 rfl ?_
              refine rM_g4 cx dX1_step_270 ?_
              refine g_iload_n hx hb dX1_step_273 rfl 3 rfl ?_
              refine rM_l4 cx dX1_step_274 hf (fun hf => ?_)
              refine g_bipush hx hb (v := 7) dX1_step_275 (by decide) ?_
              refine g_iand hx hb dX1_step_277 ?_
              refine g_aload_n hx hb dX1_step_278 rfl 0 rfl ?_
              refine rM_g4 cx dX1_step_279 ?_
              refine g_iload_n hx hb dX1_step_282 rfl 2 rfl ?_
              refine rM_l4 cx dX1_step_283 hf (fun hf => ?_)
              refine rM_s5 cx dX1_step_284 hf (fun hf => ?_)
              refine g_goto hx hb dX1_step_285 (tgt := 353) (by decide) ?_
              refine g_sub [0, 5] (L' := [(0, _), (5, _)]) rfl ?_
              exact wX1_step_353 cx hf
            · refine g_iload_n hx hb dX1_step_288 rfl 1 rfl ?_
              refine g_bipush hx hb (v := 6) dX1_step_289 (by decide) ?_
              refine g_icmp_ne hx hb dX1_step_291 (tgt := 322) (by decide) hf (fun hf => ?_) (fun hf => ?_)
              · refine g_aload_n hx hb dX1_step_294 rfl 0 rfl ?_
                refine rM_g4 cx dX1_step_295 ?_
                refine g_iload_n hx hb dX1_step_298 rfl 2 rfl ?_
                refine rM_l4 cx dX1_step_299 hf (fun hf => ?_)
                refine g_if_ne hx hb dX1_step_300 (tgt := 315) (by decide) hf (fun hf => ?_) (fun hf => ?_)
                · refine g_aload_n hx hb dX1_step_303 rfl 0 rfl ?_
                  refine rM_g3 cx dX1_step_304 ?_
                  refine g_aload_n hx hb dX1_step_307 rfl 0 rfl ?_
                  refine rM_g7 cx dX1_step_308 ?_
                  refine rM_l3 cx dX1_step_311 hf (fun hf => ?_)
                  refine g_goto hx hb dX1_step_312 (tgt := 317) (by decide) ?_
                  refine g_sub [0] (L' := [(0, _)]) rfl ?_
                  exact wX1_step_317 cx hf
                · refine g_iload hx hb dX1_step_315 5 rfl ?_
                  refine g_sub [0] (L' := [(0, _)]) rfl ?_
                  exact wX1_step_317 cx hf
              · refine g_iload_n hx hb dX1_step_322 rfl 1 rfl ?_
                refine g_bipush hx hb (v := 7) dX1_step_323 (by decide) ?_
                refine g_icmp_ne hx hb dX1_step_325 (tgt := 342) (by decide) hf (fun hf => ?_) (fun hf => ?_)
                · refine g_aload_n hx hb dX1_step_328 rfl 0 rfl ?_
                  refine rM_g3 cx dX1_step_329 ?_
                  refine g_aload_n hx hb dX1_step_332 rfl 0 rfl ?_
                  refine rM_g7 cx dX1_step_333 ?_
                  refine rM_l3 cx dX1_step_336 hf (fun hf => ?_)
                  refine g_istore hx hb dX1_step_337 (by decide) [1, 0] (L' := [(0, _), (5, _)]) rfl ?_
                  refine g_goto hx hb dX1_step_339 (tgt := 353) (by decide) ?_
                  exact wX1_step_353 cx hf
                · refine g_aload_n hx hb dX1_step_342 rfl 0 rfl ?_
                  refine g_iconst hx hb (v := 2) dX1_step_343 (by decide) ?_
                  refine rM_p6 cx dX1_step_344 ?_
                  refine g_sub [0] (L' := [(0, _)]) rfl ?_
                  exact wX1_step_347 cx hf
theorem wX1_step_96 (cx : cxM p R s m args meth c D h cA cX1_step 7 (some .boolean) 0 0) {res : Int32 × MM} {fl : Nat} {x1 x2 x3 x4 x5 : Int32} {M : MM} (hf : fX1_step_96 fl x1 x2 x3 x4 x5 M = some res) : gMi p l e R s m args below meth c D h cA 7 res M 96 [(0, .ref (h 9)), (1, .int x1), (2, .int x2), (3, .int x3), (4, .int x4), (5, .int x5)] [] := by
  have hx := cx.1
  have hb := cx.2.1
  unfold fX1_step_96 at hf
  refine g_iload_n hx hb dX1_step_96 rfl 1 rfl ?_
  refine g_iconst hx hb (v := 3) dX1_step_97 (by decide) ?_
  refine g_icmp_ne hx hb dX1_step_98 (tgt := 113) (by decide) hf (fun hf => ?_) (fun hf => ?_)
  · refine g_aload_n hx hb dX1_step_101 rfl 0 rfl ?_
    refine rM_g4 cx dX1_step_102 ?_
    refine g_iload hx hb dX1_step_105 4 rfl ?_
    refine rM_l4 cx dX1_step_107 hf (fun hf => ?_)
    refine g_if_ne hx hb dX1_step_108 (tgt := 113) (by decide) hf (fun hf => ?_) (fun hf => ?_)
    · refine g_sub [0] (L' := [(0, _)]) rfl ?_
      exact wX1_step_111 cx hf
    · exact wX1_step_113 cx hf
  · exact wX1_step_113 cx hf
theorem wX1_step_87 (cx : cxM p R s m args meth c D h cA cX1_step 7 (some .boolean) 0 0) {res : Int32 × MM} {fl : Nat} {x1 x2 x3 x4 x5 : Int32} {M : MM} (hf : fX1_step_87 fl x1 x2 x3 x4 x5 M = some res) : gMi p l e R s m args below meth c D h cA 7 res M 87 [(0, .ref (h 9)), (1, .int x1), (2, .int x2), (3, .int x3), (4, .int x4), (5, .int x5)] [] := by
  have hx := cx.1
  have hb := cx.2.1
  unfold fX1_step_87 at hf
  refine g_aload_n hx hb dX1_step_87 rfl 0 rfl ?_
  refine rM_g4 cx dX1_step_88 ?_
  refine g_iload_n hx hb dX1_step_91 rfl 3 rfl ?_
  refine rM_l4 cx dX1_step_92 hf (fun hf => ?_)
  refine g_if_lt hx hb dX1_step_93 (tgt := 111) (by decide) hf (fun hf => ?_) (fun hf => ?_)
  · refine g_sub [0] (L' := [(0, _)]) rfl ?_
    exact wX1_step_111 cx hf
  · exact wX1_step_96 cx hf
theorem wX1_step_77 (cx : cxM p R s m args meth c D h cA cX1_step 7 (some .boolean) 0 0) {res : Int32 × MM} {fl : Nat} {x1 x2 x3 x4 x5 : Int32} {M : MM} (hf : fX1_step_77 fl x1 x2 x3 x4 x5 M = some res) : gMi p l e R s m args below meth c D h cA 7 res M 77 [(0, .ref (h 9)), (1, .int x1), (2, .int x2), (3, .int x3), (4, .int x4), (5, .int x5)] [] := by
  have hx := cx.1
  have hb := cx.2.1
  unfold fX1_step_77 at hf
  refine g_iload_n hx hb dX1_step_77 rfl 1 rfl ?_
  refine g_iconst hx hb (v := 4) dX1_step_78 (by decide) ?_
  refine g_icmp_eq hx hb dX1_step_79 (tgt := 87) (by decide) hf (fun hf => ?_) (fun hf => ?_)
  · exact wX1_step_87 cx hf
  · refine g_iload_n hx hb dX1_step_82 rfl 1 rfl ?_
    refine g_iconst hx hb (v := 5) dX1_step_83 (by decide) ?_
    refine g_icmp_ne hx hb dX1_step_84 (tgt := 96) (by decide) hf (fun hf => ?_) (fun hf => ?_)
    · exact wX1_step_87 cx hf
    · exact wX1_step_96 cx hf
theorem wX1_step_69 (cx : cxM p R s m args meth c D h cA cX1_step 7 (some .boolean) 0 0) {res : Int32 × MM} {fl : Nat} {x1 x2 x3 x4 : Int32} {M : MM} (hf : fX1_step_69 fl x1 x2 x3 x4 M = some res) : gMi p l e R s m args below meth c D h cA 7 res M 69 [(0, .ref (h 9)), (1, .int x1), (2, .int x2), (3, .int x3), (4, .int x4)] [] := by
  have hx := cx.1
  have hb := cx.2.1
  unfold fX1_step_69 at hf
  refine g_aload_n hx hb dX1_step_69 rfl 0 rfl ?_
  refine rM_g7 cx dX1_step_70 ?_
  refine g_iconst hx hb (v := 1) dX1_step_73 (by decide) ?_
  refine g_iadd hx hb dX1_step_74 ?_
  refine g_istore hx hb dX1_step_75 (by decide) [1, 2, 3, 4, 5, 0] (L' := [(0, _), (1, _), (2, _), (3, _), (4, _), (5, _)]) rfl ?_
  exact wX1_step_77 cx hf
theorem wX1_step_56 (cx : cxM p R s m args meth c D h cA cX1_step 7 (some .boolean) 0 0) {res : Int32 × MM} {fl : Nat} {x1 x2 x3 : Int32} {M : MM} (hf : fX1_step_56 fl x1 x2 x3 M = some res) : gMi p l e R s m args below meth c D h cA 7 res M 56 [(0, .ref (h 9)), (1, .int x1), (2, .int x2), (3, .int x3)] [] := by
  have hx := cx.1
  have hb := cx.2.1
  unfold fX1_step_56 at hf
  refine g_aload_n hx hb dX1_step_56 rfl 0 rfl ?_
  refine rM_g2 cx dX1_step_57 ?_
  refine g_aload_n hx hb dX1_step_60 rfl 0 rfl ?_
  refine rM_g7 cx dX1_step_61 ?_
  refine rM_l2 cx dX1_step_64 hf (fun hf => ?_)
  refine g_iconst hx hb (v := 4) dX1_step_65 (by decide) ?_
  refine g_ishr hx hb dX1_step_66 ?_
  refine g_istore hx hb dX1_step_67 (by decide) [1, 2, 3, 4, 0] (L' := [(0, _), (1, _), (2, _), (3, _), (4, _)]) rfl ?_
  exact wX1_step_69 cx hf
theorem wX1_step_42 (cx : cxM p R s m args meth c D h cA cX1_step 7 (some .boolean) 0 0) {res : Int32 × MM} {fl : Nat} {x1 x2 : Int32} {M : MM} (hf : fX1_step_42 fl x1 x2 M = some res) : gMi p l e R s m args below meth c D h cA 7 res M 42 [(0, .ref (h 9)), (1, .int x1), (2, .int x2)] [] := by
  have hx := cx.1
  have hb := cx.2.1
  unfold fX1_step_42 at hf
  refine g_aload_n hx hb dX1_step_42 rfl 0 rfl ?_
  refine rM_g2 cx dX1_step_43 ?_
  refine g_aload_n hx hb dX1_step_46 rfl 0 rfl ?_
  refine rM_g7 cx dX1_step_47 ?_
  refine rM_l2 cx dX1_step_50 hf (fun hf => ?_)
  refine g_iconst hx hb (v := 2) dX1_step_51 (by decide) ?_
  refine g_ishr hx hb dX1_step_52 ?_
  refine g_iconst hx hb (v := 3) dX1_step_53 (by decide) ?_
  refine g_iand hx hb dX1_step_54 ?_
  refine g_istore_n hx hb dX1_step_55 rfl (by decide) [1, 2, 3, 0] (L' := [(0, _), (1, _), (2, _), (3, _)]) rfl ?_
  exact wX1_step_56 cx hf
theorem wX1_step_30 (cx : cxM p R s m args meth c D h cA cX1_step 7 (some .boolean) 0 0) {res : Int32 × MM} {fl : Nat} {x1 : Int32} {M : MM} (hf : fX1_step_30 fl x1 M = some res) : gMi p l e R s m args below meth c D h cA 7 res M 30 [(0, .ref (h 9)), (1, .int x1)] [] := by
  have hx := cx.1
  have hb := cx.2.1
  unfold fX1_step_30 at hf
  refine g_aload_n hx hb dX1_step_30 rfl 0 rfl ?_
  refine rM_g2 cx dX1_step_31 ?_
  refine g_aload_n hx hb dX1_step_34 rfl 0 rfl ?_
  refine rM_g7 cx dX1_step_35 ?_
  refine rM_l2 cx dX1_step_38 hf (fun hf => ?_)
  refine g_iconst hx hb (v := 3) dX1_step_39 (by decide) ?_
  refine g_iand hx hb dX1_step_40 ?_
  refine g_istore_n hx hb dX1_step_41 rfl (by decide) [1, 2, 0] (L' := [(0, _), (1, _), (2, _)]) rfl ?_
  exact wX1_step_42 cx hf
theorem wX1_step_0 (cx : cxM p R s m args meth c D h cA cX1_step 7 (some .boolean) 0 0) {res : Int32 × MM} {fl : Nat} {M : MM} (hf : fX1_step_0 fl M = some res) : gMi p l e R s m args below meth c D h cA 7 res M 0 [(0, .ref (h 9))] [] := by
  have hx := cx.1
  have hb := cx.2.1
  unfold fX1_step_0 at hf
  refine g_aload_n hx hb dX1_step_0 rfl 0 rfl ?_
  refine rM_g7 cx dX1_step_1 ?_
  refine g_if_lt hx hb dX1_step_4 (tgt := 18) (by decide) hf (fun hf => ?_) (fun hf => ?_)
  · exact wX1_step_18 cx hf
  · refine g_aload_n hx hb dX1_step_7 rfl 0 rfl ?_
    refine rM_g7 cx dX1_step_8 ?_
    refine g_aload_n hx hb dX1_step_11 rfl 0 rfl ?_
    refine rM_g0 cx dX1_step_12 ?_
    refine g_icmp_lt hx hb dX1_step_15 (tgt := 20) (by decide) hf (fun hf => ?_) (fun hf => ?_)
    · refine g_aload_n hx hb dX1_step_20 rfl 0 rfl ?_
      refine rM_g1 cx dX1_step_21 ?_
      refine g_aload_n hx hb dX1_step_24 rfl 0 rfl ?_
      refine rM_g7 cx dX1_step_25 ?_
      refine rM_l1 cx dX1_step_28 hf (fun hf => ?_)
      refine g_istore_n hx hb dX1_step_29 rfl (by decide) [1, 0] (L' := [(0, _), (1, _)]) rfl ?_
      exact wX1_step_30 cx hf
    · exact wX1_step_18 cx hf
end
theorem metX1_step {l : Launch} {D : va_G} {h : Nat → Nat} {cA : Nat → ClassId} {fl : Nat} {M : MM} {res : Int32 × MM} (hn : njM h) (hf : fX1_step fl M = some res) : Met l yX1_step (ws_ yX1_step cX1_step 7 (some .boolean)) ({ frames := 0, cells := 0, slots := 0, locals := 0 }) (pcM D h cA M []) (qiM D h cA res) 0 0 (aM h) := by
  refine Met.ofW (cc := cX1_step) (maxL := 7) (ret := (some .boolean)) (by decide) rfl ?_
  intro p e s m args below meth c s₁ B hml hv
  have hts := atoms_spec (ws := ws_ yX1_step cX1_step 7 (some .boolean)) B.pre
  have hts : ∀ w ∈ lw_all, w.before _ s = true := fun w h => hts w (List.mem_cons_of_mem _ h)
  obtain ⟨rfl, hP, hK⟩ := hv
  rw [lg_entry_eq]
  exact wX1_step_0 (R := { frames := 0, cells := 0, slots := 0, locals := 0 }) ⟨B.exec, B.bytes, hml, findClass_of_methodNamed B.named, hts, hK, fun M => dM_of hn, B.returns, B.notSynchronized, Nat.le_refl _, Nat.le_refl _, hn⟩ hf s.heap [] _ hP va_S.rf (lv_entry ([.ref (h 9)]) (n := 7) (Nat.le_of_ble_eq_true rfl))
set_option maxRecDepth 100000
section
variable {p : Program} {l : Launch} {e : Env} {R : Room} {s : State} {m : MethodId} {args : Array Value} {below : List Frame} {meth : Method} {c : Code} {D : va_G} {h : Nat → Nat} {cA : Nat → ClassId}
theorem wX1_finish_34 (cx : cxM p R s m args meth c D h cA cX1_finish 4 (some .int) 1 26) {res : Int32 × MM} {fl : Nat} {K : Int32 → Int32 → MM → Option (Int32 × MM)} (hK : ∀ {x2 x3 : Int32} {M : MM}, K x2 x3 M = some res → gMi p l e R s m args below meth c D h cA 4 res M 17 [(0, .ref (h 9)), (2, .int x2), (3, .int x3)] []) {x2 x3 y0 : Int32} {M : MM} (hf : fX1_finish_34 fl K x2 x3 y0 M = some res) : gMi p l e R s m args below meth c D h cA 4 res M 34 [(0, .ref (h 9)), (2, .int x2), (3, .int x3)] [.int y0] := by
  have hx := cx.1
  have hb := cx.2.1
  unfold fX1_finish_34 at hf
  refine g_if_eq hx hb dX1_finish_34 (tgt := 43) (by decide) hf (fun hf => ?_) (fun hf => ?_)
  · refine g_aload_n hx hb dX1_finish_43 rfl 0 rfl ?_
    refine g_iconst hx hb (v := 3) dX1_finish_44 (by decide) ?_
    refine rM_p6 cx dX1_finish_45 ?_
    refine g_goto hx hb dX1_finish_48 (tgt := 17) (by decide) ?_
    exact hK hf
  · refine g_iinc hx hb (v := _ + 1) dX1_finish_37 2 rfl rfl (by decide) [1, 2, 0] (L' := [(0, _), (2, _), (3, _)]) rfl ?_
    refine g_goto hx hb dX1_finish_40 (tgt := 17) (by decide) ?_
    exact hK hf
theorem wX1_finish_61 (cx : cxM p R s m args meth c D h cA cX1_finish 4 (some .int) 1 26) {res : Int32 × MM} {fl : Nat} {x3 : Int32} {M : MM} (hf : fX1_finish_61 fl x3 M = some res) : gMi p l e R s m args below meth c D h cA 4 res M 61 [(0, .ref (h 9)), (3, .int x3)] [] := by
  have hx := cx.1
  have hb := cx.2.1
  unfold fX1_finish_61 at hf
  refine g_iload_n hx hb dX1_finish_61 rfl 1 rfl ?_
  exact gM_iret cx hf dX1_finish_62
theorem wX1_finish_51 (cx : cxM p R s m args meth c D h cA cX1_finish 4 (some .int) 1 26) {res : Int32 × MM} {fl : Nat} {x3 : Int32} {M : MM} (hf : fX1_finish_51 fl x3 M = some res) : gMi p l e R s m args below meth c D h cA 4 res M 51 [(0, .ref (h 9)), (3, .int x3)] [] := by
  have hx := cx.1
  have hb := cx.2.1
  unfold fX1_finish_51 at hf
  refine g_aload_n hx hb dX1_finish_51 rfl 0 rfl ?_
  refine g_aload_n hx hb dX1_finish_52 rfl 0 rfl ?_
  refine rM_g8 cx dX1_finish_53 ?_
  refine g_iload_n hx hb dX1_finish_56 rfl 1 rfl ?_
  refine g_iadd hx hb dX1_finish_57 ?_
  refine rM_p8 cx dX1_finish_58 ?_
  exact wX1_finish_61 cx hf
theorem wX1_finish_17 (cx : cxM p R s m args meth c D h cA cX1_finish 4 (some .int) 1 26) {res : Int32 × MM} {fl : Nat} : ∀ {n : Nat} {x2 x3 : Int32} {M : MM}, fX1_finish_17 fl n x2 x3 M = some res → gMi p l e R s m args below meth c D h cA 4 res M 17 [(0, .ref (h 9)), (2, .int x2), (3, .int x3)] [] := by
  have hx := cx.1
  have hb := cx.2.1
  intro n
  induction n with
  | zero => intro x2 x3 M hf; exact absurd hf (by simp [fX1_finish_17])
  | succ n ih =>
    intro x2 x3 M hf
    unfold fX1_finish_17 at hf
    refine g_iload_n hx hb dX1_finish_17 rfl 2 rfl ?_
    refine g_iload_n hx hb dX1_finish_18 rfl 1 rfl ?_
    refine g_icmp_ge hx hb dX1_finish_19 (tgt := 51) (by decide) hf (fun hf => ?_) (fun hf => ?_)
    · refine g_sub [0, 2] (L' := [(0, _), (3, _)]) rfl ?_
      exact wX1_finish_51 cx hf
    · refine g_aload_n hx hb dX1_finish_22 rfl 0 rfl ?_
      refine rM_g6 cx dX1_finish_23 ?_
      refine g_iconst hx hb (v := 1) dX1_finish_26 (by decide) ?_
      refine g_icmp_ne hx hb dX1_finish_27 (tgt := 51) (by decide) hf (fun hf => ?_) (fun hf => ?_)
      · refine g_aload_n hx hb dX1_finish_30 rfl 0 rfl ?_
        obtain ⟨q, hq, hf⟩ := ob hf
        refine gM_calli cx (np := 0) (as := []) (metX1_step (l := l) (D := D) (cA := cA) cx.nj hq) (lw_V q274 q276 qs13 q16 q277) rfl rfl ⟨rfl, by decide, by decide, by decide +kernel⟩ ⟨by decide, by decide⟩ rfl (Nat.le_of_ble_eq_true rfl) dX1_finish_31 rfl ?_
        exact wX1_finish_34 cx ih hf
      · refine g_sub [0, 2] (L' := [(0, _), (3, _)]) rfl ?_
        exact wX1_finish_51 cx hf
theorem wX1_finish_15 (cx : cxM p R s m args meth c D h cA cX1_finish 4 (some .int) 1 26) {res : Int32 × MM} {fl : Nat} {x2 : Int32} {M : MM} (hf : fX1_finish_15 fl x2 M = some res) : gMi p l e R s m args below meth c D h cA 4 res M 15 [(0, .ref (h 9)), (2, .int x2)] [] := by
  have hx := cx.1
  have hb := cx.2.1
  unfold fX1_finish_15 at hf
  refine g_iconst hx hb (v := 0) dX1_finish_15 (by decide) ?_
  refine g_istore_n hx hb dX1_finish_16 rfl (by decide) [1, 2, 0] (L' := [(0, _), (2, _), (3, _)]) rfl ?_
  exact wX1_finish_17 cx hf
theorem wX1_finish_14 (cx : cxM p R s m args meth c D h cA cX1_finish 4 (some .int) 1 26) {res : Int32 × MM} {fl : Nat} {y0 : Int32} {M : MM} (hf : fX1_finish_14 fl y0 M = some res) : gMi p l e R s m args below meth c D h cA 4 res M 14 [(0, .ref (h 9))] [.int y0] := by
  have hx := cx.1
  have hb := cx.2.1
  unfold fX1_finish_14 at hf
  refine g_istore_n hx hb dX1_finish_14 rfl (by decide) [1, 0] (L' := [(0, _), (2, _)]) rfl ?_
  exact wX1_finish_15 cx hf
theorem wX1_finish_0 (cx : cxM p R s m args meth c D h cA cX1_finish 4 (some .int) 1 26) {res : Int32 × MM} {fl : Nat} {x1 : Int32} {M : MM} (hf : fX1_finish_0 fl x1 M = some res) : gMi p l e R s m args below meth c D h cA 4 res M 0 [(0, .ref (h 9)), (1, .int x1)] [] := by
  have hx := cx.1
  have hb := cx.2.1
  unfold fX1_finish_0 at hf
  refine g_iload_n hx hb dX1_finish_0 rfl 1 rfl ?_
  refine g_sipush hx hb (v := 200) dX1_finish_1 (by decide) ?_
  refine g_icmp_le hx hb dX1_finish_4 (tgt := 13) (by decide) hf (fun hf => ?_) (fun hf => ?_)
  · refine g_iload_n hx hb dX1_finish_13 rfl 1 rfl ?_
    refine g_sub [0] (L' := [(0, _)]) rfl ?_
    exact wX1_finish_14 cx hf
  · refine g_sipush hx hb (v := 200) dX1_finish_7 (by decide) ?_
    refine g_goto hx hb dX1_finish_10 (tgt := 14) (by decide) ?_
    refine g_sub [0] (L' := [(0, _)]) rfl ?_
    exact wX1_finish_14 cx hf
end
theorem metX1_finish {l : Launch} {D : va_G} {h : Nat → Nat} {cA : Nat → ClassId} {fl : Nat} {x1 : Int32} {M : MM} {res : Int32 × MM} (hn : njM h) (hf : fX1_finish fl x1 M = some res) : Met l yX1_finish (ws_ yX1_finish cX1_finish 4 (some .int)) ({ frames := 1, cells := 0, slots := 0, locals := 26 }) (pcM D h cA M [.int x1]) (qiM D h cA res) 0 0 (aM h) := by
  refine Met.ofW (cc := cX1_finish) (maxL := 4) (ret := (some .int)) (by decide) rfl ?_
  intro p e s m args below meth c s₁ B hml hv
  have hts := atoms_spec (ws := ws_ yX1_finish cX1_finish 4 (some .int)) B.pre
  have hts : ∀ w ∈ lw_all, w.before _ s = true := fun w h => hts w (List.mem_cons_of_mem _ h)
  obtain ⟨rfl, hP, hK⟩ := hv
  rw [lg_entry_eq]
  exact wX1_finish_0 (R := { frames := 1, cells := 0, slots := 0, locals := 26 }) ⟨B.exec, B.bytes, hml, findClass_of_methodNamed B.named, hts, hK, fun M => dM_of hn, B.returns, B.notSynchronized, Nat.le_refl _, Nat.le_refl _, hn⟩ hf s.heap [] _ hP va_S.rf (lv_entry ([.ref (h 9), .int x1]) (n := 4) (Nat.le_of_ble_eq_true rfl))
set_option maxRecDepth 100000
section
variable {p : Program} {l : Launch} {e : Env} {R : Room} {s : State} {m : MethodId} {args : Array Value} {below : List Frame} {meth : Method} {c : Code} {D : va_G} {h : Nat → Nat} {cA : Nat → ClassId}
theorem wX1_status_0 (cx : cxM p R s m args meth c D h cA cX1_status 1 (some .int) 0 0) {res : Int32 × MM} {fl : Nat} {M : MM} (hf : fX1_status_0 fl M = some res) : gMi p l e R s m args below meth c D h cA 1 res M 0 [(0, .ref (h 9))] [] := by
  have hx := cx.1
  have hb := cx.2.1
  unfold fX1_status_0 at hf
  refine g_aload_n hx hb dX1_status_0 rfl 0 rfl ?_
  refine rM_g6 cx dX1_status_1 ?_
  exact gM_iret cx hf dX1_status_4
end
theorem metX1_status {l : Launch} {D : va_G} {h : Nat → Nat} {cA : Nat → ClassId} {fl : Nat} {M : MM} {res : Int32 × MM} (hn : njM h) (hf : fX1_status fl M = some res) : Met l yX1_status (ws_ yX1_status cX1_status 1 (some .int)) ({ frames := 0, cells := 0, slots := 0, locals := 0 }) (pcM D h cA M []) (qiM D h cA res) 0 0 (aM h) := by
  refine Met.ofW (cc := cX1_status) (maxL := 1) (ret := (some .int)) (by decide) rfl ?_
  intro p e s m args below meth c s₁ B hml hv
  have hts := atoms_spec (ws := ws_ yX1_status cX1_status 1 (some .int)) B.pre
  have hts : ∀ w ∈ lw_all, w.before _ s = true := fun w h => hts w (List.mem_cons_of_mem _ h)
  obtain ⟨rfl, hP, hK⟩ := hv
  rw [lg_entry_eq]
  exact wX1_status_0 (R := { frames := 0, cells := 0, slots := 0, locals := 0 }) ⟨B.exec, B.bytes, hml, findClass_of_methodNamed B.named, hts, hK, fun M => dM_of hn, B.returns, B.notSynchronized, Nat.le_refl _, Nat.le_refl _, hn⟩ hf s.heap [] _ hP va_S.rf (lv_entry ([.ref (h 9)]) (n := 1) (Nat.le_of_ble_eq_true rfl))
set_option maxRecDepth 100000
section
variable {p : Program} {l : Launch} {e : Env} {R : Room} {s : State} {m : MethodId} {args : Array Value} {below : List Frame} {meth : Method} {c : Code} {D : va_G} {h : Nat → Nat} {cA : Nat → ClassId}
theorem wX1_position_0 (cx : cxM p R s m args meth c D h cA cX1_position 1 (some .int) 0 0) {res : Int32 × MM} {fl : Nat} {M : MM} (hf : fX1_position_0 fl M = some res) : gMi p l e R s m args below meth c D h cA 1 res M 0 [(0, .ref (h 9))] [] := by
  have hx := cx.1
  have hb := cx.2.1
  unfold fX1_position_0 at hf
  refine g_aload_n hx hb dX1_position_0 rfl 0 rfl ?_
  refine rM_g7 cx dX1_position_1 ?_
  exact gM_iret cx hf dX1_position_4
end
theorem metX1_position {l : Launch} {D : va_G} {h : Nat → Nat} {cA : Nat → ClassId} {fl : Nat} {M : MM} {res : Int32 × MM} (hn : njM h) (hf : fX1_position fl M = some res) : Met l yX1_position (ws_ yX1_position cX1_position 1 (some .int)) ({ frames := 0, cells := 0, slots := 0, locals := 0 }) (pcM D h cA M []) (qiM D h cA res) 0 0 (aM h) := by
  refine Met.ofW (cc := cX1_position) (maxL := 1) (ret := (some .int)) (by decide) rfl ?_
  intro p e s m args below meth c s₁ B hml hv
  have hts := atoms_spec (ws := ws_ yX1_position cX1_position 1 (some .int)) B.pre
  have hts : ∀ w ∈ lw_all, w.before _ s = true := fun w h => hts w (List.mem_cons_of_mem _ h)
  obtain ⟨rfl, hP, hK⟩ := hv
  rw [lg_entry_eq]
  exact wX1_position_0 (R := { frames := 0, cells := 0, slots := 0, locals := 0 }) ⟨B.exec, B.bytes, hml, findClass_of_methodNamed B.named, hts, hK, fun M => dM_of hn, B.returns, B.notSynchronized, Nat.le_refl _, Nat.le_refl _, hn⟩ hf s.heap [] _ hP va_S.rf (lv_entry ([.ref (h 9)]) (n := 1) (Nat.le_of_ble_eq_true rfl))
set_option maxRecDepth 100000
section
variable {p : Program} {l : Launch} {e : Env} {R : Room} {s : State} {m : MethodId} {args : Array Value} {below : List Frame} {meth : Method} {c : Code} {D : va_G} {h : Nat → Nat} {cA : Nat → ClassId}
theorem wX1_finished_0 (cx : cxM p R s m args meth c D h cA cX1_finished 1 (some .int) 0 0) {res : Int32 × MM} {fl : Nat} {M : MM} (hf : fX1_finished_0 fl M = some res) : gMi p l e R s m args below meth c D h cA 1 res M 0 [(0, .ref (h 9))] [] := by
  have hx := cx.1
  have hb := cx.2.1
  unfold fX1_finished_0 at hf
  refine g_aload_n hx hb dX1_finished_0 rfl 0 rfl ?_
  refine rM_g8 cx dX1_finished_1 ?_
  exact gM_iret cx hf dX1_finished_4
end
theorem metX1_finished {l : Launch} {D : va_G} {h : Nat → Nat} {cA : Nat → ClassId} {fl : Nat} {M : MM} {res : Int32 × MM} (hn : njM h) (hf : fX1_finished fl M = some res) : Met l yX1_finished (ws_ yX1_finished cX1_finished 1 (some .int)) ({ frames := 0, cells := 0, slots := 0, locals := 0 }) (pcM D h cA M []) (qiM D h cA res) 0 0 (aM h) := by
  refine Met.ofW (cc := cX1_finished) (maxL := 1) (ret := (some .int)) (by decide) rfl ?_
  intro p e s m args below meth c s₁ B hml hv
  have hts := atoms_spec (ws := ws_ yX1_finished cX1_finished 1 (some .int)) B.pre
  have hts : ∀ w ∈ lw_all, w.before _ s = true := fun w h => hts w (List.mem_cons_of_mem _ h)
  obtain ⟨rfl, hP, hK⟩ := hv
  rw [lg_entry_eq]
  exact wX1_finished_0 (R := { frames := 0, cells := 0, slots := 0, locals := 0 }) ⟨B.exec, B.bytes, hml, findClass_of_methodNamed B.named, hts, hK, fun M => dM_of hn, B.returns, B.notSynchronized, Nat.le_refl _, Nat.le_refl _, hn⟩ hf s.heap [] _ hP va_S.rf (lv_entry ([.ref (h 9)]) (n := 1) (Nat.le_of_ble_eq_true rfl))
set_option maxRecDepth 100000
section
variable {p : Program} {l : Launch} {e : Env} {R : Room} {s : State} {m : MethodId} {args : Array Value} {below : List Frame} {meth : Method} {c : Code} {D : va_G} {h : Nat → Nat} {cA : Nat → ClassId}
theorem wX1_register_19 (cx : cxM p R s m args meth c D h cA cX1_register 2 (some .int) 0 0) {res : Int32 × MM} {fl : Nat} {y0 : Int32} {M : MM} (hf : fX1_register_19 fl y0 M = some res) : gMi p l e R s m args below meth c D h cA 2 res M 19 [(0, .ref (h 9))] [.int y0] := by
  have hx := cx.1
  have hb := cx.2.1
  unfold fX1_register_19 at hf
  exact gM_iret cx hf dX1_register_19
theorem wX1_register_18 (cx : cxM p R s m args meth c D h cA cX1_register 2 (some .int) 0 0) {res : Int32 × MM} {fl : Nat} {M : MM} (hf : fX1_register_18 fl M = some res) : gMi p l e R s m args below meth c D h cA 2 res M 18 [(0, .ref (h 9))] [] := by
  have hx := cx.1
  have hb := cx.2.1
  unfold fX1_register_18 at hf
  refine g_iconst hx hb (v := 0) dX1_register_18 (by decide) ?_
  exact wX1_register_19 cx hf
theorem wX1_register_0 (cx : cxM p R s m args meth c D h cA cX1_register 2 (some .int) 0 0) {res : Int32 × MM} {fl : Nat} {x1 : Int32} {M : MM} (hf : fX1_register_0 fl x1 M = some res) : gMi p l e R s m args below meth c D h cA 2 res M 0 [(0, .ref (h 9)), (1, .int x1)] [] := by
  have hx := cx.1
  have hb := cx.2.1
  unfold fX1_register_0 at hf
  refine g_iload_n hx hb dX1_register_0 rfl 1 rfl ?_
  refine g_if_lt hx hb dX1_register_1 (tgt := 18) (by decide) hf (fun hf => ?_) (fun hf => ?_)
  · refine g_sub [0] (L' := [(0, _)]) rfl ?_
    exact wX1_register_18 cx hf
  · refine g_iload_n hx hb dX1_register_4 rfl 1 rfl ?_
    refine g_iconst hx hb (v := 3) dX1_register_5 (by decide) ?_
    refine g_icmp_gt hx hb dX1_register_6 (tgt := 18) (by decide) hf (fun hf => ?_) (fun hf => ?_)
    · refine g_sub [0] (L' := [(0, _)]) rfl ?_
      exact wX1_register_18 cx hf
    · refine g_aload_n hx hb dX1_register_9 rfl 0 rfl ?_
      refine rM_g4 cx dX1_register_10 ?_
      refine g_iload_n hx hb dX1_register_13 rfl 1 rfl ?_
      refine rM_l4 cx dX1_register_14 hf (fun hf => ?_)
      refine g_goto hx hb dX1_register_15 (tgt := 19) (by decide) ?_
      refine g_sub [0] (L' := [(0, _)]) rfl ?_
      exact wX1_register_19 cx hf
end
theorem metX1_register {l : Launch} {D : va_G} {h : Nat → Nat} {cA : Nat → ClassId} {fl : Nat} {x1 : Int32} {M : MM} {res : Int32 × MM} (hn : njM h) (hf : fX1_register fl x1 M = some res) : Met l yX1_register (ws_ yX1_register cX1_register 2 (some .int)) ({ frames := 0, cells := 0, slots := 0, locals := 0 }) (pcM D h cA M [.int x1]) (qiM D h cA res) 0 0 (aM h) := by
  refine Met.ofW (cc := cX1_register) (maxL := 2) (ret := (some .int)) (by decide) rfl ?_
  intro p e s m args below meth c s₁ B hml hv
  have hts := atoms_spec (ws := ws_ yX1_register cX1_register 2 (some .int)) B.pre
  have hts : ∀ w ∈ lw_all, w.before _ s = true := fun w h => hts w (List.mem_cons_of_mem _ h)
  obtain ⟨rfl, hP, hK⟩ := hv
  rw [lg_entry_eq]
  exact wX1_register_0 (R := { frames := 0, cells := 0, slots := 0, locals := 0 }) ⟨B.exec, B.bytes, hml, findClass_of_methodNamed B.named, hts, hK, fun M => dM_of hn, B.returns, B.notSynchronized, Nat.le_refl _, Nat.le_refl _, hn⟩ hf s.heap [] _ hP va_S.rf (lv_entry ([.ref (h 9), .int x1]) (n := 2) (Nat.le_of_ble_eq_true rfl))
set_option maxRecDepth 100000
section
variable {p : Program} {l : Launch} {e : Env} {R : Room} {s : State} {m : MethodId} {args : Array Value} {below : List Frame} {meth : Method} {c : Code} {D : va_G} {h : Nat → Nat} {cA : Nat → ClassId}
theorem wX1_memory_20 (cx : cxM p R s m args meth c D h cA cX1_memory 2 (some .int) 0 0) {res : Int32 × MM} {fl : Nat} {y0 : Int32} {M : MM} (hf : fX1_memory_20 fl y0 M = some res) : gMi p l e R s m args below meth c D h cA 2 res M 20 [(0, .ref (h 9))] [.int y0] := by
  have hx := cx.1
  have hb := cx.2.1
  unfold fX1_memory_20 at hf
  exact gM_iret cx hf dX1_memory_20
theorem wX1_memory_19 (cx : cxM p R s m args meth c D h cA cX1_memory 2 (some .int) 0 0) {res : Int32 × MM} {fl : Nat} {M : MM} (hf : fX1_memory_19 fl M = some res) : gMi p l e R s m args below meth c D h cA 2 res M 19 [(0, .ref (h 9))] [] := by
  have hx := cx.1
  have hb := cx.2.1
  unfold fX1_memory_19 at hf
  refine g_iconst hx hb (v := 0) dX1_memory_19 (by decide) ?_
  exact wX1_memory_20 cx hf
theorem wX1_memory_0 (cx : cxM p R s m args meth c D h cA cX1_memory 2 (some .int) 0 0) {res : Int32 × MM} {fl : Nat} {x1 : Int32} {M : MM} (hf : fX1_memory_0 fl x1 M = some res) : gMi p l e R s m args below meth c D h cA 2 res M 0 [(0, .ref (h 9)), (1, .int x1)] [] := by
  have hx := cx.1
  have hb := cx.2.1
  unfold fX1_memory_0 at hf
  refine g_iload_n hx hb dX1_memory_0 rfl 1 rfl ?_
  refine g_if_lt hx hb dX1_memory_1 (tgt := 19) (by decide) hf (fun hf => ?_) (fun hf => ?_)
  · refine g_sub [0] (L' := [(0, _)]) rfl ?_
    exact wX1_memory_19 cx hf
  · refine g_iload_n hx hb dX1_memory_4 rfl 1 rfl ?_
    refine g_bipush hx hb (v := 7) dX1_memory_5 (by decide) ?_
    refine g_icmp_gt hx hb dX1_memory_7 (tgt := 19) (by decide) hf (fun hf => ?_) (fun hf => ?_)
    · refine g_sub [0] (L' := [(0, _)]) rfl ?_
      exact wX1_memory_19 cx hf
    · refine g_aload_n hx hb dX1_memory_10 rfl 0 rfl ?_
      refine rM_g5 cx dX1_memory_11 ?_
      refine g_iload_n hx hb dX1_memory_14 rfl 1 rfl ?_
      refine rM_l5 cx dX1_memory_15 hf (fun hf => ?_)
      refine g_goto hx hb dX1_memory_16 (tgt := 20) (by decide) ?_
      refine g_sub [0] (L' := [(0, _)]) rfl ?_
      exact wX1_memory_20 cx hf
end
theorem metX1_memory {l : Launch} {D : va_G} {h : Nat → Nat} {cA : Nat → ClassId} {fl : Nat} {x1 : Int32} {M : MM} {res : Int32 × MM} (hn : njM h) (hf : fX1_memory fl x1 M = some res) : Met l yX1_memory (ws_ yX1_memory cX1_memory 2 (some .int)) ({ frames := 0, cells := 0, slots := 0, locals := 0 }) (pcM D h cA M [.int x1]) (qiM D h cA res) 0 0 (aM h) := by
  refine Met.ofW (cc := cX1_memory) (maxL := 2) (ret := (some .int)) (by decide) rfl ?_
  intro p e s m args below meth c s₁ B hml hv
  have hts := atoms_spec (ws := ws_ yX1_memory cX1_memory 2 (some .int)) B.pre
  have hts : ∀ w ∈ lw_all, w.before _ s = true := fun w h => hts w (List.mem_cons_of_mem _ h)
  obtain ⟨rfl, hP, hK⟩ := hv
  rw [lg_entry_eq]
  exact wX1_memory_0 (R := { frames := 0, cells := 0, slots := 0, locals := 0 }) ⟨B.exec, B.bytes, hml, findClass_of_methodNamed B.named, hts, hK, fun M => dM_of hn, B.returns, B.notSynchronized, Nat.le_refl _, Nat.le_refl _, hn⟩ hf s.heap [] _ hP va_S.rf (lv_entry ([.ref (h 9), .int x1]) (n := 2) (Nat.le_of_ble_eq_true rfl))
set_option maxRecDepth 100000
section
variable {p : Program} {l : Launch} {e : Env} {R : Room} {s : State} {m : MethodId} {args : Array Value} {below : List Frame} {meth : Method} {c : Code} {D : va_G} {h : Nat → Nat} {cA : Nat → ClassId}
theorem wX1_digest_22 (cx : cxM p R s m args meth c D h cA cX1_digest 3 (some .int) 0 0) {res : Int32 × MM} {fl : Nat} {K : Int32 → Int32 → MM → Option (Int32 × MM)} (hK : ∀ {x1 x2 : Int32} {M : MM}, K x1 x2 M = some res → gMi p l e R s m args below meth c D h cA 3 res M 4 [(0, .ref (h 9)), (1, .int x1), (2, .int x2)] []) {x1 x2 : Int32} {M : MM} (hf : fX1_digest_22 fl K x1 x2 M = some res) : gMi p l e R s m args below meth c D h cA 3 res M 22 [(0, .ref (h 9)), (1, .int x1), (2, .int x2)] [] := by
  have hx := cx.1
  have hb := cx.2.1
  unfold fX1_digest_22 at hf
  refine g_iinc hx hb (v := _ + 1) dX1_digest_22 2 rfl rfl (by decide) [1, 2, 0] (L' := [(0, _), (1, _), (2, _)]) rfl ?_
  refine g_goto hx hb dX1_digest_25 (tgt := 4) (by decide) ?_
  exact hK hf
theorem wX1_digest_49 (cx : cxM p R s m args meth c D h cA cX1_digest 3 (some .int) 0 0) {res : Int32 × MM} {fl : Nat} {K : Int32 → Int32 → MM → Option (Int32 × MM)} (hK : ∀ {x1 x2 : Int32} {M : MM}, K x1 x2 M = some res → gMi p l e R s m args below meth c D h cA 3 res M 30 [(0, .ref (h 9)), (1, .int x1), (2, .int x2)] []) {x1 x2 : Int32} {M : MM} (hf : fX1_digest_49 fl K x1 x2 M = some res) : gMi p l e R s m args below meth c D h cA 3 res M 49 [(0, .ref (h 9)), (1, .int x1), (2, .int x2)] [] := by
  have hx := cx.1
  have hb := cx.2.1
  unfold fX1_digest_49 at hf
  refine g_iinc hx hb (v := _ + 1) dX1_digest_49 2 rfl rfl (by decide) [1, 2, 0] (L' := [(0, _), (1, _), (2, _)]) rfl ?_
  refine g_goto hx hb dX1_digest_52 (tgt := 30) (by decide) ?_
  exact hK hf
theorem wX1_digest_30 (cx : cxM p R s m args meth c D h cA cX1_digest 3 (some .int) 0 0) {res : Int32 × MM} {fl : Nat} : ∀ {n : Nat} {x1 x2 : Int32} {M : MM}, fX1_digest_30 fl n x1 x2 M = some res → gMi p l e R s m args below meth c D h cA 3 res M 30 [(0, .ref (h 9)), (1, .int x1), (2, .int x2)] [] := by
  have hx := cx.1
  have hb := cx.2.1
  intro n
  induction n with
  | zero => intro x1 x2 M hf; exact absurd hf (by simp [fX1_digest_30])
  | succ n ih =>
    intro x1 x2 M hf
    unfold fX1_digest_30 at hf
    refine g_iload_n hx hb dX1_digest_30 rfl 2 rfl ?_
    refine g_bipush hx hb (v := 8) dX1_digest_31 (by decide) ?_
    refine g_icmp_ge hx hb dX1_digest_33 (tgt := 55) (by decide) hf (fun hf => ?_) (fun hf => ?_)
    · refine g_iload_n hx hb dX1_digest_55 rfl 1 rfl ?_
      exact gM_iret cx hf dX1_digest_56
    · refine g_iload_n hx hb dX1_digest_36 rfl 1 rfl ?_
      refine g_iload_n hx hb dX1_digest_37 rfl 2 rfl ?_
      refine g_iconst hx hb (v := 5) dX1_digest_38 (by decide) ?_
      refine g_iadd hx hb dX1_digest_39 ?_
      refine g_aload_n hx hb dX1_digest_40 rfl 0 rfl ?_
      refine rM_g5 cx dX1_digest_41 ?_
      refine g_iload_n hx hb dX1_digest_44 rfl 2 rfl ?_
      refine rM_l5 cx dX1_digest_45 hf (fun hf => ?_)
      refine g_imul hx hb dX1_digest_46 ?_
      refine g_iadd hx hb dX1_digest_47 ?_
      refine g_istore_n hx hb dX1_digest_48 rfl (by decide) [1, 0, 2] (L' := [(0, _), (1, _), (2, _)]) rfl ?_
      exact wX1_digest_49 cx ih hf
theorem wX1_digest_4 (cx : cxM p R s m args meth c D h cA cX1_digest 3 (some .int) 0 0) {res : Int32 × MM} {fl : Nat} : ∀ {n : Nat} {x1 x2 : Int32} {M : MM}, fX1_digest_4 fl n x1 x2 M = some res → gMi p l e R s m args below meth c D h cA 3 res M 4 [(0, .ref (h 9)), (1, .int x1), (2, .int x2)] [] := by
  have hx := cx.1
  have hb := cx.2.1
  intro n
  induction n with
  | zero => intro x1 x2 M hf; exact absurd hf (by simp [fX1_digest_4])
  | succ n ih =>
    intro x1 x2 M hf
    unfold fX1_digest_4 at hf
    refine g_iload_n hx hb dX1_digest_4 rfl 2 rfl ?_
    refine g_iconst hx hb (v := 4) dX1_digest_5 (by decide) ?_
    refine g_icmp_ge hx hb dX1_digest_6 (tgt := 28) (by decide) hf (fun hf => ?_) (fun hf => ?_)
    · refine g_iconst hx hb (v := 0) dX1_digest_28 (by decide) ?_
      refine g_istore_n hx hb dX1_digest_29 rfl (by decide) [1, 2, 0] (L' := [(0, _), (1, _), (2, _)]) rfl ?_
      exact wX1_digest_30 cx hf
    · refine g_iload_n hx hb dX1_digest_9 rfl 1 rfl ?_
      refine g_iload_n hx hb dX1_digest_10 rfl 2 rfl ?_
      refine g_iconst hx hb (v := 1) dX1_digest_11 (by decide) ?_
      refine g_iadd hx hb dX1_digest_12 ?_
      refine g_aload_n hx hb dX1_digest_13 rfl 0 rfl ?_
      refine rM_g4 cx dX1_digest_14 ?_
      refine g_iload_n hx hb dX1_digest_17 rfl 2 rfl ?_
      refine rM_l4 cx dX1_digest_18 hf (fun hf => ?_)
      refine g_imul hx hb dX1_digest_19 ?_
      refine g_iadd hx hb dX1_digest_20 ?_
      refine g_istore_n hx hb dX1_digest_21 rfl (by decide) [1, 0, 2] (L' := [(0, _), (1, _), (2, _)]) rfl ?_
      exact wX1_digest_22 cx ih hf
theorem wX1_digest_2 (cx : cxM p R s m args meth c D h cA cX1_digest 3 (some .int) 0 0) {res : Int32 × MM} {fl : Nat} {x1 : Int32} {M : MM} (hf : fX1_digest_2 fl x1 M = some res) : gMi p l e R s m args below meth c D h cA 3 res M 2 [(0, .ref (h 9)), (1, .int x1)] [] := by
  have hx := cx.1
  have hb := cx.2.1
  unfold fX1_digest_2 at hf
  refine g_iconst hx hb (v := 0) dX1_digest_2 (by decide) ?_
  refine g_istore_n hx hb dX1_digest_3 rfl (by decide) [1, 2, 0] (L' := [(0, _), (1, _), (2, _)]) rfl ?_
  exact wX1_digest_4 cx hf
theorem wX1_digest_0 (cx : cxM p R s m args meth c D h cA cX1_digest 3 (some .int) 0 0) {res : Int32 × MM} {fl : Nat} {M : MM} (hf : fX1_digest_0 fl M = some res) : gMi p l e R s m args below meth c D h cA 3 res M 0 [(0, .ref (h 9))] [] := by
  have hx := cx.1
  have hb := cx.2.1
  unfold fX1_digest_0 at hf
  refine g_iconst hx hb (v := 0) dX1_digest_0 (by decide) ?_
  refine g_istore_n hx hb dX1_digest_1 rfl (by decide) [1, 0] (L' := [(0, _), (1, _)]) rfl ?_
  exact wX1_digest_2 cx hf
end
theorem metX1_digest {l : Launch} {D : va_G} {h : Nat → Nat} {cA : Nat → ClassId} {fl : Nat} {M : MM} {res : Int32 × MM} (hn : njM h) (hf : fX1_digest fl M = some res) : Met l yX1_digest (ws_ yX1_digest cX1_digest 3 (some .int)) ({ frames := 0, cells := 0, slots := 0, locals := 0 }) (pcM D h cA M []) (qiM D h cA res) 0 0 (aM h) := by
  refine Met.ofW (cc := cX1_digest) (maxL := 3) (ret := (some .int)) (by decide) rfl ?_
  intro p e s m args below meth c s₁ B hml hv
  have hts := atoms_spec (ws := ws_ yX1_digest cX1_digest 3 (some .int)) B.pre
  have hts : ∀ w ∈ lw_all, w.before _ s = true := fun w h => hts w (List.mem_cons_of_mem _ h)
  obtain ⟨rfl, hP, hK⟩ := hv
  rw [lg_entry_eq]
  exact wX1_digest_0 (R := { frames := 0, cells := 0, slots := 0, locals := 0 }) ⟨B.exec, B.bytes, hml, findClass_of_methodNamed B.named, hts, hK, fun M => dM_of hn, B.returns, B.notSynchronized, Nat.le_refl _, Nat.le_refl _, hn⟩ hf s.heap [] _ hP va_S.rf (lv_entry ([.ref (h 9)]) (n := 3) (Nat.le_of_ble_eq_true rfl))
end
section
set_option maxRecDepth 100000
theorem vD_one {A : Nat → Prop} {a : Nat} {x : va_E} (h : A a) : va_D A [(a, x)] := by
  refine ⟨fun i j p q hi hj _ => ?_, fun k q hk => ?_⟩
  · have := (List.getElem?_eq_some_iff.mp hi).1
    have := (List.getElem?_eq_some_iff.mp hj).1
    simp at *; omega
  · have e := List.mem_of_getElem? hk
    simp at e; rw [e]; exact h
theorem vD_nj {A : Nat → Prop} {ws : va_W} {l : List Nat} (hD : va_D A ws) (hl : ws.map Prod.fst = l) : (∀ (i j a : Nat), l[i]? = some a → l[j]? = some a → i = j) ∧ ∀ q, q ∈ l → A q := by
  subst hl
  refine ⟨fun i j a hi hj => ?_, fun q hq => ?_⟩
  · rw [List.getElem?_map] at hi hj
    cases h1 : ws[i]? with
    | none => rw [h1] at hi; cases hi
    | some x =>
      cases h2 : ws[j]? with
      | none => rw [h2] at hj; cases hj
      | some y =>
        rw [h1] at hi; rw [h2] at hj
        exact hD.1 i j x y h1 h2 ((Option.some.inj hi).trans (Option.some.inj hj).symm)
  · obtain ⟨x, hx, rfl⟩ := List.mem_map.mp hq
    obtain ⟨i, hi⟩ := List.getElem?_of_mem hx
    exact hD.2 i x hi
def dfC : List Value := [.null, .null, .null, .int 0, .null, .null, .int 0, .int 0, .int 0, .int 0, .int 0, .int 0, .int 0, .int 0, .null, .null, .null, .null, .null, .null, .null, .null, .null, .null, .null, .null, .null, .null]
theorem dfC_ok : ∀ j, j < 28 → defaultValue (tyX0 j) = vp_V dfC j := fun j hj => match j, hj with
  | 0, _ => rfl
  | 1, _ => rfl
  | 2, _ => rfl
  | 3, _ => rfl
  | 4, _ => rfl
  | 5, _ => rfl
  | 6, _ => rfl
  | 7, _ => rfl
  | 8, _ => rfl
  | 9, _ => rfl
  | 10, _ => rfl
  | 11, _ => rfl
  | 12, _ => rfl
  | 13, _ => rfl
  | 14, _ => rfl
  | 15, _ => rfl
  | 16, _ => rfl
  | 17, _ => rfl
  | 18, _ => rfl
  | 19, _ => rfl
  | 20, _ => rfl
  | 21, _ => rfl
  | 22, _ => rfl
  | 23, _ => rfl
  | 24, _ => rfl
  | 25, _ => rfl
  | 26, _ => rfl
  | 27, _ => rfl
  | n + 28, hn => absurd hn (by omega)
def hCof (h0 q_0 q_1 q_2 q_4 q_5 q_14 q_15 q_16 q_17 q_18 q_19 q_20 q_21 q_22 q_23 q_24 q_25 q_26 q_27 : Nat) : Nat → Nat := fun k => match k with
  | 0 => q_0
  | 1 => q_1
  | 2 => q_2
  | 4 => q_4
  | 5 => q_5
  | 14 => q_14
  | 15 => q_15
  | 16 => q_16
  | 17 => q_17
  | 18 => q_18
  | 19 => q_19
  | 20 => q_20
  | 21 => q_21
  | 22 => q_22
  | 23 => q_23
  | 24 => q_24
  | 25 => q_25
  | 26 => q_26
  | 27 => q_27
  | _ => h0
def cCof (c_0 c_1 c_2 c_4 c_5 c_14 c_15 c_16 c_17 c_18 c_19 c_20 c_21 c_22 c_23 c_24 c_25 c_26 c_27 : ClassId) : Nat → ClassId := fun k => match k with
  | 0 => c_0
  | 1 => c_1
  | 2 => c_2
  | 4 => c_4
  | 5 => c_5
  | 14 => c_14
  | 15 => c_15
  | 16 => c_16
  | 17 => c_17
  | 18 => c_18
  | 19 => c_19
  | 20 => c_20
  | 21 => c_21
  | 22 => c_22
  | 23 => c_23
  | 24 => c_24
  | 25 => c_25
  | 26 => c_26
  | _ => c_27
theorem metX0_init {l : Launch} {D : va_G} {h0 sz : Nat} : Met l yX0_init (ws_ yX0_init cX0_init 1 none) ({ frames := 1, cells := 19, slots := 142, locals := 12 }) (va_Pc [.ref h0] (fun U => U.heap.size = sz ∧ va_P D vwCl [(h0, .inr (0, dfC))] U.heap ∧ va_K D vwCl [] U)) (va_Qv (fun (u : (Nat → Nat) × (Nat → ClassId)) => u.1 28 = h0 ∧ njC u.1 ∧ ∀ q, aC u.1 q → q = h0 ∨ sz ≤ q) (fun u t => va_P D vwCl (wC u.1 u.2 (fun _ _ => 0)) t.heap ∧ va_K D vwCl (tysC u.2) t) (fun q => q = h0 ∨ sz ≤ q)) 19 142 (fun q => q = h0 ∨ sz ≤ q) := by
  refine Met.ofW (cc := cX0_init) (maxL := 1) (ret := none) (by decide) rfl ?_
  intro p e s m args below meth c s₁ B hml hv
  obtain ⟨rfl, hsz, hP, hK⟩ := hv
  have hx := B.exec
  have hb := B.bytes
  have hr := B.returns
  have hts := atoms_spec (ws := ws_ yX0_init cX0_init 1 none) B.pre
  have hts : ∀ w ∈ lw_all, w.before _ s = true := fun w h => hts w (List.mem_cons_of_mem _ h)
  have hown : s.vm.findClass RX0 = some m.cls := findClass_of_methodNamed B.named
  have hin : meth.name = "<init>" := (name_of_methodNamed B.named B.method).1
  have hlk := B.notSynchronized
  subst hsz
  have hD : va_D (fun q => q = h0 ∨ s.heap.size ≤ q) [(h0, .inr (0, dfC))] := vD_one (Or.inl rfl)
  generalize hAe : (fun q => q = h0 ∨ s.heap.size ≤ q) = A at hD ⊢
  have hA : ∀ q : Nat, s.heap.size ≤ q → A q := fun q h => by rw [← hAe]; exact Or.inr h
  have hS : va_S A s.heap s.heap [] := va_S.rf
  have hl := lv_entry ([.ref h0]) (n := 1) (Nat.le_of_ble_eq_true rfl)
  rw [lg_entry_eq]
  generalize (lg_sl ([.ref h0]) ++ List.replicate (1 - (lg_sl ([.ref h0])).length) Slot.unset).toArray = ls at hl ⊢
  have hl : lv_has ls 1 [(0, .ref h0)] := hl
  refine lv_aload_n hx hb dX0_init_0 rfl (lv_at hl 0 rfl) ?_
  refine W.objInit hx hb hown (hts _ q22) (hts _ q23) (hts _ q24) rfl (by rw [hml]; exact hl.1) rfl dX0_init_1 (Nat.le_of_ble_eq_true rfl) (Nat.le_of_ble_eq_true rfl) ?_
  refine W.eq (g2 := F0 m 4 ls []) rfl ?_
  refine lv_aload_n hx hb dX0_init_4 rfl (lv_at hl 0 rfl) ?_
  refine lv_bipush (v := 16) hx hb dX0_init_5 (by decide) ?_
  refine va_newa (atype := .byte) (ty := .byte) (N' := 16) (a0 := (16, .inl (fun _ => 0))) hx hb (hts _ q110) rfl hK hP hD hS hA (fun _ => rfl) (by decide) (by decide) (by decide) (Nat.le_of_ble_eq_true rfl) (Nat.le_of_ble_eq_true rfl) dX0_init_7 (fun q_0 c_0 H hK hP hD hS => ?_)
  have hP : va_P D vwCl [(h0, .inr (0, [.null, .null, .null, .int 0, .null, .null, .int 0, .int 0, .int 0, .int 0, .int 0, .int 0, .int 0, .int 0, .null, .null, .null, .null, .null, .null, .null, .null, .null, .null, .null, .null, .null, .null])), (q_0, .inl (c_0, 16, .inl (fun _ => 0)))] H := hP
  have hD : va_D A [(h0, .inr (0, [.null, .null, .null, .int 0, .null, .null, .int 0, .int 0, .int 0, .int 0, .int 0, .int 0, .int 0, .int 0, .null, .null, .null, .null, .null, .null, .null, .null, .null, .null, .null, .null, .null, .null])), (q_0, .inl (c_0, 16, .inl (fun _ => 0)))] := hD
  have hK : va_K D vwCl [(c_0, .byte)] s := hK
  refine va_putF (D := D) (ci := 0) (v := .ref q_0) (ty := .array .byte) (C := RX0) (T := TX0) (N := 28) hx hb hts in_X0 tyX0 tyX0_ok nmX0 hown hK hP hD hS 0 rfl rfl 0 (by decide) (hts _ q25) (fun _ h9 => h9) rfl hin rfl (by decide +kernel) rfl rfl (Nat.le_of_ble_eq_true rfl) dX0_init_9 (fun H locs hP hD hS => ?_)
  have hP : va_P D vwCl [(h0, .inr (0, [.ref q_0, .null, .null, .int 0, .null, .null, .int 0, .int 0, .int 0, .int 0, .int 0, .int 0, .int 0, .int 0, .null, .null, .null, .null, .null, .null, .null, .null, .null, .null, .null, .null, .null, .null])), (q_0, .inl (c_0, 16, .inl (fun _ => 0)))] H := hP
  have hD : va_D A [(h0, .inr (0, [.ref q_0, .null, .null, .int 0, .null, .null, .int 0, .int 0, .int 0, .int 0, .int 0, .int 0, .int 0, .int 0, .null, .null, .null, .null, .null, .null, .null, .null, .null, .null, .null, .null, .null, .null])), (q_0, .inl (c_0, 16, .inl (fun _ => 0)))] := hD
  refine lv_aload_n hx hb dX0_init_12 rfl (lv_at hl 0 rfl) ?_
  refine lv_bipush (v := 16) hx hb dX0_init_13 (by decide) ?_
  refine va_newa (atype := .byte) (ty := .byte) (N' := 16) (a0 := (16, .inl (fun _ => 0))) hx hb (hts _ q110) rfl hK hP hD hS hA (fun _ => rfl) (by decide) (by decide) (by decide) (Nat.le_of_ble_eq_true rfl) (Nat.le_of_ble_eq_true rfl) dX0_init_15 (fun q_1 c_1 H hK hP hD hS => ?_)
  have hP : va_P D vwCl [(h0, .inr (0, [.ref q_0, .null, .null, .int 0, .null, .null, .int 0, .int 0, .int 0, .int 0, .int 0, .int 0, .int 0, .int 0, .null, .null, .null, .null, .null, .null, .null, .null, .null, .null, .null, .null, .null, .null])), (q_0, .inl (c_0, 16, .inl (fun _ => 0))), (q_1, .inl (c_1, 16, .inl (fun _ => 0)))] H := hP
  have hD : va_D A [(h0, .inr (0, [.ref q_0, .null, .null, .int 0, .null, .null, .int 0, .int 0, .int 0, .int 0, .int 0, .int 0, .int 0, .int 0, .null, .null, .null, .null, .null, .null, .null, .null, .null, .null, .null, .null, .null, .null])), (q_0, .inl (c_0, 16, .inl (fun _ => 0))), (q_1, .inl (c_1, 16, .inl (fun _ => 0)))] := hD
  have hK : va_K D vwCl [(c_0, .byte), (c_1, .byte)] s := hK
  refine va_putF (D := D) (ci := 0) (v := .ref q_1) (ty := .array .byte) (C := RX0) (T := TX0) (N := 28) hx hb hts in_X0 tyX0 tyX0_ok nmX0 hown hK hP hD hS 0 rfl rfl 1 (by decide) (hts _ q26) (fun _ h9 => h9) rfl hin rfl (by decide +kernel) rfl rfl (Nat.le_of_ble_eq_true rfl) dX0_init_17 (fun H locs hP hD hS => ?_)
  have hP : va_P D vwCl [(h0, .inr (0, [.ref q_0, .ref q_1, .null, .int 0, .null, .null, .int 0, .int 0, .int 0, .int 0, .int 0, .int 0, .int 0, .int 0, .null, .null, .null, .null, .null, .null, .null, .null, .null, .null, .null, .null, .null, .null])), (q_0, .inl (c_0, 16, .inl (fun _ => 0))), (q_1, .inl (c_1, 16, .inl (fun _ => 0)))] H := hP
  have hD : va_D A [(h0, .inr (0, [.ref q_0, .ref q_1, .null, .int 0, .null, .null, .int 0, .int 0, .int 0, .int 0, .int 0, .int 0, .int 0, .int 0, .null, .null, .null, .null, .null, .null, .null, .null, .null, .null, .null, .null, .null, .null])), (q_0, .inl (c_0, 16, .inl (fun _ => 0))), (q_1, .inl (c_1, 16, .inl (fun _ => 0)))] := hD
  refine lv_aload_n hx hb dX0_init_20 rfl (lv_at hl 0 rfl) ?_
  refine lv_bipush (v := 16) hx hb dX0_init_21 (by decide) ?_
  refine va_newa (atype := .int) (ty := .int) (N' := 16) (a0 := (16, .inl (fun _ => 0))) hx hb (hts _ q111) rfl hK hP hD hS hA (fun _ => rfl) (by decide) (by decide) (by decide) (Nat.le_of_ble_eq_true rfl) (Nat.le_of_ble_eq_true rfl) dX0_init_23 (fun q_2 c_2 H hK hP hD hS => ?_)
  have hP : va_P D vwCl [(h0, .inr (0, [.ref q_0, .ref q_1, .null, .int 0, .null, .null, .int 0, .int 0, .int 0, .int 0, .int 0, .int 0, .int 0, .int 0, .null, .null, .null, .null, .null, .null, .null, .null, .null, .null, .null, .null, .null, .null])), (q_0, .inl (c_0, 16, .inl (fun _ => 0))), (q_1, .inl (c_1, 16, .inl (fun _ => 0))), (q_2, .inl (c_2, 16, .inl (fun _ => 0)))] H := hP
  have hD : va_D A [(h0, .inr (0, [.ref q_0, .ref q_1, .null, .int 0, .null, .null, .int 0, .int 0, .int 0, .int 0, .int 0, .int 0, .int 0, .int 0, .null, .null, .null, .null, .null, .null, .null, .null, .null, .null, .null, .null, .null, .null])), (q_0, .inl (c_0, 16, .inl (fun _ => 0))), (q_1, .inl (c_1, 16, .inl (fun _ => 0))), (q_2, .inl (c_2, 16, .inl (fun _ => 0)))] := hD
  have hK : va_K D vwCl [(c_0, .byte), (c_1, .byte), (c_2, .int)] s := hK
  refine va_putF (D := D) (ci := 0) (v := .ref q_2) (ty := .array .int) (C := RX0) (T := TX0) (N := 28) hx hb hts in_X0 tyX0 tyX0_ok nmX0 hown hK hP hD hS 0 rfl rfl 2 (by decide) (hts _ q27) (fun _ h9 => h9) rfl hin rfl (by decide +kernel) rfl rfl (Nat.le_of_ble_eq_true rfl) dX0_init_25 (fun H locs hP hD hS => ?_)
  have hP : va_P D vwCl [(h0, .inr (0, [.ref q_0, .ref q_1, .ref q_2, .int 0, .null, .null, .int 0, .int 0, .int 0, .int 0, .int 0, .int 0, .int 0, .int 0, .null, .null, .null, .null, .null, .null, .null, .null, .null, .null, .null, .null, .null, .null])), (q_0, .inl (c_0, 16, .inl (fun _ => 0))), (q_1, .inl (c_1, 16, .inl (fun _ => 0))), (q_2, .inl (c_2, 16, .inl (fun _ => 0)))] H := hP
  have hD : va_D A [(h0, .inr (0, [.ref q_0, .ref q_1, .ref q_2, .int 0, .null, .null, .int 0, .int 0, .int 0, .int 0, .int 0, .int 0, .int 0, .int 0, .null, .null, .null, .null, .null, .null, .null, .null, .null, .null, .null, .null, .null, .null])), (q_0, .inl (c_0, 16, .inl (fun _ => 0))), (q_1, .inl (c_1, 16, .inl (fun _ => 0))), (q_2, .inl (c_2, 16, .inl (fun _ => 0)))] := hD
  refine lv_aload_n hx hb dX0_init_28 rfl (lv_at hl 0 rfl) ?_
  refine lv_iconst (v := 4) hx hb dX0_init_29 (by decide) ?_
  refine va_newa (atype := .int) (ty := .int) (N' := 4) (a0 := (4, .inl (fun _ => 0))) hx hb (hts _ q111) rfl hK hP hD hS hA (fun _ => rfl) (by decide) (by decide) (by decide) (Nat.le_of_ble_eq_true rfl) (Nat.le_of_ble_eq_true rfl) dX0_init_30 (fun q_4 c_4 H hK hP hD hS => ?_)
  have hP : va_P D vwCl [(h0, .inr (0, [.ref q_0, .ref q_1, .ref q_2, .int 0, .null, .null, .int 0, .int 0, .int 0, .int 0, .int 0, .int 0, .int 0, .int 0, .null, .null, .null, .null, .null, .null, .null, .null, .null, .null, .null, .null, .null, .null])), (q_0, .inl (c_0, 16, .inl (fun _ => 0))), (q_1, .inl (c_1, 16, .inl (fun _ => 0))), (q_2, .inl (c_2, 16, .inl (fun _ => 0))), (q_4, .inl (c_4, 4, .inl (fun _ => 0)))] H := hP
  have hD : va_D A [(h0, .inr (0, [.ref q_0, .ref q_1, .ref q_2, .int 0, .null, .null, .int 0, .int 0, .int 0, .int 0, .int 0, .int 0, .int 0, .int 0, .null, .null, .null, .null, .null, .null, .null, .null, .null, .null, .null, .null, .null, .null])), (q_0, .inl (c_0, 16, .inl (fun _ => 0))), (q_1, .inl (c_1, 16, .inl (fun _ => 0))), (q_2, .inl (c_2, 16, .inl (fun _ => 0))), (q_4, .inl (c_4, 4, .inl (fun _ => 0)))] := hD
  have hK : va_K D vwCl [(c_0, .byte), (c_1, .byte), (c_2, .int), (c_4, .int)] s := hK
  refine va_putF (D := D) (ci := 0) (v := .ref q_4) (ty := .array .int) (C := RX0) (T := TX0) (N := 28) hx hb hts in_X0 tyX0 tyX0_ok nmX0 hown hK hP hD hS 0 rfl rfl 4 (by decide) (hts _ q29) (fun _ h9 => h9) rfl hin rfl (by decide +kernel) rfl rfl (Nat.le_of_ble_eq_true rfl) dX0_init_32 (fun H locs hP hD hS => ?_)
  have hP : va_P D vwCl [(h0, .inr (0, [.ref q_0, .ref q_1, .ref q_2, .int 0, .ref q_4, .null, .int 0, .int 0, .int 0, .int 0, .int 0, .int 0, .int 0, .int 0, .null, .null, .null, .null, .null, .null, .null, .null, .null, .null, .null, .null, .null, .null])), (q_0, .inl (c_0, 16, .inl (fun _ => 0))), (q_1, .inl (c_1, 16, .inl (fun _ => 0))), (q_2, .inl (c_2, 16, .inl (fun _ => 0))), (q_4, .inl (c_4, 4, .inl (fun _ => 0)))] H := hP
  have hD : va_D A [(h0, .inr (0, [.ref q_0, .ref q_1, .ref q_2, .int 0, .ref q_4, .null, .int 0, .int 0, .int 0, .int 0, .int 0, .int 0, .int 0, .int 0, .null, .null, .null, .null, .null, .null, .null, .null, .null, .null, .null, .null, .null, .null])), (q_0, .inl (c_0, 16, .inl (fun _ => 0))), (q_1, .inl (c_1, 16, .inl (fun _ => 0))), (q_2, .inl (c_2, 16, .inl (fun _ => 0))), (q_4, .inl (c_4, 4, .inl (fun _ => 0)))] := hD
  refine lv_aload_n hx hb dX0_init_35 rfl (lv_at hl 0 rfl) ?_
  refine lv_bipush (v := 8) hx hb dX0_init_36 (by decide) ?_
  refine va_newa (atype := .int) (ty := .int) (N' := 8) (a0 := (8, .inl (fun _ => 0))) hx hb (hts _ q111) rfl hK hP hD hS hA (fun _ => rfl) (by decide) (by decide) (by decide) (Nat.le_of_ble_eq_true rfl) (Nat.le_of_ble_eq_true rfl) dX0_init_38 (fun q_5 c_5 H hK hP hD hS => ?_)
  have hP : va_P D vwCl [(h0, .inr (0, [.ref q_0, .ref q_1, .ref q_2, .int 0, .ref q_4, .null, .int 0, .int 0, .int 0, .int 0, .int 0, .int 0, .int 0, .int 0, .null, .null, .null, .null, .null, .null, .null, .null, .null, .null, .null, .null, .null, .null])), (q_0, .inl (c_0, 16, .inl (fun _ => 0))), (q_1, .inl (c_1, 16, .inl (fun _ => 0))), (q_2, .inl (c_2, 16, .inl (fun _ => 0))), (q_4, .inl (c_4, 4, .inl (fun _ => 0))), (q_5, .inl (c_5, 8, .inl (fun _ => 0)))] H := hP
  have hD : va_D A [(h0, .inr (0, [.ref q_0, .ref q_1, .ref q_2, .int 0, .ref q_4, .null, .int 0, .int 0, .int 0, .int 0, .int 0, .int 0, .int 0, .int 0, .null, .null, .null, .null, .null, .null, .null, .null, .null, .null, .null, .null, .null, .null])), (q_0, .inl (c_0, 16, .inl (fun _ => 0))), (q_1, .inl (c_1, 16, .inl (fun _ => 0))), (q_2, .inl (c_2, 16, .inl (fun _ => 0))), (q_4, .inl (c_4, 4, .inl (fun _ => 0))), (q_5, .inl (c_5, 8, .inl (fun _ => 0)))] := hD
  have hK : va_K D vwCl [(c_0, .byte), (c_1, .byte), (c_2, .int), (c_4, .int), (c_5, .int)] s := hK
  refine va_putF (D := D) (ci := 0) (v := .ref q_5) (ty := .array .int) (C := RX0) (T := TX0) (N := 28) hx hb hts in_X0 tyX0 tyX0_ok nmX0 hown hK hP hD hS 0 rfl rfl 5 (by decide) (hts _ q30) (fun _ h9 => h9) rfl hin rfl (by decide +kernel) rfl rfl (Nat.le_of_ble_eq_true rfl) dX0_init_40 (fun H locs hP hD hS => ?_)
  have hP : va_P D vwCl [(h0, .inr (0, [.ref q_0, .ref q_1, .ref q_2, .int 0, .ref q_4, .ref q_5, .int 0, .int 0, .int 0, .int 0, .int 0, .int 0, .int 0, .int 0, .null, .null, .null, .null, .null, .null, .null, .null, .null, .null, .null, .null, .null, .null])), (q_0, .inl (c_0, 16, .inl (fun _ => 0))), (q_1, .inl (c_1, 16, .inl (fun _ => 0))), (q_2, .inl (c_2, 16, .inl (fun _ => 0))), (q_4, .inl (c_4, 4, .inl (fun _ => 0))), (q_5, .inl (c_5, 8, .inl (fun _ => 0)))] H := hP
  have hD : va_D A [(h0, .inr (0, [.ref q_0, .ref q_1, .ref q_2, .int 0, .ref q_4, .ref q_5, .int 0, .int 0, .int 0, .int 0, .int 0, .int 0, .int 0, .int 0, .null, .null, .null, .null, .null, .null, .null, .null, .null, .null, .null, .null, .null, .null])), (q_0, .inl (c_0, 16, .inl (fun _ => 0))), (q_1, .inl (c_1, 16, .inl (fun _ => 0))), (q_2, .inl (c_2, 16, .inl (fun _ => 0))), (q_4, .inl (c_4, 4, .inl (fun _ => 0))), (q_5, .inl (c_5, 8, .inl (fun _ => 0)))] := hD
  refine lv_aload_n hx hb dX0_init_43 rfl (lv_at hl 0 rfl) ?_
  refine lv_bipush (v := 6) hx hb dX0_init_44 (by decide) ?_
  refine va_newa (atype := .byte) (ty := .byte) (N' := 6) (a0 := (6, .inl (fun _ => 0))) hx hb (hts _ q110) rfl hK hP hD hS hA (fun _ => rfl) (by decide) (by decide) (by decide) (Nat.le_of_ble_eq_true rfl) (Nat.le_of_ble_eq_true rfl) dX0_init_46 (fun q_14 c_14 H hK hP hD hS => ?_)
  have hP : va_P D vwCl [(h0, .inr (0, [.ref q_0, .ref q_1, .ref q_2, .int 0, .ref q_4, .ref q_5, .int 0, .int 0, .int 0, .int 0, .int 0, .int 0, .int 0, .int 0, .null, .null, .null, .null, .null, .null, .null, .null, .null, .null, .null, .null, .null, .null])), (q_0, .inl (c_0, 16, .inl (fun _ => 0))), (q_1, .inl (c_1, 16, .inl (fun _ => 0))), (q_2, .inl (c_2, 16, .inl (fun _ => 0))), (q_4, .inl (c_4, 4, .inl (fun _ => 0))), (q_5, .inl (c_5, 8, .inl (fun _ => 0))), (q_14, .inl (c_14, 6, .inl (fun _ => 0)))] H := hP
  have hD : va_D A [(h0, .inr (0, [.ref q_0, .ref q_1, .ref q_2, .int 0, .ref q_4, .ref q_5, .int 0, .int 0, .int 0, .int 0, .int 0, .int 0, .int 0, .int 0, .null, .null, .null, .null, .null, .null, .null, .null, .null, .null, .null, .null, .null, .null])), (q_0, .inl (c_0, 16, .inl (fun _ => 0))), (q_1, .inl (c_1, 16, .inl (fun _ => 0))), (q_2, .inl (c_2, 16, .inl (fun _ => 0))), (q_4, .inl (c_4, 4, .inl (fun _ => 0))), (q_5, .inl (c_5, 8, .inl (fun _ => 0))), (q_14, .inl (c_14, 6, .inl (fun _ => 0)))] := hD
  have hK : va_K D vwCl [(c_0, .byte), (c_1, .byte), (c_2, .int), (c_4, .int), (c_5, .int), (c_14, .byte)] s := hK
  refine va_putF (D := D) (ci := 0) (v := .ref q_14) (ty := .array .byte) (C := RX0) (T := TX0) (N := 28) hx hb hts in_X0 tyX0 tyX0_ok nmX0 hown hK hP hD hS 0 rfl rfl 14 (by decide) (hts _ q39) (fun _ h9 => h9) rfl hin rfl (by decide +kernel) rfl rfl (Nat.le_of_ble_eq_true rfl) dX0_init_48 (fun H locs hP hD hS => ?_)
  have hP : va_P D vwCl [(h0, .inr (0, [.ref q_0, .ref q_1, .ref q_2, .int 0, .ref q_4, .ref q_5, .int 0, .int 0, .int 0, .int 0, .int 0, .int 0, .int 0, .int 0, .ref q_14, .null, .null, .null, .null, .null, .null, .null, .null, .null, .null, .null, .null, .null])), (q_0, .inl (c_0, 16, .inl (fun _ => 0))), (q_1, .inl (c_1, 16, .inl (fun _ => 0))), (q_2, .inl (c_2, 16, .inl (fun _ => 0))), (q_4, .inl (c_4, 4, .inl (fun _ => 0))), (q_5, .inl (c_5, 8, .inl (fun _ => 0))), (q_14, .inl (c_14, 6, .inl (fun _ => 0)))] H := hP
  have hD : va_D A [(h0, .inr (0, [.ref q_0, .ref q_1, .ref q_2, .int 0, .ref q_4, .ref q_5, .int 0, .int 0, .int 0, .int 0, .int 0, .int 0, .int 0, .int 0, .ref q_14, .null, .null, .null, .null, .null, .null, .null, .null, .null, .null, .null, .null, .null])), (q_0, .inl (c_0, 16, .inl (fun _ => 0))), (q_1, .inl (c_1, 16, .inl (fun _ => 0))), (q_2, .inl (c_2, 16, .inl (fun _ => 0))), (q_4, .inl (c_4, 4, .inl (fun _ => 0))), (q_5, .inl (c_5, 8, .inl (fun _ => 0))), (q_14, .inl (c_14, 6, .inl (fun _ => 0)))] := hD
  refine lv_aload_n hx hb dX0_init_51 rfl (lv_at hl 0 rfl) ?_
  refine lv_bipush (v := 6) hx hb dX0_init_52 (by decide) ?_
  refine va_newa (atype := .int) (ty := .int) (N' := 6) (a0 := (6, .inl (fun _ => 0))) hx hb (hts _ q111) rfl hK hP hD hS hA (fun _ => rfl) (by decide) (by decide) (by decide) (Nat.le_of_ble_eq_true rfl) (Nat.le_of_ble_eq_true rfl) dX0_init_54 (fun q_15 c_15 H hK hP hD hS => ?_)
  have hP : va_P D vwCl [(h0, .inr (0, [.ref q_0, .ref q_1, .ref q_2, .int 0, .ref q_4, .ref q_5, .int 0, .int 0, .int 0, .int 0, .int 0, .int 0, .int 0, .int 0, .ref q_14, .null, .null, .null, .null, .null, .null, .null, .null, .null, .null, .null, .null, .null])), (q_0, .inl (c_0, 16, .inl (fun _ => 0))), (q_1, .inl (c_1, 16, .inl (fun _ => 0))), (q_2, .inl (c_2, 16, .inl (fun _ => 0))), (q_4, .inl (c_4, 4, .inl (fun _ => 0))), (q_5, .inl (c_5, 8, .inl (fun _ => 0))), (q_14, .inl (c_14, 6, .inl (fun _ => 0))), (q_15, .inl (c_15, 6, .inl (fun _ => 0)))] H := hP
  have hD : va_D A [(h0, .inr (0, [.ref q_0, .ref q_1, .ref q_2, .int 0, .ref q_4, .ref q_5, .int 0, .int 0, .int 0, .int 0, .int 0, .int 0, .int 0, .int 0, .ref q_14, .null, .null, .null, .null, .null, .null, .null, .null, .null, .null, .null, .null, .null])), (q_0, .inl (c_0, 16, .inl (fun _ => 0))), (q_1, .inl (c_1, 16, .inl (fun _ => 0))), (q_2, .inl (c_2, 16, .inl (fun _ => 0))), (q_4, .inl (c_4, 4, .inl (fun _ => 0))), (q_5, .inl (c_5, 8, .inl (fun _ => 0))), (q_14, .inl (c_14, 6, .inl (fun _ => 0))), (q_15, .inl (c_15, 6, .inl (fun _ => 0)))] := hD
  have hK : va_K D vwCl [(c_0, .byte), (c_1, .byte), (c_2, .int), (c_4, .int), (c_5, .int), (c_14, .byte), (c_15, .int)] s := hK
  refine va_putF (D := D) (ci := 0) (v := .ref q_15) (ty := .array .int) (C := RX0) (T := TX0) (N := 28) hx hb hts in_X0 tyX0 tyX0_ok nmX0 hown hK hP hD hS 0 rfl rfl 15 (by decide) (hts _ q40) (fun _ h9 => h9) rfl hin rfl (by decide +kernel) rfl rfl (Nat.le_of_ble_eq_true rfl) dX0_init_56 (fun H locs hP hD hS => ?_)
  have hP : va_P D vwCl [(h0, .inr (0, [.ref q_0, .ref q_1, .ref q_2, .int 0, .ref q_4, .ref q_5, .int 0, .int 0, .int 0, .int 0, .int 0, .int 0, .int 0, .int 0, .ref q_14, .ref q_15, .null, .null, .null, .null, .null, .null, .null, .null, .null, .null, .null, .null])), (q_0, .inl (c_0, 16, .inl (fun _ => 0))), (q_1, .inl (c_1, 16, .inl (fun _ => 0))), (q_2, .inl (c_2, 16, .inl (fun _ => 0))), (q_4, .inl (c_4, 4, .inl (fun _ => 0))), (q_5, .inl (c_5, 8, .inl (fun _ => 0))), (q_14, .inl (c_14, 6, .inl (fun _ => 0))), (q_15, .inl (c_15, 6, .inl (fun _ => 0)))] H := hP
  have hD : va_D A [(h0, .inr (0, [.ref q_0, .ref q_1, .ref q_2, .int 0, .ref q_4, .ref q_5, .int 0, .int 0, .int 0, .int 0, .int 0, .int 0, .int 0, .int 0, .ref q_14, .ref q_15, .null, .null, .null, .null, .null, .null, .null, .null, .null, .null, .null, .null])), (q_0, .inl (c_0, 16, .inl (fun _ => 0))), (q_1, .inl (c_1, 16, .inl (fun _ => 0))), (q_2, .inl (c_2, 16, .inl (fun _ => 0))), (q_4, .inl (c_4, 4, .inl (fun _ => 0))), (q_5, .inl (c_5, 8, .inl (fun _ => 0))), (q_14, .inl (c_14, 6, .inl (fun _ => 0))), (q_15, .inl (c_15, 6, .inl (fun _ => 0)))] := hD
  refine lv_aload_n hx hb dX0_init_59 rfl (lv_at hl 0 rfl) ?_
  refine lv_bipush (v := 6) hx hb dX0_init_60 (by decide) ?_
  refine va_newa (atype := .byte) (ty := .byte) (N' := 6) (a0 := (6, .inl (fun _ => 0))) hx hb (hts _ q110) rfl hK hP hD hS hA (fun _ => rfl) (by decide) (by decide) (by decide) (Nat.le_of_ble_eq_true rfl) (Nat.le_of_ble_eq_true rfl) dX0_init_62 (fun q_16 c_16 H hK hP hD hS => ?_)
  have hP : va_P D vwCl [(h0, .inr (0, [.ref q_0, .ref q_1, .ref q_2, .int 0, .ref q_4, .ref q_5, .int 0, .int 0, .int 0, .int 0, .int 0, .int 0, .int 0, .int 0, .ref q_14, .ref q_15, .null, .null, .null, .null, .null, .null, .null, .null, .null, .null, .null, .null])), (q_0, .inl (c_0, 16, .inl (fun _ => 0))), (q_1, .inl (c_1, 16, .inl (fun _ => 0))), (q_2, .inl (c_2, 16, .inl (fun _ => 0))), (q_4, .inl (c_4, 4, .inl (fun _ => 0))), (q_5, .inl (c_5, 8, .inl (fun _ => 0))), (q_14, .inl (c_14, 6, .inl (fun _ => 0))), (q_15, .inl (c_15, 6, .inl (fun _ => 0))), (q_16, .inl (c_16, 6, .inl (fun _ => 0)))] H := hP
  have hD : va_D A [(h0, .inr (0, [.ref q_0, .ref q_1, .ref q_2, .int 0, .ref q_4, .ref q_5, .int 0, .int 0, .int 0, .int 0, .int 0, .int 0, .int 0, .int 0, .ref q_14, .ref q_15, .null, .null, .null, .null, .null, .null, .null, .null, .null, .null, .null, .null])), (q_0, .inl (c_0, 16, .inl (fun _ => 0))), (q_1, .inl (c_1, 16, .inl (fun _ => 0))), (q_2, .inl (c_2, 16, .inl (fun _ => 0))), (q_4, .inl (c_4, 4, .inl (fun _ => 0))), (q_5, .inl (c_5, 8, .inl (fun _ => 0))), (q_14, .inl (c_14, 6, .inl (fun _ => 0))), (q_15, .inl (c_15, 6, .inl (fun _ => 0))), (q_16, .inl (c_16, 6, .inl (fun _ => 0)))] := hD
  have hK : va_K D vwCl [(c_0, .byte), (c_1, .byte), (c_2, .int), (c_4, .int), (c_5, .int), (c_14, .byte), (c_15, .int), (c_16, .byte)] s := hK
  refine va_putF (D := D) (ci := 0) (v := .ref q_16) (ty := .array .byte) (C := RX0) (T := TX0) (N := 28) hx hb hts in_X0 tyX0 tyX0_ok nmX0 hown hK hP hD hS 0 rfl rfl 16 (by decide) (hts _ q41) (fun _ h9 => h9) rfl hin rfl (by decide +kernel) rfl rfl (Nat.le_of_ble_eq_true rfl) dX0_init_64 (fun H locs hP hD hS => ?_)
  have hP : va_P D vwCl [(h0, .inr (0, [.ref q_0, .ref q_1, .ref q_2, .int 0, .ref q_4, .ref q_5, .int 0, .int 0, .int 0, .int 0, .int 0, .int 0, .int 0, .int 0, .ref q_14, .ref q_15, .ref q_16, .null, .null, .null, .null, .null, .null, .null, .null, .null, .null, .null])), (q_0, .inl (c_0, 16, .inl (fun _ => 0))), (q_1, .inl (c_1, 16, .inl (fun _ => 0))), (q_2, .inl (c_2, 16, .inl (fun _ => 0))), (q_4, .inl (c_4, 4, .inl (fun _ => 0))), (q_5, .inl (c_5, 8, .inl (fun _ => 0))), (q_14, .inl (c_14, 6, .inl (fun _ => 0))), (q_15, .inl (c_15, 6, .inl (fun _ => 0))), (q_16, .inl (c_16, 6, .inl (fun _ => 0)))] H := hP
  have hD : va_D A [(h0, .inr (0, [.ref q_0, .ref q_1, .ref q_2, .int 0, .ref q_4, .ref q_5, .int 0, .int 0, .int 0, .int 0, .int 0, .int 0, .int 0, .int 0, .ref q_14, .ref q_15, .ref q_16, .null, .null, .null, .null, .null, .null, .null, .null, .null, .null, .null])), (q_0, .inl (c_0, 16, .inl (fun _ => 0))), (q_1, .inl (c_1, 16, .inl (fun _ => 0))), (q_2, .inl (c_2, 16, .inl (fun _ => 0))), (q_4, .inl (c_4, 4, .inl (fun _ => 0))), (q_5, .inl (c_5, 8, .inl (fun _ => 0))), (q_14, .inl (c_14, 6, .inl (fun _ => 0))), (q_15, .inl (c_15, 6, .inl (fun _ => 0))), (q_16, .inl (c_16, 6, .inl (fun _ => 0)))] := hD
  refine lv_aload_n hx hb dX0_init_67 rfl (lv_at hl 0 rfl) ?_
  refine lv_bipush (v := 6) hx hb dX0_init_68 (by decide) ?_
  refine va_newa (atype := .byte) (ty := .byte) (N' := 6) (a0 := (6, .inl (fun _ => 0))) hx hb (hts _ q110) rfl hK hP hD hS hA (fun _ => rfl) (by decide) (by decide) (by decide) (Nat.le_of_ble_eq_true rfl) (Nat.le_of_ble_eq_true rfl) dX0_init_70 (fun q_17 c_17 H hK hP hD hS => ?_)
  have hP : va_P D vwCl [(h0, .inr (0, [.ref q_0, .ref q_1, .ref q_2, .int 0, .ref q_4, .ref q_5, .int 0, .int 0, .int 0, .int 0, .int 0, .int 0, .int 0, .int 0, .ref q_14, .ref q_15, .ref q_16, .null, .null, .null, .null, .null, .null, .null, .null, .null, .null, .null])), (q_0, .inl (c_0, 16, .inl (fun _ => 0))), (q_1, .inl (c_1, 16, .inl (fun _ => 0))), (q_2, .inl (c_2, 16, .inl (fun _ => 0))), (q_4, .inl (c_4, 4, .inl (fun _ => 0))), (q_5, .inl (c_5, 8, .inl (fun _ => 0))), (q_14, .inl (c_14, 6, .inl (fun _ => 0))), (q_15, .inl (c_15, 6, .inl (fun _ => 0))), (q_16, .inl (c_16, 6, .inl (fun _ => 0))), (q_17, .inl (c_17, 6, .inl (fun _ => 0)))] H := hP
  have hD : va_D A [(h0, .inr (0, [.ref q_0, .ref q_1, .ref q_2, .int 0, .ref q_4, .ref q_5, .int 0, .int 0, .int 0, .int 0, .int 0, .int 0, .int 0, .int 0, .ref q_14, .ref q_15, .ref q_16, .null, .null, .null, .null, .null, .null, .null, .null, .null, .null, .null])), (q_0, .inl (c_0, 16, .inl (fun _ => 0))), (q_1, .inl (c_1, 16, .inl (fun _ => 0))), (q_2, .inl (c_2, 16, .inl (fun _ => 0))), (q_4, .inl (c_4, 4, .inl (fun _ => 0))), (q_5, .inl (c_5, 8, .inl (fun _ => 0))), (q_14, .inl (c_14, 6, .inl (fun _ => 0))), (q_15, .inl (c_15, 6, .inl (fun _ => 0))), (q_16, .inl (c_16, 6, .inl (fun _ => 0))), (q_17, .inl (c_17, 6, .inl (fun _ => 0)))] := hD
  have hK : va_K D vwCl [(c_0, .byte), (c_1, .byte), (c_2, .int), (c_4, .int), (c_5, .int), (c_14, .byte), (c_15, .int), (c_16, .byte), (c_17, .byte)] s := hK
  refine va_putF (D := D) (ci := 0) (v := .ref q_17) (ty := .array .byte) (C := RX0) (T := TX0) (N := 28) hx hb hts in_X0 tyX0 tyX0_ok nmX0 hown hK hP hD hS 0 rfl rfl 17 (by decide) (hts _ q42) (fun _ h9 => h9) rfl hin rfl (by decide +kernel) rfl rfl (Nat.le_of_ble_eq_true rfl) dX0_init_72 (fun H locs hP hD hS => ?_)
  have hP : va_P D vwCl [(h0, .inr (0, [.ref q_0, .ref q_1, .ref q_2, .int 0, .ref q_4, .ref q_5, .int 0, .int 0, .int 0, .int 0, .int 0, .int 0, .int 0, .int 0, .ref q_14, .ref q_15, .ref q_16, .ref q_17, .null, .null, .null, .null, .null, .null, .null, .null, .null, .null])), (q_0, .inl (c_0, 16, .inl (fun _ => 0))), (q_1, .inl (c_1, 16, .inl (fun _ => 0))), (q_2, .inl (c_2, 16, .inl (fun _ => 0))), (q_4, .inl (c_4, 4, .inl (fun _ => 0))), (q_5, .inl (c_5, 8, .inl (fun _ => 0))), (q_14, .inl (c_14, 6, .inl (fun _ => 0))), (q_15, .inl (c_15, 6, .inl (fun _ => 0))), (q_16, .inl (c_16, 6, .inl (fun _ => 0))), (q_17, .inl (c_17, 6, .inl (fun _ => 0)))] H := hP
  have hD : va_D A [(h0, .inr (0, [.ref q_0, .ref q_1, .ref q_2, .int 0, .ref q_4, .ref q_5, .int 0, .int 0, .int 0, .int 0, .int 0, .int 0, .int 0, .int 0, .ref q_14, .ref q_15, .ref q_16, .ref q_17, .null, .null, .null, .null, .null, .null, .null, .null, .null, .null])), (q_0, .inl (c_0, 16, .inl (fun _ => 0))), (q_1, .inl (c_1, 16, .inl (fun _ => 0))), (q_2, .inl (c_2, 16, .inl (fun _ => 0))), (q_4, .inl (c_4, 4, .inl (fun _ => 0))), (q_5, .inl (c_5, 8, .inl (fun _ => 0))), (q_14, .inl (c_14, 6, .inl (fun _ => 0))), (q_15, .inl (c_15, 6, .inl (fun _ => 0))), (q_16, .inl (c_16, 6, .inl (fun _ => 0))), (q_17, .inl (c_17, 6, .inl (fun _ => 0)))] := hD
  refine lv_aload_n hx hb dX0_init_75 rfl (lv_at hl 0 rfl) ?_
  refine lv_bipush (v := 6) hx hb dX0_init_76 (by decide) ?_
  refine va_newa (atype := .int) (ty := .int) (N' := 6) (a0 := (6, .inl (fun _ => 0))) hx hb (hts _ q111) rfl hK hP hD hS hA (fun _ => rfl) (by decide) (by decide) (by decide) (Nat.le_of_ble_eq_true rfl) (Nat.le_of_ble_eq_true rfl) dX0_init_78 (fun q_18 c_18 H hK hP hD hS => ?_)
  have hP : va_P D vwCl [(h0, .inr (0, [.ref q_0, .ref q_1, .ref q_2, .int 0, .ref q_4, .ref q_5, .int 0, .int 0, .int 0, .int 0, .int 0, .int 0, .int 0, .int 0, .ref q_14, .ref q_15, .ref q_16, .ref q_17, .null, .null, .null, .null, .null, .null, .null, .null, .null, .null])), (q_0, .inl (c_0, 16, .inl (fun _ => 0))), (q_1, .inl (c_1, 16, .inl (fun _ => 0))), (q_2, .inl (c_2, 16, .inl (fun _ => 0))), (q_4, .inl (c_4, 4, .inl (fun _ => 0))), (q_5, .inl (c_5, 8, .inl (fun _ => 0))), (q_14, .inl (c_14, 6, .inl (fun _ => 0))), (q_15, .inl (c_15, 6, .inl (fun _ => 0))), (q_16, .inl (c_16, 6, .inl (fun _ => 0))), (q_17, .inl (c_17, 6, .inl (fun _ => 0))), (q_18, .inl (c_18, 6, .inl (fun _ => 0)))] H := hP
  have hD : va_D A [(h0, .inr (0, [.ref q_0, .ref q_1, .ref q_2, .int 0, .ref q_4, .ref q_5, .int 0, .int 0, .int 0, .int 0, .int 0, .int 0, .int 0, .int 0, .ref q_14, .ref q_15, .ref q_16, .ref q_17, .null, .null, .null, .null, .null, .null, .null, .null, .null, .null])), (q_0, .inl (c_0, 16, .inl (fun _ => 0))), (q_1, .inl (c_1, 16, .inl (fun _ => 0))), (q_2, .inl (c_2, 16, .inl (fun _ => 0))), (q_4, .inl (c_4, 4, .inl (fun _ => 0))), (q_5, .inl (c_5, 8, .inl (fun _ => 0))), (q_14, .inl (c_14, 6, .inl (fun _ => 0))), (q_15, .inl (c_15, 6, .inl (fun _ => 0))), (q_16, .inl (c_16, 6, .inl (fun _ => 0))), (q_17, .inl (c_17, 6, .inl (fun _ => 0))), (q_18, .inl (c_18, 6, .inl (fun _ => 0)))] := hD
  have hK : va_K D vwCl [(c_0, .byte), (c_1, .byte), (c_2, .int), (c_4, .int), (c_5, .int), (c_14, .byte), (c_15, .int), (c_16, .byte), (c_17, .byte), (c_18, .int)] s := hK
  refine va_putF (D := D) (ci := 0) (v := .ref q_18) (ty := .array .int) (C := RX0) (T := TX0) (N := 28) hx hb hts in_X0 tyX0 tyX0_ok nmX0 hown hK hP hD hS 0 rfl rfl 18 (by decide) (hts _ q43) (fun _ h9 => h9) rfl hin rfl (by decide +kernel) rfl rfl (Nat.le_of_ble_eq_true rfl) dX0_init_80 (fun H locs hP hD hS => ?_)
  have hP : va_P D vwCl [(h0, .inr (0, [.ref q_0, .ref q_1, .ref q_2, .int 0, .ref q_4, .ref q_5, .int 0, .int 0, .int 0, .int 0, .int 0, .int 0, .int 0, .int 0, .ref q_14, .ref q_15, .ref q_16, .ref q_17, .ref q_18, .null, .null, .null, .null, .null, .null, .null, .null, .null])), (q_0, .inl (c_0, 16, .inl (fun _ => 0))), (q_1, .inl (c_1, 16, .inl (fun _ => 0))), (q_2, .inl (c_2, 16, .inl (fun _ => 0))), (q_4, .inl (c_4, 4, .inl (fun _ => 0))), (q_5, .inl (c_5, 8, .inl (fun _ => 0))), (q_14, .inl (c_14, 6, .inl (fun _ => 0))), (q_15, .inl (c_15, 6, .inl (fun _ => 0))), (q_16, .inl (c_16, 6, .inl (fun _ => 0))), (q_17, .inl (c_17, 6, .inl (fun _ => 0))), (q_18, .inl (c_18, 6, .inl (fun _ => 0)))] H := hP
  have hD : va_D A [(h0, .inr (0, [.ref q_0, .ref q_1, .ref q_2, .int 0, .ref q_4, .ref q_5, .int 0, .int 0, .int 0, .int 0, .int 0, .int 0, .int 0, .int 0, .ref q_14, .ref q_15, .ref q_16, .ref q_17, .ref q_18, .null, .null, .null, .null, .null, .null, .null, .null, .null])), (q_0, .inl (c_0, 16, .inl (fun _ => 0))), (q_1, .inl (c_1, 16, .inl (fun _ => 0))), (q_2, .inl (c_2, 16, .inl (fun _ => 0))), (q_4, .inl (c_4, 4, .inl (fun _ => 0))), (q_5, .inl (c_5, 8, .inl (fun _ => 0))), (q_14, .inl (c_14, 6, .inl (fun _ => 0))), (q_15, .inl (c_15, 6, .inl (fun _ => 0))), (q_16, .inl (c_16, 6, .inl (fun _ => 0))), (q_17, .inl (c_17, 6, .inl (fun _ => 0))), (q_18, .inl (c_18, 6, .inl (fun _ => 0)))] := hD
  refine lv_aload_n hx hb dX0_init_83 rfl (lv_at hl 0 rfl) ?_
  refine lv_bipush (v := 6) hx hb dX0_init_84 (by decide) ?_
  refine va_newa (atype := .int) (ty := .int) (N' := 6) (a0 := (6, .inl (fun _ => 0))) hx hb (hts _ q111) rfl hK hP hD hS hA (fun _ => rfl) (by decide) (by decide) (by decide) (Nat.le_of_ble_eq_true rfl) (Nat.le_of_ble_eq_true rfl) dX0_init_86 (fun q_19 c_19 H hK hP hD hS => ?_)
  have hP : va_P D vwCl [(h0, .inr (0, [.ref q_0, .ref q_1, .ref q_2, .int 0, .ref q_4, .ref q_5, .int 0, .int 0, .int 0, .int 0, .int 0, .int 0, .int 0, .int 0, .ref q_14, .ref q_15, .ref q_16, .ref q_17, .ref q_18, .null, .null, .null, .null, .null, .null, .null, .null, .null])), (q_0, .inl (c_0, 16, .inl (fun _ => 0))), (q_1, .inl (c_1, 16, .inl (fun _ => 0))), (q_2, .inl (c_2, 16, .inl (fun _ => 0))), (q_4, .inl (c_4, 4, .inl (fun _ => 0))), (q_5, .inl (c_5, 8, .inl (fun _ => 0))), (q_14, .inl (c_14, 6, .inl (fun _ => 0))), (q_15, .inl (c_15, 6, .inl (fun _ => 0))), (q_16, .inl (c_16, 6, .inl (fun _ => 0))), (q_17, .inl (c_17, 6, .inl (fun _ => 0))), (q_18, .inl (c_18, 6, .inl (fun _ => 0))), (q_19, .inl (c_19, 6, .inl (fun _ => 0)))] H := hP
  have hD : va_D A [(h0, .inr (0, [.ref q_0, .ref q_1, .ref q_2, .int 0, .ref q_4, .ref q_5, .int 0, .int 0, .int 0, .int 0, .int 0, .int 0, .int 0, .int 0, .ref q_14, .ref q_15, .ref q_16, .ref q_17, .ref q_18, .null, .null, .null, .null, .null, .null, .null, .null, .null])), (q_0, .inl (c_0, 16, .inl (fun _ => 0))), (q_1, .inl (c_1, 16, .inl (fun _ => 0))), (q_2, .inl (c_2, 16, .inl (fun _ => 0))), (q_4, .inl (c_4, 4, .inl (fun _ => 0))), (q_5, .inl (c_5, 8, .inl (fun _ => 0))), (q_14, .inl (c_14, 6, .inl (fun _ => 0))), (q_15, .inl (c_15, 6, .inl (fun _ => 0))), (q_16, .inl (c_16, 6, .inl (fun _ => 0))), (q_17, .inl (c_17, 6, .inl (fun _ => 0))), (q_18, .inl (c_18, 6, .inl (fun _ => 0))), (q_19, .inl (c_19, 6, .inl (fun _ => 0)))] := hD
  have hK : va_K D vwCl [(c_0, .byte), (c_1, .byte), (c_2, .int), (c_4, .int), (c_5, .int), (c_14, .byte), (c_15, .int), (c_16, .byte), (c_17, .byte), (c_18, .int), (c_19, .int)] s := hK
  refine va_putF (D := D) (ci := 0) (v := .ref q_19) (ty := .array .int) (C := RX0) (T := TX0) (N := 28) hx hb hts in_X0 tyX0 tyX0_ok nmX0 hown hK hP hD hS 0 rfl rfl 19 (by decide) (hts _ q44) (fun _ h9 => h9) rfl hin rfl (by decide +kernel) rfl rfl (Nat.le_of_ble_eq_true rfl) dX0_init_88 (fun H locs hP hD hS => ?_)
  have hP : va_P D vwCl [(h0, .inr (0, [.ref q_0, .ref q_1, .ref q_2, .int 0, .ref q_4, .ref q_5, .int 0, .int 0, .int 0, .int 0, .int 0, .int 0, .int 0, .int 0, .ref q_14, .ref q_15, .ref q_16, .ref q_17, .ref q_18, .ref q_19, .null, .null, .null, .null, .null, .null, .null, .null])), (q_0, .inl (c_0, 16, .inl (fun _ => 0))), (q_1, .inl (c_1, 16, .inl (fun _ => 0))), (q_2, .inl (c_2, 16, .inl (fun _ => 0))), (q_4, .inl (c_4, 4, .inl (fun _ => 0))), (q_5, .inl (c_5, 8, .inl (fun _ => 0))), (q_14, .inl (c_14, 6, .inl (fun _ => 0))), (q_15, .inl (c_15, 6, .inl (fun _ => 0))), (q_16, .inl (c_16, 6, .inl (fun _ => 0))), (q_17, .inl (c_17, 6, .inl (fun _ => 0))), (q_18, .inl (c_18, 6, .inl (fun _ => 0))), (q_19, .inl (c_19, 6, .inl (fun _ => 0)))] H := hP
  have hD : va_D A [(h0, .inr (0, [.ref q_0, .ref q_1, .ref q_2, .int 0, .ref q_4, .ref q_5, .int 0, .int 0, .int 0, .int 0, .int 0, .int 0, .int 0, .int 0, .ref q_14, .ref q_15, .ref q_16, .ref q_17, .ref q_18, .ref q_19, .null, .null, .null, .null, .null, .null, .null, .null])), (q_0, .inl (c_0, 16, .inl (fun _ => 0))), (q_1, .inl (c_1, 16, .inl (fun _ => 0))), (q_2, .inl (c_2, 16, .inl (fun _ => 0))), (q_4, .inl (c_4, 4, .inl (fun _ => 0))), (q_5, .inl (c_5, 8, .inl (fun _ => 0))), (q_14, .inl (c_14, 6, .inl (fun _ => 0))), (q_15, .inl (c_15, 6, .inl (fun _ => 0))), (q_16, .inl (c_16, 6, .inl (fun _ => 0))), (q_17, .inl (c_17, 6, .inl (fun _ => 0))), (q_18, .inl (c_18, 6, .inl (fun _ => 0))), (q_19, .inl (c_19, 6, .inl (fun _ => 0)))] := hD
  refine lv_aload_n hx hb dX0_init_91 rfl (lv_at hl 0 rfl) ?_
  refine lv_bipush (v := 6) hx hb dX0_init_92 (by decide) ?_
  refine va_newa (atype := .boolean) (ty := .boolean) (N' := 6) (a0 := (6, .inl (fun _ => 0))) hx hb (hts _ q112) rfl hK hP hD hS hA (fun _ => rfl) (by decide) (by decide) (by decide) (Nat.le_of_ble_eq_true rfl) (Nat.le_of_ble_eq_true rfl) dX0_init_94 (fun q_20 c_20 H hK hP hD hS => ?_)
  have hP : va_P D vwCl [(h0, .inr (0, [.ref q_0, .ref q_1, .ref q_2, .int 0, .ref q_4, .ref q_5, .int 0, .int 0, .int 0, .int 0, .int 0, .int 0, .int 0, .int 0, .ref q_14, .ref q_15, .ref q_16, .ref q_17, .ref q_18, .ref q_19, .null, .null, .null, .null, .null, .null, .null, .null])), (q_0, .inl (c_0, 16, .inl (fun _ => 0))), (q_1, .inl (c_1, 16, .inl (fun _ => 0))), (q_2, .inl (c_2, 16, .inl (fun _ => 0))), (q_4, .inl (c_4, 4, .inl (fun _ => 0))), (q_5, .inl (c_5, 8, .inl (fun _ => 0))), (q_14, .inl (c_14, 6, .inl (fun _ => 0))), (q_15, .inl (c_15, 6, .inl (fun _ => 0))), (q_16, .inl (c_16, 6, .inl (fun _ => 0))), (q_17, .inl (c_17, 6, .inl (fun _ => 0))), (q_18, .inl (c_18, 6, .inl (fun _ => 0))), (q_19, .inl (c_19, 6, .inl (fun _ => 0))), (q_20, .inl (c_20, 6, .inl (fun _ => 0)))] H := hP
  have hD : va_D A [(h0, .inr (0, [.ref q_0, .ref q_1, .ref q_2, .int 0, .ref q_4, .ref q_5, .int 0, .int 0, .int 0, .int 0, .int 0, .int 0, .int 0, .int 0, .ref q_14, .ref q_15, .ref q_16, .ref q_17, .ref q_18, .ref q_19, .null, .null, .null, .null, .null, .null, .null, .null])), (q_0, .inl (c_0, 16, .inl (fun _ => 0))), (q_1, .inl (c_1, 16, .inl (fun _ => 0))), (q_2, .inl (c_2, 16, .inl (fun _ => 0))), (q_4, .inl (c_4, 4, .inl (fun _ => 0))), (q_5, .inl (c_5, 8, .inl (fun _ => 0))), (q_14, .inl (c_14, 6, .inl (fun _ => 0))), (q_15, .inl (c_15, 6, .inl (fun _ => 0))), (q_16, .inl (c_16, 6, .inl (fun _ => 0))), (q_17, .inl (c_17, 6, .inl (fun _ => 0))), (q_18, .inl (c_18, 6, .inl (fun _ => 0))), (q_19, .inl (c_19, 6, .inl (fun _ => 0))), (q_20, .inl (c_20, 6, .inl (fun _ => 0)))] := hD
  have hK : va_K D vwCl [(c_0, .byte), (c_1, .byte), (c_2, .int), (c_4, .int), (c_5, .int), (c_14, .byte), (c_15, .int), (c_16, .byte), (c_17, .byte), (c_18, .int), (c_19, .int), (c_20, .boolean)] s := hK
  refine va_putF (D := D) (ci := 0) (v := .ref q_20) (ty := .array .boolean) (C := RX0) (T := TX0) (N := 28) hx hb hts in_X0 tyX0 tyX0_ok nmX0 hown hK hP hD hS 0 rfl rfl 20 (by decide) (hts _ q45) (fun _ h9 => h9) rfl hin rfl (by decide +kernel) rfl rfl (Nat.le_of_ble_eq_true rfl) dX0_init_96 (fun H locs hP hD hS => ?_)
  have hP : va_P D vwCl [(h0, .inr (0, [.ref q_0, .ref q_1, .ref q_2, .int 0, .ref q_4, .ref q_5, .int 0, .int 0, .int 0, .int 0, .int 0, .int 0, .int 0, .int 0, .ref q_14, .ref q_15, .ref q_16, .ref q_17, .ref q_18, .ref q_19, .ref q_20, .null, .null, .null, .null, .null, .null, .null])), (q_0, .inl (c_0, 16, .inl (fun _ => 0))), (q_1, .inl (c_1, 16, .inl (fun _ => 0))), (q_2, .inl (c_2, 16, .inl (fun _ => 0))), (q_4, .inl (c_4, 4, .inl (fun _ => 0))), (q_5, .inl (c_5, 8, .inl (fun _ => 0))), (q_14, .inl (c_14, 6, .inl (fun _ => 0))), (q_15, .inl (c_15, 6, .inl (fun _ => 0))), (q_16, .inl (c_16, 6, .inl (fun _ => 0))), (q_17, .inl (c_17, 6, .inl (fun _ => 0))), (q_18, .inl (c_18, 6, .inl (fun _ => 0))), (q_19, .inl (c_19, 6, .inl (fun _ => 0))), (q_20, .inl (c_20, 6, .inl (fun _ => 0)))] H := hP
  have hD : va_D A [(h0, .inr (0, [.ref q_0, .ref q_1, .ref q_2, .int 0, .ref q_4, .ref q_5, .int 0, .int 0, .int 0, .int 0, .int 0, .int 0, .int 0, .int 0, .ref q_14, .ref q_15, .ref q_16, .ref q_17, .ref q_18, .ref q_19, .ref q_20, .null, .null, .null, .null, .null, .null, .null])), (q_0, .inl (c_0, 16, .inl (fun _ => 0))), (q_1, .inl (c_1, 16, .inl (fun _ => 0))), (q_2, .inl (c_2, 16, .inl (fun _ => 0))), (q_4, .inl (c_4, 4, .inl (fun _ => 0))), (q_5, .inl (c_5, 8, .inl (fun _ => 0))), (q_14, .inl (c_14, 6, .inl (fun _ => 0))), (q_15, .inl (c_15, 6, .inl (fun _ => 0))), (q_16, .inl (c_16, 6, .inl (fun _ => 0))), (q_17, .inl (c_17, 6, .inl (fun _ => 0))), (q_18, .inl (c_18, 6, .inl (fun _ => 0))), (q_19, .inl (c_19, 6, .inl (fun _ => 0))), (q_20, .inl (c_20, 6, .inl (fun _ => 0)))] := hD
  refine lv_aload_n hx hb dX0_init_99 rfl (lv_at hl 0 rfl) ?_
  refine lv_bipush (v := 6) hx hb dX0_init_100 (by decide) ?_
  refine va_newa (atype := .int) (ty := .int) (N' := 6) (a0 := (6, .inl (fun _ => 0))) hx hb (hts _ q111) rfl hK hP hD hS hA (fun _ => rfl) (by decide) (by decide) (by decide) (Nat.le_of_ble_eq_true rfl) (Nat.le_of_ble_eq_true rfl) dX0_init_102 (fun q_21 c_21 H hK hP hD hS => ?_)
  have hP : va_P D vwCl [(h0, .inr (0, [.ref q_0, .ref q_1, .ref q_2, .int 0, .ref q_4, .ref q_5, .int 0, .int 0, .int 0, .int 0, .int 0, .int 0, .int 0, .int 0, .ref q_14, .ref q_15, .ref q_16, .ref q_17, .ref q_18, .ref q_19, .ref q_20, .null, .null, .null, .null, .null, .null, .null])), (q_0, .inl (c_0, 16, .inl (fun _ => 0))), (q_1, .inl (c_1, 16, .inl (fun _ => 0))), (q_2, .inl (c_2, 16, .inl (fun _ => 0))), (q_4, .inl (c_4, 4, .inl (fun _ => 0))), (q_5, .inl (c_5, 8, .inl (fun _ => 0))), (q_14, .inl (c_14, 6, .inl (fun _ => 0))), (q_15, .inl (c_15, 6, .inl (fun _ => 0))), (q_16, .inl (c_16, 6, .inl (fun _ => 0))), (q_17, .inl (c_17, 6, .inl (fun _ => 0))), (q_18, .inl (c_18, 6, .inl (fun _ => 0))), (q_19, .inl (c_19, 6, .inl (fun _ => 0))), (q_20, .inl (c_20, 6, .inl (fun _ => 0))), (q_21, .inl (c_21, 6, .inl (fun _ => 0)))] H := hP
  have hD : va_D A [(h0, .inr (0, [.ref q_0, .ref q_1, .ref q_2, .int 0, .ref q_4, .ref q_5, .int 0, .int 0, .int 0, .int 0, .int 0, .int 0, .int 0, .int 0, .ref q_14, .ref q_15, .ref q_16, .ref q_17, .ref q_18, .ref q_19, .ref q_20, .null, .null, .null, .null, .null, .null, .null])), (q_0, .inl (c_0, 16, .inl (fun _ => 0))), (q_1, .inl (c_1, 16, .inl (fun _ => 0))), (q_2, .inl (c_2, 16, .inl (fun _ => 0))), (q_4, .inl (c_4, 4, .inl (fun _ => 0))), (q_5, .inl (c_5, 8, .inl (fun _ => 0))), (q_14, .inl (c_14, 6, .inl (fun _ => 0))), (q_15, .inl (c_15, 6, .inl (fun _ => 0))), (q_16, .inl (c_16, 6, .inl (fun _ => 0))), (q_17, .inl (c_17, 6, .inl (fun _ => 0))), (q_18, .inl (c_18, 6, .inl (fun _ => 0))), (q_19, .inl (c_19, 6, .inl (fun _ => 0))), (q_20, .inl (c_20, 6, .inl (fun _ => 0))), (q_21, .inl (c_21, 6, .inl (fun _ => 0)))] := hD
  have hK : va_K D vwCl [(c_0, .byte), (c_1, .byte), (c_2, .int), (c_4, .int), (c_5, .int), (c_14, .byte), (c_15, .int), (c_16, .byte), (c_17, .byte), (c_18, .int), (c_19, .int), (c_20, .boolean), (c_21, .int)] s := hK
  refine va_putF (D := D) (ci := 0) (v := .ref q_21) (ty := .array .int) (C := RX0) (T := TX0) (N := 28) hx hb hts in_X0 tyX0 tyX0_ok nmX0 hown hK hP hD hS 0 rfl rfl 21 (by decide) (hts _ q46) (fun _ h9 => h9) rfl hin rfl (by decide +kernel) rfl rfl (Nat.le_of_ble_eq_true rfl) dX0_init_104 (fun H locs hP hD hS => ?_)
  have hP : va_P D vwCl [(h0, .inr (0, [.ref q_0, .ref q_1, .ref q_2, .int 0, .ref q_4, .ref q_5, .int 0, .int 0, .int 0, .int 0, .int 0, .int 0, .int 0, .int 0, .ref q_14, .ref q_15, .ref q_16, .ref q_17, .ref q_18, .ref q_19, .ref q_20, .ref q_21, .null, .null, .null, .null, .null, .null])), (q_0, .inl (c_0, 16, .inl (fun _ => 0))), (q_1, .inl (c_1, 16, .inl (fun _ => 0))), (q_2, .inl (c_2, 16, .inl (fun _ => 0))), (q_4, .inl (c_4, 4, .inl (fun _ => 0))), (q_5, .inl (c_5, 8, .inl (fun _ => 0))), (q_14, .inl (c_14, 6, .inl (fun _ => 0))), (q_15, .inl (c_15, 6, .inl (fun _ => 0))), (q_16, .inl (c_16, 6, .inl (fun _ => 0))), (q_17, .inl (c_17, 6, .inl (fun _ => 0))), (q_18, .inl (c_18, 6, .inl (fun _ => 0))), (q_19, .inl (c_19, 6, .inl (fun _ => 0))), (q_20, .inl (c_20, 6, .inl (fun _ => 0))), (q_21, .inl (c_21, 6, .inl (fun _ => 0)))] H := hP
  have hD : va_D A [(h0, .inr (0, [.ref q_0, .ref q_1, .ref q_2, .int 0, .ref q_4, .ref q_5, .int 0, .int 0, .int 0, .int 0, .int 0, .int 0, .int 0, .int 0, .ref q_14, .ref q_15, .ref q_16, .ref q_17, .ref q_18, .ref q_19, .ref q_20, .ref q_21, .null, .null, .null, .null, .null, .null])), (q_0, .inl (c_0, 16, .inl (fun _ => 0))), (q_1, .inl (c_1, 16, .inl (fun _ => 0))), (q_2, .inl (c_2, 16, .inl (fun _ => 0))), (q_4, .inl (c_4, 4, .inl (fun _ => 0))), (q_5, .inl (c_5, 8, .inl (fun _ => 0))), (q_14, .inl (c_14, 6, .inl (fun _ => 0))), (q_15, .inl (c_15, 6, .inl (fun _ => 0))), (q_16, .inl (c_16, 6, .inl (fun _ => 0))), (q_17, .inl (c_17, 6, .inl (fun _ => 0))), (q_18, .inl (c_18, 6, .inl (fun _ => 0))), (q_19, .inl (c_19, 6, .inl (fun _ => 0))), (q_20, .inl (c_20, 6, .inl (fun _ => 0))), (q_21, .inl (c_21, 6, .inl (fun _ => 0)))] := hD
  refine lv_aload_n hx hb dX0_init_107 rfl (lv_at hl 0 rfl) ?_
  refine lv_bipush (v := 6) hx hb dX0_init_108 (by decide) ?_
  refine va_newa (atype := .byte) (ty := .byte) (N' := 6) (a0 := (6, .inl (fun _ => 0))) hx hb (hts _ q110) rfl hK hP hD hS hA (fun _ => rfl) (by decide) (by decide) (by decide) (Nat.le_of_ble_eq_true rfl) (Nat.le_of_ble_eq_true rfl) dX0_init_110 (fun q_22 c_22 H hK hP hD hS => ?_)
  have hP : va_P D vwCl [(h0, .inr (0, [.ref q_0, .ref q_1, .ref q_2, .int 0, .ref q_4, .ref q_5, .int 0, .int 0, .int 0, .int 0, .int 0, .int 0, .int 0, .int 0, .ref q_14, .ref q_15, .ref q_16, .ref q_17, .ref q_18, .ref q_19, .ref q_20, .ref q_21, .null, .null, .null, .null, .null, .null])), (q_0, .inl (c_0, 16, .inl (fun _ => 0))), (q_1, .inl (c_1, 16, .inl (fun _ => 0))), (q_2, .inl (c_2, 16, .inl (fun _ => 0))), (q_4, .inl (c_4, 4, .inl (fun _ => 0))), (q_5, .inl (c_5, 8, .inl (fun _ => 0))), (q_14, .inl (c_14, 6, .inl (fun _ => 0))), (q_15, .inl (c_15, 6, .inl (fun _ => 0))), (q_16, .inl (c_16, 6, .inl (fun _ => 0))), (q_17, .inl (c_17, 6, .inl (fun _ => 0))), (q_18, .inl (c_18, 6, .inl (fun _ => 0))), (q_19, .inl (c_19, 6, .inl (fun _ => 0))), (q_20, .inl (c_20, 6, .inl (fun _ => 0))), (q_21, .inl (c_21, 6, .inl (fun _ => 0))), (q_22, .inl (c_22, 6, .inl (fun _ => 0)))] H := hP
  have hD : va_D A [(h0, .inr (0, [.ref q_0, .ref q_1, .ref q_2, .int 0, .ref q_4, .ref q_5, .int 0, .int 0, .int 0, .int 0, .int 0, .int 0, .int 0, .int 0, .ref q_14, .ref q_15, .ref q_16, .ref q_17, .ref q_18, .ref q_19, .ref q_20, .ref q_21, .null, .null, .null, .null, .null, .null])), (q_0, .inl (c_0, 16, .inl (fun _ => 0))), (q_1, .inl (c_1, 16, .inl (fun _ => 0))), (q_2, .inl (c_2, 16, .inl (fun _ => 0))), (q_4, .inl (c_4, 4, .inl (fun _ => 0))), (q_5, .inl (c_5, 8, .inl (fun _ => 0))), (q_14, .inl (c_14, 6, .inl (fun _ => 0))), (q_15, .inl (c_15, 6, .inl (fun _ => 0))), (q_16, .inl (c_16, 6, .inl (fun _ => 0))), (q_17, .inl (c_17, 6, .inl (fun _ => 0))), (q_18, .inl (c_18, 6, .inl (fun _ => 0))), (q_19, .inl (c_19, 6, .inl (fun _ => 0))), (q_20, .inl (c_20, 6, .inl (fun _ => 0))), (q_21, .inl (c_21, 6, .inl (fun _ => 0))), (q_22, .inl (c_22, 6, .inl (fun _ => 0)))] := hD
  have hK : va_K D vwCl [(c_0, .byte), (c_1, .byte), (c_2, .int), (c_4, .int), (c_5, .int), (c_14, .byte), (c_15, .int), (c_16, .byte), (c_17, .byte), (c_18, .int), (c_19, .int), (c_20, .boolean), (c_21, .int), (c_22, .byte)] s := hK
  refine va_putF (D := D) (ci := 0) (v := .ref q_22) (ty := .array .byte) (C := RX0) (T := TX0) (N := 28) hx hb hts in_X0 tyX0 tyX0_ok nmX0 hown hK hP hD hS 0 rfl rfl 22 (by decide) (hts _ q47) (fun _ h9 => h9) rfl hin rfl (by decide +kernel) rfl rfl (Nat.le_of_ble_eq_true rfl) dX0_init_112 (fun H locs hP hD hS => ?_)
  have hP : va_P D vwCl [(h0, .inr (0, [.ref q_0, .ref q_1, .ref q_2, .int 0, .ref q_4, .ref q_5, .int 0, .int 0, .int 0, .int 0, .int 0, .int 0, .int 0, .int 0, .ref q_14, .ref q_15, .ref q_16, .ref q_17, .ref q_18, .ref q_19, .ref q_20, .ref q_21, .ref q_22, .null, .null, .null, .null, .null])), (q_0, .inl (c_0, 16, .inl (fun _ => 0))), (q_1, .inl (c_1, 16, .inl (fun _ => 0))), (q_2, .inl (c_2, 16, .inl (fun _ => 0))), (q_4, .inl (c_4, 4, .inl (fun _ => 0))), (q_5, .inl (c_5, 8, .inl (fun _ => 0))), (q_14, .inl (c_14, 6, .inl (fun _ => 0))), (q_15, .inl (c_15, 6, .inl (fun _ => 0))), (q_16, .inl (c_16, 6, .inl (fun _ => 0))), (q_17, .inl (c_17, 6, .inl (fun _ => 0))), (q_18, .inl (c_18, 6, .inl (fun _ => 0))), (q_19, .inl (c_19, 6, .inl (fun _ => 0))), (q_20, .inl (c_20, 6, .inl (fun _ => 0))), (q_21, .inl (c_21, 6, .inl (fun _ => 0))), (q_22, .inl (c_22, 6, .inl (fun _ => 0)))] H := hP
  have hD : va_D A [(h0, .inr (0, [.ref q_0, .ref q_1, .ref q_2, .int 0, .ref q_4, .ref q_5, .int 0, .int 0, .int 0, .int 0, .int 0, .int 0, .int 0, .int 0, .ref q_14, .ref q_15, .ref q_16, .ref q_17, .ref q_18, .ref q_19, .ref q_20, .ref q_21, .ref q_22, .null, .null, .null, .null, .null])), (q_0, .inl (c_0, 16, .inl (fun _ => 0))), (q_1, .inl (c_1, 16, .inl (fun _ => 0))), (q_2, .inl (c_2, 16, .inl (fun _ => 0))), (q_4, .inl (c_4, 4, .inl (fun _ => 0))), (q_5, .inl (c_5, 8, .inl (fun _ => 0))), (q_14, .inl (c_14, 6, .inl (fun _ => 0))), (q_15, .inl (c_15, 6, .inl (fun _ => 0))), (q_16, .inl (c_16, 6, .inl (fun _ => 0))), (q_17, .inl (c_17, 6, .inl (fun _ => 0))), (q_18, .inl (c_18, 6, .inl (fun _ => 0))), (q_19, .inl (c_19, 6, .inl (fun _ => 0))), (q_20, .inl (c_20, 6, .inl (fun _ => 0))), (q_21, .inl (c_21, 6, .inl (fun _ => 0))), (q_22, .inl (c_22, 6, .inl (fun _ => 0)))] := hD
  refine lv_aload_n hx hb dX0_init_115 rfl (lv_at hl 0 rfl) ?_
  refine lv_bipush (v := 6) hx hb dX0_init_116 (by decide) ?_
  refine va_newa (atype := .byte) (ty := .byte) (N' := 6) (a0 := (6, .inl (fun _ => 0))) hx hb (hts _ q110) rfl hK hP hD hS hA (fun _ => rfl) (by decide) (by decide) (by decide) (Nat.le_of_ble_eq_true rfl) (Nat.le_of_ble_eq_true rfl) dX0_init_118 (fun q_23 c_23 H hK hP hD hS => ?_)
  have hP : va_P D vwCl [(h0, .inr (0, [.ref q_0, .ref q_1, .ref q_2, .int 0, .ref q_4, .ref q_5, .int 0, .int 0, .int 0, .int 0, .int 0, .int 0, .int 0, .int 0, .ref q_14, .ref q_15, .ref q_16, .ref q_17, .ref q_18, .ref q_19, .ref q_20, .ref q_21, .ref q_22, .null, .null, .null, .null, .null])), (q_0, .inl (c_0, 16, .inl (fun _ => 0))), (q_1, .inl (c_1, 16, .inl (fun _ => 0))), (q_2, .inl (c_2, 16, .inl (fun _ => 0))), (q_4, .inl (c_4, 4, .inl (fun _ => 0))), (q_5, .inl (c_5, 8, .inl (fun _ => 0))), (q_14, .inl (c_14, 6, .inl (fun _ => 0))), (q_15, .inl (c_15, 6, .inl (fun _ => 0))), (q_16, .inl (c_16, 6, .inl (fun _ => 0))), (q_17, .inl (c_17, 6, .inl (fun _ => 0))), (q_18, .inl (c_18, 6, .inl (fun _ => 0))), (q_19, .inl (c_19, 6, .inl (fun _ => 0))), (q_20, .inl (c_20, 6, .inl (fun _ => 0))), (q_21, .inl (c_21, 6, .inl (fun _ => 0))), (q_22, .inl (c_22, 6, .inl (fun _ => 0))), (q_23, .inl (c_23, 6, .inl (fun _ => 0)))] H := hP
  have hD : va_D A [(h0, .inr (0, [.ref q_0, .ref q_1, .ref q_2, .int 0, .ref q_4, .ref q_5, .int 0, .int 0, .int 0, .int 0, .int 0, .int 0, .int 0, .int 0, .ref q_14, .ref q_15, .ref q_16, .ref q_17, .ref q_18, .ref q_19, .ref q_20, .ref q_21, .ref q_22, .null, .null, .null, .null, .null])), (q_0, .inl (c_0, 16, .inl (fun _ => 0))), (q_1, .inl (c_1, 16, .inl (fun _ => 0))), (q_2, .inl (c_2, 16, .inl (fun _ => 0))), (q_4, .inl (c_4, 4, .inl (fun _ => 0))), (q_5, .inl (c_5, 8, .inl (fun _ => 0))), (q_14, .inl (c_14, 6, .inl (fun _ => 0))), (q_15, .inl (c_15, 6, .inl (fun _ => 0))), (q_16, .inl (c_16, 6, .inl (fun _ => 0))), (q_17, .inl (c_17, 6, .inl (fun _ => 0))), (q_18, .inl (c_18, 6, .inl (fun _ => 0))), (q_19, .inl (c_19, 6, .inl (fun _ => 0))), (q_20, .inl (c_20, 6, .inl (fun _ => 0))), (q_21, .inl (c_21, 6, .inl (fun _ => 0))), (q_22, .inl (c_22, 6, .inl (fun _ => 0))), (q_23, .inl (c_23, 6, .inl (fun _ => 0)))] := hD
  have hK : va_K D vwCl [(c_0, .byte), (c_1, .byte), (c_2, .int), (c_4, .int), (c_5, .int), (c_14, .byte), (c_15, .int), (c_16, .byte), (c_17, .byte), (c_18, .int), (c_19, .int), (c_20, .boolean), (c_21, .int), (c_22, .byte), (c_23, .byte)] s := hK
  refine va_putF (D := D) (ci := 0) (v := .ref q_23) (ty := .array .byte) (C := RX0) (T := TX0) (N := 28) hx hb hts in_X0 tyX0 tyX0_ok nmX0 hown hK hP hD hS 0 rfl rfl 23 (by decide) (hts _ q48) (fun _ h9 => h9) rfl hin rfl (by decide +kernel) rfl rfl (Nat.le_of_ble_eq_true rfl) dX0_init_120 (fun H locs hP hD hS => ?_)
  have hP : va_P D vwCl [(h0, .inr (0, [.ref q_0, .ref q_1, .ref q_2, .int 0, .ref q_4, .ref q_5, .int 0, .int 0, .int 0, .int 0, .int 0, .int 0, .int 0, .int 0, .ref q_14, .ref q_15, .ref q_16, .ref q_17, .ref q_18, .ref q_19, .ref q_20, .ref q_21, .ref q_22, .ref q_23, .null, .null, .null, .null])), (q_0, .inl (c_0, 16, .inl (fun _ => 0))), (q_1, .inl (c_1, 16, .inl (fun _ => 0))), (q_2, .inl (c_2, 16, .inl (fun _ => 0))), (q_4, .inl (c_4, 4, .inl (fun _ => 0))), (q_5, .inl (c_5, 8, .inl (fun _ => 0))), (q_14, .inl (c_14, 6, .inl (fun _ => 0))), (q_15, .inl (c_15, 6, .inl (fun _ => 0))), (q_16, .inl (c_16, 6, .inl (fun _ => 0))), (q_17, .inl (c_17, 6, .inl (fun _ => 0))), (q_18, .inl (c_18, 6, .inl (fun _ => 0))), (q_19, .inl (c_19, 6, .inl (fun _ => 0))), (q_20, .inl (c_20, 6, .inl (fun _ => 0))), (q_21, .inl (c_21, 6, .inl (fun _ => 0))), (q_22, .inl (c_22, 6, .inl (fun _ => 0))), (q_23, .inl (c_23, 6, .inl (fun _ => 0)))] H := hP
  have hD : va_D A [(h0, .inr (0, [.ref q_0, .ref q_1, .ref q_2, .int 0, .ref q_4, .ref q_5, .int 0, .int 0, .int 0, .int 0, .int 0, .int 0, .int 0, .int 0, .ref q_14, .ref q_15, .ref q_16, .ref q_17, .ref q_18, .ref q_19, .ref q_20, .ref q_21, .ref q_22, .ref q_23, .null, .null, .null, .null])), (q_0, .inl (c_0, 16, .inl (fun _ => 0))), (q_1, .inl (c_1, 16, .inl (fun _ => 0))), (q_2, .inl (c_2, 16, .inl (fun _ => 0))), (q_4, .inl (c_4, 4, .inl (fun _ => 0))), (q_5, .inl (c_5, 8, .inl (fun _ => 0))), (q_14, .inl (c_14, 6, .inl (fun _ => 0))), (q_15, .inl (c_15, 6, .inl (fun _ => 0))), (q_16, .inl (c_16, 6, .inl (fun _ => 0))), (q_17, .inl (c_17, 6, .inl (fun _ => 0))), (q_18, .inl (c_18, 6, .inl (fun _ => 0))), (q_19, .inl (c_19, 6, .inl (fun _ => 0))), (q_20, .inl (c_20, 6, .inl (fun _ => 0))), (q_21, .inl (c_21, 6, .inl (fun _ => 0))), (q_22, .inl (c_22, 6, .inl (fun _ => 0))), (q_23, .inl (c_23, 6, .inl (fun _ => 0)))] := hD
  refine lv_aload_n hx hb dX0_init_123 rfl (lv_at hl 0 rfl) ?_
  refine lv_bipush (v := 6) hx hb dX0_init_124 (by decide) ?_
  refine va_newa (atype := .byte) (ty := .byte) (N' := 6) (a0 := (6, .inl (fun _ => 0))) hx hb (hts _ q110) rfl hK hP hD hS hA (fun _ => rfl) (by decide) (by decide) (by decide) (Nat.le_of_ble_eq_true rfl) (Nat.le_of_ble_eq_true rfl) dX0_init_126 (fun q_24 c_24 H hK hP hD hS => ?_)
  have hP : va_P D vwCl [(h0, .inr (0, [.ref q_0, .ref q_1, .ref q_2, .int 0, .ref q_4, .ref q_5, .int 0, .int 0, .int 0, .int 0, .int 0, .int 0, .int 0, .int 0, .ref q_14, .ref q_15, .ref q_16, .ref q_17, .ref q_18, .ref q_19, .ref q_20, .ref q_21, .ref q_22, .ref q_23, .null, .null, .null, .null])), (q_0, .inl (c_0, 16, .inl (fun _ => 0))), (q_1, .inl (c_1, 16, .inl (fun _ => 0))), (q_2, .inl (c_2, 16, .inl (fun _ => 0))), (q_4, .inl (c_4, 4, .inl (fun _ => 0))), (q_5, .inl (c_5, 8, .inl (fun _ => 0))), (q_14, .inl (c_14, 6, .inl (fun _ => 0))), (q_15, .inl (c_15, 6, .inl (fun _ => 0))), (q_16, .inl (c_16, 6, .inl (fun _ => 0))), (q_17, .inl (c_17, 6, .inl (fun _ => 0))), (q_18, .inl (c_18, 6, .inl (fun _ => 0))), (q_19, .inl (c_19, 6, .inl (fun _ => 0))), (q_20, .inl (c_20, 6, .inl (fun _ => 0))), (q_21, .inl (c_21, 6, .inl (fun _ => 0))), (q_22, .inl (c_22, 6, .inl (fun _ => 0))), (q_23, .inl (c_23, 6, .inl (fun _ => 0))), (q_24, .inl (c_24, 6, .inl (fun _ => 0)))] H := hP
  have hD : va_D A [(h0, .inr (0, [.ref q_0, .ref q_1, .ref q_2, .int 0, .ref q_4, .ref q_5, .int 0, .int 0, .int 0, .int 0, .int 0, .int 0, .int 0, .int 0, .ref q_14, .ref q_15, .ref q_16, .ref q_17, .ref q_18, .ref q_19, .ref q_20, .ref q_21, .ref q_22, .ref q_23, .null, .null, .null, .null])), (q_0, .inl (c_0, 16, .inl (fun _ => 0))), (q_1, .inl (c_1, 16, .inl (fun _ => 0))), (q_2, .inl (c_2, 16, .inl (fun _ => 0))), (q_4, .inl (c_4, 4, .inl (fun _ => 0))), (q_5, .inl (c_5, 8, .inl (fun _ => 0))), (q_14, .inl (c_14, 6, .inl (fun _ => 0))), (q_15, .inl (c_15, 6, .inl (fun _ => 0))), (q_16, .inl (c_16, 6, .inl (fun _ => 0))), (q_17, .inl (c_17, 6, .inl (fun _ => 0))), (q_18, .inl (c_18, 6, .inl (fun _ => 0))), (q_19, .inl (c_19, 6, .inl (fun _ => 0))), (q_20, .inl (c_20, 6, .inl (fun _ => 0))), (q_21, .inl (c_21, 6, .inl (fun _ => 0))), (q_22, .inl (c_22, 6, .inl (fun _ => 0))), (q_23, .inl (c_23, 6, .inl (fun _ => 0))), (q_24, .inl (c_24, 6, .inl (fun _ => 0)))] := hD
  have hK : va_K D vwCl [(c_0, .byte), (c_1, .byte), (c_2, .int), (c_4, .int), (c_5, .int), (c_14, .byte), (c_15, .int), (c_16, .byte), (c_17, .byte), (c_18, .int), (c_19, .int), (c_20, .boolean), (c_21, .int), (c_22, .byte), (c_23, .byte), (c_24, .byte)] s := hK
  refine va_putF (D := D) (ci := 0) (v := .ref q_24) (ty := .array .byte) (C := RX0) (T := TX0) (N := 28) hx hb hts in_X0 tyX0 tyX0_ok nmX0 hown hK hP hD hS 0 rfl rfl 24 (by decide) (hts _ q49) (fun _ h9 => h9) rfl hin rfl (by decide +kernel) rfl rfl (Nat.le_of_ble_eq_true rfl) dX0_init_128 (fun H locs hP hD hS => ?_)
  have hP : va_P D vwCl [(h0, .inr (0, [.ref q_0, .ref q_1, .ref q_2, .int 0, .ref q_4, .ref q_5, .int 0, .int 0, .int 0, .int 0, .int 0, .int 0, .int 0, .int 0, .ref q_14, .ref q_15, .ref q_16, .ref q_17, .ref q_18, .ref q_19, .ref q_20, .ref q_21, .ref q_22, .ref q_23, .ref q_24, .null, .null, .null])), (q_0, .inl (c_0, 16, .inl (fun _ => 0))), (q_1, .inl (c_1, 16, .inl (fun _ => 0))), (q_2, .inl (c_2, 16, .inl (fun _ => 0))), (q_4, .inl (c_4, 4, .inl (fun _ => 0))), (q_5, .inl (c_5, 8, .inl (fun _ => 0))), (q_14, .inl (c_14, 6, .inl (fun _ => 0))), (q_15, .inl (c_15, 6, .inl (fun _ => 0))), (q_16, .inl (c_16, 6, .inl (fun _ => 0))), (q_17, .inl (c_17, 6, .inl (fun _ => 0))), (q_18, .inl (c_18, 6, .inl (fun _ => 0))), (q_19, .inl (c_19, 6, .inl (fun _ => 0))), (q_20, .inl (c_20, 6, .inl (fun _ => 0))), (q_21, .inl (c_21, 6, .inl (fun _ => 0))), (q_22, .inl (c_22, 6, .inl (fun _ => 0))), (q_23, .inl (c_23, 6, .inl (fun _ => 0))), (q_24, .inl (c_24, 6, .inl (fun _ => 0)))] H := hP
  have hD : va_D A [(h0, .inr (0, [.ref q_0, .ref q_1, .ref q_2, .int 0, .ref q_4, .ref q_5, .int 0, .int 0, .int 0, .int 0, .int 0, .int 0, .int 0, .int 0, .ref q_14, .ref q_15, .ref q_16, .ref q_17, .ref q_18, .ref q_19, .ref q_20, .ref q_21, .ref q_22, .ref q_23, .ref q_24, .null, .null, .null])), (q_0, .inl (c_0, 16, .inl (fun _ => 0))), (q_1, .inl (c_1, 16, .inl (fun _ => 0))), (q_2, .inl (c_2, 16, .inl (fun _ => 0))), (q_4, .inl (c_4, 4, .inl (fun _ => 0))), (q_5, .inl (c_5, 8, .inl (fun _ => 0))), (q_14, .inl (c_14, 6, .inl (fun _ => 0))), (q_15, .inl (c_15, 6, .inl (fun _ => 0))), (q_16, .inl (c_16, 6, .inl (fun _ => 0))), (q_17, .inl (c_17, 6, .inl (fun _ => 0))), (q_18, .inl (c_18, 6, .inl (fun _ => 0))), (q_19, .inl (c_19, 6, .inl (fun _ => 0))), (q_20, .inl (c_20, 6, .inl (fun _ => 0))), (q_21, .inl (c_21, 6, .inl (fun _ => 0))), (q_22, .inl (c_22, 6, .inl (fun _ => 0))), (q_23, .inl (c_23, 6, .inl (fun _ => 0))), (q_24, .inl (c_24, 6, .inl (fun _ => 0)))] := hD
  refine lv_aload_n hx hb dX0_init_131 rfl (lv_at hl 0 rfl) ?_
  refine lv_bipush (v := 6) hx hb dX0_init_132 (by decide) ?_
  refine va_newa (atype := .int) (ty := .int) (N' := 6) (a0 := (6, .inl (fun _ => 0))) hx hb (hts _ q111) rfl hK hP hD hS hA (fun _ => rfl) (by decide) (by decide) (by decide) (Nat.le_of_ble_eq_true rfl) (Nat.le_of_ble_eq_true rfl) dX0_init_134 (fun q_25 c_25 H hK hP hD hS => ?_)
  have hP : va_P D vwCl [(h0, .inr (0, [.ref q_0, .ref q_1, .ref q_2, .int 0, .ref q_4, .ref q_5, .int 0, .int 0, .int 0, .int 0, .int 0, .int 0, .int 0, .int 0, .ref q_14, .ref q_15, .ref q_16, .ref q_17, .ref q_18, .ref q_19, .ref q_20, .ref q_21, .ref q_22, .ref q_23, .ref q_24, .null, .null, .null])), (q_0, .inl (c_0, 16, .inl (fun _ => 0))), (q_1, .inl (c_1, 16, .inl (fun _ => 0))), (q_2, .inl (c_2, 16, .inl (fun _ => 0))), (q_4, .inl (c_4, 4, .inl (fun _ => 0))), (q_5, .inl (c_5, 8, .inl (fun _ => 0))), (q_14, .inl (c_14, 6, .inl (fun _ => 0))), (q_15, .inl (c_15, 6, .inl (fun _ => 0))), (q_16, .inl (c_16, 6, .inl (fun _ => 0))), (q_17, .inl (c_17, 6, .inl (fun _ => 0))), (q_18, .inl (c_18, 6, .inl (fun _ => 0))), (q_19, .inl (c_19, 6, .inl (fun _ => 0))), (q_20, .inl (c_20, 6, .inl (fun _ => 0))), (q_21, .inl (c_21, 6, .inl (fun _ => 0))), (q_22, .inl (c_22, 6, .inl (fun _ => 0))), (q_23, .inl (c_23, 6, .inl (fun _ => 0))), (q_24, .inl (c_24, 6, .inl (fun _ => 0))), (q_25, .inl (c_25, 6, .inl (fun _ => 0)))] H := hP
  have hD : va_D A [(h0, .inr (0, [.ref q_0, .ref q_1, .ref q_2, .int 0, .ref q_4, .ref q_5, .int 0, .int 0, .int 0, .int 0, .int 0, .int 0, .int 0, .int 0, .ref q_14, .ref q_15, .ref q_16, .ref q_17, .ref q_18, .ref q_19, .ref q_20, .ref q_21, .ref q_22, .ref q_23, .ref q_24, .null, .null, .null])), (q_0, .inl (c_0, 16, .inl (fun _ => 0))), (q_1, .inl (c_1, 16, .inl (fun _ => 0))), (q_2, .inl (c_2, 16, .inl (fun _ => 0))), (q_4, .inl (c_4, 4, .inl (fun _ => 0))), (q_5, .inl (c_5, 8, .inl (fun _ => 0))), (q_14, .inl (c_14, 6, .inl (fun _ => 0))), (q_15, .inl (c_15, 6, .inl (fun _ => 0))), (q_16, .inl (c_16, 6, .inl (fun _ => 0))), (q_17, .inl (c_17, 6, .inl (fun _ => 0))), (q_18, .inl (c_18, 6, .inl (fun _ => 0))), (q_19, .inl (c_19, 6, .inl (fun _ => 0))), (q_20, .inl (c_20, 6, .inl (fun _ => 0))), (q_21, .inl (c_21, 6, .inl (fun _ => 0))), (q_22, .inl (c_22, 6, .inl (fun _ => 0))), (q_23, .inl (c_23, 6, .inl (fun _ => 0))), (q_24, .inl (c_24, 6, .inl (fun _ => 0))), (q_25, .inl (c_25, 6, .inl (fun _ => 0)))] := hD
  have hK : va_K D vwCl [(c_0, .byte), (c_1, .byte), (c_2, .int), (c_4, .int), (c_5, .int), (c_14, .byte), (c_15, .int), (c_16, .byte), (c_17, .byte), (c_18, .int), (c_19, .int), (c_20, .boolean), (c_21, .int), (c_22, .byte), (c_23, .byte), (c_24, .byte), (c_25, .int)] s := hK
  refine va_putF (D := D) (ci := 0) (v := .ref q_25) (ty := .array .int) (C := RX0) (T := TX0) (N := 28) hx hb hts in_X0 tyX0 tyX0_ok nmX0 hown hK hP hD hS 0 rfl rfl 25 (by decide) (hts _ q50) (fun _ h9 => h9) rfl hin rfl (by decide +kernel) rfl rfl (Nat.le_of_ble_eq_true rfl) dX0_init_136 (fun H locs hP hD hS => ?_)
  have hP : va_P D vwCl [(h0, .inr (0, [.ref q_0, .ref q_1, .ref q_2, .int 0, .ref q_4, .ref q_5, .int 0, .int 0, .int 0, .int 0, .int 0, .int 0, .int 0, .int 0, .ref q_14, .ref q_15, .ref q_16, .ref q_17, .ref q_18, .ref q_19, .ref q_20, .ref q_21, .ref q_22, .ref q_23, .ref q_24, .ref q_25, .null, .null])), (q_0, .inl (c_0, 16, .inl (fun _ => 0))), (q_1, .inl (c_1, 16, .inl (fun _ => 0))), (q_2, .inl (c_2, 16, .inl (fun _ => 0))), (q_4, .inl (c_4, 4, .inl (fun _ => 0))), (q_5, .inl (c_5, 8, .inl (fun _ => 0))), (q_14, .inl (c_14, 6, .inl (fun _ => 0))), (q_15, .inl (c_15, 6, .inl (fun _ => 0))), (q_16, .inl (c_16, 6, .inl (fun _ => 0))), (q_17, .inl (c_17, 6, .inl (fun _ => 0))), (q_18, .inl (c_18, 6, .inl (fun _ => 0))), (q_19, .inl (c_19, 6, .inl (fun _ => 0))), (q_20, .inl (c_20, 6, .inl (fun _ => 0))), (q_21, .inl (c_21, 6, .inl (fun _ => 0))), (q_22, .inl (c_22, 6, .inl (fun _ => 0))), (q_23, .inl (c_23, 6, .inl (fun _ => 0))), (q_24, .inl (c_24, 6, .inl (fun _ => 0))), (q_25, .inl (c_25, 6, .inl (fun _ => 0)))] H := hP
  have hD : va_D A [(h0, .inr (0, [.ref q_0, .ref q_1, .ref q_2, .int 0, .ref q_4, .ref q_5, .int 0, .int 0, .int 0, .int 0, .int 0, .int 0, .int 0, .int 0, .ref q_14, .ref q_15, .ref q_16, .ref q_17, .ref q_18, .ref q_19, .ref q_20, .ref q_21, .ref q_22, .ref q_23, .ref q_24, .ref q_25, .null, .null])), (q_0, .inl (c_0, 16, .inl (fun _ => 0))), (q_1, .inl (c_1, 16, .inl (fun _ => 0))), (q_2, .inl (c_2, 16, .inl (fun _ => 0))), (q_4, .inl (c_4, 4, .inl (fun _ => 0))), (q_5, .inl (c_5, 8, .inl (fun _ => 0))), (q_14, .inl (c_14, 6, .inl (fun _ => 0))), (q_15, .inl (c_15, 6, .inl (fun _ => 0))), (q_16, .inl (c_16, 6, .inl (fun _ => 0))), (q_17, .inl (c_17, 6, .inl (fun _ => 0))), (q_18, .inl (c_18, 6, .inl (fun _ => 0))), (q_19, .inl (c_19, 6, .inl (fun _ => 0))), (q_20, .inl (c_20, 6, .inl (fun _ => 0))), (q_21, .inl (c_21, 6, .inl (fun _ => 0))), (q_22, .inl (c_22, 6, .inl (fun _ => 0))), (q_23, .inl (c_23, 6, .inl (fun _ => 0))), (q_24, .inl (c_24, 6, .inl (fun _ => 0))), (q_25, .inl (c_25, 6, .inl (fun _ => 0)))] := hD
  refine lv_aload_n hx hb dX0_init_139 rfl (lv_at hl 0 rfl) ?_
  refine lv_bipush (v := 6) hx hb dX0_init_140 (by decide) ?_
  refine va_newa (atype := .int) (ty := .int) (N' := 6) (a0 := (6, .inl (fun _ => 0))) hx hb (hts _ q111) rfl hK hP hD hS hA (fun _ => rfl) (by decide) (by decide) (by decide) (Nat.le_of_ble_eq_true rfl) (Nat.le_of_ble_eq_true rfl) dX0_init_142 (fun q_26 c_26 H hK hP hD hS => ?_)
  have hP : va_P D vwCl [(h0, .inr (0, [.ref q_0, .ref q_1, .ref q_2, .int 0, .ref q_4, .ref q_5, .int 0, .int 0, .int 0, .int 0, .int 0, .int 0, .int 0, .int 0, .ref q_14, .ref q_15, .ref q_16, .ref q_17, .ref q_18, .ref q_19, .ref q_20, .ref q_21, .ref q_22, .ref q_23, .ref q_24, .ref q_25, .null, .null])), (q_0, .inl (c_0, 16, .inl (fun _ => 0))), (q_1, .inl (c_1, 16, .inl (fun _ => 0))), (q_2, .inl (c_2, 16, .inl (fun _ => 0))), (q_4, .inl (c_4, 4, .inl (fun _ => 0))), (q_5, .inl (c_5, 8, .inl (fun _ => 0))), (q_14, .inl (c_14, 6, .inl (fun _ => 0))), (q_15, .inl (c_15, 6, .inl (fun _ => 0))), (q_16, .inl (c_16, 6, .inl (fun _ => 0))), (q_17, .inl (c_17, 6, .inl (fun _ => 0))), (q_18, .inl (c_18, 6, .inl (fun _ => 0))), (q_19, .inl (c_19, 6, .inl (fun _ => 0))), (q_20, .inl (c_20, 6, .inl (fun _ => 0))), (q_21, .inl (c_21, 6, .inl (fun _ => 0))), (q_22, .inl (c_22, 6, .inl (fun _ => 0))), (q_23, .inl (c_23, 6, .inl (fun _ => 0))), (q_24, .inl (c_24, 6, .inl (fun _ => 0))), (q_25, .inl (c_25, 6, .inl (fun _ => 0))), (q_26, .inl (c_26, 6, .inl (fun _ => 0)))] H := hP
  have hD : va_D A [(h0, .inr (0, [.ref q_0, .ref q_1, .ref q_2, .int 0, .ref q_4, .ref q_5, .int 0, .int 0, .int 0, .int 0, .int 0, .int 0, .int 0, .int 0, .ref q_14, .ref q_15, .ref q_16, .ref q_17, .ref q_18, .ref q_19, .ref q_20, .ref q_21, .ref q_22, .ref q_23, .ref q_24, .ref q_25, .null, .null])), (q_0, .inl (c_0, 16, .inl (fun _ => 0))), (q_1, .inl (c_1, 16, .inl (fun _ => 0))), (q_2, .inl (c_2, 16, .inl (fun _ => 0))), (q_4, .inl (c_4, 4, .inl (fun _ => 0))), (q_5, .inl (c_5, 8, .inl (fun _ => 0))), (q_14, .inl (c_14, 6, .inl (fun _ => 0))), (q_15, .inl (c_15, 6, .inl (fun _ => 0))), (q_16, .inl (c_16, 6, .inl (fun _ => 0))), (q_17, .inl (c_17, 6, .inl (fun _ => 0))), (q_18, .inl (c_18, 6, .inl (fun _ => 0))), (q_19, .inl (c_19, 6, .inl (fun _ => 0))), (q_20, .inl (c_20, 6, .inl (fun _ => 0))), (q_21, .inl (c_21, 6, .inl (fun _ => 0))), (q_22, .inl (c_22, 6, .inl (fun _ => 0))), (q_23, .inl (c_23, 6, .inl (fun _ => 0))), (q_24, .inl (c_24, 6, .inl (fun _ => 0))), (q_25, .inl (c_25, 6, .inl (fun _ => 0))), (q_26, .inl (c_26, 6, .inl (fun _ => 0)))] := hD
  have hK : va_K D vwCl [(c_0, .byte), (c_1, .byte), (c_2, .int), (c_4, .int), (c_5, .int), (c_14, .byte), (c_15, .int), (c_16, .byte), (c_17, .byte), (c_18, .int), (c_19, .int), (c_20, .boolean), (c_21, .int), (c_22, .byte), (c_23, .byte), (c_24, .byte), (c_25, .int), (c_26, .int)] s := hK
  refine va_putF (D := D) (ci := 0) (v := .ref q_26) (ty := .array .int) (C := RX0) (T := TX0) (N := 28) hx hb hts in_X0 tyX0 tyX0_ok nmX0 hown hK hP hD hS 0 rfl rfl 26 (by decide) (hts _ q51) (fun _ h9 => h9) rfl hin rfl (by decide +kernel) rfl rfl (Nat.le_of_ble_eq_true rfl) dX0_init_144 (fun H locs hP hD hS => ?_)
  have hP : va_P D vwCl [(h0, .inr (0, [.ref q_0, .ref q_1, .ref q_2, .int 0, .ref q_4, .ref q_5, .int 0, .int 0, .int 0, .int 0, .int 0, .int 0, .int 0, .int 0, .ref q_14, .ref q_15, .ref q_16, .ref q_17, .ref q_18, .ref q_19, .ref q_20, .ref q_21, .ref q_22, .ref q_23, .ref q_24, .ref q_25, .ref q_26, .null])), (q_0, .inl (c_0, 16, .inl (fun _ => 0))), (q_1, .inl (c_1, 16, .inl (fun _ => 0))), (q_2, .inl (c_2, 16, .inl (fun _ => 0))), (q_4, .inl (c_4, 4, .inl (fun _ => 0))), (q_5, .inl (c_5, 8, .inl (fun _ => 0))), (q_14, .inl (c_14, 6, .inl (fun _ => 0))), (q_15, .inl (c_15, 6, .inl (fun _ => 0))), (q_16, .inl (c_16, 6, .inl (fun _ => 0))), (q_17, .inl (c_17, 6, .inl (fun _ => 0))), (q_18, .inl (c_18, 6, .inl (fun _ => 0))), (q_19, .inl (c_19, 6, .inl (fun _ => 0))), (q_20, .inl (c_20, 6, .inl (fun _ => 0))), (q_21, .inl (c_21, 6, .inl (fun _ => 0))), (q_22, .inl (c_22, 6, .inl (fun _ => 0))), (q_23, .inl (c_23, 6, .inl (fun _ => 0))), (q_24, .inl (c_24, 6, .inl (fun _ => 0))), (q_25, .inl (c_25, 6, .inl (fun _ => 0))), (q_26, .inl (c_26, 6, .inl (fun _ => 0)))] H := hP
  have hD : va_D A [(h0, .inr (0, [.ref q_0, .ref q_1, .ref q_2, .int 0, .ref q_4, .ref q_5, .int 0, .int 0, .int 0, .int 0, .int 0, .int 0, .int 0, .int 0, .ref q_14, .ref q_15, .ref q_16, .ref q_17, .ref q_18, .ref q_19, .ref q_20, .ref q_21, .ref q_22, .ref q_23, .ref q_24, .ref q_25, .ref q_26, .null])), (q_0, .inl (c_0, 16, .inl (fun _ => 0))), (q_1, .inl (c_1, 16, .inl (fun _ => 0))), (q_2, .inl (c_2, 16, .inl (fun _ => 0))), (q_4, .inl (c_4, 4, .inl (fun _ => 0))), (q_5, .inl (c_5, 8, .inl (fun _ => 0))), (q_14, .inl (c_14, 6, .inl (fun _ => 0))), (q_15, .inl (c_15, 6, .inl (fun _ => 0))), (q_16, .inl (c_16, 6, .inl (fun _ => 0))), (q_17, .inl (c_17, 6, .inl (fun _ => 0))), (q_18, .inl (c_18, 6, .inl (fun _ => 0))), (q_19, .inl (c_19, 6, .inl (fun _ => 0))), (q_20, .inl (c_20, 6, .inl (fun _ => 0))), (q_21, .inl (c_21, 6, .inl (fun _ => 0))), (q_22, .inl (c_22, 6, .inl (fun _ => 0))), (q_23, .inl (c_23, 6, .inl (fun _ => 0))), (q_24, .inl (c_24, 6, .inl (fun _ => 0))), (q_25, .inl (c_25, 6, .inl (fun _ => 0))), (q_26, .inl (c_26, 6, .inl (fun _ => 0)))] := hD
  refine lv_aload_n hx hb dX0_init_147 rfl (lv_at hl 0 rfl) ?_
  refine lv_iconst (v := 4) hx hb dX0_init_148 (by decide) ?_
  refine va_newa (atype := .byte) (ty := .byte) (N' := 4) (a0 := (4, .inl (fun _ => 0))) hx hb (hts _ q110) rfl hK hP hD hS hA (fun _ => rfl) (by decide) (by decide) (by decide) (Nat.le_of_ble_eq_true rfl) (Nat.le_of_ble_eq_true rfl) dX0_init_149 (fun q_27 c_27 H hK hP hD hS => ?_)
  have hP : va_P D vwCl [(h0, .inr (0, [.ref q_0, .ref q_1, .ref q_2, .int 0, .ref q_4, .ref q_5, .int 0, .int 0, .int 0, .int 0, .int 0, .int 0, .int 0, .int 0, .ref q_14, .ref q_15, .ref q_16, .ref q_17, .ref q_18, .ref q_19, .ref q_20, .ref q_21, .ref q_22, .ref q_23, .ref q_24, .ref q_25, .ref q_26, .null])), (q_0, .inl (c_0, 16, .inl (fun _ => 0))), (q_1, .inl (c_1, 16, .inl (fun _ => 0))), (q_2, .inl (c_2, 16, .inl (fun _ => 0))), (q_4, .inl (c_4, 4, .inl (fun _ => 0))), (q_5, .inl (c_5, 8, .inl (fun _ => 0))), (q_14, .inl (c_14, 6, .inl (fun _ => 0))), (q_15, .inl (c_15, 6, .inl (fun _ => 0))), (q_16, .inl (c_16, 6, .inl (fun _ => 0))), (q_17, .inl (c_17, 6, .inl (fun _ => 0))), (q_18, .inl (c_18, 6, .inl (fun _ => 0))), (q_19, .inl (c_19, 6, .inl (fun _ => 0))), (q_20, .inl (c_20, 6, .inl (fun _ => 0))), (q_21, .inl (c_21, 6, .inl (fun _ => 0))), (q_22, .inl (c_22, 6, .inl (fun _ => 0))), (q_23, .inl (c_23, 6, .inl (fun _ => 0))), (q_24, .inl (c_24, 6, .inl (fun _ => 0))), (q_25, .inl (c_25, 6, .inl (fun _ => 0))), (q_26, .inl (c_26, 6, .inl (fun _ => 0))), (q_27, .inl (c_27, 4, .inl (fun _ => 0)))] H := hP
  have hD : va_D A [(h0, .inr (0, [.ref q_0, .ref q_1, .ref q_2, .int 0, .ref q_4, .ref q_5, .int 0, .int 0, .int 0, .int 0, .int 0, .int 0, .int 0, .int 0, .ref q_14, .ref q_15, .ref q_16, .ref q_17, .ref q_18, .ref q_19, .ref q_20, .ref q_21, .ref q_22, .ref q_23, .ref q_24, .ref q_25, .ref q_26, .null])), (q_0, .inl (c_0, 16, .inl (fun _ => 0))), (q_1, .inl (c_1, 16, .inl (fun _ => 0))), (q_2, .inl (c_2, 16, .inl (fun _ => 0))), (q_4, .inl (c_4, 4, .inl (fun _ => 0))), (q_5, .inl (c_5, 8, .inl (fun _ => 0))), (q_14, .inl (c_14, 6, .inl (fun _ => 0))), (q_15, .inl (c_15, 6, .inl (fun _ => 0))), (q_16, .inl (c_16, 6, .inl (fun _ => 0))), (q_17, .inl (c_17, 6, .inl (fun _ => 0))), (q_18, .inl (c_18, 6, .inl (fun _ => 0))), (q_19, .inl (c_19, 6, .inl (fun _ => 0))), (q_20, .inl (c_20, 6, .inl (fun _ => 0))), (q_21, .inl (c_21, 6, .inl (fun _ => 0))), (q_22, .inl (c_22, 6, .inl (fun _ => 0))), (q_23, .inl (c_23, 6, .inl (fun _ => 0))), (q_24, .inl (c_24, 6, .inl (fun _ => 0))), (q_25, .inl (c_25, 6, .inl (fun _ => 0))), (q_26, .inl (c_26, 6, .inl (fun _ => 0))), (q_27, .inl (c_27, 4, .inl (fun _ => 0)))] := hD
  have hK : va_K D vwCl [(c_0, .byte), (c_1, .byte), (c_2, .int), (c_4, .int), (c_5, .int), (c_14, .byte), (c_15, .int), (c_16, .byte), (c_17, .byte), (c_18, .int), (c_19, .int), (c_20, .boolean), (c_21, .int), (c_22, .byte), (c_23, .byte), (c_24, .byte), (c_25, .int), (c_26, .int), (c_27, .byte)] s := hK
  refine va_putF (D := D) (ci := 0) (v := .ref q_27) (ty := .array .byte) (C := RX0) (T := TX0) (N := 28) hx hb hts in_X0 tyX0 tyX0_ok nmX0 hown hK hP hD hS 0 rfl rfl 27 (by decide) (hts _ q52) (fun _ h9 => h9) rfl hin rfl (by decide +kernel) rfl rfl (Nat.le_of_ble_eq_true rfl) dX0_init_151 (fun H locs hP hD hS => ?_)
  have hP : va_P D vwCl [(h0, .inr (0, [.ref q_0, .ref q_1, .ref q_2, .int 0, .ref q_4, .ref q_5, .int 0, .int 0, .int 0, .int 0, .int 0, .int 0, .int 0, .int 0, .ref q_14, .ref q_15, .ref q_16, .ref q_17, .ref q_18, .ref q_19, .ref q_20, .ref q_21, .ref q_22, .ref q_23, .ref q_24, .ref q_25, .ref q_26, .ref q_27])), (q_0, .inl (c_0, 16, .inl (fun _ => 0))), (q_1, .inl (c_1, 16, .inl (fun _ => 0))), (q_2, .inl (c_2, 16, .inl (fun _ => 0))), (q_4, .inl (c_4, 4, .inl (fun _ => 0))), (q_5, .inl (c_5, 8, .inl (fun _ => 0))), (q_14, .inl (c_14, 6, .inl (fun _ => 0))), (q_15, .inl (c_15, 6, .inl (fun _ => 0))), (q_16, .inl (c_16, 6, .inl (fun _ => 0))), (q_17, .inl (c_17, 6, .inl (fun _ => 0))), (q_18, .inl (c_18, 6, .inl (fun _ => 0))), (q_19, .inl (c_19, 6, .inl (fun _ => 0))), (q_20, .inl (c_20, 6, .inl (fun _ => 0))), (q_21, .inl (c_21, 6, .inl (fun _ => 0))), (q_22, .inl (c_22, 6, .inl (fun _ => 0))), (q_23, .inl (c_23, 6, .inl (fun _ => 0))), (q_24, .inl (c_24, 6, .inl (fun _ => 0))), (q_25, .inl (c_25, 6, .inl (fun _ => 0))), (q_26, .inl (c_26, 6, .inl (fun _ => 0))), (q_27, .inl (c_27, 4, .inl (fun _ => 0)))] H := hP
  have hD : va_D A [(h0, .inr (0, [.ref q_0, .ref q_1, .ref q_2, .int 0, .ref q_4, .ref q_5, .int 0, .int 0, .int 0, .int 0, .int 0, .int 0, .int 0, .int 0, .ref q_14, .ref q_15, .ref q_16, .ref q_17, .ref q_18, .ref q_19, .ref q_20, .ref q_21, .ref q_22, .ref q_23, .ref q_24, .ref q_25, .ref q_26, .ref q_27])), (q_0, .inl (c_0, 16, .inl (fun _ => 0))), (q_1, .inl (c_1, 16, .inl (fun _ => 0))), (q_2, .inl (c_2, 16, .inl (fun _ => 0))), (q_4, .inl (c_4, 4, .inl (fun _ => 0))), (q_5, .inl (c_5, 8, .inl (fun _ => 0))), (q_14, .inl (c_14, 6, .inl (fun _ => 0))), (q_15, .inl (c_15, 6, .inl (fun _ => 0))), (q_16, .inl (c_16, 6, .inl (fun _ => 0))), (q_17, .inl (c_17, 6, .inl (fun _ => 0))), (q_18, .inl (c_18, 6, .inl (fun _ => 0))), (q_19, .inl (c_19, 6, .inl (fun _ => 0))), (q_20, .inl (c_20, 6, .inl (fun _ => 0))), (q_21, .inl (c_21, 6, .inl (fun _ => 0))), (q_22, .inl (c_22, 6, .inl (fun _ => 0))), (q_23, .inl (c_23, 6, .inl (fun _ => 0))), (q_24, .inl (c_24, 6, .inl (fun _ => 0))), (q_25, .inl (c_25, 6, .inl (fun _ => 0))), (q_26, .inl (c_26, 6, .inl (fun _ => 0))), (q_27, .inl (c_27, 4, .inl (fun _ => 0)))] := hD
  have hn := vD_nj hD (l := adC (hCof h0 q_0 q_1 q_2 q_4 q_5 q_14 q_15 q_16 q_17 q_18 q_19 q_20 q_21 q_22 q_23 q_24 q_25 q_26 q_27)) rfl
  refine W.widen (k := 19) (n := 142) (Nat.le_of_ble_eq_true rfl) (Nat.le_of_ble_eq_true rfl) ?_
  exact W.vret hx hb hr (fun t ht hW => ⟨⟨(hCof h0 q_0 q_1 q_2 q_4 q_5 q_14 q_15 q_16 q_17 q_18 q_19 q_20 q_21 q_22 q_23 q_24 q_25 q_26 q_27, cCof c_0 c_1 c_2 c_4 c_5 c_14 c_15 c_16 c_17 c_18 c_19 c_20 c_21 c_22 c_23 c_24 c_25 c_26 c_27), rfl, ⟨rfl, hn.1, fun q hq => by have := hn.2 q hq; rw [← hAe] at this; exact this⟩, by subst ht; exact hP, va_K.moved hW.alike hK⟩, hS.F ht⟩) hS.2.2 dX0_init_154 hlk
def dfM : List Value := [.int 0, .null, .null, .null, .null, .null, .int 0, .int 0, .int 0]
theorem dfM_ok : ∀ j, j < 9 → defaultValue (tyX1 j) = vp_V dfM j := fun j hj => match j, hj with
  | 0, _ => rfl
  | 1, _ => rfl
  | 2, _ => rfl
  | 3, _ => rfl
  | 4, _ => rfl
  | 5, _ => rfl
  | 6, _ => rfl
  | 7, _ => rfl
  | 8, _ => rfl
  | n + 9, hn => absurd hn (by omega)
def hMof (h0 q_1 q_2 q_3 q_4 q_5 : Nat) : Nat → Nat := fun k => match k with
  | 1 => q_1
  | 2 => q_2
  | 3 => q_3
  | 4 => q_4
  | 5 => q_5
  | _ => h0
def cMof (c_1 c_2 c_3 c_4 c_5 : ClassId) : Nat → ClassId := fun k => match k with
  | 1 => c_1
  | 2 => c_2
  | 3 => c_3
  | 4 => c_4
  | _ => c_5
theorem metX1_init {l : Launch} {D : va_G} {h0 sz : Nat} : Met l yX1_init (ws_ yX1_init cX1_init 1 none) ({ frames := 1, cells := 5, slots := 60, locals := 12 }) (va_Pc [.ref h0] (fun U => U.heap.size = sz ∧ va_P D vwCl [(h0, .inr (1, dfM))] U.heap ∧ va_K D vwCl [] U)) (va_Qv (fun (u : (Nat → Nat) × (Nat → ClassId)) => u.1 9 = h0 ∧ njM u.1 ∧ ∀ q, aM u.1 q → q = h0 ∨ sz ≤ q) (fun u t => va_P D vwCl (wM u.1 u.2 (fun _ _ => 0)) t.heap ∧ va_K D vwCl (tysM u.2) t) (fun q => q = h0 ∨ sz ≤ q)) 5 60 (fun q => q = h0 ∨ sz ≤ q) := by
  refine Met.ofW (cc := cX1_init) (maxL := 1) (ret := none) (by decide) rfl ?_
  intro p e s m args below meth c s₁ B hml hv
  obtain ⟨rfl, hsz, hP, hK⟩ := hv
  have hx := B.exec
  have hb := B.bytes
  have hr := B.returns
  have hts := atoms_spec (ws := ws_ yX1_init cX1_init 1 none) B.pre
  have hts : ∀ w ∈ lw_all, w.before _ s = true := fun w h => hts w (List.mem_cons_of_mem _ h)
  have hown : s.vm.findClass RX1 = some m.cls := findClass_of_methodNamed B.named
  have hin : meth.name = "<init>" := (name_of_methodNamed B.named B.method).1
  have hlk := B.notSynchronized
  subst hsz
  have hD : va_D (fun q => q = h0 ∨ s.heap.size ≤ q) [(h0, .inr (1, dfM))] := vD_one (Or.inl rfl)
  generalize hAe : (fun q => q = h0 ∨ s.heap.size ≤ q) = A at hD ⊢
  have hA : ∀ q : Nat, s.heap.size ≤ q → A q := fun q h => by rw [← hAe]; exact Or.inr h
  have hS : va_S A s.heap s.heap [] := va_S.rf
  have hl := lv_entry ([.ref h0]) (n := 1) (Nat.le_of_ble_eq_true rfl)
  rw [lg_entry_eq]
  generalize (lg_sl ([.ref h0]) ++ List.replicate (1 - (lg_sl ([.ref h0])).length) Slot.unset).toArray = ls at hl ⊢
  have hl : lv_has ls 1 [(0, .ref h0)] := hl
  refine lv_aload_n hx hb dX1_init_0 rfl (lv_at hl 0 rfl) ?_
  refine W.objInit hx hb hown (hts _ q217) (hts _ q23) (hts _ q24) rfl (by rw [hml]; exact hl.1) rfl dX1_init_1 (Nat.le_of_ble_eq_true rfl) (Nat.le_of_ble_eq_true rfl) ?_
  refine W.eq (g2 := F0 m 4 ls []) rfl ?_
  refine lv_aload_n hx hb dX1_init_4 rfl (lv_at hl 0 rfl) ?_
  refine lv_bipush (v := 16) hx hb dX1_init_5 (by decide) ?_
  refine va_newa (atype := .int) (ty := .int) (N' := 16) (a0 := (16, .inl (fun _ => 0))) hx hb (hts _ q111) rfl hK hP hD hS hA (fun _ => rfl) (by decide) (by decide) (by decide) (Nat.le_of_ble_eq_true rfl) (Nat.le_of_ble_eq_true rfl) dX1_init_7 (fun q_1 c_1 H hK hP hD hS => ?_)
  have hP : va_P D vwCl [(h0, .inr (1, [.int 0, .null, .null, .null, .null, .null, .int 0, .int 0, .int 0])), (q_1, .inl (c_1, 16, .inl (fun _ => 0)))] H := hP
  have hD : va_D A [(h0, .inr (1, [.int 0, .null, .null, .null, .null, .null, .int 0, .int 0, .int 0])), (q_1, .inl (c_1, 16, .inl (fun _ => 0)))] := hD
  have hK : va_K D vwCl [(c_1, .int)] s := hK
  refine va_put (D := D) (ci := 1) (v := .ref q_1) (ty := .array .int) (C := RX1) (T := TX1) (N := 9) hx hb hts in_X1 tyX1 tyX1_ok nmX1 hown hK hP hD hS 0 rfl rfl 1 (by decide) (hts _ q219) (fun _ h9 => h9) rfl (by decide +kernel) rfl rfl (Nat.le_of_ble_eq_true rfl) dX1_init_9 (fun H locs hP hD hS => ?_)
  have hP : va_P D vwCl [(h0, .inr (1, [.int 0, .ref q_1, .null, .null, .null, .null, .int 0, .int 0, .int 0])), (q_1, .inl (c_1, 16, .inl (fun _ => 0)))] H := hP
  have hD : va_D A [(h0, .inr (1, [.int 0, .ref q_1, .null, .null, .null, .null, .int 0, .int 0, .int 0])), (q_1, .inl (c_1, 16, .inl (fun _ => 0)))] := hD
  refine lv_aload_n hx hb dX1_init_12 rfl (lv_at hl 0 rfl) ?_
  refine lv_bipush (v := 16) hx hb dX1_init_13 (by decide) ?_
  refine va_newa (atype := .int) (ty := .int) (N' := 16) (a0 := (16, .inl (fun _ => 0))) hx hb (hts _ q111) rfl hK hP hD hS hA (fun _ => rfl) (by decide) (by decide) (by decide) (Nat.le_of_ble_eq_true rfl) (Nat.le_of_ble_eq_true rfl) dX1_init_15 (fun q_2 c_2 H hK hP hD hS => ?_)
  have hP : va_P D vwCl [(h0, .inr (1, [.int 0, .ref q_1, .null, .null, .null, .null, .int 0, .int 0, .int 0])), (q_1, .inl (c_1, 16, .inl (fun _ => 0))), (q_2, .inl (c_2, 16, .inl (fun _ => 0)))] H := hP
  have hD : va_D A [(h0, .inr (1, [.int 0, .ref q_1, .null, .null, .null, .null, .int 0, .int 0, .int 0])), (q_1, .inl (c_1, 16, .inl (fun _ => 0))), (q_2, .inl (c_2, 16, .inl (fun _ => 0)))] := hD
  have hK : va_K D vwCl [(c_1, .int), (c_2, .int)] s := hK
  refine va_put (D := D) (ci := 1) (v := .ref q_2) (ty := .array .int) (C := RX1) (T := TX1) (N := 9) hx hb hts in_X1 tyX1 tyX1_ok nmX1 hown hK hP hD hS 0 rfl rfl 2 (by decide) (hts _ q220) (fun _ h9 => h9) rfl (by decide +kernel) rfl rfl (Nat.le_of_ble_eq_true rfl) dX1_init_17 (fun H locs hP hD hS => ?_)
  have hP : va_P D vwCl [(h0, .inr (1, [.int 0, .ref q_1, .ref q_2, .null, .null, .null, .int 0, .int 0, .int 0])), (q_1, .inl (c_1, 16, .inl (fun _ => 0))), (q_2, .inl (c_2, 16, .inl (fun _ => 0)))] H := hP
  have hD : va_D A [(h0, .inr (1, [.int 0, .ref q_1, .ref q_2, .null, .null, .null, .int 0, .int 0, .int 0])), (q_1, .inl (c_1, 16, .inl (fun _ => 0))), (q_2, .inl (c_2, 16, .inl (fun _ => 0)))] := hD
  refine lv_aload_n hx hb dX1_init_20 rfl (lv_at hl 0 rfl) ?_
  refine lv_bipush (v := 16) hx hb dX1_init_21 (by decide) ?_
  refine va_newa (atype := .int) (ty := .int) (N' := 16) (a0 := (16, .inl (fun _ => 0))) hx hb (hts _ q111) rfl hK hP hD hS hA (fun _ => rfl) (by decide) (by decide) (by decide) (Nat.le_of_ble_eq_true rfl) (Nat.le_of_ble_eq_true rfl) dX1_init_23 (fun q_3 c_3 H hK hP hD hS => ?_)
  have hP : va_P D vwCl [(h0, .inr (1, [.int 0, .ref q_1, .ref q_2, .null, .null, .null, .int 0, .int 0, .int 0])), (q_1, .inl (c_1, 16, .inl (fun _ => 0))), (q_2, .inl (c_2, 16, .inl (fun _ => 0))), (q_3, .inl (c_3, 16, .inl (fun _ => 0)))] H := hP
  have hD : va_D A [(h0, .inr (1, [.int 0, .ref q_1, .ref q_2, .null, .null, .null, .int 0, .int 0, .int 0])), (q_1, .inl (c_1, 16, .inl (fun _ => 0))), (q_2, .inl (c_2, 16, .inl (fun _ => 0))), (q_3, .inl (c_3, 16, .inl (fun _ => 0)))] := hD
  have hK : va_K D vwCl [(c_1, .int), (c_2, .int), (c_3, .int)] s := hK
  refine va_put (D := D) (ci := 1) (v := .ref q_3) (ty := .array .int) (C := RX1) (T := TX1) (N := 9) hx hb hts in_X1 tyX1 tyX1_ok nmX1 hown hK hP hD hS 0 rfl rfl 3 (by decide) (hts _ q221) (fun _ h9 => h9) rfl (by decide +kernel) rfl rfl (Nat.le_of_ble_eq_true rfl) dX1_init_25 (fun H locs hP hD hS => ?_)
  have hP : va_P D vwCl [(h0, .inr (1, [.int 0, .ref q_1, .ref q_2, .ref q_3, .null, .null, .int 0, .int 0, .int 0])), (q_1, .inl (c_1, 16, .inl (fun _ => 0))), (q_2, .inl (c_2, 16, .inl (fun _ => 0))), (q_3, .inl (c_3, 16, .inl (fun _ => 0)))] H := hP
  have hD : va_D A [(h0, .inr (1, [.int 0, .ref q_1, .ref q_2, .ref q_3, .null, .null, .int 0, .int 0, .int 0])), (q_1, .inl (c_1, 16, .inl (fun _ => 0))), (q_2, .inl (c_2, 16, .inl (fun _ => 0))), (q_3, .inl (c_3, 16, .inl (fun _ => 0)))] := hD
  refine lv_aload_n hx hb dX1_init_28 rfl (lv_at hl 0 rfl) ?_
  refine lv_iconst (v := 4) hx hb dX1_init_29 (by decide) ?_
  refine va_newa (atype := .int) (ty := .int) (N' := 4) (a0 := (4, .inl (fun _ => 0))) hx hb (hts _ q111) rfl hK hP hD hS hA (fun _ => rfl) (by decide) (by decide) (by decide) (Nat.le_of_ble_eq_true rfl) (Nat.le_of_ble_eq_true rfl) dX1_init_30 (fun q_4 c_4 H hK hP hD hS => ?_)
  have hP : va_P D vwCl [(h0, .inr (1, [.int 0, .ref q_1, .ref q_2, .ref q_3, .null, .null, .int 0, .int 0, .int 0])), (q_1, .inl (c_1, 16, .inl (fun _ => 0))), (q_2, .inl (c_2, 16, .inl (fun _ => 0))), (q_3, .inl (c_3, 16, .inl (fun _ => 0))), (q_4, .inl (c_4, 4, .inl (fun _ => 0)))] H := hP
  have hD : va_D A [(h0, .inr (1, [.int 0, .ref q_1, .ref q_2, .ref q_3, .null, .null, .int 0, .int 0, .int 0])), (q_1, .inl (c_1, 16, .inl (fun _ => 0))), (q_2, .inl (c_2, 16, .inl (fun _ => 0))), (q_3, .inl (c_3, 16, .inl (fun _ => 0))), (q_4, .inl (c_4, 4, .inl (fun _ => 0)))] := hD
  have hK : va_K D vwCl [(c_1, .int), (c_2, .int), (c_3, .int), (c_4, .int)] s := hK
  refine va_put (D := D) (ci := 1) (v := .ref q_4) (ty := .array .int) (C := RX1) (T := TX1) (N := 9) hx hb hts in_X1 tyX1 tyX1_ok nmX1 hown hK hP hD hS 0 rfl rfl 4 (by decide) (hts _ q222) (fun _ h9 => h9) rfl (by decide +kernel) rfl rfl (Nat.le_of_ble_eq_true rfl) dX1_init_32 (fun H locs hP hD hS => ?_)
  have hP : va_P D vwCl [(h0, .inr (1, [.int 0, .ref q_1, .ref q_2, .ref q_3, .ref q_4, .null, .int 0, .int 0, .int 0])), (q_1, .inl (c_1, 16, .inl (fun _ => 0))), (q_2, .inl (c_2, 16, .inl (fun _ => 0))), (q_3, .inl (c_3, 16, .inl (fun _ => 0))), (q_4, .inl (c_4, 4, .inl (fun _ => 0)))] H := hP
  have hD : va_D A [(h0, .inr (1, [.int 0, .ref q_1, .ref q_2, .ref q_3, .ref q_4, .null, .int 0, .int 0, .int 0])), (q_1, .inl (c_1, 16, .inl (fun _ => 0))), (q_2, .inl (c_2, 16, .inl (fun _ => 0))), (q_3, .inl (c_3, 16, .inl (fun _ => 0))), (q_4, .inl (c_4, 4, .inl (fun _ => 0)))] := hD
  refine lv_aload_n hx hb dX1_init_35 rfl (lv_at hl 0 rfl) ?_
  refine lv_bipush (v := 8) hx hb dX1_init_36 (by decide) ?_
  refine va_newa (atype := .int) (ty := .int) (N' := 8) (a0 := (8, .inl (fun _ => 0))) hx hb (hts _ q111) rfl hK hP hD hS hA (fun _ => rfl) (by decide) (by decide) (by decide) (Nat.le_of_ble_eq_true rfl) (Nat.le_of_ble_eq_true rfl) dX1_init_38 (fun q_5 c_5 H hK hP hD hS => ?_)
  have hP : va_P D vwCl [(h0, .inr (1, [.int 0, .ref q_1, .ref q_2, .ref q_3, .ref q_4, .null, .int 0, .int 0, .int 0])), (q_1, .inl (c_1, 16, .inl (fun _ => 0))), (q_2, .inl (c_2, 16, .inl (fun _ => 0))), (q_3, .inl (c_3, 16, .inl (fun _ => 0))), (q_4, .inl (c_4, 4, .inl (fun _ => 0))), (q_5, .inl (c_5, 8, .inl (fun _ => 0)))] H := hP
  have hD : va_D A [(h0, .inr (1, [.int 0, .ref q_1, .ref q_2, .ref q_3, .ref q_4, .null, .int 0, .int 0, .int 0])), (q_1, .inl (c_1, 16, .inl (fun _ => 0))), (q_2, .inl (c_2, 16, .inl (fun _ => 0))), (q_3, .inl (c_3, 16, .inl (fun _ => 0))), (q_4, .inl (c_4, 4, .inl (fun _ => 0))), (q_5, .inl (c_5, 8, .inl (fun _ => 0)))] := hD
  have hK : va_K D vwCl [(c_1, .int), (c_2, .int), (c_3, .int), (c_4, .int), (c_5, .int)] s := hK
  refine va_put (D := D) (ci := 1) (v := .ref q_5) (ty := .array .int) (C := RX1) (T := TX1) (N := 9) hx hb hts in_X1 tyX1 tyX1_ok nmX1 hown hK hP hD hS 0 rfl rfl 5 (by decide) (hts _ q223) (fun _ h9 => h9) rfl (by decide +kernel) rfl rfl (Nat.le_of_ble_eq_true rfl) dX1_init_40 (fun H locs hP hD hS => ?_)
  have hP : va_P D vwCl [(h0, .inr (1, [.int 0, .ref q_1, .ref q_2, .ref q_3, .ref q_4, .ref q_5, .int 0, .int 0, .int 0])), (q_1, .inl (c_1, 16, .inl (fun _ => 0))), (q_2, .inl (c_2, 16, .inl (fun _ => 0))), (q_3, .inl (c_3, 16, .inl (fun _ => 0))), (q_4, .inl (c_4, 4, .inl (fun _ => 0))), (q_5, .inl (c_5, 8, .inl (fun _ => 0)))] H := hP
  have hD : va_D A [(h0, .inr (1, [.int 0, .ref q_1, .ref q_2, .ref q_3, .ref q_4, .ref q_5, .int 0, .int 0, .int 0])), (q_1, .inl (c_1, 16, .inl (fun _ => 0))), (q_2, .inl (c_2, 16, .inl (fun _ => 0))), (q_3, .inl (c_3, 16, .inl (fun _ => 0))), (q_4, .inl (c_4, 4, .inl (fun _ => 0))), (q_5, .inl (c_5, 8, .inl (fun _ => 0)))] := hD
  have hn := vD_nj hD (l := adM (hMof h0 q_1 q_2 q_3 q_4 q_5)) rfl
  refine W.widen (k := 5) (n := 60) (Nat.le_of_ble_eq_true rfl) (Nat.le_of_ble_eq_true rfl) ?_
  exact W.vret hx hb hr (fun t ht hW => ⟨⟨(hMof h0 q_1 q_2 q_3 q_4 q_5, cMof c_1 c_2 c_3 c_4 c_5), rfl, ⟨rfl, hn.1, fun q hq => by have := hn.2 q hq; rw [← hAe] at this; exact this⟩, by subst ht; exact hP, va_K.moved hW.alike hK⟩, hS.F ht⟩) hS.2.2 dX1_init_43 hlk
end
section
set_option maxRecDepth 100000
/-- both sides answer alike, and stay in the relation -/
def OK2 (Rel : MM → MM → Prop) (f0 f1 : Option (Int32 × MM)) : Prop := ∃ (r : Int32) (M N : MM), f0 = some (r, M) ∧ f1 = some (r, N) ∧ Rel M N
def Ops (Rel : MM → MM → Prop) (fl : Nat) : Prop := ∀ M N, Rel M N → (∀ a b c : Int32, OK2 Rel (fX0_emit fl a b c M) (fX1_emit fl a b c N)) ∧ (OK2 Rel (fX0_clear fl M) (fX1_clear fl N)) ∧ (OK2 Rel (fX0_length fl M) (fX1_length fl N)) ∧ (∀ a b : Int32, OK2 Rel (fX0_set fl a b M) (fX1_set fl a b N)) ∧ (∀ a : Int32, OK2 Rel (fX0_start fl a M) (fX1_start fl a N)) ∧ (∀ a : Int32, OK2 Rel (fX0_finish fl a M) (fX1_finish fl a N)) ∧ (OK2 Rel (fX0_status fl M) (fX1_status fl N)) ∧ (OK2 Rel (fX0_position fl M) (fX1_position fl N)) ∧ (OK2 Rel (fX0_finished fl M) (fX1_finished fl N)) ∧ (∀ a : Int32, OK2 Rel (fX0_register fl a M) (fX1_register fl a N)) ∧ (∀ a : Int32, OK2 Rel (fX0_memory fl a M) (fX1_memory fl a N)) ∧ (OK2 Rel (fX0_digest fl M) (fX1_digest fl N))
/-! THE CLAIM OUT OF ONE WALK OF THE LAW'S BODY. Your part is whole_start (and what it stands on); all else here is the same for every law, but numbers. -/
def R_law : String := "ReorderCoreLaw"
def lw_P (b : Addr) (xs : List Int32) (args : Array Value) (s : State) : Prop := args = #[.ref b] ∧ s.IntsAt b xs ∧ xs.length ≤ 256 ∧ (Jvm.Cond.and given_1 narrow_1).before args s = true
def lw_Q (_ : Array Value) (s : State) (o : Outcome) (t : State) : Prop := o = .returned (some (.int 1)) ∧ Framed s o t [] 600000 7290000
def lw_Z (below : List Frame) (a : Array Value) (s : State) : State → Prop := fun t => ∃ o, t.status = .running ∧ Ended t below o ∧ lw_Q a s o t
/-- the law's own end, with 1 on the stack, nothing written that was there before, its room as the claim has it -/
theorem lw_ret {p : Program} {l : Launch} {e : Env} {s : State} {m : MethodId} {below : List Frame} {meth : Method} {c : Code} {b : Nat} (hx : p.tables.exec = Jvm.exec) (hb : c.code = code) (hr : meth.sig.returnType = ret) (hlocks : meth.locks = false) {pc : Nat} {H : Heap} {ls : Array Slot} (hdg : decode code pc = .ok (.ireturn, 1)) : W p l e room_1 s m #[Value.ref b] below meth c H [] 600000 7290000 (lw_Z below #[Value.ref b] s) (F0 m pc ls [.int 1]) := by
  intro T hT X
  obtain ⟨fs, hret, hrun, hended, hW, hframe⟩ := X.leave (v := some (.int 1)) (hlocks := hlocks) (fun h => by rw [hr] at h; cases h)
  have hmeth' : T.vm.method? m = some meth := X.method'
  refine ⟨T.setFrames fs, ?_, .returned (some (.int 1)), hrun, hended, rfl, ⟨_, rfl⟩, hW, hframe⟩
  jvm_step X.here [X.here.top, hx, hb, hdg, hmeth', hr, ret, narrow_b1]
  (try refine ⟨rfl, ?_⟩); (try refine ⟨rfl, ?_⟩)
  first | (intro acts; rw [hret _ acts rfl rfl rfl]) | rw [hret _ _ rfl rfl rfl]
  exact Steps.refl _
/-- what holds at the law's entry: the machine, the code, the tables' words (any of lw_tbl by 'hts w (by decide +kernel)'), the script of L ints xs at the cell b, what the Statement gives of the start (any of its parts by flat_of_before) -/
def lw_At (p : Program) (s : State) (m : MethodId) (meth : Method) (c : Code) (b L : Nat) (xs : Nat → Int32) : Prop :=
  p.tables.exec = Jvm.exec ∧ c.code = code ∧ meth.sig.returnType = ret ∧ c.maxLocals = 4 ∧ s.vm.findClass R_law = some m.cls ∧ (∀ w ∈ lw_tbl, w.before #[Value.ref b] s = true) ∧ va_X b L xs s s.heap ∧ b < s.heap.size ∧ meth.locks = false ∧ (Jvm.Cond.and given_1 narrow_1).before #[Value.ref b] s = true

section
variable {p : Program} {l : Launch} {e : Env} {R : Room} {s : State} {m : MethodId} {args : Array Value} {below : List Frame} {meth : Method} {c : Code} {D : va_G} {A : Nat → Prop} {k n nL : Nat} {Q : State → Prop} {w : va_W} {pc : Nat} {L : List (Nat × Value)} {st : List Value} {cc : ByteArray} {b Ln : Nat} {xs : Nat → Int32}
theorem g_sld (hx : p.tables.exec = Jvm.exec) (hb : c.code = cc) (hX : va_X b Ln xs s s.heap) (hbl : b < s.heap.size) (hbA : ¬ A b) {i : Int32} (hin : vp_in i Ln) (hd : decode cc pc = .ok (.iaload, 1)) (kk : gg p l e R s m args below meth c D A k n nL Q w (pc + 1) L (.int (xs i.toNatClampNeg) :: st)) : gg p l e R s m args below meth c D A k n nL Q w pc L (.int i :: .ref b :: st) := fun H locs ls hP hS hl => va_sld hx hb hX hbl hbA hS hin hd (kk H locs ls hP hS hl)
theorem g_slen (hx : p.tables.exec = Jvm.exec) (hb : c.code = cc) (hX : va_X b Ln xs s s.heap) (hbl : b < s.heap.size) (hbA : ¬ A b) (hd : decode cc pc = .ok (.arraylength, 1)) (kk : gg p l e R s m args below meth c D A k n nL Q w (pc + 1) L (.int (nI Ln) :: st)) : gg p l e R s m args below meth c D A k n nL Q w pc L (.ref b :: st) := fun H locs ls hP hS hl => va_slen hx hb hX hbl hbA hS hd (kk H locs ls hP hS hl)
theorem g_jgt (hx : p.tables.exec = Jvm.exec) (hb : c.code = cc) {x y : Int32} {off : Int} {tgt : Nat} (hd : decode cc pc = .ok (.if_icmp .gt off, 3)) (ht : (pc : Int) + off = (tgt : Int)) (ka : y < x → gg p l e R s m args below meth c D A k n nL Q w tgt L st) (kb : ¬ y < x → gg p l e R s m args below meth c D A k n nL Q w (pc + 3) L st) : gg p l e R s m args below meth c D A k n nL Q w pc L (.int y :: .int x :: st) := fun H locs ls hP hS hl => lv_icmp_gt hx hb hd ht (fun hc => ka hc H locs ls hP hS hl) (fun hc => kb hc H locs ls hP hS hl)
theorem g_jeq (hx : p.tables.exec = Jvm.exec) (hb : c.code = cc) {x : Int32} {off : Int} {tgt : Nat} (hd : decode cc pc = .ok (.if_icmp .eq off, 3)) (ht : (pc : Int) + off = (tgt : Int)) (ka : gg p l e R s m args below meth c D A k n nL Q w tgt L st) : gg p l e R s m args below meth c D A k n nL Q w pc L (.int x :: .int x :: st) := fun H locs ls hP hS hl => lv_icmp_eq hx hb hd ht (fun _ => ka H locs ls hP hS hl) (fun hc => absurd rfl hc)
theorem g_tin (hx : p.tables.exec = Jvm.exec) (hb : c.code = cc) {dflt lo hi : Int} {offs : Array Int} {len : Nat} {x : Int32} {off : Int} {tgt : Nat} (hd : decode cc pc = .ok (.tableswitch dflt lo hi offs, len)) (h1 : ¬ x.toInt < lo) (h2 : ¬ hi < x.toInt) (ho : offs[(x.toInt - lo).toNat]? = some off) (ht : (pc : Int) + off = (tgt : Int)) (kk : gg p l e R s m args below meth c D A k n nL Q w tgt L st) : gg p l e R s m args below meth c D A k n nL Q w pc L (.int x :: st) := fun H locs ls hP hS hl => lv_tableIn hx hb hd h1 h2 ho ht (kk H locs ls hP hS hl)
theorem g_tout (hx : p.tables.exec = Jvm.exec) (hb : c.code = cc) {dflt lo hi : Int} {offs : Array Int} {len : Nat} {x : Int32} {tgt : Nat} (hd : decode cc pc = .ok (.tableswitch dflt lo hi offs, len)) (h : x.toInt < lo ∨ hi < x.toInt) (ht : (pc : Int) + dflt = (tgt : Int)) (kk : gg p l e R s m args below meth c D A k n nL Q w tgt L st) : gg p l e R s m args below meth c D A k n nL Q w pc L (.int x :: st) := fun H locs ls hP hS hl => lv_tableOut hx hb hd h ht (kk H locs ls hP hS hl)
end
/-- what holds all through the law's loop -/
def cxL (p : Program) (s : State) (m : MethodId) (args : Array Value) (c : Code) (D : va_G) (A : Nat → Prop) (h : Nat → Nat) (cA : Nat → ClassId) (h' : Nat → Nat) (cB : Nat → ClassId) : Prop :=
  p.tables.exec = Jvm.exec ∧ c.code = code ∧ c.maxLocals = 4 ∧ s.vm.findClass R_law = some m.cls ∧ (∀ w ∈ lw_all, w.before args s = true) ∧ va_K D vwCl (tysC cA) s ∧ va_K D vwCl (tysM cB) s ∧ njC h ∧ njM h' ∧ (∀ q, aC h q → A q) ∧ (∀ q, aM h' q → A q) ∧ ∀ q, aC h q → aM h' q → False
section
variable {p : Program} {l : Launch} {e : Env} {s : State} {m : MethodId} {args : Array Value} {below : List Frame} {meth : Method} {c : Code} {D : va_G} {A : Nat → Prop} {h h' : Nat → Nat} {cA cB : Nat → ClassId} {Q : State → Prop} {M N : MM} {pc : Nat} {L : List (Nat × Value)} {st : List Value}
theorem gL_callCi (cx : cxL p s m args c D A h cA h' cB) {y : MethodName} {b2 : ByteArray} {nL2 np idx : Nat} {ret2 : Option FieldType} {rm : Room} {as rest : List Value} {q : Int32 × MM} (hM : Met l y (ws_ y b2 nL2 ret2) rm (pcC D h cA M as) (qiC D h cA q) 0 0 (aC h)) (hg : GoodIn lw_all (wsV R_law idx RX0 y (ws_ y b2 nL2 ret2))) (hrc : rm.cells = 0) (hrs : rm.slots = 0) (hy : y.cls = RX0 ∧ y.cls ≠ "java/lang/invoke/MethodHandle" ∧ y.cls ≠ "java/lang/invoke/VarHandle" ∧ (parseMethodDescriptor y.desc).map (fun d => d.parameters.length) = some np) (hR : rm.frames + 1 ≤ 6 ∧ 8 + (nL2 + 11) + rm.locals ≤ 194) (hn : as.length = np) (hrm : (rest.map fun v => v.category).sum ≤ 8) (hd : decode code pc = .ok (.invokevirtual idx, 3)) (hst : st = as.reverse ++ .ref (h 28) :: rest) (kk : gg p l e room_1 s m args below meth c D A 26 239 4 Q (wC h cA q.2 ++ wM h' cB N) (pc + 3) L (.int q.1 :: rest)) : gg p l e room_1 s m args below meth c D A 26 239 4 Q (wC h cA M ++ wM h' cB N) pc L st := by
  obtain ⟨hx, hb, hml, hown, hts, hKC, hKM, hnC, hnM, hAC, hAM, hdj⟩ := cx
  subst hst
  intro H locs ls hP hS hl
  have hPC : va_P D vwCl (wC h cA M) H := fun i q hq => hP i q (by rw [List.getElem?_append_left (List.getElem?_eq_some_iff.mp hq).1]; exact hq)
  have hPM : va_P D vwCl (wM h' cB N) H := fun i q hq => hP ((wC h cA M).length + i) q (by rw [List.getElem?_append_right (Nat.le_add_right _ _), Nat.add_sub_cancel_left]; exact hq)
  refine va_calli (va_runV (As := as) (rest := rest) ⟨hx, hb, hml, hown, hts⟩ hM (cwV np hts hg rfl hrc hrs hy ⟨hR.1, hR.2⟩) ⟨pcC_blind, va_recv hKC hPC (ci := 0) (q0 := 0) rfl rfl, fun U hU hW => ⟨rfl, by rw [hU]; exact hPC, va_K.moved hW.alike hKC⟩⟩ rfl hn hl.1 rfl (lv_room hrm) hd ⟨Nat.le_of_ble_eq_true rfl, Nat.le_of_ble_eq_true rfl⟩) hS (fun q _ z => hAC q z) (fun q z => hAC q z) (fun r0 u t H1 locs1 ht hvm hw hB hz hk1 hS1 => ?_)
  have e1 : r0 = q.1 := congrArg Prod.fst hw
  have e2 : u = q.2 := congrArg Prod.snd hw
  subst e1
  subst e2
  exact kk H1 locs1 ls (va_P.app (by rw [← ht]; exact hB) (hPM.kept (fun i x hx => hk1 x.1 (hPM i x hx).lt (fun z => hdj x.1 z (List.mem_of_getElem? (wM_at hx)))))) hS1 hl
theorem gL_callCv (cx : cxL p s m args c D A h cA h' cB) {y : MethodName} {b2 : ByteArray} {nL2 np idx : Nat} {ret2 : Option FieldType} {rm : Room} {as rest : List Value} {q : Int32 × MM} (hM : Met l y (ws_ y b2 nL2 ret2) rm (pcC D h cA M as) (qvC D h cA q) 0 0 (aC h)) (hg : GoodIn lw_all (wsV R_law idx RX0 y (ws_ y b2 nL2 ret2))) (hrc : rm.cells = 0) (hrs : rm.slots = 0) (hy : y.cls = RX0 ∧ y.cls ≠ "java/lang/invoke/MethodHandle" ∧ y.cls ≠ "java/lang/invoke/VarHandle" ∧ (parseMethodDescriptor y.desc).map (fun d => d.parameters.length) = some np) (hR : rm.frames + 1 ≤ 6 ∧ 8 + (nL2 + 11) + rm.locals ≤ 194) (hn : as.length = np) (hrm : (rest.map fun v => v.category).sum ≤ 8) (hd : decode code pc = .ok (.invokevirtual idx, 3)) (hst : st = as.reverse ++ .ref (h 28) :: rest) (kk : gg p l e room_1 s m args below meth c D A 26 239 4 Q (wC h cA q.2 ++ wM h' cB N) (pc + 3) L rest) : gg p l e room_1 s m args below meth c D A 26 239 4 Q (wC h cA M ++ wM h' cB N) pc L st := by
  obtain ⟨hx, hb, hml, hown, hts, hKC, hKM, hnC, hnM, hAC, hAM, hdj⟩ := cx
  subst hst
  intro H locs ls hP hS hl
  have hPC : va_P D vwCl (wC h cA M) H := fun i q hq => hP i q (by rw [List.getElem?_append_left (List.getElem?_eq_some_iff.mp hq).1]; exact hq)
  have hPM : va_P D vwCl (wM h' cB N) H := fun i q hq => hP ((wC h cA M).length + i) q (by rw [List.getElem?_append_right (Nat.le_add_right _ _), Nat.add_sub_cancel_left]; exact hq)
  refine va_callv (va_runV (As := as) (rest := rest) ⟨hx, hb, hml, hown, hts⟩ hM (cwV np hts hg rfl hrc hrs hy ⟨hR.1, hR.2⟩) ⟨pcC_blind, va_recv hKC hPC (ci := 0) (q0 := 0) rfl rfl, fun U hU hW => ⟨rfl, by rw [hU]; exact hPC, va_K.moved hW.alike hKC⟩⟩ rfl hn hl.1 rfl (lv_room hrm) hd ⟨Nat.le_of_ble_eq_true rfl, Nat.le_of_ble_eq_true rfl⟩) hS (fun q _ z => hAC q z) (fun q z => hAC q z) (fun u t H1 locs1 ht hvm hw hB hz hk1 hS1 => ?_)
  have e2 : u = q.2 := hw
  subst e2
  exact kk H1 locs1 ls (va_P.app (by rw [← ht]; exact hB) (hPM.kept (fun i x hx => hk1 x.1 (hPM i x hx).lt (fun z => hdj x.1 z (List.mem_of_getElem? (wM_at hx)))))) hS1 hl
theorem gL_callMi (cx : cxL p s m args c D A h cA h' cB) {y : MethodName} {b2 : ByteArray} {nL2 np idx : Nat} {ret2 : Option FieldType} {rm : Room} {as rest : List Value} {q : Int32 × MM} (hM : Met l y (ws_ y b2 nL2 ret2) rm (pcM D h' cB N as) (qiM D h' cB q) 0 0 (aM h')) (hg : GoodIn lw_all (wsV R_law idx RX1 y (ws_ y b2 nL2 ret2))) (hrc : rm.cells = 0) (hrs : rm.slots = 0) (hy : y.cls = RX1 ∧ y.cls ≠ "java/lang/invoke/MethodHandle" ∧ y.cls ≠ "java/lang/invoke/VarHandle" ∧ (parseMethodDescriptor y.desc).map (fun d => d.parameters.length) = some np) (hR : rm.frames + 1 ≤ 6 ∧ 8 + (nL2 + 11) + rm.locals ≤ 194) (hn : as.length = np) (hrm : (rest.map fun v => v.category).sum ≤ 8) (hd : decode code pc = .ok (.invokevirtual idx, 3)) (hst : st = as.reverse ++ .ref (h' 9) :: rest) (kk : gg p l e room_1 s m args below meth c D A 26 239 4 Q (wC h cA M ++ wM h' cB q.2) (pc + 3) L (.int q.1 :: rest)) : gg p l e room_1 s m args below meth c D A 26 239 4 Q (wC h cA M ++ wM h' cB N) pc L st := by
  obtain ⟨hx, hb, hml, hown, hts, hKC, hKM, hnC, hnM, hAC, hAM, hdj⟩ := cx
  subst hst
  intro H locs ls hP hS hl
  have hPC : va_P D vwCl (wC h cA M) H := fun i q hq => hP i q (by rw [List.getElem?_append_left (List.getElem?_eq_some_iff.mp hq).1]; exact hq)
  have hPM : va_P D vwCl (wM h' cB N) H := fun i q hq => hP ((wC h cA M).length + i) q (by rw [List.getElem?_append_right (Nat.le_add_right _ _), Nat.add_sub_cancel_left]; exact hq)
  refine va_calli (va_runV (As := as) (rest := rest) ⟨hx, hb, hml, hown, hts⟩ hM (cwV np hts hg rfl hrc hrs hy ⟨hR.1, hR.2⟩) ⟨pcM_blind, va_recv hKM hPM (ci := 1) (q0 := 0) rfl rfl, fun U hU hW => ⟨rfl, by rw [hU]; exact hPM, va_K.moved hW.alike hKM⟩⟩ rfl hn hl.1 rfl (lv_room hrm) hd ⟨Nat.le_of_ble_eq_true rfl, Nat.le_of_ble_eq_true rfl⟩) hS (fun q _ z => hAM q z) (fun q z => hAM q z) (fun r0 u t H1 locs1 ht hvm hw hB hz hk1 hS1 => ?_)
  have e1 : r0 = q.1 := congrArg Prod.fst hw
  have e2 : u = q.2 := congrArg Prod.snd hw
  subst e1
  subst e2
  exact kk H1 locs1 ls (va_P.app (hPC.kept (fun i x hx => hk1 x.1 (hPC i x hx).lt (fun z => hdj x.1 (List.mem_of_getElem? (wC_at hx)) z))) (by rw [← ht]; exact hB)) hS1 hl
theorem gL_callMv (cx : cxL p s m args c D A h cA h' cB) {y : MethodName} {b2 : ByteArray} {nL2 np idx : Nat} {ret2 : Option FieldType} {rm : Room} {as rest : List Value} {q : Int32 × MM} (hM : Met l y (ws_ y b2 nL2 ret2) rm (pcM D h' cB N as) (qvM D h' cB q) 0 0 (aM h')) (hg : GoodIn lw_all (wsV R_law idx RX1 y (ws_ y b2 nL2 ret2))) (hrc : rm.cells = 0) (hrs : rm.slots = 0) (hy : y.cls = RX1 ∧ y.cls ≠ "java/lang/invoke/MethodHandle" ∧ y.cls ≠ "java/lang/invoke/VarHandle" ∧ (parseMethodDescriptor y.desc).map (fun d => d.parameters.length) = some np) (hR : rm.frames + 1 ≤ 6 ∧ 8 + (nL2 + 11) + rm.locals ≤ 194) (hn : as.length = np) (hrm : (rest.map fun v => v.category).sum ≤ 8) (hd : decode code pc = .ok (.invokevirtual idx, 3)) (hst : st = as.reverse ++ .ref (h' 9) :: rest) (kk : gg p l e room_1 s m args below meth c D A 26 239 4 Q (wC h cA M ++ wM h' cB q.2) (pc + 3) L rest) : gg p l e room_1 s m args below meth c D A 26 239 4 Q (wC h cA M ++ wM h' cB N) pc L st := by
  obtain ⟨hx, hb, hml, hown, hts, hKC, hKM, hnC, hnM, hAC, hAM, hdj⟩ := cx
  subst hst
  intro H locs ls hP hS hl
  have hPC : va_P D vwCl (wC h cA M) H := fun i q hq => hP i q (by rw [List.getElem?_append_left (List.getElem?_eq_some_iff.mp hq).1]; exact hq)
  have hPM : va_P D vwCl (wM h' cB N) H := fun i q hq => hP ((wC h cA M).length + i) q (by rw [List.getElem?_append_right (Nat.le_add_right _ _), Nat.add_sub_cancel_left]; exact hq)
  refine va_callv (va_runV (As := as) (rest := rest) ⟨hx, hb, hml, hown, hts⟩ hM (cwV np hts hg rfl hrc hrs hy ⟨hR.1, hR.2⟩) ⟨pcM_blind, va_recv hKM hPM (ci := 1) (q0 := 0) rfl rfl, fun U hU hW => ⟨rfl, by rw [hU]; exact hPM, va_K.moved hW.alike hKM⟩⟩ rfl hn hl.1 rfl (lv_room hrm) hd ⟨Nat.le_of_ble_eq_true rfl, Nat.le_of_ble_eq_true rfl⟩) hS (fun q _ z => hAM q z) (fun q z => hAM q z) (fun u t H1 locs1 ht hvm hw hB hz hk1 hS1 => ?_)
  have e2 : u = q.2 := hw
  subst e2
  exact kk H1 locs1 ls (va_P.app (hPC.kept (fun i x hx => hk1 x.1 (hPC i x hx).lt (fun z => hdj x.1 (List.mem_of_getElem? (wC_at hx)) z))) (by rw [← ht]; exact hB)) hS1 hl
end
section
variable {p : Program} {l : Launch} {e : Env} {s : State} {m : MethodId} {below : List Frame} {meth : Method} {c : Code} {D : va_G} {A : Nat → Prop} {h h' : Nat → Nat} {cA cB : Nat → ClassId} {b Ln : Nat} {xs : Nat → Int32}
theorem law_end (hx : p.tables.exec = Jvm.exec) (hb : c.code = code) (hr : meth.sig.returnType = ret) (hlk : meth.locks = false) (hAs : ∀ q, A q → s.heap.size ≤ q) {w : va_W} {L : List (Nat × Value)} : gg p l e room_1 s m #[Value.ref b] below meth c D A 26 239 4 (lw_Z below #[Value.ref b] s) w 344 L [] := by
  refine g_iconst hx hb (v := 1) dL_law_344 (by decide) ?_
  intro H locs ls hP hS hl
  refine va_forget (fun q hq => hAs _ (hS.2.2 q hq)) ?_
  refine W.widen (k := 600000) (n := 7290000) (by decide) (by decide) ?_
  exact lw_ret hx hb hr hlk dL_law_345
theorem law_emit {Rel : MM → MM → Prop} {fl j : Nat} {M N : MM} (hops : Ops Rel fl) (cx : cxL p s m #[Value.ref b] c D A h cA h' cB) (hX : va_X b Ln xs s s.heap) (hbl : b < s.heap.size) (hbA : ¬ A b) (hr : Rel M N) (h1 : vp_in (nI j + 1) Ln) (h2 : vp_in (nI j + 2) Ln) (h3 : vp_in (nI j + 3) Ln) (tail : ∀ M N, Rel M N → gg p l e room_1 s m #[Value.ref b] below meth c D A 26 239 4 (lw_Z below #[Value.ref b] s) (wC h cA M ++ wM h' cB N) 338 [(0, .ref b), (1, .ref (h 28)), (2, .ref (h' 9)), (3, .int (nI j))] []) : gg p l e room_1 s m #[Value.ref b] below meth c D A 26 239 4 (lw_Z below #[Value.ref b] s) (wC h cA M ++ wM h' cB N) 96 [(0, .ref b), (1, .ref (h 28)), (2, .ref (h' 9)), (3, .int (nI j))] [] := by
  have hx := cx.1
  have hb := cx.2.1
  obtain ⟨r, M', N', e0, e1, hr'⟩ := (hops M N hr).1 (xs (nI j + 1).toNatClampNeg) (xs (nI j + 2).toNatClampNeg) (xs (nI j + 3).toNatClampNeg)
  refine g_aload_n hx hb dL_law_96 rfl 1 rfl ?_
  refine g_aload_n hx hb dL_law_97 rfl 0 rfl ?_
  refine g_iload_n hx hb dL_law_98 rfl 3 rfl ?_
  refine g_iconst hx hb (v := 1) dL_law_99 (by decide) ?_
  refine g_iadd hx hb dL_law_100 ?_
  refine g_sld hx hb hX hbl hbA h1 dL_law_101 ?_
  refine g_aload_n hx hb dL_law_102 rfl 0 rfl ?_
  refine g_iload_n hx hb dL_law_103 rfl 3 rfl ?_
  refine g_iconst hx hb (v := 2) dL_law_104 (by decide) ?_
  refine g_iadd hx hb dL_law_105 ?_
  refine g_sld hx hb hX hbl hbA h2 dL_law_106 ?_
  refine g_aload_n hx hb dL_law_107 rfl 0 rfl ?_
  refine g_iload_n hx hb dL_law_108 rfl 3 rfl ?_
  refine g_iconst hx hb (v := 3) dL_law_109 (by decide) ?_
  refine g_iadd hx hb dL_law_110 ?_
  refine g_sld hx hb hX hbl hbA h3 dL_law_111 ?_
  refine gL_callCi cx (np := 3) (as := [.int (xs (nI j + 1).toNatClampNeg), .int (xs (nI j + 2).toNatClampNeg), .int (xs (nI j + 3).toNatClampNeg)]) (metX0_emit (l := l) (D := D) (cA := cA) cx.2.2.2.2.2.2.2.1 e0) (lw_V q113 q114 q115 q15 q116) rfl rfl ⟨rfl, by decide, by decide, by decide +kernel⟩ ⟨by decide, by decide⟩ rfl (Nat.le_of_ble_eq_true rfl) dL_law_112 rfl ?_
  refine g_aload_n hx hb dL_law_115 rfl 2 rfl ?_
  refine g_aload_n hx hb dL_law_116 rfl 0 rfl ?_
  refine g_iload_n hx hb dL_law_117 rfl 3 rfl ?_
  refine g_iconst hx hb (v := 1) dL_law_118 (by decide) ?_
  refine g_iadd hx hb dL_law_119 ?_
  refine g_sld hx hb hX hbl hbA h1 dL_law_120 ?_
  refine g_aload_n hx hb dL_law_121 rfl 0 rfl ?_
  refine g_iload_n hx hb dL_law_122 rfl 3 rfl ?_
  refine g_iconst hx hb (v := 2) dL_law_123 (by decide) ?_
  refine g_iadd hx hb dL_law_124 ?_
  refine g_sld hx hb hX hbl hbA h2 dL_law_125 ?_
  refine g_aload_n hx hb dL_law_126 rfl 0 rfl ?_
  refine g_iload_n hx hb dL_law_127 rfl 3 rfl ?_
  refine g_iconst hx hb (v := 3) dL_law_128 (by decide) ?_
  refine g_iadd hx hb dL_law_129 ?_
  refine g_sld hx hb hX hbl hbA h3 dL_law_130 ?_
  refine gL_callMi cx (np := 3) (as := [.int (xs (nI j + 1).toNatClampNeg), .int (xs (nI j + 2).toNatClampNeg), .int (xs (nI j + 3).toNatClampNeg)]) (metX1_emit (l := l) (D := D) (cA := cB) cx.2.2.2.2.2.2.2.2.1 e1) (lw_V q246 q247 q248 q16 q249) rfl rfl ⟨rfl, by decide, by decide, by decide +kernel⟩ ⟨by decide, by decide⟩ rfl (Nat.le_of_ble_eq_true rfl) dL_law_131 rfl ?_
  refine g_jeq hx hb dL_law_134 (tgt := 338) (by decide) ?_
  exact tail M' N' hr'
theorem law_clear {Rel : MM → MM → Prop} {fl j : Nat} {M N : MM} (hops : Ops Rel fl) (cx : cxL p s m #[Value.ref b] c D A h cA h' cB) (hX : va_X b Ln xs s s.heap) (hbl : b < s.heap.size) (hbA : ¬ A b) (hr : Rel M N)  (tail : ∀ M N, Rel M N → gg p l e room_1 s m #[Value.ref b] below meth c D A 26 239 4 (lw_Z below #[Value.ref b] s) (wC h cA M ++ wM h' cB N) 338 [(0, .ref b), (1, .ref (h 28)), (2, .ref (h' 9)), (3, .int (nI j))] []) : gg p l e room_1 s m #[Value.ref b] below meth c D A 26 239 4 (lw_Z below #[Value.ref b] s) (wC h cA M ++ wM h' cB N) 139 [(0, .ref b), (1, .ref (h 28)), (2, .ref (h' 9)), (3, .int (nI j))] [] := by
  have hx := cx.1
  have hb := cx.2.1
  obtain ⟨r, M', N', e0, e1, hr'⟩ := (hops M N hr).2.1
  refine g_aload_n hx hb dL_law_139 rfl 1 rfl ?_
  refine gL_callCv cx (np := 0) (as := []) (metX0_clear (l := l) (D := D) (cA := cA) cx.2.2.2.2.2.2.2.1 e0) (lw_V q121 q122 q123 q15 q124) rfl rfl ⟨rfl, by decide, by decide, by decide +kernel⟩ ⟨by decide, by decide⟩ rfl (Nat.le_of_ble_eq_true rfl) dL_law_140 rfl ?_
  refine g_aload_n hx hb dL_law_143 rfl 2 rfl ?_
  refine gL_callMv cx (np := 0) (as := []) (metX1_clear (l := l) (D := D) (cA := cB) cx.2.2.2.2.2.2.2.2.1 e1) (lw_V q254 q255 q256 q16 q257) rfl rfl ⟨rfl, by decide, by decide, by decide +kernel⟩ ⟨by decide, by decide⟩ rfl (Nat.le_of_ble_eq_true rfl) dL_law_144 rfl ?_
  refine g_goto hx hb dL_law_147 (tgt := 338) (by decide) ?_
  exact tail M' N' hr'
theorem law_length {Rel : MM → MM → Prop} {fl j : Nat} {M N : MM} (hops : Ops Rel fl) (cx : cxL p s m #[Value.ref b] c D A h cA h' cB) (hX : va_X b Ln xs s s.heap) (hbl : b < s.heap.size) (hbA : ¬ A b) (hr : Rel M N)  (tail : ∀ M N, Rel M N → gg p l e room_1 s m #[Value.ref b] below meth c D A 26 239 4 (lw_Z below #[Value.ref b] s) (wC h cA M ++ wM h' cB N) 338 [(0, .ref b), (1, .ref (h 28)), (2, .ref (h' 9)), (3, .int (nI j))] []) : gg p l e room_1 s m #[Value.ref b] below meth c D A 26 239 4 (lw_Z below #[Value.ref b] s) (wC h cA M ++ wM h' cB N) 150 [(0, .ref b), (1, .ref (h 28)), (2, .ref (h' 9)), (3, .int (nI j))] [] := by
  have hx := cx.1
  have hb := cx.2.1
  obtain ⟨r, M', N', e0, e1, hr'⟩ := (hops M N hr).2.2.1
  refine g_aload_n hx hb dL_law_150 rfl 1 rfl ?_
  refine gL_callCi cx (np := 0) (as := []) (metX0_length (l := l) (D := D) (cA := cA) cx.2.2.2.2.2.2.2.1 e0) (lw_V q125 q126 q127 q15 q128) rfl rfl ⟨rfl, by decide, by decide, by decide +kernel⟩ ⟨by decide, by decide⟩ rfl (Nat.le_of_ble_eq_true rfl) dL_law_151 rfl ?_
  refine g_aload_n hx hb dL_law_154 rfl 2 rfl ?_
  refine gL_callMi cx (np := 0) (as := []) (metX1_length (l := l) (D := D) (cA := cB) cx.2.2.2.2.2.2.2.2.1 e1) (lw_V q258 q259 q260 q16 q261) rfl rfl ⟨rfl, by decide, by decide, by decide +kernel⟩ ⟨by decide, by decide⟩ rfl (Nat.le_of_ble_eq_true rfl) dL_law_155 rfl ?_
  refine g_jeq hx hb dL_law_158 (tgt := 338) (by decide) ?_
  exact tail M' N' hr'
theorem law_set {Rel : MM → MM → Prop} {fl j : Nat} {M N : MM} (hops : Ops Rel fl) (cx : cxL p s m #[Value.ref b] c D A h cA h' cB) (hX : va_X b Ln xs s s.heap) (hbl : b < s.heap.size) (hbA : ¬ A b) (hr : Rel M N) (h1 : vp_in (nI j + 1) Ln) (h2 : vp_in (nI j + 2) Ln) (tail : ∀ M N, Rel M N → gg p l e room_1 s m #[Value.ref b] below meth c D A 26 239 4 (lw_Z below #[Value.ref b] s) (wC h cA M ++ wM h' cB N) 338 [(0, .ref b), (1, .ref (h 28)), (2, .ref (h' 9)), (3, .int (nI j))] []) : gg p l e room_1 s m #[Value.ref b] below meth c D A 26 239 4 (lw_Z below #[Value.ref b] s) (wC h cA M ++ wM h' cB N) 163 [(0, .ref b), (1, .ref (h 28)), (2, .ref (h' 9)), (3, .int (nI j))] [] := by
  have hx := cx.1
  have hb := cx.2.1
  obtain ⟨r, M', N', e0, e1, hr'⟩ := (hops M N hr).2.2.2.1 (xs (nI j + 1).toNatClampNeg) (xs (nI j + 2).toNatClampNeg)
  refine g_aload_n hx hb dL_law_163 rfl 1 rfl ?_
  refine g_aload_n hx hb dL_law_164 rfl 0 rfl ?_
  refine g_iload_n hx hb dL_law_165 rfl 3 rfl ?_
  refine g_iconst hx hb (v := 1) dL_law_166 (by decide) ?_
  refine g_iadd hx hb dL_law_167 ?_
  refine g_sld hx hb hX hbl hbA h1 dL_law_168 ?_
  refine g_aload_n hx hb dL_law_169 rfl 0 rfl ?_
  refine g_iload_n hx hb dL_law_170 rfl 3 rfl ?_
  refine g_iconst hx hb (v := 2) dL_law_171 (by decide) ?_
  refine g_iadd hx hb dL_law_172 ?_
  refine g_sld hx hb hX hbl hbA h2 dL_law_173 ?_
  refine gL_callCi cx (np := 2) (as := [.int (xs (nI j + 1).toNatClampNeg), .int (xs (nI j + 2).toNatClampNeg)]) (metX0_set (l := l) (D := D) (cA := cA) cx.2.2.2.2.2.2.2.1 e0) (lw_V q129 q130 q131 q15 q132) rfl rfl ⟨rfl, by decide, by decide, by decide +kernel⟩ ⟨by decide, by decide⟩ rfl (Nat.le_of_ble_eq_true rfl) dL_law_174 rfl ?_
  refine g_aload_n hx hb dL_law_177 rfl 2 rfl ?_
  refine g_aload_n hx hb dL_law_178 rfl 0 rfl ?_
  refine g_iload_n hx hb dL_law_179 rfl 3 rfl ?_
  refine g_iconst hx hb (v := 1) dL_law_180 (by decide) ?_
  refine g_iadd hx hb dL_law_181 ?_
  refine g_sld hx hb hX hbl hbA h1 dL_law_182 ?_
  refine g_aload_n hx hb dL_law_183 rfl 0 rfl ?_
  refine g_iload_n hx hb dL_law_184 rfl 3 rfl ?_
  refine g_iconst hx hb (v := 2) dL_law_185 (by decide) ?_
  refine g_iadd hx hb dL_law_186 ?_
  refine g_sld hx hb hX hbl hbA h2 dL_law_187 ?_
  refine gL_callMi cx (np := 2) (as := [.int (xs (nI j + 1).toNatClampNeg), .int (xs (nI j + 2).toNatClampNeg)]) (metX1_set (l := l) (D := D) (cA := cB) cx.2.2.2.2.2.2.2.2.1 e1) (lw_V q262 q263 q264 q16 q265) rfl rfl ⟨rfl, by decide, by decide, by decide +kernel⟩ ⟨by decide, by decide⟩ rfl (Nat.le_of_ble_eq_true rfl) dL_law_188 rfl ?_
  refine g_jeq hx hb dL_law_191 (tgt := 338) (by decide) ?_
  exact tail M' N' hr'
theorem law_start {Rel : MM → MM → Prop} {fl j : Nat} {M N : MM} (hops : Ops Rel fl) (cx : cxL p s m #[Value.ref b] c D A h cA h' cB) (hX : va_X b Ln xs s s.heap) (hbl : b < s.heap.size) (hbA : ¬ A b) (hr : Rel M N) (h1 : vp_in (nI j + 1) Ln) (tail : ∀ M N, Rel M N → gg p l e room_1 s m #[Value.ref b] below meth c D A 26 239 4 (lw_Z below #[Value.ref b] s) (wC h cA M ++ wM h' cB N) 338 [(0, .ref b), (1, .ref (h 28)), (2, .ref (h' 9)), (3, .int (nI j))] []) : gg p l e room_1 s m #[Value.ref b] below meth c D A 26 239 4 (lw_Z below #[Value.ref b] s) (wC h cA M ++ wM h' cB N) 196 [(0, .ref b), (1, .ref (h 28)), (2, .ref (h' 9)), (3, .int (nI j))] [] := by
  have hx := cx.1
  have hb := cx.2.1
  obtain ⟨r, M', N', e0, e1, hr'⟩ := (hops M N hr).2.2.2.2.1 (xs (nI j + 1).toNatClampNeg)
  refine g_aload_n hx hb dL_law_196 rfl 1 rfl ?_
  refine g_aload_n hx hb dL_law_197 rfl 0 rfl ?_
  refine g_iload_n hx hb dL_law_198 rfl 3 rfl ?_
  refine g_iconst hx hb (v := 1) dL_law_199 (by decide) ?_
  refine g_iadd hx hb dL_law_200 ?_
  refine g_sld hx hb hX hbl hbA h1 dL_law_201 ?_
  refine gL_callCv cx (np := 1) (as := [.int (xs (nI j + 1).toNatClampNeg)]) (metX0_start (l := l) (D := D) (cA := cA) cx.2.2.2.2.2.2.2.1 e0) (lw_V q133 q134 q135 q15 q136) rfl rfl ⟨rfl, by decide, by decide, by decide +kernel⟩ ⟨by decide, by decide⟩ rfl (Nat.le_of_ble_eq_true rfl) dL_law_202 rfl ?_
  refine g_aload_n hx hb dL_law_205 rfl 2 rfl ?_
  refine g_aload_n hx hb dL_law_206 rfl 0 rfl ?_
  refine g_iload_n hx hb dL_law_207 rfl 3 rfl ?_
  refine g_iconst hx hb (v := 1) dL_law_208 (by decide) ?_
  refine g_iadd hx hb dL_law_209 ?_
  refine g_sld hx hb hX hbl hbA h1 dL_law_210 ?_
  refine gL_callMv cx (np := 1) (as := [.int (xs (nI j + 1).toNatClampNeg)]) (metX1_start (l := l) (D := D) (cA := cB) cx.2.2.2.2.2.2.2.2.1 e1) (lw_V q266 q267 q268 q16 q269) rfl rfl ⟨rfl, by decide, by decide, by decide +kernel⟩ ⟨by decide, by decide⟩ rfl (Nat.le_of_ble_eq_true rfl) dL_law_211 rfl ?_
  refine g_goto hx hb dL_law_214 (tgt := 338) (by decide) ?_
  exact tail M' N' hr'
theorem law_finish {Rel : MM → MM → Prop} {fl j : Nat} {M N : MM} (hops : Ops Rel fl) (cx : cxL p s m #[Value.ref b] c D A h cA h' cB) (hX : va_X b Ln xs s s.heap) (hbl : b < s.heap.size) (hbA : ¬ A b) (hr : Rel M N) (h1 : vp_in (nI j + 1) Ln) (tail : ∀ M N, Rel M N → gg p l e room_1 s m #[Value.ref b] below meth c D A 26 239 4 (lw_Z below #[Value.ref b] s) (wC h cA M ++ wM h' cB N) 338 [(0, .ref b), (1, .ref (h 28)), (2, .ref (h' 9)), (3, .int (nI j))] []) : gg p l e room_1 s m #[Value.ref b] below meth c D A 26 239 4 (lw_Z below #[Value.ref b] s) (wC h cA M ++ wM h' cB N) 217 [(0, .ref b), (1, .ref (h 28)), (2, .ref (h' 9)), (3, .int (nI j))] [] := by
  have hx := cx.1
  have hb := cx.2.1
  obtain ⟨r, M', N', e0, e1, hr'⟩ := (hops M N hr).2.2.2.2.2.1 (xs (nI j + 1).toNatClampNeg)
  refine g_aload_n hx hb dL_law_217 rfl 1 rfl ?_
  refine g_aload_n hx hb dL_law_218 rfl 0 rfl ?_
  refine g_iload_n hx hb dL_law_219 rfl 3 rfl ?_
  refine g_iconst hx hb (v := 1) dL_law_220 (by decide) ?_
  refine g_iadd hx hb dL_law_221 ?_
  refine g_sld hx hb hX hbl hbA h1 dL_law_222 ?_
  refine gL_callCi cx (np := 1) (as := [.int (xs (nI j + 1).toNatClampNeg)]) (metX0_finish (l := l) (D := D) (cA := cA) cx.2.2.2.2.2.2.2.1 e0) (lw_V q141 q142 q143 q15 q144) rfl rfl ⟨rfl, by decide, by decide, by decide +kernel⟩ ⟨by decide, by decide⟩ rfl (Nat.le_of_ble_eq_true rfl) dL_law_223 rfl ?_
  refine g_aload_n hx hb dL_law_226 rfl 2 rfl ?_
  refine g_aload_n hx hb dL_law_227 rfl 0 rfl ?_
  refine g_iload_n hx hb dL_law_228 rfl 3 rfl ?_
  refine g_iconst hx hb (v := 1) dL_law_229 (by decide) ?_
  refine g_iadd hx hb dL_law_230 ?_
  refine g_sld hx hb hX hbl hbA h1 dL_law_231 ?_
  refine gL_callMi cx (np := 1) (as := [.int (xs (nI j + 1).toNatClampNeg)]) (metX1_finish (l := l) (D := D) (cA := cB) cx.2.2.2.2.2.2.2.2.1 e1) (lw_V q270 q271 q272 q16 q273) rfl rfl ⟨rfl, by decide, by decide, by decide +kernel⟩ ⟨by decide, by decide⟩ rfl (Nat.le_of_ble_eq_true rfl) dL_law_232 rfl ?_
  refine g_jeq hx hb dL_law_235 (tgt := 338) (by decide) ?_
  exact tail M' N' hr'
theorem law_status {Rel : MM → MM → Prop} {fl j : Nat} {M N : MM} (hops : Ops Rel fl) (cx : cxL p s m #[Value.ref b] c D A h cA h' cB) (hX : va_X b Ln xs s s.heap) (hbl : b < s.heap.size) (hbA : ¬ A b) (hr : Rel M N)  (tail : ∀ M N, Rel M N → gg p l e room_1 s m #[Value.ref b] below meth c D A 26 239 4 (lw_Z below #[Value.ref b] s) (wC h cA M ++ wM h' cB N) 338 [(0, .ref b), (1, .ref (h 28)), (2, .ref (h' 9)), (3, .int (nI j))] []) : gg p l e room_1 s m #[Value.ref b] below meth c D A 26 239 4 (lw_Z below #[Value.ref b] s) (wC h cA M ++ wM h' cB N) 240 [(0, .ref b), (1, .ref (h 28)), (2, .ref (h' 9)), (3, .int (nI j))] [] := by
  have hx := cx.1
  have hb := cx.2.1
  obtain ⟨r, M', N', e0, e1, hr'⟩ := (hops M N hr).2.2.2.2.2.2.1
  refine g_aload_n hx hb dL_law_240 rfl 1 rfl ?_
  refine gL_callCi cx (np := 0) (as := []) (metX0_status (l := l) (D := D) (cA := cA) cx.2.2.2.2.2.2.2.1 e0) (lw_V q188 q189 q190 q15 q191) rfl rfl ⟨rfl, by decide, by decide, by decide +kernel⟩ ⟨by decide, by decide⟩ rfl (Nat.le_of_ble_eq_true rfl) dL_law_241 rfl ?_
  refine g_aload_n hx hb dL_law_244 rfl 2 rfl ?_
  refine gL_callMi cx (np := 0) (as := []) (metX1_status (l := l) (D := D) (cA := cB) cx.2.2.2.2.2.2.2.2.1 e1) (lw_V q278 q279 q280 q16 q281) rfl rfl ⟨rfl, by decide, by decide, by decide +kernel⟩ ⟨by decide, by decide⟩ rfl (Nat.le_of_ble_eq_true rfl) dL_law_245 rfl ?_
  refine g_jeq hx hb dL_law_248 (tgt := 338) (by decide) ?_
  exact tail M' N' hr'
theorem law_position {Rel : MM → MM → Prop} {fl j : Nat} {M N : MM} (hops : Ops Rel fl) (cx : cxL p s m #[Value.ref b] c D A h cA h' cB) (hX : va_X b Ln xs s s.heap) (hbl : b < s.heap.size) (hbA : ¬ A b) (hr : Rel M N)  (tail : ∀ M N, Rel M N → gg p l e room_1 s m #[Value.ref b] below meth c D A 26 239 4 (lw_Z below #[Value.ref b] s) (wC h cA M ++ wM h' cB N) 338 [(0, .ref b), (1, .ref (h 28)), (2, .ref (h' 9)), (3, .int (nI j))] []) : gg p l e room_1 s m #[Value.ref b] below meth c D A 26 239 4 (lw_Z below #[Value.ref b] s) (wC h cA M ++ wM h' cB N) 253 [(0, .ref b), (1, .ref (h 28)), (2, .ref (h' 9)), (3, .int (nI j))] [] := by
  have hx := cx.1
  have hb := cx.2.1
  obtain ⟨r, M', N', e0, e1, hr'⟩ := (hops M N hr).2.2.2.2.2.2.2.1
  refine g_aload_n hx hb dL_law_253 rfl 1 rfl ?_
  refine gL_callCi cx (np := 0) (as := []) (metX0_position (l := l) (D := D) (cA := cA) cx.2.2.2.2.2.2.2.1 e0) (lw_V q192 q193 q194 q15 q195) rfl rfl ⟨rfl, by decide, by decide, by decide +kernel⟩ ⟨by decide, by decide⟩ rfl (Nat.le_of_ble_eq_true rfl) dL_law_254 rfl ?_
  refine g_aload_n hx hb dL_law_257 rfl 2 rfl ?_
  refine gL_callMi cx (np := 0) (as := []) (metX1_position (l := l) (D := D) (cA := cB) cx.2.2.2.2.2.2.2.2.1 e1) (lw_V q282 q283 q284 q16 q285) rfl rfl ⟨rfl, by decide, by decide, by decide +kernel⟩ ⟨by decide, by decide⟩ rfl (Nat.le_of_ble_eq_true rfl) dL_law_258 rfl ?_
  refine g_jeq hx hb dL_law_261 (tgt := 338) (by decide) ?_
  exact tail M' N' hr'
theorem law_finished {Rel : MM → MM → Prop} {fl j : Nat} {M N : MM} (hops : Ops Rel fl) (cx : cxL p s m #[Value.ref b] c D A h cA h' cB) (hX : va_X b Ln xs s s.heap) (hbl : b < s.heap.size) (hbA : ¬ A b) (hr : Rel M N)  (tail : ∀ M N, Rel M N → gg p l e room_1 s m #[Value.ref b] below meth c D A 26 239 4 (lw_Z below #[Value.ref b] s) (wC h cA M ++ wM h' cB N) 338 [(0, .ref b), (1, .ref (h 28)), (2, .ref (h' 9)), (3, .int (nI j))] []) : gg p l e room_1 s m #[Value.ref b] below meth c D A 26 239 4 (lw_Z below #[Value.ref b] s) (wC h cA M ++ wM h' cB N) 266 [(0, .ref b), (1, .ref (h 28)), (2, .ref (h' 9)), (3, .int (nI j))] [] := by
  have hx := cx.1
  have hb := cx.2.1
  obtain ⟨r, M', N', e0, e1, hr'⟩ := (hops M N hr).2.2.2.2.2.2.2.2.1
  refine g_aload_n hx hb dL_law_266 rfl 1 rfl ?_
  refine gL_callCi cx (np := 0) (as := []) (metX0_finished (l := l) (D := D) (cA := cA) cx.2.2.2.2.2.2.2.1 e0) (lw_V q196 q197 q198 q15 q199) rfl rfl ⟨rfl, by decide, by decide, by decide +kernel⟩ ⟨by decide, by decide⟩ rfl (Nat.le_of_ble_eq_true rfl) dL_law_267 rfl ?_
  refine g_aload_n hx hb dL_law_270 rfl 2 rfl ?_
  refine gL_callMi cx (np := 0) (as := []) (metX1_finished (l := l) (D := D) (cA := cB) cx.2.2.2.2.2.2.2.2.1 e1) (lw_V q286 q287 q288 q16 q289) rfl rfl ⟨rfl, by decide, by decide, by decide +kernel⟩ ⟨by decide, by decide⟩ rfl (Nat.le_of_ble_eq_true rfl) dL_law_271 rfl ?_
  refine g_jeq hx hb dL_law_274 (tgt := 338) (by decide) ?_
  exact tail M' N' hr'
theorem law_register {Rel : MM → MM → Prop} {fl j : Nat} {M N : MM} (hops : Ops Rel fl) (cx : cxL p s m #[Value.ref b] c D A h cA h' cB) (hX : va_X b Ln xs s s.heap) (hbl : b < s.heap.size) (hbA : ¬ A b) (hr : Rel M N) (h1 : vp_in (nI j + 1) Ln) (tail : ∀ M N, Rel M N → gg p l e room_1 s m #[Value.ref b] below meth c D A 26 239 4 (lw_Z below #[Value.ref b] s) (wC h cA M ++ wM h' cB N) 338 [(0, .ref b), (1, .ref (h 28)), (2, .ref (h' 9)), (3, .int (nI j))] []) : gg p l e room_1 s m #[Value.ref b] below meth c D A 26 239 4 (lw_Z below #[Value.ref b] s) (wC h cA M ++ wM h' cB N) 279 [(0, .ref b), (1, .ref (h 28)), (2, .ref (h' 9)), (3, .int (nI j))] [] := by
  have hx := cx.1
  have hb := cx.2.1
  obtain ⟨r, M', N', e0, e1, hr'⟩ := (hops M N hr).2.2.2.2.2.2.2.2.2.1 (xs (nI j + 1).toNatClampNeg)
  refine g_aload_n hx hb dL_law_279 rfl 1 rfl ?_
  refine g_aload_n hx hb dL_law_280 rfl 0 rfl ?_
  refine g_iload_n hx hb dL_law_281 rfl 3 rfl ?_
  refine g_iconst hx hb (v := 1) dL_law_282 (by decide) ?_
  refine g_iadd hx hb dL_law_283 ?_
  refine g_sld hx hb hX hbl hbA h1 dL_law_284 ?_
  refine gL_callCi cx (np := 1) (as := [.int (xs (nI j + 1).toNatClampNeg)]) (metX0_register (l := l) (D := D) (cA := cA) cx.2.2.2.2.2.2.2.1 e0) (lw_V q200 q201 q202 q15 q203) rfl rfl ⟨rfl, by decide, by decide, by decide +kernel⟩ ⟨by decide, by decide⟩ rfl (Nat.le_of_ble_eq_true rfl) dL_law_285 rfl ?_
  refine g_aload_n hx hb dL_law_288 rfl 2 rfl ?_
  refine g_aload_n hx hb dL_law_289 rfl 0 rfl ?_
  refine g_iload_n hx hb dL_law_290 rfl 3 rfl ?_
  refine g_iconst hx hb (v := 1) dL_law_291 (by decide) ?_
  refine g_iadd hx hb dL_law_292 ?_
  refine g_sld hx hb hX hbl hbA h1 dL_law_293 ?_
  refine gL_callMi cx (np := 1) (as := [.int (xs (nI j + 1).toNatClampNeg)]) (metX1_register (l := l) (D := D) (cA := cB) cx.2.2.2.2.2.2.2.2.1 e1) (lw_V q290 q291 q292 q16 q293) rfl rfl ⟨rfl, by decide, by decide, by decide +kernel⟩ ⟨by decide, by decide⟩ rfl (Nat.le_of_ble_eq_true rfl) dL_law_294 rfl ?_
  refine g_jeq hx hb dL_law_297 (tgt := 338) (by decide) ?_
  exact tail M' N' hr'
theorem law_memory {Rel : MM → MM → Prop} {fl j : Nat} {M N : MM} (hops : Ops Rel fl) (cx : cxL p s m #[Value.ref b] c D A h cA h' cB) (hX : va_X b Ln xs s s.heap) (hbl : b < s.heap.size) (hbA : ¬ A b) (hr : Rel M N) (h1 : vp_in (nI j + 1) Ln) (tail : ∀ M N, Rel M N → gg p l e room_1 s m #[Value.ref b] below meth c D A 26 239 4 (lw_Z below #[Value.ref b] s) (wC h cA M ++ wM h' cB N) 338 [(0, .ref b), (1, .ref (h 28)), (2, .ref (h' 9)), (3, .int (nI j))] []) : gg p l e room_1 s m #[Value.ref b] below meth c D A 26 239 4 (lw_Z below #[Value.ref b] s) (wC h cA M ++ wM h' cB N) 302 [(0, .ref b), (1, .ref (h 28)), (2, .ref (h' 9)), (3, .int (nI j))] [] := by
  have hx := cx.1
  have hb := cx.2.1
  obtain ⟨r, M', N', e0, e1, hr'⟩ := (hops M N hr).2.2.2.2.2.2.2.2.2.2.1 (xs (nI j + 1).toNatClampNeg)
  refine g_aload_n hx hb dL_law_302 rfl 1 rfl ?_
  refine g_aload_n hx hb dL_law_303 rfl 0 rfl ?_
  refine g_iload_n hx hb dL_law_304 rfl 3 rfl ?_
  refine g_iconst hx hb (v := 1) dL_law_305 (by decide) ?_
  refine g_iadd hx hb dL_law_306 ?_
  refine g_sld hx hb hX hbl hbA h1 dL_law_307 ?_
  refine gL_callCi cx (np := 1) (as := [.int (xs (nI j + 1).toNatClampNeg)]) (metX0_memory (l := l) (D := D) (cA := cA) cx.2.2.2.2.2.2.2.1 e0) (lw_V q204 q205 q206 q15 q207) rfl rfl ⟨rfl, by decide, by decide, by decide +kernel⟩ ⟨by decide, by decide⟩ rfl (Nat.le_of_ble_eq_true rfl) dL_law_308 rfl ?_
  refine g_aload_n hx hb dL_law_311 rfl 2 rfl ?_
  refine g_aload_n hx hb dL_law_312 rfl 0 rfl ?_
  refine g_iload_n hx hb dL_law_313 rfl 3 rfl ?_
  refine g_iconst hx hb (v := 1) dL_law_314 (by decide) ?_
  refine g_iadd hx hb dL_law_315 ?_
  refine g_sld hx hb hX hbl hbA h1 dL_law_316 ?_
  refine gL_callMi cx (np := 1) (as := [.int (xs (nI j + 1).toNatClampNeg)]) (metX1_memory (l := l) (D := D) (cA := cB) cx.2.2.2.2.2.2.2.2.1 e1) (lw_V q294 q295 q296 q16 q297) rfl rfl ⟨rfl, by decide, by decide, by decide +kernel⟩ ⟨by decide, by decide⟩ rfl (Nat.le_of_ble_eq_true rfl) dL_law_317 rfl ?_
  refine g_jeq hx hb dL_law_320 (tgt := 338) (by decide) ?_
  exact tail M' N' hr'
theorem law_digest {Rel : MM → MM → Prop} {fl j : Nat} {M N : MM} (hops : Ops Rel fl) (cx : cxL p s m #[Value.ref b] c D A h cA h' cB) (hX : va_X b Ln xs s s.heap) (hbl : b < s.heap.size) (hbA : ¬ A b) (hr : Rel M N)  (tail : ∀ M N, Rel M N → gg p l e room_1 s m #[Value.ref b] below meth c D A 26 239 4 (lw_Z below #[Value.ref b] s) (wC h cA M ++ wM h' cB N) 338 [(0, .ref b), (1, .ref (h 28)), (2, .ref (h' 9)), (3, .int (nI j))] []) : gg p l e room_1 s m #[Value.ref b] below meth c D A 26 239 4 (lw_Z below #[Value.ref b] s) (wC h cA M ++ wM h' cB N) 325 [(0, .ref b), (1, .ref (h 28)), (2, .ref (h' 9)), (3, .int (nI j))] [] := by
  have hx := cx.1
  have hb := cx.2.1
  obtain ⟨r, M', N', e0, e1, hr'⟩ := (hops M N hr).2.2.2.2.2.2.2.2.2.2.2
  refine g_aload_n hx hb dL_law_325 rfl 1 rfl ?_
  refine gL_callCi cx (np := 0) (as := []) (metX0_digest (l := l) (D := D) (cA := cA) cx.2.2.2.2.2.2.2.1 e0) (lw_V q208 q209 q210 q15 q211) rfl rfl ⟨rfl, by decide, by decide, by decide +kernel⟩ ⟨by decide, by decide⟩ rfl (Nat.le_of_ble_eq_true rfl) dL_law_326 rfl ?_
  refine g_aload_n hx hb dL_law_329 rfl 2 rfl ?_
  refine gL_callMi cx (np := 0) (as := []) (metX1_digest (l := l) (D := D) (cA := cB) cx.2.2.2.2.2.2.2.2.1 e1) (lw_V q298 q299 q300 q16 q301) rfl rfl ⟨rfl, by decide, by decide, by decide +kernel⟩ ⟨by decide, by decide⟩ rfl (Nat.le_of_ble_eq_true rfl) dL_law_330 rfl ?_
  refine g_jeq hx hb dL_law_333 (tgt := 338) (by decide) ?_
  exact tail M' N' hr'
theorem law_loop {Rel : MM → MM → Prop} {fl : Nat} (hops : Ops Rel fl) (cx : cxL p s m #[Value.ref b] c D A h cA h' cB) (hX : va_X b Ln xs s s.heap) (hbl : b < s.heap.size) (hbA : ¬ A b) (hLn : Ln ≤ 256) (hrt : meth.sig.returnType = ret) (hlk : meth.locks = false) (hAs : ∀ q, A q → s.heap.size ≤ q) : ∀ (n j : Nat) (M N : MM), Rel M N → j ≤ Ln + 4 → Ln + 8 ≤ j + n → gg p l e room_1 s m #[Value.ref b] below meth c D A 26 239 4 (lw_Z below #[Value.ref b] s) (wC h cA M ++ wM h' cB N) 18 [(0, .ref b), (1, .ref (h 28)), (2, .ref (h' 9)), (3, .int (nI j))] [] := by
  have hx := cx.1
  have hb := cx.2.1
  intro n
  induction n with
  | zero => intro j M N _ h1 h2; omega
  | succ n ih =>
    intro j M N hr h1 h2
    refine g_iload_n hx hb dL_law_18 rfl 3 rfl ?_
    refine g_aload_n hx hb dL_law_19 rfl 0 rfl ?_
    refine g_slen hx hb hX hbl hbA dL_law_20 ?_
    refine g_iconst hx hb (v := 4) dL_law_21 (by decide) ?_
    refine g_isub hx hb dL_law_22 ?_
    refine g_jgt hx hb dL_law_23 (tgt := 344) (by decide) (fun _ => law_end hx hb hrt hlk hAs) (fun hc => ?_)
    have hj : j + 4 ≤ Ln := by
      have e := pk_sub_toInt (a := Ln) (b := 4) (by omega) (by omega)
      rw [Int32.lt_iff_toInt_lt, show (4 : Int32) = nI 4 from rfl, e, nI_toInt (by omega)] at hc
      omega
    have hi : ∀ k, k < 4 → vp_in (nI j + nI k) Ln := fun k hk => by rw [nI_add]; exact vp_in_nI (by omega) (by omega)
    have h0 : vp_in (nI j) Ln := vp_in_nI (by omega) (by omega)
    have h1 : vp_in (nI j + 1) Ln := hi 1 (by omega)
    have h2 : vp_in (nI j + 2) Ln := hi 2 (by omega)
    have h3 : vp_in (nI j + 3) Ln := hi 3 (by omega)
    have tail : ∀ M N, Rel M N → gg p l e room_1 s m #[Value.ref b] below meth c D A 26 239 4 (lw_Z below #[Value.ref b] s) (wC h cA M ++ wM h' cB N) 338 [(0, .ref b), (1, .ref (h 28)), (2, .ref (h' 9)), (3, .int (nI j))] [] := by
      intro M N hr
      refine g_iinc hx hb (v := nI (j + 4)) dL_law_338 3 rfl (by rw [← nI_add]; rfl) (by decide) [1, 2, 3, 0] (L' := [(0, _), (1, _), (2, _), (3, _)]) rfl ?_
      refine g_goto hx hb dL_law_341 (tgt := 18) (by decide) ?_
      exact ih (j + 4) M N hr (by omega) (by omega)
    refine g_aload_n hx hb dL_law_26 rfl 0 rfl ?_
    refine g_iload_n hx hb dL_law_27 rfl 3 rfl ?_
    refine g_sld hx hb hX hbl hbA h0 dL_law_28 ?_
    refine g_bipush hx hb (v := 15) dL_law_29 (by decide) ?_
    refine g_iand hx hb dL_law_31 ?_
    obtain ⟨k, hk, ek⟩ := pk_andE (xs (nI j).toNatClampNeg) (m := 15) 4 (by decide)
    rw [ek]
    rcases (show k = 0 ∨ k = 1 ∨ k = 2 ∨ k = 3 ∨ k = 4 ∨ k = 5 ∨ k = 6 ∨ k = 7 ∨ k = 8 ∨ k = 9 ∨ k = 10 ∨ k = 11 ∨ k = 12 ∨ k = 13 ∨ k = 14 ∨ k = 15 by omega) with rfl | rfl | rfl | rfl | rfl | rfl | rfl | rfl | rfl | rfl | rfl | rfl | rfl | rfl | rfl | rfl
    · exact g_tin hx hb dL_law_32 (tgt := 96) (off := 64) (by decide) (by decide) (by decide) (by decide) (law_emit hops cx hX hbl hbA hr h1 h2 h3 tail)
    · exact g_tin hx hb dL_law_32 (tgt := 139) (off := 107) (by decide) (by decide) (by decide) (by decide) (law_clear hops cx hX hbl hbA hr tail)
    · exact g_tin hx hb dL_law_32 (tgt := 150) (off := 118) (by decide) (by decide) (by decide) (by decide) (law_length hops cx hX hbl hbA hr tail)
    · exact g_tin hx hb dL_law_32 (tgt := 163) (off := 131) (by decide) (by decide) (by decide) (by decide) (law_set hops cx hX hbl hbA hr h1 h2 tail)
    · exact g_tin hx hb dL_law_32 (tgt := 196) (off := 164) (by decide) (by decide) (by decide) (by decide) (law_start hops cx hX hbl hbA hr h1 tail)
    · exact g_tin hx hb dL_law_32 (tgt := 217) (off := 185) (by decide) (by decide) (by decide) (by decide) (law_finish hops cx hX hbl hbA hr h1 tail)
    · exact g_tin hx hb dL_law_32 (tgt := 240) (off := 208) (by decide) (by decide) (by decide) (by decide) (law_status hops cx hX hbl hbA hr tail)
    · exact g_tin hx hb dL_law_32 (tgt := 253) (off := 221) (by decide) (by decide) (by decide) (by decide) (law_position hops cx hX hbl hbA hr tail)
    · exact g_tin hx hb dL_law_32 (tgt := 266) (off := 234) (by decide) (by decide) (by decide) (by decide) (law_finished hops cx hX hbl hbA hr tail)
    · exact g_tin hx hb dL_law_32 (tgt := 279) (off := 247) (by decide) (by decide) (by decide) (by decide) (law_register hops cx hX hbl hbA hr h1 tail)
    · exact g_tin hx hb dL_law_32 (tgt := 302) (off := 270) (by decide) (by decide) (by decide) (by decide) (law_memory hops cx hX hbl hbA hr h1 tail)
    · exact g_tin hx hb dL_law_32 (tgt := 325) (off := 293) (by decide) (by decide) (by decide) (by decide) (law_digest hops cx hX hbl hbA hr tail)
    · exact g_tout hx hb dL_law_32 (tgt := 338) (by decide) (by decide) (tail M N hr)
    · exact g_tout hx hb dL_law_32 (tgt := 338) (by decide) (by decide) (tail M N hr)
    · exact g_tout hx hb dL_law_32 (tgt := 338) (by decide) (by decide) (tail M N hr)
    · exact g_tout hx hb dL_law_32 (tgt := 338) (by decide) (by decide) (tail M N hr)
end
end
section
set_option maxRecDepth 100000
/-- the two classes, known at the claim's start -/
theorem classes_K {s0 : State} {b0 : Addr} (ht0 : ∀ w ∈ lw_tbl, w.before #[Value.ref b0] s0 = true) : ∃ D : va_G, va_K D vwCl [] s0 := by
  obtain ⟨c0_, iS0, hKn0⟩ := u_known (C := RX0) (T := TX0) (N := 28) (n := 28) ht0 (fun w h => lw_all_tbl (in_X0 w h)) (ht0 _ (lw_all_tbl q18))
  obtain ⟨c1_, iS1, hKn1⟩ := u_known (C := RX1) (T := TX1) (N := 9) (n := 9) ht0 (fun w h => lw_all_tbl (in_X1 w h)) (ht0 _ (lw_all_tbl q213))
  refine ⟨(fun k => if k = 0 then c0_ else c1_, fun k => if k = 0 then iS0 else iS1), ?_, fun k q hk => by cases hk⟩
  intro k q hq
  match k, hq with
  | 0, hq => cases hq; exact hKn0
  | 1, hq => cases hq; exact hKn1
  | k + 2, hq => simp [vwCl] at hq
theorem whole_gen {Rel : MM → MM → Prop} {fl : Nat} (hops : Ops Rel fl) (hr0 : Rel (fun _ _ => 0) (fun _ _ => 0)) {p : Program} {e : Env} {s : State} {m : MethodId} {below : List Frame} {meth : Method} {c : Code} (l : Launch) {b L : Nat} {xs : Nat → Int32} (hL : L ≤ 256) (C0 : lw_At p s m meth c b L xs) : W p l e room_1 s m #[Value.ref b] below meth c s.heap [] 0 0 (lw_Z below #[Value.ref b] s) (entryFrame m ([Value.ref b] : List Value).toArray 4) := by
  obtain ⟨hx, hb, hr, hml, hown, hts0, hX, hbl, hlk, -⟩ := C0
  have hts : ∀ w ∈ lw_all, w.before #[Value.ref b] s = true := fun w h => hts0 w (lw_all_tbl h)
  obtain ⟨D, hK⟩ := classes_K hts0
  obtain ⟨A, hAe⟩ : ∃ A : Nat → Prop, A = fun q => s.heap.size ≤ q := ⟨_, rfl⟩
  have hA : ∀ q : Nat, s.heap.size ≤ q → A q := fun q h => by rw [hAe]; exact h
  have hAs : ∀ q : Nat, A q → s.heap.size ≤ q := fun q h => by rw [hAe] at h; exact h
  have hbA : ¬ A b := fun h => absurd (hAs b h) (by omega)
  have hP : va_P D vwCl [] s.heap := fun k q hk => by cases hk
  have hD : va_D A [] := ⟨fun i j x y hi => (by cases hi), fun k q hk => (by cases hk)⟩
  have hS : va_S A s.heap s.heap [] := va_S.rf
  have hl := lv_entry ([.ref b]) (n := 4) (Nat.le_of_ble_eq_true rfl)
  rw [lg_entry_eq]
  generalize (lg_sl ([.ref b]) ++ List.replicate (4 - (lg_sl ([.ref b])).length) Slot.unset).toArray = ls at hl ⊢
  have hl : lv_has ls 4 [(0, .ref b)] := hl
  refine va_new (ci := 0) (fs := dfC) (C := RX0) (T := TX0) (N := 28) hx hb hts in_X0 tyX0 tyX0_ok hown (hts _ q17) (hts _ q18) (hts _ q15) hK hP hD hS hA rfl dfC_ok (Nat.le_of_ble_eq_true rfl) (Nat.le_of_ble_eq_true rfl) dL_law_0 (fun a0 H hP hD hS => ?_)
  have hP : va_P D vwCl [(a0, .inr (0, dfC))] H := hP
  have hD : va_D A [(a0, .inr (0, dfC))] := hD
  refine W.widen (k := 1) (n := 28) (Nat.le_of_ble_eq_true rfl) (Nat.le_of_ble_eq_true rfl) ?_
  refine lv_dup hx hb dL_law_3 rfl ?_
  have ha0 : A a0 := hD.2 0 _ rfl
  refine va_callv (va_runI (As := []) (rest := [.ref a0]) ⟨hx, hb, hml, hown, hts⟩ (metX0_init (l := l) (D := D) (h0 := a0) (sz := H.size)) (cwI 0 hts (lw_meth q21) rfl rfl rfl (hts _ q15) (hts _ q19) (hts _ q20) rfl ⟨by decide, by decide, by decide +kernel⟩ ⟨Nat.le_of_ble_eq_true rfl, Nat.le_of_ble_eq_true rfl⟩) ⟨fun a U g mk q => by obtain ⟨q0, q1, qP, qK⟩ := q; exact ⟨q0, q1, qP, va_K.moved (u := U) (U := U.calling g mk a) (Vm.Alike.refl U.vm) qK⟩, fun U hU hW => ⟨rfl, by rw [hU], by rw [hU]; exact hP, va_K.moved hW.alike hK⟩⟩ rfl rfl hl.1 rfl (lv_room (Nat.le_of_ble_eq_true rfl)) dL_law_4 ⟨Nat.le_of_ble_eq_true rfl, Nat.le_of_ble_eq_true rfl⟩) hS (fun q _ z => z.elim (fun z => by rw [z]; exact ha0) (fun z => hA q (Nat.le_trans hS.1 z))) (fun q z => z.elim (fun z => by rw [z]; exact ha0) (fun z => hA q (Nat.le_trans hS.1 z))) (fun u t H1 locs ht hvm hw hB hz1 hk1 hS1 => ?_)
  obtain ⟨⟨h, cA⟩, rfl⟩ : ∃ z, z = u := ⟨_, rfl⟩
  obtain ⟨rfl, hnC, hAC⟩ := hw
  have hAC : ∀ q, aC h q → A q := fun q hq => (hAC q hq).elim (fun z => by rw [z]; exact ha0) (fun z => hA q (Nat.le_trans hS.1 z))
  obtain ⟨hP, hKC⟩ := hB
  rw [ht] at hP
  have hKC : va_K D vwCl (tysC cA) s := va_K.moved hvm.symm hKC
  have hD : va_D A (wC h cA (fun _ _ => 0)) := (dC_of hnC).weaken (fun _ q _ z => hAC q.1 z)
  generalize H1 = H at hP hS1 ⊢
  have hS : va_S A s.heap H locs := hS1
  refine W.widen (k := 20) (n := 170) (Nat.le_of_ble_eq_true rfl) (Nat.le_of_ble_eq_true rfl) ?_
  refine lv_astore_n (lv' := [(1, .ref (h 28)), (0, .ref b)]) hx hb dL_law_7 rfl hl (by decide) rfl (fun ls hl => ?_)
  refine va_new (ci := 1) (fs := dfM) (C := RX1) (T := TX1) (N := 9) hx hb hts in_X1 tyX1 tyX1_ok hown (hts _ q212) (hts _ q213) (hts _ q16) hK hP hD hS hA rfl dfM_ok (Nat.le_of_ble_eq_true rfl) (Nat.le_of_ble_eq_true rfl) dL_law_8 (fun a1 H hP hD hS => ?_)
  have hPC : va_P D vwCl (wC h cA (fun _ _ => 0)) H := fun i q hq => hP i q (by rw [List.getElem?_append_left (List.getElem?_eq_some_iff.mp hq).1]; exact hq)
  have hP1 : va_P D vwCl [(a1, .inr (1, dfM))] H := fun i q hq => hP ((wC h cA (fun _ _ => 0)).length + i) q (by rw [List.getElem?_append_right (Nat.le_add_right _ _), Nat.add_sub_cancel_left]; exact hq)
  have ha1 : A a1 := hD.2 (wC h cA (fun _ _ => 0)).length (a1, .inr (1, dfM)) (by rw [List.getElem?_append_right (Nat.le_refl _), Nat.sub_self]; rfl)
  have hne : ∀ q, aC h q → q ≠ a1 := by
    intro q hq e
    obtain ⟨i, hi⟩ := List.getElem?_of_mem (show q ∈ adC h from hq)
    have hi' := hi
    rw [← wC_ad (cA := cA) (M := fun _ _ => 0), List.getElem?_map] at hi'
    cases h1 : (wC h cA (fun _ _ => 0))[i]? with
    | none => rw [h1] at hi'; cases hi'
    | some x =>
      rw [h1] at hi'
      have hx1 : x.1 = q := Option.some.inj hi'
      have hlt := (List.getElem?_eq_some_iff.mp h1).1
      have := hD.1 i (wC h cA (fun _ _ => 0)).length x (a1, .inr (1, dfM)) (by rw [List.getElem?_append_left hlt]; exact h1) (by rw [List.getElem?_append_right (Nat.le_refl _), Nat.sub_self]; rfl) (by rw [hx1]; exact e)
      omega
  have hltC : ∀ q, aC h q → q < H.size := by
    intro q hq
    obtain ⟨i, hi⟩ := List.getElem?_of_mem (show q ∈ adC h from hq)
    rw [← wC_ad (cA := cA) (M := fun _ _ => 0), List.getElem?_map] at hi
    cases h1 : (wC h cA (fun _ _ => 0))[i]? with
    | none => rw [h1] at hi; cases hi
    | some x =>
      rw [h1] at hi
      have hx1 : x.1 = q := Option.some.inj hi
      rw [← hx1]
      exact (hPC i x h1).lt
  refine W.widen (k := 21) (n := 179) (Nat.le_of_ble_eq_true rfl) (Nat.le_of_ble_eq_true rfl) ?_
  refine lv_dup hx hb dL_law_11 rfl ?_
  refine va_callv (va_runI (As := []) (rest := [.ref a1]) ⟨hx, hb, hml, hown, hts⟩ (metX1_init (l := l) (D := D) (h0 := a1) (sz := H.size)) (cwI 0 hts (lw_meth q216) rfl rfl rfl (hts _ q16) (hts _ q214) (hts _ q215) rfl ⟨by decide, by decide, by decide +kernel⟩ ⟨Nat.le_of_ble_eq_true rfl, Nat.le_of_ble_eq_true rfl⟩) ⟨fun a U g mk q => by obtain ⟨q0, q1, qP, qK⟩ := q; exact ⟨q0, q1, qP, va_K.moved (u := U) (U := U.calling g mk a) (Vm.Alike.refl U.vm) qK⟩, fun U hU hW => ⟨rfl, by rw [hU], by rw [hU]; exact hP1, va_K.moved hW.alike hK⟩⟩ rfl rfl hl.1 rfl (lv_room (Nat.le_of_ble_eq_true rfl)) dL_law_12 ⟨Nat.le_of_ble_eq_true rfl, Nat.le_of_ble_eq_true rfl⟩) hS (fun q _ z => z.elim (fun z => by rw [z]; exact ha1) (fun z => hA q (Nat.le_trans hS.1 z))) (fun q z => z.elim (fun z => by rw [z]; exact ha1) (fun z => hA q (Nat.le_trans hS.1 z))) (fun u t H1 locs ht hvm hw hB hz1 hk1 hS1 => ?_)
  obtain ⟨⟨h', cB⟩, rfl⟩ : ∃ z, z = u := ⟨_, rfl⟩
  obtain ⟨rfl, hnM, hAM0⟩ := hw
  have hAM : ∀ q, aM h' q → A q := fun q hq => (hAM0 q hq).elim (fun z => by rw [z]; exact ha1) (fun z => hA q (Nat.le_trans hS.1 z))
  have hdj : ∀ q, aC h q → aM h' q → False := fun q h1 h2 => (hAM0 q h2).elim (fun z => hne q h1 z) (fun z => absurd (hltC q h1) (by omega))
  obtain ⟨hPM, hKM⟩ := hB
  rw [ht] at hPM
  have hKM : va_K D vwCl (tysM cB) s := va_K.moved hvm.symm hKM
  have hPC : va_P D vwCl (wC h cA (fun _ _ => 0)) H1 := hPC.kept (fun i x hx => hk1 x.1 (hPC i x hx).lt (fun z => z.elim (fun z => hne x.1 (List.mem_of_getElem? (wC_at hx)) z) (fun z => absurd (hPC i x hx).lt (by omega))))
  refine W.widen (k := 26) (n := 239) (Nat.le_of_ble_eq_true rfl) (Nat.le_of_ble_eq_true rfl) ?_
  refine lv_astore_n (lv' := [(2, .ref (h' 9)), (1, .ref (h 28)), (0, .ref b)]) hx hb dL_law_15 rfl hl (by decide) rfl (fun ls hl => ?_)
  refine lv_iconst (v := 0) hx hb dL_law_16 (by decide) ?_
  refine lv_istore_n (lv' := [(3, .int 0), (2, .ref (h' 9)), (1, .ref (h 28)), (0, .ref b)]) hx hb dL_law_17 rfl hl (by decide) rfl (fun ls hl => ?_)
  exact law_loop hops ⟨hx, hb, hml, hown, hts, hKC, hKM, hnC, hnM, hAC, hAM, hdj⟩ hX hbl hbA hL hr hlk hAs (L + 8) 0 _ _ hr0 (by omega) (by omega) H1 locs ls (va_P.app hPC hPM) hS1 (lv_sub hl [3, 2, 1, 0] rfl)
end
section
/-! PURE PART 1: words and plain facts -/
def slt (f k : Nat) : Nat := (f + k) % 6
theorem slt_lt (f k : Nat) : slt f k < 6 := Nat.mod_lt _ (by decide)
theorem slt_inj {f k k' : Nat} (h : k < 6) (h' : k' < 6) (e : slt f k = slt f k') : k = k' := by unfold slt at e; omega
theorem slt_succ (f k : Nat) : slt ((f + 1) % 6) k = slt f (k + 1) := by unfold slt; omega
theorem slt_z {f : Nat} (h : f < 6) : slt f 0 = f := by unfold slt; omega
theorem rem6 {f k : Nat} (hf : f < 6) (hk : k ≤ 6) : (nI f + nI k) - (nI f + nI k) / 6 * 6 = nI (slt f k) := by
  rw [nI_add, show (6 : Int32) = nI 6 from rfl]
  exact pk_rem (by omega) (by decide) (by decide)
theorem rem6' {f : Nat} (hf : f < 6) : (nI f + 1) - (nI f + 1) / 6 * 6 = nI ((f + 1) % 6) := rem6 (k := 1) hf (by omega)
theorem inb_nI {j n : Nat} (h : j < n) (hn : n < 2 ^ 31) : inb (nI j) n = true := decide_eq_true (nI_in h hn)
theorem inb6 {j : Nat} (h : j < 6) : inb (nI j) 6 = true := inb_nI h (by decide)
theorem inb4 {j : Nat} (h : j < 4) : inb (nI j) 4 = true := inb_nI h (by decide)
theorem inb_and7 (x : Int32) : inb (x &&& 7) 8 = true := decide_eq_true (pk_andIn x 3 (by decide) (by decide))
theorem cl6 {j : Nat} (h : j < 6) : (nI j).toNatClampNeg = j := nI_clamp (by omega)
theorem cl4 {j : Nat} (h : j < 4) : (nI j).toNatClampNeg = j := nI_clamp (by omega)
theorem mu_s (M : MM) (k j : Nat) (v : Int32) : mu M k j v k = upd (M k) j v := by simp [mu]
theorem mu_n (M : MM) {k a : Nat} (j : Nat) (v : Int32) (h : a ≠ k) : mu M k j v a = M a := by simp [mu, h]
theorem mu_ap (M : MM) (k j : Nat) (v : Int32) (a b : Nat) : mu M k j v a b = if a = k ∧ b = j then v else M a b := by
  unfold mu upd
  by_cases h : a = k
  · subst h
    by_cases h2 : b = j <;> simp [h2]
  · simp [h]
theorem nb_m1 : vp_nar .byte (-1) = -1 := by decide
theorem nb_small : ∀ j : Fin 64, (nI j.val).toInt8.toInt32 = nI j.val := by decide
theorem nb_s {j : Nat} (h : j < 64) : (nI j).toInt8.toInt32 = nI j := nb_small ⟨j, h⟩
theorem nb_v {j : Nat} (h : j < 64) : vp_nar .byte (nI j) = nI j := by rw [vp_nar_byte]; exact nb_s h
theorem nb_vs {j : Nat} (h : j < 64) : vp_nar .byte (nI j).toInt8.toInt32 = nI j := by rw [nb_s h]; exact nb_v h
theorem m1_ne {j : Nat} (h : j < 2 ^ 31) : nI j ≠ -1 := by
  intro e
  have := congrArg Int32.toInt e
  rw [nI_toInt h] at this
  have : (-1 : Int32).toInt = -1 := by decide
  omega
theorem m1_lt : (-1 : Int32) < 0 := by decide
theorem nI_inj {a b : Nat} (ha : a < 2 ^ 31) (hb : b < 2 ^ 31) (h : nI a = nI b) : a = b := (nI_eq ha hb).mp h
/-! the program's words at a position -/
def iop (P : MM) (p : Int32) : Nat := if 0 ≤ p ∧ p < P 3 0 then (P 0 p.toNatClampNeg).toNatClampNeg else 9
def ia (P : MM) (p : Int32) : Nat := (P 1 p.toNatClampNeg).toNatClampNeg % 4
def ib (P : MM) (p : Int32) : Nat := (P 1 p.toNatClampNeg).toNatClampNeg / 4 % 4
def ic (P : MM) (p : Int32) : Nat := (P 1 p.toNatClampNeg).toNatClampNeg / 16 % 4
def inn (P : MM) (p : Int32) : Int32 := P 2 p.toNatClampNeg
def PrOK (P : MM) : Prop := (∃ z, z ≤ 16 ∧ P 3 0 = nI z) ∧ (∀ j, ∃ o, o ≤ 8 ∧ P 0 j = nI o) ∧ ∀ j, ∃ g, g ≤ 63 ∧ P 1 j = nI g
abbrev ST : Type := (Nat → Int32) × (Nat → Int32)
def val (P : MM) (p : Int32) (S : ST) : Int32 :=
  if iop P p = 0 then inn P p else if iop P p = 1 then S.1 (ib P p) + S.1 (ic P p) else if iop P p = 2 then S.1 (ib P p) * S.1 (ic P p)
  else if iop P p = 3 then (if S.1 (ic P p) = 0 then 0 else S.1 (ib P p) / S.1 (ic P p)) else S.2 (S.1 (ib P p) &&& 7).toNatClampNeg
def exS (P : MM) (p : Int32) (S : ST) : ST :=
  (if iop P p ≤ 4 then upd S.1 (ia P p) (val P p S) else S.1, if iop P p = 5 then upd S.2 (S.1 (ib P p) &&& 7).toNatClampNeg (S.1 (ia P p)) else S.2)
def trp (P : MM) (p : Int32) (S : ST) : Prop := iop P p = 9 ∨ (iop P p = 3 ∧ S.1 (ic P p) = 0) ∨ ((iop P p = 4 ∨ iop P p = 5) ∧ S.1 (ib P p) < 0)
def spS (P : MM) (pl : Nat → Int32) (S0 : ST) : Nat → ST
  | 0 => S0
  | k + 1 => exS P (pl k) (spS P pl S0 k)
theorem iop_le {P : MM} (h : PrOK P) (p : Int32) : iop P p ≤ 9 := by
  unfold iop
  split
  · obtain ⟨o, ho, e⟩ := h.2.1 p.toNatClampNeg
    rw [e, nI_clamp (by omega)]; omega
  · exact Nat.le_refl 9
theorem ia_lt (P : MM) (p : Int32) : ia P p < 4 := Nat.mod_lt _ (by decide)
theorem ib_lt (P : MM) (p : Int32) : ib P p < 4 := Nat.mod_lt _ (by decide)
theorem ic_lt (P : MM) (p : Int32) : ic P p < 4 := Nat.mod_lt _ (by decide)
/-- a position inside the program -/
theorem in_pr {P : MM} (h : PrOK P) {p : Int32} (h1 : ¬ p < 0) (h2 : p < P 3 0) : ∃ a o g, a < 16 ∧ p = nI a ∧ o ≤ 8 ∧ g ≤ 63 ∧ P 0 a = nI o ∧ P 1 a = nI g ∧ iop P p = o ∧ ia P p = g % 4 ∧ ib P p = g / 4 % 4 ∧ ic P p = g / 16 := by
  obtain ⟨⟨z, hz, ez⟩, ho, hg⟩ := h
  obtain ⟨a, ha, rfl⟩ := nI_of h1
  have haz : a < z := (nI_ltI ha (by omega)).mp (by rw [← ez]; exact h2)
  obtain ⟨o, ho, eo⟩ := ho a
  obtain ⟨g, hg, eg⟩ := hg a
  refine ⟨a, o, g, by omega, rfl, ho, hg, eo, eg, ?_, ?_, ?_, ?_⟩
  · unfold iop
    rw [if_pos ⟨nI_pos' ha, h2⟩, nI_clamp ha, eo, nI_clamp (by omega)]
  · unfold ia; rw [nI_clamp ha, eg, nI_clamp (by omega)]
  · unfold ib; rw [nI_clamp ha, eg, nI_clamp (by omega)]
  · unfold ic; rw [nI_clamp ha, eg, nI_clamp (by omega)]; omega
theorem out_pr {P : MM} {p : Int32} (h : p < 0 ∨ P 3 0 ≤ p) : iop P p = 9 := by
  unfold iop
  rw [if_neg]
  intro ⟨h1, h2⟩
  rw [Int32.le_iff_toInt_le] at h1
  rw [Int32.lt_iff_toInt_lt] at h2
  rcases h with h | h
  · rw [Int32.lt_iff_toInt_lt] at h
    have : (0 : Int32).toInt = 0 := by decide
    omega
  · rw [Int32.le_iff_toInt_le] at h; omega
theorem ga {g : Nat} (h : g ≤ 63) : nI g &&& 3 = nI (g % 4) := pk_andN (by omega) 2 (by decide)
theorem gb {g : Nat} (h : g ≤ 63) : (nI g >>> ((2 : Int32) &&& 31)) &&& 3 = nI (g / 4 % 4) := by
  rw [pk_shrN (by omega) _ 2 (by decide)]
  exact pk_andN (by omega) 2 (by decide)
theorem gc {g : Nat} (h : g ≤ 63) : nI g >>> ((4 : Int32) &&& 31) = nI (g / 16) := pk_shrN (by omega) _ 4 (by decide)
/-! shifting and reading the row of states -/
theorem spS_shift (P : MM) (pl : Nat → Int32) (S0 : ST) (k : Nat) : spS P (fun j => pl (j + 1)) (exS P (pl 0) S0) k = spS P pl S0 (k + 1) := by
  induction k with
  | zero => rfl
  | succ k ih => show exS P (pl (k + 1)) _ = _; rw [ih]; rfl
theorem spS_congr {P : MM} {pl pl' : Nat → Int32} (S0 : ST) {k : Nat} (h : ∀ j, j < k → pl' j = pl j) : spS P pl' S0 k = spS P pl S0 k := by
  induction k with
  | zero => rfl
  | succ k ih => show exS P (pl' k) _ = exS P (pl k) _; rw [ih (fun j hj => h j (by omega)), h k (by omega)]
/-- a register that nobody writes -/
theorem spS_none {P : MM} {pl : Nat → Int32} {S0 : ST} {r : Nat} : ∀ {k : Nat}, (∀ j, j < k → iop P (pl j) ≤ 4 → ia P (pl j) ≠ r) → (spS P pl S0 k).1 r = S0.1 r := by
  intro k
  induction k with
  | zero => intro _; rfl
  | succ k ih =>
    intro h
    show (exS P (pl k) _).1 r = _
    unfold exS
    by_cases hw : iop P (pl k) ≤ 4
    · simp only [hw, if_true]
      rw [pk_un (fun e => h k (by omega) hw e.symm)]
      exact ih (fun j hj => h j (by omega))
    · simp only [hw, if_false]
      exact ih (fun j hj => h j (by omega))
/-- a register by its last writer -/
theorem spS_last {P : MM} {pl : Nat → Int32} {S0 : ST} {r j0 : Nat} (hw : iop P (pl j0) ≤ 4) (hr : ia P (pl j0) = r) : ∀ {k : Nat}, j0 < k → (∀ j, j0 < j → j < k → iop P (pl j) ≤ 4 → ia P (pl j) ≠ r) → (spS P pl S0 k).1 r = val P (pl j0) (spS P pl S0 j0) := by
  intro k
  induction k with
  | zero => intro h; omega
  | succ k ih =>
    intro hk h
    show (exS P (pl k) _).1 r = _
    unfold exS
    by_cases hj : j0 = k
    · subst hj
      simp only [hw, if_true, hr]
      exact pk_us
    · by_cases hw2 : iop P (pl k) ≤ 4
      · simp only [hw2, if_true]
        rw [pk_un (fun e => h k (by omega) (by omega) hw2 e.symm)]
        exact ih (by omega) (fun j h1 h2 => h j h1 (by omega))
      · simp only [hw2, if_false]
        exact ih (by omega) (fun j h1 h2 => h j h1 (by omega))
/-- memory that nobody writes -/
theorem spS_mem {P : MM} {pl : Nat → Int32} {S0 : ST} : ∀ {k : Nat}, (∀ j, j < k → iop P (pl j) ≠ 5) → (spS P pl S0 k).2 = S0.2 := by
  intro k
  induction k with
  | zero => intro _; rfl
  | succ k ih =>
    intro h
    show (exS P (pl k) _).2 = _
    unfold exS
    simp only [h k (by omega), if_false]
    exact ih (fun j hj => h j (by omega))
end
section
/-! PURE PART 2: what the small methods compute -/
theorem nz1 : vp_nar .boolean 1 = 1 := by decide
theorem nz0 : vp_nar .boolean 0 = 0 := by decide
theorem nb2 : vp_nar .byte 2 = 2 := by decide
theorem nb1 : vp_nar .byte 1 = 1 := by decide
theorem nb0 : vp_nar .byte 0 = 0 := by decide
theorem nlt_le {x : Int32} : (0 ≤ x) = ¬ (x < 0) := by
  rw [Int32.lt_iff_toInt_lt, Int32.le_iff_toInt_le]; apply propext; omega
def wRes (o : Nat) (x y r pl : Int32) (C : Nat → Int32) : Int32 :=
  if o = 1 then x + y else if o = 2 then x * y else if o = 3 then (if y = 0 then 0 else x / y) else if o = 4 then C (x &&& 7).toNatClampNeg else if o = 6 then (if x = 0 then r else pl + 1) else r
def wTr (o : Nat) (x y t : Int32) : Int32 :=
  if o = 3 then (if y = 0 then 1 else 0) else if o = 4 then (if x < 0 then 1 else 0) else if o = 5 then (if y < 0 then 1 else 0) else if o = 9 then 1 else t
set_option maxHeartbeats 2000000 in
theorem work_spec {M : MM} {fl i o : Nat} (hi : i < 6) (ho : o ≤ 9) (h14 : M 14 i = nI o) : ∃ M', fX0_work fl (nI i) M = some (0, M') ∧ (∀ a, a ≠ 18 → a ≠ 19 → a ≠ 20 → M' a = M a) ∧ (∀ a j, j ≠ i → M' a j = M a j) ∧ M' 18 i = wRes o (M 25 i) (M 26 i) (M 18 i) (M 15 i) (M 5) ∧ M' 19 i = (if o = 5 then M 26 i &&& 7 else M 19 i) ∧ M' 20 i = wTr o (M 25 i) (M 26 i) (M 20 i) := by
  have hin := inb6 hi
  have hc := cl6 hi
  have h7 := inb_and7 (M 25 i)
  rcases (show o = 0 ∨ o = 1 ∨ o = 2 ∨ o = 3 ∨ o = 4 ∨ o = 5 ∨ o = 6 ∨ o = 7 ∨ o = 8 ∨ o = 9 by omega) with rfl | rfl | rfl | rfl | rfl | rfl | rfl | rfl | rfl | rfl
  · have h14 : M 14 i = 0 := h14
    exact ⟨M, by simp (decide := true) [fX0_work, fX0_work_0, fX0_work_7, fX0_work_14, fX0_work_22, fX0_work_223, hin, hc, h14], fun _ _ _ _ => rfl, fun _ _ _ => rfl, by simp [wRes], by simp, by simp [wTr]⟩
  · have h14 : M 14 i = 1 := h14
    exact ⟨mu M 18 i (M 25 i + M 26 i), by simp (decide := true) [fX0_work, fX0_work_0, fX0_work_7, fX0_work_14, fX0_work_22, fX0_work_223, hin, hc, h14], fun a h1 h2 h3 => by simp [mu, *], fun a j hj => by simp [mu_ap, *], by simp [mu_ap, wRes], by simp [mu_ap], by simp [mu_ap, wTr]⟩
  · have h14 : M 14 i = 2 := h14
    exact ⟨mu M 18 i (M 25 i * M 26 i), by simp (decide := true) [fX0_work, fX0_work_0, fX0_work_7, fX0_work_14, fX0_work_22, fX0_work_223, hin, hc, h14], fun a h1 h2 h3 => by simp [mu, *], fun a j hj => by simp [mu_ap, *], by simp [mu_ap, wRes], by simp [mu_ap], by simp [mu_ap, wTr]⟩
  · have h14 : M 14 i = 3 := h14
    by_cases hy : M 26 i = 0
    · exact ⟨mu (mu M 20 i 1) 18 i 0, by simp (decide := true) [fX0_work, fX0_work_0, fX0_work_7, fX0_work_14, fX0_work_22, fX0_work_78, fX0_work_79, fX0_work_95, fX0_work_223, hin, hc, h14, hy, nz1], fun a h1 h2 h3 => by simp [mu, *], fun a j hj => by simp [mu_ap, *], by simp [mu_ap, wRes, hy], by simp [mu_ap], by simp [mu_ap, wTr, hy]⟩
    · exact ⟨mu (mu M 20 i 0) 18 i (M 25 i / M 26 i), by simp (decide := true) [fX0_work, fX0_work_0, fX0_work_7, fX0_work_14, fX0_work_22, fX0_work_78, fX0_work_79, fX0_work_95, fX0_work_223, hin, hc, h14, hy, nz0], fun a h1 h2 h3 => by simp [mu, *], fun a j hj => by simp [mu_ap, *], by simp [mu_ap, wRes, hy], by simp [mu_ap], by simp [mu_ap, wTr, hy]⟩
  · have h14 : M 14 i = 4 := h14
    by_cases hx : M 25 i < 0
    · exact ⟨mu (mu M 20 i 1) 18 i (M 5 (M 25 i &&& 7).toNatClampNeg), by simp (decide := true) [fX0_work, fX0_work_0, fX0_work_7, fX0_work_14, fX0_work_22, fX0_work_119, fX0_work_120, fX0_work_223, hin, hc, h14, nlt_le, hx, h7, nz1, mu_n], fun a h1 h2 h3 => by simp [mu, *], fun a j hj => by simp [mu_ap, *], by simp [mu_ap, wRes], by simp [mu_ap], by simp [mu_ap, wTr, hx]⟩
    · exact ⟨mu (mu M 20 i 0) 18 i (M 5 (M 25 i &&& 7).toNatClampNeg), by simp (decide := true) [fX0_work, fX0_work_0, fX0_work_7, fX0_work_14, fX0_work_22, fX0_work_119, fX0_work_120, fX0_work_223, hin, hc, h14, nlt_le, hx, h7, nz0, mu_n], fun a h1 h2 h3 => by simp [mu, *], fun a j hj => by simp [mu_ap, *], by simp [mu_ap, wRes], by simp [mu_ap], by simp [mu_ap, wTr, hx]⟩
  · have h14 : M 14 i = 5 := h14
    by_cases hx : M 26 i < 0
    · exact ⟨mu (mu M 20 i 1) 19 i (M 26 i &&& 7), by simp (decide := true) [fX0_work, fX0_work_0, fX0_work_7, fX0_work_14, fX0_work_22, fX0_work_158, fX0_work_159, fX0_work_223, hin, hc, h14, nlt_le, hx, nz1], fun a h1 h2 h3 => by simp [mu, *], fun a j hj => by simp [mu_ap, *], by simp [mu_ap, wRes], by simp [mu_ap], by simp [mu_ap, wTr, hx]⟩
    · exact ⟨mu (mu M 20 i 0) 19 i (M 26 i &&& 7), by simp (decide := true) [fX0_work, fX0_work_0, fX0_work_7, fX0_work_14, fX0_work_22, fX0_work_158, fX0_work_159, fX0_work_223, hin, hc, h14, nlt_le, hx, nz0], fun a h1 h2 h3 => by simp [mu, *], fun a j hj => by simp [mu_ap, *], by simp [mu_ap, wRes], by simp [mu_ap], by simp [mu_ap, wTr, hx]⟩
  · have h14 : M 14 i = 6 := h14
    by_cases hx : M 25 i = 0
    · exact ⟨mu M 18 i (M 18 i), by simp (decide := true) [fX0_work, fX0_work_0, fX0_work_7, fX0_work_14, fX0_work_22, fX0_work_205, fX0_work_223, hin, hc, h14, hx], fun a h1 h2 h3 => by simp [mu, *], fun a j hj => by simp [mu_ap, *], by simp [mu_ap, wRes, hx], by simp [mu_ap], by simp [mu_ap, wTr]⟩
    · exact ⟨mu M 18 i (M 15 i + 1), by simp (decide := true) [fX0_work, fX0_work_0, fX0_work_7, fX0_work_14, fX0_work_22, fX0_work_205, fX0_work_223, hin, hc, h14, hx], fun a h1 h2 h3 => by simp [mu, *], fun a j hj => by simp [mu_ap, *], by simp [mu_ap, wRes, hx], by simp [mu_ap], by simp [mu_ap, wTr]⟩
  · have h14 : M 14 i = 7 := h14
    exact ⟨M, by simp (decide := true) [fX0_work, fX0_work_0, fX0_work_7, fX0_work_14, fX0_work_22, fX0_work_223, hin, hc, h14], fun _ _ _ _ => rfl, fun _ _ _ => rfl, by simp [wRes], by simp, by simp [wTr]⟩
  · have h14 : M 14 i = 8 := h14
    exact ⟨M, by simp (decide := true) [fX0_work, fX0_work_0, fX0_work_7, fX0_work_14, fX0_work_22, fX0_work_223, hin, hc, h14], fun _ _ _ _ => rfl, fun _ _ _ => rfl, by simp [wRes], by simp, by simp [wTr]⟩
  · have h14 : M 14 i = 9 := h14
    exact ⟨mu M 20 i 1, by simp (decide := true) [fX0_work, fX0_work_0, fX0_work_7, fX0_work_14, fX0_work_22, fX0_work_223, hin, hc, h14, nz1], fun a h1 h2 h3 => by simp [mu, *], fun a j hj => by simp [mu_ap, *], by simp [mu_ap, wRes], by simp [mu_ap], by simp [mu_ap, wTr]⟩
/-! hand -/
def hnd (i j : Nat) (M : MM) : MM :=
  if M 23 j = nI i then (if M 24 j = nI i then mu (mu (mu (mu M 23 j (-1)) 25 j (M 18 i)) 24 j (-1)) 26 j (M 18 i) else mu (mu M 23 j (-1)) 25 j (M 18 i))
  else (if M 24 j = nI i then mu (mu M 24 j (-1)) 26 j (M 18 i) else M)
theorem hand_body {fl i j k : Nat} {K : Int32 → Int32 → MM → Option (Int32 × MM)} {M : MM} (hi : i < 6) (hj : j < 6) : fX0_hand_20 fl K (nI i) (nI k) (nI j) M = K (nI i) (nI (k + 1)) (hnd i j M) := by
  have a1 := inb6 hi
  have a2 := inb6 hj
  have c1 := cl6 hi
  have c2 := cl6 hj
  by_cases h3 : M 23 j = nI i <;> by_cases h4 : M 24 j = nI i <;>
    simp [fX0_hand_20, fX0_hand_37, fX0_hand_49, fX0_hand_66, fX0_hand_78, hnd, a1, a2, c1, c2, h3, h4, nb_m1, mu_ap, nI_1]
def HandI (f i : Nat) (M0 : MM) (k : Nat) (M : MM) : Prop :=
  (∀ a, a ≠ 23 → a ≠ 24 → a ≠ 25 → a ≠ 26 → M a = M0 a) ∧ ∀ q, q < 6 →
    M 23 (slt f q) = (if q < k ∧ M0 23 (slt f q) = nI i then -1 else M0 23 (slt f q)) ∧ M 25 (slt f q) = (if q < k ∧ M0 23 (slt f q) = nI i then M0 18 i else M0 25 (slt f q)) ∧
    M 24 (slt f q) = (if q < k ∧ M0 24 (slt f q) = nI i then -1 else M0 24 (slt f q)) ∧ M 26 (slt f q) = (if q < k ∧ M0 24 (slt f q) = nI i then M0 18 i else M0 26 (slt f q))
theorem hand_stepI {f i k : Nat} {M0 M : MM} (hk : k < 6) (h : HandI f i M0 k M) : HandI f i M0 (k + 1) (hnd i (slt f k) M) := by
  obtain ⟨h1, h2⟩ := h
  have h18 : M 18 = M0 18 := h1 18 (by decide) (by decide) (by decide) (by decide)
  refine ⟨fun a a1 a2 a3 a4 => ?_, fun q hq => ?_⟩
  · rw [← h1 a a1 a2 a3 a4]
    unfold hnd
    by_cases h3 : M 23 (slt f k) = nI i <;> by_cases h4 : M 24 (slt f k) = nI i <;> simp [h3, h4, mu, a1, a2, a3, a4]
  · obtain ⟨e1, e2, e3, e4⟩ := h2 q hq
    by_cases hqk : q = k
    · subst hqk
      simp only [Nat.lt_irrefl, false_and, if_false] at e1 e2 e3 e4
      unfold hnd
      by_cases h3 : M0 23 (slt f q) = nI i <;> by_cases h4 : M0 24 (slt f q) = nI i <;> simp [h3, h4, e1, e2, e3, e4, mu_ap, h18]
    · have hne : slt f q ≠ slt f k := fun e => hqk (slt_inj hq hk e)
      have hlt : (q < k + 1) = (q < k) := by apply propext; omega
      simp only [hlt]
      rw [← e1, ← e2, ← e3, ← e4]
      unfold hnd
      by_cases h3 : M 23 (slt f k) = nI i <;> by_cases h4 : M 24 (slt f k) = nI i <;> simp [h3, h4, mu_ap, hne]
theorem hand_loop {fl f u i : Nat} (hf : f < 6) (hu : u ≤ 6) (hi : i < 6) {M0 : MM} (h12 : M0 12 0 = nI f) (h13 : M0 13 0 = nI u) : ∀ (n k : Nat) (M : MM), u - k < n → k ≤ u → HandI f i M0 k M → ∃ M', fX0_hand_2 fl n (nI i) (nI k) M = some (0, M') ∧ HandI f i M0 u M' := by
  intro n
  induction n with
  | zero => intro k M h; omega
  | succ n ih =>
    intro k M hn hk hI
    have e12 : M 12 0 = nI f := by rw [hI.1 12 (by decide) (by decide) (by decide) (by decide)]; exact h12
    have e13 : M 13 0 = nI u := by rw [hI.1 13 (by decide) (by decide) (by decide) (by decide)]; exact h13
    unfold fX0_hand_2
    rw [e12, e13]
    by_cases hku : k = u
    · subst hku
      rw [if_pos (nI_le (Nat.le_refl k) (by omega))]
      exact ⟨M, rfl, hI⟩
    · rw [if_neg (nI_ge (by omega) (by omega)), rem6 hf (by omega), hand_body hi (slt_lt f k)]
      exact ih (k + 1) _ (by omega) (by omega) (hand_stepI (by omega) hI)
theorem hand_spec {fl f u i : Nat} (hf : f < 6) (hu : u ≤ 6) (hi : i < 6) (hfl : 7 ≤ fl) {M0 : MM} (h12 : M0 12 0 = nI f) (h13 : M0 13 0 = nI u) : ∃ M', fX0_hand fl (nI i) M0 = some (0, M') ∧ HandI f i M0 u M' := by
  obtain ⟨M', e, h⟩ := hand_loop (fl := fl) hf hu hi h12 h13 fl 0 M0 (by omega) (by omega) ⟨fun _ _ _ _ _ => rfl, fun q _ => by simp⟩
  exact ⟨M', e, h⟩
/-! refetch -/
theorem refetch_spec {fl : Nat} {x : Int32} {M : MM} (hfl : 7 ≤ fl) : ∃ M', fX0_refetch fl x M = some (0, M') ∧ (∀ a, a ≠ 10 → a ≠ 11 → a ≠ 12 → a ≠ 13 → a ≠ 27 → M' a = M a) ∧ M' 10 0 = x ∧ M' 11 0 = 1 ∧ M' 12 0 = 0 ∧ M' 13 0 = 0 ∧ ∀ r, r < 4 → M' 27 r = -1 := by
  obtain ⟨n, rfl⟩ : ∃ n, fl = n + 5 := ⟨fl - 5, by omega⟩
  refine ⟨mu (mu (mu (mu (mu (mu (mu (mu M 12 0 0) 13 0 0) 10 0 x) 11 0 1) 27 0 (-1)) 27 1 (-1)) 27 2 (-1)) 27 3 (-1), ?_, ?_, ?_, ?_, ?_, ?_, ?_⟩
  · have i0 : inb (0 : Int32) 4 = true := by decide
    have i1 : inb (1 : Int32) 4 = true := by decide
    have i2 : inb (2 : Int32) 4 = true := by decide
    have i3 : inb (3 : Int32) 4 = true := by decide
    simp (decide := true) [fX0_refetch, fX0_refetch_0, fX0_refetch_5, fX0_refetch_10, fX0_refetch_15, fX0_refetch_20, fX0_refetch_22, fX0_refetch_34, i0, i1, i2, i3, nb_m1, show (0 : Int32) + 1 = 1 from rfl, show (1 : Int32) + 1 = 2 from rfl, show (2 : Int32) + 1 = 3 from rfl, show (3 : Int32) + 1 = 4 from rfl, show (0 : Int32).toNatClampNeg = 0 from rfl, show (1 : Int32).toNatClampNeg = 1 from rfl, show (2 : Int32).toNatClampNeg = 2 from rfl, show (3 : Int32).toNatClampNeg = 3 from rfl]
  · intro a h1 h2 h3 h4 h5
    simp [mu, *]
  · simp [mu_ap]
  · simp [mu_ap]
  · simp [mu_ap]
  · simp [mu_ap]
  · intro r hr
    rcases (show r = 0 ∨ r = 1 ∨ r = 2 ∨ r = 3 by omega) with rfl | rfl | rfl | rfl <;> simp [mu_ap]
end
section
/-! PURE PART 3: what holds of a running core (P: its program, f: the ring's first place, u: how many are under way) -/
def rv (M : MM) (f : Nat) : MM := fun a k => M a (slt f k)
def xl (P : MM) (p : Int32) : Nat := if 5 ≤ iop P p then ia P p else ib P p
def xr (P : MM) (p : Int32) : Nat := if iop P p = 5 then ib P p else ic P p
def uL (o : Nat) : Prop := 1 ≤ o ∧ o ≤ 6
def uR (o : Nat) : Prop := o = 1 ∨ o = 2 ∨ o = 3 ∨ o = 5
def Opd (P E : MM) (f : Nat) (S : Nat → ST) (k a b x : Nat) (us : Prop) : Prop :=
  (E a k = -1 ∧ (us → E b k = (S k).1 x)) ∨ ∃ k', k' < k ∧ E a k = nI (slt f k') ∧ E 16 k' ≠ 2 ∧ iop P (E 15 k') ≤ 4 ∧ val P (E 15 k') (S k') = (S k).1 x
def Rdy (P E : MM) (S : Nat → ST) (k : Nat) : Prop :=
  (iop P (E 15 k) ≤ 4 → E 18 k = val P (E 15 k) (S k)) ∧ (iop P (E 15 k) = 6 → E 18 k = if (S k).1 (ia P (E 15 k)) = 0 then inn P (E 15 k) else E 15 k + 1) ∧ (iop P (E 15 k) = 5 → E 19 k = (S k).1 (ib P (E 15 k)) &&& 7) ∧ (E 20 k = 0 ↔ ¬ trp P (E 15 k) (S k))
def En (P E : MM) (f : Nat) (S : Nat → ST) (k : Nat) : Prop :=
  E 14 k = nI (iop P (E 15 k)) ∧ (E 16 k = 0 ∨ E 16 k = 1 ∨ E 16 k = 2) ∧ (iop P (E 15 k) ≤ 4 → E 22 k = nI (ia P (E 15 k))) ∧ (E 16 k ≠ 0 → E 23 k = -1 ∧ E 24 k = -1) ∧ (E 16 k = 1 → ∃ l, l ≤ 5 ∧ E 17 k = nI l) ∧
  Opd P E f S k 23 25 (xl P (E 15 k)) (uL (iop P (E 15 k))) ∧ Opd P E f S k 24 26 (xr P (E 15 k)) (uR (iop P (E 15 k))) ∧ ((iop P (E 15 k) = 7 ∨ ((iop P (E 15 k) = 0 ∨ iop P (E 15 k) = 6) ∧ E 16 k ≠ 2)) → E 18 k = inn P (E 15 k)) ∧ (E 16 k ≠ 2 → E 20 k = 0) ∧ (E 16 k = 2 → Rdy P E S k) ∧
  (iop P (E 15 k) = 4 → E 16 k ≠ 0 → ∀ k', k' < k → iop P (E 15 k') ≠ 5)
def nxt (P : MM) (p g : Int32) : Int32 := if iop P p = 6 then g else if iop P p = 7 then inn P p else p + 1
def Chn (P E : MM) (u : Nat) (pos : Int32) : Prop := (0 < u → E 15 0 = pos) ∧ ∀ k, k + 1 < u → E 15 (k + 1) = nxt P (E 15 k) (E 21 k) ∧ iop P (E 15 k) < 8
def Fch (P E : MM) (u : Nat) (pos at_ on : Int32) : Prop := (on = 1 ∧ (u = 0 → at_ = pos) ∧ ∀ k, k + 1 = u → at_ = nxt P (E 15 k) (E 21 k) ∧ iop P (E 15 k) < 8) ∨ (on = 0 ∧ ∃ k, k + 1 = u ∧ 8 ≤ iop P (E 15 k))
def Mkr (P E : MM) (f u : Nat) (mk : Nat → Int32) : Prop := ∀ r, r < 4 → (mk r = -1 ∧ ∀ k, k < u → iop P (E 15 k) ≤ 4 → ia P (E 15 k) ≠ r) ∨ ∃ k, k < u ∧ mk r = nI (slt f k) ∧ iop P (E 15 k) ≤ 4 ∧ ia P (E 15 k) = r ∧ ∀ k', k < k' → k' < u → iop P (E 15 k') ≤ 4 → ia P (E 15 k') ≠ r
def slo (o : Nat) : Prop := o = 2 ∨ o = 3
def Slw (P E : MM) (u : Nat) : Prop := ∀ k k', k < u → k' < u → E 16 k = 1 → E 16 k' = 1 → slo (iop P (E 15 k)) → slo (iop P (E 15 k')) → k = k'
def Pgm (P M : MM) : Prop := M 0 = P 0 ∧ M 1 = P 1 ∧ M 2 = P 2 ∧ M 3 0 = P 3 0
def Rng (M : MM) (f u : Nat) : Prop := M 12 0 = nI f ∧ f < 6 ∧ M 13 0 = nI u ∧ u ≤ 6
def Inv (P M : MM) (f u : Nat) : Prop :=
  Pgm P M ∧ Rng M f u ∧ (∀ k, k < u → En P (rv M f) f (spS P (rv M f 15) (M 4, M 5)) k) ∧ Chn P (rv M f) u (M 6 0) ∧ Fch P (rv M f) u (M 6 0) (M 10 0) (M 11 0) ∧ Mkr P (rv M f) f u (M 27) ∧ Slw P (rv M f) u
theorem Opd_congr {P E E' : MM} {f k a b x : Nat} {S S' : Nat → ST} {us : Prop} (ha : E' a k = E a k) (hb : E' b k = E b k) (h15 : ∀ k', k' < k → E' 15 k' = E 15 k') (h16 : ∀ k', k' < k → E 16 k' ≠ 2 → E' 16 k' ≠ 2) (hS : ∀ k', k' ≤ k → S' k' = S k') (h : Opd P E f S k a b x us) : Opd P E' f S' k a b x us := by
  unfold Opd at h ⊢
  rw [ha, hb, hS k (Nat.le_refl k)]
  rcases h with h | ⟨k', h1, h2, h3, h4, h5⟩
  · exact Or.inl h
  · refine Or.inr ⟨k', h1, h2, h16 k' h1 h3, ?_, ?_⟩
    · rw [h15 k' h1]; exact h4
    · rw [h15 k' h1, hS k' (by omega)]; exact h5
theorem En_congr {P E E' : MM} {f k : Nat} {S S' : Nat → ST} (h1 : ∀ a, 14 ≤ a → a ≤ 26 → E' a k = E a k) (h15 : ∀ k', k' < k → E' 15 k' = E 15 k') (h16 : ∀ k', k' < k → E 16 k' ≠ 2 → E' 16 k' ≠ 2) (hS : ∀ k', k' ≤ k → S' k' = S k') (h : En P E f S k) : En P E' f S' k := by
  have e14 := h1 14 (by decide) (by decide)
  have e15 := h1 15 (by decide) (by decide)
  have e16 := h1 16 (by decide) (by decide)
  have e17 := h1 17 (by decide) (by decide)
  have e18 := h1 18 (by decide) (by decide)
  have e19 := h1 19 (by decide) (by decide)
  have e20 := h1 20 (by decide) (by decide)
  have e22 := h1 22 (by decide) (by decide)
  have e23 := h1 23 (by decide) (by decide)
  have e24 := h1 24 (by decide) (by decide)
  have e25 := h1 25 (by decide) (by decide)
  have e26 := h1 26 (by decide) (by decide)
  have eS := hS k (Nat.le_refl k)
  obtain ⟨c1, c2, c3, c4, c5, c6, c7, c8, c9, c10, c11⟩ := h
  unfold En
  rw [e14, e15, e16, e17, e18, e20, e22, e23, e24]
  refine ⟨c1, c2, c3, c4, c5, Opd_congr e23 e25 h15 h16 hS c6, Opd_congr e24 e26 h15 h16 hS c7, c8, c9, ?_, ?_⟩
  · intro h2
    have := c10 h2
    unfold Rdy at this ⊢
    rw [e15, e18, e19, e20, eS]; exact this
  · intro ho hs k' hk'
    rw [h15 k' hk']; exact c11 ho hs k' hk'
/-- one number of the ring at work: its 'left' -/
theorem inv_left {P M : MM} {f u k0 l : Nat} (h : Inv P M f u) (hk : k0 < u) (hl : l ≤ 5) : Inv P (mu M 17 (slt f k0) (nI l)) f u := by
  obtain ⟨hp, hr, he, hc, hf, hm, hs⟩ := h
  have hu := hr.2.2.2
  have e : ∀ a, a ≠ 17 → mu M 17 (slt f k0) (nI l) a = M a := fun a ha => mu_n M _ _ ha
  have ev : ∀ a, a ≠ 17 → rv (mu M 17 (slt f k0) (nI l)) f a = rv M f a := fun a ha => by unfold rv; rw [e a ha]
  refine ⟨?_, ?_, ?_, ?_, ?_, ?_, ?_⟩
  · unfold Pgm; rw [e 0 (by decide), e 1 (by decide), e 2 (by decide), e 3 (by decide)]; exact hp
  · unfold Rng; rw [e 12 (by decide), e 13 (by decide)]; exact hr
  · intro k hku
    rw [e 4 (by decide), e 5 (by decide), ev 15 (by decide)]
    by_cases hkk : k = k0
    · subst hkk
      have h0 := he k hku
      obtain ⟨c1, c2, c3, c4, c5, c6, c7, c8, c9, c10, c11⟩ := h0
      unfold En
      rw [ev 14 (by decide), ev 15 (by decide), ev 16 (by decide), ev 18 (by decide), ev 20 (by decide), ev 22 (by decide), ev 23 (by decide), ev 24 (by decide)]
      refine ⟨c1, c2, c3, c4, fun _ => ⟨l, hl, by simp [rv, mu_ap]⟩, Opd_congr (by rw [ev 23 (by decide)]) (by rw [ev 25 (by decide)]) (fun k' _ => by rw [ev 15 (by decide)]) (fun k' _ => by rw [ev 16 (by decide)]; exact id) (fun _ _ => rfl) c6, Opd_congr (by rw [ev 24 (by decide)]) (by rw [ev 26 (by decide)]) (fun k' _ => by rw [ev 15 (by decide)]) (fun k' _ => by rw [ev 16 (by decide)]; exact id) (fun _ _ => rfl) c7, c8, c9, ?_, c11⟩
      intro h2
      have := c10 h2
      unfold Rdy at this ⊢
      rw [ev 15 (by decide), ev 18 (by decide), ev 19 (by decide), ev 20 (by decide)]; exact this
    · refine En_congr (E := rv M f) (fun a _ _ => ?_) (fun k' _ => by rw [ev 15 (by decide)]) (fun k' _ => by rw [ev 16 (by decide)]; exact id) (fun _ _ => rfl) (he k hku)
      have hne : slt f k ≠ slt f k0 := fun z => hkk (slt_inj (by omega) (by omega) z)
      simp [rv, mu_ap, hne]
  · unfold Chn; rw [ev 15 (by decide), ev 21 (by decide), e 6 (by decide)]; exact hc
  · unfold Fch; rw [ev 15 (by decide), ev 21 (by decide), e 6 (by decide), e 10 (by decide), e 11 (by decide)]; exact hf
  · unfold Mkr; rw [ev 15 (by decide), e 27 (by decide)]; exact hm
  · unfold Slw; rw [ev 15 (by decide), ev 16 (by decide)]; exact hs
/-- one number of the ring begins -/
theorem inv_begin {P M : MM} {f u k0 l : Nat} (h : Inv P M f u) (hk : k0 < u) (hl : l ≤ 5) (h0 : M 16 (slt f k0) = 0) (h3 : M 23 (slt f k0) < 0) (h4 : M 24 (slt f k0) < 0)
    (hld : iop P (M 15 (slt f k0)) = 4 → ∀ k', k' < k0 → iop P (M 15 (slt f k')) ≠ 5) (hsl : slo (iop P (M 15 (slt f k0))) → ∀ k', k' < u → M 16 (slt f k') = 1 → ¬ slo (iop P (M 15 (slt f k')))) :
    Inv P (mu (mu M 16 (slt f k0) 1) 17 (slt f k0) (nI l)) f u := by
  obtain ⟨hp, hr, he, hc, hf, hm, hs⟩ := h
  have hu := hr.2.2.2
  have e : ∀ a, a ≠ 16 → a ≠ 17 → mu (mu M 16 (slt f k0) 1) 17 (slt f k0) (nI l) a = M a := fun a ha hb => by rw [mu_n _ _ _ hb, mu_n _ _ _ ha]
  have ev : ∀ a, a ≠ 16 → a ≠ 17 → rv (mu (mu M 16 (slt f k0) 1) 17 (slt f k0) (nI l)) f a = rv M f a := fun a ha hb => by unfold rv; rw [e a ha hb]
  have hne : ∀ k, k < u → k ≠ k0 → slt f k ≠ slt f k0 := fun k hku hkk z => hkk (slt_inj (by omega) (by omega) z)
  have e16 : ∀ k, k < u → rv (mu (mu M 16 (slt f k0) 1) 17 (slt f k0) (nI l)) f 16 k = if k = k0 then 1 else rv M f 16 k := by
    intro k hku
    by_cases hkk : k = k0
    · subst hkk; simp [rv, mu_ap]
    · simp [rv, mu_ap, hne k hku hkk, hkk]
  have e16' : ∀ k, k < u → rv M f 16 k ≠ 2 → rv (mu (mu M 16 (slt f k0) 1) 17 (slt f k0) (nI l)) f 16 k ≠ 2 := by
    intro k hku h2
    rw [e16 k hku]
    by_cases hkk : k = k0
    · rw [if_pos hkk]; decide
    · rw [if_neg hkk]; exact h2
  refine ⟨?_, ?_, ?_, ?_, ?_, ?_, ?_⟩
  · unfold Pgm; rw [e 0 (by decide) (by decide), e 1 (by decide) (by decide), e 2 (by decide) (by decide), e 3 (by decide) (by decide)]; exact hp
  · unfold Rng; rw [e 12 (by decide) (by decide), e 13 (by decide) (by decide)]; exact hr
  · intro k hku
    rw [e 4 (by decide) (by decide), e 5 (by decide) (by decide), ev 15 (by decide) (by decide)]
    by_cases hkk : k = k0
    · subst hkk
      have h00 := he k hku
      obtain ⟨c1, c2, c3, c4, c5, c6, c7, c8, c9, c10, c11⟩ := h00
      have s0 : rv M f 16 k = 0 := h0
      have s2 : rv M f 16 k ≠ 2 := by rw [s0]; decide
      have m23 : rv M f 23 k = -1 := by
        rcases c6 with ⟨z, -⟩ | ⟨k', -, z, -⟩
        · exact z
        · exact absurd (show M 23 (slt f k) < 0 from h3) (by rw [show M 23 (slt f k) = _ from z]; exact nI_pos (by have := slt_lt f k'; omega))
      have m24 : rv M f 24 k = -1 := by
        rcases c7 with ⟨z, -⟩ | ⟨k', -, z, -⟩
        · exact z
        · exact absurd (show M 24 (slt f k) < 0 from h4) (by rw [show M 24 (slt f k) = _ from z]; exact nI_pos (by have := slt_lt f k'; omega))
      unfold En
      rw [e16 k hku, if_pos rfl, ev 14 (by decide) (by decide), ev 15 (by decide) (by decide), ev 18 (by decide) (by decide), ev 20 (by decide) (by decide), ev 22 (by decide) (by decide), ev 23 (by decide) (by decide), ev 24 (by decide) (by decide)]
      refine ⟨c1, Or.inr (Or.inl rfl), c3, fun _ => ⟨m23, m24⟩, fun _ => ⟨l, hl, by simp [rv, mu_ap]⟩, Opd_congr (by rw [ev 23 (by decide) (by decide)]) (by rw [ev 25 (by decide) (by decide)]) (fun k' _ => by rw [ev 15 (by decide) (by decide)]) (fun k' z => e16' k' (by omega)) (fun _ _ => rfl) c6, Opd_congr (by rw [ev 24 (by decide) (by decide)]) (by rw [ev 26 (by decide) (by decide)]) (fun k' _ => by rw [ev 15 (by decide) (by decide)]) (fun k' z => e16' k' (by omega)) (fun _ _ => rfl) c7, ?_, fun _ => c9 s2, fun z => absurd z (by decide), fun z _ => hld z⟩
      intro z
      refine c8 ?_
      rcases z with z | ⟨z, -⟩
      · exact Or.inl z
      · exact Or.inr ⟨z, s2⟩
    · refine En_congr (E := rv M f) (fun a _ _ => ?_) (fun k' _ => by rw [ev 15 (by decide) (by decide)]) (fun k' z => e16' k' (by omega)) (fun _ _ => rfl) (he k hku)
      simp [rv, mu_ap, hne k hku hkk]
  · unfold Chn; rw [ev 15 (by decide) (by decide), ev 21 (by decide) (by decide), e 6 (by decide) (by decide)]; exact hc
  · unfold Fch; rw [ev 15 (by decide) (by decide), ev 21 (by decide) (by decide), e 6 (by decide) (by decide), e 10 (by decide) (by decide), e 11 (by decide) (by decide)]; exact hf
  · unfold Mkr; rw [ev 15 (by decide) (by decide), e 27 (by decide) (by decide)]; exact hm
  · intro k k' hk1 hk2 a1 a2 b1 b2
    rw [ev 15 (by decide) (by decide)] at b1 b2
    rw [e16 k hk1] at a1
    rw [e16 k' hk2] at a2
    by_cases q1 : k = k0 <;> by_cases q2 : k' = k0
    · rw [q1, q2]
    · subst q1
      rw [if_neg q2] at a2
      exact absurd b2 (hsl b1 k' hk2 a2)
    · subst q2
      rw [if_neg q1] at a1
      exact absurd b1 (hsl b2 k hk1 a1)
    · rw [if_neg q1] at a1
      rw [if_neg q2] at a2
      exact hs k k' hk1 hk2 a1 a2 b1 b2
end
section
/-! PURE PART 4: one number of the ring is through: work, ready, hand -/
theorem wRes_val {P : MM} {p : Int32} {S : ST} {x y r : Int32} {C : Nat → Int32} (ho : iop P p ≤ 4) (hx : uL (iop P p) → x = S.1 (xl P p)) (hy : uR (iop P p) → y = S.1 (xr P p)) (hr : iop P p = 0 → r = inn P p) (hC : iop P p = 4 → C = S.2) : wRes (iop P p) x y r p C = val P p S := by
  unfold uL xl at hx
  unfold uR xr at hy
  unfold wRes val
  rcases (show iop P p = 0 ∨ iop P p = 1 ∨ iop P p = 2 ∨ iop P p = 3 ∨ iop P p = 4 by omega) with e | e | e | e | e <;> simp_all
theorem wTr_trp {P : MM} {p : Int32} {S : ST} {x y : Int32} (h9 : iop P p ≤ 9) (hx : uL (iop P p) → x = S.1 (xl P p)) (hy : uR (iop P p) → y = S.1 (xr P p)) : wTr (iop P p) x y 0 = 0 ↔ ¬ trp P p S := by
  unfold uL xl at hx
  unfold uR xr at hy
  unfold wTr trp
  rcases (show iop P p = 0 ∨ iop P p = 1 ∨ iop P p = 2 ∨ iop P p = 3 ∨ iop P p = 4 ∨ iop P p = 5 ∨ iop P p = 6 ∨ iop P p = 7 ∨ iop P p = 8 ∨ iop P p = 9 by omega) with e | e | e | e | e | e | e | e | e | e <;> simp_all
theorem inv_done {P M M' : MM} {f u k0 : Nat} (hP : PrOK P) (h : Inv P M f u) (hk : k0 < u) (h1 : M 16 (slt f k0) = 1)
    (hrow : ∀ a, a ≠ 16 → a ≠ 18 → a ≠ 19 → a ≠ 20 → a ≠ 23 → a ≠ 24 → a ≠ 25 → a ≠ 26 → M' a = M a)
    (h16 : ∀ q, q < 6 → M' 16 (slt f q) = if q = k0 then 2 else M 16 (slt f q))
    (hoth : ∀ q, q < 6 → q ≠ k0 → M' 18 (slt f q) = M 18 (slt f q) ∧ M' 19 (slt f q) = M 19 (slt f q) ∧ M' 20 (slt f q) = M 20 (slt f q))
    (h18 : M' 18 (slt f k0) = wRes (iop P (M 15 (slt f k0))) (M 25 (slt f k0)) (M 26 (slt f k0)) (M 18 (slt f k0)) (M 15 (slt f k0)) (M 5))
    (h19 : M' 19 (slt f k0) = if iop P (M 15 (slt f k0)) = 5 then M 26 (slt f k0) &&& 7 else M 19 (slt f k0))
    (h20 : M' 20 (slt f k0) = wTr (iop P (M 15 (slt f k0))) (M 25 (slt f k0)) (M 26 (slt f k0)) (M 20 (slt f k0)))
    (hh : ∀ q, q < 6 → M' 23 (slt f q) = (if q < u ∧ M 23 (slt f q) = nI (slt f k0) then -1 else M 23 (slt f q)) ∧ M' 25 (slt f q) = (if q < u ∧ M 23 (slt f q) = nI (slt f k0) then M' 18 (slt f k0) else M 25 (slt f q)) ∧ M' 24 (slt f q) = (if q < u ∧ M 24 (slt f q) = nI (slt f k0) then -1 else M 24 (slt f q)) ∧ M' 26 (slt f q) = (if q < u ∧ M 24 (slt f q) = nI (slt f k0) then M' 18 (slt f k0) else M 26 (slt f q))) :
    Inv P M' f u := by
  obtain ⟨hp, hr, he, hc, hf, hm, hs⟩ := h
  have hu := hr.2.2.2
  have e : ∀ a, a ≠ 16 → a ≠ 18 → a ≠ 19 → a ≠ 20 → a ≠ 23 → a ≠ 24 → a ≠ 25 → a ≠ 26 → M' a = M a := hrow
  have r0 := e 0 (by decide) (by decide) (by decide) (by decide) (by decide) (by decide) (by decide) (by decide)
  have r1 := e 1 (by decide) (by decide) (by decide) (by decide) (by decide) (by decide) (by decide) (by decide)
  have r2 := e 2 (by decide) (by decide) (by decide) (by decide) (by decide) (by decide) (by decide) (by decide)
  have r3 := e 3 (by decide) (by decide) (by decide) (by decide) (by decide) (by decide) (by decide) (by decide)
  have r4 := e 4 (by decide) (by decide) (by decide) (by decide) (by decide) (by decide) (by decide) (by decide)
  have r5 := e 5 (by decide) (by decide) (by decide) (by decide) (by decide) (by decide) (by decide) (by decide)
  have r6 := e 6 (by decide) (by decide) (by decide) (by decide) (by decide) (by decide) (by decide) (by decide)
  have r10 := e 10 (by decide) (by decide) (by decide) (by decide) (by decide) (by decide) (by decide) (by decide)
  have r11 := e 11 (by decide) (by decide) (by decide) (by decide) (by decide) (by decide) (by decide) (by decide)
  have r12 := e 12 (by decide) (by decide) (by decide) (by decide) (by decide) (by decide) (by decide) (by decide)
  have r13 := e 13 (by decide) (by decide) (by decide) (by decide) (by decide) (by decide) (by decide) (by decide)
  have r14 : rv M' f 14 = rv M f 14 := by unfold rv; rw [e 14 (by decide) (by decide) (by decide) (by decide) (by decide) (by decide) (by decide) (by decide)]
  have r15 : rv M' f 15 = rv M f 15 := by unfold rv; rw [e 15 (by decide) (by decide) (by decide) (by decide) (by decide) (by decide) (by decide) (by decide)]
  have r17 : rv M' f 17 = rv M f 17 := by unfold rv; rw [e 17 (by decide) (by decide) (by decide) (by decide) (by decide) (by decide) (by decide) (by decide)]
  have r21 : rv M' f 21 = rv M f 21 := by unfold rv; rw [e 21 (by decide) (by decide) (by decide) (by decide) (by decide) (by decide) (by decide) (by decide)]
  have r22 : rv M' f 22 = rv M f 22 := by unfold rv; rw [e 22 (by decide) (by decide) (by decide) (by decide) (by decide) (by decide) (by decide) (by decide)]
  have r27 := e 27 (by decide) (by decide) (by decide) (by decide) (by decide) (by decide) (by decide) (by decide)
  -- the one that is through
  obtain ⟨c1, c2, c3, c4, c5, c6, c7, c8, c9, c10, c11⟩ := he k0 hk
  have s1 : rv M f 16 k0 = 1 := h1
  have s2 : rv M f 16 k0 ≠ 2 := by rw [s1]; decide
  have s0 : rv M f 16 k0 ≠ 0 := by rw [s1]; decide
  obtain ⟨m23, m24⟩ := c4 s0
  have nm1 : ∀ q, q < 6 → nI (slt f q) ≠ (-1 : Int32) := fun q _ => m1_ne (by have := slt_lt f q; omega)
  have x25 : uL (iop P (rv M f 15 k0)) → rv M f 25 k0 = (spS P (rv M f 15) (M 4, M 5) k0).1 (xl P (rv M f 15 k0)) := by
    rcases c6 with ⟨-, z⟩ | ⟨k', _, z, -⟩
    · exact z
    · exact absurd (z.symm.trans m23) (nm1 k' (by omega))
  have x26 : uR (iop P (rv M f 15 k0)) → rv M f 26 k0 = (spS P (rv M f 15) (M 4, M 5) k0).1 (xr P (rv M f 15 k0)) := by
    rcases c7 with ⟨-, z⟩ | ⟨k', _, z, -⟩
    · exact z
    · exact absurd (z.symm.trans m24) (nm1 k' (by omega))
  have k23 : rv M' f 23 k0 = -1 := by
    show M' 23 (slt f k0) = -1
    rw [(hh k0 (by omega)).1, if_neg (fun z => nm1 k0 (by omega) (z.2.symm.trans m23))]; exact m23
  have k24 : rv M' f 24 k0 = -1 := by
    show M' 24 (slt f k0) = -1
    rw [(hh k0 (by omega)).2.2.1, if_neg (fun z => nm1 k0 (by omega) (z.2.symm.trans m24))]; exact m24
  have k25 : rv M' f 25 k0 = rv M f 25 k0 := by
    show M' 25 (slt f k0) = M 25 (slt f k0)
    rw [(hh k0 (by omega)).2.1, if_neg (fun z => nm1 k0 (by omega) (z.2.symm.trans m23))]
  have k26 : rv M' f 26 k0 = rv M f 26 k0 := by
    show M' 26 (slt f k0) = M 26 (slt f k0)
    rw [(hh k0 (by omega)).2.2.2, if_neg (fun z => nm1 k0 (by omega) (z.2.symm.trans m24))]
  have k16 : rv M' f 16 k0 = 2 := by
    show M' 16 (slt f k0) = 2
    rw [h16 k0 (by omega), if_pos rfl]
  have hrdy : Rdy P (rv M' f) (spS P (rv M f 15) (M 4, M 5)) k0 := by
    unfold Rdy
    rw [r15]
    refine ⟨fun ho => ?_, fun ho => ?_, fun ho => ?_, ?_⟩
    · show M' 18 (slt f k0) = _
      rw [h18]
      exact wRes_val ho x25 x26 (fun z => c8 (Or.inr ⟨Or.inl z, s2⟩)) (fun z => (spS_mem (S0 := (M 4, M 5)) (fun j hj => c11 z s0 j hj)).symm)
    · show M' 18 (slt f k0) = _
      have y := x25 ⟨by omega, by omega⟩
      have q : M 18 (slt f k0) = inn P (rv M f 15 k0) := c8 (Or.inr ⟨Or.inr ho, s2⟩)
      have ho' : iop P (M 15 (slt f k0)) = 6 := ho
      have y' : M 25 (slt f k0) = (spS P (rv M f 15) (M 4, M 5) k0).1 (ia P (rv M f 15 k0)) := by
        rw [show xl P (rv M f 15 k0) = ia P (rv M f 15 k0) from if_pos (by omega)] at y; exact y
      rw [h18, ho', y', q]
      simp [wRes, rv]
    · show M' 19 (slt f k0) = _
      have y := x26 (Or.inr (Or.inr (Or.inr ho)))
      have y' : M 26 (slt f k0) = (spS P (rv M f 15) (M 4, M 5) k0).1 (ib P (rv M f 15 k0)) := by
        rw [show xr P (rv M f 15 k0) = ib P (rv M f 15 k0) from if_pos ho] at y; exact y
      have ho' : iop P (M 15 (slt f k0)) = 5 := ho
      rw [h19, if_pos ho', y']
    · show M' 20 (slt f k0) = 0 ↔ _
      have z : M 20 (slt f k0) = 0 := c9 s2
      rw [h20, z]
      exact wTr_trp (iop_le hP _) x25 x26
  have opd : ∀ (k a b x : Nat) (us : Prop), k < u → k ≠ k0 → rv M' f a k = (if k < u ∧ rv M f a k = nI (slt f k0) then -1 else rv M f a k) → rv M' f b k = (if k < u ∧ rv M f a k = nI (slt f k0) then rv M' f 18 k0 else rv M f b k) → Opd P (rv M f) f (spS P (rv M f 15) (M 4, M 5)) k a b x us → Opd P (rv M' f) f (spS P (rv M f 15) (M 4, M 5)) k a b x us := by
    intro k a b x us hku hkk ea eb ho
    rcases ho with ⟨z1, z2⟩ | ⟨k', z1, z2, z3, z4, z5⟩
    · have hn : ¬ (k < u ∧ rv M f a k = nI (slt f k0)) := fun z => nm1 k0 (by omega) (z.2.symm.trans z1)
      rw [if_neg hn] at ea eb
      exact Or.inl ⟨ea.trans z1, fun z => eb.trans (z2 z)⟩
    · by_cases hk' : k' = k0
      · subst hk'
        rw [if_pos ⟨hku, z2⟩] at ea eb
        refine Or.inl ⟨ea, fun _ => ?_⟩
        have := hrdy.1
        rw [r15] at this
        rw [eb, this z4, z5]
      · have hn : ¬ (k < u ∧ rv M f a k = nI (slt f k0)) := fun z => hk' (slt_inj (by omega) (by omega) (nI_inj (by have := slt_lt f k'; omega) (by have := slt_lt f k0; omega) (z2.symm.trans z.2)))
        rw [if_neg hn] at ea
        refine Or.inr ⟨k', z1, ea.trans z2, ?_, by rw [r15]; exact z4, by rw [r15]; exact z5⟩
        show M' 16 (slt f k') ≠ 2
        rw [h16 k' (by omega), if_neg hk']
        exact z3
  refine ⟨?_, ?_, ?_, ?_, ?_, ?_, ?_⟩
  · unfold Pgm; rw [r0, r1, r2, r3]; exact hp
  · unfold Rng; rw [r12, r13]; exact hr
  · intro k hku
    rw [r4, r5, r15]
    by_cases hkk : k = k0
    · subst hkk
      unfold En
      rw [r14, r15, r22, k16, k23, k24]
      refine ⟨c1, Or.inr (Or.inr rfl), c3, fun _ => ⟨rfl, rfl⟩, fun z => absurd z (by decide), Or.inl ⟨k23, fun z => by rw [k25]; exact x25 z⟩, Or.inl ⟨k24, fun z => by rw [k26]; exact x26 z⟩, ?_, fun z => absurd rfl z, fun _ => hrdy, fun z _ => c11 z s0⟩
      intro z
      rcases z with z | ⟨_, z⟩
      · show M' 18 (slt f k) = _
        have z' : iop P (M 15 (slt f k)) = 7 := z
        rw [h18, z']
        have := c8 (Or.inl z)
        simp [wRes]; exact this
      · exact absurd rfl z
    · obtain ⟨d1, d2, d3, d4, d5, d6, d7, d8, d9, d10, d11⟩ := he k hku
      obtain ⟨o18, o19, o20⟩ := hoth k (by omega) hkk
      have o18 : rv M' f 18 k = rv M f 18 k := o18
      have o19 : rv M' f 19 k = rv M f 19 k := o19
      have o20 : rv M' f 20 k = rv M f 20 k := o20
      have o16 : rv M' f 16 k = rv M f 16 k := by show M' 16 (slt f k) = _; rw [h16 k (by omega), if_neg hkk]; rfl
      obtain ⟨p1, p2, p3, p4⟩ := hh k (by omega)
      unfold En
      rw [r14, r15, r17, r22, o16, o18, o20]
      refine ⟨d1, d2, d3, fun z => ?_, d5, opd k 23 25 _ _ hku hkk p1 p2 d6, opd k 24 26 _ _ hku hkk p3 p4 d7, d8, d9, ?_, d11⟩
      · obtain ⟨z1, z2⟩ := d4 z
        have z1' : M 23 (slt f k) = -1 := z1
        have z2' : M 24 (slt f k) = -1 := z2
        have n1 := nm1 k0 (by omega)
        refine ⟨?_, ?_⟩
        · show M' 23 (slt f k) = -1
          rw [p1, if_neg (fun z => n1 (z.2.symm.trans z1'))]; exact z1'
        · show M' 24 (slt f k) = -1
          rw [p3, if_neg (fun z => n1 (z.2.symm.trans z2'))]; exact z2'
      · intro z
        have := d10 z
        unfold Rdy at this ⊢
        rw [r15, o18, o19, o20]; exact this
  · unfold Chn; rw [r15, r21, r6]; exact hc
  · unfold Fch; rw [r15, r21, r6, r10, r11]; exact hf
  · unfold Mkr; rw [r15, r27]; exact hm
  · intro k k' hk1 hk2 a1 a2 b1 b2
    rw [r15] at b1 b2
    have a1 : M' 16 (slt f k) = 1 := a1
    have a2 : M' 16 (slt f k') = 1 := a2
    rw [h16 k (by omega)] at a1
    rw [h16 k' (by omega)] at a2
    by_cases q1 : k = k0
    · rw [if_pos q1] at a1; exact absurd a1 (by decide)
    · by_cases q2 : k' = k0
      · rw [if_pos q2] at a2; exact absurd a2 (by decide)
      · rw [if_neg q1] at a1
        rw [if_neg q2] at a2
        exact hs k k' hk1 hk2 a1 a2 b1 b2
end
section
/-! PURE PART 5: complete -/
theorem done_step {P M : MM} {f u k fl : Nat} (hP : PrOK P) (hfl : 7 ≤ fl) (h : Inv P M f u) (hk : k < u) (h1 : M 16 (slt f k) = 1) :
    ∃ Mw Mh, fX0_work fl (nI (slt f k)) M = some (0, Mw) ∧ fX0_hand fl (nI (slt f k)) (mu Mw 16 (slt f k) 2) = some (0, Mh) ∧ Inv P Mh f u ∧
      (∀ a, a ≠ 16 → a ≠ 18 → a ≠ 19 → a ≠ 20 → a ≠ 23 → a ≠ 24 → a ≠ 25 → a ≠ 26 → Mh a = M a) ∧ ∀ q, q < 6 → Mh 16 (slt f q) = if q = k then 2 else M 16 (slt f q) := by
  have hr := h.2.1
  have hu := hr.2.2.2
  have h14 : M 14 (slt f k) = nI (iop P (M 15 (slt f k))) := (h.2.2.1 k hk).1
  obtain ⟨Mw, ew, w1, w2, w3, w4, w5⟩ := work_spec (fl := fl) (slt_lt f k) (iop_le hP _) h14
  have row : ∀ a, a ≠ 16 → a ≠ 18 → a ≠ 19 → a ≠ 20 → mu Mw 16 (slt f k) 2 a = M a := fun a b1 b2 b3 b4 => by rw [mu_n _ _ _ b1, w1 a b2 b3 b4]
  have e12 : mu Mw 16 (slt f k) 2 12 0 = nI f := by rw [row 12 (by decide) (by decide) (by decide) (by decide)]; exact hr.1
  have e13 : mu Mw 16 (slt f k) 2 13 0 = nI u := by rw [row 13 (by decide) (by decide) (by decide) (by decide)]; exact hr.2.2.1
  obtain ⟨Mh, eh, g1, g2⟩ := hand_spec (fl := fl) hr.2.1 hu (slt_lt f k) hfl e12 e13
  have ne : ∀ q, q < 6 → q ≠ k → slt f q ≠ slt f k := fun q hq hn z => hn (slt_inj hq (by omega) z)
  have H16 : ∀ q, q < 6 → Mh 16 (slt f q) = if q = k then 2 else M 16 (slt f q) := by
    intro q hq
    rw [g1 16 (by decide) (by decide) (by decide) (by decide), mu_s]
    by_cases hqk : q = k
    · subst hqk; rw [if_pos rfl]; exact pk_us
    · rw [if_neg hqk, pk_un (ne q hq hqk), w1 16 (by decide) (by decide) (by decide)]
  have R18 : Mh 18 = Mw 18 := by rw [g1 18 (by decide) (by decide) (by decide) (by decide), mu_n _ _ _ (by decide)]
  have R19 : Mh 19 = Mw 19 := by rw [g1 19 (by decide) (by decide) (by decide) (by decide), mu_n _ _ _ (by decide)]
  have R20 : Mh 20 = Mw 20 := by rw [g1 20 (by decide) (by decide) (by decide) (by decide), mu_n _ _ _ (by decide)]
  have hrow : ∀ a, a ≠ 16 → a ≠ 18 → a ≠ 19 → a ≠ 20 → a ≠ 23 → a ≠ 24 → a ≠ 25 → a ≠ 26 → Mh a = M a := fun a b1 b2 b3 b4 b5 b6 b7 b8 => by rw [g1 a b5 b6 b7 b8, row a b1 b2 b3 b4]
  refine ⟨Mw, Mh, ew, eh, ?_, hrow, H16⟩
  refine inv_done hP h hk h1 hrow H16 (fun q hq hqk => ?_) ?_ ?_ ?_ (fun q hq => ?_)
  · rw [R18, R19, R20]
    exact ⟨w2 18 _ (ne q hq hqk), w2 19 _ (ne q hq hqk), w2 20 _ (ne q hq hqk)⟩
  · rw [R18]; exact w3
  · rw [R19]; exact w4
  · rw [R20]; exact w5
  · obtain ⟨q1, q2, q3, q4⟩ := g2 q hq
    have s18 : mu Mw 16 (slt f k) 2 18 = Mh 18 := by rw [R18, mu_n _ _ _ (by decide)]
    rw [row 23 (by decide) (by decide) (by decide) (by decide)] at q1 q2
    rw [row 25 (by decide) (by decide) (by decide) (by decide), s18] at q2
    rw [row 24 (by decide) (by decide) (by decide) (by decide)] at q3 q4
    rw [row 26 (by decide) (by decide) (by decide) (by decide), s18] at q4
    exact ⟨q1, q2, q3, q4⟩
/-- through in this cycle -/
def thr (M : MM) (j : Nat) : Prop := M 16 j = 1 ∧ (M 17 j = 0 ∨ M 17 j = 1)
/-- where the loop of complete stands: k places seen, x1 = 1: nobody was through yet -/
def CmI (P : MM) (f u : Nat) (M0 : MM) (k : Nat) (x1 : Int32) (M : MM) : Prop :=
  Inv P M f u ∧ (∀ a, a ≠ 16 → a ≠ 17 → a ≠ 18 → a ≠ 19 → a ≠ 20 → a ≠ 23 → a ≠ 24 → a ≠ 25 → a ≠ 26 → M a = M0 a) ∧
  (∀ q, k ≤ q → q < 6 → M 17 (slt f q) = M0 17 (slt f q)) ∧ (∀ q, q < k → M0 16 (slt f q) = 1 → ∃ l, l ≤ 5 ∧ M0 17 (slt f q) = nI l ∧ M 17 (slt f q) = nI (l - 1)) ∧
  ((x1 = 1 ∧ (∀ q, q < k → ¬ thr M0 (slt f q)) ∧ ∀ q, q < 6 → M 16 (slt f q) = M0 16 (slt f q)) ∨
   (x1 = 0 ∧ ∃ k0, k0 < k ∧ thr M0 (slt f k0) ∧ (∀ q, q < k0 → ¬ thr M0 (slt f q)) ∧ ∀ q, q < 6 → M 16 (slt f q) = if q = k0 then 2 else M0 16 (slt f q)))
theorem l1_dec : ∀ l : Fin 6, 0 < l.val → vp_nar .byte ((nI l.val - 1).toInt8.toInt32) = nI (l.val - 1) := by decide
theorem cm_step {P M0 M : MM} {f u k fl : Nat} {x1 : Int32} {K : Int32 → Int32 → MM → Option (Int32 × MM)} (hP : PrOK P) (hfl : 7 ≤ fl) (hk : k < u) (h : CmI P f u M0 k x1 M) :
    ∃ x1' M', fX0_complete_22 fl K x1 (nI k) (nI (slt f k)) M = K x1' (nI (k + 1)) M' ∧ CmI P f u M0 (k + 1) x1' M' := by
  obtain ⟨hI, hrow, h17, h17', hst⟩ := h
  have hu := hI.2.1.2.2.2
  have a2 := inb6 (slt_lt f k)
  have c2 := cl6 (slt_lt f k)
  have ne : ∀ q, q < 6 → q ≠ k → slt f q ≠ slt f k := fun q hq hn z => hn (slt_inj hq (by omega) z)
  -- the stage at this place is what it was
  have s16 : M 16 (slt f k) = M0 16 (slt f k) := by
    rcases hst with ⟨-, -, z⟩ | ⟨-, k0, z1, -, -, z⟩
    · exact z k (by omega)
    · rw [z k (by omega), if_neg (by omega)]
  have s17 : M 17 (slt f k) = M0 17 (slt f k) := h17 k (Nat.le_refl k) (by omega)
  by_cases hw : M 16 (slt f k) = 1
  · obtain ⟨l, hl, el⟩ := (hI.2.2.1 k hk).2.2.2.2.1 hw
    have el : M 17 (slt f k) = nI l := el
    have e0 : M0 17 (slt f k) = nI l := by rw [← s17]; exact el
    -- after the step down: M1
    have key : ∃ M1, Inv P M1 f u ∧ M1 17 (slt f k) = nI (l - 1) ∧ (∀ a, a ≠ 17 → M1 a = M a) ∧ (∀ q, q < 6 → q ≠ k → M1 17 (slt f q) = M 17 (slt f q)) ∧ fX0_complete_22 fl K x1 (nI k) (nI (slt f k)) M = fX0_complete_52 fl K x1 (nI k) (nI (slt f k)) M1 := by
      by_cases hl0 : l = 0
      · subst hl0
        refine ⟨M, hI, el, fun _ _ => rfl, fun _ _ _ => rfl, ?_⟩
        have : M 17 (slt f k) ≤ 0 := by rw [el]; decide
        simp [fX0_complete_22, a2, c2, hw, this]
      · refine ⟨mu M 17 (slt f k) (nI (l - 1)), inv_left hI hk (by omega), by simp [mu_ap], fun a ha => mu_n _ _ _ ha, fun q hq hn => by simp [mu_ap, ne q hq hn], ?_⟩
        have hn : ¬ M 17 (slt f k) ≤ 0 := by rw [el]; exact nI_nle (by omega) (by omega)
        have hd := l1_dec ⟨l, by omega⟩ (by show 0 < l; omega)
        simp only [fX0_complete_22, a2, c2, hw, hn, if_true, if_false]
        rw [el, hd]
    obtain ⟨M1, hI1, e17, hr1, ho1, eq1⟩ := key
    have hrow1 : ∀ a, a ≠ 16 → a ≠ 17 → a ≠ 18 → a ≠ 19 → a ≠ 20 → a ≠ 23 → a ≠ 24 → a ≠ 25 → a ≠ 26 → M1 a = M0 a := fun a b1 b2 b3 b4 b5 b6 b7 b8 b9 => by rw [hr1 a b2]; exact hrow a b1 b2 b3 b4 b5 b6 b7 b8 b9
    have k17 : ∀ q, k + 1 ≤ q → q < 6 → M1 17 (slt f q) = M0 17 (slt f q) := fun q h1 h2 => by rw [ho1 q h2 (by omega)]; exact h17 q (by omega) h2
    have k17' : ∀ q, q < k + 1 → M0 16 (slt f q) = 1 → ∃ l, l ≤ 5 ∧ M0 17 (slt f q) = nI l ∧ M1 17 (slt f q) = nI (l - 1) := by
      intro q hq hwq
      by_cases hqk : q = k
      · subst hqk; exact ⟨l, hl, e0, e17⟩
      · rw [ho1 q (by omega) hqk]; exact h17' q (by omega) hwq
    have s16' : M1 16 = M 16 := hr1 16 (by decide)
    have hth : thr M0 (slt f k) ↔ l - 1 = 0 := by
      unfold thr
      rw [← s16, e0]
      constructor
      · rintro ⟨-, z | z⟩
        · have : l = 0 := nI_inj (by omega) (by omega) z
          omega
        · have : l = 1 := nI_inj (by omega) (by omega) z
          omega
      · intro z
        refine ⟨hw, ?_⟩
        rcases (show l = 0 ∨ l = 1 by omega) with rfl | rfl
        · exact Or.inl rfl
        · exact Or.inr rfl
    rw [eq1]
    by_cases hz : l - 1 = 0
    · have z17 : M1 17 (slt f k) = 0 := by rw [e17, hz]; rfl
      rcases hst with ⟨rfl, z1, z2⟩ | ⟨rfl, k0, y1, y2, y3, y4⟩
      · -- it is the first: done
        have w1 : M1 16 (slt f k) = 1 := by rw [s16']; exact hw
        obtain ⟨Mw, Mh, ew, eh, hIh, hrh, h16h⟩ := done_step (fl := fl) hP hfl hI1 hk w1
        refine ⟨0, Mh, ?_, hIh, ?_, ?_, ?_, Or.inr ⟨rfl, k, by omega, hth.mpr hz, fun q hq => z1 q hq, ?_⟩⟩
        · simp [fX0_complete_52, fX0_complete_67, fX0_complete_72, fX0_complete_79, fX0_complete_84, a2, c2, z17, ew, eh, nb2, nI_1]
        · intro a b1 b2 b3 b4 b5 b6 b7 b8 b9
          rw [hrh a b1 b3 b4 b5 b6 b7 b8 b9]; exact hrow1 a b1 b2 b3 b4 b5 b6 b7 b8 b9
        · intro q q1 q2
          rw [hrh 17 (by decide) (by decide) (by decide) (by decide) (by decide) (by decide) (by decide) (by decide)]; exact k17 q q1 q2
        · intro q q1 q2
          rw [hrh 17 (by decide) (by decide) (by decide) (by decide) (by decide) (by decide) (by decide) (by decide)]; exact k17' q q1 q2
        · intro q hq
          rw [h16h q hq, s16', z2 q hq]
      · refine ⟨0, M1, ?_, hI1, hrow1, k17, k17', Or.inr ⟨rfl, k0, by omega, y2, y3, fun q hq => by rw [s16']; exact y4 q hq⟩⟩
        simp [fX0_complete_52, fX0_complete_84, a2, c2, z17, nI_1]
    · have z17 : ¬ M1 17 (slt f k) = 0 := by rw [e17]; exact nI_ne0 (by omega) (by omega)
      refine ⟨x1, M1, ?_, hI1, hrow1, k17, k17', ?_⟩
      · simp [fX0_complete_52, fX0_complete_84, a2, c2, z17, nI_1]
      · rcases hst with ⟨z0, z1, z2⟩ | ⟨z0, k0, y1, y2, y3, y4⟩
        · refine Or.inl ⟨z0, fun q hq => ?_, fun q hq => by rw [s16']; exact z2 q hq⟩
          by_cases hqk : q = k
          · subst hqk; exact fun z => hz (hth.mp z)
          · exact z1 q (by omega)
        · exact Or.inr ⟨z0, k0, by omega, y2, y3, fun q hq => by rw [s16']; exact y4 q hq⟩
  · refine ⟨x1, M, ?_, hI, hrow, fun q h1 h2 => h17 q (by omega) h2, fun q hq hwq => ?_, ?_⟩
    · simp [fX0_complete_22, fX0_complete_84, a2, c2, hw, nI_1]
    · by_cases hqk : q = k
      · subst hqk; exact absurd hwq (by rw [← s16]; exact hw)
      · exact h17' q (by omega) hwq
    · rcases hst with ⟨z0, z1, z2⟩ | ⟨z0, k0, y1, y2, y3, y4⟩
      · refine Or.inl ⟨z0, fun q hq => ?_, z2⟩
        by_cases hqk : q = k
        · subst hqk; exact fun z => hw (by rw [s16]; exact z.1)
        · exact z1 q (by omega)
      · exact Or.inr ⟨z0, k0, by omega, y2, y3, y4⟩
theorem cm_loop {P M0 : MM} {f u fl : Nat} (hP : PrOK P) (hfl : 7 ≤ fl) : ∀ (n k : Nat) (x1 : Int32) (M : MM), u - k < n → k ≤ u → CmI P f u M0 k x1 M → ∃ x1' M', fX0_complete_4 fl n x1 (nI k) M = some (0, M') ∧ CmI P f u M0 u x1' M' := by
  intro n
  induction n with
  | zero => intro k x1 M h; omega
  | succ n ih =>
    intro k x1 M hn hk hI
    have hr := hI.1.2.1
    unfold fX0_complete_4
    rw [hr.1, hr.2.2.1]
    by_cases hku : k = u
    · subst hku
      rw [if_pos (nI_le (Nat.le_refl k) (by have := hr.2.2.2; omega))]
      exact ⟨x1, M, rfl, hI⟩
    · have := hr.2.2.2
      rw [if_neg (nI_ge (by omega) (by omega)), rem6 hr.2.1 (by omega)]
      obtain ⟨x1', M', e, h'⟩ := cm_step (K := fX0_complete_4 fl n) hP hfl (by omega) hI
      rw [e]
      exact ih (k + 1) x1' M' (by omega) (by omega) h'
theorem complete_spec {P M : MM} {f u fl : Nat} (hP : PrOK P) (hfl : 7 ≤ fl) (h : Inv P M f u) : ∃ x1' M', fX0_complete fl M = some (0, M') ∧ CmI P f u M u x1' M' := by
  have hu := h.2.1.2.2.2
  exact cm_loop (fl := fl) hP hfl fl 0 1 M (by omega) (by omega) ⟨h, fun _ _ _ _ _ _ _ _ _ _ => rfl, fun _ _ _ => rfl, fun q hq => by omega, Or.inl ⟨rfl, fun q hq => by omega, fun _ _ => rfl⟩⟩
end
section
/-! PURE PART 6: begin -/
def latN (o : Nat) : Nat := if o = 3 then 5 else if o = 2 then 3 else if o = 4 then 2 else 1
theorem latN_le (o : Nat) : latN o ≤ 5 := by unfold latN; split <;> (try split) <;> (try split) <;> decide
theorem nIe {o : Nat} (h : o ≤ 9) (c : Nat) (hc : c ≤ 9) : (nI o = nI c) = (o = c) := propext (nI_eq (by omega) (by omega))
theorem latency_spec {fl o : Nat} {M : MM} (h : o ≤ 9) : fX0_latency fl (nI o) M = some (nI (latN o), M) := by
  have e3 : (nI o = 3) = (o = 3) := nIe h 3 (by decide)
  have e2 : (nI o = 2) = (o = 2) := nIe h 2 (by decide)
  have e4 : (nI o = 4) = (o = 4) := nIe h 4 (by decide)
  unfold fX0_latency fX0_latency_0 fX0_latency_24 latN
  simp only [e3, e2, e4]
  by_cases h3 : o = 3
  · simp [h3]; rfl
  · by_cases h2 : o = 2
    · simp [h2]; rfl
    · by_cases h4 : o = 4
      · simp [h4]; rfl
      · simp [h3, h2, h4]; rfl
def fl01 (c : Prop) [Decidable c] : Int32 := if c then 1 else 0
theorem bg1_body {fl j k : Nat} {x1 : Int32} {K : Int32 → Int32 → MM → Option (Int32 × MM)} {M : MM} (hj : j < 6) : fX0_begin_22 fl K x1 (nI k) (nI j) M = K (x1 ||| fl01 (M 16 j = 1 ∧ (M 14 j = 2 ∨ M 14 j = 3))) (nI (k + 1)) M := by
  have a2 := inb6 hj
  have c2 := cl6 hj
  by_cases h1 : M 16 j = 1 <;> by_cases h2 : M 14 j = 2 <;> by_cases h3 : M 14 j = 3 <;>
    simp [fX0_begin_22, fX0_begin_53, fX0_begin_57, fX0_begin_58, fX0_begin_60, fl01, a2, c2, h1, h2, h3, nI_1]
theorem or00 : (0 : Int32) ||| 0 = 0 := by decide
theorem or01 : (0 : Int32) ||| 1 = 1 := by decide
theorem or10 : (1 : Int32) ||| 0 = 1 := by decide
theorem or11 : (1 : Int32) ||| 1 = 1 := by decide
/-- a flag that says whether somebody was found -/
def Flg (x : Int32) (c : Prop) : Prop := (x = 0 ∧ ¬ c) ∨ (x = 1 ∧ c)
theorem Flg.or {x : Int32} {c d e : Prop} [Decidable d] (h : Flg x c) (he : e ↔ c ∨ d) : Flg (x ||| fl01 d) e := by
  unfold fl01
  rcases h with ⟨rfl, h⟩ | ⟨rfl, h⟩
  · by_cases hd : d
    · rw [if_pos hd, or01]; exact Or.inr ⟨rfl, he.mpr (Or.inr hd)⟩
    · rw [if_neg hd, or00]; exact Or.inl ⟨rfl, fun z => (he.mp z).elim h hd⟩
  · by_cases hd : d
    · rw [if_pos hd, or11]; exact Or.inr ⟨rfl, he.mpr (Or.inl h)⟩
    · rw [if_neg hd, or10]; exact Or.inr ⟨rfl, he.mpr (Or.inl h)⟩
/-- the slow unit is at work -/
def sw (P M : MM) (j : Nat) : Prop := M 16 j = 1 ∧ slo (iop P (M 15 j))
theorem op_slo {P M : MM} {j : Nat} (hP : PrOK P) (h : M 14 j = nI (iop P (M 15 j))) : (M 14 j = 2 ∨ M 14 j = 3) ↔ slo (iop P (M 15 j)) := by
  rw [h]
  have e3 : (nI (iop P (M 15 j)) = 3) = (iop P (M 15 j) = 3) := nIe (iop_le hP _) 3 (by decide)
  have e2 : (nI (iop P (M 15 j)) = 2) = (iop P (M 15 j) = 2) := nIe (iop_le hP _) 2 (by decide)
  rw [e3, e2]; exact Iff.rfl
theorem bg1_loop {P M : MM} {f u fl : Nat} (hP : PrOK P) (h : Inv P M f u) : ∀ (n k : Nat) (x1 : Int32), u - k < n → k ≤ u → Flg x1 (∃ q, q < k ∧ sw P M (slt f q)) → ∃ x1', fX0_begin_4 fl n x1 (nI k) M = fX0_begin_68 fl x1' 0 M ∧ Flg x1' (∃ q, q < u ∧ sw P M (slt f q)) := by
  have hr := h.2.1
  have hu := hr.2.2.2
  intro n
  induction n with
  | zero => intro k x1 h; omega
  | succ n ih =>
    intro k x1 hn hk hx
    unfold fX0_begin_4
    rw [hr.1, hr.2.2.1]
    by_cases hku : k = u
    · subst hku
      rw [if_pos (nI_le (Nat.le_refl k) (by omega))]
      exact ⟨x1, rfl, hx⟩
    · rw [if_neg (nI_ge (by omega) (by omega)), rem6 hr.2.1 (by omega), bg1_body (slt_lt f k)]
      refine ih (k + 1) _ (by omega) (by omega) (hx.or ?_)
      have hs := op_slo hP (h.2.2.1 k (by omega)).1
      have hs : (M 14 (slt f k) = 2 ∨ M 14 (slt f k) = 3) ↔ slo (iop P (M 15 (slt f k))) := hs
      rw [hs]
      constructor
      · rintro ⟨q, hq, hz⟩
        by_cases hqk : q = k
        · subst hqk; exact Or.inr hz
        · exact Or.inl ⟨q, by omega, hz⟩
      · rintro (⟨q, hq, hz⟩ | hz)
        · exact ⟨q, by omega, hz⟩
        · exact ⟨k, by omega, hz⟩
/-! the second loop's body, piece by piece -/
section
variable {fl j k : Nat} {x1 x2 x5 : Int32} {K : Int32 → Int32 → Int32 → MM → Option (Int32 × MM)} {M : MM}
theorem bg2_F (hj : j < 6) : fX0_begin_215 fl K x1 x2 (nI k) (nI j) M = K x1 (x2 ||| fl01 (M 14 j = 5)) (nI (k + 1)) M := by
  have a2 := inb6 hj
  have c2 := cl6 hj
  by_cases h : M 14 j = 5 <;> simp [fX0_begin_215, fX0_begin_232, fX0_begin_234, fl01, a2, c2, h, nI_1]
theorem bg2_E {o : Nat} (hj : j < 6) (ho : o ≤ 9) (h14 : M 14 j = nI o) : fX0_begin_184 fl K x1 x2 (nI k) (nI j) x5 M = fX0_begin_215 fl K (x1 ||| x5) x2 (nI k) (nI j) (mu (mu M 16 j 1) 17 j (nI (latN o))) := by
  have a2 := inb6 hj
  have c2 := cl6 hj
  have h14' : mu M 16 j 1 14 j = nI o := by rw [mu_n _ _ _ (by decide)]; exact h14
  have hl := latency_spec (fl := fl) (M := mu M 16 j 1) ho
  have hn := nb_vs (j := latN o) (by have := latN_le o; omega)
  simp [fX0_begin_184, fX0_begin_192, fX0_begin_208, fX0_begin_210, a2, c2, nb1, h14', hl, hn]
theorem bg2_D (hj : j < 6) : fX0_begin_169 fl K x1 x2 (nI k) (nI j) x5 M = if M 14 j = 4 ∧ ¬ x2 = 0 then fX0_begin_215 fl K x1 x2 (nI k) (nI j) M else fX0_begin_184 fl K x1 x2 (nI k) (nI j) x5 M := by
  have a2 := inb6 hj
  have c2 := cl6 hj
  by_cases h : M 14 j = 4 <;> by_cases h2 : x2 = 0 <;> simp [fX0_begin_169, a2, c2, h, h2]
theorem bg2_B (hj : j < 6) : fX0_begin_118 fl K x1 x2 (nI k) (nI j) x5 M = fX0_begin_155 fl K x1 x2 (nI k) (nI j) x5 (fl01 (M 16 j = 0 ∧ ¬ 0 ≤ M 23 j ∧ ¬ 0 ≤ M 24 j)) M := by
  have a2 := inb6 hj
  have c2 := cl6 hj
  unfold fl01
  by_cases h : M 16 j = 0
  · by_cases h2 : 0 ≤ M 23 j
    · rw [if_neg (fun z => z.2.1 h2)]
      simp only [fX0_begin_118, fX0_begin_152, fX0_begin_153, a2, c2, h, h2, if_true]
    · by_cases h3 : 0 ≤ M 24 j
      · rw [if_neg (fun z => z.2.2 h3)]
        simp only [fX0_begin_118, fX0_begin_152, fX0_begin_153, a2, c2, h, h2, h3, if_true, if_false]
      · rw [if_pos ⟨h, h2, h3⟩]
        simp only [fX0_begin_118, fX0_begin_152, fX0_begin_153, a2, c2, h, h2, h3, if_true, if_false]
  · rw [if_neg (fun z => h z.1)]
    simp only [fX0_begin_118, fX0_begin_152, fX0_begin_153, a2, c2, h, if_true, if_false]
theorem bg2_A (hj : j < 6) : fX0_begin_89 fl K x1 x2 (nI k) (nI j) M = fX0_begin_118 fl K x1 x2 (nI k) (nI j) (fl01 (M 14 j = 2 ∨ M 14 j = 3)) M := by
  have a2 := inb6 hj
  have c2 := cl6 hj
  by_cases h2 : M 14 j = 2 <;> by_cases h3 : M 14 j = 3 <;> simp [fX0_begin_89, fX0_begin_111, fX0_begin_116, fl01, a2, c2, h2, h3]
/-- whether the number at j begins -/
def goes (M : MM) (x1 x2 : Int32) (j : Nat) : Prop := (M 16 j = 0 ∧ ¬ 0 ≤ M 23 j ∧ ¬ 0 ≤ M 24 j) ∧ ((M 14 j = 2 ∨ M 14 j = 3) → x1 = 0) ∧ (M 14 j = 4 → x2 = 0)
theorem bg2_go {o : Nat} (hj : j < 6) (ho : o ≤ 9) (h14 : M 14 j = nI o) (hg : goes M x1 x2 j) : fX0_begin_89 fl K x1 x2 (nI k) (nI j) M = K (x1 ||| fl01 (M 14 j = 2 ∨ M 14 j = 3)) (x2 ||| fl01 (M 14 j = 5)) (nI (k + 1)) (mu (mu M 16 j 1) 17 j (nI (latN o))) := by
  obtain ⟨g1, g2, g3⟩ := hg
  have e14 : mu (mu M 16 j 1) 17 j (nI (latN o)) 14 j = M 14 j := by rw [mu_n _ _ _ (by decide), mu_n _ _ _ (by decide)]
  have hD : fX0_begin_155 fl K x1 x2 (nI k) (nI j) (fl01 (M 14 j = 2 ∨ M 14 j = 3)) 1 M = fX0_begin_184 fl K x1 x2 (nI k) (nI j) (fl01 (M 14 j = 2 ∨ M 14 j = 3)) M := by
    have hd : ¬ (M 14 j = 4 ∧ ¬ x2 = 0) := fun z => z.2 (g3 z.1)
    by_cases hs : M 14 j = 2 ∨ M 14 j = 3
    · simp (decide := true) only [fX0_begin_155, fl01, hs, g2 hs, if_true, if_false, bg2_D hj, hd]
    · simp (decide := true) only [fX0_begin_155, fl01, hs, if_true, if_false, bg2_D hj, hd]
  rw [bg2_A hj, bg2_B hj, show fl01 (M 16 j = 0 ∧ ¬ 0 ≤ M 23 j ∧ ¬ 0 ≤ M 24 j) = 1 from if_pos g1, hD, bg2_E hj ho h14, bg2_F hj, e14]
theorem bg2_stay (hj : j < 6) (hg : ¬ goes M x1 x2 j) : fX0_begin_89 fl K x1 x2 (nI k) (nI j) M = K x1 (x2 ||| fl01 (M 14 j = 5)) (nI (k + 1)) M := by
  rw [bg2_A hj, bg2_B hj, ← bg2_F (fl := fl) (K := K) (x1 := x1) (x2 := x2) (k := k) (M := M) hj]
  by_cases g1 : M 16 j = 0 ∧ ¬ 0 ≤ M 23 j ∧ ¬ 0 ≤ M 24 j
  · rw [show fl01 (M 16 j = 0 ∧ ¬ 0 ≤ M 23 j ∧ ¬ 0 ≤ M 24 j) = 1 from if_pos g1]
    by_cases hs : M 14 j = 2 ∨ M 14 j = 3
    · by_cases h1 : x1 = 0
      · have hd : M 14 j = 4 ∧ ¬ x2 = 0 := by
          by_cases z4 : M 14 j = 4
          · by_cases z2 : x2 = 0
            · exact absurd ⟨g1, fun _ => h1, fun _ => z2⟩ hg
            · exact ⟨z4, z2⟩
          · exact absurd ⟨g1, fun _ => h1, fun z => absurd z z4⟩ hg
        simp (decide := true) only [fX0_begin_155, fl01, hs, h1, if_true, if_false, bg2_D hj, hd, not_false_eq_true, and_self]
      · simp (decide := true) only [fX0_begin_155, fl01, hs, h1, if_true, if_false]
    · have hd : M 14 j = 4 ∧ ¬ x2 = 0 := by
        by_cases z4 : M 14 j = 4
        · by_cases z2 : x2 = 0
          · exact absurd ⟨g1, fun z => absurd z hs, fun _ => z2⟩ hg
          · exact ⟨z4, z2⟩
        · exact absurd ⟨g1, fun z => absurd z hs, fun z => absurd z z4⟩ hg
      simp (decide := true) only [fX0_begin_155, fl01, hs, if_true, if_false, bg2_D hj, hd, not_false_eq_true, and_self]
  · rw [show fl01 (M 16 j = 0 ∧ ¬ 0 ≤ M 23 j ∧ ¬ 0 ≤ M 24 j) = 0 from if_neg g1]
    simp only [fX0_begin_155, if_true]
end
/-- where the second loop of begin stands -/
def BgI (P : MM) (f u : Nat) (M0 : MM) (k : Nat) (x1 x2 : Int32) (M : MM) : Prop :=
  Inv P M f u ∧ (∀ a, a ≠ 16 → a ≠ 17 → M a = M0 a) ∧ Flg x1 (∃ q, q < u ∧ sw P M (slt f q)) ∧ Flg x2 (∃ q, q < k ∧ iop P (M 15 (slt f q)) = 5) ∧
  (∀ q, q < 6 → (M0 16 (slt f q) ≠ 0 → M 16 (slt f q) = M0 16 (slt f q) ∧ M 17 (slt f q) = M0 17 (slt f q)) ∧ (M0 16 (slt f q) = 0 → M 16 (slt f q) = 0 ∨ M 16 (slt f q) = 1)) ∧
  (∀ q, k ≤ q → q < 6 → M 16 (slt f q) = M0 16 (slt f q)) ∧
  (1 ≤ k → M0 16 (slt f 0) = 0 → (slo (iop P (M0 15 (slt f 0))) → ∀ q, q < u → ¬ sw P M0 (slt f q)) → M 16 (slt f 0) = 1)
theorem bg_step {P M0 M : MM} {f u k fl : Nat} {x1 x2 : Int32} {K : Int32 → Int32 → Int32 → MM → Option (Int32 × MM)} (hP : PrOK P) (hk : k < u) (h : BgI P f u M0 k x1 x2 M) :
    ∃ x1' x2' M', fX0_begin_89 fl K x1 x2 (nI k) (nI (slt f k)) M = K x1' x2' (nI (k + 1)) M' ∧ BgI P f u M0 (k + 1) x1' x2' M' := by
  obtain ⟨hI, hrow, hx1, hx2, hst, hrest, hhd⟩ := h
  have hu := hI.2.1.2.2.2
  have hE := hI.2.2.1 k hk
  have h14 : M 14 (slt f k) = nI (iop P (M 15 (slt f k))) := hE.1
  have hslo := op_slo hP h14
  have h9 := iop_le hP (M 15 (slt f k))
  have e5 : (M 14 (slt f k) = 5) = (iop P (M 15 (slt f k)) = 5) := by rw [h14]; exact nIe h9 5 (by decide)
  have e4 : (M 14 (slt f k) = 4) = (iop P (M 15 (slt f k)) = 4) := by rw [h14]; exact nIe h9 4 (by decide)
  have ne : ∀ q, q < 6 → q ≠ k → slt f q ≠ slt f k := fun q hq hn z => hn (slt_inj hq (by omega) z)
  have hx2' : Flg (x2 ||| fl01 (M 14 (slt f k) = 5)) (∃ q, q < k + 1 ∧ iop P (M 15 (slt f q)) = 5) := by
    refine hx2.or ?_
    rw [e5]
    constructor
    · rintro ⟨q, hq, hz⟩
      by_cases hqk : q = k
      · subst hqk; exact Or.inr hz
      · exact Or.inl ⟨q, by omega, hz⟩
    · rintro (⟨q, hq, hz⟩ | hz)
      · exact ⟨q, by omega, hz⟩
      · exact ⟨k, by omega, hz⟩
  by_cases hg : goes M x1 x2 (slt f k)
  · obtain ⟨⟨g0, g3, g4⟩, gs, gl⟩ := hg
    have hlt3 : M 23 (slt f k) < 0 := by rw [nlt_le] at g3; exact Classical.not_not.mp g3
    have hlt4 : M 24 (slt f k) < 0 := by rw [nlt_le] at g4; exact Classical.not_not.mp g4
    have hnosw : slo (iop P (M 15 (slt f k))) → ∀ q, q < u → ¬ sw P M (slt f q) := by
      intro hs q hq hsw
      have := gs (hslo.mpr hs)
      rcases hx1 with ⟨-, z⟩ | ⟨z, -⟩
      · exact z ⟨q, hq, hsw⟩
      · rw [this] at z; exact absurd z (by decide)
    have hI' := inv_begin hI hk (latN_le (iop P (M 15 (slt f k)))) g0 hlt3 hlt4 (fun z => by
        have := gl (by rw [e4]; exact z)
        rcases hx2 with ⟨-, y⟩ | ⟨y, -⟩
        · exact fun k' hk' w => y ⟨k', hk', w⟩
        · rw [this] at y; exact absurd y (by decide)) (fun z k' hk' w v => hnosw z k' hk' ⟨w, v⟩)
    refine ⟨_, _, _, bg2_go (slt_lt f k) h9 h14 ⟨⟨g0, g3, g4⟩, gs, gl⟩, hI', ?_, ?_, ?_, ?_, ?_, ?_⟩
    · intro a h1 h2; rw [mu_n _ _ _ h2, mu_n _ _ _ h1]; exact hrow a h1 h2
    · refine hx1.or ?_
      rw [hslo]
      have r15 : mu (mu M 16 (slt f k) 1) 17 (slt f k) (nI (latN (iop P (M 15 (slt f k))))) 15 = M 15 := by rw [mu_n _ _ _ (by decide), mu_n _ _ _ (by decide)]
      constructor
      · rintro ⟨q, hq, z1, z2⟩
        rw [r15] at z2
        by_cases hqk : q = k
        · subst hqk; exact Or.inr z2
        · refine Or.inl ⟨q, hq, ?_, z2⟩
          simp [mu_ap, ne q (by omega) hqk] at z1; exact z1
      · rintro (⟨q, hq, z1, z2⟩ | z)
        · refine ⟨q, hq, ?_, by rw [r15]; exact z2⟩
          by_cases hqk : q = k
          · subst hqk; simp [mu_ap]
          · simp [mu_ap, ne q (by omega) hqk]; exact z1
        · exact ⟨k, hk, by simp [mu_ap], by rw [r15]; exact z⟩
    · have r15 : mu (mu M 16 (slt f k) 1) 17 (slt f k) (nI (latN (iop P (M 15 (slt f k))))) 15 = M 15 := by rw [mu_n _ _ _ (by decide), mu_n _ _ _ (by decide)]
      rw [r15]; exact hx2'
    · intro q hq
      by_cases hqk : q = k
      · subst hqk
        have := hrest q (Nat.le_refl q) hq
        exact ⟨fun z => absurd (this.symm.trans g0) z, fun _ => Or.inr (by simp [mu_ap])⟩
      · simp only [mu_ap, ne q hq hqk, and_false, if_false]
        exact hst q hq
    · intro q h1 h2
      simp only [mu_ap, ne q h2 (by omega), and_false, if_false]
      exact hrest q (by omega) h2
    · intro _ h0 hcond
      by_cases hk0 : k = 0
      · subst hk0; simp [mu_ap]
      · have := hhd (by omega) h0 hcond
        simp only [mu_ap, ne 0 (by omega) (fun z => hk0 z.symm), and_false, if_false]; exact this
  · refine ⟨_, _, _, bg2_stay (slt_lt f k) hg, hI, hrow, hx1, hx2', hst, fun q h1 h2 => hrest q (by omega) h2, ?_⟩
    intro _ h0 hcond
    by_cases hk0 : k = 0
    · subst hk0
      exfalso
      apply hg
      have w0 : M 16 (slt f 0) = 0 := by rw [hrest 0 (by omega) (by omega)]; exact h0
      have m15 : M 15 = M0 15 := hrow 15 (by decide) (by decide)
      refine ⟨⟨w0, ?_, ?_⟩, ?_, ?_⟩
      · rcases hE.2.2.2.2.2.1 with ⟨z, -⟩ | ⟨k', z, -⟩
        · have z : M 23 (slt f 0) = -1 := z
          rw [z]; decide
        · omega
      · rcases hE.2.2.2.2.2.2.1 with ⟨z, -⟩ | ⟨k', z, -⟩
        · have z : M 24 (slt f 0) = -1 := z
          rw [z]; decide
        · omega
      · intro hs
        have hs := hslo.mp hs
        rw [m15] at hs
        rcases hx1 with ⟨z, -⟩ | ⟨-, q, hq, z1, z2⟩
        · exact z
        · rw [m15] at z2
          have : M 16 (slt f q) = M0 16 (slt f q) := hrest q (by omega) (by omega)
          rw [this] at z1
          exact absurd ⟨z1, z2⟩ (hcond hs q hq)
      · intro _
        rcases hx2 with ⟨z, -⟩ | ⟨-, q, hq, -⟩
        · exact z
        · omega
    · exact hhd (by omega) h0 hcond
theorem bg_loop {P M0 : MM} {f u fl : Nat} (hP : PrOK P) : ∀ (n k : Nat) (x1 x2 : Int32) (M : MM), u - k < n → k ≤ u → BgI P f u M0 k x1 x2 M → ∃ x1' x2' M', fX0_begin_70 fl n x1 x2 (nI k) M = some (0, M') ∧ BgI P f u M0 u x1' x2' M' := by
  intro n
  induction n with
  | zero => intro k x1 x2 M h; omega
  | succ n ih =>
    intro k x1 x2 M hn hk hI
    have hr := hI.1.2.1
    unfold fX0_begin_70
    rw [hr.1, hr.2.2.1]
    have := hr.2.2.2
    by_cases hku : k = u
    · subst hku
      rw [if_pos (nI_le (Nat.le_refl k) (by omega))]
      exact ⟨x1, x2, M, rfl, hI⟩
    · rw [if_neg (nI_ge (by omega) (by omega)), rem6 hr.2.1 (by omega)]
      obtain ⟨x1', x2', M', e, h'⟩ := bg_step (fl := fl) (K := fX0_begin_70 fl n) hP (by omega) hI
      rw [e]
      exact ih (k + 1) x1' x2' M' (by omega) (by omega) h'
theorem begin_spec {P M : MM} {f u fl : Nat} (hP : PrOK P) (hfl : 7 ≤ fl) (h : Inv P M f u) : ∃ x1' x2' M', fX0_begin fl M = some (0, M') ∧ BgI P f u M u x1' x2' M' := by
  have hu := h.2.1.2.2.2
  obtain ⟨x1, e, hx⟩ := bg1_loop (fl := fl) hP h fl 0 0 (by omega) (by omega) (Or.inl ⟨rfl, fun ⟨q, hq, _⟩ => by omega⟩)
  obtain ⟨a, b, M', e', h'⟩ := bg_loop (fl := fl) (M0 := M) hP fl 0 x1 0 M (by omega) (by omega) ⟨h, fun _ _ _ => rfl, hx, Or.inl ⟨rfl, fun ⟨q, hq, _⟩ => by omega⟩, fun q _ => ⟨fun _ => ⟨rfl, rfl⟩, fun z => Or.inl z⟩, fun _ _ _ => rfl, fun z => by omega⟩
  refine ⟨a, b, M', ?_, h'⟩
  show fX0_begin_4 fl fl 0 (nI 0) M = _
  rw [e]
  exact e'
end
section
/-! PURE PART 7: issue -/
/-- what reading register r gives: (from, value) -/
def RdR (M : MM) (r : Nat) (vf vv : Int32) : Prop := (M 27 r = -1 → vf = -1 ∧ vv = M 4 r) ∧ ∀ j, j < 6 → M 27 r = nI j → vv = M 18 j ∧ vf = if M 16 j = 2 then -1 else nI j
theorem readLeft_spec {M : MM} {fl i r : Nat} (hi : i < 6) (hr : r < 4) (hm : M 27 r = -1 ∨ ∃ j, j < 6 ∧ M 27 r = nI j) : ∃ M', fX0_readLeft fl (nI i) (nI r) M = some (0, M') ∧ (∀ a, a ≠ 23 → a ≠ 25 → M' a = M a) ∧ (∀ a j, j ≠ i → M' a j = M a j) ∧ RdR M r (M' 23 i) (M' 25 i) := by
  have ai := inb6 hi
  have ci := cl6 hi
  have ar := inb4 hr
  have cr := cl4 hr
  rcases hm with hm | ⟨j, hj, hm⟩
  · refine ⟨mu (mu M 23 i (-1)) 25 i (M 4 r), ?_, fun a h1 h2 => by simp [mu, *], fun a j hj => by simp [mu_ap, *], fun _ => by simp [mu_ap], fun j hj z => absurd (z.symm.trans hm) (m1_ne (by omega))⟩
    have n1 : vp_nar .byte (-1 : Int32).toInt8.toInt32 = -1 := by decide
    simp (decide := true) [fX0_readLeft, fX0_readLeft_0, fX0_readLeft_7, fX0_readLeft_25, fX0_readLeft_26, fX0_readLeft_28, fX0_readLeft_43, fX0_readLeft_45, fX0_readLeft_69, fX0_readLeft_70, ai, ci, ar, cr, hm, n1, nb_m1, mu_n]
  · have aj := inb6 hj
    have cj := cl6 hj
    have hn : ¬ nI j < 0 := nI_pos (by omega)
    have hp : 0 ≤ nI j := nI_pos' (by omega)
    by_cases h2 : M 16 j = 2
    · refine ⟨mu (mu M 23 i (-1)) 25 i (M 18 j), ?_, fun a h1 h2 => by simp [mu, *], fun a j hj => by simp [mu_ap, *], fun z => absurd (hm.symm.trans z) (m1_ne (by omega)), fun j' hj' z => ?_⟩
      · have n1 : vp_nar .byte (-1 : Int32).toInt8.toInt32 = -1 := by decide
        simp [fX0_readLeft, fX0_readLeft_0, fX0_readLeft_7, fX0_readLeft_25, fX0_readLeft_26, fX0_readLeft_28, fX0_readLeft_43, fX0_readLeft_45, fX0_readLeft_69, fX0_readLeft_70, ai, ci, ar, cr, aj, cj, hm, hn, hp, h2, n1, nb_m1, mu_n]
      · have e : j = j' := nI_inj (by omega) (by omega) (hm.symm.trans z)
        subst e; simp [mu_ap, h2]
    · refine ⟨mu (mu M 23 i (nI j)) 25 i (M 18 j), ?_, fun a h1 h2 => by simp [mu, *], fun a j hj => by simp [mu_ap, *], fun z => absurd (hm.symm.trans z) (m1_ne (by omega)), fun j' hj' z => ?_⟩
      · have n1 := nb_vs (j := j) (by omega)
        simp [fX0_readLeft, fX0_readLeft_0, fX0_readLeft_7, fX0_readLeft_25, fX0_readLeft_26, fX0_readLeft_28, fX0_readLeft_43, fX0_readLeft_45, fX0_readLeft_69, fX0_readLeft_70, ai, ci, ar, cr, aj, cj, hm, hn, hp, h2, n1, nb_m1, mu_n]
      · have e : j = j' := nI_inj (by omega) (by omega) (hm.symm.trans z)
        subst e; simp [mu_ap, h2]
theorem readRight_spec {M : MM} {fl i r : Nat} (hi : i < 6) (hr : r < 4) (hm : M 27 r = -1 ∨ ∃ j, j < 6 ∧ M 27 r = nI j) : ∃ M', fX0_readRight fl (nI i) (nI r) M = some (0, M') ∧ (∀ a, a ≠ 24 → a ≠ 26 → M' a = M a) ∧ (∀ a j, j ≠ i → M' a j = M a j) ∧ RdR M r (M' 24 i) (M' 26 i) := by
  have ai := inb6 hi
  have ci := cl6 hi
  have ar := inb4 hr
  have cr := cl4 hr
  rcases hm with hm | ⟨j, hj, hm⟩
  · refine ⟨mu (mu M 24 i (-1)) 26 i (M 4 r), ?_, fun a h1 h2 => by simp [mu, *], fun a j hj => by simp [mu_ap, *], fun _ => by simp [mu_ap], fun j hj z => absurd (z.symm.trans hm) (m1_ne (by omega))⟩
    have n1 : vp_nar .byte (-1 : Int32).toInt8.toInt32 = -1 := by decide
    simp (decide := true) [fX0_readRight, fX0_readRight_0, fX0_readRight_7, fX0_readRight_25, fX0_readRight_26, fX0_readRight_28, fX0_readRight_43, fX0_readRight_45, fX0_readRight_69, fX0_readRight_70, ai, ci, ar, cr, hm, n1, nb_m1, mu_n]
  · have aj := inb6 hj
    have cj := cl6 hj
    have hn : ¬ nI j < 0 := nI_pos (by omega)
    have hp : 0 ≤ nI j := nI_pos' (by omega)
    by_cases h2 : M 16 j = 2
    · refine ⟨mu (mu M 24 i (-1)) 26 i (M 18 j), ?_, fun a h1 h2 => by simp [mu, *], fun a j hj => by simp [mu_ap, *], fun z => absurd (hm.symm.trans z) (m1_ne (by omega)), fun j' hj' z => ?_⟩
      · have n1 : vp_nar .byte (-1 : Int32).toInt8.toInt32 = -1 := by decide
        simp [fX0_readRight, fX0_readRight_0, fX0_readRight_7, fX0_readRight_25, fX0_readRight_26, fX0_readRight_28, fX0_readRight_43, fX0_readRight_45, fX0_readRight_69, fX0_readRight_70, ai, ci, ar, cr, aj, cj, hm, hn, hp, h2, n1, nb_m1, mu_n]
      · have e : j = j' := nI_inj (by omega) (by omega) (hm.symm.trans z)
        subst e; simp [mu_ap, h2]
    · refine ⟨mu (mu M 24 i (nI j)) 26 i (M 18 j), ?_, fun a h1 h2 => by simp [mu, *], fun a j hj => by simp [mu_ap, *], fun z => absurd (hm.symm.trans z) (m1_ne (by omega)), fun j' hj' z => ?_⟩
      · have n1 := nb_vs (j := j) (by omega)
        simp [fX0_readRight, fX0_readRight_0, fX0_readRight_7, fX0_readRight_25, fX0_readRight_26, fX0_readRight_28, fX0_readRight_43, fX0_readRight_45, fX0_readRight_69, fX0_readRight_70, ai, ci, ar, cr, aj, cj, hm, hn, hp, h2, n1, nb_m1, mu_n]
      · have e : j = j' := nI_inj (by omega) (by omega) (hm.symm.trans z)
        subst e; simp [mu_ap, h2]
theorem RdR_row {M M' : MM} {r : Nat} {vf vv : Int32} (h4 : M' 4 = M 4) (h16 : M' 16 = M 16) (h18 : M' 18 = M 18) (h27 : M' 27 = M 27) (h : RdR M' r vf vv) : RdR M r vf vv := by
  unfold RdR at h ⊢
  rw [h4, h16, h18, h27] at h
  exact h
/-- the end of readOperands: the target -/
theorem ro_end {M : MM} {fl i o a : Nat} (hi : i < 6) (ho : o ≤ 8) (ha : a < 4) : ∃ M', fX0_readOperands_84 fl (nI i) (nI o) (nI a) M = some (0, M') ∧ (∀ b, b ≠ 22 → b ≠ 27 → M' b = M b) ∧ (∀ b j, b ≠ 27 → j ≠ i → M' b j = M b j) ∧ (o ≤ 4 → M' 22 i = nI a ∧ M' 27 = upd (M 27) a (nI i)) ∧ (4 < o → M' 27 = M 27) := by
  have ai := inb6 hi
  have ci := cl6 hi
  have aa := inb4 ha
  have ca := cl4 ha
  by_cases h : o ≤ 4
  · have hn : ¬ (4 : Int32) < nI o := nI_nlt (a := 4) (b := o) h (by omega)
    have n1 := nb_vs (j := a) (by omega)
    have n2 := nb_vs (j := i) (by omega)
    refine ⟨mu (mu M 22 i (nI a)) 27 a (nI i), ?_, fun b h1 h2 => by simp [mu, *], fun b j h1 h2 => by simp [mu_ap, *], fun _ => ⟨by simp [mu_ap], by simp [mu]⟩, fun z => by omega⟩
    simp [fX0_readOperands_84, fX0_readOperands_98, fX0_readOperands_107, hn, ai, ci, aa, ca, n1, n2]
  · have hn : (4 : Int32) < nI o := nI_lt (a := 4) (b := o) (by omega) (by omega)
    exact ⟨M, by simp [fX0_readOperands_84, fX0_readOperands_107, hn], fun _ _ _ => rfl, fun _ _ _ _ => rfl, fun z => absurd z h, fun _ => rfl⟩
theorem readOperands_spec {M : MM} {fl i o g : Nat} (hi : i < 6) (ho : o ≤ 8) (hg : g ≤ 63) (hm : ∀ r, r < 4 → M 27 r = -1 ∨ ∃ j, j < 6 ∧ M 27 r = nI j) :
    ∃ M', fX0_readOperands fl (nI i) (nI o) (nI g) M = some (0, M') ∧ (∀ b, b ≠ 22 → b ≠ 23 → b ≠ 24 → b ≠ 25 → b ≠ 26 → b ≠ 27 → M' b = M b) ∧ (∀ b j, b ≠ 27 → j ≠ i → M' b j = M b j) ∧
      (o ≤ 4 → M' 22 i = nI (g % 4) ∧ M' 27 = upd (M 27) (g % 4) (nI i)) ∧ (4 < o → M' 27 = M 27) ∧
      (uL o → RdR M (if 5 ≤ o then g % 4 else g / 4 % 4) (M' 23 i) (M' 25 i)) ∧ (¬ uL o → M' 23 i = M 23 i) ∧ (uR o → RdR M (if o = 5 then g / 4 % 4 else g / 16) (M' 24 i) (M' 26 i)) ∧ (¬ uR o → M' 24 i = M 24 i) := by
  have ea := ga hg
  have eb := gb hg
  have ec := gc hg
  have e : fX0_readOperands fl (nI i) (nI o) (nI g) M = fX0_readOperands_17 fl (nI i) (nI o) (nI (g % 4)) (nI (g / 4 % 4)) (nI (g / 16)) M := by
    simp only [fX0_readOperands, fX0_readOperands_0, fX0_readOperands_5, fX0_readOperands_12, ea, eb, ec]
  rw [e]
  have h4 : g % 4 < 4 := Nat.mod_lt _ (by decide)
  have h44 : g / 4 % 4 < 4 := Nat.mod_lt _ (by decide)
  have h16 : g / 16 < 4 := by omega
  have d4 : (nI o = 4) = (o = 4) := nIe (by omega) 4 (by decide)
  have d5 : (nI o = 5) = (o = 5) := nIe (by omega) 5 (by decide)
  have d6 : (nI o = 6) = (o = 6) := nIe (by omega) 6 (by decide)
  have dl : (nI o < 1) = (o < 1) := propext (nI_ltI (a := o) (b := 1) (by omega) (by omega))
  have dg : ((4 : Int32) < nI o) = (4 < o) := propext (nI_ltI (a := 4) (b := o) (by omega) (by omega))
  unfold uL uR
  by_cases c14 : 1 ≤ o ∧ o ≤ 4
  · have n1 : ¬ o < 1 := by omega
    have n2 : ¬ 4 < o := by omega
    obtain ⟨M1, e1, r1, s1, R1⟩ := readLeft_spec (fl := fl) (M := M) hi h44 (hm _ h44)
    have m27 : M1 27 = M 27 := r1 27 (by decide) (by decide)
    by_cases o4 : o = 4
    · obtain ⟨M2, e2, r2, s2, t2, t2'⟩ := ro_end (fl := fl) (M := M1) hi ho h4
      refine ⟨M2, ?_, ?_, ?_, ?_, fun z => by omega, ?_, fun z => absurd ⟨by omega, by omega⟩ z, fun z => by omega, ?_⟩
      · simp only [fX0_readOperands_17, dl, dg, n1, n2, if_false, e1, Option.bind_some, fX0_readOperands_34, d4]
        rw [if_pos o4]; exact e2
      · intro b b1 b2 b3 b4 b5 b6; rw [r2 b b1 b6]; exact r1 b b2 b4
      · intro b j b1 b2; rw [s2 b j b1 b2]; exact s1 b j b2
      · intro z; rw [(t2 z).1, (t2 z).2, m27]; exact ⟨rfl, rfl⟩
      · intro _; rw [if_neg (by omega), r2 23 (by decide) (by decide), r2 25 (by decide) (by decide)]; exact R1
      · intro _; rw [r2 24 (by decide) (by decide), r1 24 (by decide) (by decide)]
    · obtain ⟨M2, e2, r2, s2, R2⟩ := readRight_spec (fl := fl) (M := M1) hi h16 (by rw [m27]; exact hm _ h16)
      have m27' : M2 27 = M 27 := by rw [r2 27 (by decide) (by decide)]; exact m27
      obtain ⟨M3, e3, r3, s3, t3, t3'⟩ := ro_end (fl := fl) (M := M2) hi ho h4
      refine ⟨M3, ?_, ?_, ?_, ?_, fun z => by omega, ?_, fun z => absurd ⟨by omega, by omega⟩ z, ?_, fun z => by omega⟩
      · simp only [fX0_readOperands_17, dl, dg, n1, n2, if_false, e1, Option.bind_some, fX0_readOperands_34, d4, o4, e2]
        exact e3
      · intro b b1 b2 b3 b4 b5 b6; rw [r3 b b1 b6, r2 b b3 b5]; exact r1 b b2 b4
      · intro b j b1 b2; rw [s3 b j b1 b2, s2 b j b2]; exact s1 b j b2
      · intro z; rw [(t3 z).1, (t3 z).2, m27']; exact ⟨rfl, rfl⟩
      · intro _; rw [if_neg (by omega), r3 23 (by decide) (by decide), r3 25 (by decide) (by decide), r2 23 (by decide) (by decide), r2 25 (by decide) (by decide)]; exact R1
      · intro _
        rw [if_neg (by omega), r3 24 (by decide) (by decide), r3 26 (by decide) (by decide)]
        exact RdR_row (r1 4 (by decide) (by decide)) (r1 16 (by decide) (by decide)) (r1 18 (by decide) (by decide)) m27 R2
  · have e49 : fX0_readOperands_17 fl (nI i) (nI o) (nI (g % 4)) (nI (g / 4 % 4)) (nI (g / 16)) M = fX0_readOperands_49 fl (nI i) (nI o) (nI (g % 4)) (nI (g / 4 % 4)) M := by
      simp only [fX0_readOperands_17, dl, dg]
      by_cases z : o < 1
      · rw [if_pos z]
      · rw [if_neg z, if_pos (by omega)]
    rw [e49]
    by_cases o5 : o = 5
    · obtain ⟨M1, e1, r1, s1, R1⟩ := readLeft_spec (fl := fl) (M := M) hi h4 (hm _ h4)
      have m27 : M1 27 = M 27 := r1 27 (by decide) (by decide)
      obtain ⟨M2, e2, r2, s2, R2⟩ := readRight_spec (fl := fl) (M := M1) hi h44 (by rw [m27]; exact hm _ h44)
      have m27' : M2 27 = M 27 := by rw [r2 27 (by decide) (by decide)]; exact m27
      obtain ⟨M3, e3, r3, s3, t3, t3'⟩ := ro_end (fl := fl) (M := M2) hi ho h4
      refine ⟨M3, ?_, ?_, ?_, fun z => by omega, ?_, ?_, fun z => absurd ⟨by omega, by omega⟩ z, ?_, fun z => by omega⟩
      · simp only [fX0_readOperands_49, d5, e1, Option.bind_some, fX0_readOperands_61, e2]
        rw [if_pos o5]; exact e3
      · intro b b1 b2 b3 b4 b5 b6; rw [r3 b b1 b6, r2 b b3 b5]; exact r1 b b2 b4
      · intro b j b1 b2; rw [s3 b j b1 b2, s2 b j b2]; exact s1 b j b2
      · intro z; rw [t3' z, m27']
      · intro _; rw [if_pos (by omega), r3 23 (by decide) (by decide), r3 25 (by decide) (by decide), r2 23 (by decide) (by decide), r2 25 (by decide) (by decide)]; exact R1
      · intro _
        rw [if_pos o5, r3 24 (by decide) (by decide), r3 26 (by decide) (by decide)]
        exact RdR_row (r1 4 (by decide) (by decide)) (r1 16 (by decide) (by decide)) (r1 18 (by decide) (by decide)) m27 R2
    · by_cases o6 : o = 6
      · obtain ⟨M1, e1, r1, s1, R1⟩ := readLeft_spec (fl := fl) (M := M) hi h4 (hm _ h4)
        have m27 : M1 27 = M 27 := r1 27 (by decide) (by decide)
        obtain ⟨M2, e2, r2, s2, t2, t2'⟩ := ro_end (fl := fl) (M := M1) hi ho h4
        refine ⟨M2, ?_, ?_, ?_, fun z => by omega, ?_, ?_, fun z => absurd ⟨by omega, by omega⟩ z, fun z => by omega, ?_⟩
        · simp only [fX0_readOperands_49, d5, d6, o5, if_false, e1, Option.bind_some]
          rw [if_pos o6]; exact e2
        · intro b b1 b2 b3 b4 b5 b6; rw [r2 b b1 b6]; exact r1 b b2 b4
        · intro b j b1 b2; rw [s2 b j b1 b2]; exact s1 b j b2
        · intro z; rw [t2' z, m27]
        · intro _; rw [if_pos (by omega), r2 23 (by decide) (by decide), r2 25 (by decide) (by decide)]; exact R1
        · intro _; rw [r2 24 (by decide) (by decide), r1 24 (by decide) (by decide)]
      · obtain ⟨M2, e2, r2, s2, t2, t2'⟩ := ro_end (fl := fl) (M := M) hi ho h4
        refine ⟨M2, ?_, ?_, ?_, ?_, ?_, fun z => by omega, ?_, fun z => by omega, ?_⟩
        · simp only [fX0_readOperands_49, d5, d6, o5, o6, if_false]; exact e2
        · intro b b1 b2 b3 b4 b5 b6; exact r2 b b1 b6
        · intro b j b1 b2; exact s2 b j b1 b2
        · exact t2
        · exact t2'
        · intro _; rw [r2 23 (by decide) (by decide)]
        · intro _; rw [r2 24 (by decide) (by decide)]
theorem follow_spec {M : MM} {fl i o : Nat} {n : Int32} (hi : i < 6) (ho : o ≤ 8) : ∃ M', fX0_follow fl (nI i) (nI o) n M = some (0, M') ∧ (∀ b, b ≠ 10 → b ≠ 11 → b ≠ 18 → b ≠ 21 → M' b = M b) ∧ (∀ b j, 14 ≤ b → j ≠ i → M' b j = M b j) ∧
    ((o = 0 ∨ 6 ≤ o) → M' 18 i = n) ∧ (M' 10 0 = if o = 6 then M' 21 i else if o = 7 then n else M 15 i + 1) ∧ (M' 11 0 = if o = 8 then 0 else M 11 0) := by
  have ai := inb6 hi
  have ci := cl6 hi
  have d0 : (nI o = 0) = (o = 0) := nIe (by omega) 0 (by decide)
  have d6 : (nI o = 6) = (o = 6) := nIe (by omega) 6 (by decide)
  have d7 : (nI o = 7) = (o = 7) := nIe (by omega) 7 (by decide)
  have d8 : (nI o = 8) = (o = 8) := nIe (by omega) 8 (by decide)
  have dl : (nI o < 6) = (o < 6) := propext (nI_ltI (a := o) (b := 6) (by omega) (by omega))
  -- the first piece
  obtain ⟨M1, e1, q1, q2, q3⟩ : ∃ M1 : MM, fX0_follow fl (nI i) (nI o) n M = fX0_follow_27 fl (nI i) (nI o) n (M 15 i + 1) M1 ∧ (∀ b, b ≠ 18 → M1 b = M b) ∧ (∀ j, j ≠ i → M1 18 j = M 18 j) ∧ ((o = 0 ∨ 6 ≤ o) → M1 18 i = n) := by
    by_cases h : o = 0 ∨ 6 ≤ o
    · refine ⟨mu M 18 i n, ?_, fun b hb => mu_n _ _ _ hb, fun j hj => by simp [mu_ap, hj], fun _ => by simp [mu_ap]⟩
      by_cases h0 : o = 0
      · simp only [fX0_follow, fX0_follow_0, fX0_follow_10, fX0_follow_20, ai, ci, d0, if_true]
        rw [if_pos h0]
      · have h6 : ¬ o < 6 := by omega
        simp only [fX0_follow, fX0_follow_0, fX0_follow_10, fX0_follow_20, ai, ci, d0, h0, dl, h6, if_true, if_false]
    · refine ⟨M, ?_, fun _ _ => rfl, fun _ _ => rfl, fun z => absurd z h⟩
      have h0 : ¬ o = 0 := fun z => h (Or.inl z)
      have h6 : o < 6 := by omega
      simp only [fX0_follow, fX0_follow_0, fX0_follow_10, ai, ci, d0, h0, dl, h6, if_true, if_false]
  rw [e1]
  have q4 : ∀ b j, j ≠ i → M1 b j = M b j := by
    intro b j hj
    by_cases hb : b = 18
    · subst hb; exact q2 j hj
    · rw [q1 b hb]
  by_cases h6 : o = 6
  · subst h6
    obtain ⟨g, eg⟩ : ∃ g : Int32, fX0_follow_27 fl (nI i) (nI 6) n (M 15 i + 1) M1 = some (0, mu (mu M1 21 i g) 10 0 g) := by
      by_cases ht : ((((M1 9 0).toUInt32 >>> (((M1 15 i) &&& 15).toUInt32 &&& Int32.toUInt32 31)).toInt32) &&& 1) = 0
      · refine ⟨M 15 i + 1, ?_⟩
        simp only [fX0_follow_27, fX0_follow_57, fX0_follow_59, fX0_follow_75, fX0_follow_76, fX0_follow_110, fX0_follow_116, ai, ci, show nI 6 = 6 from rfl, ht, if_true, mu_ap, and_self]
      · refine ⟨n, ?_⟩
        simp only [fX0_follow_27, fX0_follow_57, fX0_follow_59, fX0_follow_75, fX0_follow_76, fX0_follow_110, fX0_follow_116, ai, ci, show nI 6 = 6 from rfl, ht, if_true, if_false, show ((1 : Int32) = 0) = False from eq_false (by decide), mu_ap, and_self]
    refine ⟨_, eg, ?_, ?_, ?_, ?_, ?_⟩
    · intro b b1 b2 b3 b4; rw [mu_n _ _ _ b1, mu_n _ _ _ b4]; exact q1 b b3
    · intro b j b1 b2; simp only [mu_ap, b2, and_false, if_false, show ¬ (b = 10 ∧ j = 0) from fun z => by omega]; exact q4 b j b2
    · intro z; simp only [mu_ap]; exact q3 z
    · simp [mu_ap]
    · simp [mu_ap]; rw [q1 11 (by decide)]
  · by_cases h7 : o = 7
    · subst h7
      refine ⟨mu M1 10 0 n, by simp [fX0_follow_27, fX0_follow_110, fX0_follow_116, d6, d7], ?_, ?_, ?_, ?_, ?_⟩
      · intro b b1 b2 b3 b4; rw [mu_n _ _ _ b1]; exact q1 b b3
      · intro b j b1 b2; rw [mu_n _ _ _ (by omega)]; exact q4 b j b2
      · intro z; rw [mu_n _ _ _ (by decide)]; exact q3 z
      · simp [mu_ap]
      · simp [mu_ap]; rw [q1 11 (by decide)]
    · by_cases h8 : o = 8
      · subst h8
        refine ⟨mu (mu M1 11 0 0) 10 0 (M 15 i + 1), by simp [fX0_follow_27, fX0_follow_110, fX0_follow_116, d6, d7, d8], ?_, ?_, ?_, ?_, ?_⟩
        · intro b b1 b2 b3 b4; rw [mu_n _ _ _ b1, mu_n _ _ _ b2]; exact q1 b b3
        · intro b j b1 b2; rw [mu_n _ _ _ (by omega), mu_n _ _ _ (by omega)]; exact q4 b j b2
        · intro z; rw [mu_n _ _ _ (by decide), mu_n _ _ _ (by decide)]; exact q3 z
        · simp [mu_ap]
        · simp [mu_ap]
      · refine ⟨mu M1 10 0 (M 15 i + 1), by simp [fX0_follow_27, fX0_follow_110, fX0_follow_116, d6, d7, d8, h6, h7, h8], ?_, ?_, ?_, ?_, ?_⟩
        · intro b b1 b2 b3 b4; rw [mu_n _ _ _ b1]; exact q1 b b3
        · intro b j b1 b2; rw [mu_n _ _ _ (by omega)]; exact q4 b j b2
        · intro z; rw [mu_n _ _ _ (by decide)]; exact q3 z
        · simp [mu_ap, h6, h7]
        · simp [mu_ap, h8]; rw [q1 11 (by decide)]
end
section
/-! PURE PART 8: issue as a whole -/
theorem opd_new {P M : MM} {f u a b x : Nat} {us : Prop} {E' : MM} {vf vv : Int32} (h : Inv P M f u) (hx : x < 4) (hu6 : u < 6) (hR : us → RdR M x vf vv) (hn : ¬ us → vf = -1) (ha : E' a u = vf) (hb : E' b u = vv)
    (h15 : ∀ k, k < u → E' 15 k = rv M f 15 k) (h16 : ∀ k, k < u → E' 16 k = rv M f 16 k) : Opd P E' f (spS P (E' 15) (M 4, M 5)) u a b x us := by
  obtain ⟨hp, hr, he, hc, hf, hm, hs⟩ := h
  by_cases hus : us
  · have hR := hR hus
    have cg : ∀ k, k ≤ u → spS P (E' 15) (M 4, M 5) k = spS P (rv M f 15) (M 4, M 5) k := fun k hk => spS_congr _ (fun j hj => h15 j (by omega))
    rcases hm x hx with ⟨m1, m2⟩ | ⟨k, k1, k2, k3, k4, k5⟩
    · obtain ⟨r1, r2⟩ := hR.1 m1
      refine Or.inl ⟨ha.trans r1, fun _ => ?_⟩
      rw [hb, r2, cg u (Nat.le_refl u)]
      exact (spS_none (S0 := (M 4, M 5)) (fun j hj => m2 j hj)).symm
    · obtain ⟨r1, r2⟩ := hR.2 (slt f k) (slt_lt f k) k2
      have last : (spS P (rv M f 15) (M 4, M 5) u).1 x = val P (rv M f 15 k) (spS P (rv M f 15) (M 4, M 5) k) := spS_last k3 k4 k1 k5
      by_cases st : M 16 (slt f k) = 2
      · rw [if_pos st] at r2
        refine Or.inl ⟨ha.trans r2, fun _ => ?_⟩
        rw [hb, r1, cg u (Nat.le_refl u), last]
        exact ((he k k1).2.2.2.2.2.2.2.2.2.1 st).1 k3
      · rw [if_neg st] at r2
        refine Or.inr ⟨k, k1, ha.trans r2, ?_, ?_, ?_⟩
        · rw [h16 k k1]; exact st
        · rw [h15 k k1]; exact k3
        · rw [h15 k k1, cg u (Nat.le_refl u), cg k (by omega), last]
  · exact Or.inl ⟨ha.trans (hn hus), fun z => absurd z hus⟩
theorem inv_issue {P M M' : MM} {f u : Nat} (hP : PrOK P) (h : Inv P M f u) (hu6 : u < 6) (h11 : M 11 0 = 1)
    (hrow : ∀ a, a < 14 → a ≠ 10 → a ≠ 11 → a ≠ 13 → M' a = M a)
    (hslot : ∀ a j, 14 ≤ a → a ≤ 26 → j ≠ slt f u → M' a j = M a j)
    (h13 : M' 13 0 = nI (u + 1)) (h14 : M' 14 (slt f u) = nI (iop P (M 10 0))) (h15 : M' 15 (slt f u) = M 10 0) (h16 : M' 16 (slt f u) = 0) (h20 : M' 20 (slt f u) = 0)
    (hL : uL (iop P (M 10 0)) → RdR M (xl P (M 10 0)) (M' 23 (slt f u)) (M' 25 (slt f u))) (hL' : ¬ uL (iop P (M 10 0)) → M' 23 (slt f u) = -1)
    (hRt : uR (iop P (M 10 0)) → RdR M (xr P (M 10 0)) (M' 24 (slt f u)) (M' 26 (slt f u))) (hRt' : ¬ uR (iop P (M 10 0)) → M' 24 (slt f u) = -1)
    (hT : iop P (M 10 0) ≤ 4 → M' 22 (slt f u) = nI (ia P (M 10 0)) ∧ M' 27 = upd (M 27) (ia P (M 10 0)) (nI (slt f u))) (hT' : 4 < iop P (M 10 0) → M' 27 = M 27)
    (h18 : (iop P (M 10 0) = 0 ∨ iop P (M 10 0) = 6 ∨ iop P (M 10 0) = 7) → M' 18 (slt f u) = inn P (M 10 0))
    (hF : iop P (M 10 0) < 8 → M' 11 0 = 1 ∧ M' 10 0 = nxt P (M 10 0) (M' 21 (slt f u))) (hF' : 8 ≤ iop P (M 10 0) → M' 11 0 = 0) : Inv P M' f (u + 1) := by
  have hI := h
  obtain ⟨hp, hr, he, hc, hf, hm, hs⟩ := h
  have ne : ∀ k, k < u → slt f k ≠ slt f u := fun k hk z => by have := slt_inj (by omega) (by omega) z; omega
  have ev : ∀ a k, 14 ≤ a → a ≤ 26 → k < u → rv M' f a k = rv M f a k := fun a k h1 h2 h3 => hslot a _ h1 h2 (ne k h3)
  have r4 : M' 4 = M 4 := hrow 4 (by decide) (by decide) (by decide) (by decide)
  have r5 : M' 5 = M 5 := hrow 5 (by decide) (by decide) (by decide) (by decide)
  have r6 : M' 6 = M 6 := hrow 6 (by decide) (by decide) (by decide) (by decide)
  have v15 : rv M' f 15 u = M 10 0 := h15
  have fch : (u = 0 → M 10 0 = M 6 0) ∧ ∀ k, k + 1 = u → M 10 0 = nxt P (rv M f 15 k) (rv M f 21 k) ∧ iop P (rv M f 15 k) < 8 := by
    rcases hf with ⟨-, z⟩ | ⟨z, -⟩
    · exact z
    · rw [h11] at z; exact absurd z (by decide)
  refine ⟨?_, ?_, ?_, ?_, ?_, ?_, ?_⟩
  · unfold Pgm
    rw [hrow 0 (by decide) (by decide) (by decide) (by decide), hrow 1 (by decide) (by decide) (by decide) (by decide), hrow 2 (by decide) (by decide) (by decide) (by decide), hrow 3 (by decide) (by decide) (by decide) (by decide)]; exact hp
  · exact ⟨by rw [hrow 12 (by decide) (by decide) (by decide) (by decide)]; exact hr.1, hr.2.1, h13, by omega⟩
  · intro k hk
    rw [r4, r5]
    by_cases hku : k = u
    · subst hku
      unfold En
      rw [v15]
      have s0 : rv M' f 16 k = 0 := h16
      rw [s0]
      refine ⟨h14, Or.inl rfl, fun z => (hT z).1, fun z => absurd rfl z, fun z => absurd z (by decide), ?_, ?_, ?_, fun _ => h20, fun z => absurd z (by decide), fun _ z => absurd rfl z⟩
      · exact opd_new hI (by unfold xl; split; exact ia_lt _ _; exact ib_lt _ _) hu6 hL hL' rfl rfl (fun k' hk' => ev 15 k' (by decide) (by decide) hk') (fun k' hk' => ev 16 k' (by decide) (by decide) hk')
      · exact opd_new hI (by unfold xr; split; exact ib_lt _ _; exact ic_lt _ _) hu6 hRt hRt' rfl rfl (fun k' hk' => ev 15 k' (by decide) (by decide) hk') (fun k' hk' => ev 16 k' (by decide) (by decide) hk')
      · intro z
        refine h18 ?_
        rcases z with z | ⟨z | z, -⟩
        · exact Or.inr (Or.inr z)
        · exact Or.inl z
        · exact Or.inr (Or.inl z)
    · exact En_congr (E := rv M f) (fun a h1 h2 => ev a k h1 h2 (by omega)) (fun k' hk' => ev 15 k' (by decide) (by decide) (by omega)) (fun k' hk' => by rw [ev 16 k' (by decide) (by decide) (by omega)]; exact id) (fun k' hk' => spS_congr _ (fun j hj => ev 15 j (by decide) (by decide) (by omega))) (he k (by omega))
  · refine ⟨fun _ => ?_, fun k hk => ?_⟩
    · rw [r6]
      by_cases hu0 : u = 0
      · subst hu0; rw [v15]; exact fch.1 rfl
      · rw [ev 15 0 (by decide) (by decide) (by omega)]; exact hc.1 (by omega)
    · by_cases hku : k + 1 = u
      · rw [hku, v15, ev 15 k (by decide) (by decide) (by omega), ev 21 k (by decide) (by decide) (by omega)]; exact fch.2 k hku
      · rw [ev 15 k (by decide) (by decide) (by omega), ev 21 k (by decide) (by decide) (by omega), ev 15 (k + 1) (by decide) (by decide) (by omega)]; exact hc.2 k (by omega)
  · by_cases h8 : iop P (M 10 0) < 8
    · obtain ⟨f1, f2⟩ := hF h8
      refine Or.inl ⟨f1, fun z => by omega, fun k hk => ?_⟩
      have : k = u := by omega
      subst this
      rw [v15]
      exact ⟨f2, h8⟩
    · exact Or.inr ⟨hF' (by omega), u, rfl, by rw [v15]; omega⟩
  · intro r hr4
    have old : (4 < iop P (M 10 0) ∨ ia P (M 10 0) ≠ r) → M' 27 r = M 27 r := by
      intro z
      by_cases h4 : iop P (M 10 0) ≤ 4
      · rw [(hT h4).2, pk_un (fun e => by rcases z with z | z; omega; exact z e.symm)]
      · rw [hT' (by omega)]
    by_cases hw : iop P (M 10 0) ≤ 4 ∧ ia P (M 10 0) = r
    · refine Or.inr ⟨u, by omega, ?_, by rw [v15]; exact hw.1, by rw [v15]; exact hw.2, fun k' h1 h2 => by omega⟩
      rw [(hT hw.1).2, hw.2]; exact pk_us
    · have hw' : iop P (M 10 0) ≤ 4 → ia P (M 10 0) ≠ r := fun z1 z2 => hw ⟨z1, z2⟩
      have e27 : M' 27 r = M 27 r := old (by
        by_cases z : iop P (M 10 0) ≤ 4
        · exact Or.inr (hw' z)
        · exact Or.inl (by omega))
      rw [e27]
      rcases hm r hr4 with ⟨m1, m2⟩ | ⟨k, k1, k2, k3, k4, k5⟩
      · refine Or.inl ⟨m1, fun k hk => ?_⟩
        by_cases hku : k = u
        · subst hku; rw [v15]; exact hw'
        · rw [ev 15 k (by decide) (by decide) (by omega)]; exact m2 k (by omega)
      · refine Or.inr ⟨k, by omega, k2, by rw [ev 15 k (by decide) (by decide) k1]; exact k3, by rw [ev 15 k (by decide) (by decide) k1]; exact k4, fun k' h1 h2 => ?_⟩
        by_cases hku : k' = u
        · subst hku; rw [v15]; exact hw'
        · rw [ev 15 k' (by decide) (by decide) (by omega)]; exact k5 k' h1 (by omega)
  · intro k k' hk1 hk2 a1 a2 b1 b2
    have z1 : k ≠ u := fun z => by subst z; rw [show rv M' f 16 k = 0 from h16] at a1; exact absurd a1 (by decide)
    have z2 : k' ≠ u := fun z => by subst z; rw [show rv M' f 16 k' = 0 from h16] at a2; exact absurd a2 (by decide)
    rw [ev 15 k (by decide) (by decide) (by omega)] at b1
    rw [ev 15 k' (by decide) (by decide) (by omega)] at b2
    rw [ev 16 k (by decide) (by decide) (by omega)] at a1
    rw [ev 16 k' (by decide) (by decide) (by omega)] at a2
    exact hs k k' (by omega) (by omega) a1 a2 b1 b2
/-- the new number's plain cells -/
def isM (M : MM) (i u : Nat) (o : Int32) : MM := mu (mu (mu (mu (mu (mu (mu M 14 i o) 15 i (M 10 0)) 16 i 0) 20 i 0) 23 i (-1)) 24 i (-1)) 13 0 (nI (u + 1))
theorem is_73 {M : MM} {fl i u o : Nat} {x2 : Int32} (hi : i < 6) (ho : o ≤ 9) (h13 : M 13 0 = nI u) : fX0_issue_73 fl (nI i) x2 (nI o) M = fX0_issue_129 fl (nI i) x2 (nI o) (isM M i u (nI o)) := by
  have ai := inb6 hi
  have ci := cl6 hi
  have n1 := nb_vs (j := o) (by omega)
  have e13 : (mu (mu (mu (mu (mu (mu M 14 i (nI o)) 15 i (M 10 0)) 16 i 0) 20 i 0) 23 i (-1)) 24 i (-1)) 13 0 = nI u := by
    rw [mu_n _ _ _ (by decide), mu_n _ _ _ (by decide), mu_n _ _ _ (by decide), mu_n _ _ _ (by decide), mu_n _ _ _ (by decide), mu_n _ _ _ (by decide)]; exact h13
  have e10 : mu M 14 i (nI o) 10 0 = M 10 0 := by rw [mu_n _ _ _ (by decide)]
  simp only [fX0_issue_73, fX0_issue_81, fX0_issue_91, fX0_issue_98, fX0_issue_105, fX0_issue_112, fX0_issue_119, ai, ci, n1, e10, nb0, nz0, nb_m1, if_true, e13, nI_1]
  rfl
theorem isM_row {M : MM} {i u : Nat} {o : Int32} (a : Nat) (h1 : a ≠ 14) (h2 : a ≠ 15) (h3 : a ≠ 16) (h4 : a ≠ 20) (h5 : a ≠ 23) (h6 : a ≠ 24) (h7 : a ≠ 13) : isM M i u o a = M a := by
  unfold isM
  rw [mu_n _ _ _ h7, mu_n _ _ _ h6, mu_n _ _ _ h5, mu_n _ _ _ h4, mu_n _ _ _ h3, mu_n _ _ _ h2, mu_n _ _ _ h1]
theorem isM_slot {M : MM} {i u : Nat} {o : Int32} (a j : Nat) (ha : 14 ≤ a) (hj : j ≠ i) : isM M i u o a j = M a j := by
  unfold isM
  rw [mu_n _ _ _ (by omega)]
  simp [mu_ap, hj]
theorem issue_spec {P M : MM} {f u fl : Nat} (hP : PrOK P) (h : Inv P M f u) :
    ∃ M' u', fX0_issue fl M = some (0, M') ∧ Inv P M' f u' ∧ (u' = u ∨ u' = u + 1) ∧ (u = 0 → u' = 1 ∧ M' 16 (slt f 0) = 0) ∧ (∀ a, 4 ≤ a → a ≤ 9 → M' a = M a) ∧ (∀ a q, 15 ≤ a → a ≤ 17 → q < u → M' a (slt f q) = M a (slt f q)) ∧ (u < u' → M' 16 (slt f u) = 0) := by
  have hI := h
  obtain ⟨hp, hr, he, hc, hf, hm, hs⟩ := h
  have hu := hr.2.2.2
  by_cases h6 : u = 6
  · refine ⟨M, u, ?_, hI, Or.inl rfl, fun z => by omega, fun _ _ _ => rfl, fun _ _ _ _ _ => rfl, fun z => by omega⟩
    have : (6 : Int32) ≤ M 13 0 := by rw [hr.2.2.1, h6]; decide
    simp only [fX0_issue, fX0_issue_0, this, if_true, fX0_issue_16]
  · have hn6 : ¬ (6 : Int32) ≤ M 13 0 := by rw [hr.2.2.1]; exact nI_ge (b := 6) (by omega) (by omega)
    by_cases h0 : M 11 0 = 0
    · refine ⟨M, u, ?_, hI, Or.inl rfl, fun z => ?_, fun _ _ _ => rfl, fun _ _ _ _ _ => rfl, fun z => by omega⟩
      · simp only [fX0_issue, fX0_issue_0, hn6, h0, if_true, if_false, fX0_issue_16]
      · rcases hf with ⟨y, -⟩ | ⟨-, k, y, -⟩
        · rw [h0] at y; exact absurd y (by decide)
        · omega
    · have h11 : M 11 0 = 1 := by
        rcases hf with ⟨y, -⟩ | ⟨y, -⟩
        · exact y
        · exact absurd y h0
      have hi := slt_lt f u
      have e0 : fX0_issue fl M = fX0_issue_30 fl (nI (slt f u)) M := by
        simp only [fX0_issue, fX0_issue_0, hn6, h0, if_false]
        rw [hr.1, hr.2.2.1, rem6 hr.2.1 (by omega)]
      have hm27 : ∀ r, r < 4 → M 27 r = -1 ∨ ∃ j, j < 6 ∧ M 27 r = nI j := by
        intro r hr4
        rcases hm r hr4 with ⟨m1, -⟩ | ⟨k, k1, k2, -⟩
        · exact Or.inl m1
        · exact Or.inr ⟨slt f k, slt_lt f k, k2⟩
      have ne : ∀ q, q < u → slt f q ≠ slt f u := fun q hq z => by have := slt_inj (by omega) (by omega) z; omega
      by_cases hout : M 10 0 < 0 ∨ M 3 0 ≤ M 10 0
      · -- nowhere
        have o9 : iop P (M 10 0) = 9 := out_pr (by rw [← hp.2.2.2]; exact hout)
        have e1 : fX0_issue fl M = some (0, mu (isM M (slt f u) u (nI 9)) 11 0 0) := by
          rw [e0]
          have : fX0_issue_30 fl (nI (slt f u)) M = fX0_issue_73 fl (nI (slt f u)) 0 (nI 9) M := by
            by_cases z : M 10 0 < 0
            · simp only [fX0_issue_30, z, if_true, fX0_issue_52, fX0_issue_53, fX0_issue_54, fX0_issue_72]; rfl
            · have z2 : M 3 0 ≤ M 10 0 := hout.resolve_left z
              simp only [fX0_issue_30, z, z2, if_true, if_false, fX0_issue_52, fX0_issue_53, fX0_issue_54, fX0_issue_72]; rfl
          rw [this, is_73 hi (by decide) hr.2.2.1]
          simp only [fX0_issue_129, if_true, fX0_issue_171]
        refine ⟨_, u + 1, e1, ?_, Or.inr rfl, fun z => ⟨by omega, ?_⟩, ?_, ?_, fun _ => ?_⟩
        · refine inv_issue hP hI (by omega) h11 ?_ ?_ ?_ ?_ ?_ ?_ ?_ ?_ ?_ ?_ ?_ ?_ ?_ ?_ ?_ ?_
          · intro a a1 a2 a3 a4
            rw [mu_n _ _ _ a3, isM_row a (by omega) (by omega) (by omega) (by omega) (by omega) (by omega) a4]
          · intro a j a1 a2 a3
            rw [mu_n _ _ _ (by omega)]; exact isM_slot a j a1 a3
          · simp [isM, mu_ap]
          · rw [o9]; simp [isM, mu_ap]
          · simp [isM, mu_ap]
          · simp [isM, mu_ap]
          · simp [isM, mu_ap]
          · rw [o9]; intro z; exact absurd z (by unfold uL; omega)
          · intro _; simp [isM, mu_ap]
          · rw [o9]; intro z; exact absurd z (by unfold uR; omega)
          · intro _; simp [isM, mu_ap]
          · rw [o9]; intro z; omega
          · intro _
            rw [mu_n _ _ _ (by decide), isM_row 27 (by decide) (by decide) (by decide) (by decide) (by decide) (by decide) (by decide)]
          · rw [o9]; intro z; omega
          · rw [o9]; intro z; omega
          · intro _; simp [mu_ap]
        · subst z; simp [isM, mu_ap]
        · intro a a1 a2
          rw [mu_n _ _ _ (by omega), isM_row a (by omega) (by omega) (by omega) (by omega) (by omega) (by omega) (by omega)]
        · intro a q a1 a2 a3
          rw [mu_n _ _ _ (by omega)]; exact isM_slot a _ (by omega) (ne q a3)
        · simp [isM, mu_ap]
      · -- inside the program
        have hn1 : ¬ M 10 0 < 0 := fun z => hout (Or.inl z)
        have hn2 : ¬ M 3 0 ≤ M 10 0 := fun z => hout (Or.inr z)
        have hlt : M 10 0 < P 3 0 := by
          rw [← hp.2.2.2]
          rw [Int32.le_iff_toInt_le] at hn2
          rw [Int32.lt_iff_toInt_lt]; omega
        obtain ⟨a, o, g, ha, ea, ho, hg, eo, eg, i1, i2, i3, i4⟩ := in_pr hP hn1 hlt
        have ca : (nI a).toNatClampNeg = a := nI_clamp (by omega)
        have ia16 : inb (nI a) 16 = true := inb_nI ha (by decide)
        have innE : inn P (M 10 0) = M 2 a := by unfold inn; rw [ea, ca, hp.2.2.1]
        obtain ⟨i, hie⟩ : ∃ i, i = slt f u := ⟨_, rfl⟩
        rw [← hie] at hi e0 ne
        have e1 : fX0_issue fl M = fX0_issue_129 fl (nI i) 1 (nI o) (isM M i u (nI o)) := by
          rw [e0]
          have : fX0_issue_30 fl (nI i) M = fX0_issue_73 fl (nI i) 1 (nI o) M := by
            have d10 : ((1 : Int32) = 0) = False := eq_false (by decide)
            unfold fX0_issue_30
            rw [if_neg hn1, if_neg hn2]
            simp only [if_false, fX0_issue_53, fX0_issue_54, d10, fX0_issue_72, ea, ia16, if_true, ca, hp.1, eo]
          rw [this, is_73 hi (by omega) hr.2.2.1]
        obtain ⟨M1, eM1⟩ : ∃ M1, M1 = isM M i u (nI o) := ⟨_, rfl⟩
        rw [← eM1] at e1
        have row1 : ∀ b, b ≠ 14 → b ≠ 15 → b ≠ 16 → b ≠ 20 → b ≠ 23 → b ≠ 24 → b ≠ 13 → M1 b = M b := fun b b1 b2 b3 b4 b5 b6 b7 => by rw [eM1]; exact isM_row b b1 b2 b3 b4 b5 b6 b7
        have slot1 : ∀ b j, 14 ≤ b → j ≠ i → M1 b j = M b j := fun b j b1 b2 => by rw [eM1]; exact isM_slot b j b1 b2
        have m10 : M1 10 = M 10 := row1 10 (by decide) (by decide) (by decide) (by decide) (by decide) (by decide) (by decide)
        have m27 : M1 27 = M 27 := row1 27 (by decide) (by decide) (by decide) (by decide) (by decide) (by decide) (by decide)
        have m1 : M1 1 a = nI g := by rw [row1 1 (by decide) (by decide) (by decide) (by decide) (by decide) (by decide) (by decide), hp.2.1]; exact eg
        obtain ⟨M2, e2, r2, s2, t2, t2', L2, L2', R2, R2'⟩ := readOperands_spec (fl := fl) (M := M1) hi ho hg (by rw [m27]; exact hm27)
        have m10' : M2 10 0 = nI a := by rw [r2 10 (by decide) (by decide) (by decide) (by decide) (by decide) (by decide), m10]; exact ea
        have m2' : M2 2 a = inn P (M 10 0) := by rw [innE, r2 2 (by decide) (by decide) (by decide) (by decide) (by decide) (by decide), row1 2 (by decide) (by decide) (by decide) (by decide) (by decide) (by decide) (by decide)]
        obtain ⟨M3, e3, r3, s3, t3, n3, f3⟩ := follow_spec (fl := fl) (M := M2) (n := inn P (M 10 0)) hi ho
        have e4 : fX0_issue fl M = some (0, M3) := by
          rw [e1]
          have d10 : ((1 : Int32) = 0) = False := eq_false (by decide)
          have m10a : M1 10 0 = nI a := by rw [m10]; exact ea
          simp only [fX0_issue_129, d10, if_false, m10a, ia16, if_true, ca, m1, e2, Option.bind_some, fX0_issue_148, m10', m2', e3, fX0_issue_171]
        have m15i : M1 15 i = M 10 0 := by rw [eM1]; simp [isM, mu_ap]
        have m16i : M1 16 i = 0 := by rw [eM1]; simp [isM, mu_ap]
        have m14i : M1 14 i = nI o := by rw [eM1]; simp [isM, mu_ap]
        have m20i : M1 20 i = 0 := by rw [eM1]; simp [isM, mu_ap]
        have m23i : M1 23 i = -1 := by rw [eM1]; simp [isM, mu_ap]
        have m24i : M1 24 i = -1 := by rw [eM1]; simp [isM, mu_ap]
        have m13 : M1 13 0 = nI (u + 1) := by rw [eM1]; simp [isM, mu_ap]
        have keep : ∀ b, b ≠ 10 → b ≠ 11 → b ≠ 18 → b ≠ 21 → b ≠ 22 → b ≠ 23 → b ≠ 24 → b ≠ 25 → b ≠ 26 → b ≠ 27 → M3 b = M1 b := fun b b1 b2 b3 b4 b5 b6 b7 b8 b9 b10 => by rw [r3 b b1 b2 b3 b4, r2 b b5 b6 b7 b8 b9 b10]
        have slot3 : ∀ b j, 14 ≤ b → b ≤ 26 → j ≠ i → M3 b j = M b j := fun b j b1 b2 b3 => by rw [s3 b j b1 b3, s2 b j (by omega) b3, slot1 b j b1 b3]
        -- reading registers in M1 is reading them in M: the new place is nobody's maker
        have toM : ∀ x vf vv, x < 4 → RdR M1 x vf vv → RdR M x vf vv := by
          intro x vf vv hx hR
          refine ⟨fun z => ?_, fun j hj z => ?_⟩
          · have := hR.1 (by rw [m27]; exact z)
            rw [row1 4 (by decide) (by decide) (by decide) (by decide) (by decide) (by decide) (by decide)] at this
            exact this
          · have := hR.2 j hj (by rw [m27]; exact z)
            rw [row1 18 (by decide) (by decide) (by decide) (by decide) (by decide) (by decide) (by decide)] at this
            have hji : j ≠ i := by
              intro e
              subst e
              rcases hm x hx with ⟨q1, -⟩ | ⟨k, k1, k2, -⟩
              · exact m1_ne (by omega) (z.symm.trans q1)
              · exact ne k k1 (nI_inj (by have := slt_lt f k; omega) (by omega) (k2.symm.trans z))
            rw [slot1 16 j (by decide) hji] at this
            exact this
        have hxl : (if 5 ≤ o then g % 4 else g / 4 % 4) = xl P (M 10 0) := by unfold xl; rw [i1, i2, i3]
        have hxr : (if o = 5 then g / 4 % 4 else g / 16) = xr P (M 10 0) := by unfold xr; rw [i1, i3, i4]
        have hxl4 : xl P (M 10 0) < 4 := by unfold xl; split; exact ia_lt _ _; exact ib_lt _ _
        have hxr4 : xr P (M 10 0) < 4 := by unfold xr; split; exact ib_lt _ _; exact ic_lt _ _
        have F3 : ∀ b, b ≠ 10 → b ≠ 11 → b ≠ 18 → b ≠ 21 → M3 b i = M2 b i := fun b b1 b2 b3 b4 => by rw [r3 b b1 b2 b3 b4]
        refine ⟨M3, u + 1, e4, ?_, Or.inr rfl, fun z => ⟨by omega, ?_⟩, ?_, ?_, fun _ => ?_⟩
        · refine inv_issue hP hI (by omega) h11 ?_ ?_ ?_ ?_ ?_ ?_ ?_ ?_ ?_ ?_ ?_ ?_ ?_ ?_ ?_ ?_
          · intro b a1 a2 a3 a4
            rw [keep b a2 a3 (by omega) (by omega) (by omega) (by omega) (by omega) (by omega) (by omega) (by omega), row1 b (by omega) (by omega) (by omega) (by omega) (by omega) (by omega) a4]
          · intro b j b1 b2 b3; rw [← hie] at b3; exact slot3 b j b1 b2 b3
          · rw [keep 13 (by decide) (by decide) (by decide) (by decide) (by decide) (by decide) (by decide) (by decide) (by decide) (by decide)]; exact m13
          · rw [← hie, keep 14 (by decide) (by decide) (by decide) (by decide) (by decide) (by decide) (by decide) (by decide) (by decide) (by decide), i1]; exact m14i
          · rw [← hie, keep 15 (by decide) (by decide) (by decide) (by decide) (by decide) (by decide) (by decide) (by decide) (by decide) (by decide)]; exact m15i
          · rw [← hie, keep 16 (by decide) (by decide) (by decide) (by decide) (by decide) (by decide) (by decide) (by decide) (by decide) (by decide)]; exact m16i
          · rw [← hie, keep 20 (by decide) (by decide) (by decide) (by decide) (by decide) (by decide) (by decide) (by decide) (by decide) (by decide)]; exact m20i
          · rw [← hie, i1, F3 23 (by decide) (by decide) (by decide) (by decide), F3 25 (by decide) (by decide) (by decide) (by decide)]
            intro z
            have := L2 z
            rw [hxl] at this
            exact toM _ _ _ hxl4 this
          · rw [← hie, i1, F3 23 (by decide) (by decide) (by decide) (by decide)]
            intro z
            rw [L2' z]; exact m23i
          · rw [← hie, i1, F3 24 (by decide) (by decide) (by decide) (by decide), F3 26 (by decide) (by decide) (by decide) (by decide)]
            intro z
            have := R2 z
            rw [hxr] at this
            exact toM _ _ _ hxr4 this
          · rw [← hie, i1, F3 24 (by decide) (by decide) (by decide) (by decide)]
            intro z
            rw [R2' z]; exact m24i
          · rw [← hie, i1, i2, F3 22 (by decide) (by decide) (by decide) (by decide), r3 27 (by decide) (by decide) (by decide) (by decide), ← m27]
            exact t2
          · rw [i1, r3 27 (by decide) (by decide) (by decide) (by decide), ← m27]
            exact t2'
          · rw [← hie, i1]
            intro z
            exact t3 (by omega)
          · rw [← hie, i1]
            intro z
            have e11 : M2 11 0 = 1 := by rw [r2 11 (by decide) (by decide) (by decide) (by decide) (by decide) (by decide), row1 11 (by decide) (by decide) (by decide) (by decide) (by decide) (by decide) (by decide)]; exact h11
            have e15 : M2 15 i = M 10 0 := by rw [r2 15 (by decide) (by decide) (by decide) (by decide) (by decide) (by decide)]; exact m15i
            refine ⟨by rw [f3, if_neg (by omega)]; exact e11, ?_⟩
            rw [n3, e15]
            unfold nxt
            rw [i1]
          · rw [i1]
            intro z
            rw [f3, if_pos (by omega)]
        · subst z
          rw [keep 16 (by decide) (by decide) (by decide) (by decide) (by decide) (by decide) (by decide) (by decide) (by decide) (by decide), ← hie]; exact m16i
        · intro b b1 b2
          rw [keep b (by omega) (by omega) (by omega) (by omega) (by omega) (by omega) (by omega) (by omega) (by omega) (by omega), row1 b (by omega) (by omega) (by omega) (by omega) (by omega) (by omega) (by omega)]
        · intro b q b1 b2 b3
          exact slot3 b _ (by omega) (by omega) (ne q b3)
        · rw [keep 16 (by decide) (by decide) (by decide) (by decide) (by decide) (by decide) (by decide) (by decide) (by decide) (by decide), ← hie]; exact m16i
end
section
/-! PURE PART 9: retire -/
def nx (P : MM) (p : Int32) (S : ST) : Int32 := if iop P p = 6 then (if S.1 (ia P p) = 0 then inn P p else p + 1) else if iop P p = 7 then inn P p else if iop P p = 8 then p else p + 1
theorem inv_empty {P M : MM} (hp : Pgm P M) (h12 : M 12 0 = 0) (h13 : M 13 0 = 0) (h10 : M 10 0 = M 6 0) (h11 : M 11 0 = 1) (h27 : ∀ r, r < 4 → M 27 r = -1) : Inv P M 0 0 :=
  ⟨hp, ⟨h12, by decide, h13, by decide⟩, fun k hk => by omega, ⟨fun z => by omega, fun k hk => by omega⟩, Or.inl ⟨h11, fun _ => h10, fun k hk => by omega⟩, fun r hr => Or.inl ⟨h27 r hr, fun k hk => by omega⟩, fun k k' hk => by omega⟩
theorem inv_retire {P M M' : MM} {f u : Nat} (h : Inv P M f u) (hu0 : 0 < u) (h2 : M 16 f = 2) (h8 : iop P (M 15 f) < 8)
    (hrow : ∀ a, a ≠ 4 → a ≠ 5 → a ≠ 6 → a ≠ 8 → a ≠ 12 → a ≠ 13 → a ≠ 27 → M' a = M a) (hS : (M' 4, M' 5) = exS P (M 15 f) (M 4, M 5)) (h12 : M' 12 0 = nI ((f + 1) % 6)) (h13 : M' 13 0 = nI (u - 1)) (h6 : M' 6 0 = nxt P (M 15 f) (M 21 f))
    (h27 : ∀ r, r < 4 → M' 27 r = if (iop P (M 15 f) ≤ 4 ∧ ia P (M 15 f) = r) ∧ M 27 r = nI f then -1 else M 27 r) : Inv P M' ((f + 1) % 6) (u - 1) := by
  obtain ⟨hp, hr, he, hc, hf, hm, hs⟩ := h
  have hf6 := hr.2.1
  have hu := hr.2.2.2
  have z0 : slt f 0 = f := slt_z hf6
  have ev : ∀ a k, 14 ≤ a → a ≤ 26 → rv M' ((f + 1) % 6) a k = rv M f a (k + 1) := by
    intro a k h1 h2
    unfold rv
    rw [hrow a (by omega) (by omega) (by omega) (by omega) (by omega) (by omega) (by omega), slt_succ]
  have e15 : rv M' ((f + 1) % 6) 15 = fun j => rv M f 15 (j + 1) := by funext j; exact ev 15 j (by decide) (by decide)
  have hd : rv M f 15 0 = M 15 f := by unfold rv; rw [z0]
  have hd16 : rv M f 16 0 = 2 := by unfold rv; rw [z0]; exact h2
  have hd21 : rv M f 21 0 = M 21 f := by unfold rv; rw [z0]
  have SS : ∀ k, spS P (rv M' ((f + 1) % 6) 15) (M' 4, M' 5) k = spS P (rv M f 15) (M 4, M 5) (k + 1) := by
    intro k
    rw [e15, hS, ← hd]
    exact spS_shift P (rv M f 15) (M 4, M 5) k
  have opd : ∀ (k a b x : Nat) (us : Prop), 14 ≤ a → a ≤ 26 → 14 ≤ b → b ≤ 26 → Opd P (rv M f) f (spS P (rv M f 15) (M 4, M 5)) (k + 1) a b x us → Opd P (rv M' ((f + 1) % 6)) ((f + 1) % 6) (spS P (rv M' ((f + 1) % 6) 15) (M' 4, M' 5)) k a b x us := by
    intro k a b x us a1 a2 b1 b2 ho
    unfold Opd
    rw [ev a k a1 a2, ev b k b1 b2, SS k]
    rcases ho with ho | ⟨k', k1, k2, k3, k4, k5⟩
    · exact Or.inl ho
    · cases k' with
      | zero => exact absurd hd16 k3
      | succ k' =>
        refine Or.inr ⟨k', by omega, ?_, ?_, ?_, ?_⟩
        · rw [slt_succ]; exact k2
        · rw [ev 16 k' (by decide) (by decide)]; exact k3
        · rw [ev 15 k' (by decide) (by decide)]; exact k4
        · rw [ev 15 k' (by decide) (by decide), SS k']; exact k5
  refine ⟨?_, ⟨h12, Nat.mod_lt _ (by decide), h13, by omega⟩, ?_, ?_, ?_, ?_, ?_⟩
  · unfold Pgm
    rw [hrow 0 (by decide) (by decide) (by decide) (by decide) (by decide) (by decide) (by decide), hrow 1 (by decide) (by decide) (by decide) (by decide) (by decide) (by decide) (by decide), hrow 2 (by decide) (by decide) (by decide) (by decide) (by decide) (by decide) (by decide), hrow 3 (by decide) (by decide) (by decide) (by decide) (by decide) (by decide) (by decide)]; exact hp
  · intro k hk
    obtain ⟨c1, c2, c3, c4, c5, c6, c7, c8, c9, c10, c11⟩ := he (k + 1) (by omega)
    unfold En
    rw [ev 14 k (by decide) (by decide), ev 15 k (by decide) (by decide), ev 16 k (by decide) (by decide), ev 17 k (by decide) (by decide), ev 18 k (by decide) (by decide), ev 20 k (by decide) (by decide), ev 22 k (by decide) (by decide), ev 23 k (by decide) (by decide), ev 24 k (by decide) (by decide)]
    refine ⟨c1, c2, c3, c4, c5, opd k 23 25 _ _ (by decide) (by decide) (by decide) (by decide) c6, opd k 24 26 _ _ (by decide) (by decide) (by decide) (by decide) c7, c8, c9, fun z => ?_, fun z1 z2 k' hk' => ?_⟩
    · have := c10 z
      unfold Rdy at this ⊢
      rw [ev 15 k (by decide) (by decide), ev 18 k (by decide) (by decide), ev 19 k (by decide) (by decide), ev 20 k (by decide) (by decide), SS k]; exact this
    · rw [ev 15 k' (by decide) (by decide)]; exact c11 z1 z2 (k' + 1) (by omega)
  · refine ⟨fun z => ?_, fun k hk => ?_⟩
    · rw [ev 15 0 (by decide) (by decide), h6, ← hd, ← hd21]; exact (hc.2 0 (by omega)).1
    · rw [ev 15 (k + 1) (by decide) (by decide), ev 15 k (by decide) (by decide), ev 21 k (by decide) (by decide)]; exact hc.2 (k + 1) (by omega)
  · rw [hrow 10 (by decide) (by decide) (by decide) (by decide) (by decide) (by decide) (by decide), hrow 11 (by decide) (by decide) (by decide) (by decide) (by decide) (by decide) (by decide)]
    rcases hf with ⟨f1, f2, f3⟩ | ⟨f1, k, k1, k2⟩
    · refine Or.inl ⟨f1, fun z => ?_, fun k hk => ?_⟩
      · rw [h6, ← hd, ← hd21]; exact (f3 0 (by omega)).1
      · rw [ev 15 k (by decide) (by decide), ev 21 k (by decide) (by decide)]; exact f3 (k + 1) (by omega)
    · cases k with
      | zero => rw [hd] at k2; omega
      | succ k => exact Or.inr ⟨f1, k, by omega, by rw [ev 15 k (by decide) (by decide)]; exact k2⟩
  · intro r hr4
    rw [h27 r hr4]
    rcases hm r hr4 with ⟨m1, m2⟩ | ⟨k, k1, k2, k3, k4, k5⟩
    · rw [if_neg (fun z => m1_ne (by omega) (z.2.symm.trans m1))]
      refine Or.inl ⟨m1, fun k hk => ?_⟩
      rw [ev 15 k (by decide) (by decide)]; exact m2 (k + 1) (by omega)
    · cases k with
      | zero =>
        rw [z0] at k2
        rw [hd] at k3 k4
        rw [if_pos ⟨⟨k3, k4⟩, k2⟩]
        refine Or.inl ⟨rfl, fun k hk => ?_⟩
        rw [ev 15 k (by decide) (by decide)]; exact k5 (k + 1) (by omega) (by omega)
      | succ k =>
        have hne : ¬ M 27 r = nI f := by
          intro z
          have := nI_inj (by have := slt_lt f (k + 1); omega) (by omega) (k2.symm.trans z)
          have := slt_inj (by omega) (by omega) (show slt f (k + 1) = slt f 0 from this.trans z0.symm)
          omega
        rw [if_neg (fun z => hne z.2)]
        refine Or.inr ⟨k, by omega, by rw [slt_succ]; exact k2, by rw [ev 15 k (by decide) (by decide)]; exact k3, by rw [ev 15 k (by decide) (by decide)]; exact k4, fun k' q1 q2 => ?_⟩
        rw [ev 15 k' (by decide) (by decide)]; exact k5 (k' + 1) (by omega) (by omega)
  · intro k k' hk1 hk2 a1 a2 b1 b2
    rw [ev 15 k (by decide) (by decide)] at b1
    rw [ev 15 k' (by decide) (by decide)] at b2
    rw [ev 16 k (by decide) (by decide)] at a1
    rw [ev 16 k' (by decide) (by decide)] at a2
    have := hs (k + 1) (k' + 1) (by omega) (by omega) a1 a2 b1 b2
    omega
/-- retire with nothing to retire -/
theorem retire_none {P M : MM} {f u fl : Nat} (h : Inv P M f u) (hz : u = 0 ∨ M 16 f ≠ 2) : fX0_retire fl M = some (0, M) := by
  have hr := h.2.1
  have hc := cl6 hr.2.1
  have hi := inb6 hr.2.1
  have hu := hr.2.2.2
  unfold fX0_retire fX0_retire_0 fX0_retire_20
  rw [hr.1, hr.2.2.1]
  by_cases h0 : u = 0
  · rw [if_pos (by rw [h0]; rfl)]
  · rw [if_neg (nI_ne0 (by omega) (by omega)), hi, hc]
    rw [if_pos rfl, if_neg (hz.resolve_left h0)]
/-- the head of retire: to its place 83 -/
theorem retire_head {P M : MM} {f u fl o : Nat} (h : Inv P M f u) (hu0 : 0 < u) (h2 : M 16 f = 2) (h20 : M 20 f = 0) (h14 : M 14 f = nI o) :
    fX0_retire fl M = fX0_retire_83 fl (nI f) (nI o) (mu (mu (mu M 8 0 (M 8 0 + 1)) 12 0 (nI ((f + 1) % 6))) 13 0 (nI (u - 1))) := by
  have hr := h.2.1
  have hc := cl6 hr.2.1
  have hi := inb6 hr.2.1
  have hu := hr.2.2.2
  have n0 : ¬ nI u = 0 := nI_ne0 hu0 (by omega)
  have e12 : mu M 8 0 (M 8 0 + 1) 12 0 = nI f := by rw [mu_n _ _ _ (by decide)]; exact hr.1
  have e13 : mu (mu M 8 0 (M 8 0 + 1)) 12 0 (nI ((f + 1) % 6)) 13 0 = nI u := by rw [mu_n _ _ _ (by decide), mu_n _ _ _ (by decide)]; exact hr.2.2.1
  have hd : nI u - 1 = nI (u - 1) := by
    obtain ⟨v, rfl⟩ : ∃ v, u = v + 1 := ⟨u - 1, by omega⟩
    exact nI_pred v
  simp only [fX0_retire, fX0_retire_0, hr.1, hr.2.2.1, n0, if_false, hi, if_true, hc, h2, fX0_retire_27, h20, h14, fX0_retire_50, fX0_retire_60, fX0_retire_73, e12, rem6' hr.2.1, e13, hd]
theorem retire_trap {P M : MM} {f u fl : Nat} (h : Inv P M f u) (hu0 : 0 < u) (h2 : M 16 f = 2) (h20 : M 20 f ≠ 0) : fX0_retire fl M = some (0, mu M 7 0 3) := by
  have hr := h.2.1
  have hc := cl6 hr.2.1
  have hi := inb6 hr.2.1
  have n0 : ¬ nI u = 0 := nI_ne0 hu0 (by have := hr.2.2.2; omega)
  simp only [fX0_retire, fX0_retire_0, hr.1, hr.2.2.1, n0, if_false, hi, if_true, hc, h2, fX0_retire_27, h20, fX0_retire_41]
/-- from its place 157 on (not HALT) -/
theorem retire_157 {M : MM} {f fl o : Nat} (hfl : 7 ≤ fl) (hf : f < 6) (ho : o < 8) : ∃ M', fX0_retire_157 fl (nI f) (nI o) M = some (1, M') ∧
    ((¬ (o = 6 ∧ M 18 f ≠ M 21 f) ∧ M' = mu M 6 0 (if o < 6 then M 15 f + 1 else M 18 f)) ∨
     ((o = 6 ∧ M 18 f ≠ M 21 f) ∧ (∀ a, a ≠ 6 → a ≠ 10 → a ≠ 11 → a ≠ 12 → a ≠ 13 → a ≠ 27 → M' a = M a) ∧ M' 6 0 = M 18 f ∧ M' 10 0 = M 18 f ∧ M' 11 0 = 1 ∧ M' 12 0 = 0 ∧ M' 13 0 = 0 ∧ ∀ r, r < 4 → M' 27 r = -1)) := by
  have hc := cl6 hf
  have hi := inb6 hf
  have d8 : (nI o = 8) = (o = 8) := nIe (by omega) 8 (by decide)
  have d6 : (nI o = 6) = (o = 6) := nIe (by omega) 6 (by decide)
  have dl : (nI o < 6) = (o < 6) := propext (nI_ltI (a := o) (b := 6) (by omega) (by omega))
  have n8 : ¬ o = 8 := by omega
  have e1 : fX0_retire_157 fl (nI f) (nI o) M = fX0_retire_197 fl (nI f) (nI o) (mu M 6 0 (if o < 6 then M 15 f + 1 else M 18 f)) := by
    unfold fX0_retire_157
    rw [if_neg (by rw [d8]; exact n8), hi, hc]
    simp only [dl, if_true, fX0_retire_194]
    by_cases h : o < 6
    · rw [if_pos h, if_pos h]
    · rw [if_neg h, if_neg h]
  rw [e1]
  have e18 : ∀ v, mu M 6 0 v 18 = M 18 := fun v => mu_n _ _ _ (by decide)
  have e21 : ∀ v, mu M 6 0 v 21 = M 21 := fun v => mu_n _ _ _ (by decide)
  by_cases h6 : o = 6 ∧ M 18 f ≠ M 21 f
  · have hn : ¬ o < 6 := by omega
    rw [if_neg hn]
    obtain ⟨M', em, r1, r2, r3, r4, r5, r6⟩ := refetch_spec (fl := fl) (x := M 18 f) (M := mu M 6 0 (M 18 f)) hfl
    refine ⟨M', ?_, Or.inr ⟨h6, ?_, ?_, r2, r3, r4, r5, r6⟩⟩
    · have e6 : mu M 6 0 (M 18 f) 6 0 = M 18 f := by simp [mu_ap]
      unfold fX0_retire_197
      rw [if_pos (by rw [d6]; exact h6.1), hi, hc, e18, e21]
      simp only [if_true]
      rw [if_neg h6.2, e6, em]
      rfl
    · intro a a1 a2 a3 a4 a5 a6
      rw [r1 a a2 a3 a4 a5 a6, mu_n _ _ _ a1]
    · rw [r1 6 (by decide) (by decide) (by decide) (by decide) (by decide)]; simp [mu_ap]
  · refine ⟨_, ?_, Or.inl ⟨h6, rfl⟩⟩
    unfold fX0_retire_197 fX0_retire_226
    rw [hi, hc, e18, e21]
    by_cases z : o = 6
    · have z2 : M 18 f = M 21 f := by
        by_cases y : M 18 f = M 21 f
        · exact y
        · exact absurd ⟨z, y⟩ h6
      rw [if_pos (by rw [d6]; exact z), if_pos rfl, if_pos rfl, if_pos z2]
    · rw [if_neg (by rw [d6]; exact z)]
theorem and7 (x : Int32) : (x &&& 7).toNatClampNeg < 8 := by
  obtain ⟨j, hj, e⟩ := pk_andE x (m := 7) 3 (by decide)
  rw [e, nI_clamp (by omega)]; exact hj
theorem retire_spec {P M : MM} {f u fl : Nat} (hP : PrOK P) (hfl : 7 ≤ fl) (h : Inv P M f u) (hu0 : 0 < u) (h2 : M 16 f = 2) (hrun : M 7 0 = 1) :
    (trp P (M 6 0) (M 4, M 5) ∧ fX0_retire fl M = some (0, mu M 7 0 3)) ∨
    (¬ trp P (M 6 0) (M 4, M 5) ∧ ∃ M', fX0_retire fl M = some (1, M') ∧ Pgm P M' ∧ (M' 4, M' 5) = exS P (M 6 0) (M 4, M 5) ∧ M' 8 0 = M 8 0 + 1 ∧ M' 6 0 = nx P (M 6 0) (M 4, M 5) ∧
      ((iop P (M 6 0) = 8 ∧ M' 7 0 = 2) ∨ (iop P (M 6 0) ≠ 8 ∧ M' 7 0 = 1 ∧ ∃ f' u', Inv P M' f' u'))) := by
  have hI := h
  obtain ⟨hp, hr, he, hc, hf, hm, hs⟩ := h
  have hf6 := hr.2.1
  have z0 : slt f 0 = f := slt_z hf6
  have c0 := cl6 hf6
  have i0 := inb6 hf6
  have e15 : M 15 f = M 6 0 := by have := hc.1 hu0; unfold rv at this; rw [z0] at this; exact this
  obtain ⟨c1, c2, c3, c4, c5, c6, c7, c8, c9, c10, c11⟩ := he 0 hu0
  have rd := c10 (by unfold rv; rw [z0]; exact h2)
  have m23 := (c4 (by unfold rv; rw [z0, h2]; decide)).1
  have x25 : uL (iop P (M 6 0)) → M 25 f = M 4 (xl P (M 6 0)) := by
    rcases c6 with ⟨-, y⟩ | ⟨k', y, -⟩
    · unfold rv at y
      simp only [z0, e15] at y
      exact y
    · omega
  unfold Rdy at rd
  unfold rv at rd c1 c3 c8
  simp only [z0, e15] at rd c1 c3 c8
  have rd : (iop P (M 6 0) ≤ 4 → M 18 f = val P (M 6 0) (M 4, M 5)) ∧ (iop P (M 6 0) = 6 → M 18 f = if M 4 (ia P (M 6 0)) = 0 then inn P (M 6 0) else M 6 0 + 1) ∧ (iop P (M 6 0) = 5 → M 19 f = M 4 (ib P (M 6 0)) &&& 7) ∧ (M 20 f = 0 ↔ ¬ trp P (M 6 0) (M 4, M 5)) := rd
  obtain ⟨d1, d2, d3, d4⟩ := rd
  by_cases ht : trp P (M 6 0) (M 4, M 5)
  · exact Or.inl ⟨ht, retire_trap hI hu0 h2 (fun z => (d4.mp z) ht)⟩
  · have h20 := d4.mpr ht
    refine Or.inr ⟨ht, ?_⟩
    have h9 : iop P (M 6 0) ≤ 9 := iop_le hP _
    have hn9 : iop P (M 6 0) ≠ 9 := fun z => ht (Or.inl z)
    rw [retire_head (fl := fl) hI hu0 h2 h20 c1]
    obtain ⟨M1, eM1⟩ : ∃ M1, M1 = mu (mu (mu M 8 0 (M 8 0 + 1)) 12 0 (nI ((f + 1) % 6))) 13 0 (nI (u - 1)) := ⟨_, rfl⟩
    rw [← eM1]
    have r1 : ∀ a, a ≠ 8 → a ≠ 12 → a ≠ 13 → M1 a = M a := fun a a1 a2 a3 => by rw [eM1, mu_n _ _ _ a3, mu_n _ _ _ a2, mu_n _ _ _ a1]
    have m8 : M1 8 0 = M 8 0 + 1 := by rw [eM1]; simp [mu_ap]
    have m12 : M1 12 0 = nI ((f + 1) % 6) := by rw [eM1]; simp [mu_ap]
    have m13 : M1 13 0 = nI (u - 1) := by rw [eM1]; simp [mu_ap]
    -- what is stored
    obtain ⟨M2, e2, q2, qS, q27⟩ : ∃ M2 : MM, fX0_retire_83 fl (nI f) (nI (iop P (M 6 0))) M1 = fX0_retire_157 fl (nI f) (nI (iop P (M 6 0))) M2 ∧ (∀ a, a ≠ 4 → a ≠ 5 → a ≠ 27 → M2 a = M1 a) ∧ (M2 4, M2 5) = exS P (M 6 0) (M 4, M 5) ∧ (∀ r, r < 4 → M2 27 r = if (iop P (M 6 0) ≤ 4 ∧ ia P (M 6 0) = r) ∧ M 27 r = nI f then -1 else M 27 r) := by
      by_cases h4 : iop P (M 6 0) ≤ 4
      · have hn : ¬ (4 : Int32) < nI (iop P (M 6 0)) := nI_nlt (a := 4) h4 (by omega)
        have ha := ia_lt P (M 6 0)
        have ca := cl4 ha
        have ia' := inb4 ha
        have t22 : M1 22 f = nI (ia P (M 6 0)) := by rw [r1 22 (by decide) (by decide) (by decide)]; exact c3 h4
        have t18 : M1 18 f = val P (M 6 0) (M 4, M 5) := by rw [r1 18 (by decide) (by decide) (by decide)]; exact d1 h4
        have t27 : M1 27 = M 27 := r1 27 (by decide) (by decide) (by decide)
        have A1 : fX0_retire_83 fl (nI f) (nI (iop P (M 6 0))) M1 = fX0_retire_105 fl (nI f) (nI (iop P (M 6 0))) (mu M1 4 (ia P (M 6 0)) (val P (M 6 0) (M 4, M 5))) := by
          simp only [fX0_retire_83, hn, if_false, i0, c0, if_true, t22, t18, ia', ca]
        have hS4 : ∀ X : MM, X 4 = upd (M1 4) (ia P (M 6 0)) (val P (M 6 0) (M 4, M 5)) → X 5 = M1 5 → (X 4, X 5) = exS P (M 6 0) (M 4, M 5) := by
          intro X x4 x5
          unfold exS
          rw [if_pos h4, if_neg (by omega), x4, x5, r1 4 (by decide) (by decide) (by decide), r1 5 (by decide) (by decide) (by decide)]
        have b22 : mu M1 4 (ia P (M 6 0)) (val P (M 6 0) (M 4, M 5)) 22 f = nI (ia P (M 6 0)) := by rw [mu_n _ _ _ (by decide)]; exact t22
        have b27 : mu M1 4 (ia P (M 6 0)) (val P (M 6 0) (M 4, M 5)) 27 = M 27 := by rw [mu_n _ _ _ (by decide)]; exact t27
        by_cases hmk : M 27 (ia P (M 6 0)) = nI f
        · refine ⟨mu (mu M1 4 (ia P (M 6 0)) (val P (M 6 0) (M 4, M 5))) 27 (ia P (M 6 0)) (-1), ?_, ?_, ?_, ?_⟩
          · rw [A1]
            simp only [fX0_retire_105, i0, c0, if_true, b22, ia', ca, b27, hmk, nb_m1]
          · intro a a1 a2 a3; rw [mu_n _ _ _ a3, mu_n _ _ _ a1]
          · exact hS4 _ (by rw [mu_n _ _ _ (by decide), mu_s]) (by rw [mu_n _ _ _ (by decide), mu_n _ _ _ (by decide)])
          · intro r hr4
            rw [mu_s, b27]
            by_cases hra : ia P (M 6 0) = r
            · subst hra; rw [if_pos ⟨⟨h4, rfl⟩, hmk⟩]; exact pk_us
            · rw [if_neg (fun z => hra z.1.2), pk_un (fun z => hra z.symm)]
        · refine ⟨mu M1 4 (ia P (M 6 0)) (val P (M 6 0) (M 4, M 5)), ?_, ?_, ?_, ?_⟩
          · rw [A1]
            simp only [fX0_retire_105, i0, c0, if_true, b22, ia', ca, b27, hmk, if_false]
          · intro a a1 a2 a3; rw [mu_n _ _ _ a1]
          · exact hS4 _ (by rw [mu_s]) (by rw [mu_n _ _ _ (by decide)])
          · intro r hr4
            rw [b27]
            by_cases hra : ia P (M 6 0) = r
            · subst hra; rw [if_neg (fun z => hmk z.2)]
            · rw [if_neg (fun z => hra z.1.2)]
      · have hn : (4 : Int32) < nI (iop P (M 6 0)) := nI_lt (a := 4) (by omega) (by omega)
        have t27 : M1 27 = M 27 := r1 27 (by decide) (by decide) (by decide)
        have d5 : (nI (iop P (M 6 0)) = 5) = (iop P (M 6 0) = 5) := nIe h9 5 (by decide)
        by_cases h5 : iop P (M 6 0) = 5
        · have t19 : M1 19 f = M 4 (ib P (M 6 0)) &&& 7 := by rw [r1 19 (by decide) (by decide) (by decide)]; exact d3 h5
          have t25 : M1 25 f = M 4 (ia P (M 6 0)) := by
            rw [r1 25 (by decide) (by decide) (by decide), x25 ⟨by omega, by omega⟩, show xl P (M 6 0) = ia P (M 6 0) from if_pos (by omega)]
          refine ⟨mu M1 5 (M 4 (ib P (M 6 0)) &&& 7).toNatClampNeg (M 4 (ia P (M 6 0))), ?_, ?_, ?_, ?_⟩
          · have a7 := inb_and7 (M 4 (ib P (M 6 0)))
            simp only [fX0_retire_83, hn, if_true, d5]
            rw [if_pos h5]
            simp only [i0, c0, if_true, t19, t25, a7]
          · intro a a1 a2 a3; rw [mu_n _ _ _ a2]
          · unfold exS
            rw [if_neg h4, if_pos h5, mu_s, mu_n _ _ _ (by decide), r1 4 (by decide) (by decide) (by decide), r1 5 (by decide) (by decide) (by decide)]
          · intro r hr4
            rw [mu_n _ _ _ (by decide), t27, if_neg (fun z => h4 z.1.1)]
        · refine ⟨M1, ?_, fun _ _ _ _ => rfl, ?_, ?_⟩
          · simp only [fX0_retire_83, hn, if_true, d5]
            rw [if_neg h5]
          · unfold exS
            rw [if_neg h4, if_neg h5, r1 4 (by decide) (by decide) (by decide), r1 5 (by decide) (by decide) (by decide)]
          · intro r hr4
            rw [t27, if_neg (fun z => h4 z.1.1)]
    rw [e2]
    have k : ∀ a, a ≠ 4 → a ≠ 5 → a ≠ 8 → a ≠ 12 → a ≠ 13 → a ≠ 27 → M2 a = M a := fun a a1 a2 a3 a4 a5 a6 => by rw [q2 a a1 a2 a6, r1 a a3 a4 a5]
    have hpg : ∀ X : MM, X 0 = M2 0 → X 1 = M2 1 → X 2 = M2 2 → X 3 = M2 3 → Pgm P X := by
      intro X x0 x1 x2 x3
      unfold Pgm
      rw [x0, x1, x2, x3, k 0 (by decide) (by decide) (by decide) (by decide) (by decide) (by decide), k 1 (by decide) (by decide) (by decide) (by decide) (by decide) (by decide), k 2 (by decide) (by decide) (by decide) (by decide) (by decide) (by decide), k 3 (by decide) (by decide) (by decide) (by decide) (by decide) (by decide)]
      exact hp
    have k8 : M2 8 0 = M 8 0 + 1 := by rw [q2 8 (by decide) (by decide) (by decide)]; exact m8
    have k12 : M2 12 0 = nI ((f + 1) % 6) := by rw [q2 12 (by decide) (by decide) (by decide)]; exact m12
    have k13 : M2 13 0 = nI (u - 1) := by rw [q2 13 (by decide) (by decide) (by decide)]; exact m13
    have k6 : M2 6 = M 6 := k 6 (by decide) (by decide) (by decide) (by decide) (by decide) (by decide)
    have k7 : M2 7 = M 7 := k 7 (by decide) (by decide) (by decide) (by decide) (by decide) (by decide)
    have k15 : M2 15 = M 15 := k 15 (by decide) (by decide) (by decide) (by decide) (by decide) (by decide)
    have k18 : M2 18 = M 18 := k 18 (by decide) (by decide) (by decide) (by decide) (by decide) (by decide)
    have k21 : M2 21 = M 21 := k 21 (by decide) (by decide) (by decide) (by decide) (by decide) (by decide)
    by_cases h8 : iop P (M 6 0) = 8
    · refine ⟨mu M2 7 0 2, ?_, ?_, ?_, ?_, ?_, Or.inl ⟨h8, by simp [mu_ap]⟩⟩
      · have d8 : (nI (iop P (M 6 0)) = 8) = (iop P (M 6 0) = 8) := nIe h9 8 (by decide)
        unfold fX0_retire_157 fX0_retire_168
        rw [if_pos (by rw [d8]; exact h8)]
      · exact hpg _ (mu_n _ _ _ (by decide)) (mu_n _ _ _ (by decide)) (mu_n _ _ _ (by decide)) (mu_n _ _ _ (by decide))
      · rw [mu_n _ _ _ (by decide), mu_n _ _ _ (by decide)]; exact qS
      · rw [mu_n _ _ _ (by decide)]; exact k8
      · rw [mu_n _ _ _ (by decide), k6]
        unfold nx
        rw [if_neg (by omega), if_neg (by omega), if_pos h8]
    · have hlt8 : iop P (M 6 0) < 8 := by omega
      obtain ⟨M3, e3, cs⟩ := retire_157 (M := M2) hfl hf6 hlt8
      rw [k15, k18, k21] at cs
      -- where it goes on
      have hnx : (if iop P (M 6 0) < 6 then M 15 f + 1 else M 18 f) = nx P (M 6 0) (M 4, M 5) := by
        unfold nx
        by_cases q6 : iop P (M 6 0) = 6
        · rw [if_neg (by omega), if_pos q6]; exact d2 q6
        · by_cases q7 : iop P (M 6 0) = 7
          · rw [if_neg (by omega), if_neg q6, if_pos q7]; exact c8 (Or.inl q7)
          · rw [if_pos (by omega), if_neg q6, if_neg q7, if_neg h8, e15]
      refine ⟨M3, e3, ?_⟩
      rcases cs with ⟨w1, w2⟩ | ⟨w1, w2, w3, w4, w5, w6, w7, w8⟩
      · rw [hnx] at w2
        have v : ∀ a, a ≠ 6 → M3 a = M2 a := fun a ha => by rw [w2, mu_n _ _ _ ha]
        have v6 : M3 6 0 = nx P (M 6 0) (M 4, M 5) := by rw [w2]; simp [mu_ap]
        refine ⟨hpg _ (v 0 (by decide)) (v 1 (by decide)) (v 2 (by decide)) (v 3 (by decide)), by rw [v 4 (by decide), v 5 (by decide)]; exact qS, by rw [v 8 (by decide)]; exact k8, v6, Or.inr ⟨h8, by rw [v 7 (by decide), k7]; exact hrun, (f + 1) % 6, u - 1, ?_⟩⟩
        refine inv_retire hI hu0 h2 (by rw [e15]; exact hlt8) ?_ ?_ ?_ ?_ ?_ ?_
        · intro a a1 a2 a3 a4 a5 a6 a7
          rw [v a a3, k a a1 a2 a4 a5 a6 a7]
        · rw [v 4 (by decide), v 5 (by decide), e15]; exact qS
        · rw [v 12 (by decide)]; exact k12
        · rw [v 13 (by decide)]; exact k13
        · rw [v6, e15]
          unfold nx nxt
          by_cases q6 : iop P (M 6 0) = 6
          · rw [if_pos q6, if_pos q6]
            have : M 18 f = M 21 f := by
              by_cases y : M 18 f = M 21 f
              · exact y
              · exact absurd ⟨q6, y⟩ w1
            rw [← this]; exact (d2 q6).symm
          · rw [if_neg q6, if_neg q6, if_neg h8]
        · intro r hr4
          rw [v 27 (by decide), e15]; exact q27 r hr4
      · have q6 := w1.1
        have v6 : M 18 f = nx P (M 6 0) (M 4, M 5) := by rw [← hnx, if_neg (by omega)]
        refine ⟨hpg _ (w2 0 (by decide) (by decide) (by decide) (by decide) (by decide) (by decide)) (w2 1 (by decide) (by decide) (by decide) (by decide) (by decide) (by decide)) (w2 2 (by decide) (by decide) (by decide) (by decide) (by decide) (by decide)) (w2 3 (by decide) (by decide) (by decide) (by decide) (by decide) (by decide)), ?_, ?_, w3.trans v6, Or.inr ⟨h8, ?_, 0, 0, ?_⟩⟩
        · rw [w2 4 (by decide) (by decide) (by decide) (by decide) (by decide) (by decide), w2 5 (by decide) (by decide) (by decide) (by decide) (by decide) (by decide)]; exact qS
        · rw [w2 8 (by decide) (by decide) (by decide) (by decide) (by decide) (by decide)]; exact k8
        · rw [w2 7 (by decide) (by decide) (by decide) (by decide) (by decide) (by decide), k7]; exact hrun
        · exact inv_empty (hpg _ (w2 0 (by decide) (by decide) (by decide) (by decide) (by decide) (by decide)) (w2 1 (by decide) (by decide) (by decide) (by decide) (by decide) (by decide)) (w2 2 (by decide) (by decide) (by decide) (by decide) (by decide) (by decide)) (w2 3 (by decide) (by decide) (by decide) (by decide) (by decide) (by decide))) w6 w7 (by rw [w4, w3]) w5 w8
end
section
/-! PURE PART 10: a cycle, and how far the oldest still is -/
def cnt (M : MM) (f : Nat) : Nat → Nat
  | 0 => 0
  | j + 1 => cnt M f j + (if 0 < j ∧ M 16 (slt f j) ≠ 2 then 1 else 0)
theorem cnt_le (M : MM) (f : Nat) : ∀ j, cnt M f j ≤ j - 1 := by
  intro j
  induction j with
  | zero => exact Nat.le_refl 0
  | succ j ih =>
    unfold cnt
    by_cases h : 0 < j ∧ M 16 (slt f j) ≠ 2
    · rw [if_pos h]; omega
    · rw [if_neg h]; omega
theorem cnt_mono {M M' : MM} {f : Nat} : ∀ {j : Nat}, (∀ q, q < j → M' 16 (slt f q) ≠ 2 → M 16 (slt f q) ≠ 2) → cnt M' f j ≤ cnt M f j := by
  intro j
  induction j with
  | zero => intro _; exact Nat.le_refl 0
  | succ j ih =>
    intro h
    have := ih (fun q hq => h q (by omega))
    unfold cnt
    by_cases h1 : 0 < j ∧ M' 16 (slt f j) ≠ 2
    · rw [if_pos h1, if_pos ⟨h1.1, h j (by omega) h1.2⟩]; omega
    · rw [if_neg h1]; omega
theorem cnt_less {M M' : MM} {f k0 : Nat} (h0 : 0 < k0) (h1 : M 16 (slt f k0) ≠ 2) (h2 : M' 16 (slt f k0) = 2) : ∀ {j : Nat}, k0 < j → (∀ q, q < j → M' 16 (slt f q) ≠ 2 → M 16 (slt f q) ≠ 2) → cnt M' f j + 1 ≤ cnt M f j := by
  intro j
  induction j with
  | zero => intro h; omega
  | succ j ih =>
    intro hk h
    by_cases hkj : k0 = j
    · subst hkj
      have := cnt_mono (M := M) (M' := M') (f := f) (j := k0) (fun q hq => h q (by omega))
      unfold cnt
      rw [if_neg (fun z => z.2 h2), if_pos ⟨h0, h1⟩]; omega
    · have := ih (by omega) (fun q hq => h q (by omega))
      unfold cnt
      by_cases g1 : 0 < j ∧ M' 16 (slt f j) ≠ 2
      · rw [if_pos g1, if_pos ⟨g1.1, h j (by omega) g1.2⟩]; omega
      · rw [if_neg g1]; omega
/-- the oldest is ready within n cycles -/
def Pg (P M : MM) (f u n : Nat) : Prop :=
  (u = 0 ∧ 7 ≤ n) ∨ (0 < u ∧ M 16 (slt f 0) = 2) ∨ (0 < u ∧ M 16 (slt f 0) = 1 ∧ 1 ≤ n ∧ ∃ l, l ≤ n ∧ M 17 (slt f 0) = nI l ∧ l ≤ 5) ∨
  (0 < u ∧ M 16 (slt f 0) = 0 ∧ 6 ≤ n ∧ (slo (iop P (M 15 (slt f 0))) → ∀ q, q < u → ¬ sw P M (slt f q))) ∨
  (0 < u ∧ M 16 (slt f 0) = 0 ∧ ∃ j l, j < u ∧ sw P M (slt f j) ∧ M 17 (slt f j) = nI l ∧ l ≤ 5 ∧ 6 + (max l 1 - 1) + cnt M f j ≤ n ∧ slo (iop P (M 15 (slt f 0))))
theorem Pg_15 {P M : MM} {f u : Nat} (h : Inv P M f u) : Pg P M f u 15 := by
  have hu := h.2.1.2.2.2
  by_cases h0 : u = 0
  · exact Or.inl ⟨h0, by decide⟩
  · have hE := h.2.2.1
    have he := hE 0 (by omega)
    rcases he.2.1 with z | z | z
    · have z : M 16 (slt f 0) = 0 := z
      by_cases hs : slo (iop P (M 15 (slt f 0)))
      · by_cases hx : ∃ q, q < u ∧ sw P M (slt f q)
        · obtain ⟨j, hj, hsw⟩ := hx
          obtain ⟨l, hl, el⟩ := (hE j hj).2.2.2.2.1 hsw.1
          have := cnt_le M f j
          exact Or.inr (Or.inr (Or.inr (Or.inr ⟨by omega, z, j, l, hj, hsw, el, hl, by omega, hs⟩)))
        · exact Or.inr (Or.inr (Or.inr (Or.inl ⟨by omega, z, by decide, fun _ q hq y => hx ⟨q, hq, y⟩⟩)))
      · exact Or.inr (Or.inr (Or.inr (Or.inl ⟨by omega, z, by decide, fun y => absurd y hs⟩)))
    · have z : M 16 (slt f 0) = 1 := z
      obtain ⟨l, hl, el⟩ := he.2.2.2.2.1 z
      exact Or.inr (Or.inr (Or.inl ⟨by omega, z, by decide, l, by omega, el, hl⟩))
    · exact Or.inr (Or.inl ⟨by omega, z⟩)
theorem cycle_spec {P M : MM} {f u fl : Nat} (hP : PrOK P) (hfl : 7 ≤ fl) (h : Inv P M f u) :
    ∃ M1 M2 M3 u3, fX0_complete fl M = some (0, M1) ∧ fX0_begin fl M1 = some (0, M2) ∧ fX0_issue fl M2 = some (0, M3) ∧ Inv P M3 f u3 ∧ (∀ a, 4 ≤ a → a ≤ 9 → M3 a = M a) ∧
      ((u = 0 ∨ M 16 f ≠ 2) → ∀ n, Pg P M f u (n + 1) → Pg P M3 f u3 n) := by
  obtain ⟨x1, M1, e1, hI1, row1, _, l1, st1⟩ := complete_spec (fl := fl) hP hfl h
  obtain ⟨y1, y2, M2, e2, hI2, row2, _, _, st2, _, hd2⟩ := begin_spec (fl := fl) hP hfl hI1
  obtain ⟨M3, u3, e3, hI3, hu3, hz3, row3, sl3, _⟩ := issue_spec (fl := fl) hP hI2
  have hf6 := h.2.1.2.1
  have hu := h.2.1.2.2.2
  have z0 : slt f 0 = f := slt_z hf6
  have r15 : M2 15 = M 15 := by rw [row2 15 (by decide) (by decide), row1 15 (by decide) (by decide) (by decide) (by decide) (by decide) (by decide) (by decide) (by decide) (by decide)]
  have r15' : M1 15 = M 15 := row1 15 (by decide) (by decide) (by decide) (by decide) (by decide) (by decide) (by decide) (by decide) (by decide)
  refine ⟨M1, M2, M3, u3, e1, e2, e3, hI3, ?_, ?_⟩
  · intro a a1 a2
    rw [row3 a a1 a2, row2 a (by omega) (by omega), row1 a (by omega) (by omega) (by omega) (by omega) (by omega) (by omega) (by omega) (by omega) (by omega)]
  · intro hh n hpg
    -- what complete did to the stages
    have dn : ∃ k0, (∀ q, q < k0 → q < u → ¬ thr M (slt f q)) ∧ (k0 < u → thr M (slt f k0)) ∧ ∀ q, q < u → M1 16 (slt f q) = if q = k0 then 2 else M 16 (slt f q) := by
      rcases st1 with ⟨-, q1, q2⟩ | ⟨-, k0, q0, q1, q2, q3⟩
      · exact ⟨u, fun q h1 _ => q1 q h1, fun z => by omega, fun q hq => by rw [if_neg (by omega)]; exact q2 q (by omega)⟩
      · exact ⟨k0, fun q h1 _ => q2 q h1, fun _ => q1, fun q hq => q3 q (by omega)⟩
    obtain ⟨k0, d1, d2, d3⟩ := dn
    rcases hpg with ⟨p1, p2⟩ | ⟨p1, p2⟩ | ⟨p1, p2, p3, l, p4, p5, p6⟩ | ⟨p1, p2, p3, p4⟩ | ⟨p1, p2, j, l, p3, p4, p5, p6, p7, p8⟩
    · obtain ⟨v1, v2⟩ := hz3 p1
      refine Or.inr (Or.inr (Or.inr (Or.inl ⟨by omega, v2, by omega, fun _ q hq => ?_⟩)))
      have : q = 0 := by omega
      subst this
      intro z
      rw [z.1] at v2; exact absurd v2 (by decide)
    · rw [z0] at p2
      rcases hh with hh | hh
      · omega
      · exact absurd p2 hh
    · -- the oldest works
      obtain ⟨l', a1, a2, a3⟩ := l1 0 p1 p2
      have : l = l' := nI_inj (by omega) (by omega) (p5.symm.trans a2)
      subst this
      by_cases ht : l ≤ 1
      · have th : thr M (slt f 0) := by
          refine ⟨p2, ?_⟩
          rcases (show l = 0 ∨ l = 1 by omega) with e | e
          · rw [e] at p5; exact Or.inl p5
          · rw [e] at p5; exact Or.inr p5
        have hk0 : k0 = 0 := by
          by_cases z : k0 = 0
          · exact z
          · exact absurd th (d1 0 (by omega) p1)
        have v1 : M1 16 (slt f 0) = 2 := by rw [d3 0 p1, if_pos hk0.symm]
        have v2 : M2 16 (slt f 0) = 2 := by rw [((st2 0 (by omega)).1 (by rw [v1]; decide)).1]; exact v1
        exact Or.inr (Or.inl ⟨by omega, by rw [sl3 16 0 (by decide) (by decide) p1]; exact v2⟩)
      · have nth : ¬ thr M (slt f 0) := by
          rintro ⟨-, z | z⟩
          · have : l = 0 := nI_inj (by omega) (by omega) (p5.symm.trans z)
            omega
          · have : l = 1 := nI_inj (by omega) (by omega) (p5.symm.trans z)
            omega
        have hk0 : 0 ≠ k0 := fun z => by subst z; exact nth (d2 p1)
        have v1 : M1 16 (slt f 0) = 1 := by rw [d3 0 p1, if_neg hk0]; exact p2
        have v2 := (st2 0 (by omega)).1 (by rw [v1]; decide)
        refine Or.inr (Or.inr (Or.inl ⟨by omega, ?_, by omega, l - 1, by omega, ?_, by omega⟩))
        · rw [sl3 16 0 (by decide) (by decide) p1, v2.1]; exact v1
        · rw [sl3 17 0 (by decide) (by decide) p1, v2.2]; exact a3
    · -- the oldest begins
      have nth : ¬ thr M (slt f 0) := fun z => by rw [z.1] at p2; exact absurd p2 (by decide)
      have hk0 : 0 ≠ k0 := fun z => by subst z; exact nth (d2 p1)
      have v1 : M1 16 (slt f 0) = 0 := by rw [d3 0 p1, if_neg hk0]; exact p2
      have v2 : M2 16 (slt f 0) = 1 := by
        refine hd2 (by omega) v1 (fun hs q hq z => ?_)
        rw [r15'] at hs
        obtain ⟨z1, z2⟩ := z
        rw [r15'] at z2
        rw [d3 q hq] at z1
        by_cases y : q = k0
        · rw [if_pos y] at z1; exact absurd z1 (by decide)
        · rw [if_neg y] at z1; exact p4 hs q hq ⟨z1, z2⟩
      obtain ⟨l, hl, el⟩ := (hI2.2.2.1 0 p1).2.2.2.2.1 v2
      refine Or.inr (Or.inr (Or.inl ⟨by omega, ?_, by omega, l, by omega, ?_, hl⟩))
      · rw [sl3 16 0 (by decide) (by decide) p1]; exact v2
      · rw [sl3 17 0 (by decide) (by decide) p1]; exact el
    · -- the oldest waits for the slow unit
      have nth : ¬ thr M (slt f 0) := fun z => by rw [z.1] at p2; exact absurd p2 (by decide)
      have hk0 : 0 ≠ k0 := fun z => by subst z; exact nth (d2 p1)
      have v1 : M1 16 (slt f 0) = 0 := by rw [d3 0 p1, if_neg hk0]; exact p2
      by_cases hj : j = k0
      · -- the slow one is through
        have v2 : M2 16 (slt f 0) = 1 := by
          refine hd2 (by omega) v1 (fun hs q hq z => ?_)
          obtain ⟨z1, z2⟩ := z
          rw [r15'] at z2
          rw [d3 q hq] at z1
          by_cases y : q = k0
          · rw [if_pos y] at z1; exact absurd z1 (by decide)
          · rw [if_neg y] at z1
            have := h.2.2.2.2.2.2 q j hq p3 z1 p4.1 z2 p4.2
            exact y (this.trans hj)
        obtain ⟨l2, hl2, el2⟩ := (hI2.2.2.1 0 p1).2.2.2.2.1 v2
        refine Or.inr (Or.inr (Or.inl ⟨by omega, ?_, by omega, l2, by omega, ?_, hl2⟩))
        · rw [sl3 16 0 (by decide) (by decide) p1]; exact v2
        · rw [sl3 17 0 (by decide) (by decide) p1]; exact el2
      · have w1 : M1 16 (slt f j) = 1 := by rw [d3 j p3, if_neg hj]; exact p4.1
        have w2 := (st2 j (by omega)).1 (by rw [w1]; decide)
        obtain ⟨l', a1, a2, a3⟩ := l1 j p3 p4.1
        have : l = l' := nI_inj (by omega) (by omega) (p5.symm.trans a2)
        subst this
        have w16 : M2 16 (slt f j) = 1 := w2.1.trans w1
        have w17 : M2 17 (slt f j) = nI (l - 1) := w2.2.trans a3
        have hj0 : 0 < j := by
          by_cases z : j = 0
          · subst z; rw [p4.1] at p2; exact absurd p2 (by decide)
          · omega
        have v2 : M2 16 (slt f 0) = 0 := by
          rcases (st2 0 (by omega)).2 v1 with z | z
          · exact z
          · have s0 : slo (iop P (rv M2 f 15 0)) := by show slo (iop P (M2 15 (slt f 0))); rw [r15]; exact p8
            have sj : slo (iop P (rv M2 f 15 j)) := by show slo (iop P (M2 15 (slt f j))); rw [r15]; exact p4.2
            have := hI2.2.2.2.2.2.2 0 j p1 p3 z w16 s0 sj
            omega
        have mono1 : ∀ q, q < j → M1 16 (slt f q) ≠ 2 → M 16 (slt f q) ≠ 2 := by
          intro q hq z
          rw [d3 q (by omega)] at z
          by_cases y : q = k0
          · rw [if_pos y] at z; exact absurd rfl z
          · rw [if_neg y] at z; exact z
        have mono2 : ∀ q, q < j → M3 16 (slt f q) ≠ 2 → M1 16 (slt f q) ≠ 2 := by
          intro q hq z y
          rw [sl3 16 q (by decide) (by decide) (by omega), ((st2 q (by omega)).1 (by rw [y]; decide)).1] at z
          exact z y
        have c3 : cnt M3 f j ≤ cnt M1 f j := cnt_mono mono2
        have cb : 6 + (max (l - 1) 1 - 1) + cnt M3 f j ≤ n := by
          by_cases ht : l ≤ 1
          · have th : thr M (slt f j) := by
              refine ⟨p4.1, ?_⟩
              rcases (show l = 0 ∨ l = 1 by omega) with e | e
              · rw [e] at p5; exact Or.inl p5
              · rw [e] at p5; exact Or.inr p5
            have hkj : k0 < j := by
              by_cases z : k0 < j
              · exact z
              · exact absurd th (d1 j (by omega) p3)
            have t0 := d2 (by omega)
            have c1 : cnt M1 f j + 1 ≤ cnt M f j := cnt_less (k0 := k0) (by omega) (by rw [t0.1]; decide) (by rw [d3 k0 (by omega), if_pos rfl]) hkj mono1
            omega
          · have c1 : cnt M1 f j ≤ cnt M f j := cnt_mono mono1
            omega
        refine Or.inr (Or.inr (Or.inr (Or.inr ⟨by omega, ?_, j, l - 1, by omega, ⟨?_, ?_⟩, ?_, by omega, cb, ?_⟩)))
        · rw [sl3 16 0 (by decide) (by decide) p1]; exact v2
        · rw [sl3 16 j (by decide) (by decide) p3]; exact w16
        · rw [sl3 15 j (by decide) (by decide) p3, r15]; exact p4.2
        · rw [sl3 17 j (by decide) (by decide) p3]; exact w17
        · rw [sl3 15 0 (by decide) (by decide) p1, r15]; exact p8
end
section
/-! PURE PART 11: the model's step -/
set_option maxHeartbeats 2000000 in
theorem step_spec {P N : MM} {fl : Nat} (hP : PrOK P) (h1 : N 1 = P 0) (h2 : N 2 = P 1) (h3 : N 3 = P 2) (h0 : N 0 0 = P 3 0) :
    (trp P (N 7 0) (N 4, N 5) ∧ fX1_step fl N = some (0, N)) ∨
    (¬ trp P (N 7 0) (N 4, N 5) ∧ ∃ N', fX1_step fl N = some (1, N') ∧ (∀ a, a ≠ 4 → a ≠ 5 → a ≠ 6 → a ≠ 7 → N' a = N a) ∧ (N' 4, N' 5) = exS P (N 7 0) (N 4, N 5) ∧ N' 7 0 = nx P (N 7 0) (N 4, N 5) ∧ N' 6 0 = if iop P (N 7 0) = 8 then 2 else N 6 0) := by
  by_cases hout : N 7 0 < 0 ∨ N 0 0 ≤ N 7 0
  · refine Or.inl ⟨Or.inl (out_pr (by rw [← h0]; exact hout)), ?_⟩
    unfold fX1_step fX1_step_0 fX1_step_18
    by_cases z : N 7 0 < 0
    · rw [if_pos z]
    · have z2 := hout.resolve_left z
      rw [if_neg z, if_neg (by rw [Int32.le_iff_toInt_le] at z2; rw [Int32.lt_iff_toInt_lt]; omega)]
  · have hn1 : ¬ N 7 0 < 0 := fun z => hout (Or.inl z)
    have hn2 : ¬ N 0 0 ≤ N 7 0 := fun z => hout (Or.inr z)
    have hlt' : N 7 0 < N 0 0 := by
      rw [Int32.le_iff_toInt_le] at hn2
      rw [Int32.lt_iff_toInt_lt]; omega
    obtain ⟨a, o, g, ha, ea, ho, hg, eo, eg, i1, i2, i3, i4⟩ := in_pr hP hn1 (by rw [← h0]; exact hlt')
    have ca : (nI a).toNatClampNeg = a := nI_clamp (by omega)
    have ia16 : inb (nI a) 16 = true := inb_nI ha (by decide)
    have innE : inn P (N 7 0) = N 3 a := by unfold inn; rw [ea, ca, h3]
    have la : g % 4 < 4 := Nat.mod_lt _ (by decide)
    have lb : g / 4 % 4 < 4 := Nat.mod_lt _ (by decide)
    have lc : g / 16 < 4 := by omega
    have ba := inb4 la
    have bb := inb4 lb
    have bc := inb4 lc
    have va := cl4 la
    have vb := cl4 lb
    have vc := cl4 lc
    have e1 : fX1_step fl N = fX1_step_77 fl (nI o) (nI (g % 4)) (nI (g / 4 % 4)) (nI (g / 16)) (N 7 0 + 1) N := by
      unfold fX1_step fX1_step_0
      rw [if_neg hn1, if_pos hlt', ea]
      simp only [ia16, if_true, ca, h1, eo, fX1_step_30, fX1_step_42, fX1_step_56, fX1_step_69, ea, h2, eg, ga hg, gb hg, gc hg]
    rw [e1]
    unfold trp exS val nx
    rw [i1, i2, i3, i4, innE]
    generalize hA : g % 4 = A at *
    generalize hB : g / 4 % 4 = B at *
    generalize hC : g / 16 = C at *
    have b7 := inb_and7 (N 4 B)
    rcases (show o = 0 ∨ o = 1 ∨ o = 2 ∨ o = 3 ∨ o = 4 ∨ o = 5 ∨ o = 6 ∨ o = 7 ∨ o = 8 by omega) with rfl | rfl | rfl | rfl | rfl | rfl | rfl | rfl | rfl
    · refine Or.inr ⟨by simp, mu (mu N 4 A (N 3 a)) 7 0 (N 7 0 + 1), ?_, fun b b1 b2 b3 b4 => by simp [mu, *], by simp [mu], by simp [mu_ap], by simp [mu_ap]⟩
      simp (decide := true) only [show nI 0 = (0 : Int32) from rfl, fX1_step_77, fX1_step_96, fX1_step_113, fX1_step_353, fX1_step_359, if_true, if_false, ea, ia16, ca, ba, va]
    · refine Or.inr ⟨by simp, mu (mu N 4 A (N 4 B + N 4 C)) 7 0 (N 7 0 + 1), ?_, fun b b1 b2 b3 b4 => by simp [mu, *], by simp [mu], by simp [mu_ap], by simp [mu_ap]⟩
      simp (decide := true) only [show nI 1 = (1 : Int32) from rfl, fX1_step_77, fX1_step_96, fX1_step_113, fX1_step_353, fX1_step_359, if_true, if_false, ba, va, bb, vb, bc, vc]
    · refine Or.inr ⟨by simp, mu (mu N 4 A (N 4 B * N 4 C)) 7 0 (N 7 0 + 1), ?_, fun b b1 b2 b3 b4 => by simp [mu, *], by simp [mu], by simp [mu_ap], by simp [mu_ap]⟩
      simp (decide := true) only [show nI 2 = (2 : Int32) from rfl, fX1_step_77, fX1_step_96, fX1_step_113, fX1_step_353, fX1_step_359, if_true, if_false, ba, va, bb, vb, bc, vc]
    · by_cases hz : N 4 C = 0
      · refine Or.inl ⟨Or.inr (Or.inl ⟨rfl, hz⟩), ?_⟩
        simp (decide := true) only [show nI 3 = (3 : Int32) from rfl, fX1_step_77, fX1_step_96, fX1_step_111, if_true, if_false, bc, vc, hz]
      · refine Or.inr ⟨by simp [hz], mu (mu N 4 A (N 4 B / N 4 C)) 7 0 (N 7 0 + 1), ?_, fun b b1 b2 b3 b4 => by simp [mu, *], by simp [mu, hz], by simp [mu_ap], by simp [mu_ap]⟩
        simp (decide := true) only [show nI 3 = (3 : Int32) from rfl, fX1_step_77, fX1_step_96, fX1_step_113, fX1_step_205, fX1_step_228, fX1_step_353, fX1_step_359, if_true, if_false, ba, va, bb, vb, bc, vc, hz]
    · by_cases hz : N 4 B < 0
      · refine Or.inl ⟨Or.inr (Or.inr ⟨Or.inl rfl, hz⟩), ?_⟩
        simp (decide := true) only [show nI 4 = (4 : Int32) from rfl, fX1_step_77, fX1_step_87, fX1_step_111, if_true, if_false, bb, vb, hz]
      · refine Or.inr ⟨by simp [hz], mu (mu N 4 A (N 5 (N 4 B &&& 7).toNatClampNeg)) 7 0 (N 7 0 + 1), ?_, fun b b1 b2 b3 b4 => by simp [mu, *], by simp [mu], by simp [mu_ap], by simp [mu_ap]⟩
        simp (decide := true) only [show nI 4 = (4 : Int32) from rfl, fX1_step_77, fX1_step_87, fX1_step_96, fX1_step_113, fX1_step_353, fX1_step_359, if_true, if_false, ba, va, bb, vb, hz, b7]
    · by_cases hz : N 4 B < 0
      · refine Or.inl ⟨Or.inr (Or.inr ⟨Or.inr rfl, hz⟩), ?_⟩
        simp (decide := true) only [show nI 5 = (5 : Int32) from rfl, fX1_step_77, fX1_step_87, fX1_step_111, if_true, if_false, bb, vb, hz]
      · refine Or.inr ⟨by simp [hz], mu (mu N 5 (N 4 B &&& 7).toNatClampNeg (N 4 A)) 7 0 (N 7 0 + 1), ?_, fun b b1 b2 b3 b4 => by simp [mu, *], by simp [mu], by simp [mu_ap], by simp [mu_ap]⟩
        simp (decide := true) only [show nI 5 = (5 : Int32) from rfl, fX1_step_77, fX1_step_87, fX1_step_96, fX1_step_113, fX1_step_353, fX1_step_359, if_true, if_false, ba, va, bb, vb, hz, b7]
    · by_cases hz : N 4 A = 0
      · refine Or.inr ⟨by simp, mu N 7 0 (N 3 a), ?_, fun b b1 b2 b3 b4 => by simp [mu, *], by simp [mu], by simp [mu_ap, hz], by simp [mu_ap]⟩
        simp (decide := true) only [show nI 6 = (6 : Int32) from rfl, fX1_step_77, fX1_step_96, fX1_step_113, fX1_step_317, fX1_step_353, fX1_step_359, if_true, if_false, ba, va, hz, ea, ia16, ca]
      · refine Or.inr ⟨by simp, mu N 7 0 (N 7 0 + 1), ?_, fun b b1 b2 b3 b4 => by simp [mu, *], by simp [mu], by simp [mu_ap, hz], by simp [mu_ap]⟩
        simp (decide := true) only [show nI 6 = (6 : Int32) from rfl, fX1_step_77, fX1_step_96, fX1_step_113, fX1_step_317, fX1_step_353, fX1_step_359, if_true, if_false, ba, va, hz]
    · refine Or.inr ⟨by simp, mu N 7 0 (N 3 a), ?_, fun b b1 b2 b3 b4 => by simp [mu, *], by simp [mu], by simp [mu_ap], by simp [mu_ap]⟩
      simp (decide := true) only [show nI 7 = (7 : Int32) from rfl, fX1_step_77, fX1_step_96, fX1_step_113, fX1_step_353, fX1_step_359, if_true, if_false, ea, ia16, ca]
    · refine Or.inr ⟨by simp, mu (mu N 6 0 2) 7 0 (N 7 0), ?_, fun b b1 b2 b3 b4 => by simp [mu, *], by simp [mu], by simp [mu_ap], by simp [mu_ap]⟩
      have e7 : mu N 6 0 2 7 0 = N 7 0 := by rw [mu_n _ _ _ (by decide)]
      simp (decide := true) only [show nI 8 = (8 : Int32) from rfl, fX1_step_77, fX1_step_96, fX1_step_113, fX1_step_347, fX1_step_353, fX1_step_359, if_true, if_false, e7]
end
section
/-! PURE PART 12: finish on both sides -/
def trb (P : MM) (p : Int32) (S : ST) : Bool := decide (iop P p = 9 ∨ (iop P p = 3 ∧ S.1 (ic P p) = 0) ∨ ((iop P p = 4 ∨ iop P p = 5) ∧ S.1 (ib P p) < 0))
theorem trb_t {P : MM} {p : Int32} {S : ST} (h : trp P p S) : trb P p S = true := decide_eq_true h
theorem trb_f {P : MM} {p : Int32} {S : ST} (h : ¬ trp P p S) : trb P p S = false := decide_eq_false h
/-- n steps of the plain machine, from numbers S, position p and state s: how many were carried out, and what is left -/
def runA (P : MM) : Nat → ST → Int32 → Int32 → Nat × ST × Int32 × Int32
  | 0, S, p, s => (0, S, p, s)
  | n + 1, S, p, s => if s = 1 then (if trb P p S = true then (0, S, p, 3) else
      ((runA P n (exS P p S) (nx P p S) (if iop P p = 8 then 2 else 1)).1 + 1, (runA P n (exS P p S) (nx P p S) (if iop P p = 8 then 2 else 1)).2)) else (0, S, p, s)
theorem runA_stop {P : MM} {n : Nat} {S : ST} {p s : Int32} (h : n = 0 ∨ s ≠ 1) : runA P n S p s = (0, S, p, s) := by
  cases n with
  | zero => rfl
  | succ n =>
    unfold runA
    rw [if_neg (h.resolve_left (by omega))]
theorem runA_trap {P : MM} {n : Nat} {S : ST} {p : Int32} (h : trp P p S) : runA P (n + 1) S p 1 = (0, S, p, 3) := by
  show (if (1 : Int32) = 1 then _ else _) = _
  rw [if_pos rfl, if_pos (trb_t h)]
theorem runA_step {P : MM} {n : Nat} {S : ST} {p : Int32} (h : ¬ trp P p S) : runA P (n + 1) S p 1 = ((runA P n (exS P p S) (nx P p S) (if iop P p = 8 then 2 else 1)).1 + 1, (runA P n (exS P p S) (nx P p S) (if iop P p = 8 then 2 else 1)).2) := by
  show (if (1 : Int32) = 1 then _ else _) = _
  rw [if_pos rfl, if_neg (by rw [trb_f h]; decide)]
/-! the model -/
theorem mf_loop {P : MM} {fl g : Nat} (hP : PrOK P) (hg : g ≤ 200) : ∀ (n c : Nat) (N : MM), N 1 = P 0 → N 2 = P 1 → N 3 = P 2 → N 0 0 = P 3 0 → c ≤ g → g - c + 2 ≤ n →
    ∃ N', fX1_finish_17 fl n (nI g) (nI c) N = some (nI (c + (runA P (g - c) (N 4, N 5) (N 7 0) (N 6 0)).1), N') ∧ N' 0 0 = N 0 0 ∧ N' 1 = N 1 ∧ N' 2 = N 2 ∧ N' 3 = N 3 ∧
      ((N' 4, N' 5), N' 7 0, N' 6 0) = (runA P (g - c) (N 4, N 5) (N 7 0) (N 6 0)).2 ∧ N' 8 0 = N 8 0 + nI (c + (runA P (g - c) (N 4, N 5) (N 7 0) (N 6 0)).1) := by
  intro n
  induction n with
  | zero => intro c N _ _ _ _ _ h; omega
  | succ n ih =>
    intro c N h1 h2 h3 h0 hc hn
    by_cases hstop : g - c = 0 ∨ N 6 0 ≠ 1
    · rw [runA_stop hstop]
      refine ⟨mu N 8 0 (N 8 0 + nI c), ?_, by simp [mu_ap], by simp [mu], by simp [mu], by simp [mu], by simp [mu], by simp [mu_ap]⟩
      unfold fX1_finish_17 fX1_finish_51 fX1_finish_61
      by_cases hz : g - c = 0
      · rw [if_pos (nI_le (by omega) (by omega))]; rfl
      · rw [if_neg (nI_ge (by omega) (by omega)), if_neg (hstop.resolve_left hz)]; rfl
    · have hlt : c < g := by omega
      have hrun : N 6 0 = 1 := Classical.not_not.mp (fun z => hstop (Or.inr z))
      obtain ⟨d, hd⟩ : ∃ d, g - c = d + 1 := ⟨g - c - 1, by omega⟩
      have e : fX1_finish_17 fl (n + 1) (nI g) (nI c) N = (fX1_step fl N).bind (fun q => fX1_finish_34 fl (fX1_finish_17 fl n) (nI g) (nI c) q.1 q.2) := by
        show (if nI g ≤ nI c then _ else _) = _
        rw [if_neg (nI_ge hlt (by omega)), if_pos hrun]
      rw [e, hrun, hd]
      rcases step_spec (fl := fl) hP h1 h2 h3 h0 with ⟨t1, t2⟩ | ⟨t1, N', t2, r1, r2, r3, r4⟩
      · rw [runA_trap t1, t2]
        obtain ⟨n', rfl⟩ : ∃ n', n = n' + 1 := ⟨n - 1, by omega⟩
        refine ⟨mu (mu N 6 0 3) 8 0 (N 8 0 + nI c), ?_, by simp [mu_ap], by simp [mu], by simp [mu], by simp [mu], by simp [mu, upd], by simp [mu_ap]⟩
        show fX1_finish_34 fl (fX1_finish_17 fl (n' + 1)) (nI g) (nI c) 0 N = _
        have s3 : ¬ mu N 6 0 3 6 0 = 1 := by simp [mu_ap]
        have s8 : mu N 6 0 3 8 0 = N 8 0 := by simp [mu_ap]
        unfold fX1_finish_34
        rw [if_pos rfl]
        unfold fX1_finish_17 fX1_finish_51 fX1_finish_61
        rw [if_neg (nI_ge hlt (by omega)), if_neg s3, s8]
        rfl
      · rw [runA_step t1, t2]
        obtain ⟨N2, f1, f2, f3, f4, f5, f6, f7⟩ := ih (c + 1) N' (by rw [r1 1 (by decide) (by decide) (by decide) (by decide)]; exact h1) (by rw [r1 2 (by decide) (by decide) (by decide) (by decide)]; exact h2) (by rw [r1 3 (by decide) (by decide) (by decide) (by decide)]; exact h3) (by rw [r1 0 (by decide) (by decide) (by decide) (by decide)]; exact h0) (by omega) (by omega)
        rw [hrun] at r4
        rw [r2, r3, r4, show g - (c + 1) = d by omega] at f1 f6 f7
        rw [r1 0 (by decide) (by decide) (by decide) (by decide)] at f2
        rw [r1 1 (by decide) (by decide) (by decide) (by decide)] at f3
        rw [r1 2 (by decide) (by decide) (by decide) (by decide)] at f4
        rw [r1 3 (by decide) (by decide) (by decide) (by decide)] at f5
        rw [r1 8 (by decide) (by decide) (by decide) (by decide)] at f7
        refine ⟨N2, ?_, f2, f3, f4, f5, f6, ?_⟩
        · show fX1_finish_34 fl (fX1_finish_17 fl n) (nI g) (nI c) 1 N' = _
          unfold fX1_finish_34
          rw [if_neg (by decide), nI_1, f1]
          congr 3; omega
        · rw [f7]; congr 2; omega
/-! the core -/
theorem cf_stop {fl n g c cy : Nat} {M : MM} (hg : g ≤ 200) (hc : c ≤ g) (h : ¬ (c < g ∧ M 7 0 = 1)) : fX0_finish_28 fl (n + 1) (nI g) (nI c) (nI cy) M = some (nI c, M) := by
  unfold fX0_finish_28 fX0_finish_87
  by_cases h1 : 3216 ≤ nI cy
  · rw [if_pos h1]
  · rw [if_neg h1]
    by_cases h2 : c < g
    · rw [if_neg (nI_ge h2 (by omega)), if_neg (fun z => h ⟨h2, z⟩)]
    · rw [if_pos (nI_le (by omega) (by omega))]
theorem cf_go {fl n g c cy : Nat} {M : MM} (hg : g ≤ 200) (hcy : cy < 3216) (hlt : c < g) (hrun : M 7 0 = 1) : fX0_finish_28 fl (n + 1) (nI g) (nI c) (nI cy) M = (fX0_retire fl M).bind (fun q => fX0_finish_54 fl (fX0_finish_28 fl n) (nI g) (nI cy) (nI c) q.1 q.2) := by
  show (if (3216 : Int32) ≤ nI cy then _ else _) = _
  have h3 : ¬ (3216 : Int32) ≤ nI cy := nI_ge (b := 3216) hcy (by decide)
  rw [if_neg h3, if_neg (nI_ge hlt (by omega)), if_pos hrun]
theorem cf_mid {fl n g c cy : Nat} {M : MM} (hg : g ≤ 200) (hc : c ≤ g) (h : ¬ (c < g ∧ M 7 0 = 1)) : fX0_finish_56 fl (fX0_finish_28 fl n) (nI g) (nI c) (nI cy) M = fX0_finish_28 fl n (nI g) (nI c) (nI (cy + 1)) M := by
  unfold fX0_finish_56 fX0_finish_81
  rw [nI_1]
  by_cases h2 : c < g
  · rw [if_neg (nI_ge h2 (by omega)), if_neg (fun z => h ⟨h2, z⟩)]
  · rw [if_pos (nI_le (by omega) (by omega))]
theorem cf_cyc {fl n g c cy : Nat} {M M1 M2 M3 : MM} (hg : g ≤ 200) (hlt : c < g) (hrun : M 7 0 = 1) (e1 : fX0_complete fl M = some (0, M1)) (e2 : fX0_begin fl M1 = some (0, M2)) (e3 : fX0_issue fl M2 = some (0, M3)) : fX0_finish_56 fl (fX0_finish_28 fl n) (nI g) (nI c) (nI cy) M = fX0_finish_28 fl n (nI g) (nI c) (nI (cy + 1)) M3 := by
  unfold fX0_finish_56
  rw [if_neg (nI_ge hlt (by omega)), if_pos hrun, e1]
  show fX0_finish_73 fl (fX0_finish_28 fl n) (nI g) (nI c) (nI cy) M1 = _
  unfold fX0_finish_73
  rw [e2]
  show fX0_finish_77 fl (fX0_finish_28 fl n) (nI g) (nI c) (nI cy) M2 = _
  unfold fX0_finish_77
  rw [e3]
  show fX0_finish_81 fl (fX0_finish_28 fl n) (nI g) (nI c) (nI cy) M3 = _
  unfold fX0_finish_81
  rw [nI_1]
theorem cf_loop {P : MM} {fl g : Nat} (hP : PrOK P) (hg : g ≤ 200) (hfl : 7 ≤ fl) : ∀ (n c cy : Nat) (M : MM), Pgm P M → c ≤ g → 3218 ≤ cy + n → cy ≤ 3216 →
    (M 7 0 = 1 → ∃ f u m, Inv P M f u ∧ Pg P M f u m ∧ (c < g → cy + m + 1 + 16 * (g - c - 1) ≤ 3216)) →
    ∃ M', fX0_finish_28 fl n (nI g) (nI c) (nI cy) M = some (nI (c + (runA P (g - c) (M 4, M 5) (M 6 0) (M 7 0)).1), M') ∧ Pgm P M' ∧
      ((M' 4, M' 5), M' 6 0, M' 7 0) = (runA P (g - c) (M 4, M 5) (M 6 0) (M 7 0)).2 ∧ M' 8 0 = M 8 0 + nI (runA P (g - c) (M 4, M 5) (M 6 0) (M 7 0)).1 ∧ (M' 7 0 = 1 → ∃ f u, Inv P M' f u) := by
  intro n
  induction n with
  | zero => intro c cy M _ _ h1 h2; omega
  | succ n ih =>
    intro c cy M hpg hc hn hcy hinv
    by_cases hstop : c < g ∧ M 7 0 = 1
    · obtain ⟨hlt, hrun⟩ := hstop
      obtain ⟨f, u, m, hI, hPg, hb⟩ := hinv hrun
      have hb := hb hlt
      have hcy' : cy < 3216 := by omega
      obtain ⟨d, hd⟩ : ∃ d, g - c = d + 1 := ⟨g - c - 1, by omega⟩
      have hf6 := hI.2.1.2.1
      rw [cf_go hg hcy' hlt hrun]
      by_cases hrdy : u = 0 ∨ M 16 f ≠ 2
      · -- nothing is retired
        rw [retire_none (fl := fl) hI hrdy]
        show ∃ M', fX0_finish_54 fl (fX0_finish_28 fl n) (nI g) (nI cy) (nI c) 0 M = _ ∧ _
        have e54 : fX0_finish_54 fl (fX0_finish_28 fl n) (nI g) (nI cy) (nI c) 0 M = fX0_finish_56 fl (fX0_finish_28 fl n) (nI g) (nI c) (nI cy) M := by
          unfold fX0_finish_54; rw [Int32.add_zero]
        obtain ⟨M1, M2, M3, u3, e1, e2, e3, hI3, hrow, hprog⟩ := cycle_spec (fl := fl) hP hfl hI
        have hm : ∃ m', m = m' + 1 := by
          cases m with
          | zero =>
            rcases hPg with ⟨_, z⟩ | ⟨z1, z2⟩ | ⟨_, _, z, _⟩ | ⟨_, _, z, _⟩ | ⟨_, _, j, l, _, _, _, _, z, _⟩
            · omega
            · rw [slt_z hf6] at z2
              rcases hrdy with y | y
              · omega
              · exact absurd z2 y
            · omega
            · omega
            · omega
          | succ m => exact ⟨m, rfl⟩
        obtain ⟨m', rfl⟩ := hm
        have hPg3 := hprog hrdy m' hPg
        have r4 := hrow 4 (by decide) (by decide)
        have r5 := hrow 5 (by decide) (by decide)
        have r6 := hrow 6 (by decide) (by decide)
        have r7 := hrow 7 (by decide) (by decide)
        have r8 := hrow 8 (by decide) (by decide)
        obtain ⟨M', f1, f2, f3, f4, f5⟩ := ih c (cy + 1) M3 hI3.1 hc (by omega) (by omega) (fun _ => ⟨f, u3, m', hI3, hPg3, fun _ => by omega⟩)
        rw [r4, r5, r6, r7] at f1 f3 f4
        rw [r8] at f4
        refine ⟨M', ?_, f2, f3, f4, f5⟩
        rw [e54, cf_cyc hg hlt hrun e1 e2 e3]; exact f1
      · have hu0 : 0 < u := by omega
        have h2 : M 16 f = 2 := Classical.not_not.mp (fun z => hrdy (Or.inr z))
        rcases retire_spec (fl := fl) hP hfl hI hu0 h2 hrun with ⟨t1, t2⟩ | ⟨t1, M', t2, q1, q2, q3, q4, q5⟩
        · -- a trap
          rw [t2, hd, hrun, runA_trap t1]
          refine ⟨mu M 7 0 3, ?_, ?_, by simp [mu, upd], by rw [mu_n _ _ _ (by decide)]; exact (Int32.add_zero _).symm, fun z => ?_⟩
          · show fX0_finish_54 fl (fX0_finish_28 fl n) (nI g) (nI cy) (nI c) 0 (mu M 7 0 3) = _
            unfold fX0_finish_54
            have s3 : ¬ (c < g ∧ mu M 7 0 3 7 0 = 1) := fun z => by
              have := z.2
              simp [mu_ap] at this
            rw [Int32.add_zero, cf_mid hg hc s3]
            obtain ⟨n', rfl⟩ : ∃ n', n = n' + 1 := ⟨n - 1, by omega⟩
            exact cf_stop hg hc s3
          · have := hI.1
            unfold Pgm at this ⊢
            rw [mu_n _ _ _ (by decide), mu_n _ _ _ (by decide), mu_n _ _ _ (by decide), mu_n _ _ _ (by decide)]; exact this
          · simp [mu_ap] at z
        · -- one is finished
          rw [t2, hd, hrun, runA_step t1]
          have e54 : fX0_finish_54 fl (fX0_finish_28 fl n) (nI g) (nI cy) (nI c) 1 M' = fX0_finish_56 fl (fX0_finish_28 fl n) (nI g) (nI (c + 1)) (nI cy) M' := by
            unfold fX0_finish_54; rw [nI_1]
          have hs7 : M' 7 0 = if iop P (M 6 0) = 8 then 2 else 1 := by
            rcases q5 with ⟨z1, z2⟩ | ⟨z1, z2, -⟩
            · rw [if_pos z1]; exact z2
            · rw [if_neg z1]; exact z2
          have hinv' : M' 7 0 = 1 → ∃ f' u', Inv P M' f' u' := by
            intro z
            rcases q5 with ⟨_, z2⟩ | ⟨_, _, z3⟩
            · rw [z2] at z; exact absurd z (by decide)
            · exact z3
          -- what the rest of the loop starts from
          have key : ∃ M3, fX0_finish_56 fl (fX0_finish_28 fl n) (nI g) (nI (c + 1)) (nI cy) M' = fX0_finish_28 fl n (nI g) (nI (c + 1)) (nI (cy + 1)) M3 ∧ Pgm P M3 ∧ (∀ a, 4 ≤ a → a ≤ 9 → M3 a = M' a) ∧ (M3 7 0 = 1 → ∃ f u, Inv P M3 f u) := by
            by_cases hgo : c + 1 < g ∧ M' 7 0 = 1
            · obtain ⟨f', u', hI'⟩ := hinv' hgo.2
              obtain ⟨M1, M2, M3, u3, e1, e2, e3, hI3, hrow, -⟩ := cycle_spec (fl := fl) hP hfl hI'
              exact ⟨M3, cf_cyc hg hgo.1 hgo.2 e1 e2 e3, hI3.1, hrow, fun _ => ⟨f', u3, hI3⟩⟩
            · exact ⟨M', cf_mid hg (by omega) hgo, q1, fun _ _ _ => rfl, hinv'⟩
          obtain ⟨M3, k1, k2, k3, k4⟩ := key
          have r4 := k3 4 (by decide) (by decide)
          have r5 := k3 5 (by decide) (by decide)
          have r6 := k3 6 (by decide) (by decide)
          have r7 := k3 7 (by decide) (by decide)
          have r8 := k3 8 (by decide) (by decide)
          obtain ⟨M4, f1, f2, f3, f4, f5⟩ := ih (c + 1) (cy + 1) M3 k2 (by omega) (by omega) (by omega) (fun z => by
            obtain ⟨f', u', hI'⟩ := k4 z
            exact ⟨f', u', 15, hI', Pg_15 hI', fun _ => by omega⟩)
          rw [r4, r5, r6, r7, q2, q4, hs7, show g - (c + 1) = d by omega] at f1 f3 f4
          rw [r8, q3] at f4
          refine ⟨M4, ?_, f2, f3, ?_, f5⟩
          · show fX0_finish_54 fl (fX0_finish_28 fl n) (nI g) (nI cy) (nI c) 1 M' = _
            rw [e54, k1, f1]
            congr 3; omega
          · rw [f4, Int32.add_assoc]
            congr 1
            rw [show (1 : Int32) = nI 1 from rfl, nI_add]
            congr 1; omega
    · obtain ⟨n', hn'⟩ : ∃ n', n + 1 = n' + 1 := ⟨n, rfl⟩
      have hs : g - c = 0 ∨ M 7 0 ≠ 1 := by
        by_cases z : c < g
        · exact Or.inr (fun y => hstop ⟨z, y⟩)
        · exact Or.inl (by omega)
      rw [runA_stop hs, cf_stop hg hc hstop]
      exact ⟨M, rfl, hpg, rfl, (Int32.add_zero _).symm, fun z => by obtain ⟨f, u, m, hI, -⟩ := hinv z; exact ⟨f, u, hI⟩⟩
end
section
/-! PURE PART 13: the relation between core and model, and that the twelve calls keep it -/
def Rel (M N : MM) : Prop :=
  M 0 = N 1 ∧ M 1 = N 2 ∧ M 2 = N 3 ∧ M 3 0 = N 0 0 ∧ M 4 = N 4 ∧ M 5 = N 5 ∧ M 6 0 = N 7 0 ∧ M 7 0 = N 6 0 ∧ M 8 0 = N 8 0 ∧ PrOK M ∧ (M 7 0 = 1 → ∃ P f u, Inv P M f u)
theorem rel_0 : Rel (fun _ _ => 0) (fun _ _ => 0) :=
  ⟨rfl, rfl, rfl, rfl, rfl, rfl, rfl, rfl, rfl, ⟨⟨0, by decide, rfl⟩, fun _ => ⟨0, by decide, rfl⟩, fun _ => ⟨0, by decide, rfl⟩⟩, fun z => absurd z (by decide)⟩
theorem Pr_of {P M : MM} (h : Pgm P M) (hM : PrOK M) : PrOK P := by
  obtain ⟨h0, h1, h2, h3⟩ := h
  unfold PrOK at hM ⊢
  rw [← h0, ← h1, ← h3]; exact hM
theorem Pr_to {P M : MM} (h : Pgm P M) (hP : PrOK P) : PrOK M := by
  obtain ⟨h0, h1, h2, h3⟩ := h
  unfold PrOK at hP ⊢
  rw [h0, h1, h3]; exact hP
theorem t_lit {c : Int32} {k : Int} (h : c.toInt = k) (x : Int32) : (c ≤ x) = (k ≤ x.toInt) ∧ (x ≤ c) = (x.toInt ≤ k) ∧ (c < x) = (k < x.toInt) ∧ (x < c) = (x.toInt < k) := by
  rw [Int32.le_iff_toInt_le, Int32.le_iff_toInt_le, Int32.lt_iff_toInt_lt, Int32.lt_iff_toInt_lt, h]
  exact ⟨rfl, rfl, rfl, rfl⟩
theorem ok_same {f0 f1 : Option (Int32 × MM)} {M N : MM} {r : Int32} (h : Rel M N) (e0 : f0 = some (r, M)) (e1 : f1 = some (r, N)) : OK2 Rel f0 f1 := ⟨r, M, N, e0, e1, h⟩
theorem emit_ok {fl : Nat} {M N : MM} (h : Rel M N) (a b c : Int32) : OK2 Rel (fX0_emit fl a b c M) (fX1_emit fl a b c N) := by
  have hR := h
  obtain ⟨h0, h1, h2, h3, h4, h5, h6, h7, h8, hP, hI⟩ := h
  obtain ⟨⟨z, hz, ez⟩, po, pg⟩ := hP
  by_cases a0 : a < 0
  · exact ok_same hR (r := -1) (by simp only [fX0_emit, fX0_emit_0, fX0_emit_20, a0, if_true]) (by simp only [fX1_emit, fX1_emit_0, fX1_emit_20, a0, if_true])
  · by_cases a8 : 8 < a
    · exact ok_same hR (r := -1) (by simp only [fX0_emit, fX0_emit_0, fX0_emit_20, a0, a8, if_true, if_false]) (by simp only [fX1_emit, fX1_emit_0, fX1_emit_20, a0, a8, if_true, if_false])
    · by_cases b0 : b < 0
      · exact ok_same hR (r := -1) (by simp only [fX0_emit, fX0_emit_0, fX0_emit_20, a0, a8, b0, if_true, if_false]) (by simp only [fX1_emit, fX1_emit_0, fX1_emit_20, a0, a8, b0, if_true, if_false])
      · by_cases b63 : b ≤ 63
        · by_cases full : z < 16
          · obtain ⟨o, ho, rfl⟩ := nI_of2 (x := a) (M := 8) (n := 8) (by decide) a0 (by
              rw [(t_lit (c := 8) (k := 8) (by decide) a).2.2.1] at a8
              rw [(t_lit (c := 8) (k := 8) (by decide) a).2.1]; omega)
            obtain ⟨g, hg, rfl⟩ := nI_of2 (x := b) (M := 63) (n := 63) (by decide) b0 b63
            have e16 : nI z < 16 := nI_lt (b := 16) full (by decide)
            have i16 : inb (nI z) 16 = true := inb_nI full (by decide)
            have cz : (nI z).toNatClampNeg = z := nI_clamp (by omega)
            have n1 := nb_vs (j := o) (by omega)
            have n2 := nb_vs (j := g) (by omega)
            have ez' : N 0 0 = nI z := by rw [← h3]; exact ez
            refine ⟨nI z, mu (mu (mu (mu (mu (mu (mu M 0 z (nI o)) 1 z (nI g)) 2 z c) 3 0 (nI (z + 1))) 7 0 0) 6 0 0) 8 0 0, mu (mu (mu (mu (mu (mu (mu N 1 z (nI o)) 2 z (nI g)) 3 z c) 0 0 (nI (z + 1))) 6 0 0) 7 0 0) 8 0 0, ?_, ?_, ?_⟩
            · have m1 : mu M 0 z (nI o) 3 0 = nI z := by rw [mu_n _ _ _ (by decide)]; exact ez
              have m2 : mu (mu M 0 z (nI o)) 1 z (nI g) 3 0 = nI z := by rw [mu_n _ _ _ (by decide)]; exact m1
              have m3 : mu (mu (mu M 0 z (nI o)) 1 z (nI g)) 2 z c 3 0 = nI z := by rw [mu_n _ _ _ (by decide)]; exact m2
              have m4 : mu (mu (mu (mu (mu (mu (mu M 0 z (nI o)) 1 z (nI g)) 2 z c) 3 0 (nI (z + 1))) 7 0 0) 6 0 0) 8 0 0 3 0 = nI (z + 1) := by simp [mu_ap]
              simp only [fX0_emit, fX0_emit_0, a0, a8, b0, b63, ez, e16, i16, cz, if_true, if_false, n1, n2, fX0_emit_45, m1, fX0_emit_56, m2, fX0_emit_66, m3, nI_1, fX0_emit_76, fX0_idle, fX0_idle_0, fX0_idle_5, fX0_idle_10, fX0_idle_15, Option.bind_some, fX0_emit_80, m4, nI_pred]
            · have m1 : mu N 1 z (nI o) 0 0 = nI z := by rw [mu_n _ _ _ (by decide)]; exact ez'
              have m2 : mu (mu N 1 z (nI o)) 2 z (nI g) 0 0 = nI z := by rw [mu_n _ _ _ (by decide)]; exact m1
              have m3 : mu (mu (mu N 1 z (nI o)) 2 z (nI g)) 3 z c 0 0 = nI z := by rw [mu_n _ _ _ (by decide)]; exact m2
              have m4 : mu (mu (mu (mu (mu (mu (mu N 1 z (nI o)) 2 z (nI g)) 3 z c) 0 0 (nI (z + 1))) 6 0 0) 7 0 0) 8 0 0 0 0 = nI (z + 1) := by simp [mu_ap]
              simp only [fX1_emit, fX1_emit_0, a0, a8, b0, b63, ez', e16, i16, cz, if_true, if_false, fX1_emit_44, m1, fX1_emit_54, m2, fX1_emit_64, m3, nI_1, fX1_emit_74, fX1_idle, fX1_idle_0, fX1_idle_5, fX1_idle_10, fX1_idle_15, Option.bind_some, fX1_emit_78, m4, nI_pred]
            · refine ⟨by simp [mu, h0], by simp [mu, h1], by simp [mu, h2], by simp [mu_ap], by simp [mu, h4], by simp [mu, h5], by simp [mu_ap], by simp [mu_ap], by simp [mu_ap], ⟨⟨z + 1, by omega, by simp [mu_ap]⟩, fun j => ?_, fun j => ?_⟩, fun y => ?_⟩
              · by_cases hj : j = z
                · exact ⟨o, ho, by simp [mu_ap, hj]⟩
                · obtain ⟨o', q1, q2⟩ := po j
                  exact ⟨o', q1, by simp [mu_ap, hj]; exact q2⟩
              · by_cases hj : j = z
                · exact ⟨g, hg, by simp [mu_ap, hj]⟩
                · obtain ⟨g', q1, q2⟩ := pg j
                  exact ⟨g', q1, by simp [mu_ap, hj]; exact q2⟩
              · simp [mu_ap] at y
          · have e16 : ¬ M 3 0 < 16 := by rw [ez]; exact nI_nlt (b := 16) (by omega) (by omega)
            have e16' : ¬ N 0 0 < 16 := by rw [← h3]; exact e16
            exact ok_same hR (r := -2) (by simp only [fX0_emit, fX0_emit_0, a0, a8, b0, b63, e16, if_true, if_false]) (by simp only [fX1_emit, fX1_emit_0, a0, a8, b0, b63, e16', if_true, if_false])
        · exact ok_same hR (r := -1) (by simp only [fX0_emit, fX0_emit_0, fX0_emit_20, a0, a8, b0, b63, if_false]) (by simp only [fX1_emit, fX1_emit_0, fX1_emit_20, a0, a8, b0, b63, if_false])
theorem clear_ok {fl : Nat} {M N : MM} (h : Rel M N) : OK2 Rel (fX0_clear fl M) (fX1_clear fl N) := by
  obtain ⟨h0, h1, h2, h3, h4, h5, h6, h7, h8, hP, hI⟩ := h
  refine ⟨0, mu (mu (mu (mu M 3 0 0) 7 0 0) 6 0 0) 8 0 0, mu (mu (mu (mu N 0 0 0) 6 0 0) 7 0 0) 8 0 0, rfl, rfl, by simp [mu, h0], by simp [mu, h1], by simp [mu, h2], by simp [mu_ap], by simp [mu, h4], by simp [mu, h5], by simp [mu_ap], by simp [mu_ap], by simp [mu_ap], ⟨⟨0, by decide, by simp [mu_ap]; rfl⟩, fun j => ?_, fun j => ?_⟩, fun y => ?_⟩
  · obtain ⟨o', q1, q2⟩ := hP.2.1 j
    exact ⟨o', q1, by simp [mu_ap]; exact q2⟩
  · obtain ⟨o', q1, q2⟩ := hP.2.2 j
    exact ⟨o', q1, by simp [mu_ap]; exact q2⟩
  · simp [mu_ap] at y
theorem set_ok {fl : Nat} {M N : MM} (h : Rel M N) (a b : Int32) : OK2 Rel (fX0_set fl a b M) (fX1_set fl a b N) := by
  have hR := h
  obtain ⟨h0, h1, h2, h3, h4, h5, h6, h7, h8, hP, hI⟩ := h
  by_cases hr : M 7 0 = 1
  · have hr' : N 6 0 = 1 := by rw [← h7]; exact hr
    exact ok_same hR (r := 0) (by simp only [fX0_set, fX0_set_0, hr, if_true]) (by simp only [fX1_set, fX1_set_0, fX1_set_29, hr', if_true])
  · have hr' : ¬ N 6 0 = 1 := by rw [← h7]; exact hr
    have l8 := t_lit (c := 8) (k := 8) (by decide) a
    have l4 := t_lit (c := 4) (k := 4) (by decide) a
    have l16 := t_lit (c := 16) (k := 16) (by decide) a
    have l15 := t_lit (c := 15) (k := 15) (by decide) a
    have l3 := t_lit (c := 3) (k := 3) (by decide) a
    have l0 := t_lit (c := 0) (k := 0) (by decide) a
    have relC : ∀ (j : Nat), Rel (mu M 5 j b) (mu N 5 j b) := fun j => ⟨by simp [mu, h0], by simp [mu, h1], by simp [mu, h2], by simp [mu, h3], by simp [mu, h4], by simp [mu, h5], by simp [mu, h6], by simp [mu, h7], by simp [mu, h8], by unfold PrOK at hP ⊢; rw [mu_n _ _ _ (by decide), mu_n _ _ _ (by decide), mu_n _ _ _ (by decide)]; exact hP, fun y => absurd (by rw [mu_n _ _ _ (by decide)] at y; exact y) hr⟩
    have relR : ∀ (j : Nat), Rel (mu M 4 j b) (mu N 4 j b) := fun j => ⟨by simp [mu, h0], by simp [mu, h1], by simp [mu, h2], by simp [mu, h3], by simp [mu, h4], by simp [mu, h5], by simp [mu, h6], by simp [mu, h7], by simp [mu, h8], by unfold PrOK at hP ⊢; rw [mu_n _ _ _ (by decide), mu_n _ _ _ (by decide), mu_n _ _ _ (by decide)]; exact hP, fun y => absurd (by rw [mu_n _ _ _ (by decide)] at y; exact y) hr⟩
    by_cases a0 : a.toInt < 0
    · have c0 : a < 0 := by rw [l0.2.2.2]; exact a0
      have c8 : a < 8 := by rw [l8.2.2.2]; omega
      exact ok_same hR (r := 0) (by simp only [fX0_set, fX0_set_0, fX0_set_28, fX0_set_52, hr, c0, c8, if_true, if_false]) (by simp only [fX1_set, fX1_set_0, fX1_set_29, hr', c0, if_true, if_false])
    · have c0 : ¬ a < 0 := by rw [l0.2.2.2]; exact a0
      by_cases a3 : a.toInt ≤ 3
      · obtain ⟨j, hj, rfl⟩ := nI_of2 (x := a) (M := 3) (n := 3) (by decide) c0 (by rw [l3.2.1]; exact a3)
        have c4 : ¬ (4 : Int32) ≤ nI j := by rw [l4.1]; omega
        have c15 : ¬ (15 : Int32) < nI j := by rw [l15.2.2.1]; omega
        have c3 : nI j ≤ 3 := by rw [l3.2.1]; exact a3
        have c3' : ¬ (3 : Int32) < nI j := by rw [l3.2.2.1]; omega
        have i4 := inb4 (j := j) (by omega)
        have v4 := cl4 (j := j) (by omega)
        exact ⟨1, _, _, by simp only [fX0_set, fX0_set_0, fX0_set_26, hr, c0, c4, i4, v4, if_true, if_false], by simp only [fX1_set, fX1_set_0, fX1_set_31, fX1_set_56, hr', c0, c15, c3, c3', i4, v4, if_true, if_false], relR j⟩
      · have c4 : (4 : Int32) ≤ a := by rw [l4.1]; omega
        have c3 : ¬ a ≤ 3 := by rw [l3.2.1]; exact a3
        have c3' : (3 : Int32) < a := by rw [l3.2.2.1]; omega
        by_cases a8 : a.toInt < 8
        · have c8 : a < 8 := by rw [l8.2.2.2]; exact a8
          have c8' : ¬ (8 : Int32) ≤ a := by rw [l8.1]; omega
          have c15 : ¬ (15 : Int32) < a := by rw [l15.2.2.1]; omega
          exact ok_same hR (r := 0) (by simp only [fX0_set, fX0_set_0, fX0_set_28, fX0_set_52, hr, c0, c4, c8, if_true, if_false]) (by simp only [fX1_set, fX1_set_0, fX1_set_29, hr', c0, c15, c3, c8', if_false])
        · have c8 : ¬ a < 8 := by rw [l8.2.2.2]; exact a8
          have c8' : (8 : Int32) ≤ a := by rw [l8.1]; omega
          by_cases a16 : 16 ≤ a.toInt
          · have c16 : (16 : Int32) ≤ a := by rw [l16.1]; exact a16
            have c15 : (15 : Int32) < a := by rw [l15.2.2.1]; omega
            exact ok_same hR (r := 0) (by simp only [fX0_set, fX0_set_0, fX0_set_28, fX0_set_52, hr, c0, c4, c8, c16, if_true, if_false]) (by simp only [fX1_set, fX1_set_0, fX1_set_29, hr', c0, c15, if_true, if_false])
          · have c16 : ¬ (16 : Int32) ≤ a := by rw [l16.1]; exact a16
            have c15 : ¬ (15 : Int32) < a := by rw [l15.2.2.1]; omega
            obtain ⟨j, hj, rfl⟩ := nI_of2 (x := a) (M := 15) (n := 15) (by decide) c0 (by rw [l15.2.1]; omega)
            have hj8 : 8 ≤ j := by rw [nI_toInt (by omega)] at a8; omega
            have es : nI j - 8 = nI (j - 8) := pk_sub (b := 8) hj8
            have i8 : inb (nI (j - 8)) 8 = true := inb_nI (by omega) (by decide)
            have v8 : (nI (j - 8)).toNatClampNeg = j - 8 := nI_clamp (by omega)
            exact ⟨1, _, _, by simp only [fX0_set, fX0_set_0, fX0_set_28, fX0_set_50, hr, c0, c4, c8, c16, es, i8, v8, if_true, if_false], by simp only [fX1_set, fX1_set_0, fX1_set_31, fX1_set_56, hr', c0, c15, c3, c3', c8', es, i8, v8, if_true, if_false], relC (j - 8)⟩
theorem start_ok {fl : Nat} {M N : MM} (hfl : 7 ≤ fl) (h : Rel M N) (a : Int32) : OK2 Rel (fX0_start fl a M) (fX1_start fl a N) := by
  obtain ⟨h0, h1, h2, h3, h4, h5, h6, h7, h8, hP, hI⟩ := h
  obtain ⟨M', e, r1, r2, r3, r4, r5, r6⟩ := refetch_spec (fl := fl) (x := 0) (M := mu (mu (mu (mu M 7 0 1) 6 0 0) 8 0 0) 9 0 a) hfl
  have q : ∀ b, b ≠ 6 → b ≠ 7 → b ≠ 8 → b ≠ 9 → b ≠ 10 → b ≠ 11 → b ≠ 12 → b ≠ 13 → b ≠ 27 → M' b = M b := fun b b1 b2 b3 b4 b5 b6 b7 b8 b9 => by
    rw [r1 b b5 b6 b7 b8 b9, mu_n _ _ _ b4, mu_n _ _ _ b3, mu_n _ _ _ b1, mu_n _ _ _ b2]
  have q6 : M' 6 0 = 0 := by rw [r1 6 (by decide) (by decide) (by decide) (by decide) (by decide)]; simp [mu_ap]
  have q7 : M' 7 0 = 1 := by rw [r1 7 (by decide) (by decide) (by decide) (by decide) (by decide)]; simp [mu_ap]
  have q8 : M' 8 0 = 0 := by rw [r1 8 (by decide) (by decide) (by decide) (by decide) (by decide)]; simp [mu_ap]
  have k0 := q 0 (by decide) (by decide) (by decide) (by decide) (by decide) (by decide) (by decide) (by decide) (by decide)
  have k1 := q 1 (by decide) (by decide) (by decide) (by decide) (by decide) (by decide) (by decide) (by decide) (by decide)
  have k2 := q 2 (by decide) (by decide) (by decide) (by decide) (by decide) (by decide) (by decide) (by decide) (by decide)
  have k3 := q 3 (by decide) (by decide) (by decide) (by decide) (by decide) (by decide) (by decide) (by decide) (by decide)
  have k4 := q 4 (by decide) (by decide) (by decide) (by decide) (by decide) (by decide) (by decide) (by decide) (by decide)
  have k5 := q 5 (by decide) (by decide) (by decide) (by decide) (by decide) (by decide) (by decide) (by decide) (by decide)
  refine ⟨0, M', mu (mu (mu N 6 0 1) 7 0 0) 8 0 0, ?_, rfl, ?_⟩
  · simp only [fX0_start, fX0_start_0, fX0_start_5, fX0_start_10, fX0_start_15, fX0_start_20, e, Option.bind_some, fX0_start_25]
  · refine ⟨by rw [k0]; simp [mu, h0], by rw [k1]; simp [mu, h1], by rw [k2]; simp [mu, h2], by rw [k3]; simp [mu, h3], by rw [k4]; simp [mu, h4], by rw [k5]; simp [mu, h5], by rw [q6]; simp [mu_ap], by rw [q7]; simp [mu_ap], by rw [q8]; simp [mu_ap], ?_, fun _ => ⟨M', 0, 0, inv_empty ⟨rfl, rfl, rfl, rfl⟩ r4 r5 (by rw [r2, q6]) r3 r6⟩⟩
    unfold PrOK at hP ⊢
    rw [k0, k1, k3]; exact hP
theorem finish_ok {fl : Nat} {M N : MM} (hfl : 3218 ≤ fl) (h : Rel M N) (x : Int32) : OK2 Rel (fX0_finish fl x M) (fX1_finish fl x N) := by
  obtain ⟨h0, h1, h2, h3, h4, h5, h6, h7, h8, hP, hI⟩ := h
  -- how many are asked for
  obtain ⟨g, hg, eC, eM⟩ : ∃ g, g ≤ 200 ∧ fX0_finish fl x M = fX0_finish_28 fl fl (nI g) (nI 0) (nI 0) M ∧ fX1_finish fl x N = fX1_finish_17 fl fl (nI g) (nI 0) N := by
    have l0 := t_lit (c := 0) (k := 0) (by decide) x
    have l2 := t_lit (c := 200) (k := 200) (by decide) x
    by_cases c0 : 0 ≤ x.toInt
    · have d0 : (0 : Int32) ≤ x := by rw [l0.1]; exact c0
      have d0' : ¬ x < 0 := by rw [l0.2.2.2]; omega
      by_cases c2 : x.toInt ≤ 200
      · have d2 : x ≤ 200 := by rw [l2.2.1]; exact c2
        obtain ⟨g, hg, rfl⟩ := nI_of2 (x := x) (M := 200) (n := 200) (by decide) d0' d2
        exact ⟨g, hg, by simp only [fX0_finish, fX0_finish_0, fX0_finish_22, fX0_finish_23, fX0_finish_25, d0, d2, if_true]; rfl, by simp only [fX1_finish, fX1_finish_0, fX1_finish_14, fX1_finish_15, d2, if_true]; rfl⟩
      · have d2 : ¬ x ≤ 200 := by rw [l2.2.1]; exact c2
        exact ⟨200, by decide, by simp only [fX0_finish, fX0_finish_0, fX0_finish_22, fX0_finish_23, fX0_finish_25, d0, d2, if_true, if_false]; rfl, by simp only [fX1_finish, fX1_finish_0, fX1_finish_14, fX1_finish_15, d2, if_false]; rfl⟩
    · have d0 : ¬ (0 : Int32) ≤ x := by rw [l0.1]; exact c0
      have d2 : x ≤ 200 := by rw [l2.2.1]; omega
      have dx : x ≤ 0 := by rw [l0.2.1]; omega
      refine ⟨0, by decide, by simp only [fX0_finish, fX0_finish_0, fX0_finish_22, fX0_finish_23, fX0_finish_25, d0, if_false]; rfl, ?_⟩
      obtain ⟨n, rfl⟩ : ∃ n, fl = n + 1 := ⟨fl - 1, by omega⟩
      have e1 : fX1_finish_17 (n + 1) (n + 1) x 0 N = fX1_finish_51 (n + 1) 0 N := by
        show (if x ≤ 0 then _ else _) = _
        rw [if_pos dx]
      have e2 : fX1_finish_17 (n + 1) (n + 1) (nI 0) (nI 0) N = fX1_finish_51 (n + 1) (nI 0) N := by
        show (if nI 0 ≤ nI 0 then _ else _) = _
        rw [if_pos (nI_le (Nat.le_refl 0) (by decide))]
      simp only [fX1_finish, fX1_finish_0, fX1_finish_14, fX1_finish_15, d2, if_true]
      rw [e1, e2]; rfl
  -- the program
  obtain ⟨P, hpg, hinv⟩ : ∃ P, Pgm P M ∧ (M 7 0 = 1 → ∃ f u, Inv P M f u) := by
    by_cases hr : M 7 0 = 1
    · obtain ⟨P, f, u, hh⟩ := hI hr
      exact ⟨P, hh.1, fun _ => ⟨f, u, hh⟩⟩
    · exact ⟨M, ⟨rfl, rfl, rfl, rfl⟩, fun z => absurd z hr⟩
  have hPP := Pr_of hpg hP
  obtain ⟨M', c1, c2, c3, c4, c5⟩ := cf_loop (fl := fl) hPP hg (by omega) fl 0 0 M hpg (Nat.zero_le _) (by omega) (by omega) (fun z => by
    obtain ⟨f, u, hh⟩ := hinv z
    exact ⟨f, u, 15, hh, Pg_15 hh, fun _ => by omega⟩)
  obtain ⟨N', m1, m2, m3, m4, m5, m6, m7⟩ := mf_loop (fl := fl) hPP hg fl 0 N (by rw [← h0]; exact hpg.1) (by rw [← h1]; exact hpg.2.1) (by rw [← h2]; exact hpg.2.2.1) (by rw [← h3]; exact hpg.2.2.2) (Nat.zero_le _) (by omega)
  rw [← h4, ← h5, ← h6, ← h7] at m1 m6 m7
  rw [Nat.zero_add] at c1 m1 m7
  have e := c3.trans m6.symm
  have eS := congrArg Prod.fst e
  have e4 : M' 4 = N' 4 := congrArg Prod.fst eS
  have e5 : M' 5 = N' 5 := congrArg Prod.snd eS
  have e6 : M' 6 0 = N' 7 0 := congrArg (fun q => q.2.1) e
  have e7 : M' 7 0 = N' 6 0 := congrArg (fun q => q.2.2) e
  refine ⟨_, M', N', eC.trans c1, eM.trans m1, ?_, ?_, ?_, ?_, e4, e5, e6, e7, ?_, Pr_to c2 hPP, fun z => ?_⟩
  · rw [c2.1, m3, ← h0]; exact hpg.1.symm
  · rw [c2.2.1, m4, ← h1]; exact hpg.2.1.symm
  · rw [c2.2.2.1, m5, ← h2]; exact hpg.2.2.1.symm
  · rw [c2.2.2.2, m2, ← h3]; exact hpg.2.2.2.symm
  · rw [c4, m7, h8]
  · obtain ⟨f, u, hh⟩ := c5 z
    exact ⟨P, f, u, hh⟩
theorem register_ok {fl : Nat} {M N : MM} (h : Rel M N) (a : Int32) : OK2 Rel (fX0_register fl a M) (fX1_register fl a N) := by
  have h4 := h.2.2.2.2.1
  have l3 := t_lit (c := 3) (k := 3) (by decide) a
  by_cases c0 : a < 0
  · exact ok_same h (r := 0) (by simp only [fX0_register, fX0_register_0, fX0_register_9, fX0_register_19, c0, if_true]) (by simp only [fX1_register, fX1_register_0, fX1_register_18, fX1_register_19, c0, if_true])
  · by_cases c3 : a.toInt ≤ 3
    · have d3 : a ≤ 3 := by rw [l3.2.1]; exact c3
      have d3' : ¬ (3 : Int32) < a := by rw [l3.2.2.1]; omega
      obtain ⟨j, hj, rfl⟩ := nI_of2 (x := a) (M := 3) (n := 3) (by decide) c0 d3
      have i4 := inb4 (j := j) (by omega)
      exact ok_same h (r := M 4 (nI j).toNatClampNeg) (by simp only [fX0_register, fX0_register_0, fX0_register_19, c0, d3, i4, if_true, if_false]) (by simp only [fX1_register, fX1_register_0, fX1_register_19, c0, d3', i4, if_true, if_false, h4])
    · have d3 : ¬ a ≤ 3 := by rw [l3.2.1]; exact c3
      have d3' : (3 : Int32) < a := by rw [l3.2.2.1]; omega
      exact ok_same h (r := 0) (by simp only [fX0_register, fX0_register_0, fX0_register_9, fX0_register_19, c0, d3, if_false]) (by simp only [fX1_register, fX1_register_0, fX1_register_18, fX1_register_19, c0, d3', if_true, if_false])
theorem memory_ok {fl : Nat} {M N : MM} (h : Rel M N) (a : Int32) : OK2 Rel (fX0_memory fl a M) (fX1_memory fl a N) := by
  have h5 := h.2.2.2.2.2.1
  have l7 := t_lit (c := 7) (k := 7) (by decide) a
  by_cases c0 : a < 0
  · exact ok_same h (r := 0) (by simp only [fX0_memory, fX0_memory_0, fX0_memory_10, fX0_memory_20, c0, if_true]) (by simp only [fX1_memory, fX1_memory_0, fX1_memory_19, fX1_memory_20, c0, if_true])
  · by_cases c3 : a.toInt ≤ 7
    · have d3 : a ≤ 7 := by rw [l7.2.1]; exact c3
      have d3' : ¬ (7 : Int32) < a := by rw [l7.2.2.1]; omega
      obtain ⟨j, hj, rfl⟩ := nI_of2 (x := a) (M := 7) (n := 7) (by decide) c0 d3
      have i8 : inb (nI j) 8 = true := inb_nI (by omega) (by decide)
      exact ok_same h (r := M 5 (nI j).toNatClampNeg) (by simp only [fX0_memory, fX0_memory_0, fX0_memory_20, c0, d3, i8, if_true, if_false]) (by simp only [fX1_memory, fX1_memory_0, fX1_memory_20, c0, d3', i8, if_true, if_false, h5])
    · have d3 : ¬ a ≤ 7 := by rw [l7.2.1]; exact c3
      have d3' : (7 : Int32) < a := by rw [l7.2.2.1]; omega
      exact ok_same h (r := 0) (by simp only [fX0_memory, fX0_memory_0, fX0_memory_10, fX0_memory_20, c0, d3, if_false]) (by simp only [fX1_memory, fX1_memory_0, fX1_memory_19, fX1_memory_20, c0, d3', if_true, if_false])
theorem dg_2 {fl : Nat} {M N : MM} (h5 : M 5 = N 5) : ∀ (n k : Nat) (x : Int32), k ≤ 8 → 8 - k < n → ∃ r, fX0_digest_30 fl n x (nI k) M = some (r, M) ∧ fX1_digest_30 fl n x (nI k) N = some (r, N) := by
  intro n
  induction n with
  | zero => intro k x _ h; omega
  | succ n ih =>
    intro k x hk hn
    unfold fX0_digest_30 fX1_digest_30 fX0_digest_49 fX1_digest_49
    by_cases h8 : k = 8
    · subst h8
      have : (8 : Int32) ≤ nI 8 := by decide
      rw [if_pos this, if_pos this]
      exact ⟨x, rfl, rfl⟩
    · have d : ¬ (8 : Int32) ≤ nI k := nI_ge (b := 8) (by omega) (by decide)
      have i8 : inb (nI k) 8 = true := inb_nI (by omega) (by decide)
      rw [if_neg d, if_neg d, i8, h5]
      simp only [if_true, nI_1]
      exact ih (k + 1) _ (by omega) (by omega)
theorem dg_1 {fl : Nat} {M N : MM} (hfl : 9 ≤ fl) (h4 : M 4 = N 4) (h5 : M 5 = N 5) : ∀ (n k : Nat) (x : Int32), k ≤ 4 → 4 - k < n → ∃ r, fX0_digest_4 fl n x (nI k) M = some (r, M) ∧ fX1_digest_4 fl n x (nI k) N = some (r, N) := by
  intro n
  induction n with
  | zero => intro k x _ h; omega
  | succ n ih =>
    intro k x hk hn
    unfold fX0_digest_4 fX1_digest_4 fX0_digest_22 fX1_digest_22
    by_cases h8 : k = 4
    · subst h8
      have : (4 : Int32) ≤ nI 4 := by decide
      rw [if_pos this, if_pos this]
      exact dg_2 (fl := fl) h5 fl 0 x (by omega) (by omega)
    · have d : ¬ (4 : Int32) ≤ nI k := nI_ge (b := 4) (by omega) (by decide)
      have i8 : inb (nI k) 4 = true := inb_nI (by omega) (by decide)
      rw [if_neg d, if_neg d, i8, h4]
      simp only [if_true, nI_1]
      exact ih (k + 1) _ (by omega) (by omega)
theorem digest_ok {fl : Nat} {M N : MM} (hfl : 9 ≤ fl) (h : Rel M N) : OK2 Rel (fX0_digest fl M) (fX1_digest fl N) := by
  obtain ⟨r, e0, e1⟩ := dg_1 (fl := fl) hfl h.2.2.2.2.1 h.2.2.2.2.2.1 fl 0 0 (by omega) (by omega)
  exact ok_same h (r := r) e0 e1
theorem ops_ok : Ops Rel 5000 := by
  intro M N h
  have hR := h
  obtain ⟨h0, h1, h2, h3, h4, h5, h6, h7, h8, hP, hI⟩ := h
  exact ⟨emit_ok hR, clear_ok hR, ⟨M 3 0, M, N, rfl, by rw [h3]; rfl, hR⟩, set_ok hR, start_ok (by decide) hR, finish_ok (by decide) hR, ⟨M 7 0, M, N, rfl, by rw [h7]; rfl, hR⟩, ⟨M 6 0, M, N, rfl, by rw [h6]; rfl, hR⟩, ⟨M 8 0, M, N, rfl, by rw [h8]; rfl, hR⟩, register_ok hR, memory_ok hR, digest_ok (by decide) hR⟩
end
section
set_option maxRecDepth 100000
theorem whole_start {p : Program} {e : Env} {s : State} {m : MethodId} {below : List Frame} {meth : Method} {c : Code} (l : Launch) {b L : Nat} {xs : Nat → Int32} (hL : L ≤ 256) (C0 : lw_At p s m meth c b L xs) : W p l e room_1 s m #[Value.ref b] below meth c s.heap [] 0 0 (lw_Z below #[Value.ref b] s) (entryFrame m ([Value.ref b] : List Value).toArray 4) :=
  whole_gen ops_ok rel_0 l hL C0
set_option maxHeartbeats 4000000 in
theorem lw_walk (l : Launch) (b : Addr) (xs : List Int32) : MetFree l x (headSpec (Jvm.Cond.code x code maxLocals ret :: tables_1) room_1) (lw_P b xs) (fun _ _ _ _ _ => True) lw_Q := by
  refine MetFree.of_bodyS (code := code) (maxLocals := maxLocals) (ret := ret) (by decide) ?_ ?_
  · intro args s m h hn
    obtain ⟨meth, c, h1, h2, h3, h4, h5, h6, -, -⟩ := Cond.code_spec hn (atoms_spec (ws := Jvm.Cond.code x code maxLocals ret :: tables_1) h _ List.mem_cons_self)
    exact ⟨meth, c, h1, h2, h3, h4, h5, h6⟩
  · intro p e s m args below meth c s₁ B hml0 hP _
    obtain ⟨rfl, hx, hbd, hgv⟩ := hP
    obtain ⟨scr, harrAt, hlist, hof, hsmall⟩ := hx
    obtain ⟨hcb, hkn, -, -⟩ := State.arrayAt?_spec harrAt
    have hown : s.vm.findClass R_law = some m.cls := findClass_of_methodNamed B.named
    have hts0 : ∀ c ∈ (Jvm.Cond.code x code maxLocals ret :: tables_1), c.before #[Value.ref b] s = true := atoms_spec (ws := Jvm.Cond.code x code maxLocals ret :: tables_1) B.pre
    have hts : ∀ w ∈ lw_tbl, w.before #[Value.ref b] s = true := k2_hts_sels lw_privs (fun w hw => hts0 w (List.mem_cons_of_mem _ hw)) lw_privs_ok
    have hml : c.maxLocals = 4 := B.maxLocals_eq (hts0 _ List.mem_cons_self)
    have X₀ : Stand p l e room_1 s m #[Value.ref b] below meth c s₁ [] 0 0 := Stand.of_body B
    have hh0 : s₁.heap = s.heap := by rw [B.state]; rfl
    have hsz : scr.slots.size = xs.length := by rw [← Array.length_toList, hlist, List.length_map]
    have hval : ∀ j : Nat, j < xs.length → scr.slots[j]? = some (.int (xs.getD j 0)) := fun j hj => by
      rw [← Array.getElem?_toList, hlist]
      simp [hj]
    have hbl : b < s.heap.size := (Array.getElem?_eq_some_iff.mp hcb).1
    have hX : va_X b xs.length (fun j => xs.getD j 0) s s.heap := ⟨scr, hcb, hof, hkn, hsz, hval⟩
    have K : W p l e room_1 s m #[Value.ref b] below meth c s₁.heap [] 0 0 (lw_Z below #[Value.ref b] s) (entryFrame m ([Value.ref b] : List Value).toArray 4) := by
      rw [hh0]
      exact whole_start l hbd ⟨B.exec, B.bytes, B.returns, hml, hown, hts, hX, hbl, B.notSynchronized, hgv⟩
    obtain ⟨t, a1, o, b1, b2, b3⟩ := K s₁ rfl X₀
    exact ⟨t, o, a1, b1, b2, b3⟩
theorem lw_pre_spec {args : Array Value} {s : State} (h : (Jvm.Cond.and given_1 narrow_1).before args s = true) (hr : rest_1_c.before args s = true) : ∃ (b : Addr) (xs : List Int32), lw_P b xs args s := by
  have hs := flat_of_before _ h
  have hq := flat_of_before _ hr
  have hc : (Cond.count 1).before args s = true := hs _ (by decide +kernel)
  have harr : (Cond.arrayOf (.arg 0) .int).before args s = true := hs _ (by decide +kernel)
  have hle : (Cond.le (.length (.arg 0)) (.int 256)).before args s = true := hs _ (by decide +kernel)
  have hlen : (Cond.isInt (.length (.arg 0))).before args s = true := hq _ (by decide +kernel)
  have hall : (Cond.all (.arg 0) (.isInt (.elem (.arg 0) (.index 0)))).before args s = true := hq _ (by decide +kernel)
  obtain ⟨b, xs, hb, hx⟩ := State.ints_of_pre rfl harr hlen hall
  have hsm : xs.length < 2 ^ 31 := hx.choose_spec.2.2.2
  have hev : (Term.length (.arg 0)).eval args s none [] s = some (.int xs.length.toInt32) := hx.length_eval hb
  have hv := Cond.le_ints hev (show (Term.int 256).eval args s none [] s = some (.int 256) from rfl)
  have hd : xs.length.toInt32 ≤ 256 := by
    simpa [Cond.before, Cond.holds, hv] using hle
  have hN : xs.length ≤ 256 := (Int32.ofNat_le_ofNat hsm (by decide)).mp (show Int32.ofNat xs.length ≤ Int32.ofNat 256 from hd)
  exact ⟨b, xs, Cond.one_arg hc (show args[0]? = some (.ref b) from hb), hx, hN, h⟩
theorem lw_comes (l : Launch) : Comes l x (Jvm.Cond.code x code maxLocals ret :: tables_1) room_1 (fun tb e args s => Calls_1 tb e args s ∧ rest_1 tb e args s ∧ Pre_1 tb e args s)
    (fun _ _ args s o t => lw_Q args s o t) := by
  intro p e ha hc hk s m args below hf hfit hheap happ hpre
  obtain ⟨b, xs, hP⟩ := lw_pre_spec hpre.2.2 hpre.2.1
  obtain ⟨k, o, h1, h2, h3, hQ⟩ := lw_walk l b xs p e ha hc hk s m args below hf ((Spec.applies_iff_loose hf).mp happ).1 hP trivial
  exact ⟨k, o, h1, h2, h3, hQ⟩
theorem lw_frame {s t : State} {o : Outcome} {args : Array Value} (h : Framed s o t [] 600000 7290000) :
    Framed s o t (fieldLocs frame_1_writes args s ++ arrayLocs frame_1_arrays args s ++ staticLocs frame_1_statics s) 600000 7290000 := h
theorem lw_limb (L : Cond) (hL : ∀ (args : Array Value) (s t : State), L.after args s (.returned (some (.int 1))) t = true) :
    ArmFor flags0 classFile x code maxLocals ret World_1 tables_1 room_1 Calls_1 rest_1 Pre_1
      (fun tb e a s o t => postC L tb e a s o t ∧ Framed s o t (fieldLocs frame_1_writes a s ++ arrayLocs frame_1_arrays a s ++ staticLocs frame_1_statics s) 600000 7290000) := by
  intro l _ _ _ p e ha hc hk s m args below hf hfit hheap happ hpre
  obtain ⟨k, o, h1, h2, h3, rfl, hF⟩ := lw_comes l p e ha hc hk s m args below hf hfit hheap happ hpre
  exact ⟨k, _, h1, h2, h3, hL args s _, lw_frame hF⟩
theorem i_vc : Claimed_1_1 ∧ Claimed_1_2 := ⟨lw_limb limb_1_1 (fun args s t => by simp [limb_1_1, Cond.after, Cond.holds, Cond.value]), lw_limb limb_1_2 (fun args s t => Cond.after_iff.mpr (by
  first | (rw [show limb_1_2 = Cond.eq .result (.int 1) from rfl, Cond.eq_ints (x := 1) (y := 1) rfl rfl]; simp; done) | (simp [limb_1_2, Cond.value, Term.eval]; done)))⟩
end
