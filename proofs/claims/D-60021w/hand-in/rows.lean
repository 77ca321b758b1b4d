section
-- ===== PART A: goes FIRST, ahead of the names: the tables' words, and 'selects' of the private methods out of them =====
/-- a private method of a class that the tables say can be made, by its rows of tables_1 -/
def lw_okq (q : MethodName × Nat) : Prop := (q.1.cls ≠ "java/lang/invoke/MethodHandle" ∧ q.1.cls ≠ "java/lang/invoke/VarHandle") ∧ Cond.instantiable q.1.cls q.2 ∈ tables_1 ∧ Cond.privateMethod q.1 ∈ tables_1 ∧ Cond.instanceMethod q.1 ∈ tables_1
set_option maxRecDepth 100000
theorem lw_t1 {w : Cond} (h : w ∈ tables_1_1) : w ∈ tables_1 := List.mem_append_left _ h
theorem lw_t2 {w : Cond} (h : w ∈ tables_1_2) : w ∈ tables_1 := List.mem_append_right _ h
theorem lw_p0 : lw_okq (⟨"BehindStore", "isOpen", "(I)Z"⟩, 20) := ⟨⟨by decide +kernel, by decide +kernel⟩, lw_t1 (List.mem_of_getElem? (i := 4) rfl), lw_t1 (List.mem_of_getElem? (i := 80) rfl), lw_t1 (List.mem_of_getElem? (i := 81) rfl)⟩
theorem lw_p1 : lw_okq (⟨"BehindStore", "valueAt", "(II)I"⟩, 20) := ⟨⟨by decide +kernel, by decide +kernel⟩, lw_t1 (List.mem_of_getElem? (i := 4) rfl), lw_t1 (List.mem_of_getElem? (i := 95) rfl), lw_t1 (List.mem_of_getElem? (i := 96) rfl)⟩
theorem lw_p2 : lw_okq (⟨"BehindStore", "cellAt", "(II)I"⟩, 20) := ⟨⟨by decide +kernel, by decide +kernel⟩, lw_t1 (List.mem_of_getElem? (i := 4) rfl), lw_t1 (List.mem_of_getElem? (i := 99) rfl), lw_t1 (List.mem_of_getElem? (i := 100) rfl)⟩
theorem lw_p3 : lw_okq (⟨"BehindStore", "masked", "(I)Z"⟩, 20) := ⟨⟨by decide +kernel, by decide +kernel⟩, lw_t1 (List.mem_of_getElem? (i := 4) rfl), lw_t1 (List.mem_of_getElem? (i := 103) rfl), lw_t1 (List.mem_of_getElem? (i := 104) rfl)⟩
theorem lw_p4 : lw_okq (⟨"BehindStore", "changedSince", "(I)I"⟩, 20) := ⟨⟨by decide +kernel, by decide +kernel⟩, lw_t1 (List.mem_of_getElem? (i := 4) rfl), lw_t1 (List.mem_of_getElem? (i := 111) rfl), lw_t1 (List.mem_of_getElem? (i := 112) rfl)⟩
theorem lw_p5 : lw_okq (⟨"BehindStore", "enter", "(III)V"⟩, 20) := ⟨⟨by decide +kernel, by decide +kernel⟩, lw_t1 (List.mem_of_getElem? (i := 4) rfl), lw_t1 (List.mem_of_getElem? (i := 115) rfl), lw_t1 (List.mem_of_getElem? (i := 116) rfl)⟩
theorem lw_p6 : lw_okq (⟨"BehindStore", "freeCell", "()I"⟩, 20) := ⟨⟨by decide +kernel, by decide +kernel⟩, lw_t1 (List.mem_of_getElem? (i := 4) rfl), lw_t1 (List.mem_of_getElem? (i := 119) rfl), lw_t1 (List.mem_of_getElem? (i := 120) rfl)⟩
theorem lw_p7 : lw_okq (⟨"BehindStore", "reclaim", "()V"⟩, 20) := ⟨⟨by decide +kernel, by decide +kernel⟩, lw_t1 (List.mem_of_getElem? (i := 4) rfl), lw_t1 (List.mem_of_getElem? (i := 123) rfl), lw_t1 (List.mem_of_getElem? (i := 124) rfl)⟩
theorem lw_p8 : lw_okq (⟨"BehindStore", "needed", "(I)Z"⟩, 20) := ⟨⟨by decide +kernel, by decide +kernel⟩, lw_t1 (List.mem_of_getElem? (i := 4) rfl), lw_t1 (List.mem_of_getElem? (i := 127) rfl), lw_t1 (List.mem_of_getElem? (i := 128) rfl)⟩
theorem lw_p9 : lw_okq (⟨"BehindStore", "writeThrough", "()V"⟩, 20) := ⟨⟨by decide +kernel, by decide +kernel⟩, lw_t1 (List.mem_of_getElem? (i := 4) rfl), lw_t1 (List.mem_of_getElem? (i := 143) rfl), lw_t1 (List.mem_of_getElem? (i := 144) rfl)⟩
theorem lw_p10 : lw_okq (⟨"BehindStore", "dropGaps", "()V"⟩, 20) := ⟨⟨by decide +kernel, by decide +kernel⟩, lw_t1 (List.mem_of_getElem? (i := 4) rfl), lw_t1 (List.mem_of_getElem? (i := 155) rfl), lw_t1 (List.mem_of_getElem? (i := 156) rfl)⟩
theorem lw_p11 : lw_okq (⟨"BehindStoreModel", "isOpen", "(I)Z"⟩, 12) := ⟨⟨by decide +kernel, by decide +kernel⟩, lw_t1 (List.mem_of_getElem? (i := 183) rfl), lw_t1 (List.mem_of_getElem? (i := 234) rfl), lw_t1 (List.mem_of_getElem? (i := 235) rfl)⟩
theorem lw_p12 : lw_okq (⟨"BehindStoreModel", "isKey", "(I)Z"⟩, 12) := ⟨⟨by decide +kernel, by decide +kernel⟩, lw_t1 (List.mem_of_getElem? (i := 183) rfl), lw_t1 (List.mem_of_getElem? (i := 238) rfl), lw_t1 (List.mem_of_getElem? (i := 239) rfl)⟩
theorem lw_p13 : lw_okq (⟨"BehindStoreModel", "apply", "(I)V"⟩, 12) := ⟨⟨by decide +kernel, by decide +kernel⟩, lw_t1 (List.mem_of_getElem? (i := 183) rfl), lw_t2 (List.mem_of_getElem? (i := 10) rfl), lw_t2 (List.mem_of_getElem? (i := 11) rfl)⟩
def lw_privs_1 : List (MethodName × Nat) := [(⟨"BehindStore", "isOpen", "(I)Z"⟩, 20), (⟨"BehindStore", "valueAt", "(II)I"⟩, 20), (⟨"BehindStore", "cellAt", "(II)I"⟩, 20), (⟨"BehindStore", "masked", "(I)Z"⟩, 20), (⟨"BehindStore", "changedSince", "(I)I"⟩, 20), (⟨"BehindStore", "enter", "(III)V"⟩, 20), (⟨"BehindStore", "freeCell", "()I"⟩, 20), (⟨"BehindStore", "reclaim", "()V"⟩, 20), (⟨"BehindStore", "needed", "(I)Z"⟩, 20), (⟨"BehindStore", "writeThrough", "()V"⟩, 20), (⟨"BehindStore", "dropGaps", "()V"⟩, 20), (⟨"BehindStoreModel", "isOpen", "(I)Z"⟩, 12), (⟨"BehindStoreModel", "isKey", "(I)Z"⟩, 12), (⟨"BehindStoreModel", "apply", "(I)V"⟩, 12)]
theorem lw_r1 : ∀ q ∈ lw_privs_1, lw_okq q := List.forall_mem_cons.mpr ⟨lw_p0, List.forall_mem_cons.mpr ⟨lw_p1, List.forall_mem_cons.mpr ⟨lw_p2, List.forall_mem_cons.mpr ⟨lw_p3, List.forall_mem_cons.mpr ⟨lw_p4, List.forall_mem_cons.mpr ⟨lw_p5, List.forall_mem_cons.mpr ⟨lw_p6, List.forall_mem_cons.mpr ⟨lw_p7, List.forall_mem_cons.mpr ⟨lw_p8, List.forall_mem_cons.mpr ⟨lw_p9, List.forall_mem_cons.mpr ⟨lw_p10, List.forall_mem_cons.mpr ⟨lw_p11, List.forall_mem_cons.mpr ⟨lw_p12, List.forall_mem_cons.mpr ⟨lw_p13, fun _ h => absurd h List.not_mem_nil⟩⟩⟩⟩⟩⟩⟩⟩⟩⟩⟩⟩⟩⟩
def lw_privs : List (MethodName × Nat) := lw_privs_1
def lw_tbl : List Cond := k2_sels lw_privs ++ tables_1
theorem lw_privs_ok : ∀ q ∈ lw_privs, lw_okq q := lw_r1
-- ===== ONE list of words for every method: the tables' words that hold all through a run =====
def lw_all : List Cond := lw_tbl.filter goodWord
/-- a word of the tables by its place: claim/WORDS.tsv -/
theorem lw_w {w : Cond} (i : Nat) (h : lw_tbl[i]? = some w) (g : goodWord w = true) : w ∈ lw_all := List.mem_filter.mpr ⟨List.mem_of_getElem? h, g⟩
theorem lw_all_tbl {w : Cond} (h : w ∈ lw_all) : w ∈ lw_tbl := (List.mem_filter.mp h).1
theorem lw_self : GoodIn lw_all lw_all := fun w h => ⟨h, good_of_word (List.mem_filter.mp h).2⟩
/-- a class's field words, by their places -/
theorem lw_in (ws : List Cond) (ps : List Nat) (hp : ws = ps.filterMap (fun i => lw_tbl[i]?)) (hg : ws.all goodWord = true) : ∀ w ∈ ws, w ∈ lw_all := by
  intro w h
  have h1 := List.all_eq_true.mp hg w h
  rw [hp] at h
  obtain ⟨i, -, hi⟩ := List.mem_filterMap.mp h
  exact lw_w i hi h1
/-- the words of a contract for the method y with code b, L locals, answer r -/
abbrev ws_ (y : MethodName) (b : ByteArray) (L : Nat) (r : Option FieldType) : List Cond := Cond.code y b L r :: lw_all
theorem lw_meth {y : MethodName} {b : ByteArray} {L : Nat} {r : Option FieldType} (h : Cond.code y b L r ∈ lw_all) : GoodIn lw_all (ws_ y b L r) := by
  intro w hw
  rcases List.mem_cons.mp hw with e | e
  · rw [e]
    exact lw_self _ h
  · exact lw_self _ e
theorem lw_app {a c : List Cond} (ha : ∀ w ∈ a, w ∈ lw_all) (hc : GoodIn lw_all c) : GoodIn lw_all (a ++ c) := by
  intro w hw
  rcases List.mem_append.mp hw with e | e
  · exact lw_self w (ha w e)
  · exact hc w e
/-- what a call through an object asks: cwV n hts (lw_V ..) -/
theorem lw_V {own : String} {idx : Nat} {C : String} {y : MethodName} {b : ByteArray} {L : Nat} {r : Option FieldType} (h1 : Cond.methodLink own idx y ∈ lw_all) (h2 : Cond.instanceMethod y ∈ lw_all) (h3 : Cond.selects C y y ∈ lw_all) (h4 : Cond.initialized C ∈ lw_all) (h5 : Cond.code y b L r ∈ lw_all) : GoodIn lw_all (wsV own idx C y (ws_ y b L r)) := by
  refine lw_app ?_ (lw_meth h5)
  intro w hw
  simp only [List.mem_cons, List.not_mem_nil, or_false] at hw
  rcases hw with e | e | e | e
  · rw [e]; exact h1
  · rw [e]; exact h2
  · rw [e]; exact h3
  · rw [e]; exact h4
/-- what a static call asks: va_cwS n hts (lw_S ..) -/
theorem lw_S {own : String} {idx : Nat} {y : MethodName} {b : ByteArray} {L : Nat} {r : Option FieldType} (h1 : Cond.methodLink own idx y ∈ lw_all) (h2 : Cond.static y ∈ lw_all) (h3 : Cond.initialized y.cls ∈ lw_all) (h4 : Cond.code y b L r ∈ lw_all) : GoodIn lw_all (va_wsS own idx y (ws_ y b L r)) := by
  refine lw_app ?_ (lw_meth h4)
  intro w hw
  simp only [List.mem_cons, List.not_mem_nil, or_false] at hw
  rcases hw with e | e | e
  · rw [e]; exact h1
  · rw [e]; exact h2
  · rw [e]; exact h3
/-- the words of a contract for a method WITH HANDLERS (hh: its table) -/
abbrev wsW_ (y : MethodName) (b : ByteArray) (L : Nat) (r : Option FieldType) (hh : List (Nat × Nat × Nat × Nat)) : List Cond := Cond.codeWith y b L r hh :: lw_all
theorem lw_methW {y : MethodName} {b : ByteArray} {L : Nat} {r : Option FieldType} {hh : List (Nat × Nat × Nat × Nat)} (h : Cond.codeWith y b L r hh ∈ lw_all) : GoodIn lw_all (wsW_ y b L r hh) := by
  intro w hw
  rcases List.mem_cons.mp hw with e | e
  · rw [e]
    exact lw_self _ h
  · exact lw_self _ e
/-- any list of words by their places (lw_in), good -/
theorem lw_good {ws : List Cond} (h : ∀ w ∈ ws, w ∈ lw_all) : GoodIn lw_all ws := fun w hw => lw_self w (h w hw)
/-- what a call of a method with handlers asks: vx_cwVW n hts (lw_VW ..), vx_cwSW n hts (lw_SW ..) -/
theorem lw_VW {own : String} {idx : Nat} {C : String} {y : MethodName} {b : ByteArray} {L : Nat} {r : Option FieldType} {hh : List (Nat × Nat × Nat × Nat)} (h1 : Cond.methodLink own idx y ∈ lw_all) (h2 : Cond.instanceMethod y ∈ lw_all) (h3 : Cond.selects C y y ∈ lw_all) (h4 : Cond.initialized C ∈ lw_all) (h5 : Cond.codeWith y b L r hh ∈ lw_all) : GoodIn lw_all (wsV own idx C y (wsW_ y b L r hh)) := by
  refine lw_app ?_ (lw_methW h5)
  intro w hw
  simp only [List.mem_cons, List.not_mem_nil, or_false] at hw
  rcases hw with e | e | e | e
  · rw [e]; exact h1
  · rw [e]; exact h2
  · rw [e]; exact h3
  · rw [e]; exact h4
theorem lw_SW {own : String} {idx : Nat} {y : MethodName} {b : ByteArray} {L : Nat} {r : Option FieldType} {hh : List (Nat × Nat × Nat × Nat)} (h1 : Cond.methodLink own idx y ∈ lw_all) (h2 : Cond.static y ∈ lw_all) (h3 : Cond.initialized y.cls ∈ lw_all) (h4 : Cond.codeWith y b L r hh ∈ lw_all) : GoodIn lw_all (va_wsS own idx y (wsW_ y b L r hh)) := by
  refine lw_app ?_ (lw_methW h4)
  intro w hw
  simp only [List.mem_cons, List.not_mem_nil, or_false] at hw
  rcases hw with e | e | e
  · rw [e]; exact h1
  · rw [e]; exact h2
  · rw [e]; exact h3
/-- a word by its place in its run of the tables -/
theorem lw_at {r : List Cond} (hr : ∀ w ∈ r, w ∈ lw_tbl) {w : Cond} (i : Nat) (h : r[i]? = some w) : w ∈ lw_tbl := hr w (List.mem_of_getElem? h)
theorem lw_g {w : Cond} (h : w ∈ lw_tbl) (g : goodWord w = true) : w ∈ lw_all := List.mem_filter.mpr ⟨h, g⟩
theorem lw_ms : ∀ w ∈ k2_sels lw_privs, w ∈ lw_tbl := fun w h => show w ∈ k2_sels lw_privs ++ tables_1 from List.mem_append_left _ h
theorem lw_m1 : ∀ w ∈ tables_1_1, w ∈ lw_tbl := fun w h => show w ∈ k2_sels lw_privs ++ tables_1 from List.mem_append_right (k2_sels lw_privs) (show w ∈ tables_1 from List.mem_append_left _ h)
theorem lw_m2 : ∀ w ∈ tables_1_2, w ∈ lw_tbl := fun w h => show w ∈ k2_sels lw_privs ++ tables_1 from List.mem_append_right (k2_sels lw_privs) (show w ∈ tables_1 from List.mem_append_right _ h)
theorem qs0 : (Cond.selects "BehindStore" ⟨"BehindStore", "isOpen", "(I)Z"⟩ ⟨"BehindStore", "isOpen", "(I)Z"⟩) ∈ lw_all := lw_g (lw_at lw_ms 0 rfl) rfl
theorem qs1 : (Cond.selects "BehindStore" ⟨"BehindStore", "valueAt", "(II)I"⟩ ⟨"BehindStore", "valueAt", "(II)I"⟩) ∈ lw_all := lw_g (lw_at lw_ms 1 rfl) rfl
theorem qs2 : (Cond.selects "BehindStore" ⟨"BehindStore", "cellAt", "(II)I"⟩ ⟨"BehindStore", "cellAt", "(II)I"⟩) ∈ lw_all := lw_g (lw_at lw_ms 2 rfl) rfl
theorem qs3 : (Cond.selects "BehindStore" ⟨"BehindStore", "masked", "(I)Z"⟩ ⟨"BehindStore", "masked", "(I)Z"⟩) ∈ lw_all := lw_g (lw_at lw_ms 3 rfl) rfl
theorem qs4 : (Cond.selects "BehindStore" ⟨"BehindStore", "changedSince", "(I)I"⟩ ⟨"BehindStore", "changedSince", "(I)I"⟩) ∈ lw_all := lw_g (lw_at lw_ms 4 rfl) rfl
theorem qs5 : (Cond.selects "BehindStore" ⟨"BehindStore", "enter", "(III)V"⟩ ⟨"BehindStore", "enter", "(III)V"⟩) ∈ lw_all := lw_g (lw_at lw_ms 5 rfl) rfl
theorem qs6 : (Cond.selects "BehindStore" ⟨"BehindStore", "freeCell", "()I"⟩ ⟨"BehindStore", "freeCell", "()I"⟩) ∈ lw_all := lw_g (lw_at lw_ms 6 rfl) rfl
theorem qs7 : (Cond.selects "BehindStore" ⟨"BehindStore", "reclaim", "()V"⟩ ⟨"BehindStore", "reclaim", "()V"⟩) ∈ lw_all := lw_g (lw_at lw_ms 7 rfl) rfl
theorem qs8 : (Cond.selects "BehindStore" ⟨"BehindStore", "needed", "(I)Z"⟩ ⟨"BehindStore", "needed", "(I)Z"⟩) ∈ lw_all := lw_g (lw_at lw_ms 8 rfl) rfl
theorem qs9 : (Cond.selects "BehindStore" ⟨"BehindStore", "writeThrough", "()V"⟩ ⟨"BehindStore", "writeThrough", "()V"⟩) ∈ lw_all := lw_g (lw_at lw_ms 9 rfl) rfl
theorem qs10 : (Cond.selects "BehindStore" ⟨"BehindStore", "dropGaps", "()V"⟩ ⟨"BehindStore", "dropGaps", "()V"⟩) ∈ lw_all := lw_g (lw_at lw_ms 10 rfl) rfl
theorem qs11 : (Cond.selects "BehindStoreModel" ⟨"BehindStoreModel", "isOpen", "(I)Z"⟩ ⟨"BehindStoreModel", "isOpen", "(I)Z"⟩) ∈ lw_all := lw_g (lw_at lw_ms 11 rfl) rfl
theorem qs12 : (Cond.selects "BehindStoreModel" ⟨"BehindStoreModel", "isKey", "(I)Z"⟩ ⟨"BehindStoreModel", "isKey", "(I)Z"⟩) ∈ lw_all := lw_g (lw_at lw_ms 12 rfl) rfl
theorem qs13 : (Cond.selects "BehindStoreModel" ⟨"BehindStoreModel", "apply", "(I)V"⟩ ⟨"BehindStoreModel", "apply", "(I)V"⟩) ∈ lw_all := lw_g (lw_at lw_ms 13 rfl) rfl
end
section
/-! BehindStore -/
set_option maxRecDepth 100000
def RX0 : String := "BehindStore"
def TX0 : u_T := fun k => match k with
  | 0 => ("BehindStore", "used", "[Z", true)
  | 1 => ("BehindStore", "keyOf", "[B", true)
  | 2 => ("BehindStore", "timeOf", "[I", true)
  | 3 => ("BehindStore", "valueOf", "[I", true)
  | 4 => ("BehindStore", "through", "[Z", true)
  | 5 => ("BehindStore", "gaps", "I", false)
  | 6 => ("BehindStore", "gapLow", "[I", true)
  | 7 => ("BehindStore", "gapHigh", "[I", true)
  | 8 => ("BehindStore", "lastTime", "I", false)
  | 9 => ("BehindStore", "safeTime", "I", false)
  | 10 => ("BehindStore", "sealTime", "I", false)
  | 11 => ("BehindStore", "steps", "I", false)
  | 12 => ("BehindStore", "waitingWrites", "I", false)
  | 13 => ("BehindStore", "commitCount", "I", false)
  | 14 => ("BehindStore", "sealCount", "I", false)
  | 15 => ("BehindStore", "safeCount", "I", false)
  | 16 => ("BehindStore", "openSet", "I", false)
  | 17 => ("BehindStore", "beganAt", "[I", true)
  | 18 => ("BehindStore", "wrote", "[I", true)
  | _ => ("BehindStore", "draft", "[I", true)
def tyX0 : Nat → FieldType := fun k => match k with
  | 0 => .array .boolean
  | 1 => .array .byte
  | 2 => .array .int
  | 3 => .array .int
  | 4 => .array .boolean
  | 5 => .int
  | 6 => .array .int
  | 7 => .array .int
  | 8 => .int
  | 9 => .int
  | 10 => .int
  | 11 => .int
  | 12 => .int
  | 13 => .int
  | 14 => .int
  | 15 => .int
  | 16 => .int
  | 17 => .array .int
  | 18 => .array .int
  | _ => .array .int
abbrev wsX00 : List Cond := u_ws RX0 TX0 20
set_option maxRecDepth 100000 in
theorem nmX0 : ∀ a, a < 20 → ∀ b, b < 20 → a ≠ b → (TX0 a).2.1 ≠ (TX0 b).2.1 := by decide +kernel
set_option maxRecDepth 100000 in
theorem tyX0_ok : ∀ k, k < 20 → parseFieldDescriptor (TX0 k).2.2.1 = some (tyX0 k) := by decide +kernel
abbrev cX0_init : ByteArray := prog_1_method_1_code
def yX0_init : MethodName := ⟨RX0, "<init>", "()V"⟩
theorem dX0_init_0 : decode cX0_init 0 = .ok (.aload_n 0, 1) := by decide +kernel
theorem dX0_init_1 : decode cX0_init 1 = .ok (.invokespecial 1, 3) := by decide +kernel
theorem dX0_init_4 : decode cX0_init 4 = .ok (.aload_n 0, 1) := by decide +kernel
theorem dX0_init_5 : decode cX0_init 5 = .ok (.bipush 64, 2) := by decide +kernel
theorem dX0_init_7 : decode cX0_init 7 = .ok (.newarray .boolean, 2) := by decide +kernel
theorem dX0_init_9 : decode cX0_init 9 = .ok (.putfield 7, 3) := by decide +kernel
theorem dX0_init_12 : decode cX0_init 12 = .ok (.aload_n 0, 1) := by decide +kernel
theorem dX0_init_13 : decode cX0_init 13 = .ok (.bipush 64, 2) := by decide +kernel
theorem dX0_init_15 : decode cX0_init 15 = .ok (.newarray .byte, 2) := by decide +kernel
theorem dX0_init_17 : decode cX0_init 17 = .ok (.putfield 13, 3) := by decide +kernel
theorem dX0_init_20 : decode cX0_init 20 = .ok (.aload_n 0, 1) := by decide +kernel
theorem dX0_init_21 : decode cX0_init 21 = .ok (.bipush 64, 2) := by decide +kernel
theorem dX0_init_23 : decode cX0_init 23 = .ok (.newarray .int, 2) := by decide +kernel
theorem dX0_init_25 : decode cX0_init 25 = .ok (.putfield 17, 3) := by decide +kernel
theorem dX0_init_28 : decode cX0_init 28 = .ok (.aload_n 0, 1) := by decide +kernel
theorem dX0_init_29 : decode cX0_init 29 = .ok (.bipush 64, 2) := by decide +kernel
theorem dX0_init_31 : decode cX0_init 31 = .ok (.newarray .int, 2) := by decide +kernel
theorem dX0_init_33 : decode cX0_init 33 = .ok (.putfield 21, 3) := by decide +kernel
theorem dX0_init_36 : decode cX0_init 36 = .ok (.aload_n 0, 1) := by decide +kernel
theorem dX0_init_37 : decode cX0_init 37 = .ok (.bipush 64, 2) := by decide +kernel
theorem dX0_init_39 : decode cX0_init 39 = .ok (.newarray .boolean, 2) := by decide +kernel
theorem dX0_init_41 : decode cX0_init 41 = .ok (.putfield 24, 3) := by decide +kernel
theorem dX0_init_44 : decode cX0_init 44 = .ok (.aload_n 0, 1) := by decide +kernel
theorem dX0_init_45 : decode cX0_init 45 = .ok (.iconst 4, 1) := by decide +kernel
theorem dX0_init_46 : decode cX0_init 46 = .ok (.newarray .int, 2) := by decide +kernel
theorem dX0_init_48 : decode cX0_init 48 = .ok (.putfield 27, 3) := by decide +kernel
theorem dX0_init_51 : decode cX0_init 51 = .ok (.aload_n 0, 1) := by decide +kernel
theorem dX0_init_52 : decode cX0_init 52 = .ok (.iconst 4, 1) := by decide +kernel
theorem dX0_init_53 : decode cX0_init 53 = .ok (.newarray .int, 2) := by decide +kernel
theorem dX0_init_55 : decode cX0_init 55 = .ok (.putfield 30, 3) := by decide +kernel
theorem dX0_init_58 : decode cX0_init 58 = .ok (.aload_n 0, 1) := by decide +kernel
theorem dX0_init_59 : decode cX0_init 59 = .ok (.iconst 4, 1) := by decide +kernel
theorem dX0_init_60 : decode cX0_init 60 = .ok (.newarray .int, 2) := by decide +kernel
theorem dX0_init_62 : decode cX0_init 62 = .ok (.putfield 33, 3) := by decide +kernel
theorem dX0_init_65 : decode cX0_init 65 = .ok (.aload_n 0, 1) := by decide +kernel
theorem dX0_init_66 : decode cX0_init 66 = .ok (.iconst 4, 1) := by decide +kernel
theorem dX0_init_67 : decode cX0_init 67 = .ok (.newarray .int, 2) := by decide +kernel
theorem dX0_init_69 : decode cX0_init 69 = .ok (.putfield 36, 3) := by decide +kernel
theorem dX0_init_72 : decode cX0_init 72 = .ok (.aload_n 0, 1) := by decide +kernel
theorem dX0_init_73 : decode cX0_init 73 = .ok (.bipush 32, 2) := by decide +kernel
theorem dX0_init_75 : decode cX0_init 75 = .ok (.newarray .int, 2) := by decide +kernel
theorem dX0_init_77 : decode cX0_init 77 = .ok (.putfield 39, 3) := by decide +kernel
theorem dX0_init_80 : decode cX0_init 80 = .ok (.return_, 1) := by decide +kernel
abbrev cX0_begin : ByteArray := prog_1_method_11_code
def yX0_begin : MethodName := ⟨RX0, "begin", "()I"⟩
theorem dX0_begin_0 : decode cX0_begin 0 = .ok (.iconst 0, 1) := by decide +kernel
theorem dX0_begin_1 : decode cX0_begin 1 = .ok (.istore_n 1, 1) := by decide +kernel
theorem dX0_begin_2 : decode cX0_begin 2 = .ok (.iload_n 1, 1) := by decide +kernel
theorem dX0_begin_3 : decode cX0_begin 3 = .ok (.iconst 4, 1) := by decide +kernel
theorem dX0_begin_4 : decode cX0_begin 4 = .ok (.if_icmp .ge 48, 3) := by decide +kernel
theorem dX0_begin_7 : decode cX0_begin 7 = .ok (.aload_n 0, 1) := by decide +kernel
theorem dX0_begin_8 : decode cX0_begin 8 = .ok (.iload_n 1, 1) := by decide +kernel
theorem dX0_begin_9 : decode cX0_begin 9 = .ok (.invokevirtual 79, 3) := by decide +kernel
theorem dX0_begin_12 : decode cX0_begin 12 = .ok (.ifCond .ne 34, 3) := by decide +kernel
theorem dX0_begin_15 : decode cX0_begin 15 = .ok (.aload_n 0, 1) := by decide +kernel
theorem dX0_begin_16 : decode cX0_begin 16 = .ok (.dup, 1) := by decide +kernel
theorem dX0_begin_17 : decode cX0_begin 17 = .ok (.getfield 42, 3) := by decide +kernel
theorem dX0_begin_20 : decode cX0_begin 20 = .ok (.iconst 1, 1) := by decide +kernel
theorem dX0_begin_21 : decode cX0_begin 21 = .ok (.iload_n 1, 1) := by decide +kernel
theorem dX0_begin_22 : decode cX0_begin 22 = .ok (.ishl, 1) := by decide +kernel
theorem dX0_begin_23 : decode cX0_begin 23 = .ok (.ior, 1) := by decide +kernel
theorem dX0_begin_24 : decode cX0_begin 24 = .ok (.putfield 42, 3) := by decide +kernel
theorem dX0_begin_27 : decode cX0_begin 27 = .ok (.aload_n 0, 1) := by decide +kernel
theorem dX0_begin_28 : decode cX0_begin 28 = .ok (.getfield 33, 3) := by decide +kernel
theorem dX0_begin_31 : decode cX0_begin 31 = .ok (.iload_n 1, 1) := by decide +kernel
theorem dX0_begin_32 : decode cX0_begin 32 = .ok (.aload_n 0, 1) := by decide +kernel
theorem dX0_begin_33 : decode cX0_begin 33 = .ok (.getfield 70, 3) := by decide +kernel
theorem dX0_begin_36 : decode cX0_begin 36 = .ok (.iastore, 1) := by decide +kernel
theorem dX0_begin_37 : decode cX0_begin 37 = .ok (.aload_n 0, 1) := by decide +kernel
theorem dX0_begin_38 : decode cX0_begin 38 = .ok (.getfield 36, 3) := by decide +kernel
theorem dX0_begin_41 : decode cX0_begin 41 = .ok (.iload_n 1, 1) := by decide +kernel
theorem dX0_begin_42 : decode cX0_begin 42 = .ok (.iconst 0, 1) := by decide +kernel
theorem dX0_begin_43 : decode cX0_begin 43 = .ok (.iastore, 1) := by decide +kernel
theorem dX0_begin_44 : decode cX0_begin 44 = .ok (.iload_n 1, 1) := by decide +kernel
theorem dX0_begin_45 : decode cX0_begin 45 = .ok (.ireturn, 1) := by decide +kernel
theorem dX0_begin_46 : decode cX0_begin 46 = .ok (.iinc 1 1, 3) := by decide +kernel
theorem dX0_begin_49 : decode cX0_begin 49 = .ok (.goto (-47), 3) := by decide +kernel
theorem dX0_begin_52 : decode cX0_begin 52 = .ok (.bipush (-2), 2) := by decide +kernel
theorem dX0_begin_54 : decode cX0_begin 54 = .ok (.ireturn, 1) := by decide +kernel
abbrev cX0_isOpen : ByteArray := prog_1_method_3_code
def yX0_isOpen : MethodName := ⟨RX0, "isOpen", "(I)Z"⟩
theorem dX0_isOpen_0 : decode cX0_isOpen 0 = .ok (.iload_n 1, 1) := by decide +kernel
theorem dX0_isOpen_1 : decode cX0_isOpen 1 = .ok (.ifCond .lt 23, 3) := by decide +kernel
theorem dX0_isOpen_4 : decode cX0_isOpen 4 = .ok (.iload_n 1, 1) := by decide +kernel
theorem dX0_isOpen_5 : decode cX0_isOpen 5 = .ok (.iconst 4, 1) := by decide +kernel
theorem dX0_isOpen_6 : decode cX0_isOpen 6 = .ok (.if_icmp .ge 18, 3) := by decide +kernel
theorem dX0_isOpen_9 : decode cX0_isOpen 9 = .ok (.aload_n 0, 1) := by decide +kernel
theorem dX0_isOpen_10 : decode cX0_isOpen 10 = .ok (.getfield 42, 3) := by decide +kernel
theorem dX0_isOpen_13 : decode cX0_isOpen 13 = .ok (.iload_n 1, 1) := by decide +kernel
theorem dX0_isOpen_14 : decode cX0_isOpen 14 = .ok (.ishr, 1) := by decide +kernel
theorem dX0_isOpen_15 : decode cX0_isOpen 15 = .ok (.iconst 1, 1) := by decide +kernel
theorem dX0_isOpen_16 : decode cX0_isOpen 16 = .ok (.iand, 1) := by decide +kernel
theorem dX0_isOpen_17 : decode cX0_isOpen 17 = .ok (.ifCond .eq 7, 3) := by decide +kernel
theorem dX0_isOpen_20 : decode cX0_isOpen 20 = .ok (.iconst 1, 1) := by decide +kernel
theorem dX0_isOpen_21 : decode cX0_isOpen 21 = .ok (.goto 4, 3) := by decide +kernel
theorem dX0_isOpen_24 : decode cX0_isOpen 24 = .ok (.iconst 0, 1) := by decide +kernel
theorem dX0_isOpen_25 : decode cX0_isOpen 25 = .ok (.ireturn, 1) := by decide +kernel
abbrev cX0_write : ByteArray := prog_1_method_12_code
def yX0_write : MethodName := ⟨RX0, "write", "(III)I"⟩
theorem dX0_write_0 : decode cX0_write 0 = .ok (.aload_n 0, 1) := by decide +kernel
theorem dX0_write_1 : decode cX0_write 1 = .ok (.iload_n 1, 1) := by decide +kernel
theorem dX0_write_2 : decode cX0_write 2 = .ok (.invokevirtual 79, 3) := by decide +kernel
theorem dX0_write_5 : decode cX0_write 5 = .ok (.ifCond .eq 10, 3) := by decide +kernel
theorem dX0_write_8 : decode cX0_write 8 = .ok (.iload_n 2, 1) := by decide +kernel
theorem dX0_write_9 : decode cX0_write 9 = .ok (.invokestatic 82, 3) := by decide +kernel
theorem dX0_write_12 : decode cX0_write 12 = .ok (.ifCond .ne 5, 3) := by decide +kernel
theorem dX0_write_15 : decode cX0_write 15 = .ok (.iconst (-1), 1) := by decide +kernel
theorem dX0_write_16 : decode cX0_write 16 = .ok (.ireturn, 1) := by decide +kernel
theorem dX0_write_17 : decode cX0_write 17 = .ok (.aload_n 0, 1) := by decide +kernel
theorem dX0_write_18 : decode cX0_write 18 = .ok (.getfield 36, 3) := by decide +kernel
theorem dX0_write_21 : decode cX0_write 21 = .ok (.iload_n 1, 1) := by decide +kernel
theorem dX0_write_22 : decode cX0_write 22 = .ok (.dup2, 1) := by decide +kernel
theorem dX0_write_23 : decode cX0_write 23 = .ok (.iaload, 1) := by decide +kernel
theorem dX0_write_24 : decode cX0_write 24 = .ok (.iconst 1, 1) := by decide +kernel
theorem dX0_write_25 : decode cX0_write 25 = .ok (.iload_n 2, 1) := by decide +kernel
theorem dX0_write_26 : decode cX0_write 26 = .ok (.ishl, 1) := by decide +kernel
theorem dX0_write_27 : decode cX0_write 27 = .ok (.ior, 1) := by decide +kernel
theorem dX0_write_28 : decode cX0_write 28 = .ok (.iastore, 1) := by decide +kernel
theorem dX0_write_29 : decode cX0_write 29 = .ok (.aload_n 0, 1) := by decide +kernel
theorem dX0_write_30 : decode cX0_write 30 = .ok (.getfield 39, 3) := by decide +kernel
theorem dX0_write_33 : decode cX0_write 33 = .ok (.iload_n 1, 1) := by decide +kernel
theorem dX0_write_34 : decode cX0_write 34 = .ok (.bipush 8, 2) := by decide +kernel
theorem dX0_write_36 : decode cX0_write 36 = .ok (.imul, 1) := by decide +kernel
theorem dX0_write_37 : decode cX0_write 37 = .ok (.iload_n 2, 1) := by decide +kernel
theorem dX0_write_38 : decode cX0_write 38 = .ok (.iadd, 1) := by decide +kernel
theorem dX0_write_39 : decode cX0_write 39 = .ok (.iload_n 3, 1) := by decide +kernel
theorem dX0_write_40 : decode cX0_write 40 = .ok (.iastore, 1) := by decide +kernel
theorem dX0_write_41 : decode cX0_write 41 = .ok (.iconst 0, 1) := by decide +kernel
theorem dX0_write_42 : decode cX0_write 42 = .ok (.ireturn, 1) := by decide +kernel
abbrev cX0_isKey : ByteArray := prog_1_method_2_code
def yX0_isKey : MethodName := ⟨RX0, "isKey", "(I)Z"⟩
theorem dX0_isKey_0 : decode cX0_isKey 0 = .ok (.iload_n 0, 1) := by decide +kernel
theorem dX0_isKey_1 : decode cX0_isKey 1 = .ok (.ifCond .lt 13, 3) := by decide +kernel
theorem dX0_isKey_4 : decode cX0_isKey 4 = .ok (.iload_n 0, 1) := by decide +kernel
theorem dX0_isKey_5 : decode cX0_isKey 5 = .ok (.bipush 8, 2) := by decide +kernel
theorem dX0_isKey_7 : decode cX0_isKey 7 = .ok (.if_icmp .ge 7, 3) := by decide +kernel
theorem dX0_isKey_10 : decode cX0_isKey 10 = .ok (.iconst 1, 1) := by decide +kernel
theorem dX0_isKey_11 : decode cX0_isKey 11 = .ok (.goto 4, 3) := by decide +kernel
theorem dX0_isKey_14 : decode cX0_isKey 14 = .ok (.iconst 0, 1) := by decide +kernel
theorem dX0_isKey_15 : decode cX0_isKey 15 = .ok (.ireturn, 1) := by decide +kernel
abbrev cX0_read : ByteArray := prog_1_method_13_code
def yX0_read : MethodName := ⟨RX0, "read", "(II)I"⟩
theorem dX0_read_0 : decode cX0_read 0 = .ok (.aload_n 0, 1) := by decide +kernel
theorem dX0_read_1 : decode cX0_read 1 = .ok (.iload_n 1, 1) := by decide +kernel
theorem dX0_read_2 : decode cX0_read 2 = .ok (.invokevirtual 79, 3) := by decide +kernel
theorem dX0_read_5 : decode cX0_read 5 = .ok (.ifCond .eq 10, 3) := by decide +kernel
theorem dX0_read_8 : decode cX0_read 8 = .ok (.iload_n 2, 1) := by decide +kernel
theorem dX0_read_9 : decode cX0_read 9 = .ok (.invokestatic 82, 3) := by decide +kernel
theorem dX0_read_12 : decode cX0_read 12 = .ok (.ifCond .ne 5, 3) := by decide +kernel
theorem dX0_read_15 : decode cX0_read 15 = .ok (.iconst 0, 1) := by decide +kernel
theorem dX0_read_16 : decode cX0_read 16 = .ok (.ireturn, 1) := by decide +kernel
theorem dX0_read_17 : decode cX0_read 17 = .ok (.aload_n 0, 1) := by decide +kernel
theorem dX0_read_18 : decode cX0_read 18 = .ok (.getfield 36, 3) := by decide +kernel
theorem dX0_read_21 : decode cX0_read 21 = .ok (.iload_n 1, 1) := by decide +kernel
theorem dX0_read_22 : decode cX0_read 22 = .ok (.iaload, 1) := by decide +kernel
theorem dX0_read_23 : decode cX0_read 23 = .ok (.iload_n 2, 1) := by decide +kernel
theorem dX0_read_24 : decode cX0_read 24 = .ok (.ishr, 1) := by decide +kernel
theorem dX0_read_25 : decode cX0_read 25 = .ok (.iconst 1, 1) := by decide +kernel
theorem dX0_read_26 : decode cX0_read 26 = .ok (.iand, 1) := by decide +kernel
theorem dX0_read_27 : decode cX0_read 27 = .ok (.ifCond .eq 15, 3) := by decide +kernel
theorem dX0_read_30 : decode cX0_read 30 = .ok (.aload_n 0, 1) := by decide +kernel
theorem dX0_read_31 : decode cX0_read 31 = .ok (.getfield 39, 3) := by decide +kernel
theorem dX0_read_34 : decode cX0_read 34 = .ok (.iload_n 1, 1) := by decide +kernel
theorem dX0_read_35 : decode cX0_read 35 = .ok (.bipush 8, 2) := by decide +kernel
theorem dX0_read_37 : decode cX0_read 37 = .ok (.imul, 1) := by decide +kernel
theorem dX0_read_38 : decode cX0_read 38 = .ok (.iload_n 2, 1) := by decide +kernel
theorem dX0_read_39 : decode cX0_read 39 = .ok (.iadd, 1) := by decide +kernel
theorem dX0_read_40 : decode cX0_read 40 = .ok (.iaload, 1) := by decide +kernel
theorem dX0_read_41 : decode cX0_read 41 = .ok (.ireturn, 1) := by decide +kernel
theorem dX0_read_42 : decode cX0_read 42 = .ok (.aload_n 0, 1) := by decide +kernel
theorem dX0_read_43 : decode cX0_read 43 = .ok (.iload_n 2, 1) := by decide +kernel
theorem dX0_read_44 : decode cX0_read 44 = .ok (.aload_n 0, 1) := by decide +kernel
theorem dX0_read_45 : decode cX0_read 45 = .ok (.getfield 33, 3) := by decide +kernel
theorem dX0_read_48 : decode cX0_read 48 = .ok (.iload_n 1, 1) := by decide +kernel
theorem dX0_read_49 : decode cX0_read 49 = .ok (.iaload, 1) := by decide +kernel
theorem dX0_read_50 : decode cX0_read 50 = .ok (.invokevirtual 85, 3) := by decide +kernel
theorem dX0_read_53 : decode cX0_read 53 = .ok (.ireturn, 1) := by decide +kernel
abbrev cX0_valueAt : ByteArray := prog_1_method_6_code
def yX0_valueAt : MethodName := ⟨RX0, "valueAt", "(II)I"⟩
theorem dX0_valueAt_0 : decode cX0_valueAt 0 = .ok (.aload_n 0, 1) := by decide +kernel
theorem dX0_valueAt_1 : decode cX0_valueAt 1 = .ok (.iload_n 1, 1) := by decide +kernel
theorem dX0_valueAt_2 : decode cX0_valueAt 2 = .ok (.iload_n 2, 1) := by decide +kernel
theorem dX0_valueAt_3 : decode cX0_valueAt 3 = .ok (.invokevirtual 53, 3) := by decide +kernel
theorem dX0_valueAt_6 : decode cX0_valueAt 6 = .ok (.istore_n 3, 1) := by decide +kernel
theorem dX0_valueAt_7 : decode cX0_valueAt 7 = .ok (.iload_n 3, 1) := by decide +kernel
theorem dX0_valueAt_8 : decode cX0_valueAt 8 = .ok (.ifCond .ge 7, 3) := by decide +kernel
theorem dX0_valueAt_11 : decode cX0_valueAt 11 = .ok (.iconst 0, 1) := by decide +kernel
theorem dX0_valueAt_12 : decode cX0_valueAt 12 = .ok (.goto 9, 3) := by decide +kernel
theorem dX0_valueAt_15 : decode cX0_valueAt 15 = .ok (.aload_n 0, 1) := by decide +kernel
theorem dX0_valueAt_16 : decode cX0_valueAt 16 = .ok (.getfield 21, 3) := by decide +kernel
theorem dX0_valueAt_19 : decode cX0_valueAt 19 = .ok (.iload_n 3, 1) := by decide +kernel
theorem dX0_valueAt_20 : decode cX0_valueAt 20 = .ok (.iaload, 1) := by decide +kernel
theorem dX0_valueAt_21 : decode cX0_valueAt 21 = .ok (.ireturn, 1) := by decide +kernel
abbrev cX0_cellAt : ByteArray := prog_1_method_5_code
def yX0_cellAt : MethodName := ⟨RX0, "cellAt", "(II)I"⟩
theorem dX0_cellAt_0 : decode cX0_cellAt 0 = .ok (.iconst (-1), 1) := by decide +kernel
theorem dX0_cellAt_1 : decode cX0_cellAt 1 = .ok (.istore_n 3, 1) := by decide +kernel
theorem dX0_cellAt_2 : decode cX0_cellAt 2 = .ok (.iconst 0, 1) := by decide +kernel
theorem dX0_cellAt_3 : decode cX0_cellAt 3 = .ok (.istore 4, 2) := by decide +kernel
theorem dX0_cellAt_5 : decode cX0_cellAt 5 = .ok (.iload 4, 2) := by decide +kernel
theorem dX0_cellAt_7 : decode cX0_cellAt 7 = .ok (.bipush 64, 2) := by decide +kernel
theorem dX0_cellAt_9 : decode cX0_cellAt 9 = .ok (.if_icmp .ge 78, 3) := by decide +kernel
theorem dX0_cellAt_12 : decode cX0_cellAt 12 = .ok (.aload_n 0, 1) := by decide +kernel
theorem dX0_cellAt_13 : decode cX0_cellAt 13 = .ok (.getfield 7, 3) := by decide +kernel
theorem dX0_cellAt_16 : decode cX0_cellAt 16 = .ok (.iload 4, 2) := by decide +kernel
theorem dX0_cellAt_18 : decode cX0_cellAt 18 = .ok (.baload, 1) := by decide +kernel
theorem dX0_cellAt_19 : decode cX0_cellAt 19 = .ok (.ifCond .eq 62, 3) := by decide +kernel
theorem dX0_cellAt_22 : decode cX0_cellAt 22 = .ok (.aload_n 0, 1) := by decide +kernel
theorem dX0_cellAt_23 : decode cX0_cellAt 23 = .ok (.getfield 13, 3) := by decide +kernel
theorem dX0_cellAt_26 : decode cX0_cellAt 26 = .ok (.iload 4, 2) := by decide +kernel
theorem dX0_cellAt_28 : decode cX0_cellAt 28 = .ok (.baload, 1) := by decide +kernel
theorem dX0_cellAt_29 : decode cX0_cellAt 29 = .ok (.iload_n 1, 1) := by decide +kernel
theorem dX0_cellAt_30 : decode cX0_cellAt 30 = .ok (.if_icmp .ne 51, 3) := by decide +kernel
theorem dX0_cellAt_33 : decode cX0_cellAt 33 = .ok (.aload_n 0, 1) := by decide +kernel
theorem dX0_cellAt_34 : decode cX0_cellAt 34 = .ok (.getfield 17, 3) := by decide +kernel
theorem dX0_cellAt_37 : decode cX0_cellAt 37 = .ok (.iload 4, 2) := by decide +kernel
theorem dX0_cellAt_39 : decode cX0_cellAt 39 = .ok (.iaload, 1) := by decide +kernel
theorem dX0_cellAt_40 : decode cX0_cellAt 40 = .ok (.iload_n 2, 1) := by decide +kernel
theorem dX0_cellAt_41 : decode cX0_cellAt 41 = .ok (.if_icmp .gt 40, 3) := by decide +kernel
theorem dX0_cellAt_44 : decode cX0_cellAt 44 = .ok (.aload_n 0, 1) := by decide +kernel
theorem dX0_cellAt_45 : decode cX0_cellAt 45 = .ok (.aload_n 0, 1) := by decide +kernel
theorem dX0_cellAt_46 : decode cX0_cellAt 46 = .ok (.getfield 17, 3) := by decide +kernel
theorem dX0_cellAt_49 : decode cX0_cellAt 49 = .ok (.iload 4, 2) := by decide +kernel
theorem dX0_cellAt_51 : decode cX0_cellAt 51 = .ok (.iaload, 1) := by decide +kernel
theorem dX0_cellAt_52 : decode cX0_cellAt 52 = .ok (.invokevirtual 49, 3) := by decide +kernel
theorem dX0_cellAt_55 : decode cX0_cellAt 55 = .ok (.ifCond .ne 26, 3) := by decide +kernel
theorem dX0_cellAt_58 : decode cX0_cellAt 58 = .ok (.iload_n 3, 1) := by decide +kernel
theorem dX0_cellAt_59 : decode cX0_cellAt 59 = .ok (.ifCond .lt 19, 3) := by decide +kernel
theorem dX0_cellAt_62 : decode cX0_cellAt 62 = .ok (.aload_n 0, 1) := by decide +kernel
theorem dX0_cellAt_63 : decode cX0_cellAt 63 = .ok (.getfield 17, 3) := by decide +kernel
theorem dX0_cellAt_66 : decode cX0_cellAt 66 = .ok (.iload 4, 2) := by decide +kernel
theorem dX0_cellAt_68 : decode cX0_cellAt 68 = .ok (.iaload, 1) := by decide +kernel
theorem dX0_cellAt_69 : decode cX0_cellAt 69 = .ok (.aload_n 0, 1) := by decide +kernel
theorem dX0_cellAt_70 : decode cX0_cellAt 70 = .ok (.getfield 17, 3) := by decide +kernel
theorem dX0_cellAt_73 : decode cX0_cellAt 73 = .ok (.iload_n 3, 1) := by decide +kernel
theorem dX0_cellAt_74 : decode cX0_cellAt 74 = .ok (.iaload, 1) := by decide +kernel
theorem dX0_cellAt_75 : decode cX0_cellAt 75 = .ok (.if_icmp .le 6, 3) := by decide +kernel
theorem dX0_cellAt_78 : decode cX0_cellAt 78 = .ok (.iload 4, 2) := by decide +kernel
theorem dX0_cellAt_80 : decode cX0_cellAt 80 = .ok (.istore_n 3, 1) := by decide +kernel
theorem dX0_cellAt_81 : decode cX0_cellAt 81 = .ok (.iinc 4 1, 3) := by decide +kernel
theorem dX0_cellAt_84 : decode cX0_cellAt 84 = .ok (.goto (-79), 3) := by decide +kernel
theorem dX0_cellAt_87 : decode cX0_cellAt 87 = .ok (.iload_n 3, 1) := by decide +kernel
theorem dX0_cellAt_88 : decode cX0_cellAt 88 = .ok (.ireturn, 1) := by decide +kernel
abbrev cX0_masked : ByteArray := prog_1_method_4_code
def yX0_masked : MethodName := ⟨RX0, "masked", "(I)Z"⟩
theorem dX0_masked_0 : decode cX0_masked 0 = .ok (.iconst 0, 1) := by decide +kernel
theorem dX0_masked_1 : decode cX0_masked 1 = .ok (.istore_n 2, 1) := by decide +kernel
theorem dX0_masked_2 : decode cX0_masked 2 = .ok (.iload_n 2, 1) := by decide +kernel
theorem dX0_masked_3 : decode cX0_masked 3 = .ok (.aload_n 0, 1) := by decide +kernel
theorem dX0_masked_4 : decode cX0_masked 4 = .ok (.getfield 46, 3) := by decide +kernel
theorem dX0_masked_7 : decode cX0_masked 7 = .ok (.if_icmp .ge 31, 3) := by decide +kernel
theorem dX0_masked_10 : decode cX0_masked 10 = .ok (.iload_n 1, 1) := by decide +kernel
theorem dX0_masked_11 : decode cX0_masked 11 = .ok (.aload_n 0, 1) := by decide +kernel
theorem dX0_masked_12 : decode cX0_masked 12 = .ok (.getfield 27, 3) := by decide +kernel
theorem dX0_masked_15 : decode cX0_masked 15 = .ok (.iload_n 2, 1) := by decide +kernel
theorem dX0_masked_16 : decode cX0_masked 16 = .ok (.iaload, 1) := by decide +kernel
theorem dX0_masked_17 : decode cX0_masked 17 = .ok (.if_icmp .le 15, 3) := by decide +kernel
theorem dX0_masked_20 : decode cX0_masked 20 = .ok (.iload_n 1, 1) := by decide +kernel
theorem dX0_masked_21 : decode cX0_masked 21 = .ok (.aload_n 0, 1) := by decide +kernel
theorem dX0_masked_22 : decode cX0_masked 22 = .ok (.getfield 30, 3) := by decide +kernel
theorem dX0_masked_25 : decode cX0_masked 25 = .ok (.iload_n 2, 1) := by decide +kernel
theorem dX0_masked_26 : decode cX0_masked 26 = .ok (.iaload, 1) := by decide +kernel
theorem dX0_masked_27 : decode cX0_masked 27 = .ok (.if_icmp .gt 5, 3) := by decide +kernel
theorem dX0_masked_30 : decode cX0_masked 30 = .ok (.iconst 1, 1) := by decide +kernel
theorem dX0_masked_31 : decode cX0_masked 31 = .ok (.ireturn, 1) := by decide +kernel
theorem dX0_masked_32 : decode cX0_masked 32 = .ok (.iinc 2 1, 3) := by decide +kernel
theorem dX0_masked_35 : decode cX0_masked 35 = .ok (.goto (-33), 3) := by decide +kernel
theorem dX0_masked_38 : decode cX0_masked 38 = .ok (.iconst 0, 1) := by decide +kernel
theorem dX0_masked_39 : decode cX0_masked 39 = .ok (.ireturn, 1) := by decide +kernel
end
section
set_option maxRecDepth 100000
abbrev cX0_commit : ByteArray := prog_1_method_14_code
def yX0_commit : MethodName := ⟨RX0, "commit", "(I)I"⟩
theorem dX0_commit_0 : decode cX0_commit 0 = .ok (.aload_n 0, 1) := by decide +kernel
theorem dX0_commit_1 : decode cX0_commit 1 = .ok (.iload_n 1, 1) := by decide +kernel
theorem dX0_commit_2 : decode cX0_commit 2 = .ok (.invokevirtual 79, 3) := by decide +kernel
theorem dX0_commit_5 : decode cX0_commit 5 = .ok (.ifCond .ne 5, 3) := by decide +kernel
theorem dX0_commit_8 : decode cX0_commit 8 = .ok (.iconst (-1), 1) := by decide +kernel
theorem dX0_commit_9 : decode cX0_commit 9 = .ok (.ireturn, 1) := by decide +kernel
theorem dX0_commit_10 : decode cX0_commit 10 = .ok (.aload_n 0, 1) := by decide +kernel
theorem dX0_commit_11 : decode cX0_commit 11 = .ok (.aload_n 0, 1) := by decide +kernel
theorem dX0_commit_12 : decode cX0_commit 12 = .ok (.getfield 33, 3) := by decide +kernel
theorem dX0_commit_15 : decode cX0_commit 15 = .ok (.iload_n 1, 1) := by decide +kernel
theorem dX0_commit_16 : decode cX0_commit 16 = .ok (.iaload, 1) := by decide +kernel
theorem dX0_commit_17 : decode cX0_commit 17 = .ok (.invokevirtual 88, 3) := by decide +kernel
theorem dX0_commit_20 : decode cX0_commit 20 = .ok (.aload_n 0, 1) := by decide +kernel
theorem dX0_commit_21 : decode cX0_commit 21 = .ok (.getfield 36, 3) := by decide +kernel
theorem dX0_commit_24 : decode cX0_commit 24 = .ok (.iload_n 1, 1) := by decide +kernel
theorem dX0_commit_25 : decode cX0_commit 25 = .ok (.iaload, 1) := by decide +kernel
theorem dX0_commit_26 : decode cX0_commit 26 = .ok (.iand, 1) := by decide +kernel
theorem dX0_commit_27 : decode cX0_commit 27 = .ok (.ifCond .eq 7, 3) := by decide +kernel
theorem dX0_commit_30 : decode cX0_commit 30 = .ok (.iconst 1, 1) := by decide +kernel
theorem dX0_commit_31 : decode cX0_commit 31 = .ok (.goto 4, 3) := by decide +kernel
theorem dX0_commit_34 : decode cX0_commit 34 = .ok (.iconst 0, 1) := by decide +kernel
theorem dX0_commit_35 : decode cX0_commit 35 = .ok (.istore_n 2, 1) := by decide +kernel
theorem dX0_commit_36 : decode cX0_commit 36 = .ok (.aload_n 0, 1) := by decide +kernel
theorem dX0_commit_37 : decode cX0_commit 37 = .ok (.dup, 1) := by decide +kernel
theorem dX0_commit_38 : decode cX0_commit 38 = .ok (.getfield 42, 3) := by decide +kernel
theorem dX0_commit_41 : decode cX0_commit 41 = .ok (.iconst 1, 1) := by decide +kernel
theorem dX0_commit_42 : decode cX0_commit 42 = .ok (.iload_n 1, 1) := by decide +kernel
theorem dX0_commit_43 : decode cX0_commit 43 = .ok (.ishl, 1) := by decide +kernel
theorem dX0_commit_44 : decode cX0_commit 44 = .ok (.iconst (-1), 1) := by decide +kernel
theorem dX0_commit_45 : decode cX0_commit 45 = .ok (.ixor, 1) := by decide +kernel
theorem dX0_commit_46 : decode cX0_commit 46 = .ok (.iand, 1) := by decide +kernel
theorem dX0_commit_47 : decode cX0_commit 47 = .ok (.putfield 42, 3) := by decide +kernel
theorem dX0_commit_50 : decode cX0_commit 50 = .ok (.iload_n 2, 1) := by decide +kernel
theorem dX0_commit_51 : decode cX0_commit 51 = .ok (.ifCond .eq 6, 3) := by decide +kernel
theorem dX0_commit_54 : decode cX0_commit 54 = .ok (.bipush (-3), 2) := by decide +kernel
theorem dX0_commit_56 : decode cX0_commit 56 = .ok (.ireturn, 1) := by decide +kernel
theorem dX0_commit_57 : decode cX0_commit 57 = .ok (.aload_n 0, 1) := by decide +kernel
theorem dX0_commit_58 : decode cX0_commit 58 = .ok (.getfield 36, 3) := by decide +kernel
theorem dX0_commit_61 : decode cX0_commit 61 = .ok (.iload_n 1, 1) := by decide +kernel
theorem dX0_commit_62 : decode cX0_commit 62 = .ok (.iaload, 1) := by decide +kernel
theorem dX0_commit_63 : decode cX0_commit 63 = .ok (.ifCond .eq 80, 3) := by decide +kernel
theorem dX0_commit_66 : decode cX0_commit 66 = .ok (.aload_n 0, 1) := by decide +kernel
theorem dX0_commit_67 : decode cX0_commit 67 = .ok (.dup, 1) := by decide +kernel
theorem dX0_commit_68 : decode cX0_commit 68 = .ok (.getfield 70, 3) := by decide +kernel
theorem dX0_commit_71 : decode cX0_commit 71 = .ok (.iconst 1, 1) := by decide +kernel
theorem dX0_commit_72 : decode cX0_commit 72 = .ok (.iadd, 1) := by decide +kernel
theorem dX0_commit_73 : decode cX0_commit 73 = .ok (.putfield 70, 3) := by decide +kernel
theorem dX0_commit_76 : decode cX0_commit 76 = .ok (.iconst 0, 1) := by decide +kernel
theorem dX0_commit_77 : decode cX0_commit 77 = .ok (.istore_n 3, 1) := by decide +kernel
theorem dX0_commit_78 : decode cX0_commit 78 = .ok (.iload_n 3, 1) := by decide +kernel
theorem dX0_commit_79 : decode cX0_commit 79 = .ok (.bipush 8, 2) := by decide +kernel
theorem dX0_commit_81 : decode cX0_commit 81 = .ok (.if_icmp .ge 52, 3) := by decide +kernel
theorem dX0_commit_84 : decode cX0_commit 84 = .ok (.aload_n 0, 1) := by decide +kernel
theorem dX0_commit_85 : decode cX0_commit 85 = .ok (.getfield 36, 3) := by decide +kernel
theorem dX0_commit_88 : decode cX0_commit 88 = .ok (.iload_n 1, 1) := by decide +kernel
theorem dX0_commit_89 : decode cX0_commit 89 = .ok (.iaload, 1) := by decide +kernel
theorem dX0_commit_90 : decode cX0_commit 90 = .ok (.iload_n 3, 1) := by decide +kernel
theorem dX0_commit_91 : decode cX0_commit 91 = .ok (.ishr, 1) := by decide +kernel
theorem dX0_commit_92 : decode cX0_commit 92 = .ok (.iconst 1, 1) := by decide +kernel
theorem dX0_commit_93 : decode cX0_commit 93 = .ok (.iand, 1) := by decide +kernel
theorem dX0_commit_94 : decode cX0_commit 94 = .ok (.ifCond .eq 33, 3) := by decide +kernel
theorem dX0_commit_97 : decode cX0_commit 97 = .ok (.aload_n 0, 1) := by decide +kernel
theorem dX0_commit_98 : decode cX0_commit 98 = .ok (.iload_n 3, 1) := by decide +kernel
theorem dX0_commit_99 : decode cX0_commit 99 = .ok (.aload_n 0, 1) := by decide +kernel
theorem dX0_commit_100 : decode cX0_commit 100 = .ok (.getfield 70, 3) := by decide +kernel
theorem dX0_commit_103 : decode cX0_commit 103 = .ok (.aload_n 0, 1) := by decide +kernel
theorem dX0_commit_104 : decode cX0_commit 104 = .ok (.getfield 39, 3) := by decide +kernel
theorem dX0_commit_107 : decode cX0_commit 107 = .ok (.iload_n 1, 1) := by decide +kernel
theorem dX0_commit_108 : decode cX0_commit 108 = .ok (.bipush 8, 2) := by decide +kernel
theorem dX0_commit_110 : decode cX0_commit 110 = .ok (.imul, 1) := by decide +kernel
theorem dX0_commit_111 : decode cX0_commit 111 = .ok (.iload_n 3, 1) := by decide +kernel
theorem dX0_commit_112 : decode cX0_commit 112 = .ok (.iadd, 1) := by decide +kernel
theorem dX0_commit_113 : decode cX0_commit 113 = .ok (.iaload, 1) := by decide +kernel
theorem dX0_commit_114 : decode cX0_commit 114 = .ok (.invokevirtual 92, 3) := by decide +kernel
theorem dX0_commit_117 : decode cX0_commit 117 = .ok (.aload_n 0, 1) := by decide +kernel
theorem dX0_commit_118 : decode cX0_commit 118 = .ok (.dup, 1) := by decide +kernel
theorem dX0_commit_119 : decode cX0_commit 119 = .ok (.getfield 96, 3) := by decide +kernel
theorem dX0_commit_122 : decode cX0_commit 122 = .ok (.iconst 1, 1) := by decide +kernel
theorem dX0_commit_123 : decode cX0_commit 123 = .ok (.iadd, 1) := by decide +kernel
theorem dX0_commit_124 : decode cX0_commit 124 = .ok (.putfield 96, 3) := by decide +kernel
theorem dX0_commit_127 : decode cX0_commit 127 = .ok (.iinc 3 1, 3) := by decide +kernel
theorem dX0_commit_130 : decode cX0_commit 130 = .ok (.goto (-52), 3) := by decide +kernel
theorem dX0_commit_133 : decode cX0_commit 133 = .ok (.aload_n 0, 1) := by decide +kernel
theorem dX0_commit_134 : decode cX0_commit 134 = .ok (.dup, 1) := by decide +kernel
theorem dX0_commit_135 : decode cX0_commit 135 = .ok (.getfield 99, 3) := by decide +kernel
theorem dX0_commit_138 : decode cX0_commit 138 = .ok (.iconst 1, 1) := by decide +kernel
theorem dX0_commit_139 : decode cX0_commit 139 = .ok (.iadd, 1) := by decide +kernel
theorem dX0_commit_140 : decode cX0_commit 140 = .ok (.putfield 99, 3) := by decide +kernel
theorem dX0_commit_143 : decode cX0_commit 143 = .ok (.iconst 0, 1) := by decide +kernel
theorem dX0_commit_144 : decode cX0_commit 144 = .ok (.ireturn, 1) := by decide +kernel
abbrev cX0_changedSince : ByteArray := prog_1_method_15_code
def yX0_changedSince : MethodName := ⟨RX0, "changedSince", "(I)I"⟩
theorem dX0_changedSince_0 : decode cX0_changedSince 0 = .ok (.iconst 0, 1) := by decide +kernel
theorem dX0_changedSince_1 : decode cX0_changedSince 1 = .ok (.istore_n 2, 1) := by decide +kernel
theorem dX0_changedSince_2 : decode cX0_changedSince 2 = .ok (.iconst 0, 1) := by decide +kernel
theorem dX0_changedSince_3 : decode cX0_changedSince 3 = .ok (.istore_n 3, 1) := by decide +kernel
theorem dX0_changedSince_4 : decode cX0_changedSince 4 = .ok (.iload_n 3, 1) := by decide +kernel
theorem dX0_changedSince_5 : decode cX0_changedSince 5 = .ok (.bipush 8, 2) := by decide +kernel
theorem dX0_changedSince_7 : decode cX0_changedSince 7 = .ok (.if_icmp .ge 42, 3) := by decide +kernel
theorem dX0_changedSince_10 : decode cX0_changedSince 10 = .ok (.aload_n 0, 1) := by decide +kernel
theorem dX0_changedSince_11 : decode cX0_changedSince 11 = .ok (.iload_n 3, 1) := by decide +kernel
theorem dX0_changedSince_12 : decode cX0_changedSince 12 = .ok (.aload_n 0, 1) := by decide +kernel
theorem dX0_changedSince_13 : decode cX0_changedSince 13 = .ok (.getfield 70, 3) := by decide +kernel
theorem dX0_changedSince_16 : decode cX0_changedSince 16 = .ok (.invokevirtual 53, 3) := by decide +kernel
theorem dX0_changedSince_19 : decode cX0_changedSince 19 = .ok (.istore 4, 2) := by decide +kernel
theorem dX0_changedSince_21 : decode cX0_changedSince 21 = .ok (.iload 4, 2) := by decide +kernel
theorem dX0_changedSince_23 : decode cX0_changedSince 23 = .ok (.ifCond .lt 20, 3) := by decide +kernel
theorem dX0_changedSince_26 : decode cX0_changedSince 26 = .ok (.aload_n 0, 1) := by decide +kernel
theorem dX0_changedSince_27 : decode cX0_changedSince 27 = .ok (.getfield 17, 3) := by decide +kernel
theorem dX0_changedSince_30 : decode cX0_changedSince 30 = .ok (.iload 4, 2) := by decide +kernel
theorem dX0_changedSince_32 : decode cX0_changedSince 32 = .ok (.iaload, 1) := by decide +kernel
theorem dX0_changedSince_33 : decode cX0_changedSince 33 = .ok (.iload_n 1, 1) := by decide +kernel
theorem dX0_changedSince_34 : decode cX0_changedSince 34 = .ok (.if_icmp .le 9, 3) := by decide +kernel
theorem dX0_changedSince_37 : decode cX0_changedSince 37 = .ok (.iload_n 2, 1) := by decide +kernel
theorem dX0_changedSince_38 : decode cX0_changedSince 38 = .ok (.iconst 1, 1) := by decide +kernel
theorem dX0_changedSince_39 : decode cX0_changedSince 39 = .ok (.iload_n 3, 1) := by decide +kernel
theorem dX0_changedSince_40 : decode cX0_changedSince 40 = .ok (.ishl, 1) := by decide +kernel
theorem dX0_changedSince_41 : decode cX0_changedSince 41 = .ok (.ior, 1) := by decide +kernel
theorem dX0_changedSince_42 : decode cX0_changedSince 42 = .ok (.istore_n 2, 1) := by decide +kernel
theorem dX0_changedSince_43 : decode cX0_changedSince 43 = .ok (.iinc 3 1, 3) := by decide +kernel
theorem dX0_changedSince_46 : decode cX0_changedSince 46 = .ok (.goto (-42), 3) := by decide +kernel
theorem dX0_changedSince_49 : decode cX0_changedSince 49 = .ok (.iload_n 2, 1) := by decide +kernel
theorem dX0_changedSince_50 : decode cX0_changedSince 50 = .ok (.ireturn, 1) := by decide +kernel
abbrev cX0_enter : ByteArray := prog_1_method_7_code
def yX0_enter : MethodName := ⟨RX0, "enter", "(III)V"⟩
theorem dX0_enter_0 : decode cX0_enter 0 = .ok (.aload_n 0, 1) := by decide +kernel
theorem dX0_enter_1 : decode cX0_enter 1 = .ok (.invokevirtual 57, 3) := by decide +kernel
theorem dX0_enter_4 : decode cX0_enter 4 = .ok (.istore 4, 2) := by decide +kernel
theorem dX0_enter_6 : decode cX0_enter 6 = .ok (.iload 4, 2) := by decide +kernel
theorem dX0_enter_8 : decode cX0_enter 8 = .ok (.ifCond .ge 13, 3) := by decide +kernel
theorem dX0_enter_11 : decode cX0_enter 11 = .ok (.aload_n 0, 1) := by decide +kernel
theorem dX0_enter_12 : decode cX0_enter 12 = .ok (.invokevirtual 61, 3) := by decide +kernel
theorem dX0_enter_15 : decode cX0_enter 15 = .ok (.aload_n 0, 1) := by decide +kernel
theorem dX0_enter_16 : decode cX0_enter 16 = .ok (.invokevirtual 57, 3) := by decide +kernel
theorem dX0_enter_19 : decode cX0_enter 19 = .ok (.istore 4, 2) := by decide +kernel
theorem dX0_enter_21 : decode cX0_enter 21 = .ok (.iload 4, 2) := by decide +kernel
theorem dX0_enter_23 : decode cX0_enter 23 = .ok (.ifCond .lt 44, 3) := by decide +kernel
theorem dX0_enter_26 : decode cX0_enter 26 = .ok (.aload_n 0, 1) := by decide +kernel
theorem dX0_enter_27 : decode cX0_enter 27 = .ok (.getfield 7, 3) := by decide +kernel
theorem dX0_enter_30 : decode cX0_enter 30 = .ok (.iload 4, 2) := by decide +kernel
theorem dX0_enter_32 : decode cX0_enter 32 = .ok (.iconst 1, 1) := by decide +kernel
theorem dX0_enter_33 : decode cX0_enter 33 = .ok (.bastore, 1) := by decide +kernel
theorem dX0_enter_34 : decode cX0_enter 34 = .ok (.aload_n 0, 1) := by decide +kernel
theorem dX0_enter_35 : decode cX0_enter 35 = .ok (.getfield 13, 3) := by decide +kernel
theorem dX0_enter_38 : decode cX0_enter 38 = .ok (.iload 4, 2) := by decide +kernel
theorem dX0_enter_40 : decode cX0_enter 40 = .ok (.iload_n 1, 1) := by decide +kernel
theorem dX0_enter_41 : decode cX0_enter 41 = .ok (.i2b, 1) := by decide +kernel
theorem dX0_enter_42 : decode cX0_enter 42 = .ok (.bastore, 1) := by decide +kernel
theorem dX0_enter_43 : decode cX0_enter 43 = .ok (.aload_n 0, 1) := by decide +kernel
theorem dX0_enter_44 : decode cX0_enter 44 = .ok (.getfield 17, 3) := by decide +kernel
theorem dX0_enter_47 : decode cX0_enter 47 = .ok (.iload 4, 2) := by decide +kernel
theorem dX0_enter_49 : decode cX0_enter 49 = .ok (.iload_n 2, 1) := by decide +kernel
theorem dX0_enter_50 : decode cX0_enter 50 = .ok (.iastore, 1) := by decide +kernel
theorem dX0_enter_51 : decode cX0_enter 51 = .ok (.aload_n 0, 1) := by decide +kernel
theorem dX0_enter_52 : decode cX0_enter 52 = .ok (.getfield 21, 3) := by decide +kernel
theorem dX0_enter_55 : decode cX0_enter 55 = .ok (.iload 4, 2) := by decide +kernel
theorem dX0_enter_57 : decode cX0_enter 57 = .ok (.iload_n 3, 1) := by decide +kernel
theorem dX0_enter_58 : decode cX0_enter 58 = .ok (.iastore, 1) := by decide +kernel
theorem dX0_enter_59 : decode cX0_enter 59 = .ok (.aload_n 0, 1) := by decide +kernel
theorem dX0_enter_60 : decode cX0_enter 60 = .ok (.getfield 24, 3) := by decide +kernel
theorem dX0_enter_63 : decode cX0_enter 63 = .ok (.iload 4, 2) := by decide +kernel
theorem dX0_enter_65 : decode cX0_enter 65 = .ok (.iconst 0, 1) := by decide +kernel
theorem dX0_enter_66 : decode cX0_enter 66 = .ok (.bastore, 1) := by decide +kernel
theorem dX0_enter_67 : decode cX0_enter 67 = .ok (.return_, 1) := by decide +kernel
abbrev cX0_freeCell : ByteArray := prog_1_method_8_code
def yX0_freeCell : MethodName := ⟨RX0, "freeCell", "()I"⟩
theorem dX0_freeCell_0 : decode cX0_freeCell 0 = .ok (.iconst 0, 1) := by decide +kernel
theorem dX0_freeCell_1 : decode cX0_freeCell 1 = .ok (.istore_n 1, 1) := by decide +kernel
theorem dX0_freeCell_2 : decode cX0_freeCell 2 = .ok (.iload_n 1, 1) := by decide +kernel
theorem dX0_freeCell_3 : decode cX0_freeCell 3 = .ok (.bipush 64, 2) := by decide +kernel
theorem dX0_freeCell_5 : decode cX0_freeCell 5 = .ok (.if_icmp .ge 20, 3) := by decide +kernel
theorem dX0_freeCell_8 : decode cX0_freeCell 8 = .ok (.aload_n 0, 1) := by decide +kernel
theorem dX0_freeCell_9 : decode cX0_freeCell 9 = .ok (.getfield 7, 3) := by decide +kernel
theorem dX0_freeCell_12 : decode cX0_freeCell 12 = .ok (.iload_n 1, 1) := by decide +kernel
theorem dX0_freeCell_13 : decode cX0_freeCell 13 = .ok (.baload, 1) := by decide +kernel
theorem dX0_freeCell_14 : decode cX0_freeCell 14 = .ok (.ifCond .ne 5, 3) := by decide +kernel
theorem dX0_freeCell_17 : decode cX0_freeCell 17 = .ok (.iload_n 1, 1) := by decide +kernel
theorem dX0_freeCell_18 : decode cX0_freeCell 18 = .ok (.ireturn, 1) := by decide +kernel
theorem dX0_freeCell_19 : decode cX0_freeCell 19 = .ok (.iinc 1 1, 3) := by decide +kernel
theorem dX0_freeCell_22 : decode cX0_freeCell 22 = .ok (.goto (-20), 3) := by decide +kernel
theorem dX0_freeCell_25 : decode cX0_freeCell 25 = .ok (.iconst (-1), 1) := by decide +kernel
theorem dX0_freeCell_26 : decode cX0_freeCell 26 = .ok (.ireturn, 1) := by decide +kernel
abbrev cX0_reclaim : ByteArray := prog_1_method_9_code
def yX0_reclaim : MethodName := ⟨RX0, "reclaim", "()V"⟩
abbrev cX0_needed : ByteArray := prog_1_method_10_code
def yX0_needed : MethodName := ⟨RX0, "needed", "(I)Z"⟩
abbrev cX0_abort : ByteArray := prog_1_method_16_code
def yX0_abort : MethodName := ⟨RX0, "abort", "(I)I"⟩
theorem dX0_abort_0 : decode cX0_abort 0 = .ok (.aload_n 0, 1) := by decide +kernel
theorem dX0_abort_1 : decode cX0_abort 1 = .ok (.iload_n 1, 1) := by decide +kernel
theorem dX0_abort_2 : decode cX0_abort 2 = .ok (.invokevirtual 79, 3) := by decide +kernel
theorem dX0_abort_5 : decode cX0_abort 5 = .ok (.ifCond .ne 5, 3) := by decide +kernel
theorem dX0_abort_8 : decode cX0_abort 8 = .ok (.iconst (-1), 1) := by decide +kernel
theorem dX0_abort_9 : decode cX0_abort 9 = .ok (.ireturn, 1) := by decide +kernel
theorem dX0_abort_10 : decode cX0_abort 10 = .ok (.aload_n 0, 1) := by decide +kernel
theorem dX0_abort_11 : decode cX0_abort 11 = .ok (.dup, 1) := by decide +kernel
theorem dX0_abort_12 : decode cX0_abort 12 = .ok (.getfield 42, 3) := by decide +kernel
theorem dX0_abort_15 : decode cX0_abort 15 = .ok (.iconst 1, 1) := by decide +kernel
theorem dX0_abort_16 : decode cX0_abort 16 = .ok (.iload_n 1, 1) := by decide +kernel
theorem dX0_abort_17 : decode cX0_abort 17 = .ok (.ishl, 1) := by decide +kernel
theorem dX0_abort_18 : decode cX0_abort 18 = .ok (.iconst (-1), 1) := by decide +kernel
theorem dX0_abort_19 : decode cX0_abort 19 = .ok (.ixor, 1) := by decide +kernel
theorem dX0_abort_20 : decode cX0_abort 20 = .ok (.iand, 1) := by decide +kernel
theorem dX0_abort_21 : decode cX0_abort 21 = .ok (.putfield 42, 3) := by decide +kernel
theorem dX0_abort_24 : decode cX0_abort 24 = .ok (.iconst 0, 1) := by decide +kernel
theorem dX0_abort_25 : decode cX0_abort 25 = .ok (.ireturn, 1) := by decide +kernel
abbrev cX0_seal : ByteArray := prog_1_method_17_code
def yX0_seal : MethodName := ⟨RX0, "seal", "()I"⟩
theorem dX0_seal_0 : decode cX0_seal 0 = .ok (.aload_n 0, 1) := by decide +kernel
theorem dX0_seal_1 : decode cX0_seal 1 = .ok (.getfield 73, 3) := by decide +kernel
theorem dX0_seal_4 : decode cX0_seal 4 = .ok (.ifCond .le 6, 3) := by decide +kernel
theorem dX0_seal_7 : decode cX0_seal 7 = .ok (.bipush (-4), 2) := by decide +kernel
theorem dX0_seal_9 : decode cX0_seal 9 = .ok (.ireturn, 1) := by decide +kernel
theorem dX0_seal_10 : decode cX0_seal 10 = .ok (.aload_n 0, 1) := by decide +kernel
theorem dX0_seal_11 : decode cX0_seal 11 = .ok (.getfield 99, 3) := by decide +kernel
theorem dX0_seal_14 : decode cX0_seal 14 = .ok (.aload_n 0, 1) := by decide +kernel
theorem dX0_seal_15 : decode cX0_seal 15 = .ok (.getfield 102, 3) := by decide +kernel
theorem dX0_seal_18 : decode cX0_seal 18 = .ok (.if_icmp .ne 5, 3) := by decide +kernel
theorem dX0_seal_21 : decode cX0_seal 21 = .ok (.iconst (-1), 1) := by decide +kernel
theorem dX0_seal_22 : decode cX0_seal 22 = .ok (.ireturn, 1) := by decide +kernel
theorem dX0_seal_23 : decode cX0_seal 23 = .ok (.aload_n 0, 1) := by decide +kernel
theorem dX0_seal_24 : decode cX0_seal 24 = .ok (.aload_n 0, 1) := by decide +kernel
theorem dX0_seal_25 : decode cX0_seal 25 = .ok (.getfield 70, 3) := by decide +kernel
theorem dX0_seal_28 : decode cX0_seal 28 = .ok (.putfield 76, 3) := by decide +kernel
theorem dX0_seal_31 : decode cX0_seal 31 = .ok (.aload_n 0, 1) := by decide +kernel
theorem dX0_seal_32 : decode cX0_seal 32 = .ok (.aload_n 0, 1) := by decide +kernel
theorem dX0_seal_33 : decode cX0_seal 33 = .ok (.getfield 99, 3) := by decide +kernel
theorem dX0_seal_36 : decode cX0_seal 36 = .ok (.putfield 105, 3) := by decide +kernel
theorem dX0_seal_39 : decode cX0_seal 39 = .ok (.aload_n 0, 1) := by decide +kernel
theorem dX0_seal_40 : decode cX0_seal 40 = .ok (.aload_n 0, 1) := by decide +kernel
theorem dX0_seal_41 : decode cX0_seal 41 = .ok (.getfield 96, 3) := by decide +kernel
theorem dX0_seal_44 : decode cX0_seal 44 = .ok (.iconst 1, 1) := by decide +kernel
theorem dX0_seal_45 : decode cX0_seal 45 = .ok (.iadd, 1) := by decide +kernel
theorem dX0_seal_46 : decode cX0_seal 46 = .ok (.putfield 73, 3) := by decide +kernel
theorem dX0_seal_49 : decode cX0_seal 49 = .ok (.aload_n 0, 1) := by decide +kernel
theorem dX0_seal_50 : decode cX0_seal 50 = .ok (.iconst 0, 1) := by decide +kernel
theorem dX0_seal_51 : decode cX0_seal 51 = .ok (.putfield 96, 3) := by decide +kernel
theorem dX0_seal_54 : decode cX0_seal 54 = .ok (.aload_n 0, 1) := by decide +kernel
theorem dX0_seal_55 : decode cX0_seal 55 = .ok (.getfield 73, 3) := by decide +kernel
theorem dX0_seal_58 : decode cX0_seal 58 = .ok (.ireturn, 1) := by decide +kernel
abbrev cX0_flush : ByteArray := prog_1_method_18_code
def yX0_flush : MethodName := ⟨RX0, "flush", "(I)I"⟩
theorem dX0_flush_0 : decode cX0_flush 0 = .ok (.iconst 0, 1) := by decide +kernel
theorem dX0_flush_1 : decode cX0_flush 1 = .ok (.istore_n 2, 1) := by decide +kernel
theorem dX0_flush_2 : decode cX0_flush 2 = .ok (.iconst 0, 1) := by decide +kernel
theorem dX0_flush_3 : decode cX0_flush 3 = .ok (.istore_n 3, 1) := by decide +kernel
theorem dX0_flush_4 : decode cX0_flush 4 = .ok (.iload_n 3, 1) := by decide +kernel
theorem dX0_flush_5 : decode cX0_flush 5 = .ok (.sipush 600, 3) := by decide +kernel
theorem dX0_flush_8 : decode cX0_flush 8 = .ok (.if_icmp .ge 64, 3) := by decide +kernel
theorem dX0_flush_11 : decode cX0_flush 11 = .ok (.iload_n 3, 1) := by decide +kernel
theorem dX0_flush_12 : decode cX0_flush 12 = .ok (.iload_n 1, 1) := by decide +kernel
theorem dX0_flush_13 : decode cX0_flush 13 = .ok (.if_icmp .ge 59, 3) := by decide +kernel
theorem dX0_flush_16 : decode cX0_flush 16 = .ok (.aload_n 0, 1) := by decide +kernel
theorem dX0_flush_17 : decode cX0_flush 17 = .ok (.getfield 73, 3) := by decide +kernel
theorem dX0_flush_20 : decode cX0_flush 20 = .ok (.ifCond .le 52, 3) := by decide +kernel
theorem dX0_flush_23 : decode cX0_flush 23 = .ok (.aload_n 0, 1) := by decide +kernel
theorem dX0_flush_24 : decode cX0_flush 24 = .ok (.dup, 1) := by decide +kernel
theorem dX0_flush_25 : decode cX0_flush 25 = .ok (.getfield 73, 3) := by decide +kernel
theorem dX0_flush_28 : decode cX0_flush 28 = .ok (.iconst 1, 1) := by decide +kernel
theorem dX0_flush_29 : decode cX0_flush 29 = .ok (.isub, 1) := by decide +kernel
theorem dX0_flush_30 : decode cX0_flush 30 = .ok (.putfield 73, 3) := by decide +kernel
theorem dX0_flush_33 : decode cX0_flush 33 = .ok (.iinc 2 1, 3) := by decide +kernel
theorem dX0_flush_36 : decode cX0_flush 36 = .ok (.aload_n 0, 1) := by decide +kernel
theorem dX0_flush_37 : decode cX0_flush 37 = .ok (.getfield 73, 3) := by decide +kernel
theorem dX0_flush_40 : decode cX0_flush 40 = .ok (.ifCond .ne 22, 3) := by decide +kernel
theorem dX0_flush_43 : decode cX0_flush 43 = .ok (.aload_n 0, 1) := by decide +kernel
theorem dX0_flush_44 : decode cX0_flush 44 = .ok (.aload_n 0, 1) := by decide +kernel
theorem dX0_flush_45 : decode cX0_flush 45 = .ok (.getfield 76, 3) := by decide +kernel
theorem dX0_flush_48 : decode cX0_flush 48 = .ok (.putfield 67, 3) := by decide +kernel
theorem dX0_flush_51 : decode cX0_flush 51 = .ok (.aload_n 0, 1) := by decide +kernel
theorem dX0_flush_52 : decode cX0_flush 52 = .ok (.aload_n 0, 1) := by decide +kernel
theorem dX0_flush_53 : decode cX0_flush 53 = .ok (.getfield 105, 3) := by decide +kernel
theorem dX0_flush_56 : decode cX0_flush 56 = .ok (.putfield 102, 3) := by decide +kernel
theorem dX0_flush_59 : decode cX0_flush 59 = .ok (.goto 7, 3) := by decide +kernel
theorem dX0_flush_62 : decode cX0_flush 62 = .ok (.aload_n 0, 1) := by decide +kernel
theorem dX0_flush_63 : decode cX0_flush 63 = .ok (.invokevirtual 108, 3) := by decide +kernel
theorem dX0_flush_66 : decode cX0_flush 66 = .ok (.iinc 3 1, 3) := by decide +kernel
theorem dX0_flush_69 : decode cX0_flush 69 = .ok (.goto (-65), 3) := by decide +kernel
theorem dX0_flush_72 : decode cX0_flush 72 = .ok (.iload_n 2, 1) := by decide +kernel
theorem dX0_flush_73 : decode cX0_flush 73 = .ok (.ireturn, 1) := by decide +kernel
abbrev cX0_writeThrough : ByteArray := prog_1_method_19_code
def yX0_writeThrough : MethodName := ⟨RX0, "writeThrough", "()V"⟩
theorem dX0_writeThrough_0 : decode cX0_writeThrough 0 = .ok (.iconst 0, 1) := by decide +kernel
theorem dX0_writeThrough_1 : decode cX0_writeThrough 1 = .ok (.istore_n 1, 1) := by decide +kernel
theorem dX0_writeThrough_2 : decode cX0_writeThrough 2 = .ok (.iload_n 1, 1) := by decide +kernel
theorem dX0_writeThrough_3 : decode cX0_writeThrough 3 = .ok (.bipush 64, 2) := by decide +kernel
theorem dX0_writeThrough_5 : decode cX0_writeThrough 5 = .ok (.if_icmp .ge 48, 3) := by decide +kernel
theorem dX0_writeThrough_8 : decode cX0_writeThrough 8 = .ok (.aload_n 0, 1) := by decide +kernel
theorem dX0_writeThrough_9 : decode cX0_writeThrough 9 = .ok (.getfield 7, 3) := by decide +kernel
theorem dX0_writeThrough_12 : decode cX0_writeThrough 12 = .ok (.iload_n 1, 1) := by decide +kernel
theorem dX0_writeThrough_13 : decode cX0_writeThrough 13 = .ok (.baload, 1) := by decide +kernel
theorem dX0_writeThrough_14 : decode cX0_writeThrough 14 = .ok (.ifCond .eq 33, 3) := by decide +kernel
theorem dX0_writeThrough_17 : decode cX0_writeThrough 17 = .ok (.aload_n 0, 1) := by decide +kernel
theorem dX0_writeThrough_18 : decode cX0_writeThrough 18 = .ok (.getfield 24, 3) := by decide +kernel
theorem dX0_writeThrough_21 : decode cX0_writeThrough 21 = .ok (.iload_n 1, 1) := by decide +kernel
theorem dX0_writeThrough_22 : decode cX0_writeThrough 22 = .ok (.baload, 1) := by decide +kernel
theorem dX0_writeThrough_23 : decode cX0_writeThrough 23 = .ok (.ifCond .ne 24, 3) := by decide +kernel
theorem dX0_writeThrough_26 : decode cX0_writeThrough 26 = .ok (.aload_n 0, 1) := by decide +kernel
theorem dX0_writeThrough_27 : decode cX0_writeThrough 27 = .ok (.getfield 17, 3) := by decide +kernel
theorem dX0_writeThrough_30 : decode cX0_writeThrough 30 = .ok (.iload_n 1, 1) := by decide +kernel
theorem dX0_writeThrough_31 : decode cX0_writeThrough 31 = .ok (.iaload, 1) := by decide +kernel
theorem dX0_writeThrough_32 : decode cX0_writeThrough 32 = .ok (.aload_n 0, 1) := by decide +kernel
theorem dX0_writeThrough_33 : decode cX0_writeThrough 33 = .ok (.getfield 76, 3) := by decide +kernel
theorem dX0_writeThrough_36 : decode cX0_writeThrough 36 = .ok (.if_icmp .gt 11, 3) := by decide +kernel
theorem dX0_writeThrough_39 : decode cX0_writeThrough 39 = .ok (.aload_n 0, 1) := by decide +kernel
theorem dX0_writeThrough_40 : decode cX0_writeThrough 40 = .ok (.getfield 24, 3) := by decide +kernel
theorem dX0_writeThrough_43 : decode cX0_writeThrough 43 = .ok (.iload_n 1, 1) := by decide +kernel
theorem dX0_writeThrough_44 : decode cX0_writeThrough 44 = .ok (.iconst 1, 1) := by decide +kernel
theorem dX0_writeThrough_45 : decode cX0_writeThrough 45 = .ok (.bastore, 1) := by decide +kernel
theorem dX0_writeThrough_46 : decode cX0_writeThrough 46 = .ok (.return_, 1) := by decide +kernel
theorem dX0_writeThrough_47 : decode cX0_writeThrough 47 = .ok (.iinc 1 1, 3) := by decide +kernel
theorem dX0_writeThrough_50 : decode cX0_writeThrough 50 = .ok (.goto (-48), 3) := by decide +kernel
theorem dX0_writeThrough_53 : decode cX0_writeThrough 53 = .ok (.return_, 1) := by decide +kernel
abbrev cX0_stepsLeft : ByteArray := prog_1_method_20_code
def yX0_stepsLeft : MethodName := ⟨RX0, "stepsLeft", "()I"⟩
theorem dX0_stepsLeft_0 : decode cX0_stepsLeft 0 = .ok (.aload_n 0, 1) := by decide +kernel
theorem dX0_stepsLeft_1 : decode cX0_stepsLeft 1 = .ok (.getfield 73, 3) := by decide +kernel
theorem dX0_stepsLeft_4 : decode cX0_stepsLeft 4 = .ok (.ireturn, 1) := by decide +kernel
end
section
set_option maxRecDepth 100000
abbrev cX0_crash : ByteArray := prog_1_method_21_code
def yX0_crash : MethodName := ⟨RX0, "crash", "()V"⟩
theorem dX0_crash_0 : decode cX0_crash 0 = .ok (.aload_n 0, 1) := by decide +kernel
theorem dX0_crash_1 : decode cX0_crash 1 = .ok (.iconst 0, 1) := by decide +kernel
theorem dX0_crash_2 : decode cX0_crash 2 = .ok (.putfield 42, 3) := by decide +kernel
theorem dX0_crash_5 : decode cX0_crash 5 = .ok (.iconst 0, 1) := by decide +kernel
theorem dX0_crash_6 : decode cX0_crash 6 = .ok (.istore_n 1, 1) := by decide +kernel
theorem dX0_crash_7 : decode cX0_crash 7 = .ok (.iload_n 1, 1) := by decide +kernel
theorem dX0_crash_8 : decode cX0_crash 8 = .ok (.bipush 64, 2) := by decide +kernel
theorem dX0_crash_10 : decode cX0_crash 10 = .ok (.if_icmp .ge 25, 3) := by decide +kernel
theorem dX0_crash_13 : decode cX0_crash 13 = .ok (.aload_n 0, 1) := by decide +kernel
theorem dX0_crash_14 : decode cX0_crash 14 = .ok (.getfield 24, 3) := by decide +kernel
theorem dX0_crash_17 : decode cX0_crash 17 = .ok (.iload_n 1, 1) := by decide +kernel
theorem dX0_crash_18 : decode cX0_crash 18 = .ok (.baload, 1) := by decide +kernel
theorem dX0_crash_19 : decode cX0_crash 19 = .ok (.ifCond .ne 10, 3) := by decide +kernel
theorem dX0_crash_22 : decode cX0_crash 22 = .ok (.aload_n 0, 1) := by decide +kernel
theorem dX0_crash_23 : decode cX0_crash 23 = .ok (.getfield 7, 3) := by decide +kernel
theorem dX0_crash_26 : decode cX0_crash 26 = .ok (.iload_n 1, 1) := by decide +kernel
theorem dX0_crash_27 : decode cX0_crash 27 = .ok (.iconst 0, 1) := by decide +kernel
theorem dX0_crash_28 : decode cX0_crash 28 = .ok (.bastore, 1) := by decide +kernel
theorem dX0_crash_29 : decode cX0_crash 29 = .ok (.iinc 1 1, 3) := by decide +kernel
theorem dX0_crash_32 : decode cX0_crash 32 = .ok (.goto (-25), 3) := by decide +kernel
theorem dX0_crash_35 : decode cX0_crash 35 = .ok (.aload_n 0, 1) := by decide +kernel
theorem dX0_crash_36 : decode cX0_crash 36 = .ok (.iconst 0, 1) := by decide +kernel
theorem dX0_crash_37 : decode cX0_crash 37 = .ok (.putfield 73, 3) := by decide +kernel
theorem dX0_crash_40 : decode cX0_crash 40 = .ok (.aload_n 0, 1) := by decide +kernel
theorem dX0_crash_41 : decode cX0_crash 41 = .ok (.iconst 0, 1) := by decide +kernel
theorem dX0_crash_42 : decode cX0_crash 42 = .ok (.putfield 96, 3) := by decide +kernel
theorem dX0_crash_45 : decode cX0_crash 45 = .ok (.aload_n 0, 1) := by decide +kernel
theorem dX0_crash_46 : decode cX0_crash 46 = .ok (.aload_n 0, 1) := by decide +kernel
theorem dX0_crash_47 : decode cX0_crash 47 = .ok (.getfield 102, 3) := by decide +kernel
theorem dX0_crash_50 : decode cX0_crash 50 = .ok (.putfield 99, 3) := by decide +kernel
theorem dX0_crash_53 : decode cX0_crash 53 = .ok (.aload_n 0, 1) := by decide +kernel
theorem dX0_crash_54 : decode cX0_crash 54 = .ok (.getfield 46, 3) := by decide +kernel
theorem dX0_crash_57 : decode cX0_crash 57 = .ok (.iconst 4, 1) := by decide +kernel
theorem dX0_crash_58 : decode cX0_crash 58 = .ok (.if_icmp .lt 7, 3) := by decide +kernel
theorem dX0_crash_61 : decode cX0_crash 61 = .ok (.aload_n 0, 1) := by decide +kernel
theorem dX0_crash_62 : decode cX0_crash 62 = .ok (.invokevirtual 111, 3) := by decide +kernel
theorem dX0_crash_65 : decode cX0_crash 65 = .ok (.aload_n 0, 1) := by decide +kernel
theorem dX0_crash_66 : decode cX0_crash 66 = .ok (.getfield 70, 3) := by decide +kernel
theorem dX0_crash_69 : decode cX0_crash 69 = .ok (.aload_n 0, 1) := by decide +kernel
theorem dX0_crash_70 : decode cX0_crash 70 = .ok (.getfield 67, 3) := by decide +kernel
theorem dX0_crash_73 : decode cX0_crash 73 = .ok (.if_icmp .le 39, 3) := by decide +kernel
theorem dX0_crash_76 : decode cX0_crash 76 = .ok (.aload_n 0, 1) := by decide +kernel
theorem dX0_crash_77 : decode cX0_crash 77 = .ok (.getfield 27, 3) := by decide +kernel
theorem dX0_crash_80 : decode cX0_crash 80 = .ok (.aload_n 0, 1) := by decide +kernel
theorem dX0_crash_81 : decode cX0_crash 81 = .ok (.getfield 46, 3) := by decide +kernel
theorem dX0_crash_84 : decode cX0_crash 84 = .ok (.aload_n 0, 1) := by decide +kernel
theorem dX0_crash_85 : decode cX0_crash 85 = .ok (.getfield 67, 3) := by decide +kernel
theorem dX0_crash_88 : decode cX0_crash 88 = .ok (.iastore, 1) := by decide +kernel
theorem dX0_crash_89 : decode cX0_crash 89 = .ok (.aload_n 0, 1) := by decide +kernel
theorem dX0_crash_90 : decode cX0_crash 90 = .ok (.getfield 30, 3) := by decide +kernel
theorem dX0_crash_93 : decode cX0_crash 93 = .ok (.aload_n 0, 1) := by decide +kernel
theorem dX0_crash_94 : decode cX0_crash 94 = .ok (.getfield 46, 3) := by decide +kernel
theorem dX0_crash_97 : decode cX0_crash 97 = .ok (.aload_n 0, 1) := by decide +kernel
theorem dX0_crash_98 : decode cX0_crash 98 = .ok (.getfield 70, 3) := by decide +kernel
theorem dX0_crash_101 : decode cX0_crash 101 = .ok (.iastore, 1) := by decide +kernel
theorem dX0_crash_102 : decode cX0_crash 102 = .ok (.aload_n 0, 1) := by decide +kernel
theorem dX0_crash_103 : decode cX0_crash 103 = .ok (.dup, 1) := by decide +kernel
theorem dX0_crash_104 : decode cX0_crash 104 = .ok (.getfield 46, 3) := by decide +kernel
theorem dX0_crash_107 : decode cX0_crash 107 = .ok (.iconst 1, 1) := by decide +kernel
theorem dX0_crash_108 : decode cX0_crash 108 = .ok (.iadd, 1) := by decide +kernel
theorem dX0_crash_109 : decode cX0_crash 109 = .ok (.putfield 46, 3) := by decide +kernel
theorem dX0_crash_112 : decode cX0_crash 112 = .ok (.return_, 1) := by decide +kernel
abbrev cX0_dropGaps : ByteArray := prog_1_method_22_code
def yX0_dropGaps : MethodName := ⟨RX0, "dropGaps", "()V"⟩
theorem dX0_dropGaps_0 : decode cX0_dropGaps 0 = .ok (.iconst 0, 1) := by decide +kernel
theorem dX0_dropGaps_1 : decode cX0_dropGaps 1 = .ok (.istore_n 1, 1) := by decide +kernel
theorem dX0_dropGaps_2 : decode cX0_dropGaps 2 = .ok (.iload_n 1, 1) := by decide +kernel
theorem dX0_dropGaps_3 : decode cX0_dropGaps 3 = .ok (.bipush 64, 2) := by decide +kernel
theorem dX0_dropGaps_5 : decode cX0_dropGaps 5 = .ok (.if_icmp .ge 38, 3) := by decide +kernel
theorem dX0_dropGaps_8 : decode cX0_dropGaps 8 = .ok (.aload_n 0, 1) := by decide +kernel
theorem dX0_dropGaps_9 : decode cX0_dropGaps 9 = .ok (.getfield 7, 3) := by decide +kernel
theorem dX0_dropGaps_12 : decode cX0_dropGaps 12 = .ok (.iload_n 1, 1) := by decide +kernel
theorem dX0_dropGaps_13 : decode cX0_dropGaps 13 = .ok (.baload, 1) := by decide +kernel
theorem dX0_dropGaps_14 : decode cX0_dropGaps 14 = .ok (.ifCond .eq 23, 3) := by decide +kernel
theorem dX0_dropGaps_17 : decode cX0_dropGaps 17 = .ok (.aload_n 0, 1) := by decide +kernel
theorem dX0_dropGaps_18 : decode cX0_dropGaps 18 = .ok (.aload_n 0, 1) := by decide +kernel
theorem dX0_dropGaps_19 : decode cX0_dropGaps 19 = .ok (.getfield 17, 3) := by decide +kernel
theorem dX0_dropGaps_22 : decode cX0_dropGaps 22 = .ok (.iload_n 1, 1) := by decide +kernel
theorem dX0_dropGaps_23 : decode cX0_dropGaps 23 = .ok (.iaload, 1) := by decide +kernel
theorem dX0_dropGaps_24 : decode cX0_dropGaps 24 = .ok (.invokevirtual 49, 3) := by decide +kernel
theorem dX0_dropGaps_27 : decode cX0_dropGaps 27 = .ok (.ifCond .eq 10, 3) := by decide +kernel
theorem dX0_dropGaps_30 : decode cX0_dropGaps 30 = .ok (.aload_n 0, 1) := by decide +kernel
theorem dX0_dropGaps_31 : decode cX0_dropGaps 31 = .ok (.getfield 7, 3) := by decide +kernel
theorem dX0_dropGaps_34 : decode cX0_dropGaps 34 = .ok (.iload_n 1, 1) := by decide +kernel
theorem dX0_dropGaps_35 : decode cX0_dropGaps 35 = .ok (.iconst 0, 1) := by decide +kernel
theorem dX0_dropGaps_36 : decode cX0_dropGaps 36 = .ok (.bastore, 1) := by decide +kernel
theorem dX0_dropGaps_37 : decode cX0_dropGaps 37 = .ok (.iinc 1 1, 3) := by decide +kernel
theorem dX0_dropGaps_40 : decode cX0_dropGaps 40 = .ok (.goto (-38), 3) := by decide +kernel
theorem dX0_dropGaps_43 : decode cX0_dropGaps 43 = .ok (.aload_n 0, 1) := by decide +kernel
theorem dX0_dropGaps_44 : decode cX0_dropGaps 44 = .ok (.iconst 0, 1) := by decide +kernel
theorem dX0_dropGaps_45 : decode cX0_dropGaps 45 = .ok (.putfield 46, 3) := by decide +kernel
theorem dX0_dropGaps_48 : decode cX0_dropGaps 48 = .ok (.return_, 1) := by decide +kernel
abbrev cX0_commits : ByteArray := prog_1_method_23_code
def yX0_commits : MethodName := ⟨RX0, "commits", "()I"⟩
theorem dX0_commits_0 : decode cX0_commits 0 = .ok (.aload_n 0, 1) := by decide +kernel
theorem dX0_commits_1 : decode cX0_commits 1 = .ok (.getfield 99, 3) := by decide +kernel
theorem dX0_commits_4 : decode cX0_commits 4 = .ok (.ireturn, 1) := by decide +kernel
abbrev cX0_durable : ByteArray := prog_1_method_24_code
def yX0_durable : MethodName := ⟨RX0, "durable", "()I"⟩
theorem dX0_durable_0 : decode cX0_durable 0 = .ok (.aload_n 0, 1) := by decide +kernel
theorem dX0_durable_1 : decode cX0_durable 1 = .ok (.getfield 102, 3) := by decide +kernel
theorem dX0_durable_4 : decode cX0_durable 4 = .ok (.ireturn, 1) := by decide +kernel
abbrev cX0_value : ByteArray := prog_1_method_25_code
def yX0_value : MethodName := ⟨RX0, "value", "(I)I"⟩
theorem dX0_value_0 : decode cX0_value 0 = .ok (.iload_n 1, 1) := by decide +kernel
theorem dX0_value_1 : decode cX0_value 1 = .ok (.invokestatic 82, 3) := by decide +kernel
theorem dX0_value_4 : decode cX0_value 4 = .ok (.ifCond .eq 15, 3) := by decide +kernel
theorem dX0_value_7 : decode cX0_value 7 = .ok (.aload_n 0, 1) := by decide +kernel
theorem dX0_value_8 : decode cX0_value 8 = .ok (.iload_n 1, 1) := by decide +kernel
theorem dX0_value_9 : decode cX0_value 9 = .ok (.aload_n 0, 1) := by decide +kernel
theorem dX0_value_10 : decode cX0_value 10 = .ok (.getfield 70, 3) := by decide +kernel
theorem dX0_value_13 : decode cX0_value 13 = .ok (.invokevirtual 85, 3) := by decide +kernel
theorem dX0_value_16 : decode cX0_value 16 = .ok (.goto 4, 3) := by decide +kernel
theorem dX0_value_19 : decode cX0_value 19 = .ok (.iconst 0, 1) := by decide +kernel
theorem dX0_value_20 : decode cX0_value 20 = .ok (.ireturn, 1) := by decide +kernel
abbrev cX0_safeValue : ByteArray := prog_1_method_26_code
def yX0_safeValue : MethodName := ⟨RX0, "safeValue", "(I)I"⟩
theorem dX0_safeValue_0 : decode cX0_safeValue 0 = .ok (.iload_n 1, 1) := by decide +kernel
theorem dX0_safeValue_1 : decode cX0_safeValue 1 = .ok (.invokestatic 82, 3) := by decide +kernel
theorem dX0_safeValue_4 : decode cX0_safeValue 4 = .ok (.ifCond .eq 15, 3) := by decide +kernel
theorem dX0_safeValue_7 : decode cX0_safeValue 7 = .ok (.aload_n 0, 1) := by decide +kernel
theorem dX0_safeValue_8 : decode cX0_safeValue 8 = .ok (.iload_n 1, 1) := by decide +kernel
theorem dX0_safeValue_9 : decode cX0_safeValue 9 = .ok (.aload_n 0, 1) := by decide +kernel
theorem dX0_safeValue_10 : decode cX0_safeValue 10 = .ok (.getfield 67, 3) := by decide +kernel
theorem dX0_safeValue_13 : decode cX0_safeValue 13 = .ok (.invokevirtual 85, 3) := by decide +kernel
theorem dX0_safeValue_16 : decode cX0_safeValue 16 = .ok (.goto 4, 3) := by decide +kernel
theorem dX0_safeValue_19 : decode cX0_safeValue 19 = .ok (.iconst 0, 1) := by decide +kernel
theorem dX0_safeValue_20 : decode cX0_safeValue 20 = .ok (.ireturn, 1) := by decide +kernel
abbrev cX0_conflicts : ByteArray := prog_1_method_27_code
def yX0_conflicts : MethodName := ⟨RX0, "conflicts", "(I)I"⟩
theorem dX0_conflicts_0 : decode cX0_conflicts 0 = .ok (.aload_n 0, 1) := by decide +kernel
theorem dX0_conflicts_1 : decode cX0_conflicts 1 = .ok (.iload_n 1, 1) := by decide +kernel
theorem dX0_conflicts_2 : decode cX0_conflicts 2 = .ok (.invokevirtual 79, 3) := by decide +kernel
theorem dX0_conflicts_5 : decode cX0_conflicts 5 = .ok (.ifCond .eq 23, 3) := by decide +kernel
theorem dX0_conflicts_8 : decode cX0_conflicts 8 = .ok (.aload_n 0, 1) := by decide +kernel
theorem dX0_conflicts_9 : decode cX0_conflicts 9 = .ok (.aload_n 0, 1) := by decide +kernel
theorem dX0_conflicts_10 : decode cX0_conflicts 10 = .ok (.getfield 33, 3) := by decide +kernel
theorem dX0_conflicts_13 : decode cX0_conflicts 13 = .ok (.iload_n 1, 1) := by decide +kernel
theorem dX0_conflicts_14 : decode cX0_conflicts 14 = .ok (.iaload, 1) := by decide +kernel
theorem dX0_conflicts_15 : decode cX0_conflicts 15 = .ok (.invokevirtual 88, 3) := by decide +kernel
theorem dX0_conflicts_18 : decode cX0_conflicts 18 = .ok (.aload_n 0, 1) := by decide +kernel
theorem dX0_conflicts_19 : decode cX0_conflicts 19 = .ok (.getfield 36, 3) := by decide +kernel
theorem dX0_conflicts_22 : decode cX0_conflicts 22 = .ok (.iload_n 1, 1) := by decide +kernel
theorem dX0_conflicts_23 : decode cX0_conflicts 23 = .ok (.iaload, 1) := by decide +kernel
theorem dX0_conflicts_24 : decode cX0_conflicts 24 = .ok (.iand, 1) := by decide +kernel
theorem dX0_conflicts_25 : decode cX0_conflicts 25 = .ok (.goto 4, 3) := by decide +kernel
theorem dX0_conflicts_28 : decode cX0_conflicts 28 = .ok (.iconst 0, 1) := by decide +kernel
theorem dX0_conflicts_29 : decode cX0_conflicts 29 = .ok (.ireturn, 1) := by decide +kernel
abbrev cX0_open : ByteArray := prog_1_method_28_code
def yX0_open : MethodName := ⟨RX0, "open", "()I"⟩
theorem dX0_open_0 : decode cX0_open 0 = .ok (.aload_n 0, 1) := by decide +kernel
theorem dX0_open_1 : decode cX0_open 1 = .ok (.getfield 42, 3) := by decide +kernel
theorem dX0_open_4 : decode cX0_open 4 = .ok (.ireturn, 1) := by decide +kernel
end
section
set_option maxRecDepth 100000
theorem q15 : (Jvm.Cond.initialized "BehindStore") ∈ lw_all := lw_g (lw_at lw_m1 1 rfl) rfl
theorem q18 : (Jvm.Cond.instantiable "BehindStore" (20 : Nat)) ∈ lw_all := lw_g (lw_at lw_m1 4 rfl) rfl
theorem q20 : (Jvm.Cond.instanceMethod ({ cls := "BehindStore", name := "<init>", desc := "()V" } : Jvm.MethodName)) ∈ lw_all := lw_g (lw_at lw_m1 6 rfl) rfl
theorem q21 : (Jvm.Cond.code ({ cls := "BehindStore", name := "<init>", desc := "()V" } : Jvm.MethodName) prog_1_method_1_code (1 : Nat) (Option.none : Option Jvm.ClassFile.FieldType)) ∈ lw_all := lw_g (lw_at lw_m1 7 rfl) rfl
theorem q22 : (Jvm.Cond.methodLink "BehindStore" (1 : Nat) ({ cls := "java/lang/Object", name := "<init>", desc := "()V" } : Jvm.MethodName)) ∈ lw_all := lw_g (lw_at lw_m1 8 rfl) rfl
theorem q25 : (Jvm.Cond.fieldLink "BehindStore" (7 : Nat) "BehindStore" "used" "[Z") ∈ lw_all := lw_g (lw_at lw_m1 11 rfl) rfl
theorem q26 : (Jvm.Cond.fieldLink "BehindStore" (13 : Nat) "BehindStore" "keyOf" "[B") ∈ lw_all := lw_g (lw_at lw_m1 12 rfl) rfl
theorem q27 : (Jvm.Cond.fieldLink "BehindStore" (17 : Nat) "BehindStore" "timeOf" "[I") ∈ lw_all := lw_g (lw_at lw_m1 13 rfl) rfl
theorem q28 : (Jvm.Cond.fieldLink "BehindStore" (21 : Nat) "BehindStore" "valueOf" "[I") ∈ lw_all := lw_g (lw_at lw_m1 14 rfl) rfl
theorem q29 : (Jvm.Cond.fieldLink "BehindStore" (24 : Nat) "BehindStore" "through" "[Z") ∈ lw_all := lw_g (lw_at lw_m1 15 rfl) rfl
theorem q30 : (Jvm.Cond.fieldLink "BehindStore" (46 : Nat) "BehindStore" "gaps" "I") ∈ lw_all := lw_g (lw_at lw_m1 16 rfl) rfl
theorem q31 : (Jvm.Cond.fieldLink "BehindStore" (27 : Nat) "BehindStore" "gapLow" "[I") ∈ lw_all := lw_g (lw_at lw_m1 17 rfl) rfl
theorem q32 : (Jvm.Cond.fieldLink "BehindStore" (30 : Nat) "BehindStore" "gapHigh" "[I") ∈ lw_all := lw_g (lw_at lw_m1 18 rfl) rfl
theorem q33 : (Jvm.Cond.fieldLink "BehindStore" (70 : Nat) "BehindStore" "lastTime" "I") ∈ lw_all := lw_g (lw_at lw_m1 19 rfl) rfl
theorem q34 : (Jvm.Cond.fieldLink "BehindStore" (67 : Nat) "BehindStore" "safeTime" "I") ∈ lw_all := lw_g (lw_at lw_m1 20 rfl) rfl
theorem q35 : (Jvm.Cond.fieldLink "BehindStore" (76 : Nat) "BehindStore" "sealTime" "I") ∈ lw_all := lw_g (lw_at lw_m1 21 rfl) rfl
theorem q36 : (Jvm.Cond.fieldLink "BehindStore" (73 : Nat) "BehindStore" "steps" "I") ∈ lw_all := lw_g (lw_at lw_m1 22 rfl) rfl
theorem q37 : (Jvm.Cond.fieldLink "BehindStore" (96 : Nat) "BehindStore" "waitingWrites" "I") ∈ lw_all := lw_g (lw_at lw_m1 23 rfl) rfl
theorem q38 : (Jvm.Cond.fieldLink "BehindStore" (99 : Nat) "BehindStore" "commitCount" "I") ∈ lw_all := lw_g (lw_at lw_m1 24 rfl) rfl
theorem q39 : (Jvm.Cond.fieldLink "BehindStore" (105 : Nat) "BehindStore" "sealCount" "I") ∈ lw_all := lw_g (lw_at lw_m1 25 rfl) rfl
theorem q40 : (Jvm.Cond.fieldLink "BehindStore" (102 : Nat) "BehindStore" "safeCount" "I") ∈ lw_all := lw_g (lw_at lw_m1 26 rfl) rfl
theorem q41 : (Jvm.Cond.fieldLink "BehindStore" (42 : Nat) "BehindStore" "openSet" "I") ∈ lw_all := lw_g (lw_at lw_m1 27 rfl) rfl
theorem q42 : (Jvm.Cond.fieldLink "BehindStore" (33 : Nat) "BehindStore" "beganAt" "[I") ∈ lw_all := lw_g (lw_at lw_m1 28 rfl) rfl
theorem q43 : (Jvm.Cond.fieldLink "BehindStore" (36 : Nat) "BehindStore" "wrote" "[I") ∈ lw_all := lw_g (lw_at lw_m1 29 rfl) rfl
theorem q44 : (Jvm.Cond.fieldLink "BehindStore" (39 : Nat) "BehindStore" "draft" "[I") ∈ lw_all := lw_g (lw_at lw_m1 30 rfl) rfl
theorem q45 : (Jvm.Cond.laysFinal "BehindStore" "BehindStore" "used" "[Z") ∈ lw_all := lw_g (lw_at lw_m1 31 rfl) rfl
theorem q46 : (Jvm.Cond.soleField "BehindStore" "used") ∈ lw_all := lw_g (lw_at lw_m1 32 rfl) rfl
theorem q47 : (Jvm.Cond.laysFinal "BehindStore" "BehindStore" "keyOf" "[B") ∈ lw_all := lw_g (lw_at lw_m1 33 rfl) rfl
theorem q48 : (Jvm.Cond.soleField "BehindStore" "keyOf") ∈ lw_all := lw_g (lw_at lw_m1 34 rfl) rfl
theorem q49 : (Jvm.Cond.laysFinal "BehindStore" "BehindStore" "timeOf" "[I") ∈ lw_all := lw_g (lw_at lw_m1 35 rfl) rfl
theorem q50 : (Jvm.Cond.soleField "BehindStore" "timeOf") ∈ lw_all := lw_g (lw_at lw_m1 36 rfl) rfl
theorem q51 : (Jvm.Cond.laysFinal "BehindStore" "BehindStore" "valueOf" "[I") ∈ lw_all := lw_g (lw_at lw_m1 37 rfl) rfl
theorem q52 : (Jvm.Cond.soleField "BehindStore" "valueOf") ∈ lw_all := lw_g (lw_at lw_m1 38 rfl) rfl
theorem q53 : (Jvm.Cond.laysFinal "BehindStore" "BehindStore" "through" "[Z") ∈ lw_all := lw_g (lw_at lw_m1 39 rfl) rfl
theorem q54 : (Jvm.Cond.soleField "BehindStore" "through") ∈ lw_all := lw_g (lw_at lw_m1 40 rfl) rfl
theorem q55 : (Jvm.Cond.lays "BehindStore" "BehindStore" "gaps" "I") ∈ lw_all := lw_g (lw_at lw_m1 41 rfl) rfl
theorem q56 : (Jvm.Cond.soleField "BehindStore" "gaps") ∈ lw_all := lw_g (lw_at lw_m1 42 rfl) rfl
theorem q57 : (Jvm.Cond.laysFinal "BehindStore" "BehindStore" "gapLow" "[I") ∈ lw_all := lw_g (lw_at lw_m1 43 rfl) rfl
theorem q58 : (Jvm.Cond.soleField "BehindStore" "gapLow") ∈ lw_all := lw_g (lw_at lw_m1 44 rfl) rfl
theorem q59 : (Jvm.Cond.laysFinal "BehindStore" "BehindStore" "gapHigh" "[I") ∈ lw_all := lw_g (lw_at lw_m1 45 rfl) rfl
theorem q60 : (Jvm.Cond.soleField "BehindStore" "gapHigh") ∈ lw_all := lw_g (lw_at lw_m1 46 rfl) rfl
theorem q61 : (Jvm.Cond.lays "BehindStore" "BehindStore" "lastTime" "I") ∈ lw_all := lw_g (lw_at lw_m1 47 rfl) rfl
theorem q62 : (Jvm.Cond.soleField "BehindStore" "lastTime") ∈ lw_all := lw_g (lw_at lw_m1 48 rfl) rfl
theorem q63 : (Jvm.Cond.lays "BehindStore" "BehindStore" "safeTime" "I") ∈ lw_all := lw_g (lw_at lw_m1 49 rfl) rfl
theorem q64 : (Jvm.Cond.soleField "BehindStore" "safeTime") ∈ lw_all := lw_g (lw_at lw_m1 50 rfl) rfl
theorem q65 : (Jvm.Cond.lays "BehindStore" "BehindStore" "sealTime" "I") ∈ lw_all := lw_g (lw_at lw_m1 51 rfl) rfl
theorem q66 : (Jvm.Cond.soleField "BehindStore" "sealTime") ∈ lw_all := lw_g (lw_at lw_m1 52 rfl) rfl
theorem q67 : (Jvm.Cond.lays "BehindStore" "BehindStore" "steps" "I") ∈ lw_all := lw_g (lw_at lw_m1 53 rfl) rfl
theorem q68 : (Jvm.Cond.soleField "BehindStore" "steps") ∈ lw_all := lw_g (lw_at lw_m1 54 rfl) rfl
theorem q69 : (Jvm.Cond.lays "BehindStore" "BehindStore" "waitingWrites" "I") ∈ lw_all := lw_g (lw_at lw_m1 55 rfl) rfl
theorem q70 : (Jvm.Cond.soleField "BehindStore" "waitingWrites") ∈ lw_all := lw_g (lw_at lw_m1 56 rfl) rfl
theorem q71 : (Jvm.Cond.lays "BehindStore" "BehindStore" "commitCount" "I") ∈ lw_all := lw_g (lw_at lw_m1 57 rfl) rfl
theorem q72 : (Jvm.Cond.soleField "BehindStore" "commitCount") ∈ lw_all := lw_g (lw_at lw_m1 58 rfl) rfl
theorem q73 : (Jvm.Cond.lays "BehindStore" "BehindStore" "sealCount" "I") ∈ lw_all := lw_g (lw_at lw_m1 59 rfl) rfl
theorem q74 : (Jvm.Cond.soleField "BehindStore" "sealCount") ∈ lw_all := lw_g (lw_at lw_m1 60 rfl) rfl
theorem q75 : (Jvm.Cond.lays "BehindStore" "BehindStore" "safeCount" "I") ∈ lw_all := lw_g (lw_at lw_m1 61 rfl) rfl
theorem q76 : (Jvm.Cond.soleField "BehindStore" "safeCount") ∈ lw_all := lw_g (lw_at lw_m1 62 rfl) rfl
theorem q77 : (Jvm.Cond.lays "BehindStore" "BehindStore" "openSet" "I") ∈ lw_all := lw_g (lw_at lw_m1 63 rfl) rfl
theorem q78 : (Jvm.Cond.soleField "BehindStore" "openSet") ∈ lw_all := lw_g (lw_at lw_m1 64 rfl) rfl
theorem q79 : (Jvm.Cond.laysFinal "BehindStore" "BehindStore" "beganAt" "[I") ∈ lw_all := lw_g (lw_at lw_m1 65 rfl) rfl
theorem q80 : (Jvm.Cond.soleField "BehindStore" "beganAt") ∈ lw_all := lw_g (lw_at lw_m1 66 rfl) rfl
theorem q81 : (Jvm.Cond.laysFinal "BehindStore" "BehindStore" "wrote" "[I") ∈ lw_all := lw_g (lw_at lw_m1 67 rfl) rfl
theorem q82 : (Jvm.Cond.soleField "BehindStore" "wrote") ∈ lw_all := lw_g (lw_at lw_m1 68 rfl) rfl
theorem q83 : (Jvm.Cond.laysFinal "BehindStore" "BehindStore" "draft" "[I") ∈ lw_all := lw_g (lw_at lw_m1 69 rfl) rfl
theorem q84 : (Jvm.Cond.soleField "BehindStore" "draft") ∈ lw_all := lw_g (lw_at lw_m1 70 rfl) rfl
theorem q85 : (Jvm.Cond.superclass "BehindStore" "java/lang/Object") ∈ lw_all := lw_g (lw_at lw_m1 71 rfl) rfl
theorem q90 : (Jvm.Cond.instanceMethod ({ cls := "BehindStore", name := "begin", desc := "()I" } : Jvm.MethodName)) ∈ lw_all := lw_g (lw_at lw_m1 76 rfl) rfl
theorem q91 : (Jvm.Cond.selects "BehindStore" ({ cls := "BehindStore", name := "begin", desc := "()I" } : Jvm.MethodName) ({ cls := "BehindStore", name := "begin", desc := "()I" } : Jvm.MethodName)) ∈ lw_all := lw_g (lw_at lw_m1 77 rfl) rfl
theorem q92 : (Jvm.Cond.code ({ cls := "BehindStore", name := "begin", desc := "()I" } : Jvm.MethodName) prog_1_method_11_code (2 : Nat) (Option.some Jvm.ClassFile.FieldType.int)) ∈ lw_all := lw_g (lw_at lw_m1 78 rfl) rfl
theorem q93 : (Jvm.Cond.methodLink "BehindStore" (79 : Nat) ({ cls := "BehindStore", name := "isOpen", desc := "(I)Z" } : Jvm.MethodName)) ∈ lw_all := lw_g (lw_at lw_m1 79 rfl) rfl
theorem q94 : (Jvm.Cond.privateMethod ({ cls := "BehindStore", name := "isOpen", desc := "(I)Z" } : Jvm.MethodName)) ∈ lw_tbl := lw_at lw_m1 80 rfl
theorem q95 : (Jvm.Cond.instanceMethod ({ cls := "BehindStore", name := "isOpen", desc := "(I)Z" } : Jvm.MethodName)) ∈ lw_all := lw_g (lw_at lw_m1 81 rfl) rfl
theorem q96 : (Jvm.Cond.code ({ cls := "BehindStore", name := "isOpen", desc := "(I)Z" } : Jvm.MethodName) prog_1_method_3_code (2 : Nat) (Option.some Jvm.ClassFile.FieldType.boolean)) ∈ lw_all := lw_g (lw_at lw_m1 82 rfl) rfl
theorem q98 : (Jvm.Cond.instanceMethod ({ cls := "BehindStore", name := "write", desc := "(III)I" } : Jvm.MethodName)) ∈ lw_all := lw_g (lw_at lw_m1 84 rfl) rfl
theorem q99 : (Jvm.Cond.selects "BehindStore" ({ cls := "BehindStore", name := "write", desc := "(III)I" } : Jvm.MethodName) ({ cls := "BehindStore", name := "write", desc := "(III)I" } : Jvm.MethodName)) ∈ lw_all := lw_g (lw_at lw_m1 85 rfl) rfl
theorem q100 : (Jvm.Cond.code ({ cls := "BehindStore", name := "write", desc := "(III)I" } : Jvm.MethodName) prog_1_method_12_code (4 : Nat) (Option.some Jvm.ClassFile.FieldType.int)) ∈ lw_all := lw_g (lw_at lw_m1 86 rfl) rfl
theorem q101 : (Jvm.Cond.methodLink "BehindStore" (82 : Nat) ({ cls := "BehindStore", name := "isKey", desc := "(I)Z" } : Jvm.MethodName)) ∈ lw_all := lw_g (lw_at lw_m1 87 rfl) rfl
theorem q102 : (Jvm.Cond.static ({ cls := "BehindStore", name := "isKey", desc := "(I)Z" } : Jvm.MethodName)) ∈ lw_all := lw_g (lw_at lw_m1 88 rfl) rfl
theorem q103 : (Jvm.Cond.code ({ cls := "BehindStore", name := "isKey", desc := "(I)Z" } : Jvm.MethodName) prog_1_method_2_code (1 : Nat) (Option.some Jvm.ClassFile.FieldType.boolean)) ∈ lw_all := lw_g (lw_at lw_m1 89 rfl) rfl
theorem q105 : (Jvm.Cond.instanceMethod ({ cls := "BehindStore", name := "read", desc := "(II)I" } : Jvm.MethodName)) ∈ lw_all := lw_g (lw_at lw_m1 91 rfl) rfl
theorem q106 : (Jvm.Cond.selects "BehindStore" ({ cls := "BehindStore", name := "read", desc := "(II)I" } : Jvm.MethodName) ({ cls := "BehindStore", name := "read", desc := "(II)I" } : Jvm.MethodName)) ∈ lw_all := lw_g (lw_at lw_m1 92 rfl) rfl
theorem q107 : (Jvm.Cond.code ({ cls := "BehindStore", name := "read", desc := "(II)I" } : Jvm.MethodName) prog_1_method_13_code (3 : Nat) (Option.some Jvm.ClassFile.FieldType.int)) ∈ lw_all := lw_g (lw_at lw_m1 93 rfl) rfl
theorem q108 : (Jvm.Cond.methodLink "BehindStore" (85 : Nat) ({ cls := "BehindStore", name := "valueAt", desc := "(II)I" } : Jvm.MethodName)) ∈ lw_all := lw_g (lw_at lw_m1 94 rfl) rfl
theorem q109 : (Jvm.Cond.privateMethod ({ cls := "BehindStore", name := "valueAt", desc := "(II)I" } : Jvm.MethodName)) ∈ lw_tbl := lw_at lw_m1 95 rfl
theorem q110 : (Jvm.Cond.instanceMethod ({ cls := "BehindStore", name := "valueAt", desc := "(II)I" } : Jvm.MethodName)) ∈ lw_all := lw_g (lw_at lw_m1 96 rfl) rfl
theorem q111 : (Jvm.Cond.code ({ cls := "BehindStore", name := "valueAt", desc := "(II)I" } : Jvm.MethodName) prog_1_method_6_code (4 : Nat) (Option.some Jvm.ClassFile.FieldType.int)) ∈ lw_all := lw_g (lw_at lw_m1 97 rfl) rfl
theorem q112 : (Jvm.Cond.methodLink "BehindStore" (53 : Nat) ({ cls := "BehindStore", name := "cellAt", desc := "(II)I" } : Jvm.MethodName)) ∈ lw_all := lw_g (lw_at lw_m1 98 rfl) rfl
theorem q113 : (Jvm.Cond.privateMethod ({ cls := "BehindStore", name := "cellAt", desc := "(II)I" } : Jvm.MethodName)) ∈ lw_tbl := lw_at lw_m1 99 rfl
theorem q114 : (Jvm.Cond.instanceMethod ({ cls := "BehindStore", name := "cellAt", desc := "(II)I" } : Jvm.MethodName)) ∈ lw_all := lw_g (lw_at lw_m1 100 rfl) rfl
theorem q115 : (Jvm.Cond.code ({ cls := "BehindStore", name := "cellAt", desc := "(II)I" } : Jvm.MethodName) prog_1_method_5_code (5 : Nat) (Option.some Jvm.ClassFile.FieldType.int)) ∈ lw_all := lw_g (lw_at lw_m1 101 rfl) rfl
theorem q116 : (Jvm.Cond.methodLink "BehindStore" (49 : Nat) ({ cls := "BehindStore", name := "masked", desc := "(I)Z" } : Jvm.MethodName)) ∈ lw_all := lw_g (lw_at lw_m1 102 rfl) rfl
theorem q117 : (Jvm.Cond.privateMethod ({ cls := "BehindStore", name := "masked", desc := "(I)Z" } : Jvm.MethodName)) ∈ lw_tbl := lw_at lw_m1 103 rfl
theorem q118 : (Jvm.Cond.instanceMethod ({ cls := "BehindStore", name := "masked", desc := "(I)Z" } : Jvm.MethodName)) ∈ lw_all := lw_g (lw_at lw_m1 104 rfl) rfl
theorem q119 : (Jvm.Cond.code ({ cls := "BehindStore", name := "masked", desc := "(I)Z" } : Jvm.MethodName) prog_1_method_4_code (3 : Nat) (Option.some Jvm.ClassFile.FieldType.boolean)) ∈ lw_all := lw_g (lw_at lw_m1 105 rfl) rfl
theorem q121 : (Jvm.Cond.instanceMethod ({ cls := "BehindStore", name := "commit", desc := "(I)I" } : Jvm.MethodName)) ∈ lw_all := lw_g (lw_at lw_m1 107 rfl) rfl
theorem q122 : (Jvm.Cond.selects "BehindStore" ({ cls := "BehindStore", name := "commit", desc := "(I)I" } : Jvm.MethodName) ({ cls := "BehindStore", name := "commit", desc := "(I)I" } : Jvm.MethodName)) ∈ lw_all := lw_g (lw_at lw_m1 108 rfl) rfl
theorem q123 : (Jvm.Cond.code ({ cls := "BehindStore", name := "commit", desc := "(I)I" } : Jvm.MethodName) prog_1_method_14_code (4 : Nat) (Option.some Jvm.ClassFile.FieldType.int)) ∈ lw_all := lw_g (lw_at lw_m1 109 rfl) rfl
theorem q124 : (Jvm.Cond.methodLink "BehindStore" (88 : Nat) ({ cls := "BehindStore", name := "changedSince", desc := "(I)I" } : Jvm.MethodName)) ∈ lw_all := lw_g (lw_at lw_m1 110 rfl) rfl
theorem q125 : (Jvm.Cond.privateMethod ({ cls := "BehindStore", name := "changedSince", desc := "(I)I" } : Jvm.MethodName)) ∈ lw_tbl := lw_at lw_m1 111 rfl
theorem q126 : (Jvm.Cond.instanceMethod ({ cls := "BehindStore", name := "changedSince", desc := "(I)I" } : Jvm.MethodName)) ∈ lw_all := lw_g (lw_at lw_m1 112 rfl) rfl
theorem q127 : (Jvm.Cond.code ({ cls := "BehindStore", name := "changedSince", desc := "(I)I" } : Jvm.MethodName) prog_1_method_15_code (5 : Nat) (Option.some Jvm.ClassFile.FieldType.int)) ∈ lw_all := lw_g (lw_at lw_m1 113 rfl) rfl
theorem q128 : (Jvm.Cond.methodLink "BehindStore" (92 : Nat) ({ cls := "BehindStore", name := "enter", desc := "(III)V" } : Jvm.MethodName)) ∈ lw_all := lw_g (lw_at lw_m1 114 rfl) rfl
theorem q129 : (Jvm.Cond.privateMethod ({ cls := "BehindStore", name := "enter", desc := "(III)V" } : Jvm.MethodName)) ∈ lw_tbl := lw_at lw_m1 115 rfl
theorem q130 : (Jvm.Cond.instanceMethod ({ cls := "BehindStore", name := "enter", desc := "(III)V" } : Jvm.MethodName)) ∈ lw_all := lw_g (lw_at lw_m1 116 rfl) rfl
theorem q131 : (Jvm.Cond.code ({ cls := "BehindStore", name := "enter", desc := "(III)V" } : Jvm.MethodName) prog_1_method_7_code (5 : Nat) (Option.none : Option Jvm.ClassFile.FieldType)) ∈ lw_all := lw_g (lw_at lw_m1 117 rfl) rfl
theorem q132 : (Jvm.Cond.methodLink "BehindStore" (57 : Nat) ({ cls := "BehindStore", name := "freeCell", desc := "()I" } : Jvm.MethodName)) ∈ lw_all := lw_g (lw_at lw_m1 118 rfl) rfl
theorem q133 : (Jvm.Cond.privateMethod ({ cls := "BehindStore", name := "freeCell", desc := "()I" } : Jvm.MethodName)) ∈ lw_tbl := lw_at lw_m1 119 rfl
theorem q134 : (Jvm.Cond.instanceMethod ({ cls := "BehindStore", name := "freeCell", desc := "()I" } : Jvm.MethodName)) ∈ lw_all := lw_g (lw_at lw_m1 120 rfl) rfl
theorem q135 : (Jvm.Cond.code ({ cls := "BehindStore", name := "freeCell", desc := "()I" } : Jvm.MethodName) prog_1_method_8_code (2 : Nat) (Option.some Jvm.ClassFile.FieldType.int)) ∈ lw_all := lw_g (lw_at lw_m1 121 rfl) rfl
theorem q136 : (Jvm.Cond.methodLink "BehindStore" (61 : Nat) ({ cls := "BehindStore", name := "reclaim", desc := "()V" } : Jvm.MethodName)) ∈ lw_all := lw_g (lw_at lw_m1 122 rfl) rfl
theorem q137 : (Jvm.Cond.privateMethod ({ cls := "BehindStore", name := "reclaim", desc := "()V" } : Jvm.MethodName)) ∈ lw_tbl := lw_at lw_m1 123 rfl
theorem q138 : (Jvm.Cond.instanceMethod ({ cls := "BehindStore", name := "reclaim", desc := "()V" } : Jvm.MethodName)) ∈ lw_all := lw_g (lw_at lw_m1 124 rfl) rfl
theorem q139 : (Jvm.Cond.code ({ cls := "BehindStore", name := "reclaim", desc := "()V" } : Jvm.MethodName) prog_1_method_9_code (2 : Nat) (Option.none : Option Jvm.ClassFile.FieldType)) ∈ lw_all := lw_g (lw_at lw_m1 125 rfl) rfl
theorem q140 : (Jvm.Cond.methodLink "BehindStore" (64 : Nat) ({ cls := "BehindStore", name := "needed", desc := "(I)Z" } : Jvm.MethodName)) ∈ lw_all := lw_g (lw_at lw_m1 126 rfl) rfl
theorem q141 : (Jvm.Cond.privateMethod ({ cls := "BehindStore", name := "needed", desc := "(I)Z" } : Jvm.MethodName)) ∈ lw_tbl := lw_at lw_m1 127 rfl
theorem q142 : (Jvm.Cond.instanceMethod ({ cls := "BehindStore", name := "needed", desc := "(I)Z" } : Jvm.MethodName)) ∈ lw_all := lw_g (lw_at lw_m1 128 rfl) rfl
theorem q143 : (Jvm.Cond.code ({ cls := "BehindStore", name := "needed", desc := "(I)Z" } : Jvm.MethodName) prog_1_method_10_code (4 : Nat) (Option.some Jvm.ClassFile.FieldType.boolean)) ∈ lw_all := lw_g (lw_at lw_m1 129 rfl) rfl
theorem q145 : (Jvm.Cond.instanceMethod ({ cls := "BehindStore", name := "abort", desc := "(I)I" } : Jvm.MethodName)) ∈ lw_all := lw_g (lw_at lw_m1 131 rfl) rfl
theorem q146 : (Jvm.Cond.selects "BehindStore" ({ cls := "BehindStore", name := "abort", desc := "(I)I" } : Jvm.MethodName) ({ cls := "BehindStore", name := "abort", desc := "(I)I" } : Jvm.MethodName)) ∈ lw_all := lw_g (lw_at lw_m1 132 rfl) rfl
theorem q147 : (Jvm.Cond.code ({ cls := "BehindStore", name := "abort", desc := "(I)I" } : Jvm.MethodName) prog_1_method_16_code (2 : Nat) (Option.some Jvm.ClassFile.FieldType.int)) ∈ lw_all := lw_g (lw_at lw_m1 133 rfl) rfl
theorem q149 : (Jvm.Cond.instanceMethod ({ cls := "BehindStore", name := "seal", desc := "()I" } : Jvm.MethodName)) ∈ lw_all := lw_g (lw_at lw_m1 135 rfl) rfl
theorem q150 : (Jvm.Cond.selects "BehindStore" ({ cls := "BehindStore", name := "seal", desc := "()I" } : Jvm.MethodName) ({ cls := "BehindStore", name := "seal", desc := "()I" } : Jvm.MethodName)) ∈ lw_all := lw_g (lw_at lw_m1 136 rfl) rfl
theorem q151 : (Jvm.Cond.code ({ cls := "BehindStore", name := "seal", desc := "()I" } : Jvm.MethodName) prog_1_method_17_code (1 : Nat) (Option.some Jvm.ClassFile.FieldType.int)) ∈ lw_all := lw_g (lw_at lw_m1 137 rfl) rfl
theorem q153 : (Jvm.Cond.instanceMethod ({ cls := "BehindStore", name := "flush", desc := "(I)I" } : Jvm.MethodName)) ∈ lw_all := lw_g (lw_at lw_m1 139 rfl) rfl
theorem q154 : (Jvm.Cond.selects "BehindStore" ({ cls := "BehindStore", name := "flush", desc := "(I)I" } : Jvm.MethodName) ({ cls := "BehindStore", name := "flush", desc := "(I)I" } : Jvm.MethodName)) ∈ lw_all := lw_g (lw_at lw_m1 140 rfl) rfl
theorem q155 : (Jvm.Cond.code ({ cls := "BehindStore", name := "flush", desc := "(I)I" } : Jvm.MethodName) prog_1_method_18_code (4 : Nat) (Option.some Jvm.ClassFile.FieldType.int)) ∈ lw_all := lw_g (lw_at lw_m1 141 rfl) rfl
theorem q156 : (Jvm.Cond.methodLink "BehindStore" (108 : Nat) ({ cls := "BehindStore", name := "writeThrough", desc := "()V" } : Jvm.MethodName)) ∈ lw_all := lw_g (lw_at lw_m1 142 rfl) rfl
theorem q157 : (Jvm.Cond.privateMethod ({ cls := "BehindStore", name := "writeThrough", desc := "()V" } : Jvm.MethodName)) ∈ lw_tbl := lw_at lw_m1 143 rfl
theorem q158 : (Jvm.Cond.instanceMethod ({ cls := "BehindStore", name := "writeThrough", desc := "()V" } : Jvm.MethodName)) ∈ lw_all := lw_g (lw_at lw_m1 144 rfl) rfl
theorem q159 : (Jvm.Cond.code ({ cls := "BehindStore", name := "writeThrough", desc := "()V" } : Jvm.MethodName) prog_1_method_19_code (2 : Nat) (Option.none : Option Jvm.ClassFile.FieldType)) ∈ lw_all := lw_g (lw_at lw_m1 145 rfl) rfl
theorem q161 : (Jvm.Cond.instanceMethod ({ cls := "BehindStore", name := "stepsLeft", desc := "()I" } : Jvm.MethodName)) ∈ lw_all := lw_g (lw_at lw_m1 147 rfl) rfl
theorem q162 : (Jvm.Cond.selects "BehindStore" ({ cls := "BehindStore", name := "stepsLeft", desc := "()I" } : Jvm.MethodName) ({ cls := "BehindStore", name := "stepsLeft", desc := "()I" } : Jvm.MethodName)) ∈ lw_all := lw_g (lw_at lw_m1 148 rfl) rfl
theorem q163 : (Jvm.Cond.code ({ cls := "BehindStore", name := "stepsLeft", desc := "()I" } : Jvm.MethodName) prog_1_method_20_code (1 : Nat) (Option.some Jvm.ClassFile.FieldType.int)) ∈ lw_all := lw_g (lw_at lw_m1 149 rfl) rfl
theorem q165 : (Jvm.Cond.instanceMethod ({ cls := "BehindStore", name := "crash", desc := "()V" } : Jvm.MethodName)) ∈ lw_all := lw_g (lw_at lw_m1 151 rfl) rfl
theorem q166 : (Jvm.Cond.selects "BehindStore" ({ cls := "BehindStore", name := "crash", desc := "()V" } : Jvm.MethodName) ({ cls := "BehindStore", name := "crash", desc := "()V" } : Jvm.MethodName)) ∈ lw_all := lw_g (lw_at lw_m1 152 rfl) rfl
theorem q167 : (Jvm.Cond.code ({ cls := "BehindStore", name := "crash", desc := "()V" } : Jvm.MethodName) prog_1_method_21_code (2 : Nat) (Option.none : Option Jvm.ClassFile.FieldType)) ∈ lw_all := lw_g (lw_at lw_m1 153 rfl) rfl
theorem q168 : (Jvm.Cond.methodLink "BehindStore" (111 : Nat) ({ cls := "BehindStore", name := "dropGaps", desc := "()V" } : Jvm.MethodName)) ∈ lw_all := lw_g (lw_at lw_m1 154 rfl) rfl
theorem q169 : (Jvm.Cond.privateMethod ({ cls := "BehindStore", name := "dropGaps", desc := "()V" } : Jvm.MethodName)) ∈ lw_tbl := lw_at lw_m1 155 rfl
theorem q170 : (Jvm.Cond.instanceMethod ({ cls := "BehindStore", name := "dropGaps", desc := "()V" } : Jvm.MethodName)) ∈ lw_all := lw_g (lw_at lw_m1 156 rfl) rfl
theorem q171 : (Jvm.Cond.code ({ cls := "BehindStore", name := "dropGaps", desc := "()V" } : Jvm.MethodName) prog_1_method_22_code (2 : Nat) (Option.none : Option Jvm.ClassFile.FieldType)) ∈ lw_all := lw_g (lw_at lw_m1 157 rfl) rfl
theorem q173 : (Jvm.Cond.instanceMethod ({ cls := "BehindStore", name := "commits", desc := "()I" } : Jvm.MethodName)) ∈ lw_all := lw_g (lw_at lw_m1 159 rfl) rfl
theorem q174 : (Jvm.Cond.selects "BehindStore" ({ cls := "BehindStore", name := "commits", desc := "()I" } : Jvm.MethodName) ({ cls := "BehindStore", name := "commits", desc := "()I" } : Jvm.MethodName)) ∈ lw_all := lw_g (lw_at lw_m1 160 rfl) rfl
theorem q175 : (Jvm.Cond.code ({ cls := "BehindStore", name := "commits", desc := "()I" } : Jvm.MethodName) prog_1_method_23_code (1 : Nat) (Option.some Jvm.ClassFile.FieldType.int)) ∈ lw_all := lw_g (lw_at lw_m1 161 rfl) rfl
theorem q177 : (Jvm.Cond.instanceMethod ({ cls := "BehindStore", name := "durable", desc := "()I" } : Jvm.MethodName)) ∈ lw_all := lw_g (lw_at lw_m1 163 rfl) rfl
theorem q178 : (Jvm.Cond.selects "BehindStore" ({ cls := "BehindStore", name := "durable", desc := "()I" } : Jvm.MethodName) ({ cls := "BehindStore", name := "durable", desc := "()I" } : Jvm.MethodName)) ∈ lw_all := lw_g (lw_at lw_m1 164 rfl) rfl
theorem q179 : (Jvm.Cond.code ({ cls := "BehindStore", name := "durable", desc := "()I" } : Jvm.MethodName) prog_1_method_24_code (1 : Nat) (Option.some Jvm.ClassFile.FieldType.int)) ∈ lw_all := lw_g (lw_at lw_m1 165 rfl) rfl
theorem q181 : (Jvm.Cond.instanceMethod ({ cls := "BehindStore", name := "value", desc := "(I)I" } : Jvm.MethodName)) ∈ lw_all := lw_g (lw_at lw_m1 167 rfl) rfl
theorem q182 : (Jvm.Cond.selects "BehindStore" ({ cls := "BehindStore", name := "value", desc := "(I)I" } : Jvm.MethodName) ({ cls := "BehindStore", name := "value", desc := "(I)I" } : Jvm.MethodName)) ∈ lw_all := lw_g (lw_at lw_m1 168 rfl) rfl
theorem q183 : (Jvm.Cond.code ({ cls := "BehindStore", name := "value", desc := "(I)I" } : Jvm.MethodName) prog_1_method_25_code (2 : Nat) (Option.some Jvm.ClassFile.FieldType.int)) ∈ lw_all := lw_g (lw_at lw_m1 169 rfl) rfl
theorem q185 : (Jvm.Cond.instanceMethod ({ cls := "BehindStore", name := "safeValue", desc := "(I)I" } : Jvm.MethodName)) ∈ lw_all := lw_g (lw_at lw_m1 171 rfl) rfl
theorem q186 : (Jvm.Cond.selects "BehindStore" ({ cls := "BehindStore", name := "safeValue", desc := "(I)I" } : Jvm.MethodName) ({ cls := "BehindStore", name := "safeValue", desc := "(I)I" } : Jvm.MethodName)) ∈ lw_all := lw_g (lw_at lw_m1 172 rfl) rfl
theorem q187 : (Jvm.Cond.code ({ cls := "BehindStore", name := "safeValue", desc := "(I)I" } : Jvm.MethodName) prog_1_method_26_code (2 : Nat) (Option.some Jvm.ClassFile.FieldType.int)) ∈ lw_all := lw_g (lw_at lw_m1 173 rfl) rfl
theorem q189 : (Jvm.Cond.instanceMethod ({ cls := "BehindStore", name := "conflicts", desc := "(I)I" } : Jvm.MethodName)) ∈ lw_all := lw_g (lw_at lw_m1 175 rfl) rfl
theorem q190 : (Jvm.Cond.selects "BehindStore" ({ cls := "BehindStore", name := "conflicts", desc := "(I)I" } : Jvm.MethodName) ({ cls := "BehindStore", name := "conflicts", desc := "(I)I" } : Jvm.MethodName)) ∈ lw_all := lw_g (lw_at lw_m1 176 rfl) rfl
theorem q191 : (Jvm.Cond.code ({ cls := "BehindStore", name := "conflicts", desc := "(I)I" } : Jvm.MethodName) prog_1_method_27_code (2 : Nat) (Option.some Jvm.ClassFile.FieldType.int)) ∈ lw_all := lw_g (lw_at lw_m1 177 rfl) rfl
theorem q193 : (Jvm.Cond.instanceMethod ({ cls := "BehindStore", name := "open", desc := "()I" } : Jvm.MethodName)) ∈ lw_all := lw_g (lw_at lw_m1 179 rfl) rfl
theorem q194 : (Jvm.Cond.selects "BehindStore" ({ cls := "BehindStore", name := "open", desc := "()I" } : Jvm.MethodName) ({ cls := "BehindStore", name := "open", desc := "()I" } : Jvm.MethodName)) ∈ lw_all := lw_g (lw_at lw_m1 180 rfl) rfl
theorem q195 : (Jvm.Cond.code ({ cls := "BehindStore", name := "open", desc := "()I" } : Jvm.MethodName) prog_1_method_28_code (1 : Nat) (Option.some Jvm.ClassFile.FieldType.int)) ∈ lw_all := lw_g (lw_at lw_m1 181 rfl) rfl
theorem in_X0 : ∀ w ∈ wsX00, w ∈ lw_all := lw_in wsX00 [45, 47, 49, 51, 53, 55, 57, 59, 61, 63, 65, 67, 69, 71, 73, 75, 77, 79, 81, 83] (by decide +kernel) (by decide +kernel)
end
section
/-! BehindStoreModel -/
set_option maxRecDepth 100000
def RX1 : String := "BehindStoreModel"
def TX1 : u_T := fun k => match k with
  | 0 => ("BehindStoreModel", "safe", "[I", false)
  | 1 => ("BehindStoreModel", "sealed", "[I", false)
  | 2 => ("BehindStoreModel", "now", "[I", false)
  | 3 => ("BehindStoreModel", "safeCount", "I", false)
  | 4 => ("BehindStoreModel", "sealedCount", "I", false)
  | 5 => ("BehindStoreModel", "count", "I", false)
  | 6 => ("BehindStoreModel", "left", "I", false)
  | 7 => ("BehindStoreModel", "waitingSteps", "I", false)
  | 8 => ("BehindStoreModel", "busy", "[Z", false)
  | 9 => ("BehindStoreModel", "sees", "[I", false)
  | 10 => ("BehindStoreModel", "wrote", "[I", false)
  | _ => ("BehindStoreModel", "since", "[I", false)
def tyX1 : Nat → FieldType := fun k => match k with
  | 0 => .array .int
  | 1 => .array .int
  | 2 => .array .int
  | 3 => .int
  | 4 => .int
  | 5 => .int
  | 6 => .int
  | 7 => .int
  | 8 => .array .boolean
  | 9 => .array .int
  | 10 => .array .int
  | _ => .array .int
abbrev wsX10 : List Cond := u_ws RX1 TX1 12
theorem nmX1 : ∀ a, a < 12 → ∀ b, b < 12 → a ≠ b → (TX1 a).2.1 ≠ (TX1 b).2.1 := by decide +kernel
theorem tyX1_ok : ∀ k, k < 12 → parseFieldDescriptor (TX1 k).2.2.1 = some (tyX1 k) := by decide +kernel
abbrev cX1_init : ByteArray := prog_3_method_1_code
def yX1_init : MethodName := ⟨RX1, "<init>", "()V"⟩
theorem dX1_init_0 : decode cX1_init 0 = .ok (.aload_n 0, 1) := by decide +kernel
theorem dX1_init_1 : decode cX1_init 1 = .ok (.invokespecial 1, 3) := by decide +kernel
theorem dX1_init_4 : decode cX1_init 4 = .ok (.aload_n 0, 1) := by decide +kernel
theorem dX1_init_5 : decode cX1_init 5 = .ok (.bipush 8, 2) := by decide +kernel
theorem dX1_init_7 : decode cX1_init 7 = .ok (.newarray .int, 2) := by decide +kernel
theorem dX1_init_9 : decode cX1_init 9 = .ok (.putfield 7, 3) := by decide +kernel
theorem dX1_init_12 : decode cX1_init 12 = .ok (.aload_n 0, 1) := by decide +kernel
theorem dX1_init_13 : decode cX1_init 13 = .ok (.bipush 8, 2) := by decide +kernel
theorem dX1_init_15 : decode cX1_init 15 = .ok (.newarray .int, 2) := by decide +kernel
theorem dX1_init_17 : decode cX1_init 17 = .ok (.putfield 13, 3) := by decide +kernel
theorem dX1_init_20 : decode cX1_init 20 = .ok (.aload_n 0, 1) := by decide +kernel
theorem dX1_init_21 : decode cX1_init 21 = .ok (.bipush 8, 2) := by decide +kernel
theorem dX1_init_23 : decode cX1_init 23 = .ok (.newarray .int, 2) := by decide +kernel
theorem dX1_init_25 : decode cX1_init 25 = .ok (.putfield 16, 3) := by decide +kernel
theorem dX1_init_28 : decode cX1_init 28 = .ok (.aload_n 0, 1) := by decide +kernel
theorem dX1_init_29 : decode cX1_init 29 = .ok (.iconst 4, 1) := by decide +kernel
theorem dX1_init_30 : decode cX1_init 30 = .ok (.newarray .boolean, 2) := by decide +kernel
theorem dX1_init_32 : decode cX1_init 32 = .ok (.putfield 19, 3) := by decide +kernel
theorem dX1_init_35 : decode cX1_init 35 = .ok (.aload_n 0, 1) := by decide +kernel
theorem dX1_init_36 : decode cX1_init 36 = .ok (.bipush 32, 2) := by decide +kernel
theorem dX1_init_38 : decode cX1_init 38 = .ok (.newarray .int, 2) := by decide +kernel
theorem dX1_init_40 : decode cX1_init 40 = .ok (.putfield 23, 3) := by decide +kernel
theorem dX1_init_43 : decode cX1_init 43 = .ok (.aload_n 0, 1) := by decide +kernel
theorem dX1_init_44 : decode cX1_init 44 = .ok (.iconst 4, 1) := by decide +kernel
theorem dX1_init_45 : decode cX1_init 45 = .ok (.newarray .int, 2) := by decide +kernel
theorem dX1_init_47 : decode cX1_init 47 = .ok (.putfield 26, 3) := by decide +kernel
theorem dX1_init_50 : decode cX1_init 50 = .ok (.aload_n 0, 1) := by decide +kernel
theorem dX1_init_51 : decode cX1_init 51 = .ok (.iconst 4, 1) := by decide +kernel
theorem dX1_init_52 : decode cX1_init 52 = .ok (.newarray .int, 2) := by decide +kernel
theorem dX1_init_54 : decode cX1_init 54 = .ok (.putfield 29, 3) := by decide +kernel
theorem dX1_init_57 : decode cX1_init 57 = .ok (.return_, 1) := by decide +kernel
abbrev cX1_begin : ByteArray := prog_3_method_4_code
def yX1_begin : MethodName := ⟨RX1, "begin", "()I"⟩
theorem dX1_begin_0 : decode cX1_begin 0 = .ok (.iconst 0, 1) := by decide +kernel
theorem dX1_begin_1 : decode cX1_begin 1 = .ok (.istore_n 1, 1) := by decide +kernel
theorem dX1_begin_2 : decode cX1_begin 2 = .ok (.iload_n 1, 1) := by decide +kernel
theorem dX1_begin_3 : decode cX1_begin 3 = .ok (.iconst 4, 1) := by decide +kernel
theorem dX1_begin_4 : decode cX1_begin 4 = .ok (.if_icmp .ge 18, 3) := by decide +kernel
theorem dX1_begin_7 : decode cX1_begin 7 = .ok (.aload_n 0, 1) := by decide +kernel
theorem dX1_begin_8 : decode cX1_begin 8 = .ok (.getfield 19, 3) := by decide +kernel
theorem dX1_begin_11 : decode cX1_begin 11 = .ok (.iload_n 1, 1) := by decide +kernel
theorem dX1_begin_12 : decode cX1_begin 12 = .ok (.baload, 1) := by decide +kernel
theorem dX1_begin_13 : decode cX1_begin 13 = .ok (.ifCond .eq 9, 3) := by decide +kernel
theorem dX1_begin_16 : decode cX1_begin 16 = .ok (.iinc 1 1, 3) := by decide +kernel
theorem dX1_begin_19 : decode cX1_begin 19 = .ok (.goto (-17), 3) := by decide +kernel
theorem dX1_begin_22 : decode cX1_begin 22 = .ok (.iload_n 1, 1) := by decide +kernel
theorem dX1_begin_23 : decode cX1_begin 23 = .ok (.iconst 4, 1) := by decide +kernel
theorem dX1_begin_24 : decode cX1_begin 24 = .ok (.if_icmp .ne 6, 3) := by decide +kernel
theorem dX1_begin_27 : decode cX1_begin 27 = .ok (.bipush (-2), 2) := by decide +kernel
theorem dX1_begin_29 : decode cX1_begin 29 = .ok (.ireturn, 1) := by decide +kernel
theorem dX1_begin_30 : decode cX1_begin 30 = .ok (.aload_n 0, 1) := by decide +kernel
theorem dX1_begin_31 : decode cX1_begin 31 = .ok (.getfield 19, 3) := by decide +kernel
theorem dX1_begin_34 : decode cX1_begin 34 = .ok (.iload_n 1, 1) := by decide +kernel
theorem dX1_begin_35 : decode cX1_begin 35 = .ok (.iconst 1, 1) := by decide +kernel
theorem dX1_begin_36 : decode cX1_begin 36 = .ok (.bastore, 1) := by decide +kernel
theorem dX1_begin_37 : decode cX1_begin 37 = .ok (.aload_n 0, 1) := by decide +kernel
theorem dX1_begin_38 : decode cX1_begin 38 = .ok (.getfield 26, 3) := by decide +kernel
theorem dX1_begin_41 : decode cX1_begin 41 = .ok (.iload_n 1, 1) := by decide +kernel
theorem dX1_begin_42 : decode cX1_begin 42 = .ok (.iconst 0, 1) := by decide +kernel
theorem dX1_begin_43 : decode cX1_begin 43 = .ok (.iastore, 1) := by decide +kernel
theorem dX1_begin_44 : decode cX1_begin 44 = .ok (.aload_n 0, 1) := by decide +kernel
theorem dX1_begin_45 : decode cX1_begin 45 = .ok (.getfield 29, 3) := by decide +kernel
theorem dX1_begin_48 : decode cX1_begin 48 = .ok (.iload_n 1, 1) := by decide +kernel
theorem dX1_begin_49 : decode cX1_begin 49 = .ok (.iconst 0, 1) := by decide +kernel
theorem dX1_begin_50 : decode cX1_begin 50 = .ok (.iastore, 1) := by decide +kernel
theorem dX1_begin_51 : decode cX1_begin 51 = .ok (.iconst 0, 1) := by decide +kernel
theorem dX1_begin_52 : decode cX1_begin 52 = .ok (.istore_n 2, 1) := by decide +kernel
theorem dX1_begin_53 : decode cX1_begin 53 = .ok (.iload_n 2, 1) := by decide +kernel
theorem dX1_begin_54 : decode cX1_begin 54 = .ok (.bipush 8, 2) := by decide +kernel
theorem dX1_begin_56 : decode cX1_begin 56 = .ok (.if_icmp .ge 26, 3) := by decide +kernel
theorem dX1_begin_59 : decode cX1_begin 59 = .ok (.aload_n 0, 1) := by decide +kernel
theorem dX1_begin_60 : decode cX1_begin 60 = .ok (.getfield 23, 3) := by decide +kernel
theorem dX1_begin_63 : decode cX1_begin 63 = .ok (.bipush 8, 2) := by decide +kernel
theorem dX1_begin_65 : decode cX1_begin 65 = .ok (.iload_n 1, 1) := by decide +kernel
theorem dX1_begin_66 : decode cX1_begin 66 = .ok (.imul, 1) := by decide +kernel
theorem dX1_begin_67 : decode cX1_begin 67 = .ok (.iload_n 2, 1) := by decide +kernel
theorem dX1_begin_68 : decode cX1_begin 68 = .ok (.iadd, 1) := by decide +kernel
theorem dX1_begin_69 : decode cX1_begin 69 = .ok (.aload_n 0, 1) := by decide +kernel
theorem dX1_begin_70 : decode cX1_begin 70 = .ok (.getfield 16, 3) := by decide +kernel
theorem dX1_begin_73 : decode cX1_begin 73 = .ok (.iload_n 2, 1) := by decide +kernel
theorem dX1_begin_74 : decode cX1_begin 74 = .ok (.iaload, 1) := by decide +kernel
theorem dX1_begin_75 : decode cX1_begin 75 = .ok (.iastore, 1) := by decide +kernel
theorem dX1_begin_76 : decode cX1_begin 76 = .ok (.iinc 2 1, 3) := by decide +kernel
theorem dX1_begin_79 : decode cX1_begin 79 = .ok (.goto (-26), 3) := by decide +kernel
theorem dX1_begin_82 : decode cX1_begin 82 = .ok (.iload_n 1, 1) := by decide +kernel
theorem dX1_begin_83 : decode cX1_begin 83 = .ok (.ireturn, 1) := by decide +kernel
abbrev cX1_write : ByteArray := prog_3_method_5_code
def yX1_write : MethodName := ⟨RX1, "write", "(III)I"⟩
theorem dX1_write_0 : decode cX1_write 0 = .ok (.aload_n 0, 1) := by decide +kernel
theorem dX1_write_1 : decode cX1_write 1 = .ok (.iload_n 1, 1) := by decide +kernel
theorem dX1_write_2 : decode cX1_write 2 = .ok (.invokevirtual 32, 3) := by decide +kernel
theorem dX1_write_5 : decode cX1_write 5 = .ok (.ifCond .eq 11, 3) := by decide +kernel
theorem dX1_write_8 : decode cX1_write 8 = .ok (.aload_n 0, 1) := by decide +kernel
theorem dX1_write_9 : decode cX1_write 9 = .ok (.iload_n 2, 1) := by decide +kernel
theorem dX1_write_10 : decode cX1_write 10 = .ok (.invokevirtual 36, 3) := by decide +kernel
theorem dX1_write_13 : decode cX1_write 13 = .ok (.ifCond .ne 5, 3) := by decide +kernel
theorem dX1_write_16 : decode cX1_write 16 = .ok (.iconst (-1), 1) := by decide +kernel
theorem dX1_write_17 : decode cX1_write 17 = .ok (.ireturn, 1) := by decide +kernel
theorem dX1_write_18 : decode cX1_write 18 = .ok (.aload_n 0, 1) := by decide +kernel
theorem dX1_write_19 : decode cX1_write 19 = .ok (.getfield 23, 3) := by decide +kernel
theorem dX1_write_22 : decode cX1_write 22 = .ok (.bipush 8, 2) := by decide +kernel
theorem dX1_write_24 : decode cX1_write 24 = .ok (.iload_n 1, 1) := by decide +kernel
theorem dX1_write_25 : decode cX1_write 25 = .ok (.imul, 1) := by decide +kernel
theorem dX1_write_26 : decode cX1_write 26 = .ok (.iload_n 2, 1) := by decide +kernel
theorem dX1_write_27 : decode cX1_write 27 = .ok (.iadd, 1) := by decide +kernel
theorem dX1_write_28 : decode cX1_write 28 = .ok (.iload_n 3, 1) := by decide +kernel
theorem dX1_write_29 : decode cX1_write 29 = .ok (.iastore, 1) := by decide +kernel
theorem dX1_write_30 : decode cX1_write 30 = .ok (.aload_n 0, 1) := by decide +kernel
theorem dX1_write_31 : decode cX1_write 31 = .ok (.getfield 26, 3) := by decide +kernel
theorem dX1_write_34 : decode cX1_write 34 = .ok (.iload_n 1, 1) := by decide +kernel
theorem dX1_write_35 : decode cX1_write 35 = .ok (.aload_n 0, 1) := by decide +kernel
theorem dX1_write_36 : decode cX1_write 36 = .ok (.getfield 26, 3) := by decide +kernel
theorem dX1_write_39 : decode cX1_write 39 = .ok (.iload_n 1, 1) := by decide +kernel
theorem dX1_write_40 : decode cX1_write 40 = .ok (.iaload, 1) := by decide +kernel
theorem dX1_write_41 : decode cX1_write 41 = .ok (.iconst 1, 1) := by decide +kernel
theorem dX1_write_42 : decode cX1_write 42 = .ok (.iload_n 2, 1) := by decide +kernel
theorem dX1_write_43 : decode cX1_write 43 = .ok (.ishl, 1) := by decide +kernel
theorem dX1_write_44 : decode cX1_write 44 = .ok (.ior, 1) := by decide +kernel
theorem dX1_write_45 : decode cX1_write 45 = .ok (.iastore, 1) := by decide +kernel
theorem dX1_write_46 : decode cX1_write 46 = .ok (.iconst 0, 1) := by decide +kernel
theorem dX1_write_47 : decode cX1_write 47 = .ok (.ireturn, 1) := by decide +kernel
abbrev cX1_isOpen : ByteArray := prog_3_method_2_code
def yX1_isOpen : MethodName := ⟨RX1, "isOpen", "(I)Z"⟩
theorem dX1_isOpen_0 : decode cX1_isOpen 0 = .ok (.iload_n 1, 1) := by decide +kernel
theorem dX1_isOpen_1 : decode cX1_isOpen 1 = .ok (.ifCond .lt 21, 3) := by decide +kernel
theorem dX1_isOpen_4 : decode cX1_isOpen 4 = .ok (.iload_n 1, 1) := by decide +kernel
theorem dX1_isOpen_5 : decode cX1_isOpen 5 = .ok (.iconst 4, 1) := by decide +kernel
theorem dX1_isOpen_6 : decode cX1_isOpen 6 = .ok (.if_icmp .ge 16, 3) := by decide +kernel
theorem dX1_isOpen_9 : decode cX1_isOpen 9 = .ok (.aload_n 0, 1) := by decide +kernel
theorem dX1_isOpen_10 : decode cX1_isOpen 10 = .ok (.getfield 19, 3) := by decide +kernel
theorem dX1_isOpen_13 : decode cX1_isOpen 13 = .ok (.iload_n 1, 1) := by decide +kernel
theorem dX1_isOpen_14 : decode cX1_isOpen 14 = .ok (.baload, 1) := by decide +kernel
theorem dX1_isOpen_15 : decode cX1_isOpen 15 = .ok (.ifCond .eq 7, 3) := by decide +kernel
theorem dX1_isOpen_18 : decode cX1_isOpen 18 = .ok (.iconst 1, 1) := by decide +kernel
theorem dX1_isOpen_19 : decode cX1_isOpen 19 = .ok (.goto 4, 3) := by decide +kernel
theorem dX1_isOpen_22 : decode cX1_isOpen 22 = .ok (.iconst 0, 1) := by decide +kernel
theorem dX1_isOpen_23 : decode cX1_isOpen 23 = .ok (.ireturn, 1) := by decide +kernel
abbrev cX1_isKey : ByteArray := prog_3_method_3_code
def yX1_isKey : MethodName := ⟨RX1, "isKey", "(I)Z"⟩
theorem dX1_isKey_0 : decode cX1_isKey 0 = .ok (.iload_n 1, 1) := by decide +kernel
theorem dX1_isKey_1 : decode cX1_isKey 1 = .ok (.ifCond .lt 13, 3) := by decide +kernel
theorem dX1_isKey_4 : decode cX1_isKey 4 = .ok (.iload_n 1, 1) := by decide +kernel
theorem dX1_isKey_5 : decode cX1_isKey 5 = .ok (.bipush 8, 2) := by decide +kernel
theorem dX1_isKey_7 : decode cX1_isKey 7 = .ok (.if_icmp .ge 7, 3) := by decide +kernel
theorem dX1_isKey_10 : decode cX1_isKey 10 = .ok (.iconst 1, 1) := by decide +kernel
theorem dX1_isKey_11 : decode cX1_isKey 11 = .ok (.goto 4, 3) := by decide +kernel
theorem dX1_isKey_14 : decode cX1_isKey 14 = .ok (.iconst 0, 1) := by decide +kernel
theorem dX1_isKey_15 : decode cX1_isKey 15 = .ok (.ireturn, 1) := by decide +kernel
abbrev cX1_read : ByteArray := prog_3_method_6_code
def yX1_read : MethodName := ⟨RX1, "read", "(II)I"⟩
theorem dX1_read_0 : decode cX1_read 0 = .ok (.aload_n 0, 1) := by decide +kernel
theorem dX1_read_1 : decode cX1_read 1 = .ok (.iload_n 1, 1) := by decide +kernel
theorem dX1_read_2 : decode cX1_read 2 = .ok (.invokevirtual 32, 3) := by decide +kernel
theorem dX1_read_5 : decode cX1_read 5 = .ok (.ifCond .eq 25, 3) := by decide +kernel
theorem dX1_read_8 : decode cX1_read 8 = .ok (.aload_n 0, 1) := by decide +kernel
theorem dX1_read_9 : decode cX1_read 9 = .ok (.iload_n 2, 1) := by decide +kernel
theorem dX1_read_10 : decode cX1_read 10 = .ok (.invokevirtual 36, 3) := by decide +kernel
theorem dX1_read_13 : decode cX1_read 13 = .ok (.ifCond .eq 17, 3) := by decide +kernel
theorem dX1_read_16 : decode cX1_read 16 = .ok (.aload_n 0, 1) := by decide +kernel
theorem dX1_read_17 : decode cX1_read 17 = .ok (.getfield 23, 3) := by decide +kernel
theorem dX1_read_20 : decode cX1_read 20 = .ok (.bipush 8, 2) := by decide +kernel
theorem dX1_read_22 : decode cX1_read 22 = .ok (.iload_n 1, 1) := by decide +kernel
theorem dX1_read_23 : decode cX1_read 23 = .ok (.imul, 1) := by decide +kernel
theorem dX1_read_24 : decode cX1_read 24 = .ok (.iload_n 2, 1) := by decide +kernel
theorem dX1_read_25 : decode cX1_read 25 = .ok (.iadd, 1) := by decide +kernel
theorem dX1_read_26 : decode cX1_read 26 = .ok (.iaload, 1) := by decide +kernel
theorem dX1_read_27 : decode cX1_read 27 = .ok (.goto 4, 3) := by decide +kernel
theorem dX1_read_30 : decode cX1_read 30 = .ok (.iconst 0, 1) := by decide +kernel
theorem dX1_read_31 : decode cX1_read 31 = .ok (.ireturn, 1) := by decide +kernel
abbrev cX1_commit : ByteArray := prog_3_method_7_code
def yX1_commit : MethodName := ⟨RX1, "commit", "(I)I"⟩
theorem dX1_commit_0 : decode cX1_commit 0 = .ok (.aload_n 0, 1) := by decide +kernel
theorem dX1_commit_1 : decode cX1_commit 1 = .ok (.iload_n 1, 1) := by decide +kernel
theorem dX1_commit_2 : decode cX1_commit 2 = .ok (.invokevirtual 32, 3) := by decide +kernel
theorem dX1_commit_5 : decode cX1_commit 5 = .ok (.ifCond .ne 5, 3) := by decide +kernel
theorem dX1_commit_8 : decode cX1_commit 8 = .ok (.iconst (-1), 1) := by decide +kernel
theorem dX1_commit_9 : decode cX1_commit 9 = .ok (.ireturn, 1) := by decide +kernel
theorem dX1_commit_10 : decode cX1_commit 10 = .ok (.aload_n 0, 1) := by decide +kernel
theorem dX1_commit_11 : decode cX1_commit 11 = .ok (.getfield 19, 3) := by decide +kernel
theorem dX1_commit_14 : decode cX1_commit 14 = .ok (.iload_n 1, 1) := by decide +kernel
theorem dX1_commit_15 : decode cX1_commit 15 = .ok (.iconst 0, 1) := by decide +kernel
theorem dX1_commit_16 : decode cX1_commit 16 = .ok (.bastore, 1) := by decide +kernel
theorem dX1_commit_17 : decode cX1_commit 17 = .ok (.aload_n 0, 1) := by decide +kernel
theorem dX1_commit_18 : decode cX1_commit 18 = .ok (.getfield 26, 3) := by decide +kernel
theorem dX1_commit_21 : decode cX1_commit 21 = .ok (.iload_n 1, 1) := by decide +kernel
theorem dX1_commit_22 : decode cX1_commit 22 = .ok (.iaload, 1) := by decide +kernel
theorem dX1_commit_23 : decode cX1_commit 23 = .ok (.aload_n 0, 1) := by decide +kernel
theorem dX1_commit_24 : decode cX1_commit 24 = .ok (.getfield 29, 3) := by decide +kernel
theorem dX1_commit_27 : decode cX1_commit 27 = .ok (.iload_n 1, 1) := by decide +kernel
theorem dX1_commit_28 : decode cX1_commit 28 = .ok (.iaload, 1) := by decide +kernel
theorem dX1_commit_29 : decode cX1_commit 29 = .ok (.iand, 1) := by decide +kernel
theorem dX1_commit_30 : decode cX1_commit 30 = .ok (.ifCond .eq 6, 3) := by decide +kernel
theorem dX1_commit_33 : decode cX1_commit 33 = .ok (.bipush (-3), 2) := by decide +kernel
theorem dX1_commit_35 : decode cX1_commit 35 = .ok (.ireturn, 1) := by decide +kernel
theorem dX1_commit_36 : decode cX1_commit 36 = .ok (.aload_n 0, 1) := by decide +kernel
theorem dX1_commit_37 : decode cX1_commit 37 = .ok (.getfield 26, 3) := by decide +kernel
theorem dX1_commit_40 : decode cX1_commit 40 = .ok (.iload_n 1, 1) := by decide +kernel
theorem dX1_commit_41 : decode cX1_commit 41 = .ok (.iaload, 1) := by decide +kernel
theorem dX1_commit_42 : decode cX1_commit 42 = .ok (.ifCond .eq 8, 3) := by decide +kernel
theorem dX1_commit_45 : decode cX1_commit 45 = .ok (.aload_n 0, 1) := by decide +kernel
theorem dX1_commit_46 : decode cX1_commit 46 = .ok (.iload_n 1, 1) := by decide +kernel
theorem dX1_commit_47 : decode cX1_commit 47 = .ok (.invokevirtual 39, 3) := by decide +kernel
theorem dX1_commit_50 : decode cX1_commit 50 = .ok (.iconst 0, 1) := by decide +kernel
theorem dX1_commit_51 : decode cX1_commit 51 = .ok (.ireturn, 1) := by decide +kernel
abbrev cX1_apply : ByteArray := prog_3_method_8_code
def yX1_apply : MethodName := ⟨RX1, "apply", "(I)V"⟩
theorem dX1_apply_0 : decode cX1_apply 0 = .ok (.aload_n 0, 1) := by decide +kernel
theorem dX1_apply_1 : decode cX1_apply 1 = .ok (.dup, 1) := by decide +kernel
theorem dX1_apply_2 : decode cX1_apply 2 = .ok (.getfield 43, 3) := by decide +kernel
theorem dX1_apply_5 : decode cX1_apply 5 = .ok (.iconst 1, 1) := by decide +kernel
theorem dX1_apply_6 : decode cX1_apply 6 = .ok (.iadd, 1) := by decide +kernel
theorem dX1_apply_7 : decode cX1_apply 7 = .ok (.putfield 43, 3) := by decide +kernel
theorem dX1_apply_10 : decode cX1_apply 10 = .ok (.iconst 0, 1) := by decide +kernel
theorem dX1_apply_11 : decode cX1_apply 11 = .ok (.istore_n 2, 1) := by decide +kernel
theorem dX1_apply_12 : decode cX1_apply 12 = .ok (.iload_n 2, 1) := by decide +kernel
theorem dX1_apply_13 : decode cX1_apply 13 = .ok (.bipush 8, 2) := by decide +kernel
theorem dX1_apply_15 : decode cX1_apply 15 = .ok (.if_icmp .ge 50, 3) := by decide +kernel
theorem dX1_apply_18 : decode cX1_apply 18 = .ok (.aload_n 0, 1) := by decide +kernel
theorem dX1_apply_19 : decode cX1_apply 19 = .ok (.getfield 26, 3) := by decide +kernel
theorem dX1_apply_22 : decode cX1_apply 22 = .ok (.iload_n 1, 1) := by decide +kernel
theorem dX1_apply_23 : decode cX1_apply 23 = .ok (.iaload, 1) := by decide +kernel
theorem dX1_apply_24 : decode cX1_apply 24 = .ok (.iload_n 2, 1) := by decide +kernel
theorem dX1_apply_25 : decode cX1_apply 25 = .ok (.ishr, 1) := by decide +kernel
theorem dX1_apply_26 : decode cX1_apply 26 = .ok (.iconst 1, 1) := by decide +kernel
theorem dX1_apply_27 : decode cX1_apply 27 = .ok (.iand, 1) := by decide +kernel
theorem dX1_apply_28 : decode cX1_apply 28 = .ok (.iconst 1, 1) := by decide +kernel
theorem dX1_apply_29 : decode cX1_apply 29 = .ok (.if_icmp .ne 30, 3) := by decide +kernel
theorem dX1_apply_32 : decode cX1_apply 32 = .ok (.aload_n 0, 1) := by decide +kernel
theorem dX1_apply_33 : decode cX1_apply 33 = .ok (.getfield 16, 3) := by decide +kernel
theorem dX1_apply_36 : decode cX1_apply 36 = .ok (.iload_n 2, 1) := by decide +kernel
theorem dX1_apply_37 : decode cX1_apply 37 = .ok (.aload_n 0, 1) := by decide +kernel
theorem dX1_apply_38 : decode cX1_apply 38 = .ok (.getfield 23, 3) := by decide +kernel
theorem dX1_apply_41 : decode cX1_apply 41 = .ok (.bipush 8, 2) := by decide +kernel
theorem dX1_apply_43 : decode cX1_apply 43 = .ok (.iload_n 1, 1) := by decide +kernel
theorem dX1_apply_44 : decode cX1_apply 44 = .ok (.imul, 1) := by decide +kernel
theorem dX1_apply_45 : decode cX1_apply 45 = .ok (.iload_n 2, 1) := by decide +kernel
theorem dX1_apply_46 : decode cX1_apply 46 = .ok (.iadd, 1) := by decide +kernel
theorem dX1_apply_47 : decode cX1_apply 47 = .ok (.iaload, 1) := by decide +kernel
theorem dX1_apply_48 : decode cX1_apply 48 = .ok (.iastore, 1) := by decide +kernel
theorem dX1_apply_49 : decode cX1_apply 49 = .ok (.aload_n 0, 1) := by decide +kernel
theorem dX1_apply_50 : decode cX1_apply 50 = .ok (.dup, 1) := by decide +kernel
theorem dX1_apply_51 : decode cX1_apply 51 = .ok (.getfield 47, 3) := by decide +kernel
theorem dX1_apply_54 : decode cX1_apply 54 = .ok (.iconst 1, 1) := by decide +kernel
theorem dX1_apply_55 : decode cX1_apply 55 = .ok (.iadd, 1) := by decide +kernel
theorem dX1_apply_56 : decode cX1_apply 56 = .ok (.putfield 47, 3) := by decide +kernel
theorem dX1_apply_59 : decode cX1_apply 59 = .ok (.iinc 2 1, 3) := by decide +kernel
theorem dX1_apply_62 : decode cX1_apply 62 = .ok (.goto (-50), 3) := by decide +kernel
theorem dX1_apply_65 : decode cX1_apply 65 = .ok (.iconst 0, 1) := by decide +kernel
theorem dX1_apply_66 : decode cX1_apply 66 = .ok (.istore_n 2, 1) := by decide +kernel
theorem dX1_apply_67 : decode cX1_apply 67 = .ok (.iload_n 2, 1) := by decide +kernel
theorem dX1_apply_68 : decode cX1_apply 68 = .ok (.iconst 4, 1) := by decide +kernel
theorem dX1_apply_69 : decode cX1_apply 69 = .ok (.if_icmp .ge 28, 3) := by decide +kernel
theorem dX1_apply_72 : decode cX1_apply 72 = .ok (.aload_n 0, 1) := by decide +kernel
theorem dX1_apply_73 : decode cX1_apply 73 = .ok (.getfield 29, 3) := by decide +kernel
theorem dX1_apply_76 : decode cX1_apply 76 = .ok (.iload_n 2, 1) := by decide +kernel
theorem dX1_apply_77 : decode cX1_apply 77 = .ok (.aload_n 0, 1) := by decide +kernel
theorem dX1_apply_78 : decode cX1_apply 78 = .ok (.getfield 29, 3) := by decide +kernel
theorem dX1_apply_81 : decode cX1_apply 81 = .ok (.iload_n 2, 1) := by decide +kernel
theorem dX1_apply_82 : decode cX1_apply 82 = .ok (.iaload, 1) := by decide +kernel
theorem dX1_apply_83 : decode cX1_apply 83 = .ok (.aload_n 0, 1) := by decide +kernel
theorem dX1_apply_84 : decode cX1_apply 84 = .ok (.getfield 26, 3) := by decide +kernel
theorem dX1_apply_87 : decode cX1_apply 87 = .ok (.iload_n 1, 1) := by decide +kernel
theorem dX1_apply_88 : decode cX1_apply 88 = .ok (.iaload, 1) := by decide +kernel
theorem dX1_apply_89 : decode cX1_apply 89 = .ok (.ior, 1) := by decide +kernel
theorem dX1_apply_90 : decode cX1_apply 90 = .ok (.iastore, 1) := by decide +kernel
theorem dX1_apply_91 : decode cX1_apply 91 = .ok (.iinc 2 1, 3) := by decide +kernel
theorem dX1_apply_94 : decode cX1_apply 94 = .ok (.goto (-27), 3) := by decide +kernel
theorem dX1_apply_97 : decode cX1_apply 97 = .ok (.return_, 1) := by decide +kernel
abbrev cX1_abort : ByteArray := prog_3_method_9_code
def yX1_abort : MethodName := ⟨RX1, "abort", "(I)I"⟩
theorem dX1_abort_0 : decode cX1_abort 0 = .ok (.aload_n 0, 1) := by decide +kernel
theorem dX1_abort_1 : decode cX1_abort 1 = .ok (.iload_n 1, 1) := by decide +kernel
theorem dX1_abort_2 : decode cX1_abort 2 = .ok (.invokevirtual 32, 3) := by decide +kernel
theorem dX1_abort_5 : decode cX1_abort 5 = .ok (.ifCond .ne 5, 3) := by decide +kernel
theorem dX1_abort_8 : decode cX1_abort 8 = .ok (.iconst (-1), 1) := by decide +kernel
theorem dX1_abort_9 : decode cX1_abort 9 = .ok (.ireturn, 1) := by decide +kernel
theorem dX1_abort_10 : decode cX1_abort 10 = .ok (.aload_n 0, 1) := by decide +kernel
theorem dX1_abort_11 : decode cX1_abort 11 = .ok (.getfield 19, 3) := by decide +kernel
theorem dX1_abort_14 : decode cX1_abort 14 = .ok (.iload_n 1, 1) := by decide +kernel
theorem dX1_abort_15 : decode cX1_abort 15 = .ok (.iconst 0, 1) := by decide +kernel
theorem dX1_abort_16 : decode cX1_abort 16 = .ok (.bastore, 1) := by decide +kernel
theorem dX1_abort_17 : decode cX1_abort 17 = .ok (.iconst 0, 1) := by decide +kernel
theorem dX1_abort_18 : decode cX1_abort 18 = .ok (.ireturn, 1) := by decide +kernel
abbrev cX1_seal : ByteArray := prog_3_method_10_code
def yX1_seal : MethodName := ⟨RX1, "seal", "()I"⟩
theorem dX1_seal_0 : decode cX1_seal 0 = .ok (.aload_n 0, 1) := by decide +kernel
theorem dX1_seal_1 : decode cX1_seal 1 = .ok (.getfield 50, 3) := by decide +kernel
theorem dX1_seal_4 : decode cX1_seal 4 = .ok (.ifCond .le 6, 3) := by decide +kernel
theorem dX1_seal_7 : decode cX1_seal 7 = .ok (.bipush (-4), 2) := by decide +kernel
theorem dX1_seal_9 : decode cX1_seal 9 = .ok (.ireturn, 1) := by decide +kernel
theorem dX1_seal_10 : decode cX1_seal 10 = .ok (.aload_n 0, 1) := by decide +kernel
theorem dX1_seal_11 : decode cX1_seal 11 = .ok (.getfield 43, 3) := by decide +kernel
theorem dX1_seal_14 : decode cX1_seal 14 = .ok (.aload_n 0, 1) := by decide +kernel
theorem dX1_seal_15 : decode cX1_seal 15 = .ok (.getfield 53, 3) := by decide +kernel
theorem dX1_seal_18 : decode cX1_seal 18 = .ok (.if_icmp .ne 5, 3) := by decide +kernel
theorem dX1_seal_21 : decode cX1_seal 21 = .ok (.iconst (-1), 1) := by decide +kernel
theorem dX1_seal_22 : decode cX1_seal 22 = .ok (.ireturn, 1) := by decide +kernel
theorem dX1_seal_23 : decode cX1_seal 23 = .ok (.aload_n 0, 1) := by decide +kernel
theorem dX1_seal_24 : decode cX1_seal 24 = .ok (.aload_n 0, 1) := by decide +kernel
theorem dX1_seal_25 : decode cX1_seal 25 = .ok (.getfield 47, 3) := by decide +kernel
theorem dX1_seal_28 : decode cX1_seal 28 = .ok (.iconst 1, 1) := by decide +kernel
theorem dX1_seal_29 : decode cX1_seal 29 = .ok (.iadd, 1) := by decide +kernel
theorem dX1_seal_30 : decode cX1_seal 30 = .ok (.putfield 50, 3) := by decide +kernel
theorem dX1_seal_33 : decode cX1_seal 33 = .ok (.aload_n 0, 1) := by decide +kernel
theorem dX1_seal_34 : decode cX1_seal 34 = .ok (.iconst 0, 1) := by decide +kernel
theorem dX1_seal_35 : decode cX1_seal 35 = .ok (.putfield 47, 3) := by decide +kernel
theorem dX1_seal_38 : decode cX1_seal 38 = .ok (.aload_n 0, 1) := by decide +kernel
theorem dX1_seal_39 : decode cX1_seal 39 = .ok (.aload_n 0, 1) := by decide +kernel
theorem dX1_seal_40 : decode cX1_seal 40 = .ok (.getfield 43, 3) := by decide +kernel
theorem dX1_seal_43 : decode cX1_seal 43 = .ok (.putfield 56, 3) := by decide +kernel
theorem dX1_seal_46 : decode cX1_seal 46 = .ok (.iconst 0, 1) := by decide +kernel
theorem dX1_seal_47 : decode cX1_seal 47 = .ok (.istore_n 1, 1) := by decide +kernel
theorem dX1_seal_48 : decode cX1_seal 48 = .ok (.iload_n 1, 1) := by decide +kernel
theorem dX1_seal_49 : decode cX1_seal 49 = .ok (.bipush 8, 2) := by decide +kernel
theorem dX1_seal_51 : decode cX1_seal 51 = .ok (.if_icmp .ge 21, 3) := by decide +kernel
theorem dX1_seal_54 : decode cX1_seal 54 = .ok (.aload_n 0, 1) := by decide +kernel
theorem dX1_seal_55 : decode cX1_seal 55 = .ok (.getfield 13, 3) := by decide +kernel
theorem dX1_seal_58 : decode cX1_seal 58 = .ok (.iload_n 1, 1) := by decide +kernel
theorem dX1_seal_59 : decode cX1_seal 59 = .ok (.aload_n 0, 1) := by decide +kernel
theorem dX1_seal_60 : decode cX1_seal 60 = .ok (.getfield 16, 3) := by decide +kernel
theorem dX1_seal_63 : decode cX1_seal 63 = .ok (.iload_n 1, 1) := by decide +kernel
theorem dX1_seal_64 : decode cX1_seal 64 = .ok (.iaload, 1) := by decide +kernel
theorem dX1_seal_65 : decode cX1_seal 65 = .ok (.iastore, 1) := by decide +kernel
theorem dX1_seal_66 : decode cX1_seal 66 = .ok (.iinc 1 1, 3) := by decide +kernel
theorem dX1_seal_69 : decode cX1_seal 69 = .ok (.goto (-21), 3) := by decide +kernel
theorem dX1_seal_72 : decode cX1_seal 72 = .ok (.aload_n 0, 1) := by decide +kernel
theorem dX1_seal_73 : decode cX1_seal 73 = .ok (.getfield 50, 3) := by decide +kernel
theorem dX1_seal_76 : decode cX1_seal 76 = .ok (.ireturn, 1) := by decide +kernel
end
section
set_option maxRecDepth 100000
abbrev cX1_flush : ByteArray := prog_3_method_11_code
def yX1_flush : MethodName := ⟨RX1, "flush", "(I)I"⟩
theorem dX1_flush_0 : decode cX1_flush 0 = .ok (.iload_n 1, 1) := by decide +kernel
theorem dX1_flush_1 : decode cX1_flush 1 = .ok (.ifCond .ge 7, 3) := by decide +kernel
theorem dX1_flush_4 : decode cX1_flush 4 = .ok (.iconst 0, 1) := by decide +kernel
theorem dX1_flush_5 : decode cX1_flush 5 = .ok (.goto 19, 3) := by decide +kernel
theorem dX1_flush_8 : decode cX1_flush 8 = .ok (.iload_n 1, 1) := by decide +kernel
theorem dX1_flush_9 : decode cX1_flush 9 = .ok (.aload_n 0, 1) := by decide +kernel
theorem dX1_flush_10 : decode cX1_flush 10 = .ok (.getfield 50, 3) := by decide +kernel
theorem dX1_flush_13 : decode cX1_flush 13 = .ok (.if_icmp .le 10, 3) := by decide +kernel
theorem dX1_flush_16 : decode cX1_flush 16 = .ok (.aload_n 0, 1) := by decide +kernel
theorem dX1_flush_17 : decode cX1_flush 17 = .ok (.getfield 50, 3) := by decide +kernel
theorem dX1_flush_20 : decode cX1_flush 20 = .ok (.goto 4, 3) := by decide +kernel
theorem dX1_flush_23 : decode cX1_flush 23 = .ok (.iload_n 1, 1) := by decide +kernel
theorem dX1_flush_24 : decode cX1_flush 24 = .ok (.istore_n 2, 1) := by decide +kernel
theorem dX1_flush_25 : decode cX1_flush 25 = .ok (.iload_n 2, 1) := by decide +kernel
theorem dX1_flush_26 : decode cX1_flush 26 = .ok (.ifCond .le 45, 3) := by decide +kernel
theorem dX1_flush_29 : decode cX1_flush 29 = .ok (.iload_n 2, 1) := by decide +kernel
theorem dX1_flush_30 : decode cX1_flush 30 = .ok (.aload_n 0, 1) := by decide +kernel
theorem dX1_flush_31 : decode cX1_flush 31 = .ok (.getfield 50, 3) := by decide +kernel
theorem dX1_flush_34 : decode cX1_flush 34 = .ok (.if_icmp .ne 37, 3) := by decide +kernel
theorem dX1_flush_37 : decode cX1_flush 37 = .ok (.aload_n 0, 1) := by decide +kernel
theorem dX1_flush_38 : decode cX1_flush 38 = .ok (.aload_n 0, 1) := by decide +kernel
theorem dX1_flush_39 : decode cX1_flush 39 = .ok (.getfield 56, 3) := by decide +kernel
theorem dX1_flush_42 : decode cX1_flush 42 = .ok (.putfield 53, 3) := by decide +kernel
theorem dX1_flush_45 : decode cX1_flush 45 = .ok (.iconst 0, 1) := by decide +kernel
theorem dX1_flush_46 : decode cX1_flush 46 = .ok (.istore_n 3, 1) := by decide +kernel
theorem dX1_flush_47 : decode cX1_flush 47 = .ok (.iload_n 3, 1) := by decide +kernel
theorem dX1_flush_48 : decode cX1_flush 48 = .ok (.bipush 8, 2) := by decide +kernel
theorem dX1_flush_50 : decode cX1_flush 50 = .ok (.if_icmp .ge 21, 3) := by decide +kernel
theorem dX1_flush_53 : decode cX1_flush 53 = .ok (.aload_n 0, 1) := by decide +kernel
theorem dX1_flush_54 : decode cX1_flush 54 = .ok (.getfield 7, 3) := by decide +kernel
theorem dX1_flush_57 : decode cX1_flush 57 = .ok (.iload_n 3, 1) := by decide +kernel
theorem dX1_flush_58 : decode cX1_flush 58 = .ok (.aload_n 0, 1) := by decide +kernel
theorem dX1_flush_59 : decode cX1_flush 59 = .ok (.getfield 13, 3) := by decide +kernel
theorem dX1_flush_62 : decode cX1_flush 62 = .ok (.iload_n 3, 1) := by decide +kernel
theorem dX1_flush_63 : decode cX1_flush 63 = .ok (.iaload, 1) := by decide +kernel
theorem dX1_flush_64 : decode cX1_flush 64 = .ok (.iastore, 1) := by decide +kernel
theorem dX1_flush_65 : decode cX1_flush 65 = .ok (.iinc 3 1, 3) := by decide +kernel
theorem dX1_flush_68 : decode cX1_flush 68 = .ok (.goto (-21), 3) := by decide +kernel
theorem dX1_flush_71 : decode cX1_flush 71 = .ok (.aload_n 0, 1) := by decide +kernel
theorem dX1_flush_72 : decode cX1_flush 72 = .ok (.aload_n 0, 1) := by decide +kernel
theorem dX1_flush_73 : decode cX1_flush 73 = .ok (.getfield 50, 3) := by decide +kernel
theorem dX1_flush_76 : decode cX1_flush 76 = .ok (.iload_n 2, 1) := by decide +kernel
theorem dX1_flush_77 : decode cX1_flush 77 = .ok (.isub, 1) := by decide +kernel
theorem dX1_flush_78 : decode cX1_flush 78 = .ok (.putfield 50, 3) := by decide +kernel
theorem dX1_flush_81 : decode cX1_flush 81 = .ok (.iload_n 2, 1) := by decide +kernel
theorem dX1_flush_82 : decode cX1_flush 82 = .ok (.ireturn, 1) := by decide +kernel
abbrev cX1_stepsLeft : ByteArray := prog_3_method_12_code
def yX1_stepsLeft : MethodName := ⟨RX1, "stepsLeft", "()I"⟩
theorem dX1_stepsLeft_0 : decode cX1_stepsLeft 0 = .ok (.aload_n 0, 1) := by decide +kernel
theorem dX1_stepsLeft_1 : decode cX1_stepsLeft 1 = .ok (.getfield 50, 3) := by decide +kernel
theorem dX1_stepsLeft_4 : decode cX1_stepsLeft 4 = .ok (.ireturn, 1) := by decide +kernel
abbrev cX1_crash : ByteArray := prog_3_method_13_code
def yX1_crash : MethodName := ⟨RX1, "crash", "()V"⟩
theorem dX1_crash_0 : decode cX1_crash 0 = .ok (.iconst 0, 1) := by decide +kernel
theorem dX1_crash_1 : decode cX1_crash 1 = .ok (.istore_n 1, 1) := by decide +kernel
theorem dX1_crash_2 : decode cX1_crash 2 = .ok (.iload_n 1, 1) := by decide +kernel
theorem dX1_crash_3 : decode cX1_crash 3 = .ok (.iconst 4, 1) := by decide +kernel
theorem dX1_crash_4 : decode cX1_crash 4 = .ok (.if_icmp .ge 16, 3) := by decide +kernel
theorem dX1_crash_7 : decode cX1_crash 7 = .ok (.aload_n 0, 1) := by decide +kernel
theorem dX1_crash_8 : decode cX1_crash 8 = .ok (.getfield 19, 3) := by decide +kernel
theorem dX1_crash_11 : decode cX1_crash 11 = .ok (.iload_n 1, 1) := by decide +kernel
theorem dX1_crash_12 : decode cX1_crash 12 = .ok (.iconst 0, 1) := by decide +kernel
theorem dX1_crash_13 : decode cX1_crash 13 = .ok (.bastore, 1) := by decide +kernel
theorem dX1_crash_14 : decode cX1_crash 14 = .ok (.iinc 1 1, 3) := by decide +kernel
theorem dX1_crash_17 : decode cX1_crash 17 = .ok (.goto (-15), 3) := by decide +kernel
theorem dX1_crash_20 : decode cX1_crash 20 = .ok (.iconst 0, 1) := by decide +kernel
theorem dX1_crash_21 : decode cX1_crash 21 = .ok (.istore_n 1, 1) := by decide +kernel
theorem dX1_crash_22 : decode cX1_crash 22 = .ok (.iload_n 1, 1) := by decide +kernel
theorem dX1_crash_23 : decode cX1_crash 23 = .ok (.bipush 8, 2) := by decide +kernel
theorem dX1_crash_25 : decode cX1_crash 25 = .ok (.if_icmp .ge 21, 3) := by decide +kernel
theorem dX1_crash_28 : decode cX1_crash 28 = .ok (.aload_n 0, 1) := by decide +kernel
theorem dX1_crash_29 : decode cX1_crash 29 = .ok (.getfield 16, 3) := by decide +kernel
theorem dX1_crash_32 : decode cX1_crash 32 = .ok (.iload_n 1, 1) := by decide +kernel
theorem dX1_crash_33 : decode cX1_crash 33 = .ok (.aload_n 0, 1) := by decide +kernel
theorem dX1_crash_34 : decode cX1_crash 34 = .ok (.getfield 7, 3) := by decide +kernel
theorem dX1_crash_37 : decode cX1_crash 37 = .ok (.iload_n 1, 1) := by decide +kernel
theorem dX1_crash_38 : decode cX1_crash 38 = .ok (.iaload, 1) := by decide +kernel
theorem dX1_crash_39 : decode cX1_crash 39 = .ok (.iastore, 1) := by decide +kernel
theorem dX1_crash_40 : decode cX1_crash 40 = .ok (.iinc 1 1, 3) := by decide +kernel
theorem dX1_crash_43 : decode cX1_crash 43 = .ok (.goto (-21), 3) := by decide +kernel
theorem dX1_crash_46 : decode cX1_crash 46 = .ok (.aload_n 0, 1) := by decide +kernel
theorem dX1_crash_47 : decode cX1_crash 47 = .ok (.aload_n 0, 1) := by decide +kernel
theorem dX1_crash_48 : decode cX1_crash 48 = .ok (.getfield 53, 3) := by decide +kernel
theorem dX1_crash_51 : decode cX1_crash 51 = .ok (.putfield 43, 3) := by decide +kernel
theorem dX1_crash_54 : decode cX1_crash 54 = .ok (.aload_n 0, 1) := by decide +kernel
theorem dX1_crash_55 : decode cX1_crash 55 = .ok (.iconst 0, 1) := by decide +kernel
theorem dX1_crash_56 : decode cX1_crash 56 = .ok (.putfield 50, 3) := by decide +kernel
theorem dX1_crash_59 : decode cX1_crash 59 = .ok (.aload_n 0, 1) := by decide +kernel
theorem dX1_crash_60 : decode cX1_crash 60 = .ok (.iconst 0, 1) := by decide +kernel
theorem dX1_crash_61 : decode cX1_crash 61 = .ok (.putfield 47, 3) := by decide +kernel
theorem dX1_crash_64 : decode cX1_crash 64 = .ok (.return_, 1) := by decide +kernel
abbrev cX1_commits : ByteArray := prog_3_method_14_code
def yX1_commits : MethodName := ⟨RX1, "commits", "()I"⟩
theorem dX1_commits_0 : decode cX1_commits 0 = .ok (.aload_n 0, 1) := by decide +kernel
theorem dX1_commits_1 : decode cX1_commits 1 = .ok (.getfield 43, 3) := by decide +kernel
theorem dX1_commits_4 : decode cX1_commits 4 = .ok (.ireturn, 1) := by decide +kernel
abbrev cX1_durable : ByteArray := prog_3_method_15_code
def yX1_durable : MethodName := ⟨RX1, "durable", "()I"⟩
theorem dX1_durable_0 : decode cX1_durable 0 = .ok (.aload_n 0, 1) := by decide +kernel
theorem dX1_durable_1 : decode cX1_durable 1 = .ok (.getfield 53, 3) := by decide +kernel
theorem dX1_durable_4 : decode cX1_durable 4 = .ok (.ireturn, 1) := by decide +kernel
abbrev cX1_value : ByteArray := prog_3_method_16_code
def yX1_value : MethodName := ⟨RX1, "value", "(I)I"⟩
theorem dX1_value_0 : decode cX1_value 0 = .ok (.aload_n 0, 1) := by decide +kernel
theorem dX1_value_1 : decode cX1_value 1 = .ok (.iload_n 1, 1) := by decide +kernel
theorem dX1_value_2 : decode cX1_value 2 = .ok (.invokevirtual 36, 3) := by decide +kernel
theorem dX1_value_5 : decode cX1_value 5 = .ok (.ifCond .eq 12, 3) := by decide +kernel
theorem dX1_value_8 : decode cX1_value 8 = .ok (.aload_n 0, 1) := by decide +kernel
theorem dX1_value_9 : decode cX1_value 9 = .ok (.getfield 16, 3) := by decide +kernel
theorem dX1_value_12 : decode cX1_value 12 = .ok (.iload_n 1, 1) := by decide +kernel
theorem dX1_value_13 : decode cX1_value 13 = .ok (.iaload, 1) := by decide +kernel
theorem dX1_value_14 : decode cX1_value 14 = .ok (.goto 4, 3) := by decide +kernel
theorem dX1_value_17 : decode cX1_value 17 = .ok (.iconst 0, 1) := by decide +kernel
theorem dX1_value_18 : decode cX1_value 18 = .ok (.ireturn, 1) := by decide +kernel
abbrev cX1_safeValue : ByteArray := prog_3_method_17_code
def yX1_safeValue : MethodName := ⟨RX1, "safeValue", "(I)I"⟩
theorem dX1_safeValue_0 : decode cX1_safeValue 0 = .ok (.aload_n 0, 1) := by decide +kernel
theorem dX1_safeValue_1 : decode cX1_safeValue 1 = .ok (.iload_n 1, 1) := by decide +kernel
theorem dX1_safeValue_2 : decode cX1_safeValue 2 = .ok (.invokevirtual 36, 3) := by decide +kernel
theorem dX1_safeValue_5 : decode cX1_safeValue 5 = .ok (.ifCond .eq 12, 3) := by decide +kernel
theorem dX1_safeValue_8 : decode cX1_safeValue 8 = .ok (.aload_n 0, 1) := by decide +kernel
theorem dX1_safeValue_9 : decode cX1_safeValue 9 = .ok (.getfield 7, 3) := by decide +kernel
theorem dX1_safeValue_12 : decode cX1_safeValue 12 = .ok (.iload_n 1, 1) := by decide +kernel
theorem dX1_safeValue_13 : decode cX1_safeValue 13 = .ok (.iaload, 1) := by decide +kernel
theorem dX1_safeValue_14 : decode cX1_safeValue 14 = .ok (.goto 4, 3) := by decide +kernel
theorem dX1_safeValue_17 : decode cX1_safeValue 17 = .ok (.iconst 0, 1) := by decide +kernel
theorem dX1_safeValue_18 : decode cX1_safeValue 18 = .ok (.ireturn, 1) := by decide +kernel
abbrev cX1_conflicts : ByteArray := prog_3_method_18_code
def yX1_conflicts : MethodName := ⟨RX1, "conflicts", "(I)I"⟩
theorem dX1_conflicts_0 : decode cX1_conflicts 0 = .ok (.aload_n 0, 1) := by decide +kernel
theorem dX1_conflicts_1 : decode cX1_conflicts 1 = .ok (.iload_n 1, 1) := by decide +kernel
theorem dX1_conflicts_2 : decode cX1_conflicts 2 = .ok (.invokevirtual 32, 3) := by decide +kernel
theorem dX1_conflicts_5 : decode cX1_conflicts 5 = .ok (.ifCond .eq 19, 3) := by decide +kernel
theorem dX1_conflicts_8 : decode cX1_conflicts 8 = .ok (.aload_n 0, 1) := by decide +kernel
theorem dX1_conflicts_9 : decode cX1_conflicts 9 = .ok (.getfield 26, 3) := by decide +kernel
theorem dX1_conflicts_12 : decode cX1_conflicts 12 = .ok (.iload_n 1, 1) := by decide +kernel
theorem dX1_conflicts_13 : decode cX1_conflicts 13 = .ok (.iaload, 1) := by decide +kernel
theorem dX1_conflicts_14 : decode cX1_conflicts 14 = .ok (.aload_n 0, 1) := by decide +kernel
theorem dX1_conflicts_15 : decode cX1_conflicts 15 = .ok (.getfield 29, 3) := by decide +kernel
theorem dX1_conflicts_18 : decode cX1_conflicts 18 = .ok (.iload_n 1, 1) := by decide +kernel
theorem dX1_conflicts_19 : decode cX1_conflicts 19 = .ok (.iaload, 1) := by decide +kernel
theorem dX1_conflicts_20 : decode cX1_conflicts 20 = .ok (.iand, 1) := by decide +kernel
theorem dX1_conflicts_21 : decode cX1_conflicts 21 = .ok (.goto 4, 3) := by decide +kernel
theorem dX1_conflicts_24 : decode cX1_conflicts 24 = .ok (.iconst 0, 1) := by decide +kernel
theorem dX1_conflicts_25 : decode cX1_conflicts 25 = .ok (.ireturn, 1) := by decide +kernel
abbrev cX1_open : ByteArray := prog_3_method_19_code
def yX1_open : MethodName := ⟨RX1, "open", "()I"⟩
theorem dX1_open_0 : decode cX1_open 0 = .ok (.iconst 0, 1) := by decide +kernel
theorem dX1_open_1 : decode cX1_open 1 = .ok (.istore_n 1, 1) := by decide +kernel
theorem dX1_open_2 : decode cX1_open 2 = .ok (.iconst 0, 1) := by decide +kernel
theorem dX1_open_3 : decode cX1_open 3 = .ok (.istore_n 2, 1) := by decide +kernel
theorem dX1_open_4 : decode cX1_open 4 = .ok (.iload_n 2, 1) := by decide +kernel
theorem dX1_open_5 : decode cX1_open 5 = .ok (.iconst 4, 1) := by decide +kernel
theorem dX1_open_6 : decode cX1_open 6 = .ok (.if_icmp .ge 28, 3) := by decide +kernel
theorem dX1_open_9 : decode cX1_open 9 = .ok (.iload_n 1, 1) := by decide +kernel
theorem dX1_open_10 : decode cX1_open 10 = .ok (.aload_n 0, 1) := by decide +kernel
theorem dX1_open_11 : decode cX1_open 11 = .ok (.getfield 19, 3) := by decide +kernel
theorem dX1_open_14 : decode cX1_open 14 = .ok (.iload_n 2, 1) := by decide +kernel
theorem dX1_open_15 : decode cX1_open 15 = .ok (.baload, 1) := by decide +kernel
theorem dX1_open_16 : decode cX1_open 16 = .ok (.ifCond .eq 9, 3) := by decide +kernel
theorem dX1_open_19 : decode cX1_open 19 = .ok (.iconst 1, 1) := by decide +kernel
theorem dX1_open_20 : decode cX1_open 20 = .ok (.iload_n 2, 1) := by decide +kernel
theorem dX1_open_21 : decode cX1_open 21 = .ok (.ishl, 1) := by decide +kernel
theorem dX1_open_22 : decode cX1_open 22 = .ok (.goto 4, 3) := by decide +kernel
theorem dX1_open_25 : decode cX1_open 25 = .ok (.iconst 0, 1) := by decide +kernel
theorem dX1_open_26 : decode cX1_open 26 = .ok (.ior, 1) := by decide +kernel
theorem dX1_open_27 : decode cX1_open 27 = .ok (.istore_n 1, 1) := by decide +kernel
theorem dX1_open_28 : decode cX1_open 28 = .ok (.iinc 2 1, 3) := by decide +kernel
theorem dX1_open_31 : decode cX1_open 31 = .ok (.goto (-27), 3) := by decide +kernel
theorem dX1_open_34 : decode cX1_open 34 = .ok (.iload_n 1, 1) := by decide +kernel
theorem dX1_open_35 : decode cX1_open 35 = .ok (.ireturn, 1) := by decide +kernel
end
section
set_option maxRecDepth 100000
theorem q16 : (Jvm.Cond.initialized "BehindStoreModel") ∈ lw_all := lw_g (lw_at lw_m1 2 rfl) rfl
theorem q197 : (Jvm.Cond.instantiable "BehindStoreModel" (12 : Nat)) ∈ lw_all := lw_g (lw_at lw_m1 183 rfl) rfl
theorem q199 : (Jvm.Cond.instanceMethod ({ cls := "BehindStoreModel", name := "<init>", desc := "()V" } : Jvm.MethodName)) ∈ lw_all := lw_g (lw_at lw_m1 185 rfl) rfl
theorem q200 : (Jvm.Cond.code ({ cls := "BehindStoreModel", name := "<init>", desc := "()V" } : Jvm.MethodName) prog_3_method_1_code (1 : Nat) (Option.none : Option Jvm.ClassFile.FieldType)) ∈ lw_all := lw_g (lw_at lw_m1 186 rfl) rfl
theorem q201 : (Jvm.Cond.methodLink "BehindStoreModel" (1 : Nat) ({ cls := "java/lang/Object", name := "<init>", desc := "()V" } : Jvm.MethodName)) ∈ lw_all := lw_g (lw_at lw_m1 187 rfl) rfl
theorem q202 : (Jvm.Cond.fieldLink "BehindStoreModel" (7 : Nat) "BehindStoreModel" "safe" "[I") ∈ lw_all := lw_g (lw_at lw_m1 188 rfl) rfl
theorem q203 : (Jvm.Cond.fieldLink "BehindStoreModel" (13 : Nat) "BehindStoreModel" "sealed" "[I") ∈ lw_all := lw_g (lw_at lw_m1 189 rfl) rfl
theorem q204 : (Jvm.Cond.fieldLink "BehindStoreModel" (16 : Nat) "BehindStoreModel" "now" "[I") ∈ lw_all := lw_g (lw_at lw_m1 190 rfl) rfl
theorem q205 : (Jvm.Cond.fieldLink "BehindStoreModel" (53 : Nat) "BehindStoreModel" "safeCount" "I") ∈ lw_all := lw_g (lw_at lw_m1 191 rfl) rfl
theorem q206 : (Jvm.Cond.fieldLink "BehindStoreModel" (56 : Nat) "BehindStoreModel" "sealedCount" "I") ∈ lw_all := lw_g (lw_at lw_m1 192 rfl) rfl
theorem q207 : (Jvm.Cond.fieldLink "BehindStoreModel" (43 : Nat) "BehindStoreModel" "count" "I") ∈ lw_all := lw_g (lw_at lw_m1 193 rfl) rfl
theorem q208 : (Jvm.Cond.fieldLink "BehindStoreModel" (50 : Nat) "BehindStoreModel" "left" "I") ∈ lw_all := lw_g (lw_at lw_m1 194 rfl) rfl
theorem q209 : (Jvm.Cond.fieldLink "BehindStoreModel" (47 : Nat) "BehindStoreModel" "waitingSteps" "I") ∈ lw_all := lw_g (lw_at lw_m1 195 rfl) rfl
theorem q210 : (Jvm.Cond.fieldLink "BehindStoreModel" (19 : Nat) "BehindStoreModel" "busy" "[Z") ∈ lw_all := lw_g (lw_at lw_m1 196 rfl) rfl
theorem q211 : (Jvm.Cond.fieldLink "BehindStoreModel" (23 : Nat) "BehindStoreModel" "sees" "[I") ∈ lw_all := lw_g (lw_at lw_m1 197 rfl) rfl
theorem q212 : (Jvm.Cond.fieldLink "BehindStoreModel" (26 : Nat) "BehindStoreModel" "wrote" "[I") ∈ lw_all := lw_g (lw_at lw_m1 198 rfl) rfl
theorem q213 : (Jvm.Cond.fieldLink "BehindStoreModel" (29 : Nat) "BehindStoreModel" "since" "[I") ∈ lw_all := lw_g (lw_at lw_m1 199 rfl) rfl
theorem q214 : (Jvm.Cond.lays "BehindStoreModel" "BehindStoreModel" "safe" "[I") ∈ lw_all := lw_g (lw_at lw_m1 200 rfl) rfl
theorem q215 : (Jvm.Cond.soleField "BehindStoreModel" "safe") ∈ lw_all := lw_g (lw_at lw_m1 201 rfl) rfl
theorem q216 : (Jvm.Cond.lays "BehindStoreModel" "BehindStoreModel" "sealed" "[I") ∈ lw_all := lw_g (lw_at lw_m1 202 rfl) rfl
theorem q217 : (Jvm.Cond.soleField "BehindStoreModel" "sealed") ∈ lw_all := lw_g (lw_at lw_m1 203 rfl) rfl
theorem q218 : (Jvm.Cond.lays "BehindStoreModel" "BehindStoreModel" "now" "[I") ∈ lw_all := lw_g (lw_at lw_m1 204 rfl) rfl
theorem q219 : (Jvm.Cond.soleField "BehindStoreModel" "now") ∈ lw_all := lw_g (lw_at lw_m1 205 rfl) rfl
theorem q220 : (Jvm.Cond.lays "BehindStoreModel" "BehindStoreModel" "safeCount" "I") ∈ lw_all := lw_g (lw_at lw_m1 206 rfl) rfl
theorem q221 : (Jvm.Cond.soleField "BehindStoreModel" "safeCount") ∈ lw_all := lw_g (lw_at lw_m1 207 rfl) rfl
theorem q222 : (Jvm.Cond.lays "BehindStoreModel" "BehindStoreModel" "sealedCount" "I") ∈ lw_all := lw_g (lw_at lw_m1 208 rfl) rfl
theorem q223 : (Jvm.Cond.soleField "BehindStoreModel" "sealedCount") ∈ lw_all := lw_g (lw_at lw_m1 209 rfl) rfl
theorem q224 : (Jvm.Cond.lays "BehindStoreModel" "BehindStoreModel" "count" "I") ∈ lw_all := lw_g (lw_at lw_m1 210 rfl) rfl
theorem q225 : (Jvm.Cond.soleField "BehindStoreModel" "count") ∈ lw_all := lw_g (lw_at lw_m1 211 rfl) rfl
theorem q226 : (Jvm.Cond.lays "BehindStoreModel" "BehindStoreModel" "left" "I") ∈ lw_all := lw_g (lw_at lw_m1 212 rfl) rfl
theorem q227 : (Jvm.Cond.soleField "BehindStoreModel" "left") ∈ lw_all := lw_g (lw_at lw_m1 213 rfl) rfl
theorem q228 : (Jvm.Cond.lays "BehindStoreModel" "BehindStoreModel" "waitingSteps" "I") ∈ lw_all := lw_g (lw_at lw_m1 214 rfl) rfl
theorem q229 : (Jvm.Cond.soleField "BehindStoreModel" "waitingSteps") ∈ lw_all := lw_g (lw_at lw_m1 215 rfl) rfl
theorem q230 : (Jvm.Cond.lays "BehindStoreModel" "BehindStoreModel" "busy" "[Z") ∈ lw_all := lw_g (lw_at lw_m1 216 rfl) rfl
theorem q231 : (Jvm.Cond.soleField "BehindStoreModel" "busy") ∈ lw_all := lw_g (lw_at lw_m1 217 rfl) rfl
theorem q232 : (Jvm.Cond.lays "BehindStoreModel" "BehindStoreModel" "sees" "[I") ∈ lw_all := lw_g (lw_at lw_m1 218 rfl) rfl
theorem q233 : (Jvm.Cond.soleField "BehindStoreModel" "sees") ∈ lw_all := lw_g (lw_at lw_m1 219 rfl) rfl
theorem q234 : (Jvm.Cond.lays "BehindStoreModel" "BehindStoreModel" "wrote" "[I") ∈ lw_all := lw_g (lw_at lw_m1 220 rfl) rfl
theorem q235 : (Jvm.Cond.soleField "BehindStoreModel" "wrote") ∈ lw_all := lw_g (lw_at lw_m1 221 rfl) rfl
theorem q236 : (Jvm.Cond.lays "BehindStoreModel" "BehindStoreModel" "since" "[I") ∈ lw_all := lw_g (lw_at lw_m1 222 rfl) rfl
theorem q237 : (Jvm.Cond.soleField "BehindStoreModel" "since") ∈ lw_all := lw_g (lw_at lw_m1 223 rfl) rfl
theorem q238 : (Jvm.Cond.superclass "BehindStoreModel" "java/lang/Object") ∈ lw_all := lw_g (lw_at lw_m1 224 rfl) rfl
theorem q240 : (Jvm.Cond.instanceMethod ({ cls := "BehindStoreModel", name := "begin", desc := "()I" } : Jvm.MethodName)) ∈ lw_all := lw_g (lw_at lw_m1 226 rfl) rfl
theorem q241 : (Jvm.Cond.selects "BehindStoreModel" ({ cls := "BehindStoreModel", name := "begin", desc := "()I" } : Jvm.MethodName) ({ cls := "BehindStoreModel", name := "begin", desc := "()I" } : Jvm.MethodName)) ∈ lw_all := lw_g (lw_at lw_m1 227 rfl) rfl
theorem q242 : (Jvm.Cond.code ({ cls := "BehindStoreModel", name := "begin", desc := "()I" } : Jvm.MethodName) prog_3_method_4_code (3 : Nat) (Option.some Jvm.ClassFile.FieldType.int)) ∈ lw_all := lw_g (lw_at lw_m1 228 rfl) rfl
theorem q244 : (Jvm.Cond.instanceMethod ({ cls := "BehindStoreModel", name := "write", desc := "(III)I" } : Jvm.MethodName)) ∈ lw_all := lw_g (lw_at lw_m1 230 rfl) rfl
theorem q245 : (Jvm.Cond.selects "BehindStoreModel" ({ cls := "BehindStoreModel", name := "write", desc := "(III)I" } : Jvm.MethodName) ({ cls := "BehindStoreModel", name := "write", desc := "(III)I" } : Jvm.MethodName)) ∈ lw_all := lw_g (lw_at lw_m1 231 rfl) rfl
theorem q246 : (Jvm.Cond.code ({ cls := "BehindStoreModel", name := "write", desc := "(III)I" } : Jvm.MethodName) prog_3_method_5_code (4 : Nat) (Option.some Jvm.ClassFile.FieldType.int)) ∈ lw_all := lw_g (lw_at lw_m1 232 rfl) rfl
theorem q247 : (Jvm.Cond.methodLink "BehindStoreModel" (32 : Nat) ({ cls := "BehindStoreModel", name := "isOpen", desc := "(I)Z" } : Jvm.MethodName)) ∈ lw_all := lw_g (lw_at lw_m1 233 rfl) rfl
theorem q248 : (Jvm.Cond.privateMethod ({ cls := "BehindStoreModel", name := "isOpen", desc := "(I)Z" } : Jvm.MethodName)) ∈ lw_tbl := lw_at lw_m1 234 rfl
theorem q249 : (Jvm.Cond.instanceMethod ({ cls := "BehindStoreModel", name := "isOpen", desc := "(I)Z" } : Jvm.MethodName)) ∈ lw_all := lw_g (lw_at lw_m1 235 rfl) rfl
theorem q250 : (Jvm.Cond.code ({ cls := "BehindStoreModel", name := "isOpen", desc := "(I)Z" } : Jvm.MethodName) prog_3_method_2_code (2 : Nat) (Option.some Jvm.ClassFile.FieldType.boolean)) ∈ lw_all := lw_g (lw_at lw_m1 236 rfl) rfl
theorem q251 : (Jvm.Cond.methodLink "BehindStoreModel" (36 : Nat) ({ cls := "BehindStoreModel", name := "isKey", desc := "(I)Z" } : Jvm.MethodName)) ∈ lw_all := lw_g (lw_at lw_m1 237 rfl) rfl
theorem q252 : (Jvm.Cond.privateMethod ({ cls := "BehindStoreModel", name := "isKey", desc := "(I)Z" } : Jvm.MethodName)) ∈ lw_tbl := lw_at lw_m1 238 rfl
theorem q253 : (Jvm.Cond.instanceMethod ({ cls := "BehindStoreModel", name := "isKey", desc := "(I)Z" } : Jvm.MethodName)) ∈ lw_all := lw_g (lw_at lw_m1 239 rfl) rfl
theorem q254 : (Jvm.Cond.code ({ cls := "BehindStoreModel", name := "isKey", desc := "(I)Z" } : Jvm.MethodName) prog_3_method_3_code (2 : Nat) (Option.some Jvm.ClassFile.FieldType.boolean)) ∈ lw_all := lw_g (lw_at lw_m2 0 rfl) rfl
theorem q256 : (Jvm.Cond.instanceMethod ({ cls := "BehindStoreModel", name := "read", desc := "(II)I" } : Jvm.MethodName)) ∈ lw_all := lw_g (lw_at lw_m2 2 rfl) rfl
theorem q257 : (Jvm.Cond.selects "BehindStoreModel" ({ cls := "BehindStoreModel", name := "read", desc := "(II)I" } : Jvm.MethodName) ({ cls := "BehindStoreModel", name := "read", desc := "(II)I" } : Jvm.MethodName)) ∈ lw_all := lw_g (lw_at lw_m2 3 rfl) rfl
theorem q258 : (Jvm.Cond.code ({ cls := "BehindStoreModel", name := "read", desc := "(II)I" } : Jvm.MethodName) prog_3_method_6_code (3 : Nat) (Option.some Jvm.ClassFile.FieldType.int)) ∈ lw_all := lw_g (lw_at lw_m2 4 rfl) rfl
theorem q260 : (Jvm.Cond.instanceMethod ({ cls := "BehindStoreModel", name := "commit", desc := "(I)I" } : Jvm.MethodName)) ∈ lw_all := lw_g (lw_at lw_m2 6 rfl) rfl
theorem q261 : (Jvm.Cond.selects "BehindStoreModel" ({ cls := "BehindStoreModel", name := "commit", desc := "(I)I" } : Jvm.MethodName) ({ cls := "BehindStoreModel", name := "commit", desc := "(I)I" } : Jvm.MethodName)) ∈ lw_all := lw_g (lw_at lw_m2 7 rfl) rfl
theorem q262 : (Jvm.Cond.code ({ cls := "BehindStoreModel", name := "commit", desc := "(I)I" } : Jvm.MethodName) prog_3_method_7_code (2 : Nat) (Option.some Jvm.ClassFile.FieldType.int)) ∈ lw_all := lw_g (lw_at lw_m2 8 rfl) rfl
theorem q263 : (Jvm.Cond.methodLink "BehindStoreModel" (39 : Nat) ({ cls := "BehindStoreModel", name := "apply", desc := "(I)V" } : Jvm.MethodName)) ∈ lw_all := lw_g (lw_at lw_m2 9 rfl) rfl
theorem q264 : (Jvm.Cond.privateMethod ({ cls := "BehindStoreModel", name := "apply", desc := "(I)V" } : Jvm.MethodName)) ∈ lw_tbl := lw_at lw_m2 10 rfl
theorem q265 : (Jvm.Cond.instanceMethod ({ cls := "BehindStoreModel", name := "apply", desc := "(I)V" } : Jvm.MethodName)) ∈ lw_all := lw_g (lw_at lw_m2 11 rfl) rfl
theorem q266 : (Jvm.Cond.code ({ cls := "BehindStoreModel", name := "apply", desc := "(I)V" } : Jvm.MethodName) prog_3_method_8_code (3 : Nat) (Option.none : Option Jvm.ClassFile.FieldType)) ∈ lw_all := lw_g (lw_at lw_m2 12 rfl) rfl
theorem q268 : (Jvm.Cond.instanceMethod ({ cls := "BehindStoreModel", name := "abort", desc := "(I)I" } : Jvm.MethodName)) ∈ lw_all := lw_g (lw_at lw_m2 14 rfl) rfl
theorem q269 : (Jvm.Cond.selects "BehindStoreModel" ({ cls := "BehindStoreModel", name := "abort", desc := "(I)I" } : Jvm.MethodName) ({ cls := "BehindStoreModel", name := "abort", desc := "(I)I" } : Jvm.MethodName)) ∈ lw_all := lw_g (lw_at lw_m2 15 rfl) rfl
theorem q270 : (Jvm.Cond.code ({ cls := "BehindStoreModel", name := "abort", desc := "(I)I" } : Jvm.MethodName) prog_3_method_9_code (2 : Nat) (Option.some Jvm.ClassFile.FieldType.int)) ∈ lw_all := lw_g (lw_at lw_m2 16 rfl) rfl
theorem q272 : (Jvm.Cond.instanceMethod ({ cls := "BehindStoreModel", name := "seal", desc := "()I" } : Jvm.MethodName)) ∈ lw_all := lw_g (lw_at lw_m2 18 rfl) rfl
theorem q273 : (Jvm.Cond.selects "BehindStoreModel" ({ cls := "BehindStoreModel", name := "seal", desc := "()I" } : Jvm.MethodName) ({ cls := "BehindStoreModel", name := "seal", desc := "()I" } : Jvm.MethodName)) ∈ lw_all := lw_g (lw_at lw_m2 19 rfl) rfl
theorem q274 : (Jvm.Cond.code ({ cls := "BehindStoreModel", name := "seal", desc := "()I" } : Jvm.MethodName) prog_3_method_10_code (2 : Nat) (Option.some Jvm.ClassFile.FieldType.int)) ∈ lw_all := lw_g (lw_at lw_m2 20 rfl) rfl
theorem q276 : (Jvm.Cond.instanceMethod ({ cls := "BehindStoreModel", name := "flush", desc := "(I)I" } : Jvm.MethodName)) ∈ lw_all := lw_g (lw_at lw_m2 22 rfl) rfl
theorem q277 : (Jvm.Cond.selects "BehindStoreModel" ({ cls := "BehindStoreModel", name := "flush", desc := "(I)I" } : Jvm.MethodName) ({ cls := "BehindStoreModel", name := "flush", desc := "(I)I" } : Jvm.MethodName)) ∈ lw_all := lw_g (lw_at lw_m2 23 rfl) rfl
theorem q278 : (Jvm.Cond.code ({ cls := "BehindStoreModel", name := "flush", desc := "(I)I" } : Jvm.MethodName) prog_3_method_11_code (4 : Nat) (Option.some Jvm.ClassFile.FieldType.int)) ∈ lw_all := lw_g (lw_at lw_m2 24 rfl) rfl
theorem q280 : (Jvm.Cond.instanceMethod ({ cls := "BehindStoreModel", name := "stepsLeft", desc := "()I" } : Jvm.MethodName)) ∈ lw_all := lw_g (lw_at lw_m2 26 rfl) rfl
theorem q281 : (Jvm.Cond.selects "BehindStoreModel" ({ cls := "BehindStoreModel", name := "stepsLeft", desc := "()I" } : Jvm.MethodName) ({ cls := "BehindStoreModel", name := "stepsLeft", desc := "()I" } : Jvm.MethodName)) ∈ lw_all := lw_g (lw_at lw_m2 27 rfl) rfl
theorem q282 : (Jvm.Cond.code ({ cls := "BehindStoreModel", name := "stepsLeft", desc := "()I" } : Jvm.MethodName) prog_3_method_12_code (1 : Nat) (Option.some Jvm.ClassFile.FieldType.int)) ∈ lw_all := lw_g (lw_at lw_m2 28 rfl) rfl
theorem q284 : (Jvm.Cond.instanceMethod ({ cls := "BehindStoreModel", name := "crash", desc := "()V" } : Jvm.MethodName)) ∈ lw_all := lw_g (lw_at lw_m2 30 rfl) rfl
theorem q285 : (Jvm.Cond.selects "BehindStoreModel" ({ cls := "BehindStoreModel", name := "crash", desc := "()V" } : Jvm.MethodName) ({ cls := "BehindStoreModel", name := "crash", desc := "()V" } : Jvm.MethodName)) ∈ lw_all := lw_g (lw_at lw_m2 31 rfl) rfl
theorem q286 : (Jvm.Cond.code ({ cls := "BehindStoreModel", name := "crash", desc := "()V" } : Jvm.MethodName) prog_3_method_13_code (2 : Nat) (Option.none : Option Jvm.ClassFile.FieldType)) ∈ lw_all := lw_g (lw_at lw_m2 32 rfl) rfl
theorem q288 : (Jvm.Cond.instanceMethod ({ cls := "BehindStoreModel", name := "commits", desc := "()I" } : Jvm.MethodName)) ∈ lw_all := lw_g (lw_at lw_m2 34 rfl) rfl
theorem q289 : (Jvm.Cond.selects "BehindStoreModel" ({ cls := "BehindStoreModel", name := "commits", desc := "()I" } : Jvm.MethodName) ({ cls := "BehindStoreModel", name := "commits", desc := "()I" } : Jvm.MethodName)) ∈ lw_all := lw_g (lw_at lw_m2 35 rfl) rfl
theorem q290 : (Jvm.Cond.code ({ cls := "BehindStoreModel", name := "commits", desc := "()I" } : Jvm.MethodName) prog_3_method_14_code (1 : Nat) (Option.some Jvm.ClassFile.FieldType.int)) ∈ lw_all := lw_g (lw_at lw_m2 36 rfl) rfl
theorem q292 : (Jvm.Cond.instanceMethod ({ cls := "BehindStoreModel", name := "durable", desc := "()I" } : Jvm.MethodName)) ∈ lw_all := lw_g (lw_at lw_m2 38 rfl) rfl
theorem q293 : (Jvm.Cond.selects "BehindStoreModel" ({ cls := "BehindStoreModel", name := "durable", desc := "()I" } : Jvm.MethodName) ({ cls := "BehindStoreModel", name := "durable", desc := "()I" } : Jvm.MethodName)) ∈ lw_all := lw_g (lw_at lw_m2 39 rfl) rfl
theorem q294 : (Jvm.Cond.code ({ cls := "BehindStoreModel", name := "durable", desc := "()I" } : Jvm.MethodName) prog_3_method_15_code (1 : Nat) (Option.some Jvm.ClassFile.FieldType.int)) ∈ lw_all := lw_g (lw_at lw_m2 40 rfl) rfl
theorem q296 : (Jvm.Cond.instanceMethod ({ cls := "BehindStoreModel", name := "value", desc := "(I)I" } : Jvm.MethodName)) ∈ lw_all := lw_g (lw_at lw_m2 42 rfl) rfl
theorem q297 : (Jvm.Cond.selects "BehindStoreModel" ({ cls := "BehindStoreModel", name := "value", desc := "(I)I" } : Jvm.MethodName) ({ cls := "BehindStoreModel", name := "value", desc := "(I)I" } : Jvm.MethodName)) ∈ lw_all := lw_g (lw_at lw_m2 43 rfl) rfl
theorem q298 : (Jvm.Cond.code ({ cls := "BehindStoreModel", name := "value", desc := "(I)I" } : Jvm.MethodName) prog_3_method_16_code (2 : Nat) (Option.some Jvm.ClassFile.FieldType.int)) ∈ lw_all := lw_g (lw_at lw_m2 44 rfl) rfl
theorem q300 : (Jvm.Cond.instanceMethod ({ cls := "BehindStoreModel", name := "safeValue", desc := "(I)I" } : Jvm.MethodName)) ∈ lw_all := lw_g (lw_at lw_m2 46 rfl) rfl
theorem q301 : (Jvm.Cond.selects "BehindStoreModel" ({ cls := "BehindStoreModel", name := "safeValue", desc := "(I)I" } : Jvm.MethodName) ({ cls := "BehindStoreModel", name := "safeValue", desc := "(I)I" } : Jvm.MethodName)) ∈ lw_all := lw_g (lw_at lw_m2 47 rfl) rfl
theorem q302 : (Jvm.Cond.code ({ cls := "BehindStoreModel", name := "safeValue", desc := "(I)I" } : Jvm.MethodName) prog_3_method_17_code (2 : Nat) (Option.some Jvm.ClassFile.FieldType.int)) ∈ lw_all := lw_g (lw_at lw_m2 48 rfl) rfl
theorem q304 : (Jvm.Cond.instanceMethod ({ cls := "BehindStoreModel", name := "conflicts", desc := "(I)I" } : Jvm.MethodName)) ∈ lw_all := lw_g (lw_at lw_m2 50 rfl) rfl
theorem q305 : (Jvm.Cond.selects "BehindStoreModel" ({ cls := "BehindStoreModel", name := "conflicts", desc := "(I)I" } : Jvm.MethodName) ({ cls := "BehindStoreModel", name := "conflicts", desc := "(I)I" } : Jvm.MethodName)) ∈ lw_all := lw_g (lw_at lw_m2 51 rfl) rfl
theorem q306 : (Jvm.Cond.code ({ cls := "BehindStoreModel", name := "conflicts", desc := "(I)I" } : Jvm.MethodName) prog_3_method_18_code (2 : Nat) (Option.some Jvm.ClassFile.FieldType.int)) ∈ lw_all := lw_g (lw_at lw_m2 52 rfl) rfl
theorem q308 : (Jvm.Cond.instanceMethod ({ cls := "BehindStoreModel", name := "open", desc := "()I" } : Jvm.MethodName)) ∈ lw_all := lw_g (lw_at lw_m2 54 rfl) rfl
theorem q309 : (Jvm.Cond.selects "BehindStoreModel" ({ cls := "BehindStoreModel", name := "open", desc := "()I" } : Jvm.MethodName) ({ cls := "BehindStoreModel", name := "open", desc := "()I" } : Jvm.MethodName)) ∈ lw_all := lw_g (lw_at lw_m2 55 rfl) rfl
theorem q310 : (Jvm.Cond.code ({ cls := "BehindStoreModel", name := "open", desc := "()I" } : Jvm.MethodName) prog_3_method_19_code (3 : Nat) (Option.some Jvm.ClassFile.FieldType.int)) ∈ lw_all := lw_g (lw_at lw_m2 56 rfl) rfl
theorem in_X1 : ∀ w ∈ wsX10, w ∈ lw_all := lw_in wsX10 [214, 216, 218, 220, 222, 224, 226, 228, 230, 232, 234, 236] (by decide +kernel) (by decide +kernel)
end
section
set_option maxRecDepth 100000
/-! java/lang/Object -/
set_option maxRecDepth 100000
def RJ0 : String := "java/lang/Object"
abbrev cJ0_init : ByteArray := object_method_1_code
def yJ0_init : MethodName := ⟨RJ0, "<init>", "()V"⟩
theorem dJ0_init_0 : decode cJ0_init 0 = .ok (.return_, 1) := by decide +kernel
theorem q23 : (Jvm.Cond.instanceMethod ({ cls := "java/lang/Object", name := "<init>", desc := "()V" } : Jvm.MethodName)) ∈ lw_all := lw_g (lw_at lw_m1 9 rfl) rfl
theorem q24 : (Jvm.Cond.code ({ cls := "java/lang/Object", name := "<init>", desc := "()V" } : Jvm.MethodName) object_method_1_code (1 : Nat) (Option.none : Option Jvm.ClassFile.FieldType)) ∈ lw_all := lw_g (lw_at lw_m1 10 rfl) rfl
theorem q86 : (Jvm.Cond.arrayClass Jvm.ClassFile.FieldType.boolean) ∈ lw_all := lw_g (lw_at lw_m1 72 rfl) rfl
set_option maxRecDepth 100000
theorem q87 : (Jvm.Cond.arrayClass Jvm.ClassFile.FieldType.byte) ∈ lw_all := lw_g (lw_at lw_m1 73 rfl) rfl
theorem q88 : (Jvm.Cond.arrayClass Jvm.ClassFile.FieldType.int) ∈ lw_all := lw_g (lw_at lw_m1 74 rfl) rfl
theorem q14 : (Jvm.Cond.initialized "BehindStoreLaw") ∈ lw_all := lw_g (lw_at lw_m1 0 rfl) rfl
set_option maxRecDepth 100000
theorem q17 : (Jvm.Cond.classLink "BehindStoreLaw" (7 : Nat) "BehindStore") ∈ lw_all := lw_g (lw_at lw_m1 3 rfl) rfl
theorem q19 : (Jvm.Cond.methodLink "BehindStoreLaw" (9 : Nat) ({ cls := "BehindStore", name := "<init>", desc := "()V" } : Jvm.MethodName)) ∈ lw_all := lw_g (lw_at lw_m1 5 rfl) rfl
theorem q89 : (Jvm.Cond.methodLink "BehindStoreLaw" (13 : Nat) ({ cls := "BehindStore", name := "begin", desc := "()I" } : Jvm.MethodName)) ∈ lw_all := lw_g (lw_at lw_m1 75 rfl) rfl
theorem q97 : (Jvm.Cond.methodLink "BehindStoreLaw" (18 : Nat) ({ cls := "BehindStore", name := "write", desc := "(III)I" } : Jvm.MethodName)) ∈ lw_all := lw_g (lw_at lw_m1 83 rfl) rfl
theorem q104 : (Jvm.Cond.methodLink "BehindStoreLaw" (23 : Nat) ({ cls := "BehindStore", name := "read", desc := "(II)I" } : Jvm.MethodName)) ∈ lw_all := lw_g (lw_at lw_m1 90 rfl) rfl
theorem q120 : (Jvm.Cond.methodLink "BehindStoreLaw" (28 : Nat) ({ cls := "BehindStore", name := "commit", desc := "(I)I" } : Jvm.MethodName)) ∈ lw_all := lw_g (lw_at lw_m1 106 rfl) rfl
theorem q144 : (Jvm.Cond.methodLink "BehindStoreLaw" (33 : Nat) ({ cls := "BehindStore", name := "abort", desc := "(I)I" } : Jvm.MethodName)) ∈ lw_all := lw_g (lw_at lw_m1 130 rfl) rfl
theorem q148 : (Jvm.Cond.methodLink "BehindStoreLaw" (37 : Nat) ({ cls := "BehindStore", name := "seal", desc := "()I" } : Jvm.MethodName)) ∈ lw_all := lw_g (lw_at lw_m1 134 rfl) rfl
theorem q152 : (Jvm.Cond.methodLink "BehindStoreLaw" (41 : Nat) ({ cls := "BehindStore", name := "flush", desc := "(I)I" } : Jvm.MethodName)) ∈ lw_all := lw_g (lw_at lw_m1 138 rfl) rfl
theorem q160 : (Jvm.Cond.methodLink "BehindStoreLaw" (45 : Nat) ({ cls := "BehindStore", name := "stepsLeft", desc := "()I" } : Jvm.MethodName)) ∈ lw_all := lw_g (lw_at lw_m1 146 rfl) rfl
theorem q164 : (Jvm.Cond.methodLink "BehindStoreLaw" (49 : Nat) ({ cls := "BehindStore", name := "crash", desc := "()V" } : Jvm.MethodName)) ∈ lw_all := lw_g (lw_at lw_m1 150 rfl) rfl
theorem q172 : (Jvm.Cond.methodLink "BehindStoreLaw" (53 : Nat) ({ cls := "BehindStore", name := "commits", desc := "()I" } : Jvm.MethodName)) ∈ lw_all := lw_g (lw_at lw_m1 158 rfl) rfl
theorem q176 : (Jvm.Cond.methodLink "BehindStoreLaw" (57 : Nat) ({ cls := "BehindStore", name := "durable", desc := "()I" } : Jvm.MethodName)) ∈ lw_all := lw_g (lw_at lw_m1 162 rfl) rfl
theorem q180 : (Jvm.Cond.methodLink "BehindStoreLaw" (61 : Nat) ({ cls := "BehindStore", name := "value", desc := "(I)I" } : Jvm.MethodName)) ∈ lw_all := lw_g (lw_at lw_m1 166 rfl) rfl
theorem q184 : (Jvm.Cond.methodLink "BehindStoreLaw" (65 : Nat) ({ cls := "BehindStore", name := "safeValue", desc := "(I)I" } : Jvm.MethodName)) ∈ lw_all := lw_g (lw_at lw_m1 170 rfl) rfl
theorem q188 : (Jvm.Cond.methodLink "BehindStoreLaw" (69 : Nat) ({ cls := "BehindStore", name := "conflicts", desc := "(I)I" } : Jvm.MethodName)) ∈ lw_all := lw_g (lw_at lw_m1 174 rfl) rfl
theorem q192 : (Jvm.Cond.methodLink "BehindStoreLaw" (73 : Nat) ({ cls := "BehindStore", name := "open", desc := "()I" } : Jvm.MethodName)) ∈ lw_all := lw_g (lw_at lw_m1 178 rfl) rfl
theorem q196 : (Jvm.Cond.classLink "BehindStoreLaw" (10 : Nat) "BehindStoreModel") ∈ lw_all := lw_g (lw_at lw_m1 182 rfl) rfl
theorem q198 : (Jvm.Cond.methodLink "BehindStoreLaw" (12 : Nat) ({ cls := "BehindStoreModel", name := "<init>", desc := "()V" } : Jvm.MethodName)) ∈ lw_all := lw_g (lw_at lw_m1 184 rfl) rfl
theorem q239 : (Jvm.Cond.methodLink "BehindStoreLaw" (17 : Nat) ({ cls := "BehindStoreModel", name := "begin", desc := "()I" } : Jvm.MethodName)) ∈ lw_all := lw_g (lw_at lw_m1 225 rfl) rfl
theorem q243 : (Jvm.Cond.methodLink "BehindStoreLaw" (22 : Nat) ({ cls := "BehindStoreModel", name := "write", desc := "(III)I" } : Jvm.MethodName)) ∈ lw_all := lw_g (lw_at lw_m1 229 rfl) rfl
theorem q255 : (Jvm.Cond.methodLink "BehindStoreLaw" (27 : Nat) ({ cls := "BehindStoreModel", name := "read", desc := "(II)I" } : Jvm.MethodName)) ∈ lw_all := lw_g (lw_at lw_m2 1 rfl) rfl
theorem q259 : (Jvm.Cond.methodLink "BehindStoreLaw" (32 : Nat) ({ cls := "BehindStoreModel", name := "commit", desc := "(I)I" } : Jvm.MethodName)) ∈ lw_all := lw_g (lw_at lw_m2 5 rfl) rfl
theorem q267 : (Jvm.Cond.methodLink "BehindStoreLaw" (36 : Nat) ({ cls := "BehindStoreModel", name := "abort", desc := "(I)I" } : Jvm.MethodName)) ∈ lw_all := lw_g (lw_at lw_m2 13 rfl) rfl
theorem q271 : (Jvm.Cond.methodLink "BehindStoreLaw" (40 : Nat) ({ cls := "BehindStoreModel", name := "seal", desc := "()I" } : Jvm.MethodName)) ∈ lw_all := lw_g (lw_at lw_m2 17 rfl) rfl
theorem q275 : (Jvm.Cond.methodLink "BehindStoreLaw" (44 : Nat) ({ cls := "BehindStoreModel", name := "flush", desc := "(I)I" } : Jvm.MethodName)) ∈ lw_all := lw_g (lw_at lw_m2 21 rfl) rfl
theorem q279 : (Jvm.Cond.methodLink "BehindStoreLaw" (48 : Nat) ({ cls := "BehindStoreModel", name := "stepsLeft", desc := "()I" } : Jvm.MethodName)) ∈ lw_all := lw_g (lw_at lw_m2 25 rfl) rfl
theorem q283 : (Jvm.Cond.methodLink "BehindStoreLaw" (52 : Nat) ({ cls := "BehindStoreModel", name := "crash", desc := "()V" } : Jvm.MethodName)) ∈ lw_all := lw_g (lw_at lw_m2 29 rfl) rfl
theorem q287 : (Jvm.Cond.methodLink "BehindStoreLaw" (56 : Nat) ({ cls := "BehindStoreModel", name := "commits", desc := "()I" } : Jvm.MethodName)) ∈ lw_all := lw_g (lw_at lw_m2 33 rfl) rfl
theorem q291 : (Jvm.Cond.methodLink "BehindStoreLaw" (60 : Nat) ({ cls := "BehindStoreModel", name := "durable", desc := "()I" } : Jvm.MethodName)) ∈ lw_all := lw_g (lw_at lw_m2 37 rfl) rfl
theorem q295 : (Jvm.Cond.methodLink "BehindStoreLaw" (64 : Nat) ({ cls := "BehindStoreModel", name := "value", desc := "(I)I" } : Jvm.MethodName)) ∈ lw_all := lw_g (lw_at lw_m2 41 rfl) rfl
theorem q299 : (Jvm.Cond.methodLink "BehindStoreLaw" (68 : Nat) ({ cls := "BehindStoreModel", name := "safeValue", desc := "(I)I" } : Jvm.MethodName)) ∈ lw_all := lw_g (lw_at lw_m2 45 rfl) rfl
theorem q303 : (Jvm.Cond.methodLink "BehindStoreLaw" (72 : Nat) ({ cls := "BehindStoreModel", name := "conflicts", desc := "(I)I" } : Jvm.MethodName)) ∈ lw_all := lw_g (lw_at lw_m2 49 rfl) rfl
theorem q307 : (Jvm.Cond.methodLink "BehindStoreLaw" (76 : Nat) ({ cls := "BehindStoreModel", name := "open", desc := "()I" } : Jvm.MethodName)) ∈ lw_all := lw_g (lw_at lw_m2 53 rfl) rfl
end
section
set_option maxRecDepth 100000
/-! the law's own entry -/
set_option maxRecDepth 100000
abbrev cL_law : ByteArray := code
theorem dL_law_0 : decode cL_law 0 = .ok (.new 7, 3) := by decide +kernel
theorem dL_law_3 : decode cL_law 3 = .ok (.dup, 1) := by decide +kernel
theorem dL_law_4 : decode cL_law 4 = .ok (.invokespecial 9, 3) := by decide +kernel
theorem dL_law_7 : decode cL_law 7 = .ok (.astore_n 1, 1) := by decide +kernel
theorem dL_law_8 : decode cL_law 8 = .ok (.new 10, 3) := by decide +kernel
theorem dL_law_11 : decode cL_law 11 = .ok (.dup, 1) := by decide +kernel
theorem dL_law_12 : decode cL_law 12 = .ok (.invokespecial 12, 3) := by decide +kernel
theorem dL_law_15 : decode cL_law 15 = .ok (.astore_n 2, 1) := by decide +kernel
theorem dL_law_16 : decode cL_law 16 = .ok (.iconst 0, 1) := by decide +kernel
theorem dL_law_17 : decode cL_law 17 = .ok (.istore_n 3, 1) := by decide +kernel
theorem dL_law_18 : decode cL_law 18 = .ok (.iload_n 3, 1) := by decide +kernel
theorem dL_law_19 : decode cL_law 19 = .ok (.aload_n 0, 1) := by decide +kernel
theorem dL_law_20 : decode cL_law 20 = .ok (.arraylength, 1) := by decide +kernel
theorem dL_law_21 : decode cL_law 21 = .ok (.iconst 4, 1) := by decide +kernel
theorem dL_law_22 : decode cL_law 22 = .ok (.isub, 1) := by decide +kernel
theorem dL_law_23 : decode cL_law 23 = .ok (.if_icmp .gt 394, 3) := by decide +kernel
theorem dL_law_26 : decode cL_law 26 = .ok (.aload_n 0, 1) := by decide +kernel
theorem dL_law_27 : decode cL_law 27 = .ok (.iload_n 3, 1) := by decide +kernel
theorem dL_law_28 : decode cL_law 28 = .ok (.iaload, 1) := by decide +kernel
theorem dL_law_29 : decode cL_law 29 = .ok (.bipush 15, 2) := by decide +kernel
theorem dL_law_31 : decode cL_law 31 = .ok (.iand, 1) := by decide +kernel
theorem dL_law_32 : decode cL_law 32 = .ok (.tableswitch 379 0 14 #[76, 89, 132, 165, 188, 211, 224, 247, 260, 271, 284, 297, 320, 343, 366], 76) := by decide +kernel
theorem dL_law_108 : decode cL_law 108 = .ok (.aload_n 1, 1) := by decide +kernel
theorem dL_law_109 : decode cL_law 109 = .ok (.invokevirtual 13, 3) := by decide +kernel
theorem dL_law_112 : decode cL_law 112 = .ok (.aload_n 2, 1) := by decide +kernel
theorem dL_law_113 : decode cL_law 113 = .ok (.invokevirtual 17, 3) := by decide +kernel
theorem dL_law_116 : decode cL_law 116 = .ok (.if_icmp .eq 295, 3) := by decide +kernel
theorem dL_law_119 : decode cL_law 119 = .ok (.iconst 0, 1) := by decide +kernel
theorem dL_law_120 : decode cL_law 120 = .ok (.ireturn, 1) := by decide +kernel
theorem dL_law_121 : decode cL_law 121 = .ok (.aload_n 1, 1) := by decide +kernel
theorem dL_law_122 : decode cL_law 122 = .ok (.aload_n 0, 1) := by decide +kernel
theorem dL_law_123 : decode cL_law 123 = .ok (.iload_n 3, 1) := by decide +kernel
theorem dL_law_124 : decode cL_law 124 = .ok (.iconst 1, 1) := by decide +kernel
theorem dL_law_125 : decode cL_law 125 = .ok (.iadd, 1) := by decide +kernel
theorem dL_law_126 : decode cL_law 126 = .ok (.iaload, 1) := by decide +kernel
theorem dL_law_127 : decode cL_law 127 = .ok (.aload_n 0, 1) := by decide +kernel
theorem dL_law_128 : decode cL_law 128 = .ok (.iload_n 3, 1) := by decide +kernel
theorem dL_law_129 : decode cL_law 129 = .ok (.iconst 2, 1) := by decide +kernel
theorem dL_law_130 : decode cL_law 130 = .ok (.iadd, 1) := by decide +kernel
theorem dL_law_131 : decode cL_law 131 = .ok (.iaload, 1) := by decide +kernel
theorem dL_law_132 : decode cL_law 132 = .ok (.aload_n 0, 1) := by decide +kernel
theorem dL_law_133 : decode cL_law 133 = .ok (.iload_n 3, 1) := by decide +kernel
theorem dL_law_134 : decode cL_law 134 = .ok (.iconst 3, 1) := by decide +kernel
theorem dL_law_135 : decode cL_law 135 = .ok (.iadd, 1) := by decide +kernel
theorem dL_law_136 : decode cL_law 136 = .ok (.iaload, 1) := by decide +kernel
theorem dL_law_137 : decode cL_law 137 = .ok (.invokevirtual 18, 3) := by decide +kernel
theorem dL_law_140 : decode cL_law 140 = .ok (.aload_n 2, 1) := by decide +kernel
theorem dL_law_141 : decode cL_law 141 = .ok (.aload_n 0, 1) := by decide +kernel
theorem dL_law_142 : decode cL_law 142 = .ok (.iload_n 3, 1) := by decide +kernel
theorem dL_law_143 : decode cL_law 143 = .ok (.iconst 1, 1) := by decide +kernel
theorem dL_law_144 : decode cL_law 144 = .ok (.iadd, 1) := by decide +kernel
theorem dL_law_145 : decode cL_law 145 = .ok (.iaload, 1) := by decide +kernel
theorem dL_law_146 : decode cL_law 146 = .ok (.aload_n 0, 1) := by decide +kernel
theorem dL_law_147 : decode cL_law 147 = .ok (.iload_n 3, 1) := by decide +kernel
theorem dL_law_148 : decode cL_law 148 = .ok (.iconst 2, 1) := by decide +kernel
theorem dL_law_149 : decode cL_law 149 = .ok (.iadd, 1) := by decide +kernel
theorem dL_law_150 : decode cL_law 150 = .ok (.iaload, 1) := by decide +kernel
theorem dL_law_151 : decode cL_law 151 = .ok (.aload_n 0, 1) := by decide +kernel
theorem dL_law_152 : decode cL_law 152 = .ok (.iload_n 3, 1) := by decide +kernel
theorem dL_law_153 : decode cL_law 153 = .ok (.iconst 3, 1) := by decide +kernel
theorem dL_law_154 : decode cL_law 154 = .ok (.iadd, 1) := by decide +kernel
theorem dL_law_155 : decode cL_law 155 = .ok (.iaload, 1) := by decide +kernel
theorem dL_law_156 : decode cL_law 156 = .ok (.invokevirtual 22, 3) := by decide +kernel
theorem dL_law_159 : decode cL_law 159 = .ok (.if_icmp .eq 252, 3) := by decide +kernel
theorem dL_law_162 : decode cL_law 162 = .ok (.iconst 0, 1) := by decide +kernel
theorem dL_law_163 : decode cL_law 163 = .ok (.ireturn, 1) := by decide +kernel
theorem dL_law_164 : decode cL_law 164 = .ok (.aload_n 1, 1) := by decide +kernel
theorem dL_law_165 : decode cL_law 165 = .ok (.aload_n 0, 1) := by decide +kernel
theorem dL_law_166 : decode cL_law 166 = .ok (.iload_n 3, 1) := by decide +kernel
theorem dL_law_167 : decode cL_law 167 = .ok (.iconst 1, 1) := by decide +kernel
theorem dL_law_168 : decode cL_law 168 = .ok (.iadd, 1) := by decide +kernel
theorem dL_law_169 : decode cL_law 169 = .ok (.iaload, 1) := by decide +kernel
theorem dL_law_170 : decode cL_law 170 = .ok (.aload_n 0, 1) := by decide +kernel
theorem dL_law_171 : decode cL_law 171 = .ok (.iload_n 3, 1) := by decide +kernel
theorem dL_law_172 : decode cL_law 172 = .ok (.iconst 2, 1) := by decide +kernel
theorem dL_law_173 : decode cL_law 173 = .ok (.iadd, 1) := by decide +kernel
theorem dL_law_174 : decode cL_law 174 = .ok (.iaload, 1) := by decide +kernel
theorem dL_law_175 : decode cL_law 175 = .ok (.invokevirtual 23, 3) := by decide +kernel
theorem dL_law_178 : decode cL_law 178 = .ok (.aload_n 2, 1) := by decide +kernel
theorem dL_law_179 : decode cL_law 179 = .ok (.aload_n 0, 1) := by decide +kernel
theorem dL_law_180 : decode cL_law 180 = .ok (.iload_n 3, 1) := by decide +kernel
theorem dL_law_181 : decode cL_law 181 = .ok (.iconst 1, 1) := by decide +kernel
theorem dL_law_182 : decode cL_law 182 = .ok (.iadd, 1) := by decide +kernel
theorem dL_law_183 : decode cL_law 183 = .ok (.iaload, 1) := by decide +kernel
theorem dL_law_184 : decode cL_law 184 = .ok (.aload_n 0, 1) := by decide +kernel
theorem dL_law_185 : decode cL_law 185 = .ok (.iload_n 3, 1) := by decide +kernel
theorem dL_law_186 : decode cL_law 186 = .ok (.iconst 2, 1) := by decide +kernel
theorem dL_law_187 : decode cL_law 187 = .ok (.iadd, 1) := by decide +kernel
theorem dL_law_188 : decode cL_law 188 = .ok (.iaload, 1) := by decide +kernel
theorem dL_law_189 : decode cL_law 189 = .ok (.invokevirtual 27, 3) := by decide +kernel
theorem dL_law_192 : decode cL_law 192 = .ok (.if_icmp .eq 219, 3) := by decide +kernel
theorem dL_law_195 : decode cL_law 195 = .ok (.iconst 0, 1) := by decide +kernel
theorem dL_law_196 : decode cL_law 196 = .ok (.ireturn, 1) := by decide +kernel
theorem dL_law_197 : decode cL_law 197 = .ok (.aload_n 1, 1) := by decide +kernel
theorem dL_law_198 : decode cL_law 198 = .ok (.aload_n 0, 1) := by decide +kernel
theorem dL_law_199 : decode cL_law 199 = .ok (.iload_n 3, 1) := by decide +kernel
theorem dL_law_200 : decode cL_law 200 = .ok (.iconst 1, 1) := by decide +kernel
theorem dL_law_201 : decode cL_law 201 = .ok (.iadd, 1) := by decide +kernel
theorem dL_law_202 : decode cL_law 202 = .ok (.iaload, 1) := by decide +kernel
theorem dL_law_203 : decode cL_law 203 = .ok (.invokevirtual 28, 3) := by decide +kernel
theorem dL_law_206 : decode cL_law 206 = .ok (.aload_n 2, 1) := by decide +kernel
theorem dL_law_207 : decode cL_law 207 = .ok (.aload_n 0, 1) := by decide +kernel
theorem dL_law_208 : decode cL_law 208 = .ok (.iload_n 3, 1) := by decide +kernel
theorem dL_law_209 : decode cL_law 209 = .ok (.iconst 1, 1) := by decide +kernel
theorem dL_law_210 : decode cL_law 210 = .ok (.iadd, 1) := by decide +kernel
theorem dL_law_211 : decode cL_law 211 = .ok (.iaload, 1) := by decide +kernel
theorem dL_law_212 : decode cL_law 212 = .ok (.invokevirtual 32, 3) := by decide +kernel
theorem dL_law_215 : decode cL_law 215 = .ok (.if_icmp .eq 196, 3) := by decide +kernel
theorem dL_law_218 : decode cL_law 218 = .ok (.iconst 0, 1) := by decide +kernel
theorem dL_law_219 : decode cL_law 219 = .ok (.ireturn, 1) := by decide +kernel
theorem dL_law_220 : decode cL_law 220 = .ok (.aload_n 1, 1) := by decide +kernel
theorem dL_law_221 : decode cL_law 221 = .ok (.aload_n 0, 1) := by decide +kernel
theorem dL_law_222 : decode cL_law 222 = .ok (.iload_n 3, 1) := by decide +kernel
theorem dL_law_223 : decode cL_law 223 = .ok (.iconst 1, 1) := by decide +kernel
theorem dL_law_224 : decode cL_law 224 = .ok (.iadd, 1) := by decide +kernel
theorem dL_law_225 : decode cL_law 225 = .ok (.iaload, 1) := by decide +kernel
theorem dL_law_226 : decode cL_law 226 = .ok (.invokevirtual 33, 3) := by decide +kernel
theorem dL_law_229 : decode cL_law 229 = .ok (.aload_n 2, 1) := by decide +kernel
theorem dL_law_230 : decode cL_law 230 = .ok (.aload_n 0, 1) := by decide +kernel
theorem dL_law_231 : decode cL_law 231 = .ok (.iload_n 3, 1) := by decide +kernel
theorem dL_law_232 : decode cL_law 232 = .ok (.iconst 1, 1) := by decide +kernel
theorem dL_law_233 : decode cL_law 233 = .ok (.iadd, 1) := by decide +kernel
theorem dL_law_234 : decode cL_law 234 = .ok (.iaload, 1) := by decide +kernel
theorem dL_law_235 : decode cL_law 235 = .ok (.invokevirtual 36, 3) := by decide +kernel
theorem dL_law_238 : decode cL_law 238 = .ok (.if_icmp .eq 173, 3) := by decide +kernel
theorem dL_law_241 : decode cL_law 241 = .ok (.iconst 0, 1) := by decide +kernel
theorem dL_law_242 : decode cL_law 242 = .ok (.ireturn, 1) := by decide +kernel
theorem dL_law_243 : decode cL_law 243 = .ok (.aload_n 1, 1) := by decide +kernel
theorem dL_law_244 : decode cL_law 244 = .ok (.invokevirtual 37, 3) := by decide +kernel
theorem dL_law_247 : decode cL_law 247 = .ok (.aload_n 2, 1) := by decide +kernel
theorem dL_law_248 : decode cL_law 248 = .ok (.invokevirtual 40, 3) := by decide +kernel
theorem dL_law_251 : decode cL_law 251 = .ok (.if_icmp .eq 160, 3) := by decide +kernel
theorem dL_law_254 : decode cL_law 254 = .ok (.iconst 0, 1) := by decide +kernel
theorem dL_law_255 : decode cL_law 255 = .ok (.ireturn, 1) := by decide +kernel
theorem dL_law_256 : decode cL_law 256 = .ok (.aload_n 1, 1) := by decide +kernel
theorem dL_law_257 : decode cL_law 257 = .ok (.aload_n 0, 1) := by decide +kernel
theorem dL_law_258 : decode cL_law 258 = .ok (.iload_n 3, 1) := by decide +kernel
theorem dL_law_259 : decode cL_law 259 = .ok (.iconst 1, 1) := by decide +kernel
theorem dL_law_260 : decode cL_law 260 = .ok (.iadd, 1) := by decide +kernel
theorem dL_law_261 : decode cL_law 261 = .ok (.iaload, 1) := by decide +kernel
theorem dL_law_262 : decode cL_law 262 = .ok (.invokevirtual 41, 3) := by decide +kernel
theorem dL_law_265 : decode cL_law 265 = .ok (.aload_n 2, 1) := by decide +kernel
theorem dL_law_266 : decode cL_law 266 = .ok (.aload_n 0, 1) := by decide +kernel
theorem dL_law_267 : decode cL_law 267 = .ok (.iload_n 3, 1) := by decide +kernel
theorem dL_law_268 : decode cL_law 268 = .ok (.iconst 1, 1) := by decide +kernel
theorem dL_law_269 : decode cL_law 269 = .ok (.iadd, 1) := by decide +kernel
theorem dL_law_270 : decode cL_law 270 = .ok (.iaload, 1) := by decide +kernel
theorem dL_law_271 : decode cL_law 271 = .ok (.invokevirtual 44, 3) := by decide +kernel
theorem dL_law_274 : decode cL_law 274 = .ok (.if_icmp .eq 137, 3) := by decide +kernel
theorem dL_law_277 : decode cL_law 277 = .ok (.iconst 0, 1) := by decide +kernel
theorem dL_law_278 : decode cL_law 278 = .ok (.ireturn, 1) := by decide +kernel
theorem dL_law_279 : decode cL_law 279 = .ok (.aload_n 1, 1) := by decide +kernel
theorem dL_law_280 : decode cL_law 280 = .ok (.invokevirtual 45, 3) := by decide +kernel
theorem dL_law_283 : decode cL_law 283 = .ok (.aload_n 2, 1) := by decide +kernel
theorem dL_law_284 : decode cL_law 284 = .ok (.invokevirtual 48, 3) := by decide +kernel
theorem dL_law_287 : decode cL_law 287 = .ok (.if_icmp .eq 124, 3) := by decide +kernel
theorem dL_law_290 : decode cL_law 290 = .ok (.iconst 0, 1) := by decide +kernel
theorem dL_law_291 : decode cL_law 291 = .ok (.ireturn, 1) := by decide +kernel
theorem dL_law_292 : decode cL_law 292 = .ok (.aload_n 1, 1) := by decide +kernel
theorem dL_law_293 : decode cL_law 293 = .ok (.invokevirtual 49, 3) := by decide +kernel
theorem dL_law_296 : decode cL_law 296 = .ok (.aload_n 2, 1) := by decide +kernel
theorem dL_law_297 : decode cL_law 297 = .ok (.invokevirtual 52, 3) := by decide +kernel
theorem dL_law_300 : decode cL_law 300 = .ok (.goto 111, 3) := by decide +kernel
theorem dL_law_303 : decode cL_law 303 = .ok (.aload_n 1, 1) := by decide +kernel
theorem dL_law_304 : decode cL_law 304 = .ok (.invokevirtual 53, 3) := by decide +kernel
theorem dL_law_307 : decode cL_law 307 = .ok (.aload_n 2, 1) := by decide +kernel
theorem dL_law_308 : decode cL_law 308 = .ok (.invokevirtual 56, 3) := by decide +kernel
theorem dL_law_311 : decode cL_law 311 = .ok (.if_icmp .eq 100, 3) := by decide +kernel
theorem dL_law_314 : decode cL_law 314 = .ok (.iconst 0, 1) := by decide +kernel
theorem dL_law_315 : decode cL_law 315 = .ok (.ireturn, 1) := by decide +kernel
theorem dL_law_316 : decode cL_law 316 = .ok (.aload_n 1, 1) := by decide +kernel
theorem dL_law_317 : decode cL_law 317 = .ok (.invokevirtual 57, 3) := by decide +kernel
theorem dL_law_320 : decode cL_law 320 = .ok (.aload_n 2, 1) := by decide +kernel
theorem dL_law_321 : decode cL_law 321 = .ok (.invokevirtual 60, 3) := by decide +kernel
theorem dL_law_324 : decode cL_law 324 = .ok (.if_icmp .eq 87, 3) := by decide +kernel
theorem dL_law_327 : decode cL_law 327 = .ok (.iconst 0, 1) := by decide +kernel
theorem dL_law_328 : decode cL_law 328 = .ok (.ireturn, 1) := by decide +kernel
theorem dL_law_329 : decode cL_law 329 = .ok (.aload_n 1, 1) := by decide +kernel
theorem dL_law_330 : decode cL_law 330 = .ok (.aload_n 0, 1) := by decide +kernel
theorem dL_law_331 : decode cL_law 331 = .ok (.iload_n 3, 1) := by decide +kernel
theorem dL_law_332 : decode cL_law 332 = .ok (.iconst 1, 1) := by decide +kernel
theorem dL_law_333 : decode cL_law 333 = .ok (.iadd, 1) := by decide +kernel
theorem dL_law_334 : decode cL_law 334 = .ok (.iaload, 1) := by decide +kernel
theorem dL_law_335 : decode cL_law 335 = .ok (.invokevirtual 61, 3) := by decide +kernel
theorem dL_law_338 : decode cL_law 338 = .ok (.aload_n 2, 1) := by decide +kernel
theorem dL_law_339 : decode cL_law 339 = .ok (.aload_n 0, 1) := by decide +kernel
theorem dL_law_340 : decode cL_law 340 = .ok (.iload_n 3, 1) := by decide +kernel
theorem dL_law_341 : decode cL_law 341 = .ok (.iconst 1, 1) := by decide +kernel
theorem dL_law_342 : decode cL_law 342 = .ok (.iadd, 1) := by decide +kernel
theorem dL_law_343 : decode cL_law 343 = .ok (.iaload, 1) := by decide +kernel
theorem dL_law_344 : decode cL_law 344 = .ok (.invokevirtual 64, 3) := by decide +kernel
theorem dL_law_347 : decode cL_law 347 = .ok (.if_icmp .eq 64, 3) := by decide +kernel
theorem dL_law_350 : decode cL_law 350 = .ok (.iconst 0, 1) := by decide +kernel
theorem dL_law_351 : decode cL_law 351 = .ok (.ireturn, 1) := by decide +kernel
theorem dL_law_352 : decode cL_law 352 = .ok (.aload_n 1, 1) := by decide +kernel
theorem dL_law_353 : decode cL_law 353 = .ok (.aload_n 0, 1) := by decide +kernel
theorem dL_law_354 : decode cL_law 354 = .ok (.iload_n 3, 1) := by decide +kernel
theorem dL_law_355 : decode cL_law 355 = .ok (.iconst 1, 1) := by decide +kernel
theorem dL_law_356 : decode cL_law 356 = .ok (.iadd, 1) := by decide +kernel
theorem dL_law_357 : decode cL_law 357 = .ok (.iaload, 1) := by decide +kernel
theorem dL_law_358 : decode cL_law 358 = .ok (.invokevirtual 65, 3) := by decide +kernel
theorem dL_law_361 : decode cL_law 361 = .ok (.aload_n 2, 1) := by decide +kernel
theorem dL_law_362 : decode cL_law 362 = .ok (.aload_n 0, 1) := by decide +kernel
theorem dL_law_363 : decode cL_law 363 = .ok (.iload_n 3, 1) := by decide +kernel
theorem dL_law_364 : decode cL_law 364 = .ok (.iconst 1, 1) := by decide +kernel
theorem dL_law_365 : decode cL_law 365 = .ok (.iadd, 1) := by decide +kernel
theorem dL_law_366 : decode cL_law 366 = .ok (.iaload, 1) := by decide +kernel
theorem dL_law_367 : decode cL_law 367 = .ok (.invokevirtual 68, 3) := by decide +kernel
theorem dL_law_370 : decode cL_law 370 = .ok (.if_icmp .eq 41, 3) := by decide +kernel
theorem dL_law_373 : decode cL_law 373 = .ok (.iconst 0, 1) := by decide +kernel
theorem dL_law_374 : decode cL_law 374 = .ok (.ireturn, 1) := by decide +kernel
theorem dL_law_375 : decode cL_law 375 = .ok (.aload_n 1, 1) := by decide +kernel
theorem dL_law_376 : decode cL_law 376 = .ok (.aload_n 0, 1) := by decide +kernel
theorem dL_law_377 : decode cL_law 377 = .ok (.iload_n 3, 1) := by decide +kernel
theorem dL_law_378 : decode cL_law 378 = .ok (.iconst 1, 1) := by decide +kernel
theorem dL_law_379 : decode cL_law 379 = .ok (.iadd, 1) := by decide +kernel
theorem dL_law_380 : decode cL_law 380 = .ok (.iaload, 1) := by decide +kernel
theorem dL_law_381 : decode cL_law 381 = .ok (.invokevirtual 69, 3) := by decide +kernel
theorem dL_law_384 : decode cL_law 384 = .ok (.aload_n 2, 1) := by decide +kernel
theorem dL_law_385 : decode cL_law 385 = .ok (.aload_n 0, 1) := by decide +kernel
theorem dL_law_386 : decode cL_law 386 = .ok (.iload_n 3, 1) := by decide +kernel
theorem dL_law_387 : decode cL_law 387 = .ok (.iconst 1, 1) := by decide +kernel
theorem dL_law_388 : decode cL_law 388 = .ok (.iadd, 1) := by decide +kernel
theorem dL_law_389 : decode cL_law 389 = .ok (.iaload, 1) := by decide +kernel
theorem dL_law_390 : decode cL_law 390 = .ok (.invokevirtual 72, 3) := by decide +kernel
theorem dL_law_393 : decode cL_law 393 = .ok (.if_icmp .eq 18, 3) := by decide +kernel
theorem dL_law_396 : decode cL_law 396 = .ok (.iconst 0, 1) := by decide +kernel
theorem dL_law_397 : decode cL_law 397 = .ok (.ireturn, 1) := by decide +kernel
theorem dL_law_398 : decode cL_law 398 = .ok (.aload_n 1, 1) := by decide +kernel
theorem dL_law_399 : decode cL_law 399 = .ok (.invokevirtual 73, 3) := by decide +kernel
theorem dL_law_402 : decode cL_law 402 = .ok (.aload_n 2, 1) := by decide +kernel
theorem dL_law_403 : decode cL_law 403 = .ok (.invokevirtual 76, 3) := by decide +kernel
theorem dL_law_406 : decode cL_law 406 = .ok (.if_icmp .eq 5, 3) := by decide +kernel
theorem dL_law_409 : decode cL_law 409 = .ok (.iconst 0, 1) := by decide +kernel
theorem dL_law_410 : decode cL_law 410 = .ok (.ireturn, 1) := by decide +kernel
theorem dL_law_411 : decode cL_law 411 = .ok (.iinc 3 4, 3) := by decide +kernel
theorem dL_law_414 : decode cL_law 414 = .ok (.goto (-396), 3) := by decide +kernel
theorem dL_law_417 : decode cL_law 417 = .ok (.iconst 1, 1) := by decide +kernel
theorem dL_law_418 : decode cL_law 418 = .ok (.ireturn, 1) := by decide +kernel
end
section
set_option maxRecDepth 100000
/-! states, worlds, contracts -/
abbrev St : Type := Nat → Nat → Int32
def st_up (σ : St) (k i : Nat) (v : Int32) : St := fun a => if a = k then upd (σ k) i v else σ a
theorem st_up_k (σ : St) (k i : Nat) (v : Int32) : st_up σ k i v k = upd (σ k) i v := if_pos rfl
theorem st_up_at (σ : St) (k i : Nat) (v : Int32) : st_up σ k i v k i = v := by rw [st_up_k]; exact if_pos rfl
theorem st_up_ne (σ : St) {a k : Nat} (i : Nat) (v : Int32) (h : a ≠ k) : st_up σ k i v a = σ a := if_neg h
theorem st_up_nj (σ : St) (a k : Nat) {i j : Nat} (v : Int32) (h : j ≠ i) : st_up σ k i v a j = σ a j := by
  by_cases e : a = k
  · subst e; rw [st_up_k]; exact if_neg h
  · rw [st_up_ne σ i v e]
abbrev vwCl : List vw_C := [(RX0, TX0, 20), (RX1, TX1, 12)]
def wB (q : Nat → Nat) (d : Nat → ClassId) (σ : St) : va_W := [(q 20, .inr (0, [.ref (q 0), .ref (q 1), .ref (q 2), .ref (q 3), .ref (q 4), .int (σ 5 0), .ref (q 6), .ref (q 7), .int (σ 8 0), .int (σ 9 0), .int (σ 10 0), .int (σ 11 0), .int (σ 12 0), .int (σ 13 0), .int (σ 14 0), .int (σ 15 0), .int (σ 16 0), .ref (q 17), .ref (q 18), .ref (q 19)])), (q 0, .inl (d 0, 64, .inl (σ 0))), (q 1, .inl (d 1, 64, .inl (σ 1))), (q 2, .inl (d 2, 64, .inl (σ 2))), (q 3, .inl (d 3, 64, .inl (σ 3))), (q 4, .inl (d 4, 64, .inl (σ 4))), (q 6, .inl (d 6, 4, .inl (σ 6))), (q 7, .inl (d 7, 4, .inl (σ 7))), (q 17, .inl (d 17, 4, .inl (σ 17))), (q 18, .inl (d 18, 4, .inl (σ 18))), (q 19, .inl (d 19, 32, .inl (σ 19)))]
def tB (d : Nat → ClassId) : List (ClassId × FieldType) := [(d 0, .boolean), (d 1, .byte), (d 2, .int), (d 3, .int), (d 4, .boolean), (d 6, .int), (d 7, .int), (d 17, .int), (d 18, .int), (d 19, .int)]
def wM (q : Nat → Nat) (d : Nat → ClassId) (σ : St) : va_W := [(q 20, .inr (1, [.ref (q 0), .ref (q 1), .ref (q 2), .int (σ 3 0), .int (σ 4 0), .int (σ 5 0), .int (σ 6 0), .int (σ 7 0), .ref (q 8), .ref (q 9), .ref (q 10), .ref (q 11)])), (q 0, .inl (d 0, 8, .inl (σ 0))), (q 1, .inl (d 1, 8, .inl (σ 1))), (q 2, .inl (d 2, 8, .inl (σ 2))), (q 8, .inl (d 8, 4, .inl (σ 8))), (q 9, .inl (d 9, 32, .inl (σ 9))), (q 10, .inl (d 10, 4, .inl (σ 10))), (q 11, .inl (d 11, 4, .inl (σ 11)))]
def tM (d : Nat → ClassId) : List (ClassId × FieldType) := [(d 0, .int), (d 1, .int), (d 2, .int), (d 8, .boolean), (d 9, .int), (d 10, .int), (d 11, .int)]
def wd_ (D : va_G) (w : St → va_W) (t : List (ClassId × FieldType)) (A : Nat → Prop) (u : St) (U : State) : Prop := va_P D vwCl (w u) U.heap ∧ va_K D vwCl t U ∧ va_D A (w u)
/-- a method that answers an int: from σ, with the answer and the new state as post says -/
def MI (l : Launch) (D : va_G) (w : St → va_W) (t : List (ClassId × FieldType)) (y : MethodName) (cc : ByteArray) (L : Nat) (ty : FieldType) (fr lc : Nat) (av : List Value) (σ : St) (post : Int32 → St → Prop) : Prop :=
  ∀ sz : Nat, Met l y (ws_ y cc L (some ty)) ({ frames := fr, cells := 0, slots := 0, locals := lc }) (va_Pc av (fun U => U.heap.size = sz ∧ wd_ D w t (fun _ => True) σ U)) (va_Qi post (wd_ D w t (va_A (w σ) sz)) (va_A (w σ) sz)) 0 0 (va_A (w σ) sz)
def MV (l : Launch) (D : va_G) (w : St → va_W) (t : List (ClassId × FieldType)) (y : MethodName) (cc : ByteArray) (L : Nat) (fr lc : Nat) (av : List Value) (σ : St) (post : St → Prop) : Prop :=
  ∀ sz : Nat, Met l y (ws_ y cc L none) ({ frames := fr, cells := 0, slots := 0, locals := lc }) (va_Pc av (fun U => U.heap.size = sz ∧ wd_ D w t (fun _ => True) σ U)) (va_Qv post (wd_ D w t (va_A (w σ) sz)) (va_A (w σ) sz)) 0 0 (va_A (w σ) sz)
/-- what holds all through a method's run -/
def EV (p : Program) (s : State) (R : Room) (m : MethodId) (args : Array Value) (c : Code) (cc : ByteArray) (L fr lc : Nat) (own : String) (A : Nat → Prop) (D : va_G) (t : List (ClassId × FieldType)) : Prop :=
  p.tables.exec = Jvm.exec ∧ c.code = cc ∧ c.maxLocals = L ∧ s.vm.findClass own = some m.cls ∧ (∀ w ∈ lw_all, w.before args s = true) ∧ (∀ q : Nat, s.heap.size ≤ q → A q) ∧ (fr ≤ R.frames ∧ lc ≤ R.locals) ∧ va_K D vwCl t s
/-- the world at a moment -/
def WD (D : va_G) (w : St → va_W) (A : Nat → Prop) (s : State) (u : St) (H : Heap) (locs : List Loc) : Prop := va_P D vwCl (w u) H ∧ va_D A (w u) ∧ va_S A s.heap H locs
section BASE
variable {p : Program} {l : Launch} {e : Env} {R : Room} {s : State} {m : MethodId} {args : Array Value} {below : List Frame} {meth : Method} {c : Code} {H : Heap} {locs : List Loc} {cells slots : Nat} {Q : State → Prop} {cc : ByteArray} {pc L fr lc : Nat} {ls : Array Slot} {rest : List Value} {A : Nat → Prop} {D : va_G} {own : String} {t : List (ClassId × FieldType)} {w : St → va_W} {σ : St}
theorem EV.hx (E : EV p s R m args c cc L fr lc own A D t) : p.tables.exec = Jvm.exec := E.1
theorem EV.hb (E : EV p s R m args c cc L fr lc own A D t) : c.code = cc := E.2.1
theorem EV.hml (E : EV p s R m args c cc L fr lc own A D t) : c.maxLocals = L := E.2.2.1
theorem EV.hown (E : EV p s R m args c cc L fr lc own A D t) : s.vm.findClass own = some m.cls := E.2.2.2.1
theorem EV.hts (E : EV p s R m args c cc L fr lc own A D t) : ∀ w ∈ lw_all, w.before args s = true := E.2.2.2.2.1
theorem EV.hA (E : EV p s R m args c cc L fr lc own A D t) : ∀ q : Nat, s.heap.size ≤ q → A q := E.2.2.2.2.2.1
theorem EV.hR (E : EV p s R m args c cc L fr lc own A D t) : fr ≤ R.frames ∧ lc ≤ R.locals := E.2.2.2.2.2.2.1
theorem EV.hK (E : EV p s R m args c cc L fr lc own A D t) : va_K D vwCl t s := E.2.2.2.2.2.2.2
theorem wd_free (hA : ∀ q : Nat, s.heap.size ≤ q → A q) (hW : WD D w A s σ H locs) : ∀ q, va_A (w σ) H.size q → A q := by
  intro q h
  rcases h with ⟨k, e, h⟩ | h
  · exact hW.2.1.2 k (q, e) h
  · exact hA q (Nat.le_trans hW.2.2.1 h)
theorem MI.of {y : MethodName} {ty : FieldType} {av : List Value} {post : Int32 → St → Prop} (hy : plainName y.cls = true) (hL : (lg_sl av).length ≤ L)
    (body : ∀ (p : Program) (e : Env) (R : Room) (s : State) (m : MethodId) (args : Array Value) (below : List Frame) (meth : Method) (c : Code) (Q : State → Prop) (A : Nat → Prop) (ls : Array Slot),
      EV p s R m args c cc L fr lc y.cls A D t →
      (∀ (H : Heap) (locs : List Loc) (ls : Array Slot) (pc : Nat) (v : Int32) (u : St), decode cc pc = .ok (.ireturn, 1) → narrow ty (.int v) = .int v → post v u → WD D w A s u H locs → W p l e R s m args below meth c H locs 0 0 Q (F0 m pc ls [.int v])) →
      WD D w A s σ s.heap [] → lv_has ls L (lv_args 0 av) → W p l e R s m args below meth c s.heap [] 0 0 Q (F0 m 0 ls [])) :
    MI l D w t y cc L ty fr lc av σ post := by
  intro sz
  refine Met.ofW (cc := cc) (maxL := L) (ret := some ty) hy rfl ?_
  intro p e s m args below meth c s₁ B hml hv
  obtain ⟨rfl, hsz, hP, hK, hD0⟩ := hv
  have hts := atoms_spec (ws := ws_ y cc L (some ty)) B.pre
  have hts : ∀ w ∈ lw_all, w.before _ s = true := fun w h => hts w (List.mem_cons_of_mem _ h)
  have hown : s.vm.findClass y.cls = some m.cls := findClass_of_methodNamed B.named
  have hlocks := B.notSynchronized
  have hr := B.returns
  have hx := B.exec
  have hb := B.bytes
  subst hsz
  have hD := hD0.self (sz := s.heap.size)
  have hl := lv_entry av (n := L) hL
  rw [lg_entry_eq]
  refine body p e _ s m _ below meth c _ (va_A (w σ) s.heap.size) _ ⟨hx, hb, hml, hown, hts, fun q h => Or.inr h, ⟨Nat.le_refl _, Nat.le_refl _⟩, hK⟩ ?_ ⟨hP, hD, va_S.rf⟩ hl
  intro H locs ls pc v u hd hn hp hW
  exact W.zret (v := v) hx hb hr hn (fun t ht hw => ⟨⟨v, u, rfl, hp, by rw [ht]; exact hW.1, va_K.moved hw.alike hK, hW.2.1⟩, hW.2.2.F ht⟩) hW.2.2.2.2 hd
theorem MV.of {y : MethodName} {av : List Value} {post : St → Prop} (hy : plainName y.cls = true) (hL : (lg_sl av).length ≤ L)
    (body : ∀ (p : Program) (e : Env) (R : Room) (s : State) (m : MethodId) (args : Array Value) (below : List Frame) (meth : Method) (c : Code) (Q : State → Prop) (A : Nat → Prop) (ls : Array Slot),
      EV p s R m args c cc L fr lc y.cls A D t →
      (∀ (H : Heap) (locs : List Loc) (ls : Array Slot) (pc : Nat) (u : St), decode cc pc = .ok (.return_, 1) → post u → WD D w A s u H locs → W p l e R s m args below meth c H locs 0 0 Q (F0 m pc ls [])) →
      WD D w A s σ s.heap [] → lv_has ls L (lv_args 0 av) → W p l e R s m args below meth c s.heap [] 0 0 Q (F0 m 0 ls [])) :
    MV l D w t y cc L fr lc av σ post := by
  intro sz
  refine Met.ofW (cc := cc) (maxL := L) (ret := none) hy rfl ?_
  intro p e s m args below meth c s₁ B hml hv
  obtain ⟨rfl, hsz, hP, hK, hD0⟩ := hv
  have hts := atoms_spec (ws := ws_ y cc L none) B.pre
  have hts : ∀ w ∈ lw_all, w.before _ s = true := fun w h => hts w (List.mem_cons_of_mem _ h)
  have hown : s.vm.findClass y.cls = some m.cls := findClass_of_methodNamed B.named
  have hlocks := B.notSynchronized
  have hr := B.returns
  have hx := B.exec
  have hb := B.bytes
  subst hsz
  have hD := hD0.self (sz := s.heap.size)
  have hl := lv_entry av (n := L) hL
  rw [lg_entry_eq]
  refine body p e _ s m _ below meth c _ (va_A (w σ) s.heap.size) _ ⟨hx, hb, hml, hown, hts, fun q h => Or.inr h, ⟨Nat.le_refl _, Nat.le_refl _⟩, hK⟩ ?_ ⟨hP, hD, va_S.rf⟩ hl
  intro H locs ls pc u hd hp hW
  exact W.vret hx hb hr (fun t ht hw => ⟨⟨u, rfl, hp, by rw [ht]; exact hW.1, va_K.moved hw.alike hK, hW.2.1⟩, hW.2.2.F ht⟩) hW.2.2.2.2 hd
theorem wd_blind {av : List Value} {sz : Nat} {B : Nat → Prop} : FrameBlind (va_Pc av (fun U => U.heap.size = sz ∧ wd_ D w t B σ U)) := fun a U g mk q => by
  obtain ⟨q0, q1, qP, qK, qD⟩ := q
  exact ⟨q0, q1, qP, va_K.moved (u := U) (U := U.calling g mk a) (Vm.Alike.refl U.vm) qK, qD⟩
theorem wd_start {av : List Value} (hK : va_K D vwCl t s) (hW : WD D w A s σ H locs) : ∀ U : State, U.heap = H → s.WarmedH U.vm → va_Pc av (fun U => U.heap.size = H.size ∧ wd_ D w t (fun _ => True) σ U) av.toArray U := fun U hU hw =>
  ⟨rfl, by rw [hU], by rw [hU]; exact hW.1, va_K.moved hw.alike hK, hW.2.1.weaken (fun _ _ _ _ => trivial)⟩
/-- a call of a method of the same object -/
theorem callI_ {y : MethodName} {bytes : ByteArray} {maxL fr' lc' index n ci : Nat} {ty : FieldType} {b : Nat} {As st : List Value} {post : Int32 → St → Prop} {r0 : vw_C} {fs : List Value} (E : EV p s R m args c cc L fr lc own A D t) (hW : WD D w A s σ H locs)
    (hM : MI l D w t y bytes maxL ty fr' lc' (.ref b :: As) σ post) (hg : GoodIn lw_all (wsV own index r0.1 y (ws_ y bytes maxL (some ty))))
    (hd : y.cls = r0.1 ∧ y.cls ≠ "java/lang/invoke/MethodHandle" ∧ y.cls ≠ "java/lang/invoke/VarHandle" ∧ (parseMethodDescriptor y.desc).map (fun d => d.parameters.length) = some n)
    (hR : fr' + 1 ≤ fr ∧ 8 + (maxL + 11) + lc' ≤ lc) (hc : vwCl[ci]? = some r0) (he : (w σ)[0]? = some (b, .inr (ci, fs))) (hn : As.length = n) (hsize : ls.size = L) (hst : st = As.reverse ++ .ref b :: rest) (hroom : (rest.map fun v => v.category).sum ≤ 8)
    (hdg : decode cc pc = .ok (.invokevirtual index, 3))
    (kk : ∀ (r : Int32) (u : St) (H : Heap) (locs : List Loc), post r u → WD D w A s u H locs → W p l e R s m args below meth c H locs 0 0 Q (F0 m (pc + 3) ls (.int r :: rest))) : W p l e R s m args below meth c H locs 0 0 Q (F0 m pc ls st) := by
  have hF := wd_free E.hA hW
  refine va_calli (va_runV (As := As) (rest := rest) ⟨E.hx, E.hb, E.hml, E.hown, E.hts⟩ (hM H.size) (cwV n E.hts hg rfl rfl rfl hd ⟨Nat.le_trans hR.1 E.hR.1, Nat.le_trans hR.2 E.hR.2⟩) ⟨wd_blind, va_recv E.hK hW.1 hc he, wd_start E.hK hW⟩ rfl hn hsize hst (lv_room hroom) hdg ⟨Nat.zero_le _, Nat.zero_le _⟩) hW.2.2 (fun q _ h => hF q h) hF (fun r u t H1 locs1 ht hvm hp hB hz hk hS => ?_)
  obtain ⟨hP1, hK1, hD1⟩ := hB
  rw [ht] at hP1
  exact kk r u H1 locs1 hp ⟨hP1, hD1.weaken (fun k q _ h => hF q.1 h), hS⟩
theorem callV_ {y : MethodName} {bytes : ByteArray} {maxL fr' lc' index n ci : Nat} {b : Nat} {As st : List Value} {post : St → Prop} {r0 : vw_C} {fs : List Value} (E : EV p s R m args c cc L fr lc own A D t) (hW : WD D w A s σ H locs)
    (hM : MV l D w t y bytes maxL fr' lc' (.ref b :: As) σ post) (hg : GoodIn lw_all (wsV own index r0.1 y (ws_ y bytes maxL none)))
    (hd : y.cls = r0.1 ∧ y.cls ≠ "java/lang/invoke/MethodHandle" ∧ y.cls ≠ "java/lang/invoke/VarHandle" ∧ (parseMethodDescriptor y.desc).map (fun d => d.parameters.length) = some n)
    (hR : fr' + 1 ≤ fr ∧ 8 + (maxL + 11) + lc' ≤ lc) (hc : vwCl[ci]? = some r0) (he : (w σ)[0]? = some (b, .inr (ci, fs))) (hn : As.length = n) (hsize : ls.size = L) (hst : st = As.reverse ++ .ref b :: rest) (hroom : (rest.map fun v => v.category).sum ≤ 8)
    (hdg : decode cc pc = .ok (.invokevirtual index, 3))
    (kk : ∀ (u : St) (H : Heap) (locs : List Loc), post u → WD D w A s u H locs → W p l e R s m args below meth c H locs 0 0 Q (F0 m (pc + 3) ls rest)) : W p l e R s m args below meth c H locs 0 0 Q (F0 m pc ls st) := by
  have hF := wd_free E.hA hW
  refine va_callv (va_runV (As := As) (rest := rest) ⟨E.hx, E.hb, E.hml, E.hown, E.hts⟩ (hM H.size) (cwV n E.hts hg rfl rfl rfl hd ⟨Nat.le_trans hR.1 E.hR.1, Nat.le_trans hR.2 E.hR.2⟩) ⟨wd_blind, va_recv E.hK hW.1 hc he, wd_start E.hK hW⟩ rfl hn hsize hst (lv_room hroom) hdg ⟨Nat.zero_le _, Nat.zero_le _⟩) hW.2.2 (fun q _ h => hF q h) hF (fun u t H1 locs1 ht hvm hp hB hz hk hS => ?_)
  obtain ⟨hP1, hK1, hD1⟩ := hB
  rw [ht] at hP1
  exact kk u H1 locs1 hp ⟨hP1, hD1.weaken (fun k q _ h => hF q.1 h), hS⟩
/-- a call of a static method of the class, over the same world -/
theorem callS_ {y : MethodName} {bytes : ByteArray} {maxL fr' lc' index n : Nat} {ty : FieldType} {As st : List Value} {post : Int32 → St → Prop} (E : EV p s R m args c cc L fr lc own A D t) (hW : WD D w A s σ H locs)
    (hM : MI l D w t y bytes maxL ty fr' lc' As σ post) (hg : GoodIn lw_all (va_wsS own index y (ws_ y bytes maxL (some ty))))
    (hd : y.cls ≠ "java/lang/invoke/MethodHandle" ∧ y.cls ≠ "java/lang/invoke/VarHandle" ∧ (parseMethodDescriptor y.desc).map (fun d => d.parameters.length) = some n)
    (hR : fr' + 1 ≤ fr ∧ 8 + (maxL + 11) + lc' ≤ lc) (hn : As.length = n) (hsize : ls.size = L) (hst : st = As.reverse ++ rest) (hroom : (rest.map fun v => v.category).sum ≤ 8)
    (hdg : decode cc pc = .ok (.invokestatic index, 3))
    (kk : ∀ (r : Int32) (u : St) (H : Heap) (locs : List Loc), post r u → WD D w A s u H locs → W p l e R s m args below meth c H locs 0 0 Q (F0 m (pc + 3) ls (.int r :: rest))) : W p l e R s m args below meth c H locs 0 0 Q (F0 m pc ls st) := by
  have hF := wd_free E.hA hW
  refine va_calli (va_runS (As := As) (rest := rest) ⟨E.hx, E.hb, E.hml, E.hown, E.hts⟩ (hM H.size) (va_cwS n E.hts hg rfl rfl rfl hd ⟨Nat.le_trans hR.1 E.hR.1, Nat.le_trans hR.2 E.hR.2⟩) ⟨wd_blind, wd_start E.hK hW⟩ rfl hn hsize hst (lv_room hroom) hdg ⟨Nat.zero_le _, Nat.zero_le _⟩) hW.2.2 (fun q _ h => hF q h) hF (fun r u t H1 locs1 ht hvm hp hB hz hk hS => ?_)
  obtain ⟨hP1, hK1, hD1⟩ := hB
  rw [ht] at hP1
  exact kk r u H1 locs1 hp ⟨hP1, hD1.weaken (fun k q _ h => hF q.1 h), hS⟩
end BASE
section ROWS
variable {p : Program} {l : Launch} {e : Env} {R : Room} {s : State} {m : MethodId} {args : Array Value} {below : List Frame} {meth : Method} {c : Code} {H : Heap} {locs : List Loc} {cells slots : Nat} {Q : State → Prop} {cc : ByteArray} {pc L fr lc : Nat} {ls : Array Slot} {rest : List Value} {A : Nat → Prop} {D : va_G} {q : Nat → Nat} {d : Nat → ClassId} {σ : St}
/-- getfield used -/
theorem gB_0 (E : EV p s R m args c cc L fr lc RX0 A D (tB d)) (hW : WD D (wB q d) A s σ H locs) (hdg : decode cc pc = .ok (.getfield 7, 3)) (kk : W p l e R s m args below meth c H locs cells slots Q (F0 m (pc + 3) ls (.ref (q 0) :: rest))) : W p l e R s m args below meth c H locs cells slots Q (F0 m pc ls (.ref (q 20) :: rest)) := va_get (D := D) (ci := 0) (v := .ref (q 0)) (C := RX0) (T := TX0) (N := 20) E.hx E.hb E.hts in_X0 E.hown E.hK hW.1 0 rfl rfl 0 (by decide) (E.hts _ q25) (fun _ h9 => h9) rfl hdg kk
theorem lB_0 {j : Nat} (E : EV p s R m args c cc L fr lc RX0 A D (tB d)) (hW : WD D (wB q d) A s σ H locs) (hj : j < 64) (hdg : decode cc pc = .ok (.baload, 1)) (kk : W p l e R s m args below meth c H locs cells slots Q (F0 m (pc + 1) ls (.int (σ 0 j) :: rest))) : W p l e R s m args below meth c H locs cells slots Q (F0 m pc ls (.int (nI j) :: .ref (q 0) :: rest)) := by
  refine va_zald E.hx E.hb E.hK hW.1 1 0 rfl rfl (vp_in_nI hj (by decide)) hdg ?_
  rw [nI_clamp (by omega)]
  exact kk
theorem sB_0 {j : Nat} {x : Int32} (E : EV p s R m args c cc L fr lc RX0 A D (tB d)) (hW : WD D (wB q d) A s σ H locs) (hj : j < 64) (hv : vp_nar .boolean x = x) (hdg : decode cc pc = .ok (.bastore, 1)) (kk : ∀ (H : Heap) (locs : List Loc), WD D (wB q d) A s (st_up σ 0 j x) H locs → W p l e R s m args below meth c H locs cells slots Q (F0 m (pc + 1) ls rest)) : W p l e R s m args below meth c H locs cells slots Q (F0 m pc ls (.int x :: .int (nI j) :: .ref (q 0) :: rest)) := by
  refine va_zast E.hx E.hb E.hK hW.1 hW.2.1 hW.2.2 1 0 rfl rfl (vp_in_nI hj (by decide)) hdg (fun H1 locs1 hP hD hS => ?_)
  rw [nI_clamp (by omega), hv] at hP hD
  exact kk H1 locs1 ⟨hP, hD, hS⟩
/-- getfield keyOf -/
theorem gB_1 (E : EV p s R m args c cc L fr lc RX0 A D (tB d)) (hW : WD D (wB q d) A s σ H locs) (hdg : decode cc pc = .ok (.getfield 13, 3)) (kk : W p l e R s m args below meth c H locs cells slots Q (F0 m (pc + 3) ls (.ref (q 1) :: rest))) : W p l e R s m args below meth c H locs cells slots Q (F0 m pc ls (.ref (q 20) :: rest)) := va_get (D := D) (ci := 0) (v := .ref (q 1)) (C := RX0) (T := TX0) (N := 20) E.hx E.hb E.hts in_X0 E.hown E.hK hW.1 0 rfl rfl 1 (by decide) (E.hts _ q26) (fun _ h9 => h9) rfl hdg kk
theorem lB_1 {j : Nat} (E : EV p s R m args c cc L fr lc RX0 A D (tB d)) (hW : WD D (wB q d) A s σ H locs) (hj : j < 64) (hdg : decode cc pc = .ok (.baload, 1)) (kk : W p l e R s m args below meth c H locs cells slots Q (F0 m (pc + 1) ls (.int (σ 1 j) :: rest))) : W p l e R s m args below meth c H locs cells slots Q (F0 m pc ls (.int (nI j) :: .ref (q 1) :: rest)) := by
  refine va_bald E.hx E.hb E.hK hW.1 2 1 rfl rfl (vp_in_nI hj (by decide)) hdg ?_
  rw [nI_clamp (by omega)]
  exact kk
theorem sB_1 {j : Nat} {x : Int32} (E : EV p s R m args c cc L fr lc RX0 A D (tB d)) (hW : WD D (wB q d) A s σ H locs) (hj : j < 64) (hv : vp_nar .byte x = x) (hdg : decode cc pc = .ok (.bastore, 1)) (kk : ∀ (H : Heap) (locs : List Loc), WD D (wB q d) A s (st_up σ 1 j x) H locs → W p l e R s m args below meth c H locs cells slots Q (F0 m (pc + 1) ls rest)) : W p l e R s m args below meth c H locs cells slots Q (F0 m pc ls (.int x :: .int (nI j) :: .ref (q 1) :: rest)) := by
  refine va_bast E.hx E.hb E.hK hW.1 hW.2.1 hW.2.2 2 1 rfl rfl (vp_in_nI hj (by decide)) hdg (fun H1 locs1 hP hD hS => ?_)
  rw [nI_clamp (by omega), hv] at hP hD
  exact kk H1 locs1 ⟨hP, hD, hS⟩
/-- getfield timeOf -/
theorem gB_2 (E : EV p s R m args c cc L fr lc RX0 A D (tB d)) (hW : WD D (wB q d) A s σ H locs) (hdg : decode cc pc = .ok (.getfield 17, 3)) (kk : W p l e R s m args below meth c H locs cells slots Q (F0 m (pc + 3) ls (.ref (q 2) :: rest))) : W p l e R s m args below meth c H locs cells slots Q (F0 m pc ls (.ref (q 20) :: rest)) := va_get (D := D) (ci := 0) (v := .ref (q 2)) (C := RX0) (T := TX0) (N := 20) E.hx E.hb E.hts in_X0 E.hown E.hK hW.1 0 rfl rfl 2 (by decide) (E.hts _ q27) (fun _ h9 => h9) rfl hdg kk
theorem lB_2 {j : Nat} (E : EV p s R m args c cc L fr lc RX0 A D (tB d)) (hW : WD D (wB q d) A s σ H locs) (hj : j < 64) (hdg : decode cc pc = .ok (.iaload, 1)) (kk : W p l e R s m args below meth c H locs cells slots Q (F0 m (pc + 1) ls (.int (σ 2 j) :: rest))) : W p l e R s m args below meth c H locs cells slots Q (F0 m pc ls (.int (nI j) :: .ref (q 2) :: rest)) := by
  refine va_iald E.hx E.hb E.hK hW.1 3 2 rfl rfl (vp_in_nI hj (by decide)) hdg ?_
  rw [nI_clamp (by omega)]
  exact kk
theorem sB_2 {j : Nat} {x : Int32} (E : EV p s R m args c cc L fr lc RX0 A D (tB d)) (hW : WD D (wB q d) A s σ H locs) (hj : j < 64) (hdg : decode cc pc = .ok (.iastore, 1)) (kk : ∀ (H : Heap) (locs : List Loc), WD D (wB q d) A s (st_up σ 2 j x) H locs → W p l e R s m args below meth c H locs cells slots Q (F0 m (pc + 1) ls rest)) : W p l e R s m args below meth c H locs cells slots Q (F0 m pc ls (.int x :: .int (nI j) :: .ref (q 2) :: rest)) := by
  refine va_iast E.hx E.hb E.hK hW.1 hW.2.1 hW.2.2 3 2 rfl rfl (vp_in_nI hj (by decide)) hdg (fun H1 locs1 hP hD hS => ?_)
  rw [nI_clamp (by omega)] at hP hD
  exact kk H1 locs1 ⟨hP, hD, hS⟩
/-- getfield valueOf -/
theorem gB_3 (E : EV p s R m args c cc L fr lc RX0 A D (tB d)) (hW : WD D (wB q d) A s σ H locs) (hdg : decode cc pc = .ok (.getfield 21, 3)) (kk : W p l e R s m args below meth c H locs cells slots Q (F0 m (pc + 3) ls (.ref (q 3) :: rest))) : W p l e R s m args below meth c H locs cells slots Q (F0 m pc ls (.ref (q 20) :: rest)) := va_get (D := D) (ci := 0) (v := .ref (q 3)) (C := RX0) (T := TX0) (N := 20) E.hx E.hb E.hts in_X0 E.hown E.hK hW.1 0 rfl rfl 3 (by decide) (E.hts _ q28) (fun _ h9 => h9) rfl hdg kk
theorem lB_3 {j : Nat} (E : EV p s R m args c cc L fr lc RX0 A D (tB d)) (hW : WD D (wB q d) A s σ H locs) (hj : j < 64) (hdg : decode cc pc = .ok (.iaload, 1)) (kk : W p l e R s m args below meth c H locs cells slots Q (F0 m (pc + 1) ls (.int (σ 3 j) :: rest))) : W p l e R s m args below meth c H locs cells slots Q (F0 m pc ls (.int (nI j) :: .ref (q 3) :: rest)) := by
  refine va_iald E.hx E.hb E.hK hW.1 4 3 rfl rfl (vp_in_nI hj (by decide)) hdg ?_
  rw [nI_clamp (by omega)]
  exact kk
theorem sB_3 {j : Nat} {x : Int32} (E : EV p s R m args c cc L fr lc RX0 A D (tB d)) (hW : WD D (wB q d) A s σ H locs) (hj : j < 64) (hdg : decode cc pc = .ok (.iastore, 1)) (kk : ∀ (H : Heap) (locs : List Loc), WD D (wB q d) A s (st_up σ 3 j x) H locs → W p l e R s m args below meth c H locs cells slots Q (F0 m (pc + 1) ls rest)) : W p l e R s m args below meth c H locs cells slots Q (F0 m pc ls (.int x :: .int (nI j) :: .ref (q 3) :: rest)) := by
  refine va_iast E.hx E.hb E.hK hW.1 hW.2.1 hW.2.2 4 3 rfl rfl (vp_in_nI hj (by decide)) hdg (fun H1 locs1 hP hD hS => ?_)
  rw [nI_clamp (by omega)] at hP hD
  exact kk H1 locs1 ⟨hP, hD, hS⟩
/-- getfield through -/
theorem gB_4 (E : EV p s R m args c cc L fr lc RX0 A D (tB d)) (hW : WD D (wB q d) A s σ H locs) (hdg : decode cc pc = .ok (.getfield 24, 3)) (kk : W p l e R s m args below meth c H locs cells slots Q (F0 m (pc + 3) ls (.ref (q 4) :: rest))) : W p l e R s m args below meth c H locs cells slots Q (F0 m pc ls (.ref (q 20) :: rest)) := va_get (D := D) (ci := 0) (v := .ref (q 4)) (C := RX0) (T := TX0) (N := 20) E.hx E.hb E.hts in_X0 E.hown E.hK hW.1 0 rfl rfl 4 (by decide) (E.hts _ q29) (fun _ h9 => h9) rfl hdg kk
theorem lB_4 {j : Nat} (E : EV p s R m args c cc L fr lc RX0 A D (tB d)) (hW : WD D (wB q d) A s σ H locs) (hj : j < 64) (hdg : decode cc pc = .ok (.baload, 1)) (kk : W p l e R s m args below meth c H locs cells slots Q (F0 m (pc + 1) ls (.int (σ 4 j) :: rest))) : W p l e R s m args below meth c H locs cells slots Q (F0 m pc ls (.int (nI j) :: .ref (q 4) :: rest)) := by
  refine va_zald E.hx E.hb E.hK hW.1 5 4 rfl rfl (vp_in_nI hj (by decide)) hdg ?_
  rw [nI_clamp (by omega)]
  exact kk
theorem sB_4 {j : Nat} {x : Int32} (E : EV p s R m args c cc L fr lc RX0 A D (tB d)) (hW : WD D (wB q d) A s σ H locs) (hj : j < 64) (hv : vp_nar .boolean x = x) (hdg : decode cc pc = .ok (.bastore, 1)) (kk : ∀ (H : Heap) (locs : List Loc), WD D (wB q d) A s (st_up σ 4 j x) H locs → W p l e R s m args below meth c H locs cells slots Q (F0 m (pc + 1) ls rest)) : W p l e R s m args below meth c H locs cells slots Q (F0 m pc ls (.int x :: .int (nI j) :: .ref (q 4) :: rest)) := by
  refine va_zast E.hx E.hb E.hK hW.1 hW.2.1 hW.2.2 5 4 rfl rfl (vp_in_nI hj (by decide)) hdg (fun H1 locs1 hP hD hS => ?_)
  rw [nI_clamp (by omega), hv] at hP hD
  exact kk H1 locs1 ⟨hP, hD, hS⟩
/-- getfield gaps -/
theorem gB_5 (E : EV p s R m args c cc L fr lc RX0 A D (tB d)) (hW : WD D (wB q d) A s σ H locs) (hdg : decode cc pc = .ok (.getfield 46, 3)) (kk : W p l e R s m args below meth c H locs cells slots Q (F0 m (pc + 3) ls (.int (σ 5 0) :: rest))) : W p l e R s m args below meth c H locs cells slots Q (F0 m pc ls (.ref (q 20) :: rest)) := va_get (D := D) (ci := 0) (v := .int (σ 5 0)) (C := RX0) (T := TX0) (N := 20) E.hx E.hb E.hts in_X0 E.hown E.hK hW.1 0 rfl rfl 5 (by decide) (E.hts _ q30) (fun _ h9 => h9) rfl hdg kk
theorem pB_5 {v : Int32} (E : EV p s R m args c cc L fr lc RX0 A D (tB d)) (hW : WD D (wB q d) A s σ H locs) (hdg : decode cc pc = .ok (.putfield 46, 3)) (kk : ∀ (H : Heap) (locs : List Loc), WD D (wB q d) A s (st_up σ 5 0 v) H locs → W p l e R s m args below meth c H locs cells slots Q (F0 m (pc + 3) ls rest)) : W p l e R s m args below meth c H locs cells slots Q (F0 m pc ls (.int v :: .ref (q 20) :: rest)) := va_put (D := D) (ci := 0) (v := .int v) (ty := .int) (C := RX0) (T := TX0) (N := 20) E.hx E.hb E.hts in_X0 tyX0 tyX0_ok nmX0 E.hown E.hK hW.1 hW.2.1 hW.2.2 0 rfl rfl 5 (by decide) (E.hts _ q30) (fun _ h9 => h9) rfl (by decide +kernel) rfl rfl (Nat.le_of_ble_eq_true rfl) hdg (fun H1 locs1 hP hD hS => kk H1 locs1 ⟨hP, hD, hS⟩)
/-- getfield gapLow -/
theorem gB_6 (E : EV p s R m args c cc L fr lc RX0 A D (tB d)) (hW : WD D (wB q d) A s σ H locs) (hdg : decode cc pc = .ok (.getfield 27, 3)) (kk : W p l e R s m args below meth c H locs cells slots Q (F0 m (pc + 3) ls (.ref (q 6) :: rest))) : W p l e R s m args below meth c H locs cells slots Q (F0 m pc ls (.ref (q 20) :: rest)) := va_get (D := D) (ci := 0) (v := .ref (q 6)) (C := RX0) (T := TX0) (N := 20) E.hx E.hb E.hts in_X0 E.hown E.hK hW.1 0 rfl rfl 6 (by decide) (E.hts _ q31) (fun _ h9 => h9) rfl hdg kk
theorem lB_6 {j : Nat} (E : EV p s R m args c cc L fr lc RX0 A D (tB d)) (hW : WD D (wB q d) A s σ H locs) (hj : j < 4) (hdg : decode cc pc = .ok (.iaload, 1)) (kk : W p l e R s m args below meth c H locs cells slots Q (F0 m (pc + 1) ls (.int (σ 6 j) :: rest))) : W p l e R s m args below meth c H locs cells slots Q (F0 m pc ls (.int (nI j) :: .ref (q 6) :: rest)) := by
  refine va_iald E.hx E.hb E.hK hW.1 6 5 rfl rfl (vp_in_nI hj (by decide)) hdg ?_
  rw [nI_clamp (by omega)]
  exact kk
theorem sB_6 {j : Nat} {x : Int32} (E : EV p s R m args c cc L fr lc RX0 A D (tB d)) (hW : WD D (wB q d) A s σ H locs) (hj : j < 4) (hdg : decode cc pc = .ok (.iastore, 1)) (kk : ∀ (H : Heap) (locs : List Loc), WD D (wB q d) A s (st_up σ 6 j x) H locs → W p l e R s m args below meth c H locs cells slots Q (F0 m (pc + 1) ls rest)) : W p l e R s m args below meth c H locs cells slots Q (F0 m pc ls (.int x :: .int (nI j) :: .ref (q 6) :: rest)) := by
  refine va_iast E.hx E.hb E.hK hW.1 hW.2.1 hW.2.2 6 5 rfl rfl (vp_in_nI hj (by decide)) hdg (fun H1 locs1 hP hD hS => ?_)
  rw [nI_clamp (by omega)] at hP hD
  exact kk H1 locs1 ⟨hP, hD, hS⟩
/-- getfield gapHigh -/
theorem gB_7 (E : EV p s R m args c cc L fr lc RX0 A D (tB d)) (hW : WD D (wB q d) A s σ H locs) (hdg : decode cc pc = .ok (.getfield 30, 3)) (kk : W p l e R s m args below meth c H locs cells slots Q (F0 m (pc + 3) ls (.ref (q 7) :: rest))) : W p l e R s m args below meth c H locs cells slots Q (F0 m pc ls (.ref (q 20) :: rest)) := va_get (D := D) (ci := 0) (v := .ref (q 7)) (C := RX0) (T := TX0) (N := 20) E.hx E.hb E.hts in_X0 E.hown E.hK hW.1 0 rfl rfl 7 (by decide) (E.hts _ q32) (fun _ h9 => h9) rfl hdg kk
theorem lB_7 {j : Nat} (E : EV p s R m args c cc L fr lc RX0 A D (tB d)) (hW : WD D (wB q d) A s σ H locs) (hj : j < 4) (hdg : decode cc pc = .ok (.iaload, 1)) (kk : W p l e R s m args below meth c H locs cells slots Q (F0 m (pc + 1) ls (.int (σ 7 j) :: rest))) : W p l e R s m args below meth c H locs cells slots Q (F0 m pc ls (.int (nI j) :: .ref (q 7) :: rest)) := by
  refine va_iald E.hx E.hb E.hK hW.1 7 6 rfl rfl (vp_in_nI hj (by decide)) hdg ?_
  rw [nI_clamp (by omega)]
  exact kk
theorem sB_7 {j : Nat} {x : Int32} (E : EV p s R m args c cc L fr lc RX0 A D (tB d)) (hW : WD D (wB q d) A s σ H locs) (hj : j < 4) (hdg : decode cc pc = .ok (.iastore, 1)) (kk : ∀ (H : Heap) (locs : List Loc), WD D (wB q d) A s (st_up σ 7 j x) H locs → W p l e R s m args below meth c H locs cells slots Q (F0 m (pc + 1) ls rest)) : W p l e R s m args below meth c H locs cells slots Q (F0 m pc ls (.int x :: .int (nI j) :: .ref (q 7) :: rest)) := by
  refine va_iast E.hx E.hb E.hK hW.1 hW.2.1 hW.2.2 7 6 rfl rfl (vp_in_nI hj (by decide)) hdg (fun H1 locs1 hP hD hS => ?_)
  rw [nI_clamp (by omega)] at hP hD
  exact kk H1 locs1 ⟨hP, hD, hS⟩
/-- getfield lastTime -/
theorem gB_8 (E : EV p s R m args c cc L fr lc RX0 A D (tB d)) (hW : WD D (wB q d) A s σ H locs) (hdg : decode cc pc = .ok (.getfield 70, 3)) (kk : W p l e R s m args below meth c H locs cells slots Q (F0 m (pc + 3) ls (.int (σ 8 0) :: rest))) : W p l e R s m args below meth c H locs cells slots Q (F0 m pc ls (.ref (q 20) :: rest)) := va_get (D := D) (ci := 0) (v := .int (σ 8 0)) (C := RX0) (T := TX0) (N := 20) E.hx E.hb E.hts in_X0 E.hown E.hK hW.1 0 rfl rfl 8 (by decide) (E.hts _ q33) (fun _ h9 => h9) rfl hdg kk
theorem pB_8 {v : Int32} (E : EV p s R m args c cc L fr lc RX0 A D (tB d)) (hW : WD D (wB q d) A s σ H locs) (hdg : decode cc pc = .ok (.putfield 70, 3)) (kk : ∀ (H : Heap) (locs : List Loc), WD D (wB q d) A s (st_up σ 8 0 v) H locs → W p l e R s m args below meth c H locs cells slots Q (F0 m (pc + 3) ls rest)) : W p l e R s m args below meth c H locs cells slots Q (F0 m pc ls (.int v :: .ref (q 20) :: rest)) := va_put (D := D) (ci := 0) (v := .int v) (ty := .int) (C := RX0) (T := TX0) (N := 20) E.hx E.hb E.hts in_X0 tyX0 tyX0_ok nmX0 E.hown E.hK hW.1 hW.2.1 hW.2.2 0 rfl rfl 8 (by decide) (E.hts _ q33) (fun _ h9 => h9) rfl (by decide +kernel) rfl rfl (Nat.le_of_ble_eq_true rfl) hdg (fun H1 locs1 hP hD hS => kk H1 locs1 ⟨hP, hD, hS⟩)
/-- getfield safeTime -/
theorem gB_9 (E : EV p s R m args c cc L fr lc RX0 A D (tB d)) (hW : WD D (wB q d) A s σ H locs) (hdg : decode cc pc = .ok (.getfield 67, 3)) (kk : W p l e R s m args below meth c H locs cells slots Q (F0 m (pc + 3) ls (.int (σ 9 0) :: rest))) : W p l e R s m args below meth c H locs cells slots Q (F0 m pc ls (.ref (q 20) :: rest)) := va_get (D := D) (ci := 0) (v := .int (σ 9 0)) (C := RX0) (T := TX0) (N := 20) E.hx E.hb E.hts in_X0 E.hown E.hK hW.1 0 rfl rfl 9 (by decide) (E.hts _ q34) (fun _ h9 => h9) rfl hdg kk
theorem pB_9 {v : Int32} (E : EV p s R m args c cc L fr lc RX0 A D (tB d)) (hW : WD D (wB q d) A s σ H locs) (hdg : decode cc pc = .ok (.putfield 67, 3)) (kk : ∀ (H : Heap) (locs : List Loc), WD D (wB q d) A s (st_up σ 9 0 v) H locs → W p l e R s m args below meth c H locs cells slots Q (F0 m (pc + 3) ls rest)) : W p l e R s m args below meth c H locs cells slots Q (F0 m pc ls (.int v :: .ref (q 20) :: rest)) := va_put (D := D) (ci := 0) (v := .int v) (ty := .int) (C := RX0) (T := TX0) (N := 20) E.hx E.hb E.hts in_X0 tyX0 tyX0_ok nmX0 E.hown E.hK hW.1 hW.2.1 hW.2.2 0 rfl rfl 9 (by decide) (E.hts _ q34) (fun _ h9 => h9) rfl (by decide +kernel) rfl rfl (Nat.le_of_ble_eq_true rfl) hdg (fun H1 locs1 hP hD hS => kk H1 locs1 ⟨hP, hD, hS⟩)
/-- getfield sealTime -/
theorem gB_10 (E : EV p s R m args c cc L fr lc RX0 A D (tB d)) (hW : WD D (wB q d) A s σ H locs) (hdg : decode cc pc = .ok (.getfield 76, 3)) (kk : W p l e R s m args below meth c H locs cells slots Q (F0 m (pc + 3) ls (.int (σ 10 0) :: rest))) : W p l e R s m args below meth c H locs cells slots Q (F0 m pc ls (.ref (q 20) :: rest)) := va_get (D := D) (ci := 0) (v := .int (σ 10 0)) (C := RX0) (T := TX0) (N := 20) E.hx E.hb E.hts in_X0 E.hown E.hK hW.1 0 rfl rfl 10 (by decide) (E.hts _ q35) (fun _ h9 => h9) rfl hdg kk
theorem pB_10 {v : Int32} (E : EV p s R m args c cc L fr lc RX0 A D (tB d)) (hW : WD D (wB q d) A s σ H locs) (hdg : decode cc pc = .ok (.putfield 76, 3)) (kk : ∀ (H : Heap) (locs : List Loc), WD D (wB q d) A s (st_up σ 10 0 v) H locs → W p l e R s m args below meth c H locs cells slots Q (F0 m (pc + 3) ls rest)) : W p l e R s m args below meth c H locs cells slots Q (F0 m pc ls (.int v :: .ref (q 20) :: rest)) := va_put (D := D) (ci := 0) (v := .int v) (ty := .int) (C := RX0) (T := TX0) (N := 20) E.hx E.hb E.hts in_X0 tyX0 tyX0_ok nmX0 E.hown E.hK hW.1 hW.2.1 hW.2.2 0 rfl rfl 10 (by decide) (E.hts _ q35) (fun _ h9 => h9) rfl (by decide +kernel) rfl rfl (Nat.le_of_ble_eq_true rfl) hdg (fun H1 locs1 hP hD hS => kk H1 locs1 ⟨hP, hD, hS⟩)
/-- getfield steps -/
theorem gB_11 (E : EV p s R m args c cc L fr lc RX0 A D (tB d)) (hW : WD D (wB q d) A s σ H locs) (hdg : decode cc pc = .ok (.getfield 73, 3)) (kk : W p l e R s m args below meth c H locs cells slots Q (F0 m (pc + 3) ls (.int (σ 11 0) :: rest))) : W p l e R s m args below meth c H locs cells slots Q (F0 m pc ls (.ref (q 20) :: rest)) := va_get (D := D) (ci := 0) (v := .int (σ 11 0)) (C := RX0) (T := TX0) (N := 20) E.hx E.hb E.hts in_X0 E.hown E.hK hW.1 0 rfl rfl 11 (by decide) (E.hts _ q36) (fun _ h9 => h9) rfl hdg kk
theorem pB_11 {v : Int32} (E : EV p s R m args c cc L fr lc RX0 A D (tB d)) (hW : WD D (wB q d) A s σ H locs) (hdg : decode cc pc = .ok (.putfield 73, 3)) (kk : ∀ (H : Heap) (locs : List Loc), WD D (wB q d) A s (st_up σ 11 0 v) H locs → W p l e R s m args below meth c H locs cells slots Q (F0 m (pc + 3) ls rest)) : W p l e R s m args below meth c H locs cells slots Q (F0 m pc ls (.int v :: .ref (q 20) :: rest)) := va_put (D := D) (ci := 0) (v := .int v) (ty := .int) (C := RX0) (T := TX0) (N := 20) E.hx E.hb E.hts in_X0 tyX0 tyX0_ok nmX0 E.hown E.hK hW.1 hW.2.1 hW.2.2 0 rfl rfl 11 (by decide) (E.hts _ q36) (fun _ h9 => h9) rfl (by decide +kernel) rfl rfl (Nat.le_of_ble_eq_true rfl) hdg (fun H1 locs1 hP hD hS => kk H1 locs1 ⟨hP, hD, hS⟩)
/-- getfield waitingWrites -/
theorem gB_12 (E : EV p s R m args c cc L fr lc RX0 A D (tB d)) (hW : WD D (wB q d) A s σ H locs) (hdg : decode cc pc = .ok (.getfield 96, 3)) (kk : W p l e R s m args below meth c H locs cells slots Q (F0 m (pc + 3) ls (.int (σ 12 0) :: rest))) : W p l e R s m args below meth c H locs cells slots Q (F0 m pc ls (.ref (q 20) :: rest)) := va_get (D := D) (ci := 0) (v := .int (σ 12 0)) (C := RX0) (T := TX0) (N := 20) E.hx E.hb E.hts in_X0 E.hown E.hK hW.1 0 rfl rfl 12 (by decide) (E.hts _ q37) (fun _ h9 => h9) rfl hdg kk
theorem pB_12 {v : Int32} (E : EV p s R m args c cc L fr lc RX0 A D (tB d)) (hW : WD D (wB q d) A s σ H locs) (hdg : decode cc pc = .ok (.putfield 96, 3)) (kk : ∀ (H : Heap) (locs : List Loc), WD D (wB q d) A s (st_up σ 12 0 v) H locs → W p l e R s m args below meth c H locs cells slots Q (F0 m (pc + 3) ls rest)) : W p l e R s m args below meth c H locs cells slots Q (F0 m pc ls (.int v :: .ref (q 20) :: rest)) := va_put (D := D) (ci := 0) (v := .int v) (ty := .int) (C := RX0) (T := TX0) (N := 20) E.hx E.hb E.hts in_X0 tyX0 tyX0_ok nmX0 E.hown E.hK hW.1 hW.2.1 hW.2.2 0 rfl rfl 12 (by decide) (E.hts _ q37) (fun _ h9 => h9) rfl (by decide +kernel) rfl rfl (Nat.le_of_ble_eq_true rfl) hdg (fun H1 locs1 hP hD hS => kk H1 locs1 ⟨hP, hD, hS⟩)
/-- getfield commitCount -/
theorem gB_13 (E : EV p s R m args c cc L fr lc RX0 A D (tB d)) (hW : WD D (wB q d) A s σ H locs) (hdg : decode cc pc = .ok (.getfield 99, 3)) (kk : W p l e R s m args below meth c H locs cells slots Q (F0 m (pc + 3) ls (.int (σ 13 0) :: rest))) : W p l e R s m args below meth c H locs cells slots Q (F0 m pc ls (.ref (q 20) :: rest)) := va_get (D := D) (ci := 0) (v := .int (σ 13 0)) (C := RX0) (T := TX0) (N := 20) E.hx E.hb E.hts in_X0 E.hown E.hK hW.1 0 rfl rfl 13 (by decide) (E.hts _ q38) (fun _ h9 => h9) rfl hdg kk
theorem pB_13 {v : Int32} (E : EV p s R m args c cc L fr lc RX0 A D (tB d)) (hW : WD D (wB q d) A s σ H locs) (hdg : decode cc pc = .ok (.putfield 99, 3)) (kk : ∀ (H : Heap) (locs : List Loc), WD D (wB q d) A s (st_up σ 13 0 v) H locs → W p l e R s m args below meth c H locs cells slots Q (F0 m (pc + 3) ls rest)) : W p l e R s m args below meth c H locs cells slots Q (F0 m pc ls (.int v :: .ref (q 20) :: rest)) := va_put (D := D) (ci := 0) (v := .int v) (ty := .int) (C := RX0) (T := TX0) (N := 20) E.hx E.hb E.hts in_X0 tyX0 tyX0_ok nmX0 E.hown E.hK hW.1 hW.2.1 hW.2.2 0 rfl rfl 13 (by decide) (E.hts _ q38) (fun _ h9 => h9) rfl (by decide +kernel) rfl rfl (Nat.le_of_ble_eq_true rfl) hdg (fun H1 locs1 hP hD hS => kk H1 locs1 ⟨hP, hD, hS⟩)
/-- getfield sealCount -/
theorem gB_14 (E : EV p s R m args c cc L fr lc RX0 A D (tB d)) (hW : WD D (wB q d) A s σ H locs) (hdg : decode cc pc = .ok (.getfield 105, 3)) (kk : W p l e R s m args below meth c H locs cells slots Q (F0 m (pc + 3) ls (.int (σ 14 0) :: rest))) : W p l e R s m args below meth c H locs cells slots Q (F0 m pc ls (.ref (q 20) :: rest)) := va_get (D := D) (ci := 0) (v := .int (σ 14 0)) (C := RX0) (T := TX0) (N := 20) E.hx E.hb E.hts in_X0 E.hown E.hK hW.1 0 rfl rfl 14 (by decide) (E.hts _ q39) (fun _ h9 => h9) rfl hdg kk
theorem pB_14 {v : Int32} (E : EV p s R m args c cc L fr lc RX0 A D (tB d)) (hW : WD D (wB q d) A s σ H locs) (hdg : decode cc pc = .ok (.putfield 105, 3)) (kk : ∀ (H : Heap) (locs : List Loc), WD D (wB q d) A s (st_up σ 14 0 v) H locs → W p l e R s m args below meth c H locs cells slots Q (F0 m (pc + 3) ls rest)) : W p l e R s m args below meth c H locs cells slots Q (F0 m pc ls (.int v :: .ref (q 20) :: rest)) := va_put (D := D) (ci := 0) (v := .int v) (ty := .int) (C := RX0) (T := TX0) (N := 20) E.hx E.hb E.hts in_X0 tyX0 tyX0_ok nmX0 E.hown E.hK hW.1 hW.2.1 hW.2.2 0 rfl rfl 14 (by decide) (E.hts _ q39) (fun _ h9 => h9) rfl (by decide +kernel) rfl rfl (Nat.le_of_ble_eq_true rfl) hdg (fun H1 locs1 hP hD hS => kk H1 locs1 ⟨hP, hD, hS⟩)
/-- getfield safeCount -/
theorem gB_15 (E : EV p s R m args c cc L fr lc RX0 A D (tB d)) (hW : WD D (wB q d) A s σ H locs) (hdg : decode cc pc = .ok (.getfield 102, 3)) (kk : W p l e R s m args below meth c H locs cells slots Q (F0 m (pc + 3) ls (.int (σ 15 0) :: rest))) : W p l e R s m args below meth c H locs cells slots Q (F0 m pc ls (.ref (q 20) :: rest)) := va_get (D := D) (ci := 0) (v := .int (σ 15 0)) (C := RX0) (T := TX0) (N := 20) E.hx E.hb E.hts in_X0 E.hown E.hK hW.1 0 rfl rfl 15 (by decide) (E.hts _ q40) (fun _ h9 => h9) rfl hdg kk
theorem pB_15 {v : Int32} (E : EV p s R m args c cc L fr lc RX0 A D (tB d)) (hW : WD D (wB q d) A s σ H locs) (hdg : decode cc pc = .ok (.putfield 102, 3)) (kk : ∀ (H : Heap) (locs : List Loc), WD D (wB q d) A s (st_up σ 15 0 v) H locs → W p l e R s m args below meth c H locs cells slots Q (F0 m (pc + 3) ls rest)) : W p l e R s m args below meth c H locs cells slots Q (F0 m pc ls (.int v :: .ref (q 20) :: rest)) := va_put (D := D) (ci := 0) (v := .int v) (ty := .int) (C := RX0) (T := TX0) (N := 20) E.hx E.hb E.hts in_X0 tyX0 tyX0_ok nmX0 E.hown E.hK hW.1 hW.2.1 hW.2.2 0 rfl rfl 15 (by decide) (E.hts _ q40) (fun _ h9 => h9) rfl (by decide +kernel) rfl rfl (Nat.le_of_ble_eq_true rfl) hdg (fun H1 locs1 hP hD hS => kk H1 locs1 ⟨hP, hD, hS⟩)
/-- getfield openSet -/
theorem gB_16 (E : EV p s R m args c cc L fr lc RX0 A D (tB d)) (hW : WD D (wB q d) A s σ H locs) (hdg : decode cc pc = .ok (.getfield 42, 3)) (kk : W p l e R s m args below meth c H locs cells slots Q (F0 m (pc + 3) ls (.int (σ 16 0) :: rest))) : W p l e R s m args below meth c H locs cells slots Q (F0 m pc ls (.ref (q 20) :: rest)) := va_get (D := D) (ci := 0) (v := .int (σ 16 0)) (C := RX0) (T := TX0) (N := 20) E.hx E.hb E.hts in_X0 E.hown E.hK hW.1 0 rfl rfl 16 (by decide) (E.hts _ q41) (fun _ h9 => h9) rfl hdg kk
theorem pB_16 {v : Int32} (E : EV p s R m args c cc L fr lc RX0 A D (tB d)) (hW : WD D (wB q d) A s σ H locs) (hdg : decode cc pc = .ok (.putfield 42, 3)) (kk : ∀ (H : Heap) (locs : List Loc), WD D (wB q d) A s (st_up σ 16 0 v) H locs → W p l e R s m args below meth c H locs cells slots Q (F0 m (pc + 3) ls rest)) : W p l e R s m args below meth c H locs cells slots Q (F0 m pc ls (.int v :: .ref (q 20) :: rest)) := va_put (D := D) (ci := 0) (v := .int v) (ty := .int) (C := RX0) (T := TX0) (N := 20) E.hx E.hb E.hts in_X0 tyX0 tyX0_ok nmX0 E.hown E.hK hW.1 hW.2.1 hW.2.2 0 rfl rfl 16 (by decide) (E.hts _ q41) (fun _ h9 => h9) rfl (by decide +kernel) rfl rfl (Nat.le_of_ble_eq_true rfl) hdg (fun H1 locs1 hP hD hS => kk H1 locs1 ⟨hP, hD, hS⟩)
/-- getfield beganAt -/
theorem gB_17 (E : EV p s R m args c cc L fr lc RX0 A D (tB d)) (hW : WD D (wB q d) A s σ H locs) (hdg : decode cc pc = .ok (.getfield 33, 3)) (kk : W p l e R s m args below meth c H locs cells slots Q (F0 m (pc + 3) ls (.ref (q 17) :: rest))) : W p l e R s m args below meth c H locs cells slots Q (F0 m pc ls (.ref (q 20) :: rest)) := va_get (D := D) (ci := 0) (v := .ref (q 17)) (C := RX0) (T := TX0) (N := 20) E.hx E.hb E.hts in_X0 E.hown E.hK hW.1 0 rfl rfl 17 (by decide) (E.hts _ q42) (fun _ h9 => h9) rfl hdg kk
theorem lB_17 {j : Nat} (E : EV p s R m args c cc L fr lc RX0 A D (tB d)) (hW : WD D (wB q d) A s σ H locs) (hj : j < 4) (hdg : decode cc pc = .ok (.iaload, 1)) (kk : W p l e R s m args below meth c H locs cells slots Q (F0 m (pc + 1) ls (.int (σ 17 j) :: rest))) : W p l e R s m args below meth c H locs cells slots Q (F0 m pc ls (.int (nI j) :: .ref (q 17) :: rest)) := by
  refine va_iald E.hx E.hb E.hK hW.1 8 7 rfl rfl (vp_in_nI hj (by decide)) hdg ?_
  rw [nI_clamp (by omega)]
  exact kk
theorem sB_17 {j : Nat} {x : Int32} (E : EV p s R m args c cc L fr lc RX0 A D (tB d)) (hW : WD D (wB q d) A s σ H locs) (hj : j < 4) (hdg : decode cc pc = .ok (.iastore, 1)) (kk : ∀ (H : Heap) (locs : List Loc), WD D (wB q d) A s (st_up σ 17 j x) H locs → W p l e R s m args below meth c H locs cells slots Q (F0 m (pc + 1) ls rest)) : W p l e R s m args below meth c H locs cells slots Q (F0 m pc ls (.int x :: .int (nI j) :: .ref (q 17) :: rest)) := by
  refine va_iast E.hx E.hb E.hK hW.1 hW.2.1 hW.2.2 8 7 rfl rfl (vp_in_nI hj (by decide)) hdg (fun H1 locs1 hP hD hS => ?_)
  rw [nI_clamp (by omega)] at hP hD
  exact kk H1 locs1 ⟨hP, hD, hS⟩
/-- getfield wrote -/
theorem gB_18 (E : EV p s R m args c cc L fr lc RX0 A D (tB d)) (hW : WD D (wB q d) A s σ H locs) (hdg : decode cc pc = .ok (.getfield 36, 3)) (kk : W p l e R s m args below meth c H locs cells slots Q (F0 m (pc + 3) ls (.ref (q 18) :: rest))) : W p l e R s m args below meth c H locs cells slots Q (F0 m pc ls (.ref (q 20) :: rest)) := va_get (D := D) (ci := 0) (v := .ref (q 18)) (C := RX0) (T := TX0) (N := 20) E.hx E.hb E.hts in_X0 E.hown E.hK hW.1 0 rfl rfl 18 (by decide) (E.hts _ q43) (fun _ h9 => h9) rfl hdg kk
theorem lB_18 {j : Nat} (E : EV p s R m args c cc L fr lc RX0 A D (tB d)) (hW : WD D (wB q d) A s σ H locs) (hj : j < 4) (hdg : decode cc pc = .ok (.iaload, 1)) (kk : W p l e R s m args below meth c H locs cells slots Q (F0 m (pc + 1) ls (.int (σ 18 j) :: rest))) : W p l e R s m args below meth c H locs cells slots Q (F0 m pc ls (.int (nI j) :: .ref (q 18) :: rest)) := by
  refine va_iald E.hx E.hb E.hK hW.1 9 8 rfl rfl (vp_in_nI hj (by decide)) hdg ?_
  rw [nI_clamp (by omega)]
  exact kk
theorem sB_18 {j : Nat} {x : Int32} (E : EV p s R m args c cc L fr lc RX0 A D (tB d)) (hW : WD D (wB q d) A s σ H locs) (hj : j < 4) (hdg : decode cc pc = .ok (.iastore, 1)) (kk : ∀ (H : Heap) (locs : List Loc), WD D (wB q d) A s (st_up σ 18 j x) H locs → W p l e R s m args below meth c H locs cells slots Q (F0 m (pc + 1) ls rest)) : W p l e R s m args below meth c H locs cells slots Q (F0 m pc ls (.int x :: .int (nI j) :: .ref (q 18) :: rest)) := by
  refine va_iast E.hx E.hb E.hK hW.1 hW.2.1 hW.2.2 9 8 rfl rfl (vp_in_nI hj (by decide)) hdg (fun H1 locs1 hP hD hS => ?_)
  rw [nI_clamp (by omega)] at hP hD
  exact kk H1 locs1 ⟨hP, hD, hS⟩
/-- getfield draft -/
theorem gB_19 (E : EV p s R m args c cc L fr lc RX0 A D (tB d)) (hW : WD D (wB q d) A s σ H locs) (hdg : decode cc pc = .ok (.getfield 39, 3)) (kk : W p l e R s m args below meth c H locs cells slots Q (F0 m (pc + 3) ls (.ref (q 19) :: rest))) : W p l e R s m args below meth c H locs cells slots Q (F0 m pc ls (.ref (q 20) :: rest)) := va_get (D := D) (ci := 0) (v := .ref (q 19)) (C := RX0) (T := TX0) (N := 20) E.hx E.hb E.hts in_X0 E.hown E.hK hW.1 0 rfl rfl 19 (by decide) (E.hts _ q44) (fun _ h9 => h9) rfl hdg kk
theorem lB_19 {j : Nat} (E : EV p s R m args c cc L fr lc RX0 A D (tB d)) (hW : WD D (wB q d) A s σ H locs) (hj : j < 32) (hdg : decode cc pc = .ok (.iaload, 1)) (kk : W p l e R s m args below meth c H locs cells slots Q (F0 m (pc + 1) ls (.int (σ 19 j) :: rest))) : W p l e R s m args below meth c H locs cells slots Q (F0 m pc ls (.int (nI j) :: .ref (q 19) :: rest)) := by
  refine va_iald E.hx E.hb E.hK hW.1 10 9 rfl rfl (vp_in_nI hj (by decide)) hdg ?_
  rw [nI_clamp (by omega)]
  exact kk
theorem sB_19 {j : Nat} {x : Int32} (E : EV p s R m args c cc L fr lc RX0 A D (tB d)) (hW : WD D (wB q d) A s σ H locs) (hj : j < 32) (hdg : decode cc pc = .ok (.iastore, 1)) (kk : ∀ (H : Heap) (locs : List Loc), WD D (wB q d) A s (st_up σ 19 j x) H locs → W p l e R s m args below meth c H locs cells slots Q (F0 m (pc + 1) ls rest)) : W p l e R s m args below meth c H locs cells slots Q (F0 m pc ls (.int x :: .int (nI j) :: .ref (q 19) :: rest)) := by
  refine va_iast E.hx E.hb E.hK hW.1 hW.2.1 hW.2.2 10 9 rfl rfl (vp_in_nI hj (by decide)) hdg (fun H1 locs1 hP hD hS => ?_)
  rw [nI_clamp (by omega)] at hP hD
  exact kk H1 locs1 ⟨hP, hD, hS⟩
/-- getfield safe -/
theorem gM_0 (E : EV p s R m args c cc L fr lc RX1 A D (tM d)) (hW : WD D (wM q d) A s σ H locs) (hdg : decode cc pc = .ok (.getfield 7, 3)) (kk : W p l e R s m args below meth c H locs cells slots Q (F0 m (pc + 3) ls (.ref (q 0) :: rest))) : W p l e R s m args below meth c H locs cells slots Q (F0 m pc ls (.ref (q 20) :: rest)) := va_get (D := D) (ci := 1) (v := .ref (q 0)) (C := RX1) (T := TX1) (N := 12) E.hx E.hb E.hts in_X1 E.hown E.hK hW.1 0 rfl rfl 0 (by decide) (E.hts _ q202) (fun _ h9 => h9) rfl hdg kk
theorem lM_0 {j : Nat} (E : EV p s R m args c cc L fr lc RX1 A D (tM d)) (hW : WD D (wM q d) A s σ H locs) (hj : j < 8) (hdg : decode cc pc = .ok (.iaload, 1)) (kk : W p l e R s m args below meth c H locs cells slots Q (F0 m (pc + 1) ls (.int (σ 0 j) :: rest))) : W p l e R s m args below meth c H locs cells slots Q (F0 m pc ls (.int (nI j) :: .ref (q 0) :: rest)) := by
  refine va_iald E.hx E.hb E.hK hW.1 1 0 rfl rfl (vp_in_nI hj (by decide)) hdg ?_
  rw [nI_clamp (by omega)]
  exact kk
theorem sM_0 {j : Nat} {x : Int32} (E : EV p s R m args c cc L fr lc RX1 A D (tM d)) (hW : WD D (wM q d) A s σ H locs) (hj : j < 8) (hdg : decode cc pc = .ok (.iastore, 1)) (kk : ∀ (H : Heap) (locs : List Loc), WD D (wM q d) A s (st_up σ 0 j x) H locs → W p l e R s m args below meth c H locs cells slots Q (F0 m (pc + 1) ls rest)) : W p l e R s m args below meth c H locs cells slots Q (F0 m pc ls (.int x :: .int (nI j) :: .ref (q 0) :: rest)) := by
  refine va_iast E.hx E.hb E.hK hW.1 hW.2.1 hW.2.2 1 0 rfl rfl (vp_in_nI hj (by decide)) hdg (fun H1 locs1 hP hD hS => ?_)
  rw [nI_clamp (by omega)] at hP hD
  exact kk H1 locs1 ⟨hP, hD, hS⟩
/-- getfield sealed -/
theorem gM_1 (E : EV p s R m args c cc L fr lc RX1 A D (tM d)) (hW : WD D (wM q d) A s σ H locs) (hdg : decode cc pc = .ok (.getfield 13, 3)) (kk : W p l e R s m args below meth c H locs cells slots Q (F0 m (pc + 3) ls (.ref (q 1) :: rest))) : W p l e R s m args below meth c H locs cells slots Q (F0 m pc ls (.ref (q 20) :: rest)) := va_get (D := D) (ci := 1) (v := .ref (q 1)) (C := RX1) (T := TX1) (N := 12) E.hx E.hb E.hts in_X1 E.hown E.hK hW.1 0 rfl rfl 1 (by decide) (E.hts _ q203) (fun _ h9 => h9) rfl hdg kk
theorem lM_1 {j : Nat} (E : EV p s R m args c cc L fr lc RX1 A D (tM d)) (hW : WD D (wM q d) A s σ H locs) (hj : j < 8) (hdg : decode cc pc = .ok (.iaload, 1)) (kk : W p l e R s m args below meth c H locs cells slots Q (F0 m (pc + 1) ls (.int (σ 1 j) :: rest))) : W p l e R s m args below meth c H locs cells slots Q (F0 m pc ls (.int (nI j) :: .ref (q 1) :: rest)) := by
  refine va_iald E.hx E.hb E.hK hW.1 2 1 rfl rfl (vp_in_nI hj (by decide)) hdg ?_
  rw [nI_clamp (by omega)]
  exact kk
theorem sM_1 {j : Nat} {x : Int32} (E : EV p s R m args c cc L fr lc RX1 A D (tM d)) (hW : WD D (wM q d) A s σ H locs) (hj : j < 8) (hdg : decode cc pc = .ok (.iastore, 1)) (kk : ∀ (H : Heap) (locs : List Loc), WD D (wM q d) A s (st_up σ 1 j x) H locs → W p l e R s m args below meth c H locs cells slots Q (F0 m (pc + 1) ls rest)) : W p l e R s m args below meth c H locs cells slots Q (F0 m pc ls (.int x :: .int (nI j) :: .ref (q 1) :: rest)) := by
  refine va_iast E.hx E.hb E.hK hW.1 hW.2.1 hW.2.2 2 1 rfl rfl (vp_in_nI hj (by decide)) hdg (fun H1 locs1 hP hD hS => ?_)
  rw [nI_clamp (by omega)] at hP hD
  exact kk H1 locs1 ⟨hP, hD, hS⟩
/-- getfield now -/
theorem gM_2 (E : EV p s R m args c cc L fr lc RX1 A D (tM d)) (hW : WD D (wM q d) A s σ H locs) (hdg : decode cc pc = .ok (.getfield 16, 3)) (kk : W p l e R s m args below meth c H locs cells slots Q (F0 m (pc + 3) ls (.ref (q 2) :: rest))) : W p l e R s m args below meth c H locs cells slots Q (F0 m pc ls (.ref (q 20) :: rest)) := va_get (D := D) (ci := 1) (v := .ref (q 2)) (C := RX1) (T := TX1) (N := 12) E.hx E.hb E.hts in_X1 E.hown E.hK hW.1 0 rfl rfl 2 (by decide) (E.hts _ q204) (fun _ h9 => h9) rfl hdg kk
theorem lM_2 {j : Nat} (E : EV p s R m args c cc L fr lc RX1 A D (tM d)) (hW : WD D (wM q d) A s σ H locs) (hj : j < 8) (hdg : decode cc pc = .ok (.iaload, 1)) (kk : W p l e R s m args below meth c H locs cells slots Q (F0 m (pc + 1) ls (.int (σ 2 j) :: rest))) : W p l e R s m args below meth c H locs cells slots Q (F0 m pc ls (.int (nI j) :: .ref (q 2) :: rest)) := by
  refine va_iald E.hx E.hb E.hK hW.1 3 2 rfl rfl (vp_in_nI hj (by decide)) hdg ?_
  rw [nI_clamp (by omega)]
  exact kk
theorem sM_2 {j : Nat} {x : Int32} (E : EV p s R m args c cc L fr lc RX1 A D (tM d)) (hW : WD D (wM q d) A s σ H locs) (hj : j < 8) (hdg : decode cc pc = .ok (.iastore, 1)) (kk : ∀ (H : Heap) (locs : List Loc), WD D (wM q d) A s (st_up σ 2 j x) H locs → W p l e R s m args below meth c H locs cells slots Q (F0 m (pc + 1) ls rest)) : W p l e R s m args below meth c H locs cells slots Q (F0 m pc ls (.int x :: .int (nI j) :: .ref (q 2) :: rest)) := by
  refine va_iast E.hx E.hb E.hK hW.1 hW.2.1 hW.2.2 3 2 rfl rfl (vp_in_nI hj (by decide)) hdg (fun H1 locs1 hP hD hS => ?_)
  rw [nI_clamp (by omega)] at hP hD
  exact kk H1 locs1 ⟨hP, hD, hS⟩
/-- getfield safeCount -/
theorem gM_3 (E : EV p s R m args c cc L fr lc RX1 A D (tM d)) (hW : WD D (wM q d) A s σ H locs) (hdg : decode cc pc = .ok (.getfield 53, 3)) (kk : W p l e R s m args below meth c H locs cells slots Q (F0 m (pc + 3) ls (.int (σ 3 0) :: rest))) : W p l e R s m args below meth c H locs cells slots Q (F0 m pc ls (.ref (q 20) :: rest)) := va_get (D := D) (ci := 1) (v := .int (σ 3 0)) (C := RX1) (T := TX1) (N := 12) E.hx E.hb E.hts in_X1 E.hown E.hK hW.1 0 rfl rfl 3 (by decide) (E.hts _ q205) (fun _ h9 => h9) rfl hdg kk
theorem pM_3 {v : Int32} (E : EV p s R m args c cc L fr lc RX1 A D (tM d)) (hW : WD D (wM q d) A s σ H locs) (hdg : decode cc pc = .ok (.putfield 53, 3)) (kk : ∀ (H : Heap) (locs : List Loc), WD D (wM q d) A s (st_up σ 3 0 v) H locs → W p l e R s m args below meth c H locs cells slots Q (F0 m (pc + 3) ls rest)) : W p l e R s m args below meth c H locs cells slots Q (F0 m pc ls (.int v :: .ref (q 20) :: rest)) := va_put (D := D) (ci := 1) (v := .int v) (ty := .int) (C := RX1) (T := TX1) (N := 12) E.hx E.hb E.hts in_X1 tyX1 tyX1_ok nmX1 E.hown E.hK hW.1 hW.2.1 hW.2.2 0 rfl rfl 3 (by decide) (E.hts _ q205) (fun _ h9 => h9) rfl (by decide +kernel) rfl rfl (Nat.le_of_ble_eq_true rfl) hdg (fun H1 locs1 hP hD hS => kk H1 locs1 ⟨hP, hD, hS⟩)
/-- getfield sealedCount -/
theorem gM_4 (E : EV p s R m args c cc L fr lc RX1 A D (tM d)) (hW : WD D (wM q d) A s σ H locs) (hdg : decode cc pc = .ok (.getfield 56, 3)) (kk : W p l e R s m args below meth c H locs cells slots Q (F0 m (pc + 3) ls (.int (σ 4 0) :: rest))) : W p l e R s m args below meth c H locs cells slots Q (F0 m pc ls (.ref (q 20) :: rest)) := va_get (D := D) (ci := 1) (v := .int (σ 4 0)) (C := RX1) (T := TX1) (N := 12) E.hx E.hb E.hts in_X1 E.hown E.hK hW.1 0 rfl rfl 4 (by decide) (E.hts _ q206) (fun _ h9 => h9) rfl hdg kk
theorem pM_4 {v : Int32} (E : EV p s R m args c cc L fr lc RX1 A D (tM d)) (hW : WD D (wM q d) A s σ H locs) (hdg : decode cc pc = .ok (.putfield 56, 3)) (kk : ∀ (H : Heap) (locs : List Loc), WD D (wM q d) A s (st_up σ 4 0 v) H locs → W p l e R s m args below meth c H locs cells slots Q (F0 m (pc + 3) ls rest)) : W p l e R s m args below meth c H locs cells slots Q (F0 m pc ls (.int v :: .ref (q 20) :: rest)) := va_put (D := D) (ci := 1) (v := .int v) (ty := .int) (C := RX1) (T := TX1) (N := 12) E.hx E.hb E.hts in_X1 tyX1 tyX1_ok nmX1 E.hown E.hK hW.1 hW.2.1 hW.2.2 0 rfl rfl 4 (by decide) (E.hts _ q206) (fun _ h9 => h9) rfl (by decide +kernel) rfl rfl (Nat.le_of_ble_eq_true rfl) hdg (fun H1 locs1 hP hD hS => kk H1 locs1 ⟨hP, hD, hS⟩)
/-- getfield count -/
theorem gM_5 (E : EV p s R m args c cc L fr lc RX1 A D (tM d)) (hW : WD D (wM q d) A s σ H locs) (hdg : decode cc pc = .ok (.getfield 43, 3)) (kk : W p l e R s m args below meth c H locs cells slots Q (F0 m (pc + 3) ls (.int (σ 5 0) :: rest))) : W p l e R s m args below meth c H locs cells slots Q (F0 m pc ls (.ref (q 20) :: rest)) := va_get (D := D) (ci := 1) (v := .int (σ 5 0)) (C := RX1) (T := TX1) (N := 12) E.hx E.hb E.hts in_X1 E.hown E.hK hW.1 0 rfl rfl 5 (by decide) (E.hts _ q207) (fun _ h9 => h9) rfl hdg kk
theorem pM_5 {v : Int32} (E : EV p s R m args c cc L fr lc RX1 A D (tM d)) (hW : WD D (wM q d) A s σ H locs) (hdg : decode cc pc = .ok (.putfield 43, 3)) (kk : ∀ (H : Heap) (locs : List Loc), WD D (wM q d) A s (st_up σ 5 0 v) H locs → W p l e R s m args below meth c H locs cells slots Q (F0 m (pc + 3) ls rest)) : W p l e R s m args below meth c H locs cells slots Q (F0 m pc ls (.int v :: .ref (q 20) :: rest)) := va_put (D := D) (ci := 1) (v := .int v) (ty := .int) (C := RX1) (T := TX1) (N := 12) E.hx E.hb E.hts in_X1 tyX1 tyX1_ok nmX1 E.hown E.hK hW.1 hW.2.1 hW.2.2 0 rfl rfl 5 (by decide) (E.hts _ q207) (fun _ h9 => h9) rfl (by decide +kernel) rfl rfl (Nat.le_of_ble_eq_true rfl) hdg (fun H1 locs1 hP hD hS => kk H1 locs1 ⟨hP, hD, hS⟩)
/-- getfield left -/
theorem gM_6 (E : EV p s R m args c cc L fr lc RX1 A D (tM d)) (hW : WD D (wM q d) A s σ H locs) (hdg : decode cc pc = .ok (.getfield 50, 3)) (kk : W p l e R s m args below meth c H locs cells slots Q (F0 m (pc + 3) ls (.int (σ 6 0) :: rest))) : W p l e R s m args below meth c H locs cells slots Q (F0 m pc ls (.ref (q 20) :: rest)) := va_get (D := D) (ci := 1) (v := .int (σ 6 0)) (C := RX1) (T := TX1) (N := 12) E.hx E.hb E.hts in_X1 E.hown E.hK hW.1 0 rfl rfl 6 (by decide) (E.hts _ q208) (fun _ h9 => h9) rfl hdg kk
theorem pM_6 {v : Int32} (E : EV p s R m args c cc L fr lc RX1 A D (tM d)) (hW : WD D (wM q d) A s σ H locs) (hdg : decode cc pc = .ok (.putfield 50, 3)) (kk : ∀ (H : Heap) (locs : List Loc), WD D (wM q d) A s (st_up σ 6 0 v) H locs → W p l e R s m args below meth c H locs cells slots Q (F0 m (pc + 3) ls rest)) : W p l e R s m args below meth c H locs cells slots Q (F0 m pc ls (.int v :: .ref (q 20) :: rest)) := va_put (D := D) (ci := 1) (v := .int v) (ty := .int) (C := RX1) (T := TX1) (N := 12) E.hx E.hb E.hts in_X1 tyX1 tyX1_ok nmX1 E.hown E.hK hW.1 hW.2.1 hW.2.2 0 rfl rfl 6 (by decide) (E.hts _ q208) (fun _ h9 => h9) rfl (by decide +kernel) rfl rfl (Nat.le_of_ble_eq_true rfl) hdg (fun H1 locs1 hP hD hS => kk H1 locs1 ⟨hP, hD, hS⟩)
/-- getfield waitingSteps -/
theorem gM_7 (E : EV p s R m args c cc L fr lc RX1 A D (tM d)) (hW : WD D (wM q d) A s σ H locs) (hdg : decode cc pc = .ok (.getfield 47, 3)) (kk : W p l e R s m args below meth c H locs cells slots Q (F0 m (pc + 3) ls (.int (σ 7 0) :: rest))) : W p l e R s m args below meth c H locs cells slots Q (F0 m pc ls (.ref (q 20) :: rest)) := va_get (D := D) (ci := 1) (v := .int (σ 7 0)) (C := RX1) (T := TX1) (N := 12) E.hx E.hb E.hts in_X1 E.hown E.hK hW.1 0 rfl rfl 7 (by decide) (E.hts _ q209) (fun _ h9 => h9) rfl hdg kk
theorem pM_7 {v : Int32} (E : EV p s R m args c cc L fr lc RX1 A D (tM d)) (hW : WD D (wM q d) A s σ H locs) (hdg : decode cc pc = .ok (.putfield 47, 3)) (kk : ∀ (H : Heap) (locs : List Loc), WD D (wM q d) A s (st_up σ 7 0 v) H locs → W p l e R s m args below meth c H locs cells slots Q (F0 m (pc + 3) ls rest)) : W p l e R s m args below meth c H locs cells slots Q (F0 m pc ls (.int v :: .ref (q 20) :: rest)) := va_put (D := D) (ci := 1) (v := .int v) (ty := .int) (C := RX1) (T := TX1) (N := 12) E.hx E.hb E.hts in_X1 tyX1 tyX1_ok nmX1 E.hown E.hK hW.1 hW.2.1 hW.2.2 0 rfl rfl 7 (by decide) (E.hts _ q209) (fun _ h9 => h9) rfl (by decide +kernel) rfl rfl (Nat.le_of_ble_eq_true rfl) hdg (fun H1 locs1 hP hD hS => kk H1 locs1 ⟨hP, hD, hS⟩)
/-- getfield busy -/
theorem gM_8 (E : EV p s R m args c cc L fr lc RX1 A D (tM d)) (hW : WD D (wM q d) A s σ H locs) (hdg : decode cc pc = .ok (.getfield 19, 3)) (kk : W p l e R s m args below meth c H locs cells slots Q (F0 m (pc + 3) ls (.ref (q 8) :: rest))) : W p l e R s m args below meth c H locs cells slots Q (F0 m pc ls (.ref (q 20) :: rest)) := va_get (D := D) (ci := 1) (v := .ref (q 8)) (C := RX1) (T := TX1) (N := 12) E.hx E.hb E.hts in_X1 E.hown E.hK hW.1 0 rfl rfl 8 (by decide) (E.hts _ q210) (fun _ h9 => h9) rfl hdg kk
theorem lM_8 {j : Nat} (E : EV p s R m args c cc L fr lc RX1 A D (tM d)) (hW : WD D (wM q d) A s σ H locs) (hj : j < 4) (hdg : decode cc pc = .ok (.baload, 1)) (kk : W p l e R s m args below meth c H locs cells slots Q (F0 m (pc + 1) ls (.int (σ 8 j) :: rest))) : W p l e R s m args below meth c H locs cells slots Q (F0 m pc ls (.int (nI j) :: .ref (q 8) :: rest)) := by
  refine va_zald E.hx E.hb E.hK hW.1 4 3 rfl rfl (vp_in_nI hj (by decide)) hdg ?_
  rw [nI_clamp (by omega)]
  exact kk
theorem sM_8 {j : Nat} {x : Int32} (E : EV p s R m args c cc L fr lc RX1 A D (tM d)) (hW : WD D (wM q d) A s σ H locs) (hj : j < 4) (hv : vp_nar .boolean x = x) (hdg : decode cc pc = .ok (.bastore, 1)) (kk : ∀ (H : Heap) (locs : List Loc), WD D (wM q d) A s (st_up σ 8 j x) H locs → W p l e R s m args below meth c H locs cells slots Q (F0 m (pc + 1) ls rest)) : W p l e R s m args below meth c H locs cells slots Q (F0 m pc ls (.int x :: .int (nI j) :: .ref (q 8) :: rest)) := by
  refine va_zast E.hx E.hb E.hK hW.1 hW.2.1 hW.2.2 4 3 rfl rfl (vp_in_nI hj (by decide)) hdg (fun H1 locs1 hP hD hS => ?_)
  rw [nI_clamp (by omega), hv] at hP hD
  exact kk H1 locs1 ⟨hP, hD, hS⟩
/-- getfield sees -/
theorem gM_9 (E : EV p s R m args c cc L fr lc RX1 A D (tM d)) (hW : WD D (wM q d) A s σ H locs) (hdg : decode cc pc = .ok (.getfield 23, 3)) (kk : W p l e R s m args below meth c H locs cells slots Q (F0 m (pc + 3) ls (.ref (q 9) :: rest))) : W p l e R s m args below meth c H locs cells slots Q (F0 m pc ls (.ref (q 20) :: rest)) := va_get (D := D) (ci := 1) (v := .ref (q 9)) (C := RX1) (T := TX1) (N := 12) E.hx E.hb E.hts in_X1 E.hown E.hK hW.1 0 rfl rfl 9 (by decide) (E.hts _ q211) (fun _ h9 => h9) rfl hdg kk
theorem lM_9 {j : Nat} (E : EV p s R m args c cc L fr lc RX1 A D (tM d)) (hW : WD D (wM q d) A s σ H locs) (hj : j < 32) (hdg : decode cc pc = .ok (.iaload, 1)) (kk : W p l e R s m args below meth c H locs cells slots Q (F0 m (pc + 1) ls (.int (σ 9 j) :: rest))) : W p l e R s m args below meth c H locs cells slots Q (F0 m pc ls (.int (nI j) :: .ref (q 9) :: rest)) := by
  refine va_iald E.hx E.hb E.hK hW.1 5 4 rfl rfl (vp_in_nI hj (by decide)) hdg ?_
  rw [nI_clamp (by omega)]
  exact kk
theorem sM_9 {j : Nat} {x : Int32} (E : EV p s R m args c cc L fr lc RX1 A D (tM d)) (hW : WD D (wM q d) A s σ H locs) (hj : j < 32) (hdg : decode cc pc = .ok (.iastore, 1)) (kk : ∀ (H : Heap) (locs : List Loc), WD D (wM q d) A s (st_up σ 9 j x) H locs → W p l e R s m args below meth c H locs cells slots Q (F0 m (pc + 1) ls rest)) : W p l e R s m args below meth c H locs cells slots Q (F0 m pc ls (.int x :: .int (nI j) :: .ref (q 9) :: rest)) := by
  refine va_iast E.hx E.hb E.hK hW.1 hW.2.1 hW.2.2 5 4 rfl rfl (vp_in_nI hj (by decide)) hdg (fun H1 locs1 hP hD hS => ?_)
  rw [nI_clamp (by omega)] at hP hD
  exact kk H1 locs1 ⟨hP, hD, hS⟩
/-- getfield wrote -/
theorem gM_10 (E : EV p s R m args c cc L fr lc RX1 A D (tM d)) (hW : WD D (wM q d) A s σ H locs) (hdg : decode cc pc = .ok (.getfield 26, 3)) (kk : W p l e R s m args below meth c H locs cells slots Q (F0 m (pc + 3) ls (.ref (q 10) :: rest))) : W p l e R s m args below meth c H locs cells slots Q (F0 m pc ls (.ref (q 20) :: rest)) := va_get (D := D) (ci := 1) (v := .ref (q 10)) (C := RX1) (T := TX1) (N := 12) E.hx E.hb E.hts in_X1 E.hown E.hK hW.1 0 rfl rfl 10 (by decide) (E.hts _ q212) (fun _ h9 => h9) rfl hdg kk
theorem lM_10 {j : Nat} (E : EV p s R m args c cc L fr lc RX1 A D (tM d)) (hW : WD D (wM q d) A s σ H locs) (hj : j < 4) (hdg : decode cc pc = .ok (.iaload, 1)) (kk : W p l e R s m args below meth c H locs cells slots Q (F0 m (pc + 1) ls (.int (σ 10 j) :: rest))) : W p l e R s m args below meth c H locs cells slots Q (F0 m pc ls (.int (nI j) :: .ref (q 10) :: rest)) := by
  refine va_iald E.hx E.hb E.hK hW.1 6 5 rfl rfl (vp_in_nI hj (by decide)) hdg ?_
  rw [nI_clamp (by omega)]
  exact kk
theorem sM_10 {j : Nat} {x : Int32} (E : EV p s R m args c cc L fr lc RX1 A D (tM d)) (hW : WD D (wM q d) A s σ H locs) (hj : j < 4) (hdg : decode cc pc = .ok (.iastore, 1)) (kk : ∀ (H : Heap) (locs : List Loc), WD D (wM q d) A s (st_up σ 10 j x) H locs → W p l e R s m args below meth c H locs cells slots Q (F0 m (pc + 1) ls rest)) : W p l e R s m args below meth c H locs cells slots Q (F0 m pc ls (.int x :: .int (nI j) :: .ref (q 10) :: rest)) := by
  refine va_iast E.hx E.hb E.hK hW.1 hW.2.1 hW.2.2 6 5 rfl rfl (vp_in_nI hj (by decide)) hdg (fun H1 locs1 hP hD hS => ?_)
  rw [nI_clamp (by omega)] at hP hD
  exact kk H1 locs1 ⟨hP, hD, hS⟩
/-- getfield since -/
theorem gM_11 (E : EV p s R m args c cc L fr lc RX1 A D (tM d)) (hW : WD D (wM q d) A s σ H locs) (hdg : decode cc pc = .ok (.getfield 29, 3)) (kk : W p l e R s m args below meth c H locs cells slots Q (F0 m (pc + 3) ls (.ref (q 11) :: rest))) : W p l e R s m args below meth c H locs cells slots Q (F0 m pc ls (.ref (q 20) :: rest)) := va_get (D := D) (ci := 1) (v := .ref (q 11)) (C := RX1) (T := TX1) (N := 12) E.hx E.hb E.hts in_X1 E.hown E.hK hW.1 0 rfl rfl 11 (by decide) (E.hts _ q213) (fun _ h9 => h9) rfl hdg kk
theorem lM_11 {j : Nat} (E : EV p s R m args c cc L fr lc RX1 A D (tM d)) (hW : WD D (wM q d) A s σ H locs) (hj : j < 4) (hdg : decode cc pc = .ok (.iaload, 1)) (kk : W p l e R s m args below meth c H locs cells slots Q (F0 m (pc + 1) ls (.int (σ 11 j) :: rest))) : W p l e R s m args below meth c H locs cells slots Q (F0 m pc ls (.int (nI j) :: .ref (q 11) :: rest)) := by
  refine va_iald E.hx E.hb E.hK hW.1 7 6 rfl rfl (vp_in_nI hj (by decide)) hdg ?_
  rw [nI_clamp (by omega)]
  exact kk
theorem sM_11 {j : Nat} {x : Int32} (E : EV p s R m args c cc L fr lc RX1 A D (tM d)) (hW : WD D (wM q d) A s σ H locs) (hj : j < 4) (hdg : decode cc pc = .ok (.iastore, 1)) (kk : ∀ (H : Heap) (locs : List Loc), WD D (wM q d) A s (st_up σ 11 j x) H locs → W p l e R s m args below meth c H locs cells slots Q (F0 m (pc + 1) ls rest)) : W p l e R s m args below meth c H locs cells slots Q (F0 m pc ls (.int x :: .int (nI j) :: .ref (q 11) :: rest)) := by
  refine va_iast E.hx E.hb E.hK hW.1 hW.2.1 hW.2.2 7 6 rfl rfl (vp_in_nI hj (by decide)) hdg (fun H1 locs1 hP hD hS => ?_)
  rw [nI_clamp (by omega)] at hP hD
  exact kk H1 locs1 ⟨hP, hD, hS⟩
end ROWS
end
section
set_option maxRecDepth 100000
/-! rows pasted from kit/laws/BITS.to-paste and COUNTS.to-paste (starting texts), then own small rows -/
/-! ===== Int32 by its bits: bt x i ===== -/
def bt (x : Int32) (i : Nat) : Bool := x.toBitVec.getLsbD i
theorem b_ext {x y : Int32} (h : ∀ i, i < 32 → bt x i = bt y i) : x = y := Int32.toBitVec_inj.mp (BitVec.eq_of_getLsbD_eq (fun i hi => h i hi))
theorem b_or (x y : Int32) (i : Nat) : bt (x ||| y) i = (bt x i || bt y i) := by unfold bt; rw [Int32.toBitVec_or, BitVec.getLsbD_or]
theorem b_and (x y : Int32) (i : Nat) : bt (x &&& y) i = (bt x i && bt y i) := by unfold bt; rw [Int32.toBitVec_and, BitVec.getLsbD_and]
theorem b_xor (x y : Int32) (i : Nat) : bt (x ^^^ y) i = (bt x i ^^ bt y i) := by unfold bt; rw [Int32.toBitVec_xor, BitVec.getLsbD_xor]
theorem b_big {x : Int32} {i : Nat} (h : 32 ≤ i) : bt x i = false := BitVec.getLsbD_of_ge _ _ h
theorem b_255 (i : Nat) : bt 255 i = decide (i < 8) := by
  rcases Nat.lt_or_ge i 32 with h | h
  · exact (by decide +kernel : ∀ i, i < 32 → bt 255 i = decide (i < 8)) i h
  · rw [b_big h, decide_eq_false (by omega)]
theorem b_65535 (i : Nat) : bt 65535 i = decide (i < 16) := by
  rcases Nat.lt_or_ge i 32 with h | h
  · exact (by decide +kernel : ∀ i, i < 32 → bt 65535 i = decide (i < 16)) i h
  · rw [b_big h, decide_eq_false (by omega)]
theorem b_m1 : ∀ i, i < 32 → bt (-1) i = true := by decide +kernel
theorem b_0 (i : Nat) : bt 0 i = false := BitVec.getLsbD_zero
theorem s_l : ∀ n, n < 32 → ((nI n &&& 31).toBitVec.smod 32).toNat = n := by decide +kernel
theorem s_u : ∀ n, n < 32 → (((nI n).toUInt32 &&& Int32.toUInt32 31).toBitVec % 32).toNat = n := by decide +kernel
theorem b_shl (n : Nat) (hn : n < 32) (x : Int32) {i : Nat} (hi : i < 32) : bt (x <<< (nI n &&& 31)) i = (decide (n ≤ i) && bt x (i - n)) := by
  unfold bt
  rw [Int32.toBitVec_shiftLeft]
  show (x.toBitVec <<< ((nI n &&& 31).toBitVec.smod 32).toNat).getLsbD i = _
  rw [s_l n hn, BitVec.getLsbD_shiftLeft]
  rcases Nat.lt_or_ge i n with h | h
  · simp [h, Nat.not_le.mpr h]
  · simp [hi, h, Nat.not_lt.mpr h]
theorem b_ushr (n : Nat) (hn : n < 32) (x : Int32) (i : Nat) : bt ((x.toUInt32 >>> ((nI n).toUInt32 &&& Int32.toUInt32 31)).toInt32) i = bt x (n + i) := by
  show (x.toUInt32 >>> ((nI n).toUInt32 &&& Int32.toUInt32 31)).toBitVec.getLsbD i = x.toUInt32.toBitVec.getLsbD (n + i)
  rw [UInt32.toBitVec_shiftRight]
  show (x.toUInt32.toBitVec >>> (((nI n).toUInt32 &&& Int32.toUInt32 31).toBitVec % 32).toNat).getLsbD i = _
  rw [s_u n hn, BitVec.getLsbD_ushiftRight]
theorem b_sshr (n : Nat) (hn : n < 32) (x : Int32) {i : Nat} (hi : i < 32) : bt (x >>> (nI n &&& 31)) i = if n + i < 32 then bt x (n + i) else bt x 31 := by
  unfold bt
  rw [Int32.toBitVec_shiftRight]
  show (x.toBitVec.sshiftRight ((nI n &&& 31).toBitVec.smod 32).toNat).getLsbD i = _
  rw [s_l n hn, BitVec.getLsbD_sshiftRight, BitVec.msb_eq_getLsbD_last]
  simp [hi]
def fb_ct (p : Nat → Bool) : Nat → Nat
  | 0 => 0
  | n + 1 => fb_ct p n + (if p n then 1 else 0)
theorem fb_ct_succ (p : Nat → Bool) (n : Nat) : fb_ct p (n + 1) = fb_ct p n + (if p n then 1 else 0) := rfl
theorem fb_ct_le (p : Nat → Bool) : ∀ n, fb_ct p n ≤ n
  | 0 => Nat.le_refl _
  | n + 1 => by
    have h := fb_ct_le p n
    rw [fb_ct_succ]
    split <;> omega
theorem fb_ct_step (p : Nat → Bool) (m : Nat) : ∀ n, fb_ct p m ≤ fb_ct p (m + n)
  | 0 => Nat.le_refl _
  | n + 1 => by
    have h := fb_ct_step p m n
    show fb_ct p m ≤ fb_ct p (m + n + 1)
    rw [fb_ct_succ]
    omega
theorem fb_ct_mono (p : Nat → Bool) {m n : Nat} (h : m ≤ n) : fb_ct p m ≤ fb_ct p n := by
  have := fb_ct_step p m (n - m)
  rwa [Nat.add_sub_cancel' h] at this
theorem fb_ct_cong {p q : Nat → Bool} : ∀ {n : Nat}, (∀ k, k < n → p k = q k) → fb_ct p n = fb_ct q n
  | 0, _ => rfl
  | n + 1, h => by
    rw [fb_ct_succ, fb_ct_succ, fb_ct_cong (fun k hk => h k (by omega)), h n (by omega)]
/-- one place changed -/
theorem fb_ct_out (p : Nat → Bool) (b : Bool) {i n : Nat} (h : n ≤ i) : fb_ct (fun k => if k = i then b else p k) n = fb_ct p n :=
  fb_ct_cong fun k hk => if_neg (by omega)
theorem fb_ct_upd (p : Nat → Bool) (b : Bool) {i : Nat} : ∀ {n : Nat}, i < n → fb_ct (fun k => if k = i then b else p k) n + (if p i then 1 else 0) = fb_ct p n + (if b then 1 else 0)
  | 0, h => absurd h (Nat.not_lt_zero i)
  | n + 1, h => by
    rw [fb_ct_succ, fb_ct_succ]
    rcases Nat.lt_or_ge i n with q | q
    · have := fb_ct_upd p b q
      have e : (if n = i then b else p n) = p n := if_neg (by omega)
      rw [e]
      omega
    · have e : i = n := by omega
      subst e
      rw [fb_ct_out p b (Nat.le_refl _)]
      simp only [if_true]
      omega
theorem fb_ct_sub {p q : Nat → Bool} : ∀ {n : Nat}, (∀ k, k < n → p k = true → q k = true) → fb_ct p n ≤ fb_ct q n
  | 0, _ => Nat.le_refl _
  | n + 1, h => by
    have h1 := fb_ct_sub (n := n) (p := p) (q := q) (fun k hk => h k (by omega))
    have h2 := h n (by omega)
    rw [fb_ct_succ, fb_ct_succ]
    cases hp : p n <;> cases hq : q n <;> simp_all <;> omega
theorem fb_ct_or {p q : Nat → Bool} : ∀ {n : Nat}, (∀ k, k < n → ¬ (p k = true ∧ q k = true)) → fb_ct (fun k => p k || q k) n = fb_ct p n + fb_ct q n
  | 0, _ => rfl
  | n + 1, h => by
    have h1 := fb_ct_or (n := n) (p := p) (q := q) (fun k hk => h k (by omega))
    have h2 := h n (by omega)
    rw [fb_ct_succ, fb_ct_succ, fb_ct_succ, h1]
    cases hp : p n <;> cases hq : q n <;> simp_all <;> omega
theorem fb_ct_not (p : Nat → Bool) : ∀ n, fb_ct p n + fb_ct (fun k => !p k) n = n
  | 0 => rfl
  | n + 1 => by
    have h := fb_ct_not p n
    rw [fb_ct_succ, fb_ct_succ]
    cases p n <;> simp <;> omega
theorem fb_ct_split (p : Nat → Bool) (m : Nat) : ∀ n, fb_ct p (m + n) = fb_ct p m + fb_ct (fun k => p (m + k)) n
  | 0 => rfl
  | n + 1 => by
    have h := fb_ct_split p m n
    show fb_ct p (m + n + 1) = _
    rw [fb_ct_succ, fb_ct_succ, h, Nat.add_assoc]
theorem fb_ct_zero {p : Nat → Bool} : ∀ {n : Nat}, fb_ct p n = 0 ↔ ∀ k, k < n → p k = false
  | 0 => ⟨fun _ k hk => absurd hk (Nat.not_lt_zero k), fun _ => rfl⟩
  | n + 1 => by
    have h := fb_ct_zero (p := p) (n := n)
    rw [fb_ct_succ]
    constructor
    · intro e k hk
      have e1 : fb_ct p n = 0 := by omega
      rcases Nat.lt_or_ge k n with q | q
      · exact h.mp e1 k q
      · have ek : k = n := by omega
        subst ek
        cases hp : p k
        · rfl
        · simp [hp] at e
    · intro a
      rw [h.mpr (fun k hk => a k (by omega)), a n (by omega)]
      rfl
theorem fb_ct_pos {p : Nat → Bool} {n : Nat} : 0 < fb_ct p n ↔ ∃ k, k < n ∧ p k = true := by
  constructor
  · intro h
    refine Classical.byContradiction fun hx => ?_
    have := fb_ct_zero.mpr (fun k hk => by
      cases hp : p k
      · rfl
      · exact absurd ⟨k, hk, hp⟩ hx : ∀ k, k < n → p k = false)
    omega
  · rintro ⟨k, hk, hp⟩
    rcases Nat.eq_zero_or_pos (fb_ct p n) with e | e
    · have := fb_ct_zero.mp e k hk
      rw [this] at hp
      cases hp
    · exact e
theorem fb_ct_all {p : Nat → Bool} {n : Nat} : fb_ct p n = n ↔ ∀ k, k < n → p k = true := by
  have h := fb_ct_not p n
  constructor
  · intro e k hk
    have z : fb_ct (fun k => !p k) n = 0 := by omega
    have := fb_ct_zero.mp z k hk
    cases hp : p k
    · simp [hp] at this
    · rfl
  · intro a
    have z : fb_ct (fun k => !p k) n = 0 := fb_ct_zero.mpr (fun k hk => by simp [a k hk])
    omega
/-- the k-th place with the property -/
theorem fb_ct_kth {p : Nat → Bool} {k : Nat} : ∀ {n : Nat}, k < fb_ct p n → ∃ i, i < n ∧ p i = true ∧ fb_ct p i = k
  | 0, h => absurd h (Nat.not_lt_zero k)
  | n + 1, h => by
    rcases Nat.lt_or_ge k (fb_ct p n) with q | q
    · obtain ⟨i, h1, h2⟩ := fb_ct_kth q
      exact ⟨i, by omega, h2⟩
    · rw [fb_ct_succ] at h
      cases hp : p n
      · simp [hp] at h; omega
      · simp [hp] at h
        exact ⟨n, by omega, hp, by omega⟩
theorem fb_ct_kth_one {p : Nat → Bool} {i j : Nat} (hi : p i = true) (hj : p j = true) (e : fb_ct p i = fb_ct p j) : i = j := by
  have key : ∀ a b : Nat, a < b → p a = true → fb_ct p a < fb_ct p b := by
    intro a b hab ha
    have h := fb_ct_mono p (show a + 1 ≤ b from hab)
    rw [fb_ct_succ, ha] at h
    simp at h
    omega
  rcases Nat.lt_trichotomy i j with q | q | q
  · have := key i j q hi; omega
  · exact q
  · have := key j i q hj; omega
def fb_sm (f : Nat → Nat) : Nat → Nat
  | 0 => 0
  | n + 1 => fb_sm f n + f n
theorem fb_sm_succ (f : Nat → Nat) (n : Nat) : fb_sm f (n + 1) = fb_sm f n + f n := rfl
theorem fb_sm_cong {f g : Nat → Nat} : ∀ {n : Nat}, (∀ k, k < n → f k = g k) → fb_sm f n = fb_sm g n
  | 0, _ => rfl
  | n + 1, h => by rw [fb_sm_succ, fb_sm_succ, fb_sm_cong (fun k hk => h k (by omega)), h n (by omega)]
theorem fb_sm_out (f : Nat → Nat) (v : Nat) {i n : Nat} (h : n ≤ i) : fb_sm (fun k => if k = i then v else f k) n = fb_sm f n :=
  fb_sm_cong fun k hk => if_neg (by omega)
theorem fb_sm_upd (f : Nat → Nat) (v : Nat) {i : Nat} : ∀ {n : Nat}, i < n → fb_sm (fun k => if k = i then v else f k) n + f i = fb_sm f n + v
  | 0, h => absurd h (Nat.not_lt_zero i)
  | n + 1, h => by
    rw [fb_sm_succ, fb_sm_succ]
    rcases Nat.lt_or_ge i n with q | q
    · have := fb_sm_upd f v q
      have e : (if n = i then v else f n) = f n := if_neg (by omega)
      rw [e]
      omega
    · have e : i = n := by omega
      subst e
      rw [fb_sm_out f v (Nat.le_refl _)]
      simp only [if_true]
      omega
theorem fb_sm_add (f g : Nat → Nat) : ∀ n, fb_sm (fun k => f k + g k) n = fb_sm f n + fb_sm g n
  | 0 => rfl
  | n + 1 => by
    have h := fb_sm_add f g n
    rw [fb_sm_succ, fb_sm_succ, fb_sm_succ, h]
    omega
theorem fb_sm_le {f g : Nat → Nat} : ∀ {n : Nat}, (∀ k, k < n → f k ≤ g k) → fb_sm f n ≤ fb_sm g n
  | 0, _ => Nat.le_refl _
  | n + 1, h => by
    have h1 := fb_sm_le (n := n) (f := f) (g := g) (fun k hk => h k (by omega))
    have h2 := h n (by omega)
    rw [fb_sm_succ, fb_sm_succ]
    omega
theorem fb_sm_const (c : Nat) : ∀ n, fb_sm (fun _ => c) n = n * c
  | 0 => by rw [Nat.zero_mul]; rfl
  | n + 1 => by rw [fb_sm_succ, fb_sm_const c n, Nat.succ_mul]
theorem fb_sm_bound {f : Nat → Nat} {c n : Nat} (h : ∀ k, k < n → f k ≤ c) : fb_sm f n ≤ n * c := by
  rw [← fb_sm_const c n]
  exact fb_sm_le h
theorem fb_sm_mono (f : Nat → Nat) (m : Nat) : ∀ n, fb_sm f m ≤ fb_sm f (m + n)
  | 0 => Nat.le_refl _
  | n + 1 => by
    have h := fb_sm_mono f m n
    show fb_sm f m ≤ fb_sm f (m + n + 1)
    rw [fb_sm_succ]
    omega
theorem fb_sm_part (f : Nat → Nat) {i n : Nat} (h : i < n) : fb_sm f i + f i ≤ fb_sm f n := by
  have := fb_sm_mono f (i + 1) (n - (i + 1))
  rw [fb_sm_succ, show i + 1 + (n - (i + 1)) = n by omega] at this
  exact this
theorem fb_sm_split (f : Nat → Nat) (m : Nat) : ∀ n, fb_sm f (m + n) = fb_sm f m + fb_sm (fun k => f (m + k)) n
  | 0 => rfl
  | n + 1 => by
    have h := fb_sm_split f m n
    show fb_sm f (m + n + 1) = _
    rw [fb_sm_succ, fb_sm_succ, h, Nat.add_assoc]
theorem fb_sm_zero {f : Nat → Nat} {n : Nat} (h : fb_sm f n = 0) : ∀ k, k < n → f k = 0 := fun k hk => by
  have := fb_sm_part f hk
  omega
end
section
set_option maxRecDepth 100000
/-! own small rows: numbers, bits, the words of the posts -/
theorem x_ge {a b : Nat} (h : nI b ≤ nI a) (ha : a < 2 ^ 31) (hb : b < 2 ^ 31) : b ≤ a := (nI_leI hb ha).mp h
theorem x_lt {a b : Nat} (h : ¬ nI b ≤ nI a) (ha : a < 2 ^ 31) (hb : b < 2 ^ 31) : a < b := Nat.lt_of_not_le (fun q => h ((nI_leI hb ha).mpr q))
theorem x_nle {a b : Int32} (h : ¬ a ≤ b) : b < a := by
  rw [Int32.le_iff_toInt_le] at h
  rw [Int32.lt_iff_toInt_lt]
  omega
theorem x_nlt {a b : Int32} (h : ¬ a < b) : b ≤ a := by
  rw [Int32.lt_iff_toInt_lt] at h
  rw [Int32.le_iff_toInt_le]
  omega
theorem x_ltnle {a b : Int32} (h : a < b) : ¬ b ≤ a := by
  rw [Int32.lt_iff_toInt_lt] at h
  rw [Int32.le_iff_toInt_le]
  omega
theorem x_lenlt {a b : Int32} (h : a ≤ b) : ¬ b < a := by
  rw [Int32.le_iff_toInt_le] at h
  rw [Int32.lt_iff_toInt_lt]
  omega
theorem x_trans {a b c : Int32} (h : a ≤ b) (h2 : b ≤ c) : a ≤ c := by
  rw [Int32.le_iff_toInt_le] at h h2 ⊢
  omega
theorem x_ltle {a b c : Int32} (h : a < b) (h2 : b ≤ c) : a < c := by
  rw [Int32.lt_iff_toInt_lt] at h ⊢
  rw [Int32.le_iff_toInt_le] at h2
  omega
theorem x_lelt {a b c : Int32} (h : a ≤ b) (h2 : b < c) : a < c := by
  rw [Int32.lt_iff_toInt_lt] at h2 ⊢
  rw [Int32.le_iff_toInt_le] at h
  omega
theorem x_ltimp {a b : Int32} (h : a < b) : a ≤ b := by
  rw [Int32.lt_iff_toInt_lt] at h
  rw [Int32.le_iff_toInt_le]
  omega
theorem x_refl (a : Int32) : a ≤ a := by
  rw [Int32.le_iff_toInt_le]
  exact Int.le_refl _
theorem x_n0 {i : Nat} (h : i < 2 ^ 31) (q : nI i < 0) : False := nI_pos h q
theorem x_m1 : ¬ (0 : Int32) ≤ (-1) := by decide
theorem x_m1lt : ((-1) : Int32) < 0 := by decide
/-- a place -/
theorem ix_neg {x : Int32} {n : Nat} (hn : n < 2 ^ 31) (h : x < 0) : ¬ ∃ k, k < n ∧ x = nI k := fun ⟨k, hk, e⟩ => nI_pos (n := k) (by omega) (by rw [← e]; exact h)
theorem ix_big {x : Int32} {n : Nat} (hn : n < 2 ^ 31) (h : nI n ≤ x) : ¬ ∃ k, k < n ∧ x = nI k := fun ⟨k, hk, e⟩ => nI_ge (a := k) (b := n) hk hn (by rw [← e]; exact h)
theorem ix_in {x : Int32} {n : Nat} (hn : n < 2 ^ 31) (h1 : ¬ x < 0) (h2 : ¬ nI n ≤ x) : ∃ k, k < n ∧ x = nI k := by
  rcases pk_ix x hn with h | h | h
  · exact absurd h h1
  · exact absurd h h2
  · exact h
/-- a boolean answer -/
def zb (P : Prop) (r : Int32) : Prop := (r = 1 ∧ P) ∨ (r = 0 ∧ ¬ P)
theorem zb.no {P : Prop} {r : Int32} (h : zb P r) (c : r = 0) : ¬ P := by
  rcases h with ⟨e, _⟩ | ⟨_, h⟩
  · rw [e] at c; exact absurd c (by decide)
  · exact h
theorem zb.yes {P : Prop} {r : Int32} (h : zb P r) (c : ¬ r = 0) : P := by
  rcases h with ⟨_, h⟩ | ⟨e, _⟩
  · exact h
  · exact absurd e c
/-! bits -/
theorem bt_1 : ∀ i, i < 32 → bt 1 i = decide (i = 0) := by decide +kernel
theorem bt_one (i : Nat) : bt 1 i = decide (i = 0) := by
  rcases Nat.lt_or_ge i 32 with h | h
  · exact bt_1 i h
  · rw [b_big h, decide_eq_false (by omega)]
theorem bt_sh {k : Nat} (hk : k < 32) (i : Nat) : bt ((1 : Int32) <<< (nI k &&& 31)) i = decide (i = k) := by
  rcases Nat.lt_or_ge i 32 with h | h
  · rw [b_shl k hk 1 h, bt_one]
    by_cases e : i = k
    · subst e; simp
    · by_cases e2 : k ≤ i
      · rw [decide_eq_true e2, decide_eq_false (by omega), decide_eq_false e]; rfl
      · rw [decide_eq_false e2, decide_eq_false e]; rfl
  · rw [b_big h, decide_eq_false (by omega)]
theorem bt_or1 (x : Int32) {k : Nat} (hk : k < 32) (i : Nat) : bt (x ||| ((1 : Int32) <<< (nI k &&& 31))) i = (bt x i || decide (i = k)) := by
  rw [b_or, bt_sh hk]
theorem bt_clr (x : Int32) {k : Nat} (hk : k < 32) (i : Nat) : bt (x &&& (((1 : Int32) <<< (nI k &&& 31)) ^^^ (-1))) i = (bt x i && !decide (i = k)) := by
  rcases Nat.lt_or_ge i 32 with h | h
  · rw [b_and, b_xor, bt_sh hk, b_m1 i h]
    by_cases e : i = k
    · rw [decide_eq_true e]; rfl
    · rw [decide_eq_false e]; rfl
  · rw [b_big h, b_big h]; rfl
theorem bt_get (x : Int32) {k : Nat} (hk : k < 32) : (x >>> (nI k &&& 31)) &&& 1 = if bt x k then 1 else 0 := by
  apply b_ext
  intro i hi
  rw [b_and, b_sshr k hk x hi, bt_one]
  by_cases e : i = 0
  · subst e
    rw [Nat.add_zero, if_pos hk]
    cases hb : bt x k
    · rw [if_neg (by decide), b_0]; rfl
    · rw [if_pos rfl, bt_one]; rfl
  · rw [decide_eq_false e, Bool.and_false]
    cases hb : bt x k
    · rw [if_neg (by decide), b_0]
    · rw [if_pos rfl, bt_one, decide_eq_false e]
theorem bt_get0 {x : Int32} {k : Nat} (hk : k < 32) (h : (x >>> (nI k &&& 31)) &&& 1 = 0) : bt x k = false := by
  rw [bt_get x hk] at h
  cases hb : bt x k
  · rfl
  · rw [hb] at h; exact absurd h (by decide)
theorem bt_get1 {x : Int32} {k : Nat} (hk : k < 32) (h : ¬ (x >>> (nI k &&& 31)) &&& 1 = 0) : bt x k = true := by
  rw [bt_get x hk] at h
  cases hb : bt x k
  · rw [hb] at h; exact absurd rfl h
  · rfl
theorem bt_getn {x : Int32} {k : Nat} (hk : k < 32) (h : ¬ (x >>> (nI k &&& 31)) &&& 1 = nI 1) : bt x k = false := by
  rw [bt_get x hk] at h
  cases hb : bt x k
  · rfl
  · rw [hb] at h; exact absurd rfl h
theorem bt_gety {x : Int32} {k : Nat} (hk : k < 32) (h : (x >>> (nI k &&& 31)) &&& 1 = nI 1) : bt x k = true := by
  rw [bt_get x hk] at h
  cases hb : bt x k
  · rw [hb] at h; exact absurd h (by decide)
  · rfl
theorem i2b8 : ∀ k, k < 8 → (nI k).toInt8.toInt32 = nI k := by decide +kernel
theorem ix8 (j k : Nat) : nI j * nI 8 + nI k = nI (j * 8 + k) := by rw [pk_mul, nI_add]
theorem ix8' (j k : Nat) : nI 8 * nI j + nI k = nI (8 * j + k) := by rw [pk_mul, nI_add]
/-! BehindStore: the words of its posts -/
def okG (σ : St) : Prop := ∃ G : Nat, G ≤ 4 ∧ σ 5 0 = nI G
def Mk (σ : St) (x : Int32) : Prop := ∃ g : Nat, g < (σ 5 0).toNatClampNeg ∧ σ 6 g < x ∧ x ≤ σ 7 g
theorem Mk_iff {σ : St} {G : Nat} (h4 : G ≤ 4) (e : σ 5 0 = nI G) (x : Int32) : Mk σ x ↔ ∃ g, g < G ∧ σ 6 g < x ∧ x ≤ σ 7 g := by
  unfold Mk
  rw [e, nI_clamp (by omega)]
theorem Mk_cong {σ v : St} (h5 : v 5 = σ 5) (h6 : v 6 = σ 6) (h7 : v 7 = σ 7) (x : Int32) : Mk v x ↔ Mk σ x := by
  unfold Mk
  rw [h5, h6, h7]
def OpN (σ : St) (t : Int32) : Prop := ∃ j, j < 4 ∧ t = nI j ∧ bt (σ 16 0) j = true
theorem OpN_neg {σ : St} {t : Int32} (h : t < 0) : ¬ OpN σ t := fun ⟨j, hj, e, _⟩ => ix_neg (n := 4) (by decide) h ⟨j, hj, e⟩
theorem OpN_big {σ : St} {t : Int32} (h : nI 4 ≤ t) : ¬ OpN σ t := fun ⟨j, hj, e, _⟩ => ix_big (n := 4) (by decide) h ⟨j, hj, e⟩
theorem OpN_f {σ : St} {j : Nat} (hj : j < 4) (hb : bt (σ 16 0) j = false) : ¬ OpN σ (nI j) := fun ⟨k, hk, e, h⟩ => by
  have := (nI_eq (a := j) (b := k) (by omega) (by omega)).mp e
  subst this
  rw [hb] at h
  cases h
def OpK (σ : St) (t key : Int32) (j k : Nat) : Prop := j < 4 ∧ k < 8 ∧ t = nI j ∧ key = nI k ∧ bt (σ 16 0) j = true
theorem OpK_no1 {σ : St} {t key : Int32} (h : ¬ OpN σ t) : ¬ ∃ j k, OpK σ t key j k := fun ⟨j, _, hj, _, e, _, hb⟩ => h ⟨j, hj, e, hb⟩
theorem OpK_no2 {σ : St} {t key : Int32} (h : ¬ ∃ k, k < 8 ∧ key = nI k) : ¬ ∃ j k, OpK σ t key j k := fun ⟨_, k, _, hk, _, e, _⟩ => h ⟨k, hk, e⟩
/-- the cell i counts for the key at the time -/
def Mt (σ : St) (key time : Int32) (i : Nat) : Prop := ¬ σ 0 i = 0 ∧ σ 1 i = key ∧ σ 2 i ≤ time ∧ ¬ Mk σ (σ 2 i)
def Best (σ : St) (key time : Int32) (n : Nat) (r : Int32) : Prop := (r = (-1) ∧ ∀ j, j < n → ¬ Mt σ key time j) ∨ ∃ b, b < n ∧ r = nI b ∧ Mt σ key time b ∧ ∀ j, j < n → Mt σ key time j → σ 2 j ≤ σ 2 b
theorem Best.zero (σ : St) (key time : Int32) : Best σ key time 0 (-1) := Or.inl ⟨rfl, fun j h => absurd h (Nat.not_lt_zero j)⟩
theorem Best.skip {σ : St} {key time r : Int32} {i : Nat} (h : Best σ key time i r) (hn : ¬ Mt σ key time i) : Best σ key time (i + 1) r := by
  rcases h with ⟨e, h⟩ | ⟨b, hb, e, hM, h⟩
  · refine Or.inl ⟨e, fun j hj => ?_⟩
    rcases Nat.lt_succ_iff_lt_or_eq.mp hj with q | q
    · exact h j q
    · rw [q]; exact hn
  · refine Or.inr ⟨b, by omega, e, hM, fun j hj hm => ?_⟩
    rcases Nat.lt_succ_iff_lt_or_eq.mp hj with q | q
    · exact h j q hm
    · rw [q] at hm; exact absurd hm hn
theorem Best.first {σ : St} {key time r : Int32} {i : Nat} (h : Best σ key time i r) (hi : i ≤ 64) (hr : r < 0) (hM : Mt σ key time i) : Best σ key time (i + 1) (nI i) := by
  rcases h with ⟨e, h⟩ | ⟨b, hb, e, _, _⟩
  · refine Or.inr ⟨i, by omega, rfl, hM, fun j hj hm => ?_⟩
    rcases Nat.lt_succ_iff_lt_or_eq.mp hj with q | q
    · exact absurd hm (h j q)
    · rw [q]; exact x_refl _
  · rw [e] at hr
    exact absurd hr (nI_pos (by omega))
theorem Best.pos {σ : St} {key time r : Int32} {i : Nat} (h : Best σ key time i r) (hr : ¬ r < 0) : ∃ b, b < i ∧ r = nI b ∧ Mt σ key time b ∧ ∀ j, j < i → Mt σ key time j → σ 2 j ≤ σ 2 b := by
  rcases h with ⟨e, _⟩ | h
  · rw [e] at hr; exact absurd x_m1lt hr
  · exact h
theorem Best.keep {σ : St} {key time : Int32} {i b : Nat} (hb : b < i) (hM : Mt σ key time b) (hx : ∀ j, j < i → Mt σ key time j → σ 2 j ≤ σ 2 b) (hle : σ 2 i ≤ σ 2 b) : Best σ key time (i + 1) (nI b) := by
  refine Or.inr ⟨b, by omega, rfl, hM, fun j hj hm => ?_⟩
  rcases Nat.lt_succ_iff_lt_or_eq.mp hj with q | q
  · exact hx j q hm
  · rw [q]; exact hle
theorem Best.next {σ : St} {key time : Int32} {i b : Nat} (hx : ∀ j, j < i → Mt σ key time j → σ 2 j ≤ σ 2 b) (hle : ¬ σ 2 i ≤ σ 2 b) (hM : Mt σ key time i) : Best σ key time (i + 1) (nI i) := by
  refine Or.inr ⟨i, by omega, rfl, hM, fun j hj hm => ?_⟩
  rcases Nat.lt_succ_iff_lt_or_eq.mp hj with q | q
  · exact x_trans (hx j q hm) (x_ltimp (x_nle hle))
  · rw [q]; exact x_refl _
/-- the value of the key at the time -/
def VA (σ : St) (key time : Int32) (r : Int32) : Prop := (r = 0 ∧ ∀ j, j < 64 → ¬ Mt σ key time j) ∨ ∃ b, b < 64 ∧ r = σ 3 b ∧ Mt σ key time b ∧ ∀ j, j < 64 → Mt σ key time j → σ 2 j ≤ σ 2 b
theorem Best.none {σ : St} {key time r : Int32} {i : Nat} (h : Best σ key time i r) (hi : i ≤ 64) (hr : ¬ 0 ≤ r) : ∀ j, j < i → ¬ Mt σ key time j := by
  rcases h with ⟨_, h⟩ | ⟨b, hb, e, _⟩
  · exact h
  · rw [e] at hr
    exact absurd (nI_pos' (by omega)) hr
theorem Best.none' {σ : St} {key time r : Int32} {i : Nat} (h : Best σ key time i r) (hi : i ≤ 64) (hr : r < 0) : ∀ j, j < i → ¬ Mt σ key time j := h.none hi (x_ltnle hr)
/-- the keys that changed since a time -/
def Ch (σ : St) (time : Int32) (k : Nat) : Prop := ∃ j, j < 64 ∧ Mt σ (nI k) (σ 8 0) j ∧ time < σ 2 j
def CS (σ : St) (time : Int32) (n : Nat) (x : Int32) : Prop := ∀ k, bt x k = true ↔ k < n ∧ Ch σ time k
theorem CS.zero (σ : St) (time : Int32) : CS σ time 0 (nI 0) := fun k => by
  rw [show nI 0 = (0 : Int32) from rfl, b_0]
  exact ⟨fun h => (by cases h), fun h => absurd h.1 (Nat.not_lt_zero k)⟩
theorem CS.skip {σ : St} {time x : Int32} {i : Nat} (h : CS σ time i x) (hn : ¬ Ch σ time i) : CS σ time (i + 1) x := fun k => by
  rw [h k]
  constructor
  · exact fun q => ⟨by omega, q.2⟩
  · intro q
    rcases Nat.lt_succ_iff_lt_or_eq.mp q.1 with z | z
    · exact ⟨z, q.2⟩
    · rw [z] at q; exact absurd q.2 hn
theorem CS.set {σ : St} {time x : Int32} {i : Nat} (hi : i < 32) (h : CS σ time i x) (hn : Ch σ time i) : CS σ time (i + 1) (x ||| ((1 : Int32) <<< (nI i &&& 31))) := fun k => by
  rw [bt_or1 x hi, Bool.or_eq_true, h k, decide_eq_true_eq]
  constructor
  · intro q
    rcases q with q | q
    · exact ⟨by omega, q.2⟩
    · rw [q]; exact ⟨by omega, hn⟩
  · intro q
    rcases Nat.lt_succ_iff_lt_or_eq.mp q.1 with z | z
    · exact Or.inl ⟨z, q.2⟩
    · exact Or.inr z
theorem Ch_no {σ : St} {time : Int32} {k : Nat} (h : ∀ j, j < 64 → ¬ Mt σ (nI k) (σ 8 0) j) : ¬ Ch σ time k := fun ⟨j, hj, hm, _⟩ => h j hj hm
theorem Ch_le {σ : St} {time : Int32} {k b : Nat} (h : ∀ j, j < 64 → Mt σ (nI k) (σ 8 0) j → σ 2 j ≤ σ 2 b) (hb : σ 2 b ≤ time) : ¬ Ch σ time k := fun ⟨j, hj, hm, q⟩ => absurd q (x_lenlt (x_trans (h j hj hm) hb))
/-- a new cell -/
def ncell (σ : St) (i : Nat) (key time v : Int32) : St := st_up (st_up (st_up (st_up (st_up σ 0 i 1) 1 i key) 2 i time) 3 i v) 4 i 0
/-- commit's loop: the state when the keys below k are entered -/
def cstep (v : St) (i k : Nat) (time x : Int32) : St := st_up (ncell v i (nI k) time x) 12 0 (v 12 0 + 1)
def CLp (j : Nat) (σ : St) : Nat → St → Prop
  | 0, u => u = σ
  | k + 1, u => ∃ v, CLp j σ k v ∧ ((bt (v 18 j) k = true ∧ ∃ i, i < 64 ∧ v 0 i = 0 ∧ u = cstep v i k (v 8 0) (v 19 (j * 8 + k))) ∨ (bt (v 18 j) k = false ∧ u = v))
def clO (σ : St) (j : Nat) : St := st_up σ 16 0 (σ 16 0 &&& (((1 : Int32) <<< (nI j &&& 31)) ^^^ (-1)))
def cm1 (σ : St) (j : Nat) : St := st_up (clO σ j) 8 0 (σ 8 0 + 1)
/-- one version is written through, if one of the flushing group is left -/
def WTc (σ : St) (i : Nat) : Prop := ¬ σ 0 i = 0 ∧ σ 4 i = 0 ∧ σ 2 i ≤ σ 10 0
def WT (σ u : St) : Prop := (∃ i, i < 64 ∧ WTc σ i ∧ u = st_up σ 4 i 1) ∨ ((∀ i, i < 64 → ¬ WTc σ i) ∧ u = σ)
def FS (v u : St) : Prop := (v 11 0 - 1 = 0 ∧ u = st_up (st_up (st_up v 11 0 (v 11 0 - 1)) 9 0 (v 10 0)) 15 0 (v 14 0)) ∨ (¬ v 11 0 - 1 = 0 ∧ WT (st_up v 11 0 (v 11 0 - 1)) u)
def FLp (σ : St) : Nat → St → Prop
  | 0, u => u = σ
  | k + 1, u => ∃ v, FLp σ k v ∧ 0 < v 11 0 ∧ FS v u
/-- crash's loop: cells not written through are freed -/
def CR (σ : St) (i : Nat) (v : St) : Prop := (∀ a, a ≠ 0 → v a = σ a) ∧ (∀ j, j < i → v 0 j = if σ 4 j = 0 then 0 else σ 0 j) ∧ ∀ j, ¬ j < i → v 0 j = σ 0 j
theorem CR.zero (σ : St) : CR σ 0 σ := ⟨fun _ _ => rfl, fun j h => absurd h (Nat.not_lt_zero j), fun _ _ => rfl⟩
theorem CR.keep {σ v : St} {i : Nat} (h : CR σ i v) (ht : ¬ v 4 i = 0) : CR σ (i + 1) v := by
  obtain ⟨h1, h2, h3⟩ := h
  refine ⟨h1, fun j hj => ?_, fun j hj => h3 j (by omega)⟩
  rcases Nat.lt_succ_iff_lt_or_eq.mp hj with q | q
  · exact h2 j q
  · rw [q, if_neg (by rw [← h1 4 (by decide)]; exact ht)]; exact h3 i (by omega)
theorem CR.drop {σ v : St} {i : Nat} (h : CR σ i v) (ht : v 4 i = 0) : CR σ (i + 1) (st_up v 0 i 0) := by
  obtain ⟨h1, h2, h3⟩ := h
  refine ⟨fun a ha => by rw [st_up_ne v i 0 ha]; exact h1 a ha, fun j hj => ?_, fun j hj => by rw [st_up_nj v 0 0 0 (by omega)]; exact h3 j (by omega)⟩
  rcases Nat.lt_succ_iff_lt_or_eq.mp hj with q | q
  · rw [st_up_nj v 0 0 0 (by omega)]; exact h2 j q
  · rw [q, st_up_at, if_pos (by rw [← h1 4 (by decide)]; exact ht)]
def cr2 (v : St) : St := st_up (st_up (st_up v 11 0 0) 12 0 0) 13 0 (v 15 0)
/-- dropGaps' loop -/
def DGl (σ : St) (i : Nat) (v : St) : Prop := (∀ a, a ≠ 0 → v a = σ a) ∧ (∀ j, j < i → ((¬ σ 0 j = 0 ∧ Mk σ (σ 2 j)) → v 0 j = 0) ∧ (¬ (¬ σ 0 j = 0 ∧ Mk σ (σ 2 j)) → v 0 j = σ 0 j)) ∧ ∀ j, ¬ j < i → v 0 j = σ 0 j
theorem DGl.zero (σ : St) : DGl σ 0 σ := ⟨fun _ _ => rfl, fun j h => absurd h (Nat.not_lt_zero j), fun _ _ => rfl⟩
theorem DGl.mk {σ v : St} {i : Nat} (h : DGl σ i v) (x : Int32) : Mk v x ↔ Mk σ x := Mk_cong (h.1 5 (by decide)) (h.1 6 (by decide)) (h.1 7 (by decide)) x
theorem DGl.keep {σ v : St} {i : Nat} (h : DGl σ i v) (hn : ¬ (¬ v 0 i = 0 ∧ Mk v (v 2 i))) : DGl σ (i + 1) v := by
  have hm := h.mk (v 2 i)
  obtain ⟨h1, h2, h3⟩ := h
  rw [hm, h1 2 (by decide), h3 i (by omega)] at hn
  refine ⟨h1, fun j hj => ?_, fun j hj => h3 j (by omega)⟩
  rcases Nat.lt_succ_iff_lt_or_eq.mp hj with q | q
  · exact h2 j q
  · rw [q]; exact ⟨fun z => absurd z hn, fun _ => h3 i (by omega)⟩
theorem DGl.drop {σ v : St} {i : Nat} (h : DGl σ i v) (hn : ¬ v 0 i = 0 ∧ Mk v (v 2 i)) : DGl σ (i + 1) (st_up v 0 i 0) := by
  have hm := h.mk (v 2 i)
  obtain ⟨h1, h2, h3⟩ := h
  rw [hm, h1 2 (by decide), h3 i (by omega)] at hn
  refine ⟨fun a ha => by rw [st_up_ne v i 0 ha]; exact h1 a ha, fun j hj => ?_, fun j hj => by rw [st_up_nj v 0 0 0 (by omega)]; exact h3 j (by omega)⟩
  rcases Nat.lt_succ_iff_lt_or_eq.mp hj with q | q
  · rw [st_up_nj v 0 0 0 (by omega)]; exact h2 j q
  · rw [q]; exact ⟨fun _ => st_up_at v 0 i 0, fun z => absurd hn z⟩
def DG (σ u : St) : Prop := ∃ v, DGl σ 64 v ∧ u = st_up v 5 0 0
theorem OpN_not {σ : St} {i : Nat} (hi : i < 4) (h : ¬ OpN σ (nI i)) : bt (σ 16 0) i = false := by
  cases hb : bt (σ 16 0) i
  · rfl
  · exact absurd ⟨i, hi, rfl, hb⟩ h
theorem cr_okG {σ v : St} {i : Nat} (hG : okG σ) (hC : CR (st_up σ 16 0 0) i v) : okG (cr2 v) := by
  obtain ⟨G, hG4, e⟩ := hG
  refine ⟨G, hG4, ?_⟩
  show v 5 0 = nI G
  rw [hC.1 5 (by decide)]
  exact e
theorem cr_g {σ v : St} {i : Nat} (hG : okG σ) (hC : CR (st_up σ 16 0 0) i v) (h : v 5 0 < nI 4) : ∃ g, g < 4 ∧ (cr2 v) 5 0 = nI g := by
  obtain ⟨g, hg, e⟩ := cr_okG hG hC
  refine ⟨g, ?_, e⟩
  have e2 : v 5 0 = nI g := e
  rw [e2] at h
  exact (nI_ltI (by omega) (by omega)).mp h
/-! the Model: the words of its posts -/
def OpM (τ : St) (t : Int32) : Prop := ∃ j, j < 4 ∧ t = nI j ∧ ¬ τ 8 j = 0
theorem OpM_neg {σ : St} {t : Int32} (h : t < 0) : ¬ OpM σ t := fun ⟨j, hj, e, _⟩ => ix_neg (n := 4) (by decide) h ⟨j, hj, e⟩
theorem OpM_big {σ : St} {t : Int32} (h : nI 4 ≤ t) : ¬ OpM σ t := fun ⟨j, hj, e, _⟩ => ix_big (n := 4) (by decide) h ⟨j, hj, e⟩
theorem OpM_f {σ : St} {j : Nat} (hj : j < 4) (hb : σ 8 j = 0) : ¬ OpM σ (nI j) := fun ⟨k, hk, e, h⟩ => by
  have := (nI_eq (a := j) (b := k) (by omega) (by omega)).mp e
  subst this
  exact h hb
def OpMK (τ : St) (t key : Int32) (j k : Nat) : Prop := j < 4 ∧ k < 8 ∧ t = nI j ∧ key = nI k ∧ ¬ τ 8 j = 0
theorem OpMK_no1 {σ : St} {t key : Int32} (h : ¬ OpM σ t) : ¬ ∃ j k, OpMK σ t key j k := fun ⟨j, _, hj, _, e, _, hb⟩ => h ⟨j, hj, e, hb⟩
theorem OpMK_no2 {σ : St} {t key : Int32} (h : ¬ ∃ k, k < 8 ∧ key = nI k) : ¬ ∃ j k, OpMK σ t key j k := fun ⟨_, k, _, hk, _, e, _⟩ => h ⟨k, hk, e⟩
/-- a run of places of array a is filled from f, beginning at base -/
def CPl (a base : Nat) (f : Nat → Int32) (σ : St) (k : Nat) (v : St) : Prop := (∀ b, b ≠ a → v b = σ b) ∧ (∀ i, i < k → v a (base + i) = f i) ∧ ∀ x, (x < base ∨ base + k ≤ x) → v a x = σ a x
theorem CPl.zero (a base : Nat) (f : Nat → Int32) (σ : St) : CPl a base f σ 0 σ := ⟨fun _ _ => rfl, fun i h => absurd h (Nat.not_lt_zero i), fun _ _ => rfl⟩
theorem CPl.step {a base k i : Nat} {f : Nat → Int32} {σ v : St} {x : Int32} (h : CPl a base f σ k v) (hx : x = f k) (hi : i = base + k) : CPl a base f σ (k + 1) (st_up v a i x) := by
  obtain ⟨h1, h2, h3⟩ := h
  subst hi
  refine ⟨fun b hb => by rw [st_up_ne v _ x hb]; exact h1 b hb, fun i hi => ?_, fun y hy => by rw [st_up_nj v a a x (by omega)]; exact h3 y (by omega)⟩
  rcases Nat.lt_succ_iff_lt_or_eq.mp hi with q | q
  · rw [st_up_nj v a a x (by omega)]; exact h2 i q
  · rw [q, st_up_at]; exact hx
/-- apply's loops -/
def APf (j : Nat) (σ : St) : Nat → St
  | 0 => σ
  | k + 1 => if bt (APf j σ k 10 j) k = true then st_up (st_up (APf j σ k) 2 k (APf j σ k 9 (8 * j + k))) 7 0 (APf j σ k 7 0 + 1) else APf j σ k
def SNf (j : Nat) (σ : St) : Nat → St
  | 0 => σ
  | i + 1 => st_up (SNf j σ i) 11 i (SNf j σ i 11 i ||| SNf j σ i 10 j)
def AP (σ : St) (j : Nat) (u : St) : Prop := u = SNf j (APf j (st_up σ 5 0 (σ 5 0 + 1)) 8) 4
theorem APf_y {j k : Nat} {σ : St} (h : bt (APf j σ k 10 j) k = true) : APf j σ (k + 1) = st_up (st_up (APf j σ k) 2 k (APf j σ k 9 (8 * j + k))) 7 0 (APf j σ k 7 0 + 1) := if_pos h
theorem APf_n {j k : Nat} {σ : St} (h : bt (APf j σ k 10 j) k = false) : APf j σ (k + 1) = APf j σ k := if_neg (by rw [h]; decide)
/-- the set of the busy ones -/
def OB (σ : St) (n : Nat) (x : Int32) : Prop := ∀ k, bt x k = true ↔ k < n ∧ ¬ σ 8 k = 0
theorem OB.zero (σ : St) : OB σ 0 (nI 0) := fun k => by
  rw [show nI 0 = (0 : Int32) from rfl, b_0]
  exact ⟨fun h => (by cases h), fun h => absurd h.1 (Nat.not_lt_zero k)⟩
theorem OB.skip {σ : St} {x : Int32} {i : Nat} (h : OB σ i x) (hn : σ 8 i = 0) : OB σ (i + 1) (x ||| 0) := fun k => by
  rw [b_or, b_0, Bool.or_false, h k]
  constructor
  · exact fun q => ⟨by omega, q.2⟩
  · intro q
    rcases Nat.lt_succ_iff_lt_or_eq.mp q.1 with z | z
    · exact ⟨z, q.2⟩
    · rw [z] at q; exact absurd hn q.2
theorem OB.set {σ : St} {x : Int32} {i : Nat} (hi : i < 32) (h : OB σ i x) (hn : ¬ σ 8 i = 0) : OB σ (i + 1) (x ||| ((1 : Int32) <<< (nI i &&& 31))) := fun k => by
  rw [bt_or1 x hi, Bool.or_eq_true, h k, decide_eq_true_eq]
  constructor
  · intro q
    rcases q with q | q
    · exact ⟨by omega, q.2⟩
    · rw [q]; exact ⟨by omega, hn⟩
  · intro q
    rcases Nat.lt_succ_iff_lt_or_eq.mp q.1 with z | z
    · exact Or.inl ⟨z, q.2⟩
    · exact Or.inr z
end
section
set_option maxRecDepth 100000
set_option maxHeartbeats 4000000 in
set_option maxRecDepth 100000 in
/-- isKey -/
theorem mB_isKey (l : Launch) (D : va_G) (q : Nat → Nat) (d : Nat → ClassId) (σ : St) (a1 : Int32) : MI l D (wB q d) (tB d) yX0_isKey cX0_isKey 1 .boolean 0 0 [.int a1] σ (fun r u => u = σ ∧ zb (∃ k, k < 8 ∧ a1 = nI k) r) := by
  refine MI.of (by decide) (Nat.le_of_ble_eq_true rfl) ?_
  intro p e R s m args below meth c Q A ls E hE hW hl
  have hx := E.hx
  have hb := E.hb
  have hl : lv_has ls 1 [(0, .int a1)] := hl
  refine lv_iload_n hx hb dX0_isKey_0 rfl (lv_at hl 0 rfl) ?_
  refine lv_if_lt (tgt := 14) hx hb dX0_isKey_1 (by decide) (fun h1 => ?_) (fun h1 => ?_)
  · refine lv_iconst (v := 0) hx hb dX0_isKey_14 (by decide) ?_
    exact hE _ _ _ _ _ _ dX0_isKey_15 rfl ⟨rfl, Or.inr ⟨rfl, ix_neg (by decide) h1⟩⟩ hW
  · refine lv_iload_n hx hb dX0_isKey_4 rfl (lv_at hl 0 rfl) ?_
    refine lv_bipush (v := nI 8) hx hb dX0_isKey_5 (by decide) ?_
    refine lv_icmp_ge (tgt := 14) hx hb dX0_isKey_7 (by decide) (fun h7 => ?_) (fun h7 => ?_)
    · refine lv_iconst (v := 0) hx hb dX0_isKey_14 (by decide) ?_
      exact hE _ _ _ _ _ _ dX0_isKey_15 rfl ⟨rfl, Or.inr ⟨rfl, ix_big (by decide) h7⟩⟩ hW
    · refine lv_iconst (v := 1) hx hb dX0_isKey_10 (by decide) ?_
      refine lv_goto (tgt := 15) hx hb dX0_isKey_11 (by decide) ?_
      exact hE _ _ _ _ _ _ dX0_isKey_15 rfl ⟨rfl, Or.inl ⟨rfl, ix_in (by decide) h1 h7⟩⟩ hW
set_option maxHeartbeats 4000000 in
set_option maxRecDepth 100000 in
/-- isOpen -/
theorem mB_isOpen (l : Launch) (D : va_G) (q : Nat → Nat) (d : Nat → ClassId) (σ : St) (a1 : Int32) : MI l D (wB q d) (tB d) yX0_isOpen cX0_isOpen 2 .boolean 0 0 [.ref (q 20), .int a1] σ (fun r u => u = σ ∧ zb (OpN σ a1) r) := by
  refine MI.of (by decide) (Nat.le_of_ble_eq_true rfl) ?_
  intro p e R s m args below meth c Q A ls E hE hW hl
  have hx := E.hx
  have hb := E.hb
  have hl : lv_has ls 2 [(0, .ref (q 20)), (1, .int a1)] := hl
  refine lv_iload_n hx hb dX0_isOpen_0 rfl (lv_at hl 1 rfl) ?_
  refine lv_if_lt (tgt := 24) hx hb dX0_isOpen_1 (by decide) (fun h1 => ?_) (fun h1 => ?_)
  · refine lv_iconst (v := 0) hx hb dX0_isOpen_24 (by decide) ?_
    exact hE _ _ _ _ _ _ dX0_isOpen_25 rfl ⟨rfl, Or.inr ⟨rfl, OpN_neg h1⟩⟩ hW
  · refine lv_iload_n hx hb dX0_isOpen_4 rfl (lv_at hl 1 rfl) ?_
    refine lv_iconst (v := nI 4) hx hb dX0_isOpen_5 (by decide) ?_
    refine lv_icmp_ge (tgt := 24) hx hb dX0_isOpen_6 (by decide) (fun h6 => ?_) (fun h6 => ?_)
    · refine lv_iconst (v := 0) hx hb dX0_isOpen_24 (by decide) ?_
      exact hE _ _ _ _ _ _ dX0_isOpen_25 rfl ⟨rfl, Or.inr ⟨rfl, OpN_big h6⟩⟩ hW
    · obtain ⟨j, hj, rfl⟩ := ix_in (n := 4) (by decide) h1 h6
      refine lv_aload_n hx hb dX0_isOpen_9 rfl (lv_at hl 0 rfl) ?_
      refine gB_16 E hW dX0_isOpen_10 ?_
      refine lv_iload_n hx hb dX0_isOpen_13 rfl (lv_at hl 1 rfl) ?_
      refine lv_ishr hx hb dX0_isOpen_14 ?_
      refine lv_iconst (v := 1) hx hb dX0_isOpen_15 (by decide) ?_
      refine lv_iand hx hb dX0_isOpen_16 ?_
      refine lv_if_eq (tgt := 24) hx hb dX0_isOpen_17 (by decide) (fun h17 => ?_) (fun h17 => ?_)
      · refine lv_iconst (v := 0) hx hb dX0_isOpen_24 (by decide) ?_
        exact hE _ _ _ _ _ _ dX0_isOpen_25 rfl ⟨rfl, Or.inr ⟨rfl, OpN_f hj (bt_get0 (by omega) h17)⟩⟩ hW
      · refine lv_iconst (v := 1) hx hb dX0_isOpen_20 (by decide) ?_
        refine lv_goto (tgt := 25) hx hb dX0_isOpen_21 (by decide) ?_
        exact hE _ _ _ _ _ _ dX0_isOpen_25 rfl ⟨rfl, Or.inl ⟨rfl, ⟨j, hj, rfl, bt_get1 (by omega) h17⟩⟩⟩ hW
set_option maxHeartbeats 4000000 in
set_option maxRecDepth 100000 in
/-- masked -/
theorem mB_masked (l : Launch) (D : va_G) (q : Nat → Nat) (d : Nat → ClassId) (σ : St) (a1 : Int32) (hG : okG σ) : MI l D (wB q d) (tB d) yX0_masked cX0_masked 3 .boolean 0 0 [.ref (q 20), .int a1] σ (fun r u => u = σ ∧ zb (Mk σ a1) r) := by
  refine MI.of (by decide) (Nat.le_of_ble_eq_true rfl) ?_
  intro p e R s m args below meth c Q A ls E hE hW hl
  have hx := E.hx
  have hb := E.hb
  have hl : lv_has ls 3 [(0, .ref (q 20)), (1, .int a1)] := hl
  obtain ⟨G, hG4, hGe⟩ := hG
  have loop : ∀ (n : Nat) (i : Nat), G < i + n → (i ≤ G) → (∀ g, g < i → ¬ (σ 6 g < a1 ∧ a1 ≤ σ 7 g)) → ∀ (H : Heap) (locs : List Loc) (ls : Array Slot), WD D (wB q d) A s σ H locs → lv_has ls 3 [(2, .int (nI i)), (0, .ref (q 20)), (1, .int a1)] → W p l e R s m args below meth c H locs 0 0 Q (F0 m 2 ls []) := by
    intro n
    induction n with
    | zero =>
      intro i hn hi hN
      exact absurd hn (by omega)
    | succ n ih =>
      intro i hn hi hN H locs ls hW hl
      refine lv_iload_n hx hb dX0_masked_2 rfl (lv_at hl 0 rfl) ?_
      refine lv_aload_n hx hb dX0_masked_3 rfl (lv_at hl 1 rfl) ?_
      refine gB_5 E hW dX0_masked_4 ?_
      refine lv_icmp_ge (tgt := 38) hx hb dX0_masked_7 (by decide) (fun h7 => ?_) (fun h7 => ?_)
      · have hi2 : G ≤ i := x_ge (by rw [← hGe]; exact h7) (by omega) (by omega)
        refine lv_iconst (v := 0) hx hb dX0_masked_38 (by decide) ?_
        exact hE _ _ _ _ _ _ dX0_masked_39 rfl ⟨rfl, Or.inr ⟨rfl, fun z => by obtain ⟨g, hg, z⟩ := (Mk_iff hG4 hGe _).mp z; exact hN g (by omega) z⟩⟩ hW
      · have hi2 : i < G := x_lt (by rw [← hGe]; exact h7) (by omega) (by omega)
        refine lv_iload_n hx hb dX0_masked_10 rfl (lv_at hl 2 rfl) ?_
        refine lv_aload_n hx hb dX0_masked_11 rfl (lv_at hl 1 rfl) ?_
        refine gB_6 E hW dX0_masked_12 ?_
        refine lv_iload_n hx hb dX0_masked_15 rfl (lv_at hl 0 rfl) ?_
        refine lB_6 E hW (by omega) dX0_masked_16 ?_
        refine lv_icmp_le (tgt := 32) hx hb dX0_masked_17 (by decide) (fun h17 => ?_) (fun h17 => ?_)
        · refine lv_iinc (v := nI (i + 1)) (lv' := [(2, .int (nI (i + 1))), (0, .ref (q 20)), (1, .int a1)]) hx hb dX0_masked_32 hl (k := 0) rfl (nI_1 i) (by decide) rfl (fun ls hl => ?_)
          refine lv_goto (tgt := 2) hx hb dX0_masked_35 (by decide) ?_
          exact ih (i + 1) (by omega) (by omega) (fun g hg z => by
            rcases Nat.lt_succ_iff_lt_or_eq.mp hg with q9 | q9
            · exact hN g q9 z
            · rw [q9] at z; first | exact absurd z.1 (x_lenlt h17) | exact absurd z.2 (x_ltnle h27)) _ _ _ hW (lv_sub hl [0, 1, 2] rfl)
        · refine lv_iload_n hx hb dX0_masked_20 rfl (lv_at hl 2 rfl) ?_
          refine lv_aload_n hx hb dX0_masked_21 rfl (lv_at hl 1 rfl) ?_
          refine gB_7 E hW dX0_masked_22 ?_
          refine lv_iload_n hx hb dX0_masked_25 rfl (lv_at hl 0 rfl) ?_
          refine lB_7 E hW (by omega) dX0_masked_26 ?_
          refine lv_icmp_gt (tgt := 32) hx hb dX0_masked_27 (by decide) (fun h27 => ?_) (fun h27 => ?_)
          · refine lv_iinc (v := nI (i + 1)) (lv' := [(2, .int (nI (i + 1))), (0, .ref (q 20)), (1, .int a1)]) hx hb dX0_masked_32 hl (k := 0) rfl (nI_1 i) (by decide) rfl (fun ls hl => ?_)
            refine lv_goto (tgt := 2) hx hb dX0_masked_35 (by decide) ?_
            exact ih (i + 1) (by omega) (by omega) (fun g hg z => by
              rcases Nat.lt_succ_iff_lt_or_eq.mp hg with q9 | q9
              · exact hN g q9 z
              · rw [q9] at z; first | exact absurd z.1 (x_lenlt h17) | exact absurd z.2 (x_ltnle h27)) _ _ _ hW (lv_sub hl [0, 1, 2] rfl)
          · refine lv_iconst (v := 1) hx hb dX0_masked_30 (by decide) ?_
            exact hE _ _ _ _ _ _ dX0_masked_31 rfl ⟨rfl, Or.inl ⟨rfl, (Mk_iff hG4 hGe _).mpr ⟨i, hi2, x_nle h17, x_nlt h27⟩⟩⟩ hW
  refine lv_iconst (v := nI 0) hx hb dX0_masked_0 (by decide) ?_
  refine lv_istore_n (lv' := [(2, .int (nI 0)), (0, .ref (q 20)), (1, .int a1)]) hx hb dX0_masked_1 rfl hl (by decide) rfl (fun ls hl => ?_)
  exact loop (G + 1) 0 (by omega) (Nat.zero_le _) (fun g hg => absurd hg (Nat.not_lt_zero g)) _ _ _ hW (lv_sub hl [0, 1, 2] rfl)
set_option maxHeartbeats 4000000 in
set_option maxRecDepth 100000 in
/-- cellAt -/
theorem mB_cellAt (l : Launch) (D : va_G) (q : Nat → Nat) (d : Nat → ClassId) (σ : St) (a1 : Int32) (a2 : Int32) (hG : okG σ) : MI l D (wB q d) (tB d) yX0_cellAt cX0_cellAt 5 .int 1 22 [.ref (q 20), .int a1, .int a2] σ (fun r u => u = σ ∧ Best σ a1 a2 64 r) := by
  refine MI.of (by decide) (Nat.le_of_ble_eq_true rfl) ?_
  intro p e R s m args below meth c Q A ls E hE hW hl
  have hx := E.hx
  have hb := E.hb
  have hl : lv_has ls 5 [(0, .ref (q 20)), (1, .int a1), (2, .int a2)] := hl
  have loop : ∀ (n : Nat) (i : Nat) (r : Int32), 64 < i + n → (i ≤ 64) → (Best σ a1 a2 i r) → ∀ (H : Heap) (locs : List Loc) (ls : Array Slot), WD D (wB q d) A s σ H locs → lv_has ls 5 [(4, .int (nI i)), (3, .int r), (0, .ref (q 20)), (1, .int a1), (2, .int a2)] → W p l e R s m args below meth c H locs 0 0 Q (F0 m 5 ls []) := by
    intro n
    induction n with
    | zero =>
      intro i r hn hi hB
      exact absurd hn (by omega)
    | succ n ih =>
      intro i r hn hi hB H locs ls hW hl
      refine lv_iload hx hb dX0_cellAt_5 (lv_at hl 0 rfl) ?_
      refine lv_bipush (v := nI 64) hx hb dX0_cellAt_7 (by decide) ?_
      refine lv_icmp_ge (tgt := 87) hx hb dX0_cellAt_9 (by decide) (fun h9 => ?_) (fun h9 => ?_)
      · have hi2 : i = 64 := Nat.le_antisymm hi (x_ge h9 (by omega) (by omega))
        subst hi2
        refine lv_iload_n hx hb dX0_cellAt_87 rfl (lv_at hl 1 rfl) ?_
        exact hE _ _ _ _ _ _ dX0_cellAt_88 rfl ⟨rfl, hB⟩ hW
      · have hi2 : i < 64 := x_lt h9 (by omega) (by omega)
        refine lv_aload_n hx hb dX0_cellAt_12 rfl (lv_at hl 2 rfl) ?_
        refine gB_0 E hW dX0_cellAt_13 ?_
        refine lv_iload hx hb dX0_cellAt_16 (lv_at hl 0 rfl) ?_
        refine lB_0 E hW (by omega) dX0_cellAt_18 ?_
        refine lv_if_eq (tgt := 81) hx hb dX0_cellAt_19 (by decide) (fun h19 => ?_) (fun h19 => ?_)
        · refine lv_iinc (v := nI (i + 1)) (lv' := [(4, .int (nI (i + 1))), (3, .int r), (0, .ref (q 20)), (1, .int a1), (2, .int a2)]) hx hb dX0_cellAt_81 hl (k := 0) rfl (nI_1 i) (by decide) rfl (fun ls hl => ?_)
          refine lv_goto (tgt := 5) hx hb dX0_cellAt_84 (by decide) ?_
          exact ih (i + 1) r (by omega) (by omega) (hB.skip (fun z => z.1 h19)) _ _ _ hW (lv_sub hl [0, 1, 2, 3, 4] rfl)
        · refine lv_aload_n hx hb dX0_cellAt_22 rfl (lv_at hl 2 rfl) ?_
          refine gB_1 E hW dX0_cellAt_23 ?_
          refine lv_iload hx hb dX0_cellAt_26 (lv_at hl 0 rfl) ?_
          refine lB_1 E hW (by omega) dX0_cellAt_28 ?_
          refine lv_iload_n hx hb dX0_cellAt_29 rfl (lv_at hl 3 rfl) ?_
          refine lv_icmp_ne (tgt := 81) hx hb dX0_cellAt_30 (by decide) (fun h30 => ?_) (fun h30 => ?_)
          · refine lv_iinc (v := nI (i + 1)) (lv' := [(4, .int (nI (i + 1))), (3, .int r), (0, .ref (q 20)), (1, .int a1), (2, .int a2)]) hx hb dX0_cellAt_81 hl (k := 0) rfl (nI_1 i) (by decide) rfl (fun ls hl => ?_)
            refine lv_goto (tgt := 5) hx hb dX0_cellAt_84 (by decide) ?_
            exact ih (i + 1) r (by omega) (by omega) (hB.skip (fun z => h30 z.2.1)) _ _ _ hW (lv_sub hl [0, 1, 2, 3, 4] rfl)
          · refine lv_aload_n hx hb dX0_cellAt_33 rfl (lv_at hl 2 rfl) ?_
            refine gB_2 E hW dX0_cellAt_34 ?_
            refine lv_iload hx hb dX0_cellAt_37 (lv_at hl 0 rfl) ?_
            refine lB_2 E hW (by omega) dX0_cellAt_39 ?_
            refine lv_iload_n hx hb dX0_cellAt_40 rfl (lv_at hl 4 rfl) ?_
            refine lv_icmp_gt (tgt := 81) hx hb dX0_cellAt_41 (by decide) (fun h41 => ?_) (fun h41 => ?_)
            · refine lv_iinc (v := nI (i + 1)) (lv' := [(4, .int (nI (i + 1))), (3, .int r), (0, .ref (q 20)), (1, .int a1), (2, .int a2)]) hx hb dX0_cellAt_81 hl (k := 0) rfl (nI_1 i) (by decide) rfl (fun ls hl => ?_)
              refine lv_goto (tgt := 5) hx hb dX0_cellAt_84 (by decide) ?_
              exact ih (i + 1) r (by omega) (by omega) (hB.skip (fun z => absurd h41 (x_lenlt z.2.2.1))) _ _ _ hW (lv_sub hl [0, 1, 2, 3, 4] rfl)
            · refine lv_aload_n hx hb dX0_cellAt_44 rfl (lv_at hl 2 rfl) ?_
              refine lv_aload_n hx hb dX0_cellAt_45 rfl (lv_at hl 2 rfl) ?_
              refine gB_2 E hW dX0_cellAt_46 ?_
              refine lv_iload hx hb dX0_cellAt_49 (lv_at hl 0 rfl) ?_
              refine lB_2 E hW (by omega) dX0_cellAt_51 ?_
              refine callI_ (n := 1) (As := [.int (σ 2 i)]) (rest := []) E hW (mB_masked l D q d σ (σ 2 i) hG) (lw_V q116 q118 qs3 q15 q119) (by decide +kernel) ⟨by decide, by decide⟩ (ci := 0) rfl rfl rfl hl.1 rfl (Nat.le_of_ble_eq_true rfl) dX0_cellAt_52 (fun r52 u52 H locs hr52 hW => ?_)
              obtain ⟨hu52, hr52⟩ := hr52
              rw [hu52] at hW
              refine lv_if_ne (tgt := 81) hx hb dX0_cellAt_55 (by decide) (fun h55 => ?_) (fun h55 => ?_)
              · refine lv_iinc (v := nI (i + 1)) (lv' := [(4, .int (nI (i + 1))), (3, .int r), (0, .ref (q 20)), (1, .int a1), (2, .int a2)]) hx hb dX0_cellAt_81 hl (k := 0) rfl (nI_1 i) (by decide) rfl (fun ls hl => ?_)
                refine lv_goto (tgt := 5) hx hb dX0_cellAt_84 (by decide) ?_
                exact ih (i + 1) r (by omega) (by omega) (hB.skip (fun z => z.2.2.2 (hr52.yes h55))) _ _ _ hW (lv_sub hl [0, 1, 2, 3, 4] rfl)
              · have hM : Mt σ a1 a2 i := ⟨h19, h30, x_nlt h41, hr52.no h55⟩
                refine lv_iload_n hx hb dX0_cellAt_58 rfl (lv_at hl 1 rfl) ?_
                refine lv_if_lt (tgt := 78) hx hb dX0_cellAt_59 (by decide) (fun h59 => ?_) (fun h59 => ?_)
                · refine lv_iload hx hb dX0_cellAt_78 (lv_at hl 0 rfl) ?_
                  refine lv_istore_n (lv' := [(3, .int (nI i)), (4, .int (nI i)), (0, .ref (q 20)), (1, .int a1), (2, .int a2)]) hx hb dX0_cellAt_80 rfl hl (by decide) rfl (fun ls hl => ?_)
                  refine lv_iinc (v := nI (i + 1)) (lv' := [(4, .int (nI (i + 1))), (3, .int (nI i)), (0, .ref (q 20)), (1, .int a1), (2, .int a2)]) hx hb dX0_cellAt_81 hl (k := 1) rfl (nI_1 i) (by decide) rfl (fun ls hl => ?_)
                  refine lv_goto (tgt := 5) hx hb dX0_cellAt_84 (by decide) ?_
                  exact ih (i + 1) (nI i) (by omega) (by omega) (hB.first hi h59 hM) _ _ _ hW (lv_sub hl [0, 1, 2, 3, 4] rfl)
                · obtain ⟨b, hb9, rfl, hMb, hmx⟩ := hB.pos h59
                  refine lv_aload_n hx hb dX0_cellAt_62 rfl (lv_at hl 2 rfl) ?_
                  refine gB_2 E hW dX0_cellAt_63 ?_
                  refine lv_iload hx hb dX0_cellAt_66 (lv_at hl 0 rfl) ?_
                  refine lB_2 E hW (by omega) dX0_cellAt_68 ?_
                  refine lv_aload_n hx hb dX0_cellAt_69 rfl (lv_at hl 2 rfl) ?_
                  refine gB_2 E hW dX0_cellAt_70 ?_
                  refine lv_iload_n hx hb dX0_cellAt_73 rfl (lv_at hl 1 rfl) ?_
                  refine lB_2 E hW (by omega) dX0_cellAt_74 ?_
                  refine lv_icmp_le (tgt := 81) hx hb dX0_cellAt_75 (by decide) (fun h75 => ?_) (fun h75 => ?_)
                  · refine lv_iinc (v := nI (i + 1)) (lv' := [(4, .int (nI (i + 1))), (3, .int (nI b)), (0, .ref (q 20)), (1, .int a1), (2, .int a2)]) hx hb dX0_cellAt_81 hl (k := 0) rfl (nI_1 i) (by decide) rfl (fun ls hl => ?_)
                    refine lv_goto (tgt := 5) hx hb dX0_cellAt_84 (by decide) ?_
                    exact ih (i + 1) (nI b) (by omega) (by omega) (Best.keep hb9 hMb hmx h75) _ _ _ hW (lv_sub hl [0, 1, 2, 3, 4] rfl)
                  · refine lv_iload hx hb dX0_cellAt_78 (lv_at hl 0 rfl) ?_
                    refine lv_istore_n (lv' := [(3, .int (nI i)), (4, .int (nI i)), (0, .ref (q 20)), (1, .int a1), (2, .int a2)]) hx hb dX0_cellAt_80 rfl hl (by decide) rfl (fun ls hl => ?_)
                    refine lv_iinc (v := nI (i + 1)) (lv' := [(4, .int (nI (i + 1))), (3, .int (nI i)), (0, .ref (q 20)), (1, .int a1), (2, .int a2)]) hx hb dX0_cellAt_81 hl (k := 1) rfl (nI_1 i) (by decide) rfl (fun ls hl => ?_)
                    refine lv_goto (tgt := 5) hx hb dX0_cellAt_84 (by decide) ?_
                    exact ih (i + 1) (nI i) (by omega) (by omega) (Best.next hmx h75 hM) _ _ _ hW (lv_sub hl [0, 1, 2, 3, 4] rfl)
  refine lv_iconst (v := (-1)) hx hb dX0_cellAt_0 (by decide) ?_
  refine lv_istore_n (lv' := [(3, .int (-1)), (0, .ref (q 20)), (1, .int a1), (2, .int a2)]) hx hb dX0_cellAt_1 rfl hl (by decide) rfl (fun ls hl => ?_)
  refine lv_iconst (v := nI 0) hx hb dX0_cellAt_2 (by decide) ?_
  refine lv_istore (lv' := [(4, .int (nI 0)), (3, .int (-1)), (0, .ref (q 20)), (1, .int a1), (2, .int a2)]) hx hb dX0_cellAt_3 hl (by decide) rfl (fun ls hl => ?_)
  exact loop 65 0 (-1) (by omega) (by omega) (Best.zero σ a1 a2) _ _ _ hW (lv_sub hl [0, 1, 2, 3, 4] rfl)
set_option maxHeartbeats 4000000 in
set_option maxRecDepth 100000 in
/-- valueAt -/
theorem mB_valueAt (l : Launch) (D : va_G) (q : Nat → Nat) (d : Nat → ClassId) (σ : St) (a1 : Int32) (a2 : Int32) (hG : okG σ) : MI l D (wB q d) (tB d) yX0_valueAt cX0_valueAt 4 .int 2 46 [.ref (q 20), .int a1, .int a2] σ (fun r u => u = σ ∧ VA σ a1 a2 r) := by
  refine MI.of (by decide) (Nat.le_of_ble_eq_true rfl) ?_
  intro p e R s m args below meth c Q A ls E hE hW hl
  have hx := E.hx
  have hb := E.hb
  have hl : lv_has ls 4 [(0, .ref (q 20)), (1, .int a1), (2, .int a2)] := hl
  refine lv_aload_n hx hb dX0_valueAt_0 rfl (lv_at hl 0 rfl) ?_
  refine lv_iload_n hx hb dX0_valueAt_1 rfl (lv_at hl 1 rfl) ?_
  refine lv_iload_n hx hb dX0_valueAt_2 rfl (lv_at hl 2 rfl) ?_
  refine callI_ (n := 2) (As := [.int a1, .int a2]) (rest := []) E hW (mB_cellAt l D q d σ a1 a2 hG) (lw_V q112 q114 qs2 q15 q115) (by decide +kernel) ⟨by decide, by decide⟩ (ci := 0) rfl rfl rfl hl.1 rfl (Nat.le_of_ble_eq_true rfl) dX0_valueAt_3 (fun r3 u3 H locs hr3 hW => ?_)
  obtain ⟨hu3, hr3⟩ := hr3
  rw [hu3] at hW
  refine lv_istore_n (lv' := [(3, .int r3), (0, .ref (q 20)), (1, .int a1), (2, .int a2)]) hx hb dX0_valueAt_6 rfl hl (by decide) rfl (fun ls hl => ?_)
  refine lv_iload_n hx hb dX0_valueAt_7 rfl (lv_at hl 0 rfl) ?_
  refine lv_if_ge (tgt := 15) hx hb dX0_valueAt_8 (by decide) (fun h8 => ?_) (fun h8 => ?_)
  · obtain ⟨b, hb9, rfl, hMb, hmx⟩ := hr3.pos (x_lenlt h8)
    refine lv_aload_n hx hb dX0_valueAt_15 rfl (lv_at hl 1 rfl) ?_
    refine gB_3 E hW dX0_valueAt_16 ?_
    refine lv_iload_n hx hb dX0_valueAt_19 rfl (lv_at hl 0 rfl) ?_
    refine lB_3 E hW (by omega) dX0_valueAt_20 ?_
    exact hE _ _ _ _ _ _ dX0_valueAt_21 rfl ⟨rfl, Or.inr ⟨b, hb9, rfl, hMb, hmx⟩⟩ hW
  · refine lv_iconst (v := 0) hx hb dX0_valueAt_11 (by decide) ?_
    refine lv_goto (tgt := 21) hx hb dX0_valueAt_12 (by decide) ?_
    exact hE _ _ _ _ _ _ dX0_valueAt_21 rfl ⟨rfl, Or.inl ⟨rfl, hr3.none (Nat.le_refl _) h8⟩⟩ hW
set_option maxHeartbeats 4000000 in
set_option maxRecDepth 100000 in
/-- freeCell, where a cell is free -/
theorem mB_freeCell (l : Launch) (D : va_G) (q : Nat → Nat) (d : Nat → ClassId) (σ : St) (hf : ∃ i, i < 64 ∧ σ 0 i = 0) : MI l D (wB q d) (tB d) yX0_freeCell cX0_freeCell 2 .int 0 0 [.ref (q 20)] σ (fun r u => u = σ ∧ ∃ i, i < 64 ∧ r = nI i ∧ σ 0 i = 0) := by
  refine MI.of (by decide) (Nat.le_of_ble_eq_true rfl) ?_
  intro p e R s m args below meth c Q A ls E hE hW hl
  have hx := E.hx
  have hb := E.hb
  have hl : lv_has ls 2 [(0, .ref (q 20))] := hl
  have loop : ∀ (n : Nat) (i : Nat), 64 < i + n → (i ≤ 64) → (∀ j, j < i → ¬ σ 0 j = 0) → ∀ (H : Heap) (locs : List Loc) (ls : Array Slot), WD D (wB q d) A s σ H locs → lv_has ls 2 [(1, .int (nI i)), (0, .ref (q 20))] → W p l e R s m args below meth c H locs 0 0 Q (F0 m 2 ls []) := by
    intro n
    induction n with
    | zero =>
      intro i hn hi hN
      exact absurd hn (by omega)
    | succ n ih =>
      intro i hn hi hN H locs ls hW hl
      refine lv_iload_n hx hb dX0_freeCell_2 rfl (lv_at hl 0 rfl) ?_
      refine lv_bipush (v := nI 64) hx hb dX0_freeCell_3 (by decide) ?_
      refine lv_icmp_ge (tgt := 25) hx hb dX0_freeCell_5 (by decide) (fun h5 => ?_) (fun h5 => ?_)
      · have hi2 := x_ge h5 (by omega) (by omega)
        exact hf.elim (fun j hj => absurd hj.2 (hN j (by omega)))
      · have hi2 : i < 64 := x_lt h5 (by omega) (by omega)
        refine lv_aload_n hx hb dX0_freeCell_8 rfl (lv_at hl 1 rfl) ?_
        refine gB_0 E hW dX0_freeCell_9 ?_
        refine lv_iload_n hx hb dX0_freeCell_12 rfl (lv_at hl 0 rfl) ?_
        refine lB_0 E hW (by omega) dX0_freeCell_13 ?_
        refine lv_if_ne (tgt := 19) hx hb dX0_freeCell_14 (by decide) (fun h14 => ?_) (fun h14 => ?_)
        · refine lv_iinc (v := nI (i + 1)) (lv' := [(1, .int (nI (i + 1))), (0, .ref (q 20))]) hx hb dX0_freeCell_19 hl (k := 0) rfl (nI_1 i) (by decide) rfl (fun ls hl => ?_)
          refine lv_goto (tgt := 2) hx hb dX0_freeCell_22 (by decide) ?_
          exact ih (i + 1) (by omega) (by omega) (fun g hg => by
            rcases Nat.lt_succ_iff_lt_or_eq.mp hg with q9 | q9
            · exact hN g q9
            · rw [q9]; exact h14) _ _ _ hW (lv_sub hl [0, 1] rfl)
        · refine lv_iload_n hx hb dX0_freeCell_17 rfl (lv_at hl 0 rfl) ?_
          exact hE _ _ _ _ _ _ dX0_freeCell_18 rfl ⟨rfl, i, hi2, rfl, h14⟩ hW
  refine lv_iconst (v := nI 0) hx hb dX0_freeCell_0 (by decide) ?_
  refine lv_istore_n (lv' := [(1, .int (nI 0)), (0, .ref (q 20))]) hx hb dX0_freeCell_1 rfl hl (by decide) rfl (fun ls hl => ?_)
  exact loop 65 0 (by omega) (by omega) (fun g hg => absurd hg (Nat.not_lt_zero g)) _ _ _ hW (lv_sub hl [0, 1] rfl)
set_option maxHeartbeats 4000000 in
set_option maxRecDepth 100000 in
/-- enter, where a cell is free -/
theorem mB_enter (l : Launch) (D : va_G) (q : Nat → Nat) (d : Nat → ClassId) (σ : St) (a1 : Int32) (a2 : Int32) (a3 : Int32) (hf : ∃ i, i < 64 ∧ σ 0 i = 0) (hk : a1.toInt8.toInt32 = a1) : MV l D (wB q d) (tB d) yX0_enter cX0_enter 5 1 21 [.ref (q 20), .int a1, .int a2, .int a3] σ (fun u => ∃ i, i < 64 ∧ σ 0 i = 0 ∧ u = ncell σ i a1 a2 a3) := by
  refine MV.of (by decide) (Nat.le_of_ble_eq_true rfl) ?_
  intro p e R s m args below meth c Q A ls E hE hW hl
  have hx := E.hx
  have hb := E.hb
  have hl : lv_has ls 5 [(0, .ref (q 20)), (1, .int a1), (2, .int a2), (3, .int a3)] := hl
  refine lv_aload_n hx hb dX0_enter_0 rfl (lv_at hl 0 rfl) ?_
  refine callI_ (n := 0) (As := []) (rest := []) E hW (mB_freeCell l D q d σ hf) (lw_V q132 q134 qs6 q15 q135) (by decide +kernel) ⟨by decide, by decide⟩ (ci := 0) rfl rfl rfl hl.1 rfl (Nat.le_of_ble_eq_true rfl) dX0_enter_1 (fun r1 u1 H locs hr1 hW => ?_)
  obtain ⟨hu1, i, hi, rfl, h0⟩ := hr1
  rw [hu1] at hW
  refine lv_istore (lv' := [(4, .int (nI i)), (0, .ref (q 20)), (1, .int a1), (2, .int a2), (3, .int a3)]) hx hb dX0_enter_4 hl (by decide) rfl (fun ls hl => ?_)
  refine lv_iload hx hb dX0_enter_6 (lv_at hl 0 rfl) ?_
  refine lv_if_ge (tgt := 21) hx hb dX0_enter_8 (by decide) (fun h8 => ?_) (fun h8 => ?_)
  · refine lv_iload hx hb dX0_enter_21 (lv_at hl 0 rfl) ?_
    refine lv_if_lt (tgt := 67) hx hb dX0_enter_23 (by decide) (fun h23 => ?_) (fun h23 => ?_)
    · exact absurd h23 (nI_pos (by omega))
    · refine lv_aload_n hx hb dX0_enter_26 rfl (lv_at hl 1 rfl) ?_
      refine gB_0 E hW dX0_enter_27 ?_
      refine lv_iload hx hb dX0_enter_30 (lv_at hl 0 rfl) ?_
      refine lv_iconst (v := 1) hx hb dX0_enter_32 (by decide) ?_
      refine sB_0 E hW (by omega) rfl dX0_enter_33 (fun H locs hW => ?_)
      refine lv_aload_n hx hb dX0_enter_34 rfl (lv_at hl 1 rfl) ?_
      refine gB_1 E hW dX0_enter_35 ?_
      refine lv_iload hx hb dX0_enter_38 (lv_at hl 0 rfl) ?_
      refine lv_iload_n hx hb dX0_enter_40 rfl (lv_at hl 2 rfl) ?_
      refine lv_i2b (v := a1) hx hb dX0_enter_41 hk ?_
      refine sB_1 E hW (by omega) hk dX0_enter_42 (fun H locs hW => ?_)
      refine lv_aload_n hx hb dX0_enter_43 rfl (lv_at hl 1 rfl) ?_
      refine gB_2 E hW dX0_enter_44 ?_
      refine lv_iload hx hb dX0_enter_47 (lv_at hl 0 rfl) ?_
      refine lv_iload_n hx hb dX0_enter_49 rfl (lv_at hl 3 rfl) ?_
      refine sB_2 E hW (by omega) dX0_enter_50 (fun H locs hW => ?_)
      refine lv_aload_n hx hb dX0_enter_51 rfl (lv_at hl 1 rfl) ?_
      refine gB_3 E hW dX0_enter_52 ?_
      refine lv_iload hx hb dX0_enter_55 (lv_at hl 0 rfl) ?_
      refine lv_iload_n hx hb dX0_enter_57 rfl (lv_at hl 4 rfl) ?_
      refine sB_3 E hW (by omega) dX0_enter_58 (fun H locs hW => ?_)
      refine lv_aload_n hx hb dX0_enter_59 rfl (lv_at hl 1 rfl) ?_
      refine gB_4 E hW dX0_enter_60 ?_
      refine lv_iload hx hb dX0_enter_63 (lv_at hl 0 rfl) ?_
      refine lv_iconst (v := 0) hx hb dX0_enter_65 (by decide) ?_
      refine sB_4 E hW (by omega) rfl dX0_enter_66 (fun H locs hW => ?_)
      exact hE _ _ _ _ _ dX0_enter_67 ⟨i, hi, h0, rfl⟩ hW
  · exact absurd (nI_pos' (by omega)) h8
set_option maxHeartbeats 4000000 in
set_option maxRecDepth 100000 in
/-- changedSince -/
theorem mB_changedSince (l : Launch) (D : va_G) (q : Nat → Nat) (d : Nat → ClassId) (σ : St) (a1 : Int32) (hG : okG σ) : MI l D (wB q d) (tB d) yX0_changedSince cX0_changedSince 5 .int 2 46 [.ref (q 20), .int a1] σ (fun r u => u = σ ∧ CS σ a1 8 r) := by
  refine MI.of (by decide) (Nat.le_of_ble_eq_true rfl) ?_
  intro p e R s m args below meth c Q A ls E hE hW hl
  have hx := E.hx
  have hb := E.hb
  have hl : lv_has ls 5 [(0, .ref (q 20)), (1, .int a1)] := hl
  have loop : ∀ (n : Nat) (i : Nat) (x : Int32), 8 < i + n → (i ≤ 8) → (CS σ a1 i x) → ∀ (H : Heap) (locs : List Loc) (ls : Array Slot), WD D (wB q d) A s σ H locs → lv_has ls 5 [(3, .int (nI i)), (2, .int x), (0, .ref (q 20)), (1, .int a1)] → W p l e R s m args below meth c H locs 0 0 Q (F0 m 4 ls []) := by
    intro n
    induction n with
    | zero =>
      intro i x hn hi hC
      exact absurd hn (by omega)
    | succ n ih =>
      intro i x hn hi hC H locs ls hW hl
      refine lv_iload_n hx hb dX0_changedSince_4 rfl (lv_at hl 0 rfl) ?_
      refine lv_bipush (v := nI 8) hx hb dX0_changedSince_5 (by decide) ?_
      refine lv_icmp_ge (tgt := 49) hx hb dX0_changedSince_7 (by decide) (fun h7 => ?_) (fun h7 => ?_)
      · have hi2 : i = 8 := Nat.le_antisymm hi (x_ge h7 (by omega) (by omega))
        subst hi2
        refine lv_iload_n hx hb dX0_changedSince_49 rfl (lv_at hl 1 rfl) ?_
        exact hE _ _ _ _ _ _ dX0_changedSince_50 rfl ⟨rfl, hC⟩ hW
      · have hi2 : i < 8 := x_lt h7 (by omega) (by omega)
        refine lv_aload_n hx hb dX0_changedSince_10 rfl (lv_at hl 2 rfl) ?_
        refine lv_iload_n hx hb dX0_changedSince_11 rfl (lv_at hl 0 rfl) ?_
        refine lv_aload_n hx hb dX0_changedSince_12 rfl (lv_at hl 2 rfl) ?_
        refine gB_8 E hW dX0_changedSince_13 ?_
        refine callI_ (n := 2) (As := [.int (nI i), .int (σ 8 0)]) (rest := []) E hW (mB_cellAt l D q d σ (nI i) (σ 8 0) hG) (lw_V q112 q114 qs2 q15 q115) (by decide +kernel) ⟨by decide, by decide⟩ (ci := 0) rfl rfl rfl hl.1 rfl (Nat.le_of_ble_eq_true rfl) dX0_changedSince_16 (fun r16 u16 H locs hr16 hW => ?_)
        obtain ⟨hu16, hr16⟩ := hr16
        rw [hu16] at hW
        refine lv_istore (lv' := [(4, .int r16), (3, .int (nI i)), (2, .int x), (0, .ref (q 20)), (1, .int a1)]) hx hb dX0_changedSince_19 hl (by decide) rfl (fun ls hl => ?_)
        refine lv_iload hx hb dX0_changedSince_21 (lv_at hl 0 rfl) ?_
        refine lv_if_lt (tgt := 43) hx hb dX0_changedSince_23 (by decide) (fun h23 => ?_) (fun h23 => ?_)
        · refine lv_iinc (v := nI (i + 1)) (lv' := [(3, .int (nI (i + 1))), (4, .int r16), (2, .int x), (0, .ref (q 20)), (1, .int a1)]) hx hb dX0_changedSince_43 hl (k := 1) rfl (nI_1 i) (by decide) rfl (fun ls hl => ?_)
          refine lv_goto (tgt := 4) hx hb dX0_changedSince_46 (by decide) ?_
          exact ih (i + 1) x (by omega) (by omega) (hC.skip (Ch_no (hr16.none' (Nat.le_refl _) h23))) _ _ _ hW (lv_sub hl [0, 2, 3, 4] rfl)
        · obtain ⟨b, hb9, rfl, hMb, hmx⟩ := hr16.pos h23
          refine lv_aload_n hx hb dX0_changedSince_26 rfl (lv_at hl 3 rfl) ?_
          refine gB_2 E hW dX0_changedSince_27 ?_
          refine lv_iload hx hb dX0_changedSince_30 (lv_at hl 0 rfl) ?_
          refine lB_2 E hW (by omega) dX0_changedSince_32 ?_
          refine lv_iload_n hx hb dX0_changedSince_33 rfl (lv_at hl 4 rfl) ?_
          refine lv_icmp_le (tgt := 43) hx hb dX0_changedSince_34 (by decide) (fun h34 => ?_) (fun h34 => ?_)
          · refine lv_iinc (v := nI (i + 1)) (lv' := [(3, .int (nI (i + 1))), (4, .int (nI b)), (2, .int x), (0, .ref (q 20)), (1, .int a1)]) hx hb dX0_changedSince_43 hl (k := 1) rfl (nI_1 i) (by decide) rfl (fun ls hl => ?_)
            refine lv_goto (tgt := 4) hx hb dX0_changedSince_46 (by decide) ?_
            exact ih (i + 1) x (by omega) (by omega) (hC.skip (Ch_le hmx h34)) _ _ _ hW (lv_sub hl [0, 2, 3, 4] rfl)
          · refine lv_iload_n hx hb dX0_changedSince_37 rfl (lv_at hl 2 rfl) ?_
            refine lv_iconst (v := 1) hx hb dX0_changedSince_38 (by decide) ?_
            refine lv_iload_n hx hb dX0_changedSince_39 rfl (lv_at hl 1 rfl) ?_
            refine lv_ishl hx hb dX0_changedSince_40 ?_
            refine lv_ior hx hb dX0_changedSince_41 ?_
            refine lv_istore_n (lv' := [(2, .int (x ||| (1 <<< ((nI i) &&& 31)))), (4, .int (nI b)), (3, .int (nI i)), (0, .ref (q 20)), (1, .int a1)]) hx hb dX0_changedSince_42 rfl hl (by decide) rfl (fun ls hl => ?_)
            refine lv_iinc (v := nI (i + 1)) (lv' := [(3, .int (nI (i + 1))), (2, .int (x ||| (1 <<< ((nI i) &&& 31)))), (4, .int (nI b)), (0, .ref (q 20)), (1, .int a1)]) hx hb dX0_changedSince_43 hl (k := 2) rfl (nI_1 i) (by decide) rfl (fun ls hl => ?_)
            refine lv_goto (tgt := 4) hx hb dX0_changedSince_46 (by decide) ?_
            exact ih (i + 1) (x ||| ((1 : Int32) <<< (nI i &&& 31))) (by omega) (by omega) (hC.set (by omega) ⟨b, hb9, hMb, x_nle h34⟩) _ _ _ hW (lv_sub hl [0, 1, 3, 4] rfl)
  refine lv_iconst (v := nI 0) hx hb dX0_changedSince_0 (by decide) ?_
  refine lv_istore_n (lv' := [(2, .int (nI 0)), (0, .ref (q 20)), (1, .int a1)]) hx hb dX0_changedSince_1 rfl hl (by decide) rfl (fun ls hl => ?_)
  refine lv_iconst (v := nI 0) hx hb dX0_changedSince_2 (by decide) ?_
  refine lv_istore_n (lv' := [(3, .int (nI 0)), (2, .int (nI 0)), (0, .ref (q 20)), (1, .int a1)]) hx hb dX0_changedSince_3 rfl hl (by decide) rfl (fun ls hl => ?_)
  exact loop 9 0 (nI 0) (by omega) (by omega) (CS.zero σ a1) _ _ _ hW (lv_sub hl [0, 1, 2, 3] rfl)
end
section
set_option maxRecDepth 100000
set_option maxHeartbeats 4000000 in
set_option maxRecDepth 100000 in
/-- begin -/
theorem mB_begin (l : Launch) (D : va_G) (q : Nat → Nat) (d : Nat → ClassId) (σ : St) : MI l D (wB q d) (tB d) yX0_begin cX0_begin 2 .int 1 21 [.ref (q 20)] σ (fun r u => (∃ j, j < 4 ∧ r = nI j ∧ bt (σ 16 0) j = false ∧ (∀ i, i < j → bt (σ 16 0) i = true) ∧ u = st_up (st_up (st_up σ 16 0 (σ 16 0 ||| ((1 : Int32) <<< (nI j &&& 31)))) 17 j (σ 8 0)) 18 j 0) ∨ (r = (-2) ∧ (∀ i, i < 4 → bt (σ 16 0) i = true) ∧ u = σ)) := by
  refine MI.of (by decide) (Nat.le_of_ble_eq_true rfl) ?_
  intro p e R s m args below meth c Q A ls E hE hW hl
  have hx := E.hx
  have hb := E.hb
  have hl : lv_has ls 2 [(0, .ref (q 20))] := hl
  have loop : ∀ (n : Nat) (i : Nat), 4 < i + n → (i ≤ 4) → (∀ j, j < i → bt (σ 16 0) j = true) → ∀ (H : Heap) (locs : List Loc) (ls : Array Slot), WD D (wB q d) A s σ H locs → lv_has ls 2 [(1, .int (nI i)), (0, .ref (q 20))] → W p l e R s m args below meth c H locs 0 0 Q (F0 m 2 ls []) := by
    intro n
    induction n with
    | zero =>
      intro i hn hi hO
      exact absurd hn (by omega)
    | succ n ih =>
      intro i hn hi hO H locs ls hW hl
      refine lv_iload_n hx hb dX0_begin_2 rfl (lv_at hl 0 rfl) ?_
      refine lv_iconst (v := nI 4) hx hb dX0_begin_3 (by decide) ?_
      refine lv_icmp_ge (tgt := 52) hx hb dX0_begin_4 (by decide) (fun h4 => ?_) (fun h4 => ?_)
      · have hi2 : i = 4 := Nat.le_antisymm hi (x_ge h4 (by omega) (by omega))
        subst hi2
        refine lv_bipush (v := (-2)) hx hb dX0_begin_52 (by decide) ?_
        exact hE _ _ _ _ _ _ dX0_begin_54 rfl (Or.inr ⟨rfl, hO, rfl⟩) hW
      · have hi2 : i < 4 := x_lt h4 (by omega) (by omega)
        refine lv_aload_n hx hb dX0_begin_7 rfl (lv_at hl 1 rfl) ?_
        refine lv_iload_n hx hb dX0_begin_8 rfl (lv_at hl 0 rfl) ?_
        refine callI_ (n := 1) (As := [.int (nI i)]) (rest := []) E hW (mB_isOpen l D q d σ (nI i)) (lw_V q93 q95 qs0 q15 q96) (by decide +kernel) ⟨by decide, by decide⟩ (ci := 0) rfl rfl rfl hl.1 rfl (Nat.le_of_ble_eq_true rfl) dX0_begin_9 (fun r9 u9 H locs hr9 hW => ?_)
        obtain ⟨hu9, hr9⟩ := hr9
        rw [hu9] at hW
        refine lv_if_ne (tgt := 46) hx hb dX0_begin_12 (by decide) (fun h12 => ?_) (fun h12 => ?_)
        · obtain ⟨j, hj, e, hbj⟩ := hr9.yes h12
          obtain rfl : i = j := (nI_eq (by omega) (by omega)).mp e
          refine lv_iinc (v := nI (i + 1)) (lv' := [(1, .int (nI (i + 1))), (0, .ref (q 20))]) hx hb dX0_begin_46 hl (k := 0) rfl (nI_1 i) (by decide) rfl (fun ls hl => ?_)
          refine lv_goto (tgt := 2) hx hb dX0_begin_49 (by decide) ?_
          exact ih (i + 1) (by omega) (by omega) (fun g hg => by
            rcases Nat.lt_succ_iff_lt_or_eq.mp hg with q9 | q9
            · exact hO g q9
            · rw [q9]; exact hbj) _ _ _ hW (lv_sub hl [0, 1] rfl)
        · have hbi : bt (σ 16 0) i = false := OpN_not hi2 (hr9.no h12)
          refine lv_aload_n hx hb dX0_begin_15 rfl (lv_at hl 1 rfl) ?_
          refine lv_dup hx hb dX0_begin_16 rfl ?_
          refine gB_16 E hW dX0_begin_17 ?_
          refine lv_iconst (v := 1) hx hb dX0_begin_20 (by decide) ?_
          refine lv_iload_n hx hb dX0_begin_21 rfl (lv_at hl 0 rfl) ?_
          refine lv_ishl hx hb dX0_begin_22 ?_
          refine lv_ior hx hb dX0_begin_23 ?_
          refine pB_16 E hW dX0_begin_24 (fun H locs hW => ?_)
          refine lv_aload_n hx hb dX0_begin_27 rfl (lv_at hl 1 rfl) ?_
          refine gB_17 E hW dX0_begin_28 ?_
          refine lv_iload_n hx hb dX0_begin_31 rfl (lv_at hl 0 rfl) ?_
          refine lv_aload_n hx hb dX0_begin_32 rfl (lv_at hl 1 rfl) ?_
          refine gB_8 E hW dX0_begin_33 ?_
          refine sB_17 E hW (by omega) dX0_begin_36 (fun H locs hW => ?_)
          refine lv_aload_n hx hb dX0_begin_37 rfl (lv_at hl 1 rfl) ?_
          refine gB_18 E hW dX0_begin_38 ?_
          refine lv_iload_n hx hb dX0_begin_41 rfl (lv_at hl 0 rfl) ?_
          refine lv_iconst (v := 0) hx hb dX0_begin_42 (by decide) ?_
          refine sB_18 E hW (by omega) dX0_begin_43 (fun H locs hW => ?_)
          refine lv_iload_n hx hb dX0_begin_44 rfl (lv_at hl 0 rfl) ?_
          exact hE _ _ _ _ _ _ dX0_begin_45 rfl (Or.inl ⟨i, hi2, rfl, hbi, hO, rfl⟩) hW
  refine lv_iconst (v := nI 0) hx hb dX0_begin_0 (by decide) ?_
  refine lv_istore_n (lv' := [(1, .int (nI 0)), (0, .ref (q 20))]) hx hb dX0_begin_1 rfl hl (by decide) rfl (fun ls hl => ?_)
  exact loop 5 0 (by omega) (by omega) (fun g hg => absurd hg (Nat.not_lt_zero g)) _ _ _ hW (lv_sub hl [0, 1] rfl)
set_option maxHeartbeats 4000000 in
set_option maxRecDepth 100000 in
/-- write -/
theorem mB_write (l : Launch) (D : va_G) (q : Nat → Nat) (d : Nat → ClassId) (σ : St) (a1 : Int32) (a2 : Int32) (a3 : Int32) : MI l D (wB q d) (tB d) yX0_write cX0_write 4 .int 1 21 [.ref (q 20), .int a1, .int a2, .int a3] σ (fun r u => (∃ j k, OpK σ a1 a2 j k ∧ r = 0 ∧ u = st_up (st_up σ 18 j (σ 18 j ||| ((1 : Int32) <<< (nI k &&& 31)))) 19 (j * 8 + k) a3) ∨ ((¬ ∃ j k, OpK σ a1 a2 j k) ∧ r = (-1) ∧ u = σ)) := by
  refine MI.of (by decide) (Nat.le_of_ble_eq_true rfl) ?_
  intro p e R s m args below meth c Q A ls E hE hW hl
  have hx := E.hx
  have hb := E.hb
  have hl : lv_has ls 4 [(0, .ref (q 20)), (1, .int a1), (2, .int a2), (3, .int a3)] := hl
  refine lv_aload_n hx hb dX0_write_0 rfl (lv_at hl 0 rfl) ?_
  refine lv_iload_n hx hb dX0_write_1 rfl (lv_at hl 1 rfl) ?_
  refine callI_ (n := 1) (As := [.int a1]) (rest := []) E hW (mB_isOpen l D q d σ a1) (lw_V q93 q95 qs0 q15 q96) (by decide +kernel) ⟨by decide, by decide⟩ (ci := 0) rfl rfl rfl hl.1 rfl (Nat.le_of_ble_eq_true rfl) dX0_write_2 (fun r2 u2 H locs hr2 hW => ?_)
  obtain ⟨hu2, hr2⟩ := hr2
  rw [hu2] at hW
  refine lv_if_eq (tgt := 15) hx hb dX0_write_5 (by decide) (fun h5 => ?_) (fun h5 => ?_)
  · refine lv_iconst (v := (-1)) hx hb dX0_write_15 (by decide) ?_
    exact hE _ _ _ _ _ _ dX0_write_16 rfl (Or.inr ⟨OpK_no1 (hr2.no h5), rfl, rfl⟩) hW
  · obtain ⟨j, hj, rfl, hbj⟩ := hr2.yes h5
    refine lv_iload_n hx hb dX0_write_8 rfl (lv_at hl 2 rfl) ?_
    refine callS_ (n := 1) (As := [.int a2]) (rest := []) E hW (mB_isKey l D q d σ a2) (lw_S q101 q102 q15 q103) (by decide +kernel) ⟨by decide, by decide⟩ rfl hl.1 rfl (Nat.le_of_ble_eq_true rfl) dX0_write_9 (fun r9 u9 H locs hr9 hW => ?_)
    obtain ⟨hu9, hr9⟩ := hr9
    rw [hu9] at hW
    refine lv_if_ne (tgt := 17) hx hb dX0_write_12 (by decide) (fun h12 => ?_) (fun h12 => ?_)
    · obtain ⟨k, hk, rfl⟩ := hr9.yes h12
      refine lv_aload_n hx hb dX0_write_17 rfl (lv_at hl 0 rfl) ?_
      refine gB_18 E hW dX0_write_18 ?_
      refine lv_iload_n hx hb dX0_write_21 rfl (lv_at hl 1 rfl) ?_
      refine lv_dup2_11 hx hb dX0_write_22 rfl rfl ?_
      refine lB_18 E hW (by omega) dX0_write_23 ?_
      refine lv_iconst (v := 1) hx hb dX0_write_24 (by decide) ?_
      refine lv_iload_n hx hb dX0_write_25 rfl (lv_at hl 2 rfl) ?_
      refine lv_ishl hx hb dX0_write_26 ?_
      refine lv_ior hx hb dX0_write_27 ?_
      refine sB_18 E hW (by omega) dX0_write_28 (fun H locs hW => ?_)
      refine lv_aload_n hx hb dX0_write_29 rfl (lv_at hl 0 rfl) ?_
      refine gB_19 E hW dX0_write_30 ?_
      refine lv_iload_n hx hb dX0_write_33 rfl (lv_at hl 1 rfl) ?_
      refine lv_bipush (v := nI 8) hx hb dX0_write_34 (by decide) ?_
      refine lv_imul hx hb dX0_write_36 ?_
      refine lv_iload_n hx hb dX0_write_37 rfl (lv_at hl 2 rfl) ?_
      refine lv_iadd hx hb dX0_write_38 ?_
      refine lv_topi (fun z38 ez38 => ?_)
      obtain rfl : z38 = nI (j * 8 + k) := ez38.trans (ix8 j k)
      refine lv_iload_n hx hb dX0_write_39 rfl (lv_at hl 3 rfl) ?_
      refine sB_19 E hW (by omega) dX0_write_40 (fun H locs hW => ?_)
      refine lv_iconst (v := 0) hx hb dX0_write_41 (by decide) ?_
      exact hE _ _ _ _ _ _ dX0_write_42 rfl (Or.inl ⟨j, k, ⟨hj, hk, rfl, rfl, hbj⟩, rfl, rfl⟩) hW
    · refine lv_iconst (v := (-1)) hx hb dX0_write_15 (by decide) ?_
      exact hE _ _ _ _ _ _ dX0_write_16 rfl (Or.inr ⟨OpK_no2 (hr9.no h12), rfl, rfl⟩) hW
set_option maxHeartbeats 4000000 in
set_option maxRecDepth 100000 in
/-- read -/
theorem mB_read (l : Launch) (D : va_G) (q : Nat → Nat) (d : Nat → ClassId) (σ : St) (a1 : Int32) (a2 : Int32) (hG : okG σ) : MI l D (wB q d) (tB d) yX0_read cX0_read 3 .int 3 69 [.ref (q 20), .int a1, .int a2] σ (fun r u => u = σ ∧ ((∃ j k, OpK σ a1 a2 j k ∧ ((bt (σ 18 j) k = true ∧ r = σ 19 (j * 8 + k)) ∨ (bt (σ 18 j) k = false ∧ VA σ a2 (σ 17 j) r))) ∨ ((¬ ∃ j k, OpK σ a1 a2 j k) ∧ r = 0))) := by
  refine MI.of (by decide) (Nat.le_of_ble_eq_true rfl) ?_
  intro p e R s m args below meth c Q A ls E hE hW hl
  have hx := E.hx
  have hb := E.hb
  have hl : lv_has ls 3 [(0, .ref (q 20)), (1, .int a1), (2, .int a2)] := hl
  refine lv_aload_n hx hb dX0_read_0 rfl (lv_at hl 0 rfl) ?_
  refine lv_iload_n hx hb dX0_read_1 rfl (lv_at hl 1 rfl) ?_
  refine callI_ (n := 1) (As := [.int a1]) (rest := []) E hW (mB_isOpen l D q d σ a1) (lw_V q93 q95 qs0 q15 q96) (by decide +kernel) ⟨by decide, by decide⟩ (ci := 0) rfl rfl rfl hl.1 rfl (Nat.le_of_ble_eq_true rfl) dX0_read_2 (fun r2 u2 H locs hr2 hW => ?_)
  obtain ⟨hu2, hr2⟩ := hr2
  rw [hu2] at hW
  refine lv_if_eq (tgt := 15) hx hb dX0_read_5 (by decide) (fun h5 => ?_) (fun h5 => ?_)
  · refine lv_iconst (v := 0) hx hb dX0_read_15 (by decide) ?_
    exact hE _ _ _ _ _ _ dX0_read_16 rfl ⟨rfl, Or.inr ⟨OpK_no1 (hr2.no h5), rfl⟩⟩ hW
  · obtain ⟨j, hj, rfl, hbj⟩ := hr2.yes h5
    refine lv_iload_n hx hb dX0_read_8 rfl (lv_at hl 2 rfl) ?_
    refine callS_ (n := 1) (As := [.int a2]) (rest := []) E hW (mB_isKey l D q d σ a2) (lw_S q101 q102 q15 q103) (by decide +kernel) ⟨by decide, by decide⟩ rfl hl.1 rfl (Nat.le_of_ble_eq_true rfl) dX0_read_9 (fun r9 u9 H locs hr9 hW => ?_)
    obtain ⟨hu9, hr9⟩ := hr9
    rw [hu9] at hW
    refine lv_if_ne (tgt := 17) hx hb dX0_read_12 (by decide) (fun h12 => ?_) (fun h12 => ?_)
    · obtain ⟨k, hk, rfl⟩ := hr9.yes h12
      refine lv_aload_n hx hb dX0_read_17 rfl (lv_at hl 0 rfl) ?_
      refine gB_18 E hW dX0_read_18 ?_
      refine lv_iload_n hx hb dX0_read_21 rfl (lv_at hl 1 rfl) ?_
      refine lB_18 E hW (by omega) dX0_read_22 ?_
      refine lv_iload_n hx hb dX0_read_23 rfl (lv_at hl 2 rfl) ?_
      refine lv_ishr hx hb dX0_read_24 ?_
      refine lv_iconst (v := 1) hx hb dX0_read_25 (by decide) ?_
      refine lv_iand hx hb dX0_read_26 ?_
      refine lv_if_eq (tgt := 42) hx hb dX0_read_27 (by decide) (fun h27 => ?_) (fun h27 => ?_)
      · refine lv_aload_n hx hb dX0_read_42 rfl (lv_at hl 0 rfl) ?_
        refine lv_iload_n hx hb dX0_read_43 rfl (lv_at hl 2 rfl) ?_
        refine lv_aload_n hx hb dX0_read_44 rfl (lv_at hl 0 rfl) ?_
        refine gB_17 E hW dX0_read_45 ?_
        refine lv_iload_n hx hb dX0_read_48 rfl (lv_at hl 1 rfl) ?_
        refine lB_17 E hW (by omega) dX0_read_49 ?_
        refine callI_ (n := 2) (As := [.int (nI k), .int (σ 17 j)]) (rest := []) E hW (mB_valueAt l D q d σ (nI k) (σ 17 j) hG) (lw_V q108 q110 qs1 q15 q111) (by decide +kernel) ⟨by decide, by decide⟩ (ci := 0) rfl rfl rfl hl.1 rfl (Nat.le_of_ble_eq_true rfl) dX0_read_50 (fun r50 u50 H locs hr50 hW => ?_)
        obtain ⟨hu50, hr50⟩ := hr50
        rw [hu50] at hW
        exact hE _ _ _ _ _ _ dX0_read_53 rfl ⟨rfl, Or.inl ⟨j, k, ⟨hj, hk, rfl, rfl, hbj⟩, Or.inr ⟨bt_get0 (by omega) h27, hr50⟩⟩⟩ hW
      · refine lv_aload_n hx hb dX0_read_30 rfl (lv_at hl 0 rfl) ?_
        refine gB_19 E hW dX0_read_31 ?_
        refine lv_iload_n hx hb dX0_read_34 rfl (lv_at hl 1 rfl) ?_
        refine lv_bipush (v := nI 8) hx hb dX0_read_35 (by decide) ?_
        refine lv_imul hx hb dX0_read_37 ?_
        refine lv_iload_n hx hb dX0_read_38 rfl (lv_at hl 2 rfl) ?_
        refine lv_iadd hx hb dX0_read_39 ?_
        refine lv_topi (fun z39 ez39 => ?_)
        obtain rfl : z39 = nI (j * 8 + k) := ez39.trans (ix8 j k)
        refine lB_19 E hW (by omega) dX0_read_40 ?_
        exact hE _ _ _ _ _ _ dX0_read_41 rfl ⟨rfl, Or.inl ⟨j, k, ⟨hj, hk, rfl, rfl, hbj⟩, Or.inl ⟨bt_get1 (by omega) h27, rfl⟩⟩⟩ hW
    · refine lv_iconst (v := 0) hx hb dX0_read_15 (by decide) ?_
      exact hE _ _ _ _ _ _ dX0_read_16 rfl ⟨rfl, Or.inr ⟨OpK_no2 (hr9.no h12), rfl⟩⟩ hW
set_option maxHeartbeats 4000000 in
set_option maxRecDepth 100000 in
/-- abort -/
theorem mB_abort (l : Launch) (D : va_G) (q : Nat → Nat) (d : Nat → ClassId) (σ : St) (a1 : Int32) : MI l D (wB q d) (tB d) yX0_abort cX0_abort 2 .int 1 21 [.ref (q 20), .int a1] σ (fun r u => (∃ j, j < 4 ∧ a1 = nI j ∧ bt (σ 16 0) j = true ∧ r = 0 ∧ u = clO σ j) ∨ (¬ OpN σ a1 ∧ r = (-1) ∧ u = σ)) := by
  refine MI.of (by decide) (Nat.le_of_ble_eq_true rfl) ?_
  intro p e R s m args below meth c Q A ls E hE hW hl
  have hx := E.hx
  have hb := E.hb
  have hl : lv_has ls 2 [(0, .ref (q 20)), (1, .int a1)] := hl
  refine lv_aload_n hx hb dX0_abort_0 rfl (lv_at hl 0 rfl) ?_
  refine lv_iload_n hx hb dX0_abort_1 rfl (lv_at hl 1 rfl) ?_
  refine callI_ (n := 1) (As := [.int a1]) (rest := []) E hW (mB_isOpen l D q d σ a1) (lw_V q93 q95 qs0 q15 q96) (by decide +kernel) ⟨by decide, by decide⟩ (ci := 0) rfl rfl rfl hl.1 rfl (Nat.le_of_ble_eq_true rfl) dX0_abort_2 (fun r2 u2 H locs hr2 hW => ?_)
  obtain ⟨hu2, hr2⟩ := hr2
  rw [hu2] at hW
  refine lv_if_ne (tgt := 10) hx hb dX0_abort_5 (by decide) (fun h5 => ?_) (fun h5 => ?_)
  · obtain ⟨j, hj, rfl, hbj⟩ := hr2.yes h5
    refine lv_aload_n hx hb dX0_abort_10 rfl (lv_at hl 0 rfl) ?_
    refine lv_dup hx hb dX0_abort_11 rfl ?_
    refine gB_16 E hW dX0_abort_12 ?_
    refine lv_iconst (v := 1) hx hb dX0_abort_15 (by decide) ?_
    refine lv_iload_n hx hb dX0_abort_16 rfl (lv_at hl 1 rfl) ?_
    refine lv_ishl hx hb dX0_abort_17 ?_
    refine lv_iconst (v := (-1)) hx hb dX0_abort_18 (by decide) ?_
    refine lv_ixor hx hb dX0_abort_19 ?_
    refine lv_iand hx hb dX0_abort_20 ?_
    refine pB_16 E hW dX0_abort_21 (fun H locs hW => ?_)
    refine lv_iconst (v := 0) hx hb dX0_abort_24 (by decide) ?_
    exact hE _ _ _ _ _ _ dX0_abort_25 rfl (Or.inl ⟨j, hj, rfl, hbj, rfl, rfl⟩) hW
  · refine lv_iconst (v := (-1)) hx hb dX0_abort_8 (by decide) ?_
    exact hE _ _ _ _ _ _ dX0_abort_9 rfl (Or.inr ⟨hr2.no h5, rfl, rfl⟩) hW
set_option maxHeartbeats 4000000 in
set_option maxRecDepth 100000 in
/-- seal -/
theorem mB_seal (l : Launch) (D : va_G) (q : Nat → Nat) (d : Nat → ClassId) (σ : St) : MI l D (wB q d) (tB d) yX0_seal cX0_seal 1 .int 0 0 [.ref (q 20)] σ (fun r u => (¬ σ 11 0 ≤ 0 ∧ r = (-4) ∧ u = σ) ∨ (σ 11 0 ≤ 0 ∧ σ 13 0 = σ 15 0 ∧ r = (-1) ∧ u = σ) ∨ (σ 11 0 ≤ 0 ∧ ¬ σ 13 0 = σ 15 0 ∧ r = σ 12 0 + 1 ∧ u = st_up (st_up (st_up (st_up σ 10 0 (σ 8 0)) 14 0 (σ 13 0)) 11 0 (σ 12 0 + 1)) 12 0 0)) := by
  refine MI.of (by decide) (Nat.le_of_ble_eq_true rfl) ?_
  intro p e R s m args below meth c Q A ls E hE hW hl
  have hx := E.hx
  have hb := E.hb
  have hl : lv_has ls 1 [(0, .ref (q 20))] := hl
  refine lv_aload_n hx hb dX0_seal_0 rfl (lv_at hl 0 rfl) ?_
  refine gB_11 E hW dX0_seal_1 ?_
  refine lv_if_le (tgt := 10) hx hb dX0_seal_4 (by decide) (fun h4 => ?_) (fun h4 => ?_)
  · refine lv_aload_n hx hb dX0_seal_10 rfl (lv_at hl 0 rfl) ?_
    refine gB_13 E hW dX0_seal_11 ?_
    refine lv_aload_n hx hb dX0_seal_14 rfl (lv_at hl 0 rfl) ?_
    refine gB_15 E hW dX0_seal_15 ?_
    refine lv_icmp_ne (tgt := 23) hx hb dX0_seal_18 (by decide) (fun h18 => ?_) (fun h18 => ?_)
    · refine lv_aload_n hx hb dX0_seal_23 rfl (lv_at hl 0 rfl) ?_
      refine lv_aload_n hx hb dX0_seal_24 rfl (lv_at hl 0 rfl) ?_
      refine gB_8 E hW dX0_seal_25 ?_
      refine pB_10 E hW dX0_seal_28 (fun H locs hW => ?_)
      refine lv_aload_n hx hb dX0_seal_31 rfl (lv_at hl 0 rfl) ?_
      refine lv_aload_n hx hb dX0_seal_32 rfl (lv_at hl 0 rfl) ?_
      refine gB_13 E hW dX0_seal_33 ?_
      refine pB_14 E hW dX0_seal_36 (fun H locs hW => ?_)
      refine lv_aload_n hx hb dX0_seal_39 rfl (lv_at hl 0 rfl) ?_
      refine lv_aload_n hx hb dX0_seal_40 rfl (lv_at hl 0 rfl) ?_
      refine gB_12 E hW dX0_seal_41 ?_
      refine lv_iconst (v := 1) hx hb dX0_seal_44 (by decide) ?_
      refine lv_iadd hx hb dX0_seal_45 ?_
      refine pB_11 E hW dX0_seal_46 (fun H locs hW => ?_)
      refine lv_aload_n hx hb dX0_seal_49 rfl (lv_at hl 0 rfl) ?_
      refine lv_iconst (v := 0) hx hb dX0_seal_50 (by decide) ?_
      refine pB_12 E hW dX0_seal_51 (fun H locs hW => ?_)
      refine lv_aload_n hx hb dX0_seal_54 rfl (lv_at hl 0 rfl) ?_
      refine gB_11 E hW dX0_seal_55 ?_
      exact hE _ _ _ _ _ _ dX0_seal_58 rfl (Or.inr (Or.inr ⟨h4, h18, rfl, rfl⟩)) hW
    · refine lv_iconst (v := (-1)) hx hb dX0_seal_21 (by decide) ?_
      exact hE _ _ _ _ _ _ dX0_seal_22 rfl (Or.inr (Or.inl ⟨h4, h18, rfl, rfl⟩)) hW
  · refine lv_bipush (v := (-4)) hx hb dX0_seal_7 (by decide) ?_
    exact hE _ _ _ _ _ _ dX0_seal_9 rfl (Or.inl ⟨h4, rfl, rfl⟩) hW
set_option maxHeartbeats 4000000 in
set_option maxRecDepth 100000 in
/-- stepsLeft -/
theorem mB_stepsLeft (l : Launch) (D : va_G) (q : Nat → Nat) (d : Nat → ClassId) (σ : St) : MI l D (wB q d) (tB d) yX0_stepsLeft cX0_stepsLeft 1 .int 0 0 [.ref (q 20)] σ (fun r u => u = σ ∧ r = σ 11 0) := by
  refine MI.of (by decide) (Nat.le_of_ble_eq_true rfl) ?_
  intro p e R s m args below meth c Q A ls E hE hW hl
  have hx := E.hx
  have hb := E.hb
  have hl : lv_has ls 1 [(0, .ref (q 20))] := hl
  refine lv_aload_n hx hb dX0_stepsLeft_0 rfl (lv_at hl 0 rfl) ?_
  refine gB_11 E hW dX0_stepsLeft_1 ?_
  exact hE _ _ _ _ _ _ dX0_stepsLeft_4 rfl ⟨rfl, rfl⟩ hW
set_option maxHeartbeats 4000000 in
set_option maxRecDepth 100000 in
/-- commits -/
theorem mB_commits (l : Launch) (D : va_G) (q : Nat → Nat) (d : Nat → ClassId) (σ : St) : MI l D (wB q d) (tB d) yX0_commits cX0_commits 1 .int 0 0 [.ref (q 20)] σ (fun r u => u = σ ∧ r = σ 13 0) := by
  refine MI.of (by decide) (Nat.le_of_ble_eq_true rfl) ?_
  intro p e R s m args below meth c Q A ls E hE hW hl
  have hx := E.hx
  have hb := E.hb
  have hl : lv_has ls 1 [(0, .ref (q 20))] := hl
  refine lv_aload_n hx hb dX0_commits_0 rfl (lv_at hl 0 rfl) ?_
  refine gB_13 E hW dX0_commits_1 ?_
  exact hE _ _ _ _ _ _ dX0_commits_4 rfl ⟨rfl, rfl⟩ hW
set_option maxHeartbeats 4000000 in
set_option maxRecDepth 100000 in
/-- durable -/
theorem mB_durable (l : Launch) (D : va_G) (q : Nat → Nat) (d : Nat → ClassId) (σ : St) : MI l D (wB q d) (tB d) yX0_durable cX0_durable 1 .int 0 0 [.ref (q 20)] σ (fun r u => u = σ ∧ r = σ 15 0) := by
  refine MI.of (by decide) (Nat.le_of_ble_eq_true rfl) ?_
  intro p e R s m args below meth c Q A ls E hE hW hl
  have hx := E.hx
  have hb := E.hb
  have hl : lv_has ls 1 [(0, .ref (q 20))] := hl
  refine lv_aload_n hx hb dX0_durable_0 rfl (lv_at hl 0 rfl) ?_
  refine gB_15 E hW dX0_durable_1 ?_
  exact hE _ _ _ _ _ _ dX0_durable_4 rfl ⟨rfl, rfl⟩ hW
set_option maxHeartbeats 4000000 in
set_option maxRecDepth 100000 in
/-- open -/
theorem mB_open (l : Launch) (D : va_G) (q : Nat → Nat) (d : Nat → ClassId) (σ : St) : MI l D (wB q d) (tB d) yX0_open cX0_open 1 .int 0 0 [.ref (q 20)] σ (fun r u => u = σ ∧ r = σ 16 0) := by
  refine MI.of (by decide) (Nat.le_of_ble_eq_true rfl) ?_
  intro p e R s m args below meth c Q A ls E hE hW hl
  have hx := E.hx
  have hb := E.hb
  have hl : lv_has ls 1 [(0, .ref (q 20))] := hl
  refine lv_aload_n hx hb dX0_open_0 rfl (lv_at hl 0 rfl) ?_
  refine gB_16 E hW dX0_open_1 ?_
  exact hE _ _ _ _ _ _ dX0_open_4 rfl ⟨rfl, rfl⟩ hW
set_option maxHeartbeats 4000000 in
set_option maxRecDepth 100000 in
/-- value -/
theorem mB_value (l : Launch) (D : va_G) (q : Nat → Nat) (d : Nat → ClassId) (σ : St) (a1 : Int32) (hG : okG σ) : MI l D (wB q d) (tB d) yX0_value cX0_value 2 .int 3 69 [.ref (q 20), .int a1] σ (fun r u => u = σ ∧ ((∃ k, k < 8 ∧ a1 = nI k ∧ VA σ (nI k) (σ 8 0) r) ∨ ((¬ ∃ k, k < 8 ∧ a1 = nI k) ∧ r = 0))) := by
  refine MI.of (by decide) (Nat.le_of_ble_eq_true rfl) ?_
  intro p e R s m args below meth c Q A ls E hE hW hl
  have hx := E.hx
  have hb := E.hb
  have hl : lv_has ls 2 [(0, .ref (q 20)), (1, .int a1)] := hl
  refine lv_iload_n hx hb dX0_value_0 rfl (lv_at hl 1 rfl) ?_
  refine callS_ (n := 1) (As := [.int a1]) (rest := []) E hW (mB_isKey l D q d σ a1) (lw_S q101 q102 q15 q103) (by decide +kernel) ⟨by decide, by decide⟩ rfl hl.1 rfl (Nat.le_of_ble_eq_true rfl) dX0_value_1 (fun r1 u1 H locs hr1 hW => ?_)
  obtain ⟨hu1, hr1⟩ := hr1
  rw [hu1] at hW
  refine lv_if_eq (tgt := 19) hx hb dX0_value_4 (by decide) (fun h4 => ?_) (fun h4 => ?_)
  · refine lv_iconst (v := 0) hx hb dX0_value_19 (by decide) ?_
    exact hE _ _ _ _ _ _ dX0_value_20 rfl ⟨rfl, Or.inr ⟨hr1.no h4, rfl⟩⟩ hW
  · obtain ⟨k, hk, rfl⟩ := hr1.yes h4
    refine lv_aload_n hx hb dX0_value_7 rfl (lv_at hl 0 rfl) ?_
    refine lv_iload_n hx hb dX0_value_8 rfl (lv_at hl 1 rfl) ?_
    refine lv_aload_n hx hb dX0_value_9 rfl (lv_at hl 0 rfl) ?_
    refine gB_8 E hW dX0_value_10 ?_
    refine callI_ (n := 2) (As := [.int (nI k), .int (σ 8 0)]) (rest := []) E hW (mB_valueAt l D q d σ (nI k) (σ 8 0) hG) (lw_V q108 q110 qs1 q15 q111) (by decide +kernel) ⟨by decide, by decide⟩ (ci := 0) rfl rfl rfl hl.1 rfl (Nat.le_of_ble_eq_true rfl) dX0_value_13 (fun r13 u13 H locs hr13 hW => ?_)
    obtain ⟨hu13, hr13⟩ := hr13
    rw [hu13] at hW
    refine lv_goto (tgt := 20) hx hb dX0_value_16 (by decide) ?_
    exact hE _ _ _ _ _ _ dX0_value_20 rfl ⟨rfl, Or.inl ⟨k, hk, rfl, hr13⟩⟩ hW
set_option maxHeartbeats 4000000 in
set_option maxRecDepth 100000 in
/-- safeValue -/
theorem mB_safeValue (l : Launch) (D : va_G) (q : Nat → Nat) (d : Nat → ClassId) (σ : St) (a1 : Int32) (hG : okG σ) : MI l D (wB q d) (tB d) yX0_safeValue cX0_safeValue 2 .int 3 69 [.ref (q 20), .int a1] σ (fun r u => u = σ ∧ ((∃ k, k < 8 ∧ a1 = nI k ∧ VA σ (nI k) (σ 9 0) r) ∨ ((¬ ∃ k, k < 8 ∧ a1 = nI k) ∧ r = 0))) := by
  refine MI.of (by decide) (Nat.le_of_ble_eq_true rfl) ?_
  intro p e R s m args below meth c Q A ls E hE hW hl
  have hx := E.hx
  have hb := E.hb
  have hl : lv_has ls 2 [(0, .ref (q 20)), (1, .int a1)] := hl
  refine lv_iload_n hx hb dX0_safeValue_0 rfl (lv_at hl 1 rfl) ?_
  refine callS_ (n := 1) (As := [.int a1]) (rest := []) E hW (mB_isKey l D q d σ a1) (lw_S q101 q102 q15 q103) (by decide +kernel) ⟨by decide, by decide⟩ rfl hl.1 rfl (Nat.le_of_ble_eq_true rfl) dX0_safeValue_1 (fun r1 u1 H locs hr1 hW => ?_)
  obtain ⟨hu1, hr1⟩ := hr1
  rw [hu1] at hW
  refine lv_if_eq (tgt := 19) hx hb dX0_safeValue_4 (by decide) (fun h4 => ?_) (fun h4 => ?_)
  · refine lv_iconst (v := 0) hx hb dX0_safeValue_19 (by decide) ?_
    exact hE _ _ _ _ _ _ dX0_safeValue_20 rfl ⟨rfl, Or.inr ⟨hr1.no h4, rfl⟩⟩ hW
  · obtain ⟨k, hk, rfl⟩ := hr1.yes h4
    refine lv_aload_n hx hb dX0_safeValue_7 rfl (lv_at hl 0 rfl) ?_
    refine lv_iload_n hx hb dX0_safeValue_8 rfl (lv_at hl 1 rfl) ?_
    refine lv_aload_n hx hb dX0_safeValue_9 rfl (lv_at hl 0 rfl) ?_
    refine gB_9 E hW dX0_safeValue_10 ?_
    refine callI_ (n := 2) (As := [.int (nI k), .int (σ 9 0)]) (rest := []) E hW (mB_valueAt l D q d σ (nI k) (σ 9 0) hG) (lw_V q108 q110 qs1 q15 q111) (by decide +kernel) ⟨by decide, by decide⟩ (ci := 0) rfl rfl rfl hl.1 rfl (Nat.le_of_ble_eq_true rfl) dX0_safeValue_13 (fun r13 u13 H locs hr13 hW => ?_)
    obtain ⟨hu13, hr13⟩ := hr13
    rw [hu13] at hW
    refine lv_goto (tgt := 20) hx hb dX0_safeValue_16 (by decide) ?_
    exact hE _ _ _ _ _ _ dX0_safeValue_20 rfl ⟨rfl, Or.inl ⟨k, hk, rfl, hr13⟩⟩ hW
set_option maxHeartbeats 4000000 in
set_option maxRecDepth 100000 in
/-- conflicts -/
theorem mB_conflicts (l : Launch) (D : va_G) (q : Nat → Nat) (d : Nat → ClassId) (σ : St) (a1 : Int32) (hG : okG σ) : MI l D (wB q d) (tB d) yX0_conflicts cX0_conflicts 2 .int 3 70 [.ref (q 20), .int a1] σ (fun r u => u = σ ∧ ((∃ j, j < 4 ∧ a1 = nI j ∧ bt (σ 16 0) j = true ∧ ∃ x, CS σ (σ 17 j) 8 x ∧ r = x &&& σ 18 j) ∨ (¬ OpN σ a1 ∧ r = 0))) := by
  refine MI.of (by decide) (Nat.le_of_ble_eq_true rfl) ?_
  intro p e R s m args below meth c Q A ls E hE hW hl
  have hx := E.hx
  have hb := E.hb
  have hl : lv_has ls 2 [(0, .ref (q 20)), (1, .int a1)] := hl
  refine lv_aload_n hx hb dX0_conflicts_0 rfl (lv_at hl 0 rfl) ?_
  refine lv_iload_n hx hb dX0_conflicts_1 rfl (lv_at hl 1 rfl) ?_
  refine callI_ (n := 1) (As := [.int a1]) (rest := []) E hW (mB_isOpen l D q d σ a1) (lw_V q93 q95 qs0 q15 q96) (by decide +kernel) ⟨by decide, by decide⟩ (ci := 0) rfl rfl rfl hl.1 rfl (Nat.le_of_ble_eq_true rfl) dX0_conflicts_2 (fun r2 u2 H locs hr2 hW => ?_)
  obtain ⟨hu2, hr2⟩ := hr2
  rw [hu2] at hW
  refine lv_if_eq (tgt := 28) hx hb dX0_conflicts_5 (by decide) (fun h5 => ?_) (fun h5 => ?_)
  · refine lv_iconst (v := 0) hx hb dX0_conflicts_28 (by decide) ?_
    exact hE _ _ _ _ _ _ dX0_conflicts_29 rfl ⟨rfl, Or.inr ⟨hr2.no h5, rfl⟩⟩ hW
  · obtain ⟨j, hj, rfl, hbj⟩ := hr2.yes h5
    refine lv_aload_n hx hb dX0_conflicts_8 rfl (lv_at hl 0 rfl) ?_
    refine lv_aload_n hx hb dX0_conflicts_9 rfl (lv_at hl 0 rfl) ?_
    refine gB_17 E hW dX0_conflicts_10 ?_
    refine lv_iload_n hx hb dX0_conflicts_13 rfl (lv_at hl 1 rfl) ?_
    refine lB_17 E hW (by omega) dX0_conflicts_14 ?_
    refine callI_ (n := 1) (As := [.int (σ 17 j)]) (rest := []) E hW (mB_changedSince l D q d σ (σ 17 j) hG) (lw_V q124 q126 qs4 q15 q127) (by decide +kernel) ⟨by decide, by decide⟩ (ci := 0) rfl rfl rfl hl.1 rfl (Nat.le_of_ble_eq_true rfl) dX0_conflicts_15 (fun r15 u15 H locs hr15 hW => ?_)
    obtain ⟨hu15, hr15⟩ := hr15
    rw [hu15] at hW
    refine lv_aload_n hx hb dX0_conflicts_18 rfl (lv_at hl 0 rfl) ?_
    refine gB_18 E hW dX0_conflicts_19 ?_
    refine lv_iload_n hx hb dX0_conflicts_22 rfl (lv_at hl 1 rfl) ?_
    refine lB_18 E hW (by omega) dX0_conflicts_23 ?_
    refine lv_iand hx hb dX0_conflicts_24 ?_
    refine lv_goto (tgt := 29) hx hb dX0_conflicts_25 (by decide) ?_
    exact hE _ _ _ _ _ _ dX0_conflicts_29 rfl ⟨rfl, Or.inl ⟨j, hj, rfl, hbj, r15, hr15, rfl⟩⟩ hW
end
section
set_option maxRecDepth 100000
set_option maxHeartbeats 4000000 in
set_option maxRecDepth 100000 in
/-- commit, where every cell that it enters is free -/
theorem mB_commit (l : Launch) (D : va_G) (q : Nat → Nat) (d : Nat → ClassId) (σ : St) (a1 : Int32) (hG : okG σ) (hfree : ∀ (j k : Nat) (v : St), j < 4 → k < 8 → a1 = nI j → bt (σ 16 0) j = true → CLp j (cm1 σ j) k v → bt (v 18 j) k = true → ∃ i, i < 64 ∧ v 0 i = 0) : MI l D (wB q d) (tB d) yX0_commit cX0_commit 4 .int 3 70 [.ref (q 20), .int a1] σ (fun r u => (¬ OpN σ a1 ∧ r = (-1) ∧ u = σ) ∨ (∃ j, j < 4 ∧ a1 = nI j ∧ bt (σ 16 0) j = true ∧ ∃ x, CS σ (σ 17 j) 8 x ∧ ((¬ x &&& σ 18 j = 0 ∧ r = (-3) ∧ u = clO σ j) ∨ (x &&& σ 18 j = 0 ∧ σ 18 j = 0 ∧ r = 0 ∧ u = clO σ j) ∨ (x &&& σ 18 j = 0 ∧ ¬ σ 18 j = 0 ∧ r = 0 ∧ ∃ v, CLp j (cm1 σ j) 8 v ∧ u = st_up v 13 0 (v 13 0 + 1))))) := by
  refine MI.of (by decide) (Nat.le_of_ble_eq_true rfl) ?_
  intro p e R s m args below meth c Q A ls E hE hW hl
  have hx := E.hx
  have hb := E.hb
  have hl : lv_has ls 4 [(0, .ref (q 20)), (1, .int a1)] := hl
  refine lv_aload_n hx hb dX0_commit_0 rfl (lv_at hl 0 rfl) ?_
  refine lv_iload_n hx hb dX0_commit_1 rfl (lv_at hl 1 rfl) ?_
  refine callI_ (n := 1) (As := [.int a1]) (rest := []) E hW (mB_isOpen l D q d σ a1) (lw_V q93 q95 qs0 q15 q96) (by decide +kernel) ⟨by decide, by decide⟩ (ci := 0) rfl rfl rfl hl.1 rfl (Nat.le_of_ble_eq_true rfl) dX0_commit_2 (fun r2 u2 H locs hr2 hW => ?_)
  obtain ⟨hu2, hr2⟩ := hr2
  rw [hu2] at hW
  refine lv_if_ne (tgt := 10) hx hb dX0_commit_5 (by decide) (fun h5 => ?_) (fun h5 => ?_)
  · obtain ⟨j, hj, rfl, hbj⟩ := hr2.yes h5
    refine lv_aload_n hx hb dX0_commit_10 rfl (lv_at hl 0 rfl) ?_
    refine lv_aload_n hx hb dX0_commit_11 rfl (lv_at hl 0 rfl) ?_
    refine gB_17 E hW dX0_commit_12 ?_
    refine lv_iload_n hx hb dX0_commit_15 rfl (lv_at hl 1 rfl) ?_
    refine lB_17 E hW (by omega) dX0_commit_16 ?_
    refine callI_ (n := 1) (As := [.int (σ 17 j)]) (rest := []) E hW (mB_changedSince l D q d σ (σ 17 j) hG) (lw_V q124 q126 qs4 q15 q127) (by decide +kernel) ⟨by decide, by decide⟩ (ci := 0) rfl rfl rfl hl.1 rfl (Nat.le_of_ble_eq_true rfl) dX0_commit_17 (fun r17 u17 H locs hr17 hW => ?_)
    obtain ⟨hu17, hr17⟩ := hr17
    rw [hu17] at hW
    refine lv_aload_n hx hb dX0_commit_20 rfl (lv_at hl 0 rfl) ?_
    refine gB_18 E hW dX0_commit_21 ?_
    refine lv_iload_n hx hb dX0_commit_24 rfl (lv_at hl 1 rfl) ?_
    refine lB_18 E hW (by omega) dX0_commit_25 ?_
    refine lv_iand hx hb dX0_commit_26 ?_
    refine lv_if_eq (tgt := 34) hx hb dX0_commit_27 (by decide) (fun h27 => ?_) (fun h27 => ?_)
    · have hcl : r17 &&& σ 18 j = 0 := h27
      refine lv_iconst (v := 0) hx hb dX0_commit_34 (by decide) ?_
      refine lv_istore_n (lv' := [(2, .int 0), (0, .ref (q 20)), (1, .int (nI j))]) hx hb dX0_commit_35 rfl hl (by decide) rfl (fun ls hl => ?_)
      refine lv_aload_n hx hb dX0_commit_36 rfl (lv_at hl 1 rfl) ?_
      refine lv_dup hx hb dX0_commit_37 rfl ?_
      refine gB_16 E hW dX0_commit_38 ?_
      refine lv_iconst (v := 1) hx hb dX0_commit_41 (by decide) ?_
      refine lv_iload_n hx hb dX0_commit_42 rfl (lv_at hl 2 rfl) ?_
      refine lv_ishl hx hb dX0_commit_43 ?_
      refine lv_iconst (v := (-1)) hx hb dX0_commit_44 (by decide) ?_
      refine lv_ixor hx hb dX0_commit_45 ?_
      refine lv_iand hx hb dX0_commit_46 ?_
      refine pB_16 E hW dX0_commit_47 (fun H locs hW => ?_)
      refine lv_iload_n hx hb dX0_commit_50 rfl (lv_at hl 0 rfl) ?_
      refine lv_if_eq (tgt := 57) hx hb dX0_commit_51 (by decide) (fun h51 => ?_) (fun h51 => ?_)
      · refine lv_aload_n hx hb dX0_commit_57 rfl (lv_at hl 1 rfl) ?_
        refine gB_18 E hW dX0_commit_58 ?_
        refine lv_iload_n hx hb dX0_commit_61 rfl (lv_at hl 2 rfl) ?_
        refine lB_18 E hW (by omega) dX0_commit_62 ?_
        refine lv_if_eq (tgt := 143) hx hb dX0_commit_63 (by decide) (fun h63 => ?_) (fun h63 => ?_)
        · refine lv_iconst (v := 0) hx hb dX0_commit_143 (by decide) ?_
          exact hE _ _ _ _ _ _ dX0_commit_144 rfl (Or.inr ⟨j, hj, rfl, hbj, r17, hr17, Or.inr (Or.inl ⟨hcl, h63, rfl, rfl⟩)⟩) hW
        · refine lv_aload_n hx hb dX0_commit_66 rfl (lv_at hl 1 rfl) ?_
          refine lv_dup hx hb dX0_commit_67 rfl ?_
          refine gB_8 E hW dX0_commit_68 ?_
          refine lv_iconst (v := 1) hx hb dX0_commit_71 (by decide) ?_
          refine lv_iadd hx hb dX0_commit_72 ?_
          refine pB_8 E hW dX0_commit_73 (fun H locs hW => ?_)
          refine lv_iconst (v := nI 0) hx hb dX0_commit_76 (by decide) ?_
          refine lv_istore_n (lv' := [(3, .int (nI 0)), (2, .int 0), (0, .ref (q 20)), (1, .int (nI j))]) hx hb dX0_commit_77 rfl hl (by decide) rfl (fun ls hl => ?_)
          have loop : ∀ (n : Nat) (k : Nat) (v : St), 8 < k + n → (k ≤ 8) → (CLp j (cm1 σ j) k v) → ∀ (H : Heap) (locs : List Loc) (ls : Array Slot), WD D (wB q d) A s v H locs → lv_has ls 4 [(3, .int (nI k)), (2, .int 0), (0, .ref (q 20)), (1, .int (nI j))] → W p l e R s m args below meth c H locs 0 0 Q (F0 m 78 ls []) := by
            intro n
            induction n with
            | zero =>
              intro k v hn hk hC
              exact absurd hn (by omega)
            | succ n ih =>
              intro k v hn hk hC H locs ls hW hl
              refine lv_iload_n hx hb dX0_commit_78 rfl (lv_at hl 0 rfl) ?_
              refine lv_bipush (v := nI 8) hx hb dX0_commit_79 (by decide) ?_
              refine lv_icmp_ge (tgt := 133) hx hb dX0_commit_81 (by decide) (fun h81 => ?_) (fun h81 => ?_)
              · have hk2 : k = 8 := Nat.le_antisymm hk (x_ge h81 (by omega) (by omega))
                subst hk2
                refine lv_aload_n hx hb dX0_commit_133 rfl (lv_at hl 2 rfl) ?_
                refine lv_dup hx hb dX0_commit_134 rfl ?_
                refine gB_13 E hW dX0_commit_135 ?_
                refine lv_iconst (v := 1) hx hb dX0_commit_138 (by decide) ?_
                refine lv_iadd hx hb dX0_commit_139 ?_
                refine pB_13 E hW dX0_commit_140 (fun H locs hW => ?_)
                refine lv_iconst (v := 0) hx hb dX0_commit_143 (by decide) ?_
                exact hE _ _ _ _ _ _ dX0_commit_144 rfl (Or.inr ⟨j, hj, rfl, hbj, r17, hr17, Or.inr (Or.inr ⟨hcl, h63, rfl, v, hC, rfl⟩)⟩) hW
              · have hk2 : k < 8 := x_lt h81 (by omega) (by omega)
                refine lv_aload_n hx hb dX0_commit_84 rfl (lv_at hl 2 rfl) ?_
                refine gB_18 E hW dX0_commit_85 ?_
                refine lv_iload_n hx hb dX0_commit_88 rfl (lv_at hl 3 rfl) ?_
                refine lB_18 E hW (by omega) dX0_commit_89 ?_
                refine lv_iload_n hx hb dX0_commit_90 rfl (lv_at hl 0 rfl) ?_
                refine lv_ishr hx hb dX0_commit_91 ?_
                refine lv_iconst (v := 1) hx hb dX0_commit_92 (by decide) ?_
                refine lv_iand hx hb dX0_commit_93 ?_
                refine lv_if_eq (tgt := 127) hx hb dX0_commit_94 (by decide) (fun h94 => ?_) (fun h94 => ?_)
                · refine lv_iinc (v := nI (k + 1)) (lv' := [(3, .int (nI (k + 1))), (2, .int 0), (0, .ref (q 20)), (1, .int (nI j))]) hx hb dX0_commit_127 hl (k := 0) rfl (nI_1 k) (by decide) rfl (fun ls hl => ?_)
                  refine lv_goto (tgt := 78) hx hb dX0_commit_130 (by decide) ?_
                  exact ih (k + 1) v (by omega) (by omega) ⟨v, hC, Or.inr ⟨bt_get0 (by omega) h94, rfl⟩⟩ _ _ _ hW (lv_sub hl [0, 1, 2, 3] rfl)
                · have hbk : bt (v 18 j) k = true := bt_get1 (by omega) h94
                  refine lv_aload_n hx hb dX0_commit_97 rfl (lv_at hl 2 rfl) ?_
                  refine lv_iload_n hx hb dX0_commit_98 rfl (lv_at hl 0 rfl) ?_
                  refine lv_aload_n hx hb dX0_commit_99 rfl (lv_at hl 2 rfl) ?_
                  refine gB_8 E hW dX0_commit_100 ?_
                  refine lv_aload_n hx hb dX0_commit_103 rfl (lv_at hl 2 rfl) ?_
                  refine gB_19 E hW dX0_commit_104 ?_
                  refine lv_iload_n hx hb dX0_commit_107 rfl (lv_at hl 3 rfl) ?_
                  refine lv_bipush (v := nI 8) hx hb dX0_commit_108 (by decide) ?_
                  refine lv_imul hx hb dX0_commit_110 ?_
                  refine lv_iload_n hx hb dX0_commit_111 rfl (lv_at hl 0 rfl) ?_
                  refine lv_iadd hx hb dX0_commit_112 ?_
                  refine lv_topi (fun z112 ez112 => ?_)
                  obtain rfl : z112 = nI (j * 8 + k) := ez112.trans (ix8 j k)
                  refine lB_19 E hW (by omega) dX0_commit_113 ?_
                  refine callV_ (n := 3) (As := [.int (nI k), .int (v 8 0), .int (v 19 (j * 8 + k))]) (rest := []) E hW (mB_enter l D q d v (nI k) (v 8 0) (v 19 (j * 8 + k)) (hfree j k v hj hk2 rfl hbj hC hbk) (i2b8 k hk2)) (lw_V q128 q130 qs5 q15 q131) (by decide +kernel) ⟨by decide, by decide⟩ (ci := 0) rfl rfl rfl hl.1 rfl (Nat.le_of_ble_eq_true rfl) dX0_commit_114 (fun u114 H locs hr114 hW => ?_)
                  obtain ⟨i, hi, h0, rfl⟩ := hr114
                  refine lv_aload_n hx hb dX0_commit_117 rfl (lv_at hl 2 rfl) ?_
                  refine lv_dup hx hb dX0_commit_118 rfl ?_
                  refine gB_12 E hW dX0_commit_119 ?_
                  refine lv_iconst (v := 1) hx hb dX0_commit_122 (by decide) ?_
                  refine lv_iadd hx hb dX0_commit_123 ?_
                  refine pB_12 E hW dX0_commit_124 (fun H locs hW => ?_)
                  refine lv_iinc (v := nI (k + 1)) (lv' := [(3, .int (nI (k + 1))), (2, .int 0), (0, .ref (q 20)), (1, .int (nI j))]) hx hb dX0_commit_127 hl (k := 0) rfl (nI_1 k) (by decide) rfl (fun ls hl => ?_)
                  refine lv_goto (tgt := 78) hx hb dX0_commit_130 (by decide) ?_
                  exact ih (k + 1) (cstep v i k (v 8 0) (v 19 (j * 8 + k))) (by omega) (by omega) ⟨v, hC, Or.inl ⟨hbk, i, hi, h0, rfl⟩⟩ _ _ _ hW (lv_sub hl [0, 1, 2, 3] rfl)
          exact loop 9 0 (cm1 σ j) (by omega) (by omega) rfl _ _ _ hW (lv_sub hl [0, 1, 2, 3] rfl)
      · exact absurd rfl h51
    · have hcl : ¬ r17 &&& σ 18 j = 0 := h27
      refine lv_iconst (v := 1) hx hb dX0_commit_30 (by decide) ?_
      refine lv_goto (tgt := 35) hx hb dX0_commit_31 (by decide) ?_
      refine lv_istore_n (lv' := [(2, .int 1), (0, .ref (q 20)), (1, .int (nI j))]) hx hb dX0_commit_35 rfl hl (by decide) rfl (fun ls hl => ?_)
      refine lv_aload_n hx hb dX0_commit_36 rfl (lv_at hl 1 rfl) ?_
      refine lv_dup hx hb dX0_commit_37 rfl ?_
      refine gB_16 E hW dX0_commit_38 ?_
      refine lv_iconst (v := 1) hx hb dX0_commit_41 (by decide) ?_
      refine lv_iload_n hx hb dX0_commit_42 rfl (lv_at hl 2 rfl) ?_
      refine lv_ishl hx hb dX0_commit_43 ?_
      refine lv_iconst (v := (-1)) hx hb dX0_commit_44 (by decide) ?_
      refine lv_ixor hx hb dX0_commit_45 ?_
      refine lv_iand hx hb dX0_commit_46 ?_
      refine pB_16 E hW dX0_commit_47 (fun H locs hW => ?_)
      refine lv_iload_n hx hb dX0_commit_50 rfl (lv_at hl 0 rfl) ?_
      refine lv_if_eq (tgt := 57) hx hb dX0_commit_51 (by decide) (fun h51 => ?_) (fun h51 => ?_)
      · exact absurd h51 (by decide)
      · refine lv_bipush (v := (-3)) hx hb dX0_commit_54 (by decide) ?_
        exact hE _ _ _ _ _ _ dX0_commit_56 rfl (Or.inr ⟨j, hj, rfl, hbj, r17, hr17, Or.inl ⟨hcl, rfl, rfl⟩⟩) hW
  · refine lv_iconst (v := (-1)) hx hb dX0_commit_8 (by decide) ?_
    exact hE _ _ _ _ _ _ dX0_commit_9 rfl (Or.inl ⟨hr2.no h5, rfl, rfl⟩) hW
set_option maxHeartbeats 4000000 in
set_option maxRecDepth 100000 in
/-- writeThrough -/
theorem mB_writeThrough (l : Launch) (D : va_G) (q : Nat → Nat) (d : Nat → ClassId) (σ : St) : MV l D (wB q d) (tB d) yX0_writeThrough cX0_writeThrough 2 0 0 [.ref (q 20)] σ (fun u => WT σ u) := by
  refine MV.of (by decide) (Nat.le_of_ble_eq_true rfl) ?_
  intro p e R s m args below meth c Q A ls E hE hW hl
  have hx := E.hx
  have hb := E.hb
  have hl : lv_has ls 2 [(0, .ref (q 20))] := hl
  have loop : ∀ (n : Nat) (i : Nat), 64 < i + n → (i ≤ 64) → (∀ j, j < i → ¬ WTc σ j) → ∀ (H : Heap) (locs : List Loc) (ls : Array Slot), WD D (wB q d) A s σ H locs → lv_has ls 2 [(1, .int (nI i)), (0, .ref (q 20))] → W p l e R s m args below meth c H locs 0 0 Q (F0 m 2 ls []) := by
    intro n
    induction n with
    | zero =>
      intro i hn hi hN
      exact absurd hn (by omega)
    | succ n ih =>
      intro i hn hi hN H locs ls hW hl
      refine lv_iload_n hx hb dX0_writeThrough_2 rfl (lv_at hl 0 rfl) ?_
      refine lv_bipush (v := nI 64) hx hb dX0_writeThrough_3 (by decide) ?_
      refine lv_icmp_ge (tgt := 53) hx hb dX0_writeThrough_5 (by decide) (fun h5 => ?_) (fun h5 => ?_)
      · have hi2 : i = 64 := Nat.le_antisymm hi (x_ge h5 (by omega) (by omega))
        subst hi2
        exact hE _ _ _ _ _ dX0_writeThrough_53 (Or.inr ⟨hN, rfl⟩) hW
      · have hi2 : i < 64 := x_lt h5 (by omega) (by omega)
        refine lv_aload_n hx hb dX0_writeThrough_8 rfl (lv_at hl 1 rfl) ?_
        refine gB_0 E hW dX0_writeThrough_9 ?_
        refine lv_iload_n hx hb dX0_writeThrough_12 rfl (lv_at hl 0 rfl) ?_
        refine lB_0 E hW (by omega) dX0_writeThrough_13 ?_
        refine lv_if_eq (tgt := 47) hx hb dX0_writeThrough_14 (by decide) (fun h14 => ?_) (fun h14 => ?_)
        · refine lv_iinc (v := nI (i + 1)) (lv' := [(1, .int (nI (i + 1))), (0, .ref (q 20))]) hx hb dX0_writeThrough_47 hl (k := 0) rfl (nI_1 i) (by decide) rfl (fun ls hl => ?_)
          refine lv_goto (tgt := 2) hx hb dX0_writeThrough_50 (by decide) ?_
          exact ih (i + 1) (by omega) (by omega) (fun g hg => by
            rcases Nat.lt_succ_iff_lt_or_eq.mp hg with q9 | q9
            · exact hN g q9
            · rw [q9]; first | exact fun z => z.1 h14 | exact fun z => h23 z.2.1 | exact fun z => absurd h36 (x_lenlt z.2.2)) _ _ _ hW (lv_sub hl [0, 1] rfl)
        · refine lv_aload_n hx hb dX0_writeThrough_17 rfl (lv_at hl 1 rfl) ?_
          refine gB_4 E hW dX0_writeThrough_18 ?_
          refine lv_iload_n hx hb dX0_writeThrough_21 rfl (lv_at hl 0 rfl) ?_
          refine lB_4 E hW (by omega) dX0_writeThrough_22 ?_
          refine lv_if_ne (tgt := 47) hx hb dX0_writeThrough_23 (by decide) (fun h23 => ?_) (fun h23 => ?_)
          · refine lv_iinc (v := nI (i + 1)) (lv' := [(1, .int (nI (i + 1))), (0, .ref (q 20))]) hx hb dX0_writeThrough_47 hl (k := 0) rfl (nI_1 i) (by decide) rfl (fun ls hl => ?_)
            refine lv_goto (tgt := 2) hx hb dX0_writeThrough_50 (by decide) ?_
            exact ih (i + 1) (by omega) (by omega) (fun g hg => by
              rcases Nat.lt_succ_iff_lt_or_eq.mp hg with q9 | q9
              · exact hN g q9
              · rw [q9]; first | exact fun z => z.1 h14 | exact fun z => h23 z.2.1 | exact fun z => absurd h36 (x_lenlt z.2.2)) _ _ _ hW (lv_sub hl [0, 1] rfl)
          · refine lv_aload_n hx hb dX0_writeThrough_26 rfl (lv_at hl 1 rfl) ?_
            refine gB_2 E hW dX0_writeThrough_27 ?_
            refine lv_iload_n hx hb dX0_writeThrough_30 rfl (lv_at hl 0 rfl) ?_
            refine lB_2 E hW (by omega) dX0_writeThrough_31 ?_
            refine lv_aload_n hx hb dX0_writeThrough_32 rfl (lv_at hl 1 rfl) ?_
            refine gB_10 E hW dX0_writeThrough_33 ?_
            refine lv_icmp_gt (tgt := 47) hx hb dX0_writeThrough_36 (by decide) (fun h36 => ?_) (fun h36 => ?_)
            · refine lv_iinc (v := nI (i + 1)) (lv' := [(1, .int (nI (i + 1))), (0, .ref (q 20))]) hx hb dX0_writeThrough_47 hl (k := 0) rfl (nI_1 i) (by decide) rfl (fun ls hl => ?_)
              refine lv_goto (tgt := 2) hx hb dX0_writeThrough_50 (by decide) ?_
              exact ih (i + 1) (by omega) (by omega) (fun g hg => by
                rcases Nat.lt_succ_iff_lt_or_eq.mp hg with q9 | q9
                · exact hN g q9
                · rw [q9]; first | exact fun z => z.1 h14 | exact fun z => h23 z.2.1 | exact fun z => absurd h36 (x_lenlt z.2.2)) _ _ _ hW (lv_sub hl [0, 1] rfl)
            · refine lv_aload_n hx hb dX0_writeThrough_39 rfl (lv_at hl 1 rfl) ?_
              refine gB_4 E hW dX0_writeThrough_40 ?_
              refine lv_iload_n hx hb dX0_writeThrough_43 rfl (lv_at hl 0 rfl) ?_
              refine lv_iconst (v := 1) hx hb dX0_writeThrough_44 (by decide) ?_
              refine sB_4 E hW (by omega) rfl dX0_writeThrough_45 (fun H locs hW => ?_)
              exact hE _ _ _ _ _ dX0_writeThrough_46 (Or.inl ⟨i, hi2, ⟨h14, h23, x_nlt h36⟩, rfl⟩) hW
  refine lv_iconst (v := nI 0) hx hb dX0_writeThrough_0 (by decide) ?_
  refine lv_istore_n (lv' := [(1, .int (nI 0)), (0, .ref (q 20))]) hx hb dX0_writeThrough_1 rfl hl (by decide) rfl (fun ls hl => ?_)
  exact loop 65 0 (by omega) (by omega) (fun g hg => absurd hg (Nat.not_lt_zero g)) _ _ _ hW (lv_sub hl [0, 1] rfl)
set_option maxHeartbeats 4000000 in
set_option maxRecDepth 100000 in
/-- flush -/
theorem mB_flush (l : Launch) (D : va_G) (q : Nat → Nat) (d : Nat → ClassId) (σ : St) (a1 : Int32) : MI l D (wB q d) (tB d) yX0_flush cX0_flush 4 .int 1 21 [.ref (q 20), .int a1] σ (fun r u => ∃ k, k ≤ 600 ∧ r = nI k ∧ FLp σ k u ∧ (∀ j, j < k → ¬ a1 ≤ nI j) ∧ (k = 600 ∨ a1 ≤ nI k ∨ u 11 0 ≤ 0)) := by
  refine MI.of (by decide) (Nat.le_of_ble_eq_true rfl) ?_
  intro p e R s m args below meth c Q A ls E hE hW hl
  have hx := E.hx
  have hb := E.hb
  have hl : lv_has ls 4 [(0, .ref (q 20)), (1, .int a1)] := hl
  have loop : ∀ (n : Nat) (k : Nat) (v : St), 600 < k + n → (k ≤ 600) → (FLp σ k v) → (∀ j, j < k → ¬ a1 ≤ nI j) → ∀ (H : Heap) (locs : List Loc) (ls : Array Slot), WD D (wB q d) A s v H locs → lv_has ls 4 [(3, .int (nI k)), (2, .int (nI k)), (0, .ref (q 20)), (1, .int a1)] → W p l e R s m args below meth c H locs 0 0 Q (F0 m 4 ls []) := by
    intro n
    induction n with
    | zero =>
      intro k v hn hk hF hlt
      exact absurd hn (by omega)
    | succ n ih =>
      intro k v hn hk hF hlt H locs ls hW hl
      refine lv_iload_n hx hb dX0_flush_4 rfl (lv_at hl 0 rfl) ?_
      refine lv_sipush (v := nI 600) hx hb dX0_flush_5 (by decide) ?_
      refine lv_icmp_ge (tgt := 72) hx hb dX0_flush_8 (by decide) (fun h8 => ?_) (fun h8 => ?_)
      · have hk2 : k = 600 := Nat.le_antisymm hk (x_ge h8 (by omega) (by omega))
        refine lv_iload_n hx hb dX0_flush_72 rfl (lv_at hl 1 rfl) ?_
        exact hE _ _ _ _ _ _ dX0_flush_73 rfl ⟨k, hk, rfl, hF, hlt, Or.inl hk2⟩ hW
      · have hk2 : k < 600 := x_lt h8 (by omega) (by omega)
        refine lv_iload_n hx hb dX0_flush_11 rfl (lv_at hl 0 rfl) ?_
        refine lv_iload_n hx hb dX0_flush_12 rfl (lv_at hl 3 rfl) ?_
        refine lv_icmp_ge (tgt := 72) hx hb dX0_flush_13 (by decide) (fun h13 => ?_) (fun h13 => ?_)
        · refine lv_iload_n hx hb dX0_flush_72 rfl (lv_at hl 1 rfl) ?_
          exact hE _ _ _ _ _ _ dX0_flush_73 rfl ⟨k, hk, rfl, hF, hlt, Or.inr (Or.inl h13)⟩ hW
        · refine lv_aload_n hx hb dX0_flush_16 rfl (lv_at hl 2 rfl) ?_
          refine gB_11 E hW dX0_flush_17 ?_
          refine lv_if_le (tgt := 72) hx hb dX0_flush_20 (by decide) (fun h20 => ?_) (fun h20 => ?_)
          · refine lv_iload_n hx hb dX0_flush_72 rfl (lv_at hl 1 rfl) ?_
            exact hE _ _ _ _ _ _ dX0_flush_73 rfl ⟨k, hk, rfl, hF, hlt, Or.inr (Or.inr h20)⟩ hW
          · refine lv_aload_n hx hb dX0_flush_23 rfl (lv_at hl 2 rfl) ?_
            refine lv_dup hx hb dX0_flush_24 rfl ?_
            refine gB_11 E hW dX0_flush_25 ?_
            refine lv_iconst (v := 1) hx hb dX0_flush_28 (by decide) ?_
            refine lv_isub hx hb dX0_flush_29 ?_
            refine pB_11 E hW dX0_flush_30 (fun H locs hW => ?_)
            refine lv_iinc (v := nI (k + 1)) (lv' := [(2, .int (nI (k + 1))), (3, .int (nI k)), (0, .ref (q 20)), (1, .int a1)]) hx hb dX0_flush_33 hl (k := 1) rfl (nI_1 k) (by decide) rfl (fun ls hl => ?_)
            refine lv_aload_n hx hb dX0_flush_36 rfl (lv_at hl 2 rfl) ?_
            refine gB_11 E hW dX0_flush_37 ?_
            refine lv_if_ne (tgt := 62) hx hb dX0_flush_40 (by decide) (fun h40 => ?_) (fun h40 => ?_)
            · refine lv_aload_n hx hb dX0_flush_62 rfl (lv_at hl 2 rfl) ?_
              refine callV_ (n := 0) (As := []) (rest := []) E hW (mB_writeThrough l D q d (st_up v 11 0 ((v 11 0) - 1))) (lw_V q156 q158 qs9 q15 q159) (by decide +kernel) ⟨by decide, by decide⟩ (ci := 0) rfl rfl rfl hl.1 rfl (Nat.le_of_ble_eq_true rfl) dX0_flush_63 (fun u63 H locs hr63 hW => ?_)
              refine lv_iinc (v := nI (k + 1)) (lv' := [(3, .int (nI (k + 1))), (2, .int (nI (k + 1))), (0, .ref (q 20)), (1, .int a1)]) hx hb dX0_flush_66 hl (k := 1) rfl (nI_1 k) (by decide) rfl (fun ls hl => ?_)
              refine lv_goto (tgt := 4) hx hb dX0_flush_69 (by decide) ?_
              exact ih (k + 1) _ (by omega) (by omega) ⟨v, hF, x_nle h20, Or.inr ⟨h40, hr63⟩⟩ (fun g hg => by
                rcases Nat.lt_succ_iff_lt_or_eq.mp hg with q9 | q9
                · exact hlt g q9
                · rw [q9]; exact h13) _ _ _ hW (lv_sub hl [0, 1, 2, 3] rfl)
            · refine lv_aload_n hx hb dX0_flush_43 rfl (lv_at hl 2 rfl) ?_
              refine lv_aload_n hx hb dX0_flush_44 rfl (lv_at hl 2 rfl) ?_
              refine gB_10 E hW dX0_flush_45 ?_
              refine pB_9 E hW dX0_flush_48 (fun H locs hW => ?_)
              refine lv_aload_n hx hb dX0_flush_51 rfl (lv_at hl 2 rfl) ?_
              refine lv_aload_n hx hb dX0_flush_52 rfl (lv_at hl 2 rfl) ?_
              refine gB_14 E hW dX0_flush_53 ?_
              refine pB_15 E hW dX0_flush_56 (fun H locs hW => ?_)
              refine lv_goto (tgt := 66) hx hb dX0_flush_59 (by decide) ?_
              refine lv_iinc (v := nI (k + 1)) (lv' := [(3, .int (nI (k + 1))), (2, .int (nI (k + 1))), (0, .ref (q 20)), (1, .int a1)]) hx hb dX0_flush_66 hl (k := 1) rfl (nI_1 k) (by decide) rfl (fun ls hl => ?_)
              refine lv_goto (tgt := 4) hx hb dX0_flush_69 (by decide) ?_
              exact ih (k + 1) _ (by omega) (by omega) ⟨v, hF, x_nle h20, Or.inl ⟨h40, rfl⟩⟩ (fun g hg => by
                rcases Nat.lt_succ_iff_lt_or_eq.mp hg with q9 | q9
                · exact hlt g q9
                · rw [q9]; exact h13) _ _ _ hW (lv_sub hl [0, 1, 2, 3] rfl)
  refine lv_iconst (v := nI 0) hx hb dX0_flush_0 (by decide) ?_
  refine lv_istore_n (lv' := [(2, .int (nI 0)), (0, .ref (q 20)), (1, .int a1)]) hx hb dX0_flush_1 rfl hl (by decide) rfl (fun ls hl => ?_)
  refine lv_iconst (v := nI 0) hx hb dX0_flush_2 (by decide) ?_
  refine lv_istore_n (lv' := [(3, .int (nI 0)), (2, .int (nI 0)), (0, .ref (q 20)), (1, .int a1)]) hx hb dX0_flush_3 rfl hl (by decide) rfl (fun ls hl => ?_)
  exact loop 601 0 σ (by omega) (by omega) rfl (fun g hg => absurd hg (Nat.not_lt_zero g)) _ _ _ hW (lv_sub hl [0, 1, 2, 3] rfl)
set_option maxHeartbeats 4000000 in
set_option maxRecDepth 100000 in
/-- dropGaps -/
theorem mB_dropGaps (l : Launch) (D : va_G) (q : Nat → Nat) (d : Nat → ClassId) (σ : St) (hG : okG σ) : MV l D (wB q d) (tB d) yX0_dropGaps cX0_dropGaps 2 1 22 [.ref (q 20)] σ (fun u => DG σ u) := by
  refine MV.of (by decide) (Nat.le_of_ble_eq_true rfl) ?_
  intro p e R s m args below meth c Q A ls E hE hW hl
  have hx := E.hx
  have hb := E.hb
  have hl : lv_has ls 2 [(0, .ref (q 20))] := hl
  have loop : ∀ (n : Nat) (i : Nat) (v : St), 64 < i + n → (i ≤ 64) → (DGl σ i v) → ∀ (H : Heap) (locs : List Loc) (ls : Array Slot), WD D (wB q d) A s v H locs → lv_has ls 2 [(1, .int (nI i)), (0, .ref (q 20))] → W p l e R s m args below meth c H locs 0 0 Q (F0 m 2 ls []) := by
    intro n
    induction n with
    | zero =>
      intro i v hn hi hC
      exact absurd hn (by omega)
    | succ n ih =>
      intro i v hn hi hC H locs ls hW hl
      refine lv_iload_n hx hb dX0_dropGaps_2 rfl (lv_at hl 0 rfl) ?_
      refine lv_bipush (v := nI 64) hx hb dX0_dropGaps_3 (by decide) ?_
      refine lv_icmp_ge (tgt := 43) hx hb dX0_dropGaps_5 (by decide) (fun h5 => ?_) (fun h5 => ?_)
      · have hi2 : i = 64 := Nat.le_antisymm hi (x_ge h5 (by omega) (by omega))
        subst hi2
        refine lv_aload_n hx hb dX0_dropGaps_43 rfl (lv_at hl 1 rfl) ?_
        refine lv_iconst (v := 0) hx hb dX0_dropGaps_44 (by decide) ?_
        refine pB_5 E hW dX0_dropGaps_45 (fun H locs hW => ?_)
        exact hE _ _ _ _ _ dX0_dropGaps_48 ⟨v, hC, rfl⟩ hW
      · have hi2 : i < 64 := x_lt h5 (by omega) (by omega)
        have hGv : okG v := by unfold okG; rw [hC.1 5 (by decide)]; exact hG
        refine lv_aload_n hx hb dX0_dropGaps_8 rfl (lv_at hl 1 rfl) ?_
        refine gB_0 E hW dX0_dropGaps_9 ?_
        refine lv_iload_n hx hb dX0_dropGaps_12 rfl (lv_at hl 0 rfl) ?_
        refine lB_0 E hW (by omega) dX0_dropGaps_13 ?_
        refine lv_if_eq (tgt := 37) hx hb dX0_dropGaps_14 (by decide) (fun h14 => ?_) (fun h14 => ?_)
        · refine lv_iinc (v := nI (i + 1)) (lv' := [(1, .int (nI (i + 1))), (0, .ref (q 20))]) hx hb dX0_dropGaps_37 hl (k := 0) rfl (nI_1 i) (by decide) rfl (fun ls hl => ?_)
          refine lv_goto (tgt := 2) hx hb dX0_dropGaps_40 (by decide) ?_
          exact ih (i + 1) v (by omega) (by omega) (hC.keep (fun z => z.1 h14)) _ _ _ hW (lv_sub hl [0, 1] rfl)
        · refine lv_aload_n hx hb dX0_dropGaps_17 rfl (lv_at hl 1 rfl) ?_
          refine lv_aload_n hx hb dX0_dropGaps_18 rfl (lv_at hl 1 rfl) ?_
          refine gB_2 E hW dX0_dropGaps_19 ?_
          refine lv_iload_n hx hb dX0_dropGaps_22 rfl (lv_at hl 0 rfl) ?_
          refine lB_2 E hW (by omega) dX0_dropGaps_23 ?_
          refine callI_ (n := 1) (As := [.int (v 2 i)]) (rest := []) E hW (mB_masked l D q d v (v 2 i) hGv) (lw_V q116 q118 qs3 q15 q119) (by decide +kernel) ⟨by decide, by decide⟩ (ci := 0) rfl rfl rfl hl.1 rfl (Nat.le_of_ble_eq_true rfl) dX0_dropGaps_24 (fun r24 u24 H locs hr24 hW => ?_)
          obtain ⟨hu24, hr24⟩ := hr24
          rw [hu24] at hW
          refine lv_if_eq (tgt := 37) hx hb dX0_dropGaps_27 (by decide) (fun h27 => ?_) (fun h27 => ?_)
          · refine lv_iinc (v := nI (i + 1)) (lv' := [(1, .int (nI (i + 1))), (0, .ref (q 20))]) hx hb dX0_dropGaps_37 hl (k := 0) rfl (nI_1 i) (by decide) rfl (fun ls hl => ?_)
            refine lv_goto (tgt := 2) hx hb dX0_dropGaps_40 (by decide) ?_
            exact ih (i + 1) v (by omega) (by omega) (hC.keep (fun z => hr24.no h27 z.2)) _ _ _ hW (lv_sub hl [0, 1] rfl)
          · refine lv_aload_n hx hb dX0_dropGaps_30 rfl (lv_at hl 1 rfl) ?_
            refine gB_0 E hW dX0_dropGaps_31 ?_
            refine lv_iload_n hx hb dX0_dropGaps_34 rfl (lv_at hl 0 rfl) ?_
            refine lv_iconst (v := 0) hx hb dX0_dropGaps_35 (by decide) ?_
            refine sB_0 E hW (by omega) rfl dX0_dropGaps_36 (fun H locs hW => ?_)
            refine lv_iinc (v := nI (i + 1)) (lv' := [(1, .int (nI (i + 1))), (0, .ref (q 20))]) hx hb dX0_dropGaps_37 hl (k := 0) rfl (nI_1 i) (by decide) rfl (fun ls hl => ?_)
            refine lv_goto (tgt := 2) hx hb dX0_dropGaps_40 (by decide) ?_
            exact ih (i + 1) _ (by omega) (by omega) (hC.drop ⟨h14, hr24.yes h27⟩) _ _ _ hW (lv_sub hl [0, 1] rfl)
  refine lv_iconst (v := nI 0) hx hb dX0_dropGaps_0 (by decide) ?_
  refine lv_istore_n (lv' := [(1, .int (nI 0)), (0, .ref (q 20))]) hx hb dX0_dropGaps_1 rfl hl (by decide) rfl (fun ls hl => ?_)
  exact loop 65 0 σ (by omega) (by omega) (DGl.zero σ) _ _ _ hW (lv_sub hl [0, 1] rfl)
set_option maxHeartbeats 4000000 in
set_option maxRecDepth 100000 in
/-- crash -/
theorem mB_crash (l : Launch) (D : va_G) (q : Nat → Nat) (d : Nat → ClassId) (σ : St) (hG : okG σ) : MV l D (wB q d) (tB d) yX0_crash cX0_crash 2 2 43 [.ref (q 20)] σ (fun u => ∃ v w, CR (st_up σ 16 0 0) 64 v ∧ ((v 5 0 < nI 4 ∧ w = cr2 v) ∨ (¬ v 5 0 < nI 4 ∧ DG (cr2 v) w)) ∧ ((w 8 0 ≤ w 9 0 ∧ u = w) ∨ (¬ w 8 0 ≤ w 9 0 ∧ ∃ g, g < 4 ∧ w 5 0 = nI g ∧ u = st_up (st_up (st_up w 6 g (w 9 0)) 7 g (w 8 0)) 5 0 (nI g + 1)))) := by
  refine MV.of (by decide) (Nat.le_of_ble_eq_true rfl) ?_
  intro p e R s m args below meth c Q A ls E hE hW hl
  have hx := E.hx
  have hb := E.hb
  have hl : lv_has ls 2 [(0, .ref (q 20))] := hl
  have loop : ∀ (n : Nat) (i : Nat) (v : St), 64 < i + n → (i ≤ 64) → (CR (st_up σ 16 0 0) i v) → ∀ (H : Heap) (locs : List Loc) (ls : Array Slot), WD D (wB q d) A s v H locs → lv_has ls 2 [(1, .int (nI i)), (0, .ref (q 20))] → W p l e R s m args below meth c H locs 0 0 Q (F0 m 7 ls []) := by
    intro n
    induction n with
    | zero =>
      intro i v hn hi hC
      exact absurd hn (by omega)
    | succ n ih =>
      intro i v hn hi hC H locs ls hW hl
      refine lv_iload_n hx hb dX0_crash_7 rfl (lv_at hl 0 rfl) ?_
      refine lv_bipush (v := nI 64) hx hb dX0_crash_8 (by decide) ?_
      refine lv_icmp_ge (tgt := 35) hx hb dX0_crash_10 (by decide) (fun h10 => ?_) (fun h10 => ?_)
      · have hi2 : i = 64 := Nat.le_antisymm hi (x_ge h10 (by omega) (by omega))
        subst hi2
        refine lv_aload_n hx hb dX0_crash_35 rfl (lv_at hl 1 rfl) ?_
        refine lv_iconst (v := 0) hx hb dX0_crash_36 (by decide) ?_
        refine pB_11 E hW dX0_crash_37 (fun H locs hW => ?_)
        refine lv_aload_n hx hb dX0_crash_40 rfl (lv_at hl 1 rfl) ?_
        refine lv_iconst (v := 0) hx hb dX0_crash_41 (by decide) ?_
        refine pB_12 E hW dX0_crash_42 (fun H locs hW => ?_)
        refine lv_aload_n hx hb dX0_crash_45 rfl (lv_at hl 1 rfl) ?_
        refine lv_aload_n hx hb dX0_crash_46 rfl (lv_at hl 1 rfl) ?_
        refine gB_15 E hW dX0_crash_47 ?_
        refine pB_13 E hW dX0_crash_50 (fun H locs hW => ?_)
        refine lv_aload_n hx hb dX0_crash_53 rfl (lv_at hl 1 rfl) ?_
        refine gB_5 E hW dX0_crash_54 ?_
        refine lv_iconst (v := nI 4) hx hb dX0_crash_57 (by decide) ?_
        refine lv_icmp_lt (tgt := 65) hx hb dX0_crash_58 (by decide) (fun h58 => ?_) (fun h58 => ?_)
        · obtain ⟨g, hg4, hge⟩ : ∃ g, g < 4 ∧ (cr2 v) 5 0 = nI g := cr_g hG hC h58
          obtain ⟨w, hw⟩ : ∃ w, w = cr2 v := ⟨_, rfl⟩
          have hv2 : (v 5 0 < nI 4 ∧ w = cr2 v) ∨ (¬ v 5 0 < nI 4 ∧ DG (cr2 v) w) := Or.inl ⟨h58, hw⟩
          have hW : WD D (wB q d) A s (cr2 v) H locs := hW
          rw [← hw] at hW hge
          refine lv_aload_n hx hb dX0_crash_65 rfl (lv_at hl 1 rfl) ?_
          refine gB_8 E hW dX0_crash_66 ?_
          refine lv_aload_n hx hb dX0_crash_69 rfl (lv_at hl 1 rfl) ?_
          refine gB_9 E hW dX0_crash_70 ?_
          refine lv_icmp_le (tgt := 112) hx hb dX0_crash_73 (by decide) (fun h73 => ?_) (fun h73 => ?_)
          · exact hE _ _ _ _ _ dX0_crash_112 ⟨v, w, hC, hv2, Or.inl ⟨h73, rfl⟩⟩ hW
          · refine lv_aload_n hx hb dX0_crash_76 rfl (lv_at hl 1 rfl) ?_
            refine gB_6 E hW dX0_crash_77 ?_
            refine lv_aload_n hx hb dX0_crash_80 rfl (lv_at hl 1 rfl) ?_
            refine gB_5 E hW dX0_crash_81 ?_
            refine lv_topi (fun z81 ez81 => ?_)
            obtain rfl : z81 = nI g := ez81.trans hge
            refine lv_aload_n hx hb dX0_crash_84 rfl (lv_at hl 1 rfl) ?_
            refine gB_9 E hW dX0_crash_85 ?_
            refine sB_6 E hW (by omega) dX0_crash_88 (fun H locs hW => ?_)
            refine lv_aload_n hx hb dX0_crash_89 rfl (lv_at hl 1 rfl) ?_
            refine gB_7 E hW dX0_crash_90 ?_
            refine lv_aload_n hx hb dX0_crash_93 rfl (lv_at hl 1 rfl) ?_
            refine gB_5 E hW dX0_crash_94 ?_
            refine lv_topi (fun z94 ez94 => ?_)
            obtain rfl : z94 = nI g := ez94.trans hge
            refine lv_aload_n hx hb dX0_crash_97 rfl (lv_at hl 1 rfl) ?_
            refine gB_8 E hW dX0_crash_98 ?_
            refine sB_7 E hW (by omega) dX0_crash_101 (fun H locs hW => ?_)
            refine lv_aload_n hx hb dX0_crash_102 rfl (lv_at hl 1 rfl) ?_
            refine lv_dup hx hb dX0_crash_103 rfl ?_
            refine gB_5 E hW dX0_crash_104 ?_
            refine lv_topi (fun z104 ez104 => ?_)
            obtain rfl : z104 = nI g := ez104.trans hge
            refine lv_iconst (v := 1) hx hb dX0_crash_107 (by decide) ?_
            refine lv_iadd hx hb dX0_crash_108 ?_
            refine pB_5 E hW dX0_crash_109 (fun H locs hW => ?_)
            exact hE _ _ _ _ _ dX0_crash_112 ⟨v, w, hC, hv2, Or.inr ⟨h73, g, hg4, hge, rfl⟩⟩ hW
        · have hW : WD D (wB q d) A s (cr2 v) H locs := hW
          refine lv_aload_n hx hb dX0_crash_61 rfl (lv_at hl 1 rfl) ?_
          refine callV_ (n := 0) (As := []) (rest := []) E hW (mB_dropGaps l D q d (cr2 v) (cr_okG hG hC)) (lw_V q168 q170 qs10 q15 q171) (by decide +kernel) ⟨by decide, by decide⟩ (ci := 0) rfl rfl rfl hl.1 rfl (Nat.le_of_ble_eq_true rfl) dX0_crash_62 (fun u62 H locs hr62 hW => ?_)
          obtain ⟨w, hw⟩ : ∃ w, w = u62 := ⟨_, rfl⟩
          rw [← hw] at hW hr62
          have hv2 : (v 5 0 < nI 4 ∧ w = cr2 v) ∨ (¬ v 5 0 < nI 4 ∧ DG (cr2 v) w) := Or.inr ⟨h58, hr62⟩
          obtain ⟨g, hg4, hge⟩ : ∃ g, g < 4 ∧ w 5 0 = nI g := ⟨0, by omega, by obtain ⟨v9, _, e9⟩ := hr62; rw [e9]; rfl⟩
          refine lv_aload_n hx hb dX0_crash_65 rfl (lv_at hl 1 rfl) ?_
          refine gB_8 E hW dX0_crash_66 ?_
          refine lv_aload_n hx hb dX0_crash_69 rfl (lv_at hl 1 rfl) ?_
          refine gB_9 E hW dX0_crash_70 ?_
          refine lv_icmp_le (tgt := 112) hx hb dX0_crash_73 (by decide) (fun h73 => ?_) (fun h73 => ?_)
          · exact hE _ _ _ _ _ dX0_crash_112 ⟨v, w, hC, hv2, Or.inl ⟨h73, rfl⟩⟩ hW
          · refine lv_aload_n hx hb dX0_crash_76 rfl (lv_at hl 1 rfl) ?_
            refine gB_6 E hW dX0_crash_77 ?_
            refine lv_aload_n hx hb dX0_crash_80 rfl (lv_at hl 1 rfl) ?_
            refine gB_5 E hW dX0_crash_81 ?_
            refine lv_topi (fun z81 ez81 => ?_)
            obtain rfl : z81 = nI g := ez81.trans hge
            refine lv_aload_n hx hb dX0_crash_84 rfl (lv_at hl 1 rfl) ?_
            refine gB_9 E hW dX0_crash_85 ?_
            refine sB_6 E hW (by omega) dX0_crash_88 (fun H locs hW => ?_)
            refine lv_aload_n hx hb dX0_crash_89 rfl (lv_at hl 1 rfl) ?_
            refine gB_7 E hW dX0_crash_90 ?_
            refine lv_aload_n hx hb dX0_crash_93 rfl (lv_at hl 1 rfl) ?_
            refine gB_5 E hW dX0_crash_94 ?_
            refine lv_topi (fun z94 ez94 => ?_)
            obtain rfl : z94 = nI g := ez94.trans hge
            refine lv_aload_n hx hb dX0_crash_97 rfl (lv_at hl 1 rfl) ?_
            refine gB_8 E hW dX0_crash_98 ?_
            refine sB_7 E hW (by omega) dX0_crash_101 (fun H locs hW => ?_)
            refine lv_aload_n hx hb dX0_crash_102 rfl (lv_at hl 1 rfl) ?_
            refine lv_dup hx hb dX0_crash_103 rfl ?_
            refine gB_5 E hW dX0_crash_104 ?_
            refine lv_topi (fun z104 ez104 => ?_)
            obtain rfl : z104 = nI g := ez104.trans hge
            refine lv_iconst (v := 1) hx hb dX0_crash_107 (by decide) ?_
            refine lv_iadd hx hb dX0_crash_108 ?_
            refine pB_5 E hW dX0_crash_109 (fun H locs hW => ?_)
            exact hE _ _ _ _ _ dX0_crash_112 ⟨v, w, hC, hv2, Or.inr ⟨h73, g, hg4, hge, rfl⟩⟩ hW
      · have hi2 : i < 64 := x_lt h10 (by omega) (by omega)
        refine lv_aload_n hx hb dX0_crash_13 rfl (lv_at hl 1 rfl) ?_
        refine gB_4 E hW dX0_crash_14 ?_
        refine lv_iload_n hx hb dX0_crash_17 rfl (lv_at hl 0 rfl) ?_
        refine lB_4 E hW (by omega) dX0_crash_18 ?_
        refine lv_if_ne (tgt := 29) hx hb dX0_crash_19 (by decide) (fun h19 => ?_) (fun h19 => ?_)
        · refine lv_iinc (v := nI (i + 1)) (lv' := [(1, .int (nI (i + 1))), (0, .ref (q 20))]) hx hb dX0_crash_29 hl (k := 0) rfl (nI_1 i) (by decide) rfl (fun ls hl => ?_)
          refine lv_goto (tgt := 7) hx hb dX0_crash_32 (by decide) ?_
          exact ih (i + 1) v (by omega) (by omega) (hC.keep h19) _ _ _ hW (lv_sub hl [0, 1] rfl)
        · refine lv_aload_n hx hb dX0_crash_22 rfl (lv_at hl 1 rfl) ?_
          refine gB_0 E hW dX0_crash_23 ?_
          refine lv_iload_n hx hb dX0_crash_26 rfl (lv_at hl 0 rfl) ?_
          refine lv_iconst (v := 0) hx hb dX0_crash_27 (by decide) ?_
          refine sB_0 E hW (by omega) rfl dX0_crash_28 (fun H locs hW => ?_)
          refine lv_iinc (v := nI (i + 1)) (lv' := [(1, .int (nI (i + 1))), (0, .ref (q 20))]) hx hb dX0_crash_29 hl (k := 0) rfl (nI_1 i) (by decide) rfl (fun ls hl => ?_)
          refine lv_goto (tgt := 7) hx hb dX0_crash_32 (by decide) ?_
          exact ih (i + 1) _ (by omega) (by omega) (hC.drop h19) _ _ _ hW (lv_sub hl [0, 1] rfl)
  refine lv_aload_n hx hb dX0_crash_0 rfl (lv_at hl 0 rfl) ?_
  refine lv_iconst (v := 0) hx hb dX0_crash_1 (by decide) ?_
  refine pB_16 E hW dX0_crash_2 (fun H locs hW => ?_)
  refine lv_iconst (v := nI 0) hx hb dX0_crash_5 (by decide) ?_
  refine lv_istore_n (lv' := [(1, .int (nI 0)), (0, .ref (q 20))]) hx hb dX0_crash_6 rfl hl (by decide) rfl (fun ls hl => ?_)
  exact loop 65 0 (st_up σ 16 0 0) (by omega) (by omega) (CR.zero _) _ _ _ hW (lv_sub hl [0, 1] rfl)
end
section
set_option maxRecDepth 100000
def st0 : St := fun _ _ => 0
abbrev fB0 : List Value := [.null, .null, .null, .null, .null, .int 0, .null, .null, .int 0, .int 0, .int 0, .int 0, .int 0, .int 0, .int 0, .int 0, .int 0, .null, .null, .null]
set_option maxHeartbeats 4000000 in
/-- the new object: its arrays are made, all is 0 -/
theorem mB_init (l : Launch) (D : va_G) (h0 sz : Nat) : Met l yX0_init (ws_ yX0_init cX0_init 1 none) ({ frames := 1, cells := 10, slots := 368, locals := 12 }) (va_Pc [.ref h0] (fun U => U.heap.size = sz ∧ va_P D vwCl [(h0, .inr (0, fB0))] U.heap ∧ va_K D vwCl [] U ∧ va_D (fun _ => True) [(h0, .inr (0, fB0))])) (va_Qv (fun u : St => u = st0) (fun u t => ∃ (q : Nat → Nat) (d : Nat → ClassId), q 20 = h0 ∧ va_P D vwCl (wB q d u) t.heap ∧ va_K D vwCl (tB d) t ∧ va_D (va_A [(h0, .inr (0, fB0))] sz) (wB q d u)) (va_A [(h0, .inr (0, fB0))] sz)) 10 368 (va_A [(h0, .inr (0, fB0))] sz) := by
  refine Met.ofW (cc := cX0_init) (maxL := 1) (ret := none) (by decide) rfl ?_
  intro p e s m args below meth c s₁ B hml hv
  obtain ⟨rfl, hsz, hP, hK, hD0⟩ := hv
  have hx := B.exec
  have hb := B.bytes
  have hr := B.returns
  have hts := atoms_spec (ws := ws_ yX0_init cX0_init 1 none) B.pre
  have hts : ∀ w ∈ lw_all, w.before _ s = true := fun w h => hts w (List.mem_cons_of_mem _ h)
  have hown : s.vm.findClass RX0 = some m.cls := findClass_of_methodNamed B.named
  have hlocks := B.notSynchronized
  have hin : meth.name = "<init>" := (name_of_methodNamed B.named B.method).1
  subst hsz
  have hD := hD0.self (sz := s.heap.size)
  generalize hAe : va_A [(h0, .inr (0, fB0))] s.heap.size = A at hD ⊢
  have hA : ∀ q : Nat, s.heap.size ≤ q → A q := fun q h => by rw [← hAe]; exact Or.inr h
  have hS : va_S A s.heap s.heap [] := va_S.rf
  have hl := lv_entry ([.ref h0]) (n := 1) (Nat.le_of_ble_eq_true rfl)
  rw [lg_entry_eq]
  generalize (lg_sl ([.ref h0]) ++ List.replicate (1 - (lg_sl ([.ref h0])).length) Slot.unset).toArray = ls at hl ⊢
  have hl : lv_has ls 1 [(0, .ref h0)] := hl
  refine lv_aload_n hx hb dX0_init_0 rfl (lv_at hl 0 rfl) ?_
  refine W.objInit hx hb hown (hts _ q22) (hts _ q23) (hts _ q24) rfl (by rw [hml]; exact hl.1) rfl dX0_init_1 (Nat.le_of_ble_eq_true rfl) (Nat.le_of_ble_eq_true rfl) ?_
  refine W.eq (g2 := F0 m 4 ls []) rfl ?_
  refine lv_aload_n hx hb dX0_init_4 rfl (lv_at hl 0 rfl) ?_
  refine lv_bipush (v := nI 64) hx hb dX0_init_5 (by decide) ?_
  refine va_newa (atype := .boolean) (a0 := (64, .inl (fun _ => 0))) (N' := 64) (ty := .boolean) hx hb (hts _ q86) rfl hK hP hD hS hA (fun _ => rfl) (by decide) (by decide) (by decide) (Nat.le_of_ble_eq_true rfl) (Nat.le_of_ble_eq_true rfl) dX0_init_7 (fun q0 c0 H hK hP hD hS => ?_)
  have hK : va_K D vwCl [(c0, .boolean)] s := hK
  have hP : va_P D vwCl [(h0, .inr (0, [.null, .null, .null, .null, .null, .int 0, .null, .null, .int 0, .int 0, .int 0, .int 0, .int 0, .int 0, .int 0, .int 0, .int 0, .null, .null, .null])), (q0, .inl (c0, 64, .inl (fun _ => 0)))] H := hP
  have hD : va_D A [(h0, .inr (0, [.null, .null, .null, .null, .null, .int 0, .null, .null, .int 0, .int 0, .int 0, .int 0, .int 0, .int 0, .int 0, .int 0, .int 0, .null, .null, .null])), (q0, .inl (c0, 64, .inl (fun _ => 0)))] := hD
  refine W.widen (k := 1) (n := 64) (by omega) (by omega) ?_
  refine va_putF (D := D) (ci := 0) (v := .ref q0) (ty := .array .boolean) (C := RX0) (T := TX0) (N := 20) hx hb hts in_X0 tyX0 tyX0_ok nmX0 hown hK hP hD hS 0 rfl rfl 0 (by decide) (hts _ q25) (fun _ h9 => h9) rfl hin rfl (by decide +kernel) rfl rfl (Nat.le_of_ble_eq_true rfl) dX0_init_9 (fun H locs hP hD hS => ?_)
  have hP : va_P D vwCl [(h0, .inr (0, [.ref q0, .null, .null, .null, .null, .int 0, .null, .null, .int 0, .int 0, .int 0, .int 0, .int 0, .int 0, .int 0, .int 0, .int 0, .null, .null, .null])), (q0, .inl (c0, 64, .inl (fun _ => 0)))] H := hP
  have hD : va_D A [(h0, .inr (0, [.ref q0, .null, .null, .null, .null, .int 0, .null, .null, .int 0, .int 0, .int 0, .int 0, .int 0, .int 0, .int 0, .int 0, .int 0, .null, .null, .null])), (q0, .inl (c0, 64, .inl (fun _ => 0)))] := hD
  refine lv_aload_n hx hb dX0_init_12 rfl (lv_at hl 0 rfl) ?_
  refine lv_bipush (v := nI 64) hx hb dX0_init_13 (by decide) ?_
  refine va_newa (atype := .byte) (a0 := (64, .inl (fun _ => 0))) (N' := 64) (ty := .byte) hx hb (hts _ q87) rfl hK hP hD hS hA (fun _ => rfl) (by decide) (by decide) (by decide) (Nat.le_of_ble_eq_true rfl) (Nat.le_of_ble_eq_true rfl) dX0_init_15 (fun q1 c1 H hK hP hD hS => ?_)
  have hK : va_K D vwCl [(c0, .boolean), (c1, .byte)] s := hK
  have hP : va_P D vwCl [(h0, .inr (0, [.ref q0, .null, .null, .null, .null, .int 0, .null, .null, .int 0, .int 0, .int 0, .int 0, .int 0, .int 0, .int 0, .int 0, .int 0, .null, .null, .null])), (q0, .inl (c0, 64, .inl (fun _ => 0))), (q1, .inl (c1, 64, .inl (fun _ => 0)))] H := hP
  have hD : va_D A [(h0, .inr (0, [.ref q0, .null, .null, .null, .null, .int 0, .null, .null, .int 0, .int 0, .int 0, .int 0, .int 0, .int 0, .int 0, .int 0, .int 0, .null, .null, .null])), (q0, .inl (c0, 64, .inl (fun _ => 0))), (q1, .inl (c1, 64, .inl (fun _ => 0)))] := hD
  refine W.widen (k := 2) (n := 128) (by omega) (by omega) ?_
  refine va_putF (D := D) (ci := 0) (v := .ref q1) (ty := .array .byte) (C := RX0) (T := TX0) (N := 20) hx hb hts in_X0 tyX0 tyX0_ok nmX0 hown hK hP hD hS 0 rfl rfl 1 (by decide) (hts _ q26) (fun _ h9 => h9) rfl hin rfl (by decide +kernel) rfl rfl (Nat.le_of_ble_eq_true rfl) dX0_init_17 (fun H locs hP hD hS => ?_)
  have hP : va_P D vwCl [(h0, .inr (0, [.ref q0, .ref q1, .null, .null, .null, .int 0, .null, .null, .int 0, .int 0, .int 0, .int 0, .int 0, .int 0, .int 0, .int 0, .int 0, .null, .null, .null])), (q0, .inl (c0, 64, .inl (fun _ => 0))), (q1, .inl (c1, 64, .inl (fun _ => 0)))] H := hP
  have hD : va_D A [(h0, .inr (0, [.ref q0, .ref q1, .null, .null, .null, .int 0, .null, .null, .int 0, .int 0, .int 0, .int 0, .int 0, .int 0, .int 0, .int 0, .int 0, .null, .null, .null])), (q0, .inl (c0, 64, .inl (fun _ => 0))), (q1, .inl (c1, 64, .inl (fun _ => 0)))] := hD
  refine lv_aload_n hx hb dX0_init_20 rfl (lv_at hl 0 rfl) ?_
  refine lv_bipush (v := nI 64) hx hb dX0_init_21 (by decide) ?_
  refine va_newa (atype := .int) (a0 := (64, .inl (fun _ => 0))) (N' := 64) (ty := .int) hx hb (hts _ q88) rfl hK hP hD hS hA (fun _ => rfl) (by decide) (by decide) (by decide) (Nat.le_of_ble_eq_true rfl) (Nat.le_of_ble_eq_true rfl) dX0_init_23 (fun q2 c2 H hK hP hD hS => ?_)
  have hK : va_K D vwCl [(c0, .boolean), (c1, .byte), (c2, .int)] s := hK
  have hP : va_P D vwCl [(h0, .inr (0, [.ref q0, .ref q1, .null, .null, .null, .int 0, .null, .null, .int 0, .int 0, .int 0, .int 0, .int 0, .int 0, .int 0, .int 0, .int 0, .null, .null, .null])), (q0, .inl (c0, 64, .inl (fun _ => 0))), (q1, .inl (c1, 64, .inl (fun _ => 0))), (q2, .inl (c2, 64, .inl (fun _ => 0)))] H := hP
  have hD : va_D A [(h0, .inr (0, [.ref q0, .ref q1, .null, .null, .null, .int 0, .null, .null, .int 0, .int 0, .int 0, .int 0, .int 0, .int 0, .int 0, .int 0, .int 0, .null, .null, .null])), (q0, .inl (c0, 64, .inl (fun _ => 0))), (q1, .inl (c1, 64, .inl (fun _ => 0))), (q2, .inl (c2, 64, .inl (fun _ => 0)))] := hD
  refine W.widen (k := 3) (n := 192) (by omega) (by omega) ?_
  refine va_putF (D := D) (ci := 0) (v := .ref q2) (ty := .array .int) (C := RX0) (T := TX0) (N := 20) hx hb hts in_X0 tyX0 tyX0_ok nmX0 hown hK hP hD hS 0 rfl rfl 2 (by decide) (hts _ q27) (fun _ h9 => h9) rfl hin rfl (by decide +kernel) rfl rfl (Nat.le_of_ble_eq_true rfl) dX0_init_25 (fun H locs hP hD hS => ?_)
  have hP : va_P D vwCl [(h0, .inr (0, [.ref q0, .ref q1, .ref q2, .null, .null, .int 0, .null, .null, .int 0, .int 0, .int 0, .int 0, .int 0, .int 0, .int 0, .int 0, .int 0, .null, .null, .null])), (q0, .inl (c0, 64, .inl (fun _ => 0))), (q1, .inl (c1, 64, .inl (fun _ => 0))), (q2, .inl (c2, 64, .inl (fun _ => 0)))] H := hP
  have hD : va_D A [(h0, .inr (0, [.ref q0, .ref q1, .ref q2, .null, .null, .int 0, .null, .null, .int 0, .int 0, .int 0, .int 0, .int 0, .int 0, .int 0, .int 0, .int 0, .null, .null, .null])), (q0, .inl (c0, 64, .inl (fun _ => 0))), (q1, .inl (c1, 64, .inl (fun _ => 0))), (q2, .inl (c2, 64, .inl (fun _ => 0)))] := hD
  refine lv_aload_n hx hb dX0_init_28 rfl (lv_at hl 0 rfl) ?_
  refine lv_bipush (v := nI 64) hx hb dX0_init_29 (by decide) ?_
  refine va_newa (atype := .int) (a0 := (64, .inl (fun _ => 0))) (N' := 64) (ty := .int) hx hb (hts _ q88) rfl hK hP hD hS hA (fun _ => rfl) (by decide) (by decide) (by decide) (Nat.le_of_ble_eq_true rfl) (Nat.le_of_ble_eq_true rfl) dX0_init_31 (fun q3 c3 H hK hP hD hS => ?_)
  have hK : va_K D vwCl [(c0, .boolean), (c1, .byte), (c2, .int), (c3, .int)] s := hK
  have hP : va_P D vwCl [(h0, .inr (0, [.ref q0, .ref q1, .ref q2, .null, .null, .int 0, .null, .null, .int 0, .int 0, .int 0, .int 0, .int 0, .int 0, .int 0, .int 0, .int 0, .null, .null, .null])), (q0, .inl (c0, 64, .inl (fun _ => 0))), (q1, .inl (c1, 64, .inl (fun _ => 0))), (q2, .inl (c2, 64, .inl (fun _ => 0))), (q3, .inl (c3, 64, .inl (fun _ => 0)))] H := hP
  have hD : va_D A [(h0, .inr (0, [.ref q0, .ref q1, .ref q2, .null, .null, .int 0, .null, .null, .int 0, .int 0, .int 0, .int 0, .int 0, .int 0, .int 0, .int 0, .int 0, .null, .null, .null])), (q0, .inl (c0, 64, .inl (fun _ => 0))), (q1, .inl (c1, 64, .inl (fun _ => 0))), (q2, .inl (c2, 64, .inl (fun _ => 0))), (q3, .inl (c3, 64, .inl (fun _ => 0)))] := hD
  refine W.widen (k := 4) (n := 256) (by omega) (by omega) ?_
  refine va_putF (D := D) (ci := 0) (v := .ref q3) (ty := .array .int) (C := RX0) (T := TX0) (N := 20) hx hb hts in_X0 tyX0 tyX0_ok nmX0 hown hK hP hD hS 0 rfl rfl 3 (by decide) (hts _ q28) (fun _ h9 => h9) rfl hin rfl (by decide +kernel) rfl rfl (Nat.le_of_ble_eq_true rfl) dX0_init_33 (fun H locs hP hD hS => ?_)
  have hP : va_P D vwCl [(h0, .inr (0, [.ref q0, .ref q1, .ref q2, .ref q3, .null, .int 0, .null, .null, .int 0, .int 0, .int 0, .int 0, .int 0, .int 0, .int 0, .int 0, .int 0, .null, .null, .null])), (q0, .inl (c0, 64, .inl (fun _ => 0))), (q1, .inl (c1, 64, .inl (fun _ => 0))), (q2, .inl (c2, 64, .inl (fun _ => 0))), (q3, .inl (c3, 64, .inl (fun _ => 0)))] H := hP
  have hD : va_D A [(h0, .inr (0, [.ref q0, .ref q1, .ref q2, .ref q3, .null, .int 0, .null, .null, .int 0, .int 0, .int 0, .int 0, .int 0, .int 0, .int 0, .int 0, .int 0, .null, .null, .null])), (q0, .inl (c0, 64, .inl (fun _ => 0))), (q1, .inl (c1, 64, .inl (fun _ => 0))), (q2, .inl (c2, 64, .inl (fun _ => 0))), (q3, .inl (c3, 64, .inl (fun _ => 0)))] := hD
  refine lv_aload_n hx hb dX0_init_36 rfl (lv_at hl 0 rfl) ?_
  refine lv_bipush (v := nI 64) hx hb dX0_init_37 (by decide) ?_
  refine va_newa (atype := .boolean) (a0 := (64, .inl (fun _ => 0))) (N' := 64) (ty := .boolean) hx hb (hts _ q86) rfl hK hP hD hS hA (fun _ => rfl) (by decide) (by decide) (by decide) (Nat.le_of_ble_eq_true rfl) (Nat.le_of_ble_eq_true rfl) dX0_init_39 (fun q4 c4 H hK hP hD hS => ?_)
  have hK : va_K D vwCl [(c0, .boolean), (c1, .byte), (c2, .int), (c3, .int), (c4, .boolean)] s := hK
  have hP : va_P D vwCl [(h0, .inr (0, [.ref q0, .ref q1, .ref q2, .ref q3, .null, .int 0, .null, .null, .int 0, .int 0, .int 0, .int 0, .int 0, .int 0, .int 0, .int 0, .int 0, .null, .null, .null])), (q0, .inl (c0, 64, .inl (fun _ => 0))), (q1, .inl (c1, 64, .inl (fun _ => 0))), (q2, .inl (c2, 64, .inl (fun _ => 0))), (q3, .inl (c3, 64, .inl (fun _ => 0))), (q4, .inl (c4, 64, .inl (fun _ => 0)))] H := hP
  have hD : va_D A [(h0, .inr (0, [.ref q0, .ref q1, .ref q2, .ref q3, .null, .int 0, .null, .null, .int 0, .int 0, .int 0, .int 0, .int 0, .int 0, .int 0, .int 0, .int 0, .null, .null, .null])), (q0, .inl (c0, 64, .inl (fun _ => 0))), (q1, .inl (c1, 64, .inl (fun _ => 0))), (q2, .inl (c2, 64, .inl (fun _ => 0))), (q3, .inl (c3, 64, .inl (fun _ => 0))), (q4, .inl (c4, 64, .inl (fun _ => 0)))] := hD
  refine W.widen (k := 5) (n := 320) (by omega) (by omega) ?_
  refine va_putF (D := D) (ci := 0) (v := .ref q4) (ty := .array .boolean) (C := RX0) (T := TX0) (N := 20) hx hb hts in_X0 tyX0 tyX0_ok nmX0 hown hK hP hD hS 0 rfl rfl 4 (by decide) (hts _ q29) (fun _ h9 => h9) rfl hin rfl (by decide +kernel) rfl rfl (Nat.le_of_ble_eq_true rfl) dX0_init_41 (fun H locs hP hD hS => ?_)
  have hP : va_P D vwCl [(h0, .inr (0, [.ref q0, .ref q1, .ref q2, .ref q3, .ref q4, .int 0, .null, .null, .int 0, .int 0, .int 0, .int 0, .int 0, .int 0, .int 0, .int 0, .int 0, .null, .null, .null])), (q0, .inl (c0, 64, .inl (fun _ => 0))), (q1, .inl (c1, 64, .inl (fun _ => 0))), (q2, .inl (c2, 64, .inl (fun _ => 0))), (q3, .inl (c3, 64, .inl (fun _ => 0))), (q4, .inl (c4, 64, .inl (fun _ => 0)))] H := hP
  have hD : va_D A [(h0, .inr (0, [.ref q0, .ref q1, .ref q2, .ref q3, .ref q4, .int 0, .null, .null, .int 0, .int 0, .int 0, .int 0, .int 0, .int 0, .int 0, .int 0, .int 0, .null, .null, .null])), (q0, .inl (c0, 64, .inl (fun _ => 0))), (q1, .inl (c1, 64, .inl (fun _ => 0))), (q2, .inl (c2, 64, .inl (fun _ => 0))), (q3, .inl (c3, 64, .inl (fun _ => 0))), (q4, .inl (c4, 64, .inl (fun _ => 0)))] := hD
  refine lv_aload_n hx hb dX0_init_44 rfl (lv_at hl 0 rfl) ?_
  refine lv_iconst (v := nI 4) hx hb dX0_init_45 (by decide) ?_
  refine va_newa (atype := .int) (a0 := (4, .inl (fun _ => 0))) (N' := 4) (ty := .int) hx hb (hts _ q88) rfl hK hP hD hS hA (fun _ => rfl) (by decide) (by decide) (by decide) (Nat.le_of_ble_eq_true rfl) (Nat.le_of_ble_eq_true rfl) dX0_init_46 (fun q6 c6 H hK hP hD hS => ?_)
  have hK : va_K D vwCl [(c0, .boolean), (c1, .byte), (c2, .int), (c3, .int), (c4, .boolean), (c6, .int)] s := hK
  have hP : va_P D vwCl [(h0, .inr (0, [.ref q0, .ref q1, .ref q2, .ref q3, .ref q4, .int 0, .null, .null, .int 0, .int 0, .int 0, .int 0, .int 0, .int 0, .int 0, .int 0, .int 0, .null, .null, .null])), (q0, .inl (c0, 64, .inl (fun _ => 0))), (q1, .inl (c1, 64, .inl (fun _ => 0))), (q2, .inl (c2, 64, .inl (fun _ => 0))), (q3, .inl (c3, 64, .inl (fun _ => 0))), (q4, .inl (c4, 64, .inl (fun _ => 0))), (q6, .inl (c6, 4, .inl (fun _ => 0)))] H := hP
  have hD : va_D A [(h0, .inr (0, [.ref q0, .ref q1, .ref q2, .ref q3, .ref q4, .int 0, .null, .null, .int 0, .int 0, .int 0, .int 0, .int 0, .int 0, .int 0, .int 0, .int 0, .null, .null, .null])), (q0, .inl (c0, 64, .inl (fun _ => 0))), (q1, .inl (c1, 64, .inl (fun _ => 0))), (q2, .inl (c2, 64, .inl (fun _ => 0))), (q3, .inl (c3, 64, .inl (fun _ => 0))), (q4, .inl (c4, 64, .inl (fun _ => 0))), (q6, .inl (c6, 4, .inl (fun _ => 0)))] := hD
  refine W.widen (k := 6) (n := 324) (by omega) (by omega) ?_
  refine va_putF (D := D) (ci := 0) (v := .ref q6) (ty := .array .int) (C := RX0) (T := TX0) (N := 20) hx hb hts in_X0 tyX0 tyX0_ok nmX0 hown hK hP hD hS 0 rfl rfl 6 (by decide) (hts _ q31) (fun _ h9 => h9) rfl hin rfl (by decide +kernel) rfl rfl (Nat.le_of_ble_eq_true rfl) dX0_init_48 (fun H locs hP hD hS => ?_)
  have hP : va_P D vwCl [(h0, .inr (0, [.ref q0, .ref q1, .ref q2, .ref q3, .ref q4, .int 0, .ref q6, .null, .int 0, .int 0, .int 0, .int 0, .int 0, .int 0, .int 0, .int 0, .int 0, .null, .null, .null])), (q0, .inl (c0, 64, .inl (fun _ => 0))), (q1, .inl (c1, 64, .inl (fun _ => 0))), (q2, .inl (c2, 64, .inl (fun _ => 0))), (q3, .inl (c3, 64, .inl (fun _ => 0))), (q4, .inl (c4, 64, .inl (fun _ => 0))), (q6, .inl (c6, 4, .inl (fun _ => 0)))] H := hP
  have hD : va_D A [(h0, .inr (0, [.ref q0, .ref q1, .ref q2, .ref q3, .ref q4, .int 0, .ref q6, .null, .int 0, .int 0, .int 0, .int 0, .int 0, .int 0, .int 0, .int 0, .int 0, .null, .null, .null])), (q0, .inl (c0, 64, .inl (fun _ => 0))), (q1, .inl (c1, 64, .inl (fun _ => 0))), (q2, .inl (c2, 64, .inl (fun _ => 0))), (q3, .inl (c3, 64, .inl (fun _ => 0))), (q4, .inl (c4, 64, .inl (fun _ => 0))), (q6, .inl (c6, 4, .inl (fun _ => 0)))] := hD
  refine lv_aload_n hx hb dX0_init_51 rfl (lv_at hl 0 rfl) ?_
  refine lv_iconst (v := nI 4) hx hb dX0_init_52 (by decide) ?_
  refine va_newa (atype := .int) (a0 := (4, .inl (fun _ => 0))) (N' := 4) (ty := .int) hx hb (hts _ q88) rfl hK hP hD hS hA (fun _ => rfl) (by decide) (by decide) (by decide) (Nat.le_of_ble_eq_true rfl) (Nat.le_of_ble_eq_true rfl) dX0_init_53 (fun q7 c7 H hK hP hD hS => ?_)
  have hK : va_K D vwCl [(c0, .boolean), (c1, .byte), (c2, .int), (c3, .int), (c4, .boolean), (c6, .int), (c7, .int)] s := hK
  have hP : va_P D vwCl [(h0, .inr (0, [.ref q0, .ref q1, .ref q2, .ref q3, .ref q4, .int 0, .ref q6, .null, .int 0, .int 0, .int 0, .int 0, .int 0, .int 0, .int 0, .int 0, .int 0, .null, .null, .null])), (q0, .inl (c0, 64, .inl (fun _ => 0))), (q1, .inl (c1, 64, .inl (fun _ => 0))), (q2, .inl (c2, 64, .inl (fun _ => 0))), (q3, .inl (c3, 64, .inl (fun _ => 0))), (q4, .inl (c4, 64, .inl (fun _ => 0))), (q6, .inl (c6, 4, .inl (fun _ => 0))), (q7, .inl (c7, 4, .inl (fun _ => 0)))] H := hP
  have hD : va_D A [(h0, .inr (0, [.ref q0, .ref q1, .ref q2, .ref q3, .ref q4, .int 0, .ref q6, .null, .int 0, .int 0, .int 0, .int 0, .int 0, .int 0, .int 0, .int 0, .int 0, .null, .null, .null])), (q0, .inl (c0, 64, .inl (fun _ => 0))), (q1, .inl (c1, 64, .inl (fun _ => 0))), (q2, .inl (c2, 64, .inl (fun _ => 0))), (q3, .inl (c3, 64, .inl (fun _ => 0))), (q4, .inl (c4, 64, .inl (fun _ => 0))), (q6, .inl (c6, 4, .inl (fun _ => 0))), (q7, .inl (c7, 4, .inl (fun _ => 0)))] := hD
  refine W.widen (k := 7) (n := 328) (by omega) (by omega) ?_
  refine va_putF (D := D) (ci := 0) (v := .ref q7) (ty := .array .int) (C := RX0) (T := TX0) (N := 20) hx hb hts in_X0 tyX0 tyX0_ok nmX0 hown hK hP hD hS 0 rfl rfl 7 (by decide) (hts _ q32) (fun _ h9 => h9) rfl hin rfl (by decide +kernel) rfl rfl (Nat.le_of_ble_eq_true rfl) dX0_init_55 (fun H locs hP hD hS => ?_)
  have hP : va_P D vwCl [(h0, .inr (0, [.ref q0, .ref q1, .ref q2, .ref q3, .ref q4, .int 0, .ref q6, .ref q7, .int 0, .int 0, .int 0, .int 0, .int 0, .int 0, .int 0, .int 0, .int 0, .null, .null, .null])), (q0, .inl (c0, 64, .inl (fun _ => 0))), (q1, .inl (c1, 64, .inl (fun _ => 0))), (q2, .inl (c2, 64, .inl (fun _ => 0))), (q3, .inl (c3, 64, .inl (fun _ => 0))), (q4, .inl (c4, 64, .inl (fun _ => 0))), (q6, .inl (c6, 4, .inl (fun _ => 0))), (q7, .inl (c7, 4, .inl (fun _ => 0)))] H := hP
  have hD : va_D A [(h0, .inr (0, [.ref q0, .ref q1, .ref q2, .ref q3, .ref q4, .int 0, .ref q6, .ref q7, .int 0, .int 0, .int 0, .int 0, .int 0, .int 0, .int 0, .int 0, .int 0, .null, .null, .null])), (q0, .inl (c0, 64, .inl (fun _ => 0))), (q1, .inl (c1, 64, .inl (fun _ => 0))), (q2, .inl (c2, 64, .inl (fun _ => 0))), (q3, .inl (c3, 64, .inl (fun _ => 0))), (q4, .inl (c4, 64, .inl (fun _ => 0))), (q6, .inl (c6, 4, .inl (fun _ => 0))), (q7, .inl (c7, 4, .inl (fun _ => 0)))] := hD
  refine lv_aload_n hx hb dX0_init_58 rfl (lv_at hl 0 rfl) ?_
  refine lv_iconst (v := nI 4) hx hb dX0_init_59 (by decide) ?_
  refine va_newa (atype := .int) (a0 := (4, .inl (fun _ => 0))) (N' := 4) (ty := .int) hx hb (hts _ q88) rfl hK hP hD hS hA (fun _ => rfl) (by decide) (by decide) (by decide) (Nat.le_of_ble_eq_true rfl) (Nat.le_of_ble_eq_true rfl) dX0_init_60 (fun q17 c17 H hK hP hD hS => ?_)
  have hK : va_K D vwCl [(c0, .boolean), (c1, .byte), (c2, .int), (c3, .int), (c4, .boolean), (c6, .int), (c7, .int), (c17, .int)] s := hK
  have hP : va_P D vwCl [(h0, .inr (0, [.ref q0, .ref q1, .ref q2, .ref q3, .ref q4, .int 0, .ref q6, .ref q7, .int 0, .int 0, .int 0, .int 0, .int 0, .int 0, .int 0, .int 0, .int 0, .null, .null, .null])), (q0, .inl (c0, 64, .inl (fun _ => 0))), (q1, .inl (c1, 64, .inl (fun _ => 0))), (q2, .inl (c2, 64, .inl (fun _ => 0))), (q3, .inl (c3, 64, .inl (fun _ => 0))), (q4, .inl (c4, 64, .inl (fun _ => 0))), (q6, .inl (c6, 4, .inl (fun _ => 0))), (q7, .inl (c7, 4, .inl (fun _ => 0))), (q17, .inl (c17, 4, .inl (fun _ => 0)))] H := hP
  have hD : va_D A [(h0, .inr (0, [.ref q0, .ref q1, .ref q2, .ref q3, .ref q4, .int 0, .ref q6, .ref q7, .int 0, .int 0, .int 0, .int 0, .int 0, .int 0, .int 0, .int 0, .int 0, .null, .null, .null])), (q0, .inl (c0, 64, .inl (fun _ => 0))), (q1, .inl (c1, 64, .inl (fun _ => 0))), (q2, .inl (c2, 64, .inl (fun _ => 0))), (q3, .inl (c3, 64, .inl (fun _ => 0))), (q4, .inl (c4, 64, .inl (fun _ => 0))), (q6, .inl (c6, 4, .inl (fun _ => 0))), (q7, .inl (c7, 4, .inl (fun _ => 0))), (q17, .inl (c17, 4, .inl (fun _ => 0)))] := hD
  refine W.widen (k := 8) (n := 332) (by omega) (by omega) ?_
  refine va_putF (D := D) (ci := 0) (v := .ref q17) (ty := .array .int) (C := RX0) (T := TX0) (N := 20) hx hb hts in_X0 tyX0 tyX0_ok nmX0 hown hK hP hD hS 0 rfl rfl 17 (by decide) (hts _ q42) (fun _ h9 => h9) rfl hin rfl (by decide +kernel) rfl rfl (Nat.le_of_ble_eq_true rfl) dX0_init_62 (fun H locs hP hD hS => ?_)
  have hP : va_P D vwCl [(h0, .inr (0, [.ref q0, .ref q1, .ref q2, .ref q3, .ref q4, .int 0, .ref q6, .ref q7, .int 0, .int 0, .int 0, .int 0, .int 0, .int 0, .int 0, .int 0, .int 0, .ref q17, .null, .null])), (q0, .inl (c0, 64, .inl (fun _ => 0))), (q1, .inl (c1, 64, .inl (fun _ => 0))), (q2, .inl (c2, 64, .inl (fun _ => 0))), (q3, .inl (c3, 64, .inl (fun _ => 0))), (q4, .inl (c4, 64, .inl (fun _ => 0))), (q6, .inl (c6, 4, .inl (fun _ => 0))), (q7, .inl (c7, 4, .inl (fun _ => 0))), (q17, .inl (c17, 4, .inl (fun _ => 0)))] H := hP
  have hD : va_D A [(h0, .inr (0, [.ref q0, .ref q1, .ref q2, .ref q3, .ref q4, .int 0, .ref q6, .ref q7, .int 0, .int 0, .int 0, .int 0, .int 0, .int 0, .int 0, .int 0, .int 0, .ref q17, .null, .null])), (q0, .inl (c0, 64, .inl (fun _ => 0))), (q1, .inl (c1, 64, .inl (fun _ => 0))), (q2, .inl (c2, 64, .inl (fun _ => 0))), (q3, .inl (c3, 64, .inl (fun _ => 0))), (q4, .inl (c4, 64, .inl (fun _ => 0))), (q6, .inl (c6, 4, .inl (fun _ => 0))), (q7, .inl (c7, 4, .inl (fun _ => 0))), (q17, .inl (c17, 4, .inl (fun _ => 0)))] := hD
  refine lv_aload_n hx hb dX0_init_65 rfl (lv_at hl 0 rfl) ?_
  refine lv_iconst (v := nI 4) hx hb dX0_init_66 (by decide) ?_
  refine va_newa (atype := .int) (a0 := (4, .inl (fun _ => 0))) (N' := 4) (ty := .int) hx hb (hts _ q88) rfl hK hP hD hS hA (fun _ => rfl) (by decide) (by decide) (by decide) (Nat.le_of_ble_eq_true rfl) (Nat.le_of_ble_eq_true rfl) dX0_init_67 (fun q18 c18 H hK hP hD hS => ?_)
  have hK : va_K D vwCl [(c0, .boolean), (c1, .byte), (c2, .int), (c3, .int), (c4, .boolean), (c6, .int), (c7, .int), (c17, .int), (c18, .int)] s := hK
  have hP : va_P D vwCl [(h0, .inr (0, [.ref q0, .ref q1, .ref q2, .ref q3, .ref q4, .int 0, .ref q6, .ref q7, .int 0, .int 0, .int 0, .int 0, .int 0, .int 0, .int 0, .int 0, .int 0, .ref q17, .null, .null])), (q0, .inl (c0, 64, .inl (fun _ => 0))), (q1, .inl (c1, 64, .inl (fun _ => 0))), (q2, .inl (c2, 64, .inl (fun _ => 0))), (q3, .inl (c3, 64, .inl (fun _ => 0))), (q4, .inl (c4, 64, .inl (fun _ => 0))), (q6, .inl (c6, 4, .inl (fun _ => 0))), (q7, .inl (c7, 4, .inl (fun _ => 0))), (q17, .inl (c17, 4, .inl (fun _ => 0))), (q18, .inl (c18, 4, .inl (fun _ => 0)))] H := hP
  have hD : va_D A [(h0, .inr (0, [.ref q0, .ref q1, .ref q2, .ref q3, .ref q4, .int 0, .ref q6, .ref q7, .int 0, .int 0, .int 0, .int 0, .int 0, .int 0, .int 0, .int 0, .int 0, .ref q17, .null, .null])), (q0, .inl (c0, 64, .inl (fun _ => 0))), (q1, .inl (c1, 64, .inl (fun _ => 0))), (q2, .inl (c2, 64, .inl (fun _ => 0))), (q3, .inl (c3, 64, .inl (fun _ => 0))), (q4, .inl (c4, 64, .inl (fun _ => 0))), (q6, .inl (c6, 4, .inl (fun _ => 0))), (q7, .inl (c7, 4, .inl (fun _ => 0))), (q17, .inl (c17, 4, .inl (fun _ => 0))), (q18, .inl (c18, 4, .inl (fun _ => 0)))] := hD
  refine W.widen (k := 9) (n := 336) (by omega) (by omega) ?_
  refine va_putF (D := D) (ci := 0) (v := .ref q18) (ty := .array .int) (C := RX0) (T := TX0) (N := 20) hx hb hts in_X0 tyX0 tyX0_ok nmX0 hown hK hP hD hS 0 rfl rfl 18 (by decide) (hts _ q43) (fun _ h9 => h9) rfl hin rfl (by decide +kernel) rfl rfl (Nat.le_of_ble_eq_true rfl) dX0_init_69 (fun H locs hP hD hS => ?_)
  have hP : va_P D vwCl [(h0, .inr (0, [.ref q0, .ref q1, .ref q2, .ref q3, .ref q4, .int 0, .ref q6, .ref q7, .int 0, .int 0, .int 0, .int 0, .int 0, .int 0, .int 0, .int 0, .int 0, .ref q17, .ref q18, .null])), (q0, .inl (c0, 64, .inl (fun _ => 0))), (q1, .inl (c1, 64, .inl (fun _ => 0))), (q2, .inl (c2, 64, .inl (fun _ => 0))), (q3, .inl (c3, 64, .inl (fun _ => 0))), (q4, .inl (c4, 64, .inl (fun _ => 0))), (q6, .inl (c6, 4, .inl (fun _ => 0))), (q7, .inl (c7, 4, .inl (fun _ => 0))), (q17, .inl (c17, 4, .inl (fun _ => 0))), (q18, .inl (c18, 4, .inl (fun _ => 0)))] H := hP
  have hD : va_D A [(h0, .inr (0, [.ref q0, .ref q1, .ref q2, .ref q3, .ref q4, .int 0, .ref q6, .ref q7, .int 0, .int 0, .int 0, .int 0, .int 0, .int 0, .int 0, .int 0, .int 0, .ref q17, .ref q18, .null])), (q0, .inl (c0, 64, .inl (fun _ => 0))), (q1, .inl (c1, 64, .inl (fun _ => 0))), (q2, .inl (c2, 64, .inl (fun _ => 0))), (q3, .inl (c3, 64, .inl (fun _ => 0))), (q4, .inl (c4, 64, .inl (fun _ => 0))), (q6, .inl (c6, 4, .inl (fun _ => 0))), (q7, .inl (c7, 4, .inl (fun _ => 0))), (q17, .inl (c17, 4, .inl (fun _ => 0))), (q18, .inl (c18, 4, .inl (fun _ => 0)))] := hD
  refine lv_aload_n hx hb dX0_init_72 rfl (lv_at hl 0 rfl) ?_
  refine lv_bipush (v := nI 32) hx hb dX0_init_73 (by decide) ?_
  refine va_newa (atype := .int) (a0 := (32, .inl (fun _ => 0))) (N' := 32) (ty := .int) hx hb (hts _ q88) rfl hK hP hD hS hA (fun _ => rfl) (by decide) (by decide) (by decide) (Nat.le_of_ble_eq_true rfl) (Nat.le_of_ble_eq_true rfl) dX0_init_75 (fun q19 c19 H hK hP hD hS => ?_)
  have hK : va_K D vwCl [(c0, .boolean), (c1, .byte), (c2, .int), (c3, .int), (c4, .boolean), (c6, .int), (c7, .int), (c17, .int), (c18, .int), (c19, .int)] s := hK
  have hP : va_P D vwCl [(h0, .inr (0, [.ref q0, .ref q1, .ref q2, .ref q3, .ref q4, .int 0, .ref q6, .ref q7, .int 0, .int 0, .int 0, .int 0, .int 0, .int 0, .int 0, .int 0, .int 0, .ref q17, .ref q18, .null])), (q0, .inl (c0, 64, .inl (fun _ => 0))), (q1, .inl (c1, 64, .inl (fun _ => 0))), (q2, .inl (c2, 64, .inl (fun _ => 0))), (q3, .inl (c3, 64, .inl (fun _ => 0))), (q4, .inl (c4, 64, .inl (fun _ => 0))), (q6, .inl (c6, 4, .inl (fun _ => 0))), (q7, .inl (c7, 4, .inl (fun _ => 0))), (q17, .inl (c17, 4, .inl (fun _ => 0))), (q18, .inl (c18, 4, .inl (fun _ => 0))), (q19, .inl (c19, 32, .inl (fun _ => 0)))] H := hP
  have hD : va_D A [(h0, .inr (0, [.ref q0, .ref q1, .ref q2, .ref q3, .ref q4, .int 0, .ref q6, .ref q7, .int 0, .int 0, .int 0, .int 0, .int 0, .int 0, .int 0, .int 0, .int 0, .ref q17, .ref q18, .null])), (q0, .inl (c0, 64, .inl (fun _ => 0))), (q1, .inl (c1, 64, .inl (fun _ => 0))), (q2, .inl (c2, 64, .inl (fun _ => 0))), (q3, .inl (c3, 64, .inl (fun _ => 0))), (q4, .inl (c4, 64, .inl (fun _ => 0))), (q6, .inl (c6, 4, .inl (fun _ => 0))), (q7, .inl (c7, 4, .inl (fun _ => 0))), (q17, .inl (c17, 4, .inl (fun _ => 0))), (q18, .inl (c18, 4, .inl (fun _ => 0))), (q19, .inl (c19, 32, .inl (fun _ => 0)))] := hD
  refine W.widen (k := 10) (n := 368) (by omega) (by omega) ?_
  refine va_putF (D := D) (ci := 0) (v := .ref q19) (ty := .array .int) (C := RX0) (T := TX0) (N := 20) hx hb hts in_X0 tyX0 tyX0_ok nmX0 hown hK hP hD hS 0 rfl rfl 19 (by decide) (hts _ q44) (fun _ h9 => h9) rfl hin rfl (by decide +kernel) rfl rfl (Nat.le_of_ble_eq_true rfl) dX0_init_77 (fun H locs hP hD hS => ?_)
  have hP : va_P D vwCl [(h0, .inr (0, [.ref q0, .ref q1, .ref q2, .ref q3, .ref q4, .int 0, .ref q6, .ref q7, .int 0, .int 0, .int 0, .int 0, .int 0, .int 0, .int 0, .int 0, .int 0, .ref q17, .ref q18, .ref q19])), (q0, .inl (c0, 64, .inl (fun _ => 0))), (q1, .inl (c1, 64, .inl (fun _ => 0))), (q2, .inl (c2, 64, .inl (fun _ => 0))), (q3, .inl (c3, 64, .inl (fun _ => 0))), (q4, .inl (c4, 64, .inl (fun _ => 0))), (q6, .inl (c6, 4, .inl (fun _ => 0))), (q7, .inl (c7, 4, .inl (fun _ => 0))), (q17, .inl (c17, 4, .inl (fun _ => 0))), (q18, .inl (c18, 4, .inl (fun _ => 0))), (q19, .inl (c19, 32, .inl (fun _ => 0)))] H := hP
  have hD : va_D A [(h0, .inr (0, [.ref q0, .ref q1, .ref q2, .ref q3, .ref q4, .int 0, .ref q6, .ref q7, .int 0, .int 0, .int 0, .int 0, .int 0, .int 0, .int 0, .int 0, .int 0, .ref q17, .ref q18, .ref q19])), (q0, .inl (c0, 64, .inl (fun _ => 0))), (q1, .inl (c1, 64, .inl (fun _ => 0))), (q2, .inl (c2, 64, .inl (fun _ => 0))), (q3, .inl (c3, 64, .inl (fun _ => 0))), (q4, .inl (c4, 64, .inl (fun _ => 0))), (q6, .inl (c6, 4, .inl (fun _ => 0))), (q7, .inl (c7, 4, .inl (fun _ => 0))), (q17, .inl (c17, 4, .inl (fun _ => 0))), (q18, .inl (c18, 4, .inl (fun _ => 0))), (q19, .inl (c19, 32, .inl (fun _ => 0)))] := hD
  exact W.vret hx hb hr (fun t ht hW => ⟨⟨st0, rfl, rfl, (fun k => match k with | 0 => q0 | 1 => q1 | 2 => q2 | 3 => q3 | 4 => q4 | 6 => q6 | 7 => q7 | 17 => q17 | 18 => q18 | 19 => q19 | _ => h0), (fun k => match k with | 0 => c0 | 1 => c1 | 2 => c2 | 3 => c3 | 4 => c4 | 6 => c6 | 7 => c7 | 17 => c17 | 18 => c18 | 19 => c19 | _ => c0), rfl, by rw [ht]; exact hP, va_K.moved hW.alike hK, hD⟩, hS.F ht⟩) hS.2.2 dX0_init_80
abbrev fM0 : List Value := [.null, .null, .null, .int 0, .int 0, .int 0, .int 0, .int 0, .null, .null, .null, .null]
set_option maxHeartbeats 4000000 in
/-- the new object: its arrays are made, all is 0 -/
theorem mM_init (l : Launch) (D : va_G) (h0 sz : Nat) : Met l yX1_init (ws_ yX1_init cX1_init 1 none) ({ frames := 1, cells := 7, slots := 68, locals := 12 }) (va_Pc [.ref h0] (fun U => U.heap.size = sz ∧ va_P D vwCl [(h0, .inr (1, fM0))] U.heap ∧ va_K D vwCl [] U ∧ va_D (fun _ => True) [(h0, .inr (1, fM0))])) (va_Qv (fun u : St => u = st0) (fun u t => ∃ (q : Nat → Nat) (d : Nat → ClassId), q 20 = h0 ∧ va_P D vwCl (wM q d u) t.heap ∧ va_K D vwCl (tM d) t ∧ va_D (va_A [(h0, .inr (1, fM0))] sz) (wM q d u)) (va_A [(h0, .inr (1, fM0))] sz)) 7 68 (va_A [(h0, .inr (1, fM0))] sz) := by
  refine Met.ofW (cc := cX1_init) (maxL := 1) (ret := none) (by decide) rfl ?_
  intro p e s m args below meth c s₁ B hml hv
  obtain ⟨rfl, hsz, hP, hK, hD0⟩ := hv
  have hx := B.exec
  have hb := B.bytes
  have hr := B.returns
  have hts := atoms_spec (ws := ws_ yX1_init cX1_init 1 none) B.pre
  have hts : ∀ w ∈ lw_all, w.before _ s = true := fun w h => hts w (List.mem_cons_of_mem _ h)
  have hown : s.vm.findClass RX1 = some m.cls := findClass_of_methodNamed B.named
  have hlocks := B.notSynchronized
  have hin : meth.name = "<init>" := (name_of_methodNamed B.named B.method).1
  subst hsz
  have hD := hD0.self (sz := s.heap.size)
  generalize hAe : va_A [(h0, .inr (1, fM0))] s.heap.size = A at hD ⊢
  have hA : ∀ q : Nat, s.heap.size ≤ q → A q := fun q h => by rw [← hAe]; exact Or.inr h
  have hS : va_S A s.heap s.heap [] := va_S.rf
  have hl := lv_entry ([.ref h0]) (n := 1) (Nat.le_of_ble_eq_true rfl)
  rw [lg_entry_eq]
  generalize (lg_sl ([.ref h0]) ++ List.replicate (1 - (lg_sl ([.ref h0])).length) Slot.unset).toArray = ls at hl ⊢
  have hl : lv_has ls 1 [(0, .ref h0)] := hl
  refine lv_aload_n hx hb dX1_init_0 rfl (lv_at hl 0 rfl) ?_
  refine W.objInit hx hb hown (hts _ q201) (hts _ q23) (hts _ q24) rfl (by rw [hml]; exact hl.1) rfl dX1_init_1 (Nat.le_of_ble_eq_true rfl) (Nat.le_of_ble_eq_true rfl) ?_
  refine W.eq (g2 := F0 m 4 ls []) rfl ?_
  refine lv_aload_n hx hb dX1_init_4 rfl (lv_at hl 0 rfl) ?_
  refine lv_bipush (v := nI 8) hx hb dX1_init_5 (by decide) ?_
  refine va_newa (atype := .int) (a0 := (8, .inl (fun _ => 0))) (N' := 8) (ty := .int) hx hb (hts _ q88) rfl hK hP hD hS hA (fun _ => rfl) (by decide) (by decide) (by decide) (Nat.le_of_ble_eq_true rfl) (Nat.le_of_ble_eq_true rfl) dX1_init_7 (fun q0 c0 H hK hP hD hS => ?_)
  have hK : va_K D vwCl [(c0, .int)] s := hK
  have hP : va_P D vwCl [(h0, .inr (1, [.null, .null, .null, .int 0, .int 0, .int 0, .int 0, .int 0, .null, .null, .null, .null])), (q0, .inl (c0, 8, .inl (fun _ => 0)))] H := hP
  have hD : va_D A [(h0, .inr (1, [.null, .null, .null, .int 0, .int 0, .int 0, .int 0, .int 0, .null, .null, .null, .null])), (q0, .inl (c0, 8, .inl (fun _ => 0)))] := hD
  refine W.widen (k := 1) (n := 8) (by omega) (by omega) ?_
  refine va_put (D := D) (ci := 1) (v := .ref q0) (ty := .array .int) (C := RX1) (T := TX1) (N := 12) hx hb hts in_X1 tyX1 tyX1_ok nmX1 hown hK hP hD hS 0 rfl rfl 0 (by decide) (hts _ q202) (fun _ h9 => h9) rfl (by decide +kernel) rfl rfl (Nat.le_of_ble_eq_true rfl) dX1_init_9 (fun H locs hP hD hS => ?_)
  have hP : va_P D vwCl [(h0, .inr (1, [.ref q0, .null, .null, .int 0, .int 0, .int 0, .int 0, .int 0, .null, .null, .null, .null])), (q0, .inl (c0, 8, .inl (fun _ => 0)))] H := hP
  have hD : va_D A [(h0, .inr (1, [.ref q0, .null, .null, .int 0, .int 0, .int 0, .int 0, .int 0, .null, .null, .null, .null])), (q0, .inl (c0, 8, .inl (fun _ => 0)))] := hD
  refine lv_aload_n hx hb dX1_init_12 rfl (lv_at hl 0 rfl) ?_
  refine lv_bipush (v := nI 8) hx hb dX1_init_13 (by decide) ?_
  refine va_newa (atype := .int) (a0 := (8, .inl (fun _ => 0))) (N' := 8) (ty := .int) hx hb (hts _ q88) rfl hK hP hD hS hA (fun _ => rfl) (by decide) (by decide) (by decide) (Nat.le_of_ble_eq_true rfl) (Nat.le_of_ble_eq_true rfl) dX1_init_15 (fun q1 c1 H hK hP hD hS => ?_)
  have hK : va_K D vwCl [(c0, .int), (c1, .int)] s := hK
  have hP : va_P D vwCl [(h0, .inr (1, [.ref q0, .null, .null, .int 0, .int 0, .int 0, .int 0, .int 0, .null, .null, .null, .null])), (q0, .inl (c0, 8, .inl (fun _ => 0))), (q1, .inl (c1, 8, .inl (fun _ => 0)))] H := hP
  have hD : va_D A [(h0, .inr (1, [.ref q0, .null, .null, .int 0, .int 0, .int 0, .int 0, .int 0, .null, .null, .null, .null])), (q0, .inl (c0, 8, .inl (fun _ => 0))), (q1, .inl (c1, 8, .inl (fun _ => 0)))] := hD
  refine W.widen (k := 2) (n := 16) (by omega) (by omega) ?_
  refine va_put (D := D) (ci := 1) (v := .ref q1) (ty := .array .int) (C := RX1) (T := TX1) (N := 12) hx hb hts in_X1 tyX1 tyX1_ok nmX1 hown hK hP hD hS 0 rfl rfl 1 (by decide) (hts _ q203) (fun _ h9 => h9) rfl (by decide +kernel) rfl rfl (Nat.le_of_ble_eq_true rfl) dX1_init_17 (fun H locs hP hD hS => ?_)
  have hP : va_P D vwCl [(h0, .inr (1, [.ref q0, .ref q1, .null, .int 0, .int 0, .int 0, .int 0, .int 0, .null, .null, .null, .null])), (q0, .inl (c0, 8, .inl (fun _ => 0))), (q1, .inl (c1, 8, .inl (fun _ => 0)))] H := hP
  have hD : va_D A [(h0, .inr (1, [.ref q0, .ref q1, .null, .int 0, .int 0, .int 0, .int 0, .int 0, .null, .null, .null, .null])), (q0, .inl (c0, 8, .inl (fun _ => 0))), (q1, .inl (c1, 8, .inl (fun _ => 0)))] := hD
  refine lv_aload_n hx hb dX1_init_20 rfl (lv_at hl 0 rfl) ?_
  refine lv_bipush (v := nI 8) hx hb dX1_init_21 (by decide) ?_
  refine va_newa (atype := .int) (a0 := (8, .inl (fun _ => 0))) (N' := 8) (ty := .int) hx hb (hts _ q88) rfl hK hP hD hS hA (fun _ => rfl) (by decide) (by decide) (by decide) (Nat.le_of_ble_eq_true rfl) (Nat.le_of_ble_eq_true rfl) dX1_init_23 (fun q2 c2 H hK hP hD hS => ?_)
  have hK : va_K D vwCl [(c0, .int), (c1, .int), (c2, .int)] s := hK
  have hP : va_P D vwCl [(h0, .inr (1, [.ref q0, .ref q1, .null, .int 0, .int 0, .int 0, .int 0, .int 0, .null, .null, .null, .null])), (q0, .inl (c0, 8, .inl (fun _ => 0))), (q1, .inl (c1, 8, .inl (fun _ => 0))), (q2, .inl (c2, 8, .inl (fun _ => 0)))] H := hP
  have hD : va_D A [(h0, .inr (1, [.ref q0, .ref q1, .null, .int 0, .int 0, .int 0, .int 0, .int 0, .null, .null, .null, .null])), (q0, .inl (c0, 8, .inl (fun _ => 0))), (q1, .inl (c1, 8, .inl (fun _ => 0))), (q2, .inl (c2, 8, .inl (fun _ => 0)))] := hD
  refine W.widen (k := 3) (n := 24) (by omega) (by omega) ?_
  refine va_put (D := D) (ci := 1) (v := .ref q2) (ty := .array .int) (C := RX1) (T := TX1) (N := 12) hx hb hts in_X1 tyX1 tyX1_ok nmX1 hown hK hP hD hS 0 rfl rfl 2 (by decide) (hts _ q204) (fun _ h9 => h9) rfl (by decide +kernel) rfl rfl (Nat.le_of_ble_eq_true rfl) dX1_init_25 (fun H locs hP hD hS => ?_)
  have hP : va_P D vwCl [(h0, .inr (1, [.ref q0, .ref q1, .ref q2, .int 0, .int 0, .int 0, .int 0, .int 0, .null, .null, .null, .null])), (q0, .inl (c0, 8, .inl (fun _ => 0))), (q1, .inl (c1, 8, .inl (fun _ => 0))), (q2, .inl (c2, 8, .inl (fun _ => 0)))] H := hP
  have hD : va_D A [(h0, .inr (1, [.ref q0, .ref q1, .ref q2, .int 0, .int 0, .int 0, .int 0, .int 0, .null, .null, .null, .null])), (q0, .inl (c0, 8, .inl (fun _ => 0))), (q1, .inl (c1, 8, .inl (fun _ => 0))), (q2, .inl (c2, 8, .inl (fun _ => 0)))] := hD
  refine lv_aload_n hx hb dX1_init_28 rfl (lv_at hl 0 rfl) ?_
  refine lv_iconst (v := nI 4) hx hb dX1_init_29 (by decide) ?_
  refine va_newa (atype := .boolean) (a0 := (4, .inl (fun _ => 0))) (N' := 4) (ty := .boolean) hx hb (hts _ q86) rfl hK hP hD hS hA (fun _ => rfl) (by decide) (by decide) (by decide) (Nat.le_of_ble_eq_true rfl) (Nat.le_of_ble_eq_true rfl) dX1_init_30 (fun q8 c8 H hK hP hD hS => ?_)
  have hK : va_K D vwCl [(c0, .int), (c1, .int), (c2, .int), (c8, .boolean)] s := hK
  have hP : va_P D vwCl [(h0, .inr (1, [.ref q0, .ref q1, .ref q2, .int 0, .int 0, .int 0, .int 0, .int 0, .null, .null, .null, .null])), (q0, .inl (c0, 8, .inl (fun _ => 0))), (q1, .inl (c1, 8, .inl (fun _ => 0))), (q2, .inl (c2, 8, .inl (fun _ => 0))), (q8, .inl (c8, 4, .inl (fun _ => 0)))] H := hP
  have hD : va_D A [(h0, .inr (1, [.ref q0, .ref q1, .ref q2, .int 0, .int 0, .int 0, .int 0, .int 0, .null, .null, .null, .null])), (q0, .inl (c0, 8, .inl (fun _ => 0))), (q1, .inl (c1, 8, .inl (fun _ => 0))), (q2, .inl (c2, 8, .inl (fun _ => 0))), (q8, .inl (c8, 4, .inl (fun _ => 0)))] := hD
  refine W.widen (k := 4) (n := 28) (by omega) (by omega) ?_
  refine va_put (D := D) (ci := 1) (v := .ref q8) (ty := .array .boolean) (C := RX1) (T := TX1) (N := 12) hx hb hts in_X1 tyX1 tyX1_ok nmX1 hown hK hP hD hS 0 rfl rfl 8 (by decide) (hts _ q210) (fun _ h9 => h9) rfl (by decide +kernel) rfl rfl (Nat.le_of_ble_eq_true rfl) dX1_init_32 (fun H locs hP hD hS => ?_)
  have hP : va_P D vwCl [(h0, .inr (1, [.ref q0, .ref q1, .ref q2, .int 0, .int 0, .int 0, .int 0, .int 0, .ref q8, .null, .null, .null])), (q0, .inl (c0, 8, .inl (fun _ => 0))), (q1, .inl (c1, 8, .inl (fun _ => 0))), (q2, .inl (c2, 8, .inl (fun _ => 0))), (q8, .inl (c8, 4, .inl (fun _ => 0)))] H := hP
  have hD : va_D A [(h0, .inr (1, [.ref q0, .ref q1, .ref q2, .int 0, .int 0, .int 0, .int 0, .int 0, .ref q8, .null, .null, .null])), (q0, .inl (c0, 8, .inl (fun _ => 0))), (q1, .inl (c1, 8, .inl (fun _ => 0))), (q2, .inl (c2, 8, .inl (fun _ => 0))), (q8, .inl (c8, 4, .inl (fun _ => 0)))] := hD
  refine lv_aload_n hx hb dX1_init_35 rfl (lv_at hl 0 rfl) ?_
  refine lv_bipush (v := nI 32) hx hb dX1_init_36 (by decide) ?_
  refine va_newa (atype := .int) (a0 := (32, .inl (fun _ => 0))) (N' := 32) (ty := .int) hx hb (hts _ q88) rfl hK hP hD hS hA (fun _ => rfl) (by decide) (by decide) (by decide) (Nat.le_of_ble_eq_true rfl) (Nat.le_of_ble_eq_true rfl) dX1_init_38 (fun q9 c9 H hK hP hD hS => ?_)
  have hK : va_K D vwCl [(c0, .int), (c1, .int), (c2, .int), (c8, .boolean), (c9, .int)] s := hK
  have hP : va_P D vwCl [(h0, .inr (1, [.ref q0, .ref q1, .ref q2, .int 0, .int 0, .int 0, .int 0, .int 0, .ref q8, .null, .null, .null])), (q0, .inl (c0, 8, .inl (fun _ => 0))), (q1, .inl (c1, 8, .inl (fun _ => 0))), (q2, .inl (c2, 8, .inl (fun _ => 0))), (q8, .inl (c8, 4, .inl (fun _ => 0))), (q9, .inl (c9, 32, .inl (fun _ => 0)))] H := hP
  have hD : va_D A [(h0, .inr (1, [.ref q0, .ref q1, .ref q2, .int 0, .int 0, .int 0, .int 0, .int 0, .ref q8, .null, .null, .null])), (q0, .inl (c0, 8, .inl (fun _ => 0))), (q1, .inl (c1, 8, .inl (fun _ => 0))), (q2, .inl (c2, 8, .inl (fun _ => 0))), (q8, .inl (c8, 4, .inl (fun _ => 0))), (q9, .inl (c9, 32, .inl (fun _ => 0)))] := hD
  refine W.widen (k := 5) (n := 60) (by omega) (by omega) ?_
  refine va_put (D := D) (ci := 1) (v := .ref q9) (ty := .array .int) (C := RX1) (T := TX1) (N := 12) hx hb hts in_X1 tyX1 tyX1_ok nmX1 hown hK hP hD hS 0 rfl rfl 9 (by decide) (hts _ q211) (fun _ h9 => h9) rfl (by decide +kernel) rfl rfl (Nat.le_of_ble_eq_true rfl) dX1_init_40 (fun H locs hP hD hS => ?_)
  have hP : va_P D vwCl [(h0, .inr (1, [.ref q0, .ref q1, .ref q2, .int 0, .int 0, .int 0, .int 0, .int 0, .ref q8, .ref q9, .null, .null])), (q0, .inl (c0, 8, .inl (fun _ => 0))), (q1, .inl (c1, 8, .inl (fun _ => 0))), (q2, .inl (c2, 8, .inl (fun _ => 0))), (q8, .inl (c8, 4, .inl (fun _ => 0))), (q9, .inl (c9, 32, .inl (fun _ => 0)))] H := hP
  have hD : va_D A [(h0, .inr (1, [.ref q0, .ref q1, .ref q2, .int 0, .int 0, .int 0, .int 0, .int 0, .ref q8, .ref q9, .null, .null])), (q0, .inl (c0, 8, .inl (fun _ => 0))), (q1, .inl (c1, 8, .inl (fun _ => 0))), (q2, .inl (c2, 8, .inl (fun _ => 0))), (q8, .inl (c8, 4, .inl (fun _ => 0))), (q9, .inl (c9, 32, .inl (fun _ => 0)))] := hD
  refine lv_aload_n hx hb dX1_init_43 rfl (lv_at hl 0 rfl) ?_
  refine lv_iconst (v := nI 4) hx hb dX1_init_44 (by decide) ?_
  refine va_newa (atype := .int) (a0 := (4, .inl (fun _ => 0))) (N' := 4) (ty := .int) hx hb (hts _ q88) rfl hK hP hD hS hA (fun _ => rfl) (by decide) (by decide) (by decide) (Nat.le_of_ble_eq_true rfl) (Nat.le_of_ble_eq_true rfl) dX1_init_45 (fun q10 c10 H hK hP hD hS => ?_)
  have hK : va_K D vwCl [(c0, .int), (c1, .int), (c2, .int), (c8, .boolean), (c9, .int), (c10, .int)] s := hK
  have hP : va_P D vwCl [(h0, .inr (1, [.ref q0, .ref q1, .ref q2, .int 0, .int 0, .int 0, .int 0, .int 0, .ref q8, .ref q9, .null, .null])), (q0, .inl (c0, 8, .inl (fun _ => 0))), (q1, .inl (c1, 8, .inl (fun _ => 0))), (q2, .inl (c2, 8, .inl (fun _ => 0))), (q8, .inl (c8, 4, .inl (fun _ => 0))), (q9, .inl (c9, 32, .inl (fun _ => 0))), (q10, .inl (c10, 4, .inl (fun _ => 0)))] H := hP
  have hD : va_D A [(h0, .inr (1, [.ref q0, .ref q1, .ref q2, .int 0, .int 0, .int 0, .int 0, .int 0, .ref q8, .ref q9, .null, .null])), (q0, .inl (c0, 8, .inl (fun _ => 0))), (q1, .inl (c1, 8, .inl (fun _ => 0))), (q2, .inl (c2, 8, .inl (fun _ => 0))), (q8, .inl (c8, 4, .inl (fun _ => 0))), (q9, .inl (c9, 32, .inl (fun _ => 0))), (q10, .inl (c10, 4, .inl (fun _ => 0)))] := hD
  refine W.widen (k := 6) (n := 64) (by omega) (by omega) ?_
  refine va_put (D := D) (ci := 1) (v := .ref q10) (ty := .array .int) (C := RX1) (T := TX1) (N := 12) hx hb hts in_X1 tyX1 tyX1_ok nmX1 hown hK hP hD hS 0 rfl rfl 10 (by decide) (hts _ q212) (fun _ h9 => h9) rfl (by decide +kernel) rfl rfl (Nat.le_of_ble_eq_true rfl) dX1_init_47 (fun H locs hP hD hS => ?_)
  have hP : va_P D vwCl [(h0, .inr (1, [.ref q0, .ref q1, .ref q2, .int 0, .int 0, .int 0, .int 0, .int 0, .ref q8, .ref q9, .ref q10, .null])), (q0, .inl (c0, 8, .inl (fun _ => 0))), (q1, .inl (c1, 8, .inl (fun _ => 0))), (q2, .inl (c2, 8, .inl (fun _ => 0))), (q8, .inl (c8, 4, .inl (fun _ => 0))), (q9, .inl (c9, 32, .inl (fun _ => 0))), (q10, .inl (c10, 4, .inl (fun _ => 0)))] H := hP
  have hD : va_D A [(h0, .inr (1, [.ref q0, .ref q1, .ref q2, .int 0, .int 0, .int 0, .int 0, .int 0, .ref q8, .ref q9, .ref q10, .null])), (q0, .inl (c0, 8, .inl (fun _ => 0))), (q1, .inl (c1, 8, .inl (fun _ => 0))), (q2, .inl (c2, 8, .inl (fun _ => 0))), (q8, .inl (c8, 4, .inl (fun _ => 0))), (q9, .inl (c9, 32, .inl (fun _ => 0))), (q10, .inl (c10, 4, .inl (fun _ => 0)))] := hD
  refine lv_aload_n hx hb dX1_init_50 rfl (lv_at hl 0 rfl) ?_
  refine lv_iconst (v := nI 4) hx hb dX1_init_51 (by decide) ?_
  refine va_newa (atype := .int) (a0 := (4, .inl (fun _ => 0))) (N' := 4) (ty := .int) hx hb (hts _ q88) rfl hK hP hD hS hA (fun _ => rfl) (by decide) (by decide) (by decide) (Nat.le_of_ble_eq_true rfl) (Nat.le_of_ble_eq_true rfl) dX1_init_52 (fun q11 c11 H hK hP hD hS => ?_)
  have hK : va_K D vwCl [(c0, .int), (c1, .int), (c2, .int), (c8, .boolean), (c9, .int), (c10, .int), (c11, .int)] s := hK
  have hP : va_P D vwCl [(h0, .inr (1, [.ref q0, .ref q1, .ref q2, .int 0, .int 0, .int 0, .int 0, .int 0, .ref q8, .ref q9, .ref q10, .null])), (q0, .inl (c0, 8, .inl (fun _ => 0))), (q1, .inl (c1, 8, .inl (fun _ => 0))), (q2, .inl (c2, 8, .inl (fun _ => 0))), (q8, .inl (c8, 4, .inl (fun _ => 0))), (q9, .inl (c9, 32, .inl (fun _ => 0))), (q10, .inl (c10, 4, .inl (fun _ => 0))), (q11, .inl (c11, 4, .inl (fun _ => 0)))] H := hP
  have hD : va_D A [(h0, .inr (1, [.ref q0, .ref q1, .ref q2, .int 0, .int 0, .int 0, .int 0, .int 0, .ref q8, .ref q9, .ref q10, .null])), (q0, .inl (c0, 8, .inl (fun _ => 0))), (q1, .inl (c1, 8, .inl (fun _ => 0))), (q2, .inl (c2, 8, .inl (fun _ => 0))), (q8, .inl (c8, 4, .inl (fun _ => 0))), (q9, .inl (c9, 32, .inl (fun _ => 0))), (q10, .inl (c10, 4, .inl (fun _ => 0))), (q11, .inl (c11, 4, .inl (fun _ => 0)))] := hD
  refine W.widen (k := 7) (n := 68) (by omega) (by omega) ?_
  refine va_put (D := D) (ci := 1) (v := .ref q11) (ty := .array .int) (C := RX1) (T := TX1) (N := 12) hx hb hts in_X1 tyX1 tyX1_ok nmX1 hown hK hP hD hS 0 rfl rfl 11 (by decide) (hts _ q213) (fun _ h9 => h9) rfl (by decide +kernel) rfl rfl (Nat.le_of_ble_eq_true rfl) dX1_init_54 (fun H locs hP hD hS => ?_)
  have hP : va_P D vwCl [(h0, .inr (1, [.ref q0, .ref q1, .ref q2, .int 0, .int 0, .int 0, .int 0, .int 0, .ref q8, .ref q9, .ref q10, .ref q11])), (q0, .inl (c0, 8, .inl (fun _ => 0))), (q1, .inl (c1, 8, .inl (fun _ => 0))), (q2, .inl (c2, 8, .inl (fun _ => 0))), (q8, .inl (c8, 4, .inl (fun _ => 0))), (q9, .inl (c9, 32, .inl (fun _ => 0))), (q10, .inl (c10, 4, .inl (fun _ => 0))), (q11, .inl (c11, 4, .inl (fun _ => 0)))] H := hP
  have hD : va_D A [(h0, .inr (1, [.ref q0, .ref q1, .ref q2, .int 0, .int 0, .int 0, .int 0, .int 0, .ref q8, .ref q9, .ref q10, .ref q11])), (q0, .inl (c0, 8, .inl (fun _ => 0))), (q1, .inl (c1, 8, .inl (fun _ => 0))), (q2, .inl (c2, 8, .inl (fun _ => 0))), (q8, .inl (c8, 4, .inl (fun _ => 0))), (q9, .inl (c9, 32, .inl (fun _ => 0))), (q10, .inl (c10, 4, .inl (fun _ => 0))), (q11, .inl (c11, 4, .inl (fun _ => 0)))] := hD
  exact W.vret hx hb hr (fun t ht hW => ⟨⟨st0, rfl, rfl, (fun k => match k with | 0 => q0 | 1 => q1 | 2 => q2 | 8 => q8 | 9 => q9 | 10 => q10 | 11 => q11 | _ => h0), (fun k => match k with | 0 => c0 | 1 => c1 | 2 => c2 | 8 => c8 | 9 => c9 | 10 => c10 | 11 => c11 | _ => c0), rfl, by rw [ht]; exact hP, va_K.moved hW.alike hK, hD⟩, hS.F ht⟩) hS.2.2 dX1_init_57
end
section
set_option maxRecDepth 100000
set_option maxHeartbeats 4000000 in
set_option maxRecDepth 100000 in
/-- isOpen -/
theorem mM_isOpen (l : Launch) (D : va_G) (q : Nat → Nat) (d : Nat → ClassId) (σ : St) (a1 : Int32) : MI l D (wM q d) (tM d) yX1_isOpen cX1_isOpen 2 .boolean 0 0 [.ref (q 20), .int a1] σ (fun r u => u = σ ∧ zb (OpM σ a1) r) := by
  refine MI.of (by decide) (Nat.le_of_ble_eq_true rfl) ?_
  intro p e R s m args below meth c Q A ls E hE hW hl
  have hx := E.hx
  have hb := E.hb
  have hl : lv_has ls 2 [(0, .ref (q 20)), (1, .int a1)] := hl
  refine lv_iload_n hx hb dX1_isOpen_0 rfl (lv_at hl 1 rfl) ?_
  refine lv_if_lt (tgt := 22) hx hb dX1_isOpen_1 (by decide) (fun h1 => ?_) (fun h1 => ?_)
  · refine lv_iconst (v := 0) hx hb dX1_isOpen_22 (by decide) ?_
    exact hE _ _ _ _ _ _ dX1_isOpen_23 rfl ⟨rfl, Or.inr ⟨rfl, OpM_neg h1⟩⟩ hW
  · refine lv_iload_n hx hb dX1_isOpen_4 rfl (lv_at hl 1 rfl) ?_
    refine lv_iconst (v := nI 4) hx hb dX1_isOpen_5 (by decide) ?_
    refine lv_icmp_ge (tgt := 22) hx hb dX1_isOpen_6 (by decide) (fun h6 => ?_) (fun h6 => ?_)
    · refine lv_iconst (v := 0) hx hb dX1_isOpen_22 (by decide) ?_
      exact hE _ _ _ _ _ _ dX1_isOpen_23 rfl ⟨rfl, Or.inr ⟨rfl, OpM_big h6⟩⟩ hW
    · obtain ⟨j, hj, rfl⟩ := ix_in (n := 4) (by decide) h1 h6
      refine lv_aload_n hx hb dX1_isOpen_9 rfl (lv_at hl 0 rfl) ?_
      refine gM_8 E hW dX1_isOpen_10 ?_
      refine lv_iload_n hx hb dX1_isOpen_13 rfl (lv_at hl 1 rfl) ?_
      refine lM_8 E hW (by omega) dX1_isOpen_14 ?_
      refine lv_if_eq (tgt := 22) hx hb dX1_isOpen_15 (by decide) (fun h15 => ?_) (fun h15 => ?_)
      · refine lv_iconst (v := 0) hx hb dX1_isOpen_22 (by decide) ?_
        exact hE _ _ _ _ _ _ dX1_isOpen_23 rfl ⟨rfl, Or.inr ⟨rfl, OpM_f hj h15⟩⟩ hW
      · refine lv_iconst (v := 1) hx hb dX1_isOpen_18 (by decide) ?_
        refine lv_goto (tgt := 23) hx hb dX1_isOpen_19 (by decide) ?_
        exact hE _ _ _ _ _ _ dX1_isOpen_23 rfl ⟨rfl, Or.inl ⟨rfl, ⟨j, hj, rfl, h15⟩⟩⟩ hW
set_option maxHeartbeats 4000000 in
set_option maxRecDepth 100000 in
/-- isKey -/
theorem mM_isKey (l : Launch) (D : va_G) (q : Nat → Nat) (d : Nat → ClassId) (σ : St) (a1 : Int32) : MI l D (wM q d) (tM d) yX1_isKey cX1_isKey 2 .boolean 0 0 [.ref (q 20), .int a1] σ (fun r u => u = σ ∧ zb (∃ k, k < 8 ∧ a1 = nI k) r) := by
  refine MI.of (by decide) (Nat.le_of_ble_eq_true rfl) ?_
  intro p e R s m args below meth c Q A ls E hE hW hl
  have hx := E.hx
  have hb := E.hb
  have hl : lv_has ls 2 [(0, .ref (q 20)), (1, .int a1)] := hl
  refine lv_iload_n hx hb dX1_isKey_0 rfl (lv_at hl 1 rfl) ?_
  refine lv_if_lt (tgt := 14) hx hb dX1_isKey_1 (by decide) (fun h1 => ?_) (fun h1 => ?_)
  · refine lv_iconst (v := 0) hx hb dX1_isKey_14 (by decide) ?_
    exact hE _ _ _ _ _ _ dX1_isKey_15 rfl ⟨rfl, Or.inr ⟨rfl, ix_neg (by decide) h1⟩⟩ hW
  · refine lv_iload_n hx hb dX1_isKey_4 rfl (lv_at hl 1 rfl) ?_
    refine lv_bipush (v := nI 8) hx hb dX1_isKey_5 (by decide) ?_
    refine lv_icmp_ge (tgt := 14) hx hb dX1_isKey_7 (by decide) (fun h7 => ?_) (fun h7 => ?_)
    · refine lv_iconst (v := 0) hx hb dX1_isKey_14 (by decide) ?_
      exact hE _ _ _ _ _ _ dX1_isKey_15 rfl ⟨rfl, Or.inr ⟨rfl, ix_big (by decide) h7⟩⟩ hW
    · refine lv_iconst (v := 1) hx hb dX1_isKey_10 (by decide) ?_
      refine lv_goto (tgt := 15) hx hb dX1_isKey_11 (by decide) ?_
      exact hE _ _ _ _ _ _ dX1_isKey_15 rfl ⟨rfl, Or.inl ⟨rfl, ix_in (by decide) h1 h7⟩⟩ hW
set_option maxHeartbeats 4000000 in
set_option maxRecDepth 100000 in
/-- begin -/
theorem mM_begin (l : Launch) (D : va_G) (q : Nat → Nat) (d : Nat → ClassId) (σ : St) : MI l D (wM q d) (tM d) yX1_begin cX1_begin 3 .int 0 0 [.ref (q 20)] σ (fun r u => (∃ j, j < 4 ∧ r = nI j ∧ σ 8 j = 0 ∧ (∀ i, i < j → ¬ σ 8 i = 0) ∧ CPl 9 (8 * j) (σ 2) (st_up (st_up (st_up σ 8 j 1) 10 j 0) 11 j 0) 8 u) ∨ (r = (-2) ∧ (∀ i, i < 4 → ¬ σ 8 i = 0) ∧ u = σ)) := by
  refine MI.of (by decide) (Nat.le_of_ble_eq_true rfl) ?_
  intro p e R s m args below meth c Q A ls E hE hW hl
  have hx := E.hx
  have hb := E.hb
  have hl : lv_has ls 3 [(0, .ref (q 20))] := hl
  have loop : ∀ (n : Nat) (i : Nat), 4 < i + n → (i ≤ 4) → (∀ j, j < i → ¬ σ 8 j = 0) → ∀ (H : Heap) (locs : List Loc) (ls : Array Slot), WD D (wM q d) A s σ H locs → lv_has ls 3 [(1, .int (nI i)), (0, .ref (q 20))] → W p l e R s m args below meth c H locs 0 0 Q (F0 m 2 ls []) := by
    intro n
    induction n with
    | zero =>
      intro i hn hi hO
      exact absurd hn (by omega)
    | succ n ih =>
      intro i hn hi hO H locs ls hW hl
      refine lv_iload_n hx hb dX1_begin_2 rfl (lv_at hl 0 rfl) ?_
      refine lv_iconst (v := nI 4) hx hb dX1_begin_3 (by decide) ?_
      refine lv_icmp_ge (tgt := 22) hx hb dX1_begin_4 (by decide) (fun h4 => ?_) (fun h4 => ?_)
      · have hi2 : i = 4 := Nat.le_antisymm hi (x_ge h4 (by omega) (by omega))
        subst hi2
        refine lv_iload_n hx hb dX1_begin_22 rfl (lv_at hl 0 rfl) ?_
        refine lv_iconst (v := nI 4) hx hb dX1_begin_23 (by decide) ?_
        refine lv_icmp_ne (tgt := 30) hx hb dX1_begin_24 (by decide) (fun h24 => ?_) (fun h24 => ?_)
        · exact absurd rfl h24
        · refine lv_bipush (v := (-2)) hx hb dX1_begin_27 (by decide) ?_
          exact hE _ _ _ _ _ _ dX1_begin_29 rfl (Or.inr ⟨rfl, hO, rfl⟩) hW
      · have hi2 : i < 4 := x_lt h4 (by omega) (by omega)
        refine lv_aload_n hx hb dX1_begin_7 rfl (lv_at hl 1 rfl) ?_
        refine gM_8 E hW dX1_begin_8 ?_
        refine lv_iload_n hx hb dX1_begin_11 rfl (lv_at hl 0 rfl) ?_
        refine lM_8 E hW (by omega) dX1_begin_12 ?_
        refine lv_if_eq (tgt := 22) hx hb dX1_begin_13 (by decide) (fun h13 => ?_) (fun h13 => ?_)
        · refine lv_iload_n hx hb dX1_begin_22 rfl (lv_at hl 0 rfl) ?_
          refine lv_iconst (v := nI 4) hx hb dX1_begin_23 (by decide) ?_
          refine lv_icmp_ne (tgt := 30) hx hb dX1_begin_24 (by decide) (fun h24 => ?_) (fun h24 => ?_)
          · refine lv_aload_n hx hb dX1_begin_30 rfl (lv_at hl 1 rfl) ?_
            refine gM_8 E hW dX1_begin_31 ?_
            refine lv_iload_n hx hb dX1_begin_34 rfl (lv_at hl 0 rfl) ?_
            refine lv_iconst (v := 1) hx hb dX1_begin_35 (by decide) ?_
            refine sM_8 E hW (by omega) rfl dX1_begin_36 (fun H locs hW => ?_)
            refine lv_aload_n hx hb dX1_begin_37 rfl (lv_at hl 1 rfl) ?_
            refine gM_10 E hW dX1_begin_38 ?_
            refine lv_iload_n hx hb dX1_begin_41 rfl (lv_at hl 0 rfl) ?_
            refine lv_iconst (v := 0) hx hb dX1_begin_42 (by decide) ?_
            refine sM_10 E hW (by omega) dX1_begin_43 (fun H locs hW => ?_)
            refine lv_aload_n hx hb dX1_begin_44 rfl (lv_at hl 1 rfl) ?_
            refine gM_11 E hW dX1_begin_45 ?_
            refine lv_iload_n hx hb dX1_begin_48 rfl (lv_at hl 0 rfl) ?_
            refine lv_iconst (v := 0) hx hb dX1_begin_49 (by decide) ?_
            refine sM_11 E hW (by omega) dX1_begin_50 (fun H locs hW => ?_)
            refine lv_iconst (v := nI 0) hx hb dX1_begin_51 (by decide) ?_
            refine lv_istore_n (lv' := [(2, .int (nI 0)), (1, .int (nI i)), (0, .ref (q 20))]) hx hb dX1_begin_52 rfl hl (by decide) rfl (fun ls hl => ?_)
            have loop2 : ∀ (n : Nat) (k : Nat) (v : St), 8 < k + n → (k ≤ 8) → (CPl 9 (8 * i) (σ 2) (st_up (st_up (st_up σ 8 i 1) 10 i 0) 11 i 0) k v) → ∀ (H : Heap) (locs : List Loc) (ls : Array Slot), WD D (wM q d) A s v H locs → lv_has ls 3 [(2, .int (nI k)), (1, .int (nI i)), (0, .ref (q 20))] → W p l e R s m args below meth c H locs 0 0 Q (F0 m 53 ls []) := by
              intro n
              induction n with
              | zero =>
                intro k v hn hk hC
                exact absurd hn (by omega)
              | succ n ih =>
                intro k v hn hk hC H locs ls hW hl
                refine lv_iload_n hx hb dX1_begin_53 rfl (lv_at hl 0 rfl) ?_
                refine lv_bipush (v := nI 8) hx hb dX1_begin_54 (by decide) ?_
                refine lv_icmp_ge (tgt := 82) hx hb dX1_begin_56 (by decide) (fun h56 => ?_) (fun h56 => ?_)
                · have hk2 : k = 8 := Nat.le_antisymm hk (x_ge h56 (by omega) (by omega))
                  subst hk2
                  refine lv_iload_n hx hb dX1_begin_82 rfl (lv_at hl 1 rfl) ?_
                  exact hE _ _ _ _ _ _ dX1_begin_83 rfl (Or.inl ⟨i, hi2, rfl, h13, hO, hC⟩) hW
                · have hk2 : k < 8 := x_lt h56 (by omega) (by omega)
                  refine lv_aload_n hx hb dX1_begin_59 rfl (lv_at hl 2 rfl) ?_
                  refine gM_9 E hW dX1_begin_60 ?_
                  refine lv_bipush (v := nI 8) hx hb dX1_begin_63 (by decide) ?_
                  refine lv_iload_n hx hb dX1_begin_65 rfl (lv_at hl 1 rfl) ?_
                  refine lv_imul hx hb dX1_begin_66 ?_
                  refine lv_iload_n hx hb dX1_begin_67 rfl (lv_at hl 0 rfl) ?_
                  refine lv_iadd hx hb dX1_begin_68 ?_
                  refine lv_topi (fun z68 ez68 => ?_)
                  obtain rfl : z68 = nI (8 * i + k) := ez68.trans (ix8' i k)
                  refine lv_aload_n hx hb dX1_begin_69 rfl (lv_at hl 2 rfl) ?_
                  refine gM_2 E hW dX1_begin_70 ?_
                  refine lv_iload_n hx hb dX1_begin_73 rfl (lv_at hl 0 rfl) ?_
                  refine lM_2 E hW (by omega) dX1_begin_74 ?_
                  refine sM_9 E hW (by omega) dX1_begin_75 (fun H locs hW => ?_)
                  refine lv_iinc (v := nI (k + 1)) (lv' := [(2, .int (nI (k + 1))), (1, .int (nI i)), (0, .ref (q 20))]) hx hb dX1_begin_76 hl (k := 0) rfl (nI_1 k) (by decide) rfl (fun ls hl => ?_)
                  refine lv_goto (tgt := 53) hx hb dX1_begin_79 (by decide) ?_
                  exact ih (k + 1) _ (by omega) (by omega) (hC.step (by rw [hC.1 2 (by decide)]; rfl) rfl) _ _ _ hW (lv_sub hl [0, 1, 2] rfl)
            exact loop2 9 0 _ (by omega) (by omega) (CPl.zero _ _ _ _) _ _ _ hW (lv_sub hl [0, 1, 2] rfl)
          · exact absurd ((nI_eq (by omega) (by omega)).mp h24) (by omega)
        · refine lv_iinc (v := nI (i + 1)) (lv' := [(1, .int (nI (i + 1))), (0, .ref (q 20))]) hx hb dX1_begin_16 hl (k := 0) rfl (nI_1 i) (by decide) rfl (fun ls hl => ?_)
          refine lv_goto (tgt := 2) hx hb dX1_begin_19 (by decide) ?_
          exact ih (i + 1) (by omega) (by omega) (fun g hg => by
            rcases Nat.lt_succ_iff_lt_or_eq.mp hg with q9 | q9
            · exact hO g q9
            · rw [q9]; exact h13) _ _ _ hW (lv_sub hl [0, 1] rfl)
  refine lv_iconst (v := nI 0) hx hb dX1_begin_0 (by decide) ?_
  refine lv_istore_n (lv' := [(1, .int (nI 0)), (0, .ref (q 20))]) hx hb dX1_begin_1 rfl hl (by decide) rfl (fun ls hl => ?_)
  exact loop 5 0 (by omega) (by omega) (fun g hg => absurd hg (Nat.not_lt_zero g)) _ _ _ hW (lv_sub hl [0, 1] rfl)
set_option maxHeartbeats 4000000 in
set_option maxRecDepth 100000 in
/-- write -/
theorem mM_write (l : Launch) (D : va_G) (q : Nat → Nat) (d : Nat → ClassId) (σ : St) (a1 : Int32) (a2 : Int32) (a3 : Int32) : MI l D (wM q d) (tM d) yX1_write cX1_write 4 .int 1 21 [.ref (q 20), .int a1, .int a2, .int a3] σ (fun r u => (∃ j k, OpMK σ a1 a2 j k ∧ r = 0 ∧ u = st_up (st_up σ 9 (8 * j + k) a3) 10 j (σ 10 j ||| ((1 : Int32) <<< (nI k &&& 31)))) ∨ ((¬ ∃ j k, OpMK σ a1 a2 j k) ∧ r = (-1) ∧ u = σ)) := by
  refine MI.of (by decide) (Nat.le_of_ble_eq_true rfl) ?_
  intro p e R s m args below meth c Q A ls E hE hW hl
  have hx := E.hx
  have hb := E.hb
  have hl : lv_has ls 4 [(0, .ref (q 20)), (1, .int a1), (2, .int a2), (3, .int a3)] := hl
  refine lv_aload_n hx hb dX1_write_0 rfl (lv_at hl 0 rfl) ?_
  refine lv_iload_n hx hb dX1_write_1 rfl (lv_at hl 1 rfl) ?_
  refine callI_ (n := 1) (As := [.int a1]) (rest := []) E hW (mM_isOpen l D q d σ a1) (lw_V q247 q249 qs11 q16 q250) (by decide +kernel) ⟨by decide, by decide⟩ (ci := 1) rfl rfl rfl hl.1 rfl (Nat.le_of_ble_eq_true rfl) dX1_write_2 (fun r2 u2 H locs hr2 hW => ?_)
  obtain ⟨hu2, hr2⟩ := hr2
  rw [hu2] at hW
  refine lv_if_eq (tgt := 16) hx hb dX1_write_5 (by decide) (fun h5 => ?_) (fun h5 => ?_)
  · refine lv_iconst (v := (-1)) hx hb dX1_write_16 (by decide) ?_
    exact hE _ _ _ _ _ _ dX1_write_17 rfl (Or.inr ⟨OpMK_no1 (hr2.no h5), rfl, rfl⟩) hW
  · obtain ⟨j, hj, rfl, hbj⟩ := hr2.yes h5
    refine lv_aload_n hx hb dX1_write_8 rfl (lv_at hl 0 rfl) ?_
    refine lv_iload_n hx hb dX1_write_9 rfl (lv_at hl 2 rfl) ?_
    refine callI_ (n := 1) (As := [.int a2]) (rest := []) E hW (mM_isKey l D q d σ a2) (lw_V q251 q253 qs12 q16 q254) (by decide +kernel) ⟨by decide, by decide⟩ (ci := 1) rfl rfl rfl hl.1 rfl (Nat.le_of_ble_eq_true rfl) dX1_write_10 (fun r10 u10 H locs hr10 hW => ?_)
    obtain ⟨hu10, hr10⟩ := hr10
    rw [hu10] at hW
    refine lv_if_ne (tgt := 18) hx hb dX1_write_13 (by decide) (fun h13 => ?_) (fun h13 => ?_)
    · obtain ⟨k, hk, rfl⟩ := hr10.yes h13
      refine lv_aload_n hx hb dX1_write_18 rfl (lv_at hl 0 rfl) ?_
      refine gM_9 E hW dX1_write_19 ?_
      refine lv_bipush (v := nI 8) hx hb dX1_write_22 (by decide) ?_
      refine lv_iload_n hx hb dX1_write_24 rfl (lv_at hl 1 rfl) ?_
      refine lv_imul hx hb dX1_write_25 ?_
      refine lv_iload_n hx hb dX1_write_26 rfl (lv_at hl 2 rfl) ?_
      refine lv_iadd hx hb dX1_write_27 ?_
      refine lv_topi (fun z27 ez27 => ?_)
      obtain rfl : z27 = nI (8 * j + k) := ez27.trans (ix8' j k)
      refine lv_iload_n hx hb dX1_write_28 rfl (lv_at hl 3 rfl) ?_
      refine sM_9 E hW (by omega) dX1_write_29 (fun H locs hW => ?_)
      refine lv_aload_n hx hb dX1_write_30 rfl (lv_at hl 0 rfl) ?_
      refine gM_10 E hW dX1_write_31 ?_
      refine lv_iload_n hx hb dX1_write_34 rfl (lv_at hl 1 rfl) ?_
      refine lv_aload_n hx hb dX1_write_35 rfl (lv_at hl 0 rfl) ?_
      refine gM_10 E hW dX1_write_36 ?_
      refine lv_iload_n hx hb dX1_write_39 rfl (lv_at hl 1 rfl) ?_
      refine lM_10 E hW (by omega) dX1_write_40 ?_
      refine lv_iconst (v := 1) hx hb dX1_write_41 (by decide) ?_
      refine lv_iload_n hx hb dX1_write_42 rfl (lv_at hl 2 rfl) ?_
      refine lv_ishl hx hb dX1_write_43 ?_
      refine lv_ior hx hb dX1_write_44 ?_
      refine sM_10 E hW (by omega) dX1_write_45 (fun H locs hW => ?_)
      refine lv_iconst (v := 0) hx hb dX1_write_46 (by decide) ?_
      exact hE _ _ _ _ _ _ dX1_write_47 rfl (Or.inl ⟨j, k, ⟨hj, hk, rfl, rfl, hbj⟩, rfl, rfl⟩) hW
    · refine lv_iconst (v := (-1)) hx hb dX1_write_16 (by decide) ?_
      exact hE _ _ _ _ _ _ dX1_write_17 rfl (Or.inr ⟨OpMK_no2 (hr10.no h13), rfl, rfl⟩) hW
set_option maxHeartbeats 4000000 in
set_option maxRecDepth 100000 in
/-- read -/
theorem mM_read (l : Launch) (D : va_G) (q : Nat → Nat) (d : Nat → ClassId) (σ : St) (a1 : Int32) (a2 : Int32) : MI l D (wM q d) (tM d) yX1_read cX1_read 3 .int 1 21 [.ref (q 20), .int a1, .int a2] σ (fun r u => u = σ ∧ ((∃ j k, OpMK σ a1 a2 j k ∧ r = σ 9 (8 * j + k)) ∨ ((¬ ∃ j k, OpMK σ a1 a2 j k) ∧ r = 0))) := by
  refine MI.of (by decide) (Nat.le_of_ble_eq_true rfl) ?_
  intro p e R s m args below meth c Q A ls E hE hW hl
  have hx := E.hx
  have hb := E.hb
  have hl : lv_has ls 3 [(0, .ref (q 20)), (1, .int a1), (2, .int a2)] := hl
  refine lv_aload_n hx hb dX1_read_0 rfl (lv_at hl 0 rfl) ?_
  refine lv_iload_n hx hb dX1_read_1 rfl (lv_at hl 1 rfl) ?_
  refine callI_ (n := 1) (As := [.int a1]) (rest := []) E hW (mM_isOpen l D q d σ a1) (lw_V q247 q249 qs11 q16 q250) (by decide +kernel) ⟨by decide, by decide⟩ (ci := 1) rfl rfl rfl hl.1 rfl (Nat.le_of_ble_eq_true rfl) dX1_read_2 (fun r2 u2 H locs hr2 hW => ?_)
  obtain ⟨hu2, hr2⟩ := hr2
  rw [hu2] at hW
  refine lv_if_eq (tgt := 30) hx hb dX1_read_5 (by decide) (fun h5 => ?_) (fun h5 => ?_)
  · refine lv_iconst (v := 0) hx hb dX1_read_30 (by decide) ?_
    exact hE _ _ _ _ _ _ dX1_read_31 rfl ⟨rfl, Or.inr ⟨OpMK_no1 (hr2.no h5), rfl⟩⟩ hW
  · obtain ⟨j, hj, rfl, hbj⟩ := hr2.yes h5
    refine lv_aload_n hx hb dX1_read_8 rfl (lv_at hl 0 rfl) ?_
    refine lv_iload_n hx hb dX1_read_9 rfl (lv_at hl 2 rfl) ?_
    refine callI_ (n := 1) (As := [.int a2]) (rest := []) E hW (mM_isKey l D q d σ a2) (lw_V q251 q253 qs12 q16 q254) (by decide +kernel) ⟨by decide, by decide⟩ (ci := 1) rfl rfl rfl hl.1 rfl (Nat.le_of_ble_eq_true rfl) dX1_read_10 (fun r10 u10 H locs hr10 hW => ?_)
    obtain ⟨hu10, hr10⟩ := hr10
    rw [hu10] at hW
    refine lv_if_eq (tgt := 30) hx hb dX1_read_13 (by decide) (fun h13 => ?_) (fun h13 => ?_)
    · refine lv_iconst (v := 0) hx hb dX1_read_30 (by decide) ?_
      exact hE _ _ _ _ _ _ dX1_read_31 rfl ⟨rfl, Or.inr ⟨OpMK_no2 (hr10.no h13), rfl⟩⟩ hW
    · obtain ⟨k, hk, rfl⟩ := hr10.yes h13
      refine lv_aload_n hx hb dX1_read_16 rfl (lv_at hl 0 rfl) ?_
      refine gM_9 E hW dX1_read_17 ?_
      refine lv_bipush (v := nI 8) hx hb dX1_read_20 (by decide) ?_
      refine lv_iload_n hx hb dX1_read_22 rfl (lv_at hl 1 rfl) ?_
      refine lv_imul hx hb dX1_read_23 ?_
      refine lv_iload_n hx hb dX1_read_24 rfl (lv_at hl 2 rfl) ?_
      refine lv_iadd hx hb dX1_read_25 ?_
      refine lv_topi (fun z25 ez25 => ?_)
      obtain rfl : z25 = nI (8 * j + k) := ez25.trans (ix8' j k)
      refine lM_9 E hW (by omega) dX1_read_26 ?_
      refine lv_goto (tgt := 31) hx hb dX1_read_27 (by decide) ?_
      exact hE _ _ _ _ _ _ dX1_read_31 rfl ⟨rfl, Or.inl ⟨j, k, ⟨hj, hk, rfl, rfl, hbj⟩, rfl⟩⟩ hW
set_option maxHeartbeats 4000000 in
set_option maxRecDepth 100000 in
/-- apply -/
theorem mM_apply (l : Launch) (D : va_G) (q : Nat → Nat) (d : Nat → ClassId) (σ : St) (a1 : Int32) (j : Nat) (hj : j < 4) (ha : a1 = nI j) : MV l D (wM q d) (tM d) yX1_apply cX1_apply 3 0 0 [.ref (q 20), .int a1] σ (fun u => AP σ j u) := by
  refine MV.of (by decide) (Nat.le_of_ble_eq_true rfl) ?_
  intro p e R s m args below meth c Q A ls E hE hW hl
  have hx := E.hx
  have hb := E.hb
  have hl : lv_has ls 3 [(0, .ref (q 20)), (1, .int a1)] := hl
  subst ha
  have loop2 : ∀ (n : Nat) (i : Nat), 4 < i + n → (i ≤ 4) → ∀ (H : Heap) (locs : List Loc) (ls : Array Slot), WD D (wM q d) A s (SNf j (APf j (st_up σ 5 0 (σ 5 0 + 1)) 8) i) H locs → lv_has ls 3 [(2, .int (nI i)), (0, .ref (q 20)), (1, .int (nI j))] → W p l e R s m args below meth c H locs 0 0 Q (F0 m 67 ls []) := by
    intro n
    induction n with
    | zero =>
      intro i hn hi
      exact absurd hn (by omega)
    | succ n ih =>
      intro i hn hi H locs ls hW hl
      refine lv_iload_n hx hb dX1_apply_67 rfl (lv_at hl 0 rfl) ?_
      refine lv_iconst (v := nI 4) hx hb dX1_apply_68 (by decide) ?_
      refine lv_icmp_ge (tgt := 97) hx hb dX1_apply_69 (by decide) (fun h69 => ?_) (fun h69 => ?_)
      · have hi2 : i = 4 := Nat.le_antisymm hi (x_ge h69 (by omega) (by omega))
        subst hi2
        exact hE _ _ _ _ _ dX1_apply_97 rfl hW
      · have hi2 : i < 4 := x_lt h69 (by omega) (by omega)
        refine lv_aload_n hx hb dX1_apply_72 rfl (lv_at hl 1 rfl) ?_
        refine gM_11 E hW dX1_apply_73 ?_
        refine lv_iload_n hx hb dX1_apply_76 rfl (lv_at hl 0 rfl) ?_
        refine lv_aload_n hx hb dX1_apply_77 rfl (lv_at hl 1 rfl) ?_
        refine gM_11 E hW dX1_apply_78 ?_
        refine lv_iload_n hx hb dX1_apply_81 rfl (lv_at hl 0 rfl) ?_
        refine lM_11 E hW (by omega) dX1_apply_82 ?_
        refine lv_aload_n hx hb dX1_apply_83 rfl (lv_at hl 1 rfl) ?_
        refine gM_10 E hW dX1_apply_84 ?_
        refine lv_iload_n hx hb dX1_apply_87 rfl (lv_at hl 2 rfl) ?_
        refine lM_10 E hW (by omega) dX1_apply_88 ?_
        refine lv_ior hx hb dX1_apply_89 ?_
        refine sM_11 E hW (by omega) dX1_apply_90 (fun H locs hW => ?_)
        refine lv_iinc (v := nI (i + 1)) (lv' := [(2, .int (nI (i + 1))), (0, .ref (q 20)), (1, .int (nI j))]) hx hb dX1_apply_91 hl (k := 0) rfl (nI_1 i) (by decide) rfl (fun ls hl => ?_)
        refine lv_goto (tgt := 67) hx hb dX1_apply_94 (by decide) ?_
        exact ih (i + 1) (by omega) (by omega) _ _ _ hW (lv_sub hl [0, 1, 2] rfl)
  have loop1 : ∀ (n : Nat) (k : Nat), 8 < k + n → (k ≤ 8) → ∀ (H : Heap) (locs : List Loc) (ls : Array Slot), WD D (wM q d) A s (APf j (st_up σ 5 0 (σ 5 0 + 1)) k) H locs → lv_has ls 3 [(2, .int (nI k)), (0, .ref (q 20)), (1, .int (nI j))] → W p l e R s m args below meth c H locs 0 0 Q (F0 m 12 ls []) := by
    intro n
    induction n with
    | zero =>
      intro k hn hk
      exact absurd hn (by omega)
    | succ n ih =>
      intro k hn hk H locs ls hW hl
      refine lv_iload_n hx hb dX1_apply_12 rfl (lv_at hl 0 rfl) ?_
      refine lv_bipush (v := nI 8) hx hb dX1_apply_13 (by decide) ?_
      refine lv_icmp_ge (tgt := 65) hx hb dX1_apply_15 (by decide) (fun h15 => ?_) (fun h15 => ?_)
      · have hk2 : k = 8 := Nat.le_antisymm hk (x_ge h15 (by omega) (by omega))
        subst hk2
        refine lv_iconst (v := nI 0) hx hb dX1_apply_65 (by decide) ?_
        refine lv_istore_n (lv' := [(2, .int (nI 0)), (0, .ref (q 20)), (1, .int (nI j))]) hx hb dX1_apply_66 rfl hl (by decide) rfl (fun ls hl => ?_)
        exact loop2 5 0 (by omega) (by omega) _ _ _ hW (lv_sub hl [0, 1, 2] rfl)
      · have hk2 : k < 8 := x_lt h15 (by omega) (by omega)
        refine lv_aload_n hx hb dX1_apply_18 rfl (lv_at hl 1 rfl) ?_
        refine gM_10 E hW dX1_apply_19 ?_
        refine lv_iload_n hx hb dX1_apply_22 rfl (lv_at hl 2 rfl) ?_
        refine lM_10 E hW (by omega) dX1_apply_23 ?_
        refine lv_iload_n hx hb dX1_apply_24 rfl (lv_at hl 0 rfl) ?_
        refine lv_ishr hx hb dX1_apply_25 ?_
        refine lv_iconst (v := 1) hx hb dX1_apply_26 (by decide) ?_
        refine lv_iand hx hb dX1_apply_27 ?_
        refine lv_iconst (v := nI 1) hx hb dX1_apply_28 (by decide) ?_
        refine lv_icmp_ne (tgt := 59) hx hb dX1_apply_29 (by decide) (fun h29 => ?_) (fun h29 => ?_)
        · rw [← APf_n (bt_getn (by omega) h29)] at hW
          refine lv_iinc (v := nI (k + 1)) (lv' := [(2, .int (nI (k + 1))), (0, .ref (q 20)), (1, .int (nI j))]) hx hb dX1_apply_59 hl (k := 0) rfl (nI_1 k) (by decide) rfl (fun ls hl => ?_)
          refine lv_goto (tgt := 12) hx hb dX1_apply_62 (by decide) ?_
          exact ih (k + 1) (by omega) (by omega) _ _ _ hW (lv_sub hl [0, 1, 2] rfl)
        · refine lv_aload_n hx hb dX1_apply_32 rfl (lv_at hl 1 rfl) ?_
          refine gM_2 E hW dX1_apply_33 ?_
          refine lv_iload_n hx hb dX1_apply_36 rfl (lv_at hl 0 rfl) ?_
          refine lv_aload_n hx hb dX1_apply_37 rfl (lv_at hl 1 rfl) ?_
          refine gM_9 E hW dX1_apply_38 ?_
          refine lv_bipush (v := nI 8) hx hb dX1_apply_41 (by decide) ?_
          refine lv_iload_n hx hb dX1_apply_43 rfl (lv_at hl 2 rfl) ?_
          refine lv_imul hx hb dX1_apply_44 ?_
          refine lv_iload_n hx hb dX1_apply_45 rfl (lv_at hl 0 rfl) ?_
          refine lv_iadd hx hb dX1_apply_46 ?_
          refine lv_topi (fun z46 ez46 => ?_)
          obtain rfl : z46 = nI (8 * j + k) := ez46.trans (ix8' j k)
          refine lM_9 E hW (by omega) dX1_apply_47 ?_
          refine sM_2 E hW (by omega) dX1_apply_48 (fun H locs hW => ?_)
          refine lv_aload_n hx hb dX1_apply_49 rfl (lv_at hl 1 rfl) ?_
          refine lv_dup hx hb dX1_apply_50 rfl ?_
          refine gM_7 E hW dX1_apply_51 ?_
          refine lv_iconst (v := 1) hx hb dX1_apply_54 (by decide) ?_
          refine lv_iadd hx hb dX1_apply_55 ?_
          refine pM_7 E hW dX1_apply_56 (fun H locs hW => ?_)
          refine lv_iinc (v := nI (k + 1)) (lv' := [(2, .int (nI (k + 1))), (0, .ref (q 20)), (1, .int (nI j))]) hx hb dX1_apply_59 hl (k := 0) rfl (nI_1 k) (by decide) rfl (fun ls hl => ?_)
          refine lv_goto (tgt := 12) hx hb dX1_apply_62 (by decide) ?_
          have hW : WD D (wM q d) A s (APf j (st_up σ 5 0 (σ 5 0 + 1)) (k + 1)) H locs := by rw [APf_y (bt_gety (by omega) h29)]; exact hW
          exact ih (k + 1) (by omega) (by omega) _ _ _ hW (lv_sub hl [0, 1, 2] rfl)
  refine lv_aload_n hx hb dX1_apply_0 rfl (lv_at hl 0 rfl) ?_
  refine lv_dup hx hb dX1_apply_1 rfl ?_
  refine gM_5 E hW dX1_apply_2 ?_
  refine lv_iconst (v := 1) hx hb dX1_apply_5 (by decide) ?_
  refine lv_iadd hx hb dX1_apply_6 ?_
  refine pM_5 E hW dX1_apply_7 (fun H locs hW => ?_)
  refine lv_iconst (v := nI 0) hx hb dX1_apply_10 (by decide) ?_
  refine lv_istore_n (lv' := [(2, .int (nI 0)), (0, .ref (q 20)), (1, .int (nI j))]) hx hb dX1_apply_11 rfl hl (by decide) rfl (fun ls hl => ?_)
  exact loop1 9 0 (by omega) (by omega) _ _ _ hW (lv_sub hl [0, 1, 2] rfl)
set_option maxHeartbeats 4000000 in
set_option maxRecDepth 100000 in
/-- commit -/
theorem mM_commit (l : Launch) (D : va_G) (q : Nat → Nat) (d : Nat → ClassId) (σ : St) (a1 : Int32) : MI l D (wM q d) (tM d) yX1_commit cX1_commit 2 .int 1 22 [.ref (q 20), .int a1] σ (fun r u => (¬ OpM σ a1 ∧ r = (-1) ∧ u = σ) ∨ (∃ j, j < 4 ∧ a1 = nI j ∧ ¬ σ 8 j = 0 ∧ ((¬ σ 10 j &&& σ 11 j = 0 ∧ r = (-3) ∧ u = st_up σ 8 j 0) ∨ (σ 10 j &&& σ 11 j = 0 ∧ σ 10 j = 0 ∧ r = 0 ∧ u = st_up σ 8 j 0) ∨ (σ 10 j &&& σ 11 j = 0 ∧ ¬ σ 10 j = 0 ∧ r = 0 ∧ AP (st_up σ 8 j 0) j u)))) := by
  refine MI.of (by decide) (Nat.le_of_ble_eq_true rfl) ?_
  intro p e R s m args below meth c Q A ls E hE hW hl
  have hx := E.hx
  have hb := E.hb
  have hl : lv_has ls 2 [(0, .ref (q 20)), (1, .int a1)] := hl
  refine lv_aload_n hx hb dX1_commit_0 rfl (lv_at hl 0 rfl) ?_
  refine lv_iload_n hx hb dX1_commit_1 rfl (lv_at hl 1 rfl) ?_
  refine callI_ (n := 1) (As := [.int a1]) (rest := []) E hW (mM_isOpen l D q d σ a1) (lw_V q247 q249 qs11 q16 q250) (by decide +kernel) ⟨by decide, by decide⟩ (ci := 1) rfl rfl rfl hl.1 rfl (Nat.le_of_ble_eq_true rfl) dX1_commit_2 (fun r2 u2 H locs hr2 hW => ?_)
  obtain ⟨hu2, hr2⟩ := hr2
  rw [hu2] at hW
  refine lv_if_ne (tgt := 10) hx hb dX1_commit_5 (by decide) (fun h5 => ?_) (fun h5 => ?_)
  · obtain ⟨j, hj, rfl, hbj⟩ := hr2.yes h5
    refine lv_aload_n hx hb dX1_commit_10 rfl (lv_at hl 0 rfl) ?_
    refine gM_8 E hW dX1_commit_11 ?_
    refine lv_iload_n hx hb dX1_commit_14 rfl (lv_at hl 1 rfl) ?_
    refine lv_iconst (v := 0) hx hb dX1_commit_15 (by decide) ?_
    refine sM_8 E hW (by omega) rfl dX1_commit_16 (fun H locs hW => ?_)
    refine lv_aload_n hx hb dX1_commit_17 rfl (lv_at hl 0 rfl) ?_
    refine gM_10 E hW dX1_commit_18 ?_
    refine lv_iload_n hx hb dX1_commit_21 rfl (lv_at hl 1 rfl) ?_
    refine lM_10 E hW (by omega) dX1_commit_22 ?_
    refine lv_aload_n hx hb dX1_commit_23 rfl (lv_at hl 0 rfl) ?_
    refine gM_11 E hW dX1_commit_24 ?_
    refine lv_iload_n hx hb dX1_commit_27 rfl (lv_at hl 1 rfl) ?_
    refine lM_11 E hW (by omega) dX1_commit_28 ?_
    refine lv_iand hx hb dX1_commit_29 ?_
    refine lv_if_eq (tgt := 36) hx hb dX1_commit_30 (by decide) (fun h30 => ?_) (fun h30 => ?_)
    · refine lv_aload_n hx hb dX1_commit_36 rfl (lv_at hl 0 rfl) ?_
      refine gM_10 E hW dX1_commit_37 ?_
      refine lv_iload_n hx hb dX1_commit_40 rfl (lv_at hl 1 rfl) ?_
      refine lM_10 E hW (by omega) dX1_commit_41 ?_
      refine lv_if_eq (tgt := 50) hx hb dX1_commit_42 (by decide) (fun h42 => ?_) (fun h42 => ?_)
      · refine lv_iconst (v := 0) hx hb dX1_commit_50 (by decide) ?_
        exact hE _ _ _ _ _ _ dX1_commit_51 rfl (Or.inr ⟨j, hj, rfl, hbj, Or.inr (Or.inl ⟨h30, h42, rfl, rfl⟩)⟩) hW
      · refine lv_aload_n hx hb dX1_commit_45 rfl (lv_at hl 0 rfl) ?_
        refine lv_iload_n hx hb dX1_commit_46 rfl (lv_at hl 1 rfl) ?_
        refine callV_ (n := 1) (As := [.int (nI j)]) (rest := []) E hW (mM_apply l D q d (st_up σ 8 j 0) (nI j) j hj rfl) (lw_V q263 q265 qs13 q16 q266) (by decide +kernel) ⟨by decide, by decide⟩ (ci := 1) rfl rfl rfl hl.1 rfl (Nat.le_of_ble_eq_true rfl) dX1_commit_47 (fun u47 H locs hr47 hW => ?_)
        refine lv_iconst (v := 0) hx hb dX1_commit_50 (by decide) ?_
        exact hE _ _ _ _ _ _ dX1_commit_51 rfl (Or.inr ⟨j, hj, rfl, hbj, Or.inr (Or.inr ⟨h30, h42, rfl, hr47⟩)⟩) hW
    · refine lv_bipush (v := (-3)) hx hb dX1_commit_33 (by decide) ?_
      exact hE _ _ _ _ _ _ dX1_commit_35 rfl (Or.inr ⟨j, hj, rfl, hbj, Or.inl ⟨h30, rfl, rfl⟩⟩) hW
  · refine lv_iconst (v := (-1)) hx hb dX1_commit_8 (by decide) ?_
    exact hE _ _ _ _ _ _ dX1_commit_9 rfl (Or.inl ⟨hr2.no h5, rfl, rfl⟩) hW
end
section
set_option maxRecDepth 100000
set_option maxHeartbeats 4000000 in
set_option maxRecDepth 100000 in
/-- abort -/
theorem mM_abort (l : Launch) (D : va_G) (q : Nat → Nat) (d : Nat → ClassId) (σ : St) (a1 : Int32) : MI l D (wM q d) (tM d) yX1_abort cX1_abort 2 .int 1 21 [.ref (q 20), .int a1] σ (fun r u => (∃ j, j < 4 ∧ a1 = nI j ∧ ¬ σ 8 j = 0 ∧ r = 0 ∧ u = st_up σ 8 j 0) ∨ (¬ OpM σ a1 ∧ r = (-1) ∧ u = σ)) := by
  refine MI.of (by decide) (Nat.le_of_ble_eq_true rfl) ?_
  intro p e R s m args below meth c Q A ls E hE hW hl
  have hx := E.hx
  have hb := E.hb
  have hl : lv_has ls 2 [(0, .ref (q 20)), (1, .int a1)] := hl
  refine lv_aload_n hx hb dX1_abort_0 rfl (lv_at hl 0 rfl) ?_
  refine lv_iload_n hx hb dX1_abort_1 rfl (lv_at hl 1 rfl) ?_
  refine callI_ (n := 1) (As := [.int a1]) (rest := []) E hW (mM_isOpen l D q d σ a1) (lw_V q247 q249 qs11 q16 q250) (by decide +kernel) ⟨by decide, by decide⟩ (ci := 1) rfl rfl rfl hl.1 rfl (Nat.le_of_ble_eq_true rfl) dX1_abort_2 (fun r2 u2 H locs hr2 hW => ?_)
  obtain ⟨hu2, hr2⟩ := hr2
  rw [hu2] at hW
  refine lv_if_ne (tgt := 10) hx hb dX1_abort_5 (by decide) (fun h5 => ?_) (fun h5 => ?_)
  · obtain ⟨j, hj, rfl, hbj⟩ := hr2.yes h5
    refine lv_aload_n hx hb dX1_abort_10 rfl (lv_at hl 0 rfl) ?_
    refine gM_8 E hW dX1_abort_11 ?_
    refine lv_iload_n hx hb dX1_abort_14 rfl (lv_at hl 1 rfl) ?_
    refine lv_iconst (v := 0) hx hb dX1_abort_15 (by decide) ?_
    refine sM_8 E hW (by omega) rfl dX1_abort_16 (fun H locs hW => ?_)
    refine lv_iconst (v := 0) hx hb dX1_abort_17 (by decide) ?_
    exact hE _ _ _ _ _ _ dX1_abort_18 rfl (Or.inl ⟨j, hj, rfl, hbj, rfl, rfl⟩) hW
  · refine lv_iconst (v := (-1)) hx hb dX1_abort_8 (by decide) ?_
    exact hE _ _ _ _ _ _ dX1_abort_9 rfl (Or.inr ⟨hr2.no h5, rfl, rfl⟩) hW
set_option maxHeartbeats 4000000 in
set_option maxRecDepth 100000 in
/-- seal -/
theorem mM_seal (l : Launch) (D : va_G) (q : Nat → Nat) (d : Nat → ClassId) (σ : St) : MI l D (wM q d) (tM d) yX1_seal cX1_seal 2 .int 0 0 [.ref (q 20)] σ (fun r u => (¬ σ 6 0 ≤ 0 ∧ r = (-4) ∧ u = σ) ∨ (σ 6 0 ≤ 0 ∧ σ 5 0 = σ 3 0 ∧ r = (-1) ∧ u = σ) ∨ (σ 6 0 ≤ 0 ∧ ¬ σ 5 0 = σ 3 0 ∧ r = σ 7 0 + 1 ∧ CPl 1 0 (σ 2) (st_up (st_up (st_up σ 6 0 (σ 7 0 + 1)) 7 0 0) 4 0 (σ 5 0)) 8 u)) := by
  refine MI.of (by decide) (Nat.le_of_ble_eq_true rfl) ?_
  intro p e R s m args below meth c Q A ls E hE hW hl
  have hx := E.hx
  have hb := E.hb
  have hl : lv_has ls 2 [(0, .ref (q 20))] := hl
  refine lv_aload_n hx hb dX1_seal_0 rfl (lv_at hl 0 rfl) ?_
  refine gM_6 E hW dX1_seal_1 ?_
  refine lv_if_le (tgt := 10) hx hb dX1_seal_4 (by decide) (fun h4 => ?_) (fun h4 => ?_)
  · refine lv_aload_n hx hb dX1_seal_10 rfl (lv_at hl 0 rfl) ?_
    refine gM_5 E hW dX1_seal_11 ?_
    refine lv_aload_n hx hb dX1_seal_14 rfl (lv_at hl 0 rfl) ?_
    refine gM_3 E hW dX1_seal_15 ?_
    refine lv_icmp_ne (tgt := 23) hx hb dX1_seal_18 (by decide) (fun h18 => ?_) (fun h18 => ?_)
    · refine lv_aload_n hx hb dX1_seal_23 rfl (lv_at hl 0 rfl) ?_
      refine lv_aload_n hx hb dX1_seal_24 rfl (lv_at hl 0 rfl) ?_
      refine gM_7 E hW dX1_seal_25 ?_
      refine lv_iconst (v := 1) hx hb dX1_seal_28 (by decide) ?_
      refine lv_iadd hx hb dX1_seal_29 ?_
      refine pM_6 E hW dX1_seal_30 (fun H locs hW => ?_)
      refine lv_aload_n hx hb dX1_seal_33 rfl (lv_at hl 0 rfl) ?_
      refine lv_iconst (v := 0) hx hb dX1_seal_34 (by decide) ?_
      refine pM_7 E hW dX1_seal_35 (fun H locs hW => ?_)
      refine lv_aload_n hx hb dX1_seal_38 rfl (lv_at hl 0 rfl) ?_
      refine lv_aload_n hx hb dX1_seal_39 rfl (lv_at hl 0 rfl) ?_
      refine gM_5 E hW dX1_seal_40 ?_
      refine pM_4 E hW dX1_seal_43 (fun H locs hW => ?_)
      refine lv_iconst (v := nI 0) hx hb dX1_seal_46 (by decide) ?_
      refine lv_istore_n (lv' := [(1, .int (nI 0)), (0, .ref (q 20))]) hx hb dX1_seal_47 rfl hl (by decide) rfl (fun ls hl => ?_)
      have loop : ∀ (n : Nat) (k : Nat) (v : St), 8 < k + n → (k ≤ 8) → (CPl 1 0 (σ 2) (st_up (st_up (st_up σ 6 0 (σ 7 0 + 1)) 7 0 0) 4 0 (σ 5 0)) k v) → ∀ (H : Heap) (locs : List Loc) (ls : Array Slot), WD D (wM q d) A s v H locs → lv_has ls 2 [(1, .int (nI k)), (0, .ref (q 20))] → W p l e R s m args below meth c H locs 0 0 Q (F0 m 48 ls []) := by
        intro n
        induction n with
        | zero =>
          intro k v hn hk hC
          exact absurd hn (by omega)
        | succ n ih =>
          intro k v hn hk hC H locs ls hW hl
          refine lv_iload_n hx hb dX1_seal_48 rfl (lv_at hl 0 rfl) ?_
          refine lv_bipush (v := nI 8) hx hb dX1_seal_49 (by decide) ?_
          refine lv_icmp_ge (tgt := 72) hx hb dX1_seal_51 (by decide) (fun h51 => ?_) (fun h51 => ?_)
          · have hk2 : k = 8 := Nat.le_antisymm hk (x_ge h51 (by omega) (by omega))
            subst hk2
            refine lv_aload_n hx hb dX1_seal_72 rfl (lv_at hl 1 rfl) ?_
            refine gM_6 E hW dX1_seal_73 ?_
            exact hE _ _ _ _ _ _ dX1_seal_76 rfl (Or.inr (Or.inr ⟨h4, h18, by rw [hC.1 6 (by decide)]; rfl, hC⟩)) hW
          · have hk2 : k < 8 := x_lt h51 (by omega) (by omega)
            refine lv_aload_n hx hb dX1_seal_54 rfl (lv_at hl 1 rfl) ?_
            refine gM_1 E hW dX1_seal_55 ?_
            refine lv_iload_n hx hb dX1_seal_58 rfl (lv_at hl 0 rfl) ?_
            refine lv_aload_n hx hb dX1_seal_59 rfl (lv_at hl 1 rfl) ?_
            refine gM_2 E hW dX1_seal_60 ?_
            refine lv_iload_n hx hb dX1_seal_63 rfl (lv_at hl 0 rfl) ?_
            refine lM_2 E hW (by omega) dX1_seal_64 ?_
            refine sM_1 E hW (by omega) dX1_seal_65 (fun H locs hW => ?_)
            refine lv_iinc (v := nI (k + 1)) (lv' := [(1, .int (nI (k + 1))), (0, .ref (q 20))]) hx hb dX1_seal_66 hl (k := 0) rfl (nI_1 k) (by decide) rfl (fun ls hl => ?_)
            refine lv_goto (tgt := 48) hx hb dX1_seal_69 (by decide) ?_
            exact ih (k + 1) _ (by omega) (by omega) (hC.step (by rw [hC.1 2 (by decide)]; rfl) (by omega)) _ _ _ hW (lv_sub hl [0, 1] rfl)
      exact loop 9 0 _ (by omega) (by omega) (CPl.zero _ _ _ _) _ _ _ hW (lv_sub hl [0, 1] rfl)
    · refine lv_iconst (v := (-1)) hx hb dX1_seal_21 (by decide) ?_
      exact hE _ _ _ _ _ _ dX1_seal_22 rfl (Or.inr (Or.inl ⟨h4, h18, rfl, rfl⟩)) hW
  · refine lv_bipush (v := (-4)) hx hb dX1_seal_7 (by decide) ?_
    exact hE _ _ _ _ _ _ dX1_seal_9 rfl (Or.inl ⟨h4, rfl, rfl⟩) hW
set_option maxHeartbeats 4000000 in
set_option maxRecDepth 100000 in
/-- flush -/
theorem mM_flush (l : Launch) (D : va_G) (q : Nat → Nat) (d : Nat → ClassId) (σ : St) (a1 : Int32) : MI l D (wM q d) (tM d) yX1_flush cX1_flush 4 .int 0 0 [.ref (q 20), .int a1] σ (fun r u => ∃ x, ((¬ 0 ≤ a1 ∧ x = 0) ∨ (0 ≤ a1 ∧ ¬ a1 ≤ σ 6 0 ∧ x = σ 6 0) ∨ (0 ≤ a1 ∧ a1 ≤ σ 6 0 ∧ x = a1)) ∧ r = x ∧ (((x ≤ 0 ∨ ¬ x = σ 6 0) ∧ u = st_up σ 6 0 (σ 6 0 - x)) ∨ (¬ x ≤ 0 ∧ x = σ 6 0 ∧ ∃ v, CPl 0 0 (σ 1) (st_up σ 3 0 (σ 4 0)) 8 v ∧ u = st_up v 6 0 (v 6 0 - x)))) := by
  refine MI.of (by decide) (Nat.le_of_ble_eq_true rfl) ?_
  intro p e R s m args below meth c Q A ls E hE hW hl
  have hx := E.hx
  have hb := E.hb
  have hl : lv_has ls 4 [(0, .ref (q 20)), (1, .int a1)] := hl
  have tail : ∀ (x : Int32), ((¬ 0 ≤ a1 ∧ x = 0) ∨ (0 ≤ a1 ∧ ¬ a1 ≤ σ 6 0 ∧ x = σ 6 0) ∨ (0 ≤ a1 ∧ a1 ≤ σ 6 0 ∧ x = a1)) → ∀ (H : Heap) (locs : List Loc) (ls : Array Slot), WD D (wM q d) A s σ H locs → lv_has ls 4 [(2, .int x), (0, .ref (q 20)), (1, .int a1)] → W p l e R s m args below meth c H locs 0 0 Q (F0 m 25 ls []) := by
    intro x hx9 H locs ls hW hl
    refine lv_iload_n hx hb dX1_flush_25 rfl (lv_at hl 0 rfl) ?_
    refine lv_if_le (tgt := 71) hx hb dX1_flush_26 (by decide) (fun h26 => ?_) (fun h26 => ?_)
    · refine lv_aload_n hx hb dX1_flush_71 rfl (lv_at hl 1 rfl) ?_
      refine lv_aload_n hx hb dX1_flush_72 rfl (lv_at hl 1 rfl) ?_
      refine gM_6 E hW dX1_flush_73 ?_
      refine lv_iload_n hx hb dX1_flush_76 rfl (lv_at hl 0 rfl) ?_
      refine lv_isub hx hb dX1_flush_77 ?_
      refine pM_6 E hW dX1_flush_78 (fun H locs hW => ?_)
      refine lv_iload_n hx hb dX1_flush_81 rfl (lv_at hl 0 rfl) ?_
      exact hE _ _ _ _ _ _ dX1_flush_82 rfl ⟨x, hx9, rfl, Or.inl ⟨Or.inl h26, rfl⟩⟩ hW
    · refine lv_iload_n hx hb dX1_flush_29 rfl (lv_at hl 0 rfl) ?_
      refine lv_aload_n hx hb dX1_flush_30 rfl (lv_at hl 1 rfl) ?_
      refine gM_6 E hW dX1_flush_31 ?_
      refine lv_icmp_ne (tgt := 71) hx hb dX1_flush_34 (by decide) (fun h34 => ?_) (fun h34 => ?_)
      · refine lv_aload_n hx hb dX1_flush_71 rfl (lv_at hl 1 rfl) ?_
        refine lv_aload_n hx hb dX1_flush_72 rfl (lv_at hl 1 rfl) ?_
        refine gM_6 E hW dX1_flush_73 ?_
        refine lv_iload_n hx hb dX1_flush_76 rfl (lv_at hl 0 rfl) ?_
        refine lv_isub hx hb dX1_flush_77 ?_
        refine pM_6 E hW dX1_flush_78 (fun H locs hW => ?_)
        refine lv_iload_n hx hb dX1_flush_81 rfl (lv_at hl 0 rfl) ?_
        exact hE _ _ _ _ _ _ dX1_flush_82 rfl ⟨x, hx9, rfl, Or.inl ⟨Or.inr h34, rfl⟩⟩ hW
      · refine lv_aload_n hx hb dX1_flush_37 rfl (lv_at hl 1 rfl) ?_
        refine lv_aload_n hx hb dX1_flush_38 rfl (lv_at hl 1 rfl) ?_
        refine gM_4 E hW dX1_flush_39 ?_
        refine pM_3 E hW dX1_flush_42 (fun H locs hW => ?_)
        refine lv_iconst (v := nI 0) hx hb dX1_flush_45 (by decide) ?_
        refine lv_istore_n (lv' := [(3, .int (nI 0)), (2, .int x), (0, .ref (q 20)), (1, .int a1)]) hx hb dX1_flush_46 rfl hl (by decide) rfl (fun ls hl => ?_)
        have loop : ∀ (n : Nat) (k : Nat) (v : St), 8 < k + n → (k ≤ 8) → (CPl 0 0 (σ 1) (st_up σ 3 0 (σ 4 0)) k v) → ∀ (H : Heap) (locs : List Loc) (ls : Array Slot), WD D (wM q d) A s v H locs → lv_has ls 4 [(3, .int (nI k)), (2, .int x), (0, .ref (q 20)), (1, .int a1)] → W p l e R s m args below meth c H locs 0 0 Q (F0 m 47 ls []) := by
          intro n
          induction n with
          | zero =>
            intro k v hn hk hC
            exact absurd hn (by omega)
          | succ n ih =>
            intro k v hn hk hC H locs ls hW hl
            refine lv_iload_n hx hb dX1_flush_47 rfl (lv_at hl 0 rfl) ?_
            refine lv_bipush (v := nI 8) hx hb dX1_flush_48 (by decide) ?_
            refine lv_icmp_ge (tgt := 71) hx hb dX1_flush_50 (by decide) (fun h50 => ?_) (fun h50 => ?_)
            · have hk2 : k = 8 := Nat.le_antisymm hk (x_ge h50 (by omega) (by omega))
              subst hk2
              refine lv_aload_n hx hb dX1_flush_71 rfl (lv_at hl 2 rfl) ?_
              refine lv_aload_n hx hb dX1_flush_72 rfl (lv_at hl 2 rfl) ?_
              refine gM_6 E hW dX1_flush_73 ?_
              refine lv_iload_n hx hb dX1_flush_76 rfl (lv_at hl 1 rfl) ?_
              refine lv_isub hx hb dX1_flush_77 ?_
              refine pM_6 E hW dX1_flush_78 (fun H locs hW => ?_)
              refine lv_iload_n hx hb dX1_flush_81 rfl (lv_at hl 1 rfl) ?_
              exact hE _ _ _ _ _ _ dX1_flush_82 rfl ⟨x, hx9, rfl, Or.inr ⟨h26, h34, v, hC, rfl⟩⟩ hW
            · have hk2 : k < 8 := x_lt h50 (by omega) (by omega)
              refine lv_aload_n hx hb dX1_flush_53 rfl (lv_at hl 2 rfl) ?_
              refine gM_0 E hW dX1_flush_54 ?_
              refine lv_iload_n hx hb dX1_flush_57 rfl (lv_at hl 0 rfl) ?_
              refine lv_aload_n hx hb dX1_flush_58 rfl (lv_at hl 2 rfl) ?_
              refine gM_1 E hW dX1_flush_59 ?_
              refine lv_iload_n hx hb dX1_flush_62 rfl (lv_at hl 0 rfl) ?_
              refine lM_1 E hW (by omega) dX1_flush_63 ?_
              refine sM_0 E hW (by omega) dX1_flush_64 (fun H locs hW => ?_)
              refine lv_iinc (v := nI (k + 1)) (lv' := [(3, .int (nI (k + 1))), (2, .int x), (0, .ref (q 20)), (1, .int a1)]) hx hb dX1_flush_65 hl (k := 0) rfl (nI_1 k) (by decide) rfl (fun ls hl => ?_)
              refine lv_goto (tgt := 47) hx hb dX1_flush_68 (by decide) ?_
              exact ih (k + 1) _ (by omega) (by omega) (hC.step (by rw [hC.1 1 (by decide)]; rfl) (by omega)) _ _ _ hW (lv_sub hl [0, 1, 2, 3] rfl)
        exact loop 9 0 _ (by omega) (by omega) (CPl.zero _ _ _ _) _ _ _ hW (lv_sub hl [0, 1, 2, 3] rfl)
  refine lv_iload_n hx hb dX1_flush_0 rfl (lv_at hl 1 rfl) ?_
  refine lv_if_ge (tgt := 8) hx hb dX1_flush_1 (by decide) (fun h1 => ?_) (fun h1 => ?_)
  · refine lv_iload_n hx hb dX1_flush_8 rfl (lv_at hl 1 rfl) ?_
    refine lv_aload_n hx hb dX1_flush_9 rfl (lv_at hl 0 rfl) ?_
    refine gM_6 E hW dX1_flush_10 ?_
    refine lv_icmp_le (tgt := 23) hx hb dX1_flush_13 (by decide) (fun h13 => ?_) (fun h13 => ?_)
    · refine lv_iload_n hx hb dX1_flush_23 rfl (lv_at hl 1 rfl) ?_
      refine lv_istore_n (lv' := [(2, .int a1), (0, .ref (q 20)), (1, .int a1)]) hx hb dX1_flush_24 rfl hl (by decide) rfl (fun ls hl => ?_)
      exact tail _ (Or.inr (Or.inr ⟨h1, h13, rfl⟩)) _ _ _ hW (lv_sub hl [0, 1, 2] rfl)
    · refine lv_aload_n hx hb dX1_flush_16 rfl (lv_at hl 0 rfl) ?_
      refine gM_6 E hW dX1_flush_17 ?_
      refine lv_goto (tgt := 24) hx hb dX1_flush_20 (by decide) ?_
      refine lv_istore_n (lv' := [(2, .int (σ 6 0)), (0, .ref (q 20)), (1, .int a1)]) hx hb dX1_flush_24 rfl hl (by decide) rfl (fun ls hl => ?_)
      exact tail _ (Or.inr (Or.inl ⟨h1, h13, rfl⟩)) _ _ _ hW (lv_sub hl [0, 1, 2] rfl)
  · refine lv_iconst (v := 0) hx hb dX1_flush_4 (by decide) ?_
    refine lv_goto (tgt := 24) hx hb dX1_flush_5 (by decide) ?_
    refine lv_istore_n (lv' := [(2, .int 0), (0, .ref (q 20)), (1, .int a1)]) hx hb dX1_flush_24 rfl hl (by decide) rfl (fun ls hl => ?_)
    exact tail _ (Or.inl ⟨h1, rfl⟩) _ _ _ hW (lv_sub hl [0, 1, 2] rfl)
set_option maxHeartbeats 4000000 in
set_option maxRecDepth 100000 in
/-- stepsLeft -/
theorem mM_stepsLeft (l : Launch) (D : va_G) (q : Nat → Nat) (d : Nat → ClassId) (σ : St) : MI l D (wM q d) (tM d) yX1_stepsLeft cX1_stepsLeft 1 .int 0 0 [.ref (q 20)] σ (fun r u => u = σ ∧ r = σ 6 0) := by
  refine MI.of (by decide) (Nat.le_of_ble_eq_true rfl) ?_
  intro p e R s m args below meth c Q A ls E hE hW hl
  have hx := E.hx
  have hb := E.hb
  have hl : lv_has ls 1 [(0, .ref (q 20))] := hl
  refine lv_aload_n hx hb dX1_stepsLeft_0 rfl (lv_at hl 0 rfl) ?_
  refine gM_6 E hW dX1_stepsLeft_1 ?_
  exact hE _ _ _ _ _ _ dX1_stepsLeft_4 rfl ⟨rfl, rfl⟩ hW
set_option maxHeartbeats 4000000 in
set_option maxRecDepth 100000 in
/-- commits -/
theorem mM_commits (l : Launch) (D : va_G) (q : Nat → Nat) (d : Nat → ClassId) (σ : St) : MI l D (wM q d) (tM d) yX1_commits cX1_commits 1 .int 0 0 [.ref (q 20)] σ (fun r u => u = σ ∧ r = σ 5 0) := by
  refine MI.of (by decide) (Nat.le_of_ble_eq_true rfl) ?_
  intro p e R s m args below meth c Q A ls E hE hW hl
  have hx := E.hx
  have hb := E.hb
  have hl : lv_has ls 1 [(0, .ref (q 20))] := hl
  refine lv_aload_n hx hb dX1_commits_0 rfl (lv_at hl 0 rfl) ?_
  refine gM_5 E hW dX1_commits_1 ?_
  exact hE _ _ _ _ _ _ dX1_commits_4 rfl ⟨rfl, rfl⟩ hW
set_option maxHeartbeats 4000000 in
set_option maxRecDepth 100000 in
/-- durable -/
theorem mM_durable (l : Launch) (D : va_G) (q : Nat → Nat) (d : Nat → ClassId) (σ : St) : MI l D (wM q d) (tM d) yX1_durable cX1_durable 1 .int 0 0 [.ref (q 20)] σ (fun r u => u = σ ∧ r = σ 3 0) := by
  refine MI.of (by decide) (Nat.le_of_ble_eq_true rfl) ?_
  intro p e R s m args below meth c Q A ls E hE hW hl
  have hx := E.hx
  have hb := E.hb
  have hl : lv_has ls 1 [(0, .ref (q 20))] := hl
  refine lv_aload_n hx hb dX1_durable_0 rfl (lv_at hl 0 rfl) ?_
  refine gM_3 E hW dX1_durable_1 ?_
  exact hE _ _ _ _ _ _ dX1_durable_4 rfl ⟨rfl, rfl⟩ hW
set_option maxHeartbeats 4000000 in
set_option maxRecDepth 100000 in
/-- crash -/
theorem mM_crash (l : Launch) (D : va_G) (q : Nat → Nat) (d : Nat → ClassId) (σ : St) : MV l D (wM q d) (tM d) yX1_crash cX1_crash 2 0 0 [.ref (q 20)] σ (fun u => ∃ v w, CPl 8 0 (fun _ => 0) σ 4 v ∧ CPl 2 0 (v 0) v 8 w ∧ u = st_up (st_up (st_up w 5 0 (w 3 0)) 6 0 0) 7 0 0) := by
  refine MV.of (by decide) (Nat.le_of_ble_eq_true rfl) ?_
  intro p e R s m args below meth c Q A ls E hE hW hl
  have hx := E.hx
  have hb := E.hb
  have hl : lv_has ls 2 [(0, .ref (q 20))] := hl
  have loop : ∀ (n : Nat) (i : Nat) (v : St), 4 < i + n → (i ≤ 4) → (CPl 8 0 (fun _ => 0) σ i v) → ∀ (H : Heap) (locs : List Loc) (ls : Array Slot), WD D (wM q d) A s v H locs → lv_has ls 2 [(1, .int (nI i)), (0, .ref (q 20))] → W p l e R s m args below meth c H locs 0 0 Q (F0 m 2 ls []) := by
    intro n
    induction n with
    | zero =>
      intro i v hn hi hB
      exact absurd hn (by omega)
    | succ n ih =>
      intro i v hn hi hB H locs ls hW hl
      refine lv_iload_n hx hb dX1_crash_2 rfl (lv_at hl 0 rfl) ?_
      refine lv_iconst (v := nI 4) hx hb dX1_crash_3 (by decide) ?_
      refine lv_icmp_ge (tgt := 20) hx hb dX1_crash_4 (by decide) (fun h4 => ?_) (fun h4 => ?_)
      · have hi2 : i = 4 := Nat.le_antisymm hi (x_ge h4 (by omega) (by omega))
        subst hi2
        refine lv_iconst (v := nI 0) hx hb dX1_crash_20 (by decide) ?_
        refine lv_istore_n (lv' := [(1, .int (nI 0)), (0, .ref (q 20))]) hx hb dX1_crash_21 rfl hl (by decide) rfl (fun ls hl => ?_)
        have loop2 : ∀ (n : Nat) (k : Nat) (w : St), 8 < k + n → (k ≤ 8) → (CPl 2 0 (v 0) v k w) → ∀ (H : Heap) (locs : List Loc) (ls : Array Slot), WD D (wM q d) A s w H locs → lv_has ls 2 [(1, .int (nI k)), (0, .ref (q 20))] → W p l e R s m args below meth c H locs 0 0 Q (F0 m 22 ls []) := by
          intro n
          induction n with
          | zero =>
            intro k w hn hk hC
            exact absurd hn (by omega)
          | succ n ih =>
            intro k w hn hk hC H locs ls hW hl
            refine lv_iload_n hx hb dX1_crash_22 rfl (lv_at hl 0 rfl) ?_
            refine lv_bipush (v := nI 8) hx hb dX1_crash_23 (by decide) ?_
            refine lv_icmp_ge (tgt := 46) hx hb dX1_crash_25 (by decide) (fun h25 => ?_) (fun h25 => ?_)
            · have hk2 : k = 8 := Nat.le_antisymm hk (x_ge h25 (by omega) (by omega))
              subst hk2
              refine lv_aload_n hx hb dX1_crash_46 rfl (lv_at hl 1 rfl) ?_
              refine lv_aload_n hx hb dX1_crash_47 rfl (lv_at hl 1 rfl) ?_
              refine gM_3 E hW dX1_crash_48 ?_
              refine pM_5 E hW dX1_crash_51 (fun H locs hW => ?_)
              refine lv_aload_n hx hb dX1_crash_54 rfl (lv_at hl 1 rfl) ?_
              refine lv_iconst (v := 0) hx hb dX1_crash_55 (by decide) ?_
              refine pM_6 E hW dX1_crash_56 (fun H locs hW => ?_)
              refine lv_aload_n hx hb dX1_crash_59 rfl (lv_at hl 1 rfl) ?_
              refine lv_iconst (v := 0) hx hb dX1_crash_60 (by decide) ?_
              refine pM_7 E hW dX1_crash_61 (fun H locs hW => ?_)
              exact hE _ _ _ _ _ dX1_crash_64 ⟨v, w, hB, hC, rfl⟩ hW
            · have hk2 : k < 8 := x_lt h25 (by omega) (by omega)
              refine lv_aload_n hx hb dX1_crash_28 rfl (lv_at hl 1 rfl) ?_
              refine gM_2 E hW dX1_crash_29 ?_
              refine lv_iload_n hx hb dX1_crash_32 rfl (lv_at hl 0 rfl) ?_
              refine lv_aload_n hx hb dX1_crash_33 rfl (lv_at hl 1 rfl) ?_
              refine gM_0 E hW dX1_crash_34 ?_
              refine lv_iload_n hx hb dX1_crash_37 rfl (lv_at hl 0 rfl) ?_
              refine lM_0 E hW (by omega) dX1_crash_38 ?_
              refine sM_2 E hW (by omega) dX1_crash_39 (fun H locs hW => ?_)
              refine lv_iinc (v := nI (k + 1)) (lv' := [(1, .int (nI (k + 1))), (0, .ref (q 20))]) hx hb dX1_crash_40 hl (k := 0) rfl (nI_1 k) (by decide) rfl (fun ls hl => ?_)
              refine lv_goto (tgt := 22) hx hb dX1_crash_43 (by decide) ?_
              exact ih (k + 1) _ (by omega) (by omega) (hC.step (by rw [hC.1 0 (by decide)]) (by omega)) _ _ _ hW (lv_sub hl [0, 1] rfl)
        exact loop2 9 0 _ (by omega) (by omega) (CPl.zero _ _ _ _) _ _ _ hW (lv_sub hl [0, 1] rfl)
      · have hi2 : i < 4 := x_lt h4 (by omega) (by omega)
        refine lv_aload_n hx hb dX1_crash_7 rfl (lv_at hl 1 rfl) ?_
        refine gM_8 E hW dX1_crash_8 ?_
        refine lv_iload_n hx hb dX1_crash_11 rfl (lv_at hl 0 rfl) ?_
        refine lv_iconst (v := 0) hx hb dX1_crash_12 (by decide) ?_
        refine sM_8 E hW (by omega) rfl dX1_crash_13 (fun H locs hW => ?_)
        refine lv_iinc (v := nI (i + 1)) (lv' := [(1, .int (nI (i + 1))), (0, .ref (q 20))]) hx hb dX1_crash_14 hl (k := 0) rfl (nI_1 i) (by decide) rfl (fun ls hl => ?_)
        refine lv_goto (tgt := 2) hx hb dX1_crash_17 (by decide) ?_
        exact ih (i + 1) _ (by omega) (by omega) (hB.step rfl (by omega)) _ _ _ hW (lv_sub hl [0, 1] rfl)
  refine lv_iconst (v := nI 0) hx hb dX1_crash_0 (by decide) ?_
  refine lv_istore_n (lv' := [(1, .int (nI 0)), (0, .ref (q 20))]) hx hb dX1_crash_1 rfl hl (by decide) rfl (fun ls hl => ?_)
  exact loop 5 0 σ (by omega) (by omega) (CPl.zero _ _ _ _) _ _ _ hW (lv_sub hl [0, 1] rfl)
set_option maxHeartbeats 4000000 in
set_option maxRecDepth 100000 in
/-- value -/
theorem mM_value (l : Launch) (D : va_G) (q : Nat → Nat) (d : Nat → ClassId) (σ : St) (a1 : Int32) : MI l D (wM q d) (tM d) yX1_value cX1_value 2 .int 1 21 [.ref (q 20), .int a1] σ (fun r u => u = σ ∧ ((∃ k, k < 8 ∧ a1 = nI k ∧ r = σ 2 k) ∨ ((¬ ∃ k, k < 8 ∧ a1 = nI k) ∧ r = 0))) := by
  refine MI.of (by decide) (Nat.le_of_ble_eq_true rfl) ?_
  intro p e R s m args below meth c Q A ls E hE hW hl
  have hx := E.hx
  have hb := E.hb
  have hl : lv_has ls 2 [(0, .ref (q 20)), (1, .int a1)] := hl
  refine lv_aload_n hx hb dX1_value_0 rfl (lv_at hl 0 rfl) ?_
  refine lv_iload_n hx hb dX1_value_1 rfl (lv_at hl 1 rfl) ?_
  refine callI_ (n := 1) (As := [.int a1]) (rest := []) E hW (mM_isKey l D q d σ a1) (lw_V q251 q253 qs12 q16 q254) (by decide +kernel) ⟨by decide, by decide⟩ (ci := 1) rfl rfl rfl hl.1 rfl (Nat.le_of_ble_eq_true rfl) dX1_value_2 (fun r2 u2 H locs hr2 hW => ?_)
  obtain ⟨hu2, hr2⟩ := hr2
  rw [hu2] at hW
  refine lv_if_eq (tgt := 17) hx hb dX1_value_5 (by decide) (fun h5 => ?_) (fun h5 => ?_)
  · refine lv_iconst (v := 0) hx hb dX1_value_17 (by decide) ?_
    exact hE _ _ _ _ _ _ dX1_value_18 rfl ⟨rfl, Or.inr ⟨hr2.no h5, rfl⟩⟩ hW
  · obtain ⟨k, hk, rfl⟩ := hr2.yes h5
    refine lv_aload_n hx hb dX1_value_8 rfl (lv_at hl 0 rfl) ?_
    refine gM_2 E hW dX1_value_9 ?_
    refine lv_iload_n hx hb dX1_value_12 rfl (lv_at hl 1 rfl) ?_
    refine lM_2 E hW (by omega) dX1_value_13 ?_
    refine lv_goto (tgt := 18) hx hb dX1_value_14 (by decide) ?_
    exact hE _ _ _ _ _ _ dX1_value_18 rfl ⟨rfl, Or.inl ⟨k, hk, rfl, rfl⟩⟩ hW
set_option maxHeartbeats 4000000 in
set_option maxRecDepth 100000 in
/-- safeValue -/
theorem mM_safeValue (l : Launch) (D : va_G) (q : Nat → Nat) (d : Nat → ClassId) (σ : St) (a1 : Int32) : MI l D (wM q d) (tM d) yX1_safeValue cX1_safeValue 2 .int 1 21 [.ref (q 20), .int a1] σ (fun r u => u = σ ∧ ((∃ k, k < 8 ∧ a1 = nI k ∧ r = σ 0 k) ∨ ((¬ ∃ k, k < 8 ∧ a1 = nI k) ∧ r = 0))) := by
  refine MI.of (by decide) (Nat.le_of_ble_eq_true rfl) ?_
  intro p e R s m args below meth c Q A ls E hE hW hl
  have hx := E.hx
  have hb := E.hb
  have hl : lv_has ls 2 [(0, .ref (q 20)), (1, .int a1)] := hl
  refine lv_aload_n hx hb dX1_safeValue_0 rfl (lv_at hl 0 rfl) ?_
  refine lv_iload_n hx hb dX1_safeValue_1 rfl (lv_at hl 1 rfl) ?_
  refine callI_ (n := 1) (As := [.int a1]) (rest := []) E hW (mM_isKey l D q d σ a1) (lw_V q251 q253 qs12 q16 q254) (by decide +kernel) ⟨by decide, by decide⟩ (ci := 1) rfl rfl rfl hl.1 rfl (Nat.le_of_ble_eq_true rfl) dX1_safeValue_2 (fun r2 u2 H locs hr2 hW => ?_)
  obtain ⟨hu2, hr2⟩ := hr2
  rw [hu2] at hW
  refine lv_if_eq (tgt := 17) hx hb dX1_safeValue_5 (by decide) (fun h5 => ?_) (fun h5 => ?_)
  · refine lv_iconst (v := 0) hx hb dX1_safeValue_17 (by decide) ?_
    exact hE _ _ _ _ _ _ dX1_safeValue_18 rfl ⟨rfl, Or.inr ⟨hr2.no h5, rfl⟩⟩ hW
  · obtain ⟨k, hk, rfl⟩ := hr2.yes h5
    refine lv_aload_n hx hb dX1_safeValue_8 rfl (lv_at hl 0 rfl) ?_
    refine gM_0 E hW dX1_safeValue_9 ?_
    refine lv_iload_n hx hb dX1_safeValue_12 rfl (lv_at hl 1 rfl) ?_
    refine lM_0 E hW (by omega) dX1_safeValue_13 ?_
    refine lv_goto (tgt := 18) hx hb dX1_safeValue_14 (by decide) ?_
    exact hE _ _ _ _ _ _ dX1_safeValue_18 rfl ⟨rfl, Or.inl ⟨k, hk, rfl, rfl⟩⟩ hW
set_option maxHeartbeats 4000000 in
set_option maxRecDepth 100000 in
/-- conflicts -/
theorem mM_conflicts (l : Launch) (D : va_G) (q : Nat → Nat) (d : Nat → ClassId) (σ : St) (a1 : Int32) : MI l D (wM q d) (tM d) yX1_conflicts cX1_conflicts 2 .int 1 21 [.ref (q 20), .int a1] σ (fun r u => u = σ ∧ ((∃ j, j < 4 ∧ a1 = nI j ∧ ¬ σ 8 j = 0 ∧ r = σ 10 j &&& σ 11 j) ∨ (¬ OpM σ a1 ∧ r = 0))) := by
  refine MI.of (by decide) (Nat.le_of_ble_eq_true rfl) ?_
  intro p e R s m args below meth c Q A ls E hE hW hl
  have hx := E.hx
  have hb := E.hb
  have hl : lv_has ls 2 [(0, .ref (q 20)), (1, .int a1)] := hl
  refine lv_aload_n hx hb dX1_conflicts_0 rfl (lv_at hl 0 rfl) ?_
  refine lv_iload_n hx hb dX1_conflicts_1 rfl (lv_at hl 1 rfl) ?_
  refine callI_ (n := 1) (As := [.int a1]) (rest := []) E hW (mM_isOpen l D q d σ a1) (lw_V q247 q249 qs11 q16 q250) (by decide +kernel) ⟨by decide, by decide⟩ (ci := 1) rfl rfl rfl hl.1 rfl (Nat.le_of_ble_eq_true rfl) dX1_conflicts_2 (fun r2 u2 H locs hr2 hW => ?_)
  obtain ⟨hu2, hr2⟩ := hr2
  rw [hu2] at hW
  refine lv_if_eq (tgt := 24) hx hb dX1_conflicts_5 (by decide) (fun h5 => ?_) (fun h5 => ?_)
  · refine lv_iconst (v := 0) hx hb dX1_conflicts_24 (by decide) ?_
    exact hE _ _ _ _ _ _ dX1_conflicts_25 rfl ⟨rfl, Or.inr ⟨hr2.no h5, rfl⟩⟩ hW
  · obtain ⟨j, hj, rfl, hbj⟩ := hr2.yes h5
    refine lv_aload_n hx hb dX1_conflicts_8 rfl (lv_at hl 0 rfl) ?_
    refine gM_10 E hW dX1_conflicts_9 ?_
    refine lv_iload_n hx hb dX1_conflicts_12 rfl (lv_at hl 1 rfl) ?_
    refine lM_10 E hW (by omega) dX1_conflicts_13 ?_
    refine lv_aload_n hx hb dX1_conflicts_14 rfl (lv_at hl 0 rfl) ?_
    refine gM_11 E hW dX1_conflicts_15 ?_
    refine lv_iload_n hx hb dX1_conflicts_18 rfl (lv_at hl 1 rfl) ?_
    refine lM_11 E hW (by omega) dX1_conflicts_19 ?_
    refine lv_iand hx hb dX1_conflicts_20 ?_
    refine lv_goto (tgt := 25) hx hb dX1_conflicts_21 (by decide) ?_
    exact hE _ _ _ _ _ _ dX1_conflicts_25 rfl ⟨rfl, Or.inl ⟨j, hj, rfl, hbj, rfl⟩⟩ hW
set_option maxHeartbeats 4000000 in
set_option maxRecDepth 100000 in
/-- open -/
theorem mM_open (l : Launch) (D : va_G) (q : Nat → Nat) (d : Nat → ClassId) (σ : St) : MI l D (wM q d) (tM d) yX1_open cX1_open 3 .int 0 0 [.ref (q 20)] σ (fun r u => u = σ ∧ OB σ 4 r) := by
  refine MI.of (by decide) (Nat.le_of_ble_eq_true rfl) ?_
  intro p e R s m args below meth c Q A ls E hE hW hl
  have hx := E.hx
  have hb := E.hb
  have hl : lv_has ls 3 [(0, .ref (q 20))] := hl
  have loop : ∀ (n : Nat) (i : Nat) (x : Int32), 4 < i + n → (i ≤ 4) → (OB σ i x) → ∀ (H : Heap) (locs : List Loc) (ls : Array Slot), WD D (wM q d) A s σ H locs → lv_has ls 3 [(2, .int (nI i)), (1, .int x), (0, .ref (q 20))] → W p l e R s m args below meth c H locs 0 0 Q (F0 m 4 ls []) := by
    intro n
    induction n with
    | zero =>
      intro i x hn hi hC
      exact absurd hn (by omega)
    | succ n ih =>
      intro i x hn hi hC H locs ls hW hl
      refine lv_iload_n hx hb dX1_open_4 rfl (lv_at hl 0 rfl) ?_
      refine lv_iconst (v := nI 4) hx hb dX1_open_5 (by decide) ?_
      refine lv_icmp_ge (tgt := 34) hx hb dX1_open_6 (by decide) (fun h6 => ?_) (fun h6 => ?_)
      · have hi2 : i = 4 := Nat.le_antisymm hi (x_ge h6 (by omega) (by omega))
        subst hi2
        refine lv_iload_n hx hb dX1_open_34 rfl (lv_at hl 1 rfl) ?_
        exact hE _ _ _ _ _ _ dX1_open_35 rfl ⟨rfl, hC⟩ hW
      · have hi2 : i < 4 := x_lt h6 (by omega) (by omega)
        refine lv_iload_n hx hb dX1_open_9 rfl (lv_at hl 1 rfl) ?_
        refine lv_aload_n hx hb dX1_open_10 rfl (lv_at hl 2 rfl) ?_
        refine gM_8 E hW dX1_open_11 ?_
        refine lv_iload_n hx hb dX1_open_14 rfl (lv_at hl 0 rfl) ?_
        refine lM_8 E hW (by omega) dX1_open_15 ?_
        refine lv_if_eq (tgt := 25) hx hb dX1_open_16 (by decide) (fun h16 => ?_) (fun h16 => ?_)
        · refine lv_iconst (v := 0) hx hb dX1_open_25 (by decide) ?_
          refine lv_ior hx hb dX1_open_26 ?_
          refine lv_istore_n (lv' := [(1, .int (x ||| 0)), (2, .int (nI i)), (0, .ref (q 20))]) hx hb dX1_open_27 rfl hl (by decide) rfl (fun ls hl => ?_)
          refine lv_iinc (v := nI (i + 1)) (lv' := [(2, .int (nI (i + 1))), (1, .int (x ||| 0)), (0, .ref (q 20))]) hx hb dX1_open_28 hl (k := 1) rfl (nI_1 i) (by decide) rfl (fun ls hl => ?_)
          refine lv_goto (tgt := 4) hx hb dX1_open_31 (by decide) ?_
          exact ih (i + 1) _ (by omega) (by omega) (hC.skip h16) _ _ _ hW (lv_sub hl [0, 1, 2] rfl)
        · refine lv_iconst (v := 1) hx hb dX1_open_19 (by decide) ?_
          refine lv_iload_n hx hb dX1_open_20 rfl (lv_at hl 0 rfl) ?_
          refine lv_ishl hx hb dX1_open_21 ?_
          refine lv_goto (tgt := 26) hx hb dX1_open_22 (by decide) ?_
          refine lv_ior hx hb dX1_open_26 ?_
          refine lv_istore_n (lv' := [(1, .int (x ||| (1 <<< ((nI i) &&& 31)))), (2, .int (nI i)), (0, .ref (q 20))]) hx hb dX1_open_27 rfl hl (by decide) rfl (fun ls hl => ?_)
          refine lv_iinc (v := nI (i + 1)) (lv' := [(2, .int (nI (i + 1))), (1, .int (x ||| (1 <<< ((nI i) &&& 31)))), (0, .ref (q 20))]) hx hb dX1_open_28 hl (k := 1) rfl (nI_1 i) (by decide) rfl (fun ls hl => ?_)
          refine lv_goto (tgt := 4) hx hb dX1_open_31 (by decide) ?_
          exact ih (i + 1) _ (by omega) (by omega) (hC.set (by omega) h16) _ _ _ hW (lv_sub hl [0, 1, 2] rfl)
  refine lv_iconst (v := nI 0) hx hb dX1_open_0 (by decide) ?_
  refine lv_istore_n (lv' := [(1, .int (nI 0)), (0, .ref (q 20))]) hx hb dX1_open_1 rfl hl (by decide) rfl (fun ls hl => ?_)
  refine lv_iconst (v := nI 0) hx hb dX1_open_2 (by decide) ?_
  refine lv_istore_n (lv' := [(2, .int (nI 0)), (1, .int (nI 0)), (0, .ref (q 20))]) hx hb dX1_open_3 rfl hl (by decide) rfl (fun ls hl => ?_)
  exact loop 5 0 (nI 0) (by omega) (by omega) (OB.zero σ) _ _ _ hW (lv_sub hl [0, 1, 2] rfl)
end
section
set_option maxRecDepth 100000
/-! the plain law: the invariant between the two states -/
theorem x_anti {a b : Int32} (h : a ≤ b) (h2 : b ≤ a) : a = b := by
  rw [Int32.le_iff_toInt_le] at h h2
  exact Int32.toInt_inj.mp (by omega)
def sameM (u σ : St) : Prop := u 0 = σ 0 ∧ u 1 = σ 1 ∧ u 2 = σ 2 ∧ u 3 = σ 3 ∧ u 5 = σ 5 ∧ u 6 = σ 6 ∧ u 7 = σ 7
theorem Mt_cong {u σ : St} (h : sameM u σ) (key t : Int32) (i : Nat) : Mt u key t i ↔ Mt σ key t i := by
  obtain ⟨h0, h1, h2, h3, h5, h6, h7⟩ := h
  unfold Mt
  rw [h0, h1, h2, Mk_cong h5 h6 h7]
theorem VA_tr {u σ : St} {ku ks tu ts r : Int32} (hm : ∀ i, i < 64 → (Mt u ku tu i ↔ Mt σ ks ts i)) (hv : ∀ i, i < 64 → Mt σ ks ts i → u 2 i = σ 2 i ∧ u 3 i = σ 3 i) (h : VA σ ks ts r) : VA u ku tu r := by
  rcases h with ⟨e, h⟩ | ⟨b, hb, e, hM, hx⟩
  · exact Or.inl ⟨e, fun j hj z => h j hj ((hm j hj).mp z)⟩
  · refine Or.inr ⟨b, hb, by rw [(hv b hb hM).2]; exact e, (hm b hb).mpr hM, fun j hj z => ?_⟩
    have z' := (hm j hj).mp z
    rw [(hv j hj z').1, (hv b hb hM).1]
    exact hx j hj z'
theorem VA_cong {u σ : St} (h : sameM u σ) {key t r : Int32} (hv : VA σ key t r) : VA u key t r :=
  VA_tr (fun i _ => Mt_cong h key t i) (fun i _ _ => ⟨by rw [h.2.2.1], by rw [h.2.2.2.1]⟩) hv
theorem Ch_cong {u σ : St} (h : sameM u σ) (h8 : u 8 0 = σ 8 0) (t : Int32) (k : Nat) : Ch u t k ↔ Ch σ t k := by
  unfold Ch
  rw [h8, h.2.2.1]
  constructor
  · rintro ⟨j, hj, hM, hl⟩
    exact ⟨j, hj, (Mt_cong h _ _ j).mp hM, hl⟩
  · rintro ⟨j, hj, hM, hl⟩
    exact ⟨j, hj, (Mt_cong h _ _ j).mpr hM, hl⟩
/-- no two cells hold the same key at the same time -/
def UQ (σ : St) : Prop := ∀ i j, i < 64 → j < 64 → ¬ σ 0 i = 0 → ¬ σ 0 j = 0 → σ 1 i = σ 1 j → σ 2 i = σ 2 j → i = j
theorem VA_uniq {σ : St} (hU : UQ σ) {key t r r' : Int32} (h : VA σ key t r) (h' : VA σ key t r') : r = r' := by
  rcases h with ⟨e, h⟩ | ⟨b, hb, e, hM, hx⟩
  · rcases h' with ⟨e', _⟩ | ⟨b', hb', _, hM', _⟩
    · rw [e, e']
    · exact absurd hM' (h b' hb')
  · rcases h' with ⟨_, h'⟩ | ⟨b', hb', e', hM', hx'⟩
    · exact absurd hM (h' b hb)
    · have := hU b b' hb hb' hM.1 hM'.1 (hM.2.1.trans hM'.2.1.symm) (x_anti (hx' b hb hM) (hx b' hb' hM'))
      subst this
      rw [e, e']
/-! counts -/
def pU (σ : St) (i : Nat) : Bool := decide (¬ σ 0 i = 0)
def pT (σ : St) (i : Nat) : Bool := decide (¬ σ 0 i = 0 ∧ σ 4 i = 0 ∧ σ 2 i ≤ σ 10 0)
def pW (c : Nat) (σ : St) (i : Nat) : Bool := decide (¬ σ 0 i = 0 ∧ σ 4 i = 0 ∧ (c = 0 ∨ ¬ σ 2 i ≤ σ 10 0))
def cU (σ : St) : Nat := fb_ct (pU σ) 64
def cT (σ : St) : Nat := fb_ct (pT σ) 64
def cW (c : Nat) (σ : St) : Nat := fb_ct (pW c σ) 64
def pcn (x : Int32) : Nat := fb_ct (fun k => bt x k) 8
def oF (o : Int32) (f : Nat → Int32) (t : Nat) : Nat := if bt o t = true then pcn (f t) else 0
def oS (σ : St) : Nat := fb_sm (oF (σ 16 0) (σ 18)) 4
theorem sm4 (F : Nat → Nat) : fb_sm F 4 = F 0 + F 1 + F 2 + F 3 := by
  show 0 + F 0 + F 1 + F 2 + F 3 = _
  omega
theorem sm4_set {F F' : Nat → Nat} {j a b : Nat} (hj : j < 4) (hne : ∀ t, t < 4 → t ≠ j → F' t = F t) (h : F' j + a ≤ F j + b) : fb_sm F' 4 + a ≤ fb_sm F 4 + b := by
  rw [sm4, sm4]
  rcases (show j = 0 ∨ j = 1 ∨ j = 2 ∨ j = 3 by omega) with rfl | rfl | rfl | rfl
  · have a1 := hne 1 (by omega) (by omega)
    have a2 := hne 2 (by omega) (by omega)
    have a3 := hne 3 (by omega) (by omega)
    omega
  · have a1 := hne 0 (by omega) (by omega)
    have a2 := hne 2 (by omega) (by omega)
    have a3 := hne 3 (by omega) (by omega)
    omega
  · have a1 := hne 0 (by omega) (by omega)
    have a2 := hne 1 (by omega) (by omega)
    have a3 := hne 3 (by omega) (by omega)
    omega
  · have a1 := hne 0 (by omega) (by omega)
    have a2 := hne 1 (by omega) (by omega)
    have a3 := hne 2 (by omega) (by omega)
    omega
theorem ct_set {p p' : Nat → Bool} {i n : Nat} (hi : i < n) (hne : ∀ k, k < n → k ≠ i → p' k = p k) : fb_ct p' n + (if p i then 1 else 0) = fb_ct p n + (if p' i then 1 else 0) := by
  have h := fb_ct_upd p (p' i) hi
  rw [fb_ct_cong (p := p') (q := fun k => if k = i then p' i else p k) (fun k hk => by
    by_cases e : k = i
    · subst e; rw [if_pos rfl]
    · rw [if_neg e]; exact hne k hk e)]
  exact h
theorem pcn_0 : pcn 0 = 0 := by decide +kernel
theorem pcn_le8 (x : Int32) : pcn x ≤ 8 := fb_ct_le _ 8
theorem pcn_or {x : Int32} {k : Nat} (hk : k < 8) : pcn (x ||| ((1 : Int32) <<< (nI k &&& 31))) ≤ pcn x + 1 := by
  have h := ct_set (p := fun i => bt x i) (p' := fun i => bt (x ||| ((1 : Int32) <<< (nI k &&& 31))) i) (i := k) (n := 8) hk (fun i _ hne => by
    show bt (x ||| ((1 : Int32) <<< (nI k &&& 31))) i = bt x i
    rw [bt_or1 x (by omega), decide_eq_false hne, Bool.or_false])
  have h2 : (if bt (x ||| ((1 : Int32) <<< (nI k &&& 31))) k = true then 1 else 0) ≤ 1 := by
    by_cases q : bt (x ||| ((1 : Int32) <<< (nI k &&& 31))) k = true
    · rw [if_pos q]; exact Nat.le_refl _
    · rw [if_neg q]; exact Nat.zero_le _
  show fb_ct (fun i => bt (x ||| ((1 : Int32) <<< (nI k &&& 31))) i) 8 ≤ fb_ct (fun i => bt x i) 8 + 1
  omega
/-! the invariant; L S E: last, safe, seal time; G gaps; c steps, w waiting writes -/
def SC (n L S E G c w : Nat) (σ τ : St) : Prop := (σ 8 0 = nI L ∧ σ 9 0 = nI S ∧ σ 10 0 = nI E ∧ σ 5 0 = nI G ∧ σ 11 0 = nI c ∧ σ 12 0 = nI w) ∧ (G ≤ 4 ∧ L ≤ n ∧ S ≤ L ∧ E ≤ L ∧ c ≤ n) ∧ (τ 6 0 = nI c ∧ τ 7 0 = nI w ∧ τ 5 0 = σ 13 0 ∧ τ 4 0 = σ 14 0 ∧ τ 3 0 = σ 15 0)
def CE (L : Nat) (σ : St) : Prop := (∀ i, i < 64 → ¬ σ 0 i = 0 → ∃ T K, T ≤ L ∧ K < 8 ∧ σ 2 i = nI T ∧ σ 1 i = nI K) ∧ UQ σ
def GP (L G : Nat) (σ : St) : Prop := ∀ g, g < G → ∃ hi, hi ≤ L ∧ σ 7 g = nI hi
def VW (L S E c : Nat) (σ τ : St) : Prop := ∀ k, k < 8 → VA σ (nI k) (nI L) (τ 2 k) ∧ VA σ (nI k) (nI S) (τ 0 k) ∧ (0 < c → VA σ (nI k) (nI E) (τ 1 k))
def OP (σ τ : St) : Prop := (∀ t, t < 4 → (bt (σ 16 0) t = true ↔ ¬ τ 8 t = 0)) ∧ ∀ t, 4 ≤ t → bt (σ 16 0) t = false
def TR (L : Nat) (σ τ : St) (t : Nat) : Prop := ∃ B, B ≤ L ∧ σ 17 t = nI B ∧ τ 10 t = σ 18 t ∧ (∀ k, bt (σ 18 t) k = true → k < 8) ∧ (∀ k, k < 8 → (bt (σ 18 t) k = true → τ 9 (8 * t + k) = σ 19 (t * 8 + k)) ∧ (bt (σ 18 t) k = false → VA σ (nI k) (nI B) (τ 9 (8 * t + k)))) ∧ ∀ k, k < 8 → (bt (τ 11 t) k = true ↔ Ch σ (nI B) k)
def TX (L : Nat) (σ τ : St) : Prop := ∀ t, t < 4 → bt (σ 16 0) t = true → TR L σ τ t
def DU (S c w : Nat) (σ : St) : Prop := (∀ i, i < 64 → ¬ σ 0 i = 0 → σ 2 i ≤ nI S → ¬ Mk σ (σ 2 i) → ¬ σ 4 i = 0) ∧ (0 < c → cT σ + 1 ≤ c) ∧ cW c σ ≤ w
def CN (n w : Nat) (σ : St) : Prop := cU σ + oS σ ≤ n ∧ w + oS σ ≤ n
def Iv (n L S E G c w : Nat) (σ τ : St) : Prop := SC n L S E G c w σ τ ∧ CE L σ ∧ GP L G σ ∧ VW L S E c σ τ ∧ OP σ τ ∧ TX L σ τ ∧ DU S c w σ ∧ CN n w σ
def INV (n : Nat) (σ τ : St) : Prop := ∃ L S E G c w, Iv n L S E G c w σ τ
theorem SC.mono {n L S E G c w : Nat} {σ τ : St} (h : SC n L S E G c w σ τ) : SC (n + 1) L S E G c w σ τ := by
  obtain ⟨h1, ⟨a, b, c1, d, e⟩, h3⟩ := h
  exact ⟨h1, ⟨a, by omega, c1, d, by omega⟩, h3⟩
theorem CN.mono {n w : Nat} {σ : St} (h : CN n w σ) : CN (n + 1) w σ := ⟨Nat.le_succ_of_le h.1, Nat.le_succ_of_le h.2⟩
theorem INV.mono {n : Nat} {σ τ : St} (h : INV n σ τ) : INV (n + 1) σ τ := by
  obtain ⟨L, S, E, G, c, w, h1, h2, h3, h4, h5, h6, h7, h8⟩ := h
  exact ⟨L, S, E, G, c, w, h1.mono, h2, h3, h4, h5, h6, h7, h8.mono⟩
theorem INV.okG {n : Nat} {σ τ : St} (h : INV n σ τ) : okG σ := by
  obtain ⟨L, S, E, G, c, w, h1, _⟩ := h
  exact ⟨G, h1.2.1.1, h1.1.2.2.2.1⟩
theorem OP.iff {σ τ : St} (h : OP σ τ) (t : Int32) : OpN σ t ↔ OpM τ t := by
  constructor
  · rintro ⟨j, hj, e, hb⟩
    exact ⟨j, hj, e, (h.1 j hj).mp hb⟩
  · rintro ⟨j, hj, e, hb⟩
    exact ⟨j, hj, e, (h.1 j hj).mpr hb⟩
theorem OP.iffK {σ τ : St} (h : OP σ τ) (t key : Int32) (j k : Nat) : OpK σ t key j k ↔ OpMK τ t key j k := by
  constructor
  · rintro ⟨hj, hk, e, e2, hb⟩
    exact ⟨hj, hk, e, e2, (h.1 j hj).mp hb⟩
  · rintro ⟨hj, hk, e, e2, hb⟩
    exact ⟨hj, hk, e, e2, (h.1 j hj).mpr hb⟩
theorem nI_inj {a b : Nat} (ha : a < 2 ^ 31) (hb : b < 2 ^ 31) (h : nI a = nI b) : a = b := (nI_eq ha hb).mp h
theorem bt_ff {x : Int32} {k : Nat} (h : ¬ bt x k = true) : bt x k = false := by
  cases hb : bt x k
  · rfl
  · exact absurd hb h
/-- the start -/
theorem INV.start : INV 0 (fun _ _ => 0) (fun _ _ => 0) := by
  refine ⟨0, 0, 0, 0, 0, 0, ⟨⟨rfl, rfl, rfl, rfl, rfl, rfl⟩, ⟨by omega, by omega, by omega, by omega, by omega⟩, ⟨rfl, rfl, rfl, rfl, rfl⟩⟩, ⟨fun i _ h => absurd rfl h, fun i j _ _ h => absurd rfl h⟩, fun g h => absurd h (Nat.not_lt_zero g), fun k hk => ⟨Or.inl ⟨rfl, fun j _ z => z.1 rfl⟩, Or.inl ⟨rfl, fun j _ z => z.1 rfl⟩, fun h => absurd h (Nat.lt_irrefl 0)⟩, ⟨fun t ht => ?_, fun t ht => b_0 t⟩, fun t ht h => ?_, ⟨fun i _ h => absurd rfl h, fun h => absurd h (Nat.lt_irrefl 0), ?_⟩, ⟨?_, ?_⟩⟩
  · constructor
    · intro h; rw [show bt ((fun _ _ => 0 : St) 16 0) t = false from b_0 t] at h; cases h
    · intro h; exact absurd rfl h
  · rw [show bt ((fun _ _ => 0 : St) 16 0) t = false from b_0 t] at h; cases h
  · exact Nat.le_of_eq (fb_ct_zero.mpr (fun k _ => decide_eq_false (fun z => z.1 rfl)))
  · have h1 : cU (fun _ _ => 0) = 0 := fb_ct_zero.mpr (fun k _ => decide_eq_false (fun z => z rfl))
    have h2 : oS (fun _ _ => 0) = 0 := by decide +kernel
    omega
  · have h2 : oS (fun _ _ => 0) = 0 := by decide +kernel
    omega
end
section
set_option maxRecDepth 100000
/-! the plain law, call by call: begin, write, read, abort, seal, the answers -/
/-- what a change of openSet, beganAt, wrote, draft leaves alone -/
theorem Iv_keep {n L S E G c w : Nat} {σ τ u v : St} (h : Iv n L S E G c w σ τ) (hu : ∀ a, a < 16 → u a = σ a) (hv : ∀ a, a < 8 → v a = τ a) (hO : OP u v) (hT : TX L u v) (hC : CN (n + 1) w u) : Iv (n + 1) L S E G c w u v := by
  obtain ⟨⟨⟨s1, s2, s3, s4, s5, s6⟩, ⟨b1, b2, b3, b4, b5⟩, ⟨m1, m2, m3, m4, m5⟩⟩, ⟨e1, e2⟩, h3, h4, h5, h6, ⟨d1, d2, d3⟩, h8⟩ := h
  have hs : sameM u σ := ⟨hu 0 (by omega), hu 1 (by omega), hu 2 (by omega), hu 3 (by omega), hu 5 (by omega), hu 6 (by omega), hu 7 (by omega)⟩
  refine ⟨⟨⟨by rw [hu 8 (by omega)]; exact s1, by rw [hu 9 (by omega)]; exact s2, by rw [hu 10 (by omega)]; exact s3, by rw [hu 5 (by omega)]; exact s4, by rw [hu 11 (by omega)]; exact s5, by rw [hu 12 (by omega)]; exact s6⟩, ⟨b1, by omega, b3, b4, by omega⟩, ⟨by rw [hv 6 (by omega)]; exact m1, by rw [hv 7 (by omega)]; exact m2, by rw [hv 5 (by omega), hu 13 (by omega)]; exact m3, by rw [hv 4 (by omega), hu 14 (by omega)]; exact m4, by rw [hv 3 (by omega), hu 15 (by omega)]; exact m5⟩⟩, ⟨?_, ?_⟩, ?_, ?_, hO, hT, ⟨?_, ?_, ?_⟩, hC⟩
  · intro i hi; rw [hu 0 (by omega), hu 1 (by omega), hu 2 (by omega)]; exact e1 i hi
  · unfold UQ; rw [hu 0 (by omega), hu 1 (by omega), hu 2 (by omega)]; exact e2
  · intro g hg; rw [hu 7 (by omega)]; exact h3 g hg
  · intro k hk
    rw [hv 2 (by omega), hv 0 (by omega), hv 1 (by omega)]
    exact ⟨VA_cong hs (h4 k hk).1, VA_cong hs (h4 k hk).2.1, fun q => VA_cong hs ((h4 k hk).2.2 q)⟩
  · intro i hi
    rw [hu 0 (by omega), hu 2 (by omega), hu 4 (by omega), Mk_cong (hu 5 (by omega)) (hu 6 (by omega)) (hu 7 (by omega))]
    exact d1 i hi
  · have e : cT u = cT σ := by unfold cT; exact fb_ct_cong (fun k _ => by unfold pT; rw [hu 0 (by omega), hu 2 (by omega), hu 4 (by omega), hu 10 (by omega)])
    rw [e]; exact d2
  · have e : cW c u = cW c σ := by unfold cW; exact fb_ct_cong (fun k _ => by unfold pW; rw [hu 0 (by omega), hu 2 (by omega), hu 4 (by omega), hu 10 (by omega)])
    rw [e]; exact d3
theorem cU_keep {u σ : St} (h : u 0 = σ 0) : cU u = cU σ := by unfold cU; exact fb_ct_cong (fun k _ => by unfold pU; rw [h])
/-- an open transaction that is not touched -/
theorem TR_keep {L : Nat} {σ τ u v : St} {t : Nat} (h : TR L σ τ t) (hs : sameM u σ) (h8 : u 8 0 = σ 8 0) (h17 : u 17 t = σ 17 t) (h18 : u 18 t = σ 18 t) (h19 : ∀ k, k < 8 → u 19 (t * 8 + k) = σ 19 (t * 8 + k)) (h9 : ∀ k, k < 8 → v 9 (8 * t + k) = τ 9 (8 * t + k)) (h10 : v 10 t = τ 10 t) (h11 : v 11 t = τ 11 t) : TR L u v t := by
  obtain ⟨B, hB, e1, e2, e3, e4, e5⟩ := h
  refine ⟨B, hB, by rw [h17]; exact e1, by rw [h10, h18]; exact e2, fun k => by rw [h18]; exact e3 k, fun k hk => ?_, fun k hk => ?_⟩
  · rw [h18, h9 k hk, h19 k hk]
    exact ⟨(e4 k hk).1, fun q => VA_cong hs ((e4 k hk).2 q)⟩
  · rw [h11, Ch_cong hs h8]
    exact e5 k hk
def P_begin (σ : St) (r : Int32) (u : St) : Prop := (∃ j, j < 4 ∧ r = nI j ∧ bt (σ 16 0) j = false ∧ (∀ i, i < j → bt (σ 16 0) i = true) ∧ u = st_up (st_up (st_up σ 16 0 (σ 16 0 ||| ((1 : Int32) <<< (nI j &&& 31)))) 17 j (σ 8 0)) 18 j 0) ∨ (r = (-2) ∧ (∀ i, i < 4 → bt (σ 16 0) i = true) ∧ u = σ)
def Q_begin (σ : St) (r : Int32) (u : St) : Prop := (∃ j, j < 4 ∧ r = nI j ∧ σ 8 j = 0 ∧ (∀ i, i < j → ¬ σ 8 i = 0) ∧ CPl 9 (8 * j) (σ 2) (st_up (st_up (st_up σ 8 j 1) 10 j 0) 11 j 0) 8 u) ∨ (r = (-2) ∧ (∀ i, i < 4 → ¬ σ 8 i = 0) ∧ u = σ)
theorem s_begin {n : Nat} {σ τ u v : St} {r r' : Int32} (h : INV n σ τ) (hn : n < 64) (hb : P_begin σ r u) (hm : Q_begin τ r' v) : r = r' ∧ INV (n + 1) u v := by
  have hmono := h.mono
  obtain ⟨L, S, E, G, c, w, hI⟩ := h
  have hI0 := hI
  obtain ⟨hSC, hCE, hGP, hVW, hOP, hTX, hDU, hCN⟩ := hI
  rcases hb with ⟨j, hj, er, hbj, hlt, eu⟩ | ⟨er, hall, eu⟩
  · rcases hm with ⟨j', hj', er', hbj', hlt', hC⟩ | ⟨er', hall', _⟩
    · have e : j = j' := by
        rcases Nat.lt_trichotomy j j' with q | q | q
        · have := (hOP.1 j hj).mpr (hlt' j q); rw [hbj] at this; cases this
        · exact q
        · exact absurd hbj' ((hOP.1 j' hj').mp (hlt j' q))
      subst e
      refine ⟨by rw [er, er'], L, S, E, G, c, w, ?_⟩
      subst eu
      have hv : ∀ a, a ≠ 9 → a ≠ 8 → a ≠ 10 → a ≠ 11 → v a = τ a := fun a h1 h2 h3 h4 => by rw [hC.1 a h1, st_up_ne _ _ _ h4, st_up_ne _ _ _ h3, st_up_ne _ _ _ h2]
      have h8v : v 8 = upd (τ 8) j 1 := by rw [hC.1 8 (by decide)]; rfl
      have h10v : v 10 = upd (τ 10) j 0 := by rw [hC.1 10 (by decide)]; rfl
      have h11v : v 11 = upd (τ 11) j 0 := by rw [hC.1 11 (by decide)]; rfl
      have hop : ∀ t, bt (σ 16 0 ||| ((1 : Int32) <<< (nI j &&& 31))) t = (bt (σ 16 0) t || decide (t = j)) := bt_or1 (σ 16 0) (by omega)
      refine Iv_keep hI0 (fun a ha => ?_) (fun a ha => hv a (by omega) (by omega) (by omega) (by omega)) ?_ ?_ ?_
      · rw [st_up_ne _ _ _ (by omega), st_up_ne _ _ _ (by omega), st_up_ne _ _ _ (by omega)]
      · refine ⟨fun t ht => ?_, fun t ht => ?_⟩
        · show bt (σ 16 0 ||| ((1 : Int32) <<< (nI j &&& 31))) t = true ↔ _
          rw [hop, h8v]
          by_cases e : t = j
          · subst e
            rw [show upd (τ 8) t 1 t = 1 from pk_us, decide_eq_true rfl, Bool.or_true]
            exact ⟨fun _ => by decide, fun _ => rfl⟩
          · rw [pk_un e, decide_eq_false e, Bool.or_false]
            exact hOP.1 t ht
        · show bt (σ 16 0 ||| ((1 : Int32) <<< (nI j &&& 31))) t = false
          rw [hop, hOP.2 t ht, decide_eq_false (by omega)]; rfl
      · intro t ht hb
        have hb : bt (σ 16 0 ||| ((1 : Int32) <<< (nI j &&& 31))) t = true := hb
        rw [hop] at hb
        by_cases e : t = j
        · subst e
          refine ⟨L, Nat.le_refl _, ?_, ?_, fun k hk => ?_, fun k hk => ⟨fun q => ?_, fun _ => ?_⟩, fun k hk => ?_⟩
          · show upd (σ 17) t (σ 8 0) t = nI L
            rw [pk_us]; exact hSC.1.1
          · rw [h10v, pk_us]
            show (0 : Int32) = upd (σ 18) t 0 t
            rw [pk_us]
          · rw [show (st_up (st_up (st_up σ 16 0 (σ 16 0 ||| ((1 : Int32) <<< (nI t &&& 31)))) 17 t (σ 8 0)) 18 t 0) 18 t = 0 from st_up_at _ _ _ _, b_0] at hk
            cases hk
          · rw [show (st_up (st_up (st_up σ 16 0 (σ 16 0 ||| ((1 : Int32) <<< (nI t &&& 31)))) 17 t (σ 8 0)) 18 t 0) 18 t = 0 from st_up_at _ _ _ _, b_0] at q
            cases q
          · rw [hC.2.1 k hk]
            exact VA_cong ⟨rfl, rfl, rfl, rfl, rfl, rfl, rfl⟩ (hVW k hk).1
          · rw [h11v, pk_us, b_0]
            constructor
            · intro q; cases q
            · rintro ⟨i, hi, hM, hlt9⟩
              have hM : Mt σ (nI k) (σ 8 0) i := hM
              obtain ⟨T, K, hT, _, e1, _⟩ := hCE.1 i hi hM.1
              have hlt9 : nI L < σ 2 i := hlt9
              rw [e1] at hlt9
              exact absurd hlt9 (nI_nlt hT (by have := hSC.2.1.2.1; omega))
        · rw [decide_eq_false e, Bool.or_false] at hb
          refine TR_keep (hTX t ht hb) ⟨rfl, rfl, rfl, rfl, rfl, rfl, rfl⟩ rfl ?_ ?_ (fun k _ => rfl) (fun k hk => ?_) (by rw [h10v, pk_un e]) (by rw [h11v, pk_un e])
          · exact pk_un e
          · exact pk_un e
          · rw [hC.2.2 (8 * t + k) (by omega)]; rfl
      · have e : oS (st_up (st_up (st_up σ 16 0 (σ 16 0 ||| ((1 : Int32) <<< (nI j &&& 31)))) 17 j (σ 8 0)) 18 j 0) ≤ oS σ := by
          have := sm4_set (F := oF (σ 16 0) (σ 18)) (F' := oF (σ 16 0 ||| ((1 : Int32) <<< (nI j &&& 31))) (upd (σ 18) j 0)) (j := j) (a := 0) (b := 0) hj (fun t ht hne => by
            unfold oF
            rw [hop, decide_eq_false hne, Bool.or_false, pk_un hne]) (by
            unfold oF
            rw [pk_us, pcn_0]
            split <;> omega)
          exact this
        have e2 : cU (st_up (st_up (st_up σ 16 0 (σ 16 0 ||| ((1 : Int32) <<< (nI j &&& 31)))) 17 j (σ 8 0)) 18 j 0) = cU σ := cU_keep rfl
        exact ⟨by have := hCN.1; omega, by have := hCN.2; omega⟩
    · have := (hOP.1 j hj).mpr (hall' j hj); rw [hbj] at this; cases this
  · rcases hm with ⟨j', hj', _, hbj', _, _⟩ | ⟨er', _, ev⟩
    · exact absurd hbj' ((hOP.1 j' hj').mp (hall j' hj'))
    · rw [eu, ev]
      exact ⟨by rw [er, er'], hmono⟩
def P_write (σ : St) (a1 a2 a3 : Int32) (r : Int32) (u : St) : Prop := (∃ j k, OpK σ a1 a2 j k ∧ r = 0 ∧ u = st_up (st_up σ 18 j (σ 18 j ||| ((1 : Int32) <<< (nI k &&& 31)))) 19 (j * 8 + k) a3) ∨ ((¬ ∃ j k, OpK σ a1 a2 j k) ∧ r = (-1) ∧ u = σ)
def Q_write (σ : St) (a1 a2 a3 : Int32) (r : Int32) (u : St) : Prop := (∃ j k, OpMK σ a1 a2 j k ∧ r = 0 ∧ u = st_up (st_up σ 9 (8 * j + k) a3) 10 j (σ 10 j ||| ((1 : Int32) <<< (nI k &&& 31)))) ∨ ((¬ ∃ j k, OpMK σ a1 a2 j k) ∧ r = (-1) ∧ u = σ)
theorem OpMK_uniq {τ : St} {a1 a2 : Int32} {j k j' k' : Nat} (h : OpMK τ a1 a2 j k) (h' : OpMK τ a1 a2 j' k') : j = j' ∧ k = k' := by
  obtain ⟨hj, hk, e, e2, _⟩ := h
  obtain ⟨hj', hk', e', e2', _⟩ := h'
  exact ⟨nI_inj (by omega) (by omega) (e.symm.trans e'), nI_inj (by omega) (by omega) (e2.symm.trans e2')⟩
theorem s_write {n : Nat} {σ τ u v : St} {a1 a2 a3 r r' : Int32} (h : INV n σ τ) (hn : n < 64) (hb : P_write σ a1 a2 a3 r u) (hm : Q_write τ a1 a2 a3 r' v) : r = r' ∧ INV (n + 1) u v := by
  have hmono := h.mono
  obtain ⟨L, S, E, G, c, w, hI⟩ := h
  have hI0 := hI
  obtain ⟨hSC, hCE, hGP, hVW, hOP, hTX, hDU, hCN⟩ := hI
  rcases hb with ⟨j, k, hop, er, eu⟩ | ⟨hno, er, eu⟩
  · have hop' := (hOP.iffK a1 a2 j k).mp hop
    rcases hm with ⟨j', k', hom, er', ev⟩ | ⟨hno', _, _⟩
    · obtain ⟨e1, e2⟩ := OpMK_uniq hop' hom
      subst e1; subst e2
      refine ⟨by rw [er, er'], L, S, E, G, c, w, ?_⟩
      subst eu; subst ev
      obtain ⟨hj, hk, _, _, hbj⟩ := hop
      refine Iv_keep hI0 (fun a ha => ?_) (fun a ha => ?_) ?_ ?_ ?_
      · rw [st_up_ne _ _ _ (by omega), st_up_ne _ _ _ (by omega)]
      · rw [st_up_ne _ _ _ (by omega), st_up_ne _ _ _ (by omega)]
      · exact hOP
      · intro t ht hb
        have hb : bt (σ 16 0) t = true := hb
        by_cases e : t = j
        · subst e
          obtain ⟨B, hB, q1, q2, q3, q4, q5⟩ := hTX t ht hb
          have h18 : ∀ x, bt (st_up (st_up σ 18 t (σ 18 t ||| ((1 : Int32) <<< (nI k &&& 31)))) 19 (t * 8 + k) a3 18 t) x = (bt (σ 18 t) x || decide (x = k)) := fun x => by
            rw [show st_up (st_up σ 18 t (σ 18 t ||| ((1 : Int32) <<< (nI k &&& 31)))) 19 (t * 8 + k) a3 18 t = σ 18 t ||| ((1 : Int32) <<< (nI k &&& 31)) from (pk_us : upd (σ 18) t (σ 18 t ||| ((1 : Int32) <<< (nI k &&& 31))) t = (σ 18 t ||| ((1 : Int32) <<< (nI k &&& 31))))]
            exact bt_or1 _ (by omega) x
          refine ⟨B, hB, q1, ?_, fun x hx => ?_, fun x hx => ?_, fun x hx => ?_⟩
          · rw [show st_up (st_up σ 18 t (σ 18 t ||| ((1 : Int32) <<< (nI k &&& 31)))) 19 (t * 8 + k) a3 18 t = σ 18 t ||| ((1 : Int32) <<< (nI k &&& 31)) from (pk_us : upd (σ 18) t (σ 18 t ||| ((1 : Int32) <<< (nI k &&& 31))) t = (σ 18 t ||| ((1 : Int32) <<< (nI k &&& 31)))), st_up_at, q2]
          · rw [h18, Bool.or_eq_true, decide_eq_true_eq] at hx
            rcases hx with z | z
            · exact q3 x z
            · rw [z]; exact hk
          · rw [h18]
            show ((bt (σ 18 t) x || decide (x = k)) = true → upd (τ 9) (8 * t + k) a3 (8 * t + x) = upd (σ 19) (t * 8 + k) a3 (t * 8 + x)) ∧ ((bt (σ 18 t) x || decide (x = k)) = false → VA _ _ _ (upd (τ 9) (8 * t + k) a3 (8 * t + x)))
            by_cases e : x = k
            · subst e
              rw [pk_us, pk_us]
              exact ⟨fun _ => rfl, fun z => by rw [decide_eq_true rfl, Bool.or_true] at z; cases z⟩
            · rw [pk_un (by omega), pk_un (by omega), decide_eq_false e, Bool.or_false]
              exact ⟨(q4 x hx).1, fun z => VA_cong ⟨rfl, rfl, rfl, rfl, rfl, rfl, rfl⟩ ((q4 x hx).2 z)⟩
          · have := q5 x hx
            rw [Ch_cong (u := st_up (st_up σ 18 t (σ 18 t ||| ((1 : Int32) <<< (nI k &&& 31)))) 19 (t * 8 + k) a3) (σ := σ) ⟨rfl, rfl, rfl, rfl, rfl, rfl, rfl⟩ rfl]
            exact this
        · refine TR_keep (hTX t ht hb) ⟨rfl, rfl, rfl, rfl, rfl, rfl, rfl⟩ rfl rfl ?_ (fun x hx => ?_) (fun x hx => ?_) ?_ rfl
          · exact pk_un e
          · exact pk_un (by omega)
          · exact pk_un (by omega)
          · exact pk_un e
      · have e : oS (st_up (st_up σ 18 j (σ 18 j ||| ((1 : Int32) <<< (nI k &&& 31)))) 19 (j * 8 + k) a3) ≤ oS σ + 1 := by
          have := sm4_set (F := oF (σ 16 0) (σ 18)) (F' := oF (σ 16 0) (upd (σ 18) j (σ 18 j ||| ((1 : Int32) <<< (nI k &&& 31))))) (j := j) (a := 0) (b := 1) hj (fun t ht hne => by
            unfold oF
            rw [pk_un hne]) (by
            unfold oF
            rw [pk_us]
            have := pcn_or (x := σ 18 j) hk
            split <;> omega)
          exact this
        have e2 : cU (st_up (st_up σ 18 j (σ 18 j ||| ((1 : Int32) <<< (nI k &&& 31)))) 19 (j * 8 + k) a3) = cU σ := cU_keep rfl
        exact ⟨by have := hCN.1; omega, by have := hCN.2; omega⟩
    · exact absurd ⟨j, k, hop'⟩ hno'
  · rcases hm with ⟨j', k', hom, _, _⟩ | ⟨_, er', ev⟩
    · exact absurd ⟨j', k', (hOP.iffK a1 a2 j' k').mpr hom⟩ hno
    · rw [eu, ev]
      exact ⟨by rw [er, er'], hmono⟩
def P_read (σ : St) (a1 a2 : Int32) (r : Int32) (u : St) : Prop := u = σ ∧ ((∃ j k, OpK σ a1 a2 j k ∧ ((bt (σ 18 j) k = true ∧ r = σ 19 (j * 8 + k)) ∨ (bt (σ 18 j) k = false ∧ VA σ a2 (σ 17 j) r))) ∨ ((¬ ∃ j k, OpK σ a1 a2 j k) ∧ r = 0))
def Q_read (σ : St) (a1 a2 : Int32) (r : Int32) (u : St) : Prop := u = σ ∧ ((∃ j k, OpMK σ a1 a2 j k ∧ r = σ 9 (8 * j + k)) ∨ ((¬ ∃ j k, OpMK σ a1 a2 j k) ∧ r = 0))
theorem s_read {n : Nat} {σ τ u v : St} {a1 a2 r r' : Int32} (h : INV n σ τ) (hb : P_read σ a1 a2 r u) (hm : Q_read τ a1 a2 r' v) : r = r' ∧ INV (n + 1) u v := by
  obtain ⟨eu, hb⟩ := hb
  obtain ⟨ev, hm⟩ := hm
  subst eu; subst ev
  refine ⟨?_, h.mono⟩
  obtain ⟨L, S, E, G, c, w, hSC, hCE, hGP, hVW, hOP, hTX, hDU, hCN⟩ := h
  rcases hb with ⟨j, k, hop, hr⟩ | ⟨hno, er⟩
  · have hop' := (hOP.iffK a1 a2 j k).mp hop
    rcases hm with ⟨j', k', hom, er'⟩ | ⟨hno', _⟩
    · obtain ⟨e1, e2⟩ := OpMK_uniq hop' hom
      subst e1; subst e2
      obtain ⟨hj, hk, _, ek, hbj⟩ := hop
      obtain ⟨B, hB, q1, q2, q3, q4, q5⟩ := hTX j hj hbj
      rw [er']
      rcases hr with ⟨hb9, er⟩ | ⟨hb9, hV⟩
      · rw [er]; exact ((q4 k hk).1 hb9).symm
      · rw [ek, q1] at hV
        exact VA_uniq hCE.2 hV ((q4 k hk).2 hb9)
    · exact absurd ⟨j, k, hop'⟩ hno'
  · rcases hm with ⟨j', k', hom, _⟩ | ⟨_, er'⟩
    · exact absurd ⟨j', k', (hOP.iffK a1 a2 j' k').mpr hom⟩ hno
    · rw [er, er']
/-- a transaction is closed -/
theorem s_close {n : Nat} {σ τ : St} {j : Nat} (h : INV n σ τ) (hj : j < 4) : INV (n + 1) (clO σ j) (st_up τ 8 j 0) := by
  obtain ⟨L, S, E, G, c, w, hI⟩ := h
  have hI0 := hI
  obtain ⟨hSC, hCE, hGP, hVW, hOP, hTX, hDU, hCN⟩ := hI
  have hop : ∀ t, bt (clO σ j 16 0) t = (bt (σ 16 0) t && !decide (t = j)) := fun t => bt_clr (σ 16 0) (by omega) t
  refine ⟨L, S, E, G, c, w, Iv_keep hI0 (fun a ha => st_up_ne _ _ _ (by omega)) (fun a ha => st_up_ne _ _ _ (by omega)) ?_ ?_ ?_⟩
  · refine ⟨fun t ht => ?_, fun t ht => ?_⟩
    · rw [hop]
      show _ ↔ ¬ upd (τ 8) j 0 t = 0
      by_cases e : t = j
      · subst e
        rw [pk_us, decide_eq_true rfl]
        exact ⟨fun z => (by rw [Bool.not_true, Bool.and_false] at z; cases z), fun z => absurd rfl z⟩
      · rw [pk_un e, decide_eq_false e, Bool.not_false, Bool.and_true]
        exact hOP.1 t ht
    · rw [hop, hOP.2 t ht]; rfl
  · intro t ht hb
    rw [hop] at hb
    by_cases e : t = j
    · rw [decide_eq_true e, Bool.not_true, Bool.and_false] at hb; cases hb
    · rw [decide_eq_false e, Bool.not_false, Bool.and_true] at hb
      exact TR_keep (hTX t ht hb) ⟨rfl, rfl, rfl, rfl, rfl, rfl, rfl⟩ rfl rfl rfl (fun _ _ => rfl) (fun _ _ => rfl) rfl rfl
  · have e : oS (clO σ j) ≤ oS σ := by
      have := sm4_set (F := oF (σ 16 0) (σ 18)) (F' := oF (clO σ j 16 0) (σ 18)) (j := j) (a := 0) (b := 0) hj (fun t ht hne => by
        unfold oF
        rw [hop, decide_eq_false hne, Bool.not_false, Bool.and_true]) (by
        unfold oF
        rw [hop, decide_eq_true rfl, Bool.not_true, Bool.and_false, if_neg (by decide)]
        omega)
      exact this
    have e2 : cU (clO σ j) = cU σ := cU_keep rfl
    exact ⟨by have := hCN.1; omega, by have := hCN.2; omega⟩
def P_abort (σ : St) (a1 : Int32) (r : Int32) (u : St) : Prop := (∃ j, j < 4 ∧ a1 = nI j ∧ bt (σ 16 0) j = true ∧ r = 0 ∧ u = clO σ j) ∨ (¬ OpN σ a1 ∧ r = (-1) ∧ u = σ)
def Q_abort (σ : St) (a1 : Int32) (r : Int32) (u : St) : Prop := (∃ j, j < 4 ∧ a1 = nI j ∧ ¬ σ 8 j = 0 ∧ r = 0 ∧ u = st_up σ 8 j 0) ∨ (¬ OpM σ a1 ∧ r = (-1) ∧ u = σ)
theorem INV.op {n : Nat} {σ τ : St} (h : INV n σ τ) : OP σ τ := by
  obtain ⟨L, S, E, G, c, w, hSC, hCE, hGP, hVW, hOP, _⟩ := h
  exact hOP
theorem s_abort {n : Nat} {σ τ u v : St} {a1 r r' : Int32} (h : INV n σ τ) (hb : P_abort σ a1 r u) (hm : Q_abort τ a1 r' v) : r = r' ∧ INV (n + 1) u v := by
  have hOP := h.op
  rcases hb with ⟨j, hj, e, hbj, er, eu⟩ | ⟨hno, er, eu⟩
  · rcases hm with ⟨j', hj', e', _, er', ev⟩ | ⟨hno', _, _⟩
    · have := nI_inj (by omega) (by omega) (e.symm.trans e')
      subst this
      rw [er, er', eu, ev]
      exact ⟨rfl, s_close h hj⟩
    · exact absurd ((hOP.iff a1).mp ⟨j, hj, e, hbj⟩) hno'
  · rcases hm with ⟨j', hj', e', hb', _, _⟩ | ⟨_, er', ev⟩
    · exact absurd ((hOP.iff a1).mpr ⟨j', hj', e', hb'⟩) hno
    · rw [er, er', eu, ev]
      exact ⟨rfl, h.mono⟩
def P_seal (σ : St) (r : Int32) (u : St) : Prop := (¬ σ 11 0 ≤ 0 ∧ r = (-4) ∧ u = σ) ∨ (σ 11 0 ≤ 0 ∧ σ 13 0 = σ 15 0 ∧ r = (-1) ∧ u = σ) ∨ (σ 11 0 ≤ 0 ∧ ¬ σ 13 0 = σ 15 0 ∧ r = σ 12 0 + 1 ∧ u = st_up (st_up (st_up (st_up σ 10 0 (σ 8 0)) 14 0 (σ 13 0)) 11 0 (σ 12 0 + 1)) 12 0 0)
def Q_seal (σ : St) (r : Int32) (u : St) : Prop := (¬ σ 6 0 ≤ 0 ∧ r = (-4) ∧ u = σ) ∨ (σ 6 0 ≤ 0 ∧ σ 5 0 = σ 3 0 ∧ r = (-1) ∧ u = σ) ∨ (σ 6 0 ≤ 0 ∧ ¬ σ 5 0 = σ 3 0 ∧ r = σ 7 0 + 1 ∧ CPl 1 0 (σ 2) (st_up (st_up (st_up σ 6 0 (σ 7 0 + 1)) 7 0 0) 4 0 (σ 5 0)) 8 u)
theorem s_seal {n : Nat} {σ τ u v : St} {r r' : Int32} (h : INV n σ τ) (hn : n < 64) (hb : P_seal σ r u) (hm : Q_seal τ r' v) : r = r' ∧ INV (n + 1) u v := by
  have hmono := h.mono
  obtain ⟨L, S, E, G, c, w, hI⟩ := h
  obtain ⟨⟨⟨s1, s2, s3, s4, s5, s6⟩, ⟨b1, b2, b3, b4, b5⟩, ⟨m1, m2, m3, m4, m5⟩⟩, hCE, hGP, hVW, hOP, hTX, ⟨d1, d2, d3⟩, hCN⟩ := hI
  have e1 : σ 11 0 = τ 6 0 := by rw [s5, m1]
  have hw : w ≤ n := by have := hCN.2; omega
  unfold P_seal at hb
  unfold Q_seal at hm
  rw [m3, m5, ← e1] at hm
  rcases hb with ⟨q1, er, eu⟩ | ⟨q1, q2, er, eu⟩ | ⟨q1, q2, er, eu⟩
  · rcases hm with ⟨_, er', ev⟩ | ⟨q1', _⟩ | ⟨q1', _⟩
    · rw [er, er', eu, ev]; exact ⟨rfl, hmono⟩
    · exact absurd q1' q1
    · exact absurd q1' q1
  · rcases hm with ⟨q1', _⟩ | ⟨_, _, er', ev⟩ | ⟨_, q2', _⟩
    · exact absurd q1 q1'
    · rw [er, er', eu, ev]; exact ⟨rfl, hmono⟩
    · exact absurd q2 q2'
  · rcases hm with ⟨q1', _⟩ | ⟨_, q2', _⟩ | ⟨_, _, er', hC⟩
    · exact absurd q1 q1'
    · exact absurd q2' q2
    · have hc0 : c = 0 := by
        rw [s5] at q1
        rcases Nat.eq_zero_or_pos c with z | z
        · exact z
        · exact absurd q1 (nI_nle z (by omega))
      subst hc0
      refine ⟨by rw [er, er', s6, m2], L, S, L, G, w + 1, 0, ?_⟩
      have hs : sameM u σ := by rw [eu]; exact ⟨rfl, rfl, rfl, rfl, rfl, rfl, rfl⟩
      have hv : ∀ a, a ≠ 1 → a ≠ 6 → a ≠ 7 → a ≠ 4 → v a = τ a := fun a h1 h2 h3 h4 => by rw [hC.1 a h1, st_up_ne _ _ _ h4, st_up_ne _ _ _ h3, st_up_ne _ _ _ h2]
      refine ⟨⟨⟨?_, ?_, ?_, ?_, ?_, ?_⟩, ⟨b1, by omega, b3, Nat.le_refl _, by omega⟩, ⟨?_, ?_, ?_, ?_, ?_⟩⟩, ?_, ?_, ?_, ?_, ?_, ⟨?_, ?_, ?_⟩, ?_⟩
      · rw [eu]; exact s1
      · rw [eu]; exact s2
      · rw [eu]; exact s1
      · rw [eu]; exact s4
      · rw [eu]
        show σ 12 0 + 1 = nI (w + 1)
        rw [s6, nI_1]
      · rw [eu]; rfl
      · rw [hC.1 6 (by decide)]
        show τ 7 0 + 1 = nI (w + 1)
        rw [m2, nI_1]
      · rw [hC.1 7 (by decide)]; rfl
      · rw [hv 5 (by decide) (by decide) (by decide) (by decide), eu]; exact m3
      · rw [hC.1 4 (by decide), eu]
        rfl
      · rw [hv 3 (by decide) (by decide) (by decide) (by decide), eu]; exact m5
      · rw [eu]; exact hCE
      · rw [eu]; exact hGP
      · intro k hk
        rw [hv 2 (by decide) (by decide) (by decide) (by decide), hv 0 (by decide) (by decide) (by decide) (by decide)]
        refine ⟨VA_cong hs (hVW k hk).1, VA_cong hs (hVW k hk).2.1, fun _ => ?_⟩
        have := hC.2.1 k hk
        rw [Nat.zero_add] at this
        rw [this]
        exact VA_cong hs (hVW k hk).1
      · unfold OP
        rw [hv 8 (by decide) (by decide) (by decide) (by decide), eu]; exact hOP
      · intro t ht hb
        have hb : bt (σ 16 0) t = true := by rw [eu] at hb; exact hb
        exact TR_keep (hTX t ht hb) hs (by rw [eu]; rfl) (by rw [eu]; rfl) (by rw [eu]; rfl) (fun _ _ => by rw [eu]; rfl) (fun _ _ => by rw [hv 9 (by decide) (by decide) (by decide) (by decide)]) (by rw [hv 10 (by decide) (by decide) (by decide) (by decide)]) (by rw [hv 11 (by decide) (by decide) (by decide) (by decide)])
      · rw [eu]; exact d1
      · intro _
        have : cT u ≤ cW 0 σ := by
          unfold cT cW
          refine fb_ct_sub (fun i hi z => ?_)
          rw [eu] at z
          have z : decide (¬ σ 0 i = 0 ∧ σ 4 i = 0 ∧ σ 2 i ≤ σ 8 0) = true := z
          have z := of_decide_eq_true z
          exact decide_eq_true ⟨z.1, z.2.1, Or.inl rfl⟩
        omega
      · refine Nat.le_of_eq (fb_ct_zero.mpr (fun i hi => decide_eq_false (fun z => ?_)))
        rw [eu] at z
        have z : ¬ σ 0 i = 0 ∧ σ 4 i = 0 ∧ (w + 1 = 0 ∨ ¬ σ 2 i ≤ σ 8 0) := z
        obtain ⟨T, K, hT, _, e9, _⟩ := hCE.1 i hi z.1
        rcases z.2.2 with y | y
        · omega
        · rw [e9, s1] at y
          exact y (nI_le hT (by omega))
      · have e2 : oS u = oS σ := by rw [eu]; rfl
        have e3 : cU u = cU σ := by rw [eu]; rfl
        exact ⟨by rw [e2, e3]; have := hCN.1; omega, by rw [e2]; have := hCN.2; omega⟩
theorem s_val {n : Nat} {σ τ u v : St} {r r' : Int32} (h : INV n σ τ) (a b : Nat) (hab : σ a 0 = τ b 0) (hb : u = σ ∧ r = σ a 0) (hm : v = τ ∧ r' = τ b 0) : r = r' ∧ INV (n + 1) u v := by
  obtain ⟨eu, er⟩ := hb
  obtain ⟨ev, er'⟩ := hm
  rw [eu, ev, er, er', hab]
  exact ⟨rfl, h.mono⟩
theorem INV.e11 {n : Nat} {σ τ : St} (h : INV n σ τ) : σ 11 0 = τ 6 0 := by
  obtain ⟨L, S, E, G, c, w, hSC, _⟩ := h
  rw [hSC.1.2.2.2.2.1, hSC.2.2.1]
theorem INV.e13 {n : Nat} {σ τ : St} (h : INV n σ τ) : σ 13 0 = τ 5 0 := by
  obtain ⟨L, S, E, G, c, w, hSC, _⟩ := h
  exact hSC.2.2.2.2.1.symm
theorem INV.e15 {n : Nat} {σ τ : St} (h : INV n σ τ) : σ 15 0 = τ 3 0 := by
  obtain ⟨L, S, E, G, c, w, hSC, _⟩ := h
  exact hSC.2.2.2.2.2.2.symm
theorem s_open {n : Nat} {σ τ u v : St} {r r' : Int32} (h : INV n σ τ) (hb : u = σ ∧ r = σ 16 0) (hm : v = τ ∧ OB τ 4 r') : r = r' ∧ INV (n + 1) u v := by
  obtain ⟨eu, er⟩ := hb
  obtain ⟨ev, hO⟩ := hm
  have hOP := h.op
  rw [eu, ev]
  refine ⟨?_, h.mono⟩
  rw [er]
  apply b_ext
  intro i _
  rcases Nat.lt_or_ge i 4 with q | q
  · by_cases z : bt (σ 16 0) i = true
    · rw [z, (hO i).mpr ⟨q, (hOP.1 i q).mp z⟩]
    · rw [bt_ff z, bt_ff (fun y => z ((hOP.1 i q).mpr ((hO i).mp y).2))]
  · rw [hOP.2 i q, bt_ff (fun y => absurd ((hO i).mp y).1 (by omega))]
def P_val (a : Nat) (σ : St) (a1 : Int32) (r : Int32) (u : St) : Prop := u = σ ∧ ((∃ k, k < 8 ∧ a1 = nI k ∧ VA σ (nI k) (σ a 0) r) ∨ ((¬ ∃ k, k < 8 ∧ a1 = nI k) ∧ r = 0))
def Q_val (b : Nat) (σ : St) (a1 : Int32) (r : Int32) (u : St) : Prop := u = σ ∧ ((∃ k, k < 8 ∧ a1 = nI k ∧ r = σ b k) ∨ ((¬ ∃ k, k < 8 ∧ a1 = nI k) ∧ r = 0))
theorem s_value {n : Nat} {σ τ u v : St} {a1 r r' : Int32} (h : INV n σ τ) (a b : Nat) (hab : ∀ k, k < 8 → VA σ (nI k) (σ a 0) (τ b k)) (hb : P_val a σ a1 r u) (hm : Q_val b τ a1 r' v) : r = r' ∧ INV (n + 1) u v := by
  obtain ⟨eu, hb⟩ := hb
  obtain ⟨ev, hm⟩ := hm
  rw [eu, ev]
  refine ⟨?_, h.mono⟩
  obtain ⟨L, S, E, G, c, w, hSC, hCE, _⟩ := h
  rcases hb with ⟨k, hk, e, hV⟩ | ⟨hno, er⟩
  · rcases hm with ⟨k', hk', e', er'⟩ | ⟨hno', _⟩
    · have := nI_inj (by omega) (by omega) (e.symm.trans e')
      subst this
      rw [er']
      exact VA_uniq hCE.2 hV (hab k hk)
    · exact absurd ⟨k, hk, e⟩ hno'
  · rcases hm with ⟨k', hk', e', _⟩ | ⟨_, er'⟩
    · exact absurd ⟨k', hk', e'⟩ hno
    · rw [er, er']
theorem INV.now {n : Nat} {σ τ : St} (h : INV n σ τ) : ∀ k, k < 8 → VA σ (nI k) (σ 8 0) (τ 2 k) := by
  obtain ⟨L, S, E, G, c, w, hSC, hCE, hGP, hVW, _⟩ := h
  intro k hk
  rw [hSC.1.1]
  exact (hVW k hk).1
theorem INV.safe {n : Nat} {σ τ : St} (h : INV n σ τ) : ∀ k, k < 8 → VA σ (nI k) (σ 9 0) (τ 0 k) := by
  obtain ⟨L, S, E, G, c, w, hSC, hCE, hGP, hVW, _⟩ := h
  intro k hk
  rw [hSC.1.2.1]
  exact (hVW k hk).2.1
/-- the keys in conflict are the same on both sides -/
theorem conf_eq {n : Nat} {σ τ : St} {j : Nat} {x : Int32} (h : INV n σ τ) (hj : j < 4) (hb : bt (σ 16 0) j = true) (hx : CS σ (σ 17 j) 8 x) : x &&& σ 18 j = τ 10 j &&& τ 11 j := by
  obtain ⟨L, S, E, G, c, w, hSC, hCE, hGP, hVW, hOP, hTX, _⟩ := h
  obtain ⟨B, hB, q1, q2, q3, q4, q5⟩ := hTX j hj hb
  apply b_ext
  intro i _
  rw [b_and, b_and, q2]
  by_cases z : bt (σ 18 j) i = true
  · have hi := q3 i z
    rw [z, Bool.and_true, Bool.true_and]
    rw [q1] at hx
    by_cases y : bt x i = true
    · rw [y, (q5 i hi).mpr ((hx i).mp y).2]
    · rw [bt_ff y, bt_ff (fun y2 => y ((hx i).mpr ⟨hi, (q5 i hi).mp y2⟩))]
  · rw [bt_ff z, Bool.and_false, Bool.false_and]
def P_conf (σ : St) (a1 : Int32) (r : Int32) (u : St) : Prop := u = σ ∧ ((∃ j, j < 4 ∧ a1 = nI j ∧ bt (σ 16 0) j = true ∧ ∃ x, CS σ (σ 17 j) 8 x ∧ r = x &&& σ 18 j) ∨ (¬ OpN σ a1 ∧ r = 0))
def Q_conf (σ : St) (a1 : Int32) (r : Int32) (u : St) : Prop := u = σ ∧ ((∃ j, j < 4 ∧ a1 = nI j ∧ ¬ σ 8 j = 0 ∧ r = σ 10 j &&& σ 11 j) ∨ (¬ OpM σ a1 ∧ r = 0))
theorem s_conf {n : Nat} {σ τ u v : St} {a1 r r' : Int32} (h : INV n σ τ) (hb : P_conf σ a1 r u) (hm : Q_conf τ a1 r' v) : r = r' ∧ INV (n + 1) u v := by
  obtain ⟨eu, hb⟩ := hb
  obtain ⟨ev, hm⟩ := hm
  have hOP := h.op
  rw [eu, ev]
  refine ⟨?_, h.mono⟩
  rcases hb with ⟨j, hj, e, hbj, x, hx, er⟩ | ⟨hno, er⟩
  · rcases hm with ⟨j', hj', e', _, er'⟩ | ⟨hno', _⟩
    · have := nI_inj (by omega) (by omega) (e.symm.trans e')
      subst this
      rw [er, er']
      exact conf_eq h hj hbj hx
    · exact absurd ((hOP.iff a1).mp ⟨j, hj, e, hbj⟩) hno'
  · rcases hm with ⟨j', hj', e', hb', _⟩ | ⟨_, er'⟩
    · exact absurd ((hOP.iff a1).mpr ⟨j', hj', e', hb'⟩) hno
    · rw [er, er']
end
section
set_option maxRecDepth 100000
/-! the plain law: flush -/
def Gr (u σ : St) : Prop := ∀ i, i < 64 → ¬ σ 4 i = 0 → ¬ u 4 i = 0
theorem fl_char {σ : St} {c : Nat} (s11 : σ 11 0 = nI c) (hc : c ≤ 64) (hT : 0 < c → cT σ + 1 ≤ c) : ∀ (k : Nat) (u : St), FLp σ k u → k ≤ c ∧ Gr u σ ∧ (((k < c ∨ k = 0) ∧ (∀ a, a ≠ 4 → a ≠ 11 → u a = σ a) ∧ u 11 0 = nI (c - k) ∧ (k < c → cT u + 1 ≤ c - k)) ∨ (0 < k ∧ k = c ∧ (∀ a, a ≠ 4 → a ≠ 11 → a ≠ 9 → a ≠ 15 → u a = σ a) ∧ u 11 0 = nI 0 ∧ u 9 0 = σ 10 0 ∧ u 15 0 = σ 14 0 ∧ cT u = 0)) := by
  intro k
  induction k with
  | zero =>
    intro u hu
    have hu : u = σ := hu
    subst hu
    exact ⟨Nat.zero_le _, fun i _ h => h, Or.inl ⟨Or.inr rfl, fun _ _ _ => rfl, by rw [Nat.sub_zero]; exact s11, fun h => by rw [Nat.sub_zero]; exact hT h⟩⟩
  | succ k ih =>
    rintro u ⟨v, hv, hpos, hFS⟩
    obtain ⟨hk, hG, hcase⟩ := ih v hv
    rcases hcase with ⟨hkc, hsame, h11, hct⟩ | ⟨_, _, _, h11, _⟩
    · rw [h11] at hpos
      have hlt : 0 < c - k := (nI_ltI (a := 0) (by omega) (by omega)).mp hpos
      obtain ⟨d, hd⟩ : ∃ d, c - k = d + 1 := ⟨c - k - 1, by omega⟩
      have e11 : v 11 0 - 1 = nI d := by rw [h11, hd]; exact nI_pred d
      have hct := hct (by omega)
      rcases hFS with ⟨h0, eu⟩ | ⟨h0, hWT⟩
      · rw [e11] at h0
        have hd0 : d = 0 := nI_inj (b := 0) (by omega) (by omega) h0
        refine ⟨by omega, ?_, Or.inr ⟨by omega, by omega, ?_, ?_, ?_, ?_, ?_⟩⟩
        · intro i hi h; rw [eu]; exact hG i hi h
        · intro a h1 h2 h3 h4
          rw [eu, st_up_ne _ _ _ h4, st_up_ne _ _ _ h3, st_up_ne _ _ _ h2]
          exact hsame a h1 h2
        · rw [eu]
          show v 11 0 - 1 = nI 0
          rw [e11, hd0]
        · rw [eu]
          show v 10 0 = σ 10 0
          rw [hsame 10 (by decide) (by decide)]
        · rw [eu]
          show v 14 0 = σ 14 0
          rw [hsame 14 (by decide) (by decide)]
        · have : cT u = cT v := by rw [eu]; rfl
          omega
      · rw [e11] at h0
        have hd0 : 0 < d := by
          rcases Nat.eq_zero_or_pos d with z | z
          · rw [z] at h0; exact absurd rfl h0
          · exact z
        rcases hWT with ⟨i, hi, hc9, eu⟩ | ⟨hno, eu⟩
        · refine ⟨by omega, ?_, Or.inl ⟨Or.inl (by omega), ?_, ?_, fun _ => ?_⟩⟩
          · intro x hx h
            rw [eu]
            by_cases e : x = i
            · rw [e, st_up_at]; decide
            · rw [st_up_nj _ _ _ _ e]; exact hG x hx h
          · intro a h1 h2
            rw [eu, st_up_ne _ _ _ h1, st_up_ne _ _ _ h2]
            exact hsame a h1 h2
          · rw [eu]
            show v 11 0 - 1 = _
            rw [e11, show c - (k + 1) = d by omega]
          · have h9 := ct_set (p := pT v) (p' := pT u) (i := i) (n := 64) hi (fun x _ hne => by
              unfold pT
              rw [eu]
              show decide (¬ v 0 x = 0 ∧ upd (v 4) i 1 x = 0 ∧ v 2 x ≤ v 10 0) = _
              rw [pk_un hne])
            have t1 : pT v i = true := decide_eq_true hc9
            have t2 : pT u i = false := by
              unfold pT
              rw [eu]
              exact decide_eq_false (fun z => absurd z.2.1 (by rw [st_up_at]; decide))
            rw [t1, t2, if_pos rfl, if_neg (by decide)] at h9
            have h9 : cT u + 1 = cT v + 0 := h9
            omega
        · have hz : cT u = 0 := fb_ct_zero.mpr (fun i hi => by
            rw [eu]
            exact decide_eq_false (hno i hi))
          refine ⟨by omega, ?_, Or.inl ⟨Or.inl (by omega), ?_, ?_, fun _ => by omega⟩⟩
          · intro x hx h; rw [eu]; exact hG x hx h
          · intro a h1 h2
            rw [eu, st_up_ne _ _ _ h2]
            exact hsame a h1 h2
          · rw [eu]
            show v 11 0 - 1 = _
            rw [e11, show c - (k + 1) = d by omega]
    · rw [h11] at hpos
      exact absurd hpos (by decide)
def P_flush (σ : St) (a1 : Int32) (r : Int32) (u : St) : Prop := ∃ k, k ≤ 600 ∧ r = nI k ∧ FLp σ k u ∧ (∀ j, j < k → ¬ a1 ≤ nI j) ∧ (k = 600 ∨ a1 ≤ nI k ∨ u 11 0 ≤ 0)
def Q_flush (σ : St) (a1 : Int32) (r : Int32) (u : St) : Prop := ∃ x, ((¬ 0 ≤ a1 ∧ x = 0) ∨ (0 ≤ a1 ∧ ¬ a1 ≤ σ 6 0 ∧ x = σ 6 0) ∨ (0 ≤ a1 ∧ a1 ≤ σ 6 0 ∧ x = a1)) ∧ r = x ∧ (((x ≤ 0 ∨ ¬ x = σ 6 0) ∧ u = st_up σ 6 0 (σ 6 0 - x)) ∨ (¬ x ≤ 0 ∧ x = σ 6 0 ∧ ∃ v, CPl 0 0 (σ 1) (st_up σ 3 0 (σ 4 0)) 8 v ∧ u = st_up v 6 0 (v 6 0 - x)))
theorem s_flush {n : Nat} {σ τ u v : St} {a1 r r' : Int32} (h : INV n σ τ) (hn : n < 64) (hb : P_flush σ a1 r u) (hm : Q_flush τ a1 r' v) : r = r' ∧ INV (n + 1) u v := by
  obtain ⟨L, S, E, G, c, w, hI⟩ := h
  obtain ⟨⟨⟨s1, s2, s3, s4, s5, s6⟩, ⟨b1, b2, b3, b4, b5⟩, ⟨m1, m2, m3, m4, m5⟩⟩, hCE, hGP, hVW, hOP, hTX, ⟨d1, d2, d3⟩, hCN⟩ := hI
  obtain ⟨k, hk6, er, hF, hlt, hend⟩ := hb
  obtain ⟨x, hx, er', hfin⟩ := hm
  obtain ⟨hk, hG, hcase⟩ := fl_char s5 (by omega) d2 k u hF
  have hz : u 11 0 ≤ 0 → k = c := by
    intro q
    rcases hcase with ⟨_, _, h11, _⟩ | ⟨_, e, _⟩
    · rw [h11] at q
      rcases Nat.eq_zero_or_pos (c - k) with z | z
      · omega
      · exact absurd q (nI_nle z (by omega))
    · exact e
  have hxk : x = nI k := by
    rcases hx with ⟨q, ex⟩ | ⟨q, q2, ex⟩ | ⟨q, q2, ex⟩
    · rcases Nat.eq_zero_or_pos k with z | z
      · rw [ex, z]; rfl
      · exact absurd (x_ltimp (x_nle q)) (hlt 0 z)
    · obtain ⟨a, ha, ea⟩ := nI_of (x_lenlt q)
      rw [ea, m1] at q2
      have hca : c < a := by
        rcases Nat.lt_or_ge c a with z | z
        · exact z
        · exact absurd (nI_le z (by omega)) q2
      have : k = c := by
        rcases hend with z | z | z
        · omega
        · rw [ea] at z
          have := (nI_leI ha (by omega)).mp z
          omega
        · exact hz z
      rw [ex, m1, this]
    · obtain ⟨a, ha, ea⟩ := nI_of (x_lenlt q)
      rw [ea, m1] at q2
      have hca : a ≤ c := (nI_leI ha (by omega)).mp q2
      have hka : k ≤ a := by
        rcases Nat.lt_or_ge a k with z | z
        · exact absurd (by rw [ea]; exact x_refl _) (hlt a z)
        · exact z
      have : a = k := by
        rcases hend with z | z | z
        · omega
        · rw [ea] at z
          have := (nI_leI ha (by omega)).mp z
          omega
        · have := hz z
          omega
      rw [ex, ea, this]
  refine ⟨by rw [er, er', hxk], ?_⟩
  subst hxk
  have hw : ∀ c', (c' = 0 → c = 0 ∨ cT u = 0) → u 0 = σ 0 → u 2 = σ 2 → u 10 = σ 10 → cW c' u ≤ w := by
    intro c' hc' h0 h2 h10
    refine Nat.le_trans (fb_ct_sub (fun i hi z => ?_)) d3
    have z := of_decide_eq_true z
    rw [h0, h2, h10] at z
    have z4 : σ 4 i = 0 := by
      by_cases y : σ 4 i = 0
      · exact y
      · exact absurd z.2.1 (hG i hi y)
    refine decide_eq_true ⟨z.1, z4, ?_⟩
    rcases z.2.2 with y | y
    · rcases hc' y with t | t
      · exact Or.inl t
      · refine Or.inr (fun le => ?_)
        have := fb_ct_zero.mp t i hi
        have := of_decide_eq_false this
        rw [h0, h2, h10] at this
        exact this ⟨z.1, z.2.1, le⟩
    · exact Or.inr y
  rcases hcase with ⟨hkc, hsame, h11, hct⟩ | ⟨hk0, hkc, hsame, h11, h9, h15, hct⟩
  · have hv : v = st_up τ 6 0 (τ 6 0 - nI k) := by
      rcases hfin with ⟨_, ev⟩ | ⟨q1, q2, _⟩
      · exact ev
      · rw [m1] at q2
        have := nI_inj (by omega) (by omega) q2
        rcases hkc with z | z
        · omega
        · rw [z] at q1; exact absurd (x_refl _) q1
    subst hv
    have hs : sameM u σ := ⟨hsame 0 (by decide) (by decide), hsame 1 (by decide) (by decide), hsame 2 (by decide) (by decide), hsame 3 (by decide) (by decide), hsame 5 (by decide) (by decide), hsame 6 (by decide) (by decide), hsame 7 (by decide) (by decide)⟩
    refine ⟨L, S, E, G, c - k, w, ⟨⟨by rw [hsame 8 (by decide) (by decide)]; exact s1, by rw [hsame 9 (by decide) (by decide)]; exact s2, by rw [hsame 10 (by decide) (by decide)]; exact s3, by rw [hsame 5 (by decide) (by decide)]; exact s4, h11, by rw [hsame 12 (by decide) (by decide)]; exact s6⟩, ⟨b1, by omega, b3, b4, by omega⟩, ⟨?_, m2, by rw [hsame 13 (by decide) (by decide)]; exact m3, by rw [hsame 14 (by decide) (by decide)]; exact m4, by rw [hsame 15 (by decide) (by decide)]; exact m5⟩⟩, ⟨?_, ?_⟩, ?_, ?_, ?_, ?_, ⟨?_, fun q => hct (by omega), ?_⟩, ?_⟩
    · show τ 6 0 - nI k = nI (c - k)
      rw [m1, pk_sub hk]
    · rw [hs.1, hs.2.1, hs.2.2.1]; exact hCE.1
    · unfold UQ; rw [hs.1, hs.2.1, hs.2.2.1]; exact hCE.2
    · intro g hg; rw [hs.2.2.2.2.2.2]; exact hGP g hg
    · intro y hy
      exact ⟨VA_cong hs (hVW y hy).1, VA_cong hs (hVW y hy).2.1, fun q => VA_cong hs ((hVW y hy).2.2 (by omega))⟩
    · unfold OP; rw [hsame 16 (by decide) (by decide)]; exact hOP
    · intro t ht hb
      rw [hsame 16 (by decide) (by decide)] at hb
      exact TR_keep (hTX t ht hb) hs (by rw [hsame 8 (by decide) (by decide)]) (by rw [hsame 17 (by decide) (by decide)]) (by rw [hsame 18 (by decide) (by decide)]) (fun _ _ => by rw [hsame 19 (by decide) (by decide)]) (fun _ _ => rfl) rfl rfl
    · intro i hi
      rw [hs.1, hs.2.2.1, Mk_cong hs.2.2.2.2.1 hs.2.2.2.2.2.1 hs.2.2.2.2.2.2]
      exact fun q1 q2 q3 => hG i hi (d1 i hi q1 q2 q3)
    · exact hw (c - k) (fun z => Or.inl (by omega)) hs.1 hs.2.2.1 (hsame 10 (by decide) (by decide))
    · have e1 : cU u = cU σ := cU_keep hs.1
      have e2 : oS u = oS σ := by unfold oS; rw [hsame 16 (by decide) (by decide), hsame 18 (by decide) (by decide)]
      exact ⟨by rw [e1, e2]; have := hCN.1; omega, by rw [e2]; have := hCN.2; omega⟩
  · subst hkc
    obtain ⟨v9, hC, ev⟩ : ∃ v9, CPl 0 0 (τ 1) (st_up τ 3 0 (τ 4 0)) 8 v9 ∧ v = st_up v9 6 0 (v9 6 0 - nI k) := by
      rcases hfin with ⟨q, _⟩ | ⟨_, _, q⟩
      · rcases q with q | q
        · exact absurd q (nI_nle hk0 (by omega))
        · exact absurd m1.symm q
      · exact q
    have hv : ∀ a, a ≠ 0 → a ≠ 3 → a ≠ 6 → v a = τ a := fun a h1 h2 h3 => by rw [ev, st_up_ne _ _ _ h3, hC.1 a h1, st_up_ne _ _ _ h2]
    have hs : sameM u σ := ⟨hsame 0 (by decide) (by decide) (by decide) (by decide), hsame 1 (by decide) (by decide) (by decide) (by decide), hsame 2 (by decide) (by decide) (by decide) (by decide), hsame 3 (by decide) (by decide) (by decide) (by decide), hsame 5 (by decide) (by decide) (by decide) (by decide), hsame 6 (by decide) (by decide) (by decide) (by decide), hsame 7 (by decide) (by decide) (by decide) (by decide)⟩
    have h10 := hsame 10 (by decide) (by decide) (by decide) (by decide)
    refine ⟨L, E, E, G, 0, w, ⟨⟨by rw [hsame 8 (by decide) (by decide) (by decide) (by decide)]; exact s1, by rw [h9]; exact s3, by rw [h10]; exact s3, by rw [hs.2.2.2.2.1]; exact s4, h11, by rw [hsame 12 (by decide) (by decide) (by decide) (by decide)]; exact s6⟩, ⟨b1, by omega, b4, b4, by omega⟩, ⟨?_, by rw [hv 7 (by decide) (by decide) (by decide)]; exact m2, by rw [hv 5 (by decide) (by decide) (by decide), hsame 13 (by decide) (by decide) (by decide) (by decide)]; exact m3, by rw [hv 4 (by decide) (by decide) (by decide), hsame 14 (by decide) (by decide) (by decide) (by decide)]; exact m4, ?_⟩⟩, ⟨?_, ?_⟩, ?_, ?_, ?_, ?_, ⟨?_, fun q => absurd q (Nat.lt_irrefl 0), ?_⟩, ?_⟩
    · rw [ev, st_up_at, hC.1 6 (by decide)]
      show τ 6 0 - nI k = nI 0
      rw [m1, pk_sub (Nat.le_refl k), Nat.sub_self]
    · rw [ev, h15]
      show v9 3 0 = σ 14 0
      rw [hC.1 3 (by decide)]
      exact m4
    · rw [hs.1, hs.2.1, hs.2.2.1]; exact hCE.1
    · unfold UQ; rw [hs.1, hs.2.1, hs.2.2.1]; exact hCE.2
    · intro g hg; rw [hs.2.2.2.2.2.2]; exact hGP g hg
    · intro y hy
      rw [hv 2 (by decide) (by decide) (by decide)]
      have e0 : v 0 y = τ 1 y := by
        rw [ev]
        show v9 0 y = τ 1 y
        have := hC.2.1 y hy
        rw [Nat.zero_add] at this
        exact this
      rw [e0]
      exact ⟨VA_cong hs (hVW y hy).1, VA_cong hs ((hVW y hy).2.2 hk0), fun q => absurd q (Nat.lt_irrefl 0)⟩
    · unfold OP; rw [hsame 16 (by decide) (by decide) (by decide) (by decide), hv 8 (by decide) (by decide) (by decide)]; exact hOP
    · intro t ht hb
      rw [hsame 16 (by decide) (by decide) (by decide) (by decide)] at hb
      exact TR_keep (hTX t ht hb) hs (by rw [hsame 8 (by decide) (by decide) (by decide) (by decide)]) (by rw [hsame 17 (by decide) (by decide) (by decide) (by decide)]) (by rw [hsame 18 (by decide) (by decide) (by decide) (by decide)]) (fun _ _ => by rw [hsame 19 (by decide) (by decide) (by decide) (by decide)]) (fun _ _ => by rw [hv 9 (by decide) (by decide) (by decide)]) (by rw [hv 10 (by decide) (by decide) (by decide)]) (by rw [hv 11 (by decide) (by decide) (by decide)])
    · intro i hi q1 q2 _ q4
      have := fb_ct_zero.mp hct i hi
      exact of_decide_eq_false this ⟨q1, q4, by rw [h10, s3]; exact q2⟩
    · exact hw 0 (fun _ => Or.inr hct) hs.1 hs.2.2.1 h10
    · have e1 : cU u = cU σ := cU_keep hs.1
      have e2 : oS u = oS σ := by unfold oS; rw [hsame 16 (by decide) (by decide) (by decide) (by decide), hsame 18 (by decide) (by decide) (by decide) (by decide)]
      exact ⟨by rw [e1, e2]; have := hCN.1; omega, by rw [e2]; have := hCN.2; omega⟩
end
section
set_option maxRecDepth 100000
/-! the plain law: crash -/
def P_crash (σ u : St) : Prop := ∃ v w, CR (st_up σ 16 0 0) 64 v ∧ ((v 5 0 < nI 4 ∧ w = cr2 v) ∨ (¬ v 5 0 < nI 4 ∧ DG (cr2 v) w)) ∧ ((w 8 0 ≤ w 9 0 ∧ u = w) ∨ (¬ w 8 0 ≤ w 9 0 ∧ ∃ g, g < 4 ∧ w 5 0 = nI g ∧ u = st_up (st_up (st_up w 6 g (w 9 0)) 7 g (w 8 0)) 5 0 (nI g + 1)))
def Q_crash (σ u : St) : Prop := ∃ v w, CPl 8 0 (fun _ => 0) σ 4 v ∧ CPl 2 0 (v 0) v 8 w ∧ u = st_up (st_up (st_up w 5 0 (w 3 0)) 6 0 0) 7 0 0
/-- the state when the gaps have been dropped or not -/
def CW (dr : Prop) (σ w : St) : Prop := (∀ a, a ≠ 0 → a ≠ 5 → a ≠ 11 → a ≠ 12 → a ≠ 13 → a ≠ 16 → w a = σ a) ∧ (w 11 0 = 0 ∧ w 12 0 = 0 ∧ w 13 0 = σ 15 0 ∧ w 16 0 = 0) ∧ (∀ i, i < 64 → (¬ w 0 i = 0 ↔ (¬ σ 0 i = 0 ∧ ¬ σ 4 i = 0 ∧ (dr → ¬ Mk σ (σ 2 i))))) ∧ ∀ x, Mk w x ↔ ¬ dr ∧ Mk σ x
theorem cr_cell {σ v : St} {i : Nat} (hC : CR (st_up σ 16 0 0) 64 v) (hi : i < 64) : ¬ v 0 i = 0 ↔ ¬ σ 0 i = 0 ∧ ¬ σ 4 i = 0 := by
  rw [hC.2.1 i hi]
  show ¬ (if σ 4 i = 0 then (0 : Int32) else σ 0 i) = 0 ↔ _
  by_cases e : σ 4 i = 0
  · rw [if_pos e]
    exact ⟨fun z => absurd rfl z, fun z => absurd e z.2⟩
  · rw [if_neg e]
    exact ⟨fun z => ⟨z, e⟩, fun z => z.1⟩
theorem cr_w {σ v w : St} (hC : CR (st_up σ 16 0 0) 64 v) (hw : (v 5 0 < nI 4 ∧ w = cr2 v) ∨ (¬ v 5 0 < nI 4 ∧ DG (cr2 v) w)) : ∃ dr, CW dr σ w ∧ (w 5 0 = σ 5 0 ∨ w 5 0 = nI 0) := by
  have hv : ∀ a, a ≠ 0 → a ≠ 16 → v a = σ a := fun a h1 h2 => by rw [hC.1 a h1, st_up_ne _ _ _ h2]
  have hc2 : ∀ a, a ≠ 0 → a ≠ 16 → a ≠ 11 → a ≠ 12 → a ≠ 13 → cr2 v a = σ a := fun a h1 h2 h3 h4 h5 => by
    unfold cr2
    rw [st_up_ne _ _ _ h5, st_up_ne _ _ _ h4, st_up_ne _ _ _ h3]
    exact hv a h1 h2
  have h16 : cr2 v 16 0 = 0 := by
    show v 16 0 = 0
    rw [hC.1 16 (by decide)]; rfl
  have h13 : cr2 v 13 0 = σ 15 0 := by
    show v 15 0 = σ 15 0
    rw [hv 15 (by decide) (by decide)]
  have hMk : ∀ x, Mk (cr2 v) x ↔ Mk σ x := Mk_cong (hc2 5 (by decide) (by decide) (by decide) (by decide) (by decide)) (hc2 6 (by decide) (by decide) (by decide) (by decide) (by decide)) (hc2 7 (by decide) (by decide) (by decide) (by decide) (by decide))
  rcases hw with ⟨_, ew⟩ | ⟨_, v2, hD, ew⟩
  · refine ⟨False, ⟨?_, ⟨?_, ?_, ?_, ?_⟩, ?_, ?_⟩, Or.inl ?_⟩
    · intro a h1 _ h3 h4 h5 h6; rw [ew]; exact hc2 a h1 h6 h3 h4 h5
    · rw [ew]; rfl
    · rw [ew]; rfl
    · rw [ew]; exact h13
    · rw [ew]; exact h16
    · intro i hi
      rw [ew]
      show ¬ v 0 i = 0 ↔ _
      rw [cr_cell hC hi]
      exact ⟨fun z => ⟨z.1, z.2, fun f => f.elim⟩, fun z => ⟨z.1, z.2.1⟩⟩
    · intro x; rw [ew, hMk]
      exact ⟨fun z => ⟨fun f => f, z⟩, fun z => z.2⟩
    · rw [ew, hc2 5 (by decide) (by decide) (by decide) (by decide) (by decide)]
  · have hd : ∀ a, a ≠ 0 → a ≠ 5 → w a = cr2 v a := fun a h1 h2 => by rw [ew, st_up_ne _ _ _ h2]; exact hD.1 a h1
    refine ⟨True, ⟨?_, ⟨?_, ?_, ?_, ?_⟩, ?_, ?_⟩, Or.inr ?_⟩
    · intro a h1 h2 h3 h4 h5 h6; rw [hd a h1 h2]; exact hc2 a h1 h6 h3 h4 h5
    · rw [hd 11 (by decide) (by decide)]; rfl
    · rw [hd 12 (by decide) (by decide)]; rfl
    · rw [hd 13 (by decide) (by decide)]; exact h13
    · rw [hd 16 (by decide) (by decide)]; exact h16
    · intro i hi
      have e0 : w 0 i = v2 0 i := by rw [ew]; rfl
      have hq := hD.2.1 i hi
      rw [hMk, hc2 2 (by decide) (by decide) (by decide) (by decide) (by decide)] at hq
      have ec : cr2 v 0 i = v 0 i := rfl
      rw [e0]
      by_cases hm : ¬ cr2 v 0 i = 0 ∧ Mk σ (σ 2 i)
      · rw [hq.1 hm]
        exact ⟨fun z => absurd rfl z, fun z => absurd hm.2 (z.2.2 trivial)⟩
      · rw [hq.2 hm, ec, cr_cell hC hi]
        constructor
        · exact fun z => ⟨z.1, z.2, fun _ y => hm ⟨by rw [ec]; exact (cr_cell hC hi).mpr z, y⟩⟩
        · exact fun z => ⟨z.1, z.2.1⟩
    · intro x
      constructor
      · rintro ⟨g, hg, _⟩
        rw [ew, st_up_at] at hg
        exact absurd hg (Nat.not_lt_zero g)
      · exact fun z => absurd trivial z.1
    · rw [ew, st_up_at]; rfl
theorem cr_char {σ u : St} {L S G : Nat} (s1 : σ 8 0 = nI L) (s2 : σ 9 0 = nI S) (s4 : σ 5 0 = nI G) (hG : G ≤ 4) (hL : L ≤ 64) (hS : S ≤ L) (hGP : GP L G σ) (h : P_crash σ u) :
    ∃ dr G', (∀ a, a ≠ 0 → a ≠ 5 → a ≠ 6 → a ≠ 7 → a ≠ 11 → a ≠ 12 → a ≠ 13 → a ≠ 16 → u a = σ a) ∧ (u 11 0 = 0 ∧ u 12 0 = 0 ∧ u 13 0 = σ 15 0 ∧ u 16 0 = 0) ∧ (∀ i, i < 64 → (¬ u 0 i = 0 ↔ (¬ σ 0 i = 0 ∧ ¬ σ 4 i = 0 ∧ (dr → ¬ Mk σ (σ 2 i))))) ∧ (∀ x, Mk u x ↔ (¬ dr ∧ Mk σ x) ∨ (S < L ∧ nI S < x ∧ x ≤ nI L)) ∧ G' ≤ 4 ∧ u 5 0 = nI G' ∧ GP L G' u := by
  obtain ⟨v, w, hC, hw, hu⟩ := h
  obtain ⟨dr, ⟨w1, ⟨w2, w3, w4, w5⟩, w6, w7⟩, w8⟩ := cr_w hC hw
  have e8 : w 8 0 = nI L := by rw [w1 8 (by decide) (by decide) (by decide) (by decide) (by decide) (by decide)]; exact s1
  have e9 : w 9 0 = nI S := by rw [w1 9 (by decide) (by decide) (by decide) (by decide) (by decide) (by decide)]; exact s2
  have e7 : w 7 = σ 7 := w1 7 (by decide) (by decide) (by decide) (by decide) (by decide) (by decide)
  obtain ⟨Gw, hGw, eGw, hGPw⟩ : ∃ Gw, Gw ≤ 4 ∧ w 5 0 = nI Gw ∧ GP L Gw w := by
    rcases w8 with z | z
    · refine ⟨G, hG, by rw [z]; exact s4, fun g hg => ?_⟩
      rw [e7]; exact hGP g hg
    · exact ⟨0, by omega, z, fun g hg => absurd hg (Nat.not_lt_zero g)⟩
  rcases hu with ⟨hle, eu⟩ | ⟨hle, g, hg, eg, eu⟩
  · rw [e8, e9] at hle
    have hLS : L ≤ S := (nI_leI (by omega) (by omega)).mp hle
    refine ⟨dr, Gw, ?_⟩
    subst eu
    refine ⟨fun a h1 h2 h3 h4 h5 h6 h7 h8 => w1 a h1 h2 h5 h6 h7 h8, ⟨w2, w3, w4, w5⟩, w6, fun x => ?_, hGw, eGw, hGPw⟩
    rw [w7]
    exact ⟨fun z => Or.inl z, fun z => by
      rcases z with z | z
      · exact z
      · omega⟩
  · rw [e8, e9] at hle
    have hLS : S < L := by
      rcases Nat.lt_or_ge S L with z | z
      · exact z
      · exact absurd (nI_le z (by omega)) hle
    have hgG : g = Gw := nI_inj (by omega) (by omega) (eg.symm.trans eGw)
    subst hgG
    have e5u : u 5 0 = nI (g + 1) := by
      rw [eu, st_up_at, nI_1]
    have hu1 : ∀ a, a ≠ 5 → a ≠ 6 → a ≠ 7 → u a = w a := fun a h1 h2 h3 => by rw [eu, st_up_ne _ _ _ h1, st_up_ne _ _ _ h3, st_up_ne _ _ _ h2]
    have hu6 : u 6 = upd (w 6) g (w 9 0) := by rw [eu]; rfl
    have hu7 : u 7 = upd (w 7) g (w 8 0) := by rw [eu]; rfl
    refine ⟨dr, g + 1, fun a h1 h2 h3 h4 h5 h6 h7 h8 => ?_, ⟨?_, ?_, ?_, ?_⟩, ?_, ?_, by omega, e5u, ?_⟩
    · rw [hu1 a h2 h3 h4]; exact w1 a h1 h2 h5 h6 h7 h8
    · rw [hu1 11 (by decide) (by decide) (by decide)]; exact w2
    · rw [hu1 12 (by decide) (by decide) (by decide)]; exact w3
    · rw [hu1 13 (by decide) (by decide) (by decide)]; exact w4
    · rw [hu1 16 (by decide) (by decide) (by decide)]; exact w5
    · intro i hi
      rw [hu1 0 (by decide) (by decide) (by decide)]
      exact w6 i hi
    · intro x
      rw [Mk_iff (by omega) e5u x, ← w7, Mk_iff (by omega) eGw x, hu6, hu7]
      constructor
      · rintro ⟨g', hg', q1, q2⟩
        by_cases e : g' = g
        · subst e
          rw [pk_us, e9] at q1
          rw [pk_us, e8] at q2
          exact Or.inr ⟨hLS, q1, q2⟩
        · rw [pk_un e] at q1 q2
          exact Or.inl ⟨g', by omega, q1, q2⟩
      · rintro (⟨g', hg', q1, q2⟩ | ⟨_, q1, q2⟩)
        · refine ⟨g', by omega, ?_, ?_⟩
          · rw [pk_un (by omega)]; exact q1
          · rw [pk_un (by omega)]; exact q2
        · refine ⟨g, by omega, ?_, ?_⟩
          · rw [pk_us, e9]; exact q1
          · rw [pk_us, e8]; exact q2
    · intro g' hg'
      rw [hu7]
      by_cases e : g' = g
      · subst e
        rw [pk_us]
        exact ⟨L, Nat.le_refl _, e8⟩
      · rw [pk_un e]
        exact hGPw g' (by omega)
theorem s_crash {n : Nat} {σ τ u v : St} (h : INV n σ τ) (hn : n < 64) (hb : P_crash σ u) (hm : Q_crash τ v) : INV (n + 1) u v := by
  obtain ⟨L, S, E, G, c, w, hI⟩ := h
  obtain ⟨⟨⟨s1, s2, s3, s4, s5, s6⟩, ⟨b1, b2, b3, b4, b5⟩, ⟨m1, m2, m3, m4, m5⟩⟩, hCE, hGP, hVW, hOP, hTX, ⟨d1, d2, d3⟩, hCN⟩ := hI
  obtain ⟨dr, G', u1, ⟨u2, u3, u4, u5⟩, u6, u7, u8, u9, u10⟩ := cr_char s1 s2 s4 b1 (by omega) b3 hGP hb
  obtain ⟨v1, v2, hC1, hC2, ev⟩ := hm
  have k1 := u1 1 (by decide) (by decide) (by decide) (by decide) (by decide) (by decide) (by decide) (by decide)
  have k2 := u1 2 (by decide) (by decide) (by decide) (by decide) (by decide) (by decide) (by decide) (by decide)
  have k3 := u1 3 (by decide) (by decide) (by decide) (by decide) (by decide) (by decide) (by decide) (by decide)
  have k4 := u1 4 (by decide) (by decide) (by decide) (by decide) (by decide) (by decide) (by decide) (by decide)
  have k8 := u1 8 (by decide) (by decide) (by decide) (by decide) (by decide) (by decide) (by decide) (by decide)
  have k9 := u1 9 (by decide) (by decide) (by decide) (by decide) (by decide) (by decide) (by decide) (by decide)
  have k10 := u1 10 (by decide) (by decide) (by decide) (by decide) (by decide) (by decide) (by decide) (by decide)
  have k14 := u1 14 (by decide) (by decide) (by decide) (by decide) (by decide) (by decide) (by decide) (by decide)
  have k15 := u1 15 (by decide) (by decide) (by decide) (by decide) (by decide) (by decide) (by decide) (by decide)
  have hv : ∀ a, a ≠ 2 → a ≠ 8 → a ≠ 5 → a ≠ 6 → a ≠ 7 → v a = τ a := fun a h1 h2 h3 h4 h5 => by rw [ev, st_up_ne _ _ _ h5, st_up_ne _ _ _ h4, st_up_ne _ _ _ h3, hC2.1 a h1, hC1.1 a h2]
  have hMt : ∀ (T : Nat), T ≤ L → S ≤ T → ∀ (key : Int32) (i : Nat), i < 64 → (Mt u key (nI T) i ↔ Mt σ key (nI S) i) := by
    intro T hTL hST key i hi
    unfold Mt
    rw [u6 i hi, k1, k2, u7]
    constructor
    · rintro ⟨⟨q1, q2, q3⟩, q4, q5, q6⟩
      obtain ⟨T', K, hT', _, e9, _⟩ := hCE.1 i hi q1
      rw [e9] at q3 q5 q6 ⊢
      have hMk : ¬ Mk σ (nI T') := fun z => by
        by_cases hd : dr
        · exact q3 hd z
        · exact q6 (Or.inl ⟨hd, z⟩)
      refine ⟨q1, q4, ?_, hMk⟩
      rcases Nat.lt_or_ge S T' with z | z
      · exact absurd (Or.inr ⟨by omega, nI_lt z (by omega), nI_le hT' (by omega)⟩) q6
      · exact nI_le z (by omega)
    · rintro ⟨q1, q2, q3, q4⟩
      have hth := d1 i hi q1 q3 q4
      refine ⟨⟨q1, hth, fun _ => q4⟩, q2, x_trans q3 (nI_le hST (by omega)), ?_⟩
      rintro (⟨_, z⟩ | ⟨_, z, _⟩)
      · exact q4 z
      · exact absurd z (x_lenlt q3)
  refine ⟨L, S, E, G', 0, 0, ⟨⟨by rw [k8]; exact s1, by rw [k9]; exact s2, by rw [k10]; exact s3, u9, u2, u3⟩, ⟨u8, by omega, b3, b4, by omega⟩, ⟨?_, ?_, ?_, ?_, ?_⟩⟩, ⟨?_, ?_⟩, u10, ?_, ⟨?_, ?_⟩, ?_, ⟨?_, fun q => absurd q (Nat.lt_irrefl 0), ?_⟩, ?_⟩
  · rw [ev]; rfl
  · rw [ev]; rfl
  · rw [ev, u4]
    show v2 3 0 = σ 15 0
    rw [hC2.1 3 (by decide), hC1.1 3 (by decide)]
    exact m5
  · rw [hv 4 (by decide) (by decide) (by decide) (by decide) (by decide), k14]; exact m4
  · rw [hv 3 (by decide) (by decide) (by decide) (by decide) (by decide), k15]; exact m5
  · intro i hi hq
    rw [k1, k2]
    exact hCE.1 i hi ((u6 i hi).mp hq).1
  · intro i j hi hj q1 q2
    rw [k1, k2]
    exact hCE.2 i j hi hj ((u6 i hi).mp q1).1 ((u6 j hj).mp q2).1
  · intro k hk
    have e0 : v 0 k = τ 0 k := by rw [hv 0 (by decide) (by decide) (by decide) (by decide) (by decide)]
    have e2 : v 2 k = τ 0 k := by
      rw [ev]
      show v2 2 k = τ 0 k
      have := hC2.2.1 k hk
      rw [Nat.zero_add] at this
      rw [this, hC1.1 0 (by decide)]
    rw [e0, e2]
    refine ⟨VA_tr (hMt L (Nat.le_refl _) b3 (nI k)) (fun i _ _ => ⟨by rw [k2], by rw [k3]⟩) (hVW k hk).2.1, VA_tr (hMt S b3 (Nat.le_refl _) (nI k)) (fun i _ _ => ⟨by rw [k2], by rw [k3]⟩) (hVW k hk).2.1, fun q => absurd q (Nat.lt_irrefl 0)⟩
  · intro t ht
    rw [u5, b_0, ev]
    have e8 : v2 8 t = 0 := by
      rw [hC2.1 8 (by decide)]
      have := hC1.2.1 t ht
      rw [Nat.zero_add] at this
      exact this
    show false = true ↔ ¬ v2 8 t = 0
    rw [e8]
    exact ⟨fun z => (by cases z), fun z => absurd rfl z⟩
  · intro t ht; rw [u5]; exact b_0 t
  · intro t ht hb; rw [u5, b_0] at hb; cases hb
  · intro i hi q1 _ _
    rw [k4]
    exact ((u6 i hi).mp q1).2.1
  · refine Nat.le_of_eq (fb_ct_zero.mpr (fun i hi => decide_eq_false (fun z => ?_)))
    have := ((u6 i hi).mp z.1).2.1
    rw [k4] at z
    exact this z.2.1
  · have e1 : cU u ≤ cU σ := by
      unfold cU
      refine fb_ct_sub (fun i hi z => ?_)
      have z := of_decide_eq_true z
      exact decide_eq_true ((u6 i hi).mp z).1
    have e2 : oS u = 0 := by
      unfold oS
      rw [sm4]
      unfold oF
      rw [u5, b_0, b_0, b_0, b_0]
      rfl
    exact ⟨by rw [e2]; have := hCN.1; omega, by rw [e2]; omega⟩
end
section
set_option maxRecDepth 100000
/-! the plain law: commit -/
theorem nc_nj {v : St} {i k x a : Nat} {t y : Int32} (ha : a ≠ 12) (hx : x ≠ i) : cstep v i k t y a x = v a x := by
  unfold cstep ncell
  rw [st_up_ne _ _ _ ha, st_up_nj _ _ _ _ hx, st_up_nj _ _ _ _ hx, st_up_nj _ _ _ _ hx, st_up_nj _ _ _ _ hx, st_up_nj _ _ _ _ hx]
theorem nc_hi {v : St} {i k a : Nat} {t y : Int32} (h5 : 5 ≤ a) (ha : a ≠ 12) : cstep v i k t y a = v a := by
  unfold cstep ncell
  rw [st_up_ne _ _ _ ha, st_up_ne _ _ _ (by omega), st_up_ne _ _ _ (by omega), st_up_ne _ _ _ (by omega), st_up_ne _ _ _ (by omega), st_up_ne _ _ _ (by omega)]
theorem nc_0 (v : St) (i k : Nat) (t y : Int32) : cstep v i k t y 0 i = 1 := (pk_us : upd (v 0) i 1 i = 1)
theorem nc_1 (v : St) (i k : Nat) (t y : Int32) : cstep v i k t y 1 i = nI k := (pk_us : upd (v 1) i (nI k) i = nI k)
theorem nc_2 (v : St) (i k : Nat) (t y : Int32) : cstep v i k t y 2 i = t := (pk_us : upd (v 2) i t i = t)
theorem nc_3 (v : St) (i k : Nat) (t y : Int32) : cstep v i k t y 3 i = y := (pk_us : upd (v 3) i y i = y)
theorem nc_4 (v : St) (i k : Nat) (t y : Int32) : cstep v i k t y 4 i = 0 := (pk_us : upd (v 4) i 0 i = 0)
def CLc (σ : St) (j k : Nat) (u : St) : Prop :=
  (∀ a, 5 ≤ a → a ≠ 12 → u a = σ a) ∧ u 12 0 = σ 12 0 + nI (fb_ct (fun x => bt (σ 18 j) x) k) ∧
  (∀ i, i < 64 → (∀ a, a < 5 → u a i = σ a i) ∨ (σ 0 i = 0 ∧ u 0 i = 1 ∧ u 4 i = 0 ∧ u 2 i = σ 8 0 ∧ ∃ x, x < k ∧ bt (σ 18 j) x = true ∧ u 1 i = nI x ∧ u 3 i = σ 19 (j * 8 + x))) ∧
  (∀ x, x < k → bt (σ 18 j) x = true → ∃ i, i < 64 ∧ σ 0 i = 0 ∧ u 0 i = 1 ∧ u 1 i = nI x ∧ u 2 i = σ 8 0 ∧ u 3 i = σ 19 (j * 8 + x)) ∧
  (∀ i i', i < 64 → i' < 64 → σ 0 i = 0 → σ 0 i' = 0 → ¬ u 0 i = 0 → ¬ u 0 i' = 0 → u 1 i = u 1 i' → i = i') ∧
  cU u = cU σ + fb_ct (fun x => bt (σ 18 j) x) k
theorem cl_char {σ : St} {j : Nat} : ∀ (k : Nat) (u : St), k ≤ 8 → CLp j σ k u → CLc σ j k u := by
  intro k
  induction k with
  | zero =>
    intro u _ hu
    have hu : u = σ := hu
    subst hu
    refine ⟨fun _ _ _ => rfl, ?_, fun i _ => Or.inl (fun _ _ => rfl), fun x h => absurd h (Nat.not_lt_zero x), fun i i' _ _ h _ h2 => absurd h h2, rfl⟩
    show u 12 0 = u 12 0 + 0
    rw [Int32.add_zero]
  | succ k ih =>
    rintro u hk8 ⟨v, hv, hcase⟩
    obtain ⟨c1, c2, c3, c4, c5, c6⟩ := ih v (by omega) hv
    have h18 : v 18 j = σ 18 j := by rw [c1 18 (by omega) (by omega)]
    rw [h18] at hcase
    rcases hcase with ⟨hb, i, hi, h0, eu⟩ | ⟨hb, eu⟩
    · have e8 : v 8 0 = σ 8 0 := by rw [c1 8 (by omega) (by omega)]
      have e19 : v 19 (j * 8 + k) = σ 19 (j * 8 + k) := by rw [c1 19 (by omega) (by omega)]
      rw [e8, e19] at eu
      have hσ0 : σ 0 i = 0 := by
        rcases c3 i hi with z | z
        · rw [← z 0 (by omega)]; exact h0
        · rw [z.2.1] at h0; exact absurd h0 (by decide)
      have hct : fb_ct (fun x => bt (σ 18 j) x) (k + 1) = fb_ct (fun x => bt (σ 18 j) x) k + 1 := by
        rw [fb_ct_succ, if_pos hb]
      refine ⟨?_, ?_, ?_, ?_, ?_, ?_⟩
      · intro a h5 ha
        rw [eu, nc_hi h5 ha]
        exact c1 a h5 ha
      · rw [eu, hct]
        show v 12 0 + 1 = _
        rw [c2, Int32.add_assoc, nI_1]
      · intro x hx
        by_cases e : x = i
        · subst e
          refine Or.inr ⟨hσ0, ?_, ?_, ?_, k, by omega, hb, ?_, ?_⟩
          · rw [eu]; exact nc_0 _ _ _ _ _
          · rw [eu]; exact nc_4 _ _ _ _ _
          · rw [eu]; exact nc_2 _ _ _ _ _
          · rw [eu]; exact nc_1 _ _ _ _ _
          · rw [eu]; exact nc_3 _ _ _ _ _
        · rcases c3 x hx with z | ⟨z1, z2, z3, z4, y, hy, z5, z6, z7⟩
          · refine Or.inl (fun a ha => ?_)
            rw [eu, nc_nj (by omega) e]
            exact z a ha
          · refine Or.inr ⟨z1, ?_, ?_, ?_, y, by omega, z5, ?_, ?_⟩
            · rw [eu, nc_nj (by omega) e]; exact z2
            · rw [eu, nc_nj (by omega) e]; exact z3
            · rw [eu, nc_nj (by omega) e]; exact z4
            · rw [eu, nc_nj (by omega) e]; exact z6
            · rw [eu, nc_nj (by omega) e]; exact z7
      · intro x hx hbx
        rcases Nat.lt_succ_iff_lt_or_eq.mp hx with q | q
        · obtain ⟨y, hy, z1, z2, z3, z4, z5⟩ := c4 x q hbx
          have hne : y ≠ i := fun e => by rw [e, h0] at z2; exact absurd z2 (by decide)
          refine ⟨y, hy, z1, ?_, ?_, ?_, ?_⟩
          · rw [eu, nc_nj (by omega) hne]; exact z2
          · rw [eu, nc_nj (by omega) hne]; exact z3
          · rw [eu, nc_nj (by omega) hne]; exact z4
          · rw [eu, nc_nj (by omega) hne]; exact z5
        · subst q
          refine ⟨i, hi, hσ0, ?_, ?_, ?_, ?_⟩
          · rw [eu]; exact nc_0 _ _ _ _ _
          · rw [eu]; exact nc_1 _ _ _ _ _
          · rw [eu]; exact nc_2 _ _ _ _ _
          · rw [eu]; exact nc_3 _ _ _ _ _
      · have key : ∀ x, x < 64 → σ 0 x = 0 → ¬ u 0 x = 0 → x ≠ i → u 1 x ≠ nI k := by
          intro x hx z1 z2 hne e
          rw [eu, nc_nj (by omega) hne] at z2 e
          rcases c3 x hx with z | ⟨_, _, _, _, y, hy, _, z6, _⟩
          · rw [z 0 (by omega)] at z2; exact z2 z1
          · rw [z6] at e
            have := nI_inj (by omega) (by omega) e
            omega
        have ki : u 1 i = nI k := by rw [eu]; exact nc_1 _ _ _ _ _
        intro x y hx hy z1 z2 z3 z4 z5
        by_cases e1 : x = i
        · by_cases e2 : y = i
          · rw [e1, e2]
          · rw [e1, ki] at z5
            exact absurd z5.symm (key y hy z2 z4 e2)
        · by_cases e2 : y = i
          · rw [e2, ki] at z5
            exact absurd z5 (key x hx z1 z3 e1)
          · rw [eu, nc_nj (by omega) e1] at z3
            rw [eu, nc_nj (by omega) e2] at z4
            rw [eu, nc_nj (by omega) e1, nc_nj (by omega) e2] at z5
            exact c5 x y hx hy z1 z2 z3 z4 z5
      · have h9 := ct_set (p := pU v) (p' := pU u) (i := i) (n := 64) hi (fun x _ hne => by
          unfold pU
          rw [eu, nc_nj (by omega) hne])
        have t1 : pU v i = false := decide_eq_false (fun z => z h0)
        have t2 : pU u i = true := decide_eq_true (by rw [eu, nc_0]; decide)
        rw [t1, t2, if_pos rfl, if_neg (by decide)] at h9
        have h9 : cU u + 0 = cU v + 1 := h9
        omega
    · have hct : fb_ct (fun x => bt (σ 18 j) x) (k + 1) = fb_ct (fun x => bt (σ 18 j) x) k := by
        rw [fb_ct_succ, if_neg (by rw [hb]; decide)]; rfl
      subst eu
      unfold CLc
      rw [hct]
      refine ⟨c1, c2, fun i hi => ?_, fun x hx hbx => ?_, c5, c6⟩
      · rcases c3 i hi with z | ⟨z1, z2, z3, z4, y, hy, z5⟩
        · exact Or.inl z
        · exact Or.inr ⟨z1, z2, z3, z4, y, by omega, z5⟩
      · rcases Nat.lt_succ_iff_lt_or_eq.mp hx with q | q
        · exact c4 x q hbx
        · rw [q, hb] at hbx; cases hbx
/-- every cell that a commit enters finds a free place -/
theorem cl_free {n : Nat} {σ τ : St} (h : INV n σ τ) (hn : n < 64) {j k : Nat} {v : St} (hj : j < 4) (hk : k < 8) (hb : bt (σ 16 0) j = true) (hC : CLp j (cm1 σ j) k v) (hbk : bt (v 18 j) k = true) : ∃ i, i < 64 ∧ v 0 i = 0 := by
  obtain ⟨L, S, E, G, c, w, hSC, hCE, hGP, hVW, hOP, hTX, hDU, hCN⟩ := h
  obtain ⟨c1, c2, c3, c4, c5, c6⟩ := cl_char k v (by omega) hC
  have h18 : v 18 j = σ 18 j := by rw [c1 18 (by omega) (by omega)]; rfl
  rw [h18] at hbk
  have c6 : cU v = cU σ + fb_ct (fun x => bt (σ 18 j) x) k := c6
  have h1 : fb_ct (fun x => bt (σ 18 j) x) k + 1 ≤ pcn (σ 18 j) := by
    have : fb_ct (fun x => bt (σ 18 j) x) (k + 1) = fb_ct (fun x => bt (σ 18 j) x) k + 1 := by rw [fb_ct_succ, if_pos hbk]
    rw [← this]
    exact fb_ct_mono _ (by omega)
  have h2 : pcn (σ 18 j) ≤ oS σ := by
    have := fb_sm_part (oF (σ 16 0) (σ 18)) (i := j) (n := 4) hj
    unfold oF at this
    rw [if_pos hb] at this
    show _ ≤ fb_sm (oF (σ 16 0) (σ 18)) 4
    unfold oF
    omega
  have h3 := hCN.1
  have h4 : fb_ct (pU v) 64 ≠ 64 := by
    show cU v ≠ 64
    omega
  rcases Classical.em (∃ i, i < 64 ∧ v 0 i = 0) with z | z
  · exact z
  · exact absurd ((fb_ct_all (p := pU v) (n := 64)).mpr (fun i hi => decide_eq_true (fun y => z ⟨i, hi, y⟩))) h4
theorem ap_char {j : Nat} {τ : St} : ∀ k, (∀ a, a ≠ 2 → a ≠ 7 → APf j τ k a = τ a) ∧ (∀ x, APf j τ k 2 x = if x < k ∧ bt (τ 10 j) x = true then τ 9 (8 * j + x) else τ 2 x) ∧ APf j τ k 7 0 = τ 7 0 + nI (fb_ct (fun x => bt (τ 10 j) x) k) := by
  intro k
  induction k with
  | zero =>
    refine ⟨fun _ _ _ => rfl, fun x => ?_, ?_⟩
    · rw [if_neg (fun z => absurd z.1 (Nat.not_lt_zero x))]; rfl
    · show τ 7 0 = τ 7 0 + 0
      rw [Int32.add_zero]
  | succ k ih =>
    obtain ⟨h1, h2, h3⟩ := ih
    have h10 : APf j τ k 10 j = τ 10 j := by rw [h1 10 (by decide) (by decide)]
    cases hb : bt (τ 10 j) k
    · rw [APf_n (by rw [h10]; exact hb)]
      refine ⟨h1, fun x => ?_, ?_⟩
      · rw [h2 x]
        by_cases e : x = k
        · subst e
          rw [if_neg (by rw [hb]; exact fun z => (by cases z.2)), if_neg (by rw [hb]; exact fun z => (by cases z.2))]
        · by_cases y : x < k ∧ bt (τ 10 j) x = true
          · rw [if_pos y, if_pos ⟨by omega, y.2⟩]
          · rw [if_neg y, if_neg (fun z => y ⟨by omega, z.2⟩)]
      · rw [h3, fb_ct_succ, if_neg (by rw [hb]; decide)]; rfl
    · rw [APf_y (by rw [h10]; exact hb)]
      refine ⟨fun a ha1 ha2 => ?_, fun x => ?_, ?_⟩
      · rw [st_up_ne _ _ _ ha2, st_up_ne _ _ _ ha1]; exact h1 a ha1 ha2
      · show upd (APf j τ k 2) k (APf j τ k 9 (8 * j + k)) x = _
        by_cases e : x = k
        · subst e
          rw [pk_us, if_pos ⟨by omega, hb⟩, h1 9 (by decide) (by decide)]
        · rw [pk_un e, h2 x]
          by_cases y : x < k ∧ bt (τ 10 j) x = true
          · rw [if_pos y, if_pos ⟨by omega, y.2⟩]
          · rw [if_neg y, if_neg (fun z => y ⟨by omega, z.2⟩)]
      · rw [st_up_at, h3, fb_ct_succ, if_pos hb, Int32.add_assoc, nI_1]
theorem sn_char {j : Nat} {τ : St} : ∀ k, (∀ a, a ≠ 11 → SNf j τ k a = τ a) ∧ ∀ x, SNf j τ k 11 x = if x < k then τ 11 x ||| τ 10 j else τ 11 x := by
  intro k
  induction k with
  | zero => exact ⟨fun _ _ => rfl, fun x => by rw [if_neg (Nat.not_lt_zero x)]; rfl⟩
  | succ k ih =>
    obtain ⟨h1, h2⟩ := ih
    refine ⟨fun a ha => ?_, fun x => ?_⟩
    · show st_up (SNf j τ k) 11 k _ a = τ a
      rw [st_up_ne _ _ _ ha]; exact h1 a ha
    · show upd (SNf j τ k 11) k (SNf j τ k 11 k ||| SNf j τ k 10 j) x = _
      by_cases e : x = k
      · subst e
        rw [pk_us, if_pos (by omega), h2 x, if_neg (Nat.lt_irrefl x), h1 10 (by decide)]
      · rw [pk_un e, h2 x]
        by_cases y : x < k
        · rw [if_pos y, if_pos (by omega)]
        · rw [if_neg y, if_neg (by omega)]
set_option maxHeartbeats 4000000 in
theorem s_apply {n : Nat} {σ τ v u z : St} {j : Nat} (h : INV n σ τ) (hn : n < 64) (hj : j < 4) (hb : bt (σ 16 0) j = true) (hC : CLp j (cm1 σ j) 8 v) (eu : u = st_up v 13 0 (v 13 0 + 1)) (hA : AP (st_up τ 8 j 0) j z) : INV (n + 1) u z := by
  obtain ⟨L, S, E, G, c, w, hI⟩ := h
  obtain ⟨⟨⟨s1, s2, s3, s4, s5, s6⟩, ⟨b1, b2, b3, b4, b5⟩, ⟨m1, m2, m3, m4, m5⟩⟩, hCE, hGP, hVW, hOP, hTX, ⟨d1, d2, d3⟩, hCN⟩ := hI
  obtain ⟨B0, hB0, t1, t2, t3, t4, t5⟩ := hTX j hj hb
  obtain ⟨c1, c2, c3, c4, c5, c6⟩ := cl_char 8 v (Nat.le_refl _) hC
  have e8 : cm1 σ j 8 0 = nI (L + 1) := by
    show σ 8 0 + 1 = nI (L + 1)
    rw [s1, nI_1]
  have hu5 : ∀ a, 5 ≤ a → a ≠ 12 → a ≠ 13 → a ≠ 8 → a ≠ 16 → u a = σ a := fun a h1 h2 h3 h4 h5 => by
    rw [eu, st_up_ne _ _ _ h3, c1 a h1 h2]
    unfold cm1 clO
    rw [st_up_ne _ _ _ h4, st_up_ne _ _ _ h5]
  have k5 := hu5 5 (by decide) (by decide) (by decide) (by decide) (by decide)
  have k6 := hu5 6 (by decide) (by decide) (by decide) (by decide) (by decide)
  have k7 := hu5 7 (by decide) (by decide) (by decide) (by decide) (by decide)
  have k9 := hu5 9 (by decide) (by decide) (by decide) (by decide) (by decide)
  have k10 := hu5 10 (by decide) (by decide) (by decide) (by decide) (by decide)
  have k11 := hu5 11 (by decide) (by decide) (by decide) (by decide) (by decide)
  have k14 := hu5 14 (by decide) (by decide) (by decide) (by decide) (by decide)
  have k15 := hu5 15 (by decide) (by decide) (by decide) (by decide) (by decide)
  have k17 := hu5 17 (by decide) (by decide) (by decide) (by decide) (by decide)
  have k18 := hu5 18 (by decide) (by decide) (by decide) (by decide) (by decide)
  have k19 := hu5 19 (by decide) (by decide) (by decide) (by decide) (by decide)
  have hu8 : u 8 0 = nI (L + 1) := by
    rw [eu, ← e8]
    show v 8 0 = _
    rw [c1 8 (by decide) (by decide)]
  have hu12 : u 12 0 = nI (w + pcn (σ 18 j)) := by
    rw [eu]
    show v 12 0 = _
    rw [c2]
    show σ 12 0 + nI (pcn (σ 18 j)) = _
    rw [s6, nI_add]
  have hu13 : u 13 0 = σ 13 0 + 1 := by
    rw [eu, st_up_at, c1 13 (by decide) (by decide)]; rfl
  have hu16 : ∀ t, bt (u 16 0) t = (bt (σ 16 0) t && !decide (t = j)) := fun t => by
    rw [eu]
    show bt (v 16 0) t = _
    rw [c1 16 (by decide) (by decide)]
    exact bt_clr (σ 16 0) (by omega) t
  have hcell : ∀ i, i < 64 → (∀ a, a < 5 → u a i = σ a i) ∨ (σ 0 i = 0 ∧ u 0 i = 1 ∧ u 4 i = 0 ∧ u 2 i = nI (L + 1) ∧ ∃ x, x < 8 ∧ bt (σ 18 j) x = true ∧ u 1 i = nI x ∧ u 3 i = σ 19 (j * 8 + x)) := by
    intro i hi
    rcases c3 i hi with y | ⟨y1, y2, y3, y4, y5⟩
    · refine Or.inl (fun a ha => ?_)
      rw [eu, st_up_ne _ _ _ (by omega), y a ha]
      unfold cm1 clO
      rw [st_up_ne _ _ _ (by omega), st_up_ne _ _ _ (by omega)]
    · refine Or.inr ⟨y1, ?_, ?_, ?_, ?_⟩
      · rw [eu]; exact y2
      · rw [eu]; exact y3
      · rw [eu, ← e8]; exact y4
      · rw [eu]; exact y5
  have hnew : ∀ x, x < 8 → bt (σ 18 j) x = true → ∃ i, i < 64 ∧ σ 0 i = 0 ∧ u 0 i = 1 ∧ u 1 i = nI x ∧ u 2 i = nI (L + 1) ∧ u 3 i = σ 19 (j * 8 + x) := by
    intro x hx hbx
    obtain ⟨i, hi, y1, y2, y3, y4, y5⟩ := c4 x hx hbx
    refine ⟨i, hi, y1, ?_, ?_, ?_, ?_⟩
    · rw [eu]; exact y2
    · rw [eu]; exact y3
    · rw [eu, ← e8]; exact y4
    · rw [eu]; exact y5
  have hMk : ∀ x, Mk u x ↔ Mk σ x := Mk_cong k5 k6 k7
  have hfresh : ¬ Mk σ (nI (L + 1)) := by
    rw [Mk_iff b1 s4]
    rintro ⟨g, hg, _, q⟩
    obtain ⟨hi, hhi, e⟩ := hGP g hg
    rw [e] at q
    have := (nI_leI (by omega) (by omega)).mp q
    omega
  have hMtA : ∀ (T : Nat), T ≤ L → ∀ (key : Int32) (i : Nat), i < 64 → (Mt u key (nI T) i ↔ Mt σ key (nI T) i) := by
    intro T hT key i hi
    unfold Mt
    rw [hMk]
    rcases hcell i hi with y | ⟨y1, _, _, y4, _⟩
    · rw [y 0 (by omega), y 1 (by omega), y 2 (by omega)]
    · constructor
      · rintro ⟨_, _, q, _⟩
        rw [y4] at q
        have := (nI_leI (by omega) (by omega)).mp q
        omega
      · rintro ⟨q, _⟩
        exact absurd y1 q
  have hvA : ∀ (T : Int32) (key : Int32) (i : Nat), i < 64 → Mt σ key T i → u 2 i = σ 2 i ∧ u 3 i = σ 3 i := by
    intro T key i hi hM
    rcases hcell i hi with y | ⟨y1, _⟩
    · exact ⟨y 2 (by omega), y 3 (by omega)⟩
    · exact absurd y1 hM.1
  have hMtB : ∀ x, x < 8 → bt (σ 18 j) x = false → ∀ (i : Nat), i < 64 → (Mt u (nI x) (nI (L + 1)) i ↔ Mt σ (nI x) (nI L) i) := by
    intro x hx hbx i hi
    unfold Mt
    rw [hMk]
    rcases hcell i hi with y | ⟨y1, _, _, _, x', hx', hbx', y6, _⟩
    · rw [y 0 (by omega), y 1 (by omega), y 2 (by omega)]
      constructor
      · rintro ⟨q1, q2, _, q4⟩
        obtain ⟨T', K, hT', _, e9, _⟩ := hCE.1 i hi q1
        exact ⟨q1, q2, by rw [e9]; exact nI_le hT' (by omega), q4⟩
      · rintro ⟨q1, q2, q3, q4⟩
        exact ⟨q1, q2, x_trans q3 (nI_le (by omega) (by omega)), q4⟩
    · constructor
      · rintro ⟨_, q, _⟩
        rw [y6] at q
        have := nI_inj (by omega) (by omega) q
        rw [this, hbx] at hbx'
        cases hbx'
      · rintro ⟨q, _⟩
        exact absurd y1 q
  have hCh : ∀ (B : Nat), B ≤ L → ∀ x, x < 8 → (Ch u (nI B) x ↔ Ch σ (nI B) x ∨ bt (σ 18 j) x = true) := by
    intro B hB x hx
    unfold Ch
    rw [hu8, s1]
    constructor
    · rintro ⟨i, hi, hM, hlt⟩
      rcases hcell i hi with y | ⟨y1, _, _, _, x', hx', hbx', y6, _⟩
      · refine Or.inl ⟨i, hi, ?_, ?_⟩
        · obtain ⟨q1, q2, q3, q4⟩ := hM
          rw [hMk] at q4
          rw [y 0 (by omega)] at q1
          rw [y 1 (by omega)] at q2
          rw [y 2 (by omega)] at q4
          obtain ⟨T', K, hT', _, e9, _⟩ := hCE.1 i hi q1
          exact ⟨q1, q2, by rw [e9]; exact nI_le hT' (by omega), q4⟩
        · rw [y 2 (by omega)] at hlt; exact hlt
      · have q := hM.2.1
        rw [y6] at q
        have := nI_inj (by omega) (by omega) q
        rw [this] at hbx'
        exact Or.inr hbx'
    · rintro (⟨i, hi, hM, hlt⟩ | hbx)
      · rcases hcell i hi with y | ⟨y1, _⟩
        · refine ⟨i, hi, ⟨?_, ?_, ?_, ?_⟩, ?_⟩
          · rw [y 0 (by omega)]; exact hM.1
          · rw [y 1 (by omega)]; exact hM.2.1
          · rw [y 2 (by omega)]; exact x_trans hM.2.2.1 (nI_le (by omega) (by omega))
          · rw [hMk, y 2 (by omega)]; exact hM.2.2.2
          · rw [y 2 (by omega)]; exact hlt
        · exact absurd y1 hM.1
      · obtain ⟨i, hi, _, y2, y3, y4, _⟩ := hnew x hx hbx
        refine ⟨i, hi, ⟨?_, y3, ?_, ?_⟩, ?_⟩
        · rw [y2]; decide
        · rw [y4]; exact x_refl _
        · rw [hMk, y4]; exact hfresh
        · rw [y4]; exact nI_lt (by omega) (by omega)
  -- the Model's side
  obtain ⟨a1, a2, a3⟩ := ap_char (j := j) (τ := st_up (st_up τ 8 j 0) 5 0 (τ 5 0 + 1)) 8
  obtain ⟨n1, n2⟩ := sn_char (j := j) (τ := APf j (st_up (st_up τ 8 j 0) 5 0 (τ 5 0 + 1)) 8) 4
  have ez : z = SNf j (APf j (st_up (st_up τ 8 j 0) 5 0 (τ 5 0 + 1)) 8) 4 := hA
  have hz : ∀ a, a ≠ 11 → a ≠ 2 → a ≠ 7 → a ≠ 5 → a ≠ 8 → z a = τ a := fun a h1 h2 h3 h4 h5 => by rw [ez, n1 a h1, a1 a h2 h3, st_up_ne _ _ _ h4, st_up_ne _ _ _ h5]
  have z8 : z 8 = upd (τ 8) j 0 := by rw [ez, n1 8 (by decide), a1 8 (by decide) (by decide)]; rfl
  have z5 : z 5 0 = τ 5 0 + 1 := by rw [ez, n1 5 (by decide), a1 5 (by decide) (by decide)]; rfl
  have z7 : z 7 0 = nI (w + pcn (σ 18 j)) := by
    rw [ez, n1 7 (by decide), a3]
    show τ 7 0 + nI (fb_ct (fun x => bt (τ 10 j) x) 8) = _
    rw [m2, t2, nI_add]
    rfl
  have z2 : ∀ x, x < 8 → z 2 x = if bt (σ 18 j) x = true then τ 9 (8 * j + x) else τ 2 x := fun x hx => by
    rw [ez, n1 2 (by decide), a2 x]
    show (if x < 8 ∧ bt (τ 10 j) x = true then τ 9 (8 * j + x) else τ 2 x) = _
    rw [t2]
    by_cases y : bt (σ 18 j) x = true
    · rw [if_pos ⟨hx, y⟩, if_pos y]
    · rw [if_neg (fun q => y q.2), if_neg y]
  have z11 : ∀ t, t < 4 → z 11 t = τ 11 t ||| σ 18 j := fun t ht => by
    rw [ez, n2 t, if_pos ht, a1 11 (by decide) (by decide), a1 10 (by decide) (by decide)]
    show τ 11 t ||| τ 10 j = _
    rw [t2]
  have hpc : pcn (σ 18 j) ≤ oS σ := by
    have := fb_sm_part (oF (σ 16 0) (σ 18)) (i := j) (n := 4) hj
    unfold oF at this
    rw [if_pos hb] at this
    show _ ≤ fb_sm (oF (σ 16 0) (σ 18)) 4
    unfold oF
    omega
  have hoS : oS u + pcn (σ 18 j) ≤ oS σ := by
    have := sm4_set (F := oF (σ 16 0) (σ 18)) (F' := oF (u 16 0) (u 18)) (j := j) (a := pcn (σ 18 j)) (b := 0) hj (fun t ht hne => by
      unfold oF
      rw [hu16, k18, decide_eq_false hne, Bool.not_false, Bool.and_true]) (by
      unfold oF
      rw [hu16, decide_eq_true rfl, Bool.not_true, Bool.and_false, if_neg (by decide), if_pos hb]
      omega)
    exact this
  have hcU : cU u = cU σ + pcn (σ 18 j) := by
    have e1 : cU u = cU v := by rw [eu]; rfl
    rw [e1, c6]
    rfl
  have hn1 := hCN.1
  have hn2 := hCN.2
  refine ⟨L + 1, S, E, G, c, w + pcn (σ 18 j), ⟨⟨hu8, by rw [k9]; exact s2, by rw [k10]; exact s3, by rw [k5]; exact s4, by rw [k11]; exact s5, hu12⟩, ⟨b1, by omega, by omega, by omega, by omega⟩, ⟨by rw [hz 6 (by decide) (by decide) (by decide) (by decide) (by decide)]; exact m1, z7, by rw [z5, hu13, m3], by rw [hz 4 (by decide) (by decide) (by decide) (by decide) (by decide), k14]; exact m4, by rw [hz 3 (by decide) (by decide) (by decide) (by decide) (by decide), k15]; exact m5⟩⟩, ⟨?_, ?_⟩, ?_, ?_, ⟨?_, ?_⟩, ?_, ⟨?_, ?_, ?_⟩, ⟨?_, ?_⟩⟩
  · intro i hi hq
    rcases hcell i hi with y | ⟨_, _, _, y4, x, hx, _, y6, _⟩
    · rw [y 0 (by omega)] at hq
      obtain ⟨T, K, hT, hK, e1, e2⟩ := hCE.1 i hi hq
      exact ⟨T, K, by omega, hK, by rw [y 2 (by omega)]; exact e1, by rw [y 1 (by omega)]; exact e2⟩
    · exact ⟨L + 1, x, Nat.le_refl _, hx, y4, y6⟩
  · intro i i' hi hi' q1 q2 q3 q4
    rcases hcell i hi with y | ⟨y1, _, _, y4, _⟩
    · rcases hcell i' hi' with y' | ⟨_, _, _, y4', _⟩
      · rw [y 0 (by omega)] at q1
        rw [y' 0 (by omega)] at q2
        rw [y 1 (by omega), y' 1 (by omega)] at q3
        rw [y 2 (by omega), y' 2 (by omega)] at q4
        exact hCE.2 i i' hi hi' q1 q2 q3 q4
      · rw [y 0 (by omega)] at q1
        obtain ⟨T, K, hT, _, e1, _⟩ := hCE.1 i hi q1
        rw [y 2 (by omega), e1, y4'] at q4
        have := nI_inj (by omega) (by omega) q4
        omega
    · rcases hcell i' hi' with y' | ⟨y1', _, _, y4', _⟩
      · rw [y' 0 (by omega)] at q2
        obtain ⟨T, K, hT, _, e1, _⟩ := hCE.1 i' hi' q2
        rw [y' 2 (by omega), e1, y4] at q4
        have := nI_inj (by omega) (by omega) q4
        omega
      · rw [eu] at q1 q2 q3
        exact c5 i i' hi hi' y1 y1' q1 q2 q3
  · intro g hg
    obtain ⟨hi, hhi, e⟩ := hGP g hg
    exact ⟨hi, by omega, by rw [k7]; exact e⟩
  · intro x hx
    rw [hz 0 (by decide) (by decide) (by decide) (by decide) (by decide), hz 1 (by decide) (by decide) (by decide) (by decide) (by decide)]
    refine ⟨?_, VA_tr (hMtA S b3 (nI x)) (hvA _ _) (hVW x hx).2.1, fun q => VA_tr (hMtA E b4 (nI x)) (hvA _ _) ((hVW x hx).2.2 q)⟩
    rw [z2 x hx]
    by_cases y : bt (σ 18 j) x = true
    · rw [if_pos y, (t4 x hx).1 y]
      obtain ⟨i, hi, _, y2, y3, y4, y5⟩ := hnew x hx y
      refine Or.inr ⟨i, hi, y5.symm, ⟨by rw [y2]; decide, y3, by rw [y4]; exact x_refl _, by rw [hMk, y4]; exact hfresh⟩, fun i' _ hM => ?_⟩
      rw [y4]
      exact hM.2.2.1
    · rw [if_neg y]
      exact VA_tr (hMtB x hx (bt_ff y)) (hvA _ _) (hVW x hx).1
  · intro t ht
    rw [hu16, z8]
    by_cases e : t = j
    · subst e
      rw [pk_us, decide_eq_true rfl]
      exact ⟨fun q => (by rw [Bool.not_true, Bool.and_false] at q; cases q), fun q => absurd rfl q⟩
    · rw [pk_un e, decide_eq_false e, Bool.not_false, Bool.and_true]
      exact hOP.1 t ht
  · intro t ht
    rw [hu16, hOP.2 t ht]; rfl
  · intro t ht hbt
    rw [hu16] at hbt
    by_cases e : t = j
    · rw [decide_eq_true e, Bool.not_true, Bool.and_false] at hbt; cases hbt
    · rw [decide_eq_false e, Bool.not_false, Bool.and_true] at hbt
      obtain ⟨B, hB, q1, q2, q3, q4, q5⟩ := hTX t ht hbt
      refine ⟨B, by omega, by rw [k17]; exact q1, by rw [hz 10 (by decide) (by decide) (by decide) (by decide) (by decide), k18]; exact q2, fun x hx => ?_, fun x hx => ?_, fun x hx => ?_⟩
      · rw [k18] at hx; exact q3 x hx
      · rw [k18, k19, hz 9 (by decide) (by decide) (by decide) (by decide) (by decide)]
        exact ⟨(q4 x hx).1, fun y => VA_tr (hMtA B hB (nI x)) (hvA _ _) ((q4 x hx).2 y)⟩
      · rw [z11 t ht, b_or, Bool.or_eq_true, hCh B hB x hx, q5 x hx]
  · intro i hi q1 q2 q3
    rcases hcell i hi with y | ⟨_, _, _, y4, _⟩
    · rw [y 0 (by omega)] at q1
      rw [y 2 (by omega)] at q2 q3
      rw [hMk] at q3
      rw [y 4 (by omega)]
      exact d1 i hi q1 q2 q3
    · rw [y4] at q2
      have := (nI_leI (by omega) (by omega)).mp q2
      omega
  · intro hc
    have e : cT u = cT σ := by
      unfold cT
      refine fb_ct_cong (fun i hi => ?_)
      unfold pT
      rw [k10]
      rcases hcell i hi with y | ⟨y1, _, _, y4, _⟩
      · rw [y 0 (by omega), y 2 (by omega), y 4 (by omega)]
      · rw [decide_eq_false, decide_eq_false]
        · rintro ⟨q, _⟩; exact q y1
        · rintro ⟨_, _, q⟩
          rw [y4, s3] at q
          have := (nI_leI (by omega) (by omega)).mp q
          omega
    rw [e]
    exact d2 hc
  · have e1 : cU u = cU σ + fb_ct (fun i => pU u i && !pU σ i) 64 := by
      unfold cU
      rw [← fb_ct_or (p := pU σ) (q := fun i => pU u i && !pU σ i) (fun i _ y => by
        have y1 := y.1
        have y2 := y.2
        simp only [y1, Bool.not_true, Bool.and_false] at y2
        cases y2)]
      refine fb_ct_cong (fun i hi => ?_)
      cases hp : pU σ i
      · simp
      · have hq := of_decide_eq_true hp
        rcases hcell i hi with y | ⟨y1, _⟩
        · have : pU u i = true := decide_eq_true (by rw [y 0 (by omega)]; exact hq)
          rw [this]; rfl
        · exact absurd y1 hq
    have e2 : cW c u ≤ cW c σ + fb_ct (fun i => pU u i && !pU σ i) 64 := by
      unfold cW
      rw [← fb_ct_or (p := pW c σ) (q := fun i => pU u i && !pU σ i) (fun i _ y => by
        have y1 := (of_decide_eq_true y.1).1
        have y2 := y.2
        have y3 : pU σ i = true := decide_eq_true y1
        simp only [y3, Bool.not_true, Bool.and_false] at y2
        cases y2)]
      refine fb_ct_sub (fun i hi y => ?_)
      have y0 := of_decide_eq_true y
      rcases hcell i hi with q | ⟨q1, q2, _⟩
      · have : pW c σ i = true := by
          refine decide_eq_true ?_
          rw [q 0 (by omega), q 2 (by omega), q 4 (by omega), k10] at y0
          exact y0
        rw [this]; rfl
      · have h1 : pU u i = true := decide_eq_true y0.1
        have h2 : pU σ i = false := decide_eq_false (fun f => f q1)
        rw [h1, h2]
        simp
    omega
  · omega
  · omega
def P_commit (σ : St) (a1 : Int32) (r : Int32) (u : St) : Prop := (¬ OpN σ a1 ∧ r = (-1) ∧ u = σ) ∨ (∃ j, j < 4 ∧ a1 = nI j ∧ bt (σ 16 0) j = true ∧ ∃ x, CS σ (σ 17 j) 8 x ∧ ((¬ x &&& σ 18 j = 0 ∧ r = (-3) ∧ u = clO σ j) ∨ (x &&& σ 18 j = 0 ∧ σ 18 j = 0 ∧ r = 0 ∧ u = clO σ j) ∨ (x &&& σ 18 j = 0 ∧ ¬ σ 18 j = 0 ∧ r = 0 ∧ ∃ v, CLp j (cm1 σ j) 8 v ∧ u = st_up v 13 0 (v 13 0 + 1))))
def Q_commit (σ : St) (a1 : Int32) (r : Int32) (u : St) : Prop := (¬ OpM σ a1 ∧ r = (-1) ∧ u = σ) ∨ (∃ j, j < 4 ∧ a1 = nI j ∧ ¬ σ 8 j = 0 ∧ ((¬ σ 10 j &&& σ 11 j = 0 ∧ r = (-3) ∧ u = st_up σ 8 j 0) ∨ (σ 10 j &&& σ 11 j = 0 ∧ σ 10 j = 0 ∧ r = 0 ∧ u = st_up σ 8 j 0) ∨ (σ 10 j &&& σ 11 j = 0 ∧ ¬ σ 10 j = 0 ∧ r = 0 ∧ AP (st_up σ 8 j 0) j u)))
theorem s_commit {n : Nat} {σ τ u v : St} {a1 r r' : Int32} (h : INV n σ τ) (hn : n < 64) (hb : P_commit σ a1 r u) (hm : Q_commit τ a1 r' v) : r = r' ∧ INV (n + 1) u v := by
  have hOP := h.op
  rcases hb with ⟨hno, er, eu⟩ | ⟨j, hj, e, hbj, x, hx, hcase⟩
  · rcases hm with ⟨_, er', ev⟩ | ⟨j', hj', e', hb', _⟩
    · rw [er, er', eu, ev]
      exact ⟨rfl, h.mono⟩
    · exact absurd ((hOP.iff a1).mpr ⟨j', hj', e', hb'⟩) hno
  · rcases hm with ⟨hno', _, _⟩ | ⟨j', hj', e', hb', hcase'⟩
    · exact absurd ((hOP.iff a1).mp ⟨j, hj, e, hbj⟩) hno'
    · have ej := nI_inj (by omega) (by omega) (e.symm.trans e')
      subst ej
      have hce := conf_eq h hj hbj hx
      have hwr : τ 10 j = σ 18 j := by
        obtain ⟨L, S, E, G, c, w, hSC, hCE, hGP, hVW, hOP, hTX, _⟩ := h
        obtain ⟨B, _, _, q, _⟩ := hTX j hj hbj
        exact q
      rw [hce] at hcase
      rw [← hwr] at hcase
      rcases hcase with ⟨q1, er, eu⟩ | ⟨q1, q2, er, eu⟩ | ⟨q1, q2, er, w, hC, eu⟩
      · rcases hcase' with ⟨_, er', ev⟩ | ⟨q1', _⟩ | ⟨q1', _⟩
        · rw [er, er', eu, ev]
          exact ⟨rfl, s_close h hj⟩
        · exact absurd q1' q1
        · exact absurd q1' q1
      · rcases hcase' with ⟨q1', _⟩ | ⟨_, _, er', ev⟩ | ⟨_, q2', _⟩
        · exact absurd q1 q1'
        · rw [er, er', eu, ev]
          exact ⟨rfl, s_close h hj⟩
        · exact absurd q2 q2'
      · rcases hcase' with ⟨q1', _⟩ | ⟨_, q2', _⟩ | ⟨_, _, er', hA⟩
        · exact absurd q1 q1'
        · exact absurd q2' q2
        · rw [er, er']
          exact ⟨rfl, s_apply h hn hj hbj hC eu hA⟩
end
section
set_option maxRecDepth 100000
/-! THE CLAIM OUT OF ONE WALK OF THE LAW'S BODY. Your part is whole_start (and what it stands on); all else here is the same for every law, but numbers. -/
def R_law : String := "BehindStoreLaw"
def lw_P (b : Addr) (xs : List Int32) (args : Array Value) (s : State) : Prop := args = #[.ref b] ∧ s.IntsAt b xs ∧ xs.length ≤ 256 ∧ (Jvm.Cond.and given_1 narrow_1).before args s = true
def lw_Q (_ : Array Value) (s : State) (o : Outcome) (t : State) : Prop := o = .returned (some (.int 1)) ∧ Framed s o t [] 600000 7290000
def lw_Z (below : List Frame) (a : Array Value) (s : State) : State → Prop := fun t => ∃ o, t.status = .running ∧ Ended t below o ∧ lw_Q a s o t
/-- the law's own end, with 1 on the stack, nothing written that was there before, its room as the claim has it -/
theorem lw_ret {p : Program} {l : Launch} {e : Env} {s : State} {m : MethodId} {below : List Frame} {meth : Method} {c : Code} {b : Nat} (hx : p.tables.exec = Jvm.exec) (hb : c.code = code) (hr : meth.sig.returnType = ret) (hlocks : meth.locks = false) {pc : Nat} {H : Heap} {ls : Array Slot} (hdg : decode code pc = .ok (.ireturn, 1)) : W p l e room_1 s m #[Value.ref b] below meth c H [] 600000 7290000 (lw_Z below #[Value.ref b] s) (F0 m pc ls [.int 1]) := by
  intro T hT X
  obtain ⟨fs, hret, hrun, hended, hW, hframe⟩ := X.leave (v := some (.int 1)) (hlocks := hlocks) (fun h => by rw [hr] at h; cases h)
  have hmeth' : T.vm.method? m = some meth := X.method'
  refine ⟨T.setFrames fs, ?_, .returned (some (.int 1)), hrun, hended, rfl, ⟨_, rfl⟩, hW, hframe⟩
  jvm_step X.here [X.here.top, hx, hb, hdg, hmeth', hr, ret, narrow_b1]
  (try refine ⟨rfl, ?_⟩); (try refine ⟨rfl, ?_⟩)
  first | (intro acts; rw [hret _ acts rfl rfl rfl]) | rw [hret _ _ rfl rfl rfl]
  exact Steps.refl _
/-- what holds at the law's entry: the machine, the code, the tables' words (any of lw_tbl by 'hts w (by decide +kernel)'), the script of L ints xs at the cell b, what the Statement gives of the start (any of its parts by flat_of_before) -/
def lw_At (p : Program) (s : State) (m : MethodId) (meth : Method) (c : Code) (b L : Nat) (xs : Nat → Int32) : Prop :=
  p.tables.exec = Jvm.exec ∧ c.code = code ∧ meth.sig.returnType = ret ∧ c.maxLocals = 4 ∧ s.vm.findClass R_law = some m.cls ∧ (∀ w ∈ lw_tbl, w.before #[Value.ref b] s = true) ∧ va_X b L xs s s.heap ∧ b < s.heap.size ∧ meth.locks = false ∧ (Jvm.Cond.and given_1 narrow_1).before #[Value.ref b] s = true
end
section
set_option maxRecDepth 100000
def aB (q : Nat → Nat) : List Nat := [q 20, q 0, q 1, q 2, q 3, q 4, q 6, q 7, q 17, q 18, q 19]
def aM (q : Nat → Nat) : List Nat := [q 20, q 0, q 1, q 2, q 8, q 9, q 10, q 11]
def DJ (qB qM : Nat → Nat) : Prop := ∀ x ∈ aB qB, ∀ y ∈ aM qM, x ≠ y
theorem mem_aB {q : Nat → Nat} {d : Nat → ClassId} {σ : St} {i : Nat} {p : Nat × va_E} (h : (wB q d σ)[i]? = some p) : p.1 ∈ aB q := by
  have h2 := List.mem_map_of_mem (f := Prod.fst) (List.mem_of_getElem? h)
  exact h2
theorem mem_aM {q : Nat → Nat} {d : Nat → ClassId} {σ : St} {i : Nat} {p : Nat × va_E} (h : (wM q d σ)[i]? = some p) : p.1 ∈ aM q := by
  have h2 := List.mem_map_of_mem (f := Prod.fst) (List.mem_of_getElem? h)
  exact h2
section LAWC
variable {p : Program} {l : Launch} {e : Env} {R : Room} {s : State} {m : MethodId} {args : Array Value} {below : List Frame} {meth : Method} {c : Code} {H : Heap} {locs : List Loc} {cells slots : Nat} {Q : State → Prop} {cc : ByteArray} {pc L fr lc : Nat} {ls : Array Slot} {rest : List Value} {A : Nat → Prop} {D : va_G} {own : String} {t : List (ClassId × FieldType)} {w w2 : St → va_W} {σ τ : St}
theorem rest_kept (hW : WD D w A s σ H locs) (hW2 : WD D w2 A s τ H locs) (hdj : ∀ (i j : Nat) (p q : Nat × va_E), (w σ)[i]? = some p → (w2 τ)[j]? = some q → p.1 ≠ q.1) {H1 : Heap} (hk : ∀ q : Nat, q < H.size → ¬ va_A (w σ) H.size q → H1[q]? = H[q]?) : va_P D vwCl (w2 τ) H1 := by
  intro k q hq
  have hl := (hW2.1 k q hq).lt
  refine (hW2.1 k q hq).kept (hk q.1 hl (fun h => ?_))
  rcases h with ⟨i, e, hi⟩ | h
  · exact hdj i k (q.1, e) q hi hq rfl
  · omega
/-- a call of one of two objects: the other's world stays -/
theorem call2I {y : MethodName} {bytes : ByteArray} {maxL fr' lc' index n ci : Nat} {ty : FieldType} {b : Nat} {As st : List Value} {post : Int32 → St → Prop} {r0 : vw_C} {fs : List Value} (E : EV p s R m args c cc L fr lc own A D t) (hW : WD D w A s σ H locs) (hW2 : WD D w2 A s τ H locs) (hdj : ∀ (i j : Nat) (p q : Nat × va_E), (w σ)[i]? = some p → (w2 τ)[j]? = some q → p.1 ≠ q.1)
    (hM : MI l D w t y bytes maxL ty fr' lc' (.ref b :: As) σ post) (hg : GoodIn lw_all (wsV own index r0.1 y (ws_ y bytes maxL (some ty))))
    (hd : y.cls = r0.1 ∧ y.cls ≠ "java/lang/invoke/MethodHandle" ∧ y.cls ≠ "java/lang/invoke/VarHandle" ∧ (parseMethodDescriptor y.desc).map (fun d => d.parameters.length) = some n)
    (hR : fr' + 1 ≤ fr ∧ 8 + (maxL + 11) + lc' ≤ lc) (hcs : cells ≤ R.cells ∧ slots ≤ R.slots) (hc : vwCl[ci]? = some r0) (he : (w σ)[0]? = some (b, .inr (ci, fs))) (hn : As.length = n) (hsize : ls.size = L) (hst : st = As.reverse ++ .ref b :: rest) (hroom : (rest.map fun v => v.category).sum ≤ 8)
    (hdg : decode cc pc = .ok (.invokevirtual index, 3))
    (kk : ∀ (r : Int32) (u : St) (H : Heap) (locs : List Loc), post r u → WD D w A s u H locs → WD D w2 A s τ H locs → W p l e R s m args below meth c H locs cells slots Q (F0 m (pc + 3) ls (.int r :: rest))) : W p l e R s m args below meth c H locs cells slots Q (F0 m pc ls st) := by
  have hF := wd_free E.hA hW
  refine va_calli (va_runV (As := As) (rest := rest) ⟨E.hx, E.hb, E.hml, E.hown, E.hts⟩ (hM H.size) (cwV n E.hts hg rfl rfl rfl hd ⟨Nat.le_trans hR.1 E.hR.1, Nat.le_trans hR.2 E.hR.2⟩) ⟨wd_blind, va_recv E.hK hW.1 hc he, wd_start E.hK hW⟩ rfl hn hsize hst (lv_room hroom) hdg hcs) hW.2.2 (fun q _ h => hF q h) hF (fun r u t H1 locs1 ht hvm hp hB hz hk hS => ?_)
  obtain ⟨hP1, hK1, hD1⟩ := hB
  rw [ht] at hP1
  exact kk r u H1 locs1 hp ⟨hP1, hD1.weaken (fun k q _ h => hF q.1 h), hS⟩ ⟨rest_kept hW hW2 hdj hk, hW2.2.1, hS⟩
theorem call2V {y : MethodName} {bytes : ByteArray} {maxL fr' lc' index n ci : Nat} {b : Nat} {As st : List Value} {post : St → Prop} {r0 : vw_C} {fs : List Value} (E : EV p s R m args c cc L fr lc own A D t) (hW : WD D w A s σ H locs) (hW2 : WD D w2 A s τ H locs) (hdj : ∀ (i j : Nat) (p q : Nat × va_E), (w σ)[i]? = some p → (w2 τ)[j]? = some q → p.1 ≠ q.1)
    (hM : MV l D w t y bytes maxL fr' lc' (.ref b :: As) σ post) (hg : GoodIn lw_all (wsV own index r0.1 y (ws_ y bytes maxL none)))
    (hd : y.cls = r0.1 ∧ y.cls ≠ "java/lang/invoke/MethodHandle" ∧ y.cls ≠ "java/lang/invoke/VarHandle" ∧ (parseMethodDescriptor y.desc).map (fun d => d.parameters.length) = some n)
    (hR : fr' + 1 ≤ fr ∧ 8 + (maxL + 11) + lc' ≤ lc) (hcs : cells ≤ R.cells ∧ slots ≤ R.slots) (hc : vwCl[ci]? = some r0) (he : (w σ)[0]? = some (b, .inr (ci, fs))) (hn : As.length = n) (hsize : ls.size = L) (hst : st = As.reverse ++ .ref b :: rest) (hroom : (rest.map fun v => v.category).sum ≤ 8)
    (hdg : decode cc pc = .ok (.invokevirtual index, 3))
    (kk : ∀ (u : St) (H : Heap) (locs : List Loc), post u → WD D w A s u H locs → WD D w2 A s τ H locs → W p l e R s m args below meth c H locs cells slots Q (F0 m (pc + 3) ls rest)) : W p l e R s m args below meth c H locs cells slots Q (F0 m pc ls st) := by
  have hF := wd_free E.hA hW
  refine va_callv (va_runV (As := As) (rest := rest) ⟨E.hx, E.hb, E.hml, E.hown, E.hts⟩ (hM H.size) (cwV n E.hts hg rfl rfl rfl hd ⟨Nat.le_trans hR.1 E.hR.1, Nat.le_trans hR.2 E.hR.2⟩) ⟨wd_blind, va_recv E.hK hW.1 hc he, wd_start E.hK hW⟩ rfl hn hsize hst (lv_room hroom) hdg hcs) hW.2.2 (fun q _ h => hF q h) hF (fun u t H1 locs1 ht hvm hp hB hz hk hS => ?_)
  obtain ⟨hP1, hK1, hD1⟩ := hB
  rw [ht] at hP1
  exact kk u H1 locs1 hp ⟨hP1, hD1.weaken (fun k q _ h => hF q.1 h), hS⟩ ⟨rest_kept hW hW2 hdj hk, hW2.2.1, hS⟩
theorem s_ld {b N j : Nat} {xs : Nat → Int32} (hexec : p.tables.exec = Jvm.exec) (hb : c.code = cc) (hX : va_X b N xs s s.heap) (hbl : b < s.heap.size) (hbA : ¬ A b) (hS : va_S A s.heap H locs) (hj : j < N) (hN : N ≤ 256) (hdg : decode cc pc = .ok (.iaload, 1))
    (kk : W p l e R s m args below meth c H locs cells slots Q (F0 m (pc + 1) ls (.int (xs j) :: rest))) : W p l e R s m args below meth c H locs cells slots Q (F0 m pc ls (.int (nI j) :: .ref b :: rest)) := by
  refine va_sld hexec hb hX hbl hbA hS (vp_in_nI hj (by omega)) hdg ?_
  rw [nI_clamp (by omega)]
  exact kk
end LAWC
end
section
set_option maxRecDepth 100000
set_option maxHeartbeats 8000000 in
/-- the law's loop: k calls are done, the two states agree -/
theorem law_loop {p : Program} {l : Launch} {e : Env} {s : State} {m : MethodId} {below : List Frame} {meth : Method} {c : Code} {D : va_G} {b L : Nat} {xs : Nat → Int32} (hL : L ≤ 256) (C0 : lw_At p s m meth c b L xs) {qB qM : Nat → Nat} {dB dM : Nat → ClassId} (hKB : va_K D vwCl (tB dB) s) (hKM : va_K D vwCl (tM dM) s) (hdj : DJ qB qM) :
    ∀ (n k : Nat) (σ τ : St), 64 < k + n → k ≤ 64 → INV k σ τ → ∀ (H : Heap) (locs : List Loc) (ls : Array Slot), WD D (wB qB dB) (fun q : Nat => s.heap.size ≤ q) s σ H locs → WD D (wM qM dM) (fun q : Nat => s.heap.size ≤ q) s τ H locs → lv_has ls 4 [(3, .int (nI (4 * k))), (2, .ref (qM 20)), (1, .ref (qB 20)), (0, .ref b)] → W p l e room_1 s m #[Value.ref b] below meth c H locs 19 468 (lw_Z below #[Value.ref b] s) (F0 m 18 ls []) := by
  obtain ⟨hx, hb, hr, hml, hown, hts0, hX, hbl, hlocks, hgv⟩ := C0
  have hts : ∀ w ∈ lw_all, w.before #[Value.ref b] s = true := fun w h => hts0 w (lw_all_tbl h)
  have hA : ∀ q : Nat, s.heap.size ≤ q → (fun q : Nat => s.heap.size ≤ q) q := fun _ h => h
  have hbA : ¬ (fun q : Nat => s.heap.size ≤ q) b := Nat.not_le.mpr hbl
  have EB : EV p s room_1 m #[Value.ref b] c code 4 8 274 R_law (fun q : Nat => s.heap.size ≤ q) D (tB dB) := ⟨hx, hb, hml, hown, hts, hA, ⟨Nat.le_refl _, Nat.le_refl _⟩, hKB⟩
  have EM : EV p s room_1 m #[Value.ref b] c code 4 8 274 R_law (fun q : Nat => s.heap.size ≤ q) D (tM dM) := ⟨hx, hb, hml, hown, hts, hA, ⟨Nat.le_refl _, Nat.le_refl _⟩, hKM⟩
  have hBM : ∀ (σ τ : St) (i j : Nat) (p q : Nat × va_E), (wB qB dB σ)[i]? = some p → (wM qM dM τ)[j]? = some q → p.1 ≠ q.1 := fun σ τ i j p q h1 h2 => hdj _ (mem_aB h1) _ (mem_aM h2)
  have hMB : ∀ (σ τ : St) (i j : Nat) (p q : Nat × va_E), (wM qM dM τ)[i]? = some p → (wB qB dB σ)[j]? = some q → p.1 ≠ q.1 := fun σ τ i j p q h1 h2 e => hdj _ (mem_aB h2) _ (mem_aM h1) e.symm
  intro n
  induction n with
  | zero =>
    intro k σ τ hn hk
    exact absurd hn (by omega)
  | succ n ih =>
    intro k σ τ hn hk hI H locs ls hWB hWM hl
    have hcs : 19 ≤ room_1.cells ∧ 468 ≤ room_1.slots := ⟨Nat.le_of_ble_eq_true rfl, Nat.le_of_ble_eq_true rfl⟩
    refine lv_iload_n hx hb dL_law_18 rfl (lv_at hl 0 rfl) ?_
    refine lv_aload_n hx hb dL_law_19 rfl (lv_at hl 3 rfl) ?_
    refine va_slen hx hb hX hbl hbA hWB.2.2 dL_law_20 ?_
    refine lv_iconst (v := nI 4) hx hb dL_law_21 (by decide) ?_
    refine lv_isub hx hb dL_law_22 ?_
    refine lv_icmp_gt (tgt := 417) hx hb dL_law_23 (by decide) (fun h23 => ?_) (fun h23 => ?_)
    · refine lv_iconst (v := 1) hx hb dL_law_417 (by decide) ?_
      refine va_forget (fun q hq => hWB.2.2.2.2 q hq) ?_
      refine W.widen (k := 600000) (n := 7290000) (by omega) (by omega) ?_
      exact lw_ret hx hb hr hlocks dL_law_418
    · have h4 : 4 * k + 4 ≤ L := by
        have h23 : ¬ (nI L - nI 4) < nI (4 * k) := h23
        rw [Int32.lt_iff_toInt_lt, pk_sub_toInt (by omega) (by omega), nI_toInt (by omega)] at h23
        omega
      have hk64 : k < 64 := by omega
      have tail : ∀ (u v : St) (H : Heap) (locs : List Loc), INV (k + 1) u v → WD D (wB qB dB) (fun q : Nat => s.heap.size ≤ q) s u H locs → WD D (wM qM dM) (fun q : Nat => s.heap.size ≤ q) s v H locs → W p l e room_1 s m #[Value.ref b] below meth c H locs 19 468 (lw_Z below #[Value.ref b] s) (F0 m 411 ls []) := by
        intro u v H locs hI hWB hWM
        refine lv_iinc (v := nI (4 * (k + 1))) (lv' := [(3, .int (nI (4 * (k + 1)))), (2, .ref (qM 20)), (1, .ref (qB 20)), (0, .ref b)]) hx hb dL_law_411 hl (k := 0) rfl (by show nI (4 * k) + nI 4 = nI (4 * (k + 1)); rw [nI_add, Nat.mul_succ]) (by decide) rfl (fun ls hl => ?_)
        refine lv_goto (tgt := 18) hx hb dL_law_414 (by decide) ?_
        exact ih (k + 1) u v (by omega) (by omega) hI _ _ _ hWB hWM hl
      refine lv_aload_n hx hb dL_law_26 rfl (lv_at hl 3 rfl) ?_
      refine lv_iload_n hx hb dL_law_27 rfl (lv_at hl 0 rfl) ?_
      refine s_ld hx hb hX hbl hbA hWB.2.2 (by omega) hL dL_law_28 ?_
      refine lv_bipush (v := 15) hx hb dL_law_29 (by decide) ?_
      refine lv_iand hx hb dL_law_31 ?_
      obtain ⟨j, hj, ej⟩ := pk_andE (xs (4 * k)) (m := 15) 4 (by decide)
      refine lv_topi (fun z ez => ?_)
      obtain rfl : z = nI j := ez.trans ej
      rcases (show j = 0 ∨ j = 1 ∨ j = 2 ∨ j = 3 ∨ j = 4 ∨ j = 5 ∨ j = 6 ∨ j = 7 ∨ j = 8 ∨ j = 9 ∨ j = 10 ∨ j = 11 ∨ j = 12 ∨ j = 13 ∨ j = 14 ∨ j = 15 by omega) with rfl | rfl | rfl | rfl | rfl | rfl | rfl | rfl | rfl | rfl | rfl | rfl | rfl | rfl | rfl | rfl
      · refine lv_tableIn (tgt := 108) (off := 76) hx hb dL_law_32 (by decide +kernel) (by decide +kernel) (by decide +kernel) (by decide) ?_
        refine lv_aload_n hx hb dL_law_108 rfl (lv_at hl 2 rfl) ?_
        refine call2I (n := 0) (As := []) (rest := []) EB hWB hWM (hBM _ _) (mB_begin l D qB dB σ) (lw_V q89 q90 q91 q15 q92) (by decide +kernel) ⟨by decide, by decide⟩ hcs (ci := 0) rfl rfl rfl hl.1 rfl (Nat.le_of_ble_eq_true rfl) dL_law_109 (fun r1 u1 H locs hr1 hWB hWM => ?_)
        refine lv_aload_n hx hb dL_law_112 rfl (lv_at hl 1 rfl) ?_
        refine call2I (n := 0) (As := []) (rest := [.int r1]) EM hWM hWB (hMB _ _) (mM_begin l D qM dM τ) (lw_V q239 q240 q241 q16 q242) (by decide +kernel) ⟨by decide, by decide⟩ hcs (ci := 1) rfl rfl rfl hl.1 rfl (Nat.le_of_ble_eq_true rfl) dL_law_113 (fun r2 u2 H locs hr2 hWM hWB => ?_)
        obtain ⟨er, hI⟩ := s_begin hI hk64 hr1 hr2
        refine lv_icmp_eq (tgt := 411) hx hb dL_law_116 (by decide) (fun h116 => ?_) (fun h116 => ?_)
        · exact tail _ _ _ _ hI hWB hWM
        · exact absurd er h116
      · refine lv_tableIn (tgt := 121) (off := 89) hx hb dL_law_32 (by decide +kernel) (by decide +kernel) (by decide +kernel) (by decide) ?_
        refine lv_aload_n hx hb dL_law_121 rfl (lv_at hl 2 rfl) ?_
        refine lv_aload_n hx hb dL_law_122 rfl (lv_at hl 3 rfl) ?_
        refine lv_iload_n hx hb dL_law_123 rfl (lv_at hl 0 rfl) ?_
        refine lv_iconst (v := nI 1) hx hb dL_law_124 (by decide) ?_
        refine lv_iadd hx hb dL_law_125 ?_
        refine lv_topi (fun z125 ez125 => ?_)
        obtain rfl : z125 = nI (4 * k + 1) := ez125.trans (nI_add _ _)
        refine s_ld hx hb hX hbl hbA hWB.2.2 (by omega) hL dL_law_126 ?_
        refine lv_aload_n hx hb dL_law_127 rfl (lv_at hl 3 rfl) ?_
        refine lv_iload_n hx hb dL_law_128 rfl (lv_at hl 0 rfl) ?_
        refine lv_iconst (v := nI 2) hx hb dL_law_129 (by decide) ?_
        refine lv_iadd hx hb dL_law_130 ?_
        refine lv_topi (fun z130 ez130 => ?_)
        obtain rfl : z130 = nI (4 * k + 2) := ez130.trans (nI_add _ _)
        refine s_ld hx hb hX hbl hbA hWB.2.2 (by omega) hL dL_law_131 ?_
        refine lv_aload_n hx hb dL_law_132 rfl (lv_at hl 3 rfl) ?_
        refine lv_iload_n hx hb dL_law_133 rfl (lv_at hl 0 rfl) ?_
        refine lv_iconst (v := nI 3) hx hb dL_law_134 (by decide) ?_
        refine lv_iadd hx hb dL_law_135 ?_
        refine lv_topi (fun z135 ez135 => ?_)
        obtain rfl : z135 = nI (4 * k + 3) := ez135.trans (nI_add _ _)
        refine s_ld hx hb hX hbl hbA hWB.2.2 (by omega) hL dL_law_136 ?_
        refine call2I (n := 3) (As := [.int (xs (4 * k + 1)), .int (xs (4 * k + 2)), .int (xs (4 * k + 3))]) (rest := []) EB hWB hWM (hBM _ _) (mB_write l D qB dB σ (xs (4 * k + 1)) (xs (4 * k + 2)) (xs (4 * k + 3))) (lw_V q97 q98 q99 q15 q100) (by decide +kernel) ⟨by decide, by decide⟩ hcs (ci := 0) rfl rfl rfl hl.1 rfl (Nat.le_of_ble_eq_true rfl) dL_law_137 (fun r1 u1 H locs hr1 hWB hWM => ?_)
        refine lv_aload_n hx hb dL_law_140 rfl (lv_at hl 1 rfl) ?_
        refine lv_aload_n hx hb dL_law_141 rfl (lv_at hl 3 rfl) ?_
        refine lv_iload_n hx hb dL_law_142 rfl (lv_at hl 0 rfl) ?_
        refine lv_iconst (v := nI 1) hx hb dL_law_143 (by decide) ?_
        refine lv_iadd hx hb dL_law_144 ?_
        refine lv_topi (fun z144 ez144 => ?_)
        obtain rfl : z144 = nI (4 * k + 1) := ez144.trans (nI_add _ _)
        refine s_ld hx hb hX hbl hbA hWB.2.2 (by omega) hL dL_law_145 ?_
        refine lv_aload_n hx hb dL_law_146 rfl (lv_at hl 3 rfl) ?_
        refine lv_iload_n hx hb dL_law_147 rfl (lv_at hl 0 rfl) ?_
        refine lv_iconst (v := nI 2) hx hb dL_law_148 (by decide) ?_
        refine lv_iadd hx hb dL_law_149 ?_
        refine lv_topi (fun z149 ez149 => ?_)
        obtain rfl : z149 = nI (4 * k + 2) := ez149.trans (nI_add _ _)
        refine s_ld hx hb hX hbl hbA hWB.2.2 (by omega) hL dL_law_150 ?_
        refine lv_aload_n hx hb dL_law_151 rfl (lv_at hl 3 rfl) ?_
        refine lv_iload_n hx hb dL_law_152 rfl (lv_at hl 0 rfl) ?_
        refine lv_iconst (v := nI 3) hx hb dL_law_153 (by decide) ?_
        refine lv_iadd hx hb dL_law_154 ?_
        refine lv_topi (fun z154 ez154 => ?_)
        obtain rfl : z154 = nI (4 * k + 3) := ez154.trans (nI_add _ _)
        refine s_ld hx hb hX hbl hbA hWB.2.2 (by omega) hL dL_law_155 ?_
        refine call2I (n := 3) (As := [.int (xs (4 * k + 1)), .int (xs (4 * k + 2)), .int (xs (4 * k + 3))]) (rest := [.int r1]) EM hWM hWB (hMB _ _) (mM_write l D qM dM τ (xs (4 * k + 1)) (xs (4 * k + 2)) (xs (4 * k + 3))) (lw_V q243 q244 q245 q16 q246) (by decide +kernel) ⟨by decide, by decide⟩ hcs (ci := 1) rfl rfl rfl hl.1 rfl (Nat.le_of_ble_eq_true rfl) dL_law_156 (fun r2 u2 H locs hr2 hWM hWB => ?_)
        obtain ⟨er, hI⟩ := s_write hI hk64 hr1 hr2
        refine lv_icmp_eq (tgt := 411) hx hb dL_law_159 (by decide) (fun h159 => ?_) (fun h159 => ?_)
        · exact tail _ _ _ _ hI hWB hWM
        · exact absurd er h159
      · refine lv_tableIn (tgt := 164) (off := 132) hx hb dL_law_32 (by decide +kernel) (by decide +kernel) (by decide +kernel) (by decide) ?_
        refine lv_aload_n hx hb dL_law_164 rfl (lv_at hl 2 rfl) ?_
        refine lv_aload_n hx hb dL_law_165 rfl (lv_at hl 3 rfl) ?_
        refine lv_iload_n hx hb dL_law_166 rfl (lv_at hl 0 rfl) ?_
        refine lv_iconst (v := nI 1) hx hb dL_law_167 (by decide) ?_
        refine lv_iadd hx hb dL_law_168 ?_
        refine lv_topi (fun z168 ez168 => ?_)
        obtain rfl : z168 = nI (4 * k + 1) := ez168.trans (nI_add _ _)
        refine s_ld hx hb hX hbl hbA hWB.2.2 (by omega) hL dL_law_169 ?_
        refine lv_aload_n hx hb dL_law_170 rfl (lv_at hl 3 rfl) ?_
        refine lv_iload_n hx hb dL_law_171 rfl (lv_at hl 0 rfl) ?_
        refine lv_iconst (v := nI 2) hx hb dL_law_172 (by decide) ?_
        refine lv_iadd hx hb dL_law_173 ?_
        refine lv_topi (fun z173 ez173 => ?_)
        obtain rfl : z173 = nI (4 * k + 2) := ez173.trans (nI_add _ _)
        refine s_ld hx hb hX hbl hbA hWB.2.2 (by omega) hL dL_law_174 ?_
        refine call2I (n := 2) (As := [.int (xs (4 * k + 1)), .int (xs (4 * k + 2))]) (rest := []) EB hWB hWM (hBM _ _) (mB_read l D qB dB σ (xs (4 * k + 1)) (xs (4 * k + 2)) hI.okG) (lw_V q104 q105 q106 q15 q107) (by decide +kernel) ⟨by decide, by decide⟩ hcs (ci := 0) rfl rfl rfl hl.1 rfl (Nat.le_of_ble_eq_true rfl) dL_law_175 (fun r1 u1 H locs hr1 hWB hWM => ?_)
        refine lv_aload_n hx hb dL_law_178 rfl (lv_at hl 1 rfl) ?_
        refine lv_aload_n hx hb dL_law_179 rfl (lv_at hl 3 rfl) ?_
        refine lv_iload_n hx hb dL_law_180 rfl (lv_at hl 0 rfl) ?_
        refine lv_iconst (v := nI 1) hx hb dL_law_181 (by decide) ?_
        refine lv_iadd hx hb dL_law_182 ?_
        refine lv_topi (fun z182 ez182 => ?_)
        obtain rfl : z182 = nI (4 * k + 1) := ez182.trans (nI_add _ _)
        refine s_ld hx hb hX hbl hbA hWB.2.2 (by omega) hL dL_law_183 ?_
        refine lv_aload_n hx hb dL_law_184 rfl (lv_at hl 3 rfl) ?_
        refine lv_iload_n hx hb dL_law_185 rfl (lv_at hl 0 rfl) ?_
        refine lv_iconst (v := nI 2) hx hb dL_law_186 (by decide) ?_
        refine lv_iadd hx hb dL_law_187 ?_
        refine lv_topi (fun z187 ez187 => ?_)
        obtain rfl : z187 = nI (4 * k + 2) := ez187.trans (nI_add _ _)
        refine s_ld hx hb hX hbl hbA hWB.2.2 (by omega) hL dL_law_188 ?_
        refine call2I (n := 2) (As := [.int (xs (4 * k + 1)), .int (xs (4 * k + 2))]) (rest := [.int r1]) EM hWM hWB (hMB _ _) (mM_read l D qM dM τ (xs (4 * k + 1)) (xs (4 * k + 2))) (lw_V q255 q256 q257 q16 q258) (by decide +kernel) ⟨by decide, by decide⟩ hcs (ci := 1) rfl rfl rfl hl.1 rfl (Nat.le_of_ble_eq_true rfl) dL_law_189 (fun r2 u2 H locs hr2 hWM hWB => ?_)
        obtain ⟨er, hI⟩ := s_read hI hr1 hr2
        refine lv_icmp_eq (tgt := 411) hx hb dL_law_192 (by decide) (fun h192 => ?_) (fun h192 => ?_)
        · exact tail _ _ _ _ hI hWB hWM
        · exact absurd er h192
      · refine lv_tableIn (tgt := 197) (off := 165) hx hb dL_law_32 (by decide +kernel) (by decide +kernel) (by decide +kernel) (by decide) ?_
        refine lv_aload_n hx hb dL_law_197 rfl (lv_at hl 2 rfl) ?_
        refine lv_aload_n hx hb dL_law_198 rfl (lv_at hl 3 rfl) ?_
        refine lv_iload_n hx hb dL_law_199 rfl (lv_at hl 0 rfl) ?_
        refine lv_iconst (v := nI 1) hx hb dL_law_200 (by decide) ?_
        refine lv_iadd hx hb dL_law_201 ?_
        refine lv_topi (fun z201 ez201 => ?_)
        obtain rfl : z201 = nI (4 * k + 1) := ez201.trans (nI_add _ _)
        refine s_ld hx hb hX hbl hbA hWB.2.2 (by omega) hL dL_law_202 ?_
        refine call2I (n := 1) (As := [.int (xs (4 * k + 1))]) (rest := []) EB hWB hWM (hBM _ _) (mB_commit l D qB dB σ (xs (4 * k + 1)) hI.okG (fun j k9 v hj hk9 _ hb9 hC hbk => cl_free hI hk64 hj hk9 hb9 hC hbk)) (lw_V q120 q121 q122 q15 q123) (by decide +kernel) ⟨by decide, by decide⟩ hcs (ci := 0) rfl rfl rfl hl.1 rfl (Nat.le_of_ble_eq_true rfl) dL_law_203 (fun r1 u1 H locs hr1 hWB hWM => ?_)
        refine lv_aload_n hx hb dL_law_206 rfl (lv_at hl 1 rfl) ?_
        refine lv_aload_n hx hb dL_law_207 rfl (lv_at hl 3 rfl) ?_
        refine lv_iload_n hx hb dL_law_208 rfl (lv_at hl 0 rfl) ?_
        refine lv_iconst (v := nI 1) hx hb dL_law_209 (by decide) ?_
        refine lv_iadd hx hb dL_law_210 ?_
        refine lv_topi (fun z210 ez210 => ?_)
        obtain rfl : z210 = nI (4 * k + 1) := ez210.trans (nI_add _ _)
        refine s_ld hx hb hX hbl hbA hWB.2.2 (by omega) hL dL_law_211 ?_
        refine call2I (n := 1) (As := [.int (xs (4 * k + 1))]) (rest := [.int r1]) EM hWM hWB (hMB _ _) (mM_commit l D qM dM τ (xs (4 * k + 1))) (lw_V q259 q260 q261 q16 q262) (by decide +kernel) ⟨by decide, by decide⟩ hcs (ci := 1) rfl rfl rfl hl.1 rfl (Nat.le_of_ble_eq_true rfl) dL_law_212 (fun r2 u2 H locs hr2 hWM hWB => ?_)
        obtain ⟨er, hI⟩ := s_commit hI hk64 hr1 hr2
        refine lv_icmp_eq (tgt := 411) hx hb dL_law_215 (by decide) (fun h215 => ?_) (fun h215 => ?_)
        · exact tail _ _ _ _ hI hWB hWM
        · exact absurd er h215
      · refine lv_tableIn (tgt := 220) (off := 188) hx hb dL_law_32 (by decide +kernel) (by decide +kernel) (by decide +kernel) (by decide) ?_
        refine lv_aload_n hx hb dL_law_220 rfl (lv_at hl 2 rfl) ?_
        refine lv_aload_n hx hb dL_law_221 rfl (lv_at hl 3 rfl) ?_
        refine lv_iload_n hx hb dL_law_222 rfl (lv_at hl 0 rfl) ?_
        refine lv_iconst (v := nI 1) hx hb dL_law_223 (by decide) ?_
        refine lv_iadd hx hb dL_law_224 ?_
        refine lv_topi (fun z224 ez224 => ?_)
        obtain rfl : z224 = nI (4 * k + 1) := ez224.trans (nI_add _ _)
        refine s_ld hx hb hX hbl hbA hWB.2.2 (by omega) hL dL_law_225 ?_
        refine call2I (n := 1) (As := [.int (xs (4 * k + 1))]) (rest := []) EB hWB hWM (hBM _ _) (mB_abort l D qB dB σ (xs (4 * k + 1))) (lw_V q144 q145 q146 q15 q147) (by decide +kernel) ⟨by decide, by decide⟩ hcs (ci := 0) rfl rfl rfl hl.1 rfl (Nat.le_of_ble_eq_true rfl) dL_law_226 (fun r1 u1 H locs hr1 hWB hWM => ?_)
        refine lv_aload_n hx hb dL_law_229 rfl (lv_at hl 1 rfl) ?_
        refine lv_aload_n hx hb dL_law_230 rfl (lv_at hl 3 rfl) ?_
        refine lv_iload_n hx hb dL_law_231 rfl (lv_at hl 0 rfl) ?_
        refine lv_iconst (v := nI 1) hx hb dL_law_232 (by decide) ?_
        refine lv_iadd hx hb dL_law_233 ?_
        refine lv_topi (fun z233 ez233 => ?_)
        obtain rfl : z233 = nI (4 * k + 1) := ez233.trans (nI_add _ _)
        refine s_ld hx hb hX hbl hbA hWB.2.2 (by omega) hL dL_law_234 ?_
        refine call2I (n := 1) (As := [.int (xs (4 * k + 1))]) (rest := [.int r1]) EM hWM hWB (hMB _ _) (mM_abort l D qM dM τ (xs (4 * k + 1))) (lw_V q267 q268 q269 q16 q270) (by decide +kernel) ⟨by decide, by decide⟩ hcs (ci := 1) rfl rfl rfl hl.1 rfl (Nat.le_of_ble_eq_true rfl) dL_law_235 (fun r2 u2 H locs hr2 hWM hWB => ?_)
        obtain ⟨er, hI⟩ := s_abort hI hr1 hr2
        refine lv_icmp_eq (tgt := 411) hx hb dL_law_238 (by decide) (fun h238 => ?_) (fun h238 => ?_)
        · exact tail _ _ _ _ hI hWB hWM
        · exact absurd er h238
      · refine lv_tableIn (tgt := 243) (off := 211) hx hb dL_law_32 (by decide +kernel) (by decide +kernel) (by decide +kernel) (by decide) ?_
        refine lv_aload_n hx hb dL_law_243 rfl (lv_at hl 2 rfl) ?_
        refine call2I (n := 0) (As := []) (rest := []) EB hWB hWM (hBM _ _) (mB_seal l D qB dB σ) (lw_V q148 q149 q150 q15 q151) (by decide +kernel) ⟨by decide, by decide⟩ hcs (ci := 0) rfl rfl rfl hl.1 rfl (Nat.le_of_ble_eq_true rfl) dL_law_244 (fun r1 u1 H locs hr1 hWB hWM => ?_)
        refine lv_aload_n hx hb dL_law_247 rfl (lv_at hl 1 rfl) ?_
        refine call2I (n := 0) (As := []) (rest := [.int r1]) EM hWM hWB (hMB _ _) (mM_seal l D qM dM τ) (lw_V q271 q272 q273 q16 q274) (by decide +kernel) ⟨by decide, by decide⟩ hcs (ci := 1) rfl rfl rfl hl.1 rfl (Nat.le_of_ble_eq_true rfl) dL_law_248 (fun r2 u2 H locs hr2 hWM hWB => ?_)
        obtain ⟨er, hI⟩ := s_seal hI hk64 hr1 hr2
        refine lv_icmp_eq (tgt := 411) hx hb dL_law_251 (by decide) (fun h251 => ?_) (fun h251 => ?_)
        · exact tail _ _ _ _ hI hWB hWM
        · exact absurd er h251
      · refine lv_tableIn (tgt := 256) (off := 224) hx hb dL_law_32 (by decide +kernel) (by decide +kernel) (by decide +kernel) (by decide) ?_
        refine lv_aload_n hx hb dL_law_256 rfl (lv_at hl 2 rfl) ?_
        refine lv_aload_n hx hb dL_law_257 rfl (lv_at hl 3 rfl) ?_
        refine lv_iload_n hx hb dL_law_258 rfl (lv_at hl 0 rfl) ?_
        refine lv_iconst (v := nI 1) hx hb dL_law_259 (by decide) ?_
        refine lv_iadd hx hb dL_law_260 ?_
        refine lv_topi (fun z260 ez260 => ?_)
        obtain rfl : z260 = nI (4 * k + 1) := ez260.trans (nI_add _ _)
        refine s_ld hx hb hX hbl hbA hWB.2.2 (by omega) hL dL_law_261 ?_
        refine call2I (n := 1) (As := [.int (xs (4 * k + 1))]) (rest := []) EB hWB hWM (hBM _ _) (mB_flush l D qB dB σ (xs (4 * k + 1))) (lw_V q152 q153 q154 q15 q155) (by decide +kernel) ⟨by decide, by decide⟩ hcs (ci := 0) rfl rfl rfl hl.1 rfl (Nat.le_of_ble_eq_true rfl) dL_law_262 (fun r1 u1 H locs hr1 hWB hWM => ?_)
        refine lv_aload_n hx hb dL_law_265 rfl (lv_at hl 1 rfl) ?_
        refine lv_aload_n hx hb dL_law_266 rfl (lv_at hl 3 rfl) ?_
        refine lv_iload_n hx hb dL_law_267 rfl (lv_at hl 0 rfl) ?_
        refine lv_iconst (v := nI 1) hx hb dL_law_268 (by decide) ?_
        refine lv_iadd hx hb dL_law_269 ?_
        refine lv_topi (fun z269 ez269 => ?_)
        obtain rfl : z269 = nI (4 * k + 1) := ez269.trans (nI_add _ _)
        refine s_ld hx hb hX hbl hbA hWB.2.2 (by omega) hL dL_law_270 ?_
        refine call2I (n := 1) (As := [.int (xs (4 * k + 1))]) (rest := [.int r1]) EM hWM hWB (hMB _ _) (mM_flush l D qM dM τ (xs (4 * k + 1))) (lw_V q275 q276 q277 q16 q278) (by decide +kernel) ⟨by decide, by decide⟩ hcs (ci := 1) rfl rfl rfl hl.1 rfl (Nat.le_of_ble_eq_true rfl) dL_law_271 (fun r2 u2 H locs hr2 hWM hWB => ?_)
        obtain ⟨er, hI⟩ := s_flush hI hk64 hr1 hr2
        refine lv_icmp_eq (tgt := 411) hx hb dL_law_274 (by decide) (fun h274 => ?_) (fun h274 => ?_)
        · exact tail _ _ _ _ hI hWB hWM
        · exact absurd er h274
      · refine lv_tableIn (tgt := 279) (off := 247) hx hb dL_law_32 (by decide +kernel) (by decide +kernel) (by decide +kernel) (by decide) ?_
        refine lv_aload_n hx hb dL_law_279 rfl (lv_at hl 2 rfl) ?_
        refine call2I (n := 0) (As := []) (rest := []) EB hWB hWM (hBM _ _) (mB_stepsLeft l D qB dB σ) (lw_V q160 q161 q162 q15 q163) (by decide +kernel) ⟨by decide, by decide⟩ hcs (ci := 0) rfl rfl rfl hl.1 rfl (Nat.le_of_ble_eq_true rfl) dL_law_280 (fun r1 u1 H locs hr1 hWB hWM => ?_)
        refine lv_aload_n hx hb dL_law_283 rfl (lv_at hl 1 rfl) ?_
        refine call2I (n := 0) (As := []) (rest := [.int r1]) EM hWM hWB (hMB _ _) (mM_stepsLeft l D qM dM τ) (lw_V q279 q280 q281 q16 q282) (by decide +kernel) ⟨by decide, by decide⟩ hcs (ci := 1) rfl rfl rfl hl.1 rfl (Nat.le_of_ble_eq_true rfl) dL_law_284 (fun r2 u2 H locs hr2 hWM hWB => ?_)
        obtain ⟨er, hI⟩ := s_val hI 11 6 hI.e11 hr1 hr2
        refine lv_icmp_eq (tgt := 411) hx hb dL_law_287 (by decide) (fun h287 => ?_) (fun h287 => ?_)
        · exact tail _ _ _ _ hI hWB hWM
        · exact absurd er h287
      · refine lv_tableIn (tgt := 292) (off := 260) hx hb dL_law_32 (by decide +kernel) (by decide +kernel) (by decide +kernel) (by decide) ?_
        refine lv_aload_n hx hb dL_law_292 rfl (lv_at hl 2 rfl) ?_
        refine call2V (n := 0) (As := []) (rest := []) EB hWB hWM (hBM _ _) (mB_crash l D qB dB σ hI.okG) (lw_V q164 q165 q166 q15 q167) (by decide +kernel) ⟨by decide, by decide⟩ hcs (ci := 0) rfl rfl rfl hl.1 rfl (Nat.le_of_ble_eq_true rfl) dL_law_293 (fun u1 H locs hr1 hWB hWM => ?_)
        refine lv_aload_n hx hb dL_law_296 rfl (lv_at hl 1 rfl) ?_
        refine call2V (n := 0) (As := []) (rest := []) EM hWM hWB (hMB _ _) (mM_crash l D qM dM τ) (lw_V q283 q284 q285 q16 q286) (by decide +kernel) ⟨by decide, by decide⟩ hcs (ci := 1) rfl rfl rfl hl.1 rfl (Nat.le_of_ble_eq_true rfl) dL_law_297 (fun u2 H locs hr2 hWM hWB => ?_)
        have hI := s_crash hI hk64 hr1 hr2
        refine lv_goto (tgt := 411) hx hb dL_law_300 (by decide) ?_
        exact tail _ _ _ _ hI hWB hWM
      · refine lv_tableIn (tgt := 303) (off := 271) hx hb dL_law_32 (by decide +kernel) (by decide +kernel) (by decide +kernel) (by decide) ?_
        refine lv_aload_n hx hb dL_law_303 rfl (lv_at hl 2 rfl) ?_
        refine call2I (n := 0) (As := []) (rest := []) EB hWB hWM (hBM _ _) (mB_commits l D qB dB σ) (lw_V q172 q173 q174 q15 q175) (by decide +kernel) ⟨by decide, by decide⟩ hcs (ci := 0) rfl rfl rfl hl.1 rfl (Nat.le_of_ble_eq_true rfl) dL_law_304 (fun r1 u1 H locs hr1 hWB hWM => ?_)
        refine lv_aload_n hx hb dL_law_307 rfl (lv_at hl 1 rfl) ?_
        refine call2I (n := 0) (As := []) (rest := [.int r1]) EM hWM hWB (hMB _ _) (mM_commits l D qM dM τ) (lw_V q287 q288 q289 q16 q290) (by decide +kernel) ⟨by decide, by decide⟩ hcs (ci := 1) rfl rfl rfl hl.1 rfl (Nat.le_of_ble_eq_true rfl) dL_law_308 (fun r2 u2 H locs hr2 hWM hWB => ?_)
        obtain ⟨er, hI⟩ := s_val hI 13 5 hI.e13 hr1 hr2
        refine lv_icmp_eq (tgt := 411) hx hb dL_law_311 (by decide) (fun h311 => ?_) (fun h311 => ?_)
        · exact tail _ _ _ _ hI hWB hWM
        · exact absurd er h311
      · refine lv_tableIn (tgt := 316) (off := 284) hx hb dL_law_32 (by decide +kernel) (by decide +kernel) (by decide +kernel) (by decide) ?_
        refine lv_aload_n hx hb dL_law_316 rfl (lv_at hl 2 rfl) ?_
        refine call2I (n := 0) (As := []) (rest := []) EB hWB hWM (hBM _ _) (mB_durable l D qB dB σ) (lw_V q176 q177 q178 q15 q179) (by decide +kernel) ⟨by decide, by decide⟩ hcs (ci := 0) rfl rfl rfl hl.1 rfl (Nat.le_of_ble_eq_true rfl) dL_law_317 (fun r1 u1 H locs hr1 hWB hWM => ?_)
        refine lv_aload_n hx hb dL_law_320 rfl (lv_at hl 1 rfl) ?_
        refine call2I (n := 0) (As := []) (rest := [.int r1]) EM hWM hWB (hMB _ _) (mM_durable l D qM dM τ) (lw_V q291 q292 q293 q16 q294) (by decide +kernel) ⟨by decide, by decide⟩ hcs (ci := 1) rfl rfl rfl hl.1 rfl (Nat.le_of_ble_eq_true rfl) dL_law_321 (fun r2 u2 H locs hr2 hWM hWB => ?_)
        obtain ⟨er, hI⟩ := s_val hI 15 3 hI.e15 hr1 hr2
        refine lv_icmp_eq (tgt := 411) hx hb dL_law_324 (by decide) (fun h324 => ?_) (fun h324 => ?_)
        · exact tail _ _ _ _ hI hWB hWM
        · exact absurd er h324
      · refine lv_tableIn (tgt := 329) (off := 297) hx hb dL_law_32 (by decide +kernel) (by decide +kernel) (by decide +kernel) (by decide) ?_
        refine lv_aload_n hx hb dL_law_329 rfl (lv_at hl 2 rfl) ?_
        refine lv_aload_n hx hb dL_law_330 rfl (lv_at hl 3 rfl) ?_
        refine lv_iload_n hx hb dL_law_331 rfl (lv_at hl 0 rfl) ?_
        refine lv_iconst (v := nI 1) hx hb dL_law_332 (by decide) ?_
        refine lv_iadd hx hb dL_law_333 ?_
        refine lv_topi (fun z333 ez333 => ?_)
        obtain rfl : z333 = nI (4 * k + 1) := ez333.trans (nI_add _ _)
        refine s_ld hx hb hX hbl hbA hWB.2.2 (by omega) hL dL_law_334 ?_
        refine call2I (n := 1) (As := [.int (xs (4 * k + 1))]) (rest := []) EB hWB hWM (hBM _ _) (mB_value l D qB dB σ (xs (4 * k + 1)) hI.okG) (lw_V q180 q181 q182 q15 q183) (by decide +kernel) ⟨by decide, by decide⟩ hcs (ci := 0) rfl rfl rfl hl.1 rfl (Nat.le_of_ble_eq_true rfl) dL_law_335 (fun r1 u1 H locs hr1 hWB hWM => ?_)
        refine lv_aload_n hx hb dL_law_338 rfl (lv_at hl 1 rfl) ?_
        refine lv_aload_n hx hb dL_law_339 rfl (lv_at hl 3 rfl) ?_
        refine lv_iload_n hx hb dL_law_340 rfl (lv_at hl 0 rfl) ?_
        refine lv_iconst (v := nI 1) hx hb dL_law_341 (by decide) ?_
        refine lv_iadd hx hb dL_law_342 ?_
        refine lv_topi (fun z342 ez342 => ?_)
        obtain rfl : z342 = nI (4 * k + 1) := ez342.trans (nI_add _ _)
        refine s_ld hx hb hX hbl hbA hWB.2.2 (by omega) hL dL_law_343 ?_
        refine call2I (n := 1) (As := [.int (xs (4 * k + 1))]) (rest := [.int r1]) EM hWM hWB (hMB _ _) (mM_value l D qM dM τ (xs (4 * k + 1))) (lw_V q295 q296 q297 q16 q298) (by decide +kernel) ⟨by decide, by decide⟩ hcs (ci := 1) rfl rfl rfl hl.1 rfl (Nat.le_of_ble_eq_true rfl) dL_law_344 (fun r2 u2 H locs hr2 hWM hWB => ?_)
        obtain ⟨er, hI⟩ := s_value hI 8 2 hI.now hr1 hr2
        refine lv_icmp_eq (tgt := 411) hx hb dL_law_347 (by decide) (fun h347 => ?_) (fun h347 => ?_)
        · exact tail _ _ _ _ hI hWB hWM
        · exact absurd er h347
      · refine lv_tableIn (tgt := 352) (off := 320) hx hb dL_law_32 (by decide +kernel) (by decide +kernel) (by decide +kernel) (by decide) ?_
        refine lv_aload_n hx hb dL_law_352 rfl (lv_at hl 2 rfl) ?_
        refine lv_aload_n hx hb dL_law_353 rfl (lv_at hl 3 rfl) ?_
        refine lv_iload_n hx hb dL_law_354 rfl (lv_at hl 0 rfl) ?_
        refine lv_iconst (v := nI 1) hx hb dL_law_355 (by decide) ?_
        refine lv_iadd hx hb dL_law_356 ?_
        refine lv_topi (fun z356 ez356 => ?_)
        obtain rfl : z356 = nI (4 * k + 1) := ez356.trans (nI_add _ _)
        refine s_ld hx hb hX hbl hbA hWB.2.2 (by omega) hL dL_law_357 ?_
        refine call2I (n := 1) (As := [.int (xs (4 * k + 1))]) (rest := []) EB hWB hWM (hBM _ _) (mB_safeValue l D qB dB σ (xs (4 * k + 1)) hI.okG) (lw_V q184 q185 q186 q15 q187) (by decide +kernel) ⟨by decide, by decide⟩ hcs (ci := 0) rfl rfl rfl hl.1 rfl (Nat.le_of_ble_eq_true rfl) dL_law_358 (fun r1 u1 H locs hr1 hWB hWM => ?_)
        refine lv_aload_n hx hb dL_law_361 rfl (lv_at hl 1 rfl) ?_
        refine lv_aload_n hx hb dL_law_362 rfl (lv_at hl 3 rfl) ?_
        refine lv_iload_n hx hb dL_law_363 rfl (lv_at hl 0 rfl) ?_
        refine lv_iconst (v := nI 1) hx hb dL_law_364 (by decide) ?_
        refine lv_iadd hx hb dL_law_365 ?_
        refine lv_topi (fun z365 ez365 => ?_)
        obtain rfl : z365 = nI (4 * k + 1) := ez365.trans (nI_add _ _)
        refine s_ld hx hb hX hbl hbA hWB.2.2 (by omega) hL dL_law_366 ?_
        refine call2I (n := 1) (As := [.int (xs (4 * k + 1))]) (rest := [.int r1]) EM hWM hWB (hMB _ _) (mM_safeValue l D qM dM τ (xs (4 * k + 1))) (lw_V q299 q300 q301 q16 q302) (by decide +kernel) ⟨by decide, by decide⟩ hcs (ci := 1) rfl rfl rfl hl.1 rfl (Nat.le_of_ble_eq_true rfl) dL_law_367 (fun r2 u2 H locs hr2 hWM hWB => ?_)
        obtain ⟨er, hI⟩ := s_value hI 9 0 hI.safe hr1 hr2
        refine lv_icmp_eq (tgt := 411) hx hb dL_law_370 (by decide) (fun h370 => ?_) (fun h370 => ?_)
        · exact tail _ _ _ _ hI hWB hWM
        · exact absurd er h370
      · refine lv_tableIn (tgt := 375) (off := 343) hx hb dL_law_32 (by decide +kernel) (by decide +kernel) (by decide +kernel) (by decide) ?_
        refine lv_aload_n hx hb dL_law_375 rfl (lv_at hl 2 rfl) ?_
        refine lv_aload_n hx hb dL_law_376 rfl (lv_at hl 3 rfl) ?_
        refine lv_iload_n hx hb dL_law_377 rfl (lv_at hl 0 rfl) ?_
        refine lv_iconst (v := nI 1) hx hb dL_law_378 (by decide) ?_
        refine lv_iadd hx hb dL_law_379 ?_
        refine lv_topi (fun z379 ez379 => ?_)
        obtain rfl : z379 = nI (4 * k + 1) := ez379.trans (nI_add _ _)
        refine s_ld hx hb hX hbl hbA hWB.2.2 (by omega) hL dL_law_380 ?_
        refine call2I (n := 1) (As := [.int (xs (4 * k + 1))]) (rest := []) EB hWB hWM (hBM _ _) (mB_conflicts l D qB dB σ (xs (4 * k + 1)) hI.okG) (lw_V q188 q189 q190 q15 q191) (by decide +kernel) ⟨by decide, by decide⟩ hcs (ci := 0) rfl rfl rfl hl.1 rfl (Nat.le_of_ble_eq_true rfl) dL_law_381 (fun r1 u1 H locs hr1 hWB hWM => ?_)
        refine lv_aload_n hx hb dL_law_384 rfl (lv_at hl 1 rfl) ?_
        refine lv_aload_n hx hb dL_law_385 rfl (lv_at hl 3 rfl) ?_
        refine lv_iload_n hx hb dL_law_386 rfl (lv_at hl 0 rfl) ?_
        refine lv_iconst (v := nI 1) hx hb dL_law_387 (by decide) ?_
        refine lv_iadd hx hb dL_law_388 ?_
        refine lv_topi (fun z388 ez388 => ?_)
        obtain rfl : z388 = nI (4 * k + 1) := ez388.trans (nI_add _ _)
        refine s_ld hx hb hX hbl hbA hWB.2.2 (by omega) hL dL_law_389 ?_
        refine call2I (n := 1) (As := [.int (xs (4 * k + 1))]) (rest := [.int r1]) EM hWM hWB (hMB _ _) (mM_conflicts l D qM dM τ (xs (4 * k + 1))) (lw_V q303 q304 q305 q16 q306) (by decide +kernel) ⟨by decide, by decide⟩ hcs (ci := 1) rfl rfl rfl hl.1 rfl (Nat.le_of_ble_eq_true rfl) dL_law_390 (fun r2 u2 H locs hr2 hWM hWB => ?_)
        obtain ⟨er, hI⟩ := s_conf hI hr1 hr2
        refine lv_icmp_eq (tgt := 411) hx hb dL_law_393 (by decide) (fun h393 => ?_) (fun h393 => ?_)
        · exact tail _ _ _ _ hI hWB hWM
        · exact absurd er h393
      · refine lv_tableIn (tgt := 398) (off := 366) hx hb dL_law_32 (by decide +kernel) (by decide +kernel) (by decide +kernel) (by decide) ?_
        refine lv_aload_n hx hb dL_law_398 rfl (lv_at hl 2 rfl) ?_
        refine call2I (n := 0) (As := []) (rest := []) EB hWB hWM (hBM _ _) (mB_open l D qB dB σ) (lw_V q192 q193 q194 q15 q195) (by decide +kernel) ⟨by decide, by decide⟩ hcs (ci := 0) rfl rfl rfl hl.1 rfl (Nat.le_of_ble_eq_true rfl) dL_law_399 (fun r1 u1 H locs hr1 hWB hWM => ?_)
        refine lv_aload_n hx hb dL_law_402 rfl (lv_at hl 1 rfl) ?_
        refine call2I (n := 0) (As := []) (rest := [.int r1]) EM hWM hWB (hMB _ _) (mM_open l D qM dM τ) (lw_V q307 q308 q309 q16 q310) (by decide +kernel) ⟨by decide, by decide⟩ hcs (ci := 1) rfl rfl rfl hl.1 rfl (Nat.le_of_ble_eq_true rfl) dL_law_403 (fun r2 u2 H locs hr2 hWM hWB => ?_)
        obtain ⟨er, hI⟩ := s_open hI hr1 hr2
        refine lv_icmp_eq (tgt := 411) hx hb dL_law_406 (by decide) (fun h406 => ?_) (fun h406 => ?_)
        · exact tail _ _ _ _ hI hWB hWM
        · exact absurd er h406
      · refine lv_tableOut (tgt := 411) hx hb dL_law_32 (by decide +kernel) (by decide) ?_
        exact tail _ _ _ _ hI.mono hWB hWM
end
section
set_option maxRecDepth 100000
theorem dj_of {A : Nat → Prop} {qB qM : Nat → Nat} {dB dM : Nat → ClassId} {σ τ : St} (hD : va_D A (wB qB dB σ ++ wM qM dM τ)) : DJ qB qM := by
  intro x hx y hy e
  have hx : x ∈ (wB qB dB σ).map Prod.fst := hx
  have hy : y ∈ (wM qM dM τ).map Prod.fst := hy
  obtain ⟨p, hp, ep⟩ := List.mem_map.mp hx
  obtain ⟨q, hq, eq⟩ := List.mem_map.mp hy
  obtain ⟨i, hi⟩ := List.getElem?_of_mem hp
  obtain ⟨j, hj⟩ := List.getElem?_of_mem hq
  have hil : i < 11 := (List.getElem?_eq_some_iff.mp hi).1
  have h1 : (wB qB dB σ ++ wM qM dM τ)[i]? = some p := by rw [List.getElem?_append_left hil]; exact hi
  have h2 : (wB qB dB σ ++ wM qM dM τ)[11 + j]? = some q := by
    rw [List.getElem?_append_right (show (wB qB dB σ).length ≤ 11 + j from Nat.le_add_right 11 j)]
    show (wM qM dM τ)[11 + j - 11]? = some q
    rw [Nat.add_sub_cancel_left]
    exact hj
  have := hD.1 i (11 + j) p q h1 h2 (by rw [ep, eq, e])
  omega
set_option maxHeartbeats 8000000 in
/-- from the entry, for every script of at most 256 ints, the law comes to its end with true -/
theorem whole_start {p : Program} {e : Env} {s : State} {m : MethodId} {below : List Frame} {meth : Method} {c : Code} (l : Launch) {b L : Nat} {xs : Nat → Int32} (hL : L ≤ 256) (C0 : lw_At p s m meth c b L xs) : W p l e room_1 s m #[Value.ref b] below meth c s.heap [] 0 0 (lw_Z below #[Value.ref b] s) (entryFrame m ([Value.ref b] : List Value).toArray 4) := by
  obtain ⟨hx, hb, hr, hml, hown, hts0, hX, hbl, hlocks, hgv⟩ := id C0
  have hts : ∀ w ∈ lw_all, w.before #[Value.ref b] s = true := fun w h => hts0 w (lw_all_tbl h)
  have hA : ∀ q : Nat, s.heap.size ≤ q → (fun q : Nat => s.heap.size ≤ q) q := fun _ h => h
  have hbA : ¬ (fun q : Nat => s.heap.size ≤ q) b := Nat.not_le.mpr hbl
  obtain ⟨c0, iS0, hKn0⟩ := u_known (C := RX0) (T := TX0) (N := 20) (n := 20) hts in_X0 (hts _ q18)
  obtain ⟨c1, iS1, hKn1⟩ := u_known (C := RX1) (T := TX1) (N := 12) (n := 12) hts in_X1 (hts _ q197)
  obtain ⟨D, hKc⟩ : ∃ D : va_G, ∀ (k : Nat) (q : vw_C), vwCl[k]? = some q → u_Kn s q.1 q.2.1 q.2.2 (D.1 k) (D.2 k) := by
    refine ⟨(fun k => if k = 0 then c0 else c1, fun k => if k = 0 then iS0 else iS1), ?_⟩
    intro k q hq
    match k, hq with
    | 0, hq => cases hq; exact hKn0
    | 1, hq => cases hq; exact hKn1
    | k + 2, hq => simp [vwCl] at hq
  have hS : va_S (fun q : Nat => s.heap.size ≤ q) s.heap s.heap [] := va_S.rf
  have hK : va_K D vwCl [] s := ⟨hKc, fun k q h => by simp at h⟩
  have hP : va_P D vwCl [] s.heap := fun k q h => by simp at h
  have hD : va_D (fun q : Nat => s.heap.size ≤ q) [] := ⟨fun i j p q h => by simp at h, fun k q h => by simp at h⟩
  have hl := lv_entry ([.ref b]) (n := 4) (Nat.le_of_ble_eq_true rfl)
  rw [lg_entry_eq]
  generalize (lg_sl ([.ref b]) ++ List.replicate (4 - (lg_sl ([.ref b])).length) Slot.unset).toArray = ls at hl ⊢
  have hl : lv_has ls 4 [(0, .ref b)] := hl
  refine va_new (ci := 0) (fs := fB0) (C := RX0) (T := TX0) (N := 20) hx hb hts in_X0 tyX0 tyX0_ok hown (hts _ q17) (hts _ q18) (hts _ q15) hK hP hD hS hA rfl (fun j hj => by rcases (show j = 0 ∨ j = 1 ∨ j = 2 ∨ j = 3 ∨ j = 4 ∨ j = 5 ∨ j = 6 ∨ j = 7 ∨ j = 8 ∨ j = 9 ∨ j = 10 ∨ j = 11 ∨ j = 12 ∨ j = 13 ∨ j = 14 ∨ j = 15 ∨ j = 16 ∨ j = 17 ∨ j = 18 ∨ j = 19 by omega) with rfl | rfl | rfl | rfl | rfl | rfl | rfl | rfl | rfl | rfl | rfl | rfl | rfl | rfl | rfl | rfl | rfl | rfl | rfl | rfl <;> rfl) (Nat.le_of_ble_eq_true rfl) (Nat.le_of_ble_eq_true rfl) dL_law_0 (fun h0 H hP hD hS => ?_)
  have hP : va_P D vwCl [(h0, .inr (0, fB0))] H := hP
  have hD : va_D (fun q : Nat => s.heap.size ≤ q) [(h0, .inr (0, fB0))] := hD
  refine W.widen (k := 1) (n := 20) (by omega) (by omega) ?_
  refine lv_dup hx hb dL_law_3 rfl ?_
  have hFc := va_free (wc := [(h0, .inr (0, fB0))]) hD hS hA [0] rfl
  refine va_callv (va_runI (As := []) (rest := [.ref h0]) ⟨hx, hb, hml, hown, hts⟩ (mB_init l D h0 H.size) (cwI 0 hts (lw_meth q21) rfl rfl rfl (hts _ q15) (hts _ q19) (hts _ q20) rfl (by decide +kernel) ⟨Nat.le_of_ble_eq_true rfl, Nat.le_of_ble_eq_true rfl⟩) ⟨fun a U g mk q => by obtain ⟨q0, q1, qP, qK, qD⟩ := q; exact ⟨q0, q1, qP, va_K.moved (u := U) (U := U.calling g mk a) (Vm.Alike.refl U.vm) qK, qD⟩, fun U hU hW => ⟨rfl, by rw [hU], by rw [hU]; exact hP, va_K.moved hW.alike hK, hD.weaken (fun _ _ _ _ => trivial)⟩⟩ rfl rfl hl.1 rfl (lv_room (Nat.le_of_ble_eq_true rfl)) dL_law_4 ⟨Nat.le_of_ble_eq_true rfl, Nat.le_of_ble_eq_true rfl⟩) hS (fun q _ h => hFc q h) hFc (fun u t H1 locs ht hvm hw hB hz1 hk1 hS => ?_)
  have hw : u = st0 := hw
  subst hw
  obtain ⟨qB, dB, eqB, hP1, hK1, hD1⟩ := hB
  rw [ht] at hP1
  have hKB : va_K D vwCl (tB dB) s := va_K.moved hvm.symm hK1
  obtain ⟨hPB, hDB⟩ := va_join (wr := []) (w1 := wB qB dB st0) hP hD [0] [] rfl rfl (by decide) (by decide) hk1 hFc hP1 hD1
  subst eqB
  have hP : va_P D vwCl (wB qB dB st0) H1 := hPB
  have hD : va_D (fun q : Nat => s.heap.size ≤ q) (wB qB dB st0) := hDB
  refine lv_astore_n (lv' := [(1, .ref (qB 20)), (0, .ref b)]) hx hb dL_law_7 rfl hl (by decide) rfl (fun ls hl => ?_)
  refine va_new (ci := 1) (fs := fM0) (C := RX1) (T := TX1) (N := 12) hx hb hts in_X1 tyX1 tyX1_ok hown (hts _ q196) (hts _ q197) (hts _ q16) hK hP hD hS hA rfl (fun j hj => by rcases (show j = 0 ∨ j = 1 ∨ j = 2 ∨ j = 3 ∨ j = 4 ∨ j = 5 ∨ j = 6 ∨ j = 7 ∨ j = 8 ∨ j = 9 ∨ j = 10 ∨ j = 11 by omega) with rfl | rfl | rfl | rfl | rfl | rfl | rfl | rfl | rfl | rfl | rfl | rfl <;> rfl) (Nat.le_of_ble_eq_true rfl) (Nat.le_of_ble_eq_true rfl) dL_law_8 (fun h1 H hP hD hS => ?_)
  refine W.widen (k := 12) (n := 400) (Nat.le_of_ble_eq_true rfl) (Nat.le_of_ble_eq_true rfl) ?_
  refine lv_dup hx hb dL_law_11 rfl ?_
  have hPc := hP.sub (ws' := [(h1, .inr (1, fM0))]) [11] rfl
  have hDc := hD.sub (ws' := [(h1, .inr (1, fM0))]) [11] (by decide) rfl
  have hFc := va_free (wc := [(h1, .inr (1, fM0))]) hD hS hA [11] rfl
  refine va_callv (va_runI (As := []) (rest := [.ref h1]) ⟨hx, hb, hml, hown, hts⟩ (mM_init l D h1 H.size) (cwI 0 hts (lw_meth q200) rfl rfl rfl (hts _ q16) (hts _ q198) (hts _ q199) rfl (by decide +kernel) ⟨Nat.le_of_ble_eq_true rfl, Nat.le_of_ble_eq_true rfl⟩) ⟨fun a U g mk q => by obtain ⟨q0, q1, qP, qK, qD⟩ := q; exact ⟨q0, q1, qP, va_K.moved (u := U) (U := U.calling g mk a) (Vm.Alike.refl U.vm) qK, qD⟩, fun U hU hW => ⟨rfl, by rw [hU], by rw [hU]; exact hPc, va_K.moved hW.alike hK, hDc.weaken (fun _ _ _ _ => trivial)⟩⟩ rfl rfl hl.1 rfl (lv_room (Nat.le_of_ble_eq_true rfl)) dL_law_12 ⟨Nat.le_of_ble_eq_true rfl, Nat.le_of_ble_eq_true rfl⟩) hS (fun q _ h => hFc q h) hFc (fun u t H1 locs ht hvm hw hB hz1 hk1 hS => ?_)
  have hw : u = st0 := hw
  subst hw
  obtain ⟨qM, dM, eqM, hP1, hK1, hD1⟩ := hB
  rw [ht] at hP1
  have hKM : va_K D vwCl (tM dM) s := va_K.moved hvm.symm hK1
  obtain ⟨hPM, hDM⟩ := va_join (wr := wB qB dB st0) (w1 := wM qM dM st0) hP hD [11] [0, 1, 2, 3, 4, 5, 6, 7, 8, 9, 10] rfl rfl (by decide) (by decide) hk1 hFc hP1 hD1
  subst eqM
  have hP : va_P D vwCl (wB qB dB st0 ++ wM qM dM st0) H1 := hPM
  have hD : va_D (fun q : Nat => s.heap.size ≤ q) (wB qB dB st0 ++ wM qM dM st0) := hDM
  refine lv_astore_n (lv' := [(2, .ref (qM 20)), (1, .ref (qB 20)), (0, .ref b)]) hx hb dL_law_15 rfl hl (by decide) rfl (fun ls hl => ?_)
  refine lv_iconst (v := nI 0) hx hb dL_law_16 (by decide) ?_
  refine lv_istore_n (lv' := [(3, .int (nI 0)), (2, .ref (qM 20)), (1, .ref (qB 20)), (0, .ref b)]) hx hb dL_law_17 rfl hl (by decide) rfl (fun ls hl => ?_)
  have hdj := dj_of hD
  have hWB : WD D (wB qB dB) (fun q : Nat => s.heap.size ≤ q) s st0 H1 locs := ⟨hP.sub (ws' := wB qB dB st0) [0, 1, 2, 3, 4, 5, 6, 7, 8, 9, 10] rfl, hD.sub (ws' := wB qB dB st0) [0, 1, 2, 3, 4, 5, 6, 7, 8, 9, 10] (by decide) rfl, hS⟩
  have hWM : WD D (wM qM dM) (fun q : Nat => s.heap.size ≤ q) s st0 H1 locs := ⟨hP.sub (ws' := wM qM dM st0) [11, 12, 13, 14, 15, 16, 17, 18] rfl, hD.sub (ws' := wM qM dM st0) [11, 12, 13, 14, 15, 16, 17, 18] (by decide) rfl, hS⟩
  refine W.widen (k := 19) (n := 468) (Nat.le_of_ble_eq_true rfl) (Nat.le_of_ble_eq_true rfl) ?_
  exact law_loop hL C0 hKB hKM hdj 65 0 st0 st0 (by omega) (by omega) INV.start _ _ _ hWB hWM hl
end
section
set_option maxRecDepth 100000
set_option maxHeartbeats 4000000 in
theorem lw_walk (l : Launch) (b : Addr) (xs : List Int32) : MetFree l x (headSpec (Jvm.Cond.code x code maxLocals ret :: tables_1) room_1) (lw_P b xs) (fun _ _ _ _ _ => True) lw_Q := by
  refine MetFree.of_bodyS (code := code) (maxLocals := maxLocals) (ret := ret) (by decide) ?_ ?_
  · intro args s m h hn
    obtain ⟨meth, c, h1, h2, h3, h4, h5, h6, -, -⟩ := Cond.code_spec hn (atoms_spec (ws := Jvm.Cond.code x code maxLocals ret :: tables_1) h _ List.mem_cons_self)
    exact ⟨meth, c, h1, h2, h3, h4, h5, h6⟩
  · intro p e s m args below meth c s₁ B hml0 hP _
    obtain ⟨rfl, hx, hbd, hgv⟩ := hP
    obtain ⟨scr, harrAt, hlist, hof, hsmall⟩ := hx
    obtain ⟨hcb, hkn, -, -⟩ := State.arrayAt?_spec harrAt
    have hown : s.vm.findClass R_law = some m.cls := findClass_of_methodNamed B.named
    have hts0 : ∀ c ∈ (Jvm.Cond.code x code maxLocals ret :: tables_1), c.before #[Value.ref b] s = true := atoms_spec (ws := Jvm.Cond.code x code maxLocals ret :: tables_1) B.pre
    have hts : ∀ w ∈ lw_tbl, w.before #[Value.ref b] s = true := k2_hts_sels lw_privs (fun w hw => hts0 w (List.mem_cons_of_mem _ hw)) lw_privs_ok
    have hml : c.maxLocals = 4 := B.maxLocals_eq (hts0 _ List.mem_cons_self)
    have X₀ : Stand p l e room_1 s m #[Value.ref b] below meth c s₁ [] 0 0 := Stand.of_body B
    have hh0 : s₁.heap = s.heap := by rw [B.state]; rfl
    have hsz : scr.slots.size = xs.length := by rw [← Array.length_toList, hlist, List.length_map]
    have hval : ∀ j : Nat, j < xs.length → scr.slots[j]? = some (.int (xs.getD j 0)) := fun j hj => by
      rw [← Array.getElem?_toList, hlist]
      simp [hj]
    have hbl : b < s.heap.size := (Array.getElem?_eq_some_iff.mp hcb).1
    have hX : va_X b xs.length (fun j => xs.getD j 0) s s.heap := ⟨scr, hcb, hof, hkn, hsz, hval⟩
    have K : W p l e room_1 s m #[Value.ref b] below meth c s₁.heap [] 0 0 (lw_Z below #[Value.ref b] s) (entryFrame m ([Value.ref b] : List Value).toArray 4) := by
      rw [hh0]
      exact whole_start l hbd ⟨B.exec, B.bytes, B.returns, hml, hown, hts, hX, hbl, B.notSynchronized, hgv⟩
    obtain ⟨t, a1, o, b1, b2, b3⟩ := K s₁ rfl X₀
    exact ⟨t, o, a1, b1, b2, b3⟩
theorem lw_pre_spec {args : Array Value} {s : State} (h : (Jvm.Cond.and given_1 narrow_1).before args s = true) (hr : rest_1_c.before args s = true) : ∃ (b : Addr) (xs : List Int32), lw_P b xs args s := by
  have hs := flat_of_before _ h
  have hq := flat_of_before _ hr
  have hc : (Cond.count 1).before args s = true := hs _ (by decide +kernel)
  have harr : (Cond.arrayOf (.arg 0) .int).before args s = true := hs _ (by decide +kernel)
  have hle : (Cond.le (.length (.arg 0)) (.int 256)).before args s = true := hs _ (by decide +kernel)
  have hlen : (Cond.isInt (.length (.arg 0))).before args s = true := hq _ (by decide +kernel)
  have hall : (Cond.all (.arg 0) (.isInt (.elem (.arg 0) (.index 0)))).before args s = true := hq _ (by decide +kernel)
  obtain ⟨b, xs, hb, hx⟩ := State.ints_of_pre rfl harr hlen hall
  have hsm : xs.length < 2 ^ 31 := hx.choose_spec.2.2.2
  have hev : (Term.length (.arg 0)).eval args s none [] s = some (.int xs.length.toInt32) := hx.length_eval hb
  have hv := Cond.le_ints hev (show (Term.int 256).eval args s none [] s = some (.int 256) from rfl)
  have hd : xs.length.toInt32 ≤ 256 := by
    simpa [Cond.before, Cond.holds, hv] using hle
  have hN : xs.length ≤ 256 := (Int32.ofNat_le_ofNat hsm (by decide)).mp (show Int32.ofNat xs.length ≤ Int32.ofNat 256 from hd)
  exact ⟨b, xs, Cond.one_arg hc (show args[0]? = some (.ref b) from hb), hx, hN, h⟩
theorem lw_comes (l : Launch) : Comes l x (Jvm.Cond.code x code maxLocals ret :: tables_1) room_1 (fun tb e args s => Calls_1 tb e args s ∧ rest_1 tb e args s ∧ Pre_1 tb e args s)
    (fun _ _ args s o t => lw_Q args s o t) := by
  intro p e ha hc hk s m args below hf hfit hheap happ hpre
  obtain ⟨b, xs, hP⟩ := lw_pre_spec hpre.2.2 hpre.2.1
  obtain ⟨k, o, h1, h2, h3, hQ⟩ := lw_walk l b xs p e ha hc hk s m args below hf ((Spec.applies_iff_loose hf).mp happ).1 hP trivial
  exact ⟨k, o, h1, h2, h3, hQ⟩
theorem lw_frame {s t : State} {o : Outcome} {args : Array Value} (h : Framed s o t [] 600000 7290000) :
    Framed s o t (fieldLocs frame_1_writes args s ++ arrayLocs frame_1_arrays args s ++ staticLocs frame_1_statics s) 600000 7290000 := h
theorem lw_limb (L : Cond) (hL : ∀ (args : Array Value) (s t : State), L.after args s (.returned (some (.int 1))) t = true) :
    ArmFor flags0 classFile x code maxLocals ret World_1 tables_1 room_1 Calls_1 rest_1 Pre_1
      (fun tb e a s o t => postC L tb e a s o t ∧ Framed s o t (fieldLocs frame_1_writes a s ++ arrayLocs frame_1_arrays a s ++ staticLocs frame_1_statics s) 600000 7290000) := by
  intro l _ _ _ p e ha hc hk s m args below hf hfit hheap happ hpre
  obtain ⟨k, o, h1, h2, h3, rfl, hF⟩ := lw_comes l p e ha hc hk s m args below hf hfit hheap happ hpre
  exact ⟨k, _, h1, h2, h3, hL args s _, lw_frame hF⟩
theorem i_vc : Claimed_1_1 ∧ Claimed_1_2 := ⟨lw_limb limb_1_1 (fun args s t => by simp [limb_1_1, Cond.after, Cond.holds, Cond.value]), lw_limb limb_1_2 (fun args s t => Cond.after_iff.mpr (by
  first | (rw [show limb_1_2 = Cond.eq .result (.int 1) from rfl, Cond.eq_ints (x := 1) (y := 1) rfl rfl]; simp; done) | (simp [limb_1_2, Cond.value, Term.eval]; done)))⟩
end
