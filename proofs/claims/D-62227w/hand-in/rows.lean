section
-- ===== PART A: goes FIRST, ahead of the names: the tables' words, and 'selects' of the private methods out of them =====
/-- a private method of a class that the tables say can be made, by its rows of tables_1 -/
def lw_okq (q : MethodName × Nat) : Prop := (q.1.cls ≠ "java/lang/invoke/MethodHandle" ∧ q.1.cls ≠ "java/lang/invoke/VarHandle") ∧ Cond.instantiable q.1.cls q.2 ∈ tables_1 ∧ Cond.privateMethod q.1 ∈ tables_1 ∧ Cond.instanceMethod q.1 ∈ tables_1
set_option maxRecDepth 100000
theorem lw_t1 {w : Cond} (h : w ∈ tables_1_1) : w ∈ tables_1 := List.mem_append_left _ h
theorem lw_t2 {w : Cond} (h : w ∈ tables_1_2) : w ∈ tables_1 := List.mem_append_right _ h
theorem lw_p0 : lw_okq (⟨"OlapCubes", "wipe", "(I)V"⟩, 11) := ⟨⟨by decide +kernel, by decide +kernel⟩, lw_t1 (List.mem_of_getElem? (i := 4) rfl), lw_t1 (List.mem_of_getElem? (i := 12) rfl), lw_t1 (List.mem_of_getElem? (i := 13) rfl)⟩
theorem lw_p1 : lw_okq (⟨"OlapCubes", "add", "(II)V"⟩, 11) := ⟨⟨by decide +kernel, by decide +kernel⟩, lw_t1 (List.mem_of_getElem? (i := 4) rfl), lw_t1 (List.mem_of_getElem? (i := 61) rfl), lw_t1 (List.mem_of_getElem? (i := 62) rfl)⟩
theorem lw_p2 : lw_okq (⟨"OlapCubes", "enter", "(IIIIII)V"⟩, 11) := ⟨⟨by decide +kernel, by decide +kernel⟩, lw_t1 (List.mem_of_getElem? (i := 4) rfl), lw_t1 (List.mem_of_getElem? (i := 80) rfl), lw_t1 (List.mem_of_getElem? (i := 81) rfl)⟩
theorem lw_p3 : lw_okq (⟨"OlapCubes", "isFact", "(I)Z"⟩, 11) := ⟨⟨by decide +kernel, by decide +kernel⟩, lw_t1 (List.mem_of_getElem? (i := 4) rfl), lw_t1 (List.mem_of_getElem? (i := 92) rfl), lw_t1 (List.mem_of_getElem? (i := 93) rfl)⟩
theorem lw_p4 : lw_okq (⟨"OlapCubes", "startAnew", "()V"⟩, 11) := ⟨⟨by decide +kernel, by decide +kernel⟩, lw_t1 (List.mem_of_getElem? (i := 4) rfl), lw_t1 (List.mem_of_getElem? (i := 96) rfl), lw_t1 (List.mem_of_getElem? (i := 97) rfl)⟩
theorem lw_p5 : lw_okq (⟨"OlapCubes", "slotFor", "(I)I"⟩, 11) := ⟨⟨by decide +kernel, by decide +kernel⟩, lw_t1 (List.mem_of_getElem? (i := 4) rfl), lw_t1 (List.mem_of_getElem? (i := 115) rfl), lw_t1 (List.mem_of_getElem? (i := 116) rfl)⟩
theorem lw_p6 : lw_okq (⟨"OlapCubes", "workOut", "(III)V"⟩, 11) := ⟨⟨by decide +kernel, by decide +kernel⟩, lw_t1 (List.mem_of_getElem? (i := 4) rfl), lw_t1 (List.mem_of_getElem? (i := 122) rfl), lw_t1 (List.mem_of_getElem? (i := 123) rfl)⟩
theorem lw_p7 : lw_okq (⟨"OlapCubesModel", "append", "(II)V"⟩, 3) := ⟨⟨by decide +kernel, by decide +kernel⟩, lw_t1 (List.mem_of_getElem? (i := 174) rfl), lw_t1 (List.mem_of_getElem? (i := 194) rfl), lw_t1 (List.mem_of_getElem? (i := 195) rfl)⟩
theorem lw_p8 : lw_okq (⟨"OlapCubesModel", "badFact", "(I)Z"⟩, 3) := ⟨⟨by decide +kernel, by decide +kernel⟩, lw_t1 (List.mem_of_getElem? (i := 174) rfl), lw_t1 (List.mem_of_getElem? (i := 206) rfl), lw_t1 (List.mem_of_getElem? (i := 207) rfl)⟩
theorem lw_p9 : lw_okq (⟨"OlapCubesModel", "badView", "(I)Z"⟩, 3) := ⟨⟨by decide +kernel, by decide +kernel⟩, lw_t1 (List.mem_of_getElem? (i := 174) rfl), lw_t1 (List.mem_of_getElem? (i := 222) rfl), lw_t1 (List.mem_of_getElem? (i := 223) rfl)⟩
theorem lw_p10 : lw_okq (⟨"OlapCubesModel", "fall", "(II)I"⟩, 3) := ⟨⟨by decide +kernel, by decide +kernel⟩, lw_t1 (List.mem_of_getElem? (i := 174) rfl), lw_t1 (List.mem_of_getElem? (i := 230) rfl), lw_t1 (List.mem_of_getElem? (i := 231) rfl)⟩
theorem lw_p11 : lw_okq (⟨"OlapCubesModel", "seenA", "(II)I"⟩, 3) := ⟨⟨by decide +kernel, by decide +kernel⟩, lw_t1 (List.mem_of_getElem? (i := 174) rfl), lw_t1 (List.mem_of_getElem? (i := 234) rfl), lw_t1 (List.mem_of_getElem? (i := 235) rfl)⟩
theorem lw_p12 : lw_okq (⟨"OlapCubesModel", "seenB", "(II)I"⟩, 3) := ⟨⟨by decide +kernel, by decide +kernel⟩, lw_t1 (List.mem_of_getElem? (i := 174) rfl), lw_t1 (List.mem_of_getElem? (i := 238) rfl), lw_t1 (List.mem_of_getElem? (i := 239) rfl)⟩
theorem lw_p13 : lw_okq (⟨"OlapCubesModel", "seenC", "(II)I"⟩, 3) := ⟨⟨by decide +kernel, by decide +kernel⟩, lw_t1 (List.mem_of_getElem? (i := 174) rfl), lw_t2 (List.mem_of_getElem? (i := 2) rfl), lw_t2 (List.mem_of_getElem? (i := 3) rfl)⟩
theorem lw_p14 : lw_okq (⟨"OlapCubesModel", "badCell", "(I)Z"⟩, 3) := ⟨⟨by decide +kernel, by decide +kernel⟩, lw_t1 (List.mem_of_getElem? (i := 174) rfl), lw_t2 (List.mem_of_getElem? (i := 19) rfl), lw_t2 (List.mem_of_getElem? (i := 20) rfl)⟩
def lw_privs_1 : List (MethodName × Nat) := [(⟨"OlapCubes", "wipe", "(I)V"⟩, 11), (⟨"OlapCubes", "add", "(II)V"⟩, 11), (⟨"OlapCubes", "enter", "(IIIIII)V"⟩, 11), (⟨"OlapCubes", "isFact", "(I)Z"⟩, 11), (⟨"OlapCubes", "startAnew", "()V"⟩, 11), (⟨"OlapCubes", "slotFor", "(I)I"⟩, 11), (⟨"OlapCubes", "workOut", "(III)V"⟩, 11), (⟨"OlapCubesModel", "append", "(II)V"⟩, 3), (⟨"OlapCubesModel", "badFact", "(I)Z"⟩, 3), (⟨"OlapCubesModel", "badView", "(I)Z"⟩, 3), (⟨"OlapCubesModel", "fall", "(II)I"⟩, 3), (⟨"OlapCubesModel", "seenA", "(II)I"⟩, 3), (⟨"OlapCubesModel", "seenB", "(II)I"⟩, 3), (⟨"OlapCubesModel", "seenC", "(II)I"⟩, 3), (⟨"OlapCubesModel", "badCell", "(I)Z"⟩, 3)]
theorem lw_r1 : ∀ q ∈ lw_privs_1, lw_okq q := List.forall_mem_cons.mpr ⟨lw_p0, List.forall_mem_cons.mpr ⟨lw_p1, List.forall_mem_cons.mpr ⟨lw_p2, List.forall_mem_cons.mpr ⟨lw_p3, List.forall_mem_cons.mpr ⟨lw_p4, List.forall_mem_cons.mpr ⟨lw_p5, List.forall_mem_cons.mpr ⟨lw_p6, List.forall_mem_cons.mpr ⟨lw_p7, List.forall_mem_cons.mpr ⟨lw_p8, List.forall_mem_cons.mpr ⟨lw_p9, List.forall_mem_cons.mpr ⟨lw_p10, List.forall_mem_cons.mpr ⟨lw_p11, List.forall_mem_cons.mpr ⟨lw_p12, List.forall_mem_cons.mpr ⟨lw_p13, List.forall_mem_cons.mpr ⟨lw_p14, fun _ h => absurd h List.not_mem_nil⟩⟩⟩⟩⟩⟩⟩⟩⟩⟩⟩⟩⟩⟩⟩
def lw_privs : List (MethodName × Nat) := lw_privs_1
def lw_tbl : List Cond := k2_sels lw_privs ++ tables_1
theorem lw_privs_ok : ∀ q ∈ lw_privs, lw_okq q := lw_r1
-- ===== ONE list of words for every method: the tables' words that hold all through a run =====
def lw_all : List Cond := lw_tbl.filter goodWord
/-- a word of the tables by its place: claim/WORDS.tsv -/
theorem lw_w {w : Cond} (i : Nat) (h : lw_tbl[i]? = some w) (g : goodWord w = true) : w ∈ lw_all := List.mem_filter.mpr ⟨List.mem_of_getElem? h, g⟩
theorem lw_all_tbl {w : Cond} (h : w ∈ lw_all) : w ∈ lw_tbl := (List.mem_filter.mp h).1
theorem lw_self : GoodIn lw_all lw_all := fun w h => ⟨h, good_of_word (List.mem_filter.mp h).2⟩
/-- a class's field words, by their places -/
theorem lw_in (ws : List Cond) (ps : List Nat) (hp : ws = ps.filterMap (fun i => lw_tbl[i]?)) (hg : ws.all goodWord = true) : ∀ w ∈ ws, w ∈ lw_all := by
  intro w h
  have h1 := List.all_eq_true.mp hg w h
  rw [hp] at h
  obtain ⟨i, -, hi⟩ := List.mem_filterMap.mp h
  exact lw_w i hi h1
/-- the words of a contract for the method y with code b, L locals, answer r -/
abbrev ws_ (y : MethodName) (b : ByteArray) (L : Nat) (r : Option FieldType) : List Cond := Cond.code y b L r :: lw_all
theorem lw_meth {y : MethodName} {b : ByteArray} {L : Nat} {r : Option FieldType} (h : Cond.code y b L r ∈ lw_all) : GoodIn lw_all (ws_ y b L r) := by
  intro w hw
  rcases List.mem_cons.mp hw with e | e
  · rw [e]
    exact lw_self _ h
  · exact lw_self _ e
theorem lw_app {a c : List Cond} (ha : ∀ w ∈ a, w ∈ lw_all) (hc : GoodIn lw_all c) : GoodIn lw_all (a ++ c) := by
  intro w hw
  rcases List.mem_append.mp hw with e | e
  · exact lw_self w (ha w e)
  · exact hc w e
/-- what a call through an object asks: cwV n hts (lw_V ..) -/
theorem lw_V {own : String} {idx : Nat} {C : String} {y : MethodName} {b : ByteArray} {L : Nat} {r : Option FieldType} (h1 : Cond.methodLink own idx y ∈ lw_all) (h2 : Cond.instanceMethod y ∈ lw_all) (h3 : Cond.selects C y y ∈ lw_all) (h4 : Cond.initialized C ∈ lw_all) (h5 : Cond.code y b L r ∈ lw_all) : GoodIn lw_all (wsV own idx C y (ws_ y b L r)) := by
  refine lw_app ?_ (lw_meth h5)
  intro w hw
  simp only [List.mem_cons, List.not_mem_nil, or_false] at hw
  rcases hw with e | e | e | e
  · rw [e]; exact h1
  · rw [e]; exact h2
  · rw [e]; exact h3
  · rw [e]; exact h4
/-- what a static call asks: va_cwS n hts (lw_S ..) -/
theorem lw_S {own : String} {idx : Nat} {y : MethodName} {b : ByteArray} {L : Nat} {r : Option FieldType} (h1 : Cond.methodLink own idx y ∈ lw_all) (h2 : Cond.static y ∈ lw_all) (h3 : Cond.initialized y.cls ∈ lw_all) (h4 : Cond.code y b L r ∈ lw_all) : GoodIn lw_all (va_wsS own idx y (ws_ y b L r)) := by
  refine lw_app ?_ (lw_meth h4)
  intro w hw
  simp only [List.mem_cons, List.not_mem_nil, or_false] at hw
  rcases hw with e | e | e
  · rw [e]; exact h1
  · rw [e]; exact h2
  · rw [e]; exact h3
/-- the words of a contract for a method WITH HANDLERS (hh: its table) -/
abbrev wsW_ (y : MethodName) (b : ByteArray) (L : Nat) (r : Option FieldType) (hh : List (Nat × Nat × Nat × Nat)) : List Cond := Cond.codeWith y b L r hh :: lw_all
theorem lw_methW {y : MethodName} {b : ByteArray} {L : Nat} {r : Option FieldType} {hh : List (Nat × Nat × Nat × Nat)} (h : Cond.codeWith y b L r hh ∈ lw_all) : GoodIn lw_all (wsW_ y b L r hh) := by
  intro w hw
  rcases List.mem_cons.mp hw with e | e
  · rw [e]
    exact lw_self _ h
  · exact lw_self _ e
/-- any list of words by their places (lw_in), good -/
theorem lw_good {ws : List Cond} (h : ∀ w ∈ ws, w ∈ lw_all) : GoodIn lw_all ws := fun w hw => lw_self w (h w hw)
/-- what a call of a method with handlers asks: vx_cwVW n hts (lw_VW ..), vx_cwSW n hts (lw_SW ..) -/
theorem lw_VW {own : String} {idx : Nat} {C : String} {y : MethodName} {b : ByteArray} {L : Nat} {r : Option FieldType} {hh : List (Nat × Nat × Nat × Nat)} (h1 : Cond.methodLink own idx y ∈ lw_all) (h2 : Cond.instanceMethod y ∈ lw_all) (h3 : Cond.selects C y y ∈ lw_all) (h4 : Cond.initialized C ∈ lw_all) (h5 : Cond.codeWith y b L r hh ∈ lw_all) : GoodIn lw_all (wsV own idx C y (wsW_ y b L r hh)) := by
  refine lw_app ?_ (lw_methW h5)
  intro w hw
  simp only [List.mem_cons, List.not_mem_nil, or_false] at hw
  rcases hw with e | e | e | e
  · rw [e]; exact h1
  · rw [e]; exact h2
  · rw [e]; exact h3
  · rw [e]; exact h4
theorem lw_SW {own : String} {idx : Nat} {y : MethodName} {b : ByteArray} {L : Nat} {r : Option FieldType} {hh : List (Nat × Nat × Nat × Nat)} (h1 : Cond.methodLink own idx y ∈ lw_all) (h2 : Cond.static y ∈ lw_all) (h3 : Cond.initialized y.cls ∈ lw_all) (h4 : Cond.codeWith y b L r hh ∈ lw_all) : GoodIn lw_all (va_wsS own idx y (wsW_ y b L r hh)) := by
  refine lw_app ?_ (lw_methW h4)
  intro w hw
  simp only [List.mem_cons, List.not_mem_nil, or_false] at hw
  rcases hw with e | e | e
  · rw [e]; exact h1
  · rw [e]; exact h2
  · rw [e]; exact h3
/-- a word by its place in its run of the tables -/
theorem lw_at {r : List Cond} (hr : ∀ w ∈ r, w ∈ lw_tbl) {w : Cond} (i : Nat) (h : r[i]? = some w) : w ∈ lw_tbl := hr w (List.mem_of_getElem? h)
theorem lw_g {w : Cond} (h : w ∈ lw_tbl) (g : goodWord w = true) : w ∈ lw_all := List.mem_filter.mpr ⟨h, g⟩
theorem lw_ms : ∀ w ∈ k2_sels lw_privs, w ∈ lw_tbl := fun w h => show w ∈ k2_sels lw_privs ++ tables_1 from List.mem_append_left _ h
theorem lw_m1 : ∀ w ∈ tables_1_1, w ∈ lw_tbl := fun w h => show w ∈ k2_sels lw_privs ++ tables_1 from List.mem_append_right (k2_sels lw_privs) (show w ∈ tables_1 from List.mem_append_left _ h)
theorem lw_m2 : ∀ w ∈ tables_1_2, w ∈ lw_tbl := fun w h => show w ∈ k2_sels lw_privs ++ tables_1 from List.mem_append_right (k2_sels lw_privs) (show w ∈ tables_1 from List.mem_append_right _ h)
theorem qs0 : (Cond.selects "OlapCubes" ⟨"OlapCubes", "wipe", "(I)V"⟩ ⟨"OlapCubes", "wipe", "(I)V"⟩) ∈ lw_all := lw_g (lw_at lw_ms 0 rfl) rfl
theorem qs1 : (Cond.selects "OlapCubes" ⟨"OlapCubes", "add", "(II)V"⟩ ⟨"OlapCubes", "add", "(II)V"⟩) ∈ lw_all := lw_g (lw_at lw_ms 1 rfl) rfl
theorem qs2 : (Cond.selects "OlapCubes" ⟨"OlapCubes", "enter", "(IIIIII)V"⟩ ⟨"OlapCubes", "enter", "(IIIIII)V"⟩) ∈ lw_all := lw_g (lw_at lw_ms 2 rfl) rfl
theorem qs3 : (Cond.selects "OlapCubes" ⟨"OlapCubes", "isFact", "(I)Z"⟩ ⟨"OlapCubes", "isFact", "(I)Z"⟩) ∈ lw_all := lw_g (lw_at lw_ms 3 rfl) rfl
theorem qs4 : (Cond.selects "OlapCubes" ⟨"OlapCubes", "startAnew", "()V"⟩ ⟨"OlapCubes", "startAnew", "()V"⟩) ∈ lw_all := lw_g (lw_at lw_ms 4 rfl) rfl
theorem qs5 : (Cond.selects "OlapCubes" ⟨"OlapCubes", "slotFor", "(I)I"⟩ ⟨"OlapCubes", "slotFor", "(I)I"⟩) ∈ lw_all := lw_g (lw_at lw_ms 5 rfl) rfl
theorem qs6 : (Cond.selects "OlapCubes" ⟨"OlapCubes", "workOut", "(III)V"⟩ ⟨"OlapCubes", "workOut", "(III)V"⟩) ∈ lw_all := lw_g (lw_at lw_ms 6 rfl) rfl
theorem qs7 : (Cond.selects "OlapCubesModel" ⟨"OlapCubesModel", "append", "(II)V"⟩ ⟨"OlapCubesModel", "append", "(II)V"⟩) ∈ lw_all := lw_g (lw_at lw_ms 7 rfl) rfl
theorem qs8 : (Cond.selects "OlapCubesModel" ⟨"OlapCubesModel", "badFact", "(I)Z"⟩ ⟨"OlapCubesModel", "badFact", "(I)Z"⟩) ∈ lw_all := lw_g (lw_at lw_ms 8 rfl) rfl
theorem qs9 : (Cond.selects "OlapCubesModel" ⟨"OlapCubesModel", "badView", "(I)Z"⟩ ⟨"OlapCubesModel", "badView", "(I)Z"⟩) ∈ lw_all := lw_g (lw_at lw_ms 9 rfl) rfl
theorem qs10 : (Cond.selects "OlapCubesModel" ⟨"OlapCubesModel", "fall", "(II)I"⟩ ⟨"OlapCubesModel", "fall", "(II)I"⟩) ∈ lw_all := lw_g (lw_at lw_ms 10 rfl) rfl
theorem qs11 : (Cond.selects "OlapCubesModel" ⟨"OlapCubesModel", "seenA", "(II)I"⟩ ⟨"OlapCubesModel", "seenA", "(II)I"⟩) ∈ lw_all := lw_g (lw_at lw_ms 11 rfl) rfl
theorem qs12 : (Cond.selects "OlapCubesModel" ⟨"OlapCubesModel", "seenB", "(II)I"⟩ ⟨"OlapCubesModel", "seenB", "(II)I"⟩) ∈ lw_all := lw_g (lw_at lw_ms 12 rfl) rfl
theorem qs13 : (Cond.selects "OlapCubesModel" ⟨"OlapCubesModel", "seenC", "(II)I"⟩ ⟨"OlapCubesModel", "seenC", "(II)I"⟩) ∈ lw_all := lw_g (lw_at lw_ms 13 rfl) rfl
theorem qs14 : (Cond.selects "OlapCubesModel" ⟨"OlapCubesModel", "badCell", "(I)Z"⟩ ⟨"OlapCubesModel", "badCell", "(I)Z"⟩) ∈ lw_all := lw_g (lw_at lw_ms 14 rfl) rfl
end
section
/-! OlapCubes -/
set_option maxRecDepth 100000
def RX0 : String := "OlapCubes"
def TX0 : u_T := fun k => match k with
  | 0 => ("OlapCubes", "places", "[I", true)
  | 1 => ("OlapCubes", "measures", "[I", true)
  | 2 => ("OlapCubes", "slotView", "[I", true)
  | 3 => ("OlapCubes", "slotFull", "[I", true)
  | 4 => ("OlapCubes", "slotUsed", "[I", true)
  | 5 => ("OlapCubes", "counts", "[I", true)
  | 6 => ("OlapCubes", "sums", "[I", true)
  | 7 => ("OlapCubes", "lows", "[I", true)
  | 8 => ("OlapCubes", "highs", "[I", true)
  | 9 => ("OlapCubes", "size", "I", false)
  | _ => ("OlapCubes", "clock", "I", false)
def tyX0 : Nat → FieldType := fun k => match k with
  | 0 => .array .int
  | 1 => .array .int
  | 2 => .array .int
  | 3 => .array .int
  | 4 => .array .int
  | 5 => .array .int
  | 6 => .array .int
  | 7 => .array .int
  | 8 => .array .int
  | 9 => .int
  | _ => .int
abbrev wsX00 : List Cond := u_ws RX0 TX0 11
theorem nmX0 : ∀ a, a < 11 → ∀ b, b < 11 → a ≠ b → (TX0 a).2.1 ≠ (TX0 b).2.1 := by decide +kernel
theorem tyX0_ok : ∀ k, k < 11 → parseFieldDescriptor (TX0 k).2.2.1 = some (tyX0 k) := by decide +kernel
abbrev cX0_init : ByteArray := prog_1_method_1_code
def yX0_init : MethodName := ⟨RX0, "<init>", "()V"⟩
theorem dX0_init_0 : decode cX0_init 0 = .ok (.aload_n 0, 1) := by decide +kernel
theorem dX0_init_1 : decode cX0_init 1 = .ok (.invokespecial 1, 3) := by decide +kernel
theorem dX0_init_4 : decode cX0_init 4 = .ok (.aload_n 0, 1) := by decide +kernel
theorem dX0_init_5 : decode cX0_init 5 = .ok (.bipush 40, 2) := by decide +kernel
theorem dX0_init_7 : decode cX0_init 7 = .ok (.newarray .int, 2) := by decide +kernel
theorem dX0_init_9 : decode cX0_init 9 = .ok (.putfield 7, 3) := by decide +kernel
theorem dX0_init_12 : decode cX0_init 12 = .ok (.aload_n 0, 1) := by decide +kernel
theorem dX0_init_13 : decode cX0_init 13 = .ok (.bipush 40, 2) := by decide +kernel
theorem dX0_init_15 : decode cX0_init 15 = .ok (.newarray .int, 2) := by decide +kernel
theorem dX0_init_17 : decode cX0_init 17 = .ok (.putfield 13, 3) := by decide +kernel
theorem dX0_init_20 : decode cX0_init 20 = .ok (.aload_n 0, 1) := by decide +kernel
theorem dX0_init_21 : decode cX0_init 21 = .ok (.iconst 5, 1) := by decide +kernel
theorem dX0_init_22 : decode cX0_init 22 = .ok (.newarray .int, 2) := by decide +kernel
theorem dX0_init_24 : decode cX0_init 24 = .ok (.putfield 16, 3) := by decide +kernel
theorem dX0_init_27 : decode cX0_init 27 = .ok (.aload_n 0, 1) := by decide +kernel
theorem dX0_init_28 : decode cX0_init 28 = .ok (.iconst 5, 1) := by decide +kernel
theorem dX0_init_29 : decode cX0_init 29 = .ok (.newarray .int, 2) := by decide +kernel
theorem dX0_init_31 : decode cX0_init 31 = .ok (.putfield 19, 3) := by decide +kernel
theorem dX0_init_34 : decode cX0_init 34 = .ok (.aload_n 0, 1) := by decide +kernel
theorem dX0_init_35 : decode cX0_init 35 = .ok (.iconst 5, 1) := by decide +kernel
theorem dX0_init_36 : decode cX0_init 36 = .ok (.newarray .int, 2) := by decide +kernel
theorem dX0_init_38 : decode cX0_init 38 = .ok (.putfield 22, 3) := by decide +kernel
theorem dX0_init_41 : decode cX0_init 41 = .ok (.aload_n 0, 1) := by decide +kernel
theorem dX0_init_42 : decode cX0_init 42 = .ok (.sipush 960, 3) := by decide +kernel
theorem dX0_init_45 : decode cX0_init 45 = .ok (.newarray .int, 2) := by decide +kernel
theorem dX0_init_47 : decode cX0_init 47 = .ok (.putfield 25, 3) := by decide +kernel
theorem dX0_init_50 : decode cX0_init 50 = .ok (.aload_n 0, 1) := by decide +kernel
theorem dX0_init_51 : decode cX0_init 51 = .ok (.sipush 960, 3) := by decide +kernel
theorem dX0_init_54 : decode cX0_init 54 = .ok (.newarray .int, 2) := by decide +kernel
theorem dX0_init_56 : decode cX0_init 56 = .ok (.putfield 28, 3) := by decide +kernel
theorem dX0_init_59 : decode cX0_init 59 = .ok (.aload_n 0, 1) := by decide +kernel
theorem dX0_init_60 : decode cX0_init 60 = .ok (.sipush 960, 3) := by decide +kernel
theorem dX0_init_63 : decode cX0_init 63 = .ok (.newarray .int, 2) := by decide +kernel
theorem dX0_init_65 : decode cX0_init 65 = .ok (.putfield 31, 3) := by decide +kernel
theorem dX0_init_68 : decode cX0_init 68 = .ok (.aload_n 0, 1) := by decide +kernel
theorem dX0_init_69 : decode cX0_init 69 = .ok (.sipush 960, 3) := by decide +kernel
theorem dX0_init_72 : decode cX0_init 72 = .ok (.newarray .int, 2) := by decide +kernel
theorem dX0_init_74 : decode cX0_init 74 = .ok (.putfield 34, 3) := by decide +kernel
theorem dX0_init_77 : decode cX0_init 77 = .ok (.iconst 1, 1) := by decide +kernel
theorem dX0_init_78 : decode cX0_init 78 = .ok (.istore_n 1, 1) := by decide +kernel
theorem dX0_init_79 : decode cX0_init 79 = .ok (.iload_n 1, 1) := by decide +kernel
theorem dX0_init_80 : decode cX0_init 80 = .ok (.iconst 5, 1) := by decide +kernel
theorem dX0_init_81 : decode cX0_init 81 = .ok (.if_icmp .ge 16, 3) := by decide +kernel
theorem dX0_init_84 : decode cX0_init 84 = .ok (.aload_n 0, 1) := by decide +kernel
theorem dX0_init_85 : decode cX0_init 85 = .ok (.getfield 16, 3) := by decide +kernel
theorem dX0_init_88 : decode cX0_init 88 = .ok (.iload_n 1, 1) := by decide +kernel
theorem dX0_init_89 : decode cX0_init 89 = .ok (.iconst (-1), 1) := by decide +kernel
theorem dX0_init_90 : decode cX0_init 90 = .ok (.iastore, 1) := by decide +kernel
theorem dX0_init_91 : decode cX0_init 91 = .ok (.iinc 1 1, 3) := by decide +kernel
theorem dX0_init_94 : decode cX0_init 94 = .ok (.goto (-15), 3) := by decide +kernel
theorem dX0_init_97 : decode cX0_init 97 = .ok (.aload_n 0, 1) := by decide +kernel
theorem dX0_init_98 : decode cX0_init 98 = .ok (.iconst 0, 1) := by decide +kernel
theorem dX0_init_99 : decode cX0_init 99 = .ok (.invokevirtual 37, 3) := by decide +kernel
theorem dX0_init_102 : decode cX0_init 102 = .ok (.return_, 1) := by decide +kernel
abbrev cX0_wipe : ByteArray := prog_1_method_30_code
def yX0_wipe : MethodName := ⟨RX0, "wipe", "(I)V"⟩
theorem dX0_wipe_0 : decode cX0_wipe 0 = .ok (.aload_n 0, 1) := by decide +kernel
theorem dX0_wipe_1 : decode cX0_wipe 1 = .ok (.getfield 19, 3) := by decide +kernel
theorem dX0_wipe_4 : decode cX0_wipe 4 = .ok (.iload_n 1, 1) := by decide +kernel
theorem dX0_wipe_5 : decode cX0_wipe 5 = .ok (.iconst 0, 1) := by decide +kernel
theorem dX0_wipe_6 : decode cX0_wipe 6 = .ok (.iastore, 1) := by decide +kernel
theorem dX0_wipe_7 : decode cX0_wipe 7 = .ok (.sipush 192, 3) := by decide +kernel
theorem dX0_wipe_10 : decode cX0_wipe 10 = .ok (.iload_n 1, 1) := by decide +kernel
theorem dX0_wipe_11 : decode cX0_wipe 11 = .ok (.imul, 1) := by decide +kernel
theorem dX0_wipe_12 : decode cX0_wipe 12 = .ok (.istore_n 2, 1) := by decide +kernel
theorem dX0_wipe_13 : decode cX0_wipe 13 = .ok (.iload_n 2, 1) := by decide +kernel
theorem dX0_wipe_14 : decode cX0_wipe 14 = .ok (.sipush 192, 3) := by decide +kernel
theorem dX0_wipe_17 : decode cX0_wipe 17 = .ok (.iload_n 1, 1) := by decide +kernel
theorem dX0_wipe_18 : decode cX0_wipe 18 = .ok (.imul, 1) := by decide +kernel
theorem dX0_wipe_19 : decode cX0_wipe 19 = .ok (.sipush 192, 3) := by decide +kernel
theorem dX0_wipe_22 : decode cX0_wipe 22 = .ok (.iadd, 1) := by decide +kernel
theorem dX0_wipe_23 : decode cX0_wipe 23 = .ok (.if_icmp .ge 41, 3) := by decide +kernel
theorem dX0_wipe_26 : decode cX0_wipe 26 = .ok (.aload_n 0, 1) := by decide +kernel
theorem dX0_wipe_27 : decode cX0_wipe 27 = .ok (.getfield 25, 3) := by decide +kernel
theorem dX0_wipe_30 : decode cX0_wipe 30 = .ok (.iload_n 2, 1) := by decide +kernel
theorem dX0_wipe_31 : decode cX0_wipe 31 = .ok (.iconst 0, 1) := by decide +kernel
theorem dX0_wipe_32 : decode cX0_wipe 32 = .ok (.iastore, 1) := by decide +kernel
theorem dX0_wipe_33 : decode cX0_wipe 33 = .ok (.aload_n 0, 1) := by decide +kernel
theorem dX0_wipe_34 : decode cX0_wipe 34 = .ok (.getfield 28, 3) := by decide +kernel
theorem dX0_wipe_37 : decode cX0_wipe 37 = .ok (.iload_n 2, 1) := by decide +kernel
theorem dX0_wipe_38 : decode cX0_wipe 38 = .ok (.iconst 0, 1) := by decide +kernel
theorem dX0_wipe_39 : decode cX0_wipe 39 = .ok (.iastore, 1) := by decide +kernel
theorem dX0_wipe_40 : decode cX0_wipe 40 = .ok (.aload_n 0, 1) := by decide +kernel
theorem dX0_wipe_41 : decode cX0_wipe 41 = .ok (.getfield 31, 3) := by decide +kernel
theorem dX0_wipe_44 : decode cX0_wipe 44 = .ok (.iload_n 2, 1) := by decide +kernel
theorem dX0_wipe_45 : decode cX0_wipe 45 = .ok (.sipush 10000, 3) := by decide +kernel
theorem dX0_wipe_48 : decode cX0_wipe 48 = .ok (.iastore, 1) := by decide +kernel
theorem dX0_wipe_49 : decode cX0_wipe 49 = .ok (.aload_n 0, 1) := by decide +kernel
theorem dX0_wipe_50 : decode cX0_wipe 50 = .ok (.getfield 34, 3) := by decide +kernel
theorem dX0_wipe_53 : decode cX0_wipe 53 = .ok (.iload_n 2, 1) := by decide +kernel
theorem dX0_wipe_54 : decode cX0_wipe 54 = .ok (.sipush (-10000), 3) := by decide +kernel
theorem dX0_wipe_57 : decode cX0_wipe 57 = .ok (.iastore, 1) := by decide +kernel
theorem dX0_wipe_58 : decode cX0_wipe 58 = .ok (.iinc 2 1, 3) := by decide +kernel
theorem dX0_wipe_61 : decode cX0_wipe 61 = .ok (.goto (-48), 3) := by decide +kernel
theorem dX0_wipe_64 : decode cX0_wipe 64 = .ok (.return_, 1) := by decide +kernel
abbrev cX0_put : ByteArray := prog_1_method_2_code
def yX0_put : MethodName := ⟨RX0, "put", "(II)I"⟩
theorem dX0_put_0 : decode cX0_put 0 = .ok (.iload_n 1, 1) := by decide +kernel
theorem dX0_put_1 : decode cX0_put 1 = .ok (.invokestatic 41, 3) := by decide +kernel
theorem dX0_put_4 : decode cX0_put 4 = .ok (.ifCond .ne 5, 3) := by decide +kernel
theorem dX0_put_7 : decode cX0_put 7 = .ok (.iconst (-1), 1) := by decide +kernel
theorem dX0_put_8 : decode cX0_put 8 = .ok (.ireturn, 1) := by decide +kernel
theorem dX0_put_9 : decode cX0_put 9 = .ok (.iload_n 2, 1) := by decide +kernel
theorem dX0_put_10 : decode cX0_put 10 = .ok (.invokestatic 45, 3) := by decide +kernel
theorem dX0_put_13 : decode cX0_put 13 = .ok (.ifCond .ne 6, 3) := by decide +kernel
theorem dX0_put_16 : decode cX0_put 16 = .ok (.bipush (-2), 2) := by decide +kernel
theorem dX0_put_18 : decode cX0_put 18 = .ok (.ireturn, 1) := by decide +kernel
theorem dX0_put_19 : decode cX0_put 19 = .ok (.aload_n 0, 1) := by decide +kernel
theorem dX0_put_20 : decode cX0_put 20 = .ok (.getfield 48, 3) := by decide +kernel
theorem dX0_put_23 : decode cX0_put 23 = .ok (.bipush 40, 2) := by decide +kernel
theorem dX0_put_25 : decode cX0_put 25 = .ok (.if_icmp .ne 6, 3) := by decide +kernel
theorem dX0_put_28 : decode cX0_put 28 = .ok (.bipush (-3), 2) := by decide +kernel
theorem dX0_put_30 : decode cX0_put 30 = .ok (.ireturn, 1) := by decide +kernel
theorem dX0_put_31 : decode cX0_put 31 = .ok (.aload_n 0, 1) := by decide +kernel
theorem dX0_put_32 : decode cX0_put 32 = .ok (.iload_n 1, 1) := by decide +kernel
theorem dX0_put_33 : decode cX0_put 33 = .ok (.iload_n 2, 1) := by decide +kernel
theorem dX0_put_34 : decode cX0_put 34 = .ok (.invokevirtual 52, 3) := by decide +kernel
theorem dX0_put_37 : decode cX0_put 37 = .ok (.aload_n 0, 1) := by decide +kernel
theorem dX0_put_38 : decode cX0_put 38 = .ok (.getfield 48, 3) := by decide +kernel
theorem dX0_put_41 : decode cX0_put 41 = .ok (.iconst 1, 1) := by decide +kernel
theorem dX0_put_42 : decode cX0_put 42 = .ok (.isub, 1) := by decide +kernel
theorem dX0_put_43 : decode cX0_put 43 = .ok (.ireturn, 1) := by decide +kernel
abbrev cX0_isCell : ByteArray := prog_1_method_20_code
def yX0_isCell : MethodName := ⟨RX0, "isCell", "(I)Z"⟩
theorem dX0_isCell_0 : decode cX0_isCell 0 = .ok (.iload_n 0, 1) := by decide +kernel
theorem dX0_isCell_1 : decode cX0_isCell 1 = .ok (.ifCond .lt 14, 3) := by decide +kernel
theorem dX0_isCell_4 : decode cX0_isCell 4 = .ok (.iload_n 0, 1) := by decide +kernel
theorem dX0_isCell_5 : decode cX0_isCell 5 = .ok (.sipush 192, 3) := by decide +kernel
theorem dX0_isCell_8 : decode cX0_isCell 8 = .ok (.if_icmp .ge 7, 3) := by decide +kernel
theorem dX0_isCell_11 : decode cX0_isCell 11 = .ok (.iconst 1, 1) := by decide +kernel
theorem dX0_isCell_12 : decode cX0_isCell 12 = .ok (.goto 4, 3) := by decide +kernel
theorem dX0_isCell_15 : decode cX0_isCell 15 = .ok (.iconst 0, 1) := by decide +kernel
theorem dX0_isCell_16 : decode cX0_isCell 16 = .ok (.ireturn, 1) := by decide +kernel
abbrev cX0_isMeasure : ByteArray := prog_1_method_21_code
def yX0_isMeasure : MethodName := ⟨RX0, "isMeasure", "(I)Z"⟩
theorem dX0_isMeasure_0 : decode cX0_isMeasure 0 = .ok (.iload_n 0, 1) := by decide +kernel
theorem dX0_isMeasure_1 : decode cX0_isMeasure 1 = .ok (.sipush (-1000), 3) := by decide +kernel
theorem dX0_isMeasure_4 : decode cX0_isMeasure 4 = .ok (.if_icmp .lt 14, 3) := by decide +kernel
theorem dX0_isMeasure_7 : decode cX0_isMeasure 7 = .ok (.iload_n 0, 1) := by decide +kernel
theorem dX0_isMeasure_8 : decode cX0_isMeasure 8 = .ok (.sipush 1000, 3) := by decide +kernel
theorem dX0_isMeasure_11 : decode cX0_isMeasure 11 = .ok (.if_icmp .gt 7, 3) := by decide +kernel
theorem dX0_isMeasure_14 : decode cX0_isMeasure 14 = .ok (.iconst 1, 1) := by decide +kernel
theorem dX0_isMeasure_15 : decode cX0_isMeasure 15 = .ok (.goto 4, 3) := by decide +kernel
theorem dX0_isMeasure_18 : decode cX0_isMeasure 18 = .ok (.iconst 0, 1) := by decide +kernel
theorem dX0_isMeasure_19 : decode cX0_isMeasure 19 = .ok (.ireturn, 1) := by decide +kernel
abbrev cX0_add : ByteArray := prog_1_method_32_code
def yX0_add : MethodName := ⟨RX0, "add", "(II)V"⟩
theorem dX0_add_0 : decode cX0_add 0 = .ok (.aload_n 0, 1) := by decide +kernel
theorem dX0_add_1 : decode cX0_add 1 = .ok (.getfield 7, 3) := by decide +kernel
theorem dX0_add_4 : decode cX0_add 4 = .ok (.aload_n 0, 1) := by decide +kernel
theorem dX0_add_5 : decode cX0_add 5 = .ok (.getfield 48, 3) := by decide +kernel
theorem dX0_add_8 : decode cX0_add 8 = .ok (.iload_n 1, 1) := by decide +kernel
theorem dX0_add_9 : decode cX0_add 9 = .ok (.iastore, 1) := by decide +kernel
theorem dX0_add_10 : decode cX0_add 10 = .ok (.aload_n 0, 1) := by decide +kernel
theorem dX0_add_11 : decode cX0_add 11 = .ok (.getfield 13, 3) := by decide +kernel
theorem dX0_add_14 : decode cX0_add 14 = .ok (.aload_n 0, 1) := by decide +kernel
theorem dX0_add_15 : decode cX0_add 15 = .ok (.getfield 48, 3) := by decide +kernel
theorem dX0_add_18 : decode cX0_add 18 = .ok (.iload_n 2, 1) := by decide +kernel
theorem dX0_add_19 : decode cX0_add 19 = .ok (.iastore, 1) := by decide +kernel
theorem dX0_add_20 : decode cX0_add 20 = .ok (.aload_n 0, 1) := by decide +kernel
theorem dX0_add_21 : decode cX0_add 21 = .ok (.dup, 1) := by decide +kernel
theorem dX0_add_22 : decode cX0_add 22 = .ok (.getfield 48, 3) := by decide +kernel
theorem dX0_add_25 : decode cX0_add 25 = .ok (.iconst 1, 1) := by decide +kernel
theorem dX0_add_26 : decode cX0_add 26 = .ok (.iadd, 1) := by decide +kernel
theorem dX0_add_27 : decode cX0_add 27 = .ok (.putfield 48, 3) := by decide +kernel
theorem dX0_add_30 : decode cX0_add 30 = .ok (.iconst 0, 1) := by decide +kernel
theorem dX0_add_31 : decode cX0_add 31 = .ok (.istore_n 3, 1) := by decide +kernel
theorem dX0_add_32 : decode cX0_add 32 = .ok (.iload_n 3, 1) := by decide +kernel
theorem dX0_add_33 : decode cX0_add 33 = .ok (.iconst 5, 1) := by decide +kernel
theorem dX0_add_34 : decode cX0_add 34 = .ok (.if_icmp .ge 42, 3) := by decide +kernel
theorem dX0_add_37 : decode cX0_add 37 = .ok (.aload_n 0, 1) := by decide +kernel
theorem dX0_add_38 : decode cX0_add 38 = .ok (.getfield 16, 3) := by decide +kernel
theorem dX0_add_41 : decode cX0_add 41 = .ok (.iload_n 3, 1) := by decide +kernel
theorem dX0_add_42 : decode cX0_add 42 = .ok (.iaload, 1) := by decide +kernel
theorem dX0_add_43 : decode cX0_add 43 = .ok (.iconst (-1), 1) := by decide +kernel
theorem dX0_add_44 : decode cX0_add 44 = .ok (.if_icmp .eq 26, 3) := by decide +kernel
theorem dX0_add_47 : decode cX0_add 47 = .ok (.aload_n 0, 1) := by decide +kernel
theorem dX0_add_48 : decode cX0_add 48 = .ok (.getfield 16, 3) := by decide +kernel
theorem dX0_add_51 : decode cX0_add 51 = .ok (.iload_n 3, 1) := by decide +kernel
theorem dX0_add_52 : decode cX0_add 52 = .ok (.iaload, 1) := by decide +kernel
theorem dX0_add_53 : decode cX0_add 53 = .ok (.iload_n 1, 1) := by decide +kernel
theorem dX0_add_54 : decode cX0_add 54 = .ok (.invokestatic 69, 3) := by decide +kernel
theorem dX0_add_57 : decode cX0_add 57 = .ok (.istore 4, 2) := by decide +kernel
theorem dX0_add_59 : decode cX0_add 59 = .ok (.aload_n 0, 1) := by decide +kernel
theorem dX0_add_60 : decode cX0_add 60 = .ok (.iload_n 3, 1) := by decide +kernel
theorem dX0_add_61 : decode cX0_add 61 = .ok (.iload 4, 2) := by decide +kernel
theorem dX0_add_63 : decode cX0_add 63 = .ok (.iconst 1, 1) := by decide +kernel
theorem dX0_add_64 : decode cX0_add 64 = .ok (.iload_n 2, 1) := by decide +kernel
theorem dX0_add_65 : decode cX0_add 65 = .ok (.iload_n 2, 1) := by decide +kernel
theorem dX0_add_66 : decode cX0_add 66 = .ok (.iload_n 2, 1) := by decide +kernel
theorem dX0_add_67 : decode cX0_add 67 = .ok (.invokevirtual 92, 3) := by decide +kernel
theorem dX0_add_70 : decode cX0_add 70 = .ok (.iinc 3 1, 3) := by decide +kernel
theorem dX0_add_73 : decode cX0_add 73 = .ok (.goto (-41), 3) := by decide +kernel
theorem dX0_add_76 : decode cX0_add 76 = .ok (.return_, 1) := by decide +kernel
abbrev cX0_seenAs : ByteArray := prog_1_method_27_code
def yX0_seenAs : MethodName := ⟨RX0, "seenAs", "(II)I"⟩
theorem dX0_seenAs_0 : decode cX0_seenAs 0 = .ok (.iload_n 1, 1) := by decide +kernel
theorem dX0_seenAs_1 : decode cX0_seenAs 1 = .ok (.bipush 48, 2) := by decide +kernel
theorem dX0_seenAs_3 : decode cX0_seenAs 3 = .ok (.idiv, 1) := by decide +kernel
theorem dX0_seenAs_4 : decode cX0_seenAs 4 = .ok (.iload_n 0, 1) := by decide +kernel
theorem dX0_seenAs_5 : decode cX0_seenAs 5 = .ok (.invokestatic 80, 3) := by decide +kernel
theorem dX0_seenAs_8 : decode cX0_seenAs 8 = .ok (.invokestatic 83, 3) := by decide +kernel
theorem dX0_seenAs_11 : decode cX0_seenAs 11 = .ok (.istore_n 2, 1) := by decide +kernel
theorem dX0_seenAs_12 : decode cX0_seenAs 12 = .ok (.iload_n 1, 1) := by decide +kernel
theorem dX0_seenAs_13 : decode cX0_seenAs 13 = .ok (.bipush 8, 2) := by decide +kernel
theorem dX0_seenAs_15 : decode cX0_seenAs 15 = .ok (.idiv, 1) := by decide +kernel
theorem dX0_seenAs_16 : decode cX0_seenAs 16 = .ok (.bipush 6, 2) := by decide +kernel
theorem dX0_seenAs_18 : decode cX0_seenAs 18 = .ok (.irem, 1) := by decide +kernel
theorem dX0_seenAs_19 : decode cX0_seenAs 19 = .ok (.iload_n 0, 1) := by decide +kernel
theorem dX0_seenAs_20 : decode cX0_seenAs 20 = .ok (.invokestatic 86, 3) := by decide +kernel
theorem dX0_seenAs_23 : decode cX0_seenAs 23 = .ok (.invokestatic 83, 3) := by decide +kernel
theorem dX0_seenAs_26 : decode cX0_seenAs 26 = .ok (.istore_n 3, 1) := by decide +kernel
theorem dX0_seenAs_27 : decode cX0_seenAs 27 = .ok (.iload_n 1, 1) := by decide +kernel
theorem dX0_seenAs_28 : decode cX0_seenAs 28 = .ok (.bipush 8, 2) := by decide +kernel
theorem dX0_seenAs_30 : decode cX0_seenAs 30 = .ok (.irem, 1) := by decide +kernel
theorem dX0_seenAs_31 : decode cX0_seenAs 31 = .ok (.iload_n 0, 1) := by decide +kernel
theorem dX0_seenAs_32 : decode cX0_seenAs 32 = .ok (.invokestatic 89, 3) := by decide +kernel
theorem dX0_seenAs_35 : decode cX0_seenAs 35 = .ok (.invokestatic 83, 3) := by decide +kernel
theorem dX0_seenAs_38 : decode cX0_seenAs 38 = .ok (.istore 4, 2) := by decide +kernel
theorem dX0_seenAs_40 : decode cX0_seenAs 40 = .ok (.bipush 48, 2) := by decide +kernel
theorem dX0_seenAs_42 : decode cX0_seenAs 42 = .ok (.iload_n 2, 1) := by decide +kernel
theorem dX0_seenAs_43 : decode cX0_seenAs 43 = .ok (.imul, 1) := by decide +kernel
theorem dX0_seenAs_44 : decode cX0_seenAs 44 = .ok (.bipush 8, 2) := by decide +kernel
theorem dX0_seenAs_46 : decode cX0_seenAs 46 = .ok (.iload_n 3, 1) := by decide +kernel
theorem dX0_seenAs_47 : decode cX0_seenAs 47 = .ok (.imul, 1) := by decide +kernel
theorem dX0_seenAs_48 : decode cX0_seenAs 48 = .ok (.iadd, 1) := by decide +kernel
theorem dX0_seenAs_49 : decode cX0_seenAs 49 = .ok (.iload 4, 2) := by decide +kernel
theorem dX0_seenAs_51 : decode cX0_seenAs 51 = .ok (.iadd, 1) := by decide +kernel
theorem dX0_seenAs_52 : decode cX0_seenAs 52 = .ok (.ireturn, 1) := by decide +kernel
abbrev cX0_byA : ByteArray := prog_1_method_24_code
def yX0_byA : MethodName := ⟨RX0, "byA", "(I)I"⟩
theorem dX0_byA_0 : decode cX0_byA 0 = .ok (.iload_n 0, 1) := by decide +kernel
theorem dX0_byA_1 : decode cX0_byA 1 = .ok (.iconst 4, 1) := by decide +kernel
theorem dX0_byA_2 : decode cX0_byA 2 = .ok (.ishr, 1) := by decide +kernel
theorem dX0_byA_3 : decode cX0_byA 3 = .ok (.istore_n 1, 1) := by decide +kernel
theorem dX0_byA_4 : decode cX0_byA 4 = .ok (.iload_n 1, 1) := by decide +kernel
theorem dX0_byA_5 : decode cX0_byA 5 = .ok (.iconst 2, 1) := by decide +kernel
theorem dX0_byA_6 : decode cX0_byA 6 = .ok (.if_icmp .ne 7, 3) := by decide +kernel
theorem dX0_byA_9 : decode cX0_byA 9 = .ok (.iconst 0, 1) := by decide +kernel
theorem dX0_byA_10 : decode cX0_byA 10 = .ok (.goto 6, 3) := by decide +kernel
theorem dX0_byA_13 : decode cX0_byA 13 = .ok (.iload_n 1, 1) := by decide +kernel
theorem dX0_byA_14 : decode cX0_byA 14 = .ok (.iconst 1, 1) := by decide +kernel
theorem dX0_byA_15 : decode cX0_byA 15 = .ok (.iadd, 1) := by decide +kernel
theorem dX0_byA_16 : decode cX0_byA 16 = .ok (.ireturn, 1) := by decide +kernel
abbrev cX0_coarser : ByteArray := prog_1_method_23_code
def yX0_coarser : MethodName := ⟨RX0, "coarser", "(II)I"⟩
theorem dX0_coarser_0 : decode cX0_coarser 0 = .ok (.iload_n 1, 1) := by decide +kernel
theorem dX0_coarser_1 : decode cX0_coarser 1 = .ok (.ifCond .le 9, 3) := by decide +kernel
theorem dX0_coarser_4 : decode cX0_coarser 4 = .ok (.iload_n 0, 1) := by decide +kernel
theorem dX0_coarser_5 : decode cX0_coarser 5 = .ok (.iload_n 1, 1) := by decide +kernel
theorem dX0_coarser_6 : decode cX0_coarser 6 = .ok (.idiv, 1) := by decide +kernel
theorem dX0_coarser_7 : decode cX0_coarser 7 = .ok (.goto 4, 3) := by decide +kernel
theorem dX0_coarser_10 : decode cX0_coarser 10 = .ok (.iconst 0, 1) := by decide +kernel
theorem dX0_coarser_11 : decode cX0_coarser 11 = .ok (.ireturn, 1) := by decide +kernel
abbrev cX0_byB : ByteArray := prog_1_method_25_code
def yX0_byB : MethodName := ⟨RX0, "byB", "(I)I"⟩
theorem dX0_byB_0 : decode cX0_byB 0 = .ok (.iload_n 0, 1) := by decide +kernel
theorem dX0_byB_1 : decode cX0_byB 1 = .ok (.iconst 2, 1) := by decide +kernel
theorem dX0_byB_2 : decode cX0_byB 2 = .ok (.ishr, 1) := by decide +kernel
theorem dX0_byB_3 : decode cX0_byB 3 = .ok (.iconst 3, 1) := by decide +kernel
theorem dX0_byB_4 : decode cX0_byB 4 = .ok (.iand, 1) := by decide +kernel
theorem dX0_byB_5 : decode cX0_byB 5 = .ok (.istore_n 1, 1) := by decide +kernel
theorem dX0_byB_6 : decode cX0_byB 6 = .ok (.iload_n 1, 1) := by decide +kernel
theorem dX0_byB_7 : decode cX0_byB 7 = .ok (.iconst 3, 1) := by decide +kernel
theorem dX0_byB_8 : decode cX0_byB 8 = .ok (.if_icmp .ne 7, 3) := by decide +kernel
theorem dX0_byB_11 : decode cX0_byB 11 = .ok (.iconst 0, 1) := by decide +kernel
theorem dX0_byB_12 : decode cX0_byB 12 = .ok (.goto 6, 3) := by decide +kernel
theorem dX0_byB_15 : decode cX0_byB 15 = .ok (.iload_n 1, 1) := by decide +kernel
theorem dX0_byB_16 : decode cX0_byB 16 = .ok (.iconst 1, 1) := by decide +kernel
theorem dX0_byB_17 : decode cX0_byB 17 = .ok (.iadd, 1) := by decide +kernel
theorem dX0_byB_18 : decode cX0_byB 18 = .ok (.ireturn, 1) := by decide +kernel
abbrev cX0_byC : ByteArray := prog_1_method_26_code
def yX0_byC : MethodName := ⟨RX0, "byC", "(I)I"⟩
theorem dX0_byC_0 : decode cX0_byC 0 = .ok (.iload_n 0, 1) := by decide +kernel
theorem dX0_byC_1 : decode cX0_byC 1 = .ok (.iconst 3, 1) := by decide +kernel
theorem dX0_byC_2 : decode cX0_byC 2 = .ok (.iand, 1) := by decide +kernel
theorem dX0_byC_3 : decode cX0_byC 3 = .ok (.istore_n 1, 1) := by decide +kernel
theorem dX0_byC_4 : decode cX0_byC 4 = .ok (.iload_n 1, 1) := by decide +kernel
theorem dX0_byC_5 : decode cX0_byC 5 = .ok (.iconst 3, 1) := by decide +kernel
theorem dX0_byC_6 : decode cX0_byC 6 = .ok (.if_icmp .ne 7, 3) := by decide +kernel
theorem dX0_byC_9 : decode cX0_byC 9 = .ok (.iconst 0, 1) := by decide +kernel
theorem dX0_byC_10 : decode cX0_byC 10 = .ok (.goto 6, 3) := by decide +kernel
theorem dX0_byC_13 : decode cX0_byC 13 = .ok (.iconst 1, 1) := by decide +kernel
theorem dX0_byC_14 : decode cX0_byC 14 = .ok (.iload_n 1, 1) := by decide +kernel
theorem dX0_byC_15 : decode cX0_byC 15 = .ok (.ishl, 1) := by decide +kernel
theorem dX0_byC_16 : decode cX0_byC 16 = .ok (.ireturn, 1) := by decide +kernel
abbrev cX0_enter : ByteArray := prog_1_method_31_code
def yX0_enter : MethodName := ⟨RX0, "enter", "(IIIIII)V"⟩
theorem dX0_enter_0 : decode cX0_enter 0 = .ok (.sipush 192, 3) := by decide +kernel
theorem dX0_enter_3 : decode cX0_enter 3 = .ok (.iload_n 1, 1) := by decide +kernel
theorem dX0_enter_4 : decode cX0_enter 4 = .ok (.imul, 1) := by decide +kernel
theorem dX0_enter_5 : decode cX0_enter 5 = .ok (.iload_n 2, 1) := by decide +kernel
theorem dX0_enter_6 : decode cX0_enter 6 = .ok (.iadd, 1) := by decide +kernel
theorem dX0_enter_7 : decode cX0_enter 7 = .ok (.istore 7, 2) := by decide +kernel
theorem dX0_enter_9 : decode cX0_enter 9 = .ok (.aload_n 0, 1) := by decide +kernel
theorem dX0_enter_10 : decode cX0_enter 10 = .ok (.getfield 19, 3) := by decide +kernel
theorem dX0_enter_13 : decode cX0_enter 13 = .ok (.iload_n 1, 1) := by decide +kernel
theorem dX0_enter_14 : decode cX0_enter 14 = .ok (.dup2, 1) := by decide +kernel
theorem dX0_enter_15 : decode cX0_enter 15 = .ok (.iaload, 1) := by decide +kernel
theorem dX0_enter_16 : decode cX0_enter 16 = .ok (.aload_n 0, 1) := by decide +kernel
theorem dX0_enter_17 : decode cX0_enter 17 = .ok (.getfield 25, 3) := by decide +kernel
theorem dX0_enter_20 : decode cX0_enter 20 = .ok (.iload 7, 2) := by decide +kernel
theorem dX0_enter_22 : decode cX0_enter 22 = .ok (.iaload, 1) := by decide +kernel
theorem dX0_enter_23 : decode cX0_enter 23 = .ok (.ifCond .ne 7, 3) := by decide +kernel
theorem dX0_enter_26 : decode cX0_enter 26 = .ok (.iconst 1, 1) := by decide +kernel
theorem dX0_enter_27 : decode cX0_enter 27 = .ok (.goto 4, 3) := by decide +kernel
theorem dX0_enter_30 : decode cX0_enter 30 = .ok (.iconst 0, 1) := by decide +kernel
theorem dX0_enter_31 : decode cX0_enter 31 = .ok (.iadd, 1) := by decide +kernel
theorem dX0_enter_32 : decode cX0_enter 32 = .ok (.iastore, 1) := by decide +kernel
theorem dX0_enter_33 : decode cX0_enter 33 = .ok (.aload_n 0, 1) := by decide +kernel
theorem dX0_enter_34 : decode cX0_enter 34 = .ok (.getfield 25, 3) := by decide +kernel
theorem dX0_enter_37 : decode cX0_enter 37 = .ok (.iload 7, 2) := by decide +kernel
theorem dX0_enter_39 : decode cX0_enter 39 = .ok (.dup2, 1) := by decide +kernel
theorem dX0_enter_40 : decode cX0_enter 40 = .ok (.iaload, 1) := by decide +kernel
theorem dX0_enter_41 : decode cX0_enter 41 = .ok (.iload_n 3, 1) := by decide +kernel
theorem dX0_enter_42 : decode cX0_enter 42 = .ok (.iadd, 1) := by decide +kernel
theorem dX0_enter_43 : decode cX0_enter 43 = .ok (.iastore, 1) := by decide +kernel
theorem dX0_enter_44 : decode cX0_enter 44 = .ok (.aload_n 0, 1) := by decide +kernel
theorem dX0_enter_45 : decode cX0_enter 45 = .ok (.getfield 28, 3) := by decide +kernel
theorem dX0_enter_48 : decode cX0_enter 48 = .ok (.iload 7, 2) := by decide +kernel
theorem dX0_enter_50 : decode cX0_enter 50 = .ok (.dup2, 1) := by decide +kernel
theorem dX0_enter_51 : decode cX0_enter 51 = .ok (.iaload, 1) := by decide +kernel
theorem dX0_enter_52 : decode cX0_enter 52 = .ok (.iload 4, 2) := by decide +kernel
theorem dX0_enter_54 : decode cX0_enter 54 = .ok (.iadd, 1) := by decide +kernel
theorem dX0_enter_55 : decode cX0_enter 55 = .ok (.iastore, 1) := by decide +kernel
theorem dX0_enter_56 : decode cX0_enter 56 = .ok (.aload_n 0, 1) := by decide +kernel
theorem dX0_enter_57 : decode cX0_enter 57 = .ok (.getfield 31, 3) := by decide +kernel
theorem dX0_enter_60 : decode cX0_enter 60 = .ok (.iload 7, 2) := by decide +kernel
theorem dX0_enter_62 : decode cX0_enter 62 = .ok (.iload 5, 2) := by decide +kernel
theorem dX0_enter_64 : decode cX0_enter 64 = .ok (.aload_n 0, 1) := by decide +kernel
theorem dX0_enter_65 : decode cX0_enter 65 = .ok (.getfield 31, 3) := by decide +kernel
theorem dX0_enter_68 : decode cX0_enter 68 = .ok (.iload 7, 2) := by decide +kernel
theorem dX0_enter_70 : decode cX0_enter 70 = .ok (.iaload, 1) := by decide +kernel
theorem dX0_enter_71 : decode cX0_enter 71 = .ok (.if_icmp .ge 8, 3) := by decide +kernel
theorem dX0_enter_74 : decode cX0_enter 74 = .ok (.iload 5, 2) := by decide +kernel
theorem dX0_enter_76 : decode cX0_enter 76 = .ok (.goto 10, 3) := by decide +kernel
theorem dX0_enter_79 : decode cX0_enter 79 = .ok (.aload_n 0, 1) := by decide +kernel
theorem dX0_enter_80 : decode cX0_enter 80 = .ok (.getfield 31, 3) := by decide +kernel
theorem dX0_enter_83 : decode cX0_enter 83 = .ok (.iload 7, 2) := by decide +kernel
theorem dX0_enter_85 : decode cX0_enter 85 = .ok (.iaload, 1) := by decide +kernel
theorem dX0_enter_86 : decode cX0_enter 86 = .ok (.iastore, 1) := by decide +kernel
theorem dX0_enter_87 : decode cX0_enter 87 = .ok (.aload_n 0, 1) := by decide +kernel
theorem dX0_enter_88 : decode cX0_enter 88 = .ok (.getfield 34, 3) := by decide +kernel
theorem dX0_enter_91 : decode cX0_enter 91 = .ok (.iload 7, 2) := by decide +kernel
theorem dX0_enter_93 : decode cX0_enter 93 = .ok (.iload 6, 2) := by decide +kernel
theorem dX0_enter_95 : decode cX0_enter 95 = .ok (.aload_n 0, 1) := by decide +kernel
theorem dX0_enter_96 : decode cX0_enter 96 = .ok (.getfield 34, 3) := by decide +kernel
theorem dX0_enter_99 : decode cX0_enter 99 = .ok (.iload 7, 2) := by decide +kernel
theorem dX0_enter_101 : decode cX0_enter 101 = .ok (.iaload, 1) := by decide +kernel
theorem dX0_enter_102 : decode cX0_enter 102 = .ok (.if_icmp .le 8, 3) := by decide +kernel
theorem dX0_enter_105 : decode cX0_enter 105 = .ok (.iload 6, 2) := by decide +kernel
theorem dX0_enter_107 : decode cX0_enter 107 = .ok (.goto 10, 3) := by decide +kernel
theorem dX0_enter_110 : decode cX0_enter 110 = .ok (.aload_n 0, 1) := by decide +kernel
theorem dX0_enter_111 : decode cX0_enter 111 = .ok (.getfield 34, 3) := by decide +kernel
theorem dX0_enter_114 : decode cX0_enter 114 = .ok (.iload 7, 2) := by decide +kernel
theorem dX0_enter_116 : decode cX0_enter 116 = .ok (.iaload, 1) := by decide +kernel
theorem dX0_enter_117 : decode cX0_enter 117 = .ok (.iastore, 1) := by decide +kernel
theorem dX0_enter_118 : decode cX0_enter 118 = .ok (.return_, 1) := by decide +kernel
abbrev cX0_sow : ByteArray := prog_1_method_3_code
def yX0_sow : MethodName := ⟨RX0, "sow", "(III)I"⟩
theorem dX0_sow_0 : decode cX0_sow 0 = .ok (.iload_n 1, 1) := by decide +kernel
theorem dX0_sow_1 : decode cX0_sow 1 = .ok (.invokestatic 41, 3) := by decide +kernel
theorem dX0_sow_4 : decode cX0_sow 4 = .ok (.ifCond .ne 5, 3) := by decide +kernel
theorem dX0_sow_7 : decode cX0_sow 7 = .ok (.iconst (-1), 1) := by decide +kernel
theorem dX0_sow_8 : decode cX0_sow 8 = .ok (.ireturn, 1) := by decide +kernel
theorem dX0_sow_9 : decode cX0_sow 9 = .ok (.iload_n 2, 1) := by decide +kernel
theorem dX0_sow_10 : decode cX0_sow 10 = .ok (.invokestatic 41, 3) := by decide +kernel
theorem dX0_sow_13 : decode cX0_sow 13 = .ok (.ifCond .ne 6, 3) := by decide +kernel
theorem dX0_sow_16 : decode cX0_sow 16 = .ok (.bipush (-2), 2) := by decide +kernel
theorem dX0_sow_18 : decode cX0_sow 18 = .ok (.ireturn, 1) := by decide +kernel
theorem dX0_sow_19 : decode cX0_sow 19 = .ok (.iload_n 3, 1) := by decide +kernel
theorem dX0_sow_20 : decode cX0_sow 20 = .ok (.iconst 1, 1) := by decide +kernel
theorem dX0_sow_21 : decode cX0_sow 21 = .ok (.if_icmp .lt 9, 3) := by decide +kernel
theorem dX0_sow_24 : decode cX0_sow 24 = .ok (.iload_n 3, 1) := by decide +kernel
theorem dX0_sow_25 : decode cX0_sow 25 = .ok (.bipush 40, 2) := by decide +kernel
theorem dX0_sow_27 : decode cX0_sow 27 = .ok (.if_icmp .le 6, 3) := by decide +kernel
theorem dX0_sow_30 : decode cX0_sow 30 = .ok (.bipush (-3), 2) := by decide +kernel
theorem dX0_sow_32 : decode cX0_sow 32 = .ok (.ireturn, 1) := by decide +kernel
theorem dX0_sow_33 : decode cX0_sow 33 = .ok (.iconst 0, 1) := by decide +kernel
theorem dX0_sow_34 : decode cX0_sow 34 = .ok (.istore 4, 2) := by decide +kernel
theorem dX0_sow_36 : decode cX0_sow 36 = .ok (.iload 4, 2) := by decide +kernel
theorem dX0_sow_38 : decode cX0_sow 38 = .ok (.iload_n 3, 1) := by decide +kernel
theorem dX0_sow_39 : decode cX0_sow 39 = .ok (.if_icmp .ge 52, 3) := by decide +kernel
theorem dX0_sow_42 : decode cX0_sow 42 = .ok (.aload_n 0, 1) := by decide +kernel
theorem dX0_sow_43 : decode cX0_sow 43 = .ok (.getfield 48, 3) := by decide +kernel
theorem dX0_sow_46 : decode cX0_sow 46 = .ok (.bipush 40, 2) := by decide +kernel
theorem dX0_sow_48 : decode cX0_sow 48 = .ok (.if_icmp .ge 43, 3) := by decide +kernel
theorem dX0_sow_51 : decode cX0_sow 51 = .ok (.aload_n 0, 1) := by decide +kernel
theorem dX0_sow_52 : decode cX0_sow 52 = .ok (.iload_n 1, 1) := by decide +kernel
theorem dX0_sow_53 : decode cX0_sow 53 = .ok (.iload 4, 2) := by decide +kernel
theorem dX0_sow_55 : decode cX0_sow 55 = .ok (.iload_n 2, 1) := by decide +kernel
theorem dX0_sow_56 : decode cX0_sow 56 = .ok (.imul, 1) := by decide +kernel
theorem dX0_sow_57 : decode cX0_sow 57 = .ok (.iadd, 1) := by decide +kernel
theorem dX0_sow_58 : decode cX0_sow 58 = .ok (.sipush 192, 3) := by decide +kernel
theorem dX0_sow_61 : decode cX0_sow 61 = .ok (.irem, 1) := by decide +kernel
theorem dX0_sow_62 : decode cX0_sow 62 = .ok (.iload_n 1, 1) := by decide +kernel
theorem dX0_sow_63 : decode cX0_sow 63 = .ok (.bipush 7, 2) := by decide +kernel
theorem dX0_sow_65 : decode cX0_sow 65 = .ok (.imul, 1) := by decide +kernel
theorem dX0_sow_66 : decode cX0_sow 66 = .ok (.iload 4, 2) := by decide +kernel
theorem dX0_sow_68 : decode cX0_sow 68 = .ok (.iload 4, 2) := by decide +kernel
theorem dX0_sow_70 : decode cX0_sow 70 = .ok (.imul, 1) := by decide +kernel
theorem dX0_sow_71 : decode cX0_sow 71 = .ok (.bipush 11, 2) := by decide +kernel
theorem dX0_sow_73 : decode cX0_sow 73 = .ok (.imul, 1) := by decide +kernel
theorem dX0_sow_74 : decode cX0_sow 74 = .ok (.iadd, 1) := by decide +kernel
theorem dX0_sow_75 : decode cX0_sow 75 = .ok (.sipush 300, 3) := by decide +kernel
theorem dX0_sow_78 : decode cX0_sow 78 = .ok (.irem, 1) := by decide +kernel
theorem dX0_sow_79 : decode cX0_sow 79 = .ok (.bipush 100, 2) := by decide +kernel
theorem dX0_sow_81 : decode cX0_sow 81 = .ok (.isub, 1) := by decide +kernel
theorem dX0_sow_82 : decode cX0_sow 82 = .ok (.invokevirtual 52, 3) := by decide +kernel
theorem dX0_sow_85 : decode cX0_sow 85 = .ok (.iinc 4 1, 3) := by decide +kernel
theorem dX0_sow_88 : decode cX0_sow 88 = .ok (.goto (-52), 3) := by decide +kernel
theorem dX0_sow_91 : decode cX0_sow 91 = .ok (.aload_n 0, 1) := by decide +kernel
theorem dX0_sow_92 : decode cX0_sow 92 = .ok (.getfield 48, 3) := by decide +kernel
theorem dX0_sow_95 : decode cX0_sow 95 = .ok (.ireturn, 1) := by decide +kernel
abbrev cX0_measure : ByteArray := prog_1_method_4_code
def yX0_measure : MethodName := ⟨RX0, "measure", "(II)I"⟩
theorem dX0_measure_0 : decode cX0_measure 0 = .ok (.aload_n 0, 1) := by decide +kernel
theorem dX0_measure_1 : decode cX0_measure 1 = .ok (.iload_n 1, 1) := by decide +kernel
theorem dX0_measure_2 : decode cX0_measure 2 = .ok (.invokevirtual 56, 3) := by decide +kernel
theorem dX0_measure_5 : decode cX0_measure 5 = .ok (.ifCond .ne 5, 3) := by decide +kernel
theorem dX0_measure_8 : decode cX0_measure 8 = .ok (.iconst (-1), 1) := by decide +kernel
theorem dX0_measure_9 : decode cX0_measure 9 = .ok (.ireturn, 1) := by decide +kernel
theorem dX0_measure_10 : decode cX0_measure 10 = .ok (.iload_n 2, 1) := by decide +kernel
theorem dX0_measure_11 : decode cX0_measure 11 = .ok (.invokestatic 45, 3) := by decide +kernel
theorem dX0_measure_14 : decode cX0_measure 14 = .ok (.ifCond .ne 6, 3) := by decide +kernel
theorem dX0_measure_17 : decode cX0_measure 17 = .ok (.bipush (-2), 2) := by decide +kernel
theorem dX0_measure_19 : decode cX0_measure 19 = .ok (.ireturn, 1) := by decide +kernel
theorem dX0_measure_20 : decode cX0_measure 20 = .ok (.aload_n 0, 1) := by decide +kernel
theorem dX0_measure_21 : decode cX0_measure 21 = .ok (.getfield 13, 3) := by decide +kernel
theorem dX0_measure_24 : decode cX0_measure 24 = .ok (.iload_n 1, 1) := by decide +kernel
theorem dX0_measure_25 : decode cX0_measure 25 = .ok (.iaload, 1) := by decide +kernel
theorem dX0_measure_26 : decode cX0_measure 26 = .ok (.istore_n 3, 1) := by decide +kernel
theorem dX0_measure_27 : decode cX0_measure 27 = .ok (.aload_n 0, 1) := by decide +kernel
theorem dX0_measure_28 : decode cX0_measure 28 = .ok (.getfield 13, 3) := by decide +kernel
theorem dX0_measure_31 : decode cX0_measure 31 = .ok (.iload_n 1, 1) := by decide +kernel
theorem dX0_measure_32 : decode cX0_measure 32 = .ok (.iload_n 2, 1) := by decide +kernel
theorem dX0_measure_33 : decode cX0_measure 33 = .ok (.iastore, 1) := by decide +kernel
theorem dX0_measure_34 : decode cX0_measure 34 = .ok (.aload_n 0, 1) := by decide +kernel
theorem dX0_measure_35 : decode cX0_measure 35 = .ok (.invokevirtual 59, 3) := by decide +kernel
theorem dX0_measure_38 : decode cX0_measure 38 = .ok (.iload_n 3, 1) := by decide +kernel
theorem dX0_measure_39 : decode cX0_measure 39 = .ok (.ireturn, 1) := by decide +kernel
abbrev cX0_isFact : ByteArray := prog_1_method_22_code
def yX0_isFact : MethodName := ⟨RX0, "isFact", "(I)Z"⟩
theorem dX0_isFact_0 : decode cX0_isFact 0 = .ok (.iload_n 1, 1) := by decide +kernel
theorem dX0_isFact_1 : decode cX0_isFact 1 = .ok (.ifCond .lt 15, 3) := by decide +kernel
theorem dX0_isFact_4 : decode cX0_isFact 4 = .ok (.iload_n 1, 1) := by decide +kernel
theorem dX0_isFact_5 : decode cX0_isFact 5 = .ok (.aload_n 0, 1) := by decide +kernel
theorem dX0_isFact_6 : decode cX0_isFact 6 = .ok (.getfield 48, 3) := by decide +kernel
theorem dX0_isFact_9 : decode cX0_isFact 9 = .ok (.if_icmp .ge 7, 3) := by decide +kernel
theorem dX0_isFact_12 : decode cX0_isFact 12 = .ok (.iconst 1, 1) := by decide +kernel
theorem dX0_isFact_13 : decode cX0_isFact 13 = .ok (.goto 4, 3) := by decide +kernel
theorem dX0_isFact_16 : decode cX0_isFact 16 = .ok (.iconst 0, 1) := by decide +kernel
theorem dX0_isFact_17 : decode cX0_isFact 17 = .ok (.ireturn, 1) := by decide +kernel
abbrev cX0_startAnew : ByteArray := prog_1_method_33_code
def yX0_startAnew : MethodName := ⟨RX0, "startAnew", "()V"⟩
theorem dX0_startAnew_0 : decode cX0_startAnew 0 = .ok (.iconst 1, 1) := by decide +kernel
theorem dX0_startAnew_1 : decode cX0_startAnew 1 = .ok (.istore_n 1, 1) := by decide +kernel
theorem dX0_startAnew_2 : decode cX0_startAnew 2 = .ok (.iload_n 1, 1) := by decide +kernel
theorem dX0_startAnew_3 : decode cX0_startAnew 3 = .ok (.iconst 5, 1) := by decide +kernel
theorem dX0_startAnew_4 : decode cX0_startAnew 4 = .ok (.if_icmp .ge 16, 3) := by decide +kernel
theorem dX0_startAnew_7 : decode cX0_startAnew 7 = .ok (.aload_n 0, 1) := by decide +kernel
theorem dX0_startAnew_8 : decode cX0_startAnew 8 = .ok (.getfield 16, 3) := by decide +kernel
theorem dX0_startAnew_11 : decode cX0_startAnew 11 = .ok (.iload_n 1, 1) := by decide +kernel
theorem dX0_startAnew_12 : decode cX0_startAnew 12 = .ok (.iconst (-1), 1) := by decide +kernel
theorem dX0_startAnew_13 : decode cX0_startAnew 13 = .ok (.iastore, 1) := by decide +kernel
theorem dX0_startAnew_14 : decode cX0_startAnew 14 = .ok (.iinc 1 1, 3) := by decide +kernel
theorem dX0_startAnew_17 : decode cX0_startAnew 17 = .ok (.goto (-15), 3) := by decide +kernel
theorem dX0_startAnew_20 : decode cX0_startAnew 20 = .ok (.aload_n 0, 1) := by decide +kernel
theorem dX0_startAnew_21 : decode cX0_startAnew 21 = .ok (.iconst 0, 1) := by decide +kernel
theorem dX0_startAnew_22 : decode cX0_startAnew 22 = .ok (.invokevirtual 37, 3) := by decide +kernel
theorem dX0_startAnew_25 : decode cX0_startAnew 25 = .ok (.iconst 0, 1) := by decide +kernel
theorem dX0_startAnew_26 : decode cX0_startAnew 26 = .ok (.istore_n 1, 1) := by decide +kernel
theorem dX0_startAnew_27 : decode cX0_startAnew 27 = .ok (.iload_n 1, 1) := by decide +kernel
theorem dX0_startAnew_28 : decode cX0_startAnew 28 = .ok (.aload_n 0, 1) := by decide +kernel
theorem dX0_startAnew_29 : decode cX0_startAnew 29 = .ok (.getfield 48, 3) := by decide +kernel
theorem dX0_startAnew_32 : decode cX0_startAnew 32 = .ok (.if_icmp .ge 39, 3) := by decide +kernel
theorem dX0_startAnew_35 : decode cX0_startAnew 35 = .ok (.aload_n 0, 1) := by decide +kernel
theorem dX0_startAnew_36 : decode cX0_startAnew 36 = .ok (.iconst 0, 1) := by decide +kernel
theorem dX0_startAnew_37 : decode cX0_startAnew 37 = .ok (.aload_n 0, 1) := by decide +kernel
theorem dX0_startAnew_38 : decode cX0_startAnew 38 = .ok (.getfield 7, 3) := by decide +kernel
theorem dX0_startAnew_41 : decode cX0_startAnew 41 = .ok (.iload_n 1, 1) := by decide +kernel
theorem dX0_startAnew_42 : decode cX0_startAnew 42 = .ok (.iaload, 1) := by decide +kernel
theorem dX0_startAnew_43 : decode cX0_startAnew 43 = .ok (.iconst 1, 1) := by decide +kernel
theorem dX0_startAnew_44 : decode cX0_startAnew 44 = .ok (.aload_n 0, 1) := by decide +kernel
theorem dX0_startAnew_45 : decode cX0_startAnew 45 = .ok (.getfield 13, 3) := by decide +kernel
theorem dX0_startAnew_48 : decode cX0_startAnew 48 = .ok (.iload_n 1, 1) := by decide +kernel
theorem dX0_startAnew_49 : decode cX0_startAnew 49 = .ok (.iaload, 1) := by decide +kernel
theorem dX0_startAnew_50 : decode cX0_startAnew 50 = .ok (.aload_n 0, 1) := by decide +kernel
theorem dX0_startAnew_51 : decode cX0_startAnew 51 = .ok (.getfield 13, 3) := by decide +kernel
theorem dX0_startAnew_54 : decode cX0_startAnew 54 = .ok (.iload_n 1, 1) := by decide +kernel
theorem dX0_startAnew_55 : decode cX0_startAnew 55 = .ok (.iaload, 1) := by decide +kernel
theorem dX0_startAnew_56 : decode cX0_startAnew 56 = .ok (.aload_n 0, 1) := by decide +kernel
theorem dX0_startAnew_57 : decode cX0_startAnew 57 = .ok (.getfield 13, 3) := by decide +kernel
theorem dX0_startAnew_60 : decode cX0_startAnew 60 = .ok (.iload_n 1, 1) := by decide +kernel
theorem dX0_startAnew_61 : decode cX0_startAnew 61 = .ok (.iaload, 1) := by decide +kernel
theorem dX0_startAnew_62 : decode cX0_startAnew 62 = .ok (.invokevirtual 92, 3) := by decide +kernel
theorem dX0_startAnew_65 : decode cX0_startAnew 65 = .ok (.iinc 1 1, 3) := by decide +kernel
theorem dX0_startAnew_68 : decode cX0_startAnew 68 = .ok (.goto (-41), 3) := by decide +kernel
theorem dX0_startAnew_71 : decode cX0_startAnew 71 = .ok (.return_, 1) := by decide +kernel
abbrev cX0_drop : ByteArray := prog_1_method_5_code
def yX0_drop : MethodName := ⟨RX0, "drop", "(I)I"⟩
theorem dX0_drop_0 : decode cX0_drop 0 = .ok (.aload_n 0, 1) := by decide +kernel
theorem dX0_drop_1 : decode cX0_drop 1 = .ok (.iload_n 1, 1) := by decide +kernel
theorem dX0_drop_2 : decode cX0_drop 2 = .ok (.invokevirtual 56, 3) := by decide +kernel
theorem dX0_drop_5 : decode cX0_drop 5 = .ok (.ifCond .ne 5, 3) := by decide +kernel
theorem dX0_drop_8 : decode cX0_drop 8 = .ok (.iconst (-1), 1) := by decide +kernel
theorem dX0_drop_9 : decode cX0_drop 9 = .ok (.ireturn, 1) := by decide +kernel
theorem dX0_drop_10 : decode cX0_drop 10 = .ok (.iload_n 1, 1) := by decide +kernel
theorem dX0_drop_11 : decode cX0_drop 11 = .ok (.iconst 1, 1) := by decide +kernel
theorem dX0_drop_12 : decode cX0_drop 12 = .ok (.iadd, 1) := by decide +kernel
theorem dX0_drop_13 : decode cX0_drop 13 = .ok (.istore_n 2, 1) := by decide +kernel
theorem dX0_drop_14 : decode cX0_drop 14 = .ok (.iload_n 2, 1) := by decide +kernel
theorem dX0_drop_15 : decode cX0_drop 15 = .ok (.aload_n 0, 1) := by decide +kernel
theorem dX0_drop_16 : decode cX0_drop 16 = .ok (.getfield 48, 3) := by decide +kernel
theorem dX0_drop_19 : decode cX0_drop 19 = .ok (.if_icmp .ge 37, 3) := by decide +kernel
theorem dX0_drop_22 : decode cX0_drop 22 = .ok (.aload_n 0, 1) := by decide +kernel
theorem dX0_drop_23 : decode cX0_drop 23 = .ok (.getfield 7, 3) := by decide +kernel
theorem dX0_drop_26 : decode cX0_drop 26 = .ok (.iload_n 2, 1) := by decide +kernel
theorem dX0_drop_27 : decode cX0_drop 27 = .ok (.iconst 1, 1) := by decide +kernel
theorem dX0_drop_28 : decode cX0_drop 28 = .ok (.isub, 1) := by decide +kernel
theorem dX0_drop_29 : decode cX0_drop 29 = .ok (.aload_n 0, 1) := by decide +kernel
theorem dX0_drop_30 : decode cX0_drop 30 = .ok (.getfield 7, 3) := by decide +kernel
theorem dX0_drop_33 : decode cX0_drop 33 = .ok (.iload_n 2, 1) := by decide +kernel
theorem dX0_drop_34 : decode cX0_drop 34 = .ok (.iaload, 1) := by decide +kernel
theorem dX0_drop_35 : decode cX0_drop 35 = .ok (.iastore, 1) := by decide +kernel
theorem dX0_drop_36 : decode cX0_drop 36 = .ok (.aload_n 0, 1) := by decide +kernel
theorem dX0_drop_37 : decode cX0_drop 37 = .ok (.getfield 13, 3) := by decide +kernel
theorem dX0_drop_40 : decode cX0_drop 40 = .ok (.iload_n 2, 1) := by decide +kernel
theorem dX0_drop_41 : decode cX0_drop 41 = .ok (.iconst 1, 1) := by decide +kernel
theorem dX0_drop_42 : decode cX0_drop 42 = .ok (.isub, 1) := by decide +kernel
theorem dX0_drop_43 : decode cX0_drop 43 = .ok (.aload_n 0, 1) := by decide +kernel
theorem dX0_drop_44 : decode cX0_drop 44 = .ok (.getfield 13, 3) := by decide +kernel
theorem dX0_drop_47 : decode cX0_drop 47 = .ok (.iload_n 2, 1) := by decide +kernel
theorem dX0_drop_48 : decode cX0_drop 48 = .ok (.iaload, 1) := by decide +kernel
theorem dX0_drop_49 : decode cX0_drop 49 = .ok (.iastore, 1) := by decide +kernel
theorem dX0_drop_50 : decode cX0_drop 50 = .ok (.iinc 2 1, 3) := by decide +kernel
theorem dX0_drop_53 : decode cX0_drop 53 = .ok (.goto (-39), 3) := by decide +kernel
theorem dX0_drop_56 : decode cX0_drop 56 = .ok (.aload_n 0, 1) := by decide +kernel
theorem dX0_drop_57 : decode cX0_drop 57 = .ok (.dup, 1) := by decide +kernel
theorem dX0_drop_58 : decode cX0_drop 58 = .ok (.getfield 48, 3) := by decide +kernel
theorem dX0_drop_61 : decode cX0_drop 61 = .ok (.iconst 1, 1) := by decide +kernel
theorem dX0_drop_62 : decode cX0_drop 62 = .ok (.isub, 1) := by decide +kernel
theorem dX0_drop_63 : decode cX0_drop 63 = .ok (.putfield 48, 3) := by decide +kernel
theorem dX0_drop_66 : decode cX0_drop 66 = .ok (.aload_n 0, 1) := by decide +kernel
theorem dX0_drop_67 : decode cX0_drop 67 = .ok (.invokevirtual 59, 3) := by decide +kernel
theorem dX0_drop_70 : decode cX0_drop 70 = .ok (.aload_n 0, 1) := by decide +kernel
theorem dX0_drop_71 : decode cX0_drop 71 = .ok (.getfield 48, 3) := by decide +kernel
theorem dX0_drop_74 : decode cX0_drop 74 = .ok (.ireturn, 1) := by decide +kernel
end
section
set_option maxRecDepth 100000
abbrev cX0_prepare : ByteArray := prog_1_method_6_code
def yX0_prepare : MethodName := ⟨RX0, "prepare", "(I)I"⟩
theorem dX0_prepare_0 : decode cX0_prepare 0 = .ok (.aload_n 0, 1) := by decide +kernel
theorem dX0_prepare_1 : decode cX0_prepare 1 = .ok (.iload_n 1, 1) := by decide +kernel
theorem dX0_prepare_2 : decode cX0_prepare 2 = .ok (.invokevirtual 62, 3) := by decide +kernel
theorem dX0_prepare_5 : decode cX0_prepare 5 = .ok (.ireturn, 1) := by decide +kernel
abbrev cX0_full : ByteArray := prog_1_method_9_code
def yX0_full : MethodName := ⟨RX0, "full", "(I)I"⟩
theorem dX0_full_0 : decode cX0_full 0 = .ok (.iload_n 1, 1) := by decide +kernel
theorem dX0_full_1 : decode cX0_full 1 = .ok (.invokestatic 66, 3) := by decide +kernel
theorem dX0_full_4 : decode cX0_full 4 = .ok (.ifCond .ne 5, 3) := by decide +kernel
theorem dX0_full_7 : decode cX0_full 7 = .ok (.iconst (-1), 1) := by decide +kernel
theorem dX0_full_8 : decode cX0_full 8 = .ok (.ireturn, 1) := by decide +kernel
theorem dX0_full_9 : decode cX0_full 9 = .ok (.aload_n 0, 1) := by decide +kernel
theorem dX0_full_10 : decode cX0_full 10 = .ok (.iload_n 1, 1) := by decide +kernel
theorem dX0_full_11 : decode cX0_full 11 = .ok (.invokevirtual 73, 3) := by decide +kernel
theorem dX0_full_14 : decode cX0_full 14 = .ok (.istore_n 2, 1) := by decide +kernel
theorem dX0_full_15 : decode cX0_full 15 = .ok (.aload_n 0, 1) := by decide +kernel
theorem dX0_full_16 : decode cX0_full 16 = .ok (.getfield 19, 3) := by decide +kernel
theorem dX0_full_19 : decode cX0_full 19 = .ok (.iload_n 2, 1) := by decide +kernel
theorem dX0_full_20 : decode cX0_full 20 = .ok (.iaload, 1) := by decide +kernel
theorem dX0_full_21 : decode cX0_full 21 = .ok (.ireturn, 1) := by decide +kernel
abbrev cX0_isView : ByteArray := prog_1_method_19_code
def yX0_isView : MethodName := ⟨RX0, "isView", "(I)Z"⟩
theorem dX0_isView_0 : decode cX0_isView 0 = .ok (.iload_n 0, 1) := by decide +kernel
theorem dX0_isView_1 : decode cX0_isView 1 = .ok (.ifCond .lt 13, 3) := by decide +kernel
theorem dX0_isView_4 : decode cX0_isView 4 = .ok (.iload_n 0, 1) := by decide +kernel
theorem dX0_isView_5 : decode cX0_isView 5 = .ok (.bipush 48, 2) := by decide +kernel
theorem dX0_isView_7 : decode cX0_isView 7 = .ok (.if_icmp .ge 7, 3) := by decide +kernel
theorem dX0_isView_10 : decode cX0_isView 10 = .ok (.iconst 1, 1) := by decide +kernel
theorem dX0_isView_11 : decode cX0_isView 11 = .ok (.goto 4, 3) := by decide +kernel
theorem dX0_isView_14 : decode cX0_isView 14 = .ok (.iconst 0, 1) := by decide +kernel
theorem dX0_isView_15 : decode cX0_isView 15 = .ok (.ireturn, 1) := by decide +kernel
abbrev cX0_slotFor : ByteArray := prog_1_method_34_code
def yX0_slotFor : MethodName := ⟨RX0, "slotFor", "(I)I"⟩
theorem dX0_slotFor_0 : decode cX0_slotFor 0 = .ok (.aload_n 0, 1) := by decide +kernel
theorem dX0_slotFor_1 : decode cX0_slotFor 1 = .ok (.dup, 1) := by decide +kernel
theorem dX0_slotFor_2 : decode cX0_slotFor 2 = .ok (.getfield 96, 3) := by decide +kernel
theorem dX0_slotFor_5 : decode cX0_slotFor 5 = .ok (.iconst 1, 1) := by decide +kernel
theorem dX0_slotFor_6 : decode cX0_slotFor 6 = .ok (.iadd, 1) := by decide +kernel
theorem dX0_slotFor_7 : decode cX0_slotFor 7 = .ok (.putfield 96, 3) := by decide +kernel
theorem dX0_slotFor_10 : decode cX0_slotFor 10 = .ok (.iconst 0, 1) := by decide +kernel
theorem dX0_slotFor_11 : decode cX0_slotFor 11 = .ok (.istore_n 2, 1) := by decide +kernel
theorem dX0_slotFor_12 : decode cX0_slotFor 12 = .ok (.iload_n 2, 1) := by decide +kernel
theorem dX0_slotFor_13 : decode cX0_slotFor 13 = .ok (.iconst 5, 1) := by decide +kernel
theorem dX0_slotFor_14 : decode cX0_slotFor 14 = .ok (.if_icmp .ge 31, 3) := by decide +kernel
theorem dX0_slotFor_17 : decode cX0_slotFor 17 = .ok (.aload_n 0, 1) := by decide +kernel
theorem dX0_slotFor_18 : decode cX0_slotFor 18 = .ok (.getfield 16, 3) := by decide +kernel
theorem dX0_slotFor_21 : decode cX0_slotFor 21 = .ok (.iload_n 2, 1) := by decide +kernel
theorem dX0_slotFor_22 : decode cX0_slotFor 22 = .ok (.iaload, 1) := by decide +kernel
theorem dX0_slotFor_23 : decode cX0_slotFor 23 = .ok (.iload_n 1, 1) := by decide +kernel
theorem dX0_slotFor_24 : decode cX0_slotFor 24 = .ok (.if_icmp .ne 15, 3) := by decide +kernel
theorem dX0_slotFor_27 : decode cX0_slotFor 27 = .ok (.aload_n 0, 1) := by decide +kernel
theorem dX0_slotFor_28 : decode cX0_slotFor 28 = .ok (.getfield 22, 3) := by decide +kernel
theorem dX0_slotFor_31 : decode cX0_slotFor 31 = .ok (.iload_n 2, 1) := by decide +kernel
theorem dX0_slotFor_32 : decode cX0_slotFor 32 = .ok (.aload_n 0, 1) := by decide +kernel
theorem dX0_slotFor_33 : decode cX0_slotFor 33 = .ok (.getfield 96, 3) := by decide +kernel
theorem dX0_slotFor_36 : decode cX0_slotFor 36 = .ok (.iastore, 1) := by decide +kernel
theorem dX0_slotFor_37 : decode cX0_slotFor 37 = .ok (.iload_n 2, 1) := by decide +kernel
theorem dX0_slotFor_38 : decode cX0_slotFor 38 = .ok (.ireturn, 1) := by decide +kernel
theorem dX0_slotFor_39 : decode cX0_slotFor 39 = .ok (.iinc 2 1, 3) := by decide +kernel
theorem dX0_slotFor_42 : decode cX0_slotFor 42 = .ok (.goto (-30), 3) := by decide +kernel
theorem dX0_slotFor_45 : decode cX0_slotFor 45 = .ok (.iconst 0, 1) := by decide +kernel
theorem dX0_slotFor_46 : decode cX0_slotFor 46 = .ok (.istore_n 2, 1) := by decide +kernel
theorem dX0_slotFor_47 : decode cX0_slotFor 47 = .ok (.iconst 1, 1) := by decide +kernel
theorem dX0_slotFor_48 : decode cX0_slotFor 48 = .ok (.istore_n 3, 1) := by decide +kernel
theorem dX0_slotFor_49 : decode cX0_slotFor 49 = .ok (.iload_n 3, 1) := by decide +kernel
theorem dX0_slotFor_50 : decode cX0_slotFor 50 = .ok (.iconst 5, 1) := by decide +kernel
theorem dX0_slotFor_51 : decode cX0_slotFor 51 = .ok (.if_icmp .ge 65, 3) := by decide +kernel
theorem dX0_slotFor_54 : decode cX0_slotFor 54 = .ok (.aload_n 0, 1) := by decide +kernel
theorem dX0_slotFor_55 : decode cX0_slotFor 55 = .ok (.getfield 16, 3) := by decide +kernel
theorem dX0_slotFor_58 : decode cX0_slotFor 58 = .ok (.iload_n 3, 1) := by decide +kernel
theorem dX0_slotFor_59 : decode cX0_slotFor 59 = .ok (.iaload, 1) := by decide +kernel
theorem dX0_slotFor_60 : decode cX0_slotFor 60 = .ok (.iconst (-1), 1) := by decide +kernel
theorem dX0_slotFor_61 : decode cX0_slotFor 61 = .ok (.if_icmp .eq 20, 3) := by decide +kernel
theorem dX0_slotFor_64 : decode cX0_slotFor 64 = .ok (.aload_n 0, 1) := by decide +kernel
theorem dX0_slotFor_65 : decode cX0_slotFor 65 = .ok (.getfield 16, 3) := by decide +kernel
theorem dX0_slotFor_68 : decode cX0_slotFor 68 = .ok (.iload_n 3, 1) := by decide +kernel
theorem dX0_slotFor_69 : decode cX0_slotFor 69 = .ok (.iaload, 1) := by decide +kernel
theorem dX0_slotFor_70 : decode cX0_slotFor 70 = .ok (.iload_n 1, 1) := by decide +kernel
theorem dX0_slotFor_71 : decode cX0_slotFor 71 = .ok (.invokestatic 76, 3) := by decide +kernel
theorem dX0_slotFor_74 : decode cX0_slotFor 74 = .ok (.ifCond .eq 7, 3) := by decide +kernel
theorem dX0_slotFor_77 : decode cX0_slotFor 77 = .ok (.iconst 1, 1) := by decide +kernel
theorem dX0_slotFor_78 : decode cX0_slotFor 78 = .ok (.goto 4, 3) := by decide +kernel
theorem dX0_slotFor_81 : decode cX0_slotFor 81 = .ok (.iconst 0, 1) := by decide +kernel
theorem dX0_slotFor_82 : decode cX0_slotFor 82 = .ok (.istore 4, 2) := by decide +kernel
theorem dX0_slotFor_84 : decode cX0_slotFor 84 = .ok (.iload 4, 2) := by decide +kernel
theorem dX0_slotFor_86 : decode cX0_slotFor 86 = .ok (.ifCond .eq 22, 3) := by decide +kernel
theorem dX0_slotFor_89 : decode cX0_slotFor 89 = .ok (.aload_n 0, 1) := by decide +kernel
theorem dX0_slotFor_90 : decode cX0_slotFor 90 = .ok (.getfield 19, 3) := by decide +kernel
theorem dX0_slotFor_93 : decode cX0_slotFor 93 = .ok (.iload_n 3, 1) := by decide +kernel
theorem dX0_slotFor_94 : decode cX0_slotFor 94 = .ok (.iaload, 1) := by decide +kernel
theorem dX0_slotFor_95 : decode cX0_slotFor 95 = .ok (.aload_n 0, 1) := by decide +kernel
theorem dX0_slotFor_96 : decode cX0_slotFor 96 = .ok (.getfield 19, 3) := by decide +kernel
theorem dX0_slotFor_99 : decode cX0_slotFor 99 = .ok (.iload_n 2, 1) := by decide +kernel
theorem dX0_slotFor_100 : decode cX0_slotFor 100 = .ok (.iaload, 1) := by decide +kernel
theorem dX0_slotFor_101 : decode cX0_slotFor 101 = .ok (.if_icmp .ge 7, 3) := by decide +kernel
theorem dX0_slotFor_104 : decode cX0_slotFor 104 = .ok (.iload_n 3, 1) := by decide +kernel
theorem dX0_slotFor_105 : decode cX0_slotFor 105 = .ok (.goto 4, 3) := by decide +kernel
theorem dX0_slotFor_108 : decode cX0_slotFor 108 = .ok (.iload_n 2, 1) := by decide +kernel
theorem dX0_slotFor_109 : decode cX0_slotFor 109 = .ok (.istore_n 2, 1) := by decide +kernel
theorem dX0_slotFor_110 : decode cX0_slotFor 110 = .ok (.iinc 3 1, 3) := by decide +kernel
theorem dX0_slotFor_113 : decode cX0_slotFor 113 = .ok (.goto (-64), 3) := by decide +kernel
theorem dX0_slotFor_116 : decode cX0_slotFor 116 = .ok (.iload_n 2, 1) := by decide +kernel
theorem dX0_slotFor_117 : decode cX0_slotFor 117 = .ok (.iconst 1, 1) := by decide +kernel
theorem dX0_slotFor_118 : decode cX0_slotFor 118 = .ok (.if_icmp .ne 7, 3) := by decide +kernel
theorem dX0_slotFor_121 : decode cX0_slotFor 121 = .ok (.iconst 2, 1) := by decide +kernel
theorem dX0_slotFor_122 : decode cX0_slotFor 122 = .ok (.goto 4, 3) := by decide +kernel
theorem dX0_slotFor_125 : decode cX0_slotFor 125 = .ok (.iconst 1, 1) := by decide +kernel
theorem dX0_slotFor_126 : decode cX0_slotFor 126 = .ok (.istore_n 3, 1) := by decide +kernel
theorem dX0_slotFor_127 : decode cX0_slotFor 127 = .ok (.iconst 1, 1) := by decide +kernel
theorem dX0_slotFor_128 : decode cX0_slotFor 128 = .ok (.istore 4, 2) := by decide +kernel
theorem dX0_slotFor_130 : decode cX0_slotFor 130 = .ok (.iload 4, 2) := by decide +kernel
theorem dX0_slotFor_132 : decode cX0_slotFor 132 = .ok (.iconst 5, 1) := by decide +kernel
theorem dX0_slotFor_133 : decode cX0_slotFor 133 = .ok (.if_icmp .ge 55, 3) := by decide +kernel
theorem dX0_slotFor_136 : decode cX0_slotFor 136 = .ok (.iload 4, 2) := by decide +kernel
theorem dX0_slotFor_138 : decode cX0_slotFor 138 = .ok (.iload_n 2, 1) := by decide +kernel
theorem dX0_slotFor_139 : decode cX0_slotFor 139 = .ok (.if_icmp .eq 43, 3) := by decide +kernel
theorem dX0_slotFor_142 : decode cX0_slotFor 142 = .ok (.aload_n 0, 1) := by decide +kernel
theorem dX0_slotFor_143 : decode cX0_slotFor 143 = .ok (.getfield 16, 3) := by decide +kernel
theorem dX0_slotFor_146 : decode cX0_slotFor 146 = .ok (.iload 4, 2) := by decide +kernel
theorem dX0_slotFor_148 : decode cX0_slotFor 148 = .ok (.iaload, 1) := by decide +kernel
theorem dX0_slotFor_149 : decode cX0_slotFor 149 = .ok (.iconst (-1), 1) := by decide +kernel
theorem dX0_slotFor_150 : decode cX0_slotFor 150 = .ok (.if_icmp .eq 19, 3) := by decide +kernel
theorem dX0_slotFor_153 : decode cX0_slotFor 153 = .ok (.aload_n 0, 1) := by decide +kernel
theorem dX0_slotFor_154 : decode cX0_slotFor 154 = .ok (.getfield 22, 3) := by decide +kernel
theorem dX0_slotFor_157 : decode cX0_slotFor 157 = .ok (.iload 4, 2) := by decide +kernel
theorem dX0_slotFor_159 : decode cX0_slotFor 159 = .ok (.iaload, 1) := by decide +kernel
theorem dX0_slotFor_160 : decode cX0_slotFor 160 = .ok (.aload_n 0, 1) := by decide +kernel
theorem dX0_slotFor_161 : decode cX0_slotFor 161 = .ok (.getfield 22, 3) := by decide +kernel
theorem dX0_slotFor_164 : decode cX0_slotFor 164 = .ok (.iload_n 3, 1) := by decide +kernel
theorem dX0_slotFor_165 : decode cX0_slotFor 165 = .ok (.iaload, 1) := by decide +kernel
theorem dX0_slotFor_166 : decode cX0_slotFor 166 = .ok (.if_icmp .ge 16, 3) := by decide +kernel
theorem dX0_slotFor_169 : decode cX0_slotFor 169 = .ok (.aload_n 0, 1) := by decide +kernel
theorem dX0_slotFor_170 : decode cX0_slotFor 170 = .ok (.getfield 16, 3) := by decide +kernel
theorem dX0_slotFor_173 : decode cX0_slotFor 173 = .ok (.iload_n 3, 1) := by decide +kernel
theorem dX0_slotFor_174 : decode cX0_slotFor 174 = .ok (.iaload, 1) := by decide +kernel
theorem dX0_slotFor_175 : decode cX0_slotFor 175 = .ok (.iconst (-1), 1) := by decide +kernel
theorem dX0_slotFor_176 : decode cX0_slotFor 176 = .ok (.if_icmp .eq 6, 3) := by decide +kernel
theorem dX0_slotFor_179 : decode cX0_slotFor 179 = .ok (.iload 4, 2) := by decide +kernel
theorem dX0_slotFor_181 : decode cX0_slotFor 181 = .ok (.istore_n 3, 1) := by decide +kernel
theorem dX0_slotFor_182 : decode cX0_slotFor 182 = .ok (.iinc 4 1, 3) := by decide +kernel
theorem dX0_slotFor_185 : decode cX0_slotFor 185 = .ok (.goto (-55), 3) := by decide +kernel
theorem dX0_slotFor_188 : decode cX0_slotFor 188 = .ok (.aload_n 0, 1) := by decide +kernel
theorem dX0_slotFor_189 : decode cX0_slotFor 189 = .ok (.iload_n 1, 1) := by decide +kernel
theorem dX0_slotFor_190 : decode cX0_slotFor 190 = .ok (.iload_n 2, 1) := by decide +kernel
theorem dX0_slotFor_191 : decode cX0_slotFor 191 = .ok (.iload_n 3, 1) := by decide +kernel
theorem dX0_slotFor_192 : decode cX0_slotFor 192 = .ok (.invokevirtual 99, 3) := by decide +kernel
theorem dX0_slotFor_195 : decode cX0_slotFor 195 = .ok (.iload_n 3, 1) := by decide +kernel
theorem dX0_slotFor_196 : decode cX0_slotFor 196 = .ok (.ireturn, 1) := by decide +kernel
abbrev cX0_isFiner : ByteArray := prog_1_method_28_code
def yX0_isFiner : MethodName := ⟨RX0, "isFiner", "(II)Z"⟩
theorem dX0_isFiner_0 : decode cX0_isFiner 0 = .ok (.iload_n 0, 1) := by decide +kernel
theorem dX0_isFiner_1 : decode cX0_isFiner 1 = .ok (.iconst 2, 1) := by decide +kernel
theorem dX0_isFiner_2 : decode cX0_isFiner 2 = .ok (.ishr, 1) := by decide +kernel
theorem dX0_isFiner_3 : decode cX0_isFiner 3 = .ok (.iconst 3, 1) := by decide +kernel
theorem dX0_isFiner_4 : decode cX0_isFiner 4 = .ok (.iand, 1) := by decide +kernel
theorem dX0_isFiner_5 : decode cX0_isFiner 5 = .ok (.istore_n 2, 1) := by decide +kernel
theorem dX0_isFiner_6 : decode cX0_isFiner 6 = .ok (.iload_n 1, 1) := by decide +kernel
theorem dX0_isFiner_7 : decode cX0_isFiner 7 = .ok (.iconst 2, 1) := by decide +kernel
theorem dX0_isFiner_8 : decode cX0_isFiner 8 = .ok (.ishr, 1) := by decide +kernel
theorem dX0_isFiner_9 : decode cX0_isFiner 9 = .ok (.iconst 3, 1) := by decide +kernel
theorem dX0_isFiner_10 : decode cX0_isFiner 10 = .ok (.iand, 1) := by decide +kernel
theorem dX0_isFiner_11 : decode cX0_isFiner 11 = .ok (.istore_n 3, 1) := by decide +kernel
theorem dX0_isFiner_12 : decode cX0_isFiner 12 = .ok (.iload_n 2, 1) := by decide +kernel
theorem dX0_isFiner_13 : decode cX0_isFiner 13 = .ok (.iload_n 3, 1) := by decide +kernel
theorem dX0_isFiner_14 : decode cX0_isFiner 14 = .ok (.if_icmp .gt 17, 3) := by decide +kernel
theorem dX0_isFiner_17 : decode cX0_isFiner 17 = .ok (.iload_n 2, 1) := by decide +kernel
theorem dX0_isFiner_18 : decode cX0_isFiner 18 = .ok (.iconst 1, 1) := by decide +kernel
theorem dX0_isFiner_19 : decode cX0_isFiner 19 = .ok (.if_icmp .ne 8, 3) := by decide +kernel
theorem dX0_isFiner_22 : decode cX0_isFiner 22 = .ok (.iload_n 3, 1) := by decide +kernel
theorem dX0_isFiner_23 : decode cX0_isFiner 23 = .ok (.iconst 2, 1) := by decide +kernel
theorem dX0_isFiner_24 : decode cX0_isFiner 24 = .ok (.if_icmp .eq 7, 3) := by decide +kernel
theorem dX0_isFiner_27 : decode cX0_isFiner 27 = .ok (.iconst 1, 1) := by decide +kernel
theorem dX0_isFiner_28 : decode cX0_isFiner 28 = .ok (.goto 4, 3) := by decide +kernel
theorem dX0_isFiner_31 : decode cX0_isFiner 31 = .ok (.iconst 0, 1) := by decide +kernel
theorem dX0_isFiner_32 : decode cX0_isFiner 32 = .ok (.istore 4, 2) := by decide +kernel
theorem dX0_isFiner_34 : decode cX0_isFiner 34 = .ok (.iload_n 0, 1) := by decide +kernel
theorem dX0_isFiner_35 : decode cX0_isFiner 35 = .ok (.iconst 4, 1) := by decide +kernel
theorem dX0_isFiner_36 : decode cX0_isFiner 36 = .ok (.ishr, 1) := by decide +kernel
theorem dX0_isFiner_37 : decode cX0_isFiner 37 = .ok (.iload_n 1, 1) := by decide +kernel
theorem dX0_isFiner_38 : decode cX0_isFiner 38 = .ok (.iconst 4, 1) := by decide +kernel
theorem dX0_isFiner_39 : decode cX0_isFiner 39 = .ok (.ishr, 1) := by decide +kernel
theorem dX0_isFiner_40 : decode cX0_isFiner 40 = .ok (.if_icmp .gt 21, 3) := by decide +kernel
theorem dX0_isFiner_43 : decode cX0_isFiner 43 = .ok (.iload_n 0, 1) := by decide +kernel
theorem dX0_isFiner_44 : decode cX0_isFiner 44 = .ok (.iconst 3, 1) := by decide +kernel
theorem dX0_isFiner_45 : decode cX0_isFiner 45 = .ok (.iand, 1) := by decide +kernel
theorem dX0_isFiner_46 : decode cX0_isFiner 46 = .ok (.iload_n 1, 1) := by decide +kernel
theorem dX0_isFiner_47 : decode cX0_isFiner 47 = .ok (.iconst 3, 1) := by decide +kernel
theorem dX0_isFiner_48 : decode cX0_isFiner 48 = .ok (.iand, 1) := by decide +kernel
theorem dX0_isFiner_49 : decode cX0_isFiner 49 = .ok (.if_icmp .gt 12, 3) := by decide +kernel
theorem dX0_isFiner_52 : decode cX0_isFiner 52 = .ok (.iload 4, 2) := by decide +kernel
theorem dX0_isFiner_54 : decode cX0_isFiner 54 = .ok (.ifCond .eq 7, 3) := by decide +kernel
theorem dX0_isFiner_57 : decode cX0_isFiner 57 = .ok (.iconst 1, 1) := by decide +kernel
theorem dX0_isFiner_58 : decode cX0_isFiner 58 = .ok (.goto 4, 3) := by decide +kernel
theorem dX0_isFiner_61 : decode cX0_isFiner 61 = .ok (.iconst 0, 1) := by decide +kernel
theorem dX0_isFiner_62 : decode cX0_isFiner 62 = .ok (.ireturn, 1) := by decide +kernel
abbrev cX0_workOut : ByteArray := prog_1_method_35_code
def yX0_workOut : MethodName := ⟨RX0, "workOut", "(III)V"⟩
theorem dX0_workOut_0 : decode cX0_workOut 0 = .ok (.aload_n 0, 1) := by decide +kernel
theorem dX0_workOut_1 : decode cX0_workOut 1 = .ok (.iload_n 3, 1) := by decide +kernel
theorem dX0_workOut_2 : decode cX0_workOut 2 = .ok (.invokevirtual 37, 3) := by decide +kernel
theorem dX0_workOut_5 : decode cX0_workOut 5 = .ok (.aload_n 0, 1) := by decide +kernel
theorem dX0_workOut_6 : decode cX0_workOut 6 = .ok (.getfield 16, 3) := by decide +kernel
theorem dX0_workOut_9 : decode cX0_workOut 9 = .ok (.iload_n 3, 1) := by decide +kernel
theorem dX0_workOut_10 : decode cX0_workOut 10 = .ok (.iload_n 1, 1) := by decide +kernel
theorem dX0_workOut_11 : decode cX0_workOut 11 = .ok (.iastore, 1) := by decide +kernel
theorem dX0_workOut_12 : decode cX0_workOut 12 = .ok (.aload_n 0, 1) := by decide +kernel
theorem dX0_workOut_13 : decode cX0_workOut 13 = .ok (.getfield 22, 3) := by decide +kernel
theorem dX0_workOut_16 : decode cX0_workOut 16 = .ok (.iload_n 3, 1) := by decide +kernel
theorem dX0_workOut_17 : decode cX0_workOut 17 = .ok (.aload_n 0, 1) := by decide +kernel
theorem dX0_workOut_18 : decode cX0_workOut 18 = .ok (.getfield 96, 3) := by decide +kernel
theorem dX0_workOut_21 : decode cX0_workOut 21 = .ok (.iastore, 1) := by decide +kernel
theorem dX0_workOut_22 : decode cX0_workOut 22 = .ok (.iconst 0, 1) := by decide +kernel
theorem dX0_workOut_23 : decode cX0_workOut 23 = .ok (.istore 4, 2) := by decide +kernel
theorem dX0_workOut_25 : decode cX0_workOut 25 = .ok (.iload 4, 2) := by decide +kernel
theorem dX0_workOut_27 : decode cX0_workOut 27 = .ok (.sipush 192, 3) := by decide +kernel
theorem dX0_workOut_30 : decode cX0_workOut 30 = .ok (.if_icmp .ge 78, 3) := by decide +kernel
theorem dX0_workOut_33 : decode cX0_workOut 33 = .ok (.sipush 192, 3) := by decide +kernel
theorem dX0_workOut_36 : decode cX0_workOut 36 = .ok (.iload_n 2, 1) := by decide +kernel
theorem dX0_workOut_37 : decode cX0_workOut 37 = .ok (.imul, 1) := by decide +kernel
theorem dX0_workOut_38 : decode cX0_workOut 38 = .ok (.iload 4, 2) := by decide +kernel
theorem dX0_workOut_40 : decode cX0_workOut 40 = .ok (.iadd, 1) := by decide +kernel
theorem dX0_workOut_41 : decode cX0_workOut 41 = .ok (.istore 5, 2) := by decide +kernel
theorem dX0_workOut_43 : decode cX0_workOut 43 = .ok (.aload_n 0, 1) := by decide +kernel
theorem dX0_workOut_44 : decode cX0_workOut 44 = .ok (.getfield 25, 3) := by decide +kernel
theorem dX0_workOut_47 : decode cX0_workOut 47 = .ok (.iload 5, 2) := by decide +kernel
theorem dX0_workOut_49 : decode cX0_workOut 49 = .ok (.iaload, 1) := by decide +kernel
theorem dX0_workOut_50 : decode cX0_workOut 50 = .ok (.ifCond .le 52, 3) := by decide +kernel
theorem dX0_workOut_53 : decode cX0_workOut 53 = .ok (.aload_n 0, 1) := by decide +kernel
theorem dX0_workOut_54 : decode cX0_workOut 54 = .ok (.getfield 16, 3) := by decide +kernel
theorem dX0_workOut_57 : decode cX0_workOut 57 = .ok (.iload_n 2, 1) := by decide +kernel
theorem dX0_workOut_58 : decode cX0_workOut 58 = .ok (.iaload, 1) := by decide +kernel
theorem dX0_workOut_59 : decode cX0_workOut 59 = .ok (.iload 4, 2) := by decide +kernel
theorem dX0_workOut_61 : decode cX0_workOut 61 = .ok (.iload_n 1, 1) := by decide +kernel
theorem dX0_workOut_62 : decode cX0_workOut 62 = .ok (.invokestatic 103, 3) := by decide +kernel
theorem dX0_workOut_65 : decode cX0_workOut 65 = .ok (.istore 6, 2) := by decide +kernel
theorem dX0_workOut_67 : decode cX0_workOut 67 = .ok (.aload_n 0, 1) := by decide +kernel
theorem dX0_workOut_68 : decode cX0_workOut 68 = .ok (.iload_n 3, 1) := by decide +kernel
theorem dX0_workOut_69 : decode cX0_workOut 69 = .ok (.iload 6, 2) := by decide +kernel
theorem dX0_workOut_71 : decode cX0_workOut 71 = .ok (.aload_n 0, 1) := by decide +kernel
theorem dX0_workOut_72 : decode cX0_workOut 72 = .ok (.getfield 25, 3) := by decide +kernel
theorem dX0_workOut_75 : decode cX0_workOut 75 = .ok (.iload 5, 2) := by decide +kernel
theorem dX0_workOut_77 : decode cX0_workOut 77 = .ok (.iaload, 1) := by decide +kernel
theorem dX0_workOut_78 : decode cX0_workOut 78 = .ok (.aload_n 0, 1) := by decide +kernel
theorem dX0_workOut_79 : decode cX0_workOut 79 = .ok (.getfield 28, 3) := by decide +kernel
theorem dX0_workOut_82 : decode cX0_workOut 82 = .ok (.iload 5, 2) := by decide +kernel
theorem dX0_workOut_84 : decode cX0_workOut 84 = .ok (.iaload, 1) := by decide +kernel
theorem dX0_workOut_85 : decode cX0_workOut 85 = .ok (.aload_n 0, 1) := by decide +kernel
theorem dX0_workOut_86 : decode cX0_workOut 86 = .ok (.getfield 31, 3) := by decide +kernel
theorem dX0_workOut_89 : decode cX0_workOut 89 = .ok (.iload 5, 2) := by decide +kernel
theorem dX0_workOut_91 : decode cX0_workOut 91 = .ok (.iaload, 1) := by decide +kernel
theorem dX0_workOut_92 : decode cX0_workOut 92 = .ok (.aload_n 0, 1) := by decide +kernel
theorem dX0_workOut_93 : decode cX0_workOut 93 = .ok (.getfield 34, 3) := by decide +kernel
theorem dX0_workOut_96 : decode cX0_workOut 96 = .ok (.iload 5, 2) := by decide +kernel
theorem dX0_workOut_98 : decode cX0_workOut 98 = .ok (.iaload, 1) := by decide +kernel
theorem dX0_workOut_99 : decode cX0_workOut 99 = .ok (.invokevirtual 92, 3) := by decide +kernel
theorem dX0_workOut_102 : decode cX0_workOut 102 = .ok (.iinc 4 1, 3) := by decide +kernel
theorem dX0_workOut_105 : decode cX0_workOut 105 = .ok (.goto (-80), 3) := by decide +kernel
theorem dX0_workOut_108 : decode cX0_workOut 108 = .ok (.return_, 1) := by decide +kernel
abbrev cX0_cellFrom : ByteArray := prog_1_method_29_code
def yX0_cellFrom : MethodName := ⟨RX0, "cellFrom", "(III)I"⟩
theorem dX0_cellFrom_0 : decode cX0_cellFrom 0 = .ok (.iload_n 0, 1) := by decide +kernel
theorem dX0_cellFrom_1 : decode cX0_cellFrom 1 = .ok (.invokestatic 80, 3) := by decide +kernel
theorem dX0_cellFrom_4 : decode cX0_cellFrom 4 = .ok (.iload_n 1, 1) := by decide +kernel
theorem dX0_cellFrom_5 : decode cX0_cellFrom 5 = .ok (.bipush 48, 2) := by decide +kernel
theorem dX0_cellFrom_7 : decode cX0_cellFrom 7 = .ok (.idiv, 1) := by decide +kernel
theorem dX0_cellFrom_8 : decode cX0_cellFrom 8 = .ok (.imul, 1) := by decide +kernel
theorem dX0_cellFrom_9 : decode cX0_cellFrom 9 = .ok (.istore_n 3, 1) := by decide +kernel
theorem dX0_cellFrom_10 : decode cX0_cellFrom 10 = .ok (.iload_n 0, 1) := by decide +kernel
theorem dX0_cellFrom_11 : decode cX0_cellFrom 11 = .ok (.invokestatic 86, 3) := by decide +kernel
theorem dX0_cellFrom_14 : decode cX0_cellFrom 14 = .ok (.iload_n 1, 1) := by decide +kernel
theorem dX0_cellFrom_15 : decode cX0_cellFrom 15 = .ok (.bipush 8, 2) := by decide +kernel
theorem dX0_cellFrom_17 : decode cX0_cellFrom 17 = .ok (.idiv, 1) := by decide +kernel
theorem dX0_cellFrom_18 : decode cX0_cellFrom 18 = .ok (.bipush 6, 2) := by decide +kernel
theorem dX0_cellFrom_20 : decode cX0_cellFrom 20 = .ok (.irem, 1) := by decide +kernel
theorem dX0_cellFrom_21 : decode cX0_cellFrom 21 = .ok (.imul, 1) := by decide +kernel
theorem dX0_cellFrom_22 : decode cX0_cellFrom 22 = .ok (.istore 4, 2) := by decide +kernel
theorem dX0_cellFrom_24 : decode cX0_cellFrom 24 = .ok (.iload_n 0, 1) := by decide +kernel
theorem dX0_cellFrom_25 : decode cX0_cellFrom 25 = .ok (.invokestatic 89, 3) := by decide +kernel
theorem dX0_cellFrom_28 : decode cX0_cellFrom 28 = .ok (.iload_n 1, 1) := by decide +kernel
theorem dX0_cellFrom_29 : decode cX0_cellFrom 29 = .ok (.bipush 8, 2) := by decide +kernel
theorem dX0_cellFrom_31 : decode cX0_cellFrom 31 = .ok (.irem, 1) := by decide +kernel
theorem dX0_cellFrom_32 : decode cX0_cellFrom 32 = .ok (.imul, 1) := by decide +kernel
theorem dX0_cellFrom_33 : decode cX0_cellFrom 33 = .ok (.istore 5, 2) := by decide +kernel
theorem dX0_cellFrom_35 : decode cX0_cellFrom 35 = .ok (.iload_n 2, 1) := by decide +kernel
theorem dX0_cellFrom_36 : decode cX0_cellFrom 36 = .ok (.bipush 48, 2) := by decide +kernel
theorem dX0_cellFrom_38 : decode cX0_cellFrom 38 = .ok (.iload_n 3, 1) := by decide +kernel
theorem dX0_cellFrom_39 : decode cX0_cellFrom 39 = .ok (.imul, 1) := by decide +kernel
theorem dX0_cellFrom_40 : decode cX0_cellFrom 40 = .ok (.bipush 8, 2) := by decide +kernel
theorem dX0_cellFrom_42 : decode cX0_cellFrom 42 = .ok (.iload 4, 2) := by decide +kernel
theorem dX0_cellFrom_44 : decode cX0_cellFrom 44 = .ok (.imul, 1) := by decide +kernel
theorem dX0_cellFrom_45 : decode cX0_cellFrom 45 = .ok (.iadd, 1) := by decide +kernel
theorem dX0_cellFrom_46 : decode cX0_cellFrom 46 = .ok (.iload 5, 2) := by decide +kernel
theorem dX0_cellFrom_48 : decode cX0_cellFrom 48 = .ok (.iadd, 1) := by decide +kernel
theorem dX0_cellFrom_49 : decode cX0_cellFrom 49 = .ok (.invokestatic 69, 3) := by decide +kernel
theorem dX0_cellFrom_52 : decode cX0_cellFrom 52 = .ok (.ireturn, 1) := by decide +kernel
abbrev cX0_facts : ByteArray := prog_1_method_7_code
def yX0_facts : MethodName := ⟨RX0, "facts", "()I"⟩
theorem dX0_facts_0 : decode cX0_facts 0 = .ok (.aload_n 0, 1) := by decide +kernel
theorem dX0_facts_1 : decode cX0_facts 1 = .ok (.getfield 48, 3) := by decide +kernel
theorem dX0_facts_4 : decode cX0_facts 4 = .ok (.ireturn, 1) := by decide +kernel
abbrev cX0_cellOf : ByteArray := prog_1_method_8_code
def yX0_cellOf : MethodName := ⟨RX0, "cellOf", "(II)I"⟩
theorem dX0_cellOf_0 : decode cX0_cellOf 0 = .ok (.iload_n 1, 1) := by decide +kernel
theorem dX0_cellOf_1 : decode cX0_cellOf 1 = .ok (.invokestatic 66, 3) := by decide +kernel
theorem dX0_cellOf_4 : decode cX0_cellOf 4 = .ok (.ifCond .ne 5, 3) := by decide +kernel
theorem dX0_cellOf_7 : decode cX0_cellOf 7 = .ok (.iconst (-1), 1) := by decide +kernel
theorem dX0_cellOf_8 : decode cX0_cellOf 8 = .ok (.ireturn, 1) := by decide +kernel
theorem dX0_cellOf_9 : decode cX0_cellOf 9 = .ok (.aload_n 0, 1) := by decide +kernel
theorem dX0_cellOf_10 : decode cX0_cellOf 10 = .ok (.iload_n 2, 1) := by decide +kernel
theorem dX0_cellOf_11 : decode cX0_cellOf 11 = .ok (.invokevirtual 56, 3) := by decide +kernel
theorem dX0_cellOf_14 : decode cX0_cellOf 14 = .ok (.ifCond .eq 16, 3) := by decide +kernel
theorem dX0_cellOf_17 : decode cX0_cellOf 17 = .ok (.iload_n 1, 1) := by decide +kernel
theorem dX0_cellOf_18 : decode cX0_cellOf 18 = .ok (.aload_n 0, 1) := by decide +kernel
theorem dX0_cellOf_19 : decode cX0_cellOf 19 = .ok (.getfield 7, 3) := by decide +kernel
theorem dX0_cellOf_22 : decode cX0_cellOf 22 = .ok (.iload_n 2, 1) := by decide +kernel
theorem dX0_cellOf_23 : decode cX0_cellOf 23 = .ok (.iaload, 1) := by decide +kernel
theorem dX0_cellOf_24 : decode cX0_cellOf 24 = .ok (.invokestatic 69, 3) := by decide +kernel
theorem dX0_cellOf_27 : decode cX0_cellOf 27 = .ok (.goto 5, 3) := by decide +kernel
theorem dX0_cellOf_30 : decode cX0_cellOf 30 = .ok (.bipush (-2), 2) := by decide +kernel
theorem dX0_cellOf_32 : decode cX0_cellOf 32 = .ok (.ireturn, 1) := by decide +kernel
abbrev cX0_count : ByteArray := prog_1_method_10_code
def yX0_count : MethodName := ⟨RX0, "count", "(II)I"⟩
theorem dX0_count_0 : decode cX0_count 0 = .ok (.iload_n 1, 1) := by decide +kernel
theorem dX0_count_1 : decode cX0_count 1 = .ok (.invokestatic 66, 3) := by decide +kernel
theorem dX0_count_4 : decode cX0_count 4 = .ok (.ifCond .ne 5, 3) := by decide +kernel
theorem dX0_count_7 : decode cX0_count 7 = .ok (.iconst (-1), 1) := by decide +kernel
theorem dX0_count_8 : decode cX0_count 8 = .ok (.ireturn, 1) := by decide +kernel
theorem dX0_count_9 : decode cX0_count 9 = .ok (.iload_n 2, 1) := by decide +kernel
theorem dX0_count_10 : decode cX0_count 10 = .ok (.invokestatic 41, 3) := by decide +kernel
theorem dX0_count_13 : decode cX0_count 13 = .ok (.ifCond .ne 6, 3) := by decide +kernel
theorem dX0_count_16 : decode cX0_count 16 = .ok (.bipush (-2), 2) := by decide +kernel
theorem dX0_count_18 : decode cX0_count 18 = .ok (.ireturn, 1) := by decide +kernel
theorem dX0_count_19 : decode cX0_count 19 = .ok (.aload_n 0, 1) := by decide +kernel
theorem dX0_count_20 : decode cX0_count 20 = .ok (.iload_n 1, 1) := by decide +kernel
theorem dX0_count_21 : decode cX0_count 21 = .ok (.invokevirtual 73, 3) := by decide +kernel
theorem dX0_count_24 : decode cX0_count 24 = .ok (.istore_n 3, 1) := by decide +kernel
theorem dX0_count_25 : decode cX0_count 25 = .ok (.aload_n 0, 1) := by decide +kernel
theorem dX0_count_26 : decode cX0_count 26 = .ok (.getfield 25, 3) := by decide +kernel
theorem dX0_count_29 : decode cX0_count 29 = .ok (.sipush 192, 3) := by decide +kernel
theorem dX0_count_32 : decode cX0_count 32 = .ok (.iload_n 3, 1) := by decide +kernel
theorem dX0_count_33 : decode cX0_count 33 = .ok (.imul, 1) := by decide +kernel
theorem dX0_count_34 : decode cX0_count 34 = .ok (.iload_n 2, 1) := by decide +kernel
theorem dX0_count_35 : decode cX0_count 35 = .ok (.iadd, 1) := by decide +kernel
theorem dX0_count_36 : decode cX0_count 36 = .ok (.iaload, 1) := by decide +kernel
theorem dX0_count_37 : decode cX0_count 37 = .ok (.ireturn, 1) := by decide +kernel
abbrev cX0_sum : ByteArray := prog_1_method_11_code
def yX0_sum : MethodName := ⟨RX0, "sum", "(II)I"⟩
theorem dX0_sum_0 : decode cX0_sum 0 = .ok (.iload_n 1, 1) := by decide +kernel
theorem dX0_sum_1 : decode cX0_sum 1 = .ok (.invokestatic 66, 3) := by decide +kernel
theorem dX0_sum_4 : decode cX0_sum 4 = .ok (.ifCond .eq 10, 3) := by decide +kernel
theorem dX0_sum_7 : decode cX0_sum 7 = .ok (.iload_n 2, 1) := by decide +kernel
theorem dX0_sum_8 : decode cX0_sum 8 = .ok (.invokestatic 41, 3) := by decide +kernel
theorem dX0_sum_11 : decode cX0_sum 11 = .ok (.ifCond .ne 5, 3) := by decide +kernel
theorem dX0_sum_14 : decode cX0_sum 14 = .ok (.iconst 0, 1) := by decide +kernel
theorem dX0_sum_15 : decode cX0_sum 15 = .ok (.ireturn, 1) := by decide +kernel
theorem dX0_sum_16 : decode cX0_sum 16 = .ok (.aload_n 0, 1) := by decide +kernel
theorem dX0_sum_17 : decode cX0_sum 17 = .ok (.iload_n 1, 1) := by decide +kernel
theorem dX0_sum_18 : decode cX0_sum 18 = .ok (.invokevirtual 73, 3) := by decide +kernel
theorem dX0_sum_21 : decode cX0_sum 21 = .ok (.istore_n 3, 1) := by decide +kernel
theorem dX0_sum_22 : decode cX0_sum 22 = .ok (.aload_n 0, 1) := by decide +kernel
theorem dX0_sum_23 : decode cX0_sum 23 = .ok (.getfield 28, 3) := by decide +kernel
theorem dX0_sum_26 : decode cX0_sum 26 = .ok (.sipush 192, 3) := by decide +kernel
theorem dX0_sum_29 : decode cX0_sum 29 = .ok (.iload_n 3, 1) := by decide +kernel
theorem dX0_sum_30 : decode cX0_sum 30 = .ok (.imul, 1) := by decide +kernel
theorem dX0_sum_31 : decode cX0_sum 31 = .ok (.iload_n 2, 1) := by decide +kernel
theorem dX0_sum_32 : decode cX0_sum 32 = .ok (.iadd, 1) := by decide +kernel
theorem dX0_sum_33 : decode cX0_sum 33 = .ok (.iaload, 1) := by decide +kernel
theorem dX0_sum_34 : decode cX0_sum 34 = .ok (.ireturn, 1) := by decide +kernel
abbrev cX0_least : ByteArray := prog_1_method_12_code
def yX0_least : MethodName := ⟨RX0, "least", "(II)I"⟩
theorem dX0_least_0 : decode cX0_least 0 = .ok (.iload_n 1, 1) := by decide +kernel
theorem dX0_least_1 : decode cX0_least 1 = .ok (.invokestatic 66, 3) := by decide +kernel
theorem dX0_least_4 : decode cX0_least 4 = .ok (.ifCond .eq 10, 3) := by decide +kernel
theorem dX0_least_7 : decode cX0_least 7 = .ok (.iload_n 2, 1) := by decide +kernel
theorem dX0_least_8 : decode cX0_least 8 = .ok (.invokestatic 41, 3) := by decide +kernel
theorem dX0_least_11 : decode cX0_least 11 = .ok (.ifCond .ne 7, 3) := by decide +kernel
theorem dX0_least_14 : decode cX0_least 14 = .ok (.sipush 10000, 3) := by decide +kernel
theorem dX0_least_17 : decode cX0_least 17 = .ok (.ireturn, 1) := by decide +kernel
theorem dX0_least_18 : decode cX0_least 18 = .ok (.aload_n 0, 1) := by decide +kernel
theorem dX0_least_19 : decode cX0_least 19 = .ok (.iload_n 1, 1) := by decide +kernel
theorem dX0_least_20 : decode cX0_least 20 = .ok (.invokevirtual 73, 3) := by decide +kernel
theorem dX0_least_23 : decode cX0_least 23 = .ok (.istore_n 3, 1) := by decide +kernel
theorem dX0_least_24 : decode cX0_least 24 = .ok (.aload_n 0, 1) := by decide +kernel
theorem dX0_least_25 : decode cX0_least 25 = .ok (.getfield 31, 3) := by decide +kernel
theorem dX0_least_28 : decode cX0_least 28 = .ok (.sipush 192, 3) := by decide +kernel
theorem dX0_least_31 : decode cX0_least 31 = .ok (.iload_n 3, 1) := by decide +kernel
theorem dX0_least_32 : decode cX0_least 32 = .ok (.imul, 1) := by decide +kernel
theorem dX0_least_33 : decode cX0_least 33 = .ok (.iload_n 2, 1) := by decide +kernel
theorem dX0_least_34 : decode cX0_least 34 = .ok (.iadd, 1) := by decide +kernel
theorem dX0_least_35 : decode cX0_least 35 = .ok (.iaload, 1) := by decide +kernel
theorem dX0_least_36 : decode cX0_least 36 = .ok (.ireturn, 1) := by decide +kernel
abbrev cX0_most : ByteArray := prog_1_method_13_code
def yX0_most : MethodName := ⟨RX0, "most", "(II)I"⟩
theorem dX0_most_0 : decode cX0_most 0 = .ok (.iload_n 1, 1) := by decide +kernel
theorem dX0_most_1 : decode cX0_most 1 = .ok (.invokestatic 66, 3) := by decide +kernel
theorem dX0_most_4 : decode cX0_most 4 = .ok (.ifCond .eq 10, 3) := by decide +kernel
theorem dX0_most_7 : decode cX0_most 7 = .ok (.iload_n 2, 1) := by decide +kernel
theorem dX0_most_8 : decode cX0_most 8 = .ok (.invokestatic 41, 3) := by decide +kernel
theorem dX0_most_11 : decode cX0_most 11 = .ok (.ifCond .ne 7, 3) := by decide +kernel
theorem dX0_most_14 : decode cX0_most 14 = .ok (.sipush (-10000), 3) := by decide +kernel
theorem dX0_most_17 : decode cX0_most 17 = .ok (.ireturn, 1) := by decide +kernel
theorem dX0_most_18 : decode cX0_most 18 = .ok (.aload_n 0, 1) := by decide +kernel
theorem dX0_most_19 : decode cX0_most 19 = .ok (.iload_n 1, 1) := by decide +kernel
theorem dX0_most_20 : decode cX0_most 20 = .ok (.invokevirtual 73, 3) := by decide +kernel
theorem dX0_most_23 : decode cX0_most 23 = .ok (.istore_n 3, 1) := by decide +kernel
theorem dX0_most_24 : decode cX0_most 24 = .ok (.aload_n 0, 1) := by decide +kernel
theorem dX0_most_25 : decode cX0_most 25 = .ok (.getfield 34, 3) := by decide +kernel
theorem dX0_most_28 : decode cX0_most 28 = .ok (.sipush 192, 3) := by decide +kernel
theorem dX0_most_31 : decode cX0_most 31 = .ok (.iload_n 3, 1) := by decide +kernel
theorem dX0_most_32 : decode cX0_most 32 = .ok (.imul, 1) := by decide +kernel
theorem dX0_most_33 : decode cX0_most 33 = .ok (.iload_n 2, 1) := by decide +kernel
theorem dX0_most_34 : decode cX0_most 34 = .ok (.iadd, 1) := by decide +kernel
theorem dX0_most_35 : decode cX0_most 35 = .ok (.iaload, 1) := by decide +kernel
theorem dX0_most_36 : decode cX0_most 36 = .ok (.ireturn, 1) := by decide +kernel
abbrev cX0_next : ByteArray := prog_1_method_14_code
def yX0_next : MethodName := ⟨RX0, "next", "(II)I"⟩
theorem dX0_next_0 : decode cX0_next 0 = .ok (.iload_n 1, 1) := by decide +kernel
theorem dX0_next_1 : decode cX0_next 1 = .ok (.invokestatic 66, 3) := by decide +kernel
theorem dX0_next_4 : decode cX0_next 4 = .ok (.ifCond .ne 5, 3) := by decide +kernel
theorem dX0_next_7 : decode cX0_next 7 = .ok (.iconst (-1), 1) := by decide +kernel
theorem dX0_next_8 : decode cX0_next 8 = .ok (.ireturn, 1) := by decide +kernel
theorem dX0_next_9 : decode cX0_next 9 = .ok (.aload_n 0, 1) := by decide +kernel
theorem dX0_next_10 : decode cX0_next 10 = .ok (.iload_n 1, 1) := by decide +kernel
theorem dX0_next_11 : decode cX0_next 11 = .ok (.invokevirtual 73, 3) := by decide +kernel
theorem dX0_next_14 : decode cX0_next 14 = .ok (.istore_n 3, 1) := by decide +kernel
theorem dX0_next_15 : decode cX0_next 15 = .ok (.iload_n 2, 1) := by decide +kernel
theorem dX0_next_16 : decode cX0_next 16 = .ok (.iconst (-1), 1) := by decide +kernel
theorem dX0_next_17 : decode cX0_next 17 = .ok (.if_icmp .ge 7, 3) := by decide +kernel
theorem dX0_next_20 : decode cX0_next 20 = .ok (.iconst (-1), 1) := by decide +kernel
theorem dX0_next_21 : decode cX0_next 21 = .ok (.goto 4, 3) := by decide +kernel
theorem dX0_next_24 : decode cX0_next 24 = .ok (.iload_n 2, 1) := by decide +kernel
theorem dX0_next_25 : decode cX0_next 25 = .ok (.istore 4, 2) := by decide +kernel
theorem dX0_next_27 : decode cX0_next 27 = .ok (.iconst 0, 1) := by decide +kernel
theorem dX0_next_28 : decode cX0_next 28 = .ok (.istore 5, 2) := by decide +kernel
theorem dX0_next_30 : decode cX0_next 30 = .ok (.iload 5, 2) := by decide +kernel
theorem dX0_next_32 : decode cX0_next 32 = .ok (.sipush 192, 3) := by decide +kernel
theorem dX0_next_35 : decode cX0_next 35 = .ok (.if_icmp .ge 35, 3) := by decide +kernel
theorem dX0_next_38 : decode cX0_next 38 = .ok (.iload 5, 2) := by decide +kernel
theorem dX0_next_40 : decode cX0_next 40 = .ok (.iload 4, 2) := by decide +kernel
theorem dX0_next_42 : decode cX0_next 42 = .ok (.if_icmp .le 22, 3) := by decide +kernel
theorem dX0_next_45 : decode cX0_next 45 = .ok (.aload_n 0, 1) := by decide +kernel
theorem dX0_next_46 : decode cX0_next 46 = .ok (.getfield 25, 3) := by decide +kernel
theorem dX0_next_49 : decode cX0_next 49 = .ok (.sipush 192, 3) := by decide +kernel
theorem dX0_next_52 : decode cX0_next 52 = .ok (.iload_n 3, 1) := by decide +kernel
theorem dX0_next_53 : decode cX0_next 53 = .ok (.imul, 1) := by decide +kernel
theorem dX0_next_54 : decode cX0_next 54 = .ok (.iload 5, 2) := by decide +kernel
theorem dX0_next_56 : decode cX0_next 56 = .ok (.iadd, 1) := by decide +kernel
theorem dX0_next_57 : decode cX0_next 57 = .ok (.iaload, 1) := by decide +kernel
theorem dX0_next_58 : decode cX0_next 58 = .ok (.ifCond .le 6, 3) := by decide +kernel
theorem dX0_next_61 : decode cX0_next 61 = .ok (.iload 5, 2) := by decide +kernel
theorem dX0_next_63 : decode cX0_next 63 = .ok (.ireturn, 1) := by decide +kernel
theorem dX0_next_64 : decode cX0_next 64 = .ok (.iinc 5 1, 3) := by decide +kernel
theorem dX0_next_67 : decode cX0_next 67 = .ok (.goto (-37), 3) := by decide +kernel
theorem dX0_next_70 : decode cX0_next 70 = .ok (.bipush (-2), 2) := by decide +kernel
theorem dX0_next_72 : decode cX0_next 72 = .ok (.ireturn, 1) := by decide +kernel
abbrev cX0_best : ByteArray := prog_1_method_15_code
def yX0_best : MethodName := ⟨RX0, "best", "(I)I"⟩
theorem dX0_best_0 : decode cX0_best 0 = .ok (.iload_n 1, 1) := by decide +kernel
theorem dX0_best_1 : decode cX0_best 1 = .ok (.invokestatic 66, 3) := by decide +kernel
theorem dX0_best_4 : decode cX0_best 4 = .ok (.ifCond .ne 5, 3) := by decide +kernel
theorem dX0_best_7 : decode cX0_best 7 = .ok (.iconst (-1), 1) := by decide +kernel
theorem dX0_best_8 : decode cX0_best 8 = .ok (.ireturn, 1) := by decide +kernel
theorem dX0_best_9 : decode cX0_best 9 = .ok (.aload_n 0, 1) := by decide +kernel
theorem dX0_best_10 : decode cX0_best 10 = .ok (.iload_n 1, 1) := by decide +kernel
theorem dX0_best_11 : decode cX0_best 11 = .ok (.invokevirtual 73, 3) := by decide +kernel
theorem dX0_best_14 : decode cX0_best 14 = .ok (.istore_n 2, 1) := by decide +kernel
theorem dX0_best_15 : decode cX0_best 15 = .ok (.bipush (-2), 2) := by decide +kernel
theorem dX0_best_17 : decode cX0_best 17 = .ok (.istore_n 3, 1) := by decide +kernel
theorem dX0_best_18 : decode cX0_best 18 = .ok (.iconst 0, 1) := by decide +kernel
theorem dX0_best_19 : decode cX0_best 19 = .ok (.istore 4, 2) := by decide +kernel
theorem dX0_best_21 : decode cX0_best 21 = .ok (.iload 4, 2) := by decide +kernel
theorem dX0_best_23 : decode cX0_best 23 = .ok (.sipush 192, 3) := by decide +kernel
theorem dX0_best_26 : decode cX0_best 26 = .ok (.if_icmp .ge 58, 3) := by decide +kernel
theorem dX0_best_29 : decode cX0_best 29 = .ok (.sipush 192, 3) := by decide +kernel
theorem dX0_best_32 : decode cX0_best 32 = .ok (.iload_n 2, 1) := by decide +kernel
theorem dX0_best_33 : decode cX0_best 33 = .ok (.imul, 1) := by decide +kernel
theorem dX0_best_34 : decode cX0_best 34 = .ok (.iload 4, 2) := by decide +kernel
theorem dX0_best_36 : decode cX0_best 36 = .ok (.iadd, 1) := by decide +kernel
theorem dX0_best_37 : decode cX0_best 37 = .ok (.istore 5, 2) := by decide +kernel
theorem dX0_best_39 : decode cX0_best 39 = .ok (.aload_n 0, 1) := by decide +kernel
theorem dX0_best_40 : decode cX0_best 40 = .ok (.getfield 25, 3) := by decide +kernel
theorem dX0_best_43 : decode cX0_best 43 = .ok (.iload 5, 2) := by decide +kernel
theorem dX0_best_45 : decode cX0_best 45 = .ok (.iaload, 1) := by decide +kernel
theorem dX0_best_46 : decode cX0_best 46 = .ok (.ifCond .le 32, 3) := by decide +kernel
theorem dX0_best_49 : decode cX0_best 49 = .ok (.iload_n 3, 1) := by decide +kernel
theorem dX0_best_50 : decode cX0_best 50 = .ok (.ifCond .lt 25, 3) := by decide +kernel
theorem dX0_best_53 : decode cX0_best 53 = .ok (.aload_n 0, 1) := by decide +kernel
theorem dX0_best_54 : decode cX0_best 54 = .ok (.getfield 28, 3) := by decide +kernel
theorem dX0_best_57 : decode cX0_best 57 = .ok (.iload 5, 2) := by decide +kernel
theorem dX0_best_59 : decode cX0_best 59 = .ok (.iaload, 1) := by decide +kernel
theorem dX0_best_60 : decode cX0_best 60 = .ok (.aload_n 0, 1) := by decide +kernel
theorem dX0_best_61 : decode cX0_best 61 = .ok (.getfield 28, 3) := by decide +kernel
theorem dX0_best_64 : decode cX0_best 64 = .ok (.sipush 192, 3) := by decide +kernel
theorem dX0_best_67 : decode cX0_best 67 = .ok (.iload_n 2, 1) := by decide +kernel
theorem dX0_best_68 : decode cX0_best 68 = .ok (.imul, 1) := by decide +kernel
theorem dX0_best_69 : decode cX0_best 69 = .ok (.iload_n 3, 1) := by decide +kernel
theorem dX0_best_70 : decode cX0_best 70 = .ok (.iadd, 1) := by decide +kernel
theorem dX0_best_71 : decode cX0_best 71 = .ok (.iaload, 1) := by decide +kernel
theorem dX0_best_72 : decode cX0_best 72 = .ok (.if_icmp .le 6, 3) := by decide +kernel
theorem dX0_best_75 : decode cX0_best 75 = .ok (.iload 4, 2) := by decide +kernel
theorem dX0_best_77 : decode cX0_best 77 = .ok (.istore_n 3, 1) := by decide +kernel
theorem dX0_best_78 : decode cX0_best 78 = .ok (.iinc 4 1, 3) := by decide +kernel
theorem dX0_best_81 : decode cX0_best 81 = .ok (.goto (-60), 3) := by decide +kernel
theorem dX0_best_84 : decode cX0_best 84 = .ok (.iload_n 3, 1) := by decide +kernel
theorem dX0_best_85 : decode cX0_best 85 = .ok (.ireturn, 1) := by decide +kernel
abbrev cX0_having : ByteArray := prog_1_method_16_code
def yX0_having : MethodName := ⟨RX0, "having", "(II)I"⟩
theorem dX0_having_0 : decode cX0_having 0 = .ok (.iload_n 1, 1) := by decide +kernel
theorem dX0_having_1 : decode cX0_having 1 = .ok (.invokestatic 66, 3) := by decide +kernel
theorem dX0_having_4 : decode cX0_having 4 = .ok (.ifCond .ne 5, 3) := by decide +kernel
theorem dX0_having_7 : decode cX0_having 7 = .ok (.iconst (-1), 1) := by decide +kernel
theorem dX0_having_8 : decode cX0_having 8 = .ok (.ireturn, 1) := by decide +kernel
theorem dX0_having_9 : decode cX0_having 9 = .ok (.aload_n 0, 1) := by decide +kernel
theorem dX0_having_10 : decode cX0_having 10 = .ok (.iload_n 1, 1) := by decide +kernel
theorem dX0_having_11 : decode cX0_having 11 = .ok (.invokevirtual 73, 3) := by decide +kernel
theorem dX0_having_14 : decode cX0_having 14 = .ok (.istore_n 3, 1) := by decide +kernel
theorem dX0_having_15 : decode cX0_having 15 = .ok (.iconst 0, 1) := by decide +kernel
theorem dX0_having_16 : decode cX0_having 16 = .ok (.istore 4, 2) := by decide +kernel
theorem dX0_having_18 : decode cX0_having 18 = .ok (.sipush 192, 3) := by decide +kernel
theorem dX0_having_21 : decode cX0_having 21 = .ok (.iload_n 3, 1) := by decide +kernel
theorem dX0_having_22 : decode cX0_having 22 = .ok (.imul, 1) := by decide +kernel
theorem dX0_having_23 : decode cX0_having 23 = .ok (.istore 5, 2) := by decide +kernel
theorem dX0_having_25 : decode cX0_having 25 = .ok (.iload 5, 2) := by decide +kernel
theorem dX0_having_27 : decode cX0_having 27 = .ok (.sipush 192, 3) := by decide +kernel
theorem dX0_having_30 : decode cX0_having 30 = .ok (.iload_n 3, 1) := by decide +kernel
theorem dX0_having_31 : decode cX0_having 31 = .ok (.imul, 1) := by decide +kernel
theorem dX0_having_32 : decode cX0_having 32 = .ok (.sipush 192, 3) := by decide +kernel
theorem dX0_having_35 : decode cX0_having 35 = .ok (.iadd, 1) := by decide +kernel
theorem dX0_having_36 : decode cX0_having 36 = .ok (.if_icmp .ge 40, 3) := by decide +kernel
theorem dX0_having_39 : decode cX0_having 39 = .ok (.iload 4, 2) := by decide +kernel
theorem dX0_having_41 : decode cX0_having 41 = .ok (.aload_n 0, 1) := by decide +kernel
theorem dX0_having_42 : decode cX0_having 42 = .ok (.getfield 25, 3) := by decide +kernel
theorem dX0_having_45 : decode cX0_having 45 = .ok (.iload 5, 2) := by decide +kernel
theorem dX0_having_47 : decode cX0_having 47 = .ok (.iaload, 1) := by decide +kernel
theorem dX0_having_48 : decode cX0_having 48 = .ok (.ifCond .le 18, 3) := by decide +kernel
theorem dX0_having_51 : decode cX0_having 51 = .ok (.aload_n 0, 1) := by decide +kernel
theorem dX0_having_52 : decode cX0_having 52 = .ok (.getfield 28, 3) := by decide +kernel
theorem dX0_having_55 : decode cX0_having 55 = .ok (.iload 5, 2) := by decide +kernel
theorem dX0_having_57 : decode cX0_having 57 = .ok (.iaload, 1) := by decide +kernel
theorem dX0_having_58 : decode cX0_having 58 = .ok (.iload_n 2, 1) := by decide +kernel
theorem dX0_having_59 : decode cX0_having 59 = .ok (.if_icmp .lt 7, 3) := by decide +kernel
theorem dX0_having_62 : decode cX0_having 62 = .ok (.iconst 1, 1) := by decide +kernel
theorem dX0_having_63 : decode cX0_having 63 = .ok (.goto 4, 3) := by decide +kernel
theorem dX0_having_66 : decode cX0_having 66 = .ok (.iconst 0, 1) := by decide +kernel
theorem dX0_having_67 : decode cX0_having 67 = .ok (.iadd, 1) := by decide +kernel
theorem dX0_having_68 : decode cX0_having 68 = .ok (.istore 4, 2) := by decide +kernel
theorem dX0_having_70 : decode cX0_having 70 = .ok (.iinc 5 1, 3) := by decide +kernel
theorem dX0_having_73 : decode cX0_having 73 = .ok (.goto (-48), 3) := by decide +kernel
theorem dX0_having_76 : decode cX0_having 76 = .ok (.iload 4, 2) := by decide +kernel
theorem dX0_having_78 : decode cX0_having 78 = .ok (.ireturn, 1) := by decide +kernel
abbrev cX0_finer : ByteArray := prog_1_method_17_code
def yX0_finer : MethodName := ⟨RX0, "finer", "(II)I"⟩
theorem dX0_finer_0 : decode cX0_finer 0 = .ok (.iload_n 1, 1) := by decide +kernel
theorem dX0_finer_1 : decode cX0_finer 1 = .ok (.invokestatic 66, 3) := by decide +kernel
theorem dX0_finer_4 : decode cX0_finer 4 = .ok (.ifCond .eq 10, 3) := by decide +kernel
theorem dX0_finer_7 : decode cX0_finer 7 = .ok (.iload_n 2, 1) := by decide +kernel
theorem dX0_finer_8 : decode cX0_finer 8 = .ok (.invokestatic 66, 3) := by decide +kernel
theorem dX0_finer_11 : decode cX0_finer 11 = .ok (.ifCond .ne 5, 3) := by decide +kernel
theorem dX0_finer_14 : decode cX0_finer 14 = .ok (.iconst (-1), 1) := by decide +kernel
theorem dX0_finer_15 : decode cX0_finer 15 = .ok (.ireturn, 1) := by decide +kernel
theorem dX0_finer_16 : decode cX0_finer 16 = .ok (.iload_n 1, 1) := by decide +kernel
theorem dX0_finer_17 : decode cX0_finer 17 = .ok (.iload_n 2, 1) := by decide +kernel
theorem dX0_finer_18 : decode cX0_finer 18 = .ok (.invokestatic 76, 3) := by decide +kernel
theorem dX0_finer_21 : decode cX0_finer 21 = .ok (.ifCond .eq 7, 3) := by decide +kernel
theorem dX0_finer_24 : decode cX0_finer 24 = .ok (.iconst 1, 1) := by decide +kernel
theorem dX0_finer_25 : decode cX0_finer 25 = .ok (.goto 4, 3) := by decide +kernel
theorem dX0_finer_28 : decode cX0_finer 28 = .ok (.iconst 0, 1) := by decide +kernel
theorem dX0_finer_29 : decode cX0_finer 29 = .ok (.ireturn, 1) := by decide +kernel
abbrev cX0_viewsWith : ByteArray := prog_1_method_18_code
def yX0_viewsWith : MethodName := ⟨RX0, "viewsWith", "(I)I"⟩
theorem dX0_viewsWith_0 : decode cX0_viewsWith 0 = .ok (.iload_n 1, 1) := by decide +kernel
theorem dX0_viewsWith_1 : decode cX0_viewsWith 1 = .ok (.ifCond .lt 10, 3) := by decide +kernel
theorem dX0_viewsWith_4 : decode cX0_viewsWith 4 = .ok (.iload_n 1, 1) := by decide +kernel
theorem dX0_viewsWith_5 : decode cX0_viewsWith 5 = .ok (.sipush 192, 3) := by decide +kernel
theorem dX0_viewsWith_8 : decode cX0_viewsWith 8 = .ok (.if_icmp .le 5, 3) := by decide +kernel
theorem dX0_viewsWith_11 : decode cX0_viewsWith 11 = .ok (.iconst (-1), 1) := by decide +kernel
theorem dX0_viewsWith_12 : decode cX0_viewsWith 12 = .ok (.ireturn, 1) := by decide +kernel
theorem dX0_viewsWith_13 : decode cX0_viewsWith 13 = .ok (.iconst 0, 1) := by decide +kernel
theorem dX0_viewsWith_14 : decode cX0_viewsWith 14 = .ok (.istore_n 2, 1) := by decide +kernel
theorem dX0_viewsWith_15 : decode cX0_viewsWith 15 = .ok (.iconst 0, 1) := by decide +kernel
theorem dX0_viewsWith_16 : decode cX0_viewsWith 16 = .ok (.istore_n 3, 1) := by decide +kernel
theorem dX0_viewsWith_17 : decode cX0_viewsWith 17 = .ok (.iload_n 3, 1) := by decide +kernel
theorem dX0_viewsWith_18 : decode cX0_viewsWith 18 = .ok (.bipush 48, 2) := by decide +kernel
theorem dX0_viewsWith_20 : decode cX0_viewsWith 20 = .ok (.if_icmp .ge 35, 3) := by decide +kernel
theorem dX0_viewsWith_23 : decode cX0_viewsWith 23 = .ok (.aload_n 0, 1) := by decide +kernel
theorem dX0_viewsWith_24 : decode cX0_viewsWith 24 = .ok (.iload_n 3, 1) := by decide +kernel
theorem dX0_viewsWith_25 : decode cX0_viewsWith 25 = .ok (.invokevirtual 73, 3) := by decide +kernel
theorem dX0_viewsWith_28 : decode cX0_viewsWith 28 = .ok (.istore 4, 2) := by decide +kernel
theorem dX0_viewsWith_30 : decode cX0_viewsWith 30 = .ok (.iload_n 2, 1) := by decide +kernel
theorem dX0_viewsWith_31 : decode cX0_viewsWith 31 = .ok (.aload_n 0, 1) := by decide +kernel
theorem dX0_viewsWith_32 : decode cX0_viewsWith 32 = .ok (.getfield 19, 3) := by decide +kernel
theorem dX0_viewsWith_35 : decode cX0_viewsWith 35 = .ok (.iload 4, 2) := by decide +kernel
theorem dX0_viewsWith_37 : decode cX0_viewsWith 37 = .ok (.iaload, 1) := by decide +kernel
theorem dX0_viewsWith_38 : decode cX0_viewsWith 38 = .ok (.iload_n 1, 1) := by decide +kernel
theorem dX0_viewsWith_39 : decode cX0_viewsWith 39 = .ok (.if_icmp .ne 7, 3) := by decide +kernel
theorem dX0_viewsWith_42 : decode cX0_viewsWith 42 = .ok (.iconst 1, 1) := by decide +kernel
theorem dX0_viewsWith_43 : decode cX0_viewsWith 43 = .ok (.goto 4, 3) := by decide +kernel
theorem dX0_viewsWith_46 : decode cX0_viewsWith 46 = .ok (.iconst 0, 1) := by decide +kernel
theorem dX0_viewsWith_47 : decode cX0_viewsWith 47 = .ok (.iadd, 1) := by decide +kernel
theorem dX0_viewsWith_48 : decode cX0_viewsWith 48 = .ok (.istore_n 2, 1) := by decide +kernel
theorem dX0_viewsWith_49 : decode cX0_viewsWith 49 = .ok (.iinc 3 1, 3) := by decide +kernel
theorem dX0_viewsWith_52 : decode cX0_viewsWith 52 = .ok (.goto (-35), 3) := by decide +kernel
theorem dX0_viewsWith_55 : decode cX0_viewsWith 55 = .ok (.iload_n 2, 1) := by decide +kernel
theorem dX0_viewsWith_56 : decode cX0_viewsWith 56 = .ok (.ireturn, 1) := by decide +kernel
end
section
/-! OlapCubesModel -/
set_option maxRecDepth 100000
def RX1 : String := "OlapCubesModel"
def TX1 : u_T := fun k => match k with
  | 0 => ("OlapCubesModel", "places", "[I", true)
  | 1 => ("OlapCubesModel", "measures", "[I", true)
  | _ => ("OlapCubesModel", "held", "I", false)
def tyX1 : Nat → FieldType := fun k => match k with
  | 0 => .array .int
  | 1 => .array .int
  | _ => .int
abbrev wsX10 : List Cond := u_ws RX1 TX1 3
theorem nmX1 : ∀ a, a < 3 → ∀ b, b < 3 → a ≠ b → (TX1 a).2.1 ≠ (TX1 b).2.1 := by decide +kernel
theorem tyX1_ok : ∀ k, k < 3 → parseFieldDescriptor (TX1 k).2.2.1 = some (tyX1 k) := by decide +kernel
abbrev cX1_init : ByteArray := prog_3_method_1_code
def yX1_init : MethodName := ⟨RX1, "<init>", "()V"⟩
theorem dX1_init_0 : decode cX1_init 0 = .ok (.aload_n 0, 1) := by decide +kernel
theorem dX1_init_1 : decode cX1_init 1 = .ok (.invokespecial 1, 3) := by decide +kernel
theorem dX1_init_4 : decode cX1_init 4 = .ok (.aload_n 0, 1) := by decide +kernel
theorem dX1_init_5 : decode cX1_init 5 = .ok (.bipush 40, 2) := by decide +kernel
theorem dX1_init_7 : decode cX1_init 7 = .ok (.newarray .int, 2) := by decide +kernel
theorem dX1_init_9 : decode cX1_init 9 = .ok (.putfield 7, 3) := by decide +kernel
theorem dX1_init_12 : decode cX1_init 12 = .ok (.aload_n 0, 1) := by decide +kernel
theorem dX1_init_13 : decode cX1_init 13 = .ok (.bipush 40, 2) := by decide +kernel
theorem dX1_init_15 : decode cX1_init 15 = .ok (.newarray .int, 2) := by decide +kernel
theorem dX1_init_17 : decode cX1_init 17 = .ok (.putfield 13, 3) := by decide +kernel
theorem dX1_init_20 : decode cX1_init 20 = .ok (.return_, 1) := by decide +kernel
abbrev cX1_put : ByteArray := prog_3_method_6_code
def yX1_put : MethodName := ⟨RX1, "put", "(II)I"⟩
theorem dX1_put_0 : decode cX1_put 0 = .ok (.iload_n 1, 1) := by decide +kernel
theorem dX1_put_1 : decode cX1_put 1 = .ok (.ifCond .lt 10, 3) := by decide +kernel
theorem dX1_put_4 : decode cX1_put 4 = .ok (.iload_n 1, 1) := by decide +kernel
theorem dX1_put_5 : decode cX1_put 5 = .ok (.sipush 191, 3) := by decide +kernel
theorem dX1_put_8 : decode cX1_put 8 = .ok (.if_icmp .le 5, 3) := by decide +kernel
theorem dX1_put_11 : decode cX1_put 11 = .ok (.iconst (-1), 1) := by decide +kernel
theorem dX1_put_12 : decode cX1_put 12 = .ok (.ireturn, 1) := by decide +kernel
theorem dX1_put_13 : decode cX1_put 13 = .ok (.iload_n 2, 1) := by decide +kernel
theorem dX1_put_14 : decode cX1_put 14 = .ok (.sipush (-1000), 3) := by decide +kernel
theorem dX1_put_17 : decode cX1_put 17 = .ok (.if_icmp .lt 10, 3) := by decide +kernel
theorem dX1_put_20 : decode cX1_put 20 = .ok (.iload_n 2, 1) := by decide +kernel
theorem dX1_put_21 : decode cX1_put 21 = .ok (.sipush 1000, 3) := by decide +kernel
theorem dX1_put_24 : decode cX1_put 24 = .ok (.if_icmp .le 6, 3) := by decide +kernel
theorem dX1_put_27 : decode cX1_put 27 = .ok (.bipush (-2), 2) := by decide +kernel
theorem dX1_put_29 : decode cX1_put 29 = .ok (.ireturn, 1) := by decide +kernel
theorem dX1_put_30 : decode cX1_put 30 = .ok (.aload_n 0, 1) := by decide +kernel
theorem dX1_put_31 : decode cX1_put 31 = .ok (.getfield 16, 3) := by decide +kernel
theorem dX1_put_34 : decode cX1_put 34 = .ok (.bipush 40, 2) := by decide +kernel
theorem dX1_put_36 : decode cX1_put 36 = .ok (.if_icmp .lt 6, 3) := by decide +kernel
theorem dX1_put_39 : decode cX1_put 39 = .ok (.bipush (-3), 2) := by decide +kernel
theorem dX1_put_41 : decode cX1_put 41 = .ok (.ireturn, 1) := by decide +kernel
theorem dX1_put_42 : decode cX1_put 42 = .ok (.aload_n 0, 1) := by decide +kernel
theorem dX1_put_43 : decode cX1_put 43 = .ok (.iload_n 1, 1) := by decide +kernel
theorem dX1_put_44 : decode cX1_put 44 = .ok (.iload_n 2, 1) := by decide +kernel
theorem dX1_put_45 : decode cX1_put 45 = .ok (.invokevirtual 20, 3) := by decide +kernel
theorem dX1_put_48 : decode cX1_put 48 = .ok (.aload_n 0, 1) := by decide +kernel
theorem dX1_put_49 : decode cX1_put 49 = .ok (.getfield 16, 3) := by decide +kernel
theorem dX1_put_52 : decode cX1_put 52 = .ok (.iconst 1, 1) := by decide +kernel
theorem dX1_put_53 : decode cX1_put 53 = .ok (.isub, 1) := by decide +kernel
theorem dX1_put_54 : decode cX1_put 54 = .ok (.ireturn, 1) := by decide +kernel
abbrev cX1_append : ByteArray := prog_3_method_5_code
def yX1_append : MethodName := ⟨RX1, "append", "(II)V"⟩
theorem dX1_append_0 : decode cX1_append 0 = .ok (.aload_n 0, 1) := by decide +kernel
theorem dX1_append_1 : decode cX1_append 1 = .ok (.getfield 7, 3) := by decide +kernel
theorem dX1_append_4 : decode cX1_append 4 = .ok (.aload_n 0, 1) := by decide +kernel
theorem dX1_append_5 : decode cX1_append 5 = .ok (.getfield 16, 3) := by decide +kernel
theorem dX1_append_8 : decode cX1_append 8 = .ok (.iload_n 1, 1) := by decide +kernel
theorem dX1_append_9 : decode cX1_append 9 = .ok (.iastore, 1) := by decide +kernel
theorem dX1_append_10 : decode cX1_append 10 = .ok (.aload_n 0, 1) := by decide +kernel
theorem dX1_append_11 : decode cX1_append 11 = .ok (.getfield 13, 3) := by decide +kernel
theorem dX1_append_14 : decode cX1_append 14 = .ok (.aload_n 0, 1) := by decide +kernel
theorem dX1_append_15 : decode cX1_append 15 = .ok (.getfield 16, 3) := by decide +kernel
theorem dX1_append_18 : decode cX1_append 18 = .ok (.iload_n 2, 1) := by decide +kernel
theorem dX1_append_19 : decode cX1_append 19 = .ok (.iastore, 1) := by decide +kernel
theorem dX1_append_20 : decode cX1_append 20 = .ok (.aload_n 0, 1) := by decide +kernel
theorem dX1_append_21 : decode cX1_append 21 = .ok (.dup, 1) := by decide +kernel
theorem dX1_append_22 : decode cX1_append 22 = .ok (.getfield 16, 3) := by decide +kernel
theorem dX1_append_25 : decode cX1_append 25 = .ok (.iconst 1, 1) := by decide +kernel
theorem dX1_append_26 : decode cX1_append 26 = .ok (.iadd, 1) := by decide +kernel
theorem dX1_append_27 : decode cX1_append 27 = .ok (.putfield 16, 3) := by decide +kernel
theorem dX1_append_30 : decode cX1_append 30 = .ok (.return_, 1) := by decide +kernel
abbrev cX1_sow : ByteArray := prog_3_method_7_code
def yX1_sow : MethodName := ⟨RX1, "sow", "(III)I"⟩
theorem dX1_sow_0 : decode cX1_sow 0 = .ok (.iload_n 1, 1) := by decide +kernel
theorem dX1_sow_1 : decode cX1_sow 1 = .ok (.ifCond .lt 10, 3) := by decide +kernel
theorem dX1_sow_4 : decode cX1_sow 4 = .ok (.iload_n 1, 1) := by decide +kernel
theorem dX1_sow_5 : decode cX1_sow 5 = .ok (.sipush 191, 3) := by decide +kernel
theorem dX1_sow_8 : decode cX1_sow 8 = .ok (.if_icmp .le 5, 3) := by decide +kernel
theorem dX1_sow_11 : decode cX1_sow 11 = .ok (.iconst (-1), 1) := by decide +kernel
theorem dX1_sow_12 : decode cX1_sow 12 = .ok (.ireturn, 1) := by decide +kernel
theorem dX1_sow_13 : decode cX1_sow 13 = .ok (.iload_n 2, 1) := by decide +kernel
theorem dX1_sow_14 : decode cX1_sow 14 = .ok (.ifCond .lt 10, 3) := by decide +kernel
theorem dX1_sow_17 : decode cX1_sow 17 = .ok (.iload_n 2, 1) := by decide +kernel
theorem dX1_sow_18 : decode cX1_sow 18 = .ok (.sipush 191, 3) := by decide +kernel
theorem dX1_sow_21 : decode cX1_sow 21 = .ok (.if_icmp .le 6, 3) := by decide +kernel
theorem dX1_sow_24 : decode cX1_sow 24 = .ok (.bipush (-2), 2) := by decide +kernel
theorem dX1_sow_26 : decode cX1_sow 26 = .ok (.ireturn, 1) := by decide +kernel
theorem dX1_sow_27 : decode cX1_sow 27 = .ok (.iload_n 3, 1) := by decide +kernel
theorem dX1_sow_28 : decode cX1_sow 28 = .ok (.iconst 1, 1) := by decide +kernel
theorem dX1_sow_29 : decode cX1_sow 29 = .ok (.if_icmp .lt 9, 3) := by decide +kernel
theorem dX1_sow_32 : decode cX1_sow 32 = .ok (.iload_n 3, 1) := by decide +kernel
theorem dX1_sow_33 : decode cX1_sow 33 = .ok (.bipush 40, 2) := by decide +kernel
theorem dX1_sow_35 : decode cX1_sow 35 = .ok (.if_icmp .le 6, 3) := by decide +kernel
theorem dX1_sow_38 : decode cX1_sow 38 = .ok (.bipush (-3), 2) := by decide +kernel
theorem dX1_sow_40 : decode cX1_sow 40 = .ok (.ireturn, 1) := by decide +kernel
theorem dX1_sow_41 : decode cX1_sow 41 = .ok (.iconst 0, 1) := by decide +kernel
theorem dX1_sow_42 : decode cX1_sow 42 = .ok (.istore 4, 2) := by decide +kernel
theorem dX1_sow_44 : decode cX1_sow 44 = .ok (.iload 4, 2) := by decide +kernel
theorem dX1_sow_46 : decode cX1_sow 46 = .ok (.iload_n 3, 1) := by decide +kernel
theorem dX1_sow_47 : decode cX1_sow 47 = .ok (.if_icmp .ge 52, 3) := by decide +kernel
theorem dX1_sow_50 : decode cX1_sow 50 = .ok (.aload_n 0, 1) := by decide +kernel
theorem dX1_sow_51 : decode cX1_sow 51 = .ok (.getfield 16, 3) := by decide +kernel
theorem dX1_sow_54 : decode cX1_sow 54 = .ok (.bipush 40, 2) := by decide +kernel
theorem dX1_sow_56 : decode cX1_sow 56 = .ok (.if_icmp .ge 37, 3) := by decide +kernel
theorem dX1_sow_59 : decode cX1_sow 59 = .ok (.aload_n 0, 1) := by decide +kernel
theorem dX1_sow_60 : decode cX1_sow 60 = .ok (.iload_n 1, 1) := by decide +kernel
theorem dX1_sow_61 : decode cX1_sow 61 = .ok (.iload 4, 2) := by decide +kernel
theorem dX1_sow_63 : decode cX1_sow 63 = .ok (.iload_n 2, 1) := by decide +kernel
theorem dX1_sow_64 : decode cX1_sow 64 = .ok (.imul, 1) := by decide +kernel
theorem dX1_sow_65 : decode cX1_sow 65 = .ok (.iadd, 1) := by decide +kernel
theorem dX1_sow_66 : decode cX1_sow 66 = .ok (.sipush 192, 3) := by decide +kernel
theorem dX1_sow_69 : decode cX1_sow 69 = .ok (.irem, 1) := by decide +kernel
theorem dX1_sow_70 : decode cX1_sow 70 = .ok (.iload_n 1, 1) := by decide +kernel
theorem dX1_sow_71 : decode cX1_sow 71 = .ok (.bipush 7, 2) := by decide +kernel
theorem dX1_sow_73 : decode cX1_sow 73 = .ok (.imul, 1) := by decide +kernel
theorem dX1_sow_74 : decode cX1_sow 74 = .ok (.iload 4, 2) := by decide +kernel
theorem dX1_sow_76 : decode cX1_sow 76 = .ok (.iload 4, 2) := by decide +kernel
theorem dX1_sow_78 : decode cX1_sow 78 = .ok (.imul, 1) := by decide +kernel
theorem dX1_sow_79 : decode cX1_sow 79 = .ok (.bipush 11, 2) := by decide +kernel
theorem dX1_sow_81 : decode cX1_sow 81 = .ok (.imul, 1) := by decide +kernel
theorem dX1_sow_82 : decode cX1_sow 82 = .ok (.iadd, 1) := by decide +kernel
theorem dX1_sow_83 : decode cX1_sow 83 = .ok (.sipush 300, 3) := by decide +kernel
theorem dX1_sow_86 : decode cX1_sow 86 = .ok (.irem, 1) := by decide +kernel
theorem dX1_sow_87 : decode cX1_sow 87 = .ok (.bipush 100, 2) := by decide +kernel
theorem dX1_sow_89 : decode cX1_sow 89 = .ok (.isub, 1) := by decide +kernel
theorem dX1_sow_90 : decode cX1_sow 90 = .ok (.invokevirtual 20, 3) := by decide +kernel
theorem dX1_sow_93 : decode cX1_sow 93 = .ok (.iinc 4 1, 3) := by decide +kernel
theorem dX1_sow_96 : decode cX1_sow 96 = .ok (.goto (-52), 3) := by decide +kernel
theorem dX1_sow_99 : decode cX1_sow 99 = .ok (.aload_n 0, 1) := by decide +kernel
theorem dX1_sow_100 : decode cX1_sow 100 = .ok (.getfield 16, 3) := by decide +kernel
theorem dX1_sow_103 : decode cX1_sow 103 = .ok (.ireturn, 1) := by decide +kernel
abbrev cX1_measure : ByteArray := prog_3_method_8_code
def yX1_measure : MethodName := ⟨RX1, "measure", "(II)I"⟩
theorem dX1_measure_0 : decode cX1_measure 0 = .ok (.aload_n 0, 1) := by decide +kernel
theorem dX1_measure_1 : decode cX1_measure 1 = .ok (.iload_n 1, 1) := by decide +kernel
theorem dX1_measure_2 : decode cX1_measure 2 = .ok (.invokevirtual 24, 3) := by decide +kernel
theorem dX1_measure_5 : decode cX1_measure 5 = .ok (.ifCond .eq 5, 3) := by decide +kernel
theorem dX1_measure_8 : decode cX1_measure 8 = .ok (.iconst (-1), 1) := by decide +kernel
theorem dX1_measure_9 : decode cX1_measure 9 = .ok (.ireturn, 1) := by decide +kernel
theorem dX1_measure_10 : decode cX1_measure 10 = .ok (.iload_n 2, 1) := by decide +kernel
theorem dX1_measure_11 : decode cX1_measure 11 = .ok (.sipush (-1000), 3) := by decide +kernel
theorem dX1_measure_14 : decode cX1_measure 14 = .ok (.if_icmp .lt 10, 3) := by decide +kernel
theorem dX1_measure_17 : decode cX1_measure 17 = .ok (.iload_n 2, 1) := by decide +kernel
theorem dX1_measure_18 : decode cX1_measure 18 = .ok (.sipush 1000, 3) := by decide +kernel
theorem dX1_measure_21 : decode cX1_measure 21 = .ok (.if_icmp .le 6, 3) := by decide +kernel
theorem dX1_measure_24 : decode cX1_measure 24 = .ok (.bipush (-2), 2) := by decide +kernel
theorem dX1_measure_26 : decode cX1_measure 26 = .ok (.ireturn, 1) := by decide +kernel
theorem dX1_measure_27 : decode cX1_measure 27 = .ok (.aload_n 0, 1) := by decide +kernel
theorem dX1_measure_28 : decode cX1_measure 28 = .ok (.getfield 13, 3) := by decide +kernel
theorem dX1_measure_31 : decode cX1_measure 31 = .ok (.iload_n 1, 1) := by decide +kernel
theorem dX1_measure_32 : decode cX1_measure 32 = .ok (.iaload, 1) := by decide +kernel
theorem dX1_measure_33 : decode cX1_measure 33 = .ok (.istore_n 3, 1) := by decide +kernel
theorem dX1_measure_34 : decode cX1_measure 34 = .ok (.aload_n 0, 1) := by decide +kernel
theorem dX1_measure_35 : decode cX1_measure 35 = .ok (.getfield 13, 3) := by decide +kernel
theorem dX1_measure_38 : decode cX1_measure 38 = .ok (.iload_n 1, 1) := by decide +kernel
theorem dX1_measure_39 : decode cX1_measure 39 = .ok (.iload_n 2, 1) := by decide +kernel
theorem dX1_measure_40 : decode cX1_measure 40 = .ok (.iastore, 1) := by decide +kernel
theorem dX1_measure_41 : decode cX1_measure 41 = .ok (.iload_n 3, 1) := by decide +kernel
theorem dX1_measure_42 : decode cX1_measure 42 = .ok (.ireturn, 1) := by decide +kernel
abbrev cX1_badFact : ByteArray := prog_3_method_4_code
def yX1_badFact : MethodName := ⟨RX1, "badFact", "(I)Z"⟩
theorem dX1_badFact_0 : decode cX1_badFact 0 = .ok (.iload_n 1, 1) := by decide +kernel
theorem dX1_badFact_1 : decode cX1_badFact 1 = .ok (.ifCond .lt 11, 3) := by decide +kernel
theorem dX1_badFact_4 : decode cX1_badFact 4 = .ok (.iload_n 1, 1) := by decide +kernel
theorem dX1_badFact_5 : decode cX1_badFact 5 = .ok (.aload_n 0, 1) := by decide +kernel
theorem dX1_badFact_6 : decode cX1_badFact 6 = .ok (.getfield 16, 3) := by decide +kernel
theorem dX1_badFact_9 : decode cX1_badFact 9 = .ok (.if_icmp .lt 7, 3) := by decide +kernel
theorem dX1_badFact_12 : decode cX1_badFact 12 = .ok (.iconst 1, 1) := by decide +kernel
theorem dX1_badFact_13 : decode cX1_badFact 13 = .ok (.goto 4, 3) := by decide +kernel
theorem dX1_badFact_16 : decode cX1_badFact 16 = .ok (.iconst 0, 1) := by decide +kernel
theorem dX1_badFact_17 : decode cX1_badFact 17 = .ok (.ireturn, 1) := by decide +kernel
abbrev cX1_drop : ByteArray := prog_3_method_9_code
def yX1_drop : MethodName := ⟨RX1, "drop", "(I)I"⟩
theorem dX1_drop_0 : decode cX1_drop 0 = .ok (.aload_n 0, 1) := by decide +kernel
theorem dX1_drop_1 : decode cX1_drop 1 = .ok (.iload_n 1, 1) := by decide +kernel
theorem dX1_drop_2 : decode cX1_drop 2 = .ok (.invokevirtual 24, 3) := by decide +kernel
theorem dX1_drop_5 : decode cX1_drop 5 = .ok (.ifCond .eq 5, 3) := by decide +kernel
theorem dX1_drop_8 : decode cX1_drop 8 = .ok (.iconst (-1), 1) := by decide +kernel
theorem dX1_drop_9 : decode cX1_drop 9 = .ok (.ireturn, 1) := by decide +kernel
theorem dX1_drop_10 : decode cX1_drop 10 = .ok (.iload_n 1, 1) := by decide +kernel
theorem dX1_drop_11 : decode cX1_drop 11 = .ok (.istore_n 2, 1) := by decide +kernel
theorem dX1_drop_12 : decode cX1_drop 12 = .ok (.iload_n 2, 1) := by decide +kernel
theorem dX1_drop_13 : decode cX1_drop 13 = .ok (.iconst 1, 1) := by decide +kernel
theorem dX1_drop_14 : decode cX1_drop 14 = .ok (.iadd, 1) := by decide +kernel
theorem dX1_drop_15 : decode cX1_drop 15 = .ok (.aload_n 0, 1) := by decide +kernel
theorem dX1_drop_16 : decode cX1_drop 16 = .ok (.getfield 16, 3) := by decide +kernel
theorem dX1_drop_19 : decode cX1_drop 19 = .ok (.if_icmp .ge 37, 3) := by decide +kernel
theorem dX1_drop_22 : decode cX1_drop 22 = .ok (.aload_n 0, 1) := by decide +kernel
theorem dX1_drop_23 : decode cX1_drop 23 = .ok (.getfield 7, 3) := by decide +kernel
theorem dX1_drop_26 : decode cX1_drop 26 = .ok (.iload_n 2, 1) := by decide +kernel
theorem dX1_drop_27 : decode cX1_drop 27 = .ok (.aload_n 0, 1) := by decide +kernel
theorem dX1_drop_28 : decode cX1_drop 28 = .ok (.getfield 7, 3) := by decide +kernel
theorem dX1_drop_31 : decode cX1_drop 31 = .ok (.iload_n 2, 1) := by decide +kernel
theorem dX1_drop_32 : decode cX1_drop 32 = .ok (.iconst 1, 1) := by decide +kernel
theorem dX1_drop_33 : decode cX1_drop 33 = .ok (.iadd, 1) := by decide +kernel
theorem dX1_drop_34 : decode cX1_drop 34 = .ok (.iaload, 1) := by decide +kernel
theorem dX1_drop_35 : decode cX1_drop 35 = .ok (.iastore, 1) := by decide +kernel
theorem dX1_drop_36 : decode cX1_drop 36 = .ok (.aload_n 0, 1) := by decide +kernel
theorem dX1_drop_37 : decode cX1_drop 37 = .ok (.getfield 13, 3) := by decide +kernel
theorem dX1_drop_40 : decode cX1_drop 40 = .ok (.iload_n 2, 1) := by decide +kernel
theorem dX1_drop_41 : decode cX1_drop 41 = .ok (.aload_n 0, 1) := by decide +kernel
theorem dX1_drop_42 : decode cX1_drop 42 = .ok (.getfield 13, 3) := by decide +kernel
theorem dX1_drop_45 : decode cX1_drop 45 = .ok (.iload_n 2, 1) := by decide +kernel
theorem dX1_drop_46 : decode cX1_drop 46 = .ok (.iconst 1, 1) := by decide +kernel
theorem dX1_drop_47 : decode cX1_drop 47 = .ok (.iadd, 1) := by decide +kernel
theorem dX1_drop_48 : decode cX1_drop 48 = .ok (.iaload, 1) := by decide +kernel
theorem dX1_drop_49 : decode cX1_drop 49 = .ok (.iastore, 1) := by decide +kernel
theorem dX1_drop_50 : decode cX1_drop 50 = .ok (.iinc 2 1, 3) := by decide +kernel
theorem dX1_drop_53 : decode cX1_drop 53 = .ok (.goto (-41), 3) := by decide +kernel
theorem dX1_drop_56 : decode cX1_drop 56 = .ok (.aload_n 0, 1) := by decide +kernel
theorem dX1_drop_57 : decode cX1_drop 57 = .ok (.dup, 1) := by decide +kernel
theorem dX1_drop_58 : decode cX1_drop 58 = .ok (.getfield 16, 3) := by decide +kernel
theorem dX1_drop_61 : decode cX1_drop 61 = .ok (.iconst 1, 1) := by decide +kernel
theorem dX1_drop_62 : decode cX1_drop 62 = .ok (.isub, 1) := by decide +kernel
theorem dX1_drop_63 : decode cX1_drop 63 = .ok (.putfield 16, 3) := by decide +kernel
theorem dX1_drop_66 : decode cX1_drop 66 = .ok (.aload_n 0, 1) := by decide +kernel
theorem dX1_drop_67 : decode cX1_drop 67 = .ok (.getfield 16, 3) := by decide +kernel
theorem dX1_drop_70 : decode cX1_drop 70 = .ok (.ireturn, 1) := by decide +kernel
abbrev cX1_prepare : ByteArray := prog_3_method_10_code
def yX1_prepare : MethodName := ⟨RX1, "prepare", "(I)I"⟩
theorem dX1_prepare_0 : decode cX1_prepare 0 = .ok (.aload_n 0, 1) := by decide +kernel
theorem dX1_prepare_1 : decode cX1_prepare 1 = .ok (.iload_n 1, 1) := by decide +kernel
theorem dX1_prepare_2 : decode cX1_prepare 2 = .ok (.invokevirtual 28, 3) := by decide +kernel
theorem dX1_prepare_5 : decode cX1_prepare 5 = .ok (.ireturn, 1) := by decide +kernel
abbrev cX1_full : ByteArray := prog_3_method_17_code
def yX1_full : MethodName := ⟨RX1, "full", "(I)I"⟩
theorem dX1_full_0 : decode cX1_full 0 = .ok (.aload_n 0, 1) := by decide +kernel
theorem dX1_full_1 : decode cX1_full 1 = .ok (.iload_n 1, 1) := by decide +kernel
theorem dX1_full_2 : decode cX1_full 2 = .ok (.invokevirtual 42, 3) := by decide +kernel
theorem dX1_full_5 : decode cX1_full 5 = .ok (.ifCond .eq 5, 3) := by decide +kernel
theorem dX1_full_8 : decode cX1_full 8 = .ok (.iconst (-1), 1) := by decide +kernel
theorem dX1_full_9 : decode cX1_full 9 = .ok (.ireturn, 1) := by decide +kernel
theorem dX1_full_10 : decode cX1_full 10 = .ok (.iconst 0, 1) := by decide +kernel
theorem dX1_full_11 : decode cX1_full 11 = .ok (.istore_n 2, 1) := by decide +kernel
theorem dX1_full_12 : decode cX1_full 12 = .ok (.aload_n 0, 1) := by decide +kernel
theorem dX1_full_13 : decode cX1_full 13 = .ok (.iload_n 1, 1) := by decide +kernel
theorem dX1_full_14 : decode cX1_full 14 = .ok (.iconst (-1), 1) := by decide +kernel
theorem dX1_full_15 : decode cX1_full 15 = .ok (.invokevirtual 48, 3) := by decide +kernel
theorem dX1_full_18 : decode cX1_full 18 = .ok (.istore_n 3, 1) := by decide +kernel
theorem dX1_full_19 : decode cX1_full 19 = .ok (.iload_n 3, 1) := by decide +kernel
theorem dX1_full_20 : decode cX1_full 20 = .ok (.ifCond .lt 23, 3) := by decide +kernel
theorem dX1_full_23 : decode cX1_full 23 = .ok (.iload_n 2, 1) := by decide +kernel
theorem dX1_full_24 : decode cX1_full 24 = .ok (.sipush 192, 3) := by decide +kernel
theorem dX1_full_27 : decode cX1_full 27 = .ok (.if_icmp .ge 16, 3) := by decide +kernel
theorem dX1_full_30 : decode cX1_full 30 = .ok (.iinc 2 1, 3) := by decide +kernel
theorem dX1_full_33 : decode cX1_full 33 = .ok (.aload_n 0, 1) := by decide +kernel
theorem dX1_full_34 : decode cX1_full 34 = .ok (.iload_n 1, 1) := by decide +kernel
theorem dX1_full_35 : decode cX1_full 35 = .ok (.iload_n 3, 1) := by decide +kernel
theorem dX1_full_36 : decode cX1_full 36 = .ok (.invokevirtual 48, 3) := by decide +kernel
theorem dX1_full_39 : decode cX1_full 39 = .ok (.istore_n 3, 1) := by decide +kernel
theorem dX1_full_40 : decode cX1_full 40 = .ok (.goto (-21), 3) := by decide +kernel
theorem dX1_full_43 : decode cX1_full 43 = .ok (.iload_n 2, 1) := by decide +kernel
theorem dX1_full_44 : decode cX1_full 44 = .ok (.ireturn, 1) := by decide +kernel
abbrev cX1_badView : ByteArray := prog_3_method_2_code
def yX1_badView : MethodName := ⟨RX1, "badView", "(I)Z"⟩
theorem dX1_badView_0 : decode cX1_badView 0 = .ok (.iload_n 1, 1) := by decide +kernel
theorem dX1_badView_1 : decode cX1_badView 1 = .ok (.ifCond .lt 9, 3) := by decide +kernel
theorem dX1_badView_4 : decode cX1_badView 4 = .ok (.iload_n 1, 1) := by decide +kernel
theorem dX1_badView_5 : decode cX1_badView 5 = .ok (.bipush 47, 2) := by decide +kernel
theorem dX1_badView_7 : decode cX1_badView 7 = .ok (.if_icmp .le 7, 3) := by decide +kernel
theorem dX1_badView_10 : decode cX1_badView 10 = .ok (.iconst 1, 1) := by decide +kernel
theorem dX1_badView_11 : decode cX1_badView 11 = .ok (.goto 4, 3) := by decide +kernel
theorem dX1_badView_14 : decode cX1_badView 14 = .ok (.iconst 0, 1) := by decide +kernel
theorem dX1_badView_15 : decode cX1_badView 15 = .ok (.ireturn, 1) := by decide +kernel
abbrev cX1_next : ByteArray := prog_3_method_22_code
def yX1_next : MethodName := ⟨RX1, "next", "(II)I"⟩
theorem dX1_next_0 : decode cX1_next 0 = .ok (.aload_n 0, 1) := by decide +kernel
theorem dX1_next_1 : decode cX1_next 1 = .ok (.iload_n 1, 1) := by decide +kernel
theorem dX1_next_2 : decode cX1_next 2 = .ok (.invokevirtual 42, 3) := by decide +kernel
theorem dX1_next_5 : decode cX1_next 5 = .ok (.ifCond .eq 5, 3) := by decide +kernel
theorem dX1_next_8 : decode cX1_next 8 = .ok (.iconst (-1), 1) := by decide +kernel
theorem dX1_next_9 : decode cX1_next 9 = .ok (.ireturn, 1) := by decide +kernel
theorem dX1_next_10 : decode cX1_next 10 = .ok (.bipush (-2), 2) := by decide +kernel
theorem dX1_next_12 : decode cX1_next 12 = .ok (.istore_n 3, 1) := by decide +kernel
theorem dX1_next_13 : decode cX1_next 13 = .ok (.iconst 0, 1) := by decide +kernel
theorem dX1_next_14 : decode cX1_next 14 = .ok (.istore 4, 2) := by decide +kernel
theorem dX1_next_16 : decode cX1_next 16 = .ok (.iload 4, 2) := by decide +kernel
theorem dX1_next_18 : decode cX1_next 18 = .ok (.aload_n 0, 1) := by decide +kernel
theorem dX1_next_19 : decode cX1_next 19 = .ok (.getfield 16, 3) := by decide +kernel
theorem dX1_next_22 : decode cX1_next 22 = .ok (.if_icmp .ge 42, 3) := by decide +kernel
theorem dX1_next_25 : decode cX1_next 25 = .ok (.aload_n 0, 1) := by decide +kernel
theorem dX1_next_26 : decode cX1_next 26 = .ok (.iload_n 1, 1) := by decide +kernel
theorem dX1_next_27 : decode cX1_next 27 = .ok (.aload_n 0, 1) := by decide +kernel
theorem dX1_next_28 : decode cX1_next 28 = .ok (.getfield 7, 3) := by decide +kernel
theorem dX1_next_31 : decode cX1_next 31 = .ok (.iload 4, 2) := by decide +kernel
theorem dX1_next_33 : decode cX1_next 33 = .ok (.iaload, 1) := by decide +kernel
theorem dX1_next_34 : decode cX1_next 34 = .ok (.invokevirtual 45, 3) := by decide +kernel
theorem dX1_next_37 : decode cX1_next 37 = .ok (.istore 5, 2) := by decide +kernel
theorem dX1_next_39 : decode cX1_next 39 = .ok (.iload 5, 2) := by decide +kernel
theorem dX1_next_41 : decode cX1_next 41 = .ok (.iload_n 2, 1) := by decide +kernel
theorem dX1_next_42 : decode cX1_next 42 = .ok (.if_icmp .le 16, 3) := by decide +kernel
theorem dX1_next_45 : decode cX1_next 45 = .ok (.iload_n 3, 1) := by decide +kernel
theorem dX1_next_46 : decode cX1_next 46 = .ok (.ifCond .lt 9, 3) := by decide +kernel
theorem dX1_next_49 : decode cX1_next 49 = .ok (.iload 5, 2) := by decide +kernel
theorem dX1_next_51 : decode cX1_next 51 = .ok (.iload_n 3, 1) := by decide +kernel
theorem dX1_next_52 : decode cX1_next 52 = .ok (.if_icmp .ge 6, 3) := by decide +kernel
theorem dX1_next_55 : decode cX1_next 55 = .ok (.iload 5, 2) := by decide +kernel
theorem dX1_next_57 : decode cX1_next 57 = .ok (.istore_n 3, 1) := by decide +kernel
theorem dX1_next_58 : decode cX1_next 58 = .ok (.iinc 4 1, 3) := by decide +kernel
theorem dX1_next_61 : decode cX1_next 61 = .ok (.goto (-45), 3) := by decide +kernel
theorem dX1_next_64 : decode cX1_next 64 = .ok (.iload_n 3, 1) := by decide +kernel
theorem dX1_next_65 : decode cX1_next 65 = .ok (.ireturn, 1) := by decide +kernel
abbrev cX1_fall : ByteArray := prog_3_method_15_code
def yX1_fall : MethodName := ⟨RX1, "fall", "(II)I"⟩
theorem dX1_fall_0 : decode cX1_fall 0 = .ok (.aload_n 0, 1) := by decide +kernel
theorem dX1_fall_1 : decode cX1_fall 1 = .ok (.iload_n 1, 1) := by decide +kernel
theorem dX1_fall_2 : decode cX1_fall 2 = .ok (.bipush 16, 2) := by decide +kernel
theorem dX1_fall_4 : decode cX1_fall 4 = .ok (.idiv, 1) := by decide +kernel
theorem dX1_fall_5 : decode cX1_fall 5 = .ok (.iload_n 2, 1) := by decide +kernel
theorem dX1_fall_6 : decode cX1_fall 6 = .ok (.bipush 48, 2) := by decide +kernel
theorem dX1_fall_8 : decode cX1_fall 8 = .ok (.idiv, 1) := by decide +kernel
theorem dX1_fall_9 : decode cX1_fall 9 = .ok (.invokevirtual 32, 3) := by decide +kernel
theorem dX1_fall_12 : decode cX1_fall 12 = .ok (.istore_n 3, 1) := by decide +kernel
theorem dX1_fall_13 : decode cX1_fall 13 = .ok (.aload_n 0, 1) := by decide +kernel
theorem dX1_fall_14 : decode cX1_fall 14 = .ok (.iload_n 1, 1) := by decide +kernel
theorem dX1_fall_15 : decode cX1_fall 15 = .ok (.iconst 4, 1) := by decide +kernel
theorem dX1_fall_16 : decode cX1_fall 16 = .ok (.idiv, 1) := by decide +kernel
theorem dX1_fall_17 : decode cX1_fall 17 = .ok (.iconst 4, 1) := by decide +kernel
theorem dX1_fall_18 : decode cX1_fall 18 = .ok (.irem, 1) := by decide +kernel
theorem dX1_fall_19 : decode cX1_fall 19 = .ok (.iload_n 2, 1) := by decide +kernel
theorem dX1_fall_20 : decode cX1_fall 20 = .ok (.bipush 8, 2) := by decide +kernel
theorem dX1_fall_22 : decode cX1_fall 22 = .ok (.idiv, 1) := by decide +kernel
theorem dX1_fall_23 : decode cX1_fall 23 = .ok (.bipush 6, 2) := by decide +kernel
theorem dX1_fall_25 : decode cX1_fall 25 = .ok (.irem, 1) := by decide +kernel
theorem dX1_fall_26 : decode cX1_fall 26 = .ok (.invokevirtual 36, 3) := by decide +kernel
theorem dX1_fall_29 : decode cX1_fall 29 = .ok (.istore 4, 2) := by decide +kernel
theorem dX1_fall_31 : decode cX1_fall 31 = .ok (.aload_n 0, 1) := by decide +kernel
theorem dX1_fall_32 : decode cX1_fall 32 = .ok (.iload_n 1, 1) := by decide +kernel
theorem dX1_fall_33 : decode cX1_fall 33 = .ok (.iconst 4, 1) := by decide +kernel
theorem dX1_fall_34 : decode cX1_fall 34 = .ok (.irem, 1) := by decide +kernel
theorem dX1_fall_35 : decode cX1_fall 35 = .ok (.iload_n 2, 1) := by decide +kernel
theorem dX1_fall_36 : decode cX1_fall 36 = .ok (.bipush 8, 2) := by decide +kernel
theorem dX1_fall_38 : decode cX1_fall 38 = .ok (.irem, 1) := by decide +kernel
theorem dX1_fall_39 : decode cX1_fall 39 = .ok (.invokevirtual 39, 3) := by decide +kernel
theorem dX1_fall_42 : decode cX1_fall 42 = .ok (.istore 5, 2) := by decide +kernel
theorem dX1_fall_44 : decode cX1_fall 44 = .ok (.bipush 48, 2) := by decide +kernel
theorem dX1_fall_46 : decode cX1_fall 46 = .ok (.iload_n 3, 1) := by decide +kernel
theorem dX1_fall_47 : decode cX1_fall 47 = .ok (.imul, 1) := by decide +kernel
theorem dX1_fall_48 : decode cX1_fall 48 = .ok (.bipush 8, 2) := by decide +kernel
theorem dX1_fall_50 : decode cX1_fall 50 = .ok (.iload 4, 2) := by decide +kernel
theorem dX1_fall_52 : decode cX1_fall 52 = .ok (.imul, 1) := by decide +kernel
theorem dX1_fall_53 : decode cX1_fall 53 = .ok (.iadd, 1) := by decide +kernel
theorem dX1_fall_54 : decode cX1_fall 54 = .ok (.iload 5, 2) := by decide +kernel
theorem dX1_fall_56 : decode cX1_fall 56 = .ok (.iadd, 1) := by decide +kernel
theorem dX1_fall_57 : decode cX1_fall 57 = .ok (.ireturn, 1) := by decide +kernel
abbrev cX1_seenA : ByteArray := prog_3_method_12_code
def yX1_seenA : MethodName := ⟨RX1, "seenA", "(II)I"⟩
theorem dX1_seenA_0 : decode cX1_seenA 0 = .ok (.iload_n 1, 1) := by decide +kernel
theorem dX1_seenA_1 : decode cX1_seenA 1 = .ok (.ifCond .ne 7, 3) := by decide +kernel
theorem dX1_seenA_4 : decode cX1_seenA 4 = .ok (.iload_n 2, 1) := by decide +kernel
theorem dX1_seenA_5 : decode cX1_seenA 5 = .ok (.goto 15, 3) := by decide +kernel
theorem dX1_seenA_8 : decode cX1_seenA 8 = .ok (.iload_n 1, 1) := by decide +kernel
theorem dX1_seenA_9 : decode cX1_seenA 9 = .ok (.iconst 1, 1) := by decide +kernel
theorem dX1_seenA_10 : decode cX1_seenA 10 = .ok (.if_icmp .ne 9, 3) := by decide +kernel
theorem dX1_seenA_13 : decode cX1_seenA 13 = .ok (.iload_n 2, 1) := by decide +kernel
theorem dX1_seenA_14 : decode cX1_seenA 14 = .ok (.iconst 2, 1) := by decide +kernel
theorem dX1_seenA_15 : decode cX1_seenA 15 = .ok (.idiv, 1) := by decide +kernel
theorem dX1_seenA_16 : decode cX1_seenA 16 = .ok (.goto 4, 3) := by decide +kernel
theorem dX1_seenA_19 : decode cX1_seenA 19 = .ok (.iconst 0, 1) := by decide +kernel
theorem dX1_seenA_20 : decode cX1_seenA 20 = .ok (.ireturn, 1) := by decide +kernel
end
section
set_option maxRecDepth 100000
abbrev cX1_seenB : ByteArray := prog_3_method_13_code
def yX1_seenB : MethodName := ⟨RX1, "seenB", "(II)I"⟩
theorem dX1_seenB_0 : decode cX1_seenB 0 = .ok (.iload_n 1, 1) := by decide +kernel
theorem dX1_seenB_1 : decode cX1_seenB 1 = .ok (.ifCond .ne 7, 3) := by decide +kernel
theorem dX1_seenB_4 : decode cX1_seenB 4 = .ok (.iload_n 2, 1) := by decide +kernel
theorem dX1_seenB_5 : decode cX1_seenB 5 = .ok (.goto 26, 3) := by decide +kernel
theorem dX1_seenB_8 : decode cX1_seenB 8 = .ok (.iload_n 1, 1) := by decide +kernel
theorem dX1_seenB_9 : decode cX1_seenB 9 = .ok (.iconst 1, 1) := by decide +kernel
theorem dX1_seenB_10 : decode cX1_seenB 10 = .ok (.if_icmp .ne 9, 3) := by decide +kernel
theorem dX1_seenB_13 : decode cX1_seenB 13 = .ok (.iload_n 2, 1) := by decide +kernel
theorem dX1_seenB_14 : decode cX1_seenB 14 = .ok (.iconst 2, 1) := by decide +kernel
theorem dX1_seenB_15 : decode cX1_seenB 15 = .ok (.idiv, 1) := by decide +kernel
theorem dX1_seenB_16 : decode cX1_seenB 16 = .ok (.goto 15, 3) := by decide +kernel
theorem dX1_seenB_19 : decode cX1_seenB 19 = .ok (.iload_n 1, 1) := by decide +kernel
theorem dX1_seenB_20 : decode cX1_seenB 20 = .ok (.iconst 2, 1) := by decide +kernel
theorem dX1_seenB_21 : decode cX1_seenB 21 = .ok (.if_icmp .ne 9, 3) := by decide +kernel
theorem dX1_seenB_24 : decode cX1_seenB 24 = .ok (.iload_n 2, 1) := by decide +kernel
theorem dX1_seenB_25 : decode cX1_seenB 25 = .ok (.iconst 3, 1) := by decide +kernel
theorem dX1_seenB_26 : decode cX1_seenB 26 = .ok (.idiv, 1) := by decide +kernel
theorem dX1_seenB_27 : decode cX1_seenB 27 = .ok (.goto 4, 3) := by decide +kernel
theorem dX1_seenB_30 : decode cX1_seenB 30 = .ok (.iconst 0, 1) := by decide +kernel
theorem dX1_seenB_31 : decode cX1_seenB 31 = .ok (.ireturn, 1) := by decide +kernel
abbrev cX1_seenC : ByteArray := prog_3_method_14_code
def yX1_seenC : MethodName := ⟨RX1, "seenC", "(II)I"⟩
theorem dX1_seenC_0 : decode cX1_seenC 0 = .ok (.iload_n 1, 1) := by decide +kernel
theorem dX1_seenC_1 : decode cX1_seenC 1 = .ok (.ifCond .ne 7, 3) := by decide +kernel
theorem dX1_seenC_4 : decode cX1_seenC 4 = .ok (.iload_n 2, 1) := by decide +kernel
theorem dX1_seenC_5 : decode cX1_seenC 5 = .ok (.goto 26, 3) := by decide +kernel
theorem dX1_seenC_8 : decode cX1_seenC 8 = .ok (.iload_n 1, 1) := by decide +kernel
theorem dX1_seenC_9 : decode cX1_seenC 9 = .ok (.iconst 1, 1) := by decide +kernel
theorem dX1_seenC_10 : decode cX1_seenC 10 = .ok (.if_icmp .ne 9, 3) := by decide +kernel
theorem dX1_seenC_13 : decode cX1_seenC 13 = .ok (.iload_n 2, 1) := by decide +kernel
theorem dX1_seenC_14 : decode cX1_seenC 14 = .ok (.iconst 2, 1) := by decide +kernel
theorem dX1_seenC_15 : decode cX1_seenC 15 = .ok (.idiv, 1) := by decide +kernel
theorem dX1_seenC_16 : decode cX1_seenC 16 = .ok (.goto 15, 3) := by decide +kernel
theorem dX1_seenC_19 : decode cX1_seenC 19 = .ok (.iload_n 1, 1) := by decide +kernel
theorem dX1_seenC_20 : decode cX1_seenC 20 = .ok (.iconst 2, 1) := by decide +kernel
theorem dX1_seenC_21 : decode cX1_seenC 21 = .ok (.if_icmp .ne 9, 3) := by decide +kernel
theorem dX1_seenC_24 : decode cX1_seenC 24 = .ok (.iload_n 2, 1) := by decide +kernel
theorem dX1_seenC_25 : decode cX1_seenC 25 = .ok (.iconst 4, 1) := by decide +kernel
theorem dX1_seenC_26 : decode cX1_seenC 26 = .ok (.idiv, 1) := by decide +kernel
theorem dX1_seenC_27 : decode cX1_seenC 27 = .ok (.goto 4, 3) := by decide +kernel
theorem dX1_seenC_30 : decode cX1_seenC 30 = .ok (.iconst 0, 1) := by decide +kernel
theorem dX1_seenC_31 : decode cX1_seenC 31 = .ok (.ireturn, 1) := by decide +kernel
abbrev cX1_facts : ByteArray := prog_3_method_11_code
def yX1_facts : MethodName := ⟨RX1, "facts", "()I"⟩
theorem dX1_facts_0 : decode cX1_facts 0 = .ok (.aload_n 0, 1) := by decide +kernel
theorem dX1_facts_1 : decode cX1_facts 1 = .ok (.getfield 16, 3) := by decide +kernel
theorem dX1_facts_4 : decode cX1_facts 4 = .ok (.ireturn, 1) := by decide +kernel
abbrev cX1_cellOf : ByteArray := prog_3_method_16_code
def yX1_cellOf : MethodName := ⟨RX1, "cellOf", "(II)I"⟩
theorem dX1_cellOf_0 : decode cX1_cellOf 0 = .ok (.aload_n 0, 1) := by decide +kernel
theorem dX1_cellOf_1 : decode cX1_cellOf 1 = .ok (.iload_n 1, 1) := by decide +kernel
theorem dX1_cellOf_2 : decode cX1_cellOf 2 = .ok (.invokevirtual 42, 3) := by decide +kernel
theorem dX1_cellOf_5 : decode cX1_cellOf 5 = .ok (.ifCond .eq 5, 3) := by decide +kernel
theorem dX1_cellOf_8 : decode cX1_cellOf 8 = .ok (.iconst (-1), 1) := by decide +kernel
theorem dX1_cellOf_9 : decode cX1_cellOf 9 = .ok (.ireturn, 1) := by decide +kernel
theorem dX1_cellOf_10 : decode cX1_cellOf 10 = .ok (.aload_n 0, 1) := by decide +kernel
theorem dX1_cellOf_11 : decode cX1_cellOf 11 = .ok (.iload_n 2, 1) := by decide +kernel
theorem dX1_cellOf_12 : decode cX1_cellOf 12 = .ok (.invokevirtual 24, 3) := by decide +kernel
theorem dX1_cellOf_15 : decode cX1_cellOf 15 = .ok (.ifCond .eq 6, 3) := by decide +kernel
theorem dX1_cellOf_18 : decode cX1_cellOf 18 = .ok (.bipush (-2), 2) := by decide +kernel
theorem dX1_cellOf_20 : decode cX1_cellOf 20 = .ok (.ireturn, 1) := by decide +kernel
theorem dX1_cellOf_21 : decode cX1_cellOf 21 = .ok (.aload_n 0, 1) := by decide +kernel
theorem dX1_cellOf_22 : decode cX1_cellOf 22 = .ok (.iload_n 1, 1) := by decide +kernel
theorem dX1_cellOf_23 : decode cX1_cellOf 23 = .ok (.aload_n 0, 1) := by decide +kernel
theorem dX1_cellOf_24 : decode cX1_cellOf 24 = .ok (.getfield 7, 3) := by decide +kernel
theorem dX1_cellOf_27 : decode cX1_cellOf 27 = .ok (.iload_n 2, 1) := by decide +kernel
theorem dX1_cellOf_28 : decode cX1_cellOf 28 = .ok (.iaload, 1) := by decide +kernel
theorem dX1_cellOf_29 : decode cX1_cellOf 29 = .ok (.invokevirtual 45, 3) := by decide +kernel
theorem dX1_cellOf_32 : decode cX1_cellOf 32 = .ok (.ireturn, 1) := by decide +kernel
abbrev cX1_count : ByteArray := prog_3_method_18_code
def yX1_count : MethodName := ⟨RX1, "count", "(II)I"⟩
theorem dX1_count_0 : decode cX1_count 0 = .ok (.aload_n 0, 1) := by decide +kernel
theorem dX1_count_1 : decode cX1_count 1 = .ok (.iload_n 1, 1) := by decide +kernel
theorem dX1_count_2 : decode cX1_count 2 = .ok (.invokevirtual 42, 3) := by decide +kernel
theorem dX1_count_5 : decode cX1_count 5 = .ok (.ifCond .eq 5, 3) := by decide +kernel
theorem dX1_count_8 : decode cX1_count 8 = .ok (.iconst (-1), 1) := by decide +kernel
theorem dX1_count_9 : decode cX1_count 9 = .ok (.ireturn, 1) := by decide +kernel
theorem dX1_count_10 : decode cX1_count 10 = .ok (.aload_n 0, 1) := by decide +kernel
theorem dX1_count_11 : decode cX1_count 11 = .ok (.iload_n 2, 1) := by decide +kernel
theorem dX1_count_12 : decode cX1_count 12 = .ok (.invokevirtual 51, 3) := by decide +kernel
theorem dX1_count_15 : decode cX1_count 15 = .ok (.ifCond .eq 6, 3) := by decide +kernel
theorem dX1_count_18 : decode cX1_count 18 = .ok (.bipush (-2), 2) := by decide +kernel
theorem dX1_count_20 : decode cX1_count 20 = .ok (.ireturn, 1) := by decide +kernel
theorem dX1_count_21 : decode cX1_count 21 = .ok (.iconst 0, 1) := by decide +kernel
theorem dX1_count_22 : decode cX1_count 22 = .ok (.istore_n 3, 1) := by decide +kernel
theorem dX1_count_23 : decode cX1_count 23 = .ok (.iconst 0, 1) := by decide +kernel
theorem dX1_count_24 : decode cX1_count 24 = .ok (.istore 4, 2) := by decide +kernel
theorem dX1_count_26 : decode cX1_count 26 = .ok (.iload 4, 2) := by decide +kernel
theorem dX1_count_28 : decode cX1_count 28 = .ok (.aload_n 0, 1) := by decide +kernel
theorem dX1_count_29 : decode cX1_count 29 = .ok (.getfield 16, 3) := by decide +kernel
theorem dX1_count_32 : decode cX1_count 32 = .ok (.if_icmp .ge 28, 3) := by decide +kernel
theorem dX1_count_35 : decode cX1_count 35 = .ok (.aload_n 0, 1) := by decide +kernel
theorem dX1_count_36 : decode cX1_count 36 = .ok (.iload_n 1, 1) := by decide +kernel
theorem dX1_count_37 : decode cX1_count 37 = .ok (.aload_n 0, 1) := by decide +kernel
theorem dX1_count_38 : decode cX1_count 38 = .ok (.getfield 7, 3) := by decide +kernel
theorem dX1_count_41 : decode cX1_count 41 = .ok (.iload 4, 2) := by decide +kernel
theorem dX1_count_43 : decode cX1_count 43 = .ok (.iaload, 1) := by decide +kernel
theorem dX1_count_44 : decode cX1_count 44 = .ok (.invokevirtual 45, 3) := by decide +kernel
theorem dX1_count_47 : decode cX1_count 47 = .ok (.iload_n 2, 1) := by decide +kernel
theorem dX1_count_48 : decode cX1_count 48 = .ok (.if_icmp .ne 6, 3) := by decide +kernel
theorem dX1_count_51 : decode cX1_count 51 = .ok (.iinc 3 1, 3) := by decide +kernel
theorem dX1_count_54 : decode cX1_count 54 = .ok (.iinc 4 1, 3) := by decide +kernel
theorem dX1_count_57 : decode cX1_count 57 = .ok (.goto (-31), 3) := by decide +kernel
theorem dX1_count_60 : decode cX1_count 60 = .ok (.iload_n 3, 1) := by decide +kernel
theorem dX1_count_61 : decode cX1_count 61 = .ok (.ireturn, 1) := by decide +kernel
abbrev cX1_badCell : ByteArray := prog_3_method_3_code
def yX1_badCell : MethodName := ⟨RX1, "badCell", "(I)Z"⟩
theorem dX1_badCell_0 : decode cX1_badCell 0 = .ok (.iload_n 1, 1) := by decide +kernel
theorem dX1_badCell_1 : decode cX1_badCell 1 = .ok (.ifCond .lt 10, 3) := by decide +kernel
theorem dX1_badCell_4 : decode cX1_badCell 4 = .ok (.iload_n 1, 1) := by decide +kernel
theorem dX1_badCell_5 : decode cX1_badCell 5 = .ok (.sipush 191, 3) := by decide +kernel
theorem dX1_badCell_8 : decode cX1_badCell 8 = .ok (.if_icmp .le 7, 3) := by decide +kernel
theorem dX1_badCell_11 : decode cX1_badCell 11 = .ok (.iconst 1, 1) := by decide +kernel
theorem dX1_badCell_12 : decode cX1_badCell 12 = .ok (.goto 4, 3) := by decide +kernel
theorem dX1_badCell_15 : decode cX1_badCell 15 = .ok (.iconst 0, 1) := by decide +kernel
theorem dX1_badCell_16 : decode cX1_badCell 16 = .ok (.ireturn, 1) := by decide +kernel
abbrev cX1_sum : ByteArray := prog_3_method_19_code
def yX1_sum : MethodName := ⟨RX1, "sum", "(II)I"⟩
theorem dX1_sum_0 : decode cX1_sum 0 = .ok (.aload_n 0, 1) := by decide +kernel
theorem dX1_sum_1 : decode cX1_sum 1 = .ok (.iload_n 1, 1) := by decide +kernel
theorem dX1_sum_2 : decode cX1_sum 2 = .ok (.invokevirtual 42, 3) := by decide +kernel
theorem dX1_sum_5 : decode cX1_sum 5 = .ok (.ifCond .ne 11, 3) := by decide +kernel
theorem dX1_sum_8 : decode cX1_sum 8 = .ok (.aload_n 0, 1) := by decide +kernel
theorem dX1_sum_9 : decode cX1_sum 9 = .ok (.iload_n 2, 1) := by decide +kernel
theorem dX1_sum_10 : decode cX1_sum 10 = .ok (.invokevirtual 51, 3) := by decide +kernel
theorem dX1_sum_13 : decode cX1_sum 13 = .ok (.ifCond .eq 5, 3) := by decide +kernel
theorem dX1_sum_16 : decode cX1_sum 16 = .ok (.iconst 0, 1) := by decide +kernel
theorem dX1_sum_17 : decode cX1_sum 17 = .ok (.ireturn, 1) := by decide +kernel
theorem dX1_sum_18 : decode cX1_sum 18 = .ok (.iconst 0, 1) := by decide +kernel
theorem dX1_sum_19 : decode cX1_sum 19 = .ok (.istore_n 3, 1) := by decide +kernel
theorem dX1_sum_20 : decode cX1_sum 20 = .ok (.iconst 0, 1) := by decide +kernel
theorem dX1_sum_21 : decode cX1_sum 21 = .ok (.istore 4, 2) := by decide +kernel
theorem dX1_sum_23 : decode cX1_sum 23 = .ok (.iload 4, 2) := by decide +kernel
theorem dX1_sum_25 : decode cX1_sum 25 = .ok (.aload_n 0, 1) := by decide +kernel
theorem dX1_sum_26 : decode cX1_sum 26 = .ok (.getfield 16, 3) := by decide +kernel
theorem dX1_sum_29 : decode cX1_sum 29 = .ok (.if_icmp .ge 35, 3) := by decide +kernel
theorem dX1_sum_32 : decode cX1_sum 32 = .ok (.aload_n 0, 1) := by decide +kernel
theorem dX1_sum_33 : decode cX1_sum 33 = .ok (.iload_n 1, 1) := by decide +kernel
theorem dX1_sum_34 : decode cX1_sum 34 = .ok (.aload_n 0, 1) := by decide +kernel
theorem dX1_sum_35 : decode cX1_sum 35 = .ok (.getfield 7, 3) := by decide +kernel
theorem dX1_sum_38 : decode cX1_sum 38 = .ok (.iload 4, 2) := by decide +kernel
theorem dX1_sum_40 : decode cX1_sum 40 = .ok (.iaload, 1) := by decide +kernel
theorem dX1_sum_41 : decode cX1_sum 41 = .ok (.invokevirtual 45, 3) := by decide +kernel
theorem dX1_sum_44 : decode cX1_sum 44 = .ok (.iload_n 2, 1) := by decide +kernel
theorem dX1_sum_45 : decode cX1_sum 45 = .ok (.if_icmp .ne 13, 3) := by decide +kernel
theorem dX1_sum_48 : decode cX1_sum 48 = .ok (.iload_n 3, 1) := by decide +kernel
theorem dX1_sum_49 : decode cX1_sum 49 = .ok (.aload_n 0, 1) := by decide +kernel
theorem dX1_sum_50 : decode cX1_sum 50 = .ok (.getfield 13, 3) := by decide +kernel
theorem dX1_sum_53 : decode cX1_sum 53 = .ok (.iload 4, 2) := by decide +kernel
theorem dX1_sum_55 : decode cX1_sum 55 = .ok (.iaload, 1) := by decide +kernel
theorem dX1_sum_56 : decode cX1_sum 56 = .ok (.iadd, 1) := by decide +kernel
theorem dX1_sum_57 : decode cX1_sum 57 = .ok (.istore_n 3, 1) := by decide +kernel
theorem dX1_sum_58 : decode cX1_sum 58 = .ok (.iinc 4 1, 3) := by decide +kernel
theorem dX1_sum_61 : decode cX1_sum 61 = .ok (.goto (-38), 3) := by decide +kernel
theorem dX1_sum_64 : decode cX1_sum 64 = .ok (.iload_n 3, 1) := by decide +kernel
theorem dX1_sum_65 : decode cX1_sum 65 = .ok (.ireturn, 1) := by decide +kernel
abbrev cX1_least : ByteArray := prog_3_method_20_code
def yX1_least : MethodName := ⟨RX1, "least", "(II)I"⟩
theorem dX1_least_0 : decode cX1_least 0 = .ok (.aload_n 0, 1) := by decide +kernel
theorem dX1_least_1 : decode cX1_least 1 = .ok (.iload_n 1, 1) := by decide +kernel
theorem dX1_least_2 : decode cX1_least 2 = .ok (.invokevirtual 42, 3) := by decide +kernel
theorem dX1_least_5 : decode cX1_least 5 = .ok (.ifCond .ne 11, 3) := by decide +kernel
theorem dX1_least_8 : decode cX1_least 8 = .ok (.aload_n 0, 1) := by decide +kernel
theorem dX1_least_9 : decode cX1_least 9 = .ok (.iload_n 2, 1) := by decide +kernel
theorem dX1_least_10 : decode cX1_least 10 = .ok (.invokevirtual 51, 3) := by decide +kernel
theorem dX1_least_13 : decode cX1_least 13 = .ok (.ifCond .eq 7, 3) := by decide +kernel
theorem dX1_least_16 : decode cX1_least 16 = .ok (.sipush 10000, 3) := by decide +kernel
theorem dX1_least_19 : decode cX1_least 19 = .ok (.ireturn, 1) := by decide +kernel
theorem dX1_least_20 : decode cX1_least 20 = .ok (.sipush 10000, 3) := by decide +kernel
theorem dX1_least_23 : decode cX1_least 23 = .ok (.istore_n 3, 1) := by decide +kernel
theorem dX1_least_24 : decode cX1_least 24 = .ok (.iconst 0, 1) := by decide +kernel
theorem dX1_least_25 : decode cX1_least 25 = .ok (.istore 4, 2) := by decide +kernel
theorem dX1_least_27 : decode cX1_least 27 = .ok (.iload 4, 2) := by decide +kernel
theorem dX1_least_29 : decode cX1_least 29 = .ok (.aload_n 0, 1) := by decide +kernel
theorem dX1_least_30 : decode cX1_least 30 = .ok (.getfield 16, 3) := by decide +kernel
theorem dX1_least_33 : decode cX1_least 33 = .ok (.if_icmp .ge 44, 3) := by decide +kernel
theorem dX1_least_36 : decode cX1_least 36 = .ok (.aload_n 0, 1) := by decide +kernel
theorem dX1_least_37 : decode cX1_least 37 = .ok (.iload_n 1, 1) := by decide +kernel
theorem dX1_least_38 : decode cX1_least 38 = .ok (.aload_n 0, 1) := by decide +kernel
theorem dX1_least_39 : decode cX1_least 39 = .ok (.getfield 7, 3) := by decide +kernel
theorem dX1_least_42 : decode cX1_least 42 = .ok (.iload 4, 2) := by decide +kernel
theorem dX1_least_44 : decode cX1_least 44 = .ok (.iaload, 1) := by decide +kernel
theorem dX1_least_45 : decode cX1_least 45 = .ok (.invokevirtual 45, 3) := by decide +kernel
theorem dX1_least_48 : decode cX1_least 48 = .ok (.iload_n 2, 1) := by decide +kernel
theorem dX1_least_49 : decode cX1_least 49 = .ok (.if_icmp .ne 22, 3) := by decide +kernel
theorem dX1_least_52 : decode cX1_least 52 = .ok (.aload_n 0, 1) := by decide +kernel
theorem dX1_least_53 : decode cX1_least 53 = .ok (.getfield 13, 3) := by decide +kernel
theorem dX1_least_56 : decode cX1_least 56 = .ok (.iload 4, 2) := by decide +kernel
theorem dX1_least_58 : decode cX1_least 58 = .ok (.iaload, 1) := by decide +kernel
theorem dX1_least_59 : decode cX1_least 59 = .ok (.iload_n 3, 1) := by decide +kernel
theorem dX1_least_60 : decode cX1_least 60 = .ok (.if_icmp .ge 11, 3) := by decide +kernel
theorem dX1_least_63 : decode cX1_least 63 = .ok (.aload_n 0, 1) := by decide +kernel
theorem dX1_least_64 : decode cX1_least 64 = .ok (.getfield 13, 3) := by decide +kernel
theorem dX1_least_67 : decode cX1_least 67 = .ok (.iload 4, 2) := by decide +kernel
theorem dX1_least_69 : decode cX1_least 69 = .ok (.iaload, 1) := by decide +kernel
theorem dX1_least_70 : decode cX1_least 70 = .ok (.istore_n 3, 1) := by decide +kernel
theorem dX1_least_71 : decode cX1_least 71 = .ok (.iinc 4 1, 3) := by decide +kernel
theorem dX1_least_74 : decode cX1_least 74 = .ok (.goto (-47), 3) := by decide +kernel
theorem dX1_least_77 : decode cX1_least 77 = .ok (.iload_n 3, 1) := by decide +kernel
theorem dX1_least_78 : decode cX1_least 78 = .ok (.ireturn, 1) := by decide +kernel
abbrev cX1_most : ByteArray := prog_3_method_21_code
def yX1_most : MethodName := ⟨RX1, "most", "(II)I"⟩
theorem dX1_most_0 : decode cX1_most 0 = .ok (.aload_n 0, 1) := by decide +kernel
theorem dX1_most_1 : decode cX1_most 1 = .ok (.iload_n 1, 1) := by decide +kernel
theorem dX1_most_2 : decode cX1_most 2 = .ok (.invokevirtual 42, 3) := by decide +kernel
theorem dX1_most_5 : decode cX1_most 5 = .ok (.ifCond .ne 11, 3) := by decide +kernel
theorem dX1_most_8 : decode cX1_most 8 = .ok (.aload_n 0, 1) := by decide +kernel
theorem dX1_most_9 : decode cX1_most 9 = .ok (.iload_n 2, 1) := by decide +kernel
theorem dX1_most_10 : decode cX1_most 10 = .ok (.invokevirtual 51, 3) := by decide +kernel
theorem dX1_most_13 : decode cX1_most 13 = .ok (.ifCond .eq 7, 3) := by decide +kernel
theorem dX1_most_16 : decode cX1_most 16 = .ok (.sipush (-10000), 3) := by decide +kernel
theorem dX1_most_19 : decode cX1_most 19 = .ok (.ireturn, 1) := by decide +kernel
theorem dX1_most_20 : decode cX1_most 20 = .ok (.sipush (-10000), 3) := by decide +kernel
theorem dX1_most_23 : decode cX1_most 23 = .ok (.istore_n 3, 1) := by decide +kernel
theorem dX1_most_24 : decode cX1_most 24 = .ok (.iconst 0, 1) := by decide +kernel
theorem dX1_most_25 : decode cX1_most 25 = .ok (.istore 4, 2) := by decide +kernel
theorem dX1_most_27 : decode cX1_most 27 = .ok (.iload 4, 2) := by decide +kernel
theorem dX1_most_29 : decode cX1_most 29 = .ok (.aload_n 0, 1) := by decide +kernel
theorem dX1_most_30 : decode cX1_most 30 = .ok (.getfield 16, 3) := by decide +kernel
theorem dX1_most_33 : decode cX1_most 33 = .ok (.if_icmp .ge 44, 3) := by decide +kernel
theorem dX1_most_36 : decode cX1_most 36 = .ok (.aload_n 0, 1) := by decide +kernel
theorem dX1_most_37 : decode cX1_most 37 = .ok (.iload_n 1, 1) := by decide +kernel
theorem dX1_most_38 : decode cX1_most 38 = .ok (.aload_n 0, 1) := by decide +kernel
theorem dX1_most_39 : decode cX1_most 39 = .ok (.getfield 7, 3) := by decide +kernel
theorem dX1_most_42 : decode cX1_most 42 = .ok (.iload 4, 2) := by decide +kernel
theorem dX1_most_44 : decode cX1_most 44 = .ok (.iaload, 1) := by decide +kernel
theorem dX1_most_45 : decode cX1_most 45 = .ok (.invokevirtual 45, 3) := by decide +kernel
theorem dX1_most_48 : decode cX1_most 48 = .ok (.iload_n 2, 1) := by decide +kernel
theorem dX1_most_49 : decode cX1_most 49 = .ok (.if_icmp .ne 22, 3) := by decide +kernel
theorem dX1_most_52 : decode cX1_most 52 = .ok (.aload_n 0, 1) := by decide +kernel
theorem dX1_most_53 : decode cX1_most 53 = .ok (.getfield 13, 3) := by decide +kernel
theorem dX1_most_56 : decode cX1_most 56 = .ok (.iload 4, 2) := by decide +kernel
theorem dX1_most_58 : decode cX1_most 58 = .ok (.iaload, 1) := by decide +kernel
theorem dX1_most_59 : decode cX1_most 59 = .ok (.iload_n 3, 1) := by decide +kernel
theorem dX1_most_60 : decode cX1_most 60 = .ok (.if_icmp .le 11, 3) := by decide +kernel
theorem dX1_most_63 : decode cX1_most 63 = .ok (.aload_n 0, 1) := by decide +kernel
theorem dX1_most_64 : decode cX1_most 64 = .ok (.getfield 13, 3) := by decide +kernel
theorem dX1_most_67 : decode cX1_most 67 = .ok (.iload 4, 2) := by decide +kernel
theorem dX1_most_69 : decode cX1_most 69 = .ok (.iaload, 1) := by decide +kernel
theorem dX1_most_70 : decode cX1_most 70 = .ok (.istore_n 3, 1) := by decide +kernel
theorem dX1_most_71 : decode cX1_most 71 = .ok (.iinc 4 1, 3) := by decide +kernel
theorem dX1_most_74 : decode cX1_most 74 = .ok (.goto (-47), 3) := by decide +kernel
theorem dX1_most_77 : decode cX1_most 77 = .ok (.iload_n 3, 1) := by decide +kernel
theorem dX1_most_78 : decode cX1_most 78 = .ok (.ireturn, 1) := by decide +kernel
abbrev cX1_best : ByteArray := prog_3_method_23_code
def yX1_best : MethodName := ⟨RX1, "best", "(I)I"⟩
theorem dX1_best_0 : decode cX1_best 0 = .ok (.aload_n 0, 1) := by decide +kernel
theorem dX1_best_1 : decode cX1_best 1 = .ok (.iload_n 1, 1) := by decide +kernel
theorem dX1_best_2 : decode cX1_best 2 = .ok (.invokevirtual 42, 3) := by decide +kernel
theorem dX1_best_5 : decode cX1_best 5 = .ok (.ifCond .eq 5, 3) := by decide +kernel
theorem dX1_best_8 : decode cX1_best 8 = .ok (.iconst (-1), 1) := by decide +kernel
theorem dX1_best_9 : decode cX1_best 9 = .ok (.ireturn, 1) := by decide +kernel
theorem dX1_best_10 : decode cX1_best 10 = .ok (.bipush (-2), 2) := by decide +kernel
theorem dX1_best_12 : decode cX1_best 12 = .ok (.istore_n 2, 1) := by decide +kernel
theorem dX1_best_13 : decode cX1_best 13 = .ok (.iconst 0, 1) := by decide +kernel
theorem dX1_best_14 : decode cX1_best 14 = .ok (.istore_n 3, 1) := by decide +kernel
theorem dX1_best_15 : decode cX1_best 15 = .ok (.aload_n 0, 1) := by decide +kernel
theorem dX1_best_16 : decode cX1_best 16 = .ok (.iload_n 1, 1) := by decide +kernel
theorem dX1_best_17 : decode cX1_best 17 = .ok (.iconst (-1), 1) := by decide +kernel
theorem dX1_best_18 : decode cX1_best 18 = .ok (.invokevirtual 48, 3) := by decide +kernel
theorem dX1_best_21 : decode cX1_best 21 = .ok (.istore 4, 2) := by decide +kernel
theorem dX1_best_23 : decode cX1_best 23 = .ok (.iload 4, 2) := by decide +kernel
theorem dX1_best_25 : decode cX1_best 25 = .ok (.ifCond .lt 40, 3) := by decide +kernel
theorem dX1_best_28 : decode cX1_best 28 = .ok (.aload_n 0, 1) := by decide +kernel
theorem dX1_best_29 : decode cX1_best 29 = .ok (.iload_n 1, 1) := by decide +kernel
theorem dX1_best_30 : decode cX1_best 30 = .ok (.iload 4, 2) := by decide +kernel
theorem dX1_best_32 : decode cX1_best 32 = .ok (.invokevirtual 54, 3) := by decide +kernel
theorem dX1_best_35 : decode cX1_best 35 = .ok (.istore 5, 2) := by decide +kernel
theorem dX1_best_37 : decode cX1_best 37 = .ok (.iload_n 2, 1) := by decide +kernel
theorem dX1_best_38 : decode cX1_best 38 = .ok (.ifCond .lt 9, 3) := by decide +kernel
theorem dX1_best_41 : decode cX1_best 41 = .ok (.iload 5, 2) := by decide +kernel
theorem dX1_best_43 : decode cX1_best 43 = .ok (.iload_n 3, 1) := by decide +kernel
theorem dX1_best_44 : decode cX1_best 44 = .ok (.if_icmp .le 9, 3) := by decide +kernel
theorem dX1_best_47 : decode cX1_best 47 = .ok (.iload 4, 2) := by decide +kernel
theorem dX1_best_49 : decode cX1_best 49 = .ok (.istore_n 2, 1) := by decide +kernel
theorem dX1_best_50 : decode cX1_best 50 = .ok (.iload 5, 2) := by decide +kernel
theorem dX1_best_52 : decode cX1_best 52 = .ok (.istore_n 3, 1) := by decide +kernel
theorem dX1_best_53 : decode cX1_best 53 = .ok (.aload_n 0, 1) := by decide +kernel
theorem dX1_best_54 : decode cX1_best 54 = .ok (.iload_n 1, 1) := by decide +kernel
theorem dX1_best_55 : decode cX1_best 55 = .ok (.iload 4, 2) := by decide +kernel
theorem dX1_best_57 : decode cX1_best 57 = .ok (.invokevirtual 48, 3) := by decide +kernel
theorem dX1_best_60 : decode cX1_best 60 = .ok (.istore 4, 2) := by decide +kernel
theorem dX1_best_62 : decode cX1_best 62 = .ok (.goto (-39), 3) := by decide +kernel
theorem dX1_best_65 : decode cX1_best 65 = .ok (.iload_n 2, 1) := by decide +kernel
theorem dX1_best_66 : decode cX1_best 66 = .ok (.ireturn, 1) := by decide +kernel
abbrev cX1_having : ByteArray := prog_3_method_24_code
def yX1_having : MethodName := ⟨RX1, "having", "(II)I"⟩
theorem dX1_having_0 : decode cX1_having 0 = .ok (.aload_n 0, 1) := by decide +kernel
theorem dX1_having_1 : decode cX1_having 1 = .ok (.iload_n 1, 1) := by decide +kernel
theorem dX1_having_2 : decode cX1_having 2 = .ok (.invokevirtual 42, 3) := by decide +kernel
theorem dX1_having_5 : decode cX1_having 5 = .ok (.ifCond .eq 5, 3) := by decide +kernel
theorem dX1_having_8 : decode cX1_having 8 = .ok (.iconst (-1), 1) := by decide +kernel
theorem dX1_having_9 : decode cX1_having 9 = .ok (.ireturn, 1) := by decide +kernel
theorem dX1_having_10 : decode cX1_having 10 = .ok (.iconst 0, 1) := by decide +kernel
theorem dX1_having_11 : decode cX1_having 11 = .ok (.istore_n 3, 1) := by decide +kernel
theorem dX1_having_12 : decode cX1_having 12 = .ok (.aload_n 0, 1) := by decide +kernel
theorem dX1_having_13 : decode cX1_having 13 = .ok (.iload_n 1, 1) := by decide +kernel
theorem dX1_having_14 : decode cX1_having 14 = .ok (.iconst (-1), 1) := by decide +kernel
theorem dX1_having_15 : decode cX1_having 15 = .ok (.invokevirtual 48, 3) := by decide +kernel
theorem dX1_having_18 : decode cX1_having 18 = .ok (.istore 4, 2) := by decide +kernel
theorem dX1_having_20 : decode cX1_having 20 = .ok (.iload 4, 2) := by decide +kernel
theorem dX1_having_22 : decode cX1_having 22 = .ok (.ifCond .lt 33, 3) := by decide +kernel
theorem dX1_having_25 : decode cX1_having 25 = .ok (.aload_n 0, 1) := by decide +kernel
theorem dX1_having_26 : decode cX1_having 26 = .ok (.iload_n 1, 1) := by decide +kernel
theorem dX1_having_27 : decode cX1_having 27 = .ok (.iload 4, 2) := by decide +kernel
theorem dX1_having_29 : decode cX1_having 29 = .ok (.invokevirtual 54, 3) := by decide +kernel
theorem dX1_having_32 : decode cX1_having 32 = .ok (.istore 5, 2) := by decide +kernel
theorem dX1_having_34 : decode cX1_having 34 = .ok (.iload 5, 2) := by decide +kernel
theorem dX1_having_36 : decode cX1_having 36 = .ok (.iload_n 2, 1) := by decide +kernel
theorem dX1_having_37 : decode cX1_having 37 = .ok (.if_icmp .lt 6, 3) := by decide +kernel
theorem dX1_having_40 : decode cX1_having 40 = .ok (.iinc 3 1, 3) := by decide +kernel
theorem dX1_having_43 : decode cX1_having 43 = .ok (.aload_n 0, 1) := by decide +kernel
theorem dX1_having_44 : decode cX1_having 44 = .ok (.iload_n 1, 1) := by decide +kernel
theorem dX1_having_45 : decode cX1_having 45 = .ok (.iload 4, 2) := by decide +kernel
theorem dX1_having_47 : decode cX1_having 47 = .ok (.invokevirtual 48, 3) := by decide +kernel
theorem dX1_having_50 : decode cX1_having 50 = .ok (.istore 4, 2) := by decide +kernel
theorem dX1_having_52 : decode cX1_having 52 = .ok (.goto (-32), 3) := by decide +kernel
theorem dX1_having_55 : decode cX1_having 55 = .ok (.iload_n 3, 1) := by decide +kernel
theorem dX1_having_56 : decode cX1_having 56 = .ok (.ireturn, 1) := by decide +kernel
abbrev cX1_finer : ByteArray := prog_3_method_25_code
def yX1_finer : MethodName := ⟨RX1, "finer", "(II)I"⟩
theorem dX1_finer_0 : decode cX1_finer 0 = .ok (.aload_n 0, 1) := by decide +kernel
theorem dX1_finer_1 : decode cX1_finer 1 = .ok (.iload_n 1, 1) := by decide +kernel
theorem dX1_finer_2 : decode cX1_finer 2 = .ok (.invokevirtual 42, 3) := by decide +kernel
theorem dX1_finer_5 : decode cX1_finer 5 = .ok (.ifCond .ne 11, 3) := by decide +kernel
theorem dX1_finer_8 : decode cX1_finer 8 = .ok (.aload_n 0, 1) := by decide +kernel
theorem dX1_finer_9 : decode cX1_finer 9 = .ok (.iload_n 2, 1) := by decide +kernel
theorem dX1_finer_10 : decode cX1_finer 10 = .ok (.invokevirtual 42, 3) := by decide +kernel
theorem dX1_finer_13 : decode cX1_finer 13 = .ok (.ifCond .eq 5, 3) := by decide +kernel
theorem dX1_finer_16 : decode cX1_finer 16 = .ok (.iconst (-1), 1) := by decide +kernel
theorem dX1_finer_17 : decode cX1_finer 17 = .ok (.ireturn, 1) := by decide +kernel
theorem dX1_finer_18 : decode cX1_finer 18 = .ok (.iconst 0, 1) := by decide +kernel
theorem dX1_finer_19 : decode cX1_finer 19 = .ok (.istore_n 3, 1) := by decide +kernel
theorem dX1_finer_20 : decode cX1_finer 20 = .ok (.iload_n 3, 1) := by decide +kernel
theorem dX1_finer_21 : decode cX1_finer 21 = .ok (.sipush 192, 3) := by decide +kernel
theorem dX1_finer_24 : decode cX1_finer 24 = .ok (.if_icmp .ge 66, 3) := by decide +kernel
theorem dX1_finer_27 : decode cX1_finer 27 = .ok (.aload_n 0, 1) := by decide +kernel
theorem dX1_finer_28 : decode cX1_finer 28 = .ok (.iload_n 1, 1) := by decide +kernel
theorem dX1_finer_29 : decode cX1_finer 29 = .ok (.iload_n 3, 1) := by decide +kernel
theorem dX1_finer_30 : decode cX1_finer 30 = .ok (.invokevirtual 45, 3) := by decide +kernel
theorem dX1_finer_33 : decode cX1_finer 33 = .ok (.istore 4, 2) := by decide +kernel
theorem dX1_finer_35 : decode cX1_finer 35 = .ok (.aload_n 0, 1) := by decide +kernel
theorem dX1_finer_36 : decode cX1_finer 36 = .ok (.iload_n 2, 1) := by decide +kernel
theorem dX1_finer_37 : decode cX1_finer 37 = .ok (.iload_n 3, 1) := by decide +kernel
theorem dX1_finer_38 : decode cX1_finer 38 = .ok (.invokevirtual 45, 3) := by decide +kernel
theorem dX1_finer_41 : decode cX1_finer 41 = .ok (.istore 5, 2) := by decide +kernel
theorem dX1_finer_43 : decode cX1_finer 43 = .ok (.iconst 0, 1) := by decide +kernel
theorem dX1_finer_44 : decode cX1_finer 44 = .ok (.istore 6, 2) := by decide +kernel
theorem dX1_finer_46 : decode cX1_finer 46 = .ok (.iload 6, 2) := by decide +kernel
theorem dX1_finer_48 : decode cX1_finer 48 = .ok (.iload_n 3, 1) := by decide +kernel
theorem dX1_finer_49 : decode cX1_finer 49 = .ok (.if_icmp .ge 35, 3) := by decide +kernel
theorem dX1_finer_52 : decode cX1_finer 52 = .ok (.aload_n 0, 1) := by decide +kernel
theorem dX1_finer_53 : decode cX1_finer 53 = .ok (.iload_n 1, 1) := by decide +kernel
theorem dX1_finer_54 : decode cX1_finer 54 = .ok (.iload 6, 2) := by decide +kernel
theorem dX1_finer_56 : decode cX1_finer 56 = .ok (.invokevirtual 45, 3) := by decide +kernel
theorem dX1_finer_59 : decode cX1_finer 59 = .ok (.iload 4, 2) := by decide +kernel
theorem dX1_finer_61 : decode cX1_finer 61 = .ok (.if_icmp .ne 17, 3) := by decide +kernel
theorem dX1_finer_64 : decode cX1_finer 64 = .ok (.aload_n 0, 1) := by decide +kernel
theorem dX1_finer_65 : decode cX1_finer 65 = .ok (.iload_n 2, 1) := by decide +kernel
theorem dX1_finer_66 : decode cX1_finer 66 = .ok (.iload 6, 2) := by decide +kernel
theorem dX1_finer_68 : decode cX1_finer 68 = .ok (.invokevirtual 45, 3) := by decide +kernel
theorem dX1_finer_71 : decode cX1_finer 71 = .ok (.iload 5, 2) := by decide +kernel
theorem dX1_finer_73 : decode cX1_finer 73 = .ok (.if_icmp .eq 5, 3) := by decide +kernel
theorem dX1_finer_76 : decode cX1_finer 76 = .ok (.iconst 0, 1) := by decide +kernel
theorem dX1_finer_77 : decode cX1_finer 77 = .ok (.ireturn, 1) := by decide +kernel
theorem dX1_finer_78 : decode cX1_finer 78 = .ok (.iinc 6 1, 3) := by decide +kernel
theorem dX1_finer_81 : decode cX1_finer 81 = .ok (.goto (-35), 3) := by decide +kernel
theorem dX1_finer_84 : decode cX1_finer 84 = .ok (.iinc 3 1, 3) := by decide +kernel
theorem dX1_finer_87 : decode cX1_finer 87 = .ok (.goto (-67), 3) := by decide +kernel
theorem dX1_finer_90 : decode cX1_finer 90 = .ok (.iconst 1, 1) := by decide +kernel
theorem dX1_finer_91 : decode cX1_finer 91 = .ok (.ireturn, 1) := by decide +kernel
abbrev cX1_viewsWith : ByteArray := prog_3_method_26_code
def yX1_viewsWith : MethodName := ⟨RX1, "viewsWith", "(I)I"⟩
theorem dX1_viewsWith_0 : decode cX1_viewsWith 0 = .ok (.iload_n 1, 1) := by decide +kernel
theorem dX1_viewsWith_1 : decode cX1_viewsWith 1 = .ok (.ifCond .lt 10, 3) := by decide +kernel
theorem dX1_viewsWith_4 : decode cX1_viewsWith 4 = .ok (.iload_n 1, 1) := by decide +kernel
theorem dX1_viewsWith_5 : decode cX1_viewsWith 5 = .ok (.sipush 192, 3) := by decide +kernel
theorem dX1_viewsWith_8 : decode cX1_viewsWith 8 = .ok (.if_icmp .le 5, 3) := by decide +kernel
theorem dX1_viewsWith_11 : decode cX1_viewsWith 11 = .ok (.iconst (-1), 1) := by decide +kernel
theorem dX1_viewsWith_12 : decode cX1_viewsWith 12 = .ok (.ireturn, 1) := by decide +kernel
theorem dX1_viewsWith_13 : decode cX1_viewsWith 13 = .ok (.iconst 0, 1) := by decide +kernel
theorem dX1_viewsWith_14 : decode cX1_viewsWith 14 = .ok (.istore_n 2, 1) := by decide +kernel
theorem dX1_viewsWith_15 : decode cX1_viewsWith 15 = .ok (.iconst 0, 1) := by decide +kernel
theorem dX1_viewsWith_16 : decode cX1_viewsWith 16 = .ok (.istore_n 3, 1) := by decide +kernel
theorem dX1_viewsWith_17 : decode cX1_viewsWith 17 = .ok (.iload_n 3, 1) := by decide +kernel
theorem dX1_viewsWith_18 : decode cX1_viewsWith 18 = .ok (.bipush 48, 2) := by decide +kernel
theorem dX1_viewsWith_20 : decode cX1_viewsWith 20 = .ok (.if_icmp .ge 21, 3) := by decide +kernel
theorem dX1_viewsWith_23 : decode cX1_viewsWith 23 = .ok (.aload_n 0, 1) := by decide +kernel
theorem dX1_viewsWith_24 : decode cX1_viewsWith 24 = .ok (.iload_n 3, 1) := by decide +kernel
theorem dX1_viewsWith_25 : decode cX1_viewsWith 25 = .ok (.invokevirtual 28, 3) := by decide +kernel
theorem dX1_viewsWith_28 : decode cX1_viewsWith 28 = .ok (.iload_n 1, 1) := by decide +kernel
theorem dX1_viewsWith_29 : decode cX1_viewsWith 29 = .ok (.if_icmp .ne 6, 3) := by decide +kernel
theorem dX1_viewsWith_32 : decode cX1_viewsWith 32 = .ok (.iinc 2 1, 3) := by decide +kernel
theorem dX1_viewsWith_35 : decode cX1_viewsWith 35 = .ok (.iinc 3 1, 3) := by decide +kernel
theorem dX1_viewsWith_38 : decode cX1_viewsWith 38 = .ok (.goto (-21), 3) := by decide +kernel
theorem dX1_viewsWith_41 : decode cX1_viewsWith 41 = .ok (.iload_n 2, 1) := by decide +kernel
theorem dX1_viewsWith_42 : decode cX1_viewsWith 42 = .ok (.ireturn, 1) := by decide +kernel
end
section
/-! java/lang/Object -/
set_option maxRecDepth 100000
def RJ0 : String := "java/lang/Object"
abbrev cJ0_init : ByteArray := object_method_1_code
def yJ0_init : MethodName := ⟨RJ0, "<init>", "()V"⟩
theorem dJ0_init_0 : decode cJ0_init 0 = .ok (.return_, 1) := by decide +kernel
theorem q24 : (Jvm.Cond.instanceMethod ({ cls := "java/lang/Object", name := "<init>", desc := "()V" } : Jvm.MethodName)) ∈ lw_all := lw_g (lw_at lw_m1 9 rfl) rfl
theorem q25 : (Jvm.Cond.code ({ cls := "java/lang/Object", name := "<init>", desc := "()V" } : Jvm.MethodName) object_method_1_code (1 : Nat) (Option.none : Option Jvm.ClassFile.FieldType)) ∈ lw_all := lw_g (lw_at lw_m1 10 rfl) rfl
theorem q64 : (Jvm.Cond.arrayClass Jvm.ClassFile.FieldType.int) ∈ lw_all := lw_g (lw_at lw_m1 49 rfl) rfl
set_option maxRecDepth 100000
theorem q15 : (Jvm.Cond.initialized "OlapCubesLaw") ∈ lw_all := lw_g (lw_at lw_m1 0 rfl) rfl
set_option maxRecDepth 100000
theorem q18 : (Jvm.Cond.classLink "OlapCubesLaw" (7 : Nat) "OlapCubes") ∈ lw_all := lw_g (lw_at lw_m1 3 rfl) rfl
theorem q20 : (Jvm.Cond.methodLink "OlapCubesLaw" (9 : Nat) ({ cls := "OlapCubes", name := "<init>", desc := "()V" } : Jvm.MethodName)) ∈ lw_all := lw_g (lw_at lw_m1 5 rfl) rfl
theorem q65 : (Jvm.Cond.methodLink "OlapCubesLaw" (13 : Nat) ({ cls := "OlapCubes", name := "put", desc := "(II)I" } : Jvm.MethodName)) ∈ lw_all := lw_g (lw_at lw_m1 50 rfl) rfl
theorem q98 : (Jvm.Cond.methodLink "OlapCubesLaw" (18 : Nat) ({ cls := "OlapCubes", name := "sow", desc := "(III)I" } : Jvm.MethodName)) ∈ lw_all := lw_g (lw_at lw_m1 83 rfl) rfl
theorem q102 : (Jvm.Cond.methodLink "OlapCubesLaw" (23 : Nat) ({ cls := "OlapCubes", name := "measure", desc := "(II)I" } : Jvm.MethodName)) ∈ lw_all := lw_g (lw_at lw_m1 87 rfl) rfl
theorem q114 : (Jvm.Cond.methodLink "OlapCubesLaw" (27 : Nat) ({ cls := "OlapCubes", name := "drop", desc := "(I)I" } : Jvm.MethodName)) ∈ lw_all := lw_g (lw_at lw_m1 99 rfl) rfl
theorem q118 : (Jvm.Cond.methodLink "OlapCubesLaw" (32 : Nat) ({ cls := "OlapCubes", name := "prepare", desc := "(I)I" } : Jvm.MethodName)) ∈ lw_all := lw_g (lw_at lw_m1 103 rfl) rfl
theorem q143 : (Jvm.Cond.methodLink "OlapCubesLaw" (36 : Nat) ({ cls := "OlapCubes", name := "facts", desc := "()I" } : Jvm.MethodName)) ∈ lw_all := lw_g (lw_at lw_m1 128 rfl) rfl
theorem q147 : (Jvm.Cond.methodLink "OlapCubesLaw" (41 : Nat) ({ cls := "OlapCubes", name := "cellOf", desc := "(II)I" } : Jvm.MethodName)) ∈ lw_all := lw_g (lw_at lw_m1 132 rfl) rfl
theorem q151 : (Jvm.Cond.methodLink "OlapCubesLaw" (45 : Nat) ({ cls := "OlapCubes", name := "full", desc := "(I)I" } : Jvm.MethodName)) ∈ lw_all := lw_g (lw_at lw_m1 136 rfl) rfl
theorem q152 : (Jvm.Cond.methodLink "OlapCubesLaw" (49 : Nat) ({ cls := "OlapCubes", name := "count", desc := "(II)I" } : Jvm.MethodName)) ∈ lw_all := lw_g (lw_at lw_m1 137 rfl) rfl
theorem q156 : (Jvm.Cond.methodLink "OlapCubesLaw" (53 : Nat) ({ cls := "OlapCubes", name := "sum", desc := "(II)I" } : Jvm.MethodName)) ∈ lw_all := lw_g (lw_at lw_m1 141 rfl) rfl
theorem q160 : (Jvm.Cond.methodLink "OlapCubesLaw" (57 : Nat) ({ cls := "OlapCubes", name := "least", desc := "(II)I" } : Jvm.MethodName)) ∈ lw_all := lw_g (lw_at lw_m1 145 rfl) rfl
theorem q164 : (Jvm.Cond.methodLink "OlapCubesLaw" (61 : Nat) ({ cls := "OlapCubes", name := "most", desc := "(II)I" } : Jvm.MethodName)) ∈ lw_all := lw_g (lw_at lw_m1 149 rfl) rfl
theorem q168 : (Jvm.Cond.methodLink "OlapCubesLaw" (65 : Nat) ({ cls := "OlapCubes", name := "next", desc := "(II)I" } : Jvm.MethodName)) ∈ lw_all := lw_g (lw_at lw_m1 153 rfl) rfl
theorem q172 : (Jvm.Cond.methodLink "OlapCubesLaw" (69 : Nat) ({ cls := "OlapCubes", name := "best", desc := "(I)I" } : Jvm.MethodName)) ∈ lw_all := lw_g (lw_at lw_m1 157 rfl) rfl
theorem q176 : (Jvm.Cond.methodLink "OlapCubesLaw" (73 : Nat) ({ cls := "OlapCubes", name := "having", desc := "(II)I" } : Jvm.MethodName)) ∈ lw_all := lw_g (lw_at lw_m1 161 rfl) rfl
theorem q180 : (Jvm.Cond.methodLink "OlapCubesLaw" (77 : Nat) ({ cls := "OlapCubes", name := "finer", desc := "(II)I" } : Jvm.MethodName)) ∈ lw_all := lw_g (lw_at lw_m1 165 rfl) rfl
theorem q184 : (Jvm.Cond.methodLink "OlapCubesLaw" (81 : Nat) ({ cls := "OlapCubes", name := "viewsWith", desc := "(I)I" } : Jvm.MethodName)) ∈ lw_all := lw_g (lw_at lw_m1 169 rfl) rfl
theorem q188 : (Jvm.Cond.classLink "OlapCubesLaw" (10 : Nat) "OlapCubesModel") ∈ lw_all := lw_g (lw_at lw_m1 173 rfl) rfl
theorem q190 : (Jvm.Cond.methodLink "OlapCubesLaw" (12 : Nat) ({ cls := "OlapCubesModel", name := "<init>", desc := "()V" } : Jvm.MethodName)) ∈ lw_all := lw_g (lw_at lw_m1 175 rfl) rfl
theorem q204 : (Jvm.Cond.methodLink "OlapCubesLaw" (17 : Nat) ({ cls := "OlapCubesModel", name := "put", desc := "(II)I" } : Jvm.MethodName)) ∈ lw_all := lw_g (lw_at lw_m1 189 rfl) rfl
theorem q212 : (Jvm.Cond.methodLink "OlapCubesLaw" (22 : Nat) ({ cls := "OlapCubesModel", name := "sow", desc := "(III)I" } : Jvm.MethodName)) ∈ lw_all := lw_g (lw_at lw_m1 197 rfl) rfl
theorem q216 : (Jvm.Cond.methodLink "OlapCubesLaw" (26 : Nat) ({ cls := "OlapCubesModel", name := "measure", desc := "(II)I" } : Jvm.MethodName)) ∈ lw_all := lw_g (lw_at lw_m1 201 rfl) rfl
theorem q224 : (Jvm.Cond.methodLink "OlapCubesLaw" (31 : Nat) ({ cls := "OlapCubesModel", name := "drop", desc := "(I)I" } : Jvm.MethodName)) ∈ lw_all := lw_g (lw_at lw_m1 209 rfl) rfl
theorem q228 : (Jvm.Cond.methodLink "OlapCubesLaw" (35 : Nat) ({ cls := "OlapCubesModel", name := "prepare", desc := "(I)I" } : Jvm.MethodName)) ∈ lw_all := lw_g (lw_at lw_m1 213 rfl) rfl
theorem q260 : (Jvm.Cond.methodLink "OlapCubesLaw" (40 : Nat) ({ cls := "OlapCubesModel", name := "facts", desc := "()I" } : Jvm.MethodName)) ∈ lw_all := lw_g (lw_at lw_m2 5 rfl) rfl
theorem q264 : (Jvm.Cond.methodLink "OlapCubesLaw" (44 : Nat) ({ cls := "OlapCubesModel", name := "cellOf", desc := "(II)I" } : Jvm.MethodName)) ∈ lw_all := lw_g (lw_at lw_m2 9 rfl) rfl
theorem q268 : (Jvm.Cond.methodLink "OlapCubesLaw" (48 : Nat) ({ cls := "OlapCubesModel", name := "full", desc := "(I)I" } : Jvm.MethodName)) ∈ lw_all := lw_g (lw_at lw_m2 13 rfl) rfl
theorem q269 : (Jvm.Cond.methodLink "OlapCubesLaw" (52 : Nat) ({ cls := "OlapCubesModel", name := "count", desc := "(II)I" } : Jvm.MethodName)) ∈ lw_all := lw_g (lw_at lw_m2 14 rfl) rfl
theorem q277 : (Jvm.Cond.methodLink "OlapCubesLaw" (56 : Nat) ({ cls := "OlapCubesModel", name := "sum", desc := "(II)I" } : Jvm.MethodName)) ∈ lw_all := lw_g (lw_at lw_m2 22 rfl) rfl
theorem q281 : (Jvm.Cond.methodLink "OlapCubesLaw" (60 : Nat) ({ cls := "OlapCubesModel", name := "least", desc := "(II)I" } : Jvm.MethodName)) ∈ lw_all := lw_g (lw_at lw_m2 26 rfl) rfl
theorem q285 : (Jvm.Cond.methodLink "OlapCubesLaw" (64 : Nat) ({ cls := "OlapCubesModel", name := "most", desc := "(II)I" } : Jvm.MethodName)) ∈ lw_all := lw_g (lw_at lw_m2 30 rfl) rfl
theorem q289 : (Jvm.Cond.methodLink "OlapCubesLaw" (68 : Nat) ({ cls := "OlapCubesModel", name := "next", desc := "(II)I" } : Jvm.MethodName)) ∈ lw_all := lw_g (lw_at lw_m2 34 rfl) rfl
theorem q290 : (Jvm.Cond.methodLink "OlapCubesLaw" (72 : Nat) ({ cls := "OlapCubesModel", name := "best", desc := "(I)I" } : Jvm.MethodName)) ∈ lw_all := lw_g (lw_at lw_m2 35 rfl) rfl
theorem q295 : (Jvm.Cond.methodLink "OlapCubesLaw" (76 : Nat) ({ cls := "OlapCubesModel", name := "having", desc := "(II)I" } : Jvm.MethodName)) ∈ lw_all := lw_g (lw_at lw_m2 40 rfl) rfl
theorem q299 : (Jvm.Cond.methodLink "OlapCubesLaw" (80 : Nat) ({ cls := "OlapCubesModel", name := "finer", desc := "(II)I" } : Jvm.MethodName)) ∈ lw_all := lw_g (lw_at lw_m2 44 rfl) rfl
theorem q303 : (Jvm.Cond.methodLink "OlapCubesLaw" (84 : Nat) ({ cls := "OlapCubesModel", name := "viewsWith", desc := "(I)I" } : Jvm.MethodName)) ∈ lw_all := lw_g (lw_at lw_m2 48 rfl) rfl
theorem q16 : (Jvm.Cond.initialized "OlapCubes") ∈ lw_all := lw_g (lw_at lw_m1 1 rfl) rfl
theorem q19 : (Jvm.Cond.instantiable "OlapCubes" (11 : Nat)) ∈ lw_all := lw_g (lw_at lw_m1 4 rfl) rfl
theorem q21 : (Jvm.Cond.instanceMethod ({ cls := "OlapCubes", name := "<init>", desc := "()V" } : Jvm.MethodName)) ∈ lw_all := lw_g (lw_at lw_m1 6 rfl) rfl
theorem q22 : (Jvm.Cond.code ({ cls := "OlapCubes", name := "<init>", desc := "()V" } : Jvm.MethodName) prog_1_method_1_code (2 : Nat) (Option.none : Option Jvm.ClassFile.FieldType)) ∈ lw_all := lw_g (lw_at lw_m1 7 rfl) rfl
theorem q23 : (Jvm.Cond.methodLink "OlapCubes" (1 : Nat) ({ cls := "java/lang/Object", name := "<init>", desc := "()V" } : Jvm.MethodName)) ∈ lw_all := lw_g (lw_at lw_m1 8 rfl) rfl
theorem q26 : (Jvm.Cond.methodLink "OlapCubes" (37 : Nat) ({ cls := "OlapCubes", name := "wipe", desc := "(I)V" } : Jvm.MethodName)) ∈ lw_all := lw_g (lw_at lw_m1 11 rfl) rfl
theorem q27 : (Jvm.Cond.privateMethod ({ cls := "OlapCubes", name := "wipe", desc := "(I)V" } : Jvm.MethodName)) ∈ lw_tbl := lw_at lw_m1 12 rfl
theorem q28 : (Jvm.Cond.instanceMethod ({ cls := "OlapCubes", name := "wipe", desc := "(I)V" } : Jvm.MethodName)) ∈ lw_all := lw_g (lw_at lw_m1 13 rfl) rfl
theorem q29 : (Jvm.Cond.code ({ cls := "OlapCubes", name := "wipe", desc := "(I)V" } : Jvm.MethodName) prog_1_method_30_code (3 : Nat) (Option.none : Option Jvm.ClassFile.FieldType)) ∈ lw_all := lw_g (lw_at lw_m1 14 rfl) rfl
theorem q30 : (Jvm.Cond.fieldLink "OlapCubes" (7 : Nat) "OlapCubes" "places" "[I") ∈ lw_all := lw_g (lw_at lw_m1 15 rfl) rfl
theorem q31 : (Jvm.Cond.fieldLink "OlapCubes" (13 : Nat) "OlapCubes" "measures" "[I") ∈ lw_all := lw_g (lw_at lw_m1 16 rfl) rfl
theorem q32 : (Jvm.Cond.fieldLink "OlapCubes" (16 : Nat) "OlapCubes" "slotView" "[I") ∈ lw_all := lw_g (lw_at lw_m1 17 rfl) rfl
theorem q33 : (Jvm.Cond.fieldLink "OlapCubes" (19 : Nat) "OlapCubes" "slotFull" "[I") ∈ lw_all := lw_g (lw_at lw_m1 18 rfl) rfl
theorem q34 : (Jvm.Cond.fieldLink "OlapCubes" (22 : Nat) "OlapCubes" "slotUsed" "[I") ∈ lw_all := lw_g (lw_at lw_m1 19 rfl) rfl
theorem q35 : (Jvm.Cond.fieldLink "OlapCubes" (25 : Nat) "OlapCubes" "counts" "[I") ∈ lw_all := lw_g (lw_at lw_m1 20 rfl) rfl
theorem q36 : (Jvm.Cond.fieldLink "OlapCubes" (28 : Nat) "OlapCubes" "sums" "[I") ∈ lw_all := lw_g (lw_at lw_m1 21 rfl) rfl
theorem q37 : (Jvm.Cond.fieldLink "OlapCubes" (31 : Nat) "OlapCubes" "lows" "[I") ∈ lw_all := lw_g (lw_at lw_m1 22 rfl) rfl
theorem q38 : (Jvm.Cond.fieldLink "OlapCubes" (34 : Nat) "OlapCubes" "highs" "[I") ∈ lw_all := lw_g (lw_at lw_m1 23 rfl) rfl
theorem q39 : (Jvm.Cond.fieldLink "OlapCubes" (48 : Nat) "OlapCubes" "size" "I") ∈ lw_all := lw_g (lw_at lw_m1 24 rfl) rfl
theorem q40 : (Jvm.Cond.fieldLink "OlapCubes" (96 : Nat) "OlapCubes" "clock" "I") ∈ lw_all := lw_g (lw_at lw_m1 25 rfl) rfl
theorem q41 : (Jvm.Cond.laysFinal "OlapCubes" "OlapCubes" "places" "[I") ∈ lw_all := lw_g (lw_at lw_m1 26 rfl) rfl
theorem q42 : (Jvm.Cond.soleField "OlapCubes" "places") ∈ lw_all := lw_g (lw_at lw_m1 27 rfl) rfl
theorem q43 : (Jvm.Cond.laysFinal "OlapCubes" "OlapCubes" "measures" "[I") ∈ lw_all := lw_g (lw_at lw_m1 28 rfl) rfl
theorem q44 : (Jvm.Cond.soleField "OlapCubes" "measures") ∈ lw_all := lw_g (lw_at lw_m1 29 rfl) rfl
theorem q45 : (Jvm.Cond.laysFinal "OlapCubes" "OlapCubes" "slotView" "[I") ∈ lw_all := lw_g (lw_at lw_m1 30 rfl) rfl
theorem q46 : (Jvm.Cond.soleField "OlapCubes" "slotView") ∈ lw_all := lw_g (lw_at lw_m1 31 rfl) rfl
theorem q47 : (Jvm.Cond.laysFinal "OlapCubes" "OlapCubes" "slotFull" "[I") ∈ lw_all := lw_g (lw_at lw_m1 32 rfl) rfl
theorem q48 : (Jvm.Cond.soleField "OlapCubes" "slotFull") ∈ lw_all := lw_g (lw_at lw_m1 33 rfl) rfl
theorem q49 : (Jvm.Cond.laysFinal "OlapCubes" "OlapCubes" "slotUsed" "[I") ∈ lw_all := lw_g (lw_at lw_m1 34 rfl) rfl
theorem q50 : (Jvm.Cond.soleField "OlapCubes" "slotUsed") ∈ lw_all := lw_g (lw_at lw_m1 35 rfl) rfl
theorem q51 : (Jvm.Cond.laysFinal "OlapCubes" "OlapCubes" "counts" "[I") ∈ lw_all := lw_g (lw_at lw_m1 36 rfl) rfl
theorem q52 : (Jvm.Cond.soleField "OlapCubes" "counts") ∈ lw_all := lw_g (lw_at lw_m1 37 rfl) rfl
theorem q53 : (Jvm.Cond.laysFinal "OlapCubes" "OlapCubes" "sums" "[I") ∈ lw_all := lw_g (lw_at lw_m1 38 rfl) rfl
theorem q54 : (Jvm.Cond.soleField "OlapCubes" "sums") ∈ lw_all := lw_g (lw_at lw_m1 39 rfl) rfl
theorem q55 : (Jvm.Cond.laysFinal "OlapCubes" "OlapCubes" "lows" "[I") ∈ lw_all := lw_g (lw_at lw_m1 40 rfl) rfl
theorem q56 : (Jvm.Cond.soleField "OlapCubes" "lows") ∈ lw_all := lw_g (lw_at lw_m1 41 rfl) rfl
theorem q57 : (Jvm.Cond.laysFinal "OlapCubes" "OlapCubes" "highs" "[I") ∈ lw_all := lw_g (lw_at lw_m1 42 rfl) rfl
theorem q58 : (Jvm.Cond.soleField "OlapCubes" "highs") ∈ lw_all := lw_g (lw_at lw_m1 43 rfl) rfl
theorem q59 : (Jvm.Cond.lays "OlapCubes" "OlapCubes" "size" "I") ∈ lw_all := lw_g (lw_at lw_m1 44 rfl) rfl
theorem q60 : (Jvm.Cond.soleField "OlapCubes" "size") ∈ lw_all := lw_g (lw_at lw_m1 45 rfl) rfl
theorem q61 : (Jvm.Cond.lays "OlapCubes" "OlapCubes" "clock" "I") ∈ lw_all := lw_g (lw_at lw_m1 46 rfl) rfl
theorem q62 : (Jvm.Cond.soleField "OlapCubes" "clock") ∈ lw_all := lw_g (lw_at lw_m1 47 rfl) rfl
theorem q63 : (Jvm.Cond.superclass "OlapCubes" "java/lang/Object") ∈ lw_all := lw_g (lw_at lw_m1 48 rfl) rfl
theorem q66 : (Jvm.Cond.instanceMethod ({ cls := "OlapCubes", name := "put", desc := "(II)I" } : Jvm.MethodName)) ∈ lw_all := lw_g (lw_at lw_m1 51 rfl) rfl
theorem q67 : (Jvm.Cond.selects "OlapCubes" ({ cls := "OlapCubes", name := "put", desc := "(II)I" } : Jvm.MethodName) ({ cls := "OlapCubes", name := "put", desc := "(II)I" } : Jvm.MethodName)) ∈ lw_all := lw_g (lw_at lw_m1 52 rfl) rfl
theorem q68 : (Jvm.Cond.code ({ cls := "OlapCubes", name := "put", desc := "(II)I" } : Jvm.MethodName) prog_1_method_2_code (3 : Nat) (Option.some Jvm.ClassFile.FieldType.int)) ∈ lw_all := lw_g (lw_at lw_m1 53 rfl) rfl
theorem q69 : (Jvm.Cond.methodLink "OlapCubes" (41 : Nat) ({ cls := "OlapCubes", name := "isCell", desc := "(I)Z" } : Jvm.MethodName)) ∈ lw_all := lw_g (lw_at lw_m1 54 rfl) rfl
theorem q70 : (Jvm.Cond.static ({ cls := "OlapCubes", name := "isCell", desc := "(I)Z" } : Jvm.MethodName)) ∈ lw_all := lw_g (lw_at lw_m1 55 rfl) rfl
theorem q71 : (Jvm.Cond.code ({ cls := "OlapCubes", name := "isCell", desc := "(I)Z" } : Jvm.MethodName) prog_1_method_20_code (1 : Nat) (Option.some Jvm.ClassFile.FieldType.boolean)) ∈ lw_all := lw_g (lw_at lw_m1 56 rfl) rfl
theorem q72 : (Jvm.Cond.methodLink "OlapCubes" (45 : Nat) ({ cls := "OlapCubes", name := "isMeasure", desc := "(I)Z" } : Jvm.MethodName)) ∈ lw_all := lw_g (lw_at lw_m1 57 rfl) rfl
theorem q73 : (Jvm.Cond.static ({ cls := "OlapCubes", name := "isMeasure", desc := "(I)Z" } : Jvm.MethodName)) ∈ lw_all := lw_g (lw_at lw_m1 58 rfl) rfl
theorem q74 : (Jvm.Cond.code ({ cls := "OlapCubes", name := "isMeasure", desc := "(I)Z" } : Jvm.MethodName) prog_1_method_21_code (1 : Nat) (Option.some Jvm.ClassFile.FieldType.boolean)) ∈ lw_all := lw_g (lw_at lw_m1 59 rfl) rfl
theorem q75 : (Jvm.Cond.methodLink "OlapCubes" (52 : Nat) ({ cls := "OlapCubes", name := "add", desc := "(II)V" } : Jvm.MethodName)) ∈ lw_all := lw_g (lw_at lw_m1 60 rfl) rfl
theorem q76 : (Jvm.Cond.privateMethod ({ cls := "OlapCubes", name := "add", desc := "(II)V" } : Jvm.MethodName)) ∈ lw_tbl := lw_at lw_m1 61 rfl
theorem q77 : (Jvm.Cond.instanceMethod ({ cls := "OlapCubes", name := "add", desc := "(II)V" } : Jvm.MethodName)) ∈ lw_all := lw_g (lw_at lw_m1 62 rfl) rfl
theorem q78 : (Jvm.Cond.code ({ cls := "OlapCubes", name := "add", desc := "(II)V" } : Jvm.MethodName) prog_1_method_32_code (5 : Nat) (Option.none : Option Jvm.ClassFile.FieldType)) ∈ lw_all := lw_g (lw_at lw_m1 63 rfl) rfl
theorem q79 : (Jvm.Cond.methodLink "OlapCubes" (69 : Nat) ({ cls := "OlapCubes", name := "seenAs", desc := "(II)I" } : Jvm.MethodName)) ∈ lw_all := lw_g (lw_at lw_m1 64 rfl) rfl
theorem q80 : (Jvm.Cond.static ({ cls := "OlapCubes", name := "seenAs", desc := "(II)I" } : Jvm.MethodName)) ∈ lw_all := lw_g (lw_at lw_m1 65 rfl) rfl
theorem q81 : (Jvm.Cond.code ({ cls := "OlapCubes", name := "seenAs", desc := "(II)I" } : Jvm.MethodName) prog_1_method_27_code (5 : Nat) (Option.some Jvm.ClassFile.FieldType.int)) ∈ lw_all := lw_g (lw_at lw_m1 66 rfl) rfl
theorem q82 : (Jvm.Cond.methodLink "OlapCubes" (80 : Nat) ({ cls := "OlapCubes", name := "byA", desc := "(I)I" } : Jvm.MethodName)) ∈ lw_all := lw_g (lw_at lw_m1 67 rfl) rfl
theorem q83 : (Jvm.Cond.static ({ cls := "OlapCubes", name := "byA", desc := "(I)I" } : Jvm.MethodName)) ∈ lw_all := lw_g (lw_at lw_m1 68 rfl) rfl
theorem q84 : (Jvm.Cond.code ({ cls := "OlapCubes", name := "byA", desc := "(I)I" } : Jvm.MethodName) prog_1_method_24_code (2 : Nat) (Option.some Jvm.ClassFile.FieldType.int)) ∈ lw_all := lw_g (lw_at lw_m1 69 rfl) rfl
theorem q85 : (Jvm.Cond.methodLink "OlapCubes" (83 : Nat) ({ cls := "OlapCubes", name := "coarser", desc := "(II)I" } : Jvm.MethodName)) ∈ lw_all := lw_g (lw_at lw_m1 70 rfl) rfl
theorem q86 : (Jvm.Cond.static ({ cls := "OlapCubes", name := "coarser", desc := "(II)I" } : Jvm.MethodName)) ∈ lw_all := lw_g (lw_at lw_m1 71 rfl) rfl
theorem q87 : (Jvm.Cond.code ({ cls := "OlapCubes", name := "coarser", desc := "(II)I" } : Jvm.MethodName) prog_1_method_23_code (2 : Nat) (Option.some Jvm.ClassFile.FieldType.int)) ∈ lw_all := lw_g (lw_at lw_m1 72 rfl) rfl
theorem q88 : (Jvm.Cond.methodLink "OlapCubes" (86 : Nat) ({ cls := "OlapCubes", name := "byB", desc := "(I)I" } : Jvm.MethodName)) ∈ lw_all := lw_g (lw_at lw_m1 73 rfl) rfl
theorem q89 : (Jvm.Cond.static ({ cls := "OlapCubes", name := "byB", desc := "(I)I" } : Jvm.MethodName)) ∈ lw_all := lw_g (lw_at lw_m1 74 rfl) rfl
theorem q90 : (Jvm.Cond.code ({ cls := "OlapCubes", name := "byB", desc := "(I)I" } : Jvm.MethodName) prog_1_method_25_code (2 : Nat) (Option.some Jvm.ClassFile.FieldType.int)) ∈ lw_all := lw_g (lw_at lw_m1 75 rfl) rfl
theorem q91 : (Jvm.Cond.methodLink "OlapCubes" (89 : Nat) ({ cls := "OlapCubes", name := "byC", desc := "(I)I" } : Jvm.MethodName)) ∈ lw_all := lw_g (lw_at lw_m1 76 rfl) rfl
theorem q92 : (Jvm.Cond.static ({ cls := "OlapCubes", name := "byC", desc := "(I)I" } : Jvm.MethodName)) ∈ lw_all := lw_g (lw_at lw_m1 77 rfl) rfl
theorem q93 : (Jvm.Cond.code ({ cls := "OlapCubes", name := "byC", desc := "(I)I" } : Jvm.MethodName) prog_1_method_26_code (2 : Nat) (Option.some Jvm.ClassFile.FieldType.int)) ∈ lw_all := lw_g (lw_at lw_m1 78 rfl) rfl
theorem q94 : (Jvm.Cond.methodLink "OlapCubes" (92 : Nat) ({ cls := "OlapCubes", name := "enter", desc := "(IIIIII)V" } : Jvm.MethodName)) ∈ lw_all := lw_g (lw_at lw_m1 79 rfl) rfl
theorem q95 : (Jvm.Cond.privateMethod ({ cls := "OlapCubes", name := "enter", desc := "(IIIIII)V" } : Jvm.MethodName)) ∈ lw_tbl := lw_at lw_m1 80 rfl
theorem q96 : (Jvm.Cond.instanceMethod ({ cls := "OlapCubes", name := "enter", desc := "(IIIIII)V" } : Jvm.MethodName)) ∈ lw_all := lw_g (lw_at lw_m1 81 rfl) rfl
theorem q97 : (Jvm.Cond.code ({ cls := "OlapCubes", name := "enter", desc := "(IIIIII)V" } : Jvm.MethodName) prog_1_method_31_code (8 : Nat) (Option.none : Option Jvm.ClassFile.FieldType)) ∈ lw_all := lw_g (lw_at lw_m1 82 rfl) rfl
theorem q99 : (Jvm.Cond.instanceMethod ({ cls := "OlapCubes", name := "sow", desc := "(III)I" } : Jvm.MethodName)) ∈ lw_all := lw_g (lw_at lw_m1 84 rfl) rfl
theorem q100 : (Jvm.Cond.selects "OlapCubes" ({ cls := "OlapCubes", name := "sow", desc := "(III)I" } : Jvm.MethodName) ({ cls := "OlapCubes", name := "sow", desc := "(III)I" } : Jvm.MethodName)) ∈ lw_all := lw_g (lw_at lw_m1 85 rfl) rfl
theorem q101 : (Jvm.Cond.code ({ cls := "OlapCubes", name := "sow", desc := "(III)I" } : Jvm.MethodName) prog_1_method_3_code (5 : Nat) (Option.some Jvm.ClassFile.FieldType.int)) ∈ lw_all := lw_g (lw_at lw_m1 86 rfl) rfl
theorem q103 : (Jvm.Cond.instanceMethod ({ cls := "OlapCubes", name := "measure", desc := "(II)I" } : Jvm.MethodName)) ∈ lw_all := lw_g (lw_at lw_m1 88 rfl) rfl
theorem q104 : (Jvm.Cond.selects "OlapCubes" ({ cls := "OlapCubes", name := "measure", desc := "(II)I" } : Jvm.MethodName) ({ cls := "OlapCubes", name := "measure", desc := "(II)I" } : Jvm.MethodName)) ∈ lw_all := lw_g (lw_at lw_m1 89 rfl) rfl
theorem q105 : (Jvm.Cond.code ({ cls := "OlapCubes", name := "measure", desc := "(II)I" } : Jvm.MethodName) prog_1_method_4_code (4 : Nat) (Option.some Jvm.ClassFile.FieldType.int)) ∈ lw_all := lw_g (lw_at lw_m1 90 rfl) rfl
theorem q106 : (Jvm.Cond.methodLink "OlapCubes" (56 : Nat) ({ cls := "OlapCubes", name := "isFact", desc := "(I)Z" } : Jvm.MethodName)) ∈ lw_all := lw_g (lw_at lw_m1 91 rfl) rfl
theorem q107 : (Jvm.Cond.privateMethod ({ cls := "OlapCubes", name := "isFact", desc := "(I)Z" } : Jvm.MethodName)) ∈ lw_tbl := lw_at lw_m1 92 rfl
theorem q108 : (Jvm.Cond.instanceMethod ({ cls := "OlapCubes", name := "isFact", desc := "(I)Z" } : Jvm.MethodName)) ∈ lw_all := lw_g (lw_at lw_m1 93 rfl) rfl
theorem q109 : (Jvm.Cond.code ({ cls := "OlapCubes", name := "isFact", desc := "(I)Z" } : Jvm.MethodName) prog_1_method_22_code (2 : Nat) (Option.some Jvm.ClassFile.FieldType.boolean)) ∈ lw_all := lw_g (lw_at lw_m1 94 rfl) rfl
theorem q110 : (Jvm.Cond.methodLink "OlapCubes" (59 : Nat) ({ cls := "OlapCubes", name := "startAnew", desc := "()V" } : Jvm.MethodName)) ∈ lw_all := lw_g (lw_at lw_m1 95 rfl) rfl
theorem q111 : (Jvm.Cond.privateMethod ({ cls := "OlapCubes", name := "startAnew", desc := "()V" } : Jvm.MethodName)) ∈ lw_tbl := lw_at lw_m1 96 rfl
theorem q112 : (Jvm.Cond.instanceMethod ({ cls := "OlapCubes", name := "startAnew", desc := "()V" } : Jvm.MethodName)) ∈ lw_all := lw_g (lw_at lw_m1 97 rfl) rfl
theorem q113 : (Jvm.Cond.code ({ cls := "OlapCubes", name := "startAnew", desc := "()V" } : Jvm.MethodName) prog_1_method_33_code (2 : Nat) (Option.none : Option Jvm.ClassFile.FieldType)) ∈ lw_all := lw_g (lw_at lw_m1 98 rfl) rfl
theorem q115 : (Jvm.Cond.instanceMethod ({ cls := "OlapCubes", name := "drop", desc := "(I)I" } : Jvm.MethodName)) ∈ lw_all := lw_g (lw_at lw_m1 100 rfl) rfl
theorem q116 : (Jvm.Cond.selects "OlapCubes" ({ cls := "OlapCubes", name := "drop", desc := "(I)I" } : Jvm.MethodName) ({ cls := "OlapCubes", name := "drop", desc := "(I)I" } : Jvm.MethodName)) ∈ lw_all := lw_g (lw_at lw_m1 101 rfl) rfl
theorem q117 : (Jvm.Cond.code ({ cls := "OlapCubes", name := "drop", desc := "(I)I" } : Jvm.MethodName) prog_1_method_5_code (3 : Nat) (Option.some Jvm.ClassFile.FieldType.int)) ∈ lw_all := lw_g (lw_at lw_m1 102 rfl) rfl
theorem q119 : (Jvm.Cond.instanceMethod ({ cls := "OlapCubes", name := "prepare", desc := "(I)I" } : Jvm.MethodName)) ∈ lw_all := lw_g (lw_at lw_m1 104 rfl) rfl
theorem q120 : (Jvm.Cond.selects "OlapCubes" ({ cls := "OlapCubes", name := "prepare", desc := "(I)I" } : Jvm.MethodName) ({ cls := "OlapCubes", name := "prepare", desc := "(I)I" } : Jvm.MethodName)) ∈ lw_all := lw_g (lw_at lw_m1 105 rfl) rfl
theorem q121 : (Jvm.Cond.code ({ cls := "OlapCubes", name := "prepare", desc := "(I)I" } : Jvm.MethodName) prog_1_method_6_code (2 : Nat) (Option.some Jvm.ClassFile.FieldType.int)) ∈ lw_all := lw_g (lw_at lw_m1 106 rfl) rfl
theorem q122 : (Jvm.Cond.methodLink "OlapCubes" (62 : Nat) ({ cls := "OlapCubes", name := "full", desc := "(I)I" } : Jvm.MethodName)) ∈ lw_all := lw_g (lw_at lw_m1 107 rfl) rfl
theorem q123 : (Jvm.Cond.instanceMethod ({ cls := "OlapCubes", name := "full", desc := "(I)I" } : Jvm.MethodName)) ∈ lw_all := lw_g (lw_at lw_m1 108 rfl) rfl
theorem q124 : (Jvm.Cond.selects "OlapCubes" ({ cls := "OlapCubes", name := "full", desc := "(I)I" } : Jvm.MethodName) ({ cls := "OlapCubes", name := "full", desc := "(I)I" } : Jvm.MethodName)) ∈ lw_all := lw_g (lw_at lw_m1 109 rfl) rfl
theorem q125 : (Jvm.Cond.code ({ cls := "OlapCubes", name := "full", desc := "(I)I" } : Jvm.MethodName) prog_1_method_9_code (3 : Nat) (Option.some Jvm.ClassFile.FieldType.int)) ∈ lw_all := lw_g (lw_at lw_m1 110 rfl) rfl
theorem q126 : (Jvm.Cond.methodLink "OlapCubes" (66 : Nat) ({ cls := "OlapCubes", name := "isView", desc := "(I)Z" } : Jvm.MethodName)) ∈ lw_all := lw_g (lw_at lw_m1 111 rfl) rfl
theorem q127 : (Jvm.Cond.static ({ cls := "OlapCubes", name := "isView", desc := "(I)Z" } : Jvm.MethodName)) ∈ lw_all := lw_g (lw_at lw_m1 112 rfl) rfl
theorem q128 : (Jvm.Cond.code ({ cls := "OlapCubes", name := "isView", desc := "(I)Z" } : Jvm.MethodName) prog_1_method_19_code (1 : Nat) (Option.some Jvm.ClassFile.FieldType.boolean)) ∈ lw_all := lw_g (lw_at lw_m1 113 rfl) rfl
theorem q129 : (Jvm.Cond.methodLink "OlapCubes" (73 : Nat) ({ cls := "OlapCubes", name := "slotFor", desc := "(I)I" } : Jvm.MethodName)) ∈ lw_all := lw_g (lw_at lw_m1 114 rfl) rfl
theorem q130 : (Jvm.Cond.privateMethod ({ cls := "OlapCubes", name := "slotFor", desc := "(I)I" } : Jvm.MethodName)) ∈ lw_tbl := lw_at lw_m1 115 rfl
theorem q131 : (Jvm.Cond.instanceMethod ({ cls := "OlapCubes", name := "slotFor", desc := "(I)I" } : Jvm.MethodName)) ∈ lw_all := lw_g (lw_at lw_m1 116 rfl) rfl
theorem q132 : (Jvm.Cond.code ({ cls := "OlapCubes", name := "slotFor", desc := "(I)I" } : Jvm.MethodName) prog_1_method_34_code (5 : Nat) (Option.some Jvm.ClassFile.FieldType.int)) ∈ lw_all := lw_g (lw_at lw_m1 117 rfl) rfl
theorem q133 : (Jvm.Cond.methodLink "OlapCubes" (76 : Nat) ({ cls := "OlapCubes", name := "isFiner", desc := "(II)Z" } : Jvm.MethodName)) ∈ lw_all := lw_g (lw_at lw_m1 118 rfl) rfl
theorem q134 : (Jvm.Cond.static ({ cls := "OlapCubes", name := "isFiner", desc := "(II)Z" } : Jvm.MethodName)) ∈ lw_all := lw_g (lw_at lw_m1 119 rfl) rfl
theorem q135 : (Jvm.Cond.code ({ cls := "OlapCubes", name := "isFiner", desc := "(II)Z" } : Jvm.MethodName) prog_1_method_28_code (5 : Nat) (Option.some Jvm.ClassFile.FieldType.boolean)) ∈ lw_all := lw_g (lw_at lw_m1 120 rfl) rfl
theorem q136 : (Jvm.Cond.methodLink "OlapCubes" (99 : Nat) ({ cls := "OlapCubes", name := "workOut", desc := "(III)V" } : Jvm.MethodName)) ∈ lw_all := lw_g (lw_at lw_m1 121 rfl) rfl
theorem q137 : (Jvm.Cond.privateMethod ({ cls := "OlapCubes", name := "workOut", desc := "(III)V" } : Jvm.MethodName)) ∈ lw_tbl := lw_at lw_m1 122 rfl
theorem q138 : (Jvm.Cond.instanceMethod ({ cls := "OlapCubes", name := "workOut", desc := "(III)V" } : Jvm.MethodName)) ∈ lw_all := lw_g (lw_at lw_m1 123 rfl) rfl
theorem q139 : (Jvm.Cond.code ({ cls := "OlapCubes", name := "workOut", desc := "(III)V" } : Jvm.MethodName) prog_1_method_35_code (7 : Nat) (Option.none : Option Jvm.ClassFile.FieldType)) ∈ lw_all := lw_g (lw_at lw_m1 124 rfl) rfl
theorem q140 : (Jvm.Cond.methodLink "OlapCubes" (103 : Nat) ({ cls := "OlapCubes", name := "cellFrom", desc := "(III)I" } : Jvm.MethodName)) ∈ lw_all := lw_g (lw_at lw_m1 125 rfl) rfl
theorem q141 : (Jvm.Cond.static ({ cls := "OlapCubes", name := "cellFrom", desc := "(III)I" } : Jvm.MethodName)) ∈ lw_all := lw_g (lw_at lw_m1 126 rfl) rfl
theorem q142 : (Jvm.Cond.code ({ cls := "OlapCubes", name := "cellFrom", desc := "(III)I" } : Jvm.MethodName) prog_1_method_29_code (6 : Nat) (Option.some Jvm.ClassFile.FieldType.int)) ∈ lw_all := lw_g (lw_at lw_m1 127 rfl) rfl
theorem q144 : (Jvm.Cond.instanceMethod ({ cls := "OlapCubes", name := "facts", desc := "()I" } : Jvm.MethodName)) ∈ lw_all := lw_g (lw_at lw_m1 129 rfl) rfl
theorem q145 : (Jvm.Cond.selects "OlapCubes" ({ cls := "OlapCubes", name := "facts", desc := "()I" } : Jvm.MethodName) ({ cls := "OlapCubes", name := "facts", desc := "()I" } : Jvm.MethodName)) ∈ lw_all := lw_g (lw_at lw_m1 130 rfl) rfl
theorem q146 : (Jvm.Cond.code ({ cls := "OlapCubes", name := "facts", desc := "()I" } : Jvm.MethodName) prog_1_method_7_code (1 : Nat) (Option.some Jvm.ClassFile.FieldType.int)) ∈ lw_all := lw_g (lw_at lw_m1 131 rfl) rfl
theorem q148 : (Jvm.Cond.instanceMethod ({ cls := "OlapCubes", name := "cellOf", desc := "(II)I" } : Jvm.MethodName)) ∈ lw_all := lw_g (lw_at lw_m1 133 rfl) rfl
theorem q149 : (Jvm.Cond.selects "OlapCubes" ({ cls := "OlapCubes", name := "cellOf", desc := "(II)I" } : Jvm.MethodName) ({ cls := "OlapCubes", name := "cellOf", desc := "(II)I" } : Jvm.MethodName)) ∈ lw_all := lw_g (lw_at lw_m1 134 rfl) rfl
theorem q150 : (Jvm.Cond.code ({ cls := "OlapCubes", name := "cellOf", desc := "(II)I" } : Jvm.MethodName) prog_1_method_8_code (3 : Nat) (Option.some Jvm.ClassFile.FieldType.int)) ∈ lw_all := lw_g (lw_at lw_m1 135 rfl) rfl
theorem q153 : (Jvm.Cond.instanceMethod ({ cls := "OlapCubes", name := "count", desc := "(II)I" } : Jvm.MethodName)) ∈ lw_all := lw_g (lw_at lw_m1 138 rfl) rfl
theorem q154 : (Jvm.Cond.selects "OlapCubes" ({ cls := "OlapCubes", name := "count", desc := "(II)I" } : Jvm.MethodName) ({ cls := "OlapCubes", name := "count", desc := "(II)I" } : Jvm.MethodName)) ∈ lw_all := lw_g (lw_at lw_m1 139 rfl) rfl
theorem q155 : (Jvm.Cond.code ({ cls := "OlapCubes", name := "count", desc := "(II)I" } : Jvm.MethodName) prog_1_method_10_code (4 : Nat) (Option.some Jvm.ClassFile.FieldType.int)) ∈ lw_all := lw_g (lw_at lw_m1 140 rfl) rfl
theorem q157 : (Jvm.Cond.instanceMethod ({ cls := "OlapCubes", name := "sum", desc := "(II)I" } : Jvm.MethodName)) ∈ lw_all := lw_g (lw_at lw_m1 142 rfl) rfl
theorem q158 : (Jvm.Cond.selects "OlapCubes" ({ cls := "OlapCubes", name := "sum", desc := "(II)I" } : Jvm.MethodName) ({ cls := "OlapCubes", name := "sum", desc := "(II)I" } : Jvm.MethodName)) ∈ lw_all := lw_g (lw_at lw_m1 143 rfl) rfl
theorem q159 : (Jvm.Cond.code ({ cls := "OlapCubes", name := "sum", desc := "(II)I" } : Jvm.MethodName) prog_1_method_11_code (4 : Nat) (Option.some Jvm.ClassFile.FieldType.int)) ∈ lw_all := lw_g (lw_at lw_m1 144 rfl) rfl
theorem q161 : (Jvm.Cond.instanceMethod ({ cls := "OlapCubes", name := "least", desc := "(II)I" } : Jvm.MethodName)) ∈ lw_all := lw_g (lw_at lw_m1 146 rfl) rfl
theorem q162 : (Jvm.Cond.selects "OlapCubes" ({ cls := "OlapCubes", name := "least", desc := "(II)I" } : Jvm.MethodName) ({ cls := "OlapCubes", name := "least", desc := "(II)I" } : Jvm.MethodName)) ∈ lw_all := lw_g (lw_at lw_m1 147 rfl) rfl
theorem q163 : (Jvm.Cond.code ({ cls := "OlapCubes", name := "least", desc := "(II)I" } : Jvm.MethodName) prog_1_method_12_code (4 : Nat) (Option.some Jvm.ClassFile.FieldType.int)) ∈ lw_all := lw_g (lw_at lw_m1 148 rfl) rfl
theorem q165 : (Jvm.Cond.instanceMethod ({ cls := "OlapCubes", name := "most", desc := "(II)I" } : Jvm.MethodName)) ∈ lw_all := lw_g (lw_at lw_m1 150 rfl) rfl
theorem q166 : (Jvm.Cond.selects "OlapCubes" ({ cls := "OlapCubes", name := "most", desc := "(II)I" } : Jvm.MethodName) ({ cls := "OlapCubes", name := "most", desc := "(II)I" } : Jvm.MethodName)) ∈ lw_all := lw_g (lw_at lw_m1 151 rfl) rfl
theorem q167 : (Jvm.Cond.code ({ cls := "OlapCubes", name := "most", desc := "(II)I" } : Jvm.MethodName) prog_1_method_13_code (4 : Nat) (Option.some Jvm.ClassFile.FieldType.int)) ∈ lw_all := lw_g (lw_at lw_m1 152 rfl) rfl
theorem q169 : (Jvm.Cond.instanceMethod ({ cls := "OlapCubes", name := "next", desc := "(II)I" } : Jvm.MethodName)) ∈ lw_all := lw_g (lw_at lw_m1 154 rfl) rfl
theorem q170 : (Jvm.Cond.selects "OlapCubes" ({ cls := "OlapCubes", name := "next", desc := "(II)I" } : Jvm.MethodName) ({ cls := "OlapCubes", name := "next", desc := "(II)I" } : Jvm.MethodName)) ∈ lw_all := lw_g (lw_at lw_m1 155 rfl) rfl
theorem q171 : (Jvm.Cond.code ({ cls := "OlapCubes", name := "next", desc := "(II)I" } : Jvm.MethodName) prog_1_method_14_code (6 : Nat) (Option.some Jvm.ClassFile.FieldType.int)) ∈ lw_all := lw_g (lw_at lw_m1 156 rfl) rfl
theorem q173 : (Jvm.Cond.instanceMethod ({ cls := "OlapCubes", name := "best", desc := "(I)I" } : Jvm.MethodName)) ∈ lw_all := lw_g (lw_at lw_m1 158 rfl) rfl
theorem q174 : (Jvm.Cond.selects "OlapCubes" ({ cls := "OlapCubes", name := "best", desc := "(I)I" } : Jvm.MethodName) ({ cls := "OlapCubes", name := "best", desc := "(I)I" } : Jvm.MethodName)) ∈ lw_all := lw_g (lw_at lw_m1 159 rfl) rfl
theorem q175 : (Jvm.Cond.code ({ cls := "OlapCubes", name := "best", desc := "(I)I" } : Jvm.MethodName) prog_1_method_15_code (6 : Nat) (Option.some Jvm.ClassFile.FieldType.int)) ∈ lw_all := lw_g (lw_at lw_m1 160 rfl) rfl
theorem q177 : (Jvm.Cond.instanceMethod ({ cls := "OlapCubes", name := "having", desc := "(II)I" } : Jvm.MethodName)) ∈ lw_all := lw_g (lw_at lw_m1 162 rfl) rfl
theorem q178 : (Jvm.Cond.selects "OlapCubes" ({ cls := "OlapCubes", name := "having", desc := "(II)I" } : Jvm.MethodName) ({ cls := "OlapCubes", name := "having", desc := "(II)I" } : Jvm.MethodName)) ∈ lw_all := lw_g (lw_at lw_m1 163 rfl) rfl
theorem q179 : (Jvm.Cond.code ({ cls := "OlapCubes", name := "having", desc := "(II)I" } : Jvm.MethodName) prog_1_method_16_code (6 : Nat) (Option.some Jvm.ClassFile.FieldType.int)) ∈ lw_all := lw_g (lw_at lw_m1 164 rfl) rfl
theorem q181 : (Jvm.Cond.instanceMethod ({ cls := "OlapCubes", name := "finer", desc := "(II)I" } : Jvm.MethodName)) ∈ lw_all := lw_g (lw_at lw_m1 166 rfl) rfl
theorem q182 : (Jvm.Cond.selects "OlapCubes" ({ cls := "OlapCubes", name := "finer", desc := "(II)I" } : Jvm.MethodName) ({ cls := "OlapCubes", name := "finer", desc := "(II)I" } : Jvm.MethodName)) ∈ lw_all := lw_g (lw_at lw_m1 167 rfl) rfl
theorem q183 : (Jvm.Cond.code ({ cls := "OlapCubes", name := "finer", desc := "(II)I" } : Jvm.MethodName) prog_1_method_17_code (3 : Nat) (Option.some Jvm.ClassFile.FieldType.int)) ∈ lw_all := lw_g (lw_at lw_m1 168 rfl) rfl
theorem q185 : (Jvm.Cond.instanceMethod ({ cls := "OlapCubes", name := "viewsWith", desc := "(I)I" } : Jvm.MethodName)) ∈ lw_all := lw_g (lw_at lw_m1 170 rfl) rfl
theorem q186 : (Jvm.Cond.selects "OlapCubes" ({ cls := "OlapCubes", name := "viewsWith", desc := "(I)I" } : Jvm.MethodName) ({ cls := "OlapCubes", name := "viewsWith", desc := "(I)I" } : Jvm.MethodName)) ∈ lw_all := lw_g (lw_at lw_m1 171 rfl) rfl
theorem q187 : (Jvm.Cond.code ({ cls := "OlapCubes", name := "viewsWith", desc := "(I)I" } : Jvm.MethodName) prog_1_method_18_code (5 : Nat) (Option.some Jvm.ClassFile.FieldType.int)) ∈ lw_all := lw_g (lw_at lw_m1 172 rfl) rfl
theorem in_X0 : ∀ w ∈ wsX00, w ∈ lw_all := lw_in wsX00 [41, 43, 45, 47, 49, 51, 53, 55, 57, 59, 61] (by decide +kernel) (by decide +kernel)

theorem q17 : (Jvm.Cond.initialized "OlapCubesModel") ∈ lw_all := lw_g (lw_at lw_m1 2 rfl) rfl
theorem q189 : (Jvm.Cond.instantiable "OlapCubesModel" (3 : Nat)) ∈ lw_all := lw_g (lw_at lw_m1 174 rfl) rfl
theorem q191 : (Jvm.Cond.instanceMethod ({ cls := "OlapCubesModel", name := "<init>", desc := "()V" } : Jvm.MethodName)) ∈ lw_all := lw_g (lw_at lw_m1 176 rfl) rfl
theorem q192 : (Jvm.Cond.code ({ cls := "OlapCubesModel", name := "<init>", desc := "()V" } : Jvm.MethodName) prog_3_method_1_code (1 : Nat) (Option.none : Option Jvm.ClassFile.FieldType)) ∈ lw_all := lw_g (lw_at lw_m1 177 rfl) rfl
theorem q193 : (Jvm.Cond.methodLink "OlapCubesModel" (1 : Nat) ({ cls := "java/lang/Object", name := "<init>", desc := "()V" } : Jvm.MethodName)) ∈ lw_all := lw_g (lw_at lw_m1 178 rfl) rfl
theorem q194 : (Jvm.Cond.fieldLink "OlapCubesModel" (7 : Nat) "OlapCubesModel" "places" "[I") ∈ lw_all := lw_g (lw_at lw_m1 179 rfl) rfl
theorem q195 : (Jvm.Cond.fieldLink "OlapCubesModel" (13 : Nat) "OlapCubesModel" "measures" "[I") ∈ lw_all := lw_g (lw_at lw_m1 180 rfl) rfl
theorem q196 : (Jvm.Cond.fieldLink "OlapCubesModel" (16 : Nat) "OlapCubesModel" "held" "I") ∈ lw_all := lw_g (lw_at lw_m1 181 rfl) rfl
theorem q197 : (Jvm.Cond.laysFinal "OlapCubesModel" "OlapCubesModel" "places" "[I") ∈ lw_all := lw_g (lw_at lw_m1 182 rfl) rfl
theorem q198 : (Jvm.Cond.soleField "OlapCubesModel" "places") ∈ lw_all := lw_g (lw_at lw_m1 183 rfl) rfl
theorem q199 : (Jvm.Cond.laysFinal "OlapCubesModel" "OlapCubesModel" "measures" "[I") ∈ lw_all := lw_g (lw_at lw_m1 184 rfl) rfl
theorem q200 : (Jvm.Cond.soleField "OlapCubesModel" "measures") ∈ lw_all := lw_g (lw_at lw_m1 185 rfl) rfl
theorem q201 : (Jvm.Cond.lays "OlapCubesModel" "OlapCubesModel" "held" "I") ∈ lw_all := lw_g (lw_at lw_m1 186 rfl) rfl
theorem q202 : (Jvm.Cond.soleField "OlapCubesModel" "held") ∈ lw_all := lw_g (lw_at lw_m1 187 rfl) rfl
theorem q203 : (Jvm.Cond.superclass "OlapCubesModel" "java/lang/Object") ∈ lw_all := lw_g (lw_at lw_m1 188 rfl) rfl
theorem q205 : (Jvm.Cond.instanceMethod ({ cls := "OlapCubesModel", name := "put", desc := "(II)I" } : Jvm.MethodName)) ∈ lw_all := lw_g (lw_at lw_m1 190 rfl) rfl
theorem q206 : (Jvm.Cond.selects "OlapCubesModel" ({ cls := "OlapCubesModel", name := "put", desc := "(II)I" } : Jvm.MethodName) ({ cls := "OlapCubesModel", name := "put", desc := "(II)I" } : Jvm.MethodName)) ∈ lw_all := lw_g (lw_at lw_m1 191 rfl) rfl
theorem q207 : (Jvm.Cond.code ({ cls := "OlapCubesModel", name := "put", desc := "(II)I" } : Jvm.MethodName) prog_3_method_6_code (3 : Nat) (Option.some Jvm.ClassFile.FieldType.int)) ∈ lw_all := lw_g (lw_at lw_m1 192 rfl) rfl
theorem q208 : (Jvm.Cond.methodLink "OlapCubesModel" (20 : Nat) ({ cls := "OlapCubesModel", name := "append", desc := "(II)V" } : Jvm.MethodName)) ∈ lw_all := lw_g (lw_at lw_m1 193 rfl) rfl
theorem q209 : (Jvm.Cond.privateMethod ({ cls := "OlapCubesModel", name := "append", desc := "(II)V" } : Jvm.MethodName)) ∈ lw_tbl := lw_at lw_m1 194 rfl
theorem q210 : (Jvm.Cond.instanceMethod ({ cls := "OlapCubesModel", name := "append", desc := "(II)V" } : Jvm.MethodName)) ∈ lw_all := lw_g (lw_at lw_m1 195 rfl) rfl
theorem q211 : (Jvm.Cond.code ({ cls := "OlapCubesModel", name := "append", desc := "(II)V" } : Jvm.MethodName) prog_3_method_5_code (3 : Nat) (Option.none : Option Jvm.ClassFile.FieldType)) ∈ lw_all := lw_g (lw_at lw_m1 196 rfl) rfl
theorem q213 : (Jvm.Cond.instanceMethod ({ cls := "OlapCubesModel", name := "sow", desc := "(III)I" } : Jvm.MethodName)) ∈ lw_all := lw_g (lw_at lw_m1 198 rfl) rfl
theorem q214 : (Jvm.Cond.selects "OlapCubesModel" ({ cls := "OlapCubesModel", name := "sow", desc := "(III)I" } : Jvm.MethodName) ({ cls := "OlapCubesModel", name := "sow", desc := "(III)I" } : Jvm.MethodName)) ∈ lw_all := lw_g (lw_at lw_m1 199 rfl) rfl
theorem q215 : (Jvm.Cond.code ({ cls := "OlapCubesModel", name := "sow", desc := "(III)I" } : Jvm.MethodName) prog_3_method_7_code (5 : Nat) (Option.some Jvm.ClassFile.FieldType.int)) ∈ lw_all := lw_g (lw_at lw_m1 200 rfl) rfl
theorem q217 : (Jvm.Cond.instanceMethod ({ cls := "OlapCubesModel", name := "measure", desc := "(II)I" } : Jvm.MethodName)) ∈ lw_all := lw_g (lw_at lw_m1 202 rfl) rfl
theorem q218 : (Jvm.Cond.selects "OlapCubesModel" ({ cls := "OlapCubesModel", name := "measure", desc := "(II)I" } : Jvm.MethodName) ({ cls := "OlapCubesModel", name := "measure", desc := "(II)I" } : Jvm.MethodName)) ∈ lw_all := lw_g (lw_at lw_m1 203 rfl) rfl
theorem q219 : (Jvm.Cond.code ({ cls := "OlapCubesModel", name := "measure", desc := "(II)I" } : Jvm.MethodName) prog_3_method_8_code (4 : Nat) (Option.some Jvm.ClassFile.FieldType.int)) ∈ lw_all := lw_g (lw_at lw_m1 204 rfl) rfl
theorem q220 : (Jvm.Cond.methodLink "OlapCubesModel" (24 : Nat) ({ cls := "OlapCubesModel", name := "badFact", desc := "(I)Z" } : Jvm.MethodName)) ∈ lw_all := lw_g (lw_at lw_m1 205 rfl) rfl
theorem q221 : (Jvm.Cond.privateMethod ({ cls := "OlapCubesModel", name := "badFact", desc := "(I)Z" } : Jvm.MethodName)) ∈ lw_tbl := lw_at lw_m1 206 rfl
theorem q222 : (Jvm.Cond.instanceMethod ({ cls := "OlapCubesModel", name := "badFact", desc := "(I)Z" } : Jvm.MethodName)) ∈ lw_all := lw_g (lw_at lw_m1 207 rfl) rfl
theorem q223 : (Jvm.Cond.code ({ cls := "OlapCubesModel", name := "badFact", desc := "(I)Z" } : Jvm.MethodName) prog_3_method_4_code (2 : Nat) (Option.some Jvm.ClassFile.FieldType.boolean)) ∈ lw_all := lw_g (lw_at lw_m1 208 rfl) rfl
theorem q225 : (Jvm.Cond.instanceMethod ({ cls := "OlapCubesModel", name := "drop", desc := "(I)I" } : Jvm.MethodName)) ∈ lw_all := lw_g (lw_at lw_m1 210 rfl) rfl
theorem q226 : (Jvm.Cond.selects "OlapCubesModel" ({ cls := "OlapCubesModel", name := "drop", desc := "(I)I" } : Jvm.MethodName) ({ cls := "OlapCubesModel", name := "drop", desc := "(I)I" } : Jvm.MethodName)) ∈ lw_all := lw_g (lw_at lw_m1 211 rfl) rfl
theorem q227 : (Jvm.Cond.code ({ cls := "OlapCubesModel", name := "drop", desc := "(I)I" } : Jvm.MethodName) prog_3_method_9_code (3 : Nat) (Option.some Jvm.ClassFile.FieldType.int)) ∈ lw_all := lw_g (lw_at lw_m1 212 rfl) rfl
theorem q229 : (Jvm.Cond.instanceMethod ({ cls := "OlapCubesModel", name := "prepare", desc := "(I)I" } : Jvm.MethodName)) ∈ lw_all := lw_g (lw_at lw_m1 214 rfl) rfl
theorem q230 : (Jvm.Cond.selects "OlapCubesModel" ({ cls := "OlapCubesModel", name := "prepare", desc := "(I)I" } : Jvm.MethodName) ({ cls := "OlapCubesModel", name := "prepare", desc := "(I)I" } : Jvm.MethodName)) ∈ lw_all := lw_g (lw_at lw_m1 215 rfl) rfl
theorem q231 : (Jvm.Cond.code ({ cls := "OlapCubesModel", name := "prepare", desc := "(I)I" } : Jvm.MethodName) prog_3_method_10_code (2 : Nat) (Option.some Jvm.ClassFile.FieldType.int)) ∈ lw_all := lw_g (lw_at lw_m1 216 rfl) rfl
theorem q232 : (Jvm.Cond.methodLink "OlapCubesModel" (28 : Nat) ({ cls := "OlapCubesModel", name := "full", desc := "(I)I" } : Jvm.MethodName)) ∈ lw_all := lw_g (lw_at lw_m1 217 rfl) rfl
theorem q233 : (Jvm.Cond.instanceMethod ({ cls := "OlapCubesModel", name := "full", desc := "(I)I" } : Jvm.MethodName)) ∈ lw_all := lw_g (lw_at lw_m1 218 rfl) rfl
theorem q234 : (Jvm.Cond.selects "OlapCubesModel" ({ cls := "OlapCubesModel", name := "full", desc := "(I)I" } : Jvm.MethodName) ({ cls := "OlapCubesModel", name := "full", desc := "(I)I" } : Jvm.MethodName)) ∈ lw_all := lw_g (lw_at lw_m1 219 rfl) rfl
theorem q235 : (Jvm.Cond.code ({ cls := "OlapCubesModel", name := "full", desc := "(I)I" } : Jvm.MethodName) prog_3_method_17_code (4 : Nat) (Option.some Jvm.ClassFile.FieldType.int)) ∈ lw_all := lw_g (lw_at lw_m1 220 rfl) rfl
theorem q236 : (Jvm.Cond.methodLink "OlapCubesModel" (42 : Nat) ({ cls := "OlapCubesModel", name := "badView", desc := "(I)Z" } : Jvm.MethodName)) ∈ lw_all := lw_g (lw_at lw_m1 221 rfl) rfl
theorem q237 : (Jvm.Cond.privateMethod ({ cls := "OlapCubesModel", name := "badView", desc := "(I)Z" } : Jvm.MethodName)) ∈ lw_tbl := lw_at lw_m1 222 rfl
theorem q238 : (Jvm.Cond.instanceMethod ({ cls := "OlapCubesModel", name := "badView", desc := "(I)Z" } : Jvm.MethodName)) ∈ lw_all := lw_g (lw_at lw_m1 223 rfl) rfl
theorem q239 : (Jvm.Cond.code ({ cls := "OlapCubesModel", name := "badView", desc := "(I)Z" } : Jvm.MethodName) prog_3_method_2_code (2 : Nat) (Option.some Jvm.ClassFile.FieldType.boolean)) ∈ lw_all := lw_g (lw_at lw_m1 224 rfl) rfl
theorem q240 : (Jvm.Cond.methodLink "OlapCubesModel" (48 : Nat) ({ cls := "OlapCubesModel", name := "next", desc := "(II)I" } : Jvm.MethodName)) ∈ lw_all := lw_g (lw_at lw_m1 225 rfl) rfl
theorem q241 : (Jvm.Cond.instanceMethod ({ cls := "OlapCubesModel", name := "next", desc := "(II)I" } : Jvm.MethodName)) ∈ lw_all := lw_g (lw_at lw_m1 226 rfl) rfl
theorem q242 : (Jvm.Cond.selects "OlapCubesModel" ({ cls := "OlapCubesModel", name := "next", desc := "(II)I" } : Jvm.MethodName) ({ cls := "OlapCubesModel", name := "next", desc := "(II)I" } : Jvm.MethodName)) ∈ lw_all := lw_g (lw_at lw_m1 227 rfl) rfl
theorem q243 : (Jvm.Cond.code ({ cls := "OlapCubesModel", name := "next", desc := "(II)I" } : Jvm.MethodName) prog_3_method_22_code (6 : Nat) (Option.some Jvm.ClassFile.FieldType.int)) ∈ lw_all := lw_g (lw_at lw_m1 228 rfl) rfl
theorem q244 : (Jvm.Cond.methodLink "OlapCubesModel" (45 : Nat) ({ cls := "OlapCubesModel", name := "fall", desc := "(II)I" } : Jvm.MethodName)) ∈ lw_all := lw_g (lw_at lw_m1 229 rfl) rfl
theorem q245 : (Jvm.Cond.privateMethod ({ cls := "OlapCubesModel", name := "fall", desc := "(II)I" } : Jvm.MethodName)) ∈ lw_tbl := lw_at lw_m1 230 rfl
theorem q246 : (Jvm.Cond.instanceMethod ({ cls := "OlapCubesModel", name := "fall", desc := "(II)I" } : Jvm.MethodName)) ∈ lw_all := lw_g (lw_at lw_m1 231 rfl) rfl
theorem q247 : (Jvm.Cond.code ({ cls := "OlapCubesModel", name := "fall", desc := "(II)I" } : Jvm.MethodName) prog_3_method_15_code (6 : Nat) (Option.some Jvm.ClassFile.FieldType.int)) ∈ lw_all := lw_g (lw_at lw_m1 232 rfl) rfl
theorem q248 : (Jvm.Cond.methodLink "OlapCubesModel" (32 : Nat) ({ cls := "OlapCubesModel", name := "seenA", desc := "(II)I" } : Jvm.MethodName)) ∈ lw_all := lw_g (lw_at lw_m1 233 rfl) rfl
theorem q249 : (Jvm.Cond.privateMethod ({ cls := "OlapCubesModel", name := "seenA", desc := "(II)I" } : Jvm.MethodName)) ∈ lw_tbl := lw_at lw_m1 234 rfl
theorem q250 : (Jvm.Cond.instanceMethod ({ cls := "OlapCubesModel", name := "seenA", desc := "(II)I" } : Jvm.MethodName)) ∈ lw_all := lw_g (lw_at lw_m1 235 rfl) rfl
theorem q251 : (Jvm.Cond.code ({ cls := "OlapCubesModel", name := "seenA", desc := "(II)I" } : Jvm.MethodName) prog_3_method_12_code (3 : Nat) (Option.some Jvm.ClassFile.FieldType.int)) ∈ lw_all := lw_g (lw_at lw_m1 236 rfl) rfl
theorem q252 : (Jvm.Cond.methodLink "OlapCubesModel" (36 : Nat) ({ cls := "OlapCubesModel", name := "seenB", desc := "(II)I" } : Jvm.MethodName)) ∈ lw_all := lw_g (lw_at lw_m1 237 rfl) rfl
theorem q253 : (Jvm.Cond.privateMethod ({ cls := "OlapCubesModel", name := "seenB", desc := "(II)I" } : Jvm.MethodName)) ∈ lw_tbl := lw_at lw_m1 238 rfl
theorem q254 : (Jvm.Cond.instanceMethod ({ cls := "OlapCubesModel", name := "seenB", desc := "(II)I" } : Jvm.MethodName)) ∈ lw_all := lw_g (lw_at lw_m1 239 rfl) rfl
theorem q255 : (Jvm.Cond.code ({ cls := "OlapCubesModel", name := "seenB", desc := "(II)I" } : Jvm.MethodName) prog_3_method_13_code (3 : Nat) (Option.some Jvm.ClassFile.FieldType.int)) ∈ lw_all := lw_g (lw_at lw_m2 0 rfl) rfl
theorem q256 : (Jvm.Cond.methodLink "OlapCubesModel" (39 : Nat) ({ cls := "OlapCubesModel", name := "seenC", desc := "(II)I" } : Jvm.MethodName)) ∈ lw_all := lw_g (lw_at lw_m2 1 rfl) rfl
theorem q257 : (Jvm.Cond.privateMethod ({ cls := "OlapCubesModel", name := "seenC", desc := "(II)I" } : Jvm.MethodName)) ∈ lw_tbl := lw_at lw_m2 2 rfl
theorem q258 : (Jvm.Cond.instanceMethod ({ cls := "OlapCubesModel", name := "seenC", desc := "(II)I" } : Jvm.MethodName)) ∈ lw_all := lw_g (lw_at lw_m2 3 rfl) rfl
theorem q259 : (Jvm.Cond.code ({ cls := "OlapCubesModel", name := "seenC", desc := "(II)I" } : Jvm.MethodName) prog_3_method_14_code (3 : Nat) (Option.some Jvm.ClassFile.FieldType.int)) ∈ lw_all := lw_g (lw_at lw_m2 4 rfl) rfl
theorem q261 : (Jvm.Cond.instanceMethod ({ cls := "OlapCubesModel", name := "facts", desc := "()I" } : Jvm.MethodName)) ∈ lw_all := lw_g (lw_at lw_m2 6 rfl) rfl
theorem q262 : (Jvm.Cond.selects "OlapCubesModel" ({ cls := "OlapCubesModel", name := "facts", desc := "()I" } : Jvm.MethodName) ({ cls := "OlapCubesModel", name := "facts", desc := "()I" } : Jvm.MethodName)) ∈ lw_all := lw_g (lw_at lw_m2 7 rfl) rfl
theorem q263 : (Jvm.Cond.code ({ cls := "OlapCubesModel", name := "facts", desc := "()I" } : Jvm.MethodName) prog_3_method_11_code (1 : Nat) (Option.some Jvm.ClassFile.FieldType.int)) ∈ lw_all := lw_g (lw_at lw_m2 8 rfl) rfl
theorem q265 : (Jvm.Cond.instanceMethod ({ cls := "OlapCubesModel", name := "cellOf", desc := "(II)I" } : Jvm.MethodName)) ∈ lw_all := lw_g (lw_at lw_m2 10 rfl) rfl
theorem q266 : (Jvm.Cond.selects "OlapCubesModel" ({ cls := "OlapCubesModel", name := "cellOf", desc := "(II)I" } : Jvm.MethodName) ({ cls := "OlapCubesModel", name := "cellOf", desc := "(II)I" } : Jvm.MethodName)) ∈ lw_all := lw_g (lw_at lw_m2 11 rfl) rfl
theorem q267 : (Jvm.Cond.code ({ cls := "OlapCubesModel", name := "cellOf", desc := "(II)I" } : Jvm.MethodName) prog_3_method_16_code (3 : Nat) (Option.some Jvm.ClassFile.FieldType.int)) ∈ lw_all := lw_g (lw_at lw_m2 12 rfl) rfl
theorem q270 : (Jvm.Cond.instanceMethod ({ cls := "OlapCubesModel", name := "count", desc := "(II)I" } : Jvm.MethodName)) ∈ lw_all := lw_g (lw_at lw_m2 15 rfl) rfl
theorem q271 : (Jvm.Cond.selects "OlapCubesModel" ({ cls := "OlapCubesModel", name := "count", desc := "(II)I" } : Jvm.MethodName) ({ cls := "OlapCubesModel", name := "count", desc := "(II)I" } : Jvm.MethodName)) ∈ lw_all := lw_g (lw_at lw_m2 16 rfl) rfl
theorem q272 : (Jvm.Cond.code ({ cls := "OlapCubesModel", name := "count", desc := "(II)I" } : Jvm.MethodName) prog_3_method_18_code (5 : Nat) (Option.some Jvm.ClassFile.FieldType.int)) ∈ lw_all := lw_g (lw_at lw_m2 17 rfl) rfl
theorem q273 : (Jvm.Cond.methodLink "OlapCubesModel" (51 : Nat) ({ cls := "OlapCubesModel", name := "badCell", desc := "(I)Z" } : Jvm.MethodName)) ∈ lw_all := lw_g (lw_at lw_m2 18 rfl) rfl
theorem q274 : (Jvm.Cond.privateMethod ({ cls := "OlapCubesModel", name := "badCell", desc := "(I)Z" } : Jvm.MethodName)) ∈ lw_tbl := lw_at lw_m2 19 rfl
theorem q275 : (Jvm.Cond.instanceMethod ({ cls := "OlapCubesModel", name := "badCell", desc := "(I)Z" } : Jvm.MethodName)) ∈ lw_all := lw_g (lw_at lw_m2 20 rfl) rfl
theorem q276 : (Jvm.Cond.code ({ cls := "OlapCubesModel", name := "badCell", desc := "(I)Z" } : Jvm.MethodName) prog_3_method_3_code (2 : Nat) (Option.some Jvm.ClassFile.FieldType.boolean)) ∈ lw_all := lw_g (lw_at lw_m2 21 rfl) rfl
theorem q278 : (Jvm.Cond.instanceMethod ({ cls := "OlapCubesModel", name := "sum", desc := "(II)I" } : Jvm.MethodName)) ∈ lw_all := lw_g (lw_at lw_m2 23 rfl) rfl
theorem q279 : (Jvm.Cond.selects "OlapCubesModel" ({ cls := "OlapCubesModel", name := "sum", desc := "(II)I" } : Jvm.MethodName) ({ cls := "OlapCubesModel", name := "sum", desc := "(II)I" } : Jvm.MethodName)) ∈ lw_all := lw_g (lw_at lw_m2 24 rfl) rfl
theorem q280 : (Jvm.Cond.code ({ cls := "OlapCubesModel", name := "sum", desc := "(II)I" } : Jvm.MethodName) prog_3_method_19_code (5 : Nat) (Option.some Jvm.ClassFile.FieldType.int)) ∈ lw_all := lw_g (lw_at lw_m2 25 rfl) rfl
theorem q282 : (Jvm.Cond.instanceMethod ({ cls := "OlapCubesModel", name := "least", desc := "(II)I" } : Jvm.MethodName)) ∈ lw_all := lw_g (lw_at lw_m2 27 rfl) rfl
theorem q283 : (Jvm.Cond.selects "OlapCubesModel" ({ cls := "OlapCubesModel", name := "least", desc := "(II)I" } : Jvm.MethodName) ({ cls := "OlapCubesModel", name := "least", desc := "(II)I" } : Jvm.MethodName)) ∈ lw_all := lw_g (lw_at lw_m2 28 rfl) rfl
theorem q284 : (Jvm.Cond.code ({ cls := "OlapCubesModel", name := "least", desc := "(II)I" } : Jvm.MethodName) prog_3_method_20_code (5 : Nat) (Option.some Jvm.ClassFile.FieldType.int)) ∈ lw_all := lw_g (lw_at lw_m2 29 rfl) rfl
theorem q286 : (Jvm.Cond.instanceMethod ({ cls := "OlapCubesModel", name := "most", desc := "(II)I" } : Jvm.MethodName)) ∈ lw_all := lw_g (lw_at lw_m2 31 rfl) rfl
theorem q287 : (Jvm.Cond.selects "OlapCubesModel" ({ cls := "OlapCubesModel", name := "most", desc := "(II)I" } : Jvm.MethodName) ({ cls := "OlapCubesModel", name := "most", desc := "(II)I" } : Jvm.MethodName)) ∈ lw_all := lw_g (lw_at lw_m2 32 rfl) rfl
theorem q288 : (Jvm.Cond.code ({ cls := "OlapCubesModel", name := "most", desc := "(II)I" } : Jvm.MethodName) prog_3_method_21_code (5 : Nat) (Option.some Jvm.ClassFile.FieldType.int)) ∈ lw_all := lw_g (lw_at lw_m2 33 rfl) rfl
theorem q291 : (Jvm.Cond.instanceMethod ({ cls := "OlapCubesModel", name := "best", desc := "(I)I" } : Jvm.MethodName)) ∈ lw_all := lw_g (lw_at lw_m2 36 rfl) rfl
theorem q292 : (Jvm.Cond.selects "OlapCubesModel" ({ cls := "OlapCubesModel", name := "best", desc := "(I)I" } : Jvm.MethodName) ({ cls := "OlapCubesModel", name := "best", desc := "(I)I" } : Jvm.MethodName)) ∈ lw_all := lw_g (lw_at lw_m2 37 rfl) rfl
theorem q293 : (Jvm.Cond.code ({ cls := "OlapCubesModel", name := "best", desc := "(I)I" } : Jvm.MethodName) prog_3_method_23_code (6 : Nat) (Option.some Jvm.ClassFile.FieldType.int)) ∈ lw_all := lw_g (lw_at lw_m2 38 rfl) rfl
theorem q294 : (Jvm.Cond.methodLink "OlapCubesModel" (54 : Nat) ({ cls := "OlapCubesModel", name := "sum", desc := "(II)I" } : Jvm.MethodName)) ∈ lw_all := lw_g (lw_at lw_m2 39 rfl) rfl
theorem q296 : (Jvm.Cond.instanceMethod ({ cls := "OlapCubesModel", name := "having", desc := "(II)I" } : Jvm.MethodName)) ∈ lw_all := lw_g (lw_at lw_m2 41 rfl) rfl
theorem q297 : (Jvm.Cond.selects "OlapCubesModel" ({ cls := "OlapCubesModel", name := "having", desc := "(II)I" } : Jvm.MethodName) ({ cls := "OlapCubesModel", name := "having", desc := "(II)I" } : Jvm.MethodName)) ∈ lw_all := lw_g (lw_at lw_m2 42 rfl) rfl
theorem q298 : (Jvm.Cond.code ({ cls := "OlapCubesModel", name := "having", desc := "(II)I" } : Jvm.MethodName) prog_3_method_24_code (6 : Nat) (Option.some Jvm.ClassFile.FieldType.int)) ∈ lw_all := lw_g (lw_at lw_m2 43 rfl) rfl
theorem q300 : (Jvm.Cond.instanceMethod ({ cls := "OlapCubesModel", name := "finer", desc := "(II)I" } : Jvm.MethodName)) ∈ lw_all := lw_g (lw_at lw_m2 45 rfl) rfl
theorem q301 : (Jvm.Cond.selects "OlapCubesModel" ({ cls := "OlapCubesModel", name := "finer", desc := "(II)I" } : Jvm.MethodName) ({ cls := "OlapCubesModel", name := "finer", desc := "(II)I" } : Jvm.MethodName)) ∈ lw_all := lw_g (lw_at lw_m2 46 rfl) rfl
theorem q302 : (Jvm.Cond.code ({ cls := "OlapCubesModel", name := "finer", desc := "(II)I" } : Jvm.MethodName) prog_3_method_25_code (7 : Nat) (Option.some Jvm.ClassFile.FieldType.int)) ∈ lw_all := lw_g (lw_at lw_m2 47 rfl) rfl
theorem q304 : (Jvm.Cond.instanceMethod ({ cls := "OlapCubesModel", name := "viewsWith", desc := "(I)I" } : Jvm.MethodName)) ∈ lw_all := lw_g (lw_at lw_m2 49 rfl) rfl
theorem q305 : (Jvm.Cond.selects "OlapCubesModel" ({ cls := "OlapCubesModel", name := "viewsWith", desc := "(I)I" } : Jvm.MethodName) ({ cls := "OlapCubesModel", name := "viewsWith", desc := "(I)I" } : Jvm.MethodName)) ∈ lw_all := lw_g (lw_at lw_m2 50 rfl) rfl
theorem q306 : (Jvm.Cond.code ({ cls := "OlapCubesModel", name := "viewsWith", desc := "(I)I" } : Jvm.MethodName) prog_3_method_26_code (4 : Nat) (Option.some Jvm.ClassFile.FieldType.int)) ∈ lw_all := lw_g (lw_at lw_m2 51 rfl) rfl
theorem in_X1 : ∀ w ∈ wsX10, w ∈ lw_all := lw_in wsX10 [197, 199, 201] (by decide +kernel) (by decide +kernel)

abbrev vwCl : List vw_C := [(RX0, TX0, 11), (RX1, TX1, 3)]
end
section
/-! MY ROWS: one-instruction rows over natural numbers, reads and writes of an int array by a natural number, method heads and calls by contract -/
def b1 (P : Prop) [Decidable P] : Int32 := if P then 1 else 0
theorem b1_t {P : Prop} [Decidable P] (h : P) : b1 P = 1 := if_pos h
theorem b1_f {P : Prop} [Decidable P] (h : ¬ P) : b1 P = 0 := if_neg h
theorem b1_iff {P R : Prop} [Decidable P] [Decidable R] (h : P ↔ R) : b1 P = b1 R := by
  by_cases q : P
  · rw [b1_t q, b1_t (h.mp q)]
  · rw [b1_f q, b1_f (fun r => q (h.mpr r))]
theorem b1_nar (P : Prop) [Decidable P] : narrow .boolean (.int (b1 P)) = .int (b1 P) := by
  by_cases q : P
  · rw [b1_t q]; rfl
  · rw [b1_f q]; rfl
theorem b1_ne0 {P : Prop} [Decidable P] (h : ¬ b1 P = 0) : P := by
  by_cases q : P
  · exact q
  · exact absurd (b1_f q) h
theorem b1_eq0 {P : Prop} [Decidable P] (h : b1 P = 0) : ¬ P := by
  intro q
  rw [b1_t q] at h
  exact absurd h (by decide)
section ZK
variable {p : Program} {l : Launch} {e : Env} {R : Room} {s : State} {m : MethodId} {args : Array Value} {below : List Frame} {meth : Method} {c : Code} {H : Heap} {locs : List Loc} {cells slots : Nat} {Q : State → Prop}
variable {cc : ByteArray} {pc : Nat} {ls : Array Slot} {rest : List Value}
theorem zz_set {x y : Int32} (h : x = y) (k : W p l e R s m args below meth c H locs cells slots Q (F0 m pc ls (.int y :: rest))) : W p l e R s m args below meth c H locs cells slots Q (F0 m pc ls (.int x :: rest)) := by
  rw [h]; exact k
theorem zz_set2 {x y : Int32} {v : Value} (h : x = y) (k : W p l e R s m args below meth c H locs cells slots Q (F0 m pc ls (v :: .int y :: rest))) : W p l e R s m args below meth c H locs cells slots Q (F0 m pc ls (v :: .int x :: rest)) := by
  rw [h]; exact k
/-- a join: prove what stands behind it once -/
theorem zz_cut {α : Type} (g' : α → JFrame) (P : α → Prop) {g : JFrame} (h : (∀ a, P a → W p l e R s m args below meth c H locs cells slots Q (g' a)) → W p l e R s m args below meth c H locs cells slots Q g) (k : ∀ a, P a → W p l e R s m args below meth c H locs cells slots Q (g' a)) : W p l e R s m args below meth c H locs cells slots Q g := h k
theorem zz_cutI {pj : Nat} {lj : Array Slot} {rj : List Value} (P : Int32 → Prop) {g : JFrame} (h : (∀ z : Int32, P z → W p l e R s m args below meth c H locs cells slots Q (F0 m pj lj (.int z :: rj))) → W p l e R s m args below meth c H locs cells slots Q g) (k : ∀ z : Int32, P z → W p l e R s m args below meth c H locs cells slots Q (F0 m pj lj (.int z :: rj))) : W p l e R s m args below meth c H locs cells slots Q g := h k
theorem zz_add {a b : Nat} (hx : p.tables.exec = Jvm.exec) (hb : c.code = cc) (hdg : decode cc pc = .ok (.iadd, 1)) (k : W p l e R s m args below meth c H locs cells slots Q (F0 m (pc + 1) ls (.int (nI (a + b)) :: rest))) : W p l e R s m args below meth c H locs cells slots Q (F0 m pc ls (.int (nI b) :: .int (nI a) :: rest)) := lv_iadd hx hb hdg (by rw [nI_add]; exact k)
theorem zz_mul {a b : Nat} (hx : p.tables.exec = Jvm.exec) (hb : c.code = cc) (hdg : decode cc pc = .ok (.imul, 1)) (k : W p l e R s m args below meth c H locs cells slots Q (F0 m (pc + 1) ls (.int (nI (a * b)) :: rest))) : W p l e R s m args below meth c H locs cells slots Q (F0 m pc ls (.int (nI b) :: .int (nI a) :: rest)) := lv_imul hx hb hdg (by rw [pk_mul]; exact k)
theorem zz_sub {a b : Nat} (hx : p.tables.exec = Jvm.exec) (hb : c.code = cc) (hdg : decode cc pc = .ok (.isub, 1)) (h : b ≤ a) (k : W p l e R s m args below meth c H locs cells slots Q (F0 m (pc + 1) ls (.int (nI (a - b)) :: rest))) : W p l e R s m args below meth c H locs cells slots Q (F0 m pc ls (.int (nI b) :: .int (nI a) :: rest)) := lv_isub hx hb hdg (by rw [pk_sub h]; exact k)
theorem zz_div {a d : Nat} (hx : p.tables.exec = Jvm.exec) (hb : c.code = cc) (hdg : decode cc pc = .ok (.idiv, 1)) (ha : a < 2 ^ 31) (h0 : 0 < d) (hd : d < 2 ^ 31) (k : W p l e R s m args below meth c H locs cells slots Q (F0 m (pc + 1) ls (.int (nI (a / d)) :: rest))) : W p l e R s m args below meth c H locs cells slots Q (F0 m pc ls (.int (nI d) :: .int (nI a) :: rest)) := lv_idiv hx hb hdg (nI_ne0 h0 hd) (by rw [pk_div ha h0 hd]; exact k)
theorem zz_rem {a d : Nat} (hx : p.tables.exec = Jvm.exec) (hb : c.code = cc) (hdg : decode cc pc = .ok (.irem, 1)) (ha : a < 2 ^ 31) (h0 : 0 < d) (hd : d < 2 ^ 31) (k : W p l e R s m args below meth c H locs cells slots Q (F0 m (pc + 1) ls (.int (nI (a % d)) :: rest))) : W p l e R s m args below meth c H locs cells slots Q (F0 m pc ls (.int (nI d) :: .int (nI a) :: rest)) := lv_irem hx hb hdg (nI_ne0 h0 hd) (by rw [pk_rem ha h0 hd]; exact k)
theorem zz_and3 {a : Nat} (hx : p.tables.exec = Jvm.exec) (hb : c.code = cc) (hdg : decode cc pc = .ok (.iand, 1)) (ha : a < 2 ^ 31) (k : W p l e R s m args below meth c H locs cells slots Q (F0 m (pc + 1) ls (.int (nI (a % 4)) :: rest))) : W p l e R s m args below meth c H locs cells slots Q (F0 m pc ls (.int (nI 3) :: .int (nI a) :: rest)) := lv_iand hx hb hdg (by rw [pk_andN (by omega) 2 (by decide)]; exact k)
theorem zz_shr2 {a : Nat} (hx : p.tables.exec = Jvm.exec) (hb : c.code = cc) (hdg : decode cc pc = .ok (.ishr, 1)) (ha : a < 2 ^ 31) (k : W p l e R s m args below meth c H locs cells slots Q (F0 m (pc + 1) ls (.int (nI (a / 4)) :: rest))) : W p l e R s m args below meth c H locs cells slots Q (F0 m pc ls (.int (nI 2) :: .int (nI a) :: rest)) := lv_ishr hx hb hdg (by rw [pk_shrN ha _ 2 (by decide)]; exact k)
theorem zz_shr4 {a : Nat} (hx : p.tables.exec = Jvm.exec) (hb : c.code = cc) (hdg : decode cc pc = .ok (.ishr, 1)) (ha : a < 2 ^ 31) (k : W p l e R s m args below meth c H locs cells slots Q (F0 m (pc + 1) ls (.int (nI (a / 16)) :: rest))) : W p l e R s m args below meth c H locs cells slots Q (F0 m pc ls (.int (nI 4) :: .int (nI a) :: rest)) := lv_ishr hx hb hdg (by rw [pk_shrN ha _ 4 (by decide)]; exact k)
theorem zz_shl1 {a : Nat} (hx : p.tables.exec = Jvm.exec) (hb : c.code = cc) (hdg : decode cc pc = .ok (.ishl, 1)) (ha : a < 4) (k : W p l e R s m args below meth c H locs cells slots Q (F0 m (pc + 1) ls (.int (nI (2 ^ a)) :: rest))) : W p l e R s m args below meth c H locs cells slots Q (F0 m pc ls (.int (nI a) :: .int (nI 1) :: rest)) := lv_ishl hx hb hdg (by
  have h : ∀ a, a < 4 → nI 1 <<< (nI a &&& 31) = nI (2 ^ a) := by decide +kernel
  rw [h a ha]; exact k)
theorem zz_ge {a b : Nat} (hx : p.tables.exec = Jvm.exec) (hb : c.code = cc) {off : Int} {tgt : Nat} (hdg : decode cc pc = .ok (.if_icmp .ge off, 3)) (ht : (pc : Int) + off = (tgt : Int)) (h1 : a < 2 ^ 31) (h2 : b < 2 ^ 31)
    (kt : b ≤ a → W p l e R s m args below meth c H locs cells slots Q (F0 m tgt ls rest)) (kf : a < b → W p l e R s m args below meth c H locs cells slots Q (F0 m (pc + 3) ls rest)) : W p l e R s m args below meth c H locs cells slots Q (F0 m pc ls (.int (nI b) :: .int (nI a) :: rest)) :=
  lv_icmp_ge hx hb hdg ht (fun h => kt ((nI_leI h2 h1).mp h)) (fun h => kf (Nat.lt_of_not_le (fun q => h ((nI_leI h2 h1).mpr q))))
theorem zz_lt {a b : Nat} (hx : p.tables.exec = Jvm.exec) (hb : c.code = cc) {off : Int} {tgt : Nat} (hdg : decode cc pc = .ok (.if_icmp .lt off, 3)) (ht : (pc : Int) + off = (tgt : Int)) (h1 : a < 2 ^ 31) (h2 : b < 2 ^ 31)
    (kt : a < b → W p l e R s m args below meth c H locs cells slots Q (F0 m tgt ls rest)) (kf : b ≤ a → W p l e R s m args below meth c H locs cells slots Q (F0 m (pc + 3) ls rest)) : W p l e R s m args below meth c H locs cells slots Q (F0 m pc ls (.int (nI b) :: .int (nI a) :: rest)) :=
  lv_icmp_lt hx hb hdg ht (fun h => kt ((nI_ltI h1 h2).mp h)) (fun h => kf (Nat.le_of_not_lt (fun q => h ((nI_ltI h1 h2).mpr q))))
theorem zz_gt {a b : Nat} (hx : p.tables.exec = Jvm.exec) (hb : c.code = cc) {off : Int} {tgt : Nat} (hdg : decode cc pc = .ok (.if_icmp .gt off, 3)) (ht : (pc : Int) + off = (tgt : Int)) (h1 : a < 2 ^ 31) (h2 : b < 2 ^ 31)
    (kt : b < a → W p l e R s m args below meth c H locs cells slots Q (F0 m tgt ls rest)) (kf : a ≤ b → W p l e R s m args below meth c H locs cells slots Q (F0 m (pc + 3) ls rest)) : W p l e R s m args below meth c H locs cells slots Q (F0 m pc ls (.int (nI b) :: .int (nI a) :: rest)) :=
  lv_icmp_gt hx hb hdg ht (fun h => kt ((nI_ltI h2 h1).mp h)) (fun h => kf (Nat.le_of_not_lt (fun q => h ((nI_ltI h2 h1).mpr q))))
theorem zz_le {a b : Nat} (hx : p.tables.exec = Jvm.exec) (hb : c.code = cc) {off : Int} {tgt : Nat} (hdg : decode cc pc = .ok (.if_icmp .le off, 3)) (ht : (pc : Int) + off = (tgt : Int)) (h1 : a < 2 ^ 31) (h2 : b < 2 ^ 31)
    (kt : a ≤ b → W p l e R s m args below meth c H locs cells slots Q (F0 m tgt ls rest)) (kf : b < a → W p l e R s m args below meth c H locs cells slots Q (F0 m (pc + 3) ls rest)) : W p l e R s m args below meth c H locs cells slots Q (F0 m pc ls (.int (nI b) :: .int (nI a) :: rest)) :=
  lv_icmp_le hx hb hdg ht (fun h => kt ((nI_leI h1 h2).mp h)) (fun h => kf (Nat.lt_of_not_le (fun q => h ((nI_leI h1 h2).mpr q))))
theorem zz_eq {a b : Nat} (hx : p.tables.exec = Jvm.exec) (hb : c.code = cc) {off : Int} {tgt : Nat} (hdg : decode cc pc = .ok (.if_icmp .eq off, 3)) (ht : (pc : Int) + off = (tgt : Int)) (h1 : a < 2 ^ 31) (h2 : b < 2 ^ 31)
    (kt : a = b → W p l e R s m args below meth c H locs cells slots Q (F0 m tgt ls rest)) (kf : ¬ a = b → W p l e R s m args below meth c H locs cells slots Q (F0 m (pc + 3) ls rest)) : W p l e R s m args below meth c H locs cells slots Q (F0 m pc ls (.int (nI b) :: .int (nI a) :: rest)) :=
  lv_icmp_eq hx hb hdg ht (fun h => kt ((nI_eq h1 h2).mp h)) (fun h => kf (fun q => h ((nI_eq h1 h2).mpr q)))
theorem zz_ne {a b : Nat} (hx : p.tables.exec = Jvm.exec) (hb : c.code = cc) {off : Int} {tgt : Nat} (hdg : decode cc pc = .ok (.if_icmp .ne off, 3)) (ht : (pc : Int) + off = (tgt : Int)) (h1 : a < 2 ^ 31) (h2 : b < 2 ^ 31)
    (kt : ¬ a = b → W p l e R s m args below meth c H locs cells slots Q (F0 m tgt ls rest)) (kf : a = b → W p l e R s m args below meth c H locs cells slots Q (F0 m (pc + 3) ls rest)) : W p l e R s m args below meth c H locs cells slots Q (F0 m pc ls (.int (nI b) :: .int (nI a) :: rest)) :=
  lv_icmp_ne hx hb hdg ht (fun h => kt (fun q => h ((nI_eq h1 h2).mpr q))) (fun h => kf ((nI_eq h1 h2).mp h))
theorem zz_if_eq {a : Nat} (hx : p.tables.exec = Jvm.exec) (hb : c.code = cc) {off : Int} {tgt : Nat} (hdg : decode cc pc = .ok (.ifCond .eq off, 3)) (ht : (pc : Int) + off = (tgt : Int)) (h1 : a < 2 ^ 31)
    (kt : a = 0 → W p l e R s m args below meth c H locs cells slots Q (F0 m tgt ls rest)) (kf : 0 < a → W p l e R s m args below meth c H locs cells slots Q (F0 m (pc + 3) ls rest)) : W p l e R s m args below meth c H locs cells slots Q (F0 m pc ls (.int (nI a) :: rest)) :=
  lv_if_eq hx hb hdg ht (fun h => kt ((nI_eq h1 (by omega)).mp (h.trans nI_0.symm))) (fun h => kf (Nat.pos_of_ne_zero (fun q => h (by rw [q]; exact nI_0))))
theorem zz_if_ne {a : Nat} (hx : p.tables.exec = Jvm.exec) (hb : c.code = cc) {off : Int} {tgt : Nat} (hdg : decode cc pc = .ok (.ifCond .ne off, 3)) (ht : (pc : Int) + off = (tgt : Int)) (h1 : a < 2 ^ 31)
    (kt : 0 < a → W p l e R s m args below meth c H locs cells slots Q (F0 m tgt ls rest)) (kf : a = 0 → W p l e R s m args below meth c H locs cells slots Q (F0 m (pc + 3) ls rest)) : W p l e R s m args below meth c H locs cells slots Q (F0 m pc ls (.int (nI a) :: rest)) :=
  lv_if_ne hx hb hdg ht (fun h => kt (Nat.pos_of_ne_zero (fun q => h (by rw [q]; exact nI_0)))) (fun h => kf ((nI_eq h1 (by omega)).mp (h.trans nI_0.symm)))
theorem zz_if_le {a : Nat} (hx : p.tables.exec = Jvm.exec) (hb : c.code = cc) {off : Int} {tgt : Nat} (hdg : decode cc pc = .ok (.ifCond .le off, 3)) (ht : (pc : Int) + off = (tgt : Int)) (h1 : a < 2 ^ 31)
    (kt : a = 0 → W p l e R s m args below meth c H locs cells slots Q (F0 m tgt ls rest)) (kf : 0 < a → W p l e R s m args below meth c H locs cells slots Q (F0 m (pc + 3) ls rest)) : W p l e R s m args below meth c H locs cells slots Q (F0 m pc ls (.int (nI a) :: rest)) :=
  lv_if_le hx hb hdg ht (fun h => kt (Nat.eq_zero_of_not_pos (fun q => nI_nle q h1 h))) (fun h => kf (Nat.pos_of_ne_zero (fun q => h (by rw [q, nI_0]; decide))))
theorem zz_if_lt {a : Nat} (hx : p.tables.exec = Jvm.exec) (hb : c.code = cc) {off : Int} {tgt : Nat} (hdg : decode cc pc = .ok (.ifCond .lt off, 3)) (ht : (pc : Int) + off = (tgt : Int)) (h1 : a < 2 ^ 31)
    (kf : W p l e R s m args below meth c H locs cells slots Q (F0 m (pc + 3) ls rest)) : W p l e R s m args below meth c H locs cells slots Q (F0 m pc ls (.int (nI a) :: rest)) :=
  lv_if_lt hx hb hdg ht (fun h => absurd h (nI_pos h1)) (fun _ => kf)
theorem zz_bne {P : Prop} [Decidable P] (hx : p.tables.exec = Jvm.exec) (hb : c.code = cc) {off : Int} {tgt : Nat} (hdg : decode cc pc = .ok (.ifCond .ne off, 3)) (ht : (pc : Int) + off = (tgt : Int))
    (kt : P → W p l e R s m args below meth c H locs cells slots Q (F0 m tgt ls rest)) (kf : ¬ P → W p l e R s m args below meth c H locs cells slots Q (F0 m (pc + 3) ls rest)) : W p l e R s m args below meth c H locs cells slots Q (F0 m pc ls (.int (b1 P) :: rest)) :=
  lv_if_ne hx hb hdg ht (fun h => kt (b1_ne0 h)) (fun h => kf (b1_eq0 h))
theorem zz_beq {P : Prop} [Decidable P] (hx : p.tables.exec = Jvm.exec) (hb : c.code = cc) {off : Int} {tgt : Nat} (hdg : decode cc pc = .ok (.ifCond .eq off, 3)) (ht : (pc : Int) + off = (tgt : Int))
    (kt : ¬ P → W p l e R s m args below meth c H locs cells slots Q (F0 m tgt ls rest)) (kf : P → W p l e R s m args below meth c H locs cells slots Q (F0 m (pc + 3) ls rest)) : W p l e R s m args below meth c H locs cells slots Q (F0 m pc ls (.int (b1 P) :: rest)) :=
  lv_if_eq hx hb hdg ht (fun h => kt (b1_eq0 h)) (fun h => kf (b1_ne0 h))
theorem zz_ald {D : va_G} {cl : List vw_C} {tys : List (ClassId × FieldType)} {ws : va_W} {a : Nat} (hx : p.tables.exec = Jvm.exec) (hb : c.code = cc) (hK : va_K D cl tys s) (hP : va_P D cl ws H) (q0 t0 : Nat) {cA : ClassId} {n : Nat} {f : Nat → Int32} (ha : ws[q0]? = some (a, .inl (cA, n, .inl f))) (ht : tys[t0]? = some (cA, .int)) (hn : n < 2 ^ 31) {j : Nat} (hj : j < n) (hdg : decode cc pc = .ok (.iaload, 1))
    (kk : W p l e R s m args below meth c H locs cells slots Q (F0 m (pc + 1) ls (.int (f j) :: rest))) : W p l e R s m args below meth c H locs cells slots Q (F0 m pc ls (.int (nI j) :: .ref a :: rest)) :=
  va_iald hx hb hK hP q0 t0 ha ht (vp_in_nI hj hn) hdg (by rw [nI_clamp (by omega)]; exact kk)
theorem zz_ast {D : va_G} {cl : List vw_C} {tys : List (ClassId × FieldType)} {ws : va_W} {a : Nat} {A : Nat → Prop} {H0 : Heap} (hx : p.tables.exec = Jvm.exec) (hb : c.code = cc) (hK : va_K D cl tys s) (hP : va_P D cl ws H) (hD : va_D A ws) (hS : va_S A H0 H locs) (q0 t0 : Nat) {cA : ClassId} {n : Nat} {f : Nat → Int32} (ha : ws[q0]? = some (a, .inl (cA, n, .inl f))) (ht : tys[t0]? = some (cA, .int)) (hn : n < 2 ^ 31) {j : Nat} {x : Int32} (hj : j < n) (hdg : decode cc pc = .ok (.iastore, 1))
    (kk : ∀ (H1 : Heap) (locs1 : List Loc), va_P D cl (ws.set q0 (a, .inl (cA, n, .inl (upd f j x)))) H1 → va_D A (ws.set q0 (a, .inl (cA, n, .inl (upd f j x)))) → va_S A H0 H1 locs1 → W p l e R s m args below meth c H1 locs1 cells slots Q (F0 m (pc + 1) ls rest)) : W p l e R s m args below meth c H locs cells slots Q (F0 m pc ls (.int x :: .int (nI j) :: .ref a :: rest)) :=
  va_iast hx hb hK hP hD hS q0 t0 ha ht (vp_in_nI hj hn) hdg (by rw [nI_clamp (by omega)]; exact kk)
end ZK
/-! ===== method heads and calls by contract ===== -/
/-- a method that only reads: a contract with one answer -/
def CR (l : Launch) (y : MethodName) (bytes : ByteArray) (maxL : Nat) (ret : Option FieldType) (rm : Room) (av : List Value) (B : State → Prop) (post : Int32 → Prop) : Prop :=
  Met l y (ws_ y bytes maxL ret) rm (va_Pc av B) (vp_Si post) 0 0 (fun _ => False)
theorem CR.mk {l : Launch} {y : MethodName} {bytes : ByteArray} {maxL : Nat} {ty : FieldType} {rm : Room} {av : List Value} {B : State → Prop} {post : Int32 → Prop} {own : String} (hy : plainName y.cls = true) (ho : y.cls = own) (hn : (lg_sl av).length ≤ maxL)
    (body : ∀ (p : Program) (e : Env) (s : State) (m : MethodId) (args : Array Value) (below : List Frame) (meth : Method) (c : Code) (Q : State → Prop) (ls : Array Slot), CallFix p m c bytes maxL s args lw_all own → B s → lv_has ls maxL (lv_args 0 av) →
      (∀ (pc : Nat) (ls : Array Slot) (v : Int32), post v → narrow ty (.int v) = .int v → decode bytes pc = .ok (.ireturn, 1) → W p l e rm s m args below meth c s.heap [] 0 0 Q (F0 m pc ls [.int v])) →
      W p l e rm s m args below meth c s.heap [] 0 0 Q (F0 m 0 ls [])) : CR l y bytes maxL (some ty) rm av B post := by
  refine Met.ofW (cc := bytes) (maxL := maxL) (ret := some ty) hy rfl ?_
  intro p e s m args below meth c s₁ BB hml hv
  obtain ⟨rfl, hB⟩ := hv
  have hts := atoms_spec (ws := ws_ y bytes maxL (some ty)) BB.pre
  have hts : ∀ w ∈ lw_all, w.before _ s = true := fun w h => hts w (List.mem_cons_of_mem _ h)
  have hown : s.vm.findClass own = some m.cls := ho ▸ findClass_of_methodNamed BB.named
  have hr := BB.returns
  have hlocks := BB.notSynchronized
  have hl := lv_entry av (n := maxL) hn
  rw [lg_entry_eq]
  refine body p e s m _ below meth c _ _ ⟨BB.exec, BB.bytes, hml, hown, hts⟩ hB hl (fun pc ls v h h2 hd => ?_)
  exact W.zret BB.exec BB.bytes hr h2 (fun t ht hW => ⟨v, rfl, h, ht⟩) (fun _ h => by cases h) hd
/-- the cells of a world and what is known of the classes -/
def GP (D : va_G) (dA : ClassId) (ws : va_W) (U : State) : Prop := va_P D vwCl ws U.heap ∧ va_K D vwCl [(dA, .int)] U
def GPre (D : va_G) (dA : ClassId) (ws : va_W) (sz : Nat) (U : State) : Prop := U.heap.size = sz ∧ va_P D vwCl ws U.heap ∧ va_K D vwCl [(dA, .int)] U ∧ va_D (fun _ => True) ws
def GPost (D : va_G) (dA : ClassId) {T : Type} (V : T → va_W) (A : Nat → Prop) (u : T) (t : State) : Prop := va_P D vwCl (V u) t.heap ∧ va_K D vwCl [(dA, .int)] t ∧ va_D A (V u)
/-- a method that writes in its world: void, or with an int answer -/
def CV (l : Launch) (y : MethodName) (bytes : ByteArray) (maxL : Nat) (rm : Room) (D : va_G) (dA : ClassId) {T : Type} (V : T → va_W) (u : T) (av : List Value) (post : T → Prop) : Prop :=
  ∀ sz : Nat, Met l y (ws_ y bytes maxL none) rm (va_Pc av (GPre D dA (V u) sz)) (va_Qv post (GPost D dA V (va_A (V u) sz)) (va_A (V u) sz)) 0 0 (va_A (V u) sz)
def CI (l : Launch) (y : MethodName) (bytes : ByteArray) (maxL : Nat) (rm : Room) (D : va_G) (dA : ClassId) {T : Type} (V : T → va_W) (u : T) (av : List Value) (post : Int32 → T → Prop) : Prop :=
  ∀ sz : Nat, Met l y (ws_ y bytes maxL (some .int)) rm (va_Pc av (GPre D dA (V u) sz)) (va_Qi post (GPost D dA V (va_A (V u) sz)) (va_A (V u) sz)) 0 0 (va_A (V u) sz)
theorem CV.mk {l : Launch} {y : MethodName} {bytes : ByteArray} {maxL : Nat} {rm : Room} {D : va_G} {dA : ClassId} {T : Type} {V : T → va_W} {u : T} {av : List Value} {post : T → Prop} {own : String} (hy : plainName y.cls = true) (ho : y.cls = own) (hn : (lg_sl av).length ≤ maxL)
    (body : ∀ (p : Program) (e : Env) (s : State) (m : MethodId) (args : Array Value) (below : List Frame) (meth : Method) (c : Code) (Q : State → Prop) (A : Nat → Prop) (H : Heap) (locs : List Loc) (ls : Array Slot), CallFix p m c bytes maxL s args lw_all own → va_K D vwCl [(dA, .int)] s → (∀ q, s.heap.size ≤ q → A q) → va_P D vwCl (V u) H → va_D A (V u) → va_S A s.heap H locs → lv_has ls maxL (lv_args 0 av) →
      (∀ (H : Heap) (locs : List Loc) (pc : Nat) (ls : Array Slot) (u : T), post u → va_P D vwCl (V u) H → va_D A (V u) → va_S A s.heap H locs → decode bytes pc = .ok (.return_, 1) → W p l e rm s m args below meth c H locs 0 0 Q (F0 m pc ls [])) →
      W p l e rm s m args below meth c H locs 0 0 Q (F0 m 0 ls [])) : CV l y bytes maxL rm D dA V u av post := by
  intro sz
  refine Met.ofW (cc := bytes) (maxL := maxL) (ret := none) hy rfl ?_
  intro p e s m args below meth c s₁ BB hml hv
  obtain ⟨rfl, hsz, hP, hK, hD0⟩ := hv
  have hts := atoms_spec (ws := ws_ y bytes maxL none) BB.pre
  have hts : ∀ w ∈ lw_all, w.before _ s = true := fun w h => hts w (List.mem_cons_of_mem _ h)
  have hown : s.vm.findClass own = some m.cls := ho ▸ findClass_of_methodNamed BB.named
  have hr := BB.returns
  have hlocks := BB.notSynchronized
  subst hsz
  have hl := lv_entry av (n := maxL) hn
  rw [lg_entry_eq]
  refine body p e s m _ below meth c _ (va_A (V u) s.heap.size) s.heap [] _ ⟨BB.exec, BB.bytes, hml, hown, hts⟩ hK (fun q h => Or.inr h) hP hD0.self va_S.rf hl (fun H locs pc ls u' h hP hD hS hd => ?_)
  exact W.vret BB.exec BB.bytes hr (fun t ht hW => ⟨⟨u', rfl, h, by rw [ht]; exact hP, va_K.moved hW.alike hK, hD⟩, hS.F ht⟩) hS.2.2 hd
theorem CI.mk {l : Launch} {y : MethodName} {bytes : ByteArray} {maxL : Nat} {rm : Room} {D : va_G} {dA : ClassId} {T : Type} {V : T → va_W} {u : T} {av : List Value} {post : Int32 → T → Prop} {own : String} (hy : plainName y.cls = true) (ho : y.cls = own) (hn : (lg_sl av).length ≤ maxL)
    (body : ∀ (p : Program) (e : Env) (s : State) (m : MethodId) (args : Array Value) (below : List Frame) (meth : Method) (c : Code) (Q : State → Prop) (A : Nat → Prop) (H : Heap) (locs : List Loc) (ls : Array Slot), CallFix p m c bytes maxL s args lw_all own → va_K D vwCl [(dA, .int)] s → (∀ q, s.heap.size ≤ q → A q) → va_P D vwCl (V u) H → va_D A (V u) → va_S A s.heap H locs → lv_has ls maxL (lv_args 0 av) →
      (∀ (H : Heap) (locs : List Loc) (pc : Nat) (ls : Array Slot) (v : Int32) (u : T), post v u → va_P D vwCl (V u) H → va_D A (V u) → va_S A s.heap H locs → decode bytes pc = .ok (.ireturn, 1) → W p l e rm s m args below meth c H locs 0 0 Q (F0 m pc ls [.int v])) →
      W p l e rm s m args below meth c H locs 0 0 Q (F0 m 0 ls [])) : CI l y bytes maxL rm D dA V u av post := by
  intro sz
  refine Met.ofW (cc := bytes) (maxL := maxL) (ret := some .int) hy rfl ?_
  intro p e s m args below meth c s₁ BB hml hv
  obtain ⟨rfl, hsz, hP, hK, hD0⟩ := hv
  have hts := atoms_spec (ws := ws_ y bytes maxL (some .int)) BB.pre
  have hts : ∀ w ∈ lw_all, w.before _ s = true := fun w h => hts w (List.mem_cons_of_mem _ h)
  have hown : s.vm.findClass own = some m.cls := ho ▸ findClass_of_methodNamed BB.named
  have hr := BB.returns
  have hlocks := BB.notSynchronized
  subst hsz
  have hl := lv_entry av (n := maxL) hn
  rw [lg_entry_eq]
  refine body p e s m _ below meth c _ (va_A (V u) s.heap.size) s.heap [] _ ⟨BB.exec, BB.bytes, hml, hown, hts⟩ hK (fun q h => Or.inr h) hP hD0.self va_S.rf hl (fun H locs pc ls v u' h hP hD hS hd => ?_)
  exact W.iret BB.exec BB.bytes hr (fun t ht hW => ⟨⟨v, u', rfl, h, by rw [ht]; exact hP, va_K.moved hW.alike hK, hD⟩, hS.F ht⟩) hS.2.2 hd
section ZC
variable {p : Program} {l : Launch} {e : Env} {R : Room} {s : State} {m : MethodId} {args : Array Value} {below : List Frame} {meth : Method} {c : Code} {H : Heap} {locs : List Loc} {cells slots : Nat} {Q : State → Prop}
variable {cc : ByteArray} {pc nL : Nat} {ls : Array Slot} {rest st0 : List Value} {own C : String} {idx : Nat} {y : MethodName} {bytes : ByteArray} {maxL n : Nat} {ret : Option FieldType} {rm : Room} {As : List Value} {D : va_G} {dA : ClassId} {h : Nat}
/-- a call of a static method that reads nothing -/
theorem zz_callS {post : Int32 → Prop} (S : CallFix p m c cc nL s args lw_all own) (hM : CR l y bytes maxL ret rm As (fun _ => True) post) (hw : GoodIn lw_all (va_wsS own idx y (ws_ y bytes maxL ret)))
    (hd : y.cls ≠ "java/lang/invoke/MethodHandle" ∧ y.cls ≠ "java/lang/invoke/VarHandle" ∧ (parseMethodDescriptor y.desc).map (fun d => d.parameters.length) = some n) (hrc : rm.cells = 0) (hrs : rm.slots = 0) (hR : rm.frames + 1 ≤ R.frames ∧ 8 + (maxL + 11) + rm.locals ≤ R.locals)
    (hn : As.length = n) (hsz : ls.size = nL) (hst : st0 = As.reverse ++ rest) (hrm : (rest.map fun v => v.category).sum ≤ 8) (hdg : decode cc pc = .ok (.invokestatic idx, 3)) (hcs : cells ≤ R.cells ∧ slots ≤ R.slots)
    (k : ∀ r : Int32, post r → W p l e R s m args below meth c H locs cells slots Q (F0 m (pc + 3) ls (.int r :: rest))) : W p l e R s m args below meth c H locs cells slots Q (F0 m pc ls st0) :=
  vp_callSi (va_runS (As := As) (rest := rest) S hM (va_cwS n S.2.2.2.2 hw rfl hrc hrs hd hR) ⟨fun _ _ _ _ q => q, fun U _ _ => ⟨rfl, trivial⟩⟩ rfl hn hsz hst (lv_room hrm) hdg ⟨hcs.1, hcs.2⟩).run k
/-- a call through an object of a method that only reads: its world is the caller's or a part of it -/
theorem zz_callR {ws : va_W} {post : Int32 → Prop} (S : CallFix p m c cc nL s args lw_all own) (hM : CR l y bytes maxL ret rm (.ref h :: As) (GP D dA ws) post) (hw : GoodIn lw_all (wsV own idx C y (ws_ y bytes maxL ret)))
    (hd : y.cls = C ∧ y.cls ≠ "java/lang/invoke/MethodHandle" ∧ y.cls ≠ "java/lang/invoke/VarHandle" ∧ (parseMethodDescriptor y.desc).map (fun d => d.parameters.length) = some n) (hrc : rm.cells = 0) (hrs : rm.slots = 0) (hR : rm.frames + 1 ≤ R.frames ∧ 8 + (maxL + 11) + rm.locals ≤ R.locals)
    (hn : As.length = n) (hsz : ls.size = nL) (hst : st0 = As.reverse ++ .ref h :: rest) (hrm : (rest.map fun v => v.category).sum ≤ 8) (hdg : decode cc pc = .ok (.invokevirtual idx, 3)) (hcs : cells ≤ R.cells ∧ slots ≤ R.slots)
    (hK : va_K D vwCl [(dA, .int)] s) (hP : va_P D vwCl ws H) {ci : Nat} {q : vw_C} {fs : List Value} (hci : vwCl[ci]? = some q) (hq : q.1 = C) (h0 : ws[0]? = some (h, .inr (ci, fs)))
    (k : ∀ r : Int32, post r → W p l e R s m args below meth c H locs cells slots Q (F0 m (pc + 3) ls (.int r :: rest))) : W p l e R s m args below meth c H locs cells slots Q (F0 m pc ls st0) := by
  subst hq
  refine vp_callSi (va_runV (As := As) (rest := rest) S hM (cwV n S.2.2.2.2 hw rfl hrc hrs hd hR) ⟨?_, va_recv hK hP hci h0, fun U hU hW => ⟨rfl, by rw [hU]; exact hP, va_K.moved hW.alike hK⟩⟩ rfl hn hsz hst (lv_room hrm) hdg ⟨hcs.1, hcs.2⟩).run k
  intro a U g mk z
  obtain ⟨z0, zP, zK⟩ := z
  exact ⟨z0, zP, va_K.moved (u := U) (U := U.calling g mk a) (Vm.Alike.refl U.vm) zK⟩
theorem zz_blind {ws : va_W} {av : List Value} {sz : Nat} : FrameBlind (va_Pc av (GPre D dA ws sz)) := by
  intro a U g mk z
  obtain ⟨z0, z1, zP, zK, zD⟩ := z
  exact ⟨z0, z1, zP, va_K.moved (u := U) (U := U.calling g mk a) (Vm.Alike.refl U.vm) zK, zD⟩
/-- a call of a method that writes in the caller's own world -/
theorem zz_callV {T : Type} {V : T → va_W} {u : T} {post : T → Prop} {A : Nat → Prop} {H0 : Heap} (S : CallFix p m c cc nL s args lw_all own) (hM : CV l y bytes maxL rm D dA V u (.ref h :: As) post) (hw : GoodIn lw_all (wsV own idx C y (ws_ y bytes maxL none)))
    (hd : y.cls = C ∧ y.cls ≠ "java/lang/invoke/MethodHandle" ∧ y.cls ≠ "java/lang/invoke/VarHandle" ∧ (parseMethodDescriptor y.desc).map (fun d => d.parameters.length) = some n) (hrc : rm.cells = 0) (hrs : rm.slots = 0) (hR : rm.frames + 1 ≤ R.frames ∧ 8 + (maxL + 11) + rm.locals ≤ R.locals)
    (hn : As.length = n) (hsz : ls.size = nL) (hst : st0 = As.reverse ++ .ref h :: rest) (hrm : (rest.map fun v => v.category).sum ≤ 8) (hdg : decode cc pc = .ok (.invokevirtual idx, 3)) (hcs : cells ≤ R.cells ∧ slots ≤ R.slots)
    (hK : va_K D vwCl [(dA, .int)] s) (hA : ∀ q, H0.size ≤ q → A q) (hP : va_P D vwCl (V u) H) (hD : va_D A (V u)) (hS : va_S A H0 H locs) {ci : Nat} {q : vw_C} {fs : List Value} (hci : vwCl[ci]? = some q) (hq : q.1 = C) (h0 : (V u)[0]? = some (h, .inr (ci, fs)))
    (k : ∀ (u' : T) (H1 : Heap) (locs1 : List Loc), post u' → va_P D vwCl (V u') H1 → va_D A (V u') → va_S A H0 H1 locs1 → W p l e R s m args below meth c H1 locs1 cells slots Q (F0 m (pc + 3) ls rest)) : W p l e R s m args below meth c H locs cells slots Q (F0 m pc ls st0) := by
  subst hq
  have hF : ∀ q, va_A (V u) H.size q → A q := fun q hq => hq.elim (fun ⟨k, e, he⟩ => hD.2 k _ he) (fun h => hA q (Nat.le_trans hS.1 h))
  refine va_callv (va_runV (As := As) (rest := rest) S (hM H.size) (cwV n S.2.2.2.2 hw rfl hrc hrs hd hR) ⟨zz_blind, va_recv hK hP hci h0, fun U hU hW => ⟨rfl, by rw [hU], by rw [hU]; exact hP, va_K.moved hW.alike hK, hD.weaken (fun _ _ _ _ => trivial)⟩⟩ rfl hn hsz hst (lv_room hrm) hdg ⟨hcs.1, hcs.2⟩) hS (fun q _ h => hF q h) hF (fun u' t H1 locs1 ht hvm hp hB hz hk hS1 => ?_)
  exact k u' H1 locs1 hp (ht ▸ hB.1) (hB.2.2.weaken (fun _ _ _ h => hF _ h)) hS1
theorem zz_callI {T : Type} {V : T → va_W} {u : T} {post : Int32 → T → Prop} {A : Nat → Prop} {H0 : Heap} (S : CallFix p m c cc nL s args lw_all own) (hM : CI l y bytes maxL rm D dA V u (.ref h :: As) post) (hw : GoodIn lw_all (wsV own idx C y (ws_ y bytes maxL (some .int))))
    (hd : y.cls = C ∧ y.cls ≠ "java/lang/invoke/MethodHandle" ∧ y.cls ≠ "java/lang/invoke/VarHandle" ∧ (parseMethodDescriptor y.desc).map (fun d => d.parameters.length) = some n) (hrc : rm.cells = 0) (hrs : rm.slots = 0) (hR : rm.frames + 1 ≤ R.frames ∧ 8 + (maxL + 11) + rm.locals ≤ R.locals)
    (hn : As.length = n) (hsz : ls.size = nL) (hst : st0 = As.reverse ++ .ref h :: rest) (hrm : (rest.map fun v => v.category).sum ≤ 8) (hdg : decode cc pc = .ok (.invokevirtual idx, 3)) (hcs : cells ≤ R.cells ∧ slots ≤ R.slots)
    (hK : va_K D vwCl [(dA, .int)] s) (hA : ∀ q, H0.size ≤ q → A q) (hP : va_P D vwCl (V u) H) (hD : va_D A (V u)) (hS : va_S A H0 H locs) {ci : Nat} {q : vw_C} {fs : List Value} (hci : vwCl[ci]? = some q) (hq : q.1 = C) (h0 : (V u)[0]? = some (h, .inr (ci, fs)))
    (k : ∀ (r : Int32) (u' : T) (H1 : Heap) (locs1 : List Loc), post r u' → va_P D vwCl (V u') H1 → va_D A (V u') → va_S A H0 H1 locs1 → W p l e R s m args below meth c H1 locs1 cells slots Q (F0 m (pc + 3) ls (.int r :: rest))) : W p l e R s m args below meth c H locs cells slots Q (F0 m pc ls st0) := by
  subst hq
  have hF : ∀ q, va_A (V u) H.size q → A q := fun q hq => hq.elim (fun ⟨k, e, he⟩ => hD.2 k _ he) (fun h => hA q (Nat.le_trans hS.1 h))
  refine va_calli (va_runV (As := As) (rest := rest) S (hM H.size) (cwV n S.2.2.2.2 hw rfl hrc hrs hd hR) ⟨zz_blind, va_recv hK hP hci h0, fun U hU hW => ⟨rfl, by rw [hU], by rw [hU]; exact hP, va_K.moved hW.alike hK, hD.weaken (fun _ _ _ _ => trivial)⟩⟩ rfl hn hsz hst (lv_room hrm) hdg ⟨hcs.1, hcs.2⟩) hS (fun q _ h => hF q h) hF (fun r u' t H1 locs1 ht hvm hp hB hz hk hS1 => ?_)
  exact k r u' H1 locs1 hp (ht ▸ hB.1) (hB.2.2.weaken (fun _ _ _ h => hF _ h)) hS1
end ZC
end
section
/-! the worlds: an OlapCubes (XW), an OlapCubesModel (MW), with their arrays; a row a field and an array -/
set_option maxRecDepth 100000
def XW (h : Nat) (q : Nat → Nat) (dA : ClassId) (pl ms sv sf su cn sm lo hi : Nat → Int32) (n k : Int32) : va_W := [(h, .inr (0, [.ref (q 0), .ref (q 1), .ref (q 2), .ref (q 3), .ref (q 4), .ref (q 5), .ref (q 6), .ref (q 7), .ref (q 8), .int n, .int k])), (q 0, .inl (dA, 40, .inl pl)), (q 1, .inl (dA, 40, .inl ms)), (q 2, .inl (dA, 5, .inl sv)), (q 3, .inl (dA, 5, .inl sf)), (q 4, .inl (dA, 5, .inl su)), (q 5, .inl (dA, 960, .inl cn)), (q 6, .inl (dA, 960, .inl sm)), (q 7, .inl (dA, 960, .inl lo)), (q 8, .inl (dA, 960, .inl hi))]
def MW (h : Nat) (q : Nat → Nat) (dA : ClassId) (pl ms : Nat → Int32) (n : Int32) : va_W := [(h, .inr (1, [.ref (q 0), .ref (q 1), .int n])), (q 0, .inl (dA, 40, .inl pl)), (q 1, .inl (dA, 40, .inl ms))]
abbrev XT : Type := (Nat → Int32) × (Nat → Int32) × (Nat → Int32) × (Nat → Int32) × (Nat → Int32) × (Nat → Int32) × (Nat → Int32) × (Nat → Int32) × (Nat → Int32) × Int32 × Int32
abbrev MT : Type := (Nat → Int32) × (Nat → Int32) × Int32
def XV (h : Nat) (q : Nat → Nat) (dA : ClassId) (u : XT) : va_W := XW h q dA u.1 u.2.1 u.2.2.1 u.2.2.2.1 u.2.2.2.2.1 u.2.2.2.2.2.1 u.2.2.2.2.2.2.1 u.2.2.2.2.2.2.2.1 u.2.2.2.2.2.2.2.2.1 u.2.2.2.2.2.2.2.2.2.1 u.2.2.2.2.2.2.2.2.2.2
def MV (h : Nat) (q : Nat → Nat) (dA : ClassId) (u : MT) : va_W := MW h q dA u.1 u.2.1 u.2.2
section RW
variable {p : Program} {l : Launch} {e : Env} {R : Room} {s : State} {m : MethodId} {args : Array Value} {below : List Frame} {meth : Method} {c : Code} {H : Heap} {locs : List Loc} {cells slots : Nat} {Q : State → Prop}
variable {cc : ByteArray} {pc nL h : Nat} {ls : Array Slot} {rest : List Value} {q : Nat → Nat} {dA : ClassId} {D : va_G} {A : Nat → Prop} {H0 : Heap} {tys : List (ClassId × FieldType)}
variable {pl ms sv sf su cn sm lo hi : Nat → Int32} {n k : Int32}
theorem xg0 (S : CallFix p m c cc nL s args lw_all RX0) (hK : va_K D vwCl [(dA, .int)] s) (hP : va_P D vwCl (XW h q dA pl ms sv sf su cn sm lo hi n k) H) (hdg : decode cc pc = .ok (.getfield 7, 3)) (kk : W p l e R s m args below meth c H locs cells slots Q (F0 m (pc + 3) ls (.ref (q 0) :: rest))) : W p l e R s m args below meth c H locs cells slots Q (F0 m pc ls (.ref h :: rest)) :=
  va_get (D := D) (ci := 0) (v := .ref (q 0)) (C := RX0) (T := TX0) (N := 11) S.1 S.2.1 S.2.2.2.2 in_X0 S.2.2.2.1 hK hP 0 rfl rfl 0 (by decide) (S.2.2.2.2 _ q30) (fun _ h9 => h9) rfl hdg kk
theorem xg1 (S : CallFix p m c cc nL s args lw_all RX0) (hK : va_K D vwCl [(dA, .int)] s) (hP : va_P D vwCl (XW h q dA pl ms sv sf su cn sm lo hi n k) H) (hdg : decode cc pc = .ok (.getfield 13, 3)) (kk : W p l e R s m args below meth c H locs cells slots Q (F0 m (pc + 3) ls (.ref (q 1) :: rest))) : W p l e R s m args below meth c H locs cells slots Q (F0 m pc ls (.ref h :: rest)) :=
  va_get (D := D) (ci := 0) (v := .ref (q 1)) (C := RX0) (T := TX0) (N := 11) S.1 S.2.1 S.2.2.2.2 in_X0 S.2.2.2.1 hK hP 0 rfl rfl 1 (by decide) (S.2.2.2.2 _ q31) (fun _ h9 => h9) rfl hdg kk
theorem xg2 (S : CallFix p m c cc nL s args lw_all RX0) (hK : va_K D vwCl [(dA, .int)] s) (hP : va_P D vwCl (XW h q dA pl ms sv sf su cn sm lo hi n k) H) (hdg : decode cc pc = .ok (.getfield 16, 3)) (kk : W p l e R s m args below meth c H locs cells slots Q (F0 m (pc + 3) ls (.ref (q 2) :: rest))) : W p l e R s m args below meth c H locs cells slots Q (F0 m pc ls (.ref h :: rest)) :=
  va_get (D := D) (ci := 0) (v := .ref (q 2)) (C := RX0) (T := TX0) (N := 11) S.1 S.2.1 S.2.2.2.2 in_X0 S.2.2.2.1 hK hP 0 rfl rfl 2 (by decide) (S.2.2.2.2 _ q32) (fun _ h9 => h9) rfl hdg kk
theorem xg3 (S : CallFix p m c cc nL s args lw_all RX0) (hK : va_K D vwCl [(dA, .int)] s) (hP : va_P D vwCl (XW h q dA pl ms sv sf su cn sm lo hi n k) H) (hdg : decode cc pc = .ok (.getfield 19, 3)) (kk : W p l e R s m args below meth c H locs cells slots Q (F0 m (pc + 3) ls (.ref (q 3) :: rest))) : W p l e R s m args below meth c H locs cells slots Q (F0 m pc ls (.ref h :: rest)) :=
  va_get (D := D) (ci := 0) (v := .ref (q 3)) (C := RX0) (T := TX0) (N := 11) S.1 S.2.1 S.2.2.2.2 in_X0 S.2.2.2.1 hK hP 0 rfl rfl 3 (by decide) (S.2.2.2.2 _ q33) (fun _ h9 => h9) rfl hdg kk
theorem xg4 (S : CallFix p m c cc nL s args lw_all RX0) (hK : va_K D vwCl [(dA, .int)] s) (hP : va_P D vwCl (XW h q dA pl ms sv sf su cn sm lo hi n k) H) (hdg : decode cc pc = .ok (.getfield 22, 3)) (kk : W p l e R s m args below meth c H locs cells slots Q (F0 m (pc + 3) ls (.ref (q 4) :: rest))) : W p l e R s m args below meth c H locs cells slots Q (F0 m pc ls (.ref h :: rest)) :=
  va_get (D := D) (ci := 0) (v := .ref (q 4)) (C := RX0) (T := TX0) (N := 11) S.1 S.2.1 S.2.2.2.2 in_X0 S.2.2.2.1 hK hP 0 rfl rfl 4 (by decide) (S.2.2.2.2 _ q34) (fun _ h9 => h9) rfl hdg kk
theorem xg5 (S : CallFix p m c cc nL s args lw_all RX0) (hK : va_K D vwCl [(dA, .int)] s) (hP : va_P D vwCl (XW h q dA pl ms sv sf su cn sm lo hi n k) H) (hdg : decode cc pc = .ok (.getfield 25, 3)) (kk : W p l e R s m args below meth c H locs cells slots Q (F0 m (pc + 3) ls (.ref (q 5) :: rest))) : W p l e R s m args below meth c H locs cells slots Q (F0 m pc ls (.ref h :: rest)) :=
  va_get (D := D) (ci := 0) (v := .ref (q 5)) (C := RX0) (T := TX0) (N := 11) S.1 S.2.1 S.2.2.2.2 in_X0 S.2.2.2.1 hK hP 0 rfl rfl 5 (by decide) (S.2.2.2.2 _ q35) (fun _ h9 => h9) rfl hdg kk
theorem xg6 (S : CallFix p m c cc nL s args lw_all RX0) (hK : va_K D vwCl [(dA, .int)] s) (hP : va_P D vwCl (XW h q dA pl ms sv sf su cn sm lo hi n k) H) (hdg : decode cc pc = .ok (.getfield 28, 3)) (kk : W p l e R s m args below meth c H locs cells slots Q (F0 m (pc + 3) ls (.ref (q 6) :: rest))) : W p l e R s m args below meth c H locs cells slots Q (F0 m pc ls (.ref h :: rest)) :=
  va_get (D := D) (ci := 0) (v := .ref (q 6)) (C := RX0) (T := TX0) (N := 11) S.1 S.2.1 S.2.2.2.2 in_X0 S.2.2.2.1 hK hP 0 rfl rfl 6 (by decide) (S.2.2.2.2 _ q36) (fun _ h9 => h9) rfl hdg kk
theorem xg7 (S : CallFix p m c cc nL s args lw_all RX0) (hK : va_K D vwCl [(dA, .int)] s) (hP : va_P D vwCl (XW h q dA pl ms sv sf su cn sm lo hi n k) H) (hdg : decode cc pc = .ok (.getfield 31, 3)) (kk : W p l e R s m args below meth c H locs cells slots Q (F0 m (pc + 3) ls (.ref (q 7) :: rest))) : W p l e R s m args below meth c H locs cells slots Q (F0 m pc ls (.ref h :: rest)) :=
  va_get (D := D) (ci := 0) (v := .ref (q 7)) (C := RX0) (T := TX0) (N := 11) S.1 S.2.1 S.2.2.2.2 in_X0 S.2.2.2.1 hK hP 0 rfl rfl 7 (by decide) (S.2.2.2.2 _ q37) (fun _ h9 => h9) rfl hdg kk
theorem xg8 (S : CallFix p m c cc nL s args lw_all RX0) (hK : va_K D vwCl [(dA, .int)] s) (hP : va_P D vwCl (XW h q dA pl ms sv sf su cn sm lo hi n k) H) (hdg : decode cc pc = .ok (.getfield 34, 3)) (kk : W p l e R s m args below meth c H locs cells slots Q (F0 m (pc + 3) ls (.ref (q 8) :: rest))) : W p l e R s m args below meth c H locs cells slots Q (F0 m pc ls (.ref h :: rest)) :=
  va_get (D := D) (ci := 0) (v := .ref (q 8)) (C := RX0) (T := TX0) (N := 11) S.1 S.2.1 S.2.2.2.2 in_X0 S.2.2.2.1 hK hP 0 rfl rfl 8 (by decide) (S.2.2.2.2 _ q38) (fun _ h9 => h9) rfl hdg kk
theorem xg9 (S : CallFix p m c cc nL s args lw_all RX0) (hK : va_K D vwCl [(dA, .int)] s) (hP : va_P D vwCl (XW h q dA pl ms sv sf su cn sm lo hi n k) H) (hdg : decode cc pc = .ok (.getfield 48, 3)) (kk : W p l e R s m args below meth c H locs cells slots Q (F0 m (pc + 3) ls (.int n :: rest))) : W p l e R s m args below meth c H locs cells slots Q (F0 m pc ls (.ref h :: rest)) :=
  va_get (D := D) (ci := 0) (v := .int n) (C := RX0) (T := TX0) (N := 11) S.1 S.2.1 S.2.2.2.2 in_X0 S.2.2.2.1 hK hP 0 rfl rfl 9 (by decide) (S.2.2.2.2 _ q39) (fun _ h9 => h9) rfl hdg kk
theorem xg10 (S : CallFix p m c cc nL s args lw_all RX0) (hK : va_K D vwCl [(dA, .int)] s) (hP : va_P D vwCl (XW h q dA pl ms sv sf su cn sm lo hi n k) H) (hdg : decode cc pc = .ok (.getfield 96, 3)) (kk : W p l e R s m args below meth c H locs cells slots Q (F0 m (pc + 3) ls (.int k :: rest))) : W p l e R s m args below meth c H locs cells slots Q (F0 m pc ls (.ref h :: rest)) :=
  va_get (D := D) (ci := 0) (v := .int k) (C := RX0) (T := TX0) (N := 11) S.1 S.2.1 S.2.2.2.2 in_X0 S.2.2.2.1 hK hP 0 rfl rfl 10 (by decide) (S.2.2.2.2 _ q40) (fun _ h9 => h9) rfl hdg kk
theorem xl0 (S : CallFix p m c cc nL s args lw_all RX0) (hK : va_K D vwCl [(dA, .int)] s) (hP : va_P D vwCl (XW h q dA pl ms sv sf su cn sm lo hi n k) H) {j : Nat} (hj : j < 40) (hdg : decode cc pc = .ok (.iaload, 1)) (kk : W p l e R s m args below meth c H locs cells slots Q (F0 m (pc + 1) ls (.int (pl j) :: rest))) : W p l e R s m args below meth c H locs cells slots Q (F0 m pc ls (.int (nI j) :: .ref (q 0) :: rest)) :=
  zz_ald S.1 S.2.1 hK hP 1 0 rfl rfl (by decide) hj hdg kk
theorem xs0 (S : CallFix p m c cc nL s args lw_all RX0) (hK : va_K D vwCl [(dA, .int)] s) (hP : va_P D vwCl (XW h q dA pl ms sv sf su cn sm lo hi n k) H) (hD : va_D A (XW h q dA pl ms sv sf su cn sm lo hi n k)) (hS : va_S A H0 H locs) {j : Nat} {x : Int32} (hj : j < 40) (hdg : decode cc pc = .ok (.iastore, 1)) (kk : ∀ (H1 : Heap) (locs1 : List Loc), va_P D vwCl (XW h q dA (upd pl j x) ms sv sf su cn sm lo hi n k) H1 → va_D A (XW h q dA (upd pl j x) ms sv sf su cn sm lo hi n k) → va_S A H0 H1 locs1 → W p l e R s m args below meth c H1 locs1 cells slots Q (F0 m (pc + 1) ls rest)) : W p l e R s m args below meth c H locs cells slots Q (F0 m pc ls (.int x :: .int (nI j) :: .ref (q 0) :: rest)) :=
  zz_ast S.1 S.2.1 hK hP hD hS 1 0 rfl rfl (by decide) hj hdg kk
theorem xl1 (S : CallFix p m c cc nL s args lw_all RX0) (hK : va_K D vwCl [(dA, .int)] s) (hP : va_P D vwCl (XW h q dA pl ms sv sf su cn sm lo hi n k) H) {j : Nat} (hj : j < 40) (hdg : decode cc pc = .ok (.iaload, 1)) (kk : W p l e R s m args below meth c H locs cells slots Q (F0 m (pc + 1) ls (.int (ms j) :: rest))) : W p l e R s m args below meth c H locs cells slots Q (F0 m pc ls (.int (nI j) :: .ref (q 1) :: rest)) :=
  zz_ald S.1 S.2.1 hK hP 2 0 rfl rfl (by decide) hj hdg kk
theorem xs1 (S : CallFix p m c cc nL s args lw_all RX0) (hK : va_K D vwCl [(dA, .int)] s) (hP : va_P D vwCl (XW h q dA pl ms sv sf su cn sm lo hi n k) H) (hD : va_D A (XW h q dA pl ms sv sf su cn sm lo hi n k)) (hS : va_S A H0 H locs) {j : Nat} {x : Int32} (hj : j < 40) (hdg : decode cc pc = .ok (.iastore, 1)) (kk : ∀ (H1 : Heap) (locs1 : List Loc), va_P D vwCl (XW h q dA pl (upd ms j x) sv sf su cn sm lo hi n k) H1 → va_D A (XW h q dA pl (upd ms j x) sv sf su cn sm lo hi n k) → va_S A H0 H1 locs1 → W p l e R s m args below meth c H1 locs1 cells slots Q (F0 m (pc + 1) ls rest)) : W p l e R s m args below meth c H locs cells slots Q (F0 m pc ls (.int x :: .int (nI j) :: .ref (q 1) :: rest)) :=
  zz_ast S.1 S.2.1 hK hP hD hS 2 0 rfl rfl (by decide) hj hdg kk
theorem xl2 (S : CallFix p m c cc nL s args lw_all RX0) (hK : va_K D vwCl [(dA, .int)] s) (hP : va_P D vwCl (XW h q dA pl ms sv sf su cn sm lo hi n k) H) {j : Nat} (hj : j < 5) (hdg : decode cc pc = .ok (.iaload, 1)) (kk : W p l e R s m args below meth c H locs cells slots Q (F0 m (pc + 1) ls (.int (sv j) :: rest))) : W p l e R s m args below meth c H locs cells slots Q (F0 m pc ls (.int (nI j) :: .ref (q 2) :: rest)) :=
  zz_ald S.1 S.2.1 hK hP 3 0 rfl rfl (by decide) hj hdg kk
theorem xs2 (S : CallFix p m c cc nL s args lw_all RX0) (hK : va_K D vwCl [(dA, .int)] s) (hP : va_P D vwCl (XW h q dA pl ms sv sf su cn sm lo hi n k) H) (hD : va_D A (XW h q dA pl ms sv sf su cn sm lo hi n k)) (hS : va_S A H0 H locs) {j : Nat} {x : Int32} (hj : j < 5) (hdg : decode cc pc = .ok (.iastore, 1)) (kk : ∀ (H1 : Heap) (locs1 : List Loc), va_P D vwCl (XW h q dA pl ms (upd sv j x) sf su cn sm lo hi n k) H1 → va_D A (XW h q dA pl ms (upd sv j x) sf su cn sm lo hi n k) → va_S A H0 H1 locs1 → W p l e R s m args below meth c H1 locs1 cells slots Q (F0 m (pc + 1) ls rest)) : W p l e R s m args below meth c H locs cells slots Q (F0 m pc ls (.int x :: .int (nI j) :: .ref (q 2) :: rest)) :=
  zz_ast S.1 S.2.1 hK hP hD hS 3 0 rfl rfl (by decide) hj hdg kk
theorem xl3 (S : CallFix p m c cc nL s args lw_all RX0) (hK : va_K D vwCl [(dA, .int)] s) (hP : va_P D vwCl (XW h q dA pl ms sv sf su cn sm lo hi n k) H) {j : Nat} (hj : j < 5) (hdg : decode cc pc = .ok (.iaload, 1)) (kk : W p l e R s m args below meth c H locs cells slots Q (F0 m (pc + 1) ls (.int (sf j) :: rest))) : W p l e R s m args below meth c H locs cells slots Q (F0 m pc ls (.int (nI j) :: .ref (q 3) :: rest)) :=
  zz_ald S.1 S.2.1 hK hP 4 0 rfl rfl (by decide) hj hdg kk
theorem xs3 (S : CallFix p m c cc nL s args lw_all RX0) (hK : va_K D vwCl [(dA, .int)] s) (hP : va_P D vwCl (XW h q dA pl ms sv sf su cn sm lo hi n k) H) (hD : va_D A (XW h q dA pl ms sv sf su cn sm lo hi n k)) (hS : va_S A H0 H locs) {j : Nat} {x : Int32} (hj : j < 5) (hdg : decode cc pc = .ok (.iastore, 1)) (kk : ∀ (H1 : Heap) (locs1 : List Loc), va_P D vwCl (XW h q dA pl ms sv (upd sf j x) su cn sm lo hi n k) H1 → va_D A (XW h q dA pl ms sv (upd sf j x) su cn sm lo hi n k) → va_S A H0 H1 locs1 → W p l e R s m args below meth c H1 locs1 cells slots Q (F0 m (pc + 1) ls rest)) : W p l e R s m args below meth c H locs cells slots Q (F0 m pc ls (.int x :: .int (nI j) :: .ref (q 3) :: rest)) :=
  zz_ast S.1 S.2.1 hK hP hD hS 4 0 rfl rfl (by decide) hj hdg kk
theorem xl4 (S : CallFix p m c cc nL s args lw_all RX0) (hK : va_K D vwCl [(dA, .int)] s) (hP : va_P D vwCl (XW h q dA pl ms sv sf su cn sm lo hi n k) H) {j : Nat} (hj : j < 5) (hdg : decode cc pc = .ok (.iaload, 1)) (kk : W p l e R s m args below meth c H locs cells slots Q (F0 m (pc + 1) ls (.int (su j) :: rest))) : W p l e R s m args below meth c H locs cells slots Q (F0 m pc ls (.int (nI j) :: .ref (q 4) :: rest)) :=
  zz_ald S.1 S.2.1 hK hP 5 0 rfl rfl (by decide) hj hdg kk
theorem xs4 (S : CallFix p m c cc nL s args lw_all RX0) (hK : va_K D vwCl [(dA, .int)] s) (hP : va_P D vwCl (XW h q dA pl ms sv sf su cn sm lo hi n k) H) (hD : va_D A (XW h q dA pl ms sv sf su cn sm lo hi n k)) (hS : va_S A H0 H locs) {j : Nat} {x : Int32} (hj : j < 5) (hdg : decode cc pc = .ok (.iastore, 1)) (kk : ∀ (H1 : Heap) (locs1 : List Loc), va_P D vwCl (XW h q dA pl ms sv sf (upd su j x) cn sm lo hi n k) H1 → va_D A (XW h q dA pl ms sv sf (upd su j x) cn sm lo hi n k) → va_S A H0 H1 locs1 → W p l e R s m args below meth c H1 locs1 cells slots Q (F0 m (pc + 1) ls rest)) : W p l e R s m args below meth c H locs cells slots Q (F0 m pc ls (.int x :: .int (nI j) :: .ref (q 4) :: rest)) :=
  zz_ast S.1 S.2.1 hK hP hD hS 5 0 rfl rfl (by decide) hj hdg kk
theorem xl5 (S : CallFix p m c cc nL s args lw_all RX0) (hK : va_K D vwCl [(dA, .int)] s) (hP : va_P D vwCl (XW h q dA pl ms sv sf su cn sm lo hi n k) H) {j : Nat} (hj : j < 960) (hdg : decode cc pc = .ok (.iaload, 1)) (kk : W p l e R s m args below meth c H locs cells slots Q (F0 m (pc + 1) ls (.int (cn j) :: rest))) : W p l e R s m args below meth c H locs cells slots Q (F0 m pc ls (.int (nI j) :: .ref (q 5) :: rest)) :=
  zz_ald S.1 S.2.1 hK hP 6 0 rfl rfl (by decide) hj hdg kk
theorem xs5 (S : CallFix p m c cc nL s args lw_all RX0) (hK : va_K D vwCl [(dA, .int)] s) (hP : va_P D vwCl (XW h q dA pl ms sv sf su cn sm lo hi n k) H) (hD : va_D A (XW h q dA pl ms sv sf su cn sm lo hi n k)) (hS : va_S A H0 H locs) {j : Nat} {x : Int32} (hj : j < 960) (hdg : decode cc pc = .ok (.iastore, 1)) (kk : ∀ (H1 : Heap) (locs1 : List Loc), va_P D vwCl (XW h q dA pl ms sv sf su (upd cn j x) sm lo hi n k) H1 → va_D A (XW h q dA pl ms sv sf su (upd cn j x) sm lo hi n k) → va_S A H0 H1 locs1 → W p l e R s m args below meth c H1 locs1 cells slots Q (F0 m (pc + 1) ls rest)) : W p l e R s m args below meth c H locs cells slots Q (F0 m pc ls (.int x :: .int (nI j) :: .ref (q 5) :: rest)) :=
  zz_ast S.1 S.2.1 hK hP hD hS 6 0 rfl rfl (by decide) hj hdg kk
theorem xl6 (S : CallFix p m c cc nL s args lw_all RX0) (hK : va_K D vwCl [(dA, .int)] s) (hP : va_P D vwCl (XW h q dA pl ms sv sf su cn sm lo hi n k) H) {j : Nat} (hj : j < 960) (hdg : decode cc pc = .ok (.iaload, 1)) (kk : W p l e R s m args below meth c H locs cells slots Q (F0 m (pc + 1) ls (.int (sm j) :: rest))) : W p l e R s m args below meth c H locs cells slots Q (F0 m pc ls (.int (nI j) :: .ref (q 6) :: rest)) :=
  zz_ald S.1 S.2.1 hK hP 7 0 rfl rfl (by decide) hj hdg kk
theorem xs6 (S : CallFix p m c cc nL s args lw_all RX0) (hK : va_K D vwCl [(dA, .int)] s) (hP : va_P D vwCl (XW h q dA pl ms sv sf su cn sm lo hi n k) H) (hD : va_D A (XW h q dA pl ms sv sf su cn sm lo hi n k)) (hS : va_S A H0 H locs) {j : Nat} {x : Int32} (hj : j < 960) (hdg : decode cc pc = .ok (.iastore, 1)) (kk : ∀ (H1 : Heap) (locs1 : List Loc), va_P D vwCl (XW h q dA pl ms sv sf su cn (upd sm j x) lo hi n k) H1 → va_D A (XW h q dA pl ms sv sf su cn (upd sm j x) lo hi n k) → va_S A H0 H1 locs1 → W p l e R s m args below meth c H1 locs1 cells slots Q (F0 m (pc + 1) ls rest)) : W p l e R s m args below meth c H locs cells slots Q (F0 m pc ls (.int x :: .int (nI j) :: .ref (q 6) :: rest)) :=
  zz_ast S.1 S.2.1 hK hP hD hS 7 0 rfl rfl (by decide) hj hdg kk
theorem xl7 (S : CallFix p m c cc nL s args lw_all RX0) (hK : va_K D vwCl [(dA, .int)] s) (hP : va_P D vwCl (XW h q dA pl ms sv sf su cn sm lo hi n k) H) {j : Nat} (hj : j < 960) (hdg : decode cc pc = .ok (.iaload, 1)) (kk : W p l e R s m args below meth c H locs cells slots Q (F0 m (pc + 1) ls (.int (lo j) :: rest))) : W p l e R s m args below meth c H locs cells slots Q (F0 m pc ls (.int (nI j) :: .ref (q 7) :: rest)) :=
  zz_ald S.1 S.2.1 hK hP 8 0 rfl rfl (by decide) hj hdg kk
theorem xs7 (S : CallFix p m c cc nL s args lw_all RX0) (hK : va_K D vwCl [(dA, .int)] s) (hP : va_P D vwCl (XW h q dA pl ms sv sf su cn sm lo hi n k) H) (hD : va_D A (XW h q dA pl ms sv sf su cn sm lo hi n k)) (hS : va_S A H0 H locs) {j : Nat} {x : Int32} (hj : j < 960) (hdg : decode cc pc = .ok (.iastore, 1)) (kk : ∀ (H1 : Heap) (locs1 : List Loc), va_P D vwCl (XW h q dA pl ms sv sf su cn sm (upd lo j x) hi n k) H1 → va_D A (XW h q dA pl ms sv sf su cn sm (upd lo j x) hi n k) → va_S A H0 H1 locs1 → W p l e R s m args below meth c H1 locs1 cells slots Q (F0 m (pc + 1) ls rest)) : W p l e R s m args below meth c H locs cells slots Q (F0 m pc ls (.int x :: .int (nI j) :: .ref (q 7) :: rest)) :=
  zz_ast S.1 S.2.1 hK hP hD hS 8 0 rfl rfl (by decide) hj hdg kk
theorem xl8 (S : CallFix p m c cc nL s args lw_all RX0) (hK : va_K D vwCl [(dA, .int)] s) (hP : va_P D vwCl (XW h q dA pl ms sv sf su cn sm lo hi n k) H) {j : Nat} (hj : j < 960) (hdg : decode cc pc = .ok (.iaload, 1)) (kk : W p l e R s m args below meth c H locs cells slots Q (F0 m (pc + 1) ls (.int (hi j) :: rest))) : W p l e R s m args below meth c H locs cells slots Q (F0 m pc ls (.int (nI j) :: .ref (q 8) :: rest)) :=
  zz_ald S.1 S.2.1 hK hP 9 0 rfl rfl (by decide) hj hdg kk
theorem xs8 (S : CallFix p m c cc nL s args lw_all RX0) (hK : va_K D vwCl [(dA, .int)] s) (hP : va_P D vwCl (XW h q dA pl ms sv sf su cn sm lo hi n k) H) (hD : va_D A (XW h q dA pl ms sv sf su cn sm lo hi n k)) (hS : va_S A H0 H locs) {j : Nat} {x : Int32} (hj : j < 960) (hdg : decode cc pc = .ok (.iastore, 1)) (kk : ∀ (H1 : Heap) (locs1 : List Loc), va_P D vwCl (XW h q dA pl ms sv sf su cn sm lo (upd hi j x) n k) H1 → va_D A (XW h q dA pl ms sv sf su cn sm lo (upd hi j x) n k) → va_S A H0 H1 locs1 → W p l e R s m args below meth c H1 locs1 cells slots Q (F0 m (pc + 1) ls rest)) : W p l e R s m args below meth c H locs cells slots Q (F0 m pc ls (.int x :: .int (nI j) :: .ref (q 8) :: rest)) :=
  zz_ast S.1 S.2.1 hK hP hD hS 9 0 rfl rfl (by decide) hj hdg kk
theorem xp9 (S : CallFix p m c cc nL s args lw_all RX0) (hK : va_K D vwCl [(dA, .int)] s) (hP : va_P D vwCl (XW h q dA pl ms sv sf su cn sm lo hi n k) H) (hD : va_D A (XW h q dA pl ms sv sf su cn sm lo hi n k)) (hS : va_S A H0 H locs) {x : Int32} (hdg : decode cc pc = .ok (.putfield 48, 3)) (kk : ∀ (H1 : Heap) (locs1 : List Loc), va_P D vwCl (XW h q dA pl ms sv sf su cn sm lo hi x k) H1 → va_D A (XW h q dA pl ms sv sf su cn sm lo hi x k) → va_S A H0 H1 locs1 → W p l e R s m args below meth c H1 locs1 cells slots Q (F0 m (pc + 3) ls rest)) : W p l e R s m args below meth c H locs cells slots Q (F0 m pc ls (.int x :: .ref h :: rest)) :=
  va_put (D := D) (ci := 0) (v := .int x) (ty := .int) (C := RX0) (T := TX0) (N := 11) S.1 S.2.1 S.2.2.2.2 in_X0 tyX0 tyX0_ok nmX0 S.2.2.2.1 hK hP hD hS 0 rfl rfl 9 (by decide) (S.2.2.2.2 _ q39) (fun _ h9 => h9) rfl (by decide +kernel) rfl rfl (Nat.le_of_ble_eq_true rfl) hdg kk
theorem xp10 (S : CallFix p m c cc nL s args lw_all RX0) (hK : va_K D vwCl [(dA, .int)] s) (hP : va_P D vwCl (XW h q dA pl ms sv sf su cn sm lo hi n k) H) (hD : va_D A (XW h q dA pl ms sv sf su cn sm lo hi n k)) (hS : va_S A H0 H locs) {x : Int32} (hdg : decode cc pc = .ok (.putfield 96, 3)) (kk : ∀ (H1 : Heap) (locs1 : List Loc), va_P D vwCl (XW h q dA pl ms sv sf su cn sm lo hi n x) H1 → va_D A (XW h q dA pl ms sv sf su cn sm lo hi n x) → va_S A H0 H1 locs1 → W p l e R s m args below meth c H1 locs1 cells slots Q (F0 m (pc + 3) ls rest)) : W p l e R s m args below meth c H locs cells slots Q (F0 m pc ls (.int x :: .ref h :: rest)) :=
  va_put (D := D) (ci := 0) (v := .int x) (ty := .int) (C := RX0) (T := TX0) (N := 11) S.1 S.2.1 S.2.2.2.2 in_X0 tyX0 tyX0_ok nmX0 S.2.2.2.1 hK hP hD hS 0 rfl rfl 10 (by decide) (S.2.2.2.2 _ q40) (fun _ h9 => h9) rfl (by decide +kernel) rfl rfl (Nat.le_of_ble_eq_true rfl) hdg kk
theorem mg0 (S : CallFix p m c cc nL s args lw_all RX1) (hK : va_K D vwCl [(dA, .int)] s) (hP : va_P D vwCl (MW h q dA pl ms n) H) (hdg : decode cc pc = .ok (.getfield 7, 3)) (kk : W p l e R s m args below meth c H locs cells slots Q (F0 m (pc + 3) ls (.ref (q 0) :: rest))) : W p l e R s m args below meth c H locs cells slots Q (F0 m pc ls (.ref h :: rest)) :=
  va_get (D := D) (ci := 1) (v := .ref (q 0)) (C := RX1) (T := TX1) (N := 3) S.1 S.2.1 S.2.2.2.2 in_X1 S.2.2.2.1 hK hP 0 rfl rfl 0 (by decide) (S.2.2.2.2 _ q194) (fun _ h9 => h9) rfl hdg kk
theorem mg1 (S : CallFix p m c cc nL s args lw_all RX1) (hK : va_K D vwCl [(dA, .int)] s) (hP : va_P D vwCl (MW h q dA pl ms n) H) (hdg : decode cc pc = .ok (.getfield 13, 3)) (kk : W p l e R s m args below meth c H locs cells slots Q (F0 m (pc + 3) ls (.ref (q 1) :: rest))) : W p l e R s m args below meth c H locs cells slots Q (F0 m pc ls (.ref h :: rest)) :=
  va_get (D := D) (ci := 1) (v := .ref (q 1)) (C := RX1) (T := TX1) (N := 3) S.1 S.2.1 S.2.2.2.2 in_X1 S.2.2.2.1 hK hP 0 rfl rfl 1 (by decide) (S.2.2.2.2 _ q195) (fun _ h9 => h9) rfl hdg kk
theorem mg2 (S : CallFix p m c cc nL s args lw_all RX1) (hK : va_K D vwCl [(dA, .int)] s) (hP : va_P D vwCl (MW h q dA pl ms n) H) (hdg : decode cc pc = .ok (.getfield 16, 3)) (kk : W p l e R s m args below meth c H locs cells slots Q (F0 m (pc + 3) ls (.int n :: rest))) : W p l e R s m args below meth c H locs cells slots Q (F0 m pc ls (.ref h :: rest)) :=
  va_get (D := D) (ci := 1) (v := .int n) (C := RX1) (T := TX1) (N := 3) S.1 S.2.1 S.2.2.2.2 in_X1 S.2.2.2.1 hK hP 0 rfl rfl 2 (by decide) (S.2.2.2.2 _ q196) (fun _ h9 => h9) rfl hdg kk
theorem ml0 (S : CallFix p m c cc nL s args lw_all RX1) (hK : va_K D vwCl [(dA, .int)] s) (hP : va_P D vwCl (MW h q dA pl ms n) H) {j : Nat} (hj : j < 40) (hdg : decode cc pc = .ok (.iaload, 1)) (kk : W p l e R s m args below meth c H locs cells slots Q (F0 m (pc + 1) ls (.int (pl j) :: rest))) : W p l e R s m args below meth c H locs cells slots Q (F0 m pc ls (.int (nI j) :: .ref (q 0) :: rest)) :=
  zz_ald S.1 S.2.1 hK hP 1 0 rfl rfl (by decide) hj hdg kk
theorem ms0 (S : CallFix p m c cc nL s args lw_all RX1) (hK : va_K D vwCl [(dA, .int)] s) (hP : va_P D vwCl (MW h q dA pl ms n) H) (hD : va_D A (MW h q dA pl ms n)) (hS : va_S A H0 H locs) {j : Nat} {x : Int32} (hj : j < 40) (hdg : decode cc pc = .ok (.iastore, 1)) (kk : ∀ (H1 : Heap) (locs1 : List Loc), va_P D vwCl (MW h q dA (upd pl j x) ms n) H1 → va_D A (MW h q dA (upd pl j x) ms n) → va_S A H0 H1 locs1 → W p l e R s m args below meth c H1 locs1 cells slots Q (F0 m (pc + 1) ls rest)) : W p l e R s m args below meth c H locs cells slots Q (F0 m pc ls (.int x :: .int (nI j) :: .ref (q 0) :: rest)) :=
  zz_ast S.1 S.2.1 hK hP hD hS 1 0 rfl rfl (by decide) hj hdg kk
theorem ml1 (S : CallFix p m c cc nL s args lw_all RX1) (hK : va_K D vwCl [(dA, .int)] s) (hP : va_P D vwCl (MW h q dA pl ms n) H) {j : Nat} (hj : j < 40) (hdg : decode cc pc = .ok (.iaload, 1)) (kk : W p l e R s m args below meth c H locs cells slots Q (F0 m (pc + 1) ls (.int (ms j) :: rest))) : W p l e R s m args below meth c H locs cells slots Q (F0 m pc ls (.int (nI j) :: .ref (q 1) :: rest)) :=
  zz_ald S.1 S.2.1 hK hP 2 0 rfl rfl (by decide) hj hdg kk
theorem ms1 (S : CallFix p m c cc nL s args lw_all RX1) (hK : va_K D vwCl [(dA, .int)] s) (hP : va_P D vwCl (MW h q dA pl ms n) H) (hD : va_D A (MW h q dA pl ms n)) (hS : va_S A H0 H locs) {j : Nat} {x : Int32} (hj : j < 40) (hdg : decode cc pc = .ok (.iastore, 1)) (kk : ∀ (H1 : Heap) (locs1 : List Loc), va_P D vwCl (MW h q dA pl (upd ms j x) n) H1 → va_D A (MW h q dA pl (upd ms j x) n) → va_S A H0 H1 locs1 → W p l e R s m args below meth c H1 locs1 cells slots Q (F0 m (pc + 1) ls rest)) : W p l e R s m args below meth c H locs cells slots Q (F0 m pc ls (.int x :: .int (nI j) :: .ref (q 1) :: rest)) :=
  zz_ast S.1 S.2.1 hK hP hD hS 2 0 rfl rfl (by decide) hj hdg kk
theorem mp2 (S : CallFix p m c cc nL s args lw_all RX1) (hK : va_K D vwCl [(dA, .int)] s) (hP : va_P D vwCl (MW h q dA pl ms n) H) (hD : va_D A (MW h q dA pl ms n)) (hS : va_S A H0 H locs) {x : Int32} (hdg : decode cc pc = .ok (.putfield 16, 3)) (kk : ∀ (H1 : Heap) (locs1 : List Loc), va_P D vwCl (MW h q dA pl ms x) H1 → va_D A (MW h q dA pl ms x) → va_S A H0 H1 locs1 → W p l e R s m args below meth c H1 locs1 cells slots Q (F0 m (pc + 3) ls rest)) : W p l e R s m args below meth c H locs cells slots Q (F0 m pc ls (.int x :: .ref h :: rest)) :=
  va_put (D := D) (ci := 1) (v := .int x) (ty := .int) (C := RX1) (T := TX1) (N := 3) S.1 S.2.1 S.2.2.2.2 in_X1 tyX1 tyX1_ok nmX1 S.2.2.2.1 hK hP hD hS 0 rfl rfl 2 (by decide) (S.2.2.2.2 _ q196) (fun _ h9 => h9) rfl (by decide +kernel) rfl rfl (Nat.le_of_ble_eq_true rfl) hdg kk
end RW
theorem gw_X0_37 : GoodIn lw_all (wsV RX0 37 RX0 yX0_wipe (ws_ yX0_wipe cX0_wipe 3 none)) := lw_V q26 q28 qs0 q16 q29
theorem gw_X0_41 : GoodIn lw_all (va_wsS RX0 41 yX0_isCell (ws_ yX0_isCell cX0_isCell 1 (some .boolean))) := lw_S q69 q70 q16 q71
theorem gw_X0_45 : GoodIn lw_all (va_wsS RX0 45 yX0_isMeasure (ws_ yX0_isMeasure cX0_isMeasure 1 (some .boolean))) := lw_S q72 q73 q16 q74
theorem gw_X0_52 : GoodIn lw_all (wsV RX0 52 RX0 yX0_add (ws_ yX0_add cX0_add 5 none)) := lw_V q75 q77 qs1 q16 q78
theorem gw_X0_56 : GoodIn lw_all (wsV RX0 56 RX0 yX0_isFact (ws_ yX0_isFact cX0_isFact 2 (some .boolean))) := lw_V q106 q108 qs3 q16 q109
theorem gw_X0_59 : GoodIn lw_all (wsV RX0 59 RX0 yX0_startAnew (ws_ yX0_startAnew cX0_startAnew 2 none)) := lw_V q110 q112 qs4 q16 q113
theorem gw_X0_62 : GoodIn lw_all (wsV RX0 62 RX0 yX0_full (ws_ yX0_full cX0_full 3 (some .int))) := lw_V q122 q123 q124 q16 q125
theorem gw_X0_66 : GoodIn lw_all (va_wsS RX0 66 yX0_isView (ws_ yX0_isView cX0_isView 1 (some .boolean))) := lw_S q126 q127 q16 q128
theorem gw_X0_69 : GoodIn lw_all (va_wsS RX0 69 yX0_seenAs (ws_ yX0_seenAs cX0_seenAs 5 (some .int))) := lw_S q79 q80 q16 q81
theorem gw_X0_73 : GoodIn lw_all (wsV RX0 73 RX0 yX0_slotFor (ws_ yX0_slotFor cX0_slotFor 5 (some .int))) := lw_V q129 q131 qs5 q16 q132
theorem gw_X0_76 : GoodIn lw_all (va_wsS RX0 76 yX0_isFiner (ws_ yX0_isFiner cX0_isFiner 5 (some .boolean))) := lw_S q133 q134 q16 q135
theorem gw_X0_80 : GoodIn lw_all (va_wsS RX0 80 yX0_byA (ws_ yX0_byA cX0_byA 2 (some .int))) := lw_S q82 q83 q16 q84
theorem gw_X0_83 : GoodIn lw_all (va_wsS RX0 83 yX0_coarser (ws_ yX0_coarser cX0_coarser 2 (some .int))) := lw_S q85 q86 q16 q87
theorem gw_X0_86 : GoodIn lw_all (va_wsS RX0 86 yX0_byB (ws_ yX0_byB cX0_byB 2 (some .int))) := lw_S q88 q89 q16 q90
theorem gw_X0_89 : GoodIn lw_all (va_wsS RX0 89 yX0_byC (ws_ yX0_byC cX0_byC 2 (some .int))) := lw_S q91 q92 q16 q93
theorem gw_X0_92 : GoodIn lw_all (wsV RX0 92 RX0 yX0_enter (ws_ yX0_enter cX0_enter 8 none)) := lw_V q94 q96 qs2 q16 q97
theorem gw_X0_99 : GoodIn lw_all (wsV RX0 99 RX0 yX0_workOut (ws_ yX0_workOut cX0_workOut 7 none)) := lw_V q136 q138 qs6 q16 q139
theorem gw_X0_103 : GoodIn lw_all (va_wsS RX0 103 yX0_cellFrom (ws_ yX0_cellFrom cX0_cellFrom 6 (some .int))) := lw_S q140 q141 q16 q142
theorem gw_X1_20 : GoodIn lw_all (wsV RX1 20 RX1 yX1_append (ws_ yX1_append cX1_append 3 none)) := lw_V q208 q210 qs7 q17 q211
theorem gw_X1_24 : GoodIn lw_all (wsV RX1 24 RX1 yX1_badFact (ws_ yX1_badFact cX1_badFact 2 (some .boolean))) := lw_V q220 q222 qs8 q17 q223
theorem gw_X1_28 : GoodIn lw_all (wsV RX1 28 RX1 yX1_full (ws_ yX1_full cX1_full 4 (some .int))) := lw_V q232 q233 q234 q17 q235
theorem gw_X1_32 : GoodIn lw_all (wsV RX1 32 RX1 yX1_seenA (ws_ yX1_seenA cX1_seenA 3 (some .int))) := lw_V q248 q250 qs11 q17 q251
theorem gw_X1_36 : GoodIn lw_all (wsV RX1 36 RX1 yX1_seenB (ws_ yX1_seenB cX1_seenB 3 (some .int))) := lw_V q252 q254 qs12 q17 q255
theorem gw_X1_39 : GoodIn lw_all (wsV RX1 39 RX1 yX1_seenC (ws_ yX1_seenC cX1_seenC 3 (some .int))) := lw_V q256 q258 qs13 q17 q259
theorem gw_X1_42 : GoodIn lw_all (wsV RX1 42 RX1 yX1_badView (ws_ yX1_badView cX1_badView 2 (some .boolean))) := lw_V q236 q238 qs9 q17 q239
theorem gw_X1_45 : GoodIn lw_all (wsV RX1 45 RX1 yX1_fall (ws_ yX1_fall cX1_fall 6 (some .int))) := lw_V q244 q246 qs10 q17 q247
theorem gw_X1_48 : GoodIn lw_all (wsV RX1 48 RX1 yX1_next (ws_ yX1_next cX1_next 6 (some .int))) := lw_V q240 q241 q242 q17 q243
theorem gw_X1_51 : GoodIn lw_all (wsV RX1 51 RX1 yX1_badCell (ws_ yX1_badCell cX1_badCell 2 (some .boolean))) := lw_V q273 q275 qs14 q17 q276
theorem gw_X1_54 : GoodIn lw_all (wsV RX1 54 RX1 yX1_sum (ws_ yX1_sum cX1_sum 5 (some .int))) := lw_V q294 q278 q279 q17 q280
theorem hd_X0_put : yX0_put.cls = RX0 ∧ yX0_put.cls ≠ "java/lang/invoke/MethodHandle" ∧ yX0_put.cls ≠ "java/lang/invoke/VarHandle" ∧ (parseMethodDescriptor yX0_put.desc).map (fun d => d.parameters.length) = some 2 := by decide +kernel
theorem hd_X1_put : yX1_put.cls = RX1 ∧ yX1_put.cls ≠ "java/lang/invoke/MethodHandle" ∧ yX1_put.cls ≠ "java/lang/invoke/VarHandle" ∧ (parseMethodDescriptor yX1_put.desc).map (fun d => d.parameters.length) = some 2 := by decide +kernel
theorem hd_X0_sow : yX0_sow.cls = RX0 ∧ yX0_sow.cls ≠ "java/lang/invoke/MethodHandle" ∧ yX0_sow.cls ≠ "java/lang/invoke/VarHandle" ∧ (parseMethodDescriptor yX0_sow.desc).map (fun d => d.parameters.length) = some 3 := by decide +kernel
theorem hd_X1_sow : yX1_sow.cls = RX1 ∧ yX1_sow.cls ≠ "java/lang/invoke/MethodHandle" ∧ yX1_sow.cls ≠ "java/lang/invoke/VarHandle" ∧ (parseMethodDescriptor yX1_sow.desc).map (fun d => d.parameters.length) = some 3 := by decide +kernel
theorem hd_X0_measure : yX0_measure.cls = RX0 ∧ yX0_measure.cls ≠ "java/lang/invoke/MethodHandle" ∧ yX0_measure.cls ≠ "java/lang/invoke/VarHandle" ∧ (parseMethodDescriptor yX0_measure.desc).map (fun d => d.parameters.length) = some 2 := by decide +kernel
theorem hd_X1_measure : yX1_measure.cls = RX1 ∧ yX1_measure.cls ≠ "java/lang/invoke/MethodHandle" ∧ yX1_measure.cls ≠ "java/lang/invoke/VarHandle" ∧ (parseMethodDescriptor yX1_measure.desc).map (fun d => d.parameters.length) = some 2 := by decide +kernel
theorem hd_X0_drop : yX0_drop.cls = RX0 ∧ yX0_drop.cls ≠ "java/lang/invoke/MethodHandle" ∧ yX0_drop.cls ≠ "java/lang/invoke/VarHandle" ∧ (parseMethodDescriptor yX0_drop.desc).map (fun d => d.parameters.length) = some 1 := by decide +kernel
theorem hd_X1_drop : yX1_drop.cls = RX1 ∧ yX1_drop.cls ≠ "java/lang/invoke/MethodHandle" ∧ yX1_drop.cls ≠ "java/lang/invoke/VarHandle" ∧ (parseMethodDescriptor yX1_drop.desc).map (fun d => d.parameters.length) = some 1 := by decide +kernel
theorem hd_X0_prepare : yX0_prepare.cls = RX0 ∧ yX0_prepare.cls ≠ "java/lang/invoke/MethodHandle" ∧ yX0_prepare.cls ≠ "java/lang/invoke/VarHandle" ∧ (parseMethodDescriptor yX0_prepare.desc).map (fun d => d.parameters.length) = some 1 := by decide +kernel
theorem hd_X1_prepare : yX1_prepare.cls = RX1 ∧ yX1_prepare.cls ≠ "java/lang/invoke/MethodHandle" ∧ yX1_prepare.cls ≠ "java/lang/invoke/VarHandle" ∧ (parseMethodDescriptor yX1_prepare.desc).map (fun d => d.parameters.length) = some 1 := by decide +kernel
theorem hd_X0_facts : yX0_facts.cls = RX0 ∧ yX0_facts.cls ≠ "java/lang/invoke/MethodHandle" ∧ yX0_facts.cls ≠ "java/lang/invoke/VarHandle" ∧ (parseMethodDescriptor yX0_facts.desc).map (fun d => d.parameters.length) = some 0 := by decide +kernel
theorem hd_X1_facts : yX1_facts.cls = RX1 ∧ yX1_facts.cls ≠ "java/lang/invoke/MethodHandle" ∧ yX1_facts.cls ≠ "java/lang/invoke/VarHandle" ∧ (parseMethodDescriptor yX1_facts.desc).map (fun d => d.parameters.length) = some 0 := by decide +kernel
theorem hd_X0_cellOf : yX0_cellOf.cls = RX0 ∧ yX0_cellOf.cls ≠ "java/lang/invoke/MethodHandle" ∧ yX0_cellOf.cls ≠ "java/lang/invoke/VarHandle" ∧ (parseMethodDescriptor yX0_cellOf.desc).map (fun d => d.parameters.length) = some 2 := by decide +kernel
theorem hd_X1_cellOf : yX1_cellOf.cls = RX1 ∧ yX1_cellOf.cls ≠ "java/lang/invoke/MethodHandle" ∧ yX1_cellOf.cls ≠ "java/lang/invoke/VarHandle" ∧ (parseMethodDescriptor yX1_cellOf.desc).map (fun d => d.parameters.length) = some 2 := by decide +kernel
theorem hd_X0_full : yX0_full.cls = RX0 ∧ yX0_full.cls ≠ "java/lang/invoke/MethodHandle" ∧ yX0_full.cls ≠ "java/lang/invoke/VarHandle" ∧ (parseMethodDescriptor yX0_full.desc).map (fun d => d.parameters.length) = some 1 := by decide +kernel
theorem hd_X1_full : yX1_full.cls = RX1 ∧ yX1_full.cls ≠ "java/lang/invoke/MethodHandle" ∧ yX1_full.cls ≠ "java/lang/invoke/VarHandle" ∧ (parseMethodDescriptor yX1_full.desc).map (fun d => d.parameters.length) = some 1 := by decide +kernel
theorem hd_X0_count : yX0_count.cls = RX0 ∧ yX0_count.cls ≠ "java/lang/invoke/MethodHandle" ∧ yX0_count.cls ≠ "java/lang/invoke/VarHandle" ∧ (parseMethodDescriptor yX0_count.desc).map (fun d => d.parameters.length) = some 2 := by decide +kernel
theorem hd_X1_count : yX1_count.cls = RX1 ∧ yX1_count.cls ≠ "java/lang/invoke/MethodHandle" ∧ yX1_count.cls ≠ "java/lang/invoke/VarHandle" ∧ (parseMethodDescriptor yX1_count.desc).map (fun d => d.parameters.length) = some 2 := by decide +kernel
theorem hd_X0_sum : yX0_sum.cls = RX0 ∧ yX0_sum.cls ≠ "java/lang/invoke/MethodHandle" ∧ yX0_sum.cls ≠ "java/lang/invoke/VarHandle" ∧ (parseMethodDescriptor yX0_sum.desc).map (fun d => d.parameters.length) = some 2 := by decide +kernel
theorem hd_X1_sum : yX1_sum.cls = RX1 ∧ yX1_sum.cls ≠ "java/lang/invoke/MethodHandle" ∧ yX1_sum.cls ≠ "java/lang/invoke/VarHandle" ∧ (parseMethodDescriptor yX1_sum.desc).map (fun d => d.parameters.length) = some 2 := by decide +kernel
theorem hd_X0_least : yX0_least.cls = RX0 ∧ yX0_least.cls ≠ "java/lang/invoke/MethodHandle" ∧ yX0_least.cls ≠ "java/lang/invoke/VarHandle" ∧ (parseMethodDescriptor yX0_least.desc).map (fun d => d.parameters.length) = some 2 := by decide +kernel
theorem hd_X1_least : yX1_least.cls = RX1 ∧ yX1_least.cls ≠ "java/lang/invoke/MethodHandle" ∧ yX1_least.cls ≠ "java/lang/invoke/VarHandle" ∧ (parseMethodDescriptor yX1_least.desc).map (fun d => d.parameters.length) = some 2 := by decide +kernel
theorem hd_X0_most : yX0_most.cls = RX0 ∧ yX0_most.cls ≠ "java/lang/invoke/MethodHandle" ∧ yX0_most.cls ≠ "java/lang/invoke/VarHandle" ∧ (parseMethodDescriptor yX0_most.desc).map (fun d => d.parameters.length) = some 2 := by decide +kernel
theorem hd_X1_most : yX1_most.cls = RX1 ∧ yX1_most.cls ≠ "java/lang/invoke/MethodHandle" ∧ yX1_most.cls ≠ "java/lang/invoke/VarHandle" ∧ (parseMethodDescriptor yX1_most.desc).map (fun d => d.parameters.length) = some 2 := by decide +kernel
theorem hd_X0_next : yX0_next.cls = RX0 ∧ yX0_next.cls ≠ "java/lang/invoke/MethodHandle" ∧ yX0_next.cls ≠ "java/lang/invoke/VarHandle" ∧ (parseMethodDescriptor yX0_next.desc).map (fun d => d.parameters.length) = some 2 := by decide +kernel
theorem hd_X1_next : yX1_next.cls = RX1 ∧ yX1_next.cls ≠ "java/lang/invoke/MethodHandle" ∧ yX1_next.cls ≠ "java/lang/invoke/VarHandle" ∧ (parseMethodDescriptor yX1_next.desc).map (fun d => d.parameters.length) = some 2 := by decide +kernel
theorem hd_X0_best : yX0_best.cls = RX0 ∧ yX0_best.cls ≠ "java/lang/invoke/MethodHandle" ∧ yX0_best.cls ≠ "java/lang/invoke/VarHandle" ∧ (parseMethodDescriptor yX0_best.desc).map (fun d => d.parameters.length) = some 1 := by decide +kernel
theorem hd_X1_best : yX1_best.cls = RX1 ∧ yX1_best.cls ≠ "java/lang/invoke/MethodHandle" ∧ yX1_best.cls ≠ "java/lang/invoke/VarHandle" ∧ (parseMethodDescriptor yX1_best.desc).map (fun d => d.parameters.length) = some 1 := by decide +kernel
theorem hd_X0_having : yX0_having.cls = RX0 ∧ yX0_having.cls ≠ "java/lang/invoke/MethodHandle" ∧ yX0_having.cls ≠ "java/lang/invoke/VarHandle" ∧ (parseMethodDescriptor yX0_having.desc).map (fun d => d.parameters.length) = some 2 := by decide +kernel
theorem hd_X1_having : yX1_having.cls = RX1 ∧ yX1_having.cls ≠ "java/lang/invoke/MethodHandle" ∧ yX1_having.cls ≠ "java/lang/invoke/VarHandle" ∧ (parseMethodDescriptor yX1_having.desc).map (fun d => d.parameters.length) = some 2 := by decide +kernel
theorem hd_X0_finer : yX0_finer.cls = RX0 ∧ yX0_finer.cls ≠ "java/lang/invoke/MethodHandle" ∧ yX0_finer.cls ≠ "java/lang/invoke/VarHandle" ∧ (parseMethodDescriptor yX0_finer.desc).map (fun d => d.parameters.length) = some 2 := by decide +kernel
theorem hd_X1_finer : yX1_finer.cls = RX1 ∧ yX1_finer.cls ≠ "java/lang/invoke/MethodHandle" ∧ yX1_finer.cls ≠ "java/lang/invoke/VarHandle" ∧ (parseMethodDescriptor yX1_finer.desc).map (fun d => d.parameters.length) = some 2 := by decide +kernel
theorem hd_X0_viewsWith : yX0_viewsWith.cls = RX0 ∧ yX0_viewsWith.cls ≠ "java/lang/invoke/MethodHandle" ∧ yX0_viewsWith.cls ≠ "java/lang/invoke/VarHandle" ∧ (parseMethodDescriptor yX0_viewsWith.desc).map (fun d => d.parameters.length) = some 1 := by decide +kernel
theorem hd_X1_viewsWith : yX1_viewsWith.cls = RX1 ∧ yX1_viewsWith.cls ≠ "java/lang/invoke/MethodHandle" ∧ yX1_viewsWith.cls ≠ "java/lang/invoke/VarHandle" ∧ (parseMethodDescriptor yX1_viewsWith.desc).map (fun d => d.parameters.length) = some 1 := by decide +kernel
theorem hd_X0_wipe : yX0_wipe.cls = RX0 ∧ yX0_wipe.cls ≠ "java/lang/invoke/MethodHandle" ∧ yX0_wipe.cls ≠ "java/lang/invoke/VarHandle" ∧ (parseMethodDescriptor yX0_wipe.desc).map (fun d => d.parameters.length) = some 1 := by decide +kernel
theorem hd_X0_isCell : yX0_isCell.cls ≠ "java/lang/invoke/MethodHandle" ∧ yX0_isCell.cls ≠ "java/lang/invoke/VarHandle" ∧ (parseMethodDescriptor yX0_isCell.desc).map (fun d => d.parameters.length) = some 1 := by decide +kernel
theorem hd_X0_isMeasure : yX0_isMeasure.cls ≠ "java/lang/invoke/MethodHandle" ∧ yX0_isMeasure.cls ≠ "java/lang/invoke/VarHandle" ∧ (parseMethodDescriptor yX0_isMeasure.desc).map (fun d => d.parameters.length) = some 1 := by decide +kernel
theorem hd_X0_add : yX0_add.cls = RX0 ∧ yX0_add.cls ≠ "java/lang/invoke/MethodHandle" ∧ yX0_add.cls ≠ "java/lang/invoke/VarHandle" ∧ (parseMethodDescriptor yX0_add.desc).map (fun d => d.parameters.length) = some 2 := by decide +kernel
theorem hd_X0_isFact : yX0_isFact.cls = RX0 ∧ yX0_isFact.cls ≠ "java/lang/invoke/MethodHandle" ∧ yX0_isFact.cls ≠ "java/lang/invoke/VarHandle" ∧ (parseMethodDescriptor yX0_isFact.desc).map (fun d => d.parameters.length) = some 1 := by decide +kernel
theorem hd_X0_startAnew : yX0_startAnew.cls = RX0 ∧ yX0_startAnew.cls ≠ "java/lang/invoke/MethodHandle" ∧ yX0_startAnew.cls ≠ "java/lang/invoke/VarHandle" ∧ (parseMethodDescriptor yX0_startAnew.desc).map (fun d => d.parameters.length) = some 0 := by decide +kernel
theorem hd_X0_isView : yX0_isView.cls ≠ "java/lang/invoke/MethodHandle" ∧ yX0_isView.cls ≠ "java/lang/invoke/VarHandle" ∧ (parseMethodDescriptor yX0_isView.desc).map (fun d => d.parameters.length) = some 1 := by decide +kernel
theorem hd_X0_seenAs : yX0_seenAs.cls ≠ "java/lang/invoke/MethodHandle" ∧ yX0_seenAs.cls ≠ "java/lang/invoke/VarHandle" ∧ (parseMethodDescriptor yX0_seenAs.desc).map (fun d => d.parameters.length) = some 2 := by decide +kernel
theorem hd_X0_slotFor : yX0_slotFor.cls = RX0 ∧ yX0_slotFor.cls ≠ "java/lang/invoke/MethodHandle" ∧ yX0_slotFor.cls ≠ "java/lang/invoke/VarHandle" ∧ (parseMethodDescriptor yX0_slotFor.desc).map (fun d => d.parameters.length) = some 1 := by decide +kernel
theorem hd_X0_isFiner : yX0_isFiner.cls ≠ "java/lang/invoke/MethodHandle" ∧ yX0_isFiner.cls ≠ "java/lang/invoke/VarHandle" ∧ (parseMethodDescriptor yX0_isFiner.desc).map (fun d => d.parameters.length) = some 2 := by decide +kernel
theorem hd_X0_byA : yX0_byA.cls ≠ "java/lang/invoke/MethodHandle" ∧ yX0_byA.cls ≠ "java/lang/invoke/VarHandle" ∧ (parseMethodDescriptor yX0_byA.desc).map (fun d => d.parameters.length) = some 1 := by decide +kernel
theorem hd_X0_coarser : yX0_coarser.cls ≠ "java/lang/invoke/MethodHandle" ∧ yX0_coarser.cls ≠ "java/lang/invoke/VarHandle" ∧ (parseMethodDescriptor yX0_coarser.desc).map (fun d => d.parameters.length) = some 2 := by decide +kernel
theorem hd_X0_byB : yX0_byB.cls ≠ "java/lang/invoke/MethodHandle" ∧ yX0_byB.cls ≠ "java/lang/invoke/VarHandle" ∧ (parseMethodDescriptor yX0_byB.desc).map (fun d => d.parameters.length) = some 1 := by decide +kernel
theorem hd_X0_byC : yX0_byC.cls ≠ "java/lang/invoke/MethodHandle" ∧ yX0_byC.cls ≠ "java/lang/invoke/VarHandle" ∧ (parseMethodDescriptor yX0_byC.desc).map (fun d => d.parameters.length) = some 1 := by decide +kernel
theorem hd_X0_enter : yX0_enter.cls = RX0 ∧ yX0_enter.cls ≠ "java/lang/invoke/MethodHandle" ∧ yX0_enter.cls ≠ "java/lang/invoke/VarHandle" ∧ (parseMethodDescriptor yX0_enter.desc).map (fun d => d.parameters.length) = some 6 := by decide +kernel
theorem hd_X0_workOut : yX0_workOut.cls = RX0 ∧ yX0_workOut.cls ≠ "java/lang/invoke/MethodHandle" ∧ yX0_workOut.cls ≠ "java/lang/invoke/VarHandle" ∧ (parseMethodDescriptor yX0_workOut.desc).map (fun d => d.parameters.length) = some 3 := by decide +kernel
theorem hd_X0_cellFrom : yX0_cellFrom.cls ≠ "java/lang/invoke/MethodHandle" ∧ yX0_cellFrom.cls ≠ "java/lang/invoke/VarHandle" ∧ (parseMethodDescriptor yX0_cellFrom.desc).map (fun d => d.parameters.length) = some 3 := by decide +kernel
theorem hd_X1_append : yX1_append.cls = RX1 ∧ yX1_append.cls ≠ "java/lang/invoke/MethodHandle" ∧ yX1_append.cls ≠ "java/lang/invoke/VarHandle" ∧ (parseMethodDescriptor yX1_append.desc).map (fun d => d.parameters.length) = some 2 := by decide +kernel
theorem hd_X1_badFact : yX1_badFact.cls = RX1 ∧ yX1_badFact.cls ≠ "java/lang/invoke/MethodHandle" ∧ yX1_badFact.cls ≠ "java/lang/invoke/VarHandle" ∧ (parseMethodDescriptor yX1_badFact.desc).map (fun d => d.parameters.length) = some 1 := by decide +kernel
theorem hd_X1_seenA : yX1_seenA.cls = RX1 ∧ yX1_seenA.cls ≠ "java/lang/invoke/MethodHandle" ∧ yX1_seenA.cls ≠ "java/lang/invoke/VarHandle" ∧ (parseMethodDescriptor yX1_seenA.desc).map (fun d => d.parameters.length) = some 2 := by decide +kernel
theorem hd_X1_seenB : yX1_seenB.cls = RX1 ∧ yX1_seenB.cls ≠ "java/lang/invoke/MethodHandle" ∧ yX1_seenB.cls ≠ "java/lang/invoke/VarHandle" ∧ (parseMethodDescriptor yX1_seenB.desc).map (fun d => d.parameters.length) = some 2 := by decide +kernel
theorem hd_X1_seenC : yX1_seenC.cls = RX1 ∧ yX1_seenC.cls ≠ "java/lang/invoke/MethodHandle" ∧ yX1_seenC.cls ≠ "java/lang/invoke/VarHandle" ∧ (parseMethodDescriptor yX1_seenC.desc).map (fun d => d.parameters.length) = some 2 := by decide +kernel
theorem hd_X1_badView : yX1_badView.cls = RX1 ∧ yX1_badView.cls ≠ "java/lang/invoke/MethodHandle" ∧ yX1_badView.cls ≠ "java/lang/invoke/VarHandle" ∧ (parseMethodDescriptor yX1_badView.desc).map (fun d => d.parameters.length) = some 1 := by decide +kernel
theorem hd_X1_fall : yX1_fall.cls = RX1 ∧ yX1_fall.cls ≠ "java/lang/invoke/MethodHandle" ∧ yX1_fall.cls ≠ "java/lang/invoke/VarHandle" ∧ (parseMethodDescriptor yX1_fall.desc).map (fun d => d.parameters.length) = some 2 := by decide +kernel
theorem hd_X1_badCell : yX1_badCell.cls = RX1 ∧ yX1_badCell.cls ≠ "java/lang/invoke/MethodHandle" ∧ yX1_badCell.cls ≠ "java/lang/invoke/VarHandle" ∧ (parseMethodDescriptor yX1_badCell.desc).map (fun d => d.parameters.length) = some 1 := by decide +kernel
end
section
/-! PURE: what a place is seen as in a view; finer views; aggregates of facts by a test of the place -/
def bA (v : Nat) : Nat := if v / 16 = 2 then 0 else v / 16 + 1
def bB (v : Nat) : Nat := if v / 4 % 4 = 3 then 0 else v / 4 % 4 + 1
def bC (v : Nat) : Nat := if v % 4 = 3 then 0 else 2 ^ (v % 4)
def fal (v p : Nat) : Nat := 48 * (p / 48 / bA v) + 8 * (p / 8 % 6 / bB v) + p % 8 / bC v
def rep (f c : Nat) : Nat := 48 * (bA f * (c / 48)) + 8 * (bB f * (c / 8 % 6)) + bC f * (c % 8)
abbrev fin_ (f v : Nat) : Prop := (f / 4 % 4 ≤ v / 4 % 4 ∧ ¬ (f / 4 % 4 = 1 ∧ v / 4 % 4 = 2)) ∧ f / 16 ≤ v / 16 ∧ f % 4 ≤ v % 4
abbrev okV (x : Int32) : Prop := ¬ x < 0 ∧ ¬ nI 48 ≤ x
abbrev okC (x : Int32) : Prop := ¬ x < 0 ∧ ¬ nI 192 ≤ x
abbrev okM (x : Int32) : Prop := ¬ x < -1000 ∧ ¬ nI 1000 < x
abbrev okF (n : Nat) (x : Int32) : Prop := ¬ x < 0 ∧ ¬ nI n ≤ x
theorem b1_T {P : Prop} [Decidable P] (h : P) : nI 1 = b1 P := by rw [b1_t h]; decide +kernel
theorem b1_F {P : Prop} [Decidable P] (h : ¬ P) : nI 0 = b1 P := by rw [b1_f h]; decide +kernel
theorem bA_le {v : Nat} (h : v < 48) : bA v ≤ 3 := by unfold bA; split <;> omega
theorem bB_le {v : Nat} : bB v ≤ 4 := by unfold bB; split <;> omega
theorem bC_le (v : Nat) : bC v ≤ 8 := by
  have h : ∀ k, k < 4 → (if k = 3 then 0 else 2 ^ k) ≤ 8 := by decide
  exact h (v % 4) (by omega)
theorem okV_N {x : Int32} (h : okV x) : ∃ v, v < 48 ∧ x = nI v := by
  rcases pk_ix x (n := 48) (by omega) with q | q | q
  · exact absurd q h.1
  · exact absurd q h.2
  · exact q
theorem okC_N {x : Int32} (h : okC x) : ∃ v, v < 192 ∧ x = nI v := by
  rcases pk_ix x (n := 192) (by omega) with q | q | q
  · exact absurd q h.1
  · exact absurd q h.2
  · exact q
theorem okF_N {x : Int32} {n : Nat} (hn : n < 2 ^ 31) (h : okF n x) : ∃ v, v < n ∧ x = nI v := by
  rcases pk_ix x (n := n) hn with q | q | q
  · exact absurd q h.1
  · exact absurd q h.2
  · exact q
/-- parts of a place: the three coordinates -/
theorem fal_parts {a b c : Nat} (hb : b < 6) (hc : c < 8) : (48 * a + 8 * b + c) / 48 = a ∧ (48 * a + 8 * b + c) / 8 % 6 = b ∧ (48 * a + 8 * b + c) % 8 = c := by omega
theorem fal_ok {v p : Nat} (hp : p < 192) : p / 48 / bA v < 4 ∧ p / 8 % 6 / bB v < 6 ∧ p % 8 / bC v < 8 :=
  ⟨Nat.lt_of_le_of_lt (Nat.div_le_self _ _) (by omega), Nat.lt_of_le_of_lt (Nat.div_le_self _ _) (by omega), Nat.lt_of_le_of_lt (Nat.div_le_self _ _) (by omega)⟩
theorem fal_lt {v p : Nat} (hp : p < 192) : fal v p < 192 := by
  have h := fal_ok (v := v) hp
  unfold fal
  omega
theorem fal_at {v p : Nat} (hp : p < 192) : fal v p / 48 = p / 48 / bA v ∧ fal v p / 8 % 6 = p / 8 % 6 / bB v ∧ fal v p % 8 = p % 8 / bC v := by
  have h := fal_ok (v := v) hp
  exact fal_parts h.2.1 h.2.2
theorem fal_0 {p : Nat} (hp : p < 192) : fal 0 p = p := by
  have h1 : bA 0 = 1 := by decide
  have h2 : bB 0 = 1 := by decide
  have h3 : bC 0 = 1 := by decide
  unfold fal
  rw [h1, h2, h3, Nat.div_one, Nat.div_one, Nat.div_one]
  omega
def lA (k : Nat) : Nat := if k = 2 then 0 else k + 1
def lB (k : Nat) : Nat := if k = 3 then 0 else k + 1
def lC (k : Nat) : Nat := if k = 3 then 0 else 2 ^ k
theorem levA : ∀ i, i < 3 → ∀ j, j < 3 → i ≤ j → ∀ a, a < 4 → lA i * (a / lA i) < 4 ∧ lA i * (a / lA i) / lA j = a / lA j := by decide +kernel
def pB (i j : Nat) : Bool := decide (i ≤ j ∧ ¬ (i = 1 ∧ j = 2))
theorem levB1 : ∀ i, i < 4 → ∀ a, a < 6 → lB i * (a / lB i) < 6 := by decide +kernel
theorem levB2 : ∀ i, i < 4 → ∀ j, j < 4 → ∀ a, a < 6 → (pB i j = true → lB i * (a / lB i) / lB j = a / lB j) := by decide +kernel
theorem levB (i : Nat) (hi : i < 4) (j : Nat) (hj : j < 4) (h : i ≤ j) (h2 : ¬ (i = 1 ∧ j = 2)) (a : Nat) (ha : a < 6) : lB i * (a / lB i) < 6 ∧ lB i * (a / lB i) / lB j = a / lB j := ⟨levB1 i hi a ha, levB2 i hi j hj a ha (decide_eq_true ⟨h, h2⟩)⟩
theorem levC : ∀ i, i < 4 → ∀ j, j < 4 → i ≤ j → ∀ a, a < 8 → lC i * (a / lC i) < 8 ∧ lC i * (a / lC i) / lC j = a / lC j := by decide +kernel
theorem rep_lt {f p : Nat} (hf : f < 48) (hp : p < 192) : bA f * (fal f p / 48) < 4 ∧ bB f * (fal f p / 8 % 6) < 6 ∧ bC f * (fal f p % 8) < 8 := by
  obtain ⟨e1, e2, e3⟩ := fal_at (v := f) hp
  rw [e1, e2, e3]
  exact ⟨(levA (f / 16) (by omega) (f / 16) (by omega) (Nat.le_refl _) _ (by omega)).1, (levB (f / 4 % 4) (by omega) (f / 4 % 4) (by omega) (Nat.le_refl _) (by omega) _ (by omega)).1, (levC (f % 4) (by omega) (f % 4) (by omega) (Nat.le_refl _) _ (by omega)).1⟩
/-- what a cell of a finer view falls into: any place of the cell will do -/
theorem rep_fal {f v p : Nat} (hf : f < 48) (hv : v < 48) (h : fin_ f v) (hp : p < 192) : fal v (rep f (fal f p)) = fal v p := by
  obtain ⟨e1, e2, e3⟩ := fal_at (v := f) hp
  obtain ⟨l1, l2, l3⟩ := rep_lt hf hp
  obtain ⟨g1, g2, g3⟩ := fal_parts (a := bA f * (fal f p / 48)) l2 l3
  have h1 := (levA (f / 16) (by omega) (v / 16) (by omega) h.2.1 (p / 48) (by omega)).2
  have h2 := (levB (f / 4 % 4) (by omega) (v / 4 % 4) (by omega) h.1.1 h.1.2 (p / 8 % 6) (by omega)).2
  have h3 := (levC (f % 4) (by omega) (v % 4) (by omega) h.2.2 (p % 8) (by omega)).2
  unfold rep
  unfold fal at *
  rw [g1, g2, g3]
  rw [e1, e2, e3]
  exact congr (congrArg _ (congr (congrArg _ (congrArg _ h1)) (congrArg _ h2))) h3
theorem rep_lt2 {f p : Nat} (hf : f < 48) (hp : p < 192) : rep f (fal f p) < 192 := by
  have h := rep_lt hf hp
  unfold rep
  omega
end
section
/-! OlapCubes: the static methods -/
abbrev rmX0_isView : Room := { frames := 0, cells := 0, slots := 0, locals := 0 }
set_option maxHeartbeats 4000000 in
set_option maxRecDepth 100000 in
theorem metX0_isView (l : Launch) (x : Int32) : CR l yX0_isView cX0_isView 1 (some .boolean) rmX0_isView [.int x] (fun _ => True) (fun r => r = b1 (okV x)) := by
  refine CR.mk (own := RX0) (by decide) rfl (Nat.le_of_ble_eq_true rfl) ?_
  intro p e s m args below meth c Q ls S hB hl hret
  have hx := S.1
  have hb := S.2.1
  have hl : lv_has ls 1 [(0, .int x)] := hl
  refine lv_iload_n hx hb dX0_isView_0 rfl (lv_at hl 0 rfl) ?_
  refine lv_if_lt (tgt := 14) hx hb dX0_isView_1 (by decide) (fun c_1 => ?_) (fun c_1 => ?_)
  · refine lv_iconst (v := nI 0) hx hb dX0_isView_14 (by decide +kernel) ?_
    exact hret _ _ _ (by first | exact b1_T ⟨by assumption, by assumption⟩ | exact b1_F (fun h9 => by first | exact absurd (by assumption) h9.1 | exact absurd (by assumption) h9.2)) rfl dX0_isView_15
  · refine lv_iload_n hx hb dX0_isView_4 rfl (lv_at hl 0 rfl) ?_
    refine lv_bipush (v := nI 48) hx hb dX0_isView_5 (by decide +kernel) ?_
    refine lv_icmp_ge (tgt := 14) hx hb dX0_isView_7 (by decide) (fun c_2 => ?_) (fun c_2 => ?_)
    · refine lv_iconst (v := nI 0) hx hb dX0_isView_14 (by decide +kernel) ?_
      exact hret _ _ _ (by first | exact b1_T ⟨by assumption, by assumption⟩ | exact b1_F (fun h9 => by first | exact absurd (by assumption) h9.1 | exact absurd (by assumption) h9.2)) rfl dX0_isView_15
    · refine lv_iconst (v := nI 1) hx hb dX0_isView_10 (by decide +kernel) ?_
      refine lv_goto (tgt := 15) hx hb dX0_isView_11 (by decide) ?_
      exact hret _ _ _ (by first | exact b1_T ⟨by assumption, by assumption⟩ | exact b1_F (fun h9 => by first | exact absurd (by assumption) h9.1 | exact absurd (by assumption) h9.2)) rfl dX0_isView_15
abbrev rmX0_isCell : Room := { frames := 0, cells := 0, slots := 0, locals := 0 }
set_option maxHeartbeats 4000000 in
set_option maxRecDepth 100000 in
theorem metX0_isCell (l : Launch) (x : Int32) : CR l yX0_isCell cX0_isCell 1 (some .boolean) rmX0_isCell [.int x] (fun _ => True) (fun r => r = b1 (okC x)) := by
  refine CR.mk (own := RX0) (by decide) rfl (Nat.le_of_ble_eq_true rfl) ?_
  intro p e s m args below meth c Q ls S hB hl hret
  have hx := S.1
  have hb := S.2.1
  have hl : lv_has ls 1 [(0, .int x)] := hl
  refine lv_iload_n hx hb dX0_isCell_0 rfl (lv_at hl 0 rfl) ?_
  refine lv_if_lt (tgt := 15) hx hb dX0_isCell_1 (by decide) (fun c_1 => ?_) (fun c_1 => ?_)
  · refine lv_iconst (v := nI 0) hx hb dX0_isCell_15 (by decide +kernel) ?_
    exact hret _ _ _ (by first | exact b1_T ⟨by assumption, by assumption⟩ | exact b1_F (fun h9 => by first | exact absurd (by assumption) h9.1 | exact absurd (by assumption) h9.2)) rfl dX0_isCell_16
  · refine lv_iload_n hx hb dX0_isCell_4 rfl (lv_at hl 0 rfl) ?_
    refine lv_sipush (v := nI 192) hx hb dX0_isCell_5 (by decide +kernel) ?_
    refine lv_icmp_ge (tgt := 15) hx hb dX0_isCell_8 (by decide) (fun c_2 => ?_) (fun c_2 => ?_)
    · refine lv_iconst (v := nI 0) hx hb dX0_isCell_15 (by decide +kernel) ?_
      exact hret _ _ _ (by first | exact b1_T ⟨by assumption, by assumption⟩ | exact b1_F (fun h9 => by first | exact absurd (by assumption) h9.1 | exact absurd (by assumption) h9.2)) rfl dX0_isCell_16
    · refine lv_iconst (v := nI 1) hx hb dX0_isCell_11 (by decide +kernel) ?_
      refine lv_goto (tgt := 16) hx hb dX0_isCell_12 (by decide) ?_
      exact hret _ _ _ (by first | exact b1_T ⟨by assumption, by assumption⟩ | exact b1_F (fun h9 => by first | exact absurd (by assumption) h9.1 | exact absurd (by assumption) h9.2)) rfl dX0_isCell_16
abbrev rmX0_isMeasure : Room := { frames := 0, cells := 0, slots := 0, locals := 0 }
set_option maxHeartbeats 4000000 in
set_option maxRecDepth 100000 in
theorem metX0_isMeasure (l : Launch) (x : Int32) : CR l yX0_isMeasure cX0_isMeasure 1 (some .boolean) rmX0_isMeasure [.int x] (fun _ => True) (fun r => r = b1 (okM x)) := by
  refine CR.mk (own := RX0) (by decide) rfl (Nat.le_of_ble_eq_true rfl) ?_
  intro p e s m args below meth c Q ls S hB hl hret
  have hx := S.1
  have hb := S.2.1
  have hl : lv_has ls 1 [(0, .int x)] := hl
  refine lv_iload_n hx hb dX0_isMeasure_0 rfl (lv_at hl 0 rfl) ?_
  refine lv_sipush (v := (-1000)) hx hb dX0_isMeasure_1 (by decide +kernel) ?_
  refine lv_icmp_lt (tgt := 18) hx hb dX0_isMeasure_4 (by decide) (fun c_1 => ?_) (fun c_1 => ?_)
  · refine lv_iconst (v := nI 0) hx hb dX0_isMeasure_18 (by decide +kernel) ?_
    exact hret _ _ _ (by first | exact b1_T ⟨by assumption, by assumption⟩ | exact b1_F (fun h9 => by first | exact absurd (by assumption) h9.1 | exact absurd (by assumption) h9.2)) rfl dX0_isMeasure_19
  · refine lv_iload_n hx hb dX0_isMeasure_7 rfl (lv_at hl 0 rfl) ?_
    refine lv_sipush (v := nI 1000) hx hb dX0_isMeasure_8 (by decide +kernel) ?_
    refine lv_icmp_gt (tgt := 18) hx hb dX0_isMeasure_11 (by decide) (fun c_2 => ?_) (fun c_2 => ?_)
    · refine lv_iconst (v := nI 0) hx hb dX0_isMeasure_18 (by decide +kernel) ?_
      exact hret _ _ _ (by first | exact b1_T ⟨by assumption, by assumption⟩ | exact b1_F (fun h9 => by first | exact absurd (by assumption) h9.1 | exact absurd (by assumption) h9.2)) rfl dX0_isMeasure_19
    · refine lv_iconst (v := nI 1) hx hb dX0_isMeasure_14 (by decide +kernel) ?_
      refine lv_goto (tgt := 19) hx hb dX0_isMeasure_15 (by decide) ?_
      exact hret _ _ _ (by first | exact b1_T ⟨by assumption, by assumption⟩ | exact b1_F (fun h9 => by first | exact absurd (by assumption) h9.1 | exact absurd (by assumption) h9.2)) rfl dX0_isMeasure_19
abbrev rmX0_coarser : Room := { frames := 0, cells := 0, slots := 0, locals := 0 }
set_option maxHeartbeats 4000000 in
set_option maxRecDepth 100000 in
theorem metX0_coarser (l : Launch) (a b : Nat) (ha : a < 2 ^ 31) (hb0 : b < 2 ^ 31) : CR l yX0_coarser cX0_coarser 2 (some .int) rmX0_coarser [.int (nI a), .int (nI b)] (fun _ => True) (fun r => r = nI (a / b)) := by
  refine CR.mk (own := RX0) (by decide) rfl (Nat.le_of_ble_eq_true rfl) ?_
  intro p e s m args below meth c Q ls S hB hl hret
  have hx := S.1
  have hb := S.2.1
  have hl : lv_has ls 2 [(0, .int (nI a)), (1, .int (nI b))] := hl
  refine lv_iload_n hx hb dX0_coarser_0 rfl (lv_at hl 1 rfl) ?_
  refine zz_if_le (tgt := 10) hx hb dX0_coarser_1 (by decide) (by omega) (fun c_1 => ?_) (fun c_1 => ?_)
  · refine lv_iconst (v := nI 0) hx hb dX0_coarser_10 (by decide +kernel) ?_
    exact hret _ _ _ (by subst c_1; rw [Nat.div_zero]) rfl dX0_coarser_11
  · refine lv_iload_n hx hb dX0_coarser_4 rfl (lv_at hl 0 rfl) ?_
    refine lv_iload_n hx hb dX0_coarser_5 rfl (lv_at hl 1 rfl) ?_
    refine zz_div hx hb dX0_coarser_6 (by first | omega | assumption) (by first | omega | assumption) (by first | omega | assumption) ?_
    refine lv_goto (tgt := 11) hx hb dX0_coarser_7 (by decide) ?_
    exact hret _ _ _ rfl rfl dX0_coarser_11
abbrev rmX0_byA : Room := { frames := 0, cells := 0, slots := 0, locals := 0 }
set_option maxHeartbeats 4000000 in
set_option maxRecDepth 100000 in
theorem metX0_byA (l : Launch) (v : Nat) (hv : v < 48) : CR l yX0_byA cX0_byA 2 (some .int) rmX0_byA [.int (nI v)] (fun _ => True) (fun r => r = nI (bA v)) := by
  refine CR.mk (own := RX0) (by decide) rfl (Nat.le_of_ble_eq_true rfl) ?_
  intro p e s m args below meth c Q ls S hB hl hret
  have hx := S.1
  have hb := S.2.1
  have hl : lv_has ls 2 [(0, .int (nI v))] := hl
  refine lv_iload_n hx hb dX0_byA_0 rfl (lv_at hl 0 rfl) ?_
  refine lv_iconst (v := nI 4) hx hb dX0_byA_1 (by decide +kernel) ?_
  refine zz_shr4 hx hb dX0_byA_2 (by omega) ?_
  refine lv_istore_n (lv' := [(1, .int (nI (v / 16))), (0, .int (nI v))]) hx hb dX0_byA_3 rfl hl (by decide) rfl (fun ls hl => ?_)
  refine lv_iload_n hx hb dX0_byA_4 rfl (lv_at hl 0 rfl) ?_
  refine lv_iconst (v := nI 2) hx hb dX0_byA_5 (by decide +kernel) ?_
  refine zz_ne (tgt := 13) hx hb dX0_byA_6 (by decide) (by omega) (by omega) (fun c_1 => ?_) (fun c_1 => ?_)
  · refine lv_iload_n hx hb dX0_byA_13 rfl (lv_at hl 0 rfl) ?_
    refine lv_iconst (v := nI 1) hx hb dX0_byA_14 (by decide +kernel) ?_
    refine zz_add hx hb dX0_byA_15 ?_
    exact hret _ _ _ (by unfold bA; first | rw [if_pos (by assumption)] | rw [if_neg (by assumption)]) rfl dX0_byA_16
  · refine lv_iconst (v := nI 0) hx hb dX0_byA_9 (by decide +kernel) ?_
    refine lv_goto (tgt := 16) hx hb dX0_byA_10 (by decide) ?_
    exact hret _ _ _ (by unfold bA; first | rw [if_pos (by assumption)] | rw [if_neg (by assumption)]) rfl dX0_byA_16
abbrev rmX0_byB : Room := { frames := 0, cells := 0, slots := 0, locals := 0 }
set_option maxHeartbeats 4000000 in
set_option maxRecDepth 100000 in
theorem metX0_byB (l : Launch) (v : Nat) (hv : v < 48) : CR l yX0_byB cX0_byB 2 (some .int) rmX0_byB [.int (nI v)] (fun _ => True) (fun r => r = nI (bB v)) := by
  refine CR.mk (own := RX0) (by decide) rfl (Nat.le_of_ble_eq_true rfl) ?_
  intro p e s m args below meth c Q ls S hB hl hret
  have hx := S.1
  have hb := S.2.1
  have hl : lv_has ls 2 [(0, .int (nI v))] := hl
  refine lv_iload_n hx hb dX0_byB_0 rfl (lv_at hl 0 rfl) ?_
  refine lv_iconst (v := nI 2) hx hb dX0_byB_1 (by decide +kernel) ?_
  refine zz_shr2 hx hb dX0_byB_2 (by omega) ?_
  refine lv_iconst (v := nI 3) hx hb dX0_byB_3 (by decide +kernel) ?_
  refine zz_and3 hx hb dX0_byB_4 (by omega) ?_
  refine lv_istore_n (lv' := [(1, .int (nI ((v / 4) % 4))), (0, .int (nI v))]) hx hb dX0_byB_5 rfl hl (by decide) rfl (fun ls hl => ?_)
  refine lv_iload_n hx hb dX0_byB_6 rfl (lv_at hl 0 rfl) ?_
  refine lv_iconst (v := nI 3) hx hb dX0_byB_7 (by decide +kernel) ?_
  refine zz_ne (tgt := 15) hx hb dX0_byB_8 (by decide) (by omega) (by omega) (fun c_1 => ?_) (fun c_1 => ?_)
  · refine lv_iload_n hx hb dX0_byB_15 rfl (lv_at hl 0 rfl) ?_
    refine lv_iconst (v := nI 1) hx hb dX0_byB_16 (by decide +kernel) ?_
    refine zz_add hx hb dX0_byB_17 ?_
    exact hret _ _ _ (by unfold bB; first | rw [if_pos (by assumption)] | rw [if_neg (by assumption)]) rfl dX0_byB_18
  · refine lv_iconst (v := nI 0) hx hb dX0_byB_11 (by decide +kernel) ?_
    refine lv_goto (tgt := 18) hx hb dX0_byB_12 (by decide) ?_
    exact hret _ _ _ (by unfold bB; first | rw [if_pos (by assumption)] | rw [if_neg (by assumption)]) rfl dX0_byB_18
abbrev rmX0_byC : Room := { frames := 0, cells := 0, slots := 0, locals := 0 }
set_option maxHeartbeats 4000000 in
set_option maxRecDepth 100000 in
theorem metX0_byC (l : Launch) (v : Nat) (hv : v < 48) : CR l yX0_byC cX0_byC 2 (some .int) rmX0_byC [.int (nI v)] (fun _ => True) (fun r => r = nI (bC v)) := by
  refine CR.mk (own := RX0) (by decide) rfl (Nat.le_of_ble_eq_true rfl) ?_
  intro p e s m args below meth c Q ls S hB hl hret
  have hx := S.1
  have hb := S.2.1
  have hl : lv_has ls 2 [(0, .int (nI v))] := hl
  refine lv_iload_n hx hb dX0_byC_0 rfl (lv_at hl 0 rfl) ?_
  refine lv_iconst (v := nI 3) hx hb dX0_byC_1 (by decide +kernel) ?_
  refine zz_and3 hx hb dX0_byC_2 (by omega) ?_
  refine lv_istore_n (lv' := [(1, .int (nI (v % 4))), (0, .int (nI v))]) hx hb dX0_byC_3 rfl hl (by decide) rfl (fun ls hl => ?_)
  refine lv_iload_n hx hb dX0_byC_4 rfl (lv_at hl 0 rfl) ?_
  refine lv_iconst (v := nI 3) hx hb dX0_byC_5 (by decide +kernel) ?_
  refine zz_ne (tgt := 13) hx hb dX0_byC_6 (by decide) (by omega) (by omega) (fun c_1 => ?_) (fun c_1 => ?_)
  · refine lv_iconst (v := nI 1) hx hb dX0_byC_13 (by decide +kernel) ?_
    refine lv_iload_n hx hb dX0_byC_14 rfl (lv_at hl 0 rfl) ?_
    refine zz_shl1 hx hb dX0_byC_15 (by omega) ?_
    exact hret _ _ _ (by unfold bC; first | rw [if_pos (by assumption)] | rw [if_neg (by assumption)]) rfl dX0_byC_16
  · refine lv_iconst (v := nI 0) hx hb dX0_byC_9 (by decide +kernel) ?_
    refine lv_goto (tgt := 16) hx hb dX0_byC_10 (by decide) ?_
    exact hret _ _ _ (by unfold bC; first | rw [if_pos (by assumption)] | rw [if_neg (by assumption)]) rfl dX0_byC_16
abbrev rmX0_seenAs : Room := { frames := 1, cells := 0, slots := 0, locals := 21 }
set_option maxHeartbeats 4000000 in
set_option maxRecDepth 100000 in
theorem metX0_seenAs (l : Launch) (v pp : Nat) (hv : v < 48) (hp : pp < 192) : CR l yX0_seenAs cX0_seenAs 5 (some .int) rmX0_seenAs [.int (nI v), .int (nI pp)] (fun _ => True) (fun r => r = nI (fal v pp)) := by
  refine CR.mk (own := RX0) (by decide) rfl (Nat.le_of_ble_eq_true rfl) ?_
  intro p e s m args below meth c Q ls S hB hl hret
  have hx := S.1
  have hb := S.2.1
  have hbA := bA_le hv
  have hbB := bB_le (v := v)
  have hbC := bC_le v
  have hl : lv_has ls 5 [(0, .int (nI v)), (1, .int (nI pp))] := hl
  refine lv_iload_n hx hb dX0_seenAs_0 rfl (lv_at hl 1 rfl) ?_
  refine lv_bipush (v := nI 48) hx hb dX0_seenAs_1 (by decide +kernel) ?_
  refine zz_div hx hb dX0_seenAs_3 (by omega) (by omega) (by omega) ?_
  refine lv_iload_n hx hb dX0_seenAs_4 rfl (lv_at hl 0 rfl) ?_
  refine zz_callS (As := [.int (nI v)]) (rest := [.int (nI (pp / 48))]) S (metX0_byA l v hv) gw_X0_80 hd_X0_byA rfl rfl ⟨Nat.le_of_ble_eq_true rfl, Nat.le_of_ble_eq_true rfl⟩ rfl hl.1 rfl (Nat.le_of_ble_eq_true rfl) dX0_seenAs_5 ⟨Nat.zero_le _, Nat.zero_le _⟩ (fun r_1 er_1 => ?_)
  subst er_1
  refine zz_callS (As := [.int (nI (pp / 48)), .int (nI (bA v))]) (rest := []) S (metX0_coarser l (pp / 48) (bA v) (by omega) (by omega)) gw_X0_83 hd_X0_coarser rfl rfl ⟨Nat.le_of_ble_eq_true rfl, Nat.le_of_ble_eq_true rfl⟩ rfl hl.1 rfl (Nat.le_of_ble_eq_true rfl) dX0_seenAs_8 ⟨Nat.zero_le _, Nat.zero_le _⟩ (fun r_2 er_2 => ?_)
  subst er_2
  refine lv_istore_n (lv' := [(2, .int (nI ((pp / 48) / (bA v)))), (0, .int (nI v)), (1, .int (nI pp))]) hx hb dX0_seenAs_11 rfl hl (by decide) rfl (fun ls hl => ?_)
  refine lv_iload_n hx hb dX0_seenAs_12 rfl (lv_at hl 2 rfl) ?_
  refine lv_bipush (v := nI 8) hx hb dX0_seenAs_13 (by decide +kernel) ?_
  refine zz_div hx hb dX0_seenAs_15 (by omega) (by omega) (by omega) ?_
  refine lv_bipush (v := nI 6) hx hb dX0_seenAs_16 (by decide +kernel) ?_
  refine zz_rem hx hb dX0_seenAs_18 (by omega) (by omega) (by omega) ?_
  refine lv_iload_n hx hb dX0_seenAs_19 rfl (lv_at hl 1 rfl) ?_
  refine zz_callS (As := [.int (nI v)]) (rest := [.int (nI ((pp / 8) % 6))]) S (metX0_byB l v hv) gw_X0_86 hd_X0_byB rfl rfl ⟨Nat.le_of_ble_eq_true rfl, Nat.le_of_ble_eq_true rfl⟩ rfl hl.1 rfl (Nat.le_of_ble_eq_true rfl) dX0_seenAs_20 ⟨Nat.zero_le _, Nat.zero_le _⟩ (fun r_3 er_3 => ?_)
  subst er_3
  refine zz_callS (As := [.int (nI ((pp / 8) % 6)), .int (nI (bB v))]) (rest := []) S (metX0_coarser l ((pp / 8) % 6) (bB v) (by omega) (by omega)) gw_X0_83 hd_X0_coarser rfl rfl ⟨Nat.le_of_ble_eq_true rfl, Nat.le_of_ble_eq_true rfl⟩ rfl hl.1 rfl (Nat.le_of_ble_eq_true rfl) dX0_seenAs_23 ⟨Nat.zero_le _, Nat.zero_le _⟩ (fun r_4 er_4 => ?_)
  subst er_4
  refine lv_istore_n (lv' := [(3, .int (nI (((pp / 8) % 6) / (bB v)))), (2, .int (nI ((pp / 48) / (bA v)))), (0, .int (nI v)), (1, .int (nI pp))]) hx hb dX0_seenAs_26 rfl hl (by decide) rfl (fun ls hl => ?_)
  refine lv_iload_n hx hb dX0_seenAs_27 rfl (lv_at hl 3 rfl) ?_
  refine lv_bipush (v := nI 8) hx hb dX0_seenAs_28 (by decide +kernel) ?_
  refine zz_rem hx hb dX0_seenAs_30 (by omega) (by omega) (by omega) ?_
  refine lv_iload_n hx hb dX0_seenAs_31 rfl (lv_at hl 2 rfl) ?_
  refine zz_callS (As := [.int (nI v)]) (rest := [.int (nI (pp % 8))]) S (metX0_byC l v hv) gw_X0_89 hd_X0_byC rfl rfl ⟨Nat.le_of_ble_eq_true rfl, Nat.le_of_ble_eq_true rfl⟩ rfl hl.1 rfl (Nat.le_of_ble_eq_true rfl) dX0_seenAs_32 ⟨Nat.zero_le _, Nat.zero_le _⟩ (fun r_5 er_5 => ?_)
  subst er_5
  refine zz_callS (As := [.int (nI (pp % 8)), .int (nI (bC v))]) (rest := []) S (metX0_coarser l (pp % 8) (bC v) (by omega) (by omega)) gw_X0_83 hd_X0_coarser rfl rfl ⟨Nat.le_of_ble_eq_true rfl, Nat.le_of_ble_eq_true rfl⟩ rfl hl.1 rfl (Nat.le_of_ble_eq_true rfl) dX0_seenAs_35 ⟨Nat.zero_le _, Nat.zero_le _⟩ (fun r_6 er_6 => ?_)
  subst er_6
  refine lv_istore (lv' := [(4, .int (nI ((pp % 8) / (bC v)))), (3, .int (nI (((pp / 8) % 6) / (bB v)))), (2, .int (nI ((pp / 48) / (bA v)))), (0, .int (nI v)), (1, .int (nI pp))]) hx hb dX0_seenAs_38 hl (by decide) rfl (fun ls hl => ?_)
  refine lv_bipush (v := nI 48) hx hb dX0_seenAs_40 (by decide +kernel) ?_
  refine lv_iload_n hx hb dX0_seenAs_42 rfl (lv_at hl 2 rfl) ?_
  refine zz_mul hx hb dX0_seenAs_43 ?_
  refine lv_bipush (v := nI 8) hx hb dX0_seenAs_44 (by decide +kernel) ?_
  refine lv_iload_n hx hb dX0_seenAs_46 rfl (lv_at hl 1 rfl) ?_
  refine zz_mul hx hb dX0_seenAs_47 ?_
  refine zz_add hx hb dX0_seenAs_48 ?_
  refine lv_iload hx hb dX0_seenAs_49 (lv_at hl 0 rfl) ?_
  refine zz_add hx hb dX0_seenAs_51 ?_
  exact hret _ _ _ rfl rfl dX0_seenAs_52
abbrev rmX0_isFiner : Room := { frames := 0, cells := 0, slots := 0, locals := 0 }
set_option maxHeartbeats 4000000 in
set_option maxRecDepth 100000 in
theorem metX0_isFiner (l : Launch) (f v : Nat) (hf : f < 48) (hv : v < 48) : CR l yX0_isFiner cX0_isFiner 5 (some .boolean) rmX0_isFiner [.int (nI f), .int (nI v)] (fun _ => True) (fun r => r = b1 (fin_ f v)) := by
  refine CR.mk (own := RX0) (by decide) rfl (Nat.le_of_ble_eq_true rfl) ?_
  intro p e s m args below meth c Q ls S hB hl hret
  have hx := S.1
  have hb := S.2.1
  have hl : lv_has ls 5 [(0, .int (nI f)), (1, .int (nI v))] := hl
  refine lv_iload_n hx hb dX0_isFiner_0 rfl (lv_at hl 0 rfl) ?_
  refine lv_iconst (v := nI 2) hx hb dX0_isFiner_1 (by decide +kernel) ?_
  refine zz_shr2 hx hb dX0_isFiner_2 (by omega) ?_
  refine lv_iconst (v := nI 3) hx hb dX0_isFiner_3 (by decide +kernel) ?_
  refine zz_and3 hx hb dX0_isFiner_4 (by omega) ?_
  refine lv_istore_n (lv' := [(2, .int (nI ((f / 4) % 4))), (0, .int (nI f)), (1, .int (nI v))]) hx hb dX0_isFiner_5 rfl hl (by decide) rfl (fun ls hl => ?_)
  refine lv_iload_n hx hb dX0_isFiner_6 rfl (lv_at hl 2 rfl) ?_
  refine lv_iconst (v := nI 2) hx hb dX0_isFiner_7 (by decide +kernel) ?_
  refine zz_shr2 hx hb dX0_isFiner_8 (by omega) ?_
  refine lv_iconst (v := nI 3) hx hb dX0_isFiner_9 (by decide +kernel) ?_
  refine zz_and3 hx hb dX0_isFiner_10 (by omega) ?_
  refine lv_istore_n (lv' := [(3, .int (nI ((v / 4) % 4))), (2, .int (nI ((f / 4) % 4))), (0, .int (nI f)), (1, .int (nI v))]) hx hb dX0_isFiner_11 rfl hl (by decide) rfl (fun ls hl => ?_)
  refine lv_iload_n hx hb dX0_isFiner_12 rfl (lv_at hl 1 rfl) ?_
  refine lv_iload_n hx hb dX0_isFiner_13 rfl (lv_at hl 0 rfl) ?_
  refine zz_cutI (pj := 32) (lj := ls) (rj := []) (fun z => z = b1 (f / 4 % 4 ≤ v / 4 % 4 ∧ ¬ (f / 4 % 4 = 1 ∧ v / 4 % 4 = 2))) (fun K => ?_) (fun z hz => ?_)
  · refine zz_gt (tgt := 31) hx hb dX0_isFiner_14 (by decide) (by omega) (by omega) (fun c_1 => ?_) (fun c_1 => ?_)
    · refine lv_iconst (v := nI 0) hx hb dX0_isFiner_31 (by decide +kernel) ?_
      exact K _ (by first | exact b1_T (by omega) | exact b1_F (by omega))
    · refine lv_iload_n hx hb dX0_isFiner_17 rfl (lv_at hl 1 rfl) ?_
      refine lv_iconst (v := nI 1) hx hb dX0_isFiner_18 (by decide +kernel) ?_
      refine zz_ne (tgt := 27) hx hb dX0_isFiner_19 (by decide) (by omega) (by omega) (fun c_2 => ?_) (fun c_2 => ?_)
      · refine lv_iconst (v := nI 1) hx hb dX0_isFiner_27 (by decide +kernel) ?_
        refine lv_goto (tgt := 32) hx hb dX0_isFiner_28 (by decide) ?_
        exact K _ (by first | exact b1_T (by omega) | exact b1_F (by omega))
      · refine lv_iload_n hx hb dX0_isFiner_22 rfl (lv_at hl 0 rfl) ?_
        refine lv_iconst (v := nI 2) hx hb dX0_isFiner_23 (by decide +kernel) ?_
        refine zz_eq (tgt := 31) hx hb dX0_isFiner_24 (by decide) (by omega) (by omega) (fun c_3 => ?_) (fun c_3 => ?_)
        · refine lv_iconst (v := nI 0) hx hb dX0_isFiner_31 (by decide +kernel) ?_
          exact K _ (by first | exact b1_T (by omega) | exact b1_F (by omega))
        · refine lv_iconst (v := nI 1) hx hb dX0_isFiner_27 (by decide +kernel) ?_
          refine lv_goto (tgt := 32) hx hb dX0_isFiner_28 (by decide) ?_
          exact K _ (by first | exact b1_T (by omega) | exact b1_F (by omega))
  · subst hz
    refine lv_istore (lv' := [(4, .int (b1 (f / 4 % 4 ≤ v / 4 % 4 ∧ ¬ (f / 4 % 4 = 1 ∧ v / 4 % 4 = 2)))), (3, .int (nI ((v / 4) % 4))), (2, .int (nI ((f / 4) % 4))), (0, .int (nI f)), (1, .int (nI v))]) hx hb dX0_isFiner_32 hl (by decide) rfl (fun ls hl => ?_)
    refine lv_iload_n hx hb dX0_isFiner_34 rfl (lv_at hl 3 rfl) ?_
    refine lv_iconst (v := nI 4) hx hb dX0_isFiner_35 (by decide +kernel) ?_
    refine zz_shr4 hx hb dX0_isFiner_36 (by omega) ?_
    refine lv_iload_n hx hb dX0_isFiner_37 rfl (lv_at hl 4 rfl) ?_
    refine lv_iconst (v := nI 4) hx hb dX0_isFiner_38 (by decide +kernel) ?_
    refine zz_shr4 hx hb dX0_isFiner_39 (by omega) ?_
    refine zz_gt (tgt := 61) hx hb dX0_isFiner_40 (by decide) (by omega) (by omega) (fun c_4 => ?_) (fun c_4 => ?_)
    · refine lv_iconst (v := nI 0) hx hb dX0_isFiner_61 (by decide +kernel) ?_
      exact hret _ _ _ (by first | exact b1_T (by omega) | exact b1_F (by omega)) rfl dX0_isFiner_62
    · refine lv_iload_n hx hb dX0_isFiner_43 rfl (lv_at hl 3 rfl) ?_
      refine lv_iconst (v := nI 3) hx hb dX0_isFiner_44 (by decide +kernel) ?_
      refine zz_and3 hx hb dX0_isFiner_45 (by omega) ?_
      refine lv_iload_n hx hb dX0_isFiner_46 rfl (lv_at hl 4 rfl) ?_
      refine lv_iconst (v := nI 3) hx hb dX0_isFiner_47 (by decide +kernel) ?_
      refine zz_and3 hx hb dX0_isFiner_48 (by omega) ?_
      refine zz_gt (tgt := 61) hx hb dX0_isFiner_49 (by decide) (by omega) (by omega) (fun c_5 => ?_) (fun c_5 => ?_)
      · refine lv_iconst (v := nI 0) hx hb dX0_isFiner_61 (by decide +kernel) ?_
        exact hret _ _ _ (by first | exact b1_T (by omega) | exact b1_F (by omega)) rfl dX0_isFiner_62
      · refine lv_iload hx hb dX0_isFiner_52 (lv_at hl 0 rfl) ?_
        refine zz_beq (tgt := 61) hx hb dX0_isFiner_54 (by decide) (fun c_6 => ?_) (fun c_6 => ?_)
        · refine lv_iconst (v := nI 0) hx hb dX0_isFiner_61 (by decide +kernel) ?_
          exact hret _ _ _ (by first | exact b1_T (by omega) | exact b1_F (by omega)) rfl dX0_isFiner_62
        · refine lv_iconst (v := nI 1) hx hb dX0_isFiner_57 (by decide +kernel) ?_
          refine lv_goto (tgt := 62) hx hb dX0_isFiner_58 (by decide) ?_
          exact hret _ _ _ (by first | exact b1_T (by omega) | exact b1_F (by omega)) rfl dX0_isFiner_62
abbrev rmX0_cellFrom : Room := { frames := 2, cells := 0, slots := 0, locals := 45 }
set_option maxHeartbeats 4000000 in
set_option maxRecDepth 100000 in
theorem metX0_cellFrom (l : Launch) (f v pp : Nat) (hf : f < 48) (hv : v < 48) (hp : pp < 192) : CR l yX0_cellFrom cX0_cellFrom 6 (some .int) rmX0_cellFrom [.int (nI f), .int (nI (fal f pp)), .int (nI v)] (fun _ => True) (fun r => r = nI (fal v (rep f (fal f pp)))) := by
  refine CR.mk (own := RX0) (by decide) rfl (Nat.le_of_ble_eq_true rfl) ?_
  intro p e s m args below meth c Q ls S hB hl hret
  have hx := S.1
  have hb := S.2.1
  have hfl := fal_lt (v := f) hp
  have hrl := rep_lt2 hf hp
  generalize hcell : fal f pp = cell at hfl hrl hl
  have hl : lv_has ls 6 [(0, .int (nI f)), (1, .int (nI cell)), (2, .int (nI v))] := hl
  refine lv_iload_n hx hb dX0_cellFrom_0 rfl (lv_at hl 0 rfl) ?_
  refine zz_callS (As := [.int (nI f)]) (rest := []) S (metX0_byA l f hf) gw_X0_80 hd_X0_byA rfl rfl ⟨Nat.le_of_ble_eq_true rfl, Nat.le_of_ble_eq_true rfl⟩ rfl hl.1 rfl (Nat.le_of_ble_eq_true rfl) dX0_cellFrom_1 ⟨Nat.zero_le _, Nat.zero_le _⟩ (fun r_1 er_1 => ?_)
  subst er_1
  refine lv_iload_n hx hb dX0_cellFrom_4 rfl (lv_at hl 1 rfl) ?_
  refine lv_bipush (v := nI 48) hx hb dX0_cellFrom_5 (by decide +kernel) ?_
  refine zz_div hx hb dX0_cellFrom_7 (by omega) (by omega) (by omega) ?_
  refine zz_mul hx hb dX0_cellFrom_8 ?_
  refine lv_istore_n (lv' := [(3, .int (nI ((bA f) * (cell / 48)))), (0, .int (nI f)), (1, .int (nI cell)), (2, .int (nI v))]) hx hb dX0_cellFrom_9 rfl hl (by decide) rfl (fun ls hl => ?_)
  refine lv_iload_n hx hb dX0_cellFrom_10 rfl (lv_at hl 1 rfl) ?_
  refine zz_callS (As := [.int (nI f)]) (rest := []) S (metX0_byB l f hf) gw_X0_86 hd_X0_byB rfl rfl ⟨Nat.le_of_ble_eq_true rfl, Nat.le_of_ble_eq_true rfl⟩ rfl hl.1 rfl (Nat.le_of_ble_eq_true rfl) dX0_cellFrom_11 ⟨Nat.zero_le _, Nat.zero_le _⟩ (fun r_2 er_2 => ?_)
  subst er_2
  refine lv_iload_n hx hb dX0_cellFrom_14 rfl (lv_at hl 2 rfl) ?_
  refine lv_bipush (v := nI 8) hx hb dX0_cellFrom_15 (by decide +kernel) ?_
  refine zz_div hx hb dX0_cellFrom_17 (by omega) (by omega) (by omega) ?_
  refine lv_bipush (v := nI 6) hx hb dX0_cellFrom_18 (by decide +kernel) ?_
  refine zz_rem hx hb dX0_cellFrom_20 (by omega) (by omega) (by omega) ?_
  refine zz_mul hx hb dX0_cellFrom_21 ?_
  refine lv_istore (lv' := [(4, .int (nI ((bB f) * ((cell / 8) % 6)))), (3, .int (nI ((bA f) * (cell / 48)))), (0, .int (nI f)), (1, .int (nI cell)), (2, .int (nI v))]) hx hb dX0_cellFrom_22 hl (by decide) rfl (fun ls hl => ?_)
  refine lv_iload_n hx hb dX0_cellFrom_24 rfl (lv_at hl 2 rfl) ?_
  refine zz_callS (As := [.int (nI f)]) (rest := []) S (metX0_byC l f hf) gw_X0_89 hd_X0_byC rfl rfl ⟨Nat.le_of_ble_eq_true rfl, Nat.le_of_ble_eq_true rfl⟩ rfl hl.1 rfl (Nat.le_of_ble_eq_true rfl) dX0_cellFrom_25 ⟨Nat.zero_le _, Nat.zero_le _⟩ (fun r_3 er_3 => ?_)
  subst er_3
  refine lv_iload_n hx hb dX0_cellFrom_28 rfl (lv_at hl 3 rfl) ?_
  refine lv_bipush (v := nI 8) hx hb dX0_cellFrom_29 (by decide +kernel) ?_
  refine zz_rem hx hb dX0_cellFrom_31 (by omega) (by omega) (by omega) ?_
  refine zz_mul hx hb dX0_cellFrom_32 ?_
  refine lv_istore (lv' := [(5, .int (nI ((bC f) * (cell % 8)))), (4, .int (nI ((bB f) * ((cell / 8) % 6)))), (3, .int (nI ((bA f) * (cell / 48)))), (0, .int (nI f)), (1, .int (nI cell)), (2, .int (nI v))]) hx hb dX0_cellFrom_33 hl (by decide) rfl (fun ls hl => ?_)
  refine lv_iload_n hx hb dX0_cellFrom_35 rfl (lv_at hl 5 rfl) ?_
  refine lv_bipush (v := nI 48) hx hb dX0_cellFrom_36 (by decide +kernel) ?_
  refine lv_iload_n hx hb dX0_cellFrom_38 rfl (lv_at hl 2 rfl) ?_
  refine zz_mul hx hb dX0_cellFrom_39 ?_
  refine lv_bipush (v := nI 8) hx hb dX0_cellFrom_40 (by decide +kernel) ?_
  refine lv_iload hx hb dX0_cellFrom_42 (lv_at hl 1 rfl) ?_
  refine zz_mul hx hb dX0_cellFrom_44 ?_
  refine zz_add hx hb dX0_cellFrom_45 ?_
  refine lv_iload hx hb dX0_cellFrom_46 (lv_at hl 0 rfl) ?_
  refine zz_add hx hb dX0_cellFrom_48 ?_
  refine zz_callS (As := [.int (nI v), .int (nI (((48 * ((bA f) * (cell / 48))) + (8 * ((bB f) * ((cell / 8) % 6)))) + ((bC f) * (cell % 8))))]) (rest := []) S (metX0_seenAs l v (rep f cell) hv hrl) gw_X0_69 hd_X0_seenAs rfl rfl ⟨Nat.le_of_ble_eq_true rfl, Nat.le_of_ble_eq_true rfl⟩ rfl hl.1 rfl (Nat.le_of_ble_eq_true rfl) dX0_cellFrom_49 ⟨Nat.zero_le _, Nat.zero_le _⟩ (fun r_4 er_4 => ?_)
  subst er_4
  exact hret _ _ _ (by rw [hcell]) rfl dX0_cellFrom_52
end
section
/-! PURE: aggregates (count, sum, least, most) of the facts whose place passes a test -/
abbrev AG : Type := Nat × Int32 × Int32 × Int32
def mn_ (a b : Int32) : Int32 := if b < a then b else a
def mx_ (a b : Int32) : Int32 := if a < b then b else a
def agz : AG := (0, nI 0, nI 10000, -10000)
def agp (x y : AG) : AG := (x.1 + y.1, x.2.1 + y.2.1, mn_ x.2.2.1 y.2.2.1, mx_ x.2.2.2 y.2.2.2)
def ag1 (v : Int32) : AG := (1, v, v, v)
def pN (x : Int32) : Nat := x.toNatClampNeg
theorem pN_nI {j : Nat} (h : j < 2 ^ 31) : pN (nI j) = j := nI_clamp h
def ag (P : Nat → Bool) (pl ms : Nat → Int32) : Nat → AG
  | 0 => agz
  | n + 1 => if P (pN (pl n)) = true then agp (ag P pl ms n) (ag1 (ms n)) else ag P pl ms n
theorem mn_i (a b : Int32) : (mn_ a b).toInt = if b.toInt < a.toInt then b.toInt else a.toInt := by
  unfold mn_
  by_cases h : b < a
  · rw [if_pos h, if_pos (Int32.lt_iff_toInt_lt.mp h)]
  · rw [if_neg h, if_neg (fun q => h (Int32.lt_iff_toInt_lt.mpr q))]
theorem mx_i (a b : Int32) : (mx_ a b).toInt = if a.toInt < b.toInt then b.toInt else a.toInt := by
  unfold mx_
  by_cases h : a < b
  · rw [if_pos h, if_pos (Int32.lt_iff_toInt_lt.mp h)]
  · rw [if_neg h, if_neg (fun q => h (Int32.lt_iff_toInt_lt.mpr q))]
theorem mn_r (a b d : Int32) : mn_ (mn_ a d) b = mn_ (mn_ a b) d := by
  apply Int32.toInt_inj.mp
  simp only [mn_i]
  repeat' split
  all_goals omega
theorem mn_a (a b d : Int32) : mn_ a (mn_ b d) = mn_ (mn_ a b) d := by
  apply Int32.toInt_inj.mp
  simp only [mn_i]
  repeat' split
  all_goals omega
theorem mx_r (a b d : Int32) : mx_ (mx_ a d) b = mx_ (mx_ a b) d := by
  apply Int32.toInt_inj.mp
  simp only [mx_i]
  repeat' split
  all_goals omega
theorem mx_a (a b d : Int32) : mx_ a (mx_ b d) = mx_ (mx_ a b) d := by
  apply Int32.toInt_inj.mp
  simp only [mx_i]
  repeat' split
  all_goals omega
theorem i32_r (a b d : Int32) : a + d + b = a + b + d := by
  rw [Int32.add_assoc, Int32.add_comm d b, ← Int32.add_assoc]
theorem agp_r (x y z : AG) : agp (agp x z) y = agp (agp x y) z := by
  unfold agp
  simp only [mn_r x.2.2.1 y.2.2.1 z.2.2.1, mx_r x.2.2.2 y.2.2.2 z.2.2.2, i32_r x.2.1 y.2.1 z.2.1]
  rw [Nat.add_right_comm]
theorem agp_a (x y z : AG) : agp x (agp y z) = agp (agp x y) z := by
  unfold agp
  simp only [mn_a, mx_a, Int32.add_assoc, Nat.add_assoc]
theorem agz_agz : agp agz agz = agz := by decide +kernel
theorem ag_or (P Q R : Nat → Bool) (pl ms : Nat → Int32) : ∀ n : Nat, (∀ i, i < n → R (pN (pl i)) = (P (pN (pl i)) || Q (pN (pl i)))) → (∀ i, i < n → ¬ (P (pN (pl i)) = true ∧ Q (pN (pl i)) = true)) → ag R pl ms n = agp (ag P pl ms n) (ag Q pl ms n)
  | 0, _, _ => agz_agz.symm
  | n + 1, h, g => by
    have ih := ag_or P Q R pl ms n (fun i hi => h i (by omega)) (fun i hi => g i (by omega))
    have h1 := h n (by omega)
    have g1 := g n (by omega)
    unfold ag
    rw [ih, h1]
    cases hp : P (pN (pl n)) <;> cases hq : Q (pN (pl n))
    · simp
    · simp [agp_a]
    · simp [agp_r]
    · exact absurd ⟨hp, hq⟩ g1
theorem ag_congr (P P' : Nat → Bool) (pl pl' ms ms' : Nat → Int32) : ∀ n : Nat, (∀ i, i < n → P (pN (pl i)) = P' (pN (pl' i)) ∧ ms i = ms' i) → ag P pl ms n = ag P' pl' ms' n
  | 0, _ => rfl
  | n + 1, h => by
    have ih := ag_congr P P' pl pl' ms ms' n (fun i hi => h i (by omega))
    unfold ag
    rw [ih, (h n (by omega)).1, (h n (by omega)).2]
theorem ag_le (P : Nat → Bool) (pl ms : Nat → Int32) : ∀ n : Nat, (ag P pl ms n).1 ≤ n
  | 0 => Nat.le_refl 0
  | n + 1 => by
    have ih := ag_le P pl ms n
    unfold ag
    split
    · show (ag P pl ms n).1 + 1 ≤ n + 1
      omega
    · omega
theorem ag_pos (P : Nat → Bool) (pl ms : Nat → Int32) : ∀ n : Nat, 0 < (ag P pl ms n).1 ↔ ∃ i, i < n ∧ P (pN (pl i)) = true
  | 0 => ⟨fun h => absurd h (by show ¬ 0 < 0; omega), fun ⟨i, h, _⟩ => absurd h (by omega)⟩
  | n + 1 => by
    have ih := ag_pos P pl ms n
    unfold ag
    by_cases hp : P (pN (pl n)) = true
    · rw [if_pos hp]
      exact ⟨fun _ => ⟨n, by omega, hp⟩, fun _ => by show 0 < (ag P pl ms n).1 + 1; omega⟩
    · rw [if_neg hp, ih]
      constructor
      · rintro ⟨i, h1, h2⟩
        exact ⟨i, by omega, h2⟩
      · rintro ⟨i, h1, h2⟩
        refine ⟨i, ?_, h2⟩
        rcases Nat.lt_or_ge i n with q | q
        · exact q
        · rw [show i = n by omega] at h2
          exact absurd h2 hp
/-- no fact passes the test: the aggregate is empty -/
theorem ag_none (P : Nat → Bool) (pl ms : Nat → Int32) : ∀ n : Nat, (∀ i, i < n → P (pN (pl i)) = false) → ag P pl ms n = agz
  | 0, _ => rfl
  | n + 1, h => by
    unfold ag
    rw [h n (by omega), if_neg (by decide)]
    exact ag_none P pl ms n (fun i hi => h i (by omega))
/-- the facts: at most 40, their places in range -/
def FW (pl : Nat → Int32) (n : Nat) : Prop := n ≤ 40 ∧ ∀ i, i < n → ∃ j, j < 192 ∧ pl i = nI j
/-- the aggregate of a cell of a view -/
def gv (pl ms : Nat → Int32) (n v ce : Nat) : AG := ag (fun p => fal v p == ce) pl ms n
theorem gv_0 {pl ms : Nat → Int32} {v ce : Nat} : gv pl ms 0 v ce = agz := rfl
theorem gv_t {pl ms : Nat → Int32} {v ce i j : Nat} (ej : pl i = nI j) (hj : j < 192) (h : fal v j = ce) : gv pl ms (i + 1) v ce = agp (gv pl ms i v ce) (ag1 (ms i)) := by
  show (if (fal v (pN (pl i)) == ce) = true then _ else _) = _
  rw [if_pos (by rw [ej, pN_nI (by omega), h]; exact beq_self_eq_true ce)]
  rfl
theorem gv_f {pl ms : Nat → Int32} {v ce i j : Nat} (ej : pl i = nI j) (hj : j < 192) (h : ¬ fal v j = ce) : gv pl ms (i + 1) v ce = gv pl ms i v ce := by
  show (if (fal v (pN (pl i)) == ce) = true then _ else _) = _
  rw [if_neg (by rw [ej, pN_nI (by omega)]; exact fun q => h (eq_of_beq q))]
  rfl
theorem gv_le (pl ms : Nat → Int32) (n v ce : Nat) : (gv pl ms n v ce).1 ≤ n := ag_le _ pl ms n
/-- how many cells below k hold a fact; the best of them; how many of them reach a bound -/
def ocG (G : Nat → AG) : Nat → Nat
  | 0 => 0
  | k + 1 => ocG G k + if 0 < (G k).1 then 1 else 0
def bst (G : Nat → AG) : Nat → Int32
  | 0 => -2
  | k + 1 => if 0 < (G k).1 ∧ (bst G k < 0 ∨ (G (pN (bst G k))).2.1 < (G k).2.1) then nI k else bst G k
def hvG (G : Nat → AG) (bd : Int32) : Nat → Nat
  | 0 => 0
  | k + 1 => hvG G bd k + if 0 < (G k).1 ∧ ¬ (G k).2.1 < bd then 1 else 0
def vwN (pl ms : Nat → Int32) (n : Nat) (x : Int32) : Nat → Nat
  | 0 => 0
  | v + 1 => vwN pl ms n x v + if nI (ocG (gv pl ms n v) 192) = x then 1 else 0
theorem ocG_le (G : Nat → AG) : ∀ k, ocG G k ≤ k
  | 0 => Nat.le_refl 0
  | k + 1 => by
    have := ocG_le G k
    unfold ocG
    split <;> omega
theorem hvG_le (G : Nat → AG) (bd : Int32) : ∀ k, hvG G bd k ≤ k
  | 0 => Nat.le_refl 0
  | k + 1 => by
    have := hvG_le G bd k
    unfold hvG
    split <;> omega
theorem vwN_le (pl ms : Nat → Int32) (n : Nat) (x : Int32) : ∀ k, vwN pl ms n x k ≤ k
  | 0 => Nat.le_refl 0
  | k + 1 => by
    have := vwN_le pl ms n x k
    unfold vwN
    split <;> omega
theorem bst_ok (G : Nat → AG) : ∀ k, bst G k = -2 ∨ ∃ f, f < k ∧ bst G k = nI f
  | 0 => Or.inl rfl
  | k + 1 => by
    unfold bst
    split
    · exact Or.inr ⟨k, by omega, rfl⟩
    · rcases bst_ok G k with h | ⟨f, h1, h2⟩
      · exact Or.inl h
      · exact Or.inr ⟨f, by omega, h2⟩
/-- no cell from x up to y holds a fact -/
theorem ocG_gap (G : Nat → AG) {x : Nat} : ∀ {y : Nat}, x ≤ y → (∀ z, x ≤ z → z < y → ¬ 0 < (G z).1) → ocG G y = ocG G x
  | 0, h, _ => by rw [Nat.le_zero.mp h]
  | y + 1, h, g => by
    rcases Nat.lt_or_ge x (y + 1) with q | q
    · have ih := ocG_gap G (x := x) (y := y) (by omega) (fun z h1 h2 => g z h1 (by omega))
      show ocG G y + _ = _
      rw [if_neg (g y (by omega) (by omega)), ih]
      rfl
    · rw [show x = y + 1 by omega]
theorem bst_gap (G : Nat → AG) {x : Nat} : ∀ {y : Nat}, x ≤ y → (∀ z, x ≤ z → z < y → ¬ 0 < (G z).1) → bst G y = bst G x
  | 0, h, _ => by rw [Nat.le_zero.mp h]
  | y + 1, h, g => by
    rcases Nat.lt_or_ge x (y + 1) with q | q
    · have ih := bst_gap G (x := x) (y := y) (by omega) (fun z h1 h2 => g z h1 (by omega))
      show (if _ then _ else bst G y) = _
      rw [if_neg (fun c9 => g y (by omega) (by omega) c9.1), ih]
    · rw [show x = y + 1 by omega]
theorem hvG_gap (G : Nat → AG) (bd : Int32) {x : Nat} : ∀ {y : Nat}, x ≤ y → (∀ z, x ≤ z → z < y → ¬ 0 < (G z).1) → hvG G bd y = hvG G bd x
  | 0, h, _ => by rw [Nat.le_zero.mp h]
  | y + 1, h, g => by
    rcases Nat.lt_or_ge x (y + 1) with q | q
    · have ih := hvG_gap G bd (x := x) (y := y) (by omega) (fun z h1 h2 => g z h1 (by omega))
      show hvG G bd y + _ = _
      rw [if_neg (fun c9 => g y (by omega) (by omega) c9.1), ih]
      rfl
    · rw [show x = y + 1 by omega]
/-- the next cell behind 'af' that holds a fact -/
def NX (G : Nat → AG) (af r : Int32) : Prop := (r = -2 ∧ ∀ x, x < 192 → 0 < (G x).1 → nI x ≤ af) ∨ ∃ y, y < 192 ∧ 0 < (G y).1 ∧ af < nI y ∧ r = nI y ∧ ∀ x, x < y → 0 < (G x).1 → nI x ≤ af
theorem i32_nle {a b : Int32} (h : ¬ a ≤ b) : b < a := Int32.not_le.mp h
theorem i32_nlt {a b : Int32} (h : ¬ a < b) : b ≤ a := Int32.not_lt.mp h
theorem nI_m1 (y : Nat) (h : y < 2 ^ 31) : (-1 : Int32) < nI y := by
  rw [Int32.lt_iff_toInt_lt, nI_toInt h]
  have : (-1 : Int32).toInt = -1 := by decide +kernel
  omega
theorem NX_uniq {G : Nat → AG} {af r r' : Int32} (h : NX G af r) (h' : NX G af r') : r = r' := by
  rcases h with ⟨e, h⟩ | ⟨y, h1, h2, h3, e, h4⟩ <;> rcases h' with ⟨e', h'⟩ | ⟨y', h1', h2', h3', e', h4'⟩
  · rw [e, e']
  · exact absurd h3' (Int32.not_lt.mpr (h y' h1' h2'))
  · exact absurd h3 (Int32.not_lt.mpr (h' y h1 h2))
  · rcases Nat.lt_trichotomy y y' with q | q | q
    · exact absurd h3 (Int32.not_lt.mpr (h4' y q h2))
    · rw [e, e', q]
    · exact absurd h3' (Int32.not_lt.mpr (h4 y' q h2'))
/-- the first one -/
theorem NX_first {G : Nat → AG} {r : Int32} (h : NX G (-1) r) : (r = -2 ∧ ∀ z, z < 192 → ¬ 0 < (G z).1) ∨ ∃ y, y < 192 ∧ 0 < (G y).1 ∧ r = nI y ∧ ∀ z, z < y → ¬ 0 < (G z).1 := by
  rcases h with ⟨e, h⟩ | ⟨y, h1, h2, h3, e, h4⟩
  · exact Or.inl ⟨e, fun z hz q => absurd (nI_m1 z (by omega)) (Int32.not_lt.mpr (h z hz q))⟩
  · exact Or.inr ⟨y, h1, h2, e, fun z hz q => absurd (nI_m1 z (by omega)) (Int32.not_lt.mpr (h4 z hz q))⟩
theorem NX_next {G : Nat → AG} {x : Nat} (hx : x < 192) {r : Int32} (h : NX G (nI x) r) : (r = -2 ∧ ∀ z, x < z → z < 192 → ¬ 0 < (G z).1) ∨ ∃ y, x < y ∧ y < 192 ∧ 0 < (G y).1 ∧ r = nI y ∧ ∀ z, x < z → z < y → ¬ 0 < (G z).1 := by
  rcases h with ⟨e, h⟩ | ⟨y, h1, h2, h3, e, h4⟩
  · refine Or.inl ⟨e, fun z hz hz2 q => ?_⟩
    have := (nI_leI (by omega) (by omega)).mp (h z hz2 q)
    omega
  · refine Or.inr ⟨y, (nI_ltI (by omega) (by omega)).mp h3, h1, h2, e, fun z hz hz2 q => ?_⟩
    have := (nI_leI (by omega) (by omega)).mp (h4 z hz2 q)
    omega
theorem m2_lt0 : (-2 : Int32) < 0 := by decide +kernel
/-- one more fact, in cell x -/
theorem NX_step {G G' : Nat → AG} {af r : Int32} {x : Nat} (hx : x < 192) (hG : ∀ z, 0 < (G' z).1 ↔ 0 < (G z).1 ∨ z = x) (h : NX G af r) : NX G' af (if af < nI x ∧ (r < 0 ∨ nI x < r) then nI x else r) := by
  rcases h with ⟨e, h⟩ | ⟨y, h1, h2, h3, e, h4⟩
  · by_cases q : af < nI x
    · rw [if_pos ⟨q, Or.inl (by rw [e]; exact m2_lt0)⟩]
      refine Or.inr ⟨x, hx, (hG x).mpr (Or.inr rfl), q, rfl, fun z hz hz2 => ?_⟩
      rcases (hG z).mp hz2 with g | g
      · exact h z (by omega) g
      · omega
    · rw [if_neg (fun c9 => q c9.1)]
      refine Or.inl ⟨e, fun z hz hz2 => ?_⟩
      rcases (hG z).mp hz2 with g | g
      · exact h z hz g
      · rw [g]; exact Int32.not_lt.mp q
  · by_cases q : af < nI x ∧ nI x < r
    · rw [if_pos ⟨q.1, Or.inr q.2⟩]
      have hxy : x < y := (nI_ltI (by omega) (by omega)).mp (by rw [← e]; exact q.2)
      refine Or.inr ⟨x, hx, (hG x).mpr (Or.inr rfl), q.1, rfl, fun z hz hz2 => ?_⟩
      rcases (hG z).mp hz2 with g | g
      · exact h4 z (by omega) g
      · omega
    · rw [if_neg (fun c9 => q ⟨c9.1, c9.2.resolve_left (fun w => by rw [e] at w; exact nI_pos (by omega) w)⟩)]
      refine Or.inr ⟨y, h1, (hG y).mpr (Or.inl h2), h3, e, fun z hz hz2 => ?_⟩
      rcases (hG z).mp hz2 with g | g
      · exact h4 z hz g
      · rw [g]
        by_cases w : af < nI x
        · exact absurd ⟨w, by rw [e, ← g]; exact nI_lt hz (by omega)⟩ q
        · exact Int32.not_lt.mp w
theorem gv_occ {pl ms : Nat → Int32} {v i j : Nat} (ej : pl i = nI j) (hj : j < 192) (z : Nat) : 0 < (gv pl ms (i + 1) v z).1 ↔ 0 < (gv pl ms i v z).1 ∨ z = fal v j := by
  by_cases h : fal v j = z
  · rw [gv_t ej hj h]
    exact ⟨fun _ => Or.inr h.symm, fun _ => by show 0 < (gv pl ms i v z).1 + 1; omega⟩
  · rw [gv_f ej hj h]
    exact ⟨Or.inl, fun q => q.resolve_right (fun w => h w.symm)⟩
theorem NX_0 {pl ms : Nat → Int32} {v : Nat} {af : Int32} : NX (gv pl ms 0 v) af (-2) := Or.inl ⟨rfl, fun x _ h => absurd h (by show ¬ 0 < 0; omega)⟩
/-! what the two answer -/
def sCount (pl ms : Nat → Int32) (n : Nat) (a b : Int32) : Int32 := if okV a then (if okC b then nI (gv pl ms n (pN a) (pN b)).1 else -2) else -1
def sSum (pl ms : Nat → Int32) (n : Nat) (a b : Int32) : Int32 := if okV a ∧ okC b then (gv pl ms n (pN a) (pN b)).2.1 else nI 0
def sLeast (pl ms : Nat → Int32) (n : Nat) (a b : Int32) : Int32 := if okV a ∧ okC b then (gv pl ms n (pN a) (pN b)).2.2.1 else nI 10000
def sMost (pl ms : Nat → Int32) (n : Nat) (a b : Int32) : Int32 := if okV a ∧ okC b then (gv pl ms n (pN a) (pN b)).2.2.2 else -10000
def sFull (pl ms : Nat → Int32) (n : Nat) (a : Int32) : Int32 := if okV a then nI (ocG (gv pl ms n (pN a)) 192) else -1
def sBest (pl ms : Nat → Int32) (n : Nat) (a : Int32) : Int32 := if okV a then bst (gv pl ms n (pN a)) 192 else -1
def sHaving (pl ms : Nat → Int32) (n : Nat) (a b : Int32) : Int32 := if okV a then nI (hvG (gv pl ms n (pN a)) b 192) else -1
def sCellOf (pl : Nat → Int32) (n : Nat) (a b : Int32) : Int32 := if okV a then (if okF n b then nI (fal (pN a) (pN (pl (pN b)))) else -2) else -1
def sFiner (a b : Int32) : Int32 := if okV a ∧ okV b then b1 (fin_ (pN a) (pN b)) else -1
def sViews (pl ms : Nat → Int32) (n : Nat) (x : Int32) : Int32 := if ¬ x < 0 ∧ ¬ nI 192 < x then nI (vwN pl ms n x 48) else -1
def sNext (pl ms : Nat → Int32) (n : Nat) (a af r : Int32) : Prop := if okV a then NX (gv pl ms n (pN a)) af r else r = -1
theorem okV_nI {v : Nat} (h : v < 48) : okV (nI v) := ⟨nI_pos (by omega), nI_ge h (by omega)⟩
theorem okC_nI {v : Nat} (h : v < 192) : okC (nI v) := ⟨nI_pos (by omega), nI_ge h (by omega)⟩
theorem okF_nI {n v : Nat} (h : v < n) (hn : n < 2 ^ 31) : okF n (nI v) := ⟨nI_pos (by omega), nI_ge h hn⟩
theorem sCount_N {pl ms : Nat → Int32} {n v ce : Nat} (hv : v < 48) (hc : ce < 192) : sCount pl ms n (nI v) (nI ce) = nI (gv pl ms n v ce).1 := by
  unfold sCount; rw [if_pos (okV_nI hv), if_pos (okC_nI hc), pN_nI (by omega), pN_nI (by omega)]
theorem sSum_N {pl ms : Nat → Int32} {n v ce : Nat} (hv : v < 48) (hc : ce < 192) : sSum pl ms n (nI v) (nI ce) = (gv pl ms n v ce).2.1 := by
  unfold sSum; rw [if_pos ⟨okV_nI hv, okC_nI hc⟩, pN_nI (by omega), pN_nI (by omega)]
theorem sLeast_N {pl ms : Nat → Int32} {n v ce : Nat} (hv : v < 48) (hc : ce < 192) : sLeast pl ms n (nI v) (nI ce) = (gv pl ms n v ce).2.2.1 := by
  unfold sLeast; rw [if_pos ⟨okV_nI hv, okC_nI hc⟩, pN_nI (by omega), pN_nI (by omega)]
theorem sMost_N {pl ms : Nat → Int32} {n v ce : Nat} (hv : v < 48) (hc : ce < 192) : sMost pl ms n (nI v) (nI ce) = (gv pl ms n v ce).2.2.2 := by
  unfold sMost; rw [if_pos ⟨okV_nI hv, okC_nI hc⟩, pN_nI (by omega), pN_nI (by omega)]
theorem sFull_N {pl ms : Nat → Int32} {n v : Nat} (hv : v < 48) : sFull pl ms n (nI v) = nI (ocG (gv pl ms n v) 192) := by
  unfold sFull; rw [if_pos (okV_nI hv), pN_nI (by omega)]
theorem sBest_N {pl ms : Nat → Int32} {n v : Nat} (hv : v < 48) : sBest pl ms n (nI v) = bst (gv pl ms n v) 192 := by
  unfold sBest; rw [if_pos (okV_nI hv), pN_nI (by omega)]
theorem sHaving_N {pl ms : Nat → Int32} {n v : Nat} {b : Int32} (hv : v < 48) : sHaving pl ms n (nI v) b = nI (hvG (gv pl ms n v) b 192) := by
  unfold sHaving; rw [if_pos (okV_nI hv), pN_nI (by omega)]
theorem sCellOf_N {pl : Nat → Int32} {n v f j : Nat} (hv : v < 48) (hf : f < n) (hn : n < 2 ^ 31) (ej : pl f = nI j) (hj : j < 192) : sCellOf pl n (nI v) (nI f) = nI (fal v j) := by
  unfold sCellOf; rw [if_pos (okV_nI hv), if_pos (okF_nI hf hn), pN_nI (by omega), pN_nI (by omega), ej, pN_nI (by omega)]
theorem sFiner_N {f v : Nat} (hf : f < 48) (hv : v < 48) : sFiner (nI f) (nI v) = b1 (fin_ f v) := by
  unfold sFiner; rw [if_pos ⟨okV_nI hf, okV_nI hv⟩, pN_nI (by omega), pN_nI (by omega)]
theorem sNext_N {pl ms : Nat → Int32} {n v : Nat} {af r : Int32} (hv : v < 48) : sNext pl ms n (nI v) af r ↔ NX (gv pl ms n v) af r := by
  unfold sNext; rw [if_pos (okV_nI hv), pN_nI (by omega)]
theorem le_pred {x : Int32} {n : Nat} (hn : n + 1 < 2 ^ 31) : x ≤ nI n ↔ ¬ nI (n + 1) ≤ x := by
  rw [Int32.le_iff_toInt_le, Int32.le_iff_toInt_le, nI_toInt (by omega), nI_toInt hn]
  omega
end
section
/-! OlapCubesModel: the methods that only read -/
theorem bA_0 {v : Nat} (h : v / 16 = 0) : bA v = 1 := by unfold bA; rw [if_neg (by omega), h]
theorem bA_1 {v : Nat} (h : v / 16 = 1) : bA v = 2 := by unfold bA; rw [if_neg (by omega), h]
theorem bA_2 {v : Nat} (h : v / 16 = 2) : bA v = 0 := by unfold bA; rw [if_pos h]
theorem bB_0 {v : Nat} (h : v / 4 % 4 = 0) : bB v = 1 := by unfold bB; rw [if_neg (by omega), h]
theorem bB_1 {v : Nat} (h : v / 4 % 4 = 1) : bB v = 2 := by unfold bB; rw [if_neg (by omega), h]
theorem bB_2 {v : Nat} (h : v / 4 % 4 = 2) : bB v = 3 := by unfold bB; rw [if_neg (by omega), h]
theorem bB_3 {v : Nat} (h : v / 4 % 4 = 3) : bB v = 0 := by unfold bB; rw [if_pos h]
theorem bC_0 {v : Nat} (h : v % 4 = 0) : bC v = 1 := by unfold bC; rw [if_neg (by omega), h]
theorem bC_1 {v : Nat} (h : v % 4 = 1) : bC v = 2 := by unfold bC; rw [if_neg (by omega), h]
theorem bC_2 {v : Nat} (h : v % 4 = 2) : bC v = 4 := by unfold bC; rw [if_neg (by omega), h]
theorem bC_3 {v : Nat} (h : v % 4 = 3) : bC v = 0 := by unfold bC; rw [if_pos h]
abbrev rmX1_badView : Room := { frames := 0, cells := 0, slots := 0, locals := 0 }
set_option maxHeartbeats 4000000 in
set_option maxRecDepth 100000 in
theorem metX1_badView (l : Launch) (D : va_G) (dA : ClassId) (h : Nat) (q : Nat → Nat) (pl ms : Nat → Int32) (n : Nat) (x : Int32) : CR l yX1_badView cX1_badView 2 (some .boolean) rmX1_badView [.ref h, .int x] (GP D dA (MW h q dA pl ms (nI n))) (fun r => r = b1 (¬ (okV x))) := by
  refine CR.mk (own := RX1) (by decide) rfl (Nat.le_of_ble_eq_true rfl) ?_
  intro p e s m args below meth c Q ls S hB hl hret
  obtain ⟨hP, hK⟩ := hB
  have hx := S.1
  have hb := S.2.1
  have hl : lv_has ls 2 [(0, .ref h), (1, .int x)] := hl
  have hk := le_pred (x := x) (n := 47) (by omega)
  refine lv_iload_n hx hb dX1_badView_0 rfl (lv_at hl 1 rfl) ?_
  refine lv_if_lt (tgt := 10) hx hb dX1_badView_1 (by decide) (fun c_1 => ?_) (fun c_1 => ?_)
  · refine lv_iconst (v := nI 1) hx hb dX1_badView_10 (by decide +kernel) ?_
    refine lv_goto (tgt := 15) hx hb dX1_badView_11 (by decide) ?_
    exact hret _ _ _ (b1_T (fun h9 => h9.1 c_1)) rfl dX1_badView_15
  · refine lv_iload_n hx hb dX1_badView_4 rfl (lv_at hl 1 rfl) ?_
    refine lv_bipush (v := nI 47) hx hb dX1_badView_5 (by decide +kernel) ?_
    refine lv_icmp_le (tgt := 14) hx hb dX1_badView_7 (by decide) (fun c_2 => ?_) (fun c_2 => ?_)
    · refine lv_iconst (v := nI 0) hx hb dX1_badView_14 (by decide +kernel) ?_
      exact hret _ _ _ (b1_F (fun h9 => h9 ⟨c_1, hk.mp c_2⟩)) rfl dX1_badView_15
    · refine lv_iconst (v := nI 1) hx hb dX1_badView_10 (by decide +kernel) ?_
      refine lv_goto (tgt := 15) hx hb dX1_badView_11 (by decide) ?_
      exact hret _ _ _ (b1_T (fun h9 => c_2 (hk.mpr h9.2))) rfl dX1_badView_15
abbrev rmX1_badCell : Room := { frames := 0, cells := 0, slots := 0, locals := 0 }
set_option maxHeartbeats 4000000 in
set_option maxRecDepth 100000 in
theorem metX1_badCell (l : Launch) (D : va_G) (dA : ClassId) (h : Nat) (q : Nat → Nat) (pl ms : Nat → Int32) (n : Nat) (x : Int32) : CR l yX1_badCell cX1_badCell 2 (some .boolean) rmX1_badCell [.ref h, .int x] (GP D dA (MW h q dA pl ms (nI n))) (fun r => r = b1 (¬ (okC x))) := by
  refine CR.mk (own := RX1) (by decide) rfl (Nat.le_of_ble_eq_true rfl) ?_
  intro p e s m args below meth c Q ls S hB hl hret
  obtain ⟨hP, hK⟩ := hB
  have hx := S.1
  have hb := S.2.1
  have hl : lv_has ls 2 [(0, .ref h), (1, .int x)] := hl
  have hk := le_pred (x := x) (n := 191) (by omega)
  refine lv_iload_n hx hb dX1_badCell_0 rfl (lv_at hl 1 rfl) ?_
  refine lv_if_lt (tgt := 11) hx hb dX1_badCell_1 (by decide) (fun c_1 => ?_) (fun c_1 => ?_)
  · refine lv_iconst (v := nI 1) hx hb dX1_badCell_11 (by decide +kernel) ?_
    refine lv_goto (tgt := 16) hx hb dX1_badCell_12 (by decide) ?_
    exact hret _ _ _ (b1_T (fun h9 => h9.1 c_1)) rfl dX1_badCell_16
  · refine lv_iload_n hx hb dX1_badCell_4 rfl (lv_at hl 1 rfl) ?_
    refine lv_sipush (v := nI 191) hx hb dX1_badCell_5 (by decide +kernel) ?_
    refine lv_icmp_le (tgt := 15) hx hb dX1_badCell_8 (by decide) (fun c_2 => ?_) (fun c_2 => ?_)
    · refine lv_iconst (v := nI 0) hx hb dX1_badCell_15 (by decide +kernel) ?_
      exact hret _ _ _ (b1_F (fun h9 => h9 ⟨c_1, hk.mp c_2⟩)) rfl dX1_badCell_16
    · refine lv_iconst (v := nI 1) hx hb dX1_badCell_11 (by decide +kernel) ?_
      refine lv_goto (tgt := 16) hx hb dX1_badCell_12 (by decide) ?_
      exact hret _ _ _ (b1_T (fun h9 => c_2 (hk.mpr h9.2))) rfl dX1_badCell_16
abbrev rmX1_badFact : Room := { frames := 0, cells := 0, slots := 0, locals := 0 }
set_option maxHeartbeats 4000000 in
set_option maxRecDepth 100000 in
theorem metX1_badFact (l : Launch) (D : va_G) (dA : ClassId) (h : Nat) (q : Nat → Nat) (pl ms : Nat → Int32) (n : Nat) (x : Int32) : CR l yX1_badFact cX1_badFact 2 (some .boolean) rmX1_badFact [.ref h, .int x] (GP D dA (MW h q dA pl ms (nI n))) (fun r => r = b1 (¬ okF n x)) := by
  refine CR.mk (own := RX1) (by decide) rfl (Nat.le_of_ble_eq_true rfl) ?_
  intro p e s m args below meth c Q ls S hB hl hret
  obtain ⟨hP, hK⟩ := hB
  have hx := S.1
  have hb := S.2.1
  have hl : lv_has ls 2 [(0, .ref h), (1, .int x)] := hl
  refine lv_iload_n hx hb dX1_badFact_0 rfl (lv_at hl 1 rfl) ?_
  refine lv_if_lt (tgt := 12) hx hb dX1_badFact_1 (by decide) (fun c_1 => ?_) (fun c_1 => ?_)
  · refine lv_iconst (v := nI 1) hx hb dX1_badFact_12 (by decide +kernel) ?_
    refine lv_goto (tgt := 17) hx hb dX1_badFact_13 (by decide) ?_
    exact hret _ _ _ (b1_T (fun h9 => h9.1 c_1)) rfl dX1_badFact_17
  · refine lv_iload_n hx hb dX1_badFact_4 rfl (lv_at hl 1 rfl) ?_
    refine lv_aload_n hx hb dX1_badFact_5 rfl (lv_at hl 0 rfl) ?_
    refine mg2 S hK hP dX1_badFact_6 ?_
    refine lv_icmp_lt (tgt := 16) hx hb dX1_badFact_9 (by decide) (fun c_2 => ?_) (fun c_2 => ?_)
    · refine lv_iconst (v := nI 0) hx hb dX1_badFact_16 (by decide +kernel) ?_
      exact hret _ _ _ (b1_F (fun h9 => h9 ⟨c_1, Int32.not_le.mpr c_2⟩)) rfl dX1_badFact_17
    · refine lv_iconst (v := nI 1) hx hb dX1_badFact_12 (by decide +kernel) ?_
      refine lv_goto (tgt := 17) hx hb dX1_badFact_13 (by decide) ?_
      exact hret _ _ _ (b1_T (fun h9 => h9.2 (Int32.not_lt.mp c_2))) rfl dX1_badFact_17
abbrev rmX1_seenA : Room := { frames := 0, cells := 0, slots := 0, locals := 0 }
set_option maxHeartbeats 4000000 in
set_option maxRecDepth 100000 in
theorem metX1_seenA (l : Launch) (D : va_G) (dA : ClassId) (h : Nat) (q : Nat → Nat) (pl ms : Nat → Int32) (n : Nat) (v a : Nat) (hv : v < 48) (ha : a < 2 ^ 31) : CR l yX1_seenA cX1_seenA 3 (some .int) rmX1_seenA [.ref h, .int (nI (v / 16)), .int (nI a)] (GP D dA (MW h q dA pl ms (nI n))) (fun r => r = nI (a / bA v)) := by
  refine CR.mk (own := RX1) (by decide) rfl (Nat.le_of_ble_eq_true rfl) ?_
  intro p e s m args below meth c Q ls S hB hl hret
  obtain ⟨hP, hK⟩ := hB
  have hx := S.1
  have hb := S.2.1
  have hl : lv_has ls 3 [(0, .ref h), (1, .int (nI (v / 16))), (2, .int (nI a))] := hl
  refine lv_iload_n hx hb dX1_seenA_0 rfl (lv_at hl 1 rfl) ?_
  refine zz_if_ne (tgt := 8) hx hb dX1_seenA_1 (by decide) (by omega) (fun c_1 => ?_) (fun c_1 => ?_)
  · refine lv_iload_n hx hb dX1_seenA_8 rfl (lv_at hl 1 rfl) ?_
    refine lv_iconst (v := nI 1) hx hb dX1_seenA_9 (by decide +kernel) ?_
    refine zz_ne (tgt := 19) hx hb dX1_seenA_10 (by decide) (by omega) (by omega) (fun c_2 => ?_) (fun c_2 => ?_)
    · refine lv_iconst (v := nI 0) hx hb dX1_seenA_19 (by decide +kernel) ?_
      exact hret _ _ _ (by rw [bA_2 (by omega), Nat.div_zero]) rfl dX1_seenA_20
    · refine lv_iload_n hx hb dX1_seenA_13 rfl (lv_at hl 2 rfl) ?_
      refine lv_iconst (v := nI 2) hx hb dX1_seenA_14 (by decide +kernel) ?_
      refine zz_div hx hb dX1_seenA_15 (by omega) (by omega) (by omega) ?_
      refine lv_goto (tgt := 20) hx hb dX1_seenA_16 (by decide) ?_
      exact hret _ _ _ (by rw [bA_1 (by omega)]) rfl dX1_seenA_20
  · refine lv_iload_n hx hb dX1_seenA_4 rfl (lv_at hl 2 rfl) ?_
    refine lv_goto (tgt := 20) hx hb dX1_seenA_5 (by decide) ?_
    exact hret _ _ _ (by rw [bA_0 (by omega), Nat.div_one]) rfl dX1_seenA_20
abbrev rmX1_seenB : Room := { frames := 0, cells := 0, slots := 0, locals := 0 }
set_option maxHeartbeats 4000000 in
set_option maxRecDepth 100000 in
theorem metX1_seenB (l : Launch) (D : va_G) (dA : ClassId) (h : Nat) (q : Nat → Nat) (pl ms : Nat → Int32) (n : Nat) (v a : Nat) (hv : v < 48) (ha : a < 2 ^ 31) : CR l yX1_seenB cX1_seenB 3 (some .int) rmX1_seenB [.ref h, .int (nI (v / 4 % 4)), .int (nI a)] (GP D dA (MW h q dA pl ms (nI n))) (fun r => r = nI (a / bB v)) := by
  refine CR.mk (own := RX1) (by decide) rfl (Nat.le_of_ble_eq_true rfl) ?_
  intro p e s m args below meth c Q ls S hB hl hret
  obtain ⟨hP, hK⟩ := hB
  have hx := S.1
  have hb := S.2.1
  have hl : lv_has ls 3 [(0, .ref h), (1, .int (nI (v / 4 % 4))), (2, .int (nI a))] := hl
  refine lv_iload_n hx hb dX1_seenB_0 rfl (lv_at hl 1 rfl) ?_
  refine zz_if_ne (tgt := 8) hx hb dX1_seenB_1 (by decide) (by omega) (fun c_1 => ?_) (fun c_1 => ?_)
  · refine lv_iload_n hx hb dX1_seenB_8 rfl (lv_at hl 1 rfl) ?_
    refine lv_iconst (v := nI 1) hx hb dX1_seenB_9 (by decide +kernel) ?_
    refine zz_ne (tgt := 19) hx hb dX1_seenB_10 (by decide) (by omega) (by omega) (fun c_2 => ?_) (fun c_2 => ?_)
    · refine lv_iload_n hx hb dX1_seenB_19 rfl (lv_at hl 1 rfl) ?_
      refine lv_iconst (v := nI 2) hx hb dX1_seenB_20 (by decide +kernel) ?_
      refine zz_ne (tgt := 30) hx hb dX1_seenB_21 (by decide) (by omega) (by omega) (fun c_3 => ?_) (fun c_3 => ?_)
      · refine lv_iconst (v := nI 0) hx hb dX1_seenB_30 (by decide +kernel) ?_
        exact hret _ _ _ (by rw [bB_3 (by omega), Nat.div_zero]) rfl dX1_seenB_31
      · refine lv_iload_n hx hb dX1_seenB_24 rfl (lv_at hl 2 rfl) ?_
        refine lv_iconst (v := nI 3) hx hb dX1_seenB_25 (by decide +kernel) ?_
        refine zz_div hx hb dX1_seenB_26 (by omega) (by omega) (by omega) ?_
        refine lv_goto (tgt := 31) hx hb dX1_seenB_27 (by decide) ?_
        exact hret _ _ _ (by rw [bB_2 (by omega)]) rfl dX1_seenB_31
    · refine lv_iload_n hx hb dX1_seenB_13 rfl (lv_at hl 2 rfl) ?_
      refine lv_iconst (v := nI 2) hx hb dX1_seenB_14 (by decide +kernel) ?_
      refine zz_div hx hb dX1_seenB_15 (by omega) (by omega) (by omega) ?_
      refine lv_goto (tgt := 31) hx hb dX1_seenB_16 (by decide) ?_
      exact hret _ _ _ (by rw [bB_1 (by omega)]) rfl dX1_seenB_31
  · refine lv_iload_n hx hb dX1_seenB_4 rfl (lv_at hl 2 rfl) ?_
    refine lv_goto (tgt := 31) hx hb dX1_seenB_5 (by decide) ?_
    exact hret _ _ _ (by rw [bB_0 (by omega), Nat.div_one]) rfl dX1_seenB_31
abbrev rmX1_seenC : Room := { frames := 0, cells := 0, slots := 0, locals := 0 }
set_option maxHeartbeats 4000000 in
set_option maxRecDepth 100000 in
theorem metX1_seenC (l : Launch) (D : va_G) (dA : ClassId) (h : Nat) (q : Nat → Nat) (pl ms : Nat → Int32) (n : Nat) (v a : Nat) (hv : v < 48) (ha : a < 2 ^ 31) : CR l yX1_seenC cX1_seenC 3 (some .int) rmX1_seenC [.ref h, .int (nI (v % 4)), .int (nI a)] (GP D dA (MW h q dA pl ms (nI n))) (fun r => r = nI (a / bC v)) := by
  refine CR.mk (own := RX1) (by decide) rfl (Nat.le_of_ble_eq_true rfl) ?_
  intro p e s m args below meth c Q ls S hB hl hret
  obtain ⟨hP, hK⟩ := hB
  have hx := S.1
  have hb := S.2.1
  have hl : lv_has ls 3 [(0, .ref h), (1, .int (nI (v % 4))), (2, .int (nI a))] := hl
  refine lv_iload_n hx hb dX1_seenC_0 rfl (lv_at hl 1 rfl) ?_
  refine zz_if_ne (tgt := 8) hx hb dX1_seenC_1 (by decide) (by omega) (fun c_1 => ?_) (fun c_1 => ?_)
  · refine lv_iload_n hx hb dX1_seenC_8 rfl (lv_at hl 1 rfl) ?_
    refine lv_iconst (v := nI 1) hx hb dX1_seenC_9 (by decide +kernel) ?_
    refine zz_ne (tgt := 19) hx hb dX1_seenC_10 (by decide) (by omega) (by omega) (fun c_2 => ?_) (fun c_2 => ?_)
    · refine lv_iload_n hx hb dX1_seenC_19 rfl (lv_at hl 1 rfl) ?_
      refine lv_iconst (v := nI 2) hx hb dX1_seenC_20 (by decide +kernel) ?_
      refine zz_ne (tgt := 30) hx hb dX1_seenC_21 (by decide) (by omega) (by omega) (fun c_3 => ?_) (fun c_3 => ?_)
      · refine lv_iconst (v := nI 0) hx hb dX1_seenC_30 (by decide +kernel) ?_
        exact hret _ _ _ (by rw [bC_3 (by omega), Nat.div_zero]) rfl dX1_seenC_31
      · refine lv_iload_n hx hb dX1_seenC_24 rfl (lv_at hl 2 rfl) ?_
        refine lv_iconst (v := nI 4) hx hb dX1_seenC_25 (by decide +kernel) ?_
        refine zz_div hx hb dX1_seenC_26 (by omega) (by omega) (by omega) ?_
        refine lv_goto (tgt := 31) hx hb dX1_seenC_27 (by decide) ?_
        exact hret _ _ _ (by rw [bC_2 (by omega)]) rfl dX1_seenC_31
    · refine lv_iload_n hx hb dX1_seenC_13 rfl (lv_at hl 2 rfl) ?_
      refine lv_iconst (v := nI 2) hx hb dX1_seenC_14 (by decide +kernel) ?_
      refine zz_div hx hb dX1_seenC_15 (by omega) (by omega) (by omega) ?_
      refine lv_goto (tgt := 31) hx hb dX1_seenC_16 (by decide) ?_
      exact hret _ _ _ (by rw [bC_1 (by omega)]) rfl dX1_seenC_31
  · refine lv_iload_n hx hb dX1_seenC_4 rfl (lv_at hl 2 rfl) ?_
    refine lv_goto (tgt := 31) hx hb dX1_seenC_5 (by decide) ?_
    exact hret _ _ _ (by rw [bC_0 (by omega), Nat.div_one]) rfl dX1_seenC_31
abbrev rmX1_fall : Room := { frames := 1, cells := 0, slots := 0, locals := 22 }
set_option maxHeartbeats 4000000 in
set_option maxRecDepth 100000 in
theorem metX1_fall (l : Launch) (D : va_G) (dA : ClassId) (h : Nat) (q : Nat → Nat) (pl ms : Nat → Int32) (n : Nat) (v pp : Nat) (hv : v < 48) (hp : pp < 192) : CR l yX1_fall cX1_fall 6 (some .int) rmX1_fall [.ref h, .int (nI v), .int (nI pp)] (GP D dA (MW h q dA pl ms (nI n))) (fun r => r = nI (fal v pp)) := by
  refine CR.mk (own := RX1) (by decide) rfl (Nat.le_of_ble_eq_true rfl) ?_
  intro p e s m args below meth c Q ls S hB hl hret
  obtain ⟨hP, hK⟩ := hB
  have hx := S.1
  have hb := S.2.1
  have hl : lv_has ls 6 [(0, .ref h), (1, .int (nI v)), (2, .int (nI pp))] := hl
  refine lv_aload_n hx hb dX1_fall_0 rfl (lv_at hl 0 rfl) ?_
  refine lv_iload_n hx hb dX1_fall_1 rfl (lv_at hl 1 rfl) ?_
  refine lv_bipush (v := nI 16) hx hb dX1_fall_2 (by decide +kernel) ?_
  refine zz_div hx hb dX1_fall_4 (by omega) (by omega) (by omega) ?_
  refine lv_iload_n hx hb dX1_fall_5 rfl (lv_at hl 2 rfl) ?_
  refine lv_bipush (v := nI 48) hx hb dX1_fall_6 (by decide +kernel) ?_
  refine zz_div hx hb dX1_fall_8 (by omega) (by omega) (by omega) ?_
  refine zz_callR (As := [.int (nI (v / 16)), .int (nI (pp / 48))]) (rest := []) S (metX1_seenA l D dA h q pl ms n v (pp / 48) hv (by omega)) gw_X1_32 hd_X1_seenA rfl rfl ⟨Nat.le_of_ble_eq_true rfl, Nat.le_of_ble_eq_true rfl⟩ rfl hl.1 rfl (Nat.le_of_ble_eq_true rfl) dX1_fall_9 ⟨Nat.zero_le _, Nat.zero_le _⟩ hK hP (ci := 1) rfl rfl rfl (fun r_1 er_1 => ?_)
  subst er_1
  refine lv_istore_n (lv' := [(3, .int (nI (pp / 48 / bA v))), (0, .ref h), (1, .int (nI v)), (2, .int (nI pp))]) hx hb dX1_fall_12 rfl hl (by decide) rfl (fun ls hl => ?_)
  refine lv_aload_n hx hb dX1_fall_13 rfl (lv_at hl 1 rfl) ?_
  refine lv_iload_n hx hb dX1_fall_14 rfl (lv_at hl 2 rfl) ?_
  refine lv_iconst (v := nI 4) hx hb dX1_fall_15 (by decide +kernel) ?_
  refine zz_div hx hb dX1_fall_16 (by omega) (by omega) (by omega) ?_
  refine lv_iconst (v := nI 4) hx hb dX1_fall_17 (by decide +kernel) ?_
  refine zz_rem hx hb dX1_fall_18 (by omega) (by omega) (by omega) ?_
  refine lv_iload_n hx hb dX1_fall_19 rfl (lv_at hl 3 rfl) ?_
  refine lv_bipush (v := nI 8) hx hb dX1_fall_20 (by decide +kernel) ?_
  refine zz_div hx hb dX1_fall_22 (by omega) (by omega) (by omega) ?_
  refine lv_bipush (v := nI 6) hx hb dX1_fall_23 (by decide +kernel) ?_
  refine zz_rem hx hb dX1_fall_25 (by omega) (by omega) (by omega) ?_
  refine zz_callR (As := [.int (nI ((v / 4) % 4)), .int (nI ((pp / 8) % 6))]) (rest := []) S (metX1_seenB l D dA h q pl ms n v (pp / 8 % 6) hv (by omega)) gw_X1_36 hd_X1_seenB rfl rfl ⟨Nat.le_of_ble_eq_true rfl, Nat.le_of_ble_eq_true rfl⟩ rfl hl.1 rfl (Nat.le_of_ble_eq_true rfl) dX1_fall_26 ⟨Nat.zero_le _, Nat.zero_le _⟩ hK hP (ci := 1) rfl rfl rfl (fun r_2 er_2 => ?_)
  subst er_2
  refine lv_istore (lv' := [(4, .int (nI (pp / 8 % 6 / bB v))), (3, .int (nI (pp / 48 / bA v))), (0, .ref h), (1, .int (nI v)), (2, .int (nI pp))]) hx hb dX1_fall_29 hl (by decide) rfl (fun ls hl => ?_)
  refine lv_aload_n hx hb dX1_fall_31 rfl (lv_at hl 2 rfl) ?_
  refine lv_iload_n hx hb dX1_fall_32 rfl (lv_at hl 3 rfl) ?_
  refine lv_iconst (v := nI 4) hx hb dX1_fall_33 (by decide +kernel) ?_
  refine zz_rem hx hb dX1_fall_34 (by omega) (by omega) (by omega) ?_
  refine lv_iload_n hx hb dX1_fall_35 rfl (lv_at hl 4 rfl) ?_
  refine lv_bipush (v := nI 8) hx hb dX1_fall_36 (by decide +kernel) ?_
  refine zz_rem hx hb dX1_fall_38 (by omega) (by omega) (by omega) ?_
  refine zz_callR (As := [.int (nI (v % 4)), .int (nI (pp % 8))]) (rest := []) S (metX1_seenC l D dA h q pl ms n v (pp % 8) hv (by omega)) gw_X1_39 hd_X1_seenC rfl rfl ⟨Nat.le_of_ble_eq_true rfl, Nat.le_of_ble_eq_true rfl⟩ rfl hl.1 rfl (Nat.le_of_ble_eq_true rfl) dX1_fall_39 ⟨Nat.zero_le _, Nat.zero_le _⟩ hK hP (ci := 1) rfl rfl rfl (fun r_3 er_3 => ?_)
  subst er_3
  refine lv_istore (lv' := [(5, .int (nI (pp % 8 / bC v))), (4, .int (nI (pp / 8 % 6 / bB v))), (3, .int (nI (pp / 48 / bA v))), (0, .ref h), (1, .int (nI v)), (2, .int (nI pp))]) hx hb dX1_fall_42 hl (by decide) rfl (fun ls hl => ?_)
  refine lv_bipush (v := nI 48) hx hb dX1_fall_44 (by decide +kernel) ?_
  refine lv_iload_n hx hb dX1_fall_46 rfl (lv_at hl 2 rfl) ?_
  refine zz_mul hx hb dX1_fall_47 ?_
  refine lv_bipush (v := nI 8) hx hb dX1_fall_48 (by decide +kernel) ?_
  refine lv_iload hx hb dX1_fall_50 (lv_at hl 1 rfl) ?_
  refine zz_mul hx hb dX1_fall_52 ?_
  refine zz_add hx hb dX1_fall_53 ?_
  refine lv_iload hx hb dX1_fall_54 (lv_at hl 0 rfl) ?_
  refine zz_add hx hb dX1_fall_56 ?_
  exact hret _ _ _ rfl rfl dX1_fall_57
abbrev rmX1_facts : Room := { frames := 0, cells := 0, slots := 0, locals := 0 }
set_option maxHeartbeats 4000000 in
set_option maxRecDepth 100000 in
theorem metX1_facts (l : Launch) (D : va_G) (dA : ClassId) (h : Nat) (q : Nat → Nat) (pl ms : Nat → Int32) (n : Nat)  : CR l yX1_facts cX1_facts 1 (some .int) rmX1_facts [.ref h] (GP D dA (MW h q dA pl ms (nI n))) (fun r => r = nI n) := by
  refine CR.mk (own := RX1) (by decide) rfl (Nat.le_of_ble_eq_true rfl) ?_
  intro p e s m args below meth c Q ls S hB hl hret
  obtain ⟨hP, hK⟩ := hB
  have hx := S.1
  have hb := S.2.1
  have hl : lv_has ls 1 [(0, .ref h)] := hl
  refine lv_aload_n hx hb dX1_facts_0 rfl (lv_at hl 0 rfl) ?_
  refine mg2 S hK hP dX1_facts_1 ?_
  exact hret _ _ _ rfl rfl dX1_facts_4
abbrev rmX1_cellOf : Room := { frames := 2, cells := 0, slots := 0, locals := 47 }
set_option maxHeartbeats 4000000 in
set_option maxRecDepth 100000 in
theorem metX1_cellOf (l : Launch) (D : va_G) (dA : ClassId) (h : Nat) (q : Nat → Nat) (pl ms : Nat → Int32) (n : Nat) (hF : FW pl n) (a b : Int32) : CR l yX1_cellOf cX1_cellOf 3 (some .int) rmX1_cellOf [.ref h, .int a, .int b] (GP D dA (MW h q dA pl ms (nI n))) (fun r => r = sCellOf pl n a b) := by
  refine CR.mk (own := RX1) (by decide) rfl (Nat.le_of_ble_eq_true rfl) ?_
  intro p e s m args below meth c Q ls S hB hl hret
  obtain ⟨hP, hK⟩ := hB
  have hx := S.1
  have hb := S.2.1
  have hn40 := hF.1
  have hl : lv_has ls 3 [(0, .ref h), (1, .int a), (2, .int b)] := hl
  refine lv_aload_n hx hb dX1_cellOf_0 rfl (lv_at hl 0 rfl) ?_
  refine lv_iload_n hx hb dX1_cellOf_1 rfl (lv_at hl 1 rfl) ?_
  refine zz_callR (As := [.int a]) (rest := []) S (metX1_badView l D dA h q pl ms n a) gw_X1_42 hd_X1_badView rfl rfl ⟨Nat.le_of_ble_eq_true rfl, Nat.le_of_ble_eq_true rfl⟩ rfl hl.1 rfl (Nat.le_of_ble_eq_true rfl) dX1_cellOf_2 ⟨Nat.zero_le _, Nat.zero_le _⟩ hK hP (ci := 1) rfl rfl rfl (fun r_1 er_1 => ?_)
  subst er_1
  refine zz_beq (tgt := 10) hx hb dX1_cellOf_5 (by decide) (fun c_1 => ?_) (fun c_1 => ?_)
  · obtain ⟨v, hv, rfl⟩ := okV_N (Classical.not_not.mp c_1)
    refine lv_aload_n hx hb dX1_cellOf_10 rfl (lv_at hl 0 rfl) ?_
    refine lv_iload_n hx hb dX1_cellOf_11 rfl (lv_at hl 2 rfl) ?_
    refine zz_callR (As := [.int b]) (rest := []) S (metX1_badFact l D dA h q pl ms n b) gw_X1_24 hd_X1_badFact rfl rfl ⟨Nat.le_of_ble_eq_true rfl, Nat.le_of_ble_eq_true rfl⟩ rfl hl.1 rfl (Nat.le_of_ble_eq_true rfl) dX1_cellOf_12 ⟨Nat.zero_le _, Nat.zero_le _⟩ hK hP (ci := 1) rfl rfl rfl (fun r_2 er_2 => ?_)
    subst er_2
    refine zz_beq (tgt := 21) hx hb dX1_cellOf_15 (by decide) (fun c_2 => ?_) (fun c_2 => ?_)
    · obtain ⟨f, hf, rfl⟩ := okF_N (by omega) (Classical.not_not.mp c_2)
      obtain ⟨j, hj, ej⟩ := hF.2 f hf
      refine lv_aload_n hx hb dX1_cellOf_21 rfl (lv_at hl 0 rfl) ?_
      refine lv_iload_n hx hb dX1_cellOf_22 rfl (lv_at hl 1 rfl) ?_
      refine lv_aload_n hx hb dX1_cellOf_23 rfl (lv_at hl 0 rfl) ?_
      refine mg0 S hK hP dX1_cellOf_24 ?_
      refine lv_iload_n hx hb dX1_cellOf_27 rfl (lv_at hl 2 rfl) ?_
      refine ml0 S hK hP (by omega) dX1_cellOf_28 ?_
      refine zz_set (y := nI j) ej ?_
      refine zz_callR (As := [.int (nI v), .int (nI j)]) (rest := []) S (metX1_fall l D dA h q pl ms n v j hv hj) gw_X1_45 hd_X1_fall rfl rfl ⟨Nat.le_of_ble_eq_true rfl, Nat.le_of_ble_eq_true rfl⟩ rfl hl.1 rfl (Nat.le_of_ble_eq_true rfl) dX1_cellOf_29 ⟨Nat.zero_le _, Nat.zero_le _⟩ hK hP (ci := 1) rfl rfl rfl (fun r_3 er_3 => ?_)
      subst er_3
      exact hret _ _ _ (sCellOf_N hv hf (by omega) ej hj).symm rfl dX1_cellOf_32
    · refine lv_bipush (v := (-2)) hx hb dX1_cellOf_18 (by decide +kernel) ?_
      exact hret _ _ _ (by unfold sCellOf; rw [if_pos (okV_nI hv), if_neg c_2]) rfl dX1_cellOf_20
  · refine lv_iconst (v := (-1)) hx hb dX1_cellOf_8 (by decide +kernel) ?_
    exact hret _ _ _ (by unfold sCellOf; rw [if_neg c_1]) rfl dX1_cellOf_9
abbrev rmX1_count : Room := { frames := 2, cells := 0, slots := 0, locals := 47 }
set_option maxHeartbeats 4000000 in
set_option maxRecDepth 100000 in
theorem metX1_count (l : Launch) (D : va_G) (dA : ClassId) (h : Nat) (q : Nat → Nat) (pl ms : Nat → Int32) (n : Nat) (hF : FW pl n) (a b : Int32) : CR l yX1_count cX1_count 5 (some .int) rmX1_count [.ref h, .int a, .int b] (GP D dA (MW h q dA pl ms (nI n))) (fun r => r = sCount pl ms n a b) := by
  refine CR.mk (own := RX1) (by decide) rfl (Nat.le_of_ble_eq_true rfl) ?_
  intro p e s m args below meth c Q ls S hB hl hret
  obtain ⟨hP, hK⟩ := hB
  have hx := S.1
  have hb := S.2.1
  have hn40 := hF.1
  have hl : lv_has ls 5 [(0, .ref h), (1, .int a), (2, .int b)] := hl
  refine lv_aload_n hx hb dX1_count_0 rfl (lv_at hl 0 rfl) ?_
  refine lv_iload_n hx hb dX1_count_1 rfl (lv_at hl 1 rfl) ?_
  refine zz_callR (As := [.int a]) (rest := []) S (metX1_badView l D dA h q pl ms n a) gw_X1_42 hd_X1_badView rfl rfl ⟨Nat.le_of_ble_eq_true rfl, Nat.le_of_ble_eq_true rfl⟩ rfl hl.1 rfl (Nat.le_of_ble_eq_true rfl) dX1_count_2 ⟨Nat.zero_le _, Nat.zero_le _⟩ hK hP (ci := 1) rfl rfl rfl (fun r_1 er_1 => ?_)
  subst er_1
  refine zz_beq (tgt := 10) hx hb dX1_count_5 (by decide) (fun c_1 => ?_) (fun c_1 => ?_)
  · obtain ⟨v, hv, rfl⟩ := okV_N (Classical.not_not.mp c_1)
    refine lv_aload_n hx hb dX1_count_10 rfl (lv_at hl 0 rfl) ?_
    refine lv_iload_n hx hb dX1_count_11 rfl (lv_at hl 2 rfl) ?_
    refine zz_callR (As := [.int b]) (rest := []) S (metX1_badCell l D dA h q pl ms n b) gw_X1_51 hd_X1_badCell rfl rfl ⟨Nat.le_of_ble_eq_true rfl, Nat.le_of_ble_eq_true rfl⟩ rfl hl.1 rfl (Nat.le_of_ble_eq_true rfl) dX1_count_12 ⟨Nat.zero_le _, Nat.zero_le _⟩ hK hP (ci := 1) rfl rfl rfl (fun r_2 er_2 => ?_)
    subst er_2
    refine zz_beq (tgt := 21) hx hb dX1_count_15 (by decide) (fun c_2 => ?_) (fun c_2 => ?_)
    · obtain ⟨ce, hc, rfl⟩ := okC_N (Classical.not_not.mp c_2)
      have loop : ∀ (d i : Nat), n + 1 ≤ i + d → i ≤ n → ∀ ls : Array Slot, lv_has ls 5 [(0, .ref h), (1, .int (nI v)), (2, .int (nI ce)), (3, .int (nI (gv pl ms i v ce).1)), (4, .int (nI i))] → W p l e rmX1_count s m args below meth c s.heap [] 0 0 Q (F0 m 26 ls []) := by
        intro d
        induction d with
        | zero => intro i h1 h2; exact absurd h1 (by omega)
        | succ d ih =>
          intro i h1 h2 ls hl
          refine lv_iload hx hb dX1_count_26 (lv_at hl 4 rfl) ?_
          refine lv_aload_n hx hb dX1_count_28 rfl (lv_at hl 0 rfl) ?_
          refine mg2 S hK hP dX1_count_29 ?_
          refine zz_ge (tgt := 60) hx hb dX1_count_32 (by decide) (by omega) (by omega) (fun c_8 => ?_) (fun c_8 => ?_)
          · have hi : i = n := by omega
            subst hi
            refine lv_iload_n hx hb dX1_count_60 rfl (lv_at hl 3 rfl) ?_
            exact hret _ _ _ (sCount_N hv hc).symm rfl dX1_count_61
          · obtain ⟨j, hj, ej⟩ := hF.2 i (by omega)
            have hfl := fal_lt (v := v) hj
            refine lv_aload_n hx hb dX1_count_35 rfl (lv_at hl 0 rfl) ?_
            refine lv_iload_n hx hb dX1_count_36 rfl (lv_at hl 1 rfl) ?_
            refine lv_aload_n hx hb dX1_count_37 rfl (lv_at hl 0 rfl) ?_
            refine mg0 S hK hP dX1_count_38 ?_
            refine lv_iload hx hb dX1_count_41 (lv_at hl 4 rfl) ?_
            refine ml0 S hK hP (by omega) dX1_count_43 ?_
            refine zz_set (y := nI j) ej ?_
            refine zz_callR (As := [.int (nI v), .int (nI j)]) (rest := []) S (metX1_fall l D dA h q pl ms n v j hv hj) gw_X1_45 hd_X1_fall rfl rfl ⟨Nat.le_of_ble_eq_true rfl, Nat.le_of_ble_eq_true rfl⟩ rfl hl.1 rfl (Nat.le_of_ble_eq_true rfl) dX1_count_44 ⟨Nat.zero_le _, Nat.zero_le _⟩ hK hP (ci := 1) rfl rfl rfl (fun r_3 er_3 => ?_)
            subst er_3
            refine lv_iload_n hx hb dX1_count_47 rfl (lv_at hl 2 rfl) ?_
            refine zz_ne (tgt := 54) hx hb dX1_count_48 (by decide) (by omega) (by omega) (fun c_9 => ?_) (fun c_9 => ?_)
            · refine lv_iinc (v := nI (i + 1)) (lv' := [(4, .int (nI (i + 1))), (0, .ref h), (1, .int (nI v)), (2, .int (nI ce)), (3, .int (nI ((gv pl ms i v ce).1)))]) hx hb dX1_count_54 hl (k := 4) rfl (by exact nI_1 _) (by decide) rfl (fun ls hl => ?_)
              refine lv_goto (tgt := 26) hx hb dX1_count_57 (by decide) ?_
              exact ih (i + 1) (by omega) (by omega) ls (by rw [gv_f ej hj c_9]; exact lv_sub hl [1, 2, 3, 4, 0] rfl)
            · refine lv_iinc (v := nI ((gv pl ms i v ce).1 + 1)) (lv' := [(3, .int (nI ((gv pl ms i v ce).1 + 1))), (0, .ref h), (1, .int (nI v)), (2, .int (nI ce)), (4, .int (nI i))]) hx hb dX1_count_51 hl (k := 3) rfl (by exact nI_1 _) (by decide) rfl (fun ls hl => ?_)
              refine lv_iinc (v := nI (i + 1)) (lv' := [(4, .int (nI (i + 1))), (3, .int (nI ((gv pl ms i v ce).1 + 1))), (0, .ref h), (1, .int (nI v)), (2, .int (nI ce))]) hx hb dX1_count_54 hl (k := 4) rfl (by exact nI_1 _) (by decide) rfl (fun ls hl => ?_)
              refine lv_goto (tgt := 26) hx hb dX1_count_57 (by decide) ?_
              exact ih (i + 1) (by omega) (by omega) ls (by rw [gv_t ej hj c_9]; exact lv_sub hl [2, 3, 4, 1, 0] rfl)
      refine lv_iconst (v := nI 0) hx hb dX1_count_21 (by decide +kernel) ?_
      refine lv_istore_n (lv' := [(3, .int (nI 0)), (0, .ref h), (1, .int (nI v)), (2, .int (nI ce))]) hx hb dX1_count_22 rfl hl (by decide) rfl (fun ls hl => ?_)
      refine lv_iconst (v := nI 0) hx hb dX1_count_23 (by decide +kernel) ?_
      refine lv_istore (lv' := [(4, .int (nI 0)), (3, .int (nI 0)), (0, .ref h), (1, .int (nI v)), (2, .int (nI ce))]) hx hb dX1_count_24 hl (by decide) rfl (fun ls hl => ?_)
      exact loop (n + 1) 0 (by omega) (by omega) ls (lv_sub hl [2, 3, 4, 1, 0] rfl)
    · refine lv_bipush (v := (-2)) hx hb dX1_count_18 (by decide +kernel) ?_
      exact hret _ _ _ (by unfold sCount; rw [if_pos (okV_nI hv), if_neg c_2]) rfl dX1_count_20
  · refine lv_iconst (v := (-1)) hx hb dX1_count_8 (by decide +kernel) ?_
    exact hret _ _ _ (by unfold sCount; rw [if_neg c_1]) rfl dX1_count_9
abbrev rmX1_sum : Room := { frames := 2, cells := 0, slots := 0, locals := 47 }
set_option maxHeartbeats 4000000 in
set_option maxRecDepth 100000 in
theorem metX1_sum (l : Launch) (D : va_G) (dA : ClassId) (h : Nat) (q : Nat → Nat) (pl ms : Nat → Int32) (n : Nat) (hF : FW pl n) (a b : Int32) : CR l yX1_sum cX1_sum 5 (some .int) rmX1_sum [.ref h, .int a, .int b] (GP D dA (MW h q dA pl ms (nI n))) (fun r => r = sSum pl ms n a b) := by
  refine CR.mk (own := RX1) (by decide) rfl (Nat.le_of_ble_eq_true rfl) ?_
  intro p e s m args below meth c Q ls S hB hl hret
  obtain ⟨hP, hK⟩ := hB
  have hx := S.1
  have hb := S.2.1
  have hn40 := hF.1
  have hl : lv_has ls 5 [(0, .ref h), (1, .int a), (2, .int b)] := hl
  refine lv_aload_n hx hb dX1_sum_0 rfl (lv_at hl 0 rfl) ?_
  refine lv_iload_n hx hb dX1_sum_1 rfl (lv_at hl 1 rfl) ?_
  refine zz_callR (As := [.int a]) (rest := []) S (metX1_badView l D dA h q pl ms n a) gw_X1_42 hd_X1_badView rfl rfl ⟨Nat.le_of_ble_eq_true rfl, Nat.le_of_ble_eq_true rfl⟩ rfl hl.1 rfl (Nat.le_of_ble_eq_true rfl) dX1_sum_2 ⟨Nat.zero_le _, Nat.zero_le _⟩ hK hP (ci := 1) rfl rfl rfl (fun r_1 er_1 => ?_)
  subst er_1
  refine zz_bne (tgt := 16) hx hb dX1_sum_5 (by decide) (fun c_1 => ?_) (fun c_1 => ?_)
  · refine lv_iconst (v := nI 0) hx hb dX1_sum_16 (by decide +kernel) ?_
    exact hret _ _ _ (by unfold sSum; rw [if_neg (fun h9 => c_1 h9.1)]) rfl dX1_sum_17
  · obtain ⟨v, hv, rfl⟩ := okV_N (Classical.not_not.mp c_1)
    refine lv_aload_n hx hb dX1_sum_8 rfl (lv_at hl 0 rfl) ?_
    refine lv_iload_n hx hb dX1_sum_9 rfl (lv_at hl 2 rfl) ?_
    refine zz_callR (As := [.int b]) (rest := []) S (metX1_badCell l D dA h q pl ms n b) gw_X1_51 hd_X1_badCell rfl rfl ⟨Nat.le_of_ble_eq_true rfl, Nat.le_of_ble_eq_true rfl⟩ rfl hl.1 rfl (Nat.le_of_ble_eq_true rfl) dX1_sum_10 ⟨Nat.zero_le _, Nat.zero_le _⟩ hK hP (ci := 1) rfl rfl rfl (fun r_2 er_2 => ?_)
    subst er_2
    refine zz_beq (tgt := 18) hx hb dX1_sum_13 (by decide) (fun c_2 => ?_) (fun c_2 => ?_)
    · obtain ⟨ce, hc, rfl⟩ := okC_N (Classical.not_not.mp c_2)
      have loop : ∀ (d i : Nat), n + 1 ≤ i + d → i ≤ n → ∀ ls : Array Slot, lv_has ls 5 [(0, .ref h), (1, .int (nI v)), (2, .int (nI ce)), (3, .int ((gv pl ms i v ce).2.1)), (4, .int (nI i))] → W p l e rmX1_sum s m args below meth c s.heap [] 0 0 Q (F0 m 23 ls []) := by
        intro d
        induction d with
        | zero => intro i h1 h2; exact absurd h1 (by omega)
        | succ d ih =>
          intro i h1 h2 ls hl
          refine lv_iload hx hb dX1_sum_23 (lv_at hl 4 rfl) ?_
          refine lv_aload_n hx hb dX1_sum_25 rfl (lv_at hl 0 rfl) ?_
          refine mg2 S hK hP dX1_sum_26 ?_
          refine zz_ge (tgt := 64) hx hb dX1_sum_29 (by decide) (by omega) (by omega) (fun c_8 => ?_) (fun c_8 => ?_)
          · have hi : i = n := by omega
            subst hi
            refine lv_iload_n hx hb dX1_sum_64 rfl (lv_at hl 3 rfl) ?_
            exact hret _ _ _ (sSum_N hv hc).symm rfl dX1_sum_65
          · obtain ⟨j, hj, ej⟩ := hF.2 i (by omega)
            have hfl := fal_lt (v := v) hj
            refine lv_aload_n hx hb dX1_sum_32 rfl (lv_at hl 0 rfl) ?_
            refine lv_iload_n hx hb dX1_sum_33 rfl (lv_at hl 1 rfl) ?_
            refine lv_aload_n hx hb dX1_sum_34 rfl (lv_at hl 0 rfl) ?_
            refine mg0 S hK hP dX1_sum_35 ?_
            refine lv_iload hx hb dX1_sum_38 (lv_at hl 4 rfl) ?_
            refine ml0 S hK hP (by omega) dX1_sum_40 ?_
            refine zz_set (y := nI j) ej ?_
            refine zz_callR (As := [.int (nI v), .int (nI j)]) (rest := []) S (metX1_fall l D dA h q pl ms n v j hv hj) gw_X1_45 hd_X1_fall rfl rfl ⟨Nat.le_of_ble_eq_true rfl, Nat.le_of_ble_eq_true rfl⟩ rfl hl.1 rfl (Nat.le_of_ble_eq_true rfl) dX1_sum_41 ⟨Nat.zero_le _, Nat.zero_le _⟩ hK hP (ci := 1) rfl rfl rfl (fun r_3 er_3 => ?_)
            subst er_3
            refine lv_iload_n hx hb dX1_sum_44 rfl (lv_at hl 2 rfl) ?_
            refine zz_ne (tgt := 58) hx hb dX1_sum_45 (by decide) (by omega) (by omega) (fun c_9 => ?_) (fun c_9 => ?_)
            · refine lv_iinc (v := nI (i + 1)) (lv' := [(4, .int (nI (i + 1))), (0, .ref h), (1, .int (nI v)), (2, .int (nI ce)), (3, .int ((gv pl ms i v ce).2.1))]) hx hb dX1_sum_58 hl (k := 4) rfl (by exact nI_1 _) (by decide) rfl (fun ls hl => ?_)
              refine lv_goto (tgt := 23) hx hb dX1_sum_61 (by decide) ?_
              exact ih (i + 1) (by omega) (by omega) ls (by rw [gv_f ej hj c_9]; exact lv_sub hl [1, 2, 3, 4, 0] rfl)
            · refine lv_iload_n hx hb dX1_sum_48 rfl (lv_at hl 3 rfl) ?_
              refine lv_aload_n hx hb dX1_sum_49 rfl (lv_at hl 0 rfl) ?_
              refine mg1 S hK hP dX1_sum_50 ?_
              refine lv_iload hx hb dX1_sum_53 (lv_at hl 4 rfl) ?_
              refine ml1 S hK hP (by omega) dX1_sum_55 ?_
              refine lv_iadd hx hb dX1_sum_56 ?_
              refine lv_istore_n (lv' := [(3, .int (((gv pl ms i v ce).2.1) + (ms i))), (0, .ref h), (1, .int (nI v)), (2, .int (nI ce)), (4, .int (nI i))]) hx hb dX1_sum_57 rfl hl (by decide) rfl (fun ls hl => ?_)
              refine lv_iinc (v := nI (i + 1)) (lv' := [(4, .int (nI (i + 1))), (3, .int (((gv pl ms i v ce).2.1) + (ms i))), (0, .ref h), (1, .int (nI v)), (2, .int (nI ce))]) hx hb dX1_sum_58 hl (k := 4) rfl (by exact nI_1 _) (by decide) rfl (fun ls hl => ?_)
              refine lv_goto (tgt := 23) hx hb dX1_sum_61 (by decide) ?_
              exact ih (i + 1) (by omega) (by omega) ls (by rw [gv_t ej hj c_9]; exact lv_sub hl [2, 3, 4, 1, 0] rfl)
      refine lv_iconst (v := nI 0) hx hb dX1_sum_18 (by decide +kernel) ?_
      refine lv_istore_n (lv' := [(3, .int (nI 0)), (0, .ref h), (1, .int (nI v)), (2, .int (nI ce))]) hx hb dX1_sum_19 rfl hl (by decide) rfl (fun ls hl => ?_)
      refine lv_iconst (v := nI 0) hx hb dX1_sum_20 (by decide +kernel) ?_
      refine lv_istore (lv' := [(4, .int (nI 0)), (3, .int (nI 0)), (0, .ref h), (1, .int (nI v)), (2, .int (nI ce))]) hx hb dX1_sum_21 hl (by decide) rfl (fun ls hl => ?_)
      exact loop (n + 1) 0 (by omega) (by omega) ls (lv_sub hl [2, 3, 4, 1, 0] rfl)
    · refine lv_iconst (v := nI 0) hx hb dX1_sum_16 (by decide +kernel) ?_
      exact hret _ _ _ (by unfold sSum; rw [if_neg (fun h9 => c_2 h9.2)]) rfl dX1_sum_17
abbrev rmX1_least : Room := { frames := 2, cells := 0, slots := 0, locals := 47 }
set_option maxHeartbeats 4000000 in
set_option maxRecDepth 100000 in
theorem metX1_least (l : Launch) (D : va_G) (dA : ClassId) (h : Nat) (q : Nat → Nat) (pl ms : Nat → Int32) (n : Nat) (hF : FW pl n) (a b : Int32) : CR l yX1_least cX1_least 5 (some .int) rmX1_least [.ref h, .int a, .int b] (GP D dA (MW h q dA pl ms (nI n))) (fun r => r = sLeast pl ms n a b) := by
  refine CR.mk (own := RX1) (by decide) rfl (Nat.le_of_ble_eq_true rfl) ?_
  intro p e s m args below meth c Q ls S hB hl hret
  obtain ⟨hP, hK⟩ := hB
  have hx := S.1
  have hb := S.2.1
  have hn40 := hF.1
  have hl : lv_has ls 5 [(0, .ref h), (1, .int a), (2, .int b)] := hl
  refine lv_aload_n hx hb dX1_least_0 rfl (lv_at hl 0 rfl) ?_
  refine lv_iload_n hx hb dX1_least_1 rfl (lv_at hl 1 rfl) ?_
  refine zz_callR (As := [.int a]) (rest := []) S (metX1_badView l D dA h q pl ms n a) gw_X1_42 hd_X1_badView rfl rfl ⟨Nat.le_of_ble_eq_true rfl, Nat.le_of_ble_eq_true rfl⟩ rfl hl.1 rfl (Nat.le_of_ble_eq_true rfl) dX1_least_2 ⟨Nat.zero_le _, Nat.zero_le _⟩ hK hP (ci := 1) rfl rfl rfl (fun r_1 er_1 => ?_)
  subst er_1
  refine zz_bne (tgt := 16) hx hb dX1_least_5 (by decide) (fun c_1 => ?_) (fun c_1 => ?_)
  · refine lv_sipush (v := nI 10000) hx hb dX1_least_16 (by decide +kernel) ?_
    exact hret _ _ _ (by unfold sLeast; rw [if_neg (fun h9 => c_1 h9.1)]) rfl dX1_least_19
  · obtain ⟨v, hv, rfl⟩ := okV_N (Classical.not_not.mp c_1)
    refine lv_aload_n hx hb dX1_least_8 rfl (lv_at hl 0 rfl) ?_
    refine lv_iload_n hx hb dX1_least_9 rfl (lv_at hl 2 rfl) ?_
    refine zz_callR (As := [.int b]) (rest := []) S (metX1_badCell l D dA h q pl ms n b) gw_X1_51 hd_X1_badCell rfl rfl ⟨Nat.le_of_ble_eq_true rfl, Nat.le_of_ble_eq_true rfl⟩ rfl hl.1 rfl (Nat.le_of_ble_eq_true rfl) dX1_least_10 ⟨Nat.zero_le _, Nat.zero_le _⟩ hK hP (ci := 1) rfl rfl rfl (fun r_2 er_2 => ?_)
    subst er_2
    refine zz_beq (tgt := 20) hx hb dX1_least_13 (by decide) (fun c_2 => ?_) (fun c_2 => ?_)
    · obtain ⟨ce, hc, rfl⟩ := okC_N (Classical.not_not.mp c_2)
      have loop : ∀ (d i : Nat), n + 1 ≤ i + d → i ≤ n → ∀ ls : Array Slot, lv_has ls 5 [(0, .ref h), (1, .int (nI v)), (2, .int (nI ce)), (3, .int ((gv pl ms i v ce).2.2.1)), (4, .int (nI i))] → W p l e rmX1_least s m args below meth c s.heap [] 0 0 Q (F0 m 27 ls []) := by
        intro d
        induction d with
        | zero => intro i h1 h2; exact absurd h1 (by omega)
        | succ d ih =>
          intro i h1 h2 ls hl
          refine lv_iload hx hb dX1_least_27 (lv_at hl 4 rfl) ?_
          refine lv_aload_n hx hb dX1_least_29 rfl (lv_at hl 0 rfl) ?_
          refine mg2 S hK hP dX1_least_30 ?_
          refine zz_ge (tgt := 77) hx hb dX1_least_33 (by decide) (by omega) (by omega) (fun c_8 => ?_) (fun c_8 => ?_)
          · have hi : i = n := by omega
            subst hi
            refine lv_iload_n hx hb dX1_least_77 rfl (lv_at hl 3 rfl) ?_
            exact hret _ _ _ (sLeast_N hv hc).symm rfl dX1_least_78
          · obtain ⟨j, hj, ej⟩ := hF.2 i (by omega)
            have hfl := fal_lt (v := v) hj
            refine lv_aload_n hx hb dX1_least_36 rfl (lv_at hl 0 rfl) ?_
            refine lv_iload_n hx hb dX1_least_37 rfl (lv_at hl 1 rfl) ?_
            refine lv_aload_n hx hb dX1_least_38 rfl (lv_at hl 0 rfl) ?_
            refine mg0 S hK hP dX1_least_39 ?_
            refine lv_iload hx hb dX1_least_42 (lv_at hl 4 rfl) ?_
            refine ml0 S hK hP (by omega) dX1_least_44 ?_
            refine zz_set (y := nI j) ej ?_
            refine zz_callR (As := [.int (nI v), .int (nI j)]) (rest := []) S (metX1_fall l D dA h q pl ms n v j hv hj) gw_X1_45 hd_X1_fall rfl rfl ⟨Nat.le_of_ble_eq_true rfl, Nat.le_of_ble_eq_true rfl⟩ rfl hl.1 rfl (Nat.le_of_ble_eq_true rfl) dX1_least_45 ⟨Nat.zero_le _, Nat.zero_le _⟩ hK hP (ci := 1) rfl rfl rfl (fun r_3 er_3 => ?_)
            subst er_3
            refine lv_iload_n hx hb dX1_least_48 rfl (lv_at hl 2 rfl) ?_
            refine zz_ne (tgt := 71) hx hb dX1_least_49 (by decide) (by omega) (by omega) (fun c_9 => ?_) (fun c_9 => ?_)
            · refine lv_iinc (v := nI (i + 1)) (lv' := [(4, .int (nI (i + 1))), (0, .ref h), (1, .int (nI v)), (2, .int (nI ce)), (3, .int ((gv pl ms i v ce).2.2.1))]) hx hb dX1_least_71 hl (k := 4) rfl (by exact nI_1 _) (by decide) rfl (fun ls hl => ?_)
              refine lv_goto (tgt := 27) hx hb dX1_least_74 (by decide) ?_
              exact ih (i + 1) (by omega) (by omega) ls (by rw [gv_f ej hj c_9]; exact lv_sub hl [1, 2, 3, 4, 0] rfl)
            · refine lv_aload_n hx hb dX1_least_52 rfl (lv_at hl 0 rfl) ?_
              refine mg1 S hK hP dX1_least_53 ?_
              refine lv_iload hx hb dX1_least_56 (lv_at hl 4 rfl) ?_
              refine ml1 S hK hP (by omega) dX1_least_58 ?_
              refine lv_iload_n hx hb dX1_least_59 rfl (lv_at hl 3 rfl) ?_
              refine lv_icmp_ge (tgt := 71) hx hb dX1_least_60 (by decide) (fun c_7 => ?_) (fun c_7 => ?_)
              · refine lv_iinc (v := nI (i + 1)) (lv' := [(4, .int (nI (i + 1))), (0, .ref h), (1, .int (nI v)), (2, .int (nI ce)), (3, .int ((gv pl ms i v ce).2.2.1))]) hx hb dX1_least_71 hl (k := 4) rfl (by exact nI_1 _) (by decide) rfl (fun ls hl => ?_)
                refine lv_goto (tgt := 27) hx hb dX1_least_74 (by decide) ?_
                exact ih (i + 1) (by omega) (by omega) ls (by rw [gv_t ej hj c_9, show (agp (gv pl ms i v ce) (ag1 (ms i))).2.2.1 = (gv pl ms i v ce).2.2.1 from if_neg (Int32.not_lt.mpr c_7)]; exact lv_sub hl [1, 2, 3, 4, 0] rfl)
              · refine lv_aload_n hx hb dX1_least_63 rfl (lv_at hl 0 rfl) ?_
                refine mg1 S hK hP dX1_least_64 ?_
                refine lv_iload hx hb dX1_least_67 (lv_at hl 4 rfl) ?_
                refine ml1 S hK hP (by omega) dX1_least_69 ?_
                refine lv_istore_n (lv' := [(3, .int (ms i)), (0, .ref h), (1, .int (nI v)), (2, .int (nI ce)), (4, .int (nI i))]) hx hb dX1_least_70 rfl hl (by decide) rfl (fun ls hl => ?_)
                refine lv_iinc (v := nI (i + 1)) (lv' := [(4, .int (nI (i + 1))), (3, .int (ms i)), (0, .ref h), (1, .int (nI v)), (2, .int (nI ce))]) hx hb dX1_least_71 hl (k := 4) rfl (by exact nI_1 _) (by decide) rfl (fun ls hl => ?_)
                refine lv_goto (tgt := 27) hx hb dX1_least_74 (by decide) ?_
                exact ih (i + 1) (by omega) (by omega) ls (by rw [gv_t ej hj c_9, show (agp (gv pl ms i v ce) (ag1 (ms i))).2.2.1 = ms i from if_pos (Int32.not_le.mp c_7)]; exact lv_sub hl [2, 3, 4, 1, 0] rfl)
      refine lv_sipush (v := nI 10000) hx hb dX1_least_20 (by decide +kernel) ?_
      refine lv_istore_n (lv' := [(3, .int (nI 10000)), (0, .ref h), (1, .int (nI v)), (2, .int (nI ce))]) hx hb dX1_least_23 rfl hl (by decide) rfl (fun ls hl => ?_)
      refine lv_iconst (v := nI 0) hx hb dX1_least_24 (by decide +kernel) ?_
      refine lv_istore (lv' := [(4, .int (nI 0)), (3, .int (nI 10000)), (0, .ref h), (1, .int (nI v)), (2, .int (nI ce))]) hx hb dX1_least_25 hl (by decide) rfl (fun ls hl => ?_)
      exact loop (n + 1) 0 (by omega) (by omega) ls (lv_sub hl [2, 3, 4, 1, 0] rfl)
    · refine lv_sipush (v := nI 10000) hx hb dX1_least_16 (by decide +kernel) ?_
      exact hret _ _ _ (by unfold sLeast; rw [if_neg (fun h9 => c_2 h9.2)]) rfl dX1_least_19
abbrev rmX1_most : Room := { frames := 2, cells := 0, slots := 0, locals := 47 }
set_option maxHeartbeats 4000000 in
set_option maxRecDepth 100000 in
theorem metX1_most (l : Launch) (D : va_G) (dA : ClassId) (h : Nat) (q : Nat → Nat) (pl ms : Nat → Int32) (n : Nat) (hF : FW pl n) (a b : Int32) : CR l yX1_most cX1_most 5 (some .int) rmX1_most [.ref h, .int a, .int b] (GP D dA (MW h q dA pl ms (nI n))) (fun r => r = sMost pl ms n a b) := by
  refine CR.mk (own := RX1) (by decide) rfl (Nat.le_of_ble_eq_true rfl) ?_
  intro p e s m args below meth c Q ls S hB hl hret
  obtain ⟨hP, hK⟩ := hB
  have hx := S.1
  have hb := S.2.1
  have hn40 := hF.1
  have hl : lv_has ls 5 [(0, .ref h), (1, .int a), (2, .int b)] := hl
  refine lv_aload_n hx hb dX1_most_0 rfl (lv_at hl 0 rfl) ?_
  refine lv_iload_n hx hb dX1_most_1 rfl (lv_at hl 1 rfl) ?_
  refine zz_callR (As := [.int a]) (rest := []) S (metX1_badView l D dA h q pl ms n a) gw_X1_42 hd_X1_badView rfl rfl ⟨Nat.le_of_ble_eq_true rfl, Nat.le_of_ble_eq_true rfl⟩ rfl hl.1 rfl (Nat.le_of_ble_eq_true rfl) dX1_most_2 ⟨Nat.zero_le _, Nat.zero_le _⟩ hK hP (ci := 1) rfl rfl rfl (fun r_1 er_1 => ?_)
  subst er_1
  refine zz_bne (tgt := 16) hx hb dX1_most_5 (by decide) (fun c_1 => ?_) (fun c_1 => ?_)
  · refine lv_sipush (v := (-10000)) hx hb dX1_most_16 (by decide +kernel) ?_
    exact hret _ _ _ (by unfold sMost; rw [if_neg (fun h9 => c_1 h9.1)]) rfl dX1_most_19
  · obtain ⟨v, hv, rfl⟩ := okV_N (Classical.not_not.mp c_1)
    refine lv_aload_n hx hb dX1_most_8 rfl (lv_at hl 0 rfl) ?_
    refine lv_iload_n hx hb dX1_most_9 rfl (lv_at hl 2 rfl) ?_
    refine zz_callR (As := [.int b]) (rest := []) S (metX1_badCell l D dA h q pl ms n b) gw_X1_51 hd_X1_badCell rfl rfl ⟨Nat.le_of_ble_eq_true rfl, Nat.le_of_ble_eq_true rfl⟩ rfl hl.1 rfl (Nat.le_of_ble_eq_true rfl) dX1_most_10 ⟨Nat.zero_le _, Nat.zero_le _⟩ hK hP (ci := 1) rfl rfl rfl (fun r_2 er_2 => ?_)
    subst er_2
    refine zz_beq (tgt := 20) hx hb dX1_most_13 (by decide) (fun c_2 => ?_) (fun c_2 => ?_)
    · obtain ⟨ce, hc, rfl⟩ := okC_N (Classical.not_not.mp c_2)
      have loop : ∀ (d i : Nat), n + 1 ≤ i + d → i ≤ n → ∀ ls : Array Slot, lv_has ls 5 [(0, .ref h), (1, .int (nI v)), (2, .int (nI ce)), (3, .int ((gv pl ms i v ce).2.2.2)), (4, .int (nI i))] → W p l e rmX1_most s m args below meth c s.heap [] 0 0 Q (F0 m 27 ls []) := by
        intro d
        induction d with
        | zero => intro i h1 h2; exact absurd h1 (by omega)
        | succ d ih =>
          intro i h1 h2 ls hl
          refine lv_iload hx hb dX1_most_27 (lv_at hl 4 rfl) ?_
          refine lv_aload_n hx hb dX1_most_29 rfl (lv_at hl 0 rfl) ?_
          refine mg2 S hK hP dX1_most_30 ?_
          refine zz_ge (tgt := 77) hx hb dX1_most_33 (by decide) (by omega) (by omega) (fun c_8 => ?_) (fun c_8 => ?_)
          · have hi : i = n := by omega
            subst hi
            refine lv_iload_n hx hb dX1_most_77 rfl (lv_at hl 3 rfl) ?_
            exact hret _ _ _ (sMost_N hv hc).symm rfl dX1_most_78
          · obtain ⟨j, hj, ej⟩ := hF.2 i (by omega)
            have hfl := fal_lt (v := v) hj
            refine lv_aload_n hx hb dX1_most_36 rfl (lv_at hl 0 rfl) ?_
            refine lv_iload_n hx hb dX1_most_37 rfl (lv_at hl 1 rfl) ?_
            refine lv_aload_n hx hb dX1_most_38 rfl (lv_at hl 0 rfl) ?_
            refine mg0 S hK hP dX1_most_39 ?_
            refine lv_iload hx hb dX1_most_42 (lv_at hl 4 rfl) ?_
            refine ml0 S hK hP (by omega) dX1_most_44 ?_
            refine zz_set (y := nI j) ej ?_
            refine zz_callR (As := [.int (nI v), .int (nI j)]) (rest := []) S (metX1_fall l D dA h q pl ms n v j hv hj) gw_X1_45 hd_X1_fall rfl rfl ⟨Nat.le_of_ble_eq_true rfl, Nat.le_of_ble_eq_true rfl⟩ rfl hl.1 rfl (Nat.le_of_ble_eq_true rfl) dX1_most_45 ⟨Nat.zero_le _, Nat.zero_le _⟩ hK hP (ci := 1) rfl rfl rfl (fun r_3 er_3 => ?_)
            subst er_3
            refine lv_iload_n hx hb dX1_most_48 rfl (lv_at hl 2 rfl) ?_
            refine zz_ne (tgt := 71) hx hb dX1_most_49 (by decide) (by omega) (by omega) (fun c_9 => ?_) (fun c_9 => ?_)
            · refine lv_iinc (v := nI (i + 1)) (lv' := [(4, .int (nI (i + 1))), (0, .ref h), (1, .int (nI v)), (2, .int (nI ce)), (3, .int ((gv pl ms i v ce).2.2.2))]) hx hb dX1_most_71 hl (k := 4) rfl (by exact nI_1 _) (by decide) rfl (fun ls hl => ?_)
              refine lv_goto (tgt := 27) hx hb dX1_most_74 (by decide) ?_
              exact ih (i + 1) (by omega) (by omega) ls (by rw [gv_f ej hj c_9]; exact lv_sub hl [1, 2, 3, 4, 0] rfl)
            · refine lv_aload_n hx hb dX1_most_52 rfl (lv_at hl 0 rfl) ?_
              refine mg1 S hK hP dX1_most_53 ?_
              refine lv_iload hx hb dX1_most_56 (lv_at hl 4 rfl) ?_
              refine ml1 S hK hP (by omega) dX1_most_58 ?_
              refine lv_iload_n hx hb dX1_most_59 rfl (lv_at hl 3 rfl) ?_
              refine lv_icmp_le (tgt := 71) hx hb dX1_most_60 (by decide) (fun c_7 => ?_) (fun c_7 => ?_)
              · refine lv_iinc (v := nI (i + 1)) (lv' := [(4, .int (nI (i + 1))), (0, .ref h), (1, .int (nI v)), (2, .int (nI ce)), (3, .int ((gv pl ms i v ce).2.2.2))]) hx hb dX1_most_71 hl (k := 4) rfl (by exact nI_1 _) (by decide) rfl (fun ls hl => ?_)
                refine lv_goto (tgt := 27) hx hb dX1_most_74 (by decide) ?_
                exact ih (i + 1) (by omega) (by omega) ls (by rw [gv_t ej hj c_9, show (agp (gv pl ms i v ce) (ag1 (ms i))).2.2.2 = (gv pl ms i v ce).2.2.2 from if_neg (Int32.not_lt.mpr c_7)]; exact lv_sub hl [1, 2, 3, 4, 0] rfl)
              · refine lv_aload_n hx hb dX1_most_63 rfl (lv_at hl 0 rfl) ?_
                refine mg1 S hK hP dX1_most_64 ?_
                refine lv_iload hx hb dX1_most_67 (lv_at hl 4 rfl) ?_
                refine ml1 S hK hP (by omega) dX1_most_69 ?_
                refine lv_istore_n (lv' := [(3, .int (ms i)), (0, .ref h), (1, .int (nI v)), (2, .int (nI ce)), (4, .int (nI i))]) hx hb dX1_most_70 rfl hl (by decide) rfl (fun ls hl => ?_)
                refine lv_iinc (v := nI (i + 1)) (lv' := [(4, .int (nI (i + 1))), (3, .int (ms i)), (0, .ref h), (1, .int (nI v)), (2, .int (nI ce))]) hx hb dX1_most_71 hl (k := 4) rfl (by exact nI_1 _) (by decide) rfl (fun ls hl => ?_)
                refine lv_goto (tgt := 27) hx hb dX1_most_74 (by decide) ?_
                exact ih (i + 1) (by omega) (by omega) ls (by rw [gv_t ej hj c_9, show (agp (gv pl ms i v ce) (ag1 (ms i))).2.2.2 = ms i from if_pos (Int32.not_le.mp c_7)]; exact lv_sub hl [2, 3, 4, 1, 0] rfl)
      refine lv_sipush (v := (-10000)) hx hb dX1_most_20 (by decide +kernel) ?_
      refine lv_istore_n (lv' := [(3, .int ((-10000))), (0, .ref h), (1, .int (nI v)), (2, .int (nI ce))]) hx hb dX1_most_23 rfl hl (by decide) rfl (fun ls hl => ?_)
      refine lv_iconst (v := nI 0) hx hb dX1_most_24 (by decide +kernel) ?_
      refine lv_istore (lv' := [(4, .int (nI 0)), (3, .int ((-10000))), (0, .ref h), (1, .int (nI v)), (2, .int (nI ce))]) hx hb dX1_most_25 hl (by decide) rfl (fun ls hl => ?_)
      exact loop (n + 1) 0 (by omega) (by omega) ls (lv_sub hl [2, 3, 4, 1, 0] rfl)
    · refine lv_sipush (v := (-10000)) hx hb dX1_most_16 (by decide +kernel) ?_
      exact hret _ _ _ (by unfold sMost; rw [if_neg (fun h9 => c_2 h9.2)]) rfl dX1_most_19
abbrev rmX1_next : Room := { frames := 2, cells := 0, slots := 0, locals := 47 }
set_option maxHeartbeats 4000000 in
set_option maxRecDepth 100000 in
theorem metX1_next (l : Launch) (D : va_G) (dA : ClassId) (h : Nat) (q : Nat → Nat) (pl ms : Nat → Int32) (n : Nat) (hF : FW pl n) (a af : Int32) : CR l yX1_next cX1_next 6 (some .int) rmX1_next [.ref h, .int a, .int af] (GP D dA (MW h q dA pl ms (nI n))) (fun r => sNext pl ms n a af r) := by
  refine CR.mk (own := RX1) (by decide) rfl (Nat.le_of_ble_eq_true rfl) ?_
  intro p e s m args below meth c Q ls S hB hl hret
  obtain ⟨hP, hK⟩ := hB
  have hx := S.1
  have hb := S.2.1
  have hn40 := hF.1
  have hl : lv_has ls 6 [(0, .ref h), (1, .int a), (2, .int af)] := hl
  refine lv_aload_n hx hb dX1_next_0 rfl (lv_at hl 0 rfl) ?_
  refine lv_iload_n hx hb dX1_next_1 rfl (lv_at hl 1 rfl) ?_
  refine zz_callR (As := [.int a]) (rest := []) S (metX1_badView l D dA h q pl ms n a) gw_X1_42 hd_X1_badView rfl rfl ⟨Nat.le_of_ble_eq_true rfl, Nat.le_of_ble_eq_true rfl⟩ rfl hl.1 rfl (Nat.le_of_ble_eq_true rfl) dX1_next_2 ⟨Nat.zero_le _, Nat.zero_le _⟩ hK hP (ci := 1) rfl rfl rfl (fun r_1 er_1 => ?_)
  subst er_1
  refine zz_beq (tgt := 10) hx hb dX1_next_5 (by decide) (fun c_1 => ?_) (fun c_1 => ?_)
  · obtain ⟨v, hv, rfl⟩ := okV_N (Classical.not_not.mp c_1)
    have loop : ∀ (d i : Nat), n + 1 ≤ i + d → i ≤ n → ∀ (fd : Int32), NX (gv pl ms i v) af fd → ∀ ls : Array Slot, lv_has ls 6 [(0, .ref h), (1, .int (nI v)), (2, .int af), (3, .int fd), (4, .int (nI i))] → W p l e rmX1_next s m args below meth c s.heap [] 0 0 Q (F0 m 16 ls []) := by
      intro d
      induction d with
      | zero => intro i h1 h2; exact absurd h1 (by omega)
      | succ d ih =>
        intro i h1 h2 fd hfd ls hl
        refine lv_iload hx hb dX1_next_16 (lv_at hl 4 rfl) ?_
        refine lv_aload_n hx hb dX1_next_18 rfl (lv_at hl 0 rfl) ?_
        refine mg2 S hK hP dX1_next_19 ?_
        refine zz_ge (tgt := 64) hx hb dX1_next_22 (by decide) (by omega) (by omega) (fun c_8 => ?_) (fun c_8 => ?_)
        · have hi : i = n := by omega
          subst hi
          refine lv_iload_n hx hb dX1_next_64 rfl (lv_at hl 3 rfl) ?_
          exact hret _ _ _ ((sNext_N hv).mpr hfd) rfl dX1_next_65
        · obtain ⟨j, hj, ej⟩ := hF.2 i (by omega)
          have hst := NX_step (fal_lt (v := v) hj) (gv_occ (ms := ms) ej hj) hfd
          refine lv_aload_n hx hb dX1_next_25 rfl (lv_at hl 0 rfl) ?_
          refine lv_iload_n hx hb dX1_next_26 rfl (lv_at hl 1 rfl) ?_
          refine lv_aload_n hx hb dX1_next_27 rfl (lv_at hl 0 rfl) ?_
          refine mg0 S hK hP dX1_next_28 ?_
          refine lv_iload hx hb dX1_next_31 (lv_at hl 4 rfl) ?_
          refine ml0 S hK hP (by omega) dX1_next_33 ?_
          refine zz_set (y := nI j) ej ?_
          refine zz_callR (As := [.int (nI v), .int (nI j)]) (rest := []) S (metX1_fall l D dA h q pl ms n v j hv hj) gw_X1_45 hd_X1_fall rfl rfl ⟨Nat.le_of_ble_eq_true rfl, Nat.le_of_ble_eq_true rfl⟩ rfl hl.1 rfl (Nat.le_of_ble_eq_true rfl) dX1_next_34 ⟨Nat.zero_le _, Nat.zero_le _⟩ hK hP (ci := 1) rfl rfl rfl (fun r_2 er_2 => ?_)
          subst er_2
          refine lv_istore (lv' := [(5, .int (nI (fal v j))), (0, .ref h), (1, .int (nI v)), (2, .int af), (3, .int fd), (4, .int (nI i))]) hx hb dX1_next_37 hl (by decide) rfl (fun ls hl => ?_)
          refine lv_iload hx hb dX1_next_39 (lv_at hl 0 rfl) ?_
          refine lv_iload_n hx hb dX1_next_41 rfl (lv_at hl 3 rfl) ?_
          refine lv_icmp_le (tgt := 58) hx hb dX1_next_42 (by decide) (fun c_3 => ?_) (fun c_3 => ?_)
          · refine lv_iinc (v := nI (i + 1)) (lv' := [(4, .int (nI (i + 1))), (5, .int (nI (fal v j))), (0, .ref h), (1, .int (nI v)), (2, .int af), (3, .int fd)]) hx hb dX1_next_58 hl (k := 5) rfl (by exact nI_1 _) (by decide) rfl (fun ls hl => ?_)
            refine lv_goto (tgt := 16) hx hb dX1_next_61 (by decide) ?_
            exact ih (i + 1) (by omega) (by omega) fd (by rw [if_neg (fun h9 => Int32.not_lt.mpr c_3 h9.1)] at hst; exact hst) ls (lv_sub hl [2, 3, 4, 5, 0] rfl)
          · refine lv_iload_n hx hb dX1_next_45 rfl (lv_at hl 4 rfl) ?_
            refine lv_if_lt (tgt := 55) hx hb dX1_next_46 (by decide) (fun c_4 => ?_) (fun c_4 => ?_)
            · refine lv_iload hx hb dX1_next_55 (lv_at hl 0 rfl) ?_
              refine lv_istore_n (lv' := [(3, .int (nI (fal v j))), (5, .int (nI (fal v j))), (0, .ref h), (1, .int (nI v)), (2, .int af), (4, .int (nI i))]) hx hb dX1_next_57 rfl hl (by decide) rfl (fun ls hl => ?_)
              refine lv_iinc (v := nI (i + 1)) (lv' := [(4, .int (nI (i + 1))), (3, .int (nI (fal v j))), (5, .int (nI (fal v j))), (0, .ref h), (1, .int (nI v)), (2, .int af)]) hx hb dX1_next_58 hl (k := 5) rfl (by exact nI_1 _) (by decide) rfl (fun ls hl => ?_)
              refine lv_goto (tgt := 16) hx hb dX1_next_61 (by decide) ?_
              exact ih (i + 1) (by omega) (by omega) (nI (fal v j)) (by rw [if_pos ⟨Int32.not_le.mp c_3, Or.inl c_4⟩] at hst; exact hst) ls (lv_sub hl [3, 4, 5, 1, 0] rfl)
            · refine lv_iload hx hb dX1_next_49 (lv_at hl 0 rfl) ?_
              refine lv_iload_n hx hb dX1_next_51 rfl (lv_at hl 4 rfl) ?_
              refine lv_icmp_ge (tgt := 58) hx hb dX1_next_52 (by decide) (fun c_5 => ?_) (fun c_5 => ?_)
              · refine lv_iinc (v := nI (i + 1)) (lv' := [(4, .int (nI (i + 1))), (5, .int (nI (fal v j))), (0, .ref h), (1, .int (nI v)), (2, .int af), (3, .int fd)]) hx hb dX1_next_58 hl (k := 5) rfl (by exact nI_1 _) (by decide) rfl (fun ls hl => ?_)
                refine lv_goto (tgt := 16) hx hb dX1_next_61 (by decide) ?_
                exact ih (i + 1) (by omega) (by omega) fd (by rw [if_neg (fun h9 => h9.2.elim c_4 (Int32.not_lt.mpr c_5))] at hst; exact hst) ls (lv_sub hl [2, 3, 4, 5, 0] rfl)
              · refine lv_iload hx hb dX1_next_55 (lv_at hl 0 rfl) ?_
                refine lv_istore_n (lv' := [(3, .int (nI (fal v j))), (5, .int (nI (fal v j))), (0, .ref h), (1, .int (nI v)), (2, .int af), (4, .int (nI i))]) hx hb dX1_next_57 rfl hl (by decide) rfl (fun ls hl => ?_)
                refine lv_iinc (v := nI (i + 1)) (lv' := [(4, .int (nI (i + 1))), (3, .int (nI (fal v j))), (5, .int (nI (fal v j))), (0, .ref h), (1, .int (nI v)), (2, .int af)]) hx hb dX1_next_58 hl (k := 5) rfl (by exact nI_1 _) (by decide) rfl (fun ls hl => ?_)
                refine lv_goto (tgt := 16) hx hb dX1_next_61 (by decide) ?_
                exact ih (i + 1) (by omega) (by omega) (nI (fal v j)) (by rw [if_pos ⟨Int32.not_le.mp c_3, Or.inr (Int32.not_le.mp c_5)⟩] at hst; exact hst) ls (lv_sub hl [3, 4, 5, 1, 0] rfl)
    refine lv_bipush (v := (-2)) hx hb dX1_next_10 (by decide +kernel) ?_
    refine lv_istore_n (lv' := [(3, .int ((-2))), (0, .ref h), (1, .int (nI v)), (2, .int af)]) hx hb dX1_next_12 rfl hl (by decide) rfl (fun ls hl => ?_)
    refine lv_iconst (v := nI 0) hx hb dX1_next_13 (by decide +kernel) ?_
    refine lv_istore (lv' := [(4, .int (nI 0)), (3, .int ((-2))), (0, .ref h), (1, .int (nI v)), (2, .int af)]) hx hb dX1_next_14 hl (by decide) rfl (fun ls hl => ?_)
    exact loop (n + 1) 0 (by omega) (by omega) (-2) NX_0 ls (lv_sub hl [2, 3, 4, 1, 0] rfl)
  · refine lv_iconst (v := (-1)) hx hb dX1_next_8 (by decide +kernel) ?_
    exact hret _ _ _ (by unfold sNext; rw [if_neg c_1]) rfl dX1_next_9
abbrev rmX1_full : Room := { frames := 3, cells := 0, slots := 0, locals := 72 }
set_option maxHeartbeats 4000000 in
set_option maxRecDepth 100000 in
theorem metX1_full (l : Launch) (D : va_G) (dA : ClassId) (h : Nat) (q : Nat → Nat) (pl ms : Nat → Int32) (n : Nat) (hF : FW pl n) (a : Int32) : CR l yX1_full cX1_full 4 (some .int) rmX1_full [.ref h, .int a] (GP D dA (MW h q dA pl ms (nI n))) (fun r => r = sFull pl ms n a) := by
  refine CR.mk (own := RX1) (by decide) rfl (Nat.le_of_ble_eq_true rfl) ?_
  intro p e s m args below meth c Q ls S hB hl hret
  obtain ⟨hP, hK⟩ := hB
  have hx := S.1
  have hb := S.2.1
  have hn40 := hF.1
  have hl : lv_has ls 4 [(0, .ref h), (1, .int a)] := hl
  refine lv_aload_n hx hb dX1_full_0 rfl (lv_at hl 0 rfl) ?_
  refine lv_iload_n hx hb dX1_full_1 rfl (lv_at hl 1 rfl) ?_
  refine zz_callR (As := [.int a]) (rest := []) S (metX1_badView l D dA h q pl ms n a) gw_X1_42 hd_X1_badView rfl rfl ⟨Nat.le_of_ble_eq_true rfl, Nat.le_of_ble_eq_true rfl⟩ rfl hl.1 rfl (Nat.le_of_ble_eq_true rfl) dX1_full_2 ⟨Nat.zero_le _, Nat.zero_le _⟩ hK hP (ci := 1) rfl rfl rfl (fun r_1 er_1 => ?_)
  subst er_1
  refine zz_beq (tgt := 10) hx hb dX1_full_5 (by decide) (fun c_1 => ?_) (fun c_1 => ?_)
  · obtain ⟨v, hv, rfl⟩ := okV_N (Classical.not_not.mp c_1)
    have loop : ∀ (d x : Nat), 193 ≤ x + d → x < 192 → 0 < (gv pl ms n v x).1 → ∀ ls : Array Slot, lv_has ls 4 [(0, .ref h), (1, .int (nI v)), (2, .int (nI (ocG (gv pl ms n v) x))), (3, .int (nI x))] → W p l e rmX1_full s m args below meth c s.heap [] 0 0 Q (F0 m 19 ls []) := by
      intro d
      induction d with
      | zero => intro x h1 h2; exact absurd h1 (by omega)
      | succ d ih =>
        intro x h1 h2 h3 ls hl
        have hle := ocG_le (gv pl ms n v) x
        have hsuc : ocG (gv pl ms n v) (x + 1) = ocG (gv pl ms n v) x + 1 := by show _ + (if _ then 1 else 0) = _; rw [if_pos h3]
        refine lv_iload_n hx hb dX1_full_19 rfl (lv_at hl 3 rfl) ?_
        refine zz_if_lt (tgt := 43) hx hb dX1_full_20 (by decide) (by omega) ?_
        refine lv_iload_n hx hb dX1_full_23 rfl (lv_at hl 2 rfl) ?_
        refine lv_sipush (v := nI 192) hx hb dX1_full_24 (by decide +kernel) ?_
        refine zz_ge (tgt := 43) hx hb dX1_full_27 (by decide) (by omega) (by omega) (fun c_2 => ?_) (fun c_2 => ?_)
        · exact absurd c_2 (by omega)
        · refine lv_iinc (v := nI (ocG (gv pl ms n v) x + 1)) (lv' := [(2, .int (nI (ocG (gv pl ms n v) x + 1))), (0, .ref h), (1, .int (nI v)), (3, .int (nI x))]) hx hb dX1_full_30 hl (k := 2) rfl (by exact nI_1 _) (by decide) rfl (fun ls hl => ?_)
          refine lv_aload_n hx hb dX1_full_33 rfl (lv_at hl 1 rfl) ?_
          refine lv_iload_n hx hb dX1_full_34 rfl (lv_at hl 2 rfl) ?_
          refine lv_iload_n hx hb dX1_full_35 rfl (lv_at hl 3 rfl) ?_
          refine zz_callR (As := [.int (nI v), .int (nI x)]) (rest := []) S (metX1_next l D dA h q pl ms n hF (nI v) (nI x)) gw_X1_48 hd_X1_next rfl rfl ⟨Nat.le_of_ble_eq_true rfl, Nat.le_of_ble_eq_true rfl⟩ rfl hl.1 rfl (Nat.le_of_ble_eq_true rfl) dX1_full_36 ⟨Nat.zero_le _, Nat.zero_le _⟩ hK hP (ci := 1) rfl rfl rfl (fun r2 er2 => ?_)
          have hnx := NX_next h2 ((sNext_N hv).mp er2)
          rcases hnx with ⟨rfl, hgap⟩ | ⟨y, hxy, hy, hoc, rfl, hgap⟩
          · refine lv_istore_n (lv' := [(3, .int ((-2))), (2, .int (nI (ocG (gv pl ms n v) x + 1))), (0, .ref h), (1, .int (nI v))]) hx hb dX1_full_39 rfl hl (by decide) rfl (fun ls hl => ?_)
            refine lv_goto (tgt := 19) hx hb dX1_full_40 (by decide) ?_
            refine lv_iload_n hx hb dX1_full_19 rfl (lv_at hl 0 rfl) ?_
            refine lv_if_lt (tgt := 43) hx hb dX1_full_20 (by decide) (fun c_3 => ?_) (fun c_3 => absurd m2_lt0 c_3)
            refine lv_iload_n hx hb dX1_full_43 rfl (lv_at hl 1 rfl) ?_
            exact hret _ _ _ (by rw [sFull_N hv, ocG_gap (gv pl ms n v) (x := x + 1) (by omega) (fun z q1 q2 => hgap z (by omega) q2), hsuc]) rfl dX1_full_44
          · refine lv_istore_n (lv' := [(3, .int (nI y)), (2, .int (nI (ocG (gv pl ms n v) x + 1))), (0, .ref h), (1, .int (nI v))]) hx hb dX1_full_39 rfl hl (by decide) rfl (fun ls hl => ?_)
            refine lv_goto (tgt := 19) hx hb dX1_full_40 (by decide) ?_
            exact ih y (by omega) hy hoc ls (by rw [ocG_gap (gv pl ms n v) (x := x + 1) (by omega) (fun z q1 q2 => hgap z (by omega) q2), hsuc]; exact lv_sub hl [2, 3, 1, 0] rfl)
    refine lv_iconst (v := nI 0) hx hb dX1_full_10 (by decide +kernel) ?_
    refine lv_istore_n (lv' := [(2, .int (nI 0)), (0, .ref h), (1, .int (nI v))]) hx hb dX1_full_11 rfl hl (by decide) rfl (fun ls hl => ?_)
    refine lv_aload_n hx hb dX1_full_12 rfl (lv_at hl 1 rfl) ?_
    refine lv_iload_n hx hb dX1_full_13 rfl (lv_at hl 2 rfl) ?_
    refine lv_iconst (v := (-1)) hx hb dX1_full_14 (by decide +kernel) ?_
    refine zz_callR (As := [.int (nI v), .int ((-1))]) (rest := []) S (metX1_next l D dA h q pl ms n hF (nI v) (-1)) gw_X1_48 hd_X1_next rfl rfl ⟨Nat.le_of_ble_eq_true rfl, Nat.le_of_ble_eq_true rfl⟩ rfl hl.1 rfl (Nat.le_of_ble_eq_true rfl) dX1_full_15 ⟨Nat.zero_le _, Nat.zero_le _⟩ hK hP (ci := 1) rfl rfl rfl (fun r2 er2 => ?_)
    have hnx := NX_first ((sNext_N hv).mp er2)
    rcases hnx with ⟨rfl, hgap⟩ | ⟨y, hy, hoc, rfl, hgap⟩
    · refine lv_istore_n (lv' := [(3, .int ((-2))), (2, .int (nI 0)), (0, .ref h), (1, .int (nI v))]) hx hb dX1_full_18 rfl hl (by decide) rfl (fun ls hl => ?_)
      refine lv_iload_n hx hb dX1_full_19 rfl (lv_at hl 0 rfl) ?_
      refine lv_if_lt (tgt := 43) hx hb dX1_full_20 (by decide) (fun c_3 => ?_) (fun c_3 => absurd m2_lt0 c_3)
      refine lv_iload_n hx hb dX1_full_43 rfl (lv_at hl 1 rfl) ?_
      exact hret _ _ _ (by rw [sFull_N hv, ocG_gap (gv pl ms n v) (x := 0) (by omega) (fun z q1 q2 => hgap z q2)]; rfl) rfl dX1_full_44
    · refine lv_istore_n (lv' := [(3, .int (nI y)), (2, .int (nI 0)), (0, .ref h), (1, .int (nI v))]) hx hb dX1_full_18 rfl hl (by decide) rfl (fun ls hl => ?_)
      exact loop 193 y (by omega) hy hoc ls (by rw [ocG_gap (gv pl ms n v) (x := 0) (by omega) (fun z q1 q2 => hgap z q2)]; exact lv_sub hl [2, 3, 1, 0] rfl)
  · refine lv_iconst (v := (-1)) hx hb dX1_full_8 (by decide +kernel) ?_
    exact hret _ _ _ (by unfold sFull; rw [if_neg c_1]) rfl dX1_full_9
abbrev rmX1_prepare : Room := { frames := 4, cells := 0, slots := 0, locals := 95 }
set_option maxHeartbeats 4000000 in
set_option maxRecDepth 100000 in
theorem metX1_prepare (l : Launch) (D : va_G) (dA : ClassId) (h : Nat) (q : Nat → Nat) (pl ms : Nat → Int32) (n : Nat) (hF : FW pl n) (a : Int32) : CR l yX1_prepare cX1_prepare 2 (some .int) rmX1_prepare [.ref h, .int a] (GP D dA (MW h q dA pl ms (nI n))) (fun r => r = sFull pl ms n a) := by
  refine CR.mk (own := RX1) (by decide) rfl (Nat.le_of_ble_eq_true rfl) ?_
  intro p e s m args below meth c Q ls S hB hl hret
  obtain ⟨hP, hK⟩ := hB
  have hx := S.1
  have hb := S.2.1
  have hn40 := hF.1
  have hl : lv_has ls 2 [(0, .ref h), (1, .int a)] := hl
  refine lv_aload_n hx hb dX1_prepare_0 rfl (lv_at hl 0 rfl) ?_
  refine lv_iload_n hx hb dX1_prepare_1 rfl (lv_at hl 1 rfl) ?_
  refine zz_callR (As := [.int a]) (rest := []) S (metX1_full l D dA h q pl ms n hF a) gw_X1_28 hd_X1_full rfl rfl ⟨Nat.le_of_ble_eq_true rfl, Nat.le_of_ble_eq_true rfl⟩ rfl hl.1 rfl (Nat.le_of_ble_eq_true rfl) dX1_prepare_2 ⟨Nat.zero_le _, Nat.zero_le _⟩ hK hP (ci := 1) rfl rfl rfl (fun r_1 er_1 => ?_)
  subst er_1
  exact hret _ _ _ rfl rfl dX1_prepare_5
abbrev rmX1_best : Room := { frames := 3, cells := 0, slots := 0, locals := 72 }
set_option maxHeartbeats 4000000 in
set_option maxRecDepth 100000 in
theorem metX1_best (l : Launch) (D : va_G) (dA : ClassId) (h : Nat) (q : Nat → Nat) (pl ms : Nat → Int32) (n : Nat) (hF : FW pl n) (a : Int32) : CR l yX1_best cX1_best 6 (some .int) rmX1_best [.ref h, .int a] (GP D dA (MW h q dA pl ms (nI n))) (fun r => r = sBest pl ms n a) := by
  refine CR.mk (own := RX1) (by decide) rfl (Nat.le_of_ble_eq_true rfl) ?_
  intro p e s m args below meth c Q ls S hB hl hret
  obtain ⟨hP, hK⟩ := hB
  have hx := S.1
  have hb := S.2.1
  have hn40 := hF.1
  have hl : lv_has ls 6 [(0, .ref h), (1, .int a)] := hl
  refine lv_aload_n hx hb dX1_best_0 rfl (lv_at hl 0 rfl) ?_
  refine lv_iload_n hx hb dX1_best_1 rfl (lv_at hl 1 rfl) ?_
  refine zz_callR (As := [.int a]) (rest := []) S (metX1_badView l D dA h q pl ms n a) gw_X1_42 hd_X1_badView rfl rfl ⟨Nat.le_of_ble_eq_true rfl, Nat.le_of_ble_eq_true rfl⟩ rfl hl.1 rfl (Nat.le_of_ble_eq_true rfl) dX1_best_2 ⟨Nat.zero_le _, Nat.zero_le _⟩ hK hP (ci := 1) rfl rfl rfl (fun r_1 er_1 => ?_)
  subst er_1
  refine zz_beq (tgt := 10) hx hb dX1_best_5 (by decide) (fun c_1 => ?_) (fun c_1 => ?_)
  · obtain ⟨v, hv, rfl⟩ := okV_N (Classical.not_not.mp c_1)
    have loop : ∀ (d x : Nat), 193 ≤ x + d → x < 192 → 0 < (gv pl ms n v x).1 → ∀ (fd mo : Int32), fd = bst (gv pl ms n v) x → (fd < 0 ∨ mo = (gv pl ms n v (pN fd)).2.1) → ∀ ls : Array Slot, lv_has ls 6 [(0, .ref h), (1, .int (nI v)), (2, .int fd), (3, .int mo), (4, .int (nI x))] → W p l e rmX1_best s m args below meth c s.heap [] 0 0 Q (F0 m 23 ls []) := by
      intro d
      induction d with
      | zero => intro x h1 h2; exact absurd h1 (by omega)
      | succ d ih =>
        intro x h1 h2 h3 fd mo hfd hmo ls hl
        refine lv_iload hx hb dX1_best_23 (lv_at hl 4 rfl) ?_
        refine zz_if_lt (tgt := 65) hx hb dX1_best_25 (by decide) (by omega) ?_
        refine lv_aload_n hx hb dX1_best_28 rfl (lv_at hl 0 rfl) ?_
        refine lv_iload_n hx hb dX1_best_29 rfl (lv_at hl 1 rfl) ?_
        refine lv_iload hx hb dX1_best_30 (lv_at hl 4 rfl) ?_
        refine zz_callR (As := [.int (nI v), .int (nI x)]) (rest := []) S (metX1_sum l D dA h q pl ms n hF (nI v) (nI x)) gw_X1_54 hd_X1_sum rfl rfl ⟨Nat.le_of_ble_eq_true rfl, Nat.le_of_ble_eq_true rfl⟩ rfl hl.1 rfl (Nat.le_of_ble_eq_true rfl) dX1_best_32 ⟨Nat.zero_le _, Nat.zero_le _⟩ hK hP (ci := 1) rfl rfl rfl (fun r_2 er_2 => ?_)
        subst er_2
        refine zz_set (y := (gv pl ms n v x).2.1) (sSum_N hv h2) ?_
        refine lv_istore (lv' := [(5, .int ((gv pl ms n v x).2.1)), (0, .ref h), (1, .int (nI v)), (2, .int fd), (3, .int mo), (4, .int (nI x))]) hx hb dX1_best_35 hl (by decide) rfl (fun ls hl => ?_)
        refine lv_iload_n hx hb dX1_best_37 rfl (lv_at hl 3 rfl) ?_
        refine lv_if_lt (tgt := 47) hx hb dX1_best_38 (by decide) (fun c_4 => ?_) (fun c_4 => ?_)
        · refine lv_iload hx hb dX1_best_47 (lv_at hl 5 rfl) ?_
          refine lv_istore_n (lv' := [(2, .int (nI x)), (5, .int ((gv pl ms n v x).2.1)), (0, .ref h), (1, .int (nI v)), (3, .int mo), (4, .int (nI x))]) hx hb dX1_best_49 rfl hl (by decide) rfl (fun ls hl => ?_)
          refine lv_iload hx hb dX1_best_50 (lv_at hl 1 rfl) ?_
          refine lv_istore_n (lv' := [(3, .int ((gv pl ms n v x).2.1)), (2, .int (nI x)), (5, .int ((gv pl ms n v x).2.1)), (0, .ref h), (1, .int (nI v)), (4, .int (nI x))]) hx hb dX1_best_52 rfl hl (by decide) rfl (fun ls hl => ?_)
          refine lv_aload_n hx hb dX1_best_53 rfl (lv_at hl 3 rfl) ?_
          refine lv_iload_n hx hb dX1_best_54 rfl (lv_at hl 4 rfl) ?_
          refine lv_iload hx hb dX1_best_55 (lv_at hl 5 rfl) ?_
          refine zz_callR (As := [.int (nI v), .int (nI x)]) (rest := []) S (metX1_next l D dA h q pl ms n hF (nI v) (nI x)) gw_X1_48 hd_X1_next rfl rfl ⟨Nat.le_of_ble_eq_true rfl, Nat.le_of_ble_eq_true rfl⟩ rfl hl.1 rfl (Nat.le_of_ble_eq_true rfl) dX1_best_57 ⟨Nat.zero_le _, Nat.zero_le _⟩ hK hP (ci := 1) rfl rfl rfl (fun r2 er2 => ?_)
          have hb1 : nI x = bst (gv pl ms n v) (x + 1) := (by show _ = (if _ then nI x else _); rw [← hfd, if_pos ⟨h3, Or.inl c_4⟩])
          have hnx := NX_next h2 ((sNext_N hv).mp er2)
          rcases hnx with ⟨rfl, hgap⟩ | ⟨y, hxy, hy, hoc, rfl, hgap⟩
          · refine lv_istore (lv' := [(4, .int ((-2))), (3, .int ((gv pl ms n v x).2.1)), (2, .int (nI x)), (5, .int ((gv pl ms n v x).2.1)), (0, .ref h), (1, .int (nI v))]) hx hb dX1_best_60 hl (by decide) rfl (fun ls hl => ?_)
            refine lv_goto (tgt := 23) hx hb dX1_best_62 (by decide) ?_
            refine lv_iload hx hb dX1_best_23 (lv_at hl 0 rfl) ?_
            refine lv_if_lt (tgt := 65) hx hb dX1_best_25 (by decide) (fun c_3 => ?_) (fun c_3 => absurd m2_lt0 c_3)
            refine lv_iload_n hx hb dX1_best_65 rfl (lv_at hl 2 rfl) ?_
            exact hret _ _ _ (by rw [sBest_N hv, bst_gap (gv pl ms n v) (x := x + 1) (by omega) (fun z q1 q2 => hgap z (by omega) q2)]; exact hb1) rfl dX1_best_66
          · refine lv_istore (lv' := [(4, .int (nI y)), (3, .int ((gv pl ms n v x).2.1)), (2, .int (nI x)), (5, .int ((gv pl ms n v x).2.1)), (0, .ref h), (1, .int (nI v))]) hx hb dX1_best_60 hl (by decide) rfl (fun ls hl => ?_)
            refine lv_goto (tgt := 23) hx hb dX1_best_62 (by decide) ?_
            exact ih y (by omega) hy hoc _ _ (by rw [bst_gap (gv pl ms n v) (x := x + 1) (by omega) (fun z q1 q2 => hgap z (by omega) q2)]; exact hb1) (Or.inr (by rw [pN_nI (by omega)])) ls (lv_sub hl [4, 5, 2, 1, 0] rfl)
        · refine lv_iload hx hb dX1_best_41 (lv_at hl 0 rfl) ?_
          refine lv_iload_n hx hb dX1_best_43 rfl (lv_at hl 4 rfl) ?_
          have hmo := hmo.resolve_left c_4
          refine lv_icmp_le (tgt := 53) hx hb dX1_best_44 (by decide) (fun c_5 => ?_) (fun c_5 => ?_)
          · refine lv_aload_n hx hb dX1_best_53 rfl (lv_at hl 1 rfl) ?_
            refine lv_iload_n hx hb dX1_best_54 rfl (lv_at hl 2 rfl) ?_
            refine lv_iload hx hb dX1_best_55 (lv_at hl 5 rfl) ?_
            refine zz_callR (As := [.int (nI v), .int (nI x)]) (rest := []) S (metX1_next l D dA h q pl ms n hF (nI v) (nI x)) gw_X1_48 hd_X1_next rfl rfl ⟨Nat.le_of_ble_eq_true rfl, Nat.le_of_ble_eq_true rfl⟩ rfl hl.1 rfl (Nat.le_of_ble_eq_true rfl) dX1_best_57 ⟨Nat.zero_le _, Nat.zero_le _⟩ hK hP (ci := 1) rfl rfl rfl (fun r2 er2 => ?_)
            have hb1 : fd = bst (gv pl ms n v) (x + 1) := (by show _ = (if _ then nI x else _); rw [← hfd, if_neg (fun h9 => h9.2.elim c_4 (by rw [← hmo]; exact Int32.not_lt.mpr c_5))])
            have hnx := NX_next h2 ((sNext_N hv).mp er2)
            rcases hnx with ⟨rfl, hgap⟩ | ⟨y, hxy, hy, hoc, rfl, hgap⟩
            · refine lv_istore (lv' := [(4, .int ((-2))), (5, .int ((gv pl ms n v x).2.1)), (0, .ref h), (1, .int (nI v)), (2, .int fd), (3, .int mo)]) hx hb dX1_best_60 hl (by decide) rfl (fun ls hl => ?_)
              refine lv_goto (tgt := 23) hx hb dX1_best_62 (by decide) ?_
              refine lv_iload hx hb dX1_best_23 (lv_at hl 0 rfl) ?_
              refine lv_if_lt (tgt := 65) hx hb dX1_best_25 (by decide) (fun c_3 => ?_) (fun c_3 => absurd m2_lt0 c_3)
              refine lv_iload_n hx hb dX1_best_65 rfl (lv_at hl 4 rfl) ?_
              exact hret _ _ _ (by rw [sBest_N hv, bst_gap (gv pl ms n v) (x := x + 1) (by omega) (fun z q1 q2 => hgap z (by omega) q2)]; exact hb1) rfl dX1_best_66
            · refine lv_istore (lv' := [(4, .int (nI y)), (5, .int ((gv pl ms n v x).2.1)), (0, .ref h), (1, .int (nI v)), (2, .int fd), (3, .int mo)]) hx hb dX1_best_60 hl (by decide) rfl (fun ls hl => ?_)
              refine lv_goto (tgt := 23) hx hb dX1_best_62 (by decide) ?_
              exact ih y (by omega) hy hoc _ _ (by rw [bst_gap (gv pl ms n v) (x := x + 1) (by omega) (fun z q1 q2 => hgap z (by omega) q2)]; exact hb1) (Or.inr hmo) ls (lv_sub hl [2, 3, 4, 5, 0] rfl)
          · refine lv_iload hx hb dX1_best_47 (lv_at hl 5 rfl) ?_
            refine lv_istore_n (lv' := [(2, .int (nI x)), (5, .int ((gv pl ms n v x).2.1)), (0, .ref h), (1, .int (nI v)), (3, .int mo), (4, .int (nI x))]) hx hb dX1_best_49 rfl hl (by decide) rfl (fun ls hl => ?_)
            refine lv_iload hx hb dX1_best_50 (lv_at hl 1 rfl) ?_
            refine lv_istore_n (lv' := [(3, .int ((gv pl ms n v x).2.1)), (2, .int (nI x)), (5, .int ((gv pl ms n v x).2.1)), (0, .ref h), (1, .int (nI v)), (4, .int (nI x))]) hx hb dX1_best_52 rfl hl (by decide) rfl (fun ls hl => ?_)
            refine lv_aload_n hx hb dX1_best_53 rfl (lv_at hl 3 rfl) ?_
            refine lv_iload_n hx hb dX1_best_54 rfl (lv_at hl 4 rfl) ?_
            refine lv_iload hx hb dX1_best_55 (lv_at hl 5 rfl) ?_
            refine zz_callR (As := [.int (nI v), .int (nI x)]) (rest := []) S (metX1_next l D dA h q pl ms n hF (nI v) (nI x)) gw_X1_48 hd_X1_next rfl rfl ⟨Nat.le_of_ble_eq_true rfl, Nat.le_of_ble_eq_true rfl⟩ rfl hl.1 rfl (Nat.le_of_ble_eq_true rfl) dX1_best_57 ⟨Nat.zero_le _, Nat.zero_le _⟩ hK hP (ci := 1) rfl rfl rfl (fun r2 er2 => ?_)
            have hb1 : nI x = bst (gv pl ms n v) (x + 1) := (by show _ = (if _ then nI x else _); rw [← hfd, if_pos ⟨h3, Or.inr (by rw [← hmo]; exact Int32.not_le.mp c_5)⟩])
            have hnx := NX_next h2 ((sNext_N hv).mp er2)
            rcases hnx with ⟨rfl, hgap⟩ | ⟨y, hxy, hy, hoc, rfl, hgap⟩
            · refine lv_istore (lv' := [(4, .int ((-2))), (3, .int ((gv pl ms n v x).2.1)), (2, .int (nI x)), (5, .int ((gv pl ms n v x).2.1)), (0, .ref h), (1, .int (nI v))]) hx hb dX1_best_60 hl (by decide) rfl (fun ls hl => ?_)
              refine lv_goto (tgt := 23) hx hb dX1_best_62 (by decide) ?_
              refine lv_iload hx hb dX1_best_23 (lv_at hl 0 rfl) ?_
              refine lv_if_lt (tgt := 65) hx hb dX1_best_25 (by decide) (fun c_3 => ?_) (fun c_3 => absurd m2_lt0 c_3)
              refine lv_iload_n hx hb dX1_best_65 rfl (lv_at hl 2 rfl) ?_
              exact hret _ _ _ (by rw [sBest_N hv, bst_gap (gv pl ms n v) (x := x + 1) (by omega) (fun z q1 q2 => hgap z (by omega) q2)]; exact hb1) rfl dX1_best_66
            · refine lv_istore (lv' := [(4, .int (nI y)), (3, .int ((gv pl ms n v x).2.1)), (2, .int (nI x)), (5, .int ((gv pl ms n v x).2.1)), (0, .ref h), (1, .int (nI v))]) hx hb dX1_best_60 hl (by decide) rfl (fun ls hl => ?_)
              refine lv_goto (tgt := 23) hx hb dX1_best_62 (by decide) ?_
              exact ih y (by omega) hy hoc _ _ (by rw [bst_gap (gv pl ms n v) (x := x + 1) (by omega) (fun z q1 q2 => hgap z (by omega) q2)]; exact hb1) (Or.inr (by rw [pN_nI (by omega)])) ls (lv_sub hl [4, 5, 2, 1, 0] rfl)
    refine lv_bipush (v := (-2)) hx hb dX1_best_10 (by decide +kernel) ?_
    refine lv_istore_n (lv' := [(2, .int ((-2))), (0, .ref h), (1, .int (nI v))]) hx hb dX1_best_12 rfl hl (by decide) rfl (fun ls hl => ?_)
    refine lv_iconst (v := nI 0) hx hb dX1_best_13 (by decide +kernel) ?_
    refine lv_istore_n (lv' := [(3, .int (nI 0)), (2, .int ((-2))), (0, .ref h), (1, .int (nI v))]) hx hb dX1_best_14 rfl hl (by decide) rfl (fun ls hl => ?_)
    refine lv_aload_n hx hb dX1_best_15 rfl (lv_at hl 2 rfl) ?_
    refine lv_iload_n hx hb dX1_best_16 rfl (lv_at hl 3 rfl) ?_
    refine lv_iconst (v := (-1)) hx hb dX1_best_17 (by decide +kernel) ?_
    refine zz_callR (As := [.int (nI v), .int ((-1))]) (rest := []) S (metX1_next l D dA h q pl ms n hF (nI v) (-1)) gw_X1_48 hd_X1_next rfl rfl ⟨Nat.le_of_ble_eq_true rfl, Nat.le_of_ble_eq_true rfl⟩ rfl hl.1 rfl (Nat.le_of_ble_eq_true rfl) dX1_best_18 ⟨Nat.zero_le _, Nat.zero_le _⟩ hK hP (ci := 1) rfl rfl rfl (fun r2 er2 => ?_)
    have hnx := NX_first ((sNext_N hv).mp er2)
    rcases hnx with ⟨rfl, hgap⟩ | ⟨y, hy, hoc, rfl, hgap⟩
    · refine lv_istore (lv' := [(4, .int ((-2))), (3, .int (nI 0)), (2, .int ((-2))), (0, .ref h), (1, .int (nI v))]) hx hb dX1_best_21 hl (by decide) rfl (fun ls hl => ?_)
      refine lv_iload hx hb dX1_best_23 (lv_at hl 0 rfl) ?_
      refine lv_if_lt (tgt := 65) hx hb dX1_best_25 (by decide) (fun c_3 => ?_) (fun c_3 => absurd m2_lt0 c_3)
      refine lv_iload_n hx hb dX1_best_65 rfl (lv_at hl 2 rfl) ?_
      exact hret _ _ _ (by rw [sBest_N hv, bst_gap (gv pl ms n v) (x := 0) (by omega) (fun z q1 q2 => hgap z q2)]; rfl) rfl dX1_best_66
    · refine lv_istore (lv' := [(4, .int (nI y)), (3, .int (nI 0)), (2, .int ((-2))), (0, .ref h), (1, .int (nI v))]) hx hb dX1_best_21 hl (by decide) rfl (fun ls hl => ?_)
      exact loop 193 y (by omega) hy hoc (-2) (nI 0) (by rw [bst_gap (gv pl ms n v) (x := 0) (by omega) (fun z q1 q2 => hgap z q2)]; rfl) (Or.inl m2_lt0) ls (lv_sub hl [3, 4, 2, 1, 0] rfl)
  · refine lv_iconst (v := (-1)) hx hb dX1_best_8 (by decide +kernel) ?_
    exact hret _ _ _ (by unfold sBest; rw [if_neg c_1]) rfl dX1_best_9
abbrev rmX1_having : Room := { frames := 3, cells := 0, slots := 0, locals := 72 }
set_option maxHeartbeats 4000000 in
set_option maxRecDepth 100000 in
theorem metX1_having (l : Launch) (D : va_G) (dA : ClassId) (h : Nat) (q : Nat → Nat) (pl ms : Nat → Int32) (n : Nat) (hF : FW pl n) (a b : Int32) : CR l yX1_having cX1_having 6 (some .int) rmX1_having [.ref h, .int a, .int b] (GP D dA (MW h q dA pl ms (nI n))) (fun r => r = sHaving pl ms n a b) := by
  refine CR.mk (own := RX1) (by decide) rfl (Nat.le_of_ble_eq_true rfl) ?_
  intro p e s m args below meth c Q ls S hB hl hret
  obtain ⟨hP, hK⟩ := hB
  have hx := S.1
  have hb := S.2.1
  have hn40 := hF.1
  have hl : lv_has ls 6 [(0, .ref h), (1, .int a), (2, .int b)] := hl
  refine lv_aload_n hx hb dX1_having_0 rfl (lv_at hl 0 rfl) ?_
  refine lv_iload_n hx hb dX1_having_1 rfl (lv_at hl 1 rfl) ?_
  refine zz_callR (As := [.int a]) (rest := []) S (metX1_badView l D dA h q pl ms n a) gw_X1_42 hd_X1_badView rfl rfl ⟨Nat.le_of_ble_eq_true rfl, Nat.le_of_ble_eq_true rfl⟩ rfl hl.1 rfl (Nat.le_of_ble_eq_true rfl) dX1_having_2 ⟨Nat.zero_le _, Nat.zero_le _⟩ hK hP (ci := 1) rfl rfl rfl (fun r_1 er_1 => ?_)
  subst er_1
  refine zz_beq (tgt := 10) hx hb dX1_having_5 (by decide) (fun c_1 => ?_) (fun c_1 => ?_)
  · obtain ⟨v, hv, rfl⟩ := okV_N (Classical.not_not.mp c_1)
    have loop : ∀ (d x : Nat), 193 ≤ x + d → x < 192 → 0 < (gv pl ms n v x).1 → ∀ ls : Array Slot, lv_has ls 6 [(0, .ref h), (1, .int (nI v)), (2, .int b), (3, .int (nI (hvG (gv pl ms n v) b x))), (4, .int (nI x))] → W p l e rmX1_having s m args below meth c s.heap [] 0 0 Q (F0 m 20 ls []) := by
      intro d
      induction d with
      | zero => intro x h1 h2; exact absurd h1 (by omega)
      | succ d ih =>
        intro x h1 h2 h3 ls hl
        refine lv_iload hx hb dX1_having_20 (lv_at hl 4 rfl) ?_
        refine zz_if_lt (tgt := 55) hx hb dX1_having_22 (by decide) (by omega) ?_
        refine lv_aload_n hx hb dX1_having_25 rfl (lv_at hl 0 rfl) ?_
        refine lv_iload_n hx hb dX1_having_26 rfl (lv_at hl 1 rfl) ?_
        refine lv_iload hx hb dX1_having_27 (lv_at hl 4 rfl) ?_
        refine zz_callR (As := [.int (nI v), .int (nI x)]) (rest := []) S (metX1_sum l D dA h q pl ms n hF (nI v) (nI x)) gw_X1_54 hd_X1_sum rfl rfl ⟨Nat.le_of_ble_eq_true rfl, Nat.le_of_ble_eq_true rfl⟩ rfl hl.1 rfl (Nat.le_of_ble_eq_true rfl) dX1_having_29 ⟨Nat.zero_le _, Nat.zero_le _⟩ hK hP (ci := 1) rfl rfl rfl (fun r_2 er_2 => ?_)
        subst er_2
        refine zz_set (y := (gv pl ms n v x).2.1) (sSum_N hv h2) ?_
        refine lv_istore (lv' := [(5, .int ((gv pl ms n v x).2.1)), (0, .ref h), (1, .int (nI v)), (2, .int b), (3, .int (nI (hvG (gv pl ms n v) b x))), (4, .int (nI x))]) hx hb dX1_having_32 hl (by decide) rfl (fun ls hl => ?_)
        refine lv_iload hx hb dX1_having_34 (lv_at hl 0 rfl) ?_
        refine lv_iload_n hx hb dX1_having_36 rfl (lv_at hl 3 rfl) ?_
        refine lv_icmp_lt (tgt := 43) hx hb dX1_having_37 (by decide) (fun c_4 => ?_) (fun c_4 => ?_)
        · refine lv_aload_n hx hb dX1_having_43 rfl (lv_at hl 1 rfl) ?_
          refine lv_iload_n hx hb dX1_having_44 rfl (lv_at hl 2 rfl) ?_
          refine lv_iload hx hb dX1_having_45 (lv_at hl 5 rfl) ?_
          refine zz_callR (As := [.int (nI v), .int (nI x)]) (rest := []) S (metX1_next l D dA h q pl ms n hF (nI v) (nI x)) gw_X1_48 hd_X1_next rfl rfl ⟨Nat.le_of_ble_eq_true rfl, Nat.le_of_ble_eq_true rfl⟩ rfl hl.1 rfl (Nat.le_of_ble_eq_true rfl) dX1_having_47 ⟨Nat.zero_le _, Nat.zero_le _⟩ hK hP (ci := 1) rfl rfl rfl (fun r2 er2 => ?_)
          have hb1 : hvG (gv pl ms n v) b (x + 1) = hvG (gv pl ms n v) b x := (by show _ + (if _ then 1 else 0) = _; rw [if_neg (fun h9 => h9.2 c_4)]; rfl)
          have hnx := NX_next h2 ((sNext_N hv).mp er2)
          rcases hnx with ⟨rfl, hgap⟩ | ⟨y, hxy, hy, hoc, rfl, hgap⟩
          · refine lv_istore (lv' := [(4, .int ((-2))), (5, .int ((gv pl ms n v x).2.1)), (0, .ref h), (1, .int (nI v)), (2, .int b), (3, .int (nI (hvG (gv pl ms n v) b x)))]) hx hb dX1_having_50 hl (by decide) rfl (fun ls hl => ?_)
            refine lv_goto (tgt := 20) hx hb dX1_having_52 (by decide) ?_
            refine lv_iload hx hb dX1_having_20 (lv_at hl 0 rfl) ?_
            refine lv_if_lt (tgt := 55) hx hb dX1_having_22 (by decide) (fun c_3 => ?_) (fun c_3 => absurd m2_lt0 c_3)
            refine lv_iload_n hx hb dX1_having_55 rfl (lv_at hl 5 rfl) ?_
            exact hret _ _ _ (by rw [sHaving_N hv, hvG_gap (gv pl ms n v) b (x := x + 1) (by omega) (fun z q1 q2 => hgap z (by omega) q2), hb1]) rfl dX1_having_56
          · refine lv_istore (lv' := [(4, .int (nI y)), (5, .int ((gv pl ms n v x).2.1)), (0, .ref h), (1, .int (nI v)), (2, .int b), (3, .int (nI (hvG (gv pl ms n v) b x)))]) hx hb dX1_having_50 hl (by decide) rfl (fun ls hl => ?_)
            refine lv_goto (tgt := 20) hx hb dX1_having_52 (by decide) ?_
            exact ih y (by omega) hy hoc ls (by rw [hvG_gap (gv pl ms n v) b (x := x + 1) (by omega) (fun z q1 q2 => hgap z (by omega) q2), hb1]; exact lv_sub hl [2, 3, 4, 5, 0] rfl)
        · refine lv_iinc (v := nI (hvG (gv pl ms n v) b x + 1)) (lv' := [(3, .int (nI (hvG (gv pl ms n v) b x + 1))), (5, .int ((gv pl ms n v x).2.1)), (0, .ref h), (1, .int (nI v)), (2, .int b), (4, .int (nI x))]) hx hb dX1_having_40 hl (k := 4) rfl (by exact nI_1 _) (by decide) rfl (fun ls hl => ?_)
          refine lv_aload_n hx hb dX1_having_43 rfl (lv_at hl 2 rfl) ?_
          refine lv_iload_n hx hb dX1_having_44 rfl (lv_at hl 3 rfl) ?_
          refine lv_iload hx hb dX1_having_45 (lv_at hl 5 rfl) ?_
          refine zz_callR (As := [.int (nI v), .int (nI x)]) (rest := []) S (metX1_next l D dA h q pl ms n hF (nI v) (nI x)) gw_X1_48 hd_X1_next rfl rfl ⟨Nat.le_of_ble_eq_true rfl, Nat.le_of_ble_eq_true rfl⟩ rfl hl.1 rfl (Nat.le_of_ble_eq_true rfl) dX1_having_47 ⟨Nat.zero_le _, Nat.zero_le _⟩ hK hP (ci := 1) rfl rfl rfl (fun r2 er2 => ?_)
          have hb1 : hvG (gv pl ms n v) b (x + 1) = hvG (gv pl ms n v) b x + 1 := (by show _ + (if _ then 1 else 0) = _; rw [if_pos ⟨h3, c_4⟩])
          have hnx := NX_next h2 ((sNext_N hv).mp er2)
          rcases hnx with ⟨rfl, hgap⟩ | ⟨y, hxy, hy, hoc, rfl, hgap⟩
          · refine lv_istore (lv' := [(4, .int ((-2))), (3, .int (nI (hvG (gv pl ms n v) b x + 1))), (5, .int ((gv pl ms n v x).2.1)), (0, .ref h), (1, .int (nI v)), (2, .int b)]) hx hb dX1_having_50 hl (by decide) rfl (fun ls hl => ?_)
            refine lv_goto (tgt := 20) hx hb dX1_having_52 (by decide) ?_
            refine lv_iload hx hb dX1_having_20 (lv_at hl 0 rfl) ?_
            refine lv_if_lt (tgt := 55) hx hb dX1_having_22 (by decide) (fun c_3 => ?_) (fun c_3 => absurd m2_lt0 c_3)
            refine lv_iload_n hx hb dX1_having_55 rfl (lv_at hl 1 rfl) ?_
            exact hret _ _ _ (by rw [sHaving_N hv, hvG_gap (gv pl ms n v) b (x := x + 1) (by omega) (fun z q1 q2 => hgap z (by omega) q2), hb1]) rfl dX1_having_56
          · refine lv_istore (lv' := [(4, .int (nI y)), (3, .int (nI (hvG (gv pl ms n v) b x + 1))), (5, .int ((gv pl ms n v x).2.1)), (0, .ref h), (1, .int (nI v)), (2, .int b)]) hx hb dX1_having_50 hl (by decide) rfl (fun ls hl => ?_)
            refine lv_goto (tgt := 20) hx hb dX1_having_52 (by decide) ?_
            exact ih y (by omega) hy hoc ls (by rw [hvG_gap (gv pl ms n v) b (x := x + 1) (by omega) (fun z q1 q2 => hgap z (by omega) q2), hb1]; exact lv_sub hl [3, 4, 5, 1, 0] rfl)
    refine lv_iconst (v := nI 0) hx hb dX1_having_10 (by decide +kernel) ?_
    refine lv_istore_n (lv' := [(3, .int (nI 0)), (0, .ref h), (1, .int (nI v)), (2, .int b)]) hx hb dX1_having_11 rfl hl (by decide) rfl (fun ls hl => ?_)
    refine lv_aload_n hx hb dX1_having_12 rfl (lv_at hl 1 rfl) ?_
    refine lv_iload_n hx hb dX1_having_13 rfl (lv_at hl 2 rfl) ?_
    refine lv_iconst (v := (-1)) hx hb dX1_having_14 (by decide +kernel) ?_
    refine zz_callR (As := [.int (nI v), .int ((-1))]) (rest := []) S (metX1_next l D dA h q pl ms n hF (nI v) (-1)) gw_X1_48 hd_X1_next rfl rfl ⟨Nat.le_of_ble_eq_true rfl, Nat.le_of_ble_eq_true rfl⟩ rfl hl.1 rfl (Nat.le_of_ble_eq_true rfl) dX1_having_15 ⟨Nat.zero_le _, Nat.zero_le _⟩ hK hP (ci := 1) rfl rfl rfl (fun r2 er2 => ?_)
    have hnx := NX_first ((sNext_N hv).mp er2)
    rcases hnx with ⟨rfl, hgap⟩ | ⟨y, hy, hoc, rfl, hgap⟩
    · refine lv_istore (lv' := [(4, .int ((-2))), (3, .int (nI 0)), (0, .ref h), (1, .int (nI v)), (2, .int b)]) hx hb dX1_having_18 hl (by decide) rfl (fun ls hl => ?_)
      refine lv_iload hx hb dX1_having_20 (lv_at hl 0 rfl) ?_
      refine lv_if_lt (tgt := 55) hx hb dX1_having_22 (by decide) (fun c_3 => ?_) (fun c_3 => absurd m2_lt0 c_3)
      refine lv_iload_n hx hb dX1_having_55 rfl (lv_at hl 1 rfl) ?_
      exact hret _ _ _ (by rw [sHaving_N hv, hvG_gap (gv pl ms n v) b (x := 0) (by omega) (fun z q1 q2 => hgap z q2)]; rfl) rfl dX1_having_56
    · refine lv_istore (lv' := [(4, .int (nI y)), (3, .int (nI 0)), (0, .ref h), (1, .int (nI v)), (2, .int b)]) hx hb dX1_having_18 hl (by decide) rfl (fun ls hl => ?_)
      exact loop 193 y (by omega) hy hoc ls (by rw [hvG_gap (gv pl ms n v) b (x := 0) (by omega) (fun z q1 q2 => hgap z q2)]; exact lv_sub hl [2, 3, 4, 1, 0] rfl)
  · refine lv_iconst (v := (-1)) hx hb dX1_having_8 (by decide +kernel) ?_
    exact hret _ _ _ (by unfold sHaving; rw [if_neg c_1]) rfl dX1_having_9
abbrev rmX1_viewsWith : Room := { frames := 4, cells := 0, slots := 0, locals := 95 }
set_option maxHeartbeats 4000000 in
set_option maxRecDepth 100000 in
theorem metX1_viewsWith (l : Launch) (D : va_G) (dA : ClassId) (h : Nat) (q : Nat → Nat) (pl ms : Nat → Int32) (n : Nat) (hF : FW pl n) (a : Int32) : CR l yX1_viewsWith cX1_viewsWith 4 (some .int) rmX1_viewsWith [.ref h, .int a] (GP D dA (MW h q dA pl ms (nI n))) (fun r => r = sViews pl ms n a) := by
  refine CR.mk (own := RX1) (by decide) rfl (Nat.le_of_ble_eq_true rfl) ?_
  intro p e s m args below meth c Q ls S hB hl hret
  obtain ⟨hP, hK⟩ := hB
  have hx := S.1
  have hb := S.2.1
  have hn40 := hF.1
  have hl : lv_has ls 4 [(0, .ref h), (1, .int a)] := hl
  refine lv_iload_n hx hb dX1_viewsWith_0 rfl (lv_at hl 1 rfl) ?_
  refine lv_if_lt (tgt := 11) hx hb dX1_viewsWith_1 (by decide) (fun c_1 => ?_) (fun c_1 => ?_)
  · refine lv_iconst (v := (-1)) hx hb dX1_viewsWith_11 (by decide +kernel) ?_
    exact hret _ _ _ (by unfold sViews; rw [if_neg (fun h9 => h9.1 c_1)]) rfl dX1_viewsWith_12
  · refine lv_iload_n hx hb dX1_viewsWith_4 rfl (lv_at hl 1 rfl) ?_
    refine lv_sipush (v := nI 192) hx hb dX1_viewsWith_5 (by decide +kernel) ?_
    refine lv_icmp_le (tgt := 13) hx hb dX1_viewsWith_8 (by decide) (fun c_2 => ?_) (fun c_2 => ?_)
    · have hok : ¬ a < 0 ∧ ¬ nI 192 < a := ⟨c_1, Int32.not_lt.mpr c_2⟩
      have loop : ∀ (d v : Nat), 49 ≤ v + d → v ≤ 48 → ∀ ls : Array Slot, lv_has ls 4 [(0, .ref h), (1, .int a), (2, .int (nI (vwN pl ms n a v))), (3, .int (nI v))] → W p l e rmX1_viewsWith s m args below meth c s.heap [] 0 0 Q (F0 m 17 ls []) := by
        intro d
        induction d with
        | zero => intro v h1 h2; exact absurd h1 (by omega)
        | succ d ih =>
          intro v h1 h2 ls hl
          refine lv_iload_n hx hb dX1_viewsWith_17 rfl (lv_at hl 3 rfl) ?_
          refine lv_bipush (v := nI 48) hx hb dX1_viewsWith_18 (by decide +kernel) ?_
          refine zz_ge (tgt := 41) hx hb dX1_viewsWith_20 (by decide) (by omega) (by omega) (fun c_8 => ?_) (fun c_8 => ?_)
          · have hi : v = 48 := by omega
            subst hi
            refine lv_iload_n hx hb dX1_viewsWith_41 rfl (lv_at hl 2 rfl) ?_
            exact hret _ _ _ (by unfold sViews; rw [if_pos hok]) rfl dX1_viewsWith_42
          · refine lv_aload_n hx hb dX1_viewsWith_23 rfl (lv_at hl 0 rfl) ?_
            refine lv_iload_n hx hb dX1_viewsWith_24 rfl (lv_at hl 3 rfl) ?_
            refine zz_callR (As := [.int (nI v)]) (rest := []) S (metX1_full l D dA h q pl ms n hF (nI v)) gw_X1_28 hd_X1_full rfl rfl ⟨Nat.le_of_ble_eq_true rfl, Nat.le_of_ble_eq_true rfl⟩ rfl hl.1 rfl (Nat.le_of_ble_eq_true rfl) dX1_viewsWith_25 ⟨Nat.zero_le _, Nat.zero_le _⟩ hK hP (ci := 1) rfl rfl rfl (fun r_1 er_1 => ?_)
            subst er_1
            refine zz_set (y := nI (ocG (gv pl ms n v) 192)) (sFull_N c_8) ?_
            refine lv_iload_n hx hb dX1_viewsWith_28 rfl (lv_at hl 1 rfl) ?_
            refine lv_icmp_ne (tgt := 35) hx hb dX1_viewsWith_29 (by decide) (fun c_9 => ?_) (fun c_9 => ?_)
            · refine lv_iinc (v := nI (v + 1)) (lv' := [(3, .int (nI (v + 1))), (0, .ref h), (1, .int a), (2, .int (nI (vwN pl ms n a v)))]) hx hb dX1_viewsWith_35 hl (k := 3) rfl (by exact nI_1 _) (by decide) rfl (fun ls hl => ?_)
              refine lv_goto (tgt := 17) hx hb dX1_viewsWith_38 (by decide) ?_
              exact ih (v + 1) (by omega) (by omega) ls (by rw [show vwN pl ms n a (v + 1) = vwN pl ms n a v by (show _ + (if _ then 1 else 0) = _; rw [if_neg c_9]; rfl)]; exact lv_sub hl [1, 2, 3, 0] rfl)
            · refine lv_iinc (v := nI (vwN pl ms n a v + 1)) (lv' := [(2, .int (nI (vwN pl ms n a v + 1))), (0, .ref h), (1, .int a), (3, .int (nI v))]) hx hb dX1_viewsWith_32 hl (k := 2) rfl (by exact nI_1 _) (by decide) rfl (fun ls hl => ?_)
              refine lv_iinc (v := nI (v + 1)) (lv' := [(3, .int (nI (v + 1))), (2, .int (nI (vwN pl ms n a v + 1))), (0, .ref h), (1, .int a)]) hx hb dX1_viewsWith_35 hl (k := 3) rfl (by exact nI_1 _) (by decide) rfl (fun ls hl => ?_)
              refine lv_goto (tgt := 17) hx hb dX1_viewsWith_38 (by decide) ?_
              exact ih (v + 1) (by omega) (by omega) ls (by rw [show vwN pl ms n a (v + 1) = vwN pl ms n a v + 1 by (show _ + (if _ then 1 else 0) = _; rw [if_pos c_9])]; exact lv_sub hl [2, 3, 1, 0] rfl)
      refine lv_iconst (v := nI 0) hx hb dX1_viewsWith_13 (by decide +kernel) ?_
      refine lv_istore_n (lv' := [(2, .int (nI 0)), (0, .ref h), (1, .int a)]) hx hb dX1_viewsWith_14 rfl hl (by decide) rfl (fun ls hl => ?_)
      refine lv_iconst (v := nI 0) hx hb dX1_viewsWith_15 (by decide +kernel) ?_
      refine lv_istore_n (lv' := [(3, .int (nI 0)), (2, .int (nI 0)), (0, .ref h), (1, .int a)]) hx hb dX1_viewsWith_16 rfl hl (by decide) rfl (fun ls hl => ?_)
      exact loop 49 0 (by omega) (by omega) ls (lv_sub hl [2, 3, 1, 0] rfl)
    · refine lv_iconst (v := (-1)) hx hb dX1_viewsWith_11 (by decide +kernel) ?_
      exact hret _ _ _ (by unfold sViews; rw [if_neg (fun h9 => h9.2 (Int32.not_le.mp c_2))]) rfl dX1_viewsWith_12
end
section
/-! PURE: finer views by force; the facts and what the four writers make of them -/
theorem fal_mk {v a b d : Nat} (hb : b < 6) (hd : d < 8) : fal v (48 * a + 8 * b + d) = 48 * (a / bA v) + 8 * (b / bB v) + d / bC v := by
  obtain ⟨h1, h2, h3⟩ := fal_parts (a := a) hb hd
  unfold fal
  rw [h1, h2, h3]
theorem witA : ∀ i, i < 3 → ∀ j, j < 3 → ¬ i ≤ j → j + 1 < 4 ∧ j / lA i = (j + 1) / lA i ∧ ¬ j / lA j = (j + 1) / lA j := by decide +kernel
theorem witB : ∀ i, i < 4 → ∀ j, j < 4 → pB i j = false → j + 1 < 6 ∧ j / lB i = (j + 1) / lB i ∧ ¬ j / lB j = (j + 1) / lB j := by decide +kernel
theorem witC : ∀ i, i < 4 → ∀ j, j < 4 → ¬ i ≤ j → 2 ^ j < 8 ∧ (2 ^ j - 1) / lC i = 2 ^ j / lC i ∧ ¬ (2 ^ j - 1) / lC j = 2 ^ j / lC j := by decide +kernel
theorem finer_iff {f v : Nat} (hf : f < 48) (hv : v < 48) : fin_ f v ↔ ∀ p, p < 192 → ∀ q, q < p → fal f q = fal f p → fal v q = fal v p := by
  constructor
  · intro h p hp q hq e
    rw [← rep_fal hf hv h hp, ← rep_fal hf hv h (p := q) (by omega), e]
  · intro H
    have hB : pB (f / 4 % 4) (v / 4 % 4) = true := by
      cases hq : pB (f / 4 % 4) (v / 4 % 4) with
      | true => rfl
      | false =>
        exfalso
        obtain ⟨w1, w2, w3⟩ := witB (f / 4 % 4) (by omega) (v / 4 % 4) (by omega) hq
        generalize hj : v / 4 % 4 = j at w1 w2 w3
        have e1 := fal_mk (v := f) (a := 0) (b := j) (d := 0) (by omega) (by omega)
        have e2 := fal_mk (v := f) (a := 0) (b := j + 1) (d := 0) (by omega) (by omega)
        have e3 := fal_mk (v := v) (a := 0) (b := j) (d := 0) (by omega) (by omega)
        have e4 := fal_mk (v := v) (a := 0) (b := j + 1) (d := 0) (by omega) (by omega)
        have g1 : bB f = lB (f / 4 % 4) := rfl
        have g2 : bB v = lB j := by rw [← hj]; rfl
        rw [g1] at e1 e2
        rw [g2] at e3 e4
        have := H (48 * 0 + 8 * (j + 1) + 0) (by omega) (48 * 0 + 8 * j + 0) (by omega) (by rw [e1, e2, w2])
        rw [e3, e4] at this
        omega
    have hA : f / 16 ≤ v / 16 := by
      apply Classical.byContradiction
      intro hq
      obtain ⟨w1, w2, w3⟩ := witA (f / 16) (by omega) (v / 16) (by omega) hq
      generalize hj : v / 16 = j at w1 w2 w3
      have e1 := fal_mk (v := f) (a := j) (b := 0) (d := 0) (by omega) (by omega)
      have e2 := fal_mk (v := f) (a := j + 1) (b := 0) (d := 0) (by omega) (by omega)
      have e3 := fal_mk (v := v) (a := j) (b := 0) (d := 0) (by omega) (by omega)
      have e4 := fal_mk (v := v) (a := j + 1) (b := 0) (d := 0) (by omega) (by omega)
      have g1 : bA f = lA (f / 16) := rfl
      have g2 : bA v = lA j := by rw [← hj]; rfl
      rw [g1] at e1 e2
      rw [g2] at e3 e4
      have := H (48 * (j + 1) + 8 * 0 + 0) (by omega) (48 * j + 8 * 0 + 0) (by omega) (by rw [e1, e2, w2])
      rw [e3, e4] at this
      omega
    have hC : f % 4 ≤ v % 4 := by
      apply Classical.byContradiction
      intro hq
      obtain ⟨w1, w2, w3⟩ := witC (f % 4) (by omega) (v % 4) (by omega) hq
      have h0 : 0 < 2 ^ (v % 4) := Nat.pow_pos (by omega)
      have g2 : bC v = lC (v % 4) := rfl
      generalize hj : 2 ^ (v % 4) = j at w1 w2 w3 h0
      have e1 := fal_mk (v := f) (a := 0) (b := 0) (d := j - 1) (by omega) (by omega)
      have e2 := fal_mk (v := f) (a := 0) (b := 0) (d := j) (by omega) (by omega)
      have e3 := fal_mk (v := v) (a := 0) (b := 0) (d := j - 1) (by omega) (by omega)
      have e4 := fal_mk (v := v) (a := 0) (b := 0) (d := j) (by omega) (by omega)
      have g1 : bC f = lC (f % 4) := rfl
      rw [g1] at e1 e2
      rw [g2] at e3 e4
      have := H (48 * 0 + 8 * 0 + j) (by omega) (48 * 0 + 8 * 0 + (j - 1)) (by omega) (by rw [e1, e2, w2])
      rw [e3, e4] at this
      omega
    exact ⟨of_decide_eq_true hB, hA, hC⟩
/-- the facts: places, measures, how many -/
abbrev FT : Type := (Nat → Int32) × (Nat → Int32) × Nat
def MFs (F : FT) : MT := (F.1, F.2.1, nI F.2.2)
def shf (f : Nat → Int32) (a k : Nat) : Nat → Int32 := fun i => if a ≤ i ∧ i < k then f (i + 1) else f i
theorem shf_0 (f : Nat → Int32) (a : Nat) : shf f a a = f := by
  funext i
  unfold shf
  rw [if_neg (by omega)]
theorem shf_1 (f : Nat → Int32) {a k : Nat} (h : a ≤ k) : upd (shf f a k) k (shf f a k (k + 1)) = shf f a (k + 1) := by
  funext i
  unfold upd shf
  by_cases e : i = k
  · subst e
    rw [if_pos rfl, if_neg (by omega), if_pos (by omega)]
  · rw [if_neg e]
    by_cases g : a ≤ i ∧ i < k
    · rw [if_pos g, if_pos (by omega)]
    · rw [if_neg g, if_neg (by omega)]
def addF (F : FT) (x y : Int32) : FT := (upd F.1 F.2.2 x, upd F.2.1 F.2.2 y, F.2.2 + 1)
def sowP (s t k : Nat) : Int32 := nI ((s + k * t) % 192)
def sowM (s k : Nat) : Int32 := nI ((s * 7 + k * k * 11) % 300) - nI 100
def sowF (F : FT) (s t : Nat) : Nat → FT
  | 0 => F
  | k + 1 => if (sowF F s t k).2.2 < 40 then addF (sowF F s t k) (sowP s t k) (sowM s k) else sowF F s t k
def pPut (F : FT) (a b : Int32) : Int32 × FT := if okC a then (if okM b then (if F.2.2 = 40 then (-3, F) else (nI F.2.2, addF F a b)) else (-2, F)) else (-1, F)
abbrev okS (x : Int32) : Prop := ¬ x < nI 1 ∧ ¬ nI 40 < x
def pSow (F : FT) (a b x : Int32) : Int32 × FT := if okC a then (if okC b then (if okS x then (nI (sowF F (pN a) (pN b) (pN x)).2.2, sowF F (pN a) (pN b) (pN x)) else (-3, F)) else (-2, F)) else (-1, F)
def pMeas (F : FT) (a b : Int32) : Int32 × FT := if okF F.2.2 a then (if okM b then (F.2.1 (pN a), (F.1, upd F.2.1 (pN a) b, F.2.2)) else (-2, F)) else (-1, F)
def pDrop (F : FT) (a : Int32) : Int32 × FT := if okF F.2.2 a then (nI (F.2.2 - 1), (shf F.1 (pN a) (F.2.2 - 1), shf F.2.1 (pN a) (F.2.2 - 1), F.2.2 - 1)) else (-1, F)
theorem okS_N {x : Int32} (h : okS x) : ∃ k, 1 ≤ k ∧ k ≤ 40 ∧ x = nI k := by
  rcases pk_ix x (n := 41) (by omega) with q | q | ⟨j, q1, q2⟩
  · exact absurd (Int32.lt_of_lt_of_le q (nI_pos' (by omega))) h.1
  · exact absurd (Int32.lt_of_lt_of_le (nI_lt (a := 40) (b := 41) (by omega) (by omega)) q) h.2
  · refine ⟨j, ?_, by omega, q2⟩
    rcases Nat.lt_or_ge j 1 with w | w
    · exact absurd (by rw [q2]; exact nI_lt w (by omega)) h.1
    · exact w
theorem FW_add {F : FT} (hF : FW F.1 F.2.2) (h : F.2.2 < 40) {j : Nat} (hj : j < 192) {y : Int32} : FW (addF F (nI j) y).1 (addF F (nI j) y).2.2 := by
  refine ⟨h, fun i hi => ?_⟩
  show ∃ j', j' < 192 ∧ upd F.1 F.2.2 (nI j) i = nI j'
  unfold upd
  by_cases e : i = F.2.2
  · rw [if_pos e]; exact ⟨j, hj, rfl⟩
  · rw [if_neg e]
    exact hF.2 i (by have : i < F.2.2 + 1 := hi; omega)
theorem FW_sow {F : FT} (hF : FW F.1 F.2.2) (s t : Nat) : ∀ k, FW (sowF F s t k).1 (sowF F s t k).2.2
  | 0 => hF
  | k + 1 => by
    have ih := FW_sow hF s t k
    unfold sowF
    split
    · exact FW_add ih (by assumption) (Nat.mod_lt _ (by omega))
    · exact ih
theorem sow_full {F : FT} {s t k : Nat} (h : ¬ (sowF F s t k).2.2 < 40) : ∀ j, sowF F s t (k + j) = sowF F s t k
  | 0 => rfl
  | j + 1 => by
    have ih := sow_full h j
    show (if (sowF F s t (k + j)).2.2 < 40 then _ else sowF F s t (k + j)) = _
    rw [ih, if_neg h]
theorem FW_drop {F : FT} (hF : FW F.1 F.2.2) {a : Nat} (h : a < F.2.2) : FW (shf F.1 a (F.2.2 - 1)) (F.2.2 - 1) := by
  refine ⟨by have := hF.1; omega, fun i hi => ?_⟩
  unfold shf
  split
  · exact hF.2 (i + 1) (by omega)
  · exact hF.2 i (by omega)
theorem FW_put {F : FT} (hF : FW F.1 F.2.2) (a b : Int32) : FW (pPut F a b).2.1 (pPut F a b).2.2.2 := by
  unfold pPut
  by_cases h1 : okC a
  · rw [if_pos h1]
    by_cases h2 : okM b
    · rw [if_pos h2]
      by_cases h3 : F.2.2 = 40
      · rw [if_pos h3]; exact hF
      · rw [if_neg h3]
        obtain ⟨j, hj, rfl⟩ := okC_N h1
        exact FW_add hF (by have := hF.1; omega) hj
    · rw [if_neg h2]; exact hF
  · rw [if_neg h1]; exact hF
theorem FW_sowP {F : FT} (hF : FW F.1 F.2.2) (a b x : Int32) : FW (pSow F a b x).2.1 (pSow F a b x).2.2.2 := by
  unfold pSow
  by_cases h1 : okC a
  · rw [if_pos h1]
    by_cases h2 : okC b
    · rw [if_pos h2]
      by_cases h3 : okS x
      · rw [if_pos h3]; exact FW_sow hF _ _ _
      · rw [if_neg h3]; exact hF
    · rw [if_neg h2]; exact hF
  · rw [if_neg h1]; exact hF
theorem FW_meas {F : FT} (hF : FW F.1 F.2.2) (a b : Int32) : FW (pMeas F a b).2.1 (pMeas F a b).2.2.2 := by
  unfold pMeas
  by_cases h1 : okF F.2.2 a
  · rw [if_pos h1]
    by_cases h2 : okM b
    · rw [if_pos h2]; exact hF
    · rw [if_neg h2]; exact hF
  · rw [if_neg h1]; exact hF
theorem FW_dropP {F : FT} (hF : FW F.1 F.2.2) (a : Int32) : FW (pDrop F a).2.1 (pDrop F a).2.2.2 := by
  unfold pDrop
  by_cases h1 : okF F.2.2 a
  · rw [if_pos h1]
    obtain ⟨j, hj, rfl⟩ := okF_N (by have := hF.1; omega) h1
    exact FW_drop hF (by rw [pN_nI (by have := hF.1; omega)]; exact hj)
  · rw [if_neg h1]; exact hF
end
section
/-! OlapCubesModel: finer, and the methods that write -/
abbrev rmX1_finer : Room := { frames := 2, cells := 0, slots := 0, locals := 47 }
set_option maxHeartbeats 4000000 in
set_option maxRecDepth 100000 in
theorem metX1_finer (l : Launch) (D : va_G) (dA : ClassId) (h : Nat) (q : Nat → Nat) (pl ms : Nat → Int32) (n : Nat) (a b : Int32) : CR l yX1_finer cX1_finer 7 (some .int) rmX1_finer [.ref h, .int a, .int b] (GP D dA (MW h q dA pl ms (nI n))) (fun r => r = sFiner a b) := by
  refine CR.mk (own := RX1) (by decide) rfl (Nat.le_of_ble_eq_true rfl) ?_
  intro p e s m args below meth c Q ls S hB hl hret
  obtain ⟨hP, hK⟩ := hB
  have hx := S.1
  have hb := S.2.1
  have hl : lv_has ls 7 [(0, .ref h), (1, .int a), (2, .int b)] := hl
  refine lv_aload_n hx hb dX1_finer_0 rfl (lv_at hl 0 rfl) ?_
  refine lv_iload_n hx hb dX1_finer_1 rfl (lv_at hl 1 rfl) ?_
  refine zz_callR (As := [.int a]) (rest := []) S (metX1_badView l D dA h q pl ms n a) gw_X1_42 hd_X1_badView rfl rfl ⟨Nat.le_of_ble_eq_true rfl, Nat.le_of_ble_eq_true rfl⟩ rfl hl.1 rfl (Nat.le_of_ble_eq_true rfl) dX1_finer_2 ⟨Nat.zero_le _, Nat.zero_le _⟩ hK hP (ci := 1) rfl rfl rfl (fun r_1 er_1 => ?_)
  subst er_1
  refine zz_bne (tgt := 16) hx hb dX1_finer_5 (by decide) (fun c_1 => ?_) (fun c_1 => ?_)
  · refine lv_iconst (v := (-1)) hx hb dX1_finer_16 (by decide +kernel) ?_
    exact hret _ _ _ (by unfold sFiner; rw [if_neg (fun h9 => c_1 h9.1)]) rfl dX1_finer_17
  · obtain ⟨f, hf, rfl⟩ := okV_N (Classical.not_not.mp c_1)
    refine lv_aload_n hx hb dX1_finer_8 rfl (lv_at hl 0 rfl) ?_
    refine lv_iload_n hx hb dX1_finer_9 rfl (lv_at hl 2 rfl) ?_
    refine zz_callR (As := [.int b]) (rest := []) S (metX1_badView l D dA h q pl ms n b) gw_X1_42 hd_X1_badView rfl rfl ⟨Nat.le_of_ble_eq_true rfl, Nat.le_of_ble_eq_true rfl⟩ rfl hl.1 rfl (Nat.le_of_ble_eq_true rfl) dX1_finer_10 ⟨Nat.zero_le _, Nat.zero_le _⟩ hK hP (ci := 1) rfl rfl rfl (fun r_2 er_2 => ?_)
    subst er_2
    refine zz_beq (tgt := 18) hx hb dX1_finer_13 (by decide) (fun c_2 => ?_) (fun c_2 => ?_)
    · obtain ⟨v, hv, rfl⟩ := okV_N (Classical.not_not.mp c_2)
      have loop : ∀ (d pp : Nat), 193 ≤ pp + d → pp ≤ 192 → (∀ p, p < pp → ∀ q, q < p → fal f q = fal f p → fal v q = fal v p) → ∀ ls : Array Slot, lv_has ls 7 [(0, .ref h), (1, .int (nI f)), (2, .int (nI v)), (3, .int (nI pp))] → W p l e rmX1_finer s m args below meth c s.heap [] 0 0 Q (F0 m 20 ls []) := by
        intro d
        induction d with
        | zero => intro pp h1 h2; exact absurd h1 (by omega)
        | succ d ih =>
          intro pp h1 h2 hH ls hl
          refine lv_iload_n hx hb dX1_finer_20 rfl (lv_at hl 3 rfl) ?_
          refine lv_sipush (v := nI 192) hx hb dX1_finer_21 (by decide +kernel) ?_
          refine zz_ge (tgt := 90) hx hb dX1_finer_24 (by decide) (by omega) (by omega) (fun c_4 => ?_) (fun c_4 => ?_)
          · have hi : pp = 192 := by omega
            subst hi
            refine lv_iconst (v := nI 1) hx hb dX1_finer_90 (by decide +kernel) ?_
            exact hret _ _ _ (by rw [sFiner_N hf hv]; exact b1_T ((finer_iff hf hv).mpr hH)) rfl dX1_finer_91
          · have hl1 := fal_lt (v := f) (p := pp) (by omega)
            have hl2 := fal_lt (v := v) (p := pp) (by omega)
            have inner : ∀ (d2 qq : Nat), pp + 1 ≤ qq + d2 → qq ≤ pp → (∀ q, q < qq → fal f q = fal f pp → fal v q = fal v pp) → ∀ ls : Array Slot, lv_has ls 7 [(0, .ref h), (1, .int (nI f)), (2, .int (nI v)), (3, .int (nI pp)), (4, .int (nI (fal f pp))), (5, .int (nI (fal v pp))), (6, .int (nI qq))] → W p l e rmX1_finer s m args below meth c s.heap [] 0 0 Q (F0 m 46 ls []) := by
              intro d2
              induction d2 with
              | zero => intro qq g1 g2; exact absurd g1 (by omega)
              | succ d2 ih2 =>
                intro qq g1 g2 gH ls hl
                refine lv_iload hx hb dX1_finer_46 (lv_at hl 6 rfl) ?_
                refine lv_iload_n hx hb dX1_finer_48 rfl (lv_at hl 3 rfl) ?_
                refine zz_ge (tgt := 84) hx hb dX1_finer_49 (by decide) (by omega) (by omega) (fun c_5 => ?_) (fun c_5 => ?_)
                · have hi : pp = qq := by omega
                  subst hi
                  refine lv_iinc (v := nI (pp + 1)) (lv' := [(3, .int (nI (pp + 1))), (0, .ref h), (1, .int (nI f)), (2, .int (nI v)), (4, .int (nI (fal f pp))), (5, .int (nI (fal v pp))), (6, .int (nI pp))]) hx hb dX1_finer_84 hl (k := 3) rfl (by exact nI_1 _) (by decide) rfl (fun ls hl => ?_)
                  refine lv_goto (tgt := 20) hx hb dX1_finer_87 (by decide) ?_
                  exact ih (pp + 1) (by omega) (by omega) (fun p hp => by rcases Nat.lt_or_ge p pp with w9 | w9; exact hH p w9; rw [show p = pp by omega]; exact gH) ls (lv_sub hl [1, 2, 3, 0] rfl)
                · have hl3 := fal_lt (v := f) (p := qq) (by omega)
                  have hl4 := fal_lt (v := v) (p := qq) (by omega)
                  refine lv_aload_n hx hb dX1_finer_52 rfl (lv_at hl 0 rfl) ?_
                  refine lv_iload_n hx hb dX1_finer_53 rfl (lv_at hl 1 rfl) ?_
                  refine lv_iload hx hb dX1_finer_54 (lv_at hl 6 rfl) ?_
                  refine zz_callR (As := [.int (nI f), .int (nI qq)]) (rest := []) S (metX1_fall l D dA h q pl ms n f qq hf (by omega)) gw_X1_45 hd_X1_fall rfl rfl ⟨Nat.le_of_ble_eq_true rfl, Nat.le_of_ble_eq_true rfl⟩ rfl hl.1 rfl (Nat.le_of_ble_eq_true rfl) dX1_finer_56 ⟨Nat.zero_le _, Nat.zero_le _⟩ hK hP (ci := 1) rfl rfl rfl (fun r_3 er_3 => ?_)
                  subst er_3
                  refine lv_iload hx hb dX1_finer_59 (lv_at hl 4 rfl) ?_
                  refine zz_ne (tgt := 78) hx hb dX1_finer_61 (by decide) (by omega) (by omega) (fun c_6 => ?_) (fun c_6 => ?_)
                  · refine lv_iinc (v := nI (qq + 1)) (lv' := [(6, .int (nI (qq + 1))), (0, .ref h), (1, .int (nI f)), (2, .int (nI v)), (3, .int (nI pp)), (4, .int (nI (fal f pp))), (5, .int (nI (fal v pp)))]) hx hb dX1_finer_78 hl (k := 6) rfl (by exact nI_1 _) (by decide) rfl (fun ls hl => ?_)
                    refine lv_goto (tgt := 46) hx hb dX1_finer_81 (by decide) ?_
                    exact ih2 (qq + 1) (by omega) (by omega) (fun q hq e9 => by rcases Nat.lt_or_ge q qq with w9 | w9; exact gH q w9 e9; rw [show q = qq by omega] at e9 ⊢; exact absurd e9 c_6) ls (lv_sub hl [1, 2, 3, 4, 5, 6, 0] rfl)
                  · refine lv_aload_n hx hb dX1_finer_64 rfl (lv_at hl 0 rfl) ?_
                    refine lv_iload_n hx hb dX1_finer_65 rfl (lv_at hl 2 rfl) ?_
                    refine lv_iload hx hb dX1_finer_66 (lv_at hl 6 rfl) ?_
                    refine zz_callR (As := [.int (nI v), .int (nI qq)]) (rest := []) S (metX1_fall l D dA h q pl ms n v qq hv (by omega)) gw_X1_45 hd_X1_fall rfl rfl ⟨Nat.le_of_ble_eq_true rfl, Nat.le_of_ble_eq_true rfl⟩ rfl hl.1 rfl (Nat.le_of_ble_eq_true rfl) dX1_finer_68 ⟨Nat.zero_le _, Nat.zero_le _⟩ hK hP (ci := 1) rfl rfl rfl (fun r_4 er_4 => ?_)
                    subst er_4
                    refine lv_iload hx hb dX1_finer_71 (lv_at hl 5 rfl) ?_
                    refine zz_eq (tgt := 78) hx hb dX1_finer_73 (by decide) (by omega) (by omega) (fun c_7 => ?_) (fun c_7 => ?_)
                    · refine lv_iinc (v := nI (qq + 1)) (lv' := [(6, .int (nI (qq + 1))), (0, .ref h), (1, .int (nI f)), (2, .int (nI v)), (3, .int (nI pp)), (4, .int (nI (fal f pp))), (5, .int (nI (fal v pp)))]) hx hb dX1_finer_78 hl (k := 6) rfl (by exact nI_1 _) (by decide) rfl (fun ls hl => ?_)
                      refine lv_goto (tgt := 46) hx hb dX1_finer_81 (by decide) ?_
                      exact ih2 (qq + 1) (by omega) (by omega) (fun q hq e9 => by rcases Nat.lt_or_ge q qq with w9 | w9; exact gH q w9 e9; rw [show q = qq by omega] at e9 ⊢; exact c_7) ls (lv_sub hl [1, 2, 3, 4, 5, 6, 0] rfl)
                    · refine lv_iconst (v := nI 0) hx hb dX1_finer_76 (by decide +kernel) ?_
                      exact hret _ _ _ (by rw [sFiner_N hf hv]; exact b1_F (fun h9 => c_7 ((finer_iff hf hv).mp h9 pp (by omega) qq (by omega) c_6))) rfl dX1_finer_77
            refine lv_aload_n hx hb dX1_finer_27 rfl (lv_at hl 0 rfl) ?_
            refine lv_iload_n hx hb dX1_finer_28 rfl (lv_at hl 1 rfl) ?_
            refine lv_iload_n hx hb dX1_finer_29 rfl (lv_at hl 3 rfl) ?_
            refine zz_callR (As := [.int (nI f), .int (nI pp)]) (rest := []) S (metX1_fall l D dA h q pl ms n f pp hf (by omega)) gw_X1_45 hd_X1_fall rfl rfl ⟨Nat.le_of_ble_eq_true rfl, Nat.le_of_ble_eq_true rfl⟩ rfl hl.1 rfl (Nat.le_of_ble_eq_true rfl) dX1_finer_30 ⟨Nat.zero_le _, Nat.zero_le _⟩ hK hP (ci := 1) rfl rfl rfl (fun r_5 er_5 => ?_)
            subst er_5
            refine lv_istore (lv' := [(4, .int (nI (fal f pp))), (0, .ref h), (1, .int (nI f)), (2, .int (nI v)), (3, .int (nI pp))]) hx hb dX1_finer_33 hl (by decide) rfl (fun ls hl => ?_)
            refine lv_aload_n hx hb dX1_finer_35 rfl (lv_at hl 1 rfl) ?_
            refine lv_iload_n hx hb dX1_finer_36 rfl (lv_at hl 3 rfl) ?_
            refine lv_iload_n hx hb dX1_finer_37 rfl (lv_at hl 4 rfl) ?_
            refine zz_callR (As := [.int (nI v), .int (nI pp)]) (rest := []) S (metX1_fall l D dA h q pl ms n v pp hv (by omega)) gw_X1_45 hd_X1_fall rfl rfl ⟨Nat.le_of_ble_eq_true rfl, Nat.le_of_ble_eq_true rfl⟩ rfl hl.1 rfl (Nat.le_of_ble_eq_true rfl) dX1_finer_38 ⟨Nat.zero_le _, Nat.zero_le _⟩ hK hP (ci := 1) rfl rfl rfl (fun r_6 er_6 => ?_)
            subst er_6
            refine lv_istore (lv' := [(5, .int (nI (fal v pp))), (4, .int (nI (fal f pp))), (0, .ref h), (1, .int (nI f)), (2, .int (nI v)), (3, .int (nI pp))]) hx hb dX1_finer_41 hl (by decide) rfl (fun ls hl => ?_)
            refine lv_iconst (v := nI 0) hx hb dX1_finer_43 (by decide +kernel) ?_
            refine lv_istore (lv' := [(6, .int (nI 0)), (5, .int (nI (fal v pp))), (4, .int (nI (fal f pp))), (0, .ref h), (1, .int (nI f)), (2, .int (nI v)), (3, .int (nI pp))]) hx hb dX1_finer_44 hl (by decide) rfl (fun ls hl => ?_)
            exact inner (pp + 1) 0 (by omega) (by omega) (fun q hq => absurd hq (by omega)) ls (lv_sub hl [3, 4, 5, 6, 2, 1, 0] rfl)
      refine lv_iconst (v := nI 0) hx hb dX1_finer_18 (by decide +kernel) ?_
      refine lv_istore_n (lv' := [(3, .int (nI 0)), (0, .ref h), (1, .int (nI f)), (2, .int (nI v))]) hx hb dX1_finer_19 rfl hl (by decide) rfl (fun ls hl => ?_)
      exact loop 193 0 (by omega) (by omega) (fun p hp => absurd hp (by omega)) ls (lv_sub hl [1, 2, 3, 0] rfl)
    · refine lv_iconst (v := (-1)) hx hb dX1_finer_16 (by decide +kernel) ?_
      exact hret _ _ _ (by unfold sFiner; rw [if_neg (fun h9 => c_2 h9.2)]) rfl dX1_finer_17
abbrev rmX1_append : Room := { frames := 0, cells := 0, slots := 0, locals := 0 }
set_option maxHeartbeats 4000000 in
set_option maxRecDepth 100000 in
theorem metX1_append (l : Launch) (D : va_G) (dA : ClassId) (h : Nat) (q : Nat → Nat) (pl ms : Nat → Int32) (n : Nat) (hn : n < 40) (x y : Int32) : CV l yX1_append cX1_append 3 rmX1_append D dA (MV h q dA) (pl, ms, nI n) [.ref h, .int x, .int y] (fun u => u = MFs (addF (pl, ms, n) x y)) := by
  refine CV.mk (own := RX1) (by decide) rfl (Nat.le_of_ble_eq_true rfl) ?_
  intro p e s m args below meth c Q A H locs ls S hK hA hP hD hS hl hret
  have hx := S.1
  have hb := S.2.1
  have hP : va_P D vwCl (MW h q dA pl ms (nI n)) H := hP
  have hD : va_D A (MW h q dA pl ms (nI n)) := hD
  have hl : lv_has ls 3 [(0, .ref h), (1, .int x), (2, .int y)] := hl
  refine lv_aload_n hx hb dX1_append_0 rfl (lv_at hl 0 rfl) ?_
  refine mg0 S hK hP dX1_append_1 ?_
  refine lv_aload_n hx hb dX1_append_4 rfl (lv_at hl 0 rfl) ?_
  refine mg2 S hK hP dX1_append_5 ?_
  refine lv_iload_n hx hb dX1_append_8 rfl (lv_at hl 1 rfl) ?_
  refine ms0 S hK hP hD hS (by omega) dX1_append_9 (fun H locs hP hD hS => ?_)
  refine lv_aload_n hx hb dX1_append_10 rfl (lv_at hl 0 rfl) ?_
  refine mg1 S hK hP dX1_append_11 ?_
  refine lv_aload_n hx hb dX1_append_14 rfl (lv_at hl 0 rfl) ?_
  refine mg2 S hK hP dX1_append_15 ?_
  refine lv_iload_n hx hb dX1_append_18 rfl (lv_at hl 2 rfl) ?_
  refine ms1 S hK hP hD hS (by omega) dX1_append_19 (fun H locs hP hD hS => ?_)
  refine lv_aload_n hx hb dX1_append_20 rfl (lv_at hl 0 rfl) ?_
  refine lv_dup hx hb dX1_append_21 rfl ?_
  refine mg2 S hK hP dX1_append_22 ?_
  refine lv_iconst (v := nI 1) hx hb dX1_append_25 (by decide +kernel) ?_
  refine zz_add hx hb dX1_append_26 ?_
  refine mp2 S hK hP hD hS dX1_append_27 (fun H locs hP hD hS => ?_)
  exact hret _ _ _ _ (upd pl n x, upd ms n y, nI (n + 1)) rfl hP hD hS dX1_append_30
abbrev rmX1_put : Room := { frames := 1, cells := 0, slots := 0, locals := 22 }
set_option maxHeartbeats 4000000 in
set_option maxRecDepth 100000 in
theorem metX1_put (l : Launch) (D : va_G) (dA : ClassId) (h : Nat) (q : Nat → Nat) (pl ms : Nat → Int32) (n : Nat) (hn : n ≤ 40) (a b : Int32) : CI l yX1_put cX1_put 3 rmX1_put D dA (MV h q dA) (pl, ms, nI n) [.ref h, .int a, .int b] (fun r u => r = (pPut (pl, ms, n) a b).1 ∧ u = MFs (pPut (pl, ms, n) a b).2) := by
  refine CI.mk (own := RX1) (by decide) rfl (Nat.le_of_ble_eq_true rfl) ?_
  intro p e s m args below meth c Q A H locs ls S hK hA hP hD hS hl hret
  have hx := S.1
  have hb := S.2.1
  have hP : va_P D vwCl (MW h q dA pl ms (nI n)) H := hP
  have hD : va_D A (MW h q dA pl ms (nI n)) := hD
  have hl : lv_has ls 3 [(0, .ref h), (1, .int a), (2, .int b)] := hl
  have hk := le_pred (x := a) (n := 191) (by omega)
  refine lv_iload_n hx hb dX1_put_0 rfl (lv_at hl 1 rfl) ?_
  refine lv_if_lt (tgt := 11) hx hb dX1_put_1 (by decide) (fun c_1 => ?_) (fun c_1 => ?_)
  · refine lv_iconst (v := (-1)) hx hb dX1_put_11 (by decide +kernel) ?_
    exact hret _ _ _ _ _ (pl, ms, nI n) (by rw [show pPut (pl, ms, n) a b = (-1, (pl, ms, n)) from if_neg (fun h9 => h9.1 c_1)]; exact ⟨rfl, rfl⟩) hP hD hS dX1_put_12
  · refine lv_iload_n hx hb dX1_put_4 rfl (lv_at hl 1 rfl) ?_
    refine lv_sipush (v := nI 191) hx hb dX1_put_5 (by decide +kernel) ?_
    refine lv_icmp_le (tgt := 13) hx hb dX1_put_8 (by decide) (fun c_2 => ?_) (fun c_2 => ?_)
    · have hoc : okC a := ⟨c_1, hk.mp c_2⟩
      refine lv_iload_n hx hb dX1_put_13 rfl (lv_at hl 2 rfl) ?_
      refine lv_sipush (v := (-1000)) hx hb dX1_put_14 (by decide +kernel) ?_
      refine lv_icmp_lt (tgt := 27) hx hb dX1_put_17 (by decide) (fun c_3 => ?_) (fun c_3 => ?_)
      · refine lv_bipush (v := (-2)) hx hb dX1_put_27 (by decide +kernel) ?_
        exact hret _ _ _ _ _ (pl, ms, nI n) (by rw [show pPut (pl, ms, n) a b = (-2, (pl, ms, n)) by (unfold pPut; rw [if_pos hoc, if_neg (fun h9 => h9.1 c_3)])]; exact ⟨rfl, rfl⟩) hP hD hS dX1_put_29
      · refine lv_iload_n hx hb dX1_put_20 rfl (lv_at hl 2 rfl) ?_
        refine lv_sipush (v := nI 1000) hx hb dX1_put_21 (by decide +kernel) ?_
        refine lv_icmp_le (tgt := 30) hx hb dX1_put_24 (by decide) (fun c_4 => ?_) (fun c_4 => ?_)
        · have hom : okM b := ⟨c_3, Int32.not_lt.mpr c_4⟩
          refine lv_aload_n hx hb dX1_put_30 rfl (lv_at hl 0 rfl) ?_
          refine mg2 S hK hP dX1_put_31 ?_
          refine lv_bipush (v := nI 40) hx hb dX1_put_34 (by decide +kernel) ?_
          refine zz_lt (tgt := 42) hx hb dX1_put_36 (by decide) (by omega) (by omega) (fun c_5 => ?_) (fun c_5 => ?_)
          · refine lv_aload_n hx hb dX1_put_42 rfl (lv_at hl 0 rfl) ?_
            refine lv_iload_n hx hb dX1_put_43 rfl (lv_at hl 1 rfl) ?_
            refine lv_iload_n hx hb dX1_put_44 rfl (lv_at hl 2 rfl) ?_
            refine zz_callV (V := MV h q dA) (u := (pl, ms, nI n)) (As := [.int a, .int b]) (rest := []) S (metX1_append l D dA h q pl ms n c_5 a b) gw_X1_20 hd_X1_append rfl rfl ⟨Nat.le_of_ble_eq_true rfl, Nat.le_of_ble_eq_true rfl⟩ rfl hl.1 rfl (Nat.le_of_ble_eq_true rfl) dX1_put_45 ⟨Nat.zero_le _, Nat.zero_le _⟩ hK hA hP hD hS (ci := 1) rfl rfl rfl (fun u_ H locs hu_ hP hD hS => ?_)
            obtain rfl := hu_
            have hP : va_P D vwCl (MW h q dA (upd pl n a) (upd ms n b) (nI (n + 1))) H := hP
            have hD : va_D A (MW h q dA (upd pl n a) (upd ms n b) (nI (n + 1))) := hD
            refine lv_aload_n hx hb dX1_put_48 rfl (lv_at hl 0 rfl) ?_
            refine mg2 S hK hP dX1_put_49 ?_
            refine lv_iconst (v := nI 1) hx hb dX1_put_52 (by decide +kernel) ?_
            refine zz_sub hx hb dX1_put_53 (by omega) ?_
            exact hret _ _ _ _ _ (upd pl n a, upd ms n b, nI (n + 1)) (by rw [show pPut (pl, ms, n) a b = (nI n, addF (pl, ms, n) a b) by (unfold pPut; rw [if_pos hoc, if_pos hom, if_neg (show ¬ n = 40 by omega)])]; exact ⟨rfl, rfl⟩) hP hD hS dX1_put_54
          · refine lv_bipush (v := (-3)) hx hb dX1_put_39 (by decide +kernel) ?_
            exact hret _ _ _ _ _ (pl, ms, nI n) (by rw [show pPut (pl, ms, n) a b = (-3, (pl, ms, n)) by (unfold pPut; rw [if_pos hoc, if_pos hom, if_pos (show n = 40 by omega)])]; exact ⟨rfl, rfl⟩) hP hD hS dX1_put_41
        · refine lv_bipush (v := (-2)) hx hb dX1_put_27 (by decide +kernel) ?_
          exact hret _ _ _ _ _ (pl, ms, nI n) (by rw [show pPut (pl, ms, n) a b = (-2, (pl, ms, n)) by (unfold pPut; rw [if_pos hoc, if_neg (fun h9 => h9.2 (Int32.not_le.mp c_4))])]; exact ⟨rfl, rfl⟩) hP hD hS dX1_put_29
    · refine lv_iconst (v := (-1)) hx hb dX1_put_11 (by decide +kernel) ?_
      exact hret _ _ _ _ _ (pl, ms, nI n) (by rw [show pPut (pl, ms, n) a b = (-1, (pl, ms, n)) from if_neg (fun h9 => c_2 (hk.mpr h9.2))]; exact ⟨rfl, rfl⟩) hP hD hS dX1_put_12
abbrev rmX1_sow : Room := { frames := 1, cells := 0, slots := 0, locals := 22 }
set_option maxHeartbeats 4000000 in
set_option maxRecDepth 100000 in
theorem metX1_sow (l : Launch) (D : va_G) (dA : ClassId) (h : Nat) (q : Nat → Nat) (pl ms : Nat → Int32) (n : Nat) (hn : n ≤ 40) (a b x : Int32) : CI l yX1_sow cX1_sow 5 rmX1_sow D dA (MV h q dA) (pl, ms, nI n) [.ref h, .int a, .int b, .int x] (fun r u => r = (pSow (pl, ms, n) a b x).1 ∧ u = MFs (pSow (pl, ms, n) a b x).2) := by
  refine CI.mk (own := RX1) (by decide) rfl (Nat.le_of_ble_eq_true rfl) ?_
  intro p e s m args below meth c Q A H locs ls S hK hA hP hD hS hl hret
  have hx := S.1
  have hb := S.2.1
  have hP : va_P D vwCl (MW h q dA pl ms (nI n)) H := hP
  have hD : va_D A (MW h q dA pl ms (nI n)) := hD
  have hl : lv_has ls 5 [(0, .ref h), (1, .int a), (2, .int b), (3, .int x)] := hl
  have hk := le_pred (x := a) (n := 191) (by omega)
  have hk2 := le_pred (x := b) (n := 191) (by omega)
  refine lv_iload_n hx hb dX1_sow_0 rfl (lv_at hl 1 rfl) ?_
  refine lv_if_lt (tgt := 11) hx hb dX1_sow_1 (by decide) (fun c_1 => ?_) (fun c_1 => ?_)
  · refine lv_iconst (v := (-1)) hx hb dX1_sow_11 (by decide +kernel) ?_
    exact hret _ _ _ _ _ (pl, ms, nI n) (by rw [show pSow (pl, ms, n) a b x = (-1, (pl, ms, n)) from if_neg (fun h9 => h9.1 c_1)]; exact ⟨rfl, rfl⟩) hP hD hS dX1_sow_12
  · refine lv_iload_n hx hb dX1_sow_4 rfl (lv_at hl 1 rfl) ?_
    refine lv_sipush (v := nI 191) hx hb dX1_sow_5 (by decide +kernel) ?_
    refine lv_icmp_le (tgt := 13) hx hb dX1_sow_8 (by decide) (fun c_2 => ?_) (fun c_2 => ?_)
    · have hoa : okC a := ⟨c_1, hk.mp c_2⟩
      refine lv_iload_n hx hb dX1_sow_13 rfl (lv_at hl 2 rfl) ?_
      refine lv_if_lt (tgt := 24) hx hb dX1_sow_14 (by decide) (fun c_3 => ?_) (fun c_3 => ?_)
      · refine lv_bipush (v := (-2)) hx hb dX1_sow_24 (by decide +kernel) ?_
        exact hret _ _ _ _ _ (pl, ms, nI n) (by rw [show pSow (pl, ms, n) a b x = (-2, (pl, ms, n)) by (unfold pSow; rw [if_pos hoa, if_neg (fun h9 => h9.1 c_3)])]; exact ⟨rfl, rfl⟩) hP hD hS dX1_sow_26
      · refine lv_iload_n hx hb dX1_sow_17 rfl (lv_at hl 2 rfl) ?_
        refine lv_sipush (v := nI 191) hx hb dX1_sow_18 (by decide +kernel) ?_
        refine lv_icmp_le (tgt := 27) hx hb dX1_sow_21 (by decide) (fun c_4 => ?_) (fun c_4 => ?_)
        · have hob : okC b := ⟨c_3, hk2.mp c_4⟩
          refine lv_iload_n hx hb dX1_sow_27 rfl (lv_at hl 3 rfl) ?_
          refine lv_iconst (v := nI 1) hx hb dX1_sow_28 (by decide +kernel) ?_
          refine lv_icmp_lt (tgt := 38) hx hb dX1_sow_29 (by decide) (fun c_5 => ?_) (fun c_5 => ?_)
          · refine lv_bipush (v := (-3)) hx hb dX1_sow_38 (by decide +kernel) ?_
            exact hret _ _ _ _ _ (pl, ms, nI n) (by rw [show pSow (pl, ms, n) a b x = (-3, (pl, ms, n)) by (unfold pSow; rw [if_pos hoa, if_pos hob, if_neg (fun h9 => h9.1 c_5)])]; exact ⟨rfl, rfl⟩) hP hD hS dX1_sow_40
          · refine lv_iload_n hx hb dX1_sow_32 rfl (lv_at hl 3 rfl) ?_
            refine lv_bipush (v := nI 40) hx hb dX1_sow_33 (by decide +kernel) ?_
            refine lv_icmp_le (tgt := 41) hx hb dX1_sow_35 (by decide) (fun c_6 => ?_) (fun c_6 => ?_)
            · have hos : okS x := ⟨c_5, Int32.not_lt.mpr c_6⟩
              obtain ⟨sd, hsd, rfl⟩ := okC_N hoa
              obtain ⟨tp, htp, rfl⟩ := okC_N hob
              obtain ⟨ct, hct1, hct2, rfl⟩ := okS_N hos
              have hsow : pSow (pl, ms, n) (nI sd) (nI tp) (nI ct) = (nI (sowF (pl, ms, n) sd tp ct).2.2, sowF (pl, ms, n) sd tp ct) := by unfold pSow; rw [if_pos hoa, if_pos hob, if_pos hos, pN_nI (by omega), pN_nI (by omega), pN_nI (by omega)]
              have loop : ∀ (d i : Nat), ct + 1 ≤ i + d → i ≤ ct → ∀ (pl1 ms1 : Nat → Int32) (n1 : Nat), (pl1, ms1, n1) = sowF (pl, ms, n) sd tp i → n1 ≤ 40 → ∀ (H : Heap) (locs : List Loc), va_P D vwCl (MW h q dA pl1 ms1 (nI n1)) H → va_D A (MW h q dA pl1 ms1 (nI n1)) → va_S A s.heap H locs → ∀ ls : Array Slot, lv_has ls 5 [(0, .ref h), (1, .int (nI sd)), (2, .int (nI tp)), (3, .int (nI ct)), (4, .int (nI i))] → W p l e rmX1_sow s m args below meth c H locs 0 0 Q (F0 m 44 ls []) := by
                intro d
                induction d with
                | zero => intro i h1 h2; exact absurd h1 (by omega)
                | succ d ih =>
                  intro i h1 h2 pl1 ms1 n1 hst hn1 H locs hP hD hS ls hl
                  refine lv_iload hx hb dX1_sow_44 (lv_at hl 4 rfl) ?_
                  refine lv_iload_n hx hb dX1_sow_46 rfl (lv_at hl 3 rfl) ?_
                  refine zz_ge (tgt := 99) hx hb dX1_sow_47 (by decide) (by omega) (by omega) (fun c_8 => ?_) (fun c_8 => ?_)
                  · have hi : i = ct := by omega
                    subst hi
                    refine lv_aload_n hx hb dX1_sow_99 rfl (lv_at hl 0 rfl) ?_
                    refine mg2 S hK hP dX1_sow_100 ?_
                    exact hret _ _ _ _ _ (pl1, ms1, nI n1) (by rw [hsow, ← hst]; exact ⟨rfl, rfl⟩) hP hD hS dX1_sow_103
                  · have hb1 : i * tp ≤ 40 * 191 := Nat.mul_le_mul (by omega) (by omega)
                    have hb2 : i * i ≤ 40 * 40 := Nat.mul_le_mul (by omega) (by omega)
                    refine lv_aload_n hx hb dX1_sow_50 rfl (lv_at hl 0 rfl) ?_
                    refine mg2 S hK hP dX1_sow_51 ?_
                    refine lv_bipush (v := nI 40) hx hb dX1_sow_54 (by decide +kernel) ?_
                    refine zz_ge (tgt := 93) hx hb dX1_sow_56 (by decide) (by omega) (by omega) (fun c_9 => ?_) (fun c_9 => ?_)
                    · refine lv_iinc (v := nI (i + 1)) (lv' := [(4, .int (nI (i + 1))), (0, .ref h), (1, .int (nI sd)), (2, .int (nI tp)), (3, .int (nI ct))]) hx hb dX1_sow_93 hl (k := 4) rfl (by exact nI_1 _) (by decide) rfl (fun ls hl => ?_)
                      refine lv_goto (tgt := 44) hx hb dX1_sow_96 (by decide) ?_
                      exact ih (i + 1) (by omega) (by omega) pl1 ms1 n1 (by rw [hst]; show _ = (if (sowF (pl, ms, n) sd tp i).2.2 < 40 then _ else _); rw [← hst, if_neg (show ¬ n1 < 40 by omega)]) hn1 H locs hP hD hS ls (lv_sub hl [1, 2, 3, 4, 0] rfl)
                    · refine lv_aload_n hx hb dX1_sow_59 rfl (lv_at hl 0 rfl) ?_
                      refine lv_iload_n hx hb dX1_sow_60 rfl (lv_at hl 1 rfl) ?_
                      refine lv_iload hx hb dX1_sow_61 (lv_at hl 4 rfl) ?_
                      refine lv_iload_n hx hb dX1_sow_63 rfl (lv_at hl 2 rfl) ?_
                      refine zz_mul hx hb dX1_sow_64 ?_
                      refine zz_add hx hb dX1_sow_65 ?_
                      refine lv_sipush (v := nI 192) hx hb dX1_sow_66 (by decide +kernel) ?_
                      refine zz_rem hx hb dX1_sow_69 (by omega) (by omega) (by omega) ?_
                      refine lv_iload_n hx hb dX1_sow_70 rfl (lv_at hl 1 rfl) ?_
                      refine lv_bipush (v := nI 7) hx hb dX1_sow_71 (by decide +kernel) ?_
                      refine zz_mul hx hb dX1_sow_73 ?_
                      refine lv_iload hx hb dX1_sow_74 (lv_at hl 4 rfl) ?_
                      refine lv_iload hx hb dX1_sow_76 (lv_at hl 4 rfl) ?_
                      refine zz_mul hx hb dX1_sow_78 ?_
                      refine lv_bipush (v := nI 11) hx hb dX1_sow_79 (by decide +kernel) ?_
                      refine zz_mul hx hb dX1_sow_81 ?_
                      refine zz_add hx hb dX1_sow_82 ?_
                      refine lv_sipush (v := nI 300) hx hb dX1_sow_83 (by decide +kernel) ?_
                      refine zz_rem hx hb dX1_sow_86 (by omega) (by omega) (by omega) ?_
                      refine lv_bipush (v := nI 100) hx hb dX1_sow_87 (by decide +kernel) ?_
                      refine lv_isub hx hb dX1_sow_89 ?_
                      refine zz_callV (V := MV h q dA) (u := (pl1, ms1, nI n1)) (As := [.int (nI ((sd + (i * tp)) % 192)), .int ((nI (((sd * 7) + ((i * i) * 11)) % 300)) - (nI 100))]) (rest := []) S (metX1_append l D dA h q pl1 ms1 n1 c_9 (nI ((sd + (i * tp)) % 192)) ((nI (((sd * 7) + ((i * i) * 11)) % 300)) - (nI 100))) gw_X1_20 hd_X1_append rfl rfl ⟨Nat.le_of_ble_eq_true rfl, Nat.le_of_ble_eq_true rfl⟩ rfl hl.1 rfl (Nat.le_of_ble_eq_true rfl) dX1_sow_90 ⟨Nat.zero_le _, Nat.zero_le _⟩ hK hA hP hD hS (ci := 1) rfl rfl rfl (fun u_ H locs hu_ hP hD hS => ?_)
                      obtain rfl := hu_
                      have hP : va_P D vwCl (MW h q dA (upd pl1 n1 (nI ((sd + (i * tp)) % 192))) (upd ms1 n1 ((nI (((sd * 7) + ((i * i) * 11)) % 300)) - (nI 100))) (nI (n1 + 1))) H := hP
                      have hD : va_D A (MW h q dA (upd pl1 n1 (nI ((sd + (i * tp)) % 192))) (upd ms1 n1 ((nI (((sd * 7) + ((i * i) * 11)) % 300)) - (nI 100))) (nI (n1 + 1))) := hD
                      refine lv_iinc (v := nI (i + 1)) (lv' := [(4, .int (nI (i + 1))), (0, .ref h), (1, .int (nI sd)), (2, .int (nI tp)), (3, .int (nI ct))]) hx hb dX1_sow_93 hl (k := 4) rfl (by exact nI_1 _) (by decide) rfl (fun ls hl => ?_)
                      refine lv_goto (tgt := 44) hx hb dX1_sow_96 (by decide) ?_
                      exact ih (i + 1) (by omega) (by omega) (upd pl1 n1 (nI ((sd + (i * tp)) % 192))) (upd ms1 n1 ((nI (((sd * 7) + ((i * i) * 11)) % 300)) - (nI 100))) (n1 + 1) (by show _ = (if (sowF (pl, ms, n) sd tp i).2.2 < 40 then addF (sowF (pl, ms, n) sd tp i) _ _ else _); rw [← hst, if_pos (show n1 < 40 by omega)]; rfl) (by omega) _ _ hP hD hS ls (lv_sub hl [1, 2, 3, 4, 0] rfl)
              refine lv_iconst (v := nI 0) hx hb dX1_sow_41 (by decide +kernel) ?_
              refine lv_istore (lv' := [(4, .int (nI 0)), (0, .ref h), (1, .int (nI sd)), (2, .int (nI tp)), (3, .int (nI ct))]) hx hb dX1_sow_42 hl (by decide) rfl (fun ls hl => ?_)
              exact loop (ct + 1) 0 (by omega) (by omega) pl ms n rfl hn _ _ hP hD hS ls (lv_sub hl [1, 2, 3, 4, 0] rfl)
            · refine lv_bipush (v := (-3)) hx hb dX1_sow_38 (by decide +kernel) ?_
              exact hret _ _ _ _ _ (pl, ms, nI n) (by rw [show pSow (pl, ms, n) a b x = (-3, (pl, ms, n)) by (unfold pSow; rw [if_pos hoa, if_pos hob, if_neg (fun h9 => h9.2 (Int32.not_le.mp c_6))])]; exact ⟨rfl, rfl⟩) hP hD hS dX1_sow_40
        · refine lv_bipush (v := (-2)) hx hb dX1_sow_24 (by decide +kernel) ?_
          exact hret _ _ _ _ _ (pl, ms, nI n) (by rw [show pSow (pl, ms, n) a b x = (-2, (pl, ms, n)) by (unfold pSow; rw [if_pos hoa, if_neg (fun h9 => c_4 (hk2.mpr h9.2))])]; exact ⟨rfl, rfl⟩) hP hD hS dX1_sow_26
    · refine lv_iconst (v := (-1)) hx hb dX1_sow_11 (by decide +kernel) ?_
      exact hret _ _ _ _ _ (pl, ms, nI n) (by rw [show pSow (pl, ms, n) a b x = (-1, (pl, ms, n)) from if_neg (fun h9 => c_2 (hk.mpr h9.2))]; exact ⟨rfl, rfl⟩) hP hD hS dX1_sow_12
abbrev rmX1_measure : Room := { frames := 1, cells := 0, slots := 0, locals := 21 }
set_option maxHeartbeats 4000000 in
set_option maxRecDepth 100000 in
theorem metX1_measure (l : Launch) (D : va_G) (dA : ClassId) (h : Nat) (q : Nat → Nat) (pl ms : Nat → Int32) (n : Nat) (hn : n ≤ 40) (a b : Int32) : CI l yX1_measure cX1_measure 4 rmX1_measure D dA (MV h q dA) (pl, ms, nI n) [.ref h, .int a, .int b] (fun r u => r = (pMeas (pl, ms, n) a b).1 ∧ u = MFs (pMeas (pl, ms, n) a b).2) := by
  refine CI.mk (own := RX1) (by decide) rfl (Nat.le_of_ble_eq_true rfl) ?_
  intro p e s m args below meth c Q A H locs ls S hK hA hP hD hS hl hret
  have hx := S.1
  have hb := S.2.1
  have hP : va_P D vwCl (MW h q dA pl ms (nI n)) H := hP
  have hD : va_D A (MW h q dA pl ms (nI n)) := hD
  have hl : lv_has ls 4 [(0, .ref h), (1, .int a), (2, .int b)] := hl
  refine lv_aload_n hx hb dX1_measure_0 rfl (lv_at hl 0 rfl) ?_
  refine lv_iload_n hx hb dX1_measure_1 rfl (lv_at hl 1 rfl) ?_
  refine zz_callR (As := [.int a]) (rest := []) S (metX1_badFact l D dA h q pl ms n a) gw_X1_24 hd_X1_badFact rfl rfl ⟨Nat.le_of_ble_eq_true rfl, Nat.le_of_ble_eq_true rfl⟩ rfl hl.1 rfl (Nat.le_of_ble_eq_true rfl) dX1_measure_2 ⟨Nat.zero_le _, Nat.zero_le _⟩ hK hP (ci := 1) rfl rfl rfl (fun r_1 er_1 => ?_)
  subst er_1
  refine zz_beq (tgt := 10) hx hb dX1_measure_5 (by decide) (fun c_1 => ?_) (fun c_1 => ?_)
  · have hof := Classical.not_not.mp c_1
    obtain ⟨f, hf, rfl⟩ := okF_N (by omega) hof
    refine lv_iload_n hx hb dX1_measure_10 rfl (lv_at hl 2 rfl) ?_
    refine lv_sipush (v := (-1000)) hx hb dX1_measure_11 (by decide +kernel) ?_
    refine lv_icmp_lt (tgt := 24) hx hb dX1_measure_14 (by decide) (fun c_3 => ?_) (fun c_3 => ?_)
    · refine lv_bipush (v := (-2)) hx hb dX1_measure_24 (by decide +kernel) ?_
      exact hret _ _ _ _ _ (pl, ms, nI n) (by rw [show pMeas (pl, ms, n) (nI f) b = (-2, (pl, ms, n)) by (unfold pMeas; rw [if_pos hof, if_neg (fun h9 => h9.1 c_3)])]; exact ⟨rfl, rfl⟩) hP hD hS dX1_measure_26
    · refine lv_iload_n hx hb dX1_measure_17 rfl (lv_at hl 2 rfl) ?_
      refine lv_sipush (v := nI 1000) hx hb dX1_measure_18 (by decide +kernel) ?_
      refine lv_icmp_le (tgt := 27) hx hb dX1_measure_21 (by decide) (fun c_4 => ?_) (fun c_4 => ?_)
      · have hom : okM b := ⟨c_3, Int32.not_lt.mpr c_4⟩
        refine lv_aload_n hx hb dX1_measure_27 rfl (lv_at hl 0 rfl) ?_
        refine mg1 S hK hP dX1_measure_28 ?_
        refine lv_iload_n hx hb dX1_measure_31 rfl (lv_at hl 1 rfl) ?_
        refine ml1 S hK hP (by omega) dX1_measure_32 ?_
        refine lv_istore_n (lv' := [(3, .int (ms f)), (0, .ref h), (1, .int (nI f)), (2, .int b)]) hx hb dX1_measure_33 rfl hl (by decide) rfl (fun ls hl => ?_)
        refine lv_aload_n hx hb dX1_measure_34 rfl (lv_at hl 1 rfl) ?_
        refine mg1 S hK hP dX1_measure_35 ?_
        refine lv_iload_n hx hb dX1_measure_38 rfl (lv_at hl 2 rfl) ?_
        refine lv_iload_n hx hb dX1_measure_39 rfl (lv_at hl 3 rfl) ?_
        refine ms1 S hK hP hD hS (by omega) dX1_measure_40 (fun H locs hP hD hS => ?_)
        refine lv_iload_n hx hb dX1_measure_41 rfl (lv_at hl 0 rfl) ?_
        exact hret _ _ _ _ _ (pl, upd ms f b, nI n) (by rw [show pMeas (pl, ms, n) (nI f) b = (ms f, (pl, upd ms f b, n)) by (unfold pMeas; rw [if_pos hof, if_pos hom, pN_nI (by omega)])]; exact ⟨rfl, rfl⟩) hP hD hS dX1_measure_42
      · refine lv_bipush (v := (-2)) hx hb dX1_measure_24 (by decide +kernel) ?_
        exact hret _ _ _ _ _ (pl, ms, nI n) (by rw [show pMeas (pl, ms, n) (nI f) b = (-2, (pl, ms, n)) by (unfold pMeas; rw [if_pos hof, if_neg (fun h9 => h9.2 (Int32.not_le.mp c_4))])]; exact ⟨rfl, rfl⟩) hP hD hS dX1_measure_26
  · refine lv_iconst (v := (-1)) hx hb dX1_measure_8 (by decide +kernel) ?_
    exact hret _ _ _ _ _ (pl, ms, nI n) (by rw [show pMeas (pl, ms, n) a b = (-1, (pl, ms, n)) from if_neg c_1]; exact ⟨rfl, rfl⟩) hP hD hS dX1_measure_9
abbrev rmX1_drop : Room := { frames := 1, cells := 0, slots := 0, locals := 21 }
set_option maxHeartbeats 4000000 in
set_option maxRecDepth 100000 in
theorem metX1_drop (l : Launch) (D : va_G) (dA : ClassId) (h : Nat) (q : Nat → Nat) (pl ms : Nat → Int32) (n : Nat) (hn : n ≤ 40) (a : Int32) : CI l yX1_drop cX1_drop 3 rmX1_drop D dA (MV h q dA) (pl, ms, nI n) [.ref h, .int a] (fun r u => r = (pDrop (pl, ms, n) a).1 ∧ u = MFs (pDrop (pl, ms, n) a).2) := by
  refine CI.mk (own := RX1) (by decide) rfl (Nat.le_of_ble_eq_true rfl) ?_
  intro p e s m args below meth c Q A H locs ls S hK hA hP hD hS hl hret
  have hx := S.1
  have hb := S.2.1
  have hP : va_P D vwCl (MW h q dA pl ms (nI n)) H := hP
  have hD : va_D A (MW h q dA pl ms (nI n)) := hD
  have hl : lv_has ls 3 [(0, .ref h), (1, .int a)] := hl
  refine lv_aload_n hx hb dX1_drop_0 rfl (lv_at hl 0 rfl) ?_
  refine lv_iload_n hx hb dX1_drop_1 rfl (lv_at hl 1 rfl) ?_
  refine zz_callR (As := [.int a]) (rest := []) S (metX1_badFact l D dA h q pl ms n a) gw_X1_24 hd_X1_badFact rfl rfl ⟨Nat.le_of_ble_eq_true rfl, Nat.le_of_ble_eq_true rfl⟩ rfl hl.1 rfl (Nat.le_of_ble_eq_true rfl) dX1_drop_2 ⟨Nat.zero_le _, Nat.zero_le _⟩ hK hP (ci := 1) rfl rfl rfl (fun r_1 er_1 => ?_)
  subst er_1
  refine zz_beq (tgt := 10) hx hb dX1_drop_5 (by decide) (fun c_1 => ?_) (fun c_1 => ?_)
  · have hof := Classical.not_not.mp c_1
    obtain ⟨f, hf, rfl⟩ := okF_N (by omega) hof
    have hdr : pDrop (pl, ms, n) (nI f) = (nI (n - 1), (shf pl f (n - 1), shf ms f (n - 1), n - 1)) := by unfold pDrop; rw [if_pos hof, pN_nI (by omega)]
    have loop : ∀ (d i : Nat), n ≤ i + d → f ≤ i → i + 1 ≤ n → ∀ (H : Heap) (locs : List Loc), va_P D vwCl (MW h q dA (shf pl f i) (shf ms f i) (nI n)) H → va_D A (MW h q dA (shf pl f i) (shf ms f i) (nI n)) → va_S A s.heap H locs → ∀ ls : Array Slot, lv_has ls 3 [(0, .ref h), (1, .int (nI f)), (2, .int (nI i))] → W p l e rmX1_drop s m args below meth c H locs 0 0 Q (F0 m 12 ls []) := by
      intro d
      induction d with
      | zero => intro i h1 h2 h3; exact absurd h1 (by omega)
      | succ d ih =>
        intro i h1 h2 h3 H locs hP hD hS ls hl
        refine lv_iload_n hx hb dX1_drop_12 rfl (lv_at hl 2 rfl) ?_
        refine lv_iconst (v := nI 1) hx hb dX1_drop_13 (by decide +kernel) ?_
        refine zz_add hx hb dX1_drop_14 ?_
        refine lv_aload_n hx hb dX1_drop_15 rfl (lv_at hl 0 rfl) ?_
        refine mg2 S hK hP dX1_drop_16 ?_
        refine zz_ge (tgt := 56) hx hb dX1_drop_19 (by decide) (by omega) (by omega) (fun c_8 => ?_) (fun c_8 => ?_)
        · have hi : n - 1 = i := by omega
          refine lv_aload_n hx hb dX1_drop_56 rfl (lv_at hl 0 rfl) ?_
          refine lv_dup hx hb dX1_drop_57 rfl ?_
          refine mg2 S hK hP dX1_drop_58 ?_
          refine lv_iconst (v := nI 1) hx hb dX1_drop_61 (by decide +kernel) ?_
          refine zz_sub hx hb dX1_drop_62 (by omega) ?_
          refine mp2 S hK hP hD hS dX1_drop_63 (fun H locs hP hD hS => ?_)
          refine lv_aload_n hx hb dX1_drop_66 rfl (lv_at hl 0 rfl) ?_
          refine mg2 S hK hP dX1_drop_67 ?_
          exact hret _ _ _ _ _ (shf pl f i, shf ms f i, nI (n - 1)) (by rw [hdr, hi]; exact ⟨rfl, rfl⟩) hP hD hS dX1_drop_70
        · refine lv_aload_n hx hb dX1_drop_22 rfl (lv_at hl 0 rfl) ?_
          refine mg0 S hK hP dX1_drop_23 ?_
          refine lv_iload_n hx hb dX1_drop_26 rfl (lv_at hl 2 rfl) ?_
          refine lv_aload_n hx hb dX1_drop_27 rfl (lv_at hl 0 rfl) ?_
          refine mg0 S hK hP dX1_drop_28 ?_
          refine lv_iload_n hx hb dX1_drop_31 rfl (lv_at hl 2 rfl) ?_
          refine lv_iconst (v := nI 1) hx hb dX1_drop_32 (by decide +kernel) ?_
          refine zz_add hx hb dX1_drop_33 ?_
          refine ml0 S hK hP (by omega) dX1_drop_34 ?_
          refine ms0 S hK hP hD hS (by omega) dX1_drop_35 (fun H locs hP hD hS => ?_)
          refine lv_aload_n hx hb dX1_drop_36 rfl (lv_at hl 0 rfl) ?_
          refine mg1 S hK hP dX1_drop_37 ?_
          refine lv_iload_n hx hb dX1_drop_40 rfl (lv_at hl 2 rfl) ?_
          refine lv_aload_n hx hb dX1_drop_41 rfl (lv_at hl 0 rfl) ?_
          refine mg1 S hK hP dX1_drop_42 ?_
          refine lv_iload_n hx hb dX1_drop_45 rfl (lv_at hl 2 rfl) ?_
          refine lv_iconst (v := nI 1) hx hb dX1_drop_46 (by decide +kernel) ?_
          refine zz_add hx hb dX1_drop_47 ?_
          refine ml1 S hK hP (by omega) dX1_drop_48 ?_
          refine ms1 S hK hP hD hS (by omega) dX1_drop_49 (fun H locs hP hD hS => ?_)
          refine lv_iinc (v := nI (i + 1)) (lv' := [(2, .int (nI (i + 1))), (0, .ref h), (1, .int (nI f))]) hx hb dX1_drop_50 hl (k := 2) rfl (by exact nI_1 _) (by decide) rfl (fun ls hl => ?_)
          refine lv_goto (tgt := 12) hx hb dX1_drop_53 (by decide) ?_
          rw [shf_1 pl h2, shf_1 ms h2] at hP hD
          exact ih (i + 1) (by omega) (by omega) (by omega) _ _ hP hD hS ls (lv_sub hl [1, 2, 0] rfl)
    refine lv_iload_n hx hb dX1_drop_10 rfl (lv_at hl 1 rfl) ?_
    refine lv_istore_n (lv' := [(2, .int (nI f)), (0, .ref h), (1, .int (nI f))]) hx hb dX1_drop_11 rfl hl (by decide) rfl (fun ls hl => ?_)
    exact loop n f (by omega) (by omega) (by omega) _ _ (by rw [shf_0, shf_0]; exact hP) (by rw [shf_0, shf_0]; exact hD) hS ls (lv_sub hl [1, 2, 0] rfl)
  · refine lv_iconst (v := (-1)) hx hb dX1_drop_8 (by decide +kernel) ?_
    exact hret _ _ _ _ _ (pl, ms, nI n) (by rw [show pDrop (pl, ms, n) a = (-1, (pl, ms, n)) from if_neg c_1]; exact ⟨rfl, rfl⟩) hP hD hS dX1_drop_9
end
section
/-! PURE: the slots of an OlapCubes -/
theorem upd_s (f : Nat → Int32) (k : Nat) (x : Int32) : upd f k x k = x := if_pos rfl
theorem upd_n (f : Nat → Int32) {k j : Nat} (x : Int32) (h : ¬ j = k) : upd f k x j = f j := if_neg h
def wpT (f : Nat → Int32) (a j : Nat) (x : Int32) : Nat → Int32 := fun t => if a ≤ t ∧ t < a + j then x else f t
theorem wpT_0 (f : Nat → Int32) (a : Nat) (x : Int32) : wpT f a 0 x = f := by
  funext t
  unfold wpT
  rw [if_neg (by omega)]
theorem wpT_1 (f : Nat → Int32) (a j : Nat) (x : Int32) : upd (wpT f a j x) (a + j) x = wpT f a (j + 1) x := by
  funext t
  unfold upd wpT
  by_cases e : t = a + j
  · rw [if_pos e, if_pos (by omega)]
  · rw [if_neg e]
    by_cases g : a ≤ t ∧ t < a + j
    · rw [if_pos g, if_pos (by omega)]
    · rw [if_neg g, if_neg (by omega)]
theorem wpT_in (f : Nat → Int32) {a j t : Nat} (x : Int32) (h1 : a ≤ t) (h2 : t < a + j) : wpT f a j x t = x := if_pos ⟨h1, h2⟩
theorem wpT_out (f : Nat → Int32) {a j t : Nat} (x : Int32) (h : ¬ (a ≤ t ∧ t < a + j)) : wpT f a j x t = f t := if_neg h
/-- slot i holds the cells G, and how many of them hold a fact -/
def SLt (sf cn sm lo hi : Nat → Int32) (i : Nat) (G : Nat → AG) : Prop := (∀ x, x < 192 → cn (192 * i + x) = nI (G x).1 ∧ sm (192 * i + x) = (G x).2.1 ∧ lo (192 * i + x) = (G x).2.2.1 ∧ hi (192 * i + x) = (G x).2.2.2) ∧ sf i = nI (ocG G 192)
theorem ocG_congr {G G' : Nat → AG} : ∀ k, (∀ x, x < k → (G x).1 = (G' x).1) → ocG G k = ocG G' k
  | 0, _ => rfl
  | k + 1, h => by
    have ih := ocG_congr k (fun x hx => h x (by omega))
    unfold ocG
    rw [ih, h k (by omega)]
theorem SL_congr {sf cn sm lo hi : Nat → Int32} {i : Nat} {G G' : Nat → AG} (h : SLt sf cn sm lo hi i G) (e : ∀ x, x < 192 → G x = G' x) : SLt sf cn sm lo hi i G' := by
  refine ⟨fun x hx => ?_, ?_⟩
  · rw [← e x hx]; exact h.1 x hx
  · rw [h.2, ocG_congr 192 (fun x hx => by rw [e x hx])]
theorem ocG_z : ∀ k, ocG (fun _ => agz) k = 0
  | 0 => rfl
  | k + 1 => by
    show ocG (fun _ => agz) k + _ = 0
    rw [ocG_z k, if_neg (by show ¬ 0 < 0; omega)]
theorem SL_wipe (sf cn sm lo hi : Nat → Int32) (i : Nat) : SLt (upd sf i (nI 0)) (wpT cn (192 * i) 192 (nI 0)) (wpT sm (192 * i) 192 (nI 0)) (wpT lo (192 * i) 192 (nI 10000)) (wpT hi (192 * i) 192 (-10000)) i (fun _ => agz) := by
  refine ⟨fun x hx => ?_, ?_⟩
  · rw [wpT_in _ _ (by omega) (by omega), wpT_in _ _ (by omega) (by omega), wpT_in _ _ (by omega) (by omega), wpT_in _ _ (by omega) (by omega)]
    exact ⟨rfl, rfl, rfl, rfl⟩
  · rw [upd_s, ocG_z]
theorem SL_wipe_ne {sf cn sm lo hi : Nat → Int32} {i j : Nat} {G : Nat → AG} (hij : ¬ j = i) (h : SLt sf cn sm lo hi j G) (y z w v u : Int32) : SLt (upd sf i y) (wpT cn (192 * i) 192 z) (wpT sm (192 * i) 192 w) (wpT lo (192 * i) 192 v) (wpT hi (192 * i) 192 u) j G := by
  refine ⟨fun x hx => ?_, ?_⟩
  · rw [wpT_out _ _ (by omega), wpT_out _ _ (by omega), wpT_out _ _ (by omega), wpT_out _ _ (by omega)]
    exact h.1 x hx
  · rw [upd_n _ _ hij]; exact h.2
def upG (G : Nat → AG) (ce : Nat) (y : AG) : Nat → AG := fun x => if x = ce then y else G x
theorem ocG_upd {G : Nat → AG} {ce : Nat} {y : AG} (hy : 0 < y.1) : ∀ k, ocG (upG G ce y) k = ocG G k + if ce < k ∧ (G ce).1 = 0 then 1 else 0
  | 0 => by rw [if_neg (by omega)]; rfl
  | k + 1 => by
    have ih := ocG_upd (G := G) (ce := ce) hy k
    show ocG (upG G ce y) k + (if 0 < (upG G ce y k).1 then 1 else 0) = ocG G k + (if 0 < (G k).1 then 1 else 0) + _
    rw [ih]
    unfold upG
    by_cases e : k = ce
    · subst e
      rw [if_pos rfl, if_pos hy, if_neg (by omega)]
      by_cases g : (G k).1 = 0
      · rw [if_neg (by omega), if_pos ⟨by omega, g⟩]
      · rw [if_pos (by omega), if_neg (fun q => g q.2)]
    · rw [if_neg e]
      by_cases g : ce < k ∧ (G ce).1 = 0
      · rw [if_pos g, if_pos (show ce < k + 1 ∧ (G ce).1 = 0 from ⟨by omega, g.2⟩)]; omega
      · rw [if_neg g, if_neg (show ¬ (ce < k + 1 ∧ (G ce).1 = 0) from fun q => g ⟨by omega, q.2⟩)]; omega
theorem b1_N (P : Prop) [Decidable P] : b1 P = nI (if P then 1 else 0) := by
  by_cases h : P
  · rw [if_pos h]; exact (b1_T h).symm
  · rw [if_neg h]; exact (b1_F h).symm
theorem SL_enter {sf cn sm lo hi : Nat → Int32} {i ce m : Nat} {G : Nat → AG} (h : SLt sf cn sm lo hi i G) (hc : ce < 192) (hm : 0 < m) (hb : (G ce).1 + m < 2 ^ 31) (t lw hg : Int32) : SLt (upd sf i (sf i + b1 (cn (192 * i + ce) = 0))) (upd cn (192 * i + ce) (cn (192 * i + ce) + nI m)) (upd sm (192 * i + ce) (sm (192 * i + ce) + t)) (upd lo (192 * i + ce) (mn_ (lo (192 * i + ce)) lw)) (upd hi (192 * i + ce) (mx_ (hi (192 * i + ce)) hg)) i (upG G ce (agp (G ce) (m, t, lw, hg))) := by
  obtain ⟨e1, e2, e3, e4⟩ := h.1 ce hc
  refine ⟨fun x hx => ?_, ?_⟩
  · by_cases e : x = ce
    · subst e
      rw [upd_s, upd_s, upd_s, upd_s, e1, e2, e3, e4, nI_add]
      unfold upG
      rw [if_pos rfl]
      exact ⟨rfl, rfl, rfl, rfl⟩
    · rw [upd_n _ _ (by omega), upd_n _ _ (by omega), upd_n _ _ (by omega), upd_n _ _ (by omega)]
      unfold upG
      rw [if_neg e]
      exact h.1 x hx
  · rw [upd_s, h.2, e1, ocG_upd (by show 0 < (G ce).1 + m; omega), b1_N, nI_add]
    congr 2
    by_cases g : (G ce).1 = 0
    · rw [if_pos (by rw [g]; exact nI_0), if_pos ⟨hc, g⟩]
    · rw [if_neg (nI_ne0 (by omega) (by omega)), if_neg (fun q => g q.2)]
theorem SL_enter_ne {sf cn sm lo hi : Nat → Int32} {i j ce : Nat} {G : Nat → AG} (hij : ¬ j = i) (hc : ce < 192) (h : SLt sf cn sm lo hi j G) (y z w v u : Int32) : SLt (upd sf i y) (upd cn (192 * i + ce) z) (upd sm (192 * i + ce) w) (upd lo (192 * i + ce) v) (upd hi (192 * i + ce) u) j G := by
  refine ⟨fun x hx => ?_, ?_⟩
  · rw [upd_n _ _ (by omega), upd_n _ _ (by omega), upd_n _ _ (by omega), upd_n _ _ (by omega)]
    exact h.1 x hx
  · rw [upd_n _ _ hij]; exact h.2
/-- the whole of an OlapCubes: the facts, slot 0 with view 0, every slot free or right for its view -/
def XI (pl ms : Nat → Int32) (n : Nat) (sv sf cn sm lo hi : Nat → Int32) : Prop := FW pl n ∧ sv 0 = nI 0 ∧ ∀ i, i < 5 → sv i = -1 ∨ ∃ v, v < 48 ∧ sv i = nI v ∧ SLt sf cn sm lo hi i (gv pl ms n v)
def XU (F : FT) (u : XT) : Prop := ∃ sv sf su cn sm lo hi k, u = (F.1, F.2.1, sv, sf, su, cn, sm, lo, hi, nI F.2.2, k) ∧ XI F.1 F.2.1 F.2.2 sv sf cn sm lo hi
theorem gv_upd {pl ms : Nat → Int32} {n v x : Nat} (y z : Int32) : gv (upd pl n y) (upd ms n z) n v x = gv pl ms n v x :=
  ag_congr _ _ _ _ _ _ n (fun i hi => ⟨by rw [upd_n _ _ (by omega)], upd_n _ _ (by omega)⟩)
theorem gv_add {pl ms : Nat → Int32} {n v p : Nat} (hp : p < 192) (y : Int32) (x : Nat) : gv (upd pl n (nI p)) (upd ms n y) (n + 1) v x = upG (gv pl ms n v) (fal v p) (agp (gv pl ms n v (fal v p)) (1, y, y, y)) x := by
  unfold upG
  by_cases h : fal v p = x
  · rw [gv_t (j := p) (upd_s _ _ _) hp h, gv_upd, upd_s, if_pos h.symm, h]
    rfl
  · rw [gv_f (j := p) (upd_s _ _ _) hp h, gv_upd, if_neg (fun q => h q.symm)]
theorem gv_ext {pl ms : Nat → Int32} {n v p : Nat} (ep : pl n = nI p) (hp : p < 192) (x : Nat) : gv pl ms (n + 1) v x = upG (gv pl ms n v) (fal v p) (agp (gv pl ms n v (fal v p)) (1, ms n, ms n, ms n)) x := by
  unfold upG
  by_cases h : fal v p = x
  · rw [gv_t ep hp h, if_pos h.symm, h]
    rfl
  · rw [gv_f ep hp h, if_neg (fun q => h q.symm)]
theorem m1_ne (v : Nat) (h : v < 2 ^ 31) : ¬ nI v = -1 := by
  intro e
  have h1 := nI_toInt h
  rw [e] at h1
  have : (-1 : Int32).toInt = -1 := by decide +kernel
  omega
/-- working a view out of a finer one: the cells of the finer view below x are in -/
def rl (f v x z : Nat) : Nat → Bool := fun p => decide (fal f p < x) && (fal v p == z)
def gr (pl ms : Nat → Int32) (n f v x z : Nat) : AG := ag (rl f v x z) pl ms n
theorem grl_0 (pl ms : Nat → Int32) (n f v z : Nat) : gr pl ms n f v 0 z = agz := ag_none _ _ _ n (fun i _ => by unfold rl; simp)
theorem grl_end {pl ms : Nat → Int32} {n f v : Nat} (hF : FW pl n) (z : Nat) : gr pl ms n f v 192 z = gv pl ms n v z :=
  ag_congr _ _ _ _ _ _ n (fun i hi => by
    obtain ⟨j, hj, ej⟩ := hF.2 i hi
    refine ⟨?_, rfl⟩
    unfold rl
    rw [ej, pN_nI (by omega), decide_eq_true (fal_lt hj), Bool.true_and])
theorem grl_none {pl ms : Nat → Int32} {n f v x : Nat} (h : (gv pl ms n f x).1 = 0) (z : Nat) : gr pl ms n f v (x + 1) z = gr pl ms n f v x z :=
  ag_congr _ _ _ _ _ _ n (fun i hi => by
    refine ⟨?_, rfl⟩
    have h1 : ¬ fal f (pN (pl i)) = x := fun e => by
      have := (ag_pos (fun p => fal f p == x) pl ms n).mpr ⟨i, hi, by show (fal f (pN (pl i)) == x) = true; rw [e]; exact beq_self_eq_true x⟩
      have h2 : (ag (fun p => fal f p == x) pl ms n).1 = 0 := h
      omega
    unfold rl
    rw [show decide (fal f (pN (pl i)) < x + 1) = decide (fal f (pN (pl i)) < x) from decide_eq_decide.mpr (by omega)])
theorem grl_some {pl ms : Nat → Int32} {n f v x to : Nat} (h : ∀ i, i < n → fal f (pN (pl i)) = x → fal v (pN (pl i)) = to) (z : Nat) : gr pl ms n f v (x + 1) z = upG (gr pl ms n f v x) to (agp (gr pl ms n f v x to) (gv pl ms n f x)) z := by
  unfold upG
  by_cases e : z = to
  · subst e
    rw [if_pos rfl]
    refine ag_or _ _ _ _ _ n (fun i hi => ?_) (fun i hi => ?_)
    · have h1 := h i hi
      show (decide (fal f (pN (pl i)) < x + 1) && (fal v (pN (pl i)) == z)) = ((decide (fal f (pN (pl i)) < x) && (fal v (pN (pl i)) == z)) || (fal f (pN (pl i)) == x))
      by_cases g : fal f (pN (pl i)) = x
      · rw [h1 g, g]
        simp
      · rw [show (fal f (pN (pl i)) == x) = false from beq_eq_false_iff_ne.mpr g, Bool.or_false, show decide (fal f (pN (pl i)) < x + 1) = decide (fal f (pN (pl i)) < x) from decide_eq_decide.mpr (by omega)]
    · rintro ⟨q1, q2⟩
      have g1 : fal f (pN (pl i)) < x := of_decide_eq_true (Bool.and_eq_true_iff.mp q1).1
      have g2 : fal f (pN (pl i)) = x := eq_of_beq q2
      omega
  · rw [if_neg e]
    refine ag_congr _ _ _ _ _ _ n (fun i hi => ⟨?_, rfl⟩)
    show (decide (fal f (pN (pl i)) < x + 1) && (fal v (pN (pl i)) == z)) = (decide (fal f (pN (pl i)) < x) && (fal v (pN (pl i)) == z))
    by_cases g : fal f (pN (pl i)) = x
    · rw [h i hi g, show (to == z) = false from beq_eq_false_iff_ne.mpr (fun w => e w.symm), Bool.and_false, Bool.and_false]
    · rw [show decide (fal f (pN (pl i)) < x + 1) = decide (fal f (pN (pl i)) < x) from decide_eq_decide.mpr (by omega)]
theorem grl_le (pl ms : Nat → Int32) (n f v x z : Nat) : (gr pl ms n f v x z).1 ≤ n := ag_le _ pl ms n
theorem fin_0 (v : Nat) : fin_ 0 v := ⟨⟨by omega, by omega⟩, by omega, by omega⟩
end
section
/-! OlapCubes: isFact, wipe, enter: what they do, to the letter -/
abbrev rmX0_isFact : Room := { frames := 0, cells := 0, slots := 0, locals := 0 }
set_option maxHeartbeats 4000000 in
set_option maxRecDepth 100000 in
theorem metX0_isFact (l : Launch) (D : va_G) (dA : ClassId) (h : Nat) (q : Nat → Nat) (pl ms sv sf su cn sm lo hi : Nat → Int32) (n : Nat) (k : Int32) (x : Int32) : CR l yX0_isFact cX0_isFact 2 (some .boolean) rmX0_isFact [.ref h, .int x] (GP D dA (XW h q dA pl ms sv sf su cn sm lo hi (nI n) k)) (fun r => r = b1 (okF n x)) := by
  refine CR.mk (own := RX0) (by decide) rfl (Nat.le_of_ble_eq_true rfl) ?_
  intro p e s m args below meth c Q ls S hB hl hret
  obtain ⟨hP, hK⟩ := hB
  have hx := S.1
  have hb := S.2.1
  have hl : lv_has ls 2 [(0, .ref h), (1, .int x)] := hl
  refine lv_iload_n hx hb dX0_isFact_0 rfl (lv_at hl 1 rfl) ?_
  refine lv_if_lt (tgt := 16) hx hb dX0_isFact_1 (by decide) (fun c_1 => ?_) (fun c_1 => ?_)
  · refine lv_iconst (v := nI 0) hx hb dX0_isFact_16 (by decide +kernel) ?_
    exact hret _ _ _ (b1_F (fun h9 => h9.1 c_1)) rfl dX0_isFact_17
  · refine lv_iload_n hx hb dX0_isFact_4 rfl (lv_at hl 1 rfl) ?_
    refine lv_aload_n hx hb dX0_isFact_5 rfl (lv_at hl 0 rfl) ?_
    refine xg9 S hK hP dX0_isFact_6 ?_
    refine lv_icmp_ge (tgt := 16) hx hb dX0_isFact_9 (by decide) (fun c_2 => ?_) (fun c_2 => ?_)
    · refine lv_iconst (v := nI 0) hx hb dX0_isFact_16 (by decide +kernel) ?_
      exact hret _ _ _ (b1_F (fun h9 => h9.2 c_2)) rfl dX0_isFact_17
    · refine lv_iconst (v := nI 1) hx hb dX0_isFact_12 (by decide +kernel) ?_
      refine lv_goto (tgt := 17) hx hb dX0_isFact_13 (by decide) ?_
      exact hret _ _ _ (b1_T ⟨c_1, c_2⟩) rfl dX0_isFact_17
abbrev rmX0_wipe : Room := { frames := 0, cells := 0, slots := 0, locals := 0 }
set_option maxHeartbeats 4000000 in
set_option maxRecDepth 100000 in
theorem metX0_wipe (l : Launch) (D : va_G) (dA : ClassId) (h : Nat) (q : Nat → Nat) (pl ms sv sf su cn sm lo hi : Nat → Int32) (n : Nat) (k : Int32) (i : Nat) (hi5 : i < 5) : CV l yX0_wipe cX0_wipe 3 rmX0_wipe D dA (XV h q dA) (pl, ms, sv, sf, su, cn, sm, lo, hi, nI n, k) [.ref h, .int (nI i)] (fun u => u = (pl, ms, sv, upd sf i (nI 0), su, wpT cn (192 * i) 192 (nI 0), wpT sm (192 * i) 192 (nI 0), wpT lo (192 * i) 192 (nI 10000), wpT hi (192 * i) 192 (-10000), nI n, k)) := by
  refine CV.mk (own := RX0) (by decide) rfl (Nat.le_of_ble_eq_true rfl) ?_
  intro p e s m args below meth c Q A H locs ls S hK hA hP hD hS hl hret
  have hx := S.1
  have hb := S.2.1
  have hP : va_P D vwCl (XW h q dA pl ms sv sf su cn sm lo hi (nI n) k) H := hP
  have hD : va_D A (XW h q dA pl ms sv sf su cn sm lo hi (nI n) k) := hD
  have hl : lv_has ls 3 [(0, .ref h), (1, .int (nI i))] := hl
  have loop : ∀ (d j : Nat), 193 ≤ j + d → j ≤ 192 → ∀ (H : Heap) (locs : List Loc), va_P D vwCl (XW h q dA pl ms sv (upd sf i (nI 0)) su (wpT cn (192 * i) j (nI 0)) (wpT sm (192 * i) j (nI 0)) (wpT lo (192 * i) j (nI 10000)) (wpT hi (192 * i) j (-10000)) (nI n) k) H → va_D A (XW h q dA pl ms sv (upd sf i (nI 0)) su (wpT cn (192 * i) j (nI 0)) (wpT sm (192 * i) j (nI 0)) (wpT lo (192 * i) j (nI 10000)) (wpT hi (192 * i) j (-10000)) (nI n) k) → va_S A s.heap H locs → ∀ ls : Array Slot, lv_has ls 3 [(0, .ref h), (1, .int (nI i)), (2, .int (nI (192 * i + j)))] → W p l e rmX0_wipe s m args below meth c H locs 0 0 Q (F0 m 13 ls []) := by
    intro d
    induction d with
    | zero => intro j h1 h2; exact absurd h1 (by omega)
    | succ d ih =>
      intro j h1 h2 H locs hP hD hS ls hl
      refine lv_iload_n hx hb dX0_wipe_13 rfl (lv_at hl 2 rfl) ?_
      refine lv_sipush (v := nI 192) hx hb dX0_wipe_14 (by decide +kernel) ?_
      refine lv_iload_n hx hb dX0_wipe_17 rfl (lv_at hl 1 rfl) ?_
      refine zz_mul hx hb dX0_wipe_18 ?_
      refine lv_sipush (v := nI 192) hx hb dX0_wipe_19 (by decide +kernel) ?_
      refine zz_add hx hb dX0_wipe_22 ?_
      refine zz_ge (tgt := 64) hx hb dX0_wipe_23 (by decide) (by omega) (by omega) (fun c_8 => ?_) (fun c_8 => ?_)
      · have hj : 192 = j := by omega
        subst hj
        exact hret _ _ _ _ (pl, ms, sv, upd sf i (nI 0), su, wpT cn (192 * i) 192 (nI 0), wpT sm (192 * i) 192 (nI 0), wpT lo (192 * i) 192 (nI 10000), wpT hi (192 * i) 192 (-10000), nI n, k) rfl hP hD hS dX0_wipe_64
      · refine lv_aload_n hx hb dX0_wipe_26 rfl (lv_at hl 0 rfl) ?_
        refine xg5 S hK hP dX0_wipe_27 ?_
        refine lv_iload_n hx hb dX0_wipe_30 rfl (lv_at hl 2 rfl) ?_
        refine lv_iconst (v := nI 0) hx hb dX0_wipe_31 (by decide +kernel) ?_
        refine xs5 S hK hP hD hS (by omega) dX0_wipe_32 (fun H locs hP hD hS => ?_)
        refine lv_aload_n hx hb dX0_wipe_33 rfl (lv_at hl 0 rfl) ?_
        refine xg6 S hK hP dX0_wipe_34 ?_
        refine lv_iload_n hx hb dX0_wipe_37 rfl (lv_at hl 2 rfl) ?_
        refine lv_iconst (v := nI 0) hx hb dX0_wipe_38 (by decide +kernel) ?_
        refine xs6 S hK hP hD hS (by omega) dX0_wipe_39 (fun H locs hP hD hS => ?_)
        refine lv_aload_n hx hb dX0_wipe_40 rfl (lv_at hl 0 rfl) ?_
        refine xg7 S hK hP dX0_wipe_41 ?_
        refine lv_iload_n hx hb dX0_wipe_44 rfl (lv_at hl 2 rfl) ?_
        refine lv_sipush (v := nI 10000) hx hb dX0_wipe_45 (by decide +kernel) ?_
        refine xs7 S hK hP hD hS (by omega) dX0_wipe_48 (fun H locs hP hD hS => ?_)
        refine lv_aload_n hx hb dX0_wipe_49 rfl (lv_at hl 0 rfl) ?_
        refine xg8 S hK hP dX0_wipe_50 ?_
        refine lv_iload_n hx hb dX0_wipe_53 rfl (lv_at hl 2 rfl) ?_
        refine lv_sipush (v := (-10000)) hx hb dX0_wipe_54 (by decide +kernel) ?_
        refine xs8 S hK hP hD hS (by omega) dX0_wipe_57 (fun H locs hP hD hS => ?_)
        refine lv_iinc (v := nI (192 * i + j + 1)) (lv' := [(2, .int (nI (192 * i + j + 1))), (0, .ref h), (1, .int (nI i))]) hx hb dX0_wipe_58 hl (k := 2) rfl (by exact nI_1 _) (by decide) rfl (fun ls hl => ?_)
        refine lv_goto (tgt := 13) hx hb dX0_wipe_61 (by decide) ?_
        rw [wpT_1, wpT_1, wpT_1, wpT_1] at hP hD
        exact ih (j + 1) (by omega) (by omega) _ _ hP hD hS ls (lv_sub hl [1, 2, 0] rfl)
  refine lv_aload_n hx hb dX0_wipe_0 rfl (lv_at hl 0 rfl) ?_
  refine xg3 S hK hP dX0_wipe_1 ?_
  refine lv_iload_n hx hb dX0_wipe_4 rfl (lv_at hl 1 rfl) ?_
  refine lv_iconst (v := nI 0) hx hb dX0_wipe_5 (by decide +kernel) ?_
  refine xs3 S hK hP hD hS (by omega) dX0_wipe_6 (fun H locs hP hD hS => ?_)
  refine lv_sipush (v := nI 192) hx hb dX0_wipe_7 (by decide +kernel) ?_
  refine lv_iload_n hx hb dX0_wipe_10 rfl (lv_at hl 1 rfl) ?_
  refine zz_mul hx hb dX0_wipe_11 ?_
  refine lv_istore_n (lv' := [(2, .int (nI (192 * i))), (0, .ref h), (1, .int (nI i))]) hx hb dX0_wipe_12 rfl hl (by decide) rfl (fun ls hl => ?_)
  exact loop 193 0 (by omega) (by omega) _ _ (by rw [wpT_0, wpT_0, wpT_0, wpT_0]; exact hP) (by rw [wpT_0, wpT_0, wpT_0, wpT_0]; exact hD) hS ls (lv_sub hl [1, 2, 0] rfl)
abbrev rmX0_enter : Room := { frames := 0, cells := 0, slots := 0, locals := 0 }
set_option maxHeartbeats 4000000 in
set_option maxRecDepth 100000 in
theorem metX0_enter (l : Launch) (D : va_G) (dA : ClassId) (h : Nat) (q : Nat → Nat) (pl ms sv sf su cn sm lo hi : Nat → Int32) (n : Nat) (k : Int32) (i ce : Nat) (hi5 : i < 5) (hc : ce < 192) (my t lw hg : Int32) : CV l yX0_enter cX0_enter 8 rmX0_enter D dA (XV h q dA) (pl, ms, sv, sf, su, cn, sm, lo, hi, nI n, k) [.ref h, .int (nI i), .int (nI ce), .int my, .int t, .int lw, .int hg] (fun u => u = (pl, ms, sv, upd sf i (sf i + b1 (cn (192 * i + ce) = 0)), su, upd cn (192 * i + ce) (cn (192 * i + ce) + my), upd sm (192 * i + ce) (sm (192 * i + ce) + t), upd lo (192 * i + ce) (mn_ (lo (192 * i + ce)) lw), upd hi (192 * i + ce) (mx_ (hi (192 * i + ce)) hg), nI n, k)) := by
  refine CV.mk (own := RX0) (by decide) rfl (Nat.le_of_ble_eq_true rfl) ?_
  intro p e s m args below meth c Q A H locs ls S hK hA hP hD hS hl hret
  have hx := S.1
  have hb := S.2.1
  have hP : va_P D vwCl (XW h q dA pl ms sv sf su cn sm lo hi (nI n) k) H := hP
  have hD : va_D A (XW h q dA pl ms sv sf su cn sm lo hi (nI n) k) := hD
  have hl : lv_has ls 8 [(0, .ref h), (1, .int (nI i)), (2, .int (nI ce)), (3, .int my), (4, .int t), (5, .int lw), (6, .int hg)] := hl
  refine lv_sipush (v := nI 192) hx hb dX0_enter_0 (by decide +kernel) ?_
  refine lv_iload_n hx hb dX0_enter_3 rfl (lv_at hl 1 rfl) ?_
  refine zz_mul hx hb dX0_enter_4 ?_
  refine lv_iload_n hx hb dX0_enter_5 rfl (lv_at hl 2 rfl) ?_
  refine zz_add hx hb dX0_enter_6 ?_
  refine lv_istore (lv' := [(7, .int (nI ((192 * i) + ce))), (0, .ref h), (1, .int (nI i)), (2, .int (nI ce)), (3, .int my), (4, .int t), (5, .int lw), (6, .int hg)]) hx hb dX0_enter_7 hl (by decide) rfl (fun ls hl => ?_)
  refine lv_aload_n hx hb dX0_enter_9 rfl (lv_at hl 1 rfl) ?_
  refine xg3 S hK hP dX0_enter_10 ?_
  refine lv_iload_n hx hb dX0_enter_13 rfl (lv_at hl 2 rfl) ?_
  refine lv_dup2_11 hx hb dX0_enter_14 rfl rfl ?_
  refine xl3 S hK hP (by omega) dX0_enter_15 ?_
  refine lv_aload_n hx hb dX0_enter_16 rfl (lv_at hl 1 rfl) ?_
  refine xg5 S hK hP dX0_enter_17 ?_
  refine lv_iload hx hb dX0_enter_20 (lv_at hl 0 rfl) ?_
  refine xl5 S hK hP (by omega) dX0_enter_22 ?_
  refine zz_cutI (pj := 31) (lj := ls) (rj := [.int (sf i), .int (nI i), .ref (q 3)]) (fun z => z = b1 (cn (192 * i + ce) = 0)) (fun K => ?_) (fun z hz => ?_)
  · refine lv_if_ne (tgt := 30) hx hb dX0_enter_23 (by decide) (fun c_9 => ?_) (fun c_9 => ?_)
    · refine lv_iconst (v := nI 0) hx hb dX0_enter_30 (by decide +kernel) ?_
      exact K _ (b1_F c_9)
    · refine lv_iconst (v := nI 1) hx hb dX0_enter_26 (by decide +kernel) ?_
      refine lv_goto (tgt := 31) hx hb dX0_enter_27 (by decide) ?_
      exact K _ (b1_T c_9)
  · subst hz
    refine lv_iadd hx hb dX0_enter_31 ?_
    refine xs3 S hK hP hD hS (by omega) dX0_enter_32 (fun H locs hP hD hS => ?_)
    refine lv_aload_n hx hb dX0_enter_33 rfl (lv_at hl 1 rfl) ?_
    refine xg5 S hK hP dX0_enter_34 ?_
    refine lv_iload hx hb dX0_enter_37 (lv_at hl 0 rfl) ?_
    refine lv_dup2_11 hx hb dX0_enter_39 rfl rfl ?_
    refine xl5 S hK hP (by omega) dX0_enter_40 ?_
    refine lv_iload_n hx hb dX0_enter_41 rfl (lv_at hl 4 rfl) ?_
    refine lv_iadd hx hb dX0_enter_42 ?_
    refine xs5 S hK hP hD hS (by omega) dX0_enter_43 (fun H locs hP hD hS => ?_)
    refine lv_aload_n hx hb dX0_enter_44 rfl (lv_at hl 1 rfl) ?_
    refine xg6 S hK hP dX0_enter_45 ?_
    refine lv_iload hx hb dX0_enter_48 (lv_at hl 0 rfl) ?_
    refine lv_dup2_11 hx hb dX0_enter_50 rfl rfl ?_
    refine xl6 S hK hP (by omega) dX0_enter_51 ?_
    refine lv_iload hx hb dX0_enter_52 (lv_at hl 5 rfl) ?_
    refine lv_iadd hx hb dX0_enter_54 ?_
    refine xs6 S hK hP hD hS (by omega) dX0_enter_55 (fun H locs hP hD hS => ?_)
    refine lv_aload_n hx hb dX0_enter_56 rfl (lv_at hl 1 rfl) ?_
    refine xg7 S hK hP dX0_enter_57 ?_
    refine lv_iload hx hb dX0_enter_60 (lv_at hl 0 rfl) ?_
    refine lv_iload hx hb dX0_enter_62 (lv_at hl 6 rfl) ?_
    refine lv_aload_n hx hb dX0_enter_64 rfl (lv_at hl 1 rfl) ?_
    refine xg7 S hK hP dX0_enter_65 ?_
    refine lv_iload hx hb dX0_enter_68 (lv_at hl 0 rfl) ?_
    refine xl7 S hK hP (by omega) dX0_enter_70 ?_
    refine zz_cutI (pj := 86) (lj := ls) (rj := [.int (nI ((192 * i) + ce)), .ref (q 7)]) (fun z => z = mn_ (lo (192 * i + ce)) lw) (fun K => ?_) (fun z hz => ?_)
    · refine lv_icmp_ge (tgt := 79) hx hb dX0_enter_71 (by decide) (fun c_9 => ?_) (fun c_9 => ?_)
      · refine lv_aload_n hx hb dX0_enter_79 rfl (lv_at hl 1 rfl) ?_
        refine xg7 S hK hP dX0_enter_80 ?_
        refine lv_iload hx hb dX0_enter_83 (lv_at hl 0 rfl) ?_
        refine xl7 S hK hP (by omega) dX0_enter_85 ?_
        exact K _ (if_neg (Int32.not_lt.mpr c_9)).symm
      · refine lv_iload hx hb dX0_enter_74 (lv_at hl 6 rfl) ?_
        refine lv_goto (tgt := 86) hx hb dX0_enter_76 (by decide) ?_
        exact K _ (if_pos (Int32.not_le.mp c_9)).symm
    · subst hz
      refine xs7 S hK hP hD hS (by omega) dX0_enter_86 (fun H locs hP hD hS => ?_)
      refine lv_aload_n hx hb dX0_enter_87 rfl (lv_at hl 1 rfl) ?_
      refine xg8 S hK hP dX0_enter_88 ?_
      refine lv_iload hx hb dX0_enter_91 (lv_at hl 0 rfl) ?_
      refine lv_iload hx hb dX0_enter_93 (lv_at hl 7 rfl) ?_
      refine lv_aload_n hx hb dX0_enter_95 rfl (lv_at hl 1 rfl) ?_
      refine xg8 S hK hP dX0_enter_96 ?_
      refine lv_iload hx hb dX0_enter_99 (lv_at hl 0 rfl) ?_
      refine xl8 S hK hP (by omega) dX0_enter_101 ?_
      refine zz_cutI (pj := 117) (lj := ls) (rj := [.int (nI ((192 * i) + ce)), .ref (q 8)]) (fun z => z = mx_ (hi (192 * i + ce)) hg) (fun K => ?_) (fun z hz => ?_)
      · refine lv_icmp_le (tgt := 110) hx hb dX0_enter_102 (by decide) (fun c_9 => ?_) (fun c_9 => ?_)
        · refine lv_aload_n hx hb dX0_enter_110 rfl (lv_at hl 1 rfl) ?_
          refine xg8 S hK hP dX0_enter_111 ?_
          refine lv_iload hx hb dX0_enter_114 (lv_at hl 0 rfl) ?_
          refine xl8 S hK hP (by omega) dX0_enter_116 ?_
          exact K _ (if_neg (Int32.not_lt.mpr c_9)).symm
        · refine lv_iload hx hb dX0_enter_105 (lv_at hl 7 rfl) ?_
          refine lv_goto (tgt := 117) hx hb dX0_enter_107 (by decide) ?_
          exact K _ (if_pos (Int32.not_le.mp c_9)).symm
      · subst hz
        refine xs8 S hK hP hD hS (by omega) dX0_enter_117 (fun H locs hP hD hS => ?_)
        exact hret _ _ _ _ (pl, ms, sv, upd sf i ((sf i) + (b1 (cn (192 * i + ce) = 0))), su, upd cn ((192 * i) + ce) ((cn ((192 * i) + ce)) + my), upd sm ((192 * i) + ce) ((sm ((192 * i) + ce)) + t), upd lo ((192 * i) + ce) (mn_ (lo (192 * i + ce)) lw), upd hi ((192 * i) + ce) (mx_ (hi (192 * i + ce)) hg), nI n, k) rfl hP hD hS dX0_enter_118
end
section
/-! PURE: steps of add, startAnew, workOut -/
/-- a new fact (place pp, measure y) is in the slots below i -/
def ADI (pl ms : Nat → Int32) (n : Nat) (sv sf cn sm lo hi : Nat → Int32) (pp : Nat) (y : Int32) (i : Nat) : Prop := ∀ j, j < 5 → sv j = -1 ∨ ∃ v, v < 48 ∧ sv j = nI v ∧ SLt sf cn sm lo hi j (if j < i then gv (upd pl n (nI pp)) (upd ms n y) (n + 1) v else gv pl ms n v)
theorem ADI_0 {pl ms : Nat → Int32} {n : Nat} {sv sf cn sm lo hi : Nat → Int32} {pp : Nat} {y : Int32} (h : XI pl ms n sv sf cn sm lo hi) : ADI pl ms n sv sf cn sm lo hi pp y 0 := by
  intro j hj
  rcases h.2.2 j hj with e | ⟨v, hv, ev, hs⟩
  · exact Or.inl e
  · exact Or.inr ⟨v, hv, ev, by rw [if_neg (by omega)]; exact hs⟩
theorem ADI_end {pl ms : Nat → Int32} {n : Nat} {sv sf sf' cn cn' sm sm' lo lo' hi hi' : Nat → Int32} {pp : Nat} {y : Int32} (hI : XI pl ms n sv sf' cn' sm' lo' hi') (hn : n < 40) (hp : pp < 192) (h : ADI pl ms n sv sf cn sm lo hi pp y 5) : XI (upd pl n (nI pp)) (upd ms n y) (n + 1) sv sf cn sm lo hi := by
  refine ⟨FW_add (F := (pl, ms, n)) (y := y) hI.1 hn hp, hI.2.1, fun j hj => ?_⟩
  rcases h j hj with e | ⟨v, hv, ev, hs⟩
  · exact Or.inl e
  · exact Or.inr ⟨v, hv, ev, by rw [if_pos hj] at hs; exact hs⟩
theorem ADI_skip {pl ms : Nat → Int32} {n : Nat} {sv sf cn sm lo hi : Nat → Int32} {pp : Nat} {y : Int32} {i : Nat} (h : ADI pl ms n sv sf cn sm lo hi pp y i) (e : sv i = -1) : ADI pl ms n sv sf cn sm lo hi pp y (i + 1) := by
  intro j hj
  by_cases q : j = i
  · exact Or.inl (by rw [q]; exact e)
  · rcases h j hj with e' | ⟨v, hv, ev, hs⟩
    · exact Or.inl e'
    · refine Or.inr ⟨v, hv, ev, ?_⟩
      by_cases g : j < i
      · rw [if_pos g] at hs; rw [if_pos (by omega)]; exact hs
      · rw [if_neg g] at hs; rw [if_neg (by omega)]; exact hs
theorem ADI_step {pl ms : Nat → Int32} {n : Nat} {sv sf cn sm lo hi : Nat → Int32} {pp : Nat} {y : Int32} {i v : Nat} (h : ADI pl ms n sv sf cn sm lo hi pp y i) (hi5 : i < 5) (hv : v < 48) (ev : sv i = nI v) (hp : pp < 192) (hn : n < 40) :
    ADI pl ms n sv (upd sf i (sf i + b1 (cn (192 * i + fal v pp) = 0))) (upd cn (192 * i + fal v pp) (cn (192 * i + fal v pp) + nI 1)) (upd sm (192 * i + fal v pp) (sm (192 * i + fal v pp) + y)) (upd lo (192 * i + fal v pp) (mn_ (lo (192 * i + fal v pp)) y)) (upd hi (192 * i + fal v pp) (mx_ (hi (192 * i + fal v pp)) y)) pp y (i + 1) := by
  intro j hj
  rcases h j hj with e' | ⟨v', hv', ev', hs⟩
  · exact Or.inl e'
  · refine Or.inr ⟨v', hv', ev', ?_⟩
    by_cases q : j = i
    · subst q
      have hvv : v' = v := (nI_eq (by omega) (by omega)).mp (ev'.symm.trans ev)
      subst hvv
      rw [if_neg (by omega)] at hs
      rw [if_pos (by omega)]
      have hle := gv_le pl ms n v' (fal v' pp)
      exact SL_congr (SL_enter hs (fal_lt hp) (m := 1) (by omega) (by omega) y y y) (fun x _ => (gv_add hp y x).symm)
    · have hs' : SLt sf cn sm lo hi j (if j < i + 1 then gv (upd pl n (nI pp)) (upd ms n y) (n + 1) v' else gv pl ms n v') := by
        by_cases g : j < i
        · rw [if_pos g] at hs; rw [if_pos (by omega)]; exact hs
        · rw [if_neg g] at hs; rw [if_neg (by omega)]; exact hs
      exact SL_enter_ne q (fal_lt hp) hs' _ _ _ _ _
/-- startAnew: slot 0 holds the first i facts -/
theorem SA_step {pl ms : Nat → Int32} {i j : Nat} {sf cn sm lo hi : Nat → Int32} (h : SLt sf cn sm lo hi 0 (gv pl ms i 0)) (hi40 : i ≤ 40) (ej : pl i = nI j) (hj : j < 192) :
    SLt (upd sf 0 (sf 0 + b1 (cn (192 * 0 + j) = 0))) (upd cn (192 * 0 + j) (cn (192 * 0 + j) + nI 1)) (upd sm (192 * 0 + j) (sm (192 * 0 + j) + ms i)) (upd lo (192 * 0 + j) (mn_ (lo (192 * 0 + j)) (ms i))) (upd hi (192 * 0 + j) (mx_ (hi (192 * 0 + j)) (ms i))) 0 (gv pl ms (i + 1) 0) := by
  have hle := gv_le pl ms i 0 j
  refine SL_congr (SL_enter h hj (m := 1) (by omega) (by omega) (ms i) (ms i) (ms i)) (fun x _ => ?_)
  rw [gv_ext ej hj x, fal_0 hj]
theorem SA_end {pl ms : Nat → Int32} {n : Nat} {sv sf cn sm lo hi : Nat → Int32} (hF : FW pl n) (h0 : sv 0 = nI 0) (h : SLt sf cn sm lo hi 0 (gv pl ms n 0)) : XI pl ms n (wpT sv 1 4 (-1)) sf cn sm lo hi := by
  have e0 : wpT sv 1 4 (-1) 0 = nI 0 := by rw [wpT_out _ _ (by omega)]; exact h0
  refine ⟨hF, e0, fun j hj => ?_⟩
  rcases Nat.eq_zero_or_pos j with q | q
  · subst q
    exact Or.inr ⟨0, by omega, e0, h⟩
  · exact Or.inl (wpT_in _ _ (by omega) (by omega))
theorem WO_to {pl : Nat → Int32} {n f v p0 : Nat} (hF : FW pl n) (hf : f < 48) (hv : v < 48) (hfin : fin_ f v) (hp0 : p0 < 192) : ∀ i, i < n → fal f (pN (pl i)) = fal f p0 → fal v (pN (pl i)) = fal v p0 := by
  intro i hi e
  obtain ⟨j, hj, ej⟩ := hF.2 i hi
  rw [ej, pN_nI (by omega)] at e ⊢
  rw [← rep_fal hf hv hfin hj, e, rep_fal hf hv hfin hp0]
/-- a cell of the finer view goes into the target slot -/
theorem WO_step {pl ms : Nat → Int32} {n f v p0 x t : Nat} {sf cn sm lo hi : Nat → Int32} (hF : FW pl n) (hf : f < 48) (hv : v < 48) (hfin : fin_ f v) (hp0 : p0 < 192) (hx : fal f p0 = x) (hc : 0 < (gv pl ms n f x).1) (h : SLt sf cn sm lo hi t (gr pl ms n f v x)) :
    SLt (upd sf t (sf t + b1 (cn (192 * t + fal v p0) = 0))) (upd cn (192 * t + fal v p0) (cn (192 * t + fal v p0) + nI (gv pl ms n f x).1)) (upd sm (192 * t + fal v p0) (sm (192 * t + fal v p0) + (gv pl ms n f x).2.1)) (upd lo (192 * t + fal v p0) (mn_ (lo (192 * t + fal v p0)) (gv pl ms n f x).2.2.1)) (upd hi (192 * t + fal v p0) (mx_ (hi (192 * t + fal v p0)) (gv pl ms n f x).2.2.2)) t (gr pl ms n f v (x + 1)) := by
  have h1 := gv_le pl ms n f x
  have h2 := grl_le pl ms n f v x (fal v p0)
  have h3 := hF.1
  refine SL_congr (SL_enter h (fal_lt hp0) hc (by omega) _ _ _) (fun z _ => ?_)
  subst hx
  exact (grl_some (WO_to hF hf hv hfin hp0) z).symm
/-- a fact in cell x of the view f -/
theorem occ_at {pl ms : Nat → Int32} {n f x : Nat} (hF : FW pl n) (h : 0 < (gv pl ms n f x).1) : ∃ p0, p0 < 192 ∧ fal f p0 = x := by
  obtain ⟨i, hi, hP⟩ := (ag_pos _ pl ms n).mp h
  obtain ⟨j, hj, ej⟩ := hF.2 i hi
  rw [ej, pN_nI (by omega)] at hP
  exact ⟨j, hj, eq_of_beq hP⟩
theorem cellFrom_at (l : Launch) {f v p0 x : Nat} (hf : f < 48) (hv : v < 48) (hp : p0 < 192) (hfin : fin_ f v) (hx : fal f p0 = x) : CR l yX0_cellFrom cX0_cellFrom 6 (some .int) rmX0_cellFrom [.int (nI f), .int (nI x), .int (nI v)] (fun _ => True) (fun r => r = nI (fal v p0)) := by
  subst hx
  have h := metX0_cellFrom l f v p0 hf hv hp
  rw [rep_fal hf hv hfin hp] at h
  exact h
/-- slotFor: the slot t is worked out, the others stay -/
theorem SF_end {pl ms : Nat → Int32} {n v t : Nat} {sv sf cn sm lo hi sf' cn' sm' lo' hi' : Nat → Int32} (hI : XI pl ms n sv sf cn sm lo hi) (hv : v < 48) (ht : t < 5) (ht1 : 1 ≤ t) (hs : SLt sf' cn' sm' lo' hi' t (gv pl ms n v)) (hfr : ∀ j, j < 5 → ¬ j = t → ∀ G, SLt sf cn sm lo hi j G → SLt sf' cn' sm' lo' hi' j G) : XI pl ms n (upd sv t (nI v)) sf' cn' sm' lo' hi' := by
  refine ⟨hI.1, by rw [upd_n _ _ (by omega)]; exact hI.2.1, fun j hj => ?_⟩
  by_cases q : j = t
  · subst q
    exact Or.inr ⟨v, hv, upd_s _ _ _, hs⟩
  · rw [upd_n _ _ q]
    rcases hI.2.2 j hj with e | ⟨w, hw, ew, hs'⟩
    · exact Or.inl e
    · exact Or.inr ⟨w, hw, ew, hfr j hj q _ hs'⟩
theorem XI_slot {pl ms : Nat → Int32} {n v i : Nat} {sv sf cn sm lo hi : Nat → Int32} (hI : XI pl ms n sv sf cn sm lo hi) (hi5 : i < 5) (hv : v < 48) (e : sv i = nI v) : SLt sf cn sm lo hi i (gv pl ms n v) := by
  rcases hI.2.2 i hi5 with e' | ⟨w, hw, ew, hs⟩
  · exact absurd (e.symm.trans e') (m1_ne v (by omega))
  · have hvv : w = v := (nI_eq (by omega) (by omega)).mp (ew.symm.trans e)
    subst hvv
    exact hs
end
section
/-! OlapCubes: add, startAnew, workOut, slotFor, by what the slots hold -/
abbrev rmX0_add : Room := { frames := 2, cells := 0, slots := 0, locals := 45 }
set_option maxHeartbeats 4000000 in
set_option maxRecDepth 100000 in
theorem metX0_add (l : Launch) (D : va_G) (dA : ClassId) (h : Nat) (q : Nat → Nat) (pl ms sv sf su cn sm lo hi : Nat → Int32) (n : Nat) (k : Int32) (hI : XI pl ms n sv sf cn sm lo hi) (hn : n < 40) (pp : Nat) (hp : pp < 192) (y : Int32) : CV l yX0_add cX0_add 5 rmX0_add D dA (XV h q dA) (pl, ms, sv, sf, su, cn, sm, lo, hi, nI n, k) [.ref h, .int (nI pp), .int y] (fun u => ∃ sf1 cn1 sm1 lo1 hi1, u = (upd pl n (nI pp), upd ms n y, sv, sf1, su, cn1, sm1, lo1, hi1, nI (n + 1), k) ∧ XI (upd pl n (nI pp)) (upd ms n y) (n + 1) sv sf1 cn1 sm1 lo1 hi1) := by
  refine CV.mk (own := RX0) (by decide) rfl (Nat.le_of_ble_eq_true rfl) ?_
  intro p e s m args below meth c Q A H locs ls S hK hA hP hD hS hl hret
  have hx := S.1
  have hb := S.2.1
  have hP : va_P D vwCl (XW h q dA pl ms sv sf su cn sm lo hi (nI n) k) H := hP
  have hD : va_D A (XW h q dA pl ms sv sf su cn sm lo hi (nI n) k) := hD
  have hl : lv_has ls 5 [(0, .ref h), (1, .int (nI pp)), (2, .int y)] := hl
  have loop : ∀ (d i : Nat), 6 ≤ i + d → i ≤ 5 → ∀ (sf1 cn1 sm1 lo1 hi1 : Nat → Int32), ADI pl ms n sv sf1 cn1 sm1 lo1 hi1 pp y i → ∀ (H : Heap) (locs : List Loc), va_P D vwCl (XW h q dA (upd pl n (nI pp)) (upd ms n y) sv sf1 su cn1 sm1 lo1 hi1 (nI (n + 1)) k) H → va_D A (XW h q dA (upd pl n (nI pp)) (upd ms n y) sv sf1 su cn1 sm1 lo1 hi1 (nI (n + 1)) k) → va_S A s.heap H locs → ∀ ls : Array Slot, lv_has ls 5 [(0, .ref h), (1, .int (nI pp)), (2, .int y), (3, .int (nI i))] → W p l e rmX0_add s m args below meth c H locs 0 0 Q (F0 m 32 ls []) := by
    intro d
    induction d with
    | zero => intro i h1 h2; exact absurd h1 (by omega)
    | succ d ih =>
      intro i h1 h2 sf1 cn1 sm1 lo1 hi1 hH H locs hP hD hS ls hl
      refine lv_iload_n hx hb dX0_add_32 rfl (lv_at hl 3 rfl) ?_
      refine lv_iconst (v := nI 5) hx hb dX0_add_33 (by decide +kernel) ?_
      refine zz_ge (tgt := 76) hx hb dX0_add_34 (by decide) (by omega) (by omega) (fun c_8 => ?_) (fun c_8 => ?_)
      · have hi : 5 = i := by omega
        subst hi
        exact hret _ _ _ _ (upd pl n (nI pp), upd ms n y, sv, sf1, su, cn1, sm1, lo1, hi1, nI (n + 1), k) ⟨sf1, cn1, sm1, lo1, hi1, rfl, ADI_end hI hn hp hH⟩ hP hD hS dX0_add_76
      · refine lv_aload_n hx hb dX0_add_37 rfl (lv_at hl 0 rfl) ?_
        refine xg2 S hK hP dX0_add_38 ?_
        refine lv_iload_n hx hb dX0_add_41 rfl (lv_at hl 3 rfl) ?_
        refine xl2 S hK hP (by omega) dX0_add_42 ?_
        refine lv_iconst (v := (-1)) hx hb dX0_add_43 (by decide +kernel) ?_
        refine lv_icmp_eq (tgt := 70) hx hb dX0_add_44 (by decide) (fun c_9 => ?_) (fun c_9 => ?_)
        · refine lv_iinc (v := nI (i + 1)) (lv' := [(3, .int (nI (i + 1))), (0, .ref h), (1, .int (nI pp)), (2, .int y)]) hx hb dX0_add_70 hl (k := 3) rfl (by exact nI_1 _) (by decide) rfl (fun ls hl => ?_)
          refine lv_goto (tgt := 32) hx hb dX0_add_73 (by decide) ?_
          exact ih (i + 1) (by omega) (by omega) _ _ _ _ _ (ADI_skip hH c_9) _ _ hP hD hS ls (lv_sub hl [1, 2, 3, 0] rfl)
        · obtain ⟨v, hv, ev, -⟩ := (hH i (by omega)).resolve_left c_9
          have hst := ADI_step hH (by omega) hv ev hp hn
          refine lv_aload_n hx hb dX0_add_47 rfl (lv_at hl 0 rfl) ?_
          refine xg2 S hK hP dX0_add_48 ?_
          refine lv_iload_n hx hb dX0_add_51 rfl (lv_at hl 3 rfl) ?_
          refine xl2 S hK hP (by omega) dX0_add_52 ?_
          refine zz_set (y := nI v) ev ?_
          refine lv_iload_n hx hb dX0_add_53 rfl (lv_at hl 1 rfl) ?_
          refine zz_callS (As := [.int (nI v), .int (nI pp)]) (rest := []) S (metX0_seenAs l v pp hv hp) gw_X0_69 hd_X0_seenAs rfl rfl ⟨Nat.le_of_ble_eq_true rfl, Nat.le_of_ble_eq_true rfl⟩ rfl hl.1 rfl (Nat.le_of_ble_eq_true rfl) dX0_add_54 ⟨Nat.zero_le _, Nat.zero_le _⟩ (fun r_1 er_1 => ?_)
          subst er_1
          refine lv_istore (lv' := [(4, .int (nI (fal v pp))), (0, .ref h), (1, .int (nI pp)), (2, .int y), (3, .int (nI i))]) hx hb dX0_add_57 hl (by decide) rfl (fun ls hl => ?_)
          refine lv_aload_n hx hb dX0_add_59 rfl (lv_at hl 1 rfl) ?_
          refine lv_iload_n hx hb dX0_add_60 rfl (lv_at hl 4 rfl) ?_
          refine lv_iload hx hb dX0_add_61 (lv_at hl 0 rfl) ?_
          refine lv_iconst (v := nI 1) hx hb dX0_add_63 (by decide +kernel) ?_
          refine lv_iload_n hx hb dX0_add_64 rfl (lv_at hl 3 rfl) ?_
          refine lv_iload_n hx hb dX0_add_65 rfl (lv_at hl 3 rfl) ?_
          refine lv_iload_n hx hb dX0_add_66 rfl (lv_at hl 3 rfl) ?_
          refine zz_callV (V := XV h q dA) (u := (upd pl n (nI pp), upd ms n y, sv, sf1, su, cn1, sm1, lo1, hi1, nI (n + 1), k)) (As := [.int (nI i), .int (nI (fal v pp)), .int (nI 1), .int y, .int y, .int y]) (rest := []) S (metX0_enter l D dA h q (upd pl n (nI pp)) (upd ms n y) sv sf1 su cn1 sm1 lo1 hi1 (n + 1) k i (fal v pp) (by omega) (fal_lt hp) (nI 1) y y y) gw_X0_92 hd_X0_enter rfl rfl ⟨Nat.le_of_ble_eq_true rfl, Nat.le_of_ble_eq_true rfl⟩ rfl hl.1 rfl (Nat.le_of_ble_eq_true rfl) dX0_add_67 ⟨Nat.zero_le _, Nat.zero_le _⟩ hK hA hP hD hS (ci := 0) rfl rfl rfl (fun u_ H locs hu_ hP hD hS => ?_)
          obtain rfl := hu_
          have hP : va_P D vwCl (XW h q dA (upd pl n (nI pp)) (upd ms n y) sv (upd sf1 i (sf1 i + b1 (cn1 (192 * i + (fal v pp)) = 0))) su (upd cn1 (192 * i + (fal v pp)) (cn1 (192 * i + (fal v pp)) + nI 1)) (upd sm1 (192 * i + (fal v pp)) (sm1 (192 * i + (fal v pp)) + y)) (upd lo1 (192 * i + (fal v pp)) (mn_ (lo1 (192 * i + (fal v pp))) y)) (upd hi1 (192 * i + (fal v pp)) (mx_ (hi1 (192 * i + (fal v pp))) y)) (nI (n + 1)) k) H := hP
          have hD : va_D A (XW h q dA (upd pl n (nI pp)) (upd ms n y) sv (upd sf1 i (sf1 i + b1 (cn1 (192 * i + (fal v pp)) = 0))) su (upd cn1 (192 * i + (fal v pp)) (cn1 (192 * i + (fal v pp)) + nI 1)) (upd sm1 (192 * i + (fal v pp)) (sm1 (192 * i + (fal v pp)) + y)) (upd lo1 (192 * i + (fal v pp)) (mn_ (lo1 (192 * i + (fal v pp))) y)) (upd hi1 (192 * i + (fal v pp)) (mx_ (hi1 (192 * i + (fal v pp))) y)) (nI (n + 1)) k) := hD
          refine lv_iinc (v := nI (i + 1)) (lv' := [(3, .int (nI (i + 1))), (4, .int (nI (fal v pp))), (0, .ref h), (1, .int (nI pp)), (2, .int y)]) hx hb dX0_add_70 hl (k := 4) rfl (by exact nI_1 _) (by decide) rfl (fun ls hl => ?_)
          refine lv_goto (tgt := 32) hx hb dX0_add_73 (by decide) ?_
          exact ih (i + 1) (by omega) (by omega) _ _ _ _ _ hst _ _ hP hD hS ls (lv_sub hl [2, 3, 4, 0] rfl)
  refine lv_aload_n hx hb dX0_add_0 rfl (lv_at hl 0 rfl) ?_
  refine xg0 S hK hP dX0_add_1 ?_
  refine lv_aload_n hx hb dX0_add_4 rfl (lv_at hl 0 rfl) ?_
  refine xg9 S hK hP dX0_add_5 ?_
  refine lv_iload_n hx hb dX0_add_8 rfl (lv_at hl 1 rfl) ?_
  refine xs0 S hK hP hD hS (by omega) dX0_add_9 (fun H locs hP hD hS => ?_)
  refine lv_aload_n hx hb dX0_add_10 rfl (lv_at hl 0 rfl) ?_
  refine xg1 S hK hP dX0_add_11 ?_
  refine lv_aload_n hx hb dX0_add_14 rfl (lv_at hl 0 rfl) ?_
  refine xg9 S hK hP dX0_add_15 ?_
  refine lv_iload_n hx hb dX0_add_18 rfl (lv_at hl 2 rfl) ?_
  refine xs1 S hK hP hD hS (by omega) dX0_add_19 (fun H locs hP hD hS => ?_)
  refine lv_aload_n hx hb dX0_add_20 rfl (lv_at hl 0 rfl) ?_
  refine lv_dup hx hb dX0_add_21 rfl ?_
  refine xg9 S hK hP dX0_add_22 ?_
  refine lv_iconst (v := nI 1) hx hb dX0_add_25 (by decide +kernel) ?_
  refine zz_add hx hb dX0_add_26 ?_
  refine xp9 S hK hP hD hS dX0_add_27 (fun H locs hP hD hS => ?_)
  refine lv_iconst (v := nI 0) hx hb dX0_add_30 (by decide +kernel) ?_
  refine lv_istore_n (lv' := [(3, .int (nI 0)), (0, .ref h), (1, .int (nI pp)), (2, .int y)]) hx hb dX0_add_31 rfl hl (by decide) rfl (fun ls hl => ?_)
  exact loop 6 0 (by omega) (by omega) sf cn sm lo hi (ADI_0 hI) _ _ hP hD hS ls (lv_sub hl [1, 2, 3, 0] rfl)
abbrev rmX0_startAnew : Room := { frames := 1, cells := 0, slots := 0, locals := 27 }
set_option maxHeartbeats 4000000 in
set_option maxRecDepth 100000 in
theorem metX0_startAnew (l : Launch) (D : va_G) (dA : ClassId) (h : Nat) (q : Nat → Nat) (pl ms sv sf su cn sm lo hi : Nat → Int32) (n : Nat) (k : Int32) (hF : FW pl n) (h0 : sv 0 = nI 0) : CV l yX0_startAnew cX0_startAnew 2 rmX0_startAnew D dA (XV h q dA) (pl, ms, sv, sf, su, cn, sm, lo, hi, nI n, k) [.ref h] (fun u => ∃ sv1 sf1 cn1 sm1 lo1 hi1, u = (pl, ms, sv1, sf1, su, cn1, sm1, lo1, hi1, nI n, k) ∧ XI pl ms n sv1 sf1 cn1 sm1 lo1 hi1) := by
  refine CV.mk (own := RX0) (by decide) rfl (Nat.le_of_ble_eq_true rfl) ?_
  intro p e s m args below meth c Q A H locs ls S hK hA hP hD hS hl hret
  have hx := S.1
  have hb := S.2.1
  have hP : va_P D vwCl (XW h q dA pl ms sv sf su cn sm lo hi (nI n) k) H := hP
  have hD : va_D A (XW h q dA pl ms sv sf su cn sm lo hi (nI n) k) := hD
  have hl : lv_has ls 2 [(0, .ref h)] := hl
  have hn40 := hF.1
  have loop2 : ∀ (d i : Nat), n + 1 ≤ i + d → i ≤ n → ∀ (sf1 cn1 sm1 lo1 hi1 : Nat → Int32), SLt sf1 cn1 sm1 lo1 hi1 0 (gv pl ms i 0) → ∀ (H : Heap) (locs : List Loc), va_P D vwCl (XW h q dA pl ms (wpT sv 1 4 (-1)) sf1 su cn1 sm1 lo1 hi1 (nI n) k) H → va_D A (XW h q dA pl ms (wpT sv 1 4 (-1)) sf1 su cn1 sm1 lo1 hi1 (nI n) k) → va_S A s.heap H locs → ∀ ls : Array Slot, lv_has ls 2 [(0, .ref h), (1, .int (nI i))] → W p l e rmX0_startAnew s m args below meth c H locs 0 0 Q (F0 m 27 ls []) := by
    intro d
    induction d with
    | zero => intro i h1 h2; exact absurd h1 (by omega)
    | succ d ih =>
      intro i h1 h2 sf1 cn1 sm1 lo1 hi1 hH H locs hP hD hS ls hl
      refine lv_iload_n hx hb dX0_startAnew_27 rfl (lv_at hl 1 rfl) ?_
      refine lv_aload_n hx hb dX0_startAnew_28 rfl (lv_at hl 0 rfl) ?_
      refine xg9 S hK hP dX0_startAnew_29 ?_
      refine zz_ge (tgt := 71) hx hb dX0_startAnew_32 (by decide) (by omega) (by omega) (fun c_8 => ?_) (fun c_8 => ?_)
      · have hi : n = i := by omega
        subst hi
        exact hret _ _ _ _ (pl, ms, wpT sv 1 4 (-1), sf1, su, cn1, sm1, lo1, hi1, nI n, k) ⟨wpT sv 1 4 (-1), sf1, cn1, sm1, lo1, hi1, rfl, SA_end hF h0 hH⟩ hP hD hS dX0_startAnew_71
      · obtain ⟨j, hj, ej⟩ := hF.2 i (by omega)
        refine lv_aload_n hx hb dX0_startAnew_35 rfl (lv_at hl 0 rfl) ?_
        refine lv_iconst (v := nI 0) hx hb dX0_startAnew_36 (by decide +kernel) ?_
        refine lv_aload_n hx hb dX0_startAnew_37 rfl (lv_at hl 0 rfl) ?_
        refine xg0 S hK hP dX0_startAnew_38 ?_
        refine lv_iload_n hx hb dX0_startAnew_41 rfl (lv_at hl 1 rfl) ?_
        refine xl0 S hK hP (by omega) dX0_startAnew_42 ?_
        refine zz_set (y := nI j) ej ?_
        refine lv_iconst (v := nI 1) hx hb dX0_startAnew_43 (by decide +kernel) ?_
        refine lv_aload_n hx hb dX0_startAnew_44 rfl (lv_at hl 0 rfl) ?_
        refine xg1 S hK hP dX0_startAnew_45 ?_
        refine lv_iload_n hx hb dX0_startAnew_48 rfl (lv_at hl 1 rfl) ?_
        refine xl1 S hK hP (by omega) dX0_startAnew_49 ?_
        refine lv_aload_n hx hb dX0_startAnew_50 rfl (lv_at hl 0 rfl) ?_
        refine xg1 S hK hP dX0_startAnew_51 ?_
        refine lv_iload_n hx hb dX0_startAnew_54 rfl (lv_at hl 1 rfl) ?_
        refine xl1 S hK hP (by omega) dX0_startAnew_55 ?_
        refine lv_aload_n hx hb dX0_startAnew_56 rfl (lv_at hl 0 rfl) ?_
        refine xg1 S hK hP dX0_startAnew_57 ?_
        refine lv_iload_n hx hb dX0_startAnew_60 rfl (lv_at hl 1 rfl) ?_
        refine xl1 S hK hP (by omega) dX0_startAnew_61 ?_
        refine zz_callV (V := XV h q dA) (u := (pl, ms, wpT sv 1 4 (-1), sf1, su, cn1, sm1, lo1, hi1, nI n, k)) (As := [.int (nI 0), .int (nI j), .int (nI 1), .int (ms i), .int (ms i), .int (ms i)]) (rest := []) S (metX0_enter l D dA h q pl ms (wpT sv 1 4 (-1)) sf1 su cn1 sm1 lo1 hi1 n k 0 j (by omega) hj (nI 1) (ms i) (ms i) (ms i)) gw_X0_92 hd_X0_enter rfl rfl ⟨Nat.le_of_ble_eq_true rfl, Nat.le_of_ble_eq_true rfl⟩ rfl hl.1 rfl (Nat.le_of_ble_eq_true rfl) dX0_startAnew_62 ⟨Nat.zero_le _, Nat.zero_le _⟩ hK hA hP hD hS (ci := 0) rfl rfl rfl (fun u_ H locs hu_ hP hD hS => ?_)
        obtain rfl := hu_
        have hP : va_P D vwCl (XW h q dA pl ms (wpT sv 1 4 (-1)) (upd sf1 0 (sf1 0 + b1 (cn1 (192 * 0 + j) = 0))) su (upd cn1 (192 * 0 + j) (cn1 (192 * 0 + j) + nI 1)) (upd sm1 (192 * 0 + j) (sm1 (192 * 0 + j) + ms i)) (upd lo1 (192 * 0 + j) (mn_ (lo1 (192 * 0 + j)) (ms i))) (upd hi1 (192 * 0 + j) (mx_ (hi1 (192 * 0 + j)) (ms i))) (nI n) k) H := hP
        have hD : va_D A (XW h q dA pl ms (wpT sv 1 4 (-1)) (upd sf1 0 (sf1 0 + b1 (cn1 (192 * 0 + j) = 0))) su (upd cn1 (192 * 0 + j) (cn1 (192 * 0 + j) + nI 1)) (upd sm1 (192 * 0 + j) (sm1 (192 * 0 + j) + ms i)) (upd lo1 (192 * 0 + j) (mn_ (lo1 (192 * 0 + j)) (ms i))) (upd hi1 (192 * 0 + j) (mx_ (hi1 (192 * 0 + j)) (ms i))) (nI n) k) := hD
        refine lv_iinc (v := nI (i + 1)) (lv' := [(1, .int (nI (i + 1))), (0, .ref h)]) hx hb dX0_startAnew_65 hl (k := 1) rfl (by exact nI_1 _) (by decide) rfl (fun ls hl => ?_)
        refine lv_goto (tgt := 27) hx hb dX0_startAnew_68 (by decide) ?_
        exact ih (i + 1) (by omega) (by omega) _ _ _ _ _ (SA_step hH (by omega) ej hj) _ _ hP hD hS ls (lv_sub hl [1, 0] rfl)
  have after : ∀ (H : Heap) (locs : List Loc), va_P D vwCl (XW h q dA pl ms (wpT sv 1 4 (-1)) sf su cn sm lo hi (nI n) k) H → va_D A (XW h q dA pl ms (wpT sv 1 4 (-1)) sf su cn sm lo hi (nI n) k) → va_S A s.heap H locs → ∀ ls : Array Slot, lv_has ls 2 [(0, .ref h)] → W p l e rmX0_startAnew s m args below meth c H locs 0 0 Q (F0 m 20 ls []) := by
    intro H locs hP hD hS ls hl
    refine lv_aload_n hx hb dX0_startAnew_20 rfl (lv_at hl 0 rfl) ?_
    refine lv_iconst (v := nI 0) hx hb dX0_startAnew_21 (by decide +kernel) ?_
    refine zz_callV (V := XV h q dA) (u := (pl, ms, wpT sv 1 4 (-1), sf, su, cn, sm, lo, hi, nI n, k)) (As := [.int (nI 0)]) (rest := []) S (metX0_wipe l D dA h q pl ms (wpT sv 1 4 (-1)) sf su cn sm lo hi n k 0 (by omega)) gw_X0_37 hd_X0_wipe rfl rfl ⟨Nat.le_of_ble_eq_true rfl, Nat.le_of_ble_eq_true rfl⟩ rfl hl.1 rfl (Nat.le_of_ble_eq_true rfl) dX0_startAnew_22 ⟨Nat.zero_le _, Nat.zero_le _⟩ hK hA hP hD hS (ci := 0) rfl rfl rfl (fun u_ H locs hu_ hP hD hS => ?_)
    obtain rfl := hu_
    have hP : va_P D vwCl (XW h q dA pl ms (wpT sv 1 4 (-1)) (upd sf 0 (nI 0)) su (wpT cn (192 * 0) 192 (nI 0)) (wpT sm (192 * 0) 192 (nI 0)) (wpT lo (192 * 0) 192 (nI 10000)) (wpT hi (192 * 0) 192 (-10000)) (nI n) k) H := hP
    have hD : va_D A (XW h q dA pl ms (wpT sv 1 4 (-1)) (upd sf 0 (nI 0)) su (wpT cn (192 * 0) 192 (nI 0)) (wpT sm (192 * 0) 192 (nI 0)) (wpT lo (192 * 0) 192 (nI 10000)) (wpT hi (192 * 0) 192 (-10000)) (nI n) k) := hD
    refine lv_iconst (v := nI 0) hx hb dX0_startAnew_25 (by decide +kernel) ?_
    refine lv_istore_n (lv' := [(1, .int (nI 0)), (0, .ref h)]) hx hb dX0_startAnew_26 rfl hl (by decide) rfl (fun ls hl => ?_)
    exact loop2 (n + 1) 0 (by omega) (by omega) _ _ _ _ _ (SL_wipe sf cn sm lo hi 0) _ _ hP hD hS ls (lv_sub hl [1, 0] rfl)
  have loop : ∀ (d j : Nat), 5 ≤ j + d → j ≤ 4 → ∀ (H : Heap) (locs : List Loc), va_P D vwCl (XW h q dA pl ms (wpT sv 1 j (-1)) sf su cn sm lo hi (nI n) k) H → va_D A (XW h q dA pl ms (wpT sv 1 j (-1)) sf su cn sm lo hi (nI n) k) → va_S A s.heap H locs → ∀ ls : Array Slot, lv_has ls 2 [(0, .ref h), (1, .int (nI (1 + j)))] → W p l e rmX0_startAnew s m args below meth c H locs 0 0 Q (F0 m 2 ls []) := by
    intro d
    induction d with
    | zero => intro i h1 h2; exact absurd h1 (by omega)
    | succ d ih =>
      intro j h1 h2 H locs hP hD hS ls hl
      refine lv_iload_n hx hb dX0_startAnew_2 rfl (lv_at hl 1 rfl) ?_
      refine lv_iconst (v := nI 5) hx hb dX0_startAnew_3 (by decide +kernel) ?_
      refine zz_ge (tgt := 20) hx hb dX0_startAnew_4 (by decide) (by omega) (by omega) (fun c_8 => ?_) (fun c_8 => ?_)
      · have hj : 4 = j := by omega
        subst hj
        exact after _ _ hP hD hS ls (lv_sub hl [0] rfl)
      · refine lv_aload_n hx hb dX0_startAnew_7 rfl (lv_at hl 0 rfl) ?_
        refine xg2 S hK hP dX0_startAnew_8 ?_
        refine lv_iload_n hx hb dX0_startAnew_11 rfl (lv_at hl 1 rfl) ?_
        refine lv_iconst (v := (-1)) hx hb dX0_startAnew_12 (by decide +kernel) ?_
        refine xs2 S hK hP hD hS (by omega) dX0_startAnew_13 (fun H locs hP hD hS => ?_)
        refine lv_iinc (v := nI (1 + j + 1)) (lv' := [(1, .int (nI (1 + j + 1))), (0, .ref h)]) hx hb dX0_startAnew_14 hl (k := 1) rfl (by exact nI_1 _) (by decide) rfl (fun ls hl => ?_)
        refine lv_goto (tgt := 2) hx hb dX0_startAnew_17 (by decide) ?_
        rw [wpT_1] at hP hD
        exact ih (j + 1) (by omega) (by omega) _ _ hP hD hS ls (lv_sub hl [1, 0] rfl)
  refine lv_iconst (v := nI 1) hx hb dX0_startAnew_0 (by decide +kernel) ?_
  refine lv_istore_n (lv' := [(1, .int (nI 1)), (0, .ref h)]) hx hb dX0_startAnew_1 rfl hl (by decide) rfl (fun ls hl => ?_)
  exact loop 5 0 (by omega) (by omega) _ _ (by rw [wpT_0]; exact hP) (by rw [wpT_0]; exact hD) hS ls (lv_sub hl [1, 0] rfl)
abbrev rmX0_workOut : Room := { frames := 3, cells := 0, slots := 0, locals := 70 }
set_option maxHeartbeats 4000000 in
set_option maxRecDepth 100000 in
theorem metX0_workOut (l : Launch) (D : va_G) (dA : ClassId) (h : Nat) (q : Nat → Nat) (pl ms sv sf su cn sm lo hi : Nat → Int32) (n : Nat) (k : Int32) (v a t f : Nat) (ha : a < 5) (ht : t < 5) (hat : ¬ a = t) (hv : v < 48) (hf : f < 48) (ea : sv a = nI f) (hfin : fin_ f v) (hs : SLt sf cn sm lo hi a (gv pl ms n f)) (hF : FW pl n) : CV l yX0_workOut cX0_workOut 7 rmX0_workOut D dA (XV h q dA) (pl, ms, sv, sf, su, cn, sm, lo, hi, nI n, k) [.ref h, .int (nI v), .int (nI a), .int (nI t)] (fun u => ∃ sf1 cn1 sm1 lo1 hi1, u = (pl, ms, upd sv t (nI v), sf1, upd su t k, cn1, sm1, lo1, hi1, nI n, k) ∧ SLt sf1 cn1 sm1 lo1 hi1 t (gv pl ms n v) ∧ ∀ j, j < 5 → ¬ j = t → ∀ G, SLt sf cn sm lo hi j G → SLt sf1 cn1 sm1 lo1 hi1 j G) := by
  refine CV.mk (own := RX0) (by decide) rfl (Nat.le_of_ble_eq_true rfl) ?_
  intro p e s m args below meth c Q A H locs ls S hK hA hP hD hS hl hret
  have hx := S.1
  have hb := S.2.1
  have hP : va_P D vwCl (XW h q dA pl ms sv sf su cn sm lo hi (nI n) k) H := hP
  have hD : va_D A (XW h q dA pl ms sv sf su cn sm lo hi (nI n) k) := hD
  have hl : lv_has ls 7 [(0, .ref h), (1, .int (nI v)), (2, .int (nI a)), (3, .int (nI t))] := hl
  have hn40 := hF.1
  have loop : ∀ (d x : Nat), 193 ≤ x + d → x ≤ 192 → ∀ (sf1 cn1 sm1 lo1 hi1 : Nat → Int32), SLt sf1 cn1 sm1 lo1 hi1 t (gr pl ms n f v x) → (∀ j, j < 5 → ¬ j = t → ∀ G, SLt sf cn sm lo hi j G → SLt sf1 cn1 sm1 lo1 hi1 j G) → ∀ (H : Heap) (locs : List Loc), va_P D vwCl (XW h q dA pl ms (upd sv t (nI v)) sf1 (upd su t k) cn1 sm1 lo1 hi1 (nI n) k) H → va_D A (XW h q dA pl ms (upd sv t (nI v)) sf1 (upd su t k) cn1 sm1 lo1 hi1 (nI n) k) → va_S A s.heap H locs → ∀ ls : Array Slot, lv_has ls 7 [(0, .ref h), (1, .int (nI v)), (2, .int (nI a)), (3, .int (nI t)), (4, .int (nI x))] → W p l e rmX0_workOut s m args below meth c H locs 0 0 Q (F0 m 25 ls []) := by
    intro d
    induction d with
    | zero => intro i h1 h2; exact absurd h1 (by omega)
    | succ d ih =>
      intro x h1 h2 sf1 cn1 sm1 lo1 hi1 hH hfr H locs hP hD hS ls hl
      refine lv_iload hx hb dX0_workOut_25 (lv_at hl 4 rfl) ?_
      refine lv_sipush (v := nI 192) hx hb dX0_workOut_27 (by decide +kernel) ?_
      refine zz_ge (tgt := 108) hx hb dX0_workOut_30 (by decide) (by omega) (by omega) (fun c_8 => ?_) (fun c_8 => ?_)
      · have hi : 192 = x := by omega
        subst hi
        exact hret _ _ _ _ (pl, ms, upd sv t (nI v), sf1, upd su t k, cn1, sm1, lo1, hi1, nI n, k) ⟨sf1, cn1, sm1, lo1, hi1, rfl, SL_congr hH (fun z _ => grl_end hF z), hfr⟩ hP hD hS dX0_workOut_108
      · have hsa := hfr a ha hat _ hs
        obtain ⟨e1, e2, e3, e4⟩ := hsa.1 x (by omega)
        have hgl := gv_le pl ms n f x
        refine lv_sipush (v := nI 192) hx hb dX0_workOut_33 (by decide +kernel) ?_
        refine lv_iload_n hx hb dX0_workOut_36 rfl (lv_at hl 2 rfl) ?_
        refine zz_mul hx hb dX0_workOut_37 ?_
        refine lv_iload hx hb dX0_workOut_38 (lv_at hl 4 rfl) ?_
        refine zz_add hx hb dX0_workOut_40 ?_
        refine lv_istore (lv' := [(5, .int (nI ((192 * a) + x))), (0, .ref h), (1, .int (nI v)), (2, .int (nI a)), (3, .int (nI t)), (4, .int (nI x))]) hx hb dX0_workOut_41 hl (by decide) rfl (fun ls hl => ?_)
        refine lv_aload_n hx hb dX0_workOut_43 rfl (lv_at hl 1 rfl) ?_
        refine xg5 S hK hP dX0_workOut_44 ?_
        refine lv_iload hx hb dX0_workOut_47 (lv_at hl 0 rfl) ?_
        refine xl5 S hK hP (by omega) dX0_workOut_49 ?_
        refine zz_set (y := nI ((gv pl ms n f x).1)) e1 ?_
        refine zz_if_le (tgt := 102) hx hb dX0_workOut_50 (by decide) (by omega) (fun c_9 => ?_) (fun c_9 => ?_)
        · refine lv_iinc (v := nI (x + 1)) (lv' := [(4, .int (nI (x + 1))), (5, .int (nI ((192 * a) + x))), (0, .ref h), (1, .int (nI v)), (2, .int (nI a)), (3, .int (nI t))]) hx hb dX0_workOut_102 hl (k := 5) rfl (by exact nI_1 _) (by decide) rfl (fun ls hl => ?_)
          refine lv_goto (tgt := 25) hx hb dX0_workOut_105 (by decide) ?_
          exact ih (x + 1) (by omega) (by omega) _ _ _ _ _ (SL_congr hH (fun z _ => (grl_none c_9 z).symm)) hfr _ _ hP hD hS ls (lv_sub hl [2, 3, 4, 5, 0] rfl)
        · obtain ⟨p0, hp0, hx0⟩ := occ_at hF c_9
          have hst := WO_step hF hf hv hfin hp0 hx0 c_9 hH
          refine lv_aload_n hx hb dX0_workOut_53 rfl (lv_at hl 1 rfl) ?_
          refine xg2 S hK hP dX0_workOut_54 ?_
          refine lv_iload_n hx hb dX0_workOut_57 rfl (lv_at hl 3 rfl) ?_
          refine xl2 S hK hP (by omega) dX0_workOut_58 ?_
          refine zz_set (y := nI f) (by rw [upd_n _ _ hat]; exact ea) ?_
          refine lv_iload hx hb dX0_workOut_59 (lv_at hl 5 rfl) ?_
          refine lv_iload_n hx hb dX0_workOut_61 rfl (lv_at hl 2 rfl) ?_
          refine zz_callS (As := [.int (nI f), .int (nI x), .int (nI v)]) (rest := []) S (cellFrom_at l hf hv hp0 hfin hx0) gw_X0_103 hd_X0_cellFrom rfl rfl ⟨Nat.le_of_ble_eq_true rfl, Nat.le_of_ble_eq_true rfl⟩ rfl hl.1 rfl (Nat.le_of_ble_eq_true rfl) dX0_workOut_62 ⟨Nat.zero_le _, Nat.zero_le _⟩ (fun r_1 er_1 => ?_)
          subst er_1
          refine lv_istore (lv' := [(6, .int (nI (fal v p0))), (5, .int (nI ((192 * a) + x))), (0, .ref h), (1, .int (nI v)), (2, .int (nI a)), (3, .int (nI t)), (4, .int (nI x))]) hx hb dX0_workOut_65 hl (by decide) rfl (fun ls hl => ?_)
          refine lv_aload_n hx hb dX0_workOut_67 rfl (lv_at hl 2 rfl) ?_
          refine lv_iload_n hx hb dX0_workOut_68 rfl (lv_at hl 5 rfl) ?_
          refine lv_iload hx hb dX0_workOut_69 (lv_at hl 0 rfl) ?_
          refine lv_aload_n hx hb dX0_workOut_71 rfl (lv_at hl 2 rfl) ?_
          refine xg5 S hK hP dX0_workOut_72 ?_
          refine lv_iload hx hb dX0_workOut_75 (lv_at hl 1 rfl) ?_
          refine xl5 S hK hP (by omega) dX0_workOut_77 ?_
          refine zz_set (y := nI ((gv pl ms n f x).1)) e1 ?_
          refine lv_aload_n hx hb dX0_workOut_78 rfl (lv_at hl 2 rfl) ?_
          refine xg6 S hK hP dX0_workOut_79 ?_
          refine lv_iload hx hb dX0_workOut_82 (lv_at hl 1 rfl) ?_
          refine xl6 S hK hP (by omega) dX0_workOut_84 ?_
          refine zz_set (y := (gv pl ms n f x).2.1) e2 ?_
          refine lv_aload_n hx hb dX0_workOut_85 rfl (lv_at hl 2 rfl) ?_
          refine xg7 S hK hP dX0_workOut_86 ?_
          refine lv_iload hx hb dX0_workOut_89 (lv_at hl 1 rfl) ?_
          refine xl7 S hK hP (by omega) dX0_workOut_91 ?_
          refine zz_set (y := (gv pl ms n f x).2.2.1) e3 ?_
          refine lv_aload_n hx hb dX0_workOut_92 rfl (lv_at hl 2 rfl) ?_
          refine xg8 S hK hP dX0_workOut_93 ?_
          refine lv_iload hx hb dX0_workOut_96 (lv_at hl 1 rfl) ?_
          refine xl8 S hK hP (by omega) dX0_workOut_98 ?_
          refine zz_set (y := (gv pl ms n f x).2.2.2) e4 ?_
          refine zz_callV (V := XV h q dA) (u := (pl, ms, upd sv t (nI v), sf1, upd su t k, cn1, sm1, lo1, hi1, nI n, k)) (As := [.int (nI t), .int (nI (fal v p0)), .int (nI ((gv pl ms n f x).1)), .int ((gv pl ms n f x).2.1), .int ((gv pl ms n f x).2.2.1), .int ((gv pl ms n f x).2.2.2)]) (rest := []) S (metX0_enter l D dA h q pl ms (upd sv t (nI v)) sf1 (upd su t k) cn1 sm1 lo1 hi1 n k t (fal v p0) ht (fal_lt hp0) (nI (gv pl ms n f x).1) (gv pl ms n f x).2.1 (gv pl ms n f x).2.2.1 (gv pl ms n f x).2.2.2) gw_X0_92 hd_X0_enter rfl rfl ⟨Nat.le_of_ble_eq_true rfl, Nat.le_of_ble_eq_true rfl⟩ rfl hl.1 rfl (Nat.le_of_ble_eq_true rfl) dX0_workOut_99 ⟨Nat.zero_le _, Nat.zero_le _⟩ hK hA hP hD hS (ci := 0) rfl rfl rfl (fun u_ H locs hu_ hP hD hS => ?_)
          obtain rfl := hu_
          have hP : va_P D vwCl (XW h q dA pl ms (upd sv t (nI v)) (upd sf1 t (sf1 t + b1 (cn1 (192 * t + (fal v p0)) = 0))) (upd su t k) (upd cn1 (192 * t + (fal v p0)) (cn1 (192 * t + (fal v p0)) + nI (gv pl ms n f x).1)) (upd sm1 (192 * t + (fal v p0)) (sm1 (192 * t + (fal v p0)) + (gv pl ms n f x).2.1)) (upd lo1 (192 * t + (fal v p0)) (mn_ (lo1 (192 * t + (fal v p0))) ((gv pl ms n f x).2.2.1))) (upd hi1 (192 * t + (fal v p0)) (mx_ (hi1 (192 * t + (fal v p0))) ((gv pl ms n f x).2.2.2))) (nI n) k) H := hP
          have hD : va_D A (XW h q dA pl ms (upd sv t (nI v)) (upd sf1 t (sf1 t + b1 (cn1 (192 * t + (fal v p0)) = 0))) (upd su t k) (upd cn1 (192 * t + (fal v p0)) (cn1 (192 * t + (fal v p0)) + nI (gv pl ms n f x).1)) (upd sm1 (192 * t + (fal v p0)) (sm1 (192 * t + (fal v p0)) + (gv pl ms n f x).2.1)) (upd lo1 (192 * t + (fal v p0)) (mn_ (lo1 (192 * t + (fal v p0))) ((gv pl ms n f x).2.2.1))) (upd hi1 (192 * t + (fal v p0)) (mx_ (hi1 (192 * t + (fal v p0))) ((gv pl ms n f x).2.2.2))) (nI n) k) := hD
          refine lv_iinc (v := nI (x + 1)) (lv' := [(4, .int (nI (x + 1))), (6, .int (nI (fal v p0))), (5, .int (nI ((192 * a) + x))), (0, .ref h), (1, .int (nI v)), (2, .int (nI a)), (3, .int (nI t))]) hx hb dX0_workOut_102 hl (k := 6) rfl (by exact nI_1 _) (by decide) rfl (fun ls hl => ?_)
          refine lv_goto (tgt := 25) hx hb dX0_workOut_105 (by decide) ?_
          exact ih (x + 1) (by omega) (by omega) _ _ _ _ _ hst (fun j hj hjt G hG => SL_enter_ne hjt (fal_lt hp0) (hfr j hj hjt G hG) _ _ _ _ _) _ _ hP hD hS ls (lv_sub hl [3, 4, 5, 6, 0] rfl)
  refine lv_aload_n hx hb dX0_workOut_0 rfl (lv_at hl 0 rfl) ?_
  refine lv_iload_n hx hb dX0_workOut_1 rfl (lv_at hl 3 rfl) ?_
  refine zz_callV (V := XV h q dA) (u := (pl, ms, sv, sf, su, cn, sm, lo, hi, nI n, k)) (As := [.int (nI t)]) (rest := []) S (metX0_wipe l D dA h q pl ms sv sf su cn sm lo hi n k t ht) gw_X0_37 hd_X0_wipe rfl rfl ⟨Nat.le_of_ble_eq_true rfl, Nat.le_of_ble_eq_true rfl⟩ rfl hl.1 rfl (Nat.le_of_ble_eq_true rfl) dX0_workOut_2 ⟨Nat.zero_le _, Nat.zero_le _⟩ hK hA hP hD hS (ci := 0) rfl rfl rfl (fun u_ H locs hu_ hP hD hS => ?_)
  obtain rfl := hu_
  have hP : va_P D vwCl (XW h q dA pl ms sv (upd sf t (nI 0)) su (wpT cn (192 * t) 192 (nI 0)) (wpT sm (192 * t) 192 (nI 0)) (wpT lo (192 * t) 192 (nI 10000)) (wpT hi (192 * t) 192 (-10000)) (nI n) k) H := hP
  have hD : va_D A (XW h q dA pl ms sv (upd sf t (nI 0)) su (wpT cn (192 * t) 192 (nI 0)) (wpT sm (192 * t) 192 (nI 0)) (wpT lo (192 * t) 192 (nI 10000)) (wpT hi (192 * t) 192 (-10000)) (nI n) k) := hD
  refine lv_aload_n hx hb dX0_workOut_5 rfl (lv_at hl 0 rfl) ?_
  refine xg2 S hK hP dX0_workOut_6 ?_
  refine lv_iload_n hx hb dX0_workOut_9 rfl (lv_at hl 3 rfl) ?_
  refine lv_iload_n hx hb dX0_workOut_10 rfl (lv_at hl 1 rfl) ?_
  refine xs2 S hK hP hD hS (by omega) dX0_workOut_11 (fun H locs hP hD hS => ?_)
  refine lv_aload_n hx hb dX0_workOut_12 rfl (lv_at hl 0 rfl) ?_
  refine xg4 S hK hP dX0_workOut_13 ?_
  refine lv_iload_n hx hb dX0_workOut_16 rfl (lv_at hl 3 rfl) ?_
  refine lv_aload_n hx hb dX0_workOut_17 rfl (lv_at hl 0 rfl) ?_
  refine xg10 S hK hP dX0_workOut_18 ?_
  refine xs4 S hK hP hD hS (by omega) dX0_workOut_21 (fun H locs hP hD hS => ?_)
  refine lv_iconst (v := nI 0) hx hb dX0_workOut_22 (by decide +kernel) ?_
  refine lv_istore (lv' := [(4, .int (nI 0)), (0, .ref h), (1, .int (nI v)), (2, .int (nI a)), (3, .int (nI t))]) hx hb dX0_workOut_23 hl (by decide) rfl (fun ls hl => ?_)
  exact loop 193 0 (by omega) (by omega) _ _ _ _ _ (SL_congr (SL_wipe sf cn sm lo hi t) (fun z _ => (grl_0 pl ms n f v z).symm)) (fun j hj hjt G hG => SL_wipe_ne hjt hG _ _ _ _ _) _ _ hP hD hS ls (lv_sub hl [1, 2, 3, 4, 0] rfl)
abbrev rmX0_slotFor : Room := { frames := 4, cells := 0, slots := 0, locals := 96 }
set_option maxHeartbeats 4000000 in
set_option maxRecDepth 100000 in
theorem metX0_slotFor (l : Launch) (D : va_G) (dA : ClassId) (h : Nat) (q : Nat → Nat) (pl ms sv sf su cn sm lo hi : Nat → Int32) (n : Nat) (k : Int32) (hI : XI pl ms n sv sf cn sm lo hi) (v : Nat) (hv : v < 48) : CI l yX0_slotFor cX0_slotFor 5 rmX0_slotFor D dA (XV h q dA) (pl, ms, sv, sf, su, cn, sm, lo, hi, nI n, k) [.ref h, .int (nI v)] (fun r u => ∃ (i : Nat) (sv1 sf1 su1 cn1 sm1 lo1 hi1 : Nat → Int32) (k1 : Int32), r = nI i ∧ i < 5 ∧ u = (pl, ms, sv1, sf1, su1, cn1, sm1, lo1, hi1, nI n, k1) ∧ XI pl ms n sv1 sf1 cn1 sm1 lo1 hi1 ∧ SLt sf1 cn1 sm1 lo1 hi1 i (gv pl ms n v)) := by
  refine CI.mk (own := RX0) (by decide) rfl (Nat.le_of_ble_eq_true rfl) ?_
  intro p e s m args below meth c Q A H locs ls S hK hA hP hD hS hl hret
  have hx := S.1
  have hb := S.2.1
  have hP : va_P D vwCl (XW h q dA pl ms sv sf su cn sm lo hi (nI n) k) H := hP
  have hD : va_D A (XW h q dA pl ms sv sf su cn sm lo hi (nI n) k) := hD
  have hl : lv_has ls 5 [(0, .ref h), (1, .int (nI v))] := hl
  have loop3 : ∀ (d i : Nat), 6 ≤ i + d → 1 ≤ i → i ≤ 5 → ∀ (a t : Nat), a < 5 → (∃ f, f < 48 ∧ sv a = nI f ∧ fin_ f v ∧ SLt sf cn sm lo hi a (gv pl ms n f)) → t < 5 → 1 ≤ t → ¬ a = t → ∀ (H : Heap) (locs : List Loc), va_P D vwCl (XW h q dA pl ms sv sf su cn sm lo hi (nI n) (k + nI 1)) H → va_D A (XW h q dA pl ms sv sf su cn sm lo hi (nI n) (k + nI 1)) → va_S A s.heap H locs → ∀ ls : Array Slot, lv_has ls 5 [(0, .ref h), (1, .int (nI v)), (2, .int (nI a)), (3, .int (nI t)), (4, .int (nI i))] → W p l e rmX0_slotFor s m args below meth c H locs 0 0 Q (F0 m 130 ls []) := by
    intro d
    induction d with
    | zero => intro i h1 h2 h3; exact absurd h1 (by omega)
    | succ d ih =>
      intro i h1 h2 h3 a t ha hsrc ht ht1 hat H locs hP hD hS ls hl
      refine lv_iload hx hb dX0_slotFor_130 (lv_at hl 4 rfl) ?_
      refine lv_iconst (v := nI 5) hx hb dX0_slotFor_132 (by decide +kernel) ?_
      refine zz_ge (tgt := 188) hx hb dX0_slotFor_133 (by decide) (by omega) (by omega) (fun c_4 => ?_) (fun c_4 => ?_)
      · obtain ⟨f, hf, ea, hfin, hs⟩ := hsrc
        refine lv_aload_n hx hb dX0_slotFor_188 rfl (lv_at hl 0 rfl) ?_
        refine lv_iload_n hx hb dX0_slotFor_189 rfl (lv_at hl 1 rfl) ?_
        refine lv_iload_n hx hb dX0_slotFor_190 rfl (lv_at hl 2 rfl) ?_
        refine lv_iload_n hx hb dX0_slotFor_191 rfl (lv_at hl 3 rfl) ?_
        refine zz_callV (V := XV h q dA) (u := (pl, ms, sv, sf, su, cn, sm, lo, hi, nI n, k + nI 1)) (As := [.int (nI v), .int (nI a), .int (nI t)]) (rest := []) S (metX0_workOut l D dA h q pl ms sv sf su cn sm lo hi n (k + nI 1) v a t f ha ht hat hv hf ea hfin hs hI.1) gw_X0_99 hd_X0_workOut rfl rfl ⟨Nat.le_of_ble_eq_true rfl, Nat.le_of_ble_eq_true rfl⟩ rfl hl.1 rfl (Nat.le_of_ble_eq_true rfl) dX0_slotFor_192 ⟨Nat.zero_le _, Nat.zero_le _⟩ hK hA hP hD hS (ci := 0) rfl rfl rfl (fun u_ H locs hu_ hP hD hS => ?_)
        obtain ⟨sf1, cn1, sm1, lo1, hi1, rfl, hs1, hfr1⟩ := hu_
        have hP : va_P D vwCl (XW h q dA pl ms (upd sv t (nI v)) sf1 (upd su t (k + nI 1)) cn1 sm1 lo1 hi1 (nI n) (k + nI 1)) H := hP
        have hD : va_D A (XW h q dA pl ms (upd sv t (nI v)) sf1 (upd su t (k + nI 1)) cn1 sm1 lo1 hi1 (nI n) (k + nI 1)) := hD
        refine lv_iload_n hx hb dX0_slotFor_195 rfl (lv_at hl 3 rfl) ?_
        exact hret _ _ _ _ _ (pl, ms, upd sv t (nI v), sf1, upd su t (k + nI 1), cn1, sm1, lo1, hi1, nI n, k + nI 1) ⟨t, _, _, _, _, _, _, _, _, rfl, ht, rfl, SF_end hI hv ht ht1 hs1 hfr1, hs1⟩ hP hD hS dX0_slotFor_196
      · refine lv_iload hx hb dX0_slotFor_136 (lv_at hl 4 rfl) ?_
        refine lv_iload_n hx hb dX0_slotFor_138 rfl (lv_at hl 2 rfl) ?_
        refine zz_eq (tgt := 182) hx hb dX0_slotFor_139 (by decide) (by omega) (by omega) (fun c_5 => ?_) (fun c_5 => ?_)
        · refine lv_iinc (v := nI (i + 1)) (lv' := [(4, .int (nI (i + 1))), (0, .ref h), (1, .int (nI v)), (2, .int (nI a)), (3, .int (nI t))]) hx hb dX0_slotFor_182 hl (k := 4) rfl (by exact nI_1 _) (by decide) rfl (fun ls hl => ?_)
          refine lv_goto (tgt := 130) hx hb dX0_slotFor_185 (by decide) ?_
          exact ih (i + 1) (by omega) (by omega) (by omega) a t ha hsrc ht ht1 hat _ _ hP hD hS ls (lv_sub hl [1, 2, 3, 4, 0] rfl)
        · refine lv_aload_n hx hb dX0_slotFor_142 rfl (lv_at hl 0 rfl) ?_
          refine xg2 S hK hP dX0_slotFor_143 ?_
          refine lv_iload hx hb dX0_slotFor_146 (lv_at hl 4 rfl) ?_
          refine xl2 S hK hP (by omega) dX0_slotFor_148 ?_
          refine lv_iconst (v := (-1)) hx hb dX0_slotFor_149 (by decide +kernel) ?_
          refine lv_icmp_eq (tgt := 169) hx hb dX0_slotFor_150 (by decide) (fun c_6 => ?_) (fun c_6 => ?_)
          · refine lv_aload_n hx hb dX0_slotFor_169 rfl (lv_at hl 0 rfl) ?_
            refine xg2 S hK hP dX0_slotFor_170 ?_
            refine lv_iload_n hx hb dX0_slotFor_173 rfl (lv_at hl 3 rfl) ?_
            refine xl2 S hK hP (by omega) dX0_slotFor_174 ?_
            refine lv_iconst (v := (-1)) hx hb dX0_slotFor_175 (by decide +kernel) ?_
            refine lv_icmp_eq (tgt := 182) hx hb dX0_slotFor_176 (by decide) (fun c_7 => ?_) (fun c_7 => ?_)
            · refine lv_iinc (v := nI (i + 1)) (lv' := [(4, .int (nI (i + 1))), (0, .ref h), (1, .int (nI v)), (2, .int (nI a)), (3, .int (nI t))]) hx hb dX0_slotFor_182 hl (k := 4) rfl (by exact nI_1 _) (by decide) rfl (fun ls hl => ?_)
              refine lv_goto (tgt := 130) hx hb dX0_slotFor_185 (by decide) ?_
              exact ih (i + 1) (by omega) (by omega) (by omega) a t ha hsrc ht ht1 hat _ _ hP hD hS ls (lv_sub hl [1, 2, 3, 4, 0] rfl)
            · refine lv_iload hx hb dX0_slotFor_179 (lv_at hl 4 rfl) ?_
              refine lv_istore_n (lv' := [(3, .int (nI i)), (0, .ref h), (1, .int (nI v)), (2, .int (nI a)), (4, .int (nI i))]) hx hb dX0_slotFor_181 rfl hl (by decide) rfl (fun ls hl => ?_)
              refine lv_iinc (v := nI (i + 1)) (lv' := [(4, .int (nI (i + 1))), (3, .int (nI i)), (0, .ref h), (1, .int (nI v)), (2, .int (nI a))]) hx hb dX0_slotFor_182 hl (k := 4) rfl (by exact nI_1 _) (by decide) rfl (fun ls hl => ?_)
              refine lv_goto (tgt := 130) hx hb dX0_slotFor_185 (by decide) ?_
              exact ih (i + 1) (by omega) (by omega) (by omega) a i ha hsrc (by omega) (by omega) (fun q9 => c_5 q9.symm) _ _ hP hD hS ls (lv_sub hl [2, 3, 4, 1, 0] rfl)
          · refine lv_aload_n hx hb dX0_slotFor_153 rfl (lv_at hl 0 rfl) ?_
            refine xg4 S hK hP dX0_slotFor_154 ?_
            refine lv_iload hx hb dX0_slotFor_157 (lv_at hl 4 rfl) ?_
            refine xl4 S hK hP (by omega) dX0_slotFor_159 ?_
            refine lv_aload_n hx hb dX0_slotFor_160 rfl (lv_at hl 0 rfl) ?_
            refine xg4 S hK hP dX0_slotFor_161 ?_
            refine lv_iload_n hx hb dX0_slotFor_164 rfl (lv_at hl 3 rfl) ?_
            refine xl4 S hK hP (by omega) dX0_slotFor_165 ?_
            refine lv_icmp_ge (tgt := 182) hx hb dX0_slotFor_166 (by decide) (fun c_8 => ?_) (fun c_8 => ?_)
            · refine lv_iinc (v := nI (i + 1)) (lv' := [(4, .int (nI (i + 1))), (0, .ref h), (1, .int (nI v)), (2, .int (nI a)), (3, .int (nI t))]) hx hb dX0_slotFor_182 hl (k := 4) rfl (by exact nI_1 _) (by decide) rfl (fun ls hl => ?_)
              refine lv_goto (tgt := 130) hx hb dX0_slotFor_185 (by decide) ?_
              exact ih (i + 1) (by omega) (by omega) (by omega) a t ha hsrc ht ht1 hat _ _ hP hD hS ls (lv_sub hl [1, 2, 3, 4, 0] rfl)
            · refine lv_aload_n hx hb dX0_slotFor_169 rfl (lv_at hl 0 rfl) ?_
              refine xg2 S hK hP dX0_slotFor_170 ?_
              refine lv_iload_n hx hb dX0_slotFor_173 rfl (lv_at hl 3 rfl) ?_
              refine xl2 S hK hP (by omega) dX0_slotFor_174 ?_
              refine lv_iconst (v := (-1)) hx hb dX0_slotFor_175 (by decide +kernel) ?_
              refine lv_icmp_eq (tgt := 182) hx hb dX0_slotFor_176 (by decide) (fun c_7 => ?_) (fun c_7 => ?_)
              · refine lv_iinc (v := nI (i + 1)) (lv' := [(4, .int (nI (i + 1))), (0, .ref h), (1, .int (nI v)), (2, .int (nI a)), (3, .int (nI t))]) hx hb dX0_slotFor_182 hl (k := 4) rfl (by exact nI_1 _) (by decide) rfl (fun ls hl => ?_)
                refine lv_goto (tgt := 130) hx hb dX0_slotFor_185 (by decide) ?_
                exact ih (i + 1) (by omega) (by omega) (by omega) a t ha hsrc ht ht1 hat _ _ hP hD hS ls (lv_sub hl [1, 2, 3, 4, 0] rfl)
              · refine lv_iload hx hb dX0_slotFor_179 (lv_at hl 4 rfl) ?_
                refine lv_istore_n (lv' := [(3, .int (nI i)), (0, .ref h), (1, .int (nI v)), (2, .int (nI a)), (4, .int (nI i))]) hx hb dX0_slotFor_181 rfl hl (by decide) rfl (fun ls hl => ?_)
                refine lv_iinc (v := nI (i + 1)) (lv' := [(4, .int (nI (i + 1))), (3, .int (nI i)), (0, .ref h), (1, .int (nI v)), (2, .int (nI a))]) hx hb dX0_slotFor_182 hl (k := 4) rfl (by exact nI_1 _) (by decide) rfl (fun ls hl => ?_)
                refine lv_goto (tgt := 130) hx hb dX0_slotFor_185 (by decide) ?_
                exact ih (i + 1) (by omega) (by omega) (by omega) a i ha hsrc (by omega) (by omega) (fun q9 => c_5 q9.symm) _ _ hP hD hS ls (lv_sub hl [2, 3, 4, 1, 0] rfl)
  have loop2 : ∀ (d i : Nat), 6 ≤ i + d → i ≤ 5 → 1 ≤ i → ∀ (a : Nat), a < 5 → (∃ f, f < 48 ∧ sv a = nI f ∧ fin_ f v ∧ SLt sf cn sm lo hi a (gv pl ms n f)) → ∀ (H : Heap) (locs : List Loc), va_P D vwCl (XW h q dA pl ms sv sf su cn sm lo hi (nI n) (k + nI 1)) H → va_D A (XW h q dA pl ms sv sf su cn sm lo hi (nI n) (k + nI 1)) → va_S A s.heap H locs → ∀ ls : Array Slot, lv_has ls 5 [(0, .ref h), (1, .int (nI v)), (2, .int (nI a)), (3, .int (nI i))] → W p l e rmX0_slotFor s m args below meth c H locs 0 0 Q (F0 m 49 ls []) := by
    intro d
    induction d with
    | zero => intro i h1 h2; exact absurd h1 (by omega)
    | succ d ih =>
      intro i h1 h2 h3 a ha hsrc H locs hP hD hS ls hl
      refine lv_iload_n hx hb dX0_slotFor_49 rfl (lv_at hl 3 rfl) ?_
      refine lv_iconst (v := nI 5) hx hb dX0_slotFor_50 (by decide +kernel) ?_
      refine zz_ge (tgt := 116) hx hb dX0_slotFor_51 (by decide) (by omega) (by omega) (fun c_4 => ?_) (fun c_4 => ?_)
      · refine lv_iload_n hx hb dX0_slotFor_116 rfl (lv_at hl 2 rfl) ?_
        refine lv_iconst (v := nI 1) hx hb dX0_slotFor_117 (by decide +kernel) ?_
        refine zz_ne (tgt := 125) hx hb dX0_slotFor_118 (by decide) (by omega) (by omega) (fun c_5 => ?_) (fun c_5 => ?_)
        · refine lv_iconst (v := nI 1) hx hb dX0_slotFor_125 (by decide +kernel) ?_
          refine lv_istore_n (lv' := [(3, .int (nI 1)), (0, .ref h), (1, .int (nI v)), (2, .int (nI a))]) hx hb dX0_slotFor_126 rfl hl (by decide) rfl (fun ls hl => ?_)
          refine lv_iconst (v := nI 1) hx hb dX0_slotFor_127 (by decide +kernel) ?_
          refine lv_istore (lv' := [(4, .int (nI 1)), (3, .int (nI 1)), (0, .ref h), (1, .int (nI v)), (2, .int (nI a))]) hx hb dX0_slotFor_128 hl (by decide) rfl (fun ls hl => ?_)
          exact loop3 6 1 (by omega) (by omega) (by omega) a 1 ha hsrc (by omega) (by omega) (by omega) _ _ hP hD hS ls (lv_sub hl [2, 3, 4, 1, 0] rfl)
        · refine lv_iconst (v := nI 2) hx hb dX0_slotFor_121 (by decide +kernel) ?_
          refine lv_goto (tgt := 126) hx hb dX0_slotFor_122 (by decide) ?_
          refine lv_istore_n (lv' := [(3, .int (nI 2)), (0, .ref h), (1, .int (nI v)), (2, .int (nI a))]) hx hb dX0_slotFor_126 rfl hl (by decide) rfl (fun ls hl => ?_)
          refine lv_iconst (v := nI 1) hx hb dX0_slotFor_127 (by decide +kernel) ?_
          refine lv_istore (lv' := [(4, .int (nI 1)), (3, .int (nI 2)), (0, .ref h), (1, .int (nI v)), (2, .int (nI a))]) hx hb dX0_slotFor_128 hl (by decide) rfl (fun ls hl => ?_)
          exact loop3 6 1 (by omega) (by omega) (by omega) a 2 ha hsrc (by omega) (by omega) (by omega) _ _ hP hD hS ls (lv_sub hl [2, 3, 4, 1, 0] rfl)
      · refine lv_aload_n hx hb dX0_slotFor_54 rfl (lv_at hl 0 rfl) ?_
        refine xg2 S hK hP dX0_slotFor_55 ?_
        refine lv_iload_n hx hb dX0_slotFor_58 rfl (lv_at hl 3 rfl) ?_
        refine xl2 S hK hP (by omega) dX0_slotFor_59 ?_
        refine lv_iconst (v := (-1)) hx hb dX0_slotFor_60 (by decide +kernel) ?_
        refine lv_icmp_eq (tgt := 81) hx hb dX0_slotFor_61 (by decide) (fun c_5 => ?_) (fun c_5 => ?_)
        · refine lv_iconst (v := nI 0) hx hb dX0_slotFor_81 (by decide +kernel) ?_
          refine lv_istore (lv' := [(4, .int (nI 0)), (0, .ref h), (1, .int (nI v)), (2, .int (nI a)), (3, .int (nI i))]) hx hb dX0_slotFor_82 hl (by decide) rfl (fun ls hl => ?_)
          refine lv_iload hx hb dX0_slotFor_84 (lv_at hl 0 rfl) ?_
          refine zz_if_eq (tgt := 108) hx hb dX0_slotFor_86 (by decide) (by omega) (fun c_9 => ?_) (fun c_9 => ?_)
          · refine lv_iload_n hx hb dX0_slotFor_108 rfl (lv_at hl 3 rfl) ?_
            refine lv_istore_n (lv' := [(2, .int (nI a)), (4, .int (nI 0)), (0, .ref h), (1, .int (nI v)), (3, .int (nI i))]) hx hb dX0_slotFor_109 rfl hl (by decide) rfl (fun ls hl => ?_)
            refine lv_iinc (v := nI (i + 1)) (lv' := [(3, .int (nI (i + 1))), (2, .int (nI a)), (4, .int (nI 0)), (0, .ref h), (1, .int (nI v))]) hx hb dX0_slotFor_110 hl (k := 4) rfl (by exact nI_1 _) (by decide) rfl (fun ls hl => ?_)
            refine lv_goto (tgt := 49) hx hb dX0_slotFor_113 (by decide) ?_
            exact ih (i + 1) (by omega) (by omega) (by omega) a ha hsrc _ _ hP hD hS ls (lv_sub hl [3, 4, 1, 0] rfl)
          · exact absurd c_9 (by omega)
        · obtain ⟨f, hf, ef, hsf⟩ := (hI.2.2 i (by omega)).resolve_left c_5
          refine lv_aload_n hx hb dX0_slotFor_64 rfl (lv_at hl 0 rfl) ?_
          refine xg2 S hK hP dX0_slotFor_65 ?_
          refine lv_iload_n hx hb dX0_slotFor_68 rfl (lv_at hl 3 rfl) ?_
          refine xl2 S hK hP (by omega) dX0_slotFor_69 ?_
          refine zz_set (y := nI f) ef ?_
          refine lv_iload_n hx hb dX0_slotFor_70 rfl (lv_at hl 1 rfl) ?_
          refine zz_callS (As := [.int (nI f), .int (nI v)]) (rest := []) S (metX0_isFiner l f v hf hv) gw_X0_76 hd_X0_isFiner rfl rfl ⟨Nat.le_of_ble_eq_true rfl, Nat.le_of_ble_eq_true rfl⟩ rfl hl.1 rfl (Nat.le_of_ble_eq_true rfl) dX0_slotFor_71 ⟨Nat.zero_le _, Nat.zero_le _⟩ (fun r_1 er_1 => ?_)
          subst er_1
          refine zz_beq (tgt := 81) hx hb dX0_slotFor_74 (by decide) (fun c_6 => ?_) (fun c_6 => ?_)
          · refine lv_iconst (v := nI 0) hx hb dX0_slotFor_81 (by decide +kernel) ?_
            refine lv_istore (lv' := [(4, .int (nI 0)), (0, .ref h), (1, .int (nI v)), (2, .int (nI a)), (3, .int (nI i))]) hx hb dX0_slotFor_82 hl (by decide) rfl (fun ls hl => ?_)
            refine lv_iload hx hb dX0_slotFor_84 (lv_at hl 0 rfl) ?_
            refine zz_if_eq (tgt := 108) hx hb dX0_slotFor_86 (by decide) (by omega) (fun c_9 => ?_) (fun c_9 => ?_)
            · refine lv_iload_n hx hb dX0_slotFor_108 rfl (lv_at hl 3 rfl) ?_
              refine lv_istore_n (lv' := [(2, .int (nI a)), (4, .int (nI 0)), (0, .ref h), (1, .int (nI v)), (3, .int (nI i))]) hx hb dX0_slotFor_109 rfl hl (by decide) rfl (fun ls hl => ?_)
              refine lv_iinc (v := nI (i + 1)) (lv' := [(3, .int (nI (i + 1))), (2, .int (nI a)), (4, .int (nI 0)), (0, .ref h), (1, .int (nI v))]) hx hb dX0_slotFor_110 hl (k := 4) rfl (by exact nI_1 _) (by decide) rfl (fun ls hl => ?_)
              refine lv_goto (tgt := 49) hx hb dX0_slotFor_113 (by decide) ?_
              exact ih (i + 1) (by omega) (by omega) (by omega) a ha hsrc _ _ hP hD hS ls (lv_sub hl [3, 4, 1, 0] rfl)
            · exact absurd c_9 (by omega)
          · refine lv_iconst (v := nI 1) hx hb dX0_slotFor_77 (by decide +kernel) ?_
            refine lv_goto (tgt := 82) hx hb dX0_slotFor_78 (by decide) ?_
            refine lv_istore (lv' := [(4, .int (nI 1)), (0, .ref h), (1, .int (nI v)), (2, .int (nI a)), (3, .int (nI i))]) hx hb dX0_slotFor_82 hl (by decide) rfl (fun ls hl => ?_)
            refine lv_iload hx hb dX0_slotFor_84 (lv_at hl 0 rfl) ?_
            refine zz_if_eq (tgt := 108) hx hb dX0_slotFor_86 (by decide) (by omega) (fun c_9 => ?_) (fun c_9 => ?_)
            · exact absurd c_9 (by omega)
            · refine lv_aload_n hx hb dX0_slotFor_89 rfl (lv_at hl 1 rfl) ?_
              refine xg3 S hK hP dX0_slotFor_90 ?_
              refine lv_iload_n hx hb dX0_slotFor_93 rfl (lv_at hl 4 rfl) ?_
              refine xl3 S hK hP (by omega) dX0_slotFor_94 ?_
              refine lv_aload_n hx hb dX0_slotFor_95 rfl (lv_at hl 1 rfl) ?_
              refine xg3 S hK hP dX0_slotFor_96 ?_
              refine lv_iload_n hx hb dX0_slotFor_99 rfl (lv_at hl 3 rfl) ?_
              refine xl3 S hK hP (by omega) dX0_slotFor_100 ?_
              refine lv_icmp_ge (tgt := 108) hx hb dX0_slotFor_101 (by decide) (fun c_7 => ?_) (fun c_7 => ?_)
              · refine lv_iload_n hx hb dX0_slotFor_108 rfl (lv_at hl 3 rfl) ?_
                refine lv_istore_n (lv' := [(2, .int (nI a)), (4, .int (nI 1)), (0, .ref h), (1, .int (nI v)), (3, .int (nI i))]) hx hb dX0_slotFor_109 rfl hl (by decide) rfl (fun ls hl => ?_)
                refine lv_iinc (v := nI (i + 1)) (lv' := [(3, .int (nI (i + 1))), (2, .int (nI a)), (4, .int (nI 1)), (0, .ref h), (1, .int (nI v))]) hx hb dX0_slotFor_110 hl (k := 4) rfl (by exact nI_1 _) (by decide) rfl (fun ls hl => ?_)
                refine lv_goto (tgt := 49) hx hb dX0_slotFor_113 (by decide) ?_
                exact ih (i + 1) (by omega) (by omega) (by omega) a ha hsrc _ _ hP hD hS ls (lv_sub hl [3, 4, 1, 0] rfl)
              · refine lv_iload_n hx hb dX0_slotFor_104 rfl (lv_at hl 4 rfl) ?_
                refine lv_goto (tgt := 109) hx hb dX0_slotFor_105 (by decide) ?_
                refine lv_istore_n (lv' := [(2, .int (nI i)), (4, .int (nI 1)), (0, .ref h), (1, .int (nI v)), (3, .int (nI i))]) hx hb dX0_slotFor_109 rfl hl (by decide) rfl (fun ls hl => ?_)
                refine lv_iinc (v := nI (i + 1)) (lv' := [(3, .int (nI (i + 1))), (2, .int (nI i)), (4, .int (nI 1)), (0, .ref h), (1, .int (nI v))]) hx hb dX0_slotFor_110 hl (k := 4) rfl (by exact nI_1 _) (by decide) rfl (fun ls hl => ?_)
                refine lv_goto (tgt := 49) hx hb dX0_slotFor_113 (by decide) ?_
                exact ih (i + 1) (by omega) (by omega) (by omega) i (by omega) ⟨f, hf, ef, c_6, hsf⟩ _ _ hP hD hS ls (lv_sub hl [3, 4, 1, 0] rfl)
  have loop : ∀ (d i : Nat), 6 ≤ i + d → i ≤ 5 → ∀ (H : Heap) (locs : List Loc), va_P D vwCl (XW h q dA pl ms sv sf su cn sm lo hi (nI n) (k + nI 1)) H → va_D A (XW h q dA pl ms sv sf su cn sm lo hi (nI n) (k + nI 1)) → va_S A s.heap H locs → ∀ ls : Array Slot, lv_has ls 5 [(0, .ref h), (1, .int (nI v)), (2, .int (nI i))] → W p l e rmX0_slotFor s m args below meth c H locs 0 0 Q (F0 m 12 ls []) := by
    intro d
    induction d with
    | zero => intro i h1 h2; exact absurd h1 (by omega)
    | succ d ih =>
      intro i h1 h2 H locs hP hD hS ls hl
      refine lv_iload_n hx hb dX0_slotFor_12 rfl (lv_at hl 2 rfl) ?_
      refine lv_iconst (v := nI 5) hx hb dX0_slotFor_13 (by decide +kernel) ?_
      refine zz_ge (tgt := 45) hx hb dX0_slotFor_14 (by decide) (by omega) (by omega) (fun c_4 => ?_) (fun c_4 => ?_)
      · refine lv_iconst (v := nI 0) hx hb dX0_slotFor_45 (by decide +kernel) ?_
        refine lv_istore_n (lv' := [(2, .int (nI 0)), (0, .ref h), (1, .int (nI v))]) hx hb dX0_slotFor_46 rfl hl (by decide) rfl (fun ls hl => ?_)
        refine lv_iconst (v := nI 1) hx hb dX0_slotFor_47 (by decide +kernel) ?_
        refine lv_istore_n (lv' := [(3, .int (nI 1)), (2, .int (nI 0)), (0, .ref h), (1, .int (nI v))]) hx hb dX0_slotFor_48 rfl hl (by decide) rfl (fun ls hl => ?_)
        exact loop2 6 1 (by omega) (by omega) (by omega) 0 (by omega) ⟨0, by omega, hI.2.1, fin_0 v, XI_slot hI (by omega) (by omega) hI.2.1⟩ _ _ hP hD hS ls (lv_sub hl [2, 3, 1, 0] rfl)
      · refine lv_aload_n hx hb dX0_slotFor_17 rfl (lv_at hl 0 rfl) ?_
        refine xg2 S hK hP dX0_slotFor_18 ?_
        refine lv_iload_n hx hb dX0_slotFor_21 rfl (lv_at hl 2 rfl) ?_
        refine xl2 S hK hP (by omega) dX0_slotFor_22 ?_
        refine lv_iload_n hx hb dX0_slotFor_23 rfl (lv_at hl 1 rfl) ?_
        refine lv_icmp_ne (tgt := 39) hx hb dX0_slotFor_24 (by decide) (fun c_5 => ?_) (fun c_5 => ?_)
        · refine lv_iinc (v := nI (i + 1)) (lv' := [(2, .int (nI (i + 1))), (0, .ref h), (1, .int (nI v))]) hx hb dX0_slotFor_39 hl (k := 2) rfl (by exact nI_1 _) (by decide) rfl (fun ls hl => ?_)
          refine lv_goto (tgt := 12) hx hb dX0_slotFor_42 (by decide) ?_
          exact ih (i + 1) (by omega) (by omega) _ _ hP hD hS ls (lv_sub hl [1, 2, 0] rfl)
        · refine lv_aload_n hx hb dX0_slotFor_27 rfl (lv_at hl 0 rfl) ?_
          refine xg4 S hK hP dX0_slotFor_28 ?_
          refine lv_iload_n hx hb dX0_slotFor_31 rfl (lv_at hl 2 rfl) ?_
          refine lv_aload_n hx hb dX0_slotFor_32 rfl (lv_at hl 0 rfl) ?_
          refine xg10 S hK hP dX0_slotFor_33 ?_
          refine xs4 S hK hP hD hS (by omega) dX0_slotFor_36 (fun H locs hP hD hS => ?_)
          refine lv_iload_n hx hb dX0_slotFor_37 rfl (lv_at hl 2 rfl) ?_
          exact hret _ _ _ _ _ (pl, ms, sv, sf, upd su i (k + nI 1), cn, sm, lo, hi, nI n, k + nI 1) ⟨i, _, _, _, _, _, _, _, _, rfl, by omega, rfl, hI, XI_slot hI (by omega) hv c_5⟩ hP hD hS dX0_slotFor_38
  refine lv_aload_n hx hb dX0_slotFor_0 rfl (lv_at hl 0 rfl) ?_
  refine lv_dup hx hb dX0_slotFor_1 rfl ?_
  refine xg10 S hK hP dX0_slotFor_2 ?_
  refine lv_iconst (v := nI 1) hx hb dX0_slotFor_5 (by decide +kernel) ?_
  refine lv_iadd hx hb dX0_slotFor_6 ?_
  refine xp10 S hK hP hD hS dX0_slotFor_7 (fun H locs hP hD hS => ?_)
  refine lv_iconst (v := nI 0) hx hb dX0_slotFor_10 (by decide +kernel) ?_
  refine lv_istore_n (lv' := [(2, .int (nI 0)), (0, .ref h), (1, .int (nI v))]) hx hb dX0_slotFor_11 rfl hl (by decide) rfl (fun ls hl => ?_)
  exact loop 6 0 (by omega) (by omega) _ _ hP hD hS ls (lv_sub hl [1, 2, 0] rfl)
end
section
/-! OlapCubes: the public methods -/
abbrev rmX0_facts : Room := { frames := 0, cells := 0, slots := 0, locals := 0 }
set_option maxHeartbeats 4000000 in
set_option maxRecDepth 100000 in
theorem metX0_facts (l : Launch) (D : va_G) (dA : ClassId) (h : Nat) (q : Nat → Nat) (pl ms sv sf su cn sm lo hi : Nat → Int32) (n : Nat) (k : Int32) (hI : XI pl ms n sv sf cn sm lo hi) : CI l yX0_facts cX0_facts 1 rmX0_facts D dA (XV h q dA) (pl, ms, sv, sf, su, cn, sm, lo, hi, nI n, k) [.ref h] (fun r u => r = nI n ∧ XU (pl, ms, n) u) := by
  refine CI.mk (own := RX0) (by decide) rfl (Nat.le_of_ble_eq_true rfl) ?_
  intro p e s m args below meth c Q A H locs ls S hK hA hP hD hS hl hret
  have hx := S.1
  have hb := S.2.1
  have hP : va_P D vwCl (XW h q dA pl ms sv sf su cn sm lo hi (nI n) k) H := hP
  have hD : va_D A (XW h q dA pl ms sv sf su cn sm lo hi (nI n) k) := hD
  have hl : lv_has ls 1 [(0, .ref h)] := hl
  refine lv_aload_n hx hb dX0_facts_0 rfl (lv_at hl 0 rfl) ?_
  refine xg9 S hK hP dX0_facts_1 ?_
  exact hret _ _ _ _ _ (pl, ms, sv, sf, su, cn, sm, lo, hi, nI n, k) ⟨rfl, ⟨_, _, _, _, _, _, _, _, rfl, hI⟩⟩ hP hD hS dX0_facts_4
abbrev rmX0_cellOf : Room := { frames := 2, cells := 0, slots := 0, locals := 45 }
set_option maxHeartbeats 4000000 in
set_option maxRecDepth 100000 in
theorem metX0_cellOf (l : Launch) (D : va_G) (dA : ClassId) (h : Nat) (q : Nat → Nat) (pl ms sv sf su cn sm lo hi : Nat → Int32) (n : Nat) (k : Int32) (hI : XI pl ms n sv sf cn sm lo hi) (a b : Int32) : CI l yX0_cellOf cX0_cellOf 3 rmX0_cellOf D dA (XV h q dA) (pl, ms, sv, sf, su, cn, sm, lo, hi, nI n, k) [.ref h, .int a, .int b] (fun r u => r = sCellOf pl n a b ∧ XU (pl, ms, n) u) := by
  refine CI.mk (own := RX0) (by decide) rfl (Nat.le_of_ble_eq_true rfl) ?_
  intro p e s m args below meth c Q A H locs ls S hK hA hP hD hS hl hret
  have hx := S.1
  have hb := S.2.1
  have hP : va_P D vwCl (XW h q dA pl ms sv sf su cn sm lo hi (nI n) k) H := hP
  have hD : va_D A (XW h q dA pl ms sv sf su cn sm lo hi (nI n) k) := hD
  have hl : lv_has ls 3 [(0, .ref h), (1, .int a), (2, .int b)] := hl
  have hn40 := hI.1.1
  refine lv_iload_n hx hb dX0_cellOf_0 rfl (lv_at hl 1 rfl) ?_
  refine zz_callS (As := [.int a]) (rest := []) S (metX0_isView l a) gw_X0_66 hd_X0_isView rfl rfl ⟨Nat.le_of_ble_eq_true rfl, Nat.le_of_ble_eq_true rfl⟩ rfl hl.1 rfl (Nat.le_of_ble_eq_true rfl) dX0_cellOf_1 ⟨Nat.zero_le _, Nat.zero_le _⟩ (fun r_1 er_1 => ?_)
  subst er_1
  refine zz_bne (tgt := 9) hx hb dX0_cellOf_4 (by decide) (fun c_1 => ?_) (fun c_1 => ?_)
  · obtain ⟨v, hv, rfl⟩ := okV_N c_1
    refine lv_aload_n hx hb dX0_cellOf_9 rfl (lv_at hl 0 rfl) ?_
    refine lv_iload_n hx hb dX0_cellOf_10 rfl (lv_at hl 2 rfl) ?_
    refine zz_callR (As := [.int b]) (rest := []) S (metX0_isFact l D dA h q pl ms sv sf su cn sm lo hi n k b) gw_X0_56 hd_X0_isFact rfl rfl ⟨Nat.le_of_ble_eq_true rfl, Nat.le_of_ble_eq_true rfl⟩ rfl hl.1 rfl (Nat.le_of_ble_eq_true rfl) dX0_cellOf_11 ⟨Nat.zero_le _, Nat.zero_le _⟩ hK hP (ci := 0) rfl rfl rfl (fun r_2 er_2 => ?_)
    subst er_2
    refine zz_beq (tgt := 30) hx hb dX0_cellOf_14 (by decide) (fun c_2 => ?_) (fun c_2 => ?_)
    · refine lv_bipush (v := (-2)) hx hb dX0_cellOf_30 (by decide +kernel) ?_
      exact hret _ _ _ _ _ (pl, ms, sv, sf, su, cn, sm, lo, hi, nI n, k) ⟨by unfold sCellOf; rw [if_pos (okV_nI hv), if_neg c_2], ⟨_, _, _, _, _, _, _, _, rfl, hI⟩⟩ hP hD hS dX0_cellOf_32
    · obtain ⟨f, hf, rfl⟩ := okF_N (by omega) c_2
      obtain ⟨j, hj, ej⟩ := hI.1.2 f hf
      refine lv_iload_n hx hb dX0_cellOf_17 rfl (lv_at hl 1 rfl) ?_
      refine lv_aload_n hx hb dX0_cellOf_18 rfl (lv_at hl 0 rfl) ?_
      refine xg0 S hK hP dX0_cellOf_19 ?_
      refine lv_iload_n hx hb dX0_cellOf_22 rfl (lv_at hl 2 rfl) ?_
      refine xl0 S hK hP (by omega) dX0_cellOf_23 ?_
      refine zz_set (y := nI j) ej ?_
      refine zz_callS (As := [.int (nI v), .int (nI j)]) (rest := []) S (metX0_seenAs l v j hv hj) gw_X0_69 hd_X0_seenAs rfl rfl ⟨Nat.le_of_ble_eq_true rfl, Nat.le_of_ble_eq_true rfl⟩ rfl hl.1 rfl (Nat.le_of_ble_eq_true rfl) dX0_cellOf_24 ⟨Nat.zero_le _, Nat.zero_le _⟩ (fun r_3 er_3 => ?_)
      subst er_3
      refine lv_goto (tgt := 32) hx hb dX0_cellOf_27 (by decide) ?_
      exact hret _ _ _ _ _ (pl, ms, sv, sf, su, cn, sm, lo, hi, nI n, k) ⟨(sCellOf_N hv hf (by omega) ej hj).symm, ⟨_, _, _, _, _, _, _, _, rfl, hI⟩⟩ hP hD hS dX0_cellOf_32
  · refine lv_iconst (v := (-1)) hx hb dX0_cellOf_7 (by decide +kernel) ?_
    exact hret _ _ _ _ _ (pl, ms, sv, sf, su, cn, sm, lo, hi, nI n, k) ⟨by unfold sCellOf; rw [if_neg c_1], ⟨_, _, _, _, _, _, _, _, rfl, hI⟩⟩ hP hD hS dX0_cellOf_8
abbrev rmX0_full : Room := { frames := 5, cells := 0, slots := 0, locals := 120 }
set_option maxHeartbeats 4000000 in
set_option maxRecDepth 100000 in
theorem metX0_full (l : Launch) (D : va_G) (dA : ClassId) (h : Nat) (q : Nat → Nat) (pl ms sv sf su cn sm lo hi : Nat → Int32) (n : Nat) (k : Int32) (hI : XI pl ms n sv sf cn sm lo hi) (a : Int32) : CI l yX0_full cX0_full 3 rmX0_full D dA (XV h q dA) (pl, ms, sv, sf, su, cn, sm, lo, hi, nI n, k) [.ref h, .int a] (fun r u => r = sFull pl ms n a ∧ XU (pl, ms, n) u) := by
  refine CI.mk (own := RX0) (by decide) rfl (Nat.le_of_ble_eq_true rfl) ?_
  intro p e s m args below meth c Q A H locs ls S hK hA hP hD hS hl hret
  have hx := S.1
  have hb := S.2.1
  have hP : va_P D vwCl (XW h q dA pl ms sv sf su cn sm lo hi (nI n) k) H := hP
  have hD : va_D A (XW h q dA pl ms sv sf su cn sm lo hi (nI n) k) := hD
  have hl : lv_has ls 3 [(0, .ref h), (1, .int a)] := hl
  refine lv_iload_n hx hb dX0_full_0 rfl (lv_at hl 1 rfl) ?_
  refine zz_callS (As := [.int a]) (rest := []) S (metX0_isView l a) gw_X0_66 hd_X0_isView rfl rfl ⟨Nat.le_of_ble_eq_true rfl, Nat.le_of_ble_eq_true rfl⟩ rfl hl.1 rfl (Nat.le_of_ble_eq_true rfl) dX0_full_1 ⟨Nat.zero_le _, Nat.zero_le _⟩ (fun r_1 er_1 => ?_)
  subst er_1
  refine zz_bne (tgt := 9) hx hb dX0_full_4 (by decide) (fun c_1 => ?_) (fun c_1 => ?_)
  · obtain ⟨v, hv, rfl⟩ := okV_N c_1
    refine lv_aload_n hx hb dX0_full_9 rfl (lv_at hl 0 rfl) ?_
    refine lv_iload_n hx hb dX0_full_10 rfl (lv_at hl 1 rfl) ?_
    refine zz_callI (V := XV h q dA) (u := (pl, ms, sv, sf, su, cn, sm, lo, hi, nI n, k)) (As := [.int (nI v)]) (rest := []) S (metX0_slotFor l D dA h q pl ms sv sf su cn sm lo hi n k hI v hv) gw_X0_73 hd_X0_slotFor rfl rfl ⟨Nat.le_of_ble_eq_true rfl, Nat.le_of_ble_eq_true rfl⟩ rfl hl.1 rfl (Nat.le_of_ble_eq_true rfl) dX0_full_11 ⟨Nat.zero_le _, Nat.zero_le _⟩ hK hA hP hD hS (ci := 0) rfl rfl rfl (fun r_ u_ H locs hu_ hP hD hS => ?_)
    obtain ⟨sl, sv1, sf1, su1, cn1, sm1, lo1, hi1, k1, rfl, hsl, rfl, hI1, hs1⟩ := hu_
    have hP : va_P D vwCl (XW h q dA pl ms sv1 sf1 su1 cn1 sm1 lo1 hi1 (nI n) k1) H := hP
    have hD : va_D A (XW h q dA pl ms sv1 sf1 su1 cn1 sm1 lo1 hi1 (nI n) k1) := hD
    refine lv_istore_n (lv' := [(2, .int (nI sl)), (0, .ref h), (1, .int (nI v))]) hx hb dX0_full_14 rfl hl (by decide) rfl (fun ls hl => ?_)
    refine lv_aload_n hx hb dX0_full_15 rfl (lv_at hl 1 rfl) ?_
    refine xg3 S hK hP dX0_full_16 ?_
    refine lv_iload_n hx hb dX0_full_19 rfl (lv_at hl 0 rfl) ?_
    refine xl3 S hK hP (by omega) dX0_full_20 ?_
    exact hret _ _ _ _ _ (pl, ms, sv1, sf1, su1, cn1, sm1, lo1, hi1, nI n, k1) ⟨hs1.2.trans (sFull_N hv).symm, ⟨_, _, _, _, _, _, _, _, rfl, hI1⟩⟩ hP hD hS dX0_full_21
  · refine lv_iconst (v := (-1)) hx hb dX0_full_7 (by decide +kernel) ?_
    exact hret _ _ _ _ _ (pl, ms, sv, sf, su, cn, sm, lo, hi, nI n, k) ⟨by unfold sFull; rw [if_neg c_1], ⟨_, _, _, _, _, _, _, _, rfl, hI⟩⟩ hP hD hS dX0_full_8
abbrev rmX0_prepare : Room := { frames := 6, cells := 0, slots := 0, locals := 142 }
set_option maxHeartbeats 4000000 in
set_option maxRecDepth 100000 in
theorem metX0_prepare (l : Launch) (D : va_G) (dA : ClassId) (h : Nat) (q : Nat → Nat) (pl ms sv sf su cn sm lo hi : Nat → Int32) (n : Nat) (k : Int32) (hI : XI pl ms n sv sf cn sm lo hi) (a : Int32) : CI l yX0_prepare cX0_prepare 2 rmX0_prepare D dA (XV h q dA) (pl, ms, sv, sf, su, cn, sm, lo, hi, nI n, k) [.ref h, .int a] (fun r u => r = sFull pl ms n a ∧ XU (pl, ms, n) u) := by
  refine CI.mk (own := RX0) (by decide) rfl (Nat.le_of_ble_eq_true rfl) ?_
  intro p e s m args below meth c Q A H locs ls S hK hA hP hD hS hl hret
  have hx := S.1
  have hb := S.2.1
  have hP : va_P D vwCl (XW h q dA pl ms sv sf su cn sm lo hi (nI n) k) H := hP
  have hD : va_D A (XW h q dA pl ms sv sf su cn sm lo hi (nI n) k) := hD
  have hl : lv_has ls 2 [(0, .ref h), (1, .int a)] := hl
  refine lv_aload_n hx hb dX0_prepare_0 rfl (lv_at hl 0 rfl) ?_
  refine lv_iload_n hx hb dX0_prepare_1 rfl (lv_at hl 1 rfl) ?_
  refine zz_callI (V := XV h q dA) (u := (pl, ms, sv, sf, su, cn, sm, lo, hi, nI n, k)) (As := [.int a]) (rest := []) S (metX0_full l D dA h q pl ms sv sf su cn sm lo hi n k hI a) gw_X0_62 hd_X0_full rfl rfl ⟨Nat.le_of_ble_eq_true rfl, Nat.le_of_ble_eq_true rfl⟩ rfl hl.1 rfl (Nat.le_of_ble_eq_true rfl) dX0_prepare_2 ⟨Nat.zero_le _, Nat.zero_le _⟩ hK hA hP hD hS (ci := 0) rfl rfl rfl (fun r_ u_ H locs hu_ hP hD hS => ?_)
  obtain ⟨rfl, sv1, sf1, su1, cn1, sm1, lo1, hi1, k1, rfl, hI1⟩ := hu_
  have hP : va_P D vwCl (XW h q dA pl ms sv1 sf1 su1 cn1 sm1 lo1 hi1 (nI n) k1) H := hP
  have hD : va_D A (XW h q dA pl ms sv1 sf1 su1 cn1 sm1 lo1 hi1 (nI n) k1) := hD
  exact hret _ _ _ _ _ (pl, ms, sv1, sf1, su1, cn1, sm1, lo1, hi1, nI n, k1) ⟨rfl, ⟨_, _, _, _, _, _, _, _, rfl, hI1⟩⟩ hP hD hS dX0_prepare_5
abbrev rmX0_count : Room := { frames := 5, cells := 0, slots := 0, locals := 120 }
set_option maxHeartbeats 4000000 in
set_option maxRecDepth 100000 in
theorem metX0_count (l : Launch) (D : va_G) (dA : ClassId) (h : Nat) (q : Nat → Nat) (pl ms sv sf su cn sm lo hi : Nat → Int32) (n : Nat) (k : Int32) (hI : XI pl ms n sv sf cn sm lo hi) (a b : Int32) : CI l yX0_count cX0_count 4 rmX0_count D dA (XV h q dA) (pl, ms, sv, sf, su, cn, sm, lo, hi, nI n, k) [.ref h, .int a, .int b] (fun r u => r = sCount pl ms n a b ∧ XU (pl, ms, n) u) := by
  refine CI.mk (own := RX0) (by decide) rfl (Nat.le_of_ble_eq_true rfl) ?_
  intro p e s m args below meth c Q A H locs ls S hK hA hP hD hS hl hret
  have hx := S.1
  have hb := S.2.1
  have hP : va_P D vwCl (XW h q dA pl ms sv sf su cn sm lo hi (nI n) k) H := hP
  have hD : va_D A (XW h q dA pl ms sv sf su cn sm lo hi (nI n) k) := hD
  have hl : lv_has ls 4 [(0, .ref h), (1, .int a), (2, .int b)] := hl
  refine lv_iload_n hx hb dX0_count_0 rfl (lv_at hl 1 rfl) ?_
  refine zz_callS (As := [.int a]) (rest := []) S (metX0_isView l a) gw_X0_66 hd_X0_isView rfl rfl ⟨Nat.le_of_ble_eq_true rfl, Nat.le_of_ble_eq_true rfl⟩ rfl hl.1 rfl (Nat.le_of_ble_eq_true rfl) dX0_count_1 ⟨Nat.zero_le _, Nat.zero_le _⟩ (fun r_1 er_1 => ?_)
  subst er_1
  refine zz_bne (tgt := 9) hx hb dX0_count_4 (by decide) (fun c_1 => ?_) (fun c_1 => ?_)
  · obtain ⟨v, hv, rfl⟩ := okV_N c_1
    refine lv_iload_n hx hb dX0_count_9 rfl (lv_at hl 2 rfl) ?_
    refine zz_callS (As := [.int b]) (rest := []) S (metX0_isCell l b) gw_X0_41 hd_X0_isCell rfl rfl ⟨Nat.le_of_ble_eq_true rfl, Nat.le_of_ble_eq_true rfl⟩ rfl hl.1 rfl (Nat.le_of_ble_eq_true rfl) dX0_count_10 ⟨Nat.zero_le _, Nat.zero_le _⟩ (fun r_2 er_2 => ?_)
    subst er_2
    refine zz_bne (tgt := 19) hx hb dX0_count_13 (by decide) (fun c_2 => ?_) (fun c_2 => ?_)
    · obtain ⟨ce, hc, rfl⟩ := okC_N c_2
      refine lv_aload_n hx hb dX0_count_19 rfl (lv_at hl 0 rfl) ?_
      refine lv_iload_n hx hb dX0_count_20 rfl (lv_at hl 1 rfl) ?_
      refine zz_callI (V := XV h q dA) (u := (pl, ms, sv, sf, su, cn, sm, lo, hi, nI n, k)) (As := [.int (nI v)]) (rest := []) S (metX0_slotFor l D dA h q pl ms sv sf su cn sm lo hi n k hI v hv) gw_X0_73 hd_X0_slotFor rfl rfl ⟨Nat.le_of_ble_eq_true rfl, Nat.le_of_ble_eq_true rfl⟩ rfl hl.1 rfl (Nat.le_of_ble_eq_true rfl) dX0_count_21 ⟨Nat.zero_le _, Nat.zero_le _⟩ hK hA hP hD hS (ci := 0) rfl rfl rfl (fun r_ u_ H locs hu_ hP hD hS => ?_)
      obtain ⟨sl, sv1, sf1, su1, cn1, sm1, lo1, hi1, k1, rfl, hsl, rfl, hI1, hs1⟩ := hu_
      have hP : va_P D vwCl (XW h q dA pl ms sv1 sf1 su1 cn1 sm1 lo1 hi1 (nI n) k1) H := hP
      have hD : va_D A (XW h q dA pl ms sv1 sf1 su1 cn1 sm1 lo1 hi1 (nI n) k1) := hD
      refine lv_istore_n (lv' := [(3, .int (nI sl)), (0, .ref h), (1, .int (nI v)), (2, .int (nI ce))]) hx hb dX0_count_24 rfl hl (by decide) rfl (fun ls hl => ?_)
      refine lv_aload_n hx hb dX0_count_25 rfl (lv_at hl 1 rfl) ?_
      refine xg5 S hK hP dX0_count_26 ?_
      refine lv_sipush (v := nI 192) hx hb dX0_count_29 (by decide +kernel) ?_
      refine lv_iload_n hx hb dX0_count_32 rfl (lv_at hl 0 rfl) ?_
      refine zz_mul hx hb dX0_count_33 ?_
      refine lv_iload_n hx hb dX0_count_34 rfl (lv_at hl 3 rfl) ?_
      refine zz_add hx hb dX0_count_35 ?_
      refine xl5 S hK hP (by omega) dX0_count_36 ?_
      exact hret _ _ _ _ _ (pl, ms, sv1, sf1, su1, cn1, sm1, lo1, hi1, nI n, k1) ⟨(hs1.1 ce hc).1.trans (sCount_N hv hc).symm, ⟨_, _, _, _, _, _, _, _, rfl, hI1⟩⟩ hP hD hS dX0_count_37
    · refine lv_bipush (v := (-2)) hx hb dX0_count_16 (by decide +kernel) ?_
      exact hret _ _ _ _ _ (pl, ms, sv, sf, su, cn, sm, lo, hi, nI n, k) ⟨by unfold sCount; rw [if_pos (okV_nI hv), if_neg c_2], ⟨_, _, _, _, _, _, _, _, rfl, hI⟩⟩ hP hD hS dX0_count_18
  · refine lv_iconst (v := (-1)) hx hb dX0_count_7 (by decide +kernel) ?_
    exact hret _ _ _ _ _ (pl, ms, sv, sf, su, cn, sm, lo, hi, nI n, k) ⟨by unfold sCount; rw [if_neg c_1], ⟨_, _, _, _, _, _, _, _, rfl, hI⟩⟩ hP hD hS dX0_count_8
abbrev rmX0_sum : Room := { frames := 5, cells := 0, slots := 0, locals := 120 }
set_option maxHeartbeats 4000000 in
set_option maxRecDepth 100000 in
theorem metX0_sum (l : Launch) (D : va_G) (dA : ClassId) (h : Nat) (q : Nat → Nat) (pl ms sv sf su cn sm lo hi : Nat → Int32) (n : Nat) (k : Int32) (hI : XI pl ms n sv sf cn sm lo hi) (a b : Int32) : CI l yX0_sum cX0_sum 4 rmX0_sum D dA (XV h q dA) (pl, ms, sv, sf, su, cn, sm, lo, hi, nI n, k) [.ref h, .int a, .int b] (fun r u => r = sSum pl ms n a b ∧ XU (pl, ms, n) u) := by
  refine CI.mk (own := RX0) (by decide) rfl (Nat.le_of_ble_eq_true rfl) ?_
  intro p e s m args below meth c Q A H locs ls S hK hA hP hD hS hl hret
  have hx := S.1
  have hb := S.2.1
  have hP : va_P D vwCl (XW h q dA pl ms sv sf su cn sm lo hi (nI n) k) H := hP
  have hD : va_D A (XW h q dA pl ms sv sf su cn sm lo hi (nI n) k) := hD
  have hl : lv_has ls 4 [(0, .ref h), (1, .int a), (2, .int b)] := hl
  refine lv_iload_n hx hb dX0_sum_0 rfl (lv_at hl 1 rfl) ?_
  refine zz_callS (As := [.int a]) (rest := []) S (metX0_isView l a) gw_X0_66 hd_X0_isView rfl rfl ⟨Nat.le_of_ble_eq_true rfl, Nat.le_of_ble_eq_true rfl⟩ rfl hl.1 rfl (Nat.le_of_ble_eq_true rfl) dX0_sum_1 ⟨Nat.zero_le _, Nat.zero_le _⟩ (fun r_1 er_1 => ?_)
  subst er_1
  refine zz_beq (tgt := 14) hx hb dX0_sum_4 (by decide) (fun c_1 => ?_) (fun c_1 => ?_)
  · refine lv_iconst (v := nI 0) hx hb dX0_sum_14 (by decide +kernel) ?_
    exact hret _ _ _ _ _ (pl, ms, sv, sf, su, cn, sm, lo, hi, nI n, k) ⟨by unfold sSum; rw [if_neg (fun h9 => c_1 h9.1)], ⟨_, _, _, _, _, _, _, _, rfl, hI⟩⟩ hP hD hS dX0_sum_15
  · obtain ⟨v, hv, rfl⟩ := okV_N c_1
    refine lv_iload_n hx hb dX0_sum_7 rfl (lv_at hl 2 rfl) ?_
    refine zz_callS (As := [.int b]) (rest := []) S (metX0_isCell l b) gw_X0_41 hd_X0_isCell rfl rfl ⟨Nat.le_of_ble_eq_true rfl, Nat.le_of_ble_eq_true rfl⟩ rfl hl.1 rfl (Nat.le_of_ble_eq_true rfl) dX0_sum_8 ⟨Nat.zero_le _, Nat.zero_le _⟩ (fun r_2 er_2 => ?_)
    subst er_2
    refine zz_bne (tgt := 16) hx hb dX0_sum_11 (by decide) (fun c_2 => ?_) (fun c_2 => ?_)
    · obtain ⟨ce, hc, rfl⟩ := okC_N c_2
      refine lv_aload_n hx hb dX0_sum_16 rfl (lv_at hl 0 rfl) ?_
      refine lv_iload_n hx hb dX0_sum_17 rfl (lv_at hl 1 rfl) ?_
      refine zz_callI (V := XV h q dA) (u := (pl, ms, sv, sf, su, cn, sm, lo, hi, nI n, k)) (As := [.int (nI v)]) (rest := []) S (metX0_slotFor l D dA h q pl ms sv sf su cn sm lo hi n k hI v hv) gw_X0_73 hd_X0_slotFor rfl rfl ⟨Nat.le_of_ble_eq_true rfl, Nat.le_of_ble_eq_true rfl⟩ rfl hl.1 rfl (Nat.le_of_ble_eq_true rfl) dX0_sum_18 ⟨Nat.zero_le _, Nat.zero_le _⟩ hK hA hP hD hS (ci := 0) rfl rfl rfl (fun r_ u_ H locs hu_ hP hD hS => ?_)
      obtain ⟨sl, sv1, sf1, su1, cn1, sm1, lo1, hi1, k1, rfl, hsl, rfl, hI1, hs1⟩ := hu_
      have hP : va_P D vwCl (XW h q dA pl ms sv1 sf1 su1 cn1 sm1 lo1 hi1 (nI n) k1) H := hP
      have hD : va_D A (XW h q dA pl ms sv1 sf1 su1 cn1 sm1 lo1 hi1 (nI n) k1) := hD
      refine lv_istore_n (lv' := [(3, .int (nI sl)), (0, .ref h), (1, .int (nI v)), (2, .int (nI ce))]) hx hb dX0_sum_21 rfl hl (by decide) rfl (fun ls hl => ?_)
      refine lv_aload_n hx hb dX0_sum_22 rfl (lv_at hl 1 rfl) ?_
      refine xg6 S hK hP dX0_sum_23 ?_
      refine lv_sipush (v := nI 192) hx hb dX0_sum_26 (by decide +kernel) ?_
      refine lv_iload_n hx hb dX0_sum_29 rfl (lv_at hl 0 rfl) ?_
      refine zz_mul hx hb dX0_sum_30 ?_
      refine lv_iload_n hx hb dX0_sum_31 rfl (lv_at hl 3 rfl) ?_
      refine zz_add hx hb dX0_sum_32 ?_
      refine xl6 S hK hP (by omega) dX0_sum_33 ?_
      exact hret _ _ _ _ _ (pl, ms, sv1, sf1, su1, cn1, sm1, lo1, hi1, nI n, k1) ⟨(hs1.1 ce hc).2.1.trans (sSum_N hv hc).symm, ⟨_, _, _, _, _, _, _, _, rfl, hI1⟩⟩ hP hD hS dX0_sum_34
    · refine lv_iconst (v := nI 0) hx hb dX0_sum_14 (by decide +kernel) ?_
      exact hret _ _ _ _ _ (pl, ms, sv, sf, su, cn, sm, lo, hi, nI n, k) ⟨by unfold sSum; rw [if_neg (fun h9 => c_2 h9.2)], ⟨_, _, _, _, _, _, _, _, rfl, hI⟩⟩ hP hD hS dX0_sum_15
abbrev rmX0_least : Room := { frames := 5, cells := 0, slots := 0, locals := 120 }
set_option maxHeartbeats 4000000 in
set_option maxRecDepth 100000 in
theorem metX0_least (l : Launch) (D : va_G) (dA : ClassId) (h : Nat) (q : Nat → Nat) (pl ms sv sf su cn sm lo hi : Nat → Int32) (n : Nat) (k : Int32) (hI : XI pl ms n sv sf cn sm lo hi) (a b : Int32) : CI l yX0_least cX0_least 4 rmX0_least D dA (XV h q dA) (pl, ms, sv, sf, su, cn, sm, lo, hi, nI n, k) [.ref h, .int a, .int b] (fun r u => r = sLeast pl ms n a b ∧ XU (pl, ms, n) u) := by
  refine CI.mk (own := RX0) (by decide) rfl (Nat.le_of_ble_eq_true rfl) ?_
  intro p e s m args below meth c Q A H locs ls S hK hA hP hD hS hl hret
  have hx := S.1
  have hb := S.2.1
  have hP : va_P D vwCl (XW h q dA pl ms sv sf su cn sm lo hi (nI n) k) H := hP
  have hD : va_D A (XW h q dA pl ms sv sf su cn sm lo hi (nI n) k) := hD
  have hl : lv_has ls 4 [(0, .ref h), (1, .int a), (2, .int b)] := hl
  refine lv_iload_n hx hb dX0_least_0 rfl (lv_at hl 1 rfl) ?_
  refine zz_callS (As := [.int a]) (rest := []) S (metX0_isView l a) gw_X0_66 hd_X0_isView rfl rfl ⟨Nat.le_of_ble_eq_true rfl, Nat.le_of_ble_eq_true rfl⟩ rfl hl.1 rfl (Nat.le_of_ble_eq_true rfl) dX0_least_1 ⟨Nat.zero_le _, Nat.zero_le _⟩ (fun r_1 er_1 => ?_)
  subst er_1
  refine zz_beq (tgt := 14) hx hb dX0_least_4 (by decide) (fun c_1 => ?_) (fun c_1 => ?_)
  · refine lv_sipush (v := nI 10000) hx hb dX0_least_14 (by decide +kernel) ?_
    exact hret _ _ _ _ _ (pl, ms, sv, sf, su, cn, sm, lo, hi, nI n, k) ⟨by unfold sLeast; rw [if_neg (fun h9 => c_1 h9.1)], ⟨_, _, _, _, _, _, _, _, rfl, hI⟩⟩ hP hD hS dX0_least_17
  · obtain ⟨v, hv, rfl⟩ := okV_N c_1
    refine lv_iload_n hx hb dX0_least_7 rfl (lv_at hl 2 rfl) ?_
    refine zz_callS (As := [.int b]) (rest := []) S (metX0_isCell l b) gw_X0_41 hd_X0_isCell rfl rfl ⟨Nat.le_of_ble_eq_true rfl, Nat.le_of_ble_eq_true rfl⟩ rfl hl.1 rfl (Nat.le_of_ble_eq_true rfl) dX0_least_8 ⟨Nat.zero_le _, Nat.zero_le _⟩ (fun r_2 er_2 => ?_)
    subst er_2
    refine zz_bne (tgt := 18) hx hb dX0_least_11 (by decide) (fun c_2 => ?_) (fun c_2 => ?_)
    · obtain ⟨ce, hc, rfl⟩ := okC_N c_2
      refine lv_aload_n hx hb dX0_least_18 rfl (lv_at hl 0 rfl) ?_
      refine lv_iload_n hx hb dX0_least_19 rfl (lv_at hl 1 rfl) ?_
      refine zz_callI (V := XV h q dA) (u := (pl, ms, sv, sf, su, cn, sm, lo, hi, nI n, k)) (As := [.int (nI v)]) (rest := []) S (metX0_slotFor l D dA h q pl ms sv sf su cn sm lo hi n k hI v hv) gw_X0_73 hd_X0_slotFor rfl rfl ⟨Nat.le_of_ble_eq_true rfl, Nat.le_of_ble_eq_true rfl⟩ rfl hl.1 rfl (Nat.le_of_ble_eq_true rfl) dX0_least_20 ⟨Nat.zero_le _, Nat.zero_le _⟩ hK hA hP hD hS (ci := 0) rfl rfl rfl (fun r_ u_ H locs hu_ hP hD hS => ?_)
      obtain ⟨sl, sv1, sf1, su1, cn1, sm1, lo1, hi1, k1, rfl, hsl, rfl, hI1, hs1⟩ := hu_
      have hP : va_P D vwCl (XW h q dA pl ms sv1 sf1 su1 cn1 sm1 lo1 hi1 (nI n) k1) H := hP
      have hD : va_D A (XW h q dA pl ms sv1 sf1 su1 cn1 sm1 lo1 hi1 (nI n) k1) := hD
      refine lv_istore_n (lv' := [(3, .int (nI sl)), (0, .ref h), (1, .int (nI v)), (2, .int (nI ce))]) hx hb dX0_least_23 rfl hl (by decide) rfl (fun ls hl => ?_)
      refine lv_aload_n hx hb dX0_least_24 rfl (lv_at hl 1 rfl) ?_
      refine xg7 S hK hP dX0_least_25 ?_
      refine lv_sipush (v := nI 192) hx hb dX0_least_28 (by decide +kernel) ?_
      refine lv_iload_n hx hb dX0_least_31 rfl (lv_at hl 0 rfl) ?_
      refine zz_mul hx hb dX0_least_32 ?_
      refine lv_iload_n hx hb dX0_least_33 rfl (lv_at hl 3 rfl) ?_
      refine zz_add hx hb dX0_least_34 ?_
      refine xl7 S hK hP (by omega) dX0_least_35 ?_
      exact hret _ _ _ _ _ (pl, ms, sv1, sf1, su1, cn1, sm1, lo1, hi1, nI n, k1) ⟨(hs1.1 ce hc).2.2.1.trans (sLeast_N hv hc).symm, ⟨_, _, _, _, _, _, _, _, rfl, hI1⟩⟩ hP hD hS dX0_least_36
    · refine lv_sipush (v := nI 10000) hx hb dX0_least_14 (by decide +kernel) ?_
      exact hret _ _ _ _ _ (pl, ms, sv, sf, su, cn, sm, lo, hi, nI n, k) ⟨by unfold sLeast; rw [if_neg (fun h9 => c_2 h9.2)], ⟨_, _, _, _, _, _, _, _, rfl, hI⟩⟩ hP hD hS dX0_least_17
abbrev rmX0_most : Room := { frames := 5, cells := 0, slots := 0, locals := 120 }
set_option maxHeartbeats 4000000 in
set_option maxRecDepth 100000 in
theorem metX0_most (l : Launch) (D : va_G) (dA : ClassId) (h : Nat) (q : Nat → Nat) (pl ms sv sf su cn sm lo hi : Nat → Int32) (n : Nat) (k : Int32) (hI : XI pl ms n sv sf cn sm lo hi) (a b : Int32) : CI l yX0_most cX0_most 4 rmX0_most D dA (XV h q dA) (pl, ms, sv, sf, su, cn, sm, lo, hi, nI n, k) [.ref h, .int a, .int b] (fun r u => r = sMost pl ms n a b ∧ XU (pl, ms, n) u) := by
  refine CI.mk (own := RX0) (by decide) rfl (Nat.le_of_ble_eq_true rfl) ?_
  intro p e s m args below meth c Q A H locs ls S hK hA hP hD hS hl hret
  have hx := S.1
  have hb := S.2.1
  have hP : va_P D vwCl (XW h q dA pl ms sv sf su cn sm lo hi (nI n) k) H := hP
  have hD : va_D A (XW h q dA pl ms sv sf su cn sm lo hi (nI n) k) := hD
  have hl : lv_has ls 4 [(0, .ref h), (1, .int a), (2, .int b)] := hl
  refine lv_iload_n hx hb dX0_most_0 rfl (lv_at hl 1 rfl) ?_
  refine zz_callS (As := [.int a]) (rest := []) S (metX0_isView l a) gw_X0_66 hd_X0_isView rfl rfl ⟨Nat.le_of_ble_eq_true rfl, Nat.le_of_ble_eq_true rfl⟩ rfl hl.1 rfl (Nat.le_of_ble_eq_true rfl) dX0_most_1 ⟨Nat.zero_le _, Nat.zero_le _⟩ (fun r_1 er_1 => ?_)
  subst er_1
  refine zz_beq (tgt := 14) hx hb dX0_most_4 (by decide) (fun c_1 => ?_) (fun c_1 => ?_)
  · refine lv_sipush (v := (-10000)) hx hb dX0_most_14 (by decide +kernel) ?_
    exact hret _ _ _ _ _ (pl, ms, sv, sf, su, cn, sm, lo, hi, nI n, k) ⟨by unfold sMost; rw [if_neg (fun h9 => c_1 h9.1)], ⟨_, _, _, _, _, _, _, _, rfl, hI⟩⟩ hP hD hS dX0_most_17
  · obtain ⟨v, hv, rfl⟩ := okV_N c_1
    refine lv_iload_n hx hb dX0_most_7 rfl (lv_at hl 2 rfl) ?_
    refine zz_callS (As := [.int b]) (rest := []) S (metX0_isCell l b) gw_X0_41 hd_X0_isCell rfl rfl ⟨Nat.le_of_ble_eq_true rfl, Nat.le_of_ble_eq_true rfl⟩ rfl hl.1 rfl (Nat.le_of_ble_eq_true rfl) dX0_most_8 ⟨Nat.zero_le _, Nat.zero_le _⟩ (fun r_2 er_2 => ?_)
    subst er_2
    refine zz_bne (tgt := 18) hx hb dX0_most_11 (by decide) (fun c_2 => ?_) (fun c_2 => ?_)
    · obtain ⟨ce, hc, rfl⟩ := okC_N c_2
      refine lv_aload_n hx hb dX0_most_18 rfl (lv_at hl 0 rfl) ?_
      refine lv_iload_n hx hb dX0_most_19 rfl (lv_at hl 1 rfl) ?_
      refine zz_callI (V := XV h q dA) (u := (pl, ms, sv, sf, su, cn, sm, lo, hi, nI n, k)) (As := [.int (nI v)]) (rest := []) S (metX0_slotFor l D dA h q pl ms sv sf su cn sm lo hi n k hI v hv) gw_X0_73 hd_X0_slotFor rfl rfl ⟨Nat.le_of_ble_eq_true rfl, Nat.le_of_ble_eq_true rfl⟩ rfl hl.1 rfl (Nat.le_of_ble_eq_true rfl) dX0_most_20 ⟨Nat.zero_le _, Nat.zero_le _⟩ hK hA hP hD hS (ci := 0) rfl rfl rfl (fun r_ u_ H locs hu_ hP hD hS => ?_)
      obtain ⟨sl, sv1, sf1, su1, cn1, sm1, lo1, hi1, k1, rfl, hsl, rfl, hI1, hs1⟩ := hu_
      have hP : va_P D vwCl (XW h q dA pl ms sv1 sf1 su1 cn1 sm1 lo1 hi1 (nI n) k1) H := hP
      have hD : va_D A (XW h q dA pl ms sv1 sf1 su1 cn1 sm1 lo1 hi1 (nI n) k1) := hD
      refine lv_istore_n (lv' := [(3, .int (nI sl)), (0, .ref h), (1, .int (nI v)), (2, .int (nI ce))]) hx hb dX0_most_23 rfl hl (by decide) rfl (fun ls hl => ?_)
      refine lv_aload_n hx hb dX0_most_24 rfl (lv_at hl 1 rfl) ?_
      refine xg8 S hK hP dX0_most_25 ?_
      refine lv_sipush (v := nI 192) hx hb dX0_most_28 (by decide +kernel) ?_
      refine lv_iload_n hx hb dX0_most_31 rfl (lv_at hl 0 rfl) ?_
      refine zz_mul hx hb dX0_most_32 ?_
      refine lv_iload_n hx hb dX0_most_33 rfl (lv_at hl 3 rfl) ?_
      refine zz_add hx hb dX0_most_34 ?_
      refine xl8 S hK hP (by omega) dX0_most_35 ?_
      exact hret _ _ _ _ _ (pl, ms, sv1, sf1, su1, cn1, sm1, lo1, hi1, nI n, k1) ⟨(hs1.1 ce hc).2.2.2.trans (sMost_N hv hc).symm, ⟨_, _, _, _, _, _, _, _, rfl, hI1⟩⟩ hP hD hS dX0_most_36
    · refine lv_sipush (v := (-10000)) hx hb dX0_most_14 (by decide +kernel) ?_
      exact hret _ _ _ _ _ (pl, ms, sv, sf, su, cn, sm, lo, hi, nI n, k) ⟨by unfold sMost; rw [if_neg (fun h9 => c_2 h9.2)], ⟨_, _, _, _, _, _, _, _, rfl, hI⟩⟩ hP hD hS dX0_most_17
abbrev rmX0_next : Room := { frames := 5, cells := 0, slots := 0, locals := 120 }
set_option maxHeartbeats 4000000 in
set_option maxRecDepth 100000 in
theorem metX0_next (l : Launch) (D : va_G) (dA : ClassId) (h : Nat) (q : Nat → Nat) (pl ms sv sf su cn sm lo hi : Nat → Int32) (n : Nat) (k : Int32) (hI : XI pl ms n sv sf cn sm lo hi) (a af : Int32) : CI l yX0_next cX0_next 6 rmX0_next D dA (XV h q dA) (pl, ms, sv, sf, su, cn, sm, lo, hi, nI n, k) [.ref h, .int a, .int af] (fun r u => sNext pl ms n a af r ∧ XU (pl, ms, n) u) := by
  refine CI.mk (own := RX0) (by decide) rfl (Nat.le_of_ble_eq_true rfl) ?_
  intro p e s m args below meth c Q A H locs ls S hK hA hP hD hS hl hret
  have hx := S.1
  have hb := S.2.1
  have hP : va_P D vwCl (XW h q dA pl ms sv sf su cn sm lo hi (nI n) k) H := hP
  have hD : va_D A (XW h q dA pl ms sv sf su cn sm lo hi (nI n) k) := hD
  have hl : lv_has ls 6 [(0, .ref h), (1, .int a), (2, .int af)] := hl
  have hn40 := hI.1.1
  refine lv_iload_n hx hb dX0_next_0 rfl (lv_at hl 1 rfl) ?_
  refine zz_callS (As := [.int a]) (rest := []) S (metX0_isView l a) gw_X0_66 hd_X0_isView rfl rfl ⟨Nat.le_of_ble_eq_true rfl, Nat.le_of_ble_eq_true rfl⟩ rfl hl.1 rfl (Nat.le_of_ble_eq_true rfl) dX0_next_1 ⟨Nat.zero_le _, Nat.zero_le _⟩ (fun r_1 er_1 => ?_)
  subst er_1
  refine zz_bne (tgt := 9) hx hb dX0_next_4 (by decide) (fun c_1 => ?_) (fun c_1 => ?_)
  · obtain ⟨v, hv, rfl⟩ := okV_N c_1
    refine lv_aload_n hx hb dX0_next_9 rfl (lv_at hl 0 rfl) ?_
    refine lv_iload_n hx hb dX0_next_10 rfl (lv_at hl 1 rfl) ?_
    refine zz_callI (V := XV h q dA) (u := (pl, ms, sv, sf, su, cn, sm, lo, hi, nI n, k)) (As := [.int (nI v)]) (rest := []) S (metX0_slotFor l D dA h q pl ms sv sf su cn sm lo hi n k hI v hv) gw_X0_73 hd_X0_slotFor rfl rfl ⟨Nat.le_of_ble_eq_true rfl, Nat.le_of_ble_eq_true rfl⟩ rfl hl.1 rfl (Nat.le_of_ble_eq_true rfl) dX0_next_11 ⟨Nat.zero_le _, Nat.zero_le _⟩ hK hA hP hD hS (ci := 0) rfl rfl rfl (fun r_ u_ H locs hu_ hP hD hS => ?_)
    obtain ⟨sl, sv1, sf1, su1, cn1, sm1, lo1, hi1, k1, rfl, hsl, rfl, hI1, hs1⟩ := hu_
    have hP : va_P D vwCl (XW h q dA pl ms sv1 sf1 su1 cn1 sm1 lo1 hi1 (nI n) k1) H := hP
    have hD : va_D A (XW h q dA pl ms sv1 sf1 su1 cn1 sm1 lo1 hi1 (nI n) k1) := hD
    have loop : ∀ (d x : Nat), 193 ≤ x + d → x ≤ 192 → ∀ (fr : Int32), (∀ z, z < 192 → (nI z ≤ fr ↔ nI z ≤ af)) → (∀ z, z < x → 0 < (gv pl ms n v z).1 → nI z ≤ af) → ∀ (H : Heap) (locs : List Loc), va_P D vwCl (XW h q dA pl ms sv1 sf1 su1 cn1 sm1 lo1 hi1 (nI n) k1) H → va_D A (XW h q dA pl ms sv1 sf1 su1 cn1 sm1 lo1 hi1 (nI n) k1) → va_S A s.heap H locs → ∀ ls : Array Slot, lv_has ls 6 [(0, .ref h), (3, .int (nI sl)), (4, .int fr), (5, .int (nI x))] → W p l e rmX0_next s m args below meth c H locs 0 0 Q (F0 m 30 ls []) := by
      intro d
      induction d with
      | zero => intro x h1 h2; exact absurd h1 (by omega)
      | succ d ih =>
        intro x h1 h2 fr hfr hno H locs hP hD hS ls hl
        refine lv_iload hx hb dX0_next_30 (lv_at hl 3 rfl) ?_
        refine lv_sipush (v := nI 192) hx hb dX0_next_32 (by decide +kernel) ?_
        refine zz_ge (tgt := 70) hx hb dX0_next_35 (by decide) (by omega) (by omega) (fun c_4 => ?_) (fun c_4 => ?_)
        · have hi : 192 = x := by omega
          subst hi
          refine lv_bipush (v := (-2)) hx hb dX0_next_70 (by decide +kernel) ?_
          exact hret _ _ _ _ _ (pl, ms, sv1, sf1, su1, cn1, sm1, lo1, hi1, nI n, k1) ⟨(sNext_N hv).mpr (Or.inl ⟨rfl, hno⟩), ⟨_, _, _, _, _, _, _, _, rfl, hI1⟩⟩ hP hD hS dX0_next_72
        · have hgl := gv_le pl ms n v x
          refine lv_iload hx hb dX0_next_38 (lv_at hl 3 rfl) ?_
          refine lv_iload hx hb dX0_next_40 (lv_at hl 2 rfl) ?_
          refine lv_icmp_le (tgt := 64) hx hb dX0_next_42 (by decide) (fun c_5 => ?_) (fun c_5 => ?_)
          · refine lv_iinc (v := nI (x + 1)) (lv' := [(5, .int (nI (x + 1))), (0, .ref h), (3, .int (nI sl)), (4, .int fr)]) hx hb dX0_next_64 hl (k := 3) rfl (by exact nI_1 _) (by decide) rfl (fun ls hl => ?_)
            refine lv_goto (tgt := 30) hx hb dX0_next_67 (by decide) ?_
            exact ih (x + 1) (by omega) (by omega) fr hfr (fun z hz q9 => by rcases Nat.lt_or_ge z x with w9 | w9; exact hno z w9 q9; rw [show z = x by omega] at q9 ⊢; exact (hfr x (by omega)).mp c_5) _ _ hP hD hS ls (lv_sub hl [1, 2, 3, 0] rfl)
          · refine lv_aload_n hx hb dX0_next_45 rfl (lv_at hl 0 rfl) ?_
            refine xg5 S hK hP dX0_next_46 ?_
            refine lv_sipush (v := nI 192) hx hb dX0_next_49 (by decide +kernel) ?_
            refine lv_iload_n hx hb dX0_next_52 rfl (lv_at hl 1 rfl) ?_
            refine zz_mul hx hb dX0_next_53 ?_
            refine lv_iload hx hb dX0_next_54 (lv_at hl 3 rfl) ?_
            refine zz_add hx hb dX0_next_56 ?_
            refine xl5 S hK hP (by omega) dX0_next_57 ?_
            refine zz_set (y := nI ((gv pl ms n v x).1)) (hs1.1 x (by omega)).1 ?_
            refine zz_if_le (tgt := 64) hx hb dX0_next_58 (by decide) (by omega) (fun c_6 => ?_) (fun c_6 => ?_)
            · refine lv_iinc (v := nI (x + 1)) (lv' := [(5, .int (nI (x + 1))), (0, .ref h), (3, .int (nI sl)), (4, .int fr)]) hx hb dX0_next_64 hl (k := 3) rfl (by exact nI_1 _) (by decide) rfl (fun ls hl => ?_)
              refine lv_goto (tgt := 30) hx hb dX0_next_67 (by decide) ?_
              exact ih (x + 1) (by omega) (by omega) fr hfr (fun z hz q9 => by rcases Nat.lt_or_ge z x with w9 | w9; exact hno z w9 q9; rw [show z = x by omega] at q9 ⊢; exact absurd q9 (by omega)) _ _ hP hD hS ls (lv_sub hl [1, 2, 3, 0] rfl)
            · refine lv_iload hx hb dX0_next_61 (lv_at hl 3 rfl) ?_
              exact hret _ _ _ _ _ (pl, ms, sv1, sf1, su1, cn1, sm1, lo1, hi1, nI n, k1) ⟨(sNext_N hv).mpr (Or.inr ⟨x, by omega, c_6, Int32.not_le.mp (fun q9 => c_5 ((hfr x (by omega)).mpr q9)), rfl, hno⟩), ⟨_, _, _, _, _, _, _, _, rfl, hI1⟩⟩ hP hD hS dX0_next_63
    refine lv_istore_n (lv' := [(3, .int (nI sl)), (0, .ref h), (1, .int (nI v)), (2, .int af)]) hx hb dX0_next_14 rfl hl (by decide) rfl (fun ls hl => ?_)
    refine lv_iload_n hx hb dX0_next_15 rfl (lv_at hl 3 rfl) ?_
    refine lv_iconst (v := (-1)) hx hb dX0_next_16 (by decide +kernel) ?_
    refine lv_icmp_ge (tgt := 24) hx hb dX0_next_17 (by decide) (fun c_3 => ?_) (fun c_3 => ?_)
    · refine lv_iload_n hx hb dX0_next_24 rfl (lv_at hl 3 rfl) ?_
      refine lv_istore (lv' := [(4, .int af), (3, .int (nI sl)), (0, .ref h), (1, .int (nI v)), (2, .int af)]) hx hb dX0_next_25 hl (by decide) rfl (fun ls hl => ?_)
      refine lv_iconst (v := nI 0) hx hb dX0_next_27 (by decide +kernel) ?_
      refine lv_istore (lv' := [(5, .int (nI 0)), (4, .int af), (3, .int (nI sl)), (0, .ref h), (1, .int (nI v)), (2, .int af)]) hx hb dX0_next_28 hl (by decide) rfl (fun ls hl => ?_)
      exact loop 193 0 (by omega) (by omega) af (fun z _ => Iff.rfl) (fun z hz => absurd hz (by omega)) _ _ hP hD hS ls (lv_sub hl [3, 2, 1, 0] rfl)
    · refine lv_iconst (v := (-1)) hx hb dX0_next_20 (by decide +kernel) ?_
      refine lv_goto (tgt := 25) hx hb dX0_next_21 (by decide) ?_
      refine lv_istore (lv' := [(4, .int ((-1))), (3, .int (nI sl)), (0, .ref h), (1, .int (nI v)), (2, .int af)]) hx hb dX0_next_25 hl (by decide) rfl (fun ls hl => ?_)
      refine lv_iconst (v := nI 0) hx hb dX0_next_27 (by decide +kernel) ?_
      refine lv_istore (lv' := [(5, .int (nI 0)), (4, .int ((-1))), (3, .int (nI sl)), (0, .ref h), (1, .int (nI v)), (2, .int af)]) hx hb dX0_next_28 hl (by decide) rfl (fun ls hl => ?_)
      exact loop 193 0 (by omega) (by omega) (-1) (fun z hz => ⟨fun q9 => absurd (nI_m1 z (by omega)) (Int32.not_lt.mpr q9), fun q9 => absurd (Int32.lt_of_lt_of_le (nI_m1 z (by omega)) q9) (Int32.not_lt.mpr (Int32.le_of_lt (Int32.not_le.mp c_3)))⟩) (fun z hz => absurd hz (by omega)) _ _ hP hD hS ls (lv_sub hl [3, 2, 1, 0] rfl)
  · refine lv_iconst (v := (-1)) hx hb dX0_next_7 (by decide +kernel) ?_
    exact hret _ _ _ _ _ (pl, ms, sv, sf, su, cn, sm, lo, hi, nI n, k) ⟨by unfold sNext; rw [if_neg c_1], ⟨_, _, _, _, _, _, _, _, rfl, hI⟩⟩ hP hD hS dX0_next_8
abbrev rmX0_best : Room := { frames := 5, cells := 0, slots := 0, locals := 120 }
set_option maxHeartbeats 4000000 in
set_option maxRecDepth 100000 in
theorem metX0_best (l : Launch) (D : va_G) (dA : ClassId) (h : Nat) (q : Nat → Nat) (pl ms sv sf su cn sm lo hi : Nat → Int32) (n : Nat) (k : Int32) (hI : XI pl ms n sv sf cn sm lo hi) (a : Int32) : CI l yX0_best cX0_best 6 rmX0_best D dA (XV h q dA) (pl, ms, sv, sf, su, cn, sm, lo, hi, nI n, k) [.ref h, .int a] (fun r u => r = sBest pl ms n a ∧ XU (pl, ms, n) u) := by
  refine CI.mk (own := RX0) (by decide) rfl (Nat.le_of_ble_eq_true rfl) ?_
  intro p e s m args below meth c Q A H locs ls S hK hA hP hD hS hl hret
  have hx := S.1
  have hb := S.2.1
  have hP : va_P D vwCl (XW h q dA pl ms sv sf su cn sm lo hi (nI n) k) H := hP
  have hD : va_D A (XW h q dA pl ms sv sf su cn sm lo hi (nI n) k) := hD
  have hl : lv_has ls 6 [(0, .ref h), (1, .int a)] := hl
  have hn40 := hI.1.1
  refine lv_iload_n hx hb dX0_best_0 rfl (lv_at hl 1 rfl) ?_
  refine zz_callS (As := [.int a]) (rest := []) S (metX0_isView l a) gw_X0_66 hd_X0_isView rfl rfl ⟨Nat.le_of_ble_eq_true rfl, Nat.le_of_ble_eq_true rfl⟩ rfl hl.1 rfl (Nat.le_of_ble_eq_true rfl) dX0_best_1 ⟨Nat.zero_le _, Nat.zero_le _⟩ (fun r_1 er_1 => ?_)
  subst er_1
  refine zz_bne (tgt := 9) hx hb dX0_best_4 (by decide) (fun c_1 => ?_) (fun c_1 => ?_)
  · obtain ⟨v, hv, rfl⟩ := okV_N c_1
    refine lv_aload_n hx hb dX0_best_9 rfl (lv_at hl 0 rfl) ?_
    refine lv_iload_n hx hb dX0_best_10 rfl (lv_at hl 1 rfl) ?_
    refine zz_callI (V := XV h q dA) (u := (pl, ms, sv, sf, su, cn, sm, lo, hi, nI n, k)) (As := [.int (nI v)]) (rest := []) S (metX0_slotFor l D dA h q pl ms sv sf su cn sm lo hi n k hI v hv) gw_X0_73 hd_X0_slotFor rfl rfl ⟨Nat.le_of_ble_eq_true rfl, Nat.le_of_ble_eq_true rfl⟩ rfl hl.1 rfl (Nat.le_of_ble_eq_true rfl) dX0_best_11 ⟨Nat.zero_le _, Nat.zero_le _⟩ hK hA hP hD hS (ci := 0) rfl rfl rfl (fun r_ u_ H locs hu_ hP hD hS => ?_)
    obtain ⟨sl, sv1, sf1, su1, cn1, sm1, lo1, hi1, k1, rfl, hsl, rfl, hI1, hs1⟩ := hu_
    have hP : va_P D vwCl (XW h q dA pl ms sv1 sf1 su1 cn1 sm1 lo1 hi1 (nI n) k1) H := hP
    have hD : va_D A (XW h q dA pl ms sv1 sf1 su1 cn1 sm1 lo1 hi1 (nI n) k1) := hD
    have loop : ∀ (d x : Nat), 193 ≤ x + d → x ≤ 192 → ∀ (fd : Int32), fd = bst (gv pl ms n v) x → ∀ (H : Heap) (locs : List Loc), va_P D vwCl (XW h q dA pl ms sv1 sf1 su1 cn1 sm1 lo1 hi1 (nI n) k1) H → va_D A (XW h q dA pl ms sv1 sf1 su1 cn1 sm1 lo1 hi1 (nI n) k1) → va_S A s.heap H locs → ∀ ls : Array Slot, lv_has ls 6 [(0, .ref h), (2, .int (nI sl)), (3, .int fd), (4, .int (nI x))] → W p l e rmX0_best s m args below meth c H locs 0 0 Q (F0 m 21 ls []) := by
      intro d
      induction d with
      | zero => intro x h1 h2; exact absurd h1 (by omega)
      | succ d ih =>
        intro x h1 h2 fd hfd H locs hP hD hS ls hl
        refine lv_iload hx hb dX0_best_21 (lv_at hl 3 rfl) ?_
        refine lv_sipush (v := nI 192) hx hb dX0_best_23 (by decide +kernel) ?_
        refine zz_ge (tgt := 84) hx hb dX0_best_26 (by decide) (by omega) (by omega) (fun c_4 => ?_) (fun c_4 => ?_)
        · have hi : 192 = x := by omega
          subst hi
          refine lv_iload_n hx hb dX0_best_84 rfl (lv_at hl 2 rfl) ?_
          exact hret _ _ _ _ _ (pl, ms, sv1, sf1, su1, cn1, sm1, lo1, hi1, nI n, k1) ⟨hfd.trans (sBest_N hv).symm, ⟨_, _, _, _, _, _, _, _, rfl, hI1⟩⟩ hP hD hS dX0_best_85
        · have hgl := gv_le pl ms n v x
          have hsx := hs1.1 x (by omega)
          refine lv_sipush (v := nI 192) hx hb dX0_best_29 (by decide +kernel) ?_
          refine lv_iload_n hx hb dX0_best_32 rfl (lv_at hl 1 rfl) ?_
          refine zz_mul hx hb dX0_best_33 ?_
          refine lv_iload hx hb dX0_best_34 (lv_at hl 3 rfl) ?_
          refine zz_add hx hb dX0_best_36 ?_
          refine lv_istore (lv' := [(5, .int (nI ((192 * sl) + x))), (0, .ref h), (2, .int (nI sl)), (3, .int fd), (4, .int (nI x))]) hx hb dX0_best_37 hl (by decide) rfl (fun ls hl => ?_)
          refine lv_aload_n hx hb dX0_best_39 rfl (lv_at hl 1 rfl) ?_
          refine xg5 S hK hP dX0_best_40 ?_
          refine lv_iload hx hb dX0_best_43 (lv_at hl 0 rfl) ?_
          refine xl5 S hK hP (by omega) dX0_best_45 ?_
          refine zz_set (y := nI ((gv pl ms n v x).1)) hsx.1 ?_
          refine zz_if_le (tgt := 78) hx hb dX0_best_46 (by decide) (by omega) (fun c_5 => ?_) (fun c_5 => ?_)
          · refine lv_iinc (v := nI (x + 1)) (lv' := [(4, .int (nI (x + 1))), (5, .int (nI ((192 * sl) + x))), (0, .ref h), (2, .int (nI sl)), (3, .int fd)]) hx hb dX0_best_78 hl (k := 4) rfl (by exact nI_1 _) (by decide) rfl (fun ls hl => ?_)
            refine lv_goto (tgt := 21) hx hb dX0_best_81 (by decide) ?_
            exact ih (x + 1) (by omega) (by omega) fd (by show _ = (if _ then nI x else _); rw [← hfd, if_neg (fun h9 => absurd h9.1 (by omega))]) _ _ hP hD hS ls (lv_sub hl [2, 3, 4, 0] rfl)
          · refine lv_iload_n hx hb dX0_best_49 rfl (lv_at hl 3 rfl) ?_
            refine lv_if_lt (tgt := 75) hx hb dX0_best_50 (by decide) (fun c_6 => ?_) (fun c_6 => ?_)
            · refine lv_iload hx hb dX0_best_75 (lv_at hl 4 rfl) ?_
              refine lv_istore_n (lv' := [(3, .int (nI x)), (5, .int (nI ((192 * sl) + x))), (0, .ref h), (2, .int (nI sl)), (4, .int (nI x))]) hx hb dX0_best_77 rfl hl (by decide) rfl (fun ls hl => ?_)
              refine lv_iinc (v := nI (x + 1)) (lv' := [(4, .int (nI (x + 1))), (3, .int (nI x)), (5, .int (nI ((192 * sl) + x))), (0, .ref h), (2, .int (nI sl))]) hx hb dX0_best_78 hl (k := 4) rfl (by exact nI_1 _) (by decide) rfl (fun ls hl => ?_)
              refine lv_goto (tgt := 21) hx hb dX0_best_81 (by decide) ?_
              exact ih (x + 1) (by omega) (by omega) (nI x) (by show _ = (if _ then nI x else _); rw [← hfd, if_pos ⟨c_5, Or.inl c_6⟩]) _ _ hP hD hS ls (lv_sub hl [3, 4, 1, 0] rfl)
            · have hbo := bst_ok (gv pl ms n v) x
              rw [← hfd] at hbo
              rcases hbo with e9 | ⟨f, hf, e9⟩
              · exact absurd (by rw [e9]; exact m2_lt0) c_6
              · subst e9
                have hsf := hs1.1 f (by omega)
                refine lv_aload_n hx hb dX0_best_53 rfl (lv_at hl 1 rfl) ?_
                refine xg6 S hK hP dX0_best_54 ?_
                refine lv_iload hx hb dX0_best_57 (lv_at hl 0 rfl) ?_
                refine xl6 S hK hP (by omega) dX0_best_59 ?_
                refine zz_set (y := (gv pl ms n v x).2.1) hsx.2.1 ?_
                refine lv_aload_n hx hb dX0_best_60 rfl (lv_at hl 1 rfl) ?_
                refine xg6 S hK hP dX0_best_61 ?_
                refine lv_sipush (v := nI 192) hx hb dX0_best_64 (by decide +kernel) ?_
                refine lv_iload_n hx hb dX0_best_67 rfl (lv_at hl 2 rfl) ?_
                refine zz_mul hx hb dX0_best_68 ?_
                refine lv_iload_n hx hb dX0_best_69 rfl (lv_at hl 3 rfl) ?_
                refine zz_add hx hb dX0_best_70 ?_
                refine xl6 S hK hP (by omega) dX0_best_71 ?_
                refine zz_set (y := (gv pl ms n v f).2.1) hsf.2.1 ?_
                refine lv_icmp_le (tgt := 78) hx hb dX0_best_72 (by decide) (fun c_7 => ?_) (fun c_7 => ?_)
                · refine lv_iinc (v := nI (x + 1)) (lv' := [(4, .int (nI (x + 1))), (5, .int (nI ((192 * sl) + x))), (0, .ref h), (2, .int (nI sl)), (3, .int (nI f))]) hx hb dX0_best_78 hl (k := 4) rfl (by exact nI_1 _) (by decide) rfl (fun ls hl => ?_)
                  refine lv_goto (tgt := 21) hx hb dX0_best_81 (by decide) ?_
                  exact ih (x + 1) (by omega) (by omega) (nI f) (by show _ = (if _ then nI x else _); rw [← hfd, if_neg (fun h9 => h9.2.elim c_6 (by rw [pN_nI (by omega)]; exact Int32.not_lt.mpr c_7))]) _ _ hP hD hS ls (lv_sub hl [2, 3, 4, 0] rfl)
                · refine lv_iload hx hb dX0_best_75 (lv_at hl 4 rfl) ?_
                  refine lv_istore_n (lv' := [(3, .int (nI x)), (5, .int (nI ((192 * sl) + x))), (0, .ref h), (2, .int (nI sl)), (4, .int (nI x))]) hx hb dX0_best_77 rfl hl (by decide) rfl (fun ls hl => ?_)
                  refine lv_iinc (v := nI (x + 1)) (lv' := [(4, .int (nI (x + 1))), (3, .int (nI x)), (5, .int (nI ((192 * sl) + x))), (0, .ref h), (2, .int (nI sl))]) hx hb dX0_best_78 hl (k := 4) rfl (by exact nI_1 _) (by decide) rfl (fun ls hl => ?_)
                  refine lv_goto (tgt := 21) hx hb dX0_best_81 (by decide) ?_
                  exact ih (x + 1) (by omega) (by omega) (nI x) (by show _ = (if _ then nI x else _); rw [← hfd, if_pos ⟨c_5, Or.inr (by rw [pN_nI (by omega)]; exact Int32.not_le.mp c_7)⟩]) _ _ hP hD hS ls (lv_sub hl [3, 4, 1, 0] rfl)
    refine lv_istore_n (lv' := [(2, .int (nI sl)), (0, .ref h), (1, .int (nI v))]) hx hb dX0_best_14 rfl hl (by decide) rfl (fun ls hl => ?_)
    refine lv_bipush (v := (-2)) hx hb dX0_best_15 (by decide +kernel) ?_
    refine lv_istore_n (lv' := [(3, .int ((-2))), (2, .int (nI sl)), (0, .ref h), (1, .int (nI v))]) hx hb dX0_best_17 rfl hl (by decide) rfl (fun ls hl => ?_)
    refine lv_iconst (v := nI 0) hx hb dX0_best_18 (by decide +kernel) ?_
    refine lv_istore (lv' := [(4, .int (nI 0)), (3, .int ((-2))), (2, .int (nI sl)), (0, .ref h), (1, .int (nI v))]) hx hb dX0_best_19 hl (by decide) rfl (fun ls hl => ?_)
    exact loop 193 0 (by omega) (by omega) (-2) rfl _ _ hP hD hS ls (lv_sub hl [3, 2, 1, 0] rfl)
  · refine lv_iconst (v := (-1)) hx hb dX0_best_7 (by decide +kernel) ?_
    exact hret _ _ _ _ _ (pl, ms, sv, sf, su, cn, sm, lo, hi, nI n, k) ⟨by unfold sBest; rw [if_neg c_1], ⟨_, _, _, _, _, _, _, _, rfl, hI⟩⟩ hP hD hS dX0_best_8
abbrev rmX0_having : Room := { frames := 5, cells := 0, slots := 0, locals := 120 }
set_option maxHeartbeats 4000000 in
set_option maxRecDepth 100000 in
theorem metX0_having (l : Launch) (D : va_G) (dA : ClassId) (h : Nat) (q : Nat → Nat) (pl ms sv sf su cn sm lo hi : Nat → Int32) (n : Nat) (k : Int32) (hI : XI pl ms n sv sf cn sm lo hi) (a b : Int32) : CI l yX0_having cX0_having 6 rmX0_having D dA (XV h q dA) (pl, ms, sv, sf, su, cn, sm, lo, hi, nI n, k) [.ref h, .int a, .int b] (fun r u => r = sHaving pl ms n a b ∧ XU (pl, ms, n) u) := by
  refine CI.mk (own := RX0) (by decide) rfl (Nat.le_of_ble_eq_true rfl) ?_
  intro p e s m args below meth c Q A H locs ls S hK hA hP hD hS hl hret
  have hx := S.1
  have hb := S.2.1
  have hP : va_P D vwCl (XW h q dA pl ms sv sf su cn sm lo hi (nI n) k) H := hP
  have hD : va_D A (XW h q dA pl ms sv sf su cn sm lo hi (nI n) k) := hD
  have hl : lv_has ls 6 [(0, .ref h), (1, .int a), (2, .int b)] := hl
  have hn40 := hI.1.1
  refine lv_iload_n hx hb dX0_having_0 rfl (lv_at hl 1 rfl) ?_
  refine zz_callS (As := [.int a]) (rest := []) S (metX0_isView l a) gw_X0_66 hd_X0_isView rfl rfl ⟨Nat.le_of_ble_eq_true rfl, Nat.le_of_ble_eq_true rfl⟩ rfl hl.1 rfl (Nat.le_of_ble_eq_true rfl) dX0_having_1 ⟨Nat.zero_le _, Nat.zero_le _⟩ (fun r_1 er_1 => ?_)
  subst er_1
  refine zz_bne (tgt := 9) hx hb dX0_having_4 (by decide) (fun c_1 => ?_) (fun c_1 => ?_)
  · obtain ⟨v, hv, rfl⟩ := okV_N c_1
    refine lv_aload_n hx hb dX0_having_9 rfl (lv_at hl 0 rfl) ?_
    refine lv_iload_n hx hb dX0_having_10 rfl (lv_at hl 1 rfl) ?_
    refine zz_callI (V := XV h q dA) (u := (pl, ms, sv, sf, su, cn, sm, lo, hi, nI n, k)) (As := [.int (nI v)]) (rest := []) S (metX0_slotFor l D dA h q pl ms sv sf su cn sm lo hi n k hI v hv) gw_X0_73 hd_X0_slotFor rfl rfl ⟨Nat.le_of_ble_eq_true rfl, Nat.le_of_ble_eq_true rfl⟩ rfl hl.1 rfl (Nat.le_of_ble_eq_true rfl) dX0_having_11 ⟨Nat.zero_le _, Nat.zero_le _⟩ hK hA hP hD hS (ci := 0) rfl rfl rfl (fun r_ u_ H locs hu_ hP hD hS => ?_)
    obtain ⟨sl, sv1, sf1, su1, cn1, sm1, lo1, hi1, k1, rfl, hsl, rfl, hI1, hs1⟩ := hu_
    have hP : va_P D vwCl (XW h q dA pl ms sv1 sf1 su1 cn1 sm1 lo1 hi1 (nI n) k1) H := hP
    have hD : va_D A (XW h q dA pl ms sv1 sf1 su1 cn1 sm1 lo1 hi1 (nI n) k1) := hD
    have loop : ∀ (d x : Nat), 193 ≤ x + d → x ≤ 192 → ∀ (H : Heap) (locs : List Loc), va_P D vwCl (XW h q dA pl ms sv1 sf1 su1 cn1 sm1 lo1 hi1 (nI n) k1) H → va_D A (XW h q dA pl ms sv1 sf1 su1 cn1 sm1 lo1 hi1 (nI n) k1) → va_S A s.heap H locs → ∀ ls : Array Slot, lv_has ls 6 [(0, .ref h), (2, .int b), (3, .int (nI sl)), (4, .int (nI (hvG (gv pl ms n v) b x))), (5, .int (nI (192 * sl + x)))] → W p l e rmX0_having s m args below meth c H locs 0 0 Q (F0 m 25 ls []) := by
      intro d
      induction d with
      | zero => intro x h1 h2; exact absurd h1 (by omega)
      | succ d ih =>
        intro x h1 h2 H locs hP hD hS ls hl
        refine lv_iload hx hb dX0_having_25 (lv_at hl 4 rfl) ?_
        refine lv_sipush (v := nI 192) hx hb dX0_having_27 (by decide +kernel) ?_
        refine lv_iload_n hx hb dX0_having_30 rfl (lv_at hl 2 rfl) ?_
        refine zz_mul hx hb dX0_having_31 ?_
        refine lv_sipush (v := nI 192) hx hb dX0_having_32 (by decide +kernel) ?_
        refine zz_add hx hb dX0_having_35 ?_
        refine zz_ge (tgt := 76) hx hb dX0_having_36 (by decide) (by omega) (by omega) (fun c_4 => ?_) (fun c_4 => ?_)
        · have hi : 192 = x := by omega
          subst hi
          refine lv_iload hx hb dX0_having_76 (lv_at hl 3 rfl) ?_
          exact hret _ _ _ _ _ (pl, ms, sv1, sf1, su1, cn1, sm1, lo1, hi1, nI n, k1) ⟨(sHaving_N hv).symm, ⟨_, _, _, _, _, _, _, _, rfl, hI1⟩⟩ hP hD hS dX0_having_78
        · have hgl := gv_le pl ms n v x
          have hsx := hs1.1 x (by omega)
          refine lv_iload hx hb dX0_having_39 (lv_at hl 3 rfl) ?_
          refine lv_aload_n hx hb dX0_having_41 rfl (lv_at hl 0 rfl) ?_
          refine xg5 S hK hP dX0_having_42 ?_
          refine lv_iload hx hb dX0_having_45 (lv_at hl 4 rfl) ?_
          refine xl5 S hK hP (by omega) dX0_having_47 ?_
          refine zz_set (y := nI ((gv pl ms n v x).1)) hsx.1 ?_
          refine zz_if_le (tgt := 66) hx hb dX0_having_48 (by decide) (by omega) (fun c_5 => ?_) (fun c_5 => ?_)
          · refine lv_iconst (v := nI 0) hx hb dX0_having_66 (by decide +kernel) ?_
            refine zz_add hx hb dX0_having_67 ?_
            refine lv_istore (lv' := [(4, .int (nI ((hvG (gv pl ms n v) b x) + 0))), (0, .ref h), (2, .int b), (3, .int (nI sl)), (5, .int (nI (192 * sl + x)))]) hx hb dX0_having_68 hl (by decide) rfl (fun ls hl => ?_)
            refine lv_iinc (v := nI (192 * sl + x + 1)) (lv' := [(5, .int (nI (192 * sl + x + 1))), (4, .int (nI ((hvG (gv pl ms n v) b x) + 0))), (0, .ref h), (2, .int b), (3, .int (nI sl))]) hx hb dX0_having_70 hl (k := 4) rfl (by exact nI_1 _) (by decide) rfl (fun ls hl => ?_)
            refine lv_goto (tgt := 25) hx hb dX0_having_73 (by decide) ?_
            exact ih (x + 1) (by omega) (by omega) _ _ hP hD hS ls (by rw [show hvG (gv pl ms n v) b (x + 1) = (hvG (gv pl ms n v) b x) + 0 from (by show _ + (if _ then 1 else 0) = _; rw [if_neg (fun h9 => absurd h9.1 (by omega))])]; exact lv_sub hl [2, 3, 4, 1, 0] rfl)
          · refine lv_aload_n hx hb dX0_having_51 rfl (lv_at hl 0 rfl) ?_
            refine xg6 S hK hP dX0_having_52 ?_
            refine lv_iload hx hb dX0_having_55 (lv_at hl 4 rfl) ?_
            refine xl6 S hK hP (by omega) dX0_having_57 ?_
            refine zz_set (y := (gv pl ms n v x).2.1) hsx.2.1 ?_
            refine lv_iload_n hx hb dX0_having_58 rfl (lv_at hl 1 rfl) ?_
            refine lv_icmp_lt (tgt := 66) hx hb dX0_having_59 (by decide) (fun c_6 => ?_) (fun c_6 => ?_)
            · refine lv_iconst (v := nI 0) hx hb dX0_having_66 (by decide +kernel) ?_
              refine zz_add hx hb dX0_having_67 ?_
              refine lv_istore (lv' := [(4, .int (nI ((hvG (gv pl ms n v) b x) + 0))), (0, .ref h), (2, .int b), (3, .int (nI sl)), (5, .int (nI (192 * sl + x)))]) hx hb dX0_having_68 hl (by decide) rfl (fun ls hl => ?_)
              refine lv_iinc (v := nI (192 * sl + x + 1)) (lv' := [(5, .int (nI (192 * sl + x + 1))), (4, .int (nI ((hvG (gv pl ms n v) b x) + 0))), (0, .ref h), (2, .int b), (3, .int (nI sl))]) hx hb dX0_having_70 hl (k := 4) rfl (by exact nI_1 _) (by decide) rfl (fun ls hl => ?_)
              refine lv_goto (tgt := 25) hx hb dX0_having_73 (by decide) ?_
              exact ih (x + 1) (by omega) (by omega) _ _ hP hD hS ls (by rw [show hvG (gv pl ms n v) b (x + 1) = (hvG (gv pl ms n v) b x) + 0 from (by show _ + (if _ then 1 else 0) = _; rw [if_neg (fun h9 => h9.2 c_6)])]; exact lv_sub hl [2, 3, 4, 1, 0] rfl)
            · refine lv_iconst (v := nI 1) hx hb dX0_having_62 (by decide +kernel) ?_
              refine lv_goto (tgt := 67) hx hb dX0_having_63 (by decide) ?_
              refine zz_add hx hb dX0_having_67 ?_
              refine lv_istore (lv' := [(4, .int (nI ((hvG (gv pl ms n v) b x) + 1))), (0, .ref h), (2, .int b), (3, .int (nI sl)), (5, .int (nI (192 * sl + x)))]) hx hb dX0_having_68 hl (by decide) rfl (fun ls hl => ?_)
              refine lv_iinc (v := nI (192 * sl + x + 1)) (lv' := [(5, .int (nI (192 * sl + x + 1))), (4, .int (nI ((hvG (gv pl ms n v) b x) + 1))), (0, .ref h), (2, .int b), (3, .int (nI sl))]) hx hb dX0_having_70 hl (k := 4) rfl (by exact nI_1 _) (by decide) rfl (fun ls hl => ?_)
              refine lv_goto (tgt := 25) hx hb dX0_having_73 (by decide) ?_
              exact ih (x + 1) (by omega) (by omega) _ _ hP hD hS ls (by rw [show hvG (gv pl ms n v) b (x + 1) = (hvG (gv pl ms n v) b x) + 1 from (by show _ + (if _ then 1 else 0) = _; rw [if_pos ⟨c_5, c_6⟩])]; exact lv_sub hl [2, 3, 4, 1, 0] rfl)
    refine lv_istore_n (lv' := [(3, .int (nI sl)), (0, .ref h), (1, .int (nI v)), (2, .int b)]) hx hb dX0_having_14 rfl hl (by decide) rfl (fun ls hl => ?_)
    refine lv_iconst (v := nI 0) hx hb dX0_having_15 (by decide +kernel) ?_
    refine lv_istore (lv' := [(4, .int (nI 0)), (3, .int (nI sl)), (0, .ref h), (1, .int (nI v)), (2, .int b)]) hx hb dX0_having_16 hl (by decide) rfl (fun ls hl => ?_)
    refine lv_sipush (v := nI 192) hx hb dX0_having_18 (by decide +kernel) ?_
    refine lv_iload_n hx hb dX0_having_21 rfl (lv_at hl 1 rfl) ?_
    refine zz_mul hx hb dX0_having_22 ?_
    refine lv_istore (lv' := [(5, .int (nI (192 * sl))), (4, .int (nI 0)), (3, .int (nI sl)), (0, .ref h), (1, .int (nI v)), (2, .int b)]) hx hb dX0_having_23 hl (by decide) rfl (fun ls hl => ?_)
    exact loop 193 0 (by omega) (by omega) _ _ hP hD hS ls (lv_sub hl [3, 5, 2, 1, 0] rfl)
  · refine lv_iconst (v := (-1)) hx hb dX0_having_7 (by decide +kernel) ?_
    exact hret _ _ _ _ _ (pl, ms, sv, sf, su, cn, sm, lo, hi, nI n, k) ⟨by unfold sHaving; rw [if_neg c_1], ⟨_, _, _, _, _, _, _, _, rfl, hI⟩⟩ hP hD hS dX0_having_8
abbrev rmX0_finer : Room := { frames := 1, cells := 0, slots := 0, locals := 24 }
set_option maxHeartbeats 4000000 in
set_option maxRecDepth 100000 in
theorem metX0_finer (l : Launch) (D : va_G) (dA : ClassId) (h : Nat) (q : Nat → Nat) (pl ms sv sf su cn sm lo hi : Nat → Int32) (n : Nat) (k : Int32) (hI : XI pl ms n sv sf cn sm lo hi) (a b : Int32) : CI l yX0_finer cX0_finer 3 rmX0_finer D dA (XV h q dA) (pl, ms, sv, sf, su, cn, sm, lo, hi, nI n, k) [.ref h, .int a, .int b] (fun r u => r = sFiner a b ∧ XU (pl, ms, n) u) := by
  refine CI.mk (own := RX0) (by decide) rfl (Nat.le_of_ble_eq_true rfl) ?_
  intro p e s m args below meth c Q A H locs ls S hK hA hP hD hS hl hret
  have hx := S.1
  have hb := S.2.1
  have hP : va_P D vwCl (XW h q dA pl ms sv sf su cn sm lo hi (nI n) k) H := hP
  have hD : va_D A (XW h q dA pl ms sv sf su cn sm lo hi (nI n) k) := hD
  have hl : lv_has ls 3 [(0, .ref h), (1, .int a), (2, .int b)] := hl
  refine lv_iload_n hx hb dX0_finer_0 rfl (lv_at hl 1 rfl) ?_
  refine zz_callS (As := [.int a]) (rest := []) S (metX0_isView l a) gw_X0_66 hd_X0_isView rfl rfl ⟨Nat.le_of_ble_eq_true rfl, Nat.le_of_ble_eq_true rfl⟩ rfl hl.1 rfl (Nat.le_of_ble_eq_true rfl) dX0_finer_1 ⟨Nat.zero_le _, Nat.zero_le _⟩ (fun r_1 er_1 => ?_)
  subst er_1
  refine zz_beq (tgt := 14) hx hb dX0_finer_4 (by decide) (fun c_1 => ?_) (fun c_1 => ?_)
  · refine lv_iconst (v := (-1)) hx hb dX0_finer_14 (by decide +kernel) ?_
    exact hret _ _ _ _ _ (pl, ms, sv, sf, su, cn, sm, lo, hi, nI n, k) ⟨by unfold sFiner; rw [if_neg (fun h9 => c_1 h9.1)], ⟨_, _, _, _, _, _, _, _, rfl, hI⟩⟩ hP hD hS dX0_finer_15
  · obtain ⟨f, hf, rfl⟩ := okV_N c_1
    refine lv_iload_n hx hb dX0_finer_7 rfl (lv_at hl 2 rfl) ?_
    refine zz_callS (As := [.int b]) (rest := []) S (metX0_isView l b) gw_X0_66 hd_X0_isView rfl rfl ⟨Nat.le_of_ble_eq_true rfl, Nat.le_of_ble_eq_true rfl⟩ rfl hl.1 rfl (Nat.le_of_ble_eq_true rfl) dX0_finer_8 ⟨Nat.zero_le _, Nat.zero_le _⟩ (fun r_2 er_2 => ?_)
    subst er_2
    refine zz_bne (tgt := 16) hx hb dX0_finer_11 (by decide) (fun c_2 => ?_) (fun c_2 => ?_)
    · obtain ⟨v, hv, rfl⟩ := okV_N c_2
      refine lv_iload_n hx hb dX0_finer_16 rfl (lv_at hl 1 rfl) ?_
      refine lv_iload_n hx hb dX0_finer_17 rfl (lv_at hl 2 rfl) ?_
      refine zz_callS (As := [.int (nI f), .int (nI v)]) (rest := []) S (metX0_isFiner l f v hf hv) gw_X0_76 hd_X0_isFiner rfl rfl ⟨Nat.le_of_ble_eq_true rfl, Nat.le_of_ble_eq_true rfl⟩ rfl hl.1 rfl (Nat.le_of_ble_eq_true rfl) dX0_finer_18 ⟨Nat.zero_le _, Nat.zero_le _⟩ (fun r_3 er_3 => ?_)
      subst er_3
      refine zz_beq (tgt := 28) hx hb dX0_finer_21 (by decide) (fun c_3 => ?_) (fun c_3 => ?_)
      · refine lv_iconst (v := nI 0) hx hb dX0_finer_28 (by decide +kernel) ?_
        exact hret _ _ _ _ _ (pl, ms, sv, sf, su, cn, sm, lo, hi, nI n, k) ⟨by rw [sFiner_N hf hv]; exact b1_F c_3, ⟨_, _, _, _, _, _, _, _, rfl, hI⟩⟩ hP hD hS dX0_finer_29
      · refine lv_iconst (v := nI 1) hx hb dX0_finer_24 (by decide +kernel) ?_
        refine lv_goto (tgt := 29) hx hb dX0_finer_25 (by decide) ?_
        exact hret _ _ _ _ _ (pl, ms, sv, sf, su, cn, sm, lo, hi, nI n, k) ⟨by rw [sFiner_N hf hv]; exact b1_T c_3, ⟨_, _, _, _, _, _, _, _, rfl, hI⟩⟩ hP hD hS dX0_finer_29
    · refine lv_iconst (v := (-1)) hx hb dX0_finer_14 (by decide +kernel) ?_
      exact hret _ _ _ _ _ (pl, ms, sv, sf, su, cn, sm, lo, hi, nI n, k) ⟨by unfold sFiner; rw [if_neg (fun h9 => c_2 h9.2)], ⟨_, _, _, _, _, _, _, _, rfl, hI⟩⟩ hP hD hS dX0_finer_15
abbrev rmX0_viewsWith : Room := { frames := 5, cells := 0, slots := 0, locals := 120 }
set_option maxHeartbeats 4000000 in
set_option maxRecDepth 100000 in
theorem metX0_viewsWith (l : Launch) (D : va_G) (dA : ClassId) (h : Nat) (q : Nat → Nat) (pl ms sv sf su cn sm lo hi : Nat → Int32) (n : Nat) (k : Int32) (hI : XI pl ms n sv sf cn sm lo hi) (a : Int32) : CI l yX0_viewsWith cX0_viewsWith 5 rmX0_viewsWith D dA (XV h q dA) (pl, ms, sv, sf, su, cn, sm, lo, hi, nI n, k) [.ref h, .int a] (fun r u => r = sViews pl ms n a ∧ XU (pl, ms, n) u) := by
  refine CI.mk (own := RX0) (by decide) rfl (Nat.le_of_ble_eq_true rfl) ?_
  intro p e s m args below meth c Q A H locs ls S hK hA hP hD hS hl hret
  have hx := S.1
  have hb := S.2.1
  have hP : va_P D vwCl (XW h q dA pl ms sv sf su cn sm lo hi (nI n) k) H := hP
  have hD : va_D A (XW h q dA pl ms sv sf su cn sm lo hi (nI n) k) := hD
  have hl : lv_has ls 5 [(0, .ref h), (1, .int a)] := hl
  refine lv_iload_n hx hb dX0_viewsWith_0 rfl (lv_at hl 1 rfl) ?_
  refine lv_if_lt (tgt := 11) hx hb dX0_viewsWith_1 (by decide) (fun c_1 => ?_) (fun c_1 => ?_)
  · refine lv_iconst (v := (-1)) hx hb dX0_viewsWith_11 (by decide +kernel) ?_
    exact hret _ _ _ _ _ (pl, ms, sv, sf, su, cn, sm, lo, hi, nI n, k) ⟨by unfold sViews; rw [if_neg (fun h9 => h9.1 c_1)], ⟨_, _, _, _, _, _, _, _, rfl, hI⟩⟩ hP hD hS dX0_viewsWith_12
  · refine lv_iload_n hx hb dX0_viewsWith_4 rfl (lv_at hl 1 rfl) ?_
    refine lv_sipush (v := nI 192) hx hb dX0_viewsWith_5 (by decide +kernel) ?_
    refine lv_icmp_le (tgt := 13) hx hb dX0_viewsWith_8 (by decide) (fun c_2 => ?_) (fun c_2 => ?_)
    · have hok : ¬ a < 0 ∧ ¬ nI 192 < a := ⟨c_1, Int32.not_lt.mpr c_2⟩
      have loop : ∀ (d v : Nat), 49 ≤ v + d → v ≤ 48 → ∀ (sv1 sf1 su1 cn1 sm1 lo1 hi1 : Nat → Int32) (k1 : Int32), XI pl ms n sv1 sf1 cn1 sm1 lo1 hi1 → ∀ (H : Heap) (locs : List Loc), va_P D vwCl (XW h q dA pl ms sv1 sf1 su1 cn1 sm1 lo1 hi1 (nI n) k1) H → va_D A (XW h q dA pl ms sv1 sf1 su1 cn1 sm1 lo1 hi1 (nI n) k1) → va_S A s.heap H locs → ∀ ls : Array Slot, lv_has ls 5 [(0, .ref h), (1, .int a), (2, .int (nI (vwN pl ms n a v))), (3, .int (nI v))] → W p l e rmX0_viewsWith s m args below meth c H locs 0 0 Q (F0 m 17 ls []) := by
        intro d
        induction d with
        | zero => intro x h1 h2; exact absurd h1 (by omega)
        | succ d ih =>
          intro v h1 h2 sv1 sf1 su1 cn1 sm1 lo1 hi1 k1 hI1 H locs hP hD hS ls hl
          refine lv_iload_n hx hb dX0_viewsWith_17 rfl (lv_at hl 3 rfl) ?_
          refine lv_bipush (v := nI 48) hx hb dX0_viewsWith_18 (by decide +kernel) ?_
          refine zz_ge (tgt := 55) hx hb dX0_viewsWith_20 (by decide) (by omega) (by omega) (fun c_4 => ?_) (fun c_4 => ?_)
          · have hi : 48 = v := by omega
            subst hi
            refine lv_iload_n hx hb dX0_viewsWith_55 rfl (lv_at hl 2 rfl) ?_
            exact hret _ _ _ _ _ (pl, ms, sv1, sf1, su1, cn1, sm1, lo1, hi1, nI n, k1) ⟨by unfold sViews; rw [if_pos hok], ⟨_, _, _, _, _, _, _, _, rfl, hI1⟩⟩ hP hD hS dX0_viewsWith_56
          · refine lv_aload_n hx hb dX0_viewsWith_23 rfl (lv_at hl 0 rfl) ?_
            refine lv_iload_n hx hb dX0_viewsWith_24 rfl (lv_at hl 3 rfl) ?_
            refine zz_callI (V := XV h q dA) (u := (pl, ms, sv1, sf1, su1, cn1, sm1, lo1, hi1, nI n, k1)) (As := [.int (nI v)]) (rest := []) S (metX0_slotFor l D dA h q pl ms sv1 sf1 su1 cn1 sm1 lo1 hi1 n k1 hI1 v c_4) gw_X0_73 hd_X0_slotFor rfl rfl ⟨Nat.le_of_ble_eq_true rfl, Nat.le_of_ble_eq_true rfl⟩ rfl hl.1 rfl (Nat.le_of_ble_eq_true rfl) dX0_viewsWith_25 ⟨Nat.zero_le _, Nat.zero_le _⟩ hK hA hP hD hS (ci := 0) rfl rfl rfl (fun r_ u_ H locs hu_ hP hD hS => ?_)
            obtain ⟨sl, sv2, sf2, su2, cn2, sm2, lo2, hi2, k2, rfl, hsl, rfl, hI2, hs2⟩ := hu_
            have hP : va_P D vwCl (XW h q dA pl ms sv2 sf2 su2 cn2 sm2 lo2 hi2 (nI n) k2) H := hP
            have hD : va_D A (XW h q dA pl ms sv2 sf2 su2 cn2 sm2 lo2 hi2 (nI n) k2) := hD
            refine lv_istore (lv' := [(4, .int (nI sl)), (0, .ref h), (1, .int a), (2, .int (nI (vwN pl ms n a v))), (3, .int (nI v))]) hx hb dX0_viewsWith_28 hl (by decide) rfl (fun ls hl => ?_)
            refine lv_iload_n hx hb dX0_viewsWith_30 rfl (lv_at hl 3 rfl) ?_
            refine lv_aload_n hx hb dX0_viewsWith_31 rfl (lv_at hl 1 rfl) ?_
            refine xg3 S hK hP dX0_viewsWith_32 ?_
            refine lv_iload hx hb dX0_viewsWith_35 (lv_at hl 0 rfl) ?_
            refine xl3 S hK hP (by omega) dX0_viewsWith_37 ?_
            refine zz_set (y := nI (ocG (gv pl ms n v) 192)) hs2.2 ?_
            refine lv_iload_n hx hb dX0_viewsWith_38 rfl (lv_at hl 2 rfl) ?_
            refine lv_icmp_ne (tgt := 46) hx hb dX0_viewsWith_39 (by decide) (fun c_5 => ?_) (fun c_5 => ?_)
            · refine lv_iconst (v := nI 0) hx hb dX0_viewsWith_46 (by decide +kernel) ?_
              refine zz_add hx hb dX0_viewsWith_47 ?_
              refine lv_istore_n (lv' := [(2, .int (nI ((vwN pl ms n a v) + 0))), (4, .int (nI sl)), (0, .ref h), (1, .int a), (3, .int (nI v))]) hx hb dX0_viewsWith_48 rfl hl (by decide) rfl (fun ls hl => ?_)
              refine lv_iinc (v := nI (v + 1)) (lv' := [(3, .int (nI (v + 1))), (2, .int (nI ((vwN pl ms n a v) + 0))), (4, .int (nI sl)), (0, .ref h), (1, .int a)]) hx hb dX0_viewsWith_49 hl (k := 4) rfl (by exact nI_1 _) (by decide) rfl (fun ls hl => ?_)
              refine lv_goto (tgt := 17) hx hb dX0_viewsWith_52 (by decide) ?_
              exact ih (v + 1) (by omega) (by omega) _ _ _ _ _ _ _ _ hI2 _ _ hP hD hS ls (by rw [show vwN pl ms n a (v + 1) = (vwN pl ms n a v) + 0 from (by show _ + (if _ then 1 else 0) = _; rw [if_neg c_5])]; exact lv_sub hl [3, 4, 1, 0] rfl)
            · refine lv_iconst (v := nI 1) hx hb dX0_viewsWith_42 (by decide +kernel) ?_
              refine lv_goto (tgt := 47) hx hb dX0_viewsWith_43 (by decide) ?_
              refine zz_add hx hb dX0_viewsWith_47 ?_
              refine lv_istore_n (lv' := [(2, .int (nI ((vwN pl ms n a v) + 1))), (4, .int (nI sl)), (0, .ref h), (1, .int a), (3, .int (nI v))]) hx hb dX0_viewsWith_48 rfl hl (by decide) rfl (fun ls hl => ?_)
              refine lv_iinc (v := nI (v + 1)) (lv' := [(3, .int (nI (v + 1))), (2, .int (nI ((vwN pl ms n a v) + 1))), (4, .int (nI sl)), (0, .ref h), (1, .int a)]) hx hb dX0_viewsWith_49 hl (k := 4) rfl (by exact nI_1 _) (by decide) rfl (fun ls hl => ?_)
              refine lv_goto (tgt := 17) hx hb dX0_viewsWith_52 (by decide) ?_
              exact ih (v + 1) (by omega) (by omega) _ _ _ _ _ _ _ _ hI2 _ _ hP hD hS ls (by rw [show vwN pl ms n a (v + 1) = (vwN pl ms n a v) + 1 from (by show _ + (if _ then 1 else 0) = _; rw [if_pos c_5])]; exact lv_sub hl [3, 4, 1, 0] rfl)
      refine lv_iconst (v := nI 0) hx hb dX0_viewsWith_13 (by decide +kernel) ?_
      refine lv_istore_n (lv' := [(2, .int (nI 0)), (0, .ref h), (1, .int a)]) hx hb dX0_viewsWith_14 rfl hl (by decide) rfl (fun ls hl => ?_)
      refine lv_iconst (v := nI 0) hx hb dX0_viewsWith_15 (by decide +kernel) ?_
      refine lv_istore_n (lv' := [(3, .int (nI 0)), (2, .int (nI 0)), (0, .ref h), (1, .int a)]) hx hb dX0_viewsWith_16 rfl hl (by decide) rfl (fun ls hl => ?_)
      exact loop 49 0 (by omega) (by omega) _ _ _ _ _ _ _ _ hI _ _ hP hD hS ls (lv_sub hl [2, 3, 1, 0] rfl)
    · refine lv_iconst (v := (-1)) hx hb dX0_viewsWith_11 (by decide +kernel) ?_
      exact hret _ _ _ _ _ (pl, ms, sv, sf, su, cn, sm, lo, hi, nI n, k) ⟨by unfold sViews; rw [if_neg (fun h9 => h9.2 (Int32.not_le.mp c_2))], ⟨_, _, _, _, _, _, _, _, rfl, hI⟩⟩ hP hD hS dX0_viewsWith_12
abbrev rmX0_put : Room := { frames := 3, cells := 0, slots := 0, locals := 69 }
set_option maxHeartbeats 4000000 in
set_option maxRecDepth 100000 in
theorem metX0_put (l : Launch) (D : va_G) (dA : ClassId) (h : Nat) (q : Nat → Nat) (pl ms sv sf su cn sm lo hi : Nat → Int32) (n : Nat) (k : Int32) (hI : XI pl ms n sv sf cn sm lo hi) (a b : Int32) : CI l yX0_put cX0_put 3 rmX0_put D dA (XV h q dA) (pl, ms, sv, sf, su, cn, sm, lo, hi, nI n, k) [.ref h, .int a, .int b] (fun r u => r = (pPut (pl, ms, n) a b).1 ∧ XU (pPut (pl, ms, n) a b).2 u) := by
  refine CI.mk (own := RX0) (by decide) rfl (Nat.le_of_ble_eq_true rfl) ?_
  intro p e s m args below meth c Q A H locs ls S hK hA hP hD hS hl hret
  have hx := S.1
  have hb := S.2.1
  have hP : va_P D vwCl (XW h q dA pl ms sv sf su cn sm lo hi (nI n) k) H := hP
  have hD : va_D A (XW h q dA pl ms sv sf su cn sm lo hi (nI n) k) := hD
  have hl : lv_has ls 3 [(0, .ref h), (1, .int a), (2, .int b)] := hl
  have hn40 := hI.1.1
  refine lv_iload_n hx hb dX0_put_0 rfl (lv_at hl 1 rfl) ?_
  refine zz_callS (As := [.int a]) (rest := []) S (metX0_isCell l a) gw_X0_41 hd_X0_isCell rfl rfl ⟨Nat.le_of_ble_eq_true rfl, Nat.le_of_ble_eq_true rfl⟩ rfl hl.1 rfl (Nat.le_of_ble_eq_true rfl) dX0_put_1 ⟨Nat.zero_le _, Nat.zero_le _⟩ (fun r_1 er_1 => ?_)
  subst er_1
  refine zz_bne (tgt := 9) hx hb dX0_put_4 (by decide) (fun c_1 => ?_) (fun c_1 => ?_)
  · refine lv_iload_n hx hb dX0_put_9 rfl (lv_at hl 2 rfl) ?_
    refine zz_callS (As := [.int b]) (rest := []) S (metX0_isMeasure l b) gw_X0_45 hd_X0_isMeasure rfl rfl ⟨Nat.le_of_ble_eq_true rfl, Nat.le_of_ble_eq_true rfl⟩ rfl hl.1 rfl (Nat.le_of_ble_eq_true rfl) dX0_put_10 ⟨Nat.zero_le _, Nat.zero_le _⟩ (fun r_2 er_2 => ?_)
    subst er_2
    refine zz_bne (tgt := 19) hx hb dX0_put_13 (by decide) (fun c_2 => ?_) (fun c_2 => ?_)
    · refine lv_aload_n hx hb dX0_put_19 rfl (lv_at hl 0 rfl) ?_
      refine xg9 S hK hP dX0_put_20 ?_
      refine lv_bipush (v := nI 40) hx hb dX0_put_23 (by decide +kernel) ?_
      refine zz_ne (tgt := 31) hx hb dX0_put_25 (by decide) (by omega) (by omega) (fun c_3 => ?_) (fun c_3 => ?_)
      · have hpp : pPut (pl, ms, n) a b = (nI n, addF (pl, ms, n) a b) := by unfold pPut; rw [if_pos c_1, if_pos c_2, if_neg (show ¬ n = 40 from c_3)]
        obtain ⟨pp, hp, rfl⟩ := okC_N c_1
        refine lv_aload_n hx hb dX0_put_31 rfl (lv_at hl 0 rfl) ?_
        refine lv_iload_n hx hb dX0_put_32 rfl (lv_at hl 1 rfl) ?_
        refine lv_iload_n hx hb dX0_put_33 rfl (lv_at hl 2 rfl) ?_
        refine zz_callV (V := XV h q dA) (u := (pl, ms, sv, sf, su, cn, sm, lo, hi, nI n, k)) (As := [.int (nI pp), .int b]) (rest := []) S (metX0_add l D dA h q pl ms sv sf su cn sm lo hi n k hI (by omega) pp hp b) gw_X0_52 hd_X0_add rfl rfl ⟨Nat.le_of_ble_eq_true rfl, Nat.le_of_ble_eq_true rfl⟩ rfl hl.1 rfl (Nat.le_of_ble_eq_true rfl) dX0_put_34 ⟨Nat.zero_le _, Nat.zero_le _⟩ hK hA hP hD hS (ci := 0) rfl rfl rfl (fun u_ H locs hu_ hP hD hS => ?_)
        obtain ⟨sf1, cn1, sm1, lo1, hi1, rfl, hI1⟩ := hu_
        have hP : va_P D vwCl (XW h q dA (upd pl n (nI pp)) (upd ms n b) sv sf1 su cn1 sm1 lo1 hi1 (nI (n + 1)) k) H := hP
        have hD : va_D A (XW h q dA (upd pl n (nI pp)) (upd ms n b) sv sf1 su cn1 sm1 lo1 hi1 (nI (n + 1)) k) := hD
        refine lv_aload_n hx hb dX0_put_37 rfl (lv_at hl 0 rfl) ?_
        refine xg9 S hK hP dX0_put_38 ?_
        refine lv_iconst (v := nI 1) hx hb dX0_put_41 (by decide +kernel) ?_
        refine zz_sub hx hb dX0_put_42 (by omega) ?_
        exact hret _ _ _ _ _ (upd pl n (nI pp), upd ms n b, sv, sf1, su, cn1, sm1, lo1, hi1, nI (n + 1), k) (by rw [hpp]; exact ⟨rfl, _, _, _, _, _, _, _, _, rfl, hI1⟩) hP hD hS dX0_put_43
      · refine lv_bipush (v := (-3)) hx hb dX0_put_28 (by decide +kernel) ?_
        exact hret _ _ _ _ _ (pl, ms, sv, sf, su, cn, sm, lo, hi, nI n, k) (by rw [show pPut (pl, ms, n) a b = (-3, (pl, ms, n)) by (unfold pPut; rw [if_pos c_1, if_pos c_2, if_pos (show n = 40 from c_3)])]; exact ⟨rfl, ⟨_, _, _, _, _, _, _, _, rfl, hI⟩⟩) hP hD hS dX0_put_30
    · refine lv_bipush (v := (-2)) hx hb dX0_put_16 (by decide +kernel) ?_
      exact hret _ _ _ _ _ (pl, ms, sv, sf, su, cn, sm, lo, hi, nI n, k) (by rw [show pPut (pl, ms, n) a b = (-2, (pl, ms, n)) by (unfold pPut; rw [if_pos c_1, if_neg c_2])]; exact ⟨rfl, ⟨_, _, _, _, _, _, _, _, rfl, hI⟩⟩) hP hD hS dX0_put_18
  · refine lv_iconst (v := (-1)) hx hb dX0_put_7 (by decide +kernel) ?_
    exact hret _ _ _ _ _ (pl, ms, sv, sf, su, cn, sm, lo, hi, nI n, k) (by rw [show pPut (pl, ms, n) a b = (-1, (pl, ms, n)) from if_neg c_1]; exact ⟨rfl, ⟨_, _, _, _, _, _, _, _, rfl, hI⟩⟩) hP hD hS dX0_put_8
abbrev rmX0_sow : Room := { frames := 3, cells := 0, slots := 0, locals := 69 }
set_option maxHeartbeats 4000000 in
set_option maxRecDepth 100000 in
theorem metX0_sow (l : Launch) (D : va_G) (dA : ClassId) (h : Nat) (q : Nat → Nat) (pl ms sv sf su cn sm lo hi : Nat → Int32) (n : Nat) (k : Int32) (hI : XI pl ms n sv sf cn sm lo hi) (a b x : Int32) : CI l yX0_sow cX0_sow 5 rmX0_sow D dA (XV h q dA) (pl, ms, sv, sf, su, cn, sm, lo, hi, nI n, k) [.ref h, .int a, .int b, .int x] (fun r u => r = (pSow (pl, ms, n) a b x).1 ∧ XU (pSow (pl, ms, n) a b x).2 u) := by
  refine CI.mk (own := RX0) (by decide) rfl (Nat.le_of_ble_eq_true rfl) ?_
  intro p e s m args below meth c Q A H locs ls S hK hA hP hD hS hl hret
  have hx := S.1
  have hb := S.2.1
  have hP : va_P D vwCl (XW h q dA pl ms sv sf su cn sm lo hi (nI n) k) H := hP
  have hD : va_D A (XW h q dA pl ms sv sf su cn sm lo hi (nI n) k) := hD
  have hl : lv_has ls 5 [(0, .ref h), (1, .int a), (2, .int b), (3, .int x)] := hl
  have hn40 := hI.1.1
  refine lv_iload_n hx hb dX0_sow_0 rfl (lv_at hl 1 rfl) ?_
  refine zz_callS (As := [.int a]) (rest := []) S (metX0_isCell l a) gw_X0_41 hd_X0_isCell rfl rfl ⟨Nat.le_of_ble_eq_true rfl, Nat.le_of_ble_eq_true rfl⟩ rfl hl.1 rfl (Nat.le_of_ble_eq_true rfl) dX0_sow_1 ⟨Nat.zero_le _, Nat.zero_le _⟩ (fun r_1 er_1 => ?_)
  subst er_1
  refine zz_bne (tgt := 9) hx hb dX0_sow_4 (by decide) (fun c_1 => ?_) (fun c_1 => ?_)
  · refine lv_iload_n hx hb dX0_sow_9 rfl (lv_at hl 2 rfl) ?_
    refine zz_callS (As := [.int b]) (rest := []) S (metX0_isCell l b) gw_X0_41 hd_X0_isCell rfl rfl ⟨Nat.le_of_ble_eq_true rfl, Nat.le_of_ble_eq_true rfl⟩ rfl hl.1 rfl (Nat.le_of_ble_eq_true rfl) dX0_sow_10 ⟨Nat.zero_le _, Nat.zero_le _⟩ (fun r_2 er_2 => ?_)
    subst er_2
    refine zz_bne (tgt := 19) hx hb dX0_sow_13 (by decide) (fun c_2 => ?_) (fun c_2 => ?_)
    · refine lv_iload_n hx hb dX0_sow_19 rfl (lv_at hl 3 rfl) ?_
      refine lv_iconst (v := nI 1) hx hb dX0_sow_20 (by decide +kernel) ?_
      refine lv_icmp_lt (tgt := 30) hx hb dX0_sow_21 (by decide) (fun c_5 => ?_) (fun c_5 => ?_)
      · refine lv_bipush (v := (-3)) hx hb dX0_sow_30 (by decide +kernel) ?_
        exact hret _ _ _ _ _ (pl, ms, sv, sf, su, cn, sm, lo, hi, nI n, k) (by rw [show pSow (pl, ms, n) a b x = (-3, (pl, ms, n)) by (unfold pSow; rw [if_pos c_1, if_pos c_2, if_neg (fun h9 => h9.1 c_5)])]; exact ⟨rfl, ⟨_, _, _, _, _, _, _, _, rfl, hI⟩⟩) hP hD hS dX0_sow_32
      · refine lv_iload_n hx hb dX0_sow_24 rfl (lv_at hl 3 rfl) ?_
        refine lv_bipush (v := nI 40) hx hb dX0_sow_25 (by decide +kernel) ?_
        refine lv_icmp_le (tgt := 33) hx hb dX0_sow_27 (by decide) (fun c_6 => ?_) (fun c_6 => ?_)
        · have hos : okS x := ⟨c_5, Int32.not_lt.mpr c_6⟩
          have hsow0 : pSow (pl, ms, n) a b x = (nI (sowF (pl, ms, n) (pN a) (pN b) (pN x)).2.2, sowF (pl, ms, n) (pN a) (pN b) (pN x)) := by unfold pSow; rw [if_pos c_1, if_pos c_2, if_pos hos]
          obtain ⟨sd, hsd, rfl⟩ := okC_N c_1
          obtain ⟨tp, htp, rfl⟩ := okC_N c_2
          obtain ⟨ct, hct1, hct2, rfl⟩ := okS_N hos
          rw [pN_nI (by omega), pN_nI (by omega), pN_nI (by omega)] at hsow0
          have loop : ∀ (d i : Nat), ct + 1 ≤ i + d → i ≤ ct → ∀ (pl2 ms2 : Nat → Int32) (n2 : Nat) (sf1 cn1 sm1 lo1 hi1 : Nat → Int32), (pl2, ms2, n2) = sowF (pl, ms, n) sd tp i → XI pl2 ms2 n2 sv sf1 cn1 sm1 lo1 hi1 → ∀ (H : Heap) (locs : List Loc), va_P D vwCl (XW h q dA pl2 ms2 sv sf1 su cn1 sm1 lo1 hi1 (nI n2) k) H → va_D A (XW h q dA pl2 ms2 sv sf1 su cn1 sm1 lo1 hi1 (nI n2) k) → va_S A s.heap H locs → ∀ ls : Array Slot, lv_has ls 5 [(0, .ref h), (1, .int (nI sd)), (2, .int (nI tp)), (3, .int (nI ct)), (4, .int (nI i))] → W p l e rmX0_sow s m args below meth c H locs 0 0 Q (F0 m 36 ls []) := by
            intro d
            induction d with
            | zero => intro i h1 h2; exact absurd h1 (by omega)
            | succ d ih =>
              intro i h1 h2 pl2 ms2 n2 sf1 cn1 sm1 lo1 hi1 hst hI1 H locs hP hD hS ls hl
              have hn2 := hI1.1.1
              refine lv_iload hx hb dX0_sow_36 (lv_at hl 4 rfl) ?_
              refine lv_iload_n hx hb dX0_sow_38 rfl (lv_at hl 3 rfl) ?_
              refine zz_ge (tgt := 91) hx hb dX0_sow_39 (by decide) (by omega) (by omega) (fun c_8 => ?_) (fun c_8 => ?_)
              · have hi : ct = i := by omega
                subst hi
                refine lv_aload_n hx hb dX0_sow_91 rfl (lv_at hl 0 rfl) ?_
                refine xg9 S hK hP dX0_sow_92 ?_
                exact hret _ _ _ _ _ (pl2, ms2, sv, sf1, su, cn1, sm1, lo1, hi1, nI n2, k) (by rw [hsow0, ← hst]; exact ⟨rfl, _, _, _, _, _, _, _, _, rfl, hI1⟩) hP hD hS dX0_sow_95
              · have hb1 : i * tp ≤ 40 * 191 := Nat.mul_le_mul (by omega) (by omega)
                have hb2 : i * i ≤ 40 * 40 := Nat.mul_le_mul (by omega) (by omega)
                refine lv_aload_n hx hb dX0_sow_42 rfl (lv_at hl 0 rfl) ?_
                refine xg9 S hK hP dX0_sow_43 ?_
                refine lv_bipush (v := nI 40) hx hb dX0_sow_46 (by decide +kernel) ?_
                refine zz_ge (tgt := 91) hx hb dX0_sow_48 (by decide) (by omega) (by omega) (fun c_9 => ?_) (fun c_9 => ?_)
                · have hfu : sowF (pl, ms, n) sd tp ct = sowF (pl, ms, n) sd tp i := by rw [show ct = i + (ct - i) by omega]; exact sow_full (by rw [← hst]; show ¬ n2 < 40; omega) _
                  refine lv_aload_n hx hb dX0_sow_91 rfl (lv_at hl 0 rfl) ?_
                  refine xg9 S hK hP dX0_sow_92 ?_
                  exact hret _ _ _ _ _ (pl2, ms2, sv, sf1, su, cn1, sm1, lo1, hi1, nI n2, k) (by rw [hsow0, hfu, ← hst]; exact ⟨rfl, _, _, _, _, _, _, _, _, rfl, hI1⟩) hP hD hS dX0_sow_95
                · refine lv_aload_n hx hb dX0_sow_51 rfl (lv_at hl 0 rfl) ?_
                  refine lv_iload_n hx hb dX0_sow_52 rfl (lv_at hl 1 rfl) ?_
                  refine lv_iload hx hb dX0_sow_53 (lv_at hl 4 rfl) ?_
                  refine lv_iload_n hx hb dX0_sow_55 rfl (lv_at hl 2 rfl) ?_
                  refine zz_mul hx hb dX0_sow_56 ?_
                  refine zz_add hx hb dX0_sow_57 ?_
                  refine lv_sipush (v := nI 192) hx hb dX0_sow_58 (by decide +kernel) ?_
                  refine zz_rem hx hb dX0_sow_61 (by omega) (by omega) (by omega) ?_
                  refine lv_iload_n hx hb dX0_sow_62 rfl (lv_at hl 1 rfl) ?_
                  refine lv_bipush (v := nI 7) hx hb dX0_sow_63 (by decide +kernel) ?_
                  refine zz_mul hx hb dX0_sow_65 ?_
                  refine lv_iload hx hb dX0_sow_66 (lv_at hl 4 rfl) ?_
                  refine lv_iload hx hb dX0_sow_68 (lv_at hl 4 rfl) ?_
                  refine zz_mul hx hb dX0_sow_70 ?_
                  refine lv_bipush (v := nI 11) hx hb dX0_sow_71 (by decide +kernel) ?_
                  refine zz_mul hx hb dX0_sow_73 ?_
                  refine zz_add hx hb dX0_sow_74 ?_
                  refine lv_sipush (v := nI 300) hx hb dX0_sow_75 (by decide +kernel) ?_
                  refine zz_rem hx hb dX0_sow_78 (by omega) (by omega) (by omega) ?_
                  refine lv_bipush (v := nI 100) hx hb dX0_sow_79 (by decide +kernel) ?_
                  refine lv_isub hx hb dX0_sow_81 ?_
                  refine zz_callV (V := XV h q dA) (u := (pl2, ms2, sv, sf1, su, cn1, sm1, lo1, hi1, nI n2, k)) (As := [.int (nI ((sd + (i * tp)) % 192)), .int ((nI (((sd * 7) + ((i * i) * 11)) % 300)) - (nI 100))]) (rest := []) S (metX0_add l D dA h q pl2 ms2 sv sf1 su cn1 sm1 lo1 hi1 n2 k hI1 (by omega) ((sd + (i * tp)) % 192) (Nat.mod_lt _ (by omega)) ((nI (((sd * 7) + ((i * i) * 11)) % 300)) - (nI 100))) gw_X0_52 hd_X0_add rfl rfl ⟨Nat.le_of_ble_eq_true rfl, Nat.le_of_ble_eq_true rfl⟩ rfl hl.1 rfl (Nat.le_of_ble_eq_true rfl) dX0_sow_82 ⟨Nat.zero_le _, Nat.zero_le _⟩ hK hA hP hD hS (ci := 0) rfl rfl rfl (fun u_ H locs hu_ hP hD hS => ?_)
                  obtain ⟨sf3, cn3, sm3, lo3, hi3, rfl, hI3⟩ := hu_
                  have hP : va_P D vwCl (XW h q dA (upd pl2 n2 (nI ((sd + (i * tp)) % 192))) (upd ms2 n2 ((nI (((sd * 7) + ((i * i) * 11)) % 300)) - (nI 100))) sv sf3 su cn3 sm3 lo3 hi3 (nI (n2 + 1)) k) H := hP
                  have hD : va_D A (XW h q dA (upd pl2 n2 (nI ((sd + (i * tp)) % 192))) (upd ms2 n2 ((nI (((sd * 7) + ((i * i) * 11)) % 300)) - (nI 100))) sv sf3 su cn3 sm3 lo3 hi3 (nI (n2 + 1)) k) := hD
                  refine lv_iinc (v := nI (i + 1)) (lv' := [(4, .int (nI (i + 1))), (0, .ref h), (1, .int (nI sd)), (2, .int (nI tp)), (3, .int (nI ct))]) hx hb dX0_sow_85 hl (k := 4) rfl (by exact nI_1 _) (by decide) rfl (fun ls hl => ?_)
                  refine lv_goto (tgt := 36) hx hb dX0_sow_88 (by decide) ?_
                  exact ih (i + 1) (by omega) (by omega) _ _ (n2 + 1) _ _ _ _ _ (by show _ = (if (sowF (pl, ms, n) sd tp i).2.2 < 40 then addF (sowF (pl, ms, n) sd tp i) _ _ else _); rw [← hst, if_pos (show n2 < 40 by omega)]; rfl) hI3 _ _ hP hD hS ls (lv_sub hl [1, 2, 3, 4, 0] rfl)
          refine lv_iconst (v := nI 0) hx hb dX0_sow_33 (by decide +kernel) ?_
          refine lv_istore (lv' := [(4, .int (nI 0)), (0, .ref h), (1, .int (nI sd)), (2, .int (nI tp)), (3, .int (nI ct))]) hx hb dX0_sow_34 hl (by decide) rfl (fun ls hl => ?_)
          exact loop (ct + 1) 0 (by omega) (by omega) pl ms n sf cn sm lo hi rfl hI _ _ hP hD hS ls (lv_sub hl [1, 2, 3, 4, 0] rfl)
        · refine lv_bipush (v := (-3)) hx hb dX0_sow_30 (by decide +kernel) ?_
          exact hret _ _ _ _ _ (pl, ms, sv, sf, su, cn, sm, lo, hi, nI n, k) (by rw [show pSow (pl, ms, n) a b x = (-3, (pl, ms, n)) by (unfold pSow; rw [if_pos c_1, if_pos c_2, if_neg (fun h9 => h9.2 (Int32.not_le.mp c_6))])]; exact ⟨rfl, ⟨_, _, _, _, _, _, _, _, rfl, hI⟩⟩) hP hD hS dX0_sow_32
    · refine lv_bipush (v := (-2)) hx hb dX0_sow_16 (by decide +kernel) ?_
      exact hret _ _ _ _ _ (pl, ms, sv, sf, su, cn, sm, lo, hi, nI n, k) (by rw [show pSow (pl, ms, n) a b x = (-2, (pl, ms, n)) by (unfold pSow; rw [if_pos c_1, if_neg c_2])]; exact ⟨rfl, ⟨_, _, _, _, _, _, _, _, rfl, hI⟩⟩) hP hD hS dX0_sow_18
  · refine lv_iconst (v := (-1)) hx hb dX0_sow_7 (by decide +kernel) ?_
    exact hret _ _ _ _ _ (pl, ms, sv, sf, su, cn, sm, lo, hi, nI n, k) (by rw [show pSow (pl, ms, n) a b x = (-1, (pl, ms, n)) from if_neg c_1]; exact ⟨rfl, ⟨_, _, _, _, _, _, _, _, rfl, hI⟩⟩) hP hD hS dX0_sow_8
abbrev rmX0_measure : Room := { frames := 2, cells := 0, slots := 0, locals := 48 }
set_option maxHeartbeats 4000000 in
set_option maxRecDepth 100000 in
theorem metX0_measure (l : Launch) (D : va_G) (dA : ClassId) (h : Nat) (q : Nat → Nat) (pl ms sv sf su cn sm lo hi : Nat → Int32) (n : Nat) (k : Int32) (hI : XI pl ms n sv sf cn sm lo hi) (a b : Int32) : CI l yX0_measure cX0_measure 4 rmX0_measure D dA (XV h q dA) (pl, ms, sv, sf, su, cn, sm, lo, hi, nI n, k) [.ref h, .int a, .int b] (fun r u => r = (pMeas (pl, ms, n) a b).1 ∧ XU (pMeas (pl, ms, n) a b).2 u) := by
  refine CI.mk (own := RX0) (by decide) rfl (Nat.le_of_ble_eq_true rfl) ?_
  intro p e s m args below meth c Q A H locs ls S hK hA hP hD hS hl hret
  have hx := S.1
  have hb := S.2.1
  have hP : va_P D vwCl (XW h q dA pl ms sv sf su cn sm lo hi (nI n) k) H := hP
  have hD : va_D A (XW h q dA pl ms sv sf su cn sm lo hi (nI n) k) := hD
  have hl : lv_has ls 4 [(0, .ref h), (1, .int a), (2, .int b)] := hl
  have hn40 := hI.1.1
  refine lv_aload_n hx hb dX0_measure_0 rfl (lv_at hl 0 rfl) ?_
  refine lv_iload_n hx hb dX0_measure_1 rfl (lv_at hl 1 rfl) ?_
  refine zz_callR (As := [.int a]) (rest := []) S (metX0_isFact l D dA h q pl ms sv sf su cn sm lo hi n k a) gw_X0_56 hd_X0_isFact rfl rfl ⟨Nat.le_of_ble_eq_true rfl, Nat.le_of_ble_eq_true rfl⟩ rfl hl.1 rfl (Nat.le_of_ble_eq_true rfl) dX0_measure_2 ⟨Nat.zero_le _, Nat.zero_le _⟩ hK hP (ci := 0) rfl rfl rfl (fun r_1 er_1 => ?_)
  subst er_1
  refine zz_bne (tgt := 10) hx hb dX0_measure_5 (by decide) (fun c_1 => ?_) (fun c_1 => ?_)
  · refine lv_iload_n hx hb dX0_measure_10 rfl (lv_at hl 2 rfl) ?_
    refine zz_callS (As := [.int b]) (rest := []) S (metX0_isMeasure l b) gw_X0_45 hd_X0_isMeasure rfl rfl ⟨Nat.le_of_ble_eq_true rfl, Nat.le_of_ble_eq_true rfl⟩ rfl hl.1 rfl (Nat.le_of_ble_eq_true rfl) dX0_measure_11 ⟨Nat.zero_le _, Nat.zero_le _⟩ (fun r_2 er_2 => ?_)
    subst er_2
    refine zz_bne (tgt := 20) hx hb dX0_measure_14 (by decide) (fun c_2 => ?_) (fun c_2 => ?_)
    · have hpp : pMeas (pl, ms, n) a b = (ms (pN a), (pl, upd ms (pN a) b, n)) := by unfold pMeas; rw [if_pos (show okF n a from c_1), if_pos c_2]
      obtain ⟨f, hf, rfl⟩ := okF_N (by omega) c_1
      rw [pN_nI (by omega)] at hpp
      refine lv_aload_n hx hb dX0_measure_20 rfl (lv_at hl 0 rfl) ?_
      refine xg1 S hK hP dX0_measure_21 ?_
      refine lv_iload_n hx hb dX0_measure_24 rfl (lv_at hl 1 rfl) ?_
      refine xl1 S hK hP (by omega) dX0_measure_25 ?_
      refine lv_istore_n (lv' := [(3, .int (ms f)), (0, .ref h), (1, .int (nI f)), (2, .int b)]) hx hb dX0_measure_26 rfl hl (by decide) rfl (fun ls hl => ?_)
      refine lv_aload_n hx hb dX0_measure_27 rfl (lv_at hl 1 rfl) ?_
      refine xg1 S hK hP dX0_measure_28 ?_
      refine lv_iload_n hx hb dX0_measure_31 rfl (lv_at hl 2 rfl) ?_
      refine lv_iload_n hx hb dX0_measure_32 rfl (lv_at hl 3 rfl) ?_
      refine xs1 S hK hP hD hS (by omega) dX0_measure_33 (fun H locs hP hD hS => ?_)
      refine lv_aload_n hx hb dX0_measure_34 rfl (lv_at hl 1 rfl) ?_
      refine zz_callV (V := XV h q dA) (u := (pl, upd ms f b, sv, sf, su, cn, sm, lo, hi, nI n, k)) (As := []) (rest := []) S (metX0_startAnew l D dA h q pl (upd ms f b) sv sf su cn sm lo hi n k hI.1 hI.2.1) gw_X0_59 hd_X0_startAnew rfl rfl ⟨Nat.le_of_ble_eq_true rfl, Nat.le_of_ble_eq_true rfl⟩ rfl hl.1 rfl (Nat.le_of_ble_eq_true rfl) dX0_measure_35 ⟨Nat.zero_le _, Nat.zero_le _⟩ hK hA hP hD hS (ci := 0) rfl rfl rfl (fun u_ H locs hu_ hP hD hS => ?_)
      obtain ⟨sv1, sf1, cn1, sm1, lo1, hi1, rfl, hI1⟩ := hu_
      have hP : va_P D vwCl (XW h q dA pl (upd ms f b) sv1 sf1 su cn1 sm1 lo1 hi1 (nI n) k) H := hP
      have hD : va_D A (XW h q dA pl (upd ms f b) sv1 sf1 su cn1 sm1 lo1 hi1 (nI n) k) := hD
      refine lv_iload_n hx hb dX0_measure_38 rfl (lv_at hl 0 rfl) ?_
      exact hret _ _ _ _ _ (pl, upd ms f b, sv1, sf1, su, cn1, sm1, lo1, hi1, nI n, k) (by rw [hpp]; exact ⟨rfl, _, _, _, _, _, _, _, _, rfl, hI1⟩) hP hD hS dX0_measure_39
    · refine lv_bipush (v := (-2)) hx hb dX0_measure_17 (by decide +kernel) ?_
      exact hret _ _ _ _ _ (pl, ms, sv, sf, su, cn, sm, lo, hi, nI n, k) (by rw [show pMeas (pl, ms, n) a b = (-2, (pl, ms, n)) by (unfold pMeas; rw [if_pos (show okF n a from c_1), if_neg c_2])]; exact ⟨rfl, ⟨_, _, _, _, _, _, _, _, rfl, hI⟩⟩) hP hD hS dX0_measure_19
  · refine lv_iconst (v := (-1)) hx hb dX0_measure_8 (by decide +kernel) ?_
    exact hret _ _ _ _ _ (pl, ms, sv, sf, su, cn, sm, lo, hi, nI n, k) (by rw [show pMeas (pl, ms, n) a b = (-1, (pl, ms, n)) from if_neg c_1]; exact ⟨rfl, ⟨_, _, _, _, _, _, _, _, rfl, hI⟩⟩) hP hD hS dX0_measure_9
abbrev rmX0_drop : Room := { frames := 2, cells := 0, slots := 0, locals := 48 }
set_option maxHeartbeats 4000000 in
set_option maxRecDepth 100000 in
theorem metX0_drop (l : Launch) (D : va_G) (dA : ClassId) (h : Nat) (q : Nat → Nat) (pl ms sv sf su cn sm lo hi : Nat → Int32) (n : Nat) (k : Int32) (hI : XI pl ms n sv sf cn sm lo hi) (a : Int32) : CI l yX0_drop cX0_drop 3 rmX0_drop D dA (XV h q dA) (pl, ms, sv, sf, su, cn, sm, lo, hi, nI n, k) [.ref h, .int a] (fun r u => r = (pDrop (pl, ms, n) a).1 ∧ XU (pDrop (pl, ms, n) a).2 u) := by
  refine CI.mk (own := RX0) (by decide) rfl (Nat.le_of_ble_eq_true rfl) ?_
  intro p e s m args below meth c Q A H locs ls S hK hA hP hD hS hl hret
  have hx := S.1
  have hb := S.2.1
  have hP : va_P D vwCl (XW h q dA pl ms sv sf su cn sm lo hi (nI n) k) H := hP
  have hD : va_D A (XW h q dA pl ms sv sf su cn sm lo hi (nI n) k) := hD
  have hl : lv_has ls 3 [(0, .ref h), (1, .int a)] := hl
  have hn40 := hI.1.1
  refine lv_aload_n hx hb dX0_drop_0 rfl (lv_at hl 0 rfl) ?_
  refine lv_iload_n hx hb dX0_drop_1 rfl (lv_at hl 1 rfl) ?_
  refine zz_callR (As := [.int a]) (rest := []) S (metX0_isFact l D dA h q pl ms sv sf su cn sm lo hi n k a) gw_X0_56 hd_X0_isFact rfl rfl ⟨Nat.le_of_ble_eq_true rfl, Nat.le_of_ble_eq_true rfl⟩ rfl hl.1 rfl (Nat.le_of_ble_eq_true rfl) dX0_drop_2 ⟨Nat.zero_le _, Nat.zero_le _⟩ hK hP (ci := 0) rfl rfl rfl (fun r_1 er_1 => ?_)
  subst er_1
  refine zz_bne (tgt := 10) hx hb dX0_drop_5 (by decide) (fun c_1 => ?_) (fun c_1 => ?_)
  · have hpp : pDrop (pl, ms, n) a = (nI (n - 1), (shf pl (pN a) (n - 1), shf ms (pN a) (n - 1), n - 1)) := if_pos c_1
    obtain ⟨f, hf, rfl⟩ := okF_N (by omega) c_1
    rw [pN_nI (by omega)] at hpp
    have loop : ∀ (d i : Nat), n ≤ i + d → f ≤ i → i + 1 ≤ n → ∀ (H : Heap) (locs : List Loc), va_P D vwCl (XW h q dA (shf pl f i) (shf ms f i) sv sf su cn sm lo hi (nI n) k) H → va_D A (XW h q dA (shf pl f i) (shf ms f i) sv sf su cn sm lo hi (nI n) k) → va_S A s.heap H locs → ∀ ls : Array Slot, lv_has ls 3 [(0, .ref h), (1, .int (nI f)), (2, .int (nI (i + 1)))] → W p l e rmX0_drop s m args below meth c H locs 0 0 Q (F0 m 14 ls []) := by
      intro d
      induction d with
      | zero => intro i h1 h2 h3; exact absurd h1 (by omega)
      | succ d ih =>
        intro i h1 h2 h3 H locs hP hD hS ls hl
        refine lv_iload_n hx hb dX0_drop_14 rfl (lv_at hl 2 rfl) ?_
        refine lv_aload_n hx hb dX0_drop_15 rfl (lv_at hl 0 rfl) ?_
        refine xg9 S hK hP dX0_drop_16 ?_
        refine zz_ge (tgt := 56) hx hb dX0_drop_19 (by decide) (by omega) (by omega) (fun c_8 => ?_) (fun c_8 => ?_)
        · have hie : n - 1 = i := by omega
          refine lv_aload_n hx hb dX0_drop_56 rfl (lv_at hl 0 rfl) ?_
          refine lv_dup hx hb dX0_drop_57 rfl ?_
          refine xg9 S hK hP dX0_drop_58 ?_
          refine lv_iconst (v := nI 1) hx hb dX0_drop_61 (by decide +kernel) ?_
          refine zz_sub hx hb dX0_drop_62 (by omega) ?_
          refine xp9 S hK hP hD hS dX0_drop_63 (fun H locs hP hD hS => ?_)
          refine lv_aload_n hx hb dX0_drop_66 rfl (lv_at hl 0 rfl) ?_
          refine zz_callV (V := XV h q dA) (u := (shf pl f i, shf ms f i, sv, sf, su, cn, sm, lo, hi, nI (n - 1), k)) (As := []) (rest := []) S (metX0_startAnew l D dA h q (shf pl f i) (shf ms f i) sv sf su cn sm lo hi (n - 1) k (by rw [← hie]; exact FW_drop (F := (pl, ms, n)) hI.1 hf) hI.2.1) gw_X0_59 hd_X0_startAnew rfl rfl ⟨Nat.le_of_ble_eq_true rfl, Nat.le_of_ble_eq_true rfl⟩ rfl hl.1 rfl (Nat.le_of_ble_eq_true rfl) dX0_drop_67 ⟨Nat.zero_le _, Nat.zero_le _⟩ hK hA hP hD hS (ci := 0) rfl rfl rfl (fun u_ H locs hu_ hP hD hS => ?_)
          obtain ⟨sv1, sf1, cn1, sm1, lo1, hi1, rfl, hI1⟩ := hu_
          have hP : va_P D vwCl (XW h q dA (shf pl f i) (shf ms f i) sv1 sf1 su cn1 sm1 lo1 hi1 (nI (n - 1)) k) H := hP
          have hD : va_D A (XW h q dA (shf pl f i) (shf ms f i) sv1 sf1 su cn1 sm1 lo1 hi1 (nI (n - 1)) k) := hD
          refine lv_aload_n hx hb dX0_drop_70 rfl (lv_at hl 0 rfl) ?_
          refine xg9 S hK hP dX0_drop_71 ?_
          exact hret _ _ _ _ _ (shf pl f i, shf ms f i, sv1, sf1, su, cn1, sm1, lo1, hi1, nI (n - 1), k) (by rw [hpp]; exact ⟨rfl, _, _, _, _, _, _, _, _, by rw [hie], by rw [hie] at hI1 ⊢; exact hI1⟩) hP hD hS dX0_drop_74
        · refine lv_aload_n hx hb dX0_drop_22 rfl (lv_at hl 0 rfl) ?_
          refine xg0 S hK hP dX0_drop_23 ?_
          refine lv_iload_n hx hb dX0_drop_26 rfl (lv_at hl 2 rfl) ?_
          refine lv_iconst (v := nI 1) hx hb dX0_drop_27 (by decide +kernel) ?_
          refine zz_sub hx hb dX0_drop_28 (by omega) ?_
          refine zz_set (y := nI i) (by rw [Nat.add_sub_cancel]) ?_
          refine lv_aload_n hx hb dX0_drop_29 rfl (lv_at hl 0 rfl) ?_
          refine xg0 S hK hP dX0_drop_30 ?_
          refine lv_iload_n hx hb dX0_drop_33 rfl (lv_at hl 2 rfl) ?_
          refine xl0 S hK hP (by omega) dX0_drop_34 ?_
          refine xs0 S hK hP hD hS (by omega) dX0_drop_35 (fun H locs hP hD hS => ?_)
          refine lv_aload_n hx hb dX0_drop_36 rfl (lv_at hl 0 rfl) ?_
          refine xg1 S hK hP dX0_drop_37 ?_
          refine lv_iload_n hx hb dX0_drop_40 rfl (lv_at hl 2 rfl) ?_
          refine lv_iconst (v := nI 1) hx hb dX0_drop_41 (by decide +kernel) ?_
          refine zz_sub hx hb dX0_drop_42 (by omega) ?_
          refine zz_set (y := nI i) (by rw [Nat.add_sub_cancel]) ?_
          refine lv_aload_n hx hb dX0_drop_43 rfl (lv_at hl 0 rfl) ?_
          refine xg1 S hK hP dX0_drop_44 ?_
          refine lv_iload_n hx hb dX0_drop_47 rfl (lv_at hl 2 rfl) ?_
          refine xl1 S hK hP (by omega) dX0_drop_48 ?_
          refine xs1 S hK hP hD hS (by omega) dX0_drop_49 (fun H locs hP hD hS => ?_)
          refine lv_iinc (v := nI (i + 1 + 1)) (lv' := [(2, .int (nI (i + 1 + 1))), (0, .ref h), (1, .int (nI f))]) hx hb dX0_drop_50 hl (k := 2) rfl (by exact nI_1 _) (by decide) rfl (fun ls hl => ?_)
          refine lv_goto (tgt := 14) hx hb dX0_drop_53 (by decide) ?_
          rw [shf_1 pl h2, shf_1 ms h2] at hP hD
          exact ih (i + 1) (by omega) (by omega) (by omega) _ _ hP hD hS ls (lv_sub hl [1, 2, 0] rfl)
    refine lv_iload_n hx hb dX0_drop_10 rfl (lv_at hl 1 rfl) ?_
    refine lv_iconst (v := nI 1) hx hb dX0_drop_11 (by decide +kernel) ?_
    refine zz_add hx hb dX0_drop_12 ?_
    refine lv_istore_n (lv' := [(2, .int (nI (f + 1))), (0, .ref h), (1, .int (nI f))]) hx hb dX0_drop_13 rfl hl (by decide) rfl (fun ls hl => ?_)
    exact loop n f (by omega) (by omega) (by omega) _ _ (by rw [shf_0, shf_0]; exact hP) (by rw [shf_0, shf_0]; exact hD) hS ls (lv_sub hl [1, 2, 0] rfl)
  · refine lv_iconst (v := (-1)) hx hb dX0_drop_8 (by decide +kernel) ?_
    exact hret _ _ _ _ _ (pl, ms, sv, sf, su, cn, sm, lo, hi, nI n, k) (by rw [show pDrop (pl, ms, n) a = (-1, (pl, ms, n)) from if_neg c_1]; exact ⟨rfl, ⟨_, _, _, _, _, _, _, _, rfl, hI⟩⟩) hP hD hS dX0_drop_9
end
section
/-! the constructors -/
def q9 (a0 a1 a2 a3 a4 a5 a6 a7 a8 : Nat) : Nat → Nat := fun i => match i with
  | 0 => a0
  | 1 => a1
  | 2 => a2
  | 3 => a3
  | 4 => a4
  | 5 => a5
  | 6 => a6
  | 7 => a7
  | _ => a8
def q2_ (a0 a1 : Nat) : Nat → Nat := fun i => match i with
  | 0 => a0
  | _ => a1
def zf : Nat → Int32 := fun _ => nI 0
/-- what a constructor is: from its fresh object to the world V u -/
def CN (l : Launch) (y : MethodName) (bytes : ByteArray) (maxL : Nat) (rm : Room) (D : va_G) (w0 : va_W) {T : Type} (V : T → va_W) (dA : T → ClassId) (h : Nat) (post : T → Prop) (mc ms : Nat) : Prop :=
  ∀ sz : Nat, Met l y (ws_ y bytes maxL none) rm (va_Pc [.ref h] (fun U => U.heap.size = sz ∧ va_P D vwCl w0 U.heap ∧ va_K D vwCl [] U ∧ va_D (fun _ => True) w0)) (va_Qv post (fun u t => va_P D vwCl (V u) t.heap ∧ va_K D vwCl [(dA u, .int)] t ∧ va_D (va_A w0 sz) (V u)) (va_A w0 sz)) mc ms (va_A w0 sz)
theorem dA_eq {D : va_G} {tys : List (ClassId × FieldType)} {s : State} (hK : va_K D vwCl tys s) (i j : Nat) {a b : ClassId} (hi : tys[i]? = some (a, .int)) (hj : tys[j]? = some (b, .int)) : a = b := by
  have h1 : s.vm.findClass _ = some a := (hK.2 i _ hi).2
  have h2 : s.vm.findClass _ = some b := (hK.2 j _ hj).2
  exact Option.some.inj (h1.symm.trans h2)
theorem XI_0 : XI zf zf 0 (wpT zf 1 4 (-1)) (upd zf 0 (nI 0)) (wpT zf (192 * 0) 192 (nI 0)) (wpT zf (192 * 0) 192 (nI 0)) (wpT zf (192 * 0) 192 (nI 10000)) (wpT zf (192 * 0) 192 (-10000)) :=
  SA_end ⟨by omega, fun i hi => absurd hi (by omega)⟩ rfl (SL_wipe zf zf zf zf zf 0)
section ZQ
variable {p : Program} {l : Launch} {e : Env} {R : Room} {s : State} {m : MethodId} {args : Array Value} {below : List Frame} {meth : Method} {c : Code} {H : Heap} {locs : List Loc} {cells slots : Nat} {Q : State → Prop}
theorem zz_Q {g : JFrame} (h : ∀ Q', Q' = Q → W p l e R s m args below meth c H locs cells slots Q' g) : W p l e R s m args below meth c H locs cells slots Q g := h Q rfl
end ZQ
abbrev rmX1_init : Room := { frames := 1, cells := 2, slots := 80, locals := 12 }
abbrev w0X1 (h : Nat) : va_W := [(h, .inr (1, [.null, .null, .int (nI 0)]))]
set_option maxHeartbeats 4000000 in
set_option maxRecDepth 100000 in
theorem metX1_init (l : Launch) (D : va_G) (h : Nat) : CN l yX1_init cX1_init 1 rmX1_init D (w0X1 h) (T := MT × (Nat → Nat) × ClassId) (fun (u : MT × (Nat → Nat) × ClassId) => MV h u.2.1 u.2.2 u.1) (fun u => u.2.2) h (fun u => u.1 = (zf, zf, nI 0)) 2 80 := by
  intro sz
  refine Met.ofW (cc := cX1_init) (maxL := 1) (ret := none) (by decide) rfl ?_
  intro p e s m args below meth c s₁ B hml hv
  obtain ⟨rfl, hsz, hP, hK, hD0⟩ := hv
  have hx := B.exec
  have hb := B.bytes
  have hr := B.returns
  have hts := atoms_spec (ws := ws_ yX1_init cX1_init 1 none) B.pre
  have hts : ∀ w ∈ lw_all, w.before _ s = true := fun w h => hts w (List.mem_cons_of_mem _ h)
  have hown : s.vm.findClass RX1 = some m.cls := findClass_of_methodNamed B.named
  have hlocks := B.notSynchronized
  have hin : meth.name = "<init>" := (name_of_methodNamed B.named B.method).1
  subst hsz
  have hD := hD0.self (sz := s.heap.size)
  generalize hAe : va_A (w0X1 h) s.heap.size = A at hD ⊢
  have hA : ∀ q : Nat, s.heap.size ≤ q → A q := fun q h => by rw [← hAe]; exact Or.inr h
  have hS : va_S A s.heap s.heap [] := va_S.rf
  have hl := lv_entry ([.ref h]) (n := 1) (Nat.le_of_ble_eq_true rfl)
  rw [lg_entry_eq]
  generalize (lg_sl ([.ref h]) ++ List.replicate (1 - (lg_sl ([.ref h])).length) Slot.unset).toArray = ls at hl ⊢
  generalize hargs : ([.ref h] : List Value).toArray = args at hts ⊢
  have S : CallFix p m c cX1_init 1 s args lw_all RX1 := ⟨hx, hb, hml, hown, hts⟩
  have hl : lv_has ls 1 [(0, .ref h)] := hl
  refine lv_aload_n hx hb dX1_init_0 rfl (lv_at hl 0 rfl) ?_
  refine W.objInit hx hb hown (hts _ q193) (hts _ q24) (hts _ q25) rfl (by rw [hml]; exact hl.1) rfl dX1_init_1 (Nat.le_of_ble_eq_true rfl) (Nat.le_of_ble_eq_true rfl) ?_
  refine W.eq (g2 := F0 m 4 ls []) rfl ?_
  refine lv_aload_n hx hb dX1_init_4 rfl (lv_at hl 0 rfl) ?_
  refine lv_bipush (v := nI 40) hx hb dX1_init_5 (by decide +kernel) ?_
  refine va_newa (atype := .int) (ty := .int) (a0 := (40, .inl zf)) hx hb (hts _ q64) rfl hK hP hD hS hA (fun _ => rfl) (nI_pos (by omega)) (nI_clamp (by omega)) (by decide) (Nat.le_of_ble_eq_true rfl) (Nat.le_of_ble_eq_true rfl) dX1_init_7 (fun a0 d0 H hK hP hD hS => ?_)
  obtain ⟨dA, rfl⟩ : ∃ dA, dA = d0 := ⟨_, rfl⟩
  have hK : va_K D vwCl [(dA, .int)] s := hK
  refine va_putF (D := D) (ci := 1) (v := .ref a0) (ty := .array .int) (C := RX1) (T := TX1) (N := 3) hx hb hts in_X1 tyX1 tyX1_ok nmX1 hown hK hP hD hS 0 rfl rfl 0 (by decide) (hts _ q194) (fun _ h9 => h9) rfl hin rfl (by decide +kernel) rfl rfl (Nat.le_of_ble_eq_true rfl) dX1_init_9 (fun H locs hP hD hS => ?_)
  have hP : va_P D vwCl [(h, .inr (1, [.ref a0, .null, .int (nI 0)])), (a0, .inl (dA, 40, .inl zf))] H := hP
  have hD : va_D A [(h, .inr (1, [.ref a0, .null, .int (nI 0)])), (a0, .inl (dA, 40, .inl zf))] := hD
  refine lv_aload_n hx hb dX1_init_12 rfl (lv_at hl 0 rfl) ?_
  refine lv_bipush (v := nI 40) hx hb dX1_init_13 (by decide +kernel) ?_
  refine va_newa (atype := .int) (ty := .int) (a0 := (40, .inl zf)) hx hb (hts _ q64) rfl hK hP hD hS hA (fun _ => rfl) (nI_pos (by omega)) (nI_clamp (by omega)) (by decide) (Nat.le_of_ble_eq_true rfl) (Nat.le_of_ble_eq_true rfl) dX1_init_15 (fun a1 d1 H hK hP hD hS => ?_)
  have ed : d1 = dA := dA_eq hK 1 0 rfl rfl
  rw [ed] at hK hP hD
  have hK : va_K D vwCl [(dA, .int)] s := hK.sub [0] rfl
  refine va_putF (D := D) (ci := 1) (v := .ref a1) (ty := .array .int) (C := RX1) (T := TX1) (N := 3) hx hb hts in_X1 tyX1 tyX1_ok nmX1 hown hK hP hD hS 0 rfl rfl 1 (by decide) (hts _ q195) (fun _ h9 => h9) rfl hin rfl (by decide +kernel) rfl rfl (Nat.le_of_ble_eq_true rfl) dX1_init_17 (fun H locs hP hD hS => ?_)
  have hP : va_P D vwCl [(h, .inr (1, [.ref a0, .ref a1, .int (nI 0)])), (a0, .inl (dA, 40, .inl zf)), (a1, .inl (dA, 40, .inl zf))] H := hP
  have hD : va_D A [(h, .inr (1, [.ref a0, .ref a1, .int (nI 0)])), (a0, .inl (dA, 40, .inl zf)), (a1, .inl (dA, 40, .inl zf))] := hD
  subst hAe
  exact W.vret hx hb hr (fun t ht hW => ⟨⟨((zf, zf, nI 0), q2_ a0 a1, dA), rfl, rfl, by rw [ht]; exact hP, va_K.moved hW.alike hK, hD⟩, hS.F ht⟩) hS.2.2 dX1_init_20
abbrev rmX0_init : Room := { frames := 1, cells := 9, slots := 3935, locals := 22 }
abbrev w0X0 (h : Nat) : va_W := [(h, .inr (0, [.null, .null, .null, .null, .null, .null, .null, .null, .null, .int (nI 0), .int (nI 0)]))]
set_option maxHeartbeats 4000000 in
set_option maxRecDepth 100000 in
theorem metX0_init (l : Launch) (D : va_G) (h : Nat) : CN l yX0_init cX0_init 2 rmX0_init D (w0X0 h) (T := XT × (Nat → Nat) × ClassId) (fun (u : XT × (Nat → Nat) × ClassId) => XV h u.2.1 u.2.2 u.1) (fun u => u.2.2) h (fun u => XU (zf, zf, 0) u.1) 9 3935 := by
  intro sz
  refine Met.ofW (cc := cX0_init) (maxL := 2) (ret := none) (by decide) rfl ?_
  intro p e s m args below meth c s₁ B hml hv
  obtain ⟨rfl, hsz, hP, hK, hD0⟩ := hv
  have hx := B.exec
  have hb := B.bytes
  have hr := B.returns
  have hts := atoms_spec (ws := ws_ yX0_init cX0_init 2 none) B.pre
  have hts : ∀ w ∈ lw_all, w.before _ s = true := fun w h => hts w (List.mem_cons_of_mem _ h)
  have hown : s.vm.findClass RX0 = some m.cls := findClass_of_methodNamed B.named
  have hlocks := B.notSynchronized
  have hin : meth.name = "<init>" := (name_of_methodNamed B.named B.method).1
  subst hsz
  have hD := hD0.self (sz := s.heap.size)
  generalize hAe : va_A (w0X0 h) s.heap.size = A at hD ⊢
  have hA : ∀ q : Nat, s.heap.size ≤ q → A q := fun q h => by rw [← hAe]; exact Or.inr h
  have hS : va_S A s.heap s.heap [] := va_S.rf
  have hl := lv_entry ([.ref h]) (n := 2) (Nat.le_of_ble_eq_true rfl)
  rw [lg_entry_eq]
  generalize (lg_sl ([.ref h]) ++ List.replicate (2 - (lg_sl ([.ref h])).length) Slot.unset).toArray = ls at hl ⊢
  generalize hargs : ([.ref h] : List Value).toArray = args at hts ⊢
  have S : CallFix p m c cX0_init 2 s args lw_all RX0 := ⟨hx, hb, hml, hown, hts⟩
  have hl : lv_has ls 2 [(0, .ref h)] := hl
  refine lv_aload_n hx hb dX0_init_0 rfl (lv_at hl 0 rfl) ?_
  refine W.objInit hx hb hown (hts _ q23) (hts _ q24) (hts _ q25) rfl (by rw [hml]; exact hl.1) rfl dX0_init_1 (Nat.le_of_ble_eq_true rfl) (Nat.le_of_ble_eq_true rfl) ?_
  refine W.eq (g2 := F0 m 4 ls []) rfl ?_
  refine lv_aload_n hx hb dX0_init_4 rfl (lv_at hl 0 rfl) ?_
  refine lv_bipush (v := nI 40) hx hb dX0_init_5 (by decide +kernel) ?_
  refine va_newa (atype := .int) (ty := .int) (a0 := (40, .inl zf)) hx hb (hts _ q64) rfl hK hP hD hS hA (fun _ => rfl) (nI_pos (by omega)) (nI_clamp (by omega)) (by decide) (Nat.le_of_ble_eq_true rfl) (Nat.le_of_ble_eq_true rfl) dX0_init_7 (fun a0 d0 H hK hP hD hS => ?_)
  obtain ⟨dA, rfl⟩ : ∃ dA, dA = d0 := ⟨_, rfl⟩
  have hK : va_K D vwCl [(dA, .int)] s := hK
  refine va_putF (D := D) (ci := 0) (v := .ref a0) (ty := .array .int) (C := RX0) (T := TX0) (N := 11) hx hb hts in_X0 tyX0 tyX0_ok nmX0 hown hK hP hD hS 0 rfl rfl 0 (by decide) (hts _ q30) (fun _ h9 => h9) rfl hin rfl (by decide +kernel) rfl rfl (Nat.le_of_ble_eq_true rfl) dX0_init_9 (fun H locs hP hD hS => ?_)
  have hP : va_P D vwCl [(h, .inr (0, [.ref a0, .null, .null, .null, .null, .null, .null, .null, .null, .int (nI 0), .int (nI 0)])), (a0, .inl (dA, 40, .inl zf))] H := hP
  have hD : va_D A [(h, .inr (0, [.ref a0, .null, .null, .null, .null, .null, .null, .null, .null, .int (nI 0), .int (nI 0)])), (a0, .inl (dA, 40, .inl zf))] := hD
  refine lv_aload_n hx hb dX0_init_12 rfl (lv_at hl 0 rfl) ?_
  refine lv_bipush (v := nI 40) hx hb dX0_init_13 (by decide +kernel) ?_
  refine va_newa (atype := .int) (ty := .int) (a0 := (40, .inl zf)) hx hb (hts _ q64) rfl hK hP hD hS hA (fun _ => rfl) (nI_pos (by omega)) (nI_clamp (by omega)) (by decide) (Nat.le_of_ble_eq_true rfl) (Nat.le_of_ble_eq_true rfl) dX0_init_15 (fun a1 d1 H hK hP hD hS => ?_)
  have ed : d1 = dA := dA_eq hK 1 0 rfl rfl
  rw [ed] at hK hP hD
  have hK : va_K D vwCl [(dA, .int)] s := hK.sub [0] rfl
  refine va_putF (D := D) (ci := 0) (v := .ref a1) (ty := .array .int) (C := RX0) (T := TX0) (N := 11) hx hb hts in_X0 tyX0 tyX0_ok nmX0 hown hK hP hD hS 0 rfl rfl 1 (by decide) (hts _ q31) (fun _ h9 => h9) rfl hin rfl (by decide +kernel) rfl rfl (Nat.le_of_ble_eq_true rfl) dX0_init_17 (fun H locs hP hD hS => ?_)
  have hP : va_P D vwCl [(h, .inr (0, [.ref a0, .ref a1, .null, .null, .null, .null, .null, .null, .null, .int (nI 0), .int (nI 0)])), (a0, .inl (dA, 40, .inl zf)), (a1, .inl (dA, 40, .inl zf))] H := hP
  have hD : va_D A [(h, .inr (0, [.ref a0, .ref a1, .null, .null, .null, .null, .null, .null, .null, .int (nI 0), .int (nI 0)])), (a0, .inl (dA, 40, .inl zf)), (a1, .inl (dA, 40, .inl zf))] := hD
  refine lv_aload_n hx hb dX0_init_20 rfl (lv_at hl 0 rfl) ?_
  refine lv_iconst (v := nI 5) hx hb dX0_init_21 (by decide +kernel) ?_
  refine va_newa (atype := .int) (ty := .int) (a0 := (5, .inl zf)) hx hb (hts _ q64) rfl hK hP hD hS hA (fun _ => rfl) (nI_pos (by omega)) (nI_clamp (by omega)) (by decide) (Nat.le_of_ble_eq_true rfl) (Nat.le_of_ble_eq_true rfl) dX0_init_22 (fun a2 d2 H hK hP hD hS => ?_)
  have ed : d2 = dA := dA_eq hK 1 0 rfl rfl
  rw [ed] at hK hP hD
  have hK : va_K D vwCl [(dA, .int)] s := hK.sub [0] rfl
  refine va_putF (D := D) (ci := 0) (v := .ref a2) (ty := .array .int) (C := RX0) (T := TX0) (N := 11) hx hb hts in_X0 tyX0 tyX0_ok nmX0 hown hK hP hD hS 0 rfl rfl 2 (by decide) (hts _ q32) (fun _ h9 => h9) rfl hin rfl (by decide +kernel) rfl rfl (Nat.le_of_ble_eq_true rfl) dX0_init_24 (fun H locs hP hD hS => ?_)
  have hP : va_P D vwCl [(h, .inr (0, [.ref a0, .ref a1, .ref a2, .null, .null, .null, .null, .null, .null, .int (nI 0), .int (nI 0)])), (a0, .inl (dA, 40, .inl zf)), (a1, .inl (dA, 40, .inl zf)), (a2, .inl (dA, 5, .inl zf))] H := hP
  have hD : va_D A [(h, .inr (0, [.ref a0, .ref a1, .ref a2, .null, .null, .null, .null, .null, .null, .int (nI 0), .int (nI 0)])), (a0, .inl (dA, 40, .inl zf)), (a1, .inl (dA, 40, .inl zf)), (a2, .inl (dA, 5, .inl zf))] := hD
  refine lv_aload_n hx hb dX0_init_27 rfl (lv_at hl 0 rfl) ?_
  refine lv_iconst (v := nI 5) hx hb dX0_init_28 (by decide +kernel) ?_
  refine va_newa (atype := .int) (ty := .int) (a0 := (5, .inl zf)) hx hb (hts _ q64) rfl hK hP hD hS hA (fun _ => rfl) (nI_pos (by omega)) (nI_clamp (by omega)) (by decide) (Nat.le_of_ble_eq_true rfl) (Nat.le_of_ble_eq_true rfl) dX0_init_29 (fun a3 d3 H hK hP hD hS => ?_)
  have ed : d3 = dA := dA_eq hK 1 0 rfl rfl
  rw [ed] at hK hP hD
  have hK : va_K D vwCl [(dA, .int)] s := hK.sub [0] rfl
  refine va_putF (D := D) (ci := 0) (v := .ref a3) (ty := .array .int) (C := RX0) (T := TX0) (N := 11) hx hb hts in_X0 tyX0 tyX0_ok nmX0 hown hK hP hD hS 0 rfl rfl 3 (by decide) (hts _ q33) (fun _ h9 => h9) rfl hin rfl (by decide +kernel) rfl rfl (Nat.le_of_ble_eq_true rfl) dX0_init_31 (fun H locs hP hD hS => ?_)
  have hP : va_P D vwCl [(h, .inr (0, [.ref a0, .ref a1, .ref a2, .ref a3, .null, .null, .null, .null, .null, .int (nI 0), .int (nI 0)])), (a0, .inl (dA, 40, .inl zf)), (a1, .inl (dA, 40, .inl zf)), (a2, .inl (dA, 5, .inl zf)), (a3, .inl (dA, 5, .inl zf))] H := hP
  have hD : va_D A [(h, .inr (0, [.ref a0, .ref a1, .ref a2, .ref a3, .null, .null, .null, .null, .null, .int (nI 0), .int (nI 0)])), (a0, .inl (dA, 40, .inl zf)), (a1, .inl (dA, 40, .inl zf)), (a2, .inl (dA, 5, .inl zf)), (a3, .inl (dA, 5, .inl zf))] := hD
  refine lv_aload_n hx hb dX0_init_34 rfl (lv_at hl 0 rfl) ?_
  refine lv_iconst (v := nI 5) hx hb dX0_init_35 (by decide +kernel) ?_
  refine va_newa (atype := .int) (ty := .int) (a0 := (5, .inl zf)) hx hb (hts _ q64) rfl hK hP hD hS hA (fun _ => rfl) (nI_pos (by omega)) (nI_clamp (by omega)) (by decide) (Nat.le_of_ble_eq_true rfl) (Nat.le_of_ble_eq_true rfl) dX0_init_36 (fun a4 d4 H hK hP hD hS => ?_)
  have ed : d4 = dA := dA_eq hK 1 0 rfl rfl
  rw [ed] at hK hP hD
  have hK : va_K D vwCl [(dA, .int)] s := hK.sub [0] rfl
  refine va_putF (D := D) (ci := 0) (v := .ref a4) (ty := .array .int) (C := RX0) (T := TX0) (N := 11) hx hb hts in_X0 tyX0 tyX0_ok nmX0 hown hK hP hD hS 0 rfl rfl 4 (by decide) (hts _ q34) (fun _ h9 => h9) rfl hin rfl (by decide +kernel) rfl rfl (Nat.le_of_ble_eq_true rfl) dX0_init_38 (fun H locs hP hD hS => ?_)
  have hP : va_P D vwCl [(h, .inr (0, [.ref a0, .ref a1, .ref a2, .ref a3, .ref a4, .null, .null, .null, .null, .int (nI 0), .int (nI 0)])), (a0, .inl (dA, 40, .inl zf)), (a1, .inl (dA, 40, .inl zf)), (a2, .inl (dA, 5, .inl zf)), (a3, .inl (dA, 5, .inl zf)), (a4, .inl (dA, 5, .inl zf))] H := hP
  have hD : va_D A [(h, .inr (0, [.ref a0, .ref a1, .ref a2, .ref a3, .ref a4, .null, .null, .null, .null, .int (nI 0), .int (nI 0)])), (a0, .inl (dA, 40, .inl zf)), (a1, .inl (dA, 40, .inl zf)), (a2, .inl (dA, 5, .inl zf)), (a3, .inl (dA, 5, .inl zf)), (a4, .inl (dA, 5, .inl zf))] := hD
  refine lv_aload_n hx hb dX0_init_41 rfl (lv_at hl 0 rfl) ?_
  refine lv_sipush (v := nI 960) hx hb dX0_init_42 (by decide +kernel) ?_
  refine va_newa (atype := .int) (ty := .int) (a0 := (960, .inl zf)) hx hb (hts _ q64) rfl hK hP hD hS hA (fun _ => rfl) (nI_pos (by omega)) (nI_clamp (by omega)) (by decide) (Nat.le_of_ble_eq_true rfl) (Nat.le_of_ble_eq_true rfl) dX0_init_45 (fun a5 d5 H hK hP hD hS => ?_)
  have ed : d5 = dA := dA_eq hK 1 0 rfl rfl
  rw [ed] at hK hP hD
  have hK : va_K D vwCl [(dA, .int)] s := hK.sub [0] rfl
  refine va_putF (D := D) (ci := 0) (v := .ref a5) (ty := .array .int) (C := RX0) (T := TX0) (N := 11) hx hb hts in_X0 tyX0 tyX0_ok nmX0 hown hK hP hD hS 0 rfl rfl 5 (by decide) (hts _ q35) (fun _ h9 => h9) rfl hin rfl (by decide +kernel) rfl rfl (Nat.le_of_ble_eq_true rfl) dX0_init_47 (fun H locs hP hD hS => ?_)
  have hP : va_P D vwCl [(h, .inr (0, [.ref a0, .ref a1, .ref a2, .ref a3, .ref a4, .ref a5, .null, .null, .null, .int (nI 0), .int (nI 0)])), (a0, .inl (dA, 40, .inl zf)), (a1, .inl (dA, 40, .inl zf)), (a2, .inl (dA, 5, .inl zf)), (a3, .inl (dA, 5, .inl zf)), (a4, .inl (dA, 5, .inl zf)), (a5, .inl (dA, 960, .inl zf))] H := hP
  have hD : va_D A [(h, .inr (0, [.ref a0, .ref a1, .ref a2, .ref a3, .ref a4, .ref a5, .null, .null, .null, .int (nI 0), .int (nI 0)])), (a0, .inl (dA, 40, .inl zf)), (a1, .inl (dA, 40, .inl zf)), (a2, .inl (dA, 5, .inl zf)), (a3, .inl (dA, 5, .inl zf)), (a4, .inl (dA, 5, .inl zf)), (a5, .inl (dA, 960, .inl zf))] := hD
  refine lv_aload_n hx hb dX0_init_50 rfl (lv_at hl 0 rfl) ?_
  refine lv_sipush (v := nI 960) hx hb dX0_init_51 (by decide +kernel) ?_
  refine va_newa (atype := .int) (ty := .int) (a0 := (960, .inl zf)) hx hb (hts _ q64) rfl hK hP hD hS hA (fun _ => rfl) (nI_pos (by omega)) (nI_clamp (by omega)) (by decide) (Nat.le_of_ble_eq_true rfl) (Nat.le_of_ble_eq_true rfl) dX0_init_54 (fun a6 d6 H hK hP hD hS => ?_)
  have ed : d6 = dA := dA_eq hK 1 0 rfl rfl
  rw [ed] at hK hP hD
  have hK : va_K D vwCl [(dA, .int)] s := hK.sub [0] rfl
  refine va_putF (D := D) (ci := 0) (v := .ref a6) (ty := .array .int) (C := RX0) (T := TX0) (N := 11) hx hb hts in_X0 tyX0 tyX0_ok nmX0 hown hK hP hD hS 0 rfl rfl 6 (by decide) (hts _ q36) (fun _ h9 => h9) rfl hin rfl (by decide +kernel) rfl rfl (Nat.le_of_ble_eq_true rfl) dX0_init_56 (fun H locs hP hD hS => ?_)
  have hP : va_P D vwCl [(h, .inr (0, [.ref a0, .ref a1, .ref a2, .ref a3, .ref a4, .ref a5, .ref a6, .null, .null, .int (nI 0), .int (nI 0)])), (a0, .inl (dA, 40, .inl zf)), (a1, .inl (dA, 40, .inl zf)), (a2, .inl (dA, 5, .inl zf)), (a3, .inl (dA, 5, .inl zf)), (a4, .inl (dA, 5, .inl zf)), (a5, .inl (dA, 960, .inl zf)), (a6, .inl (dA, 960, .inl zf))] H := hP
  have hD : va_D A [(h, .inr (0, [.ref a0, .ref a1, .ref a2, .ref a3, .ref a4, .ref a5, .ref a6, .null, .null, .int (nI 0), .int (nI 0)])), (a0, .inl (dA, 40, .inl zf)), (a1, .inl (dA, 40, .inl zf)), (a2, .inl (dA, 5, .inl zf)), (a3, .inl (dA, 5, .inl zf)), (a4, .inl (dA, 5, .inl zf)), (a5, .inl (dA, 960, .inl zf)), (a6, .inl (dA, 960, .inl zf))] := hD
  refine lv_aload_n hx hb dX0_init_59 rfl (lv_at hl 0 rfl) ?_
  refine lv_sipush (v := nI 960) hx hb dX0_init_60 (by decide +kernel) ?_
  refine va_newa (atype := .int) (ty := .int) (a0 := (960, .inl zf)) hx hb (hts _ q64) rfl hK hP hD hS hA (fun _ => rfl) (nI_pos (by omega)) (nI_clamp (by omega)) (by decide) (Nat.le_of_ble_eq_true rfl) (Nat.le_of_ble_eq_true rfl) dX0_init_63 (fun a7 d7 H hK hP hD hS => ?_)
  have ed : d7 = dA := dA_eq hK 1 0 rfl rfl
  rw [ed] at hK hP hD
  have hK : va_K D vwCl [(dA, .int)] s := hK.sub [0] rfl
  refine va_putF (D := D) (ci := 0) (v := .ref a7) (ty := .array .int) (C := RX0) (T := TX0) (N := 11) hx hb hts in_X0 tyX0 tyX0_ok nmX0 hown hK hP hD hS 0 rfl rfl 7 (by decide) (hts _ q37) (fun _ h9 => h9) rfl hin rfl (by decide +kernel) rfl rfl (Nat.le_of_ble_eq_true rfl) dX0_init_65 (fun H locs hP hD hS => ?_)
  have hP : va_P D vwCl [(h, .inr (0, [.ref a0, .ref a1, .ref a2, .ref a3, .ref a4, .ref a5, .ref a6, .ref a7, .null, .int (nI 0), .int (nI 0)])), (a0, .inl (dA, 40, .inl zf)), (a1, .inl (dA, 40, .inl zf)), (a2, .inl (dA, 5, .inl zf)), (a3, .inl (dA, 5, .inl zf)), (a4, .inl (dA, 5, .inl zf)), (a5, .inl (dA, 960, .inl zf)), (a6, .inl (dA, 960, .inl zf)), (a7, .inl (dA, 960, .inl zf))] H := hP
  have hD : va_D A [(h, .inr (0, [.ref a0, .ref a1, .ref a2, .ref a3, .ref a4, .ref a5, .ref a6, .ref a7, .null, .int (nI 0), .int (nI 0)])), (a0, .inl (dA, 40, .inl zf)), (a1, .inl (dA, 40, .inl zf)), (a2, .inl (dA, 5, .inl zf)), (a3, .inl (dA, 5, .inl zf)), (a4, .inl (dA, 5, .inl zf)), (a5, .inl (dA, 960, .inl zf)), (a6, .inl (dA, 960, .inl zf)), (a7, .inl (dA, 960, .inl zf))] := hD
  refine lv_aload_n hx hb dX0_init_68 rfl (lv_at hl 0 rfl) ?_
  refine lv_sipush (v := nI 960) hx hb dX0_init_69 (by decide +kernel) ?_
  refine va_newa (atype := .int) (ty := .int) (a0 := (960, .inl zf)) hx hb (hts _ q64) rfl hK hP hD hS hA (fun _ => rfl) (nI_pos (by omega)) (nI_clamp (by omega)) (by decide) (Nat.le_of_ble_eq_true rfl) (Nat.le_of_ble_eq_true rfl) dX0_init_72 (fun a8 d8 H hK hP hD hS => ?_)
  have ed : d8 = dA := dA_eq hK 1 0 rfl rfl
  rw [ed] at hK hP hD
  have hK : va_K D vwCl [(dA, .int)] s := hK.sub [0] rfl
  refine va_putF (D := D) (ci := 0) (v := .ref a8) (ty := .array .int) (C := RX0) (T := TX0) (N := 11) hx hb hts in_X0 tyX0 tyX0_ok nmX0 hown hK hP hD hS 0 rfl rfl 8 (by decide) (hts _ q38) (fun _ h9 => h9) rfl hin rfl (by decide +kernel) rfl rfl (Nat.le_of_ble_eq_true rfl) dX0_init_74 (fun H locs hP hD hS => ?_)
  have hP : va_P D vwCl [(h, .inr (0, [.ref a0, .ref a1, .ref a2, .ref a3, .ref a4, .ref a5, .ref a6, .ref a7, .ref a8, .int (nI 0), .int (nI 0)])), (a0, .inl (dA, 40, .inl zf)), (a1, .inl (dA, 40, .inl zf)), (a2, .inl (dA, 5, .inl zf)), (a3, .inl (dA, 5, .inl zf)), (a4, .inl (dA, 5, .inl zf)), (a5, .inl (dA, 960, .inl zf)), (a6, .inl (dA, 960, .inl zf)), (a7, .inl (dA, 960, .inl zf)), (a8, .inl (dA, 960, .inl zf))] H := hP
  have hD : va_D A [(h, .inr (0, [.ref a0, .ref a1, .ref a2, .ref a3, .ref a4, .ref a5, .ref a6, .ref a7, .ref a8, .int (nI 0), .int (nI 0)])), (a0, .inl (dA, 40, .inl zf)), (a1, .inl (dA, 40, .inl zf)), (a2, .inl (dA, 5, .inl zf)), (a3, .inl (dA, 5, .inl zf)), (a4, .inl (dA, 5, .inl zf)), (a5, .inl (dA, 960, .inl zf)), (a6, .inl (dA, 960, .inl zf)), (a7, .inl (dA, 960, .inl zf)), (a8, .inl (dA, 960, .inl zf))] := hD
  refine W.widen (k := 9) (n := 3935) (Nat.le_of_ble_eq_true rfl) (Nat.le_of_ble_eq_true rfl) ?_
  generalize hq : (q9 a0 a1 a2 a3 a4 a5 a6 a7 a8) = q
  have hP : va_P D vwCl (XW h q dA zf zf zf zf zf zf zf zf zf (nI 0) (nI 0)) H := by rw [← hq]; exact hP
  have hD : va_D A (XW h q dA zf zf zf zf zf zf zf zf zf (nI 0) (nI 0)) := by rw [← hq]; exact hD
  refine zz_Q (fun Q hQ => ?_)
  have after : ∀ (H : Heap) (locs : List Loc), va_P D vwCl (XW h q dA zf zf (wpT zf 1 4 (-1)) zf zf zf zf zf zf (nI 0) (nI 0)) H → va_D A (XW h q dA zf zf (wpT zf 1 4 (-1)) zf zf zf zf zf zf (nI 0) (nI 0)) → va_S A s.heap H locs → ∀ ls : Array Slot, lv_has ls 2 [(0, .ref h)] → W p l e rmX0_init s m args below meth c H locs 9 3935 Q (F0 m 97 ls []) := by
    intro H locs hP hD hS ls hl
    refine lv_aload_n hx hb dX0_init_97 rfl (lv_at hl 0 rfl) ?_
    refine lv_iconst (v := nI 0) hx hb dX0_init_98 (by decide +kernel) ?_
    refine zz_callV (V := XV h q dA) (u := (zf, zf, wpT zf 1 4 (-1), zf, zf, zf, zf, zf, zf, nI 0, nI 0)) (As := [.int (nI 0)]) (rest := []) S (metX0_wipe l D dA h q zf zf (wpT zf 1 4 (-1)) zf zf zf zf zf zf 0 (nI 0) 0 (by omega)) gw_X0_37 hd_X0_wipe rfl rfl ⟨Nat.le_of_ble_eq_true rfl, Nat.le_of_ble_eq_true rfl⟩ rfl hl.1 rfl (Nat.le_of_ble_eq_true rfl) dX0_init_99 ⟨Nat.le_of_ble_eq_true rfl, Nat.le_of_ble_eq_true rfl⟩ hK hA hP hD hS (ci := 0) rfl rfl rfl (fun u_ H locs hu_ hP hD hS => ?_)
    obtain rfl := hu_
    have hP : va_P D vwCl (XW h q dA zf zf (wpT zf 1 4 (-1)) (upd zf 0 (nI 0)) zf (wpT zf (192 * 0) 192 (nI 0)) (wpT zf (192 * 0) 192 (nI 0)) (wpT zf (192 * 0) 192 (nI 10000)) (wpT zf (192 * 0) 192 (-10000)) (nI 0) (nI 0)) H := hP
    have hD : va_D A (XW h q dA zf zf (wpT zf 1 4 (-1)) (upd zf 0 (nI 0)) zf (wpT zf (192 * 0) 192 (nI 0)) (wpT zf (192 * 0) 192 (nI 0)) (wpT zf (192 * 0) 192 (nI 10000)) (wpT zf (192 * 0) 192 (-10000)) (nI 0) (nI 0)) := hD
    subst hQ
    subst hAe
    subst hq
    exact W.vret hx hb hr (fun t ht hW => ⟨⟨((zf, zf, wpT zf 1 4 (-1), upd zf 0 (nI 0), zf, wpT zf (192 * 0) 192 (nI 0), wpT zf (192 * 0) 192 (nI 0), wpT zf (192 * 0) 192 (nI 10000), wpT zf (192 * 0) 192 (-10000), nI 0, nI 0), _, dA), rfl, ⟨_, _, _, _, _, _, _, _, rfl, XI_0⟩, by rw [ht]; exact hP, va_K.moved hW.alike hK, hD⟩, hS.F ht⟩) hS.2.2 dX0_init_102
  have loop : ∀ (d j : Nat), 5 ≤ j + d → j ≤ 4 → ∀ (H : Heap) (locs : List Loc), va_P D vwCl (XW h q dA zf zf (wpT zf 1 j (-1)) zf zf zf zf zf zf (nI 0) (nI 0)) H → va_D A (XW h q dA zf zf (wpT zf 1 j (-1)) zf zf zf zf zf zf (nI 0) (nI 0)) → va_S A s.heap H locs → ∀ ls : Array Slot, lv_has ls 2 [(0, .ref h), (1, .int (nI (1 + j)))] → W p l e rmX0_init s m args below meth c H locs 9 3935 Q (F0 m 79 ls []) := by
    intro d
    induction d with
    | zero => intro i h1 h2; exact absurd h1 (by omega)
    | succ d ih =>
      intro j h1 h2 H locs hP hD hS ls hl
      refine lv_iload_n hx hb dX0_init_79 rfl (lv_at hl 1 rfl) ?_
      refine lv_iconst (v := nI 5) hx hb dX0_init_80 (by decide +kernel) ?_
      refine zz_ge (tgt := 97) hx hb dX0_init_81 (by decide) (by omega) (by omega) (fun c_8 => ?_) (fun c_8 => ?_)
      · have hj : 4 = j := by omega
        subst hj
        exact after _ _ hP hD hS ls (lv_sub hl [0] rfl)
      · refine lv_aload_n hx hb dX0_init_84 rfl (lv_at hl 0 rfl) ?_
        refine xg2 S hK hP dX0_init_85 ?_
        refine lv_iload_n hx hb dX0_init_88 rfl (lv_at hl 1 rfl) ?_
        refine lv_iconst (v := (-1)) hx hb dX0_init_89 (by decide +kernel) ?_
        refine xs2 S hK hP hD hS (by omega) dX0_init_90 (fun H locs hP hD hS => ?_)
        refine lv_iinc (v := nI (1 + j + 1)) (lv' := [(1, .int (nI (1 + j + 1))), (0, .ref h)]) hx hb dX0_init_91 hl (k := 1) rfl (by exact nI_1 _) (by decide) rfl (fun ls hl => ?_)
        refine lv_goto (tgt := 79) hx hb dX0_init_94 (by decide) ?_
        rw [wpT_1] at hP hD
        exact ih (j + 1) (by omega) (by omega) _ _ hP hD hS ls (lv_sub hl [1, 0] rfl)
  refine lv_iconst (v := nI 1) hx hb dX0_init_77 (by decide +kernel) ?_
  refine lv_istore_n (lv' := [(1, .int (nI 1)), (0, .ref h)]) hx hb dX0_init_78 rfl hl (by decide) rfl (fun ls hl => ?_)
  exact loop 5 0 (by omega) (by omega) _ _ (by rw [wpT_0]; exact hP) (by rw [wpT_0]; exact hD) hS ls (lv_sub hl [1, 0] rfl)
end
section
/-! the law's own entry -/
set_option maxRecDepth 100000
abbrev cL_law : ByteArray := code
theorem dL_law_0 : decode cL_law 0 = .ok (.new 7, 3) := by decide +kernel
theorem dL_law_3 : decode cL_law 3 = .ok (.dup, 1) := by decide +kernel
theorem dL_law_4 : decode cL_law 4 = .ok (.invokespecial 9, 3) := by decide +kernel
theorem dL_law_7 : decode cL_law 7 = .ok (.astore_n 1, 1) := by decide +kernel
theorem dL_law_8 : decode cL_law 8 = .ok (.new 10, 3) := by decide +kernel
theorem dL_law_11 : decode cL_law 11 = .ok (.dup, 1) := by decide +kernel
theorem dL_law_12 : decode cL_law 12 = .ok (.invokespecial 12, 3) := by decide +kernel
theorem dL_law_15 : decode cL_law 15 = .ok (.astore_n 2, 1) := by decide +kernel
theorem dL_law_16 : decode cL_law 16 = .ok (.iconst 0, 1) := by decide +kernel
theorem dL_law_17 : decode cL_law 17 = .ok (.istore_n 3, 1) := by decide +kernel
theorem dL_law_18 : decode cL_law 18 = .ok (.iload_n 3, 1) := by decide +kernel
theorem dL_law_19 : decode cL_law 19 = .ok (.aload_n 0, 1) := by decide +kernel
theorem dL_law_20 : decode cL_law 20 = .ok (.arraylength, 1) := by decide +kernel
theorem dL_law_21 : decode cL_law 21 = .ok (.iconst 4, 1) := by decide +kernel
theorem dL_law_22 : decode cL_law 22 = .ok (.isub, 1) := by decide +kernel
theorem dL_law_23 : decode cL_law 23 = .ok (.if_icmp .gt 600, 3) := by decide +kernel
theorem dL_law_26 : decode cL_law 26 = .ok (.aload_n 0, 1) := by decide +kernel
theorem dL_law_27 : decode cL_law 27 = .ok (.iload_n 3, 1) := by decide +kernel
theorem dL_law_28 : decode cL_law 28 = .ok (.iaload, 1) := by decide +kernel
theorem dL_law_29 : decode cL_law 29 = .ok (.bipush 31, 2) := by decide +kernel
theorem dL_law_31 : decode cL_law 31 = .ok (.iand, 1) := by decide +kernel
theorem dL_law_32 : decode cL_law 32 = .ok (.tableswitch 585 0 16 #[84, 117, 160, 193, 216, 239, 252, 285, 308, 341, 374, 407, 440, 473, 496, 529, 562], 84) := by decide +kernel
theorem dL_law_116 : decode cL_law 116 = .ok (.aload_n 1, 1) := by decide +kernel
theorem dL_law_117 : decode cL_law 117 = .ok (.aload_n 0, 1) := by decide +kernel
theorem dL_law_118 : decode cL_law 118 = .ok (.iload_n 3, 1) := by decide +kernel
theorem dL_law_119 : decode cL_law 119 = .ok (.iconst 1, 1) := by decide +kernel
theorem dL_law_120 : decode cL_law 120 = .ok (.iadd, 1) := by decide +kernel
theorem dL_law_121 : decode cL_law 121 = .ok (.iaload, 1) := by decide +kernel
theorem dL_law_122 : decode cL_law 122 = .ok (.aload_n 0, 1) := by decide +kernel
theorem dL_law_123 : decode cL_law 123 = .ok (.iload_n 3, 1) := by decide +kernel
theorem dL_law_124 : decode cL_law 124 = .ok (.iconst 2, 1) := by decide +kernel
theorem dL_law_125 : decode cL_law 125 = .ok (.iadd, 1) := by decide +kernel
theorem dL_law_126 : decode cL_law 126 = .ok (.iaload, 1) := by decide +kernel
theorem dL_law_127 : decode cL_law 127 = .ok (.invokevirtual 13, 3) := by decide +kernel
theorem dL_law_130 : decode cL_law 130 = .ok (.aload_n 2, 1) := by decide +kernel
theorem dL_law_131 : decode cL_law 131 = .ok (.aload_n 0, 1) := by decide +kernel
theorem dL_law_132 : decode cL_law 132 = .ok (.iload_n 3, 1) := by decide +kernel
theorem dL_law_133 : decode cL_law 133 = .ok (.iconst 1, 1) := by decide +kernel
theorem dL_law_134 : decode cL_law 134 = .ok (.iadd, 1) := by decide +kernel
theorem dL_law_135 : decode cL_law 135 = .ok (.iaload, 1) := by decide +kernel
theorem dL_law_136 : decode cL_law 136 = .ok (.aload_n 0, 1) := by decide +kernel
theorem dL_law_137 : decode cL_law 137 = .ok (.iload_n 3, 1) := by decide +kernel
theorem dL_law_138 : decode cL_law 138 = .ok (.iconst 2, 1) := by decide +kernel
theorem dL_law_139 : decode cL_law 139 = .ok (.iadd, 1) := by decide +kernel
theorem dL_law_140 : decode cL_law 140 = .ok (.iaload, 1) := by decide +kernel
theorem dL_law_141 : decode cL_law 141 = .ok (.invokevirtual 17, 3) := by decide +kernel
theorem dL_law_144 : decode cL_law 144 = .ok (.if_icmp .eq 473, 3) := by decide +kernel
theorem dL_law_147 : decode cL_law 147 = .ok (.iconst 0, 1) := by decide +kernel
theorem dL_law_148 : decode cL_law 148 = .ok (.ireturn, 1) := by decide +kernel
theorem dL_law_149 : decode cL_law 149 = .ok (.aload_n 1, 1) := by decide +kernel
theorem dL_law_150 : decode cL_law 150 = .ok (.aload_n 0, 1) := by decide +kernel
theorem dL_law_151 : decode cL_law 151 = .ok (.iload_n 3, 1) := by decide +kernel
theorem dL_law_152 : decode cL_law 152 = .ok (.iconst 1, 1) := by decide +kernel
theorem dL_law_153 : decode cL_law 153 = .ok (.iadd, 1) := by decide +kernel
theorem dL_law_154 : decode cL_law 154 = .ok (.iaload, 1) := by decide +kernel
theorem dL_law_155 : decode cL_law 155 = .ok (.aload_n 0, 1) := by decide +kernel
theorem dL_law_156 : decode cL_law 156 = .ok (.iload_n 3, 1) := by decide +kernel
theorem dL_law_157 : decode cL_law 157 = .ok (.iconst 2, 1) := by decide +kernel
theorem dL_law_158 : decode cL_law 158 = .ok (.iadd, 1) := by decide +kernel
theorem dL_law_159 : decode cL_law 159 = .ok (.iaload, 1) := by decide +kernel
theorem dL_law_160 : decode cL_law 160 = .ok (.aload_n 0, 1) := by decide +kernel
theorem dL_law_161 : decode cL_law 161 = .ok (.iload_n 3, 1) := by decide +kernel
theorem dL_law_162 : decode cL_law 162 = .ok (.iconst 3, 1) := by decide +kernel
theorem dL_law_163 : decode cL_law 163 = .ok (.iadd, 1) := by decide +kernel
theorem dL_law_164 : decode cL_law 164 = .ok (.iaload, 1) := by decide +kernel
theorem dL_law_165 : decode cL_law 165 = .ok (.invokevirtual 18, 3) := by decide +kernel
theorem dL_law_168 : decode cL_law 168 = .ok (.aload_n 2, 1) := by decide +kernel
theorem dL_law_169 : decode cL_law 169 = .ok (.aload_n 0, 1) := by decide +kernel
theorem dL_law_170 : decode cL_law 170 = .ok (.iload_n 3, 1) := by decide +kernel
theorem dL_law_171 : decode cL_law 171 = .ok (.iconst 1, 1) := by decide +kernel
theorem dL_law_172 : decode cL_law 172 = .ok (.iadd, 1) := by decide +kernel
theorem dL_law_173 : decode cL_law 173 = .ok (.iaload, 1) := by decide +kernel
theorem dL_law_174 : decode cL_law 174 = .ok (.aload_n 0, 1) := by decide +kernel
theorem dL_law_175 : decode cL_law 175 = .ok (.iload_n 3, 1) := by decide +kernel
theorem dL_law_176 : decode cL_law 176 = .ok (.iconst 2, 1) := by decide +kernel
theorem dL_law_177 : decode cL_law 177 = .ok (.iadd, 1) := by decide +kernel
theorem dL_law_178 : decode cL_law 178 = .ok (.iaload, 1) := by decide +kernel
theorem dL_law_179 : decode cL_law 179 = .ok (.aload_n 0, 1) := by decide +kernel
theorem dL_law_180 : decode cL_law 180 = .ok (.iload_n 3, 1) := by decide +kernel
theorem dL_law_181 : decode cL_law 181 = .ok (.iconst 3, 1) := by decide +kernel
theorem dL_law_182 : decode cL_law 182 = .ok (.iadd, 1) := by decide +kernel
theorem dL_law_183 : decode cL_law 183 = .ok (.iaload, 1) := by decide +kernel
theorem dL_law_184 : decode cL_law 184 = .ok (.invokevirtual 22, 3) := by decide +kernel
theorem dL_law_187 : decode cL_law 187 = .ok (.if_icmp .eq 430, 3) := by decide +kernel
theorem dL_law_190 : decode cL_law 190 = .ok (.iconst 0, 1) := by decide +kernel
end
section
set_option maxRecDepth 100000
theorem dL_law_191 : decode cL_law 191 = .ok (.ireturn, 1) := by decide +kernel
theorem dL_law_192 : decode cL_law 192 = .ok (.aload_n 1, 1) := by decide +kernel
theorem dL_law_193 : decode cL_law 193 = .ok (.aload_n 0, 1) := by decide +kernel
theorem dL_law_194 : decode cL_law 194 = .ok (.iload_n 3, 1) := by decide +kernel
theorem dL_law_195 : decode cL_law 195 = .ok (.iconst 1, 1) := by decide +kernel
theorem dL_law_196 : decode cL_law 196 = .ok (.iadd, 1) := by decide +kernel
theorem dL_law_197 : decode cL_law 197 = .ok (.iaload, 1) := by decide +kernel
theorem dL_law_198 : decode cL_law 198 = .ok (.aload_n 0, 1) := by decide +kernel
theorem dL_law_199 : decode cL_law 199 = .ok (.iload_n 3, 1) := by decide +kernel
theorem dL_law_200 : decode cL_law 200 = .ok (.iconst 2, 1) := by decide +kernel
theorem dL_law_201 : decode cL_law 201 = .ok (.iadd, 1) := by decide +kernel
theorem dL_law_202 : decode cL_law 202 = .ok (.iaload, 1) := by decide +kernel
theorem dL_law_203 : decode cL_law 203 = .ok (.invokevirtual 23, 3) := by decide +kernel
theorem dL_law_206 : decode cL_law 206 = .ok (.aload_n 2, 1) := by decide +kernel
theorem dL_law_207 : decode cL_law 207 = .ok (.aload_n 0, 1) := by decide +kernel
theorem dL_law_208 : decode cL_law 208 = .ok (.iload_n 3, 1) := by decide +kernel
theorem dL_law_209 : decode cL_law 209 = .ok (.iconst 1, 1) := by decide +kernel
theorem dL_law_210 : decode cL_law 210 = .ok (.iadd, 1) := by decide +kernel
theorem dL_law_211 : decode cL_law 211 = .ok (.iaload, 1) := by decide +kernel
theorem dL_law_212 : decode cL_law 212 = .ok (.aload_n 0, 1) := by decide +kernel
theorem dL_law_213 : decode cL_law 213 = .ok (.iload_n 3, 1) := by decide +kernel
theorem dL_law_214 : decode cL_law 214 = .ok (.iconst 2, 1) := by decide +kernel
theorem dL_law_215 : decode cL_law 215 = .ok (.iadd, 1) := by decide +kernel
theorem dL_law_216 : decode cL_law 216 = .ok (.iaload, 1) := by decide +kernel
theorem dL_law_217 : decode cL_law 217 = .ok (.invokevirtual 26, 3) := by decide +kernel
theorem dL_law_220 : decode cL_law 220 = .ok (.if_icmp .eq 397, 3) := by decide +kernel
theorem dL_law_223 : decode cL_law 223 = .ok (.iconst 0, 1) := by decide +kernel
theorem dL_law_224 : decode cL_law 224 = .ok (.ireturn, 1) := by decide +kernel
theorem dL_law_225 : decode cL_law 225 = .ok (.aload_n 1, 1) := by decide +kernel
theorem dL_law_226 : decode cL_law 226 = .ok (.aload_n 0, 1) := by decide +kernel
theorem dL_law_227 : decode cL_law 227 = .ok (.iload_n 3, 1) := by decide +kernel
theorem dL_law_228 : decode cL_law 228 = .ok (.iconst 1, 1) := by decide +kernel
theorem dL_law_229 : decode cL_law 229 = .ok (.iadd, 1) := by decide +kernel
theorem dL_law_230 : decode cL_law 230 = .ok (.iaload, 1) := by decide +kernel
theorem dL_law_231 : decode cL_law 231 = .ok (.invokevirtual 27, 3) := by decide +kernel
theorem dL_law_234 : decode cL_law 234 = .ok (.aload_n 2, 1) := by decide +kernel
theorem dL_law_235 : decode cL_law 235 = .ok (.aload_n 0, 1) := by decide +kernel
theorem dL_law_236 : decode cL_law 236 = .ok (.iload_n 3, 1) := by decide +kernel
theorem dL_law_237 : decode cL_law 237 = .ok (.iconst 1, 1) := by decide +kernel
theorem dL_law_238 : decode cL_law 238 = .ok (.iadd, 1) := by decide +kernel
theorem dL_law_239 : decode cL_law 239 = .ok (.iaload, 1) := by decide +kernel
theorem dL_law_240 : decode cL_law 240 = .ok (.invokevirtual 31, 3) := by decide +kernel
theorem dL_law_243 : decode cL_law 243 = .ok (.if_icmp .eq 374, 3) := by decide +kernel
theorem dL_law_246 : decode cL_law 246 = .ok (.iconst 0, 1) := by decide +kernel
theorem dL_law_247 : decode cL_law 247 = .ok (.ireturn, 1) := by decide +kernel
theorem dL_law_248 : decode cL_law 248 = .ok (.aload_n 1, 1) := by decide +kernel
theorem dL_law_249 : decode cL_law 249 = .ok (.aload_n 0, 1) := by decide +kernel
theorem dL_law_250 : decode cL_law 250 = .ok (.iload_n 3, 1) := by decide +kernel
theorem dL_law_251 : decode cL_law 251 = .ok (.iconst 1, 1) := by decide +kernel
theorem dL_law_252 : decode cL_law 252 = .ok (.iadd, 1) := by decide +kernel
theorem dL_law_253 : decode cL_law 253 = .ok (.iaload, 1) := by decide +kernel
theorem dL_law_254 : decode cL_law 254 = .ok (.invokevirtual 32, 3) := by decide +kernel
theorem dL_law_257 : decode cL_law 257 = .ok (.aload_n 2, 1) := by decide +kernel
theorem dL_law_258 : decode cL_law 258 = .ok (.aload_n 0, 1) := by decide +kernel
theorem dL_law_259 : decode cL_law 259 = .ok (.iload_n 3, 1) := by decide +kernel
theorem dL_law_260 : decode cL_law 260 = .ok (.iconst 1, 1) := by decide +kernel
theorem dL_law_261 : decode cL_law 261 = .ok (.iadd, 1) := by decide +kernel
theorem dL_law_262 : decode cL_law 262 = .ok (.iaload, 1) := by decide +kernel
theorem dL_law_263 : decode cL_law 263 = .ok (.invokevirtual 35, 3) := by decide +kernel
theorem dL_law_266 : decode cL_law 266 = .ok (.if_icmp .eq 351, 3) := by decide +kernel
theorem dL_law_269 : decode cL_law 269 = .ok (.iconst 0, 1) := by decide +kernel
theorem dL_law_270 : decode cL_law 270 = .ok (.ireturn, 1) := by decide +kernel
theorem dL_law_271 : decode cL_law 271 = .ok (.aload_n 1, 1) := by decide +kernel
theorem dL_law_272 : decode cL_law 272 = .ok (.invokevirtual 36, 3) := by decide +kernel
theorem dL_law_275 : decode cL_law 275 = .ok (.aload_n 2, 1) := by decide +kernel
theorem dL_law_276 : decode cL_law 276 = .ok (.invokevirtual 40, 3) := by decide +kernel
theorem dL_law_279 : decode cL_law 279 = .ok (.if_icmp .eq 338, 3) := by decide +kernel
theorem dL_law_282 : decode cL_law 282 = .ok (.iconst 0, 1) := by decide +kernel
theorem dL_law_283 : decode cL_law 283 = .ok (.ireturn, 1) := by decide +kernel
theorem dL_law_284 : decode cL_law 284 = .ok (.aload_n 1, 1) := by decide +kernel
theorem dL_law_285 : decode cL_law 285 = .ok (.aload_n 0, 1) := by decide +kernel
theorem dL_law_286 : decode cL_law 286 = .ok (.iload_n 3, 1) := by decide +kernel
theorem dL_law_287 : decode cL_law 287 = .ok (.iconst 1, 1) := by decide +kernel
theorem dL_law_288 : decode cL_law 288 = .ok (.iadd, 1) := by decide +kernel
theorem dL_law_289 : decode cL_law 289 = .ok (.iaload, 1) := by decide +kernel
theorem dL_law_290 : decode cL_law 290 = .ok (.aload_n 0, 1) := by decide +kernel
theorem dL_law_291 : decode cL_law 291 = .ok (.iload_n 3, 1) := by decide +kernel
theorem dL_law_292 : decode cL_law 292 = .ok (.iconst 2, 1) := by decide +kernel
theorem dL_law_293 : decode cL_law 293 = .ok (.iadd, 1) := by decide +kernel
theorem dL_law_294 : decode cL_law 294 = .ok (.iaload, 1) := by decide +kernel
theorem dL_law_295 : decode cL_law 295 = .ok (.invokevirtual 41, 3) := by decide +kernel
theorem dL_law_298 : decode cL_law 298 = .ok (.aload_n 2, 1) := by decide +kernel
theorem dL_law_299 : decode cL_law 299 = .ok (.aload_n 0, 1) := by decide +kernel
theorem dL_law_300 : decode cL_law 300 = .ok (.iload_n 3, 1) := by decide +kernel
theorem dL_law_301 : decode cL_law 301 = .ok (.iconst 1, 1) := by decide +kernel
end
section
set_option maxRecDepth 100000
theorem dL_law_302 : decode cL_law 302 = .ok (.iadd, 1) := by decide +kernel
theorem dL_law_303 : decode cL_law 303 = .ok (.iaload, 1) := by decide +kernel
theorem dL_law_304 : decode cL_law 304 = .ok (.aload_n 0, 1) := by decide +kernel
theorem dL_law_305 : decode cL_law 305 = .ok (.iload_n 3, 1) := by decide +kernel
theorem dL_law_306 : decode cL_law 306 = .ok (.iconst 2, 1) := by decide +kernel
theorem dL_law_307 : decode cL_law 307 = .ok (.iadd, 1) := by decide +kernel
theorem dL_law_308 : decode cL_law 308 = .ok (.iaload, 1) := by decide +kernel
theorem dL_law_309 : decode cL_law 309 = .ok (.invokevirtual 44, 3) := by decide +kernel
theorem dL_law_312 : decode cL_law 312 = .ok (.if_icmp .eq 305, 3) := by decide +kernel
theorem dL_law_315 : decode cL_law 315 = .ok (.iconst 0, 1) := by decide +kernel
theorem dL_law_316 : decode cL_law 316 = .ok (.ireturn, 1) := by decide +kernel
theorem dL_law_317 : decode cL_law 317 = .ok (.aload_n 1, 1) := by decide +kernel
theorem dL_law_318 : decode cL_law 318 = .ok (.aload_n 0, 1) := by decide +kernel
theorem dL_law_319 : decode cL_law 319 = .ok (.iload_n 3, 1) := by decide +kernel
theorem dL_law_320 : decode cL_law 320 = .ok (.iconst 1, 1) := by decide +kernel
theorem dL_law_321 : decode cL_law 321 = .ok (.iadd, 1) := by decide +kernel
theorem dL_law_322 : decode cL_law 322 = .ok (.iaload, 1) := by decide +kernel
theorem dL_law_323 : decode cL_law 323 = .ok (.invokevirtual 45, 3) := by decide +kernel
theorem dL_law_326 : decode cL_law 326 = .ok (.aload_n 2, 1) := by decide +kernel
theorem dL_law_327 : decode cL_law 327 = .ok (.aload_n 0, 1) := by decide +kernel
theorem dL_law_328 : decode cL_law 328 = .ok (.iload_n 3, 1) := by decide +kernel
theorem dL_law_329 : decode cL_law 329 = .ok (.iconst 1, 1) := by decide +kernel
theorem dL_law_330 : decode cL_law 330 = .ok (.iadd, 1) := by decide +kernel
theorem dL_law_331 : decode cL_law 331 = .ok (.iaload, 1) := by decide +kernel
theorem dL_law_332 : decode cL_law 332 = .ok (.invokevirtual 48, 3) := by decide +kernel
theorem dL_law_335 : decode cL_law 335 = .ok (.if_icmp .eq 282, 3) := by decide +kernel
theorem dL_law_338 : decode cL_law 338 = .ok (.iconst 0, 1) := by decide +kernel
theorem dL_law_339 : decode cL_law 339 = .ok (.ireturn, 1) := by decide +kernel
theorem dL_law_340 : decode cL_law 340 = .ok (.aload_n 1, 1) := by decide +kernel
theorem dL_law_341 : decode cL_law 341 = .ok (.aload_n 0, 1) := by decide +kernel
theorem dL_law_342 : decode cL_law 342 = .ok (.iload_n 3, 1) := by decide +kernel
theorem dL_law_343 : decode cL_law 343 = .ok (.iconst 1, 1) := by decide +kernel
theorem dL_law_344 : decode cL_law 344 = .ok (.iadd, 1) := by decide +kernel
theorem dL_law_345 : decode cL_law 345 = .ok (.iaload, 1) := by decide +kernel
theorem dL_law_346 : decode cL_law 346 = .ok (.aload_n 0, 1) := by decide +kernel
theorem dL_law_347 : decode cL_law 347 = .ok (.iload_n 3, 1) := by decide +kernel
theorem dL_law_348 : decode cL_law 348 = .ok (.iconst 2, 1) := by decide +kernel
theorem dL_law_349 : decode cL_law 349 = .ok (.iadd, 1) := by decide +kernel
theorem dL_law_350 : decode cL_law 350 = .ok (.iaload, 1) := by decide +kernel
theorem dL_law_351 : decode cL_law 351 = .ok (.invokevirtual 49, 3) := by decide +kernel
theorem dL_law_354 : decode cL_law 354 = .ok (.aload_n 2, 1) := by decide +kernel
theorem dL_law_355 : decode cL_law 355 = .ok (.aload_n 0, 1) := by decide +kernel
theorem dL_law_356 : decode cL_law 356 = .ok (.iload_n 3, 1) := by decide +kernel
theorem dL_law_357 : decode cL_law 357 = .ok (.iconst 1, 1) := by decide +kernel
theorem dL_law_358 : decode cL_law 358 = .ok (.iadd, 1) := by decide +kernel
theorem dL_law_359 : decode cL_law 359 = .ok (.iaload, 1) := by decide +kernel
theorem dL_law_360 : decode cL_law 360 = .ok (.aload_n 0, 1) := by decide +kernel
theorem dL_law_361 : decode cL_law 361 = .ok (.iload_n 3, 1) := by decide +kernel
theorem dL_law_362 : decode cL_law 362 = .ok (.iconst 2, 1) := by decide +kernel
theorem dL_law_363 : decode cL_law 363 = .ok (.iadd, 1) := by decide +kernel
theorem dL_law_364 : decode cL_law 364 = .ok (.iaload, 1) := by decide +kernel
theorem dL_law_365 : decode cL_law 365 = .ok (.invokevirtual 52, 3) := by decide +kernel
theorem dL_law_368 : decode cL_law 368 = .ok (.if_icmp .eq 249, 3) := by decide +kernel
theorem dL_law_371 : decode cL_law 371 = .ok (.iconst 0, 1) := by decide +kernel
theorem dL_law_372 : decode cL_law 372 = .ok (.ireturn, 1) := by decide +kernel
theorem dL_law_373 : decode cL_law 373 = .ok (.aload_n 1, 1) := by decide +kernel
theorem dL_law_374 : decode cL_law 374 = .ok (.aload_n 0, 1) := by decide +kernel
theorem dL_law_375 : decode cL_law 375 = .ok (.iload_n 3, 1) := by decide +kernel
theorem dL_law_376 : decode cL_law 376 = .ok (.iconst 1, 1) := by decide +kernel
theorem dL_law_377 : decode cL_law 377 = .ok (.iadd, 1) := by decide +kernel
theorem dL_law_378 : decode cL_law 378 = .ok (.iaload, 1) := by decide +kernel
theorem dL_law_379 : decode cL_law 379 = .ok (.aload_n 0, 1) := by decide +kernel
theorem dL_law_380 : decode cL_law 380 = .ok (.iload_n 3, 1) := by decide +kernel
theorem dL_law_381 : decode cL_law 381 = .ok (.iconst 2, 1) := by decide +kernel
theorem dL_law_382 : decode cL_law 382 = .ok (.iadd, 1) := by decide +kernel
theorem dL_law_383 : decode cL_law 383 = .ok (.iaload, 1) := by decide +kernel
theorem dL_law_384 : decode cL_law 384 = .ok (.invokevirtual 53, 3) := by decide +kernel
theorem dL_law_387 : decode cL_law 387 = .ok (.aload_n 2, 1) := by decide +kernel
theorem dL_law_388 : decode cL_law 388 = .ok (.aload_n 0, 1) := by decide +kernel
theorem dL_law_389 : decode cL_law 389 = .ok (.iload_n 3, 1) := by decide +kernel
theorem dL_law_390 : decode cL_law 390 = .ok (.iconst 1, 1) := by decide +kernel
theorem dL_law_391 : decode cL_law 391 = .ok (.iadd, 1) := by decide +kernel
theorem dL_law_392 : decode cL_law 392 = .ok (.iaload, 1) := by decide +kernel
theorem dL_law_393 : decode cL_law 393 = .ok (.aload_n 0, 1) := by decide +kernel
theorem dL_law_394 : decode cL_law 394 = .ok (.iload_n 3, 1) := by decide +kernel
theorem dL_law_395 : decode cL_law 395 = .ok (.iconst 2, 1) := by decide +kernel
theorem dL_law_396 : decode cL_law 396 = .ok (.iadd, 1) := by decide +kernel
theorem dL_law_397 : decode cL_law 397 = .ok (.iaload, 1) := by decide +kernel
theorem dL_law_398 : decode cL_law 398 = .ok (.invokevirtual 56, 3) := by decide +kernel
theorem dL_law_401 : decode cL_law 401 = .ok (.if_icmp .eq 216, 3) := by decide +kernel
theorem dL_law_404 : decode cL_law 404 = .ok (.iconst 0, 1) := by decide +kernel
theorem dL_law_405 : decode cL_law 405 = .ok (.ireturn, 1) := by decide +kernel
theorem dL_law_406 : decode cL_law 406 = .ok (.aload_n 1, 1) := by decide +kernel
theorem dL_law_407 : decode cL_law 407 = .ok (.aload_n 0, 1) := by decide +kernel
theorem dL_law_408 : decode cL_law 408 = .ok (.iload_n 3, 1) := by decide +kernel
end
section
set_option maxRecDepth 100000
theorem dL_law_409 : decode cL_law 409 = .ok (.iconst 1, 1) := by decide +kernel
theorem dL_law_410 : decode cL_law 410 = .ok (.iadd, 1) := by decide +kernel
theorem dL_law_411 : decode cL_law 411 = .ok (.iaload, 1) := by decide +kernel
theorem dL_law_412 : decode cL_law 412 = .ok (.aload_n 0, 1) := by decide +kernel
theorem dL_law_413 : decode cL_law 413 = .ok (.iload_n 3, 1) := by decide +kernel
theorem dL_law_414 : decode cL_law 414 = .ok (.iconst 2, 1) := by decide +kernel
theorem dL_law_415 : decode cL_law 415 = .ok (.iadd, 1) := by decide +kernel
theorem dL_law_416 : decode cL_law 416 = .ok (.iaload, 1) := by decide +kernel
theorem dL_law_417 : decode cL_law 417 = .ok (.invokevirtual 57, 3) := by decide +kernel
theorem dL_law_420 : decode cL_law 420 = .ok (.aload_n 2, 1) := by decide +kernel
theorem dL_law_421 : decode cL_law 421 = .ok (.aload_n 0, 1) := by decide +kernel
theorem dL_law_422 : decode cL_law 422 = .ok (.iload_n 3, 1) := by decide +kernel
theorem dL_law_423 : decode cL_law 423 = .ok (.iconst 1, 1) := by decide +kernel
theorem dL_law_424 : decode cL_law 424 = .ok (.iadd, 1) := by decide +kernel
theorem dL_law_425 : decode cL_law 425 = .ok (.iaload, 1) := by decide +kernel
theorem dL_law_426 : decode cL_law 426 = .ok (.aload_n 0, 1) := by decide +kernel
theorem dL_law_427 : decode cL_law 427 = .ok (.iload_n 3, 1) := by decide +kernel
theorem dL_law_428 : decode cL_law 428 = .ok (.iconst 2, 1) := by decide +kernel
theorem dL_law_429 : decode cL_law 429 = .ok (.iadd, 1) := by decide +kernel
theorem dL_law_430 : decode cL_law 430 = .ok (.iaload, 1) := by decide +kernel
theorem dL_law_431 : decode cL_law 431 = .ok (.invokevirtual 60, 3) := by decide +kernel
theorem dL_law_434 : decode cL_law 434 = .ok (.if_icmp .eq 183, 3) := by decide +kernel
theorem dL_law_437 : decode cL_law 437 = .ok (.iconst 0, 1) := by decide +kernel
theorem dL_law_438 : decode cL_law 438 = .ok (.ireturn, 1) := by decide +kernel
theorem dL_law_439 : decode cL_law 439 = .ok (.aload_n 1, 1) := by decide +kernel
theorem dL_law_440 : decode cL_law 440 = .ok (.aload_n 0, 1) := by decide +kernel
theorem dL_law_441 : decode cL_law 441 = .ok (.iload_n 3, 1) := by decide +kernel
theorem dL_law_442 : decode cL_law 442 = .ok (.iconst 1, 1) := by decide +kernel
theorem dL_law_443 : decode cL_law 443 = .ok (.iadd, 1) := by decide +kernel
theorem dL_law_444 : decode cL_law 444 = .ok (.iaload, 1) := by decide +kernel
theorem dL_law_445 : decode cL_law 445 = .ok (.aload_n 0, 1) := by decide +kernel
theorem dL_law_446 : decode cL_law 446 = .ok (.iload_n 3, 1) := by decide +kernel
theorem dL_law_447 : decode cL_law 447 = .ok (.iconst 2, 1) := by decide +kernel
theorem dL_law_448 : decode cL_law 448 = .ok (.iadd, 1) := by decide +kernel
theorem dL_law_449 : decode cL_law 449 = .ok (.iaload, 1) := by decide +kernel
theorem dL_law_450 : decode cL_law 450 = .ok (.invokevirtual 61, 3) := by decide +kernel
theorem dL_law_453 : decode cL_law 453 = .ok (.aload_n 2, 1) := by decide +kernel
theorem dL_law_454 : decode cL_law 454 = .ok (.aload_n 0, 1) := by decide +kernel
theorem dL_law_455 : decode cL_law 455 = .ok (.iload_n 3, 1) := by decide +kernel
theorem dL_law_456 : decode cL_law 456 = .ok (.iconst 1, 1) := by decide +kernel
theorem dL_law_457 : decode cL_law 457 = .ok (.iadd, 1) := by decide +kernel
theorem dL_law_458 : decode cL_law 458 = .ok (.iaload, 1) := by decide +kernel
theorem dL_law_459 : decode cL_law 459 = .ok (.aload_n 0, 1) := by decide +kernel
theorem dL_law_460 : decode cL_law 460 = .ok (.iload_n 3, 1) := by decide +kernel
theorem dL_law_461 : decode cL_law 461 = .ok (.iconst 2, 1) := by decide +kernel
theorem dL_law_462 : decode cL_law 462 = .ok (.iadd, 1) := by decide +kernel
theorem dL_law_463 : decode cL_law 463 = .ok (.iaload, 1) := by decide +kernel
theorem dL_law_464 : decode cL_law 464 = .ok (.invokevirtual 64, 3) := by decide +kernel
theorem dL_law_467 : decode cL_law 467 = .ok (.if_icmp .eq 150, 3) := by decide +kernel
theorem dL_law_470 : decode cL_law 470 = .ok (.iconst 0, 1) := by decide +kernel
theorem dL_law_471 : decode cL_law 471 = .ok (.ireturn, 1) := by decide +kernel
theorem dL_law_472 : decode cL_law 472 = .ok (.aload_n 1, 1) := by decide +kernel
theorem dL_law_473 : decode cL_law 473 = .ok (.aload_n 0, 1) := by decide +kernel
theorem dL_law_474 : decode cL_law 474 = .ok (.iload_n 3, 1) := by decide +kernel
theorem dL_law_475 : decode cL_law 475 = .ok (.iconst 1, 1) := by decide +kernel
theorem dL_law_476 : decode cL_law 476 = .ok (.iadd, 1) := by decide +kernel
theorem dL_law_477 : decode cL_law 477 = .ok (.iaload, 1) := by decide +kernel
theorem dL_law_478 : decode cL_law 478 = .ok (.aload_n 0, 1) := by decide +kernel
theorem dL_law_479 : decode cL_law 479 = .ok (.iload_n 3, 1) := by decide +kernel
theorem dL_law_480 : decode cL_law 480 = .ok (.iconst 2, 1) := by decide +kernel
theorem dL_law_481 : decode cL_law 481 = .ok (.iadd, 1) := by decide +kernel
theorem dL_law_482 : decode cL_law 482 = .ok (.iaload, 1) := by decide +kernel
theorem dL_law_483 : decode cL_law 483 = .ok (.invokevirtual 65, 3) := by decide +kernel
theorem dL_law_486 : decode cL_law 486 = .ok (.aload_n 2, 1) := by decide +kernel
theorem dL_law_487 : decode cL_law 487 = .ok (.aload_n 0, 1) := by decide +kernel
theorem dL_law_488 : decode cL_law 488 = .ok (.iload_n 3, 1) := by decide +kernel
theorem dL_law_489 : decode cL_law 489 = .ok (.iconst 1, 1) := by decide +kernel
theorem dL_law_490 : decode cL_law 490 = .ok (.iadd, 1) := by decide +kernel
theorem dL_law_491 : decode cL_law 491 = .ok (.iaload, 1) := by decide +kernel
theorem dL_law_492 : decode cL_law 492 = .ok (.aload_n 0, 1) := by decide +kernel
theorem dL_law_493 : decode cL_law 493 = .ok (.iload_n 3, 1) := by decide +kernel
theorem dL_law_494 : decode cL_law 494 = .ok (.iconst 2, 1) := by decide +kernel
theorem dL_law_495 : decode cL_law 495 = .ok (.iadd, 1) := by decide +kernel
theorem dL_law_496 : decode cL_law 496 = .ok (.iaload, 1) := by decide +kernel
theorem dL_law_497 : decode cL_law 497 = .ok (.invokevirtual 68, 3) := by decide +kernel
theorem dL_law_500 : decode cL_law 500 = .ok (.if_icmp .eq 117, 3) := by decide +kernel
theorem dL_law_503 : decode cL_law 503 = .ok (.iconst 0, 1) := by decide +kernel
theorem dL_law_504 : decode cL_law 504 = .ok (.ireturn, 1) := by decide +kernel
theorem dL_law_505 : decode cL_law 505 = .ok (.aload_n 1, 1) := by decide +kernel
theorem dL_law_506 : decode cL_law 506 = .ok (.aload_n 0, 1) := by decide +kernel
theorem dL_law_507 : decode cL_law 507 = .ok (.iload_n 3, 1) := by decide +kernel
theorem dL_law_508 : decode cL_law 508 = .ok (.iconst 1, 1) := by decide +kernel
theorem dL_law_509 : decode cL_law 509 = .ok (.iadd, 1) := by decide +kernel
theorem dL_law_510 : decode cL_law 510 = .ok (.iaload, 1) := by decide +kernel
theorem dL_law_511 : decode cL_law 511 = .ok (.invokevirtual 69, 3) := by decide +kernel
end
section
set_option maxRecDepth 100000
theorem dL_law_514 : decode cL_law 514 = .ok (.aload_n 2, 1) := by decide +kernel
theorem dL_law_515 : decode cL_law 515 = .ok (.aload_n 0, 1) := by decide +kernel
theorem dL_law_516 : decode cL_law 516 = .ok (.iload_n 3, 1) := by decide +kernel
theorem dL_law_517 : decode cL_law 517 = .ok (.iconst 1, 1) := by decide +kernel
theorem dL_law_518 : decode cL_law 518 = .ok (.iadd, 1) := by decide +kernel
theorem dL_law_519 : decode cL_law 519 = .ok (.iaload, 1) := by decide +kernel
theorem dL_law_520 : decode cL_law 520 = .ok (.invokevirtual 72, 3) := by decide +kernel
theorem dL_law_523 : decode cL_law 523 = .ok (.if_icmp .eq 94, 3) := by decide +kernel
theorem dL_law_526 : decode cL_law 526 = .ok (.iconst 0, 1) := by decide +kernel
theorem dL_law_527 : decode cL_law 527 = .ok (.ireturn, 1) := by decide +kernel
theorem dL_law_528 : decode cL_law 528 = .ok (.aload_n 1, 1) := by decide +kernel
theorem dL_law_529 : decode cL_law 529 = .ok (.aload_n 0, 1) := by decide +kernel
theorem dL_law_530 : decode cL_law 530 = .ok (.iload_n 3, 1) := by decide +kernel
theorem dL_law_531 : decode cL_law 531 = .ok (.iconst 1, 1) := by decide +kernel
theorem dL_law_532 : decode cL_law 532 = .ok (.iadd, 1) := by decide +kernel
theorem dL_law_533 : decode cL_law 533 = .ok (.iaload, 1) := by decide +kernel
theorem dL_law_534 : decode cL_law 534 = .ok (.aload_n 0, 1) := by decide +kernel
theorem dL_law_535 : decode cL_law 535 = .ok (.iload_n 3, 1) := by decide +kernel
theorem dL_law_536 : decode cL_law 536 = .ok (.iconst 2, 1) := by decide +kernel
theorem dL_law_537 : decode cL_law 537 = .ok (.iadd, 1) := by decide +kernel
theorem dL_law_538 : decode cL_law 538 = .ok (.iaload, 1) := by decide +kernel
theorem dL_law_539 : decode cL_law 539 = .ok (.invokevirtual 73, 3) := by decide +kernel
theorem dL_law_542 : decode cL_law 542 = .ok (.aload_n 2, 1) := by decide +kernel
theorem dL_law_543 : decode cL_law 543 = .ok (.aload_n 0, 1) := by decide +kernel
theorem dL_law_544 : decode cL_law 544 = .ok (.iload_n 3, 1) := by decide +kernel
theorem dL_law_545 : decode cL_law 545 = .ok (.iconst 1, 1) := by decide +kernel
theorem dL_law_546 : decode cL_law 546 = .ok (.iadd, 1) := by decide +kernel
theorem dL_law_547 : decode cL_law 547 = .ok (.iaload, 1) := by decide +kernel
theorem dL_law_548 : decode cL_law 548 = .ok (.aload_n 0, 1) := by decide +kernel
theorem dL_law_549 : decode cL_law 549 = .ok (.iload_n 3, 1) := by decide +kernel
theorem dL_law_550 : decode cL_law 550 = .ok (.iconst 2, 1) := by decide +kernel
theorem dL_law_551 : decode cL_law 551 = .ok (.iadd, 1) := by decide +kernel
theorem dL_law_552 : decode cL_law 552 = .ok (.iaload, 1) := by decide +kernel
theorem dL_law_553 : decode cL_law 553 = .ok (.invokevirtual 76, 3) := by decide +kernel
theorem dL_law_556 : decode cL_law 556 = .ok (.if_icmp .eq 61, 3) := by decide +kernel
theorem dL_law_559 : decode cL_law 559 = .ok (.iconst 0, 1) := by decide +kernel
theorem dL_law_560 : decode cL_law 560 = .ok (.ireturn, 1) := by decide +kernel
theorem dL_law_561 : decode cL_law 561 = .ok (.aload_n 1, 1) := by decide +kernel
theorem dL_law_562 : decode cL_law 562 = .ok (.aload_n 0, 1) := by decide +kernel
theorem dL_law_563 : decode cL_law 563 = .ok (.iload_n 3, 1) := by decide +kernel
theorem dL_law_564 : decode cL_law 564 = .ok (.iconst 1, 1) := by decide +kernel
theorem dL_law_565 : decode cL_law 565 = .ok (.iadd, 1) := by decide +kernel
theorem dL_law_566 : decode cL_law 566 = .ok (.iaload, 1) := by decide +kernel
theorem dL_law_567 : decode cL_law 567 = .ok (.aload_n 0, 1) := by decide +kernel
theorem dL_law_568 : decode cL_law 568 = .ok (.iload_n 3, 1) := by decide +kernel
theorem dL_law_569 : decode cL_law 569 = .ok (.iconst 2, 1) := by decide +kernel
theorem dL_law_570 : decode cL_law 570 = .ok (.iadd, 1) := by decide +kernel
theorem dL_law_571 : decode cL_law 571 = .ok (.iaload, 1) := by decide +kernel
theorem dL_law_572 : decode cL_law 572 = .ok (.invokevirtual 77, 3) := by decide +kernel
theorem dL_law_575 : decode cL_law 575 = .ok (.aload_n 2, 1) := by decide +kernel
theorem dL_law_576 : decode cL_law 576 = .ok (.aload_n 0, 1) := by decide +kernel
theorem dL_law_577 : decode cL_law 577 = .ok (.iload_n 3, 1) := by decide +kernel
theorem dL_law_578 : decode cL_law 578 = .ok (.iconst 1, 1) := by decide +kernel
theorem dL_law_579 : decode cL_law 579 = .ok (.iadd, 1) := by decide +kernel
theorem dL_law_580 : decode cL_law 580 = .ok (.iaload, 1) := by decide +kernel
theorem dL_law_581 : decode cL_law 581 = .ok (.aload_n 0, 1) := by decide +kernel
theorem dL_law_582 : decode cL_law 582 = .ok (.iload_n 3, 1) := by decide +kernel
theorem dL_law_583 : decode cL_law 583 = .ok (.iconst 2, 1) := by decide +kernel
theorem dL_law_584 : decode cL_law 584 = .ok (.iadd, 1) := by decide +kernel
theorem dL_law_585 : decode cL_law 585 = .ok (.iaload, 1) := by decide +kernel
theorem dL_law_586 : decode cL_law 586 = .ok (.invokevirtual 80, 3) := by decide +kernel
theorem dL_law_589 : decode cL_law 589 = .ok (.if_icmp .eq 28, 3) := by decide +kernel
theorem dL_law_592 : decode cL_law 592 = .ok (.iconst 0, 1) := by decide +kernel
theorem dL_law_593 : decode cL_law 593 = .ok (.ireturn, 1) := by decide +kernel
theorem dL_law_594 : decode cL_law 594 = .ok (.aload_n 1, 1) := by decide +kernel
theorem dL_law_595 : decode cL_law 595 = .ok (.aload_n 0, 1) := by decide +kernel
theorem dL_law_596 : decode cL_law 596 = .ok (.iload_n 3, 1) := by decide +kernel
theorem dL_law_597 : decode cL_law 597 = .ok (.iconst 1, 1) := by decide +kernel
theorem dL_law_598 : decode cL_law 598 = .ok (.iadd, 1) := by decide +kernel
theorem dL_law_599 : decode cL_law 599 = .ok (.iaload, 1) := by decide +kernel
theorem dL_law_600 : decode cL_law 600 = .ok (.invokevirtual 81, 3) := by decide +kernel
theorem dL_law_603 : decode cL_law 603 = .ok (.aload_n 2, 1) := by decide +kernel
theorem dL_law_604 : decode cL_law 604 = .ok (.aload_n 0, 1) := by decide +kernel
theorem dL_law_605 : decode cL_law 605 = .ok (.iload_n 3, 1) := by decide +kernel
theorem dL_law_606 : decode cL_law 606 = .ok (.iconst 1, 1) := by decide +kernel
theorem dL_law_607 : decode cL_law 607 = .ok (.iadd, 1) := by decide +kernel
theorem dL_law_608 : decode cL_law 608 = .ok (.iaload, 1) := by decide +kernel
theorem dL_law_609 : decode cL_law 609 = .ok (.invokevirtual 84, 3) := by decide +kernel
theorem dL_law_612 : decode cL_law 612 = .ok (.if_icmp .eq 5, 3) := by decide +kernel
theorem dL_law_615 : decode cL_law 615 = .ok (.iconst 0, 1) := by decide +kernel
theorem dL_law_616 : decode cL_law 616 = .ok (.ireturn, 1) := by decide +kernel
theorem dL_law_617 : decode cL_law 617 = .ok (.iinc 3 4, 3) := by decide +kernel
theorem dL_law_620 : decode cL_law 620 = .ok (.goto (-602), 3) := by decide +kernel
theorem dL_law_623 : decode cL_law 623 = .ok (.iconst 1, 1) := by decide +kernel
theorem dL_law_624 : decode cL_law 624 = .ok (.ireturn, 1) := by decide +kernel
end
section
/-! THE CLAIM OUT OF ONE WALK OF THE LAW'S BODY. Your part is whole_start (and what it stands on); all else here is the same for every law, but numbers. -/
def R_law : String := "OlapCubesLaw"
def lw_P (b : Addr) (xs : List Int32) (args : Array Value) (s : State) : Prop := args = #[.ref b] ∧ s.IntsAt b xs ∧ xs.length ≤ 256 ∧ (Jvm.Cond.and given_1 narrow_1).before args s = true
def lw_Q (_ : Array Value) (s : State) (o : Outcome) (t : State) : Prop := o = .returned (some (.int 1)) ∧ Framed s o t [] 600000 7290000
def lw_Z (below : List Frame) (a : Array Value) (s : State) : State → Prop := fun t => ∃ o, t.status = .running ∧ Ended t below o ∧ lw_Q a s o t
/-- the law's own end, with 1 on the stack, nothing written that was there before, its room as the claim has it -/
theorem lw_ret {p : Program} {l : Launch} {e : Env} {s : State} {m : MethodId} {below : List Frame} {meth : Method} {c : Code} {b : Nat} (hx : p.tables.exec = Jvm.exec) (hb : c.code = code) (hr : meth.sig.returnType = ret) (hlocks : meth.locks = false) {pc : Nat} {H : Heap} {ls : Array Slot} (hdg : decode code pc = .ok (.ireturn, 1)) : W p l e room_1 s m #[Value.ref b] below meth c H [] 600000 7290000 (lw_Z below #[Value.ref b] s) (F0 m pc ls [.int 1]) := by
  intro T hT X
  obtain ⟨fs, hret, hrun, hended, hW, hframe⟩ := X.leave (v := some (.int 1)) (hlocks := hlocks) (fun h => by rw [hr] at h; cases h)
  have hmeth' : T.vm.method? m = some meth := X.method'
  refine ⟨T.setFrames fs, ?_, .returned (some (.int 1)), hrun, hended, rfl, ⟨_, rfl⟩, hW, hframe⟩
  jvm_step X.here [X.here.top, hx, hb, hdg, hmeth', hr, ret, narrow_b1]
  (try refine ⟨rfl, ?_⟩); (try refine ⟨rfl, ?_⟩)
  first | (intro acts; rw [hret _ acts rfl rfl rfl]) | rw [hret _ _ rfl rfl rfl]
  exact Steps.refl _
/-- what holds at the law's entry: the machine, the code, the tables' words (any of lw_tbl by 'hts w (by decide +kernel)'), the script of L ints xs at the cell b, what the Statement gives of the start (any of its parts by flat_of_before) -/
def lw_At (p : Program) (s : State) (m : MethodId) (meth : Method) (c : Code) (b L : Nat) (xs : Nat → Int32) : Prop :=
  p.tables.exec = Jvm.exec ∧ c.code = code ∧ meth.sig.returnType = ret ∧ c.maxLocals = 4 ∧ s.vm.findClass R_law = some m.cls ∧ (∀ w ∈ lw_tbl, w.before #[Value.ref b] s = true) ∧ va_X b L xs s s.heap ∧ b < s.heap.size ∧ meth.locks = false ∧ (Jvm.Cond.and given_1 narrow_1).before #[Value.ref b] s = true
theorem gw_L_13 : GoodIn lw_all (wsV R_law 13 RX0 yX0_put (ws_ yX0_put cX0_put 3 (some .int))) := lw_V q65 q66 q67 q16 q68
theorem gw_L_17 : GoodIn lw_all (wsV R_law 17 RX1 yX1_put (ws_ yX1_put cX1_put 3 (some .int))) := lw_V q204 q205 q206 q17 q207
theorem gw_L_18 : GoodIn lw_all (wsV R_law 18 RX0 yX0_sow (ws_ yX0_sow cX0_sow 5 (some .int))) := lw_V q98 q99 q100 q16 q101
theorem gw_L_22 : GoodIn lw_all (wsV R_law 22 RX1 yX1_sow (ws_ yX1_sow cX1_sow 5 (some .int))) := lw_V q212 q213 q214 q17 q215
theorem gw_L_23 : GoodIn lw_all (wsV R_law 23 RX0 yX0_measure (ws_ yX0_measure cX0_measure 4 (some .int))) := lw_V q102 q103 q104 q16 q105
theorem gw_L_26 : GoodIn lw_all (wsV R_law 26 RX1 yX1_measure (ws_ yX1_measure cX1_measure 4 (some .int))) := lw_V q216 q217 q218 q17 q219
theorem gw_L_27 : GoodIn lw_all (wsV R_law 27 RX0 yX0_drop (ws_ yX0_drop cX0_drop 3 (some .int))) := lw_V q114 q115 q116 q16 q117
theorem gw_L_31 : GoodIn lw_all (wsV R_law 31 RX1 yX1_drop (ws_ yX1_drop cX1_drop 3 (some .int))) := lw_V q224 q225 q226 q17 q227
theorem gw_L_32 : GoodIn lw_all (wsV R_law 32 RX0 yX0_prepare (ws_ yX0_prepare cX0_prepare 2 (some .int))) := lw_V q118 q119 q120 q16 q121
theorem gw_L_35 : GoodIn lw_all (wsV R_law 35 RX1 yX1_prepare (ws_ yX1_prepare cX1_prepare 2 (some .int))) := lw_V q228 q229 q230 q17 q231
theorem gw_L_36 : GoodIn lw_all (wsV R_law 36 RX0 yX0_facts (ws_ yX0_facts cX0_facts 1 (some .int))) := lw_V q143 q144 q145 q16 q146
theorem gw_L_40 : GoodIn lw_all (wsV R_law 40 RX1 yX1_facts (ws_ yX1_facts cX1_facts 1 (some .int))) := lw_V q260 q261 q262 q17 q263
theorem gw_L_41 : GoodIn lw_all (wsV R_law 41 RX0 yX0_cellOf (ws_ yX0_cellOf cX0_cellOf 3 (some .int))) := lw_V q147 q148 q149 q16 q150
theorem gw_L_44 : GoodIn lw_all (wsV R_law 44 RX1 yX1_cellOf (ws_ yX1_cellOf cX1_cellOf 3 (some .int))) := lw_V q264 q265 q266 q17 q267
theorem gw_L_45 : GoodIn lw_all (wsV R_law 45 RX0 yX0_full (ws_ yX0_full cX0_full 3 (some .int))) := lw_V q151 q123 q124 q16 q125
theorem gw_L_48 : GoodIn lw_all (wsV R_law 48 RX1 yX1_full (ws_ yX1_full cX1_full 4 (some .int))) := lw_V q268 q233 q234 q17 q235
theorem gw_L_49 : GoodIn lw_all (wsV R_law 49 RX0 yX0_count (ws_ yX0_count cX0_count 4 (some .int))) := lw_V q152 q153 q154 q16 q155
theorem gw_L_52 : GoodIn lw_all (wsV R_law 52 RX1 yX1_count (ws_ yX1_count cX1_count 5 (some .int))) := lw_V q269 q270 q271 q17 q272
theorem gw_L_53 : GoodIn lw_all (wsV R_law 53 RX0 yX0_sum (ws_ yX0_sum cX0_sum 4 (some .int))) := lw_V q156 q157 q158 q16 q159
theorem gw_L_56 : GoodIn lw_all (wsV R_law 56 RX1 yX1_sum (ws_ yX1_sum cX1_sum 5 (some .int))) := lw_V q277 q278 q279 q17 q280
theorem gw_L_57 : GoodIn lw_all (wsV R_law 57 RX0 yX0_least (ws_ yX0_least cX0_least 4 (some .int))) := lw_V q160 q161 q162 q16 q163
theorem gw_L_60 : GoodIn lw_all (wsV R_law 60 RX1 yX1_least (ws_ yX1_least cX1_least 5 (some .int))) := lw_V q281 q282 q283 q17 q284
theorem gw_L_61 : GoodIn lw_all (wsV R_law 61 RX0 yX0_most (ws_ yX0_most cX0_most 4 (some .int))) := lw_V q164 q165 q166 q16 q167
theorem gw_L_64 : GoodIn lw_all (wsV R_law 64 RX1 yX1_most (ws_ yX1_most cX1_most 5 (some .int))) := lw_V q285 q286 q287 q17 q288
theorem gw_L_65 : GoodIn lw_all (wsV R_law 65 RX0 yX0_next (ws_ yX0_next cX0_next 6 (some .int))) := lw_V q168 q169 q170 q16 q171
theorem gw_L_68 : GoodIn lw_all (wsV R_law 68 RX1 yX1_next (ws_ yX1_next cX1_next 6 (some .int))) := lw_V q289 q241 q242 q17 q243
theorem gw_L_69 : GoodIn lw_all (wsV R_law 69 RX0 yX0_best (ws_ yX0_best cX0_best 6 (some .int))) := lw_V q172 q173 q174 q16 q175
theorem gw_L_72 : GoodIn lw_all (wsV R_law 72 RX1 yX1_best (ws_ yX1_best cX1_best 6 (some .int))) := lw_V q290 q291 q292 q17 q293
theorem gw_L_73 : GoodIn lw_all (wsV R_law 73 RX0 yX0_having (ws_ yX0_having cX0_having 6 (some .int))) := lw_V q176 q177 q178 q16 q179
theorem gw_L_76 : GoodIn lw_all (wsV R_law 76 RX1 yX1_having (ws_ yX1_having cX1_having 6 (some .int))) := lw_V q295 q296 q297 q17 q298
theorem gw_L_77 : GoodIn lw_all (wsV R_law 77 RX0 yX0_finer (ws_ yX0_finer cX0_finer 3 (some .int))) := lw_V q180 q181 q182 q16 q183
theorem gw_L_80 : GoodIn lw_all (wsV R_law 80 RX1 yX1_finer (ws_ yX1_finer cX1_finer 7 (some .int))) := lw_V q299 q300 q301 q17 q302
theorem gw_L_81 : GoodIn lw_all (wsV R_law 81 RX0 yX0_viewsWith (ws_ yX0_viewsWith cX0_viewsWith 5 (some .int))) := lw_V q184 q185 q186 q16 q187
theorem gw_L_84 : GoodIn lw_all (wsV R_law 84 RX1 yX1_viewsWith (ws_ yX1_viewsWith cX1_viewsWith 4 (some .int))) := lw_V q303 q304 q305 q17 q306
/-! rows for the law's walk: two worlds side by side -/
theorem va_left {D : va_G} {cl : List vw_C} {w1 w2 : va_W} {H : Heap} (h : va_P D cl (w1 ++ w2) H) : va_P D cl w1 H := fun k q hk => h k q (by rw [List.getElem?_append_left (List.getElem?_eq_some_iff.mp hk).1]; exact hk)
theorem va_right {D : va_G} {cl : List vw_C} {w1 w2 : va_W} {H : Heap} (h : va_P D cl (w1 ++ w2) H) : va_P D cl w2 H := fun k q hk => h (w1.length + k) q (by rw [List.getElem?_append_right (Nat.le_add_right _ _), Nat.add_sub_cancel_left]; exact hk)
theorem vd_left {A : Nat → Prop} {w1 w2 : va_W} (h : va_D A (w1 ++ w2)) : va_D A w1 := by
  have e : ∀ (k : Nat) (q : Nat × va_E), w1[k]? = some q → (w1 ++ w2)[k]? = some q := fun k q hk => by rw [List.getElem?_append_left (List.getElem?_eq_some_iff.mp hk).1]; exact hk
  exact ⟨fun i j p q hi hj => h.1 i j p q (e i p hi) (e j q hj), fun k q hk => h.2 k q (e k q hk)⟩
theorem vd_right {A : Nat → Prop} {w1 w2 : va_W} (h : va_D A (w1 ++ w2)) : va_D A w2 := by
  have e : ∀ (k : Nat) (q : Nat × va_E), w2[k]? = some q → (w1 ++ w2)[w1.length + k]? = some q := fun k q hk => by rw [List.getElem?_append_right (Nat.le_add_right _ _), Nat.add_sub_cancel_left]; exact hk
  exact ⟨fun i j p q hi hj hpq => by have := h.1 _ _ p q (e i p hi) (e j q hj) hpq; omega, fun k q hk => h.2 _ q (e k q hk)⟩
theorem vd_apart {A : Nat → Prop} {w1 w2 : va_W} (h : va_D A (w1 ++ w2)) {i j : Nat} {x y : Nat × va_E} (hx : w1[i]? = some x) (hy : w2[j]? = some y) : ¬ x.1 = y.1 := by
  intro e
  have hl := (List.getElem?_eq_some_iff.mp hx).1
  have := h.1 i (w1.length + j) x y (by rw [List.getElem?_append_left hl]; exact hx) (by rw [List.getElem?_append_right (Nat.le_add_right _ _), Nat.add_sub_cancel_left]; exact hy) e
  omega
theorem va_swap {D : va_G} {cl : List vw_C} {A : Nat → Prop} {w1 w2 : va_W} {H : Heap} (hP : va_P D cl (w1 ++ w2) H) (hD : va_D A (w1 ++ w2)) : va_P D cl (w2 ++ w1) H ∧ va_D A (w2 ++ w1) :=
  ⟨(va_right hP).app (va_left hP), va_D.app (vd_right hD) (vd_left hD) (fun _ _ _ _ hx hy hxy => vd_apart hD hy hx hxy.symm)⟩
/-- behind a call on the left world -/
theorem va_beside {D : va_G} {cl : List vw_C} {A : Nat → Prop} {w1 w2 w1' : va_W} {H H1 : Heap} (hP : va_P D cl (w1 ++ w2) H) (hD : va_D A (w1 ++ w2)) (hF : ∀ q, va_A w1 H.size q → A q) (hk : ∀ q : Nat, q < H.size → ¬ va_A w1 H.size q → H1[q]? = H[q]?) (hP1 : va_P D cl w1' H1) (hD1 : va_D (va_A w1 H.size) w1') : va_P D cl (w2 ++ w1') H1 ∧ va_D A (w2 ++ w1') := by
  have hP2 := va_right hP
  have ap : ∀ (k : Nat) (q : Nat × va_E), w2[k]? = some q → ¬ va_A w1 H.size q.1 := by
    intro k q hq h
    rcases h with ⟨j, e, he⟩ | h
    · exact vd_apart hD he hq rfl
    · exact absurd (hP2 k q hq).lt (by omega)
  refine ⟨va_P.app (hP2.kept (fun k q hq => hk q.1 (hP2 k q hq).lt (ap k q hq))) hP1, va_D.app (vd_right hD) (hD1.weaken (fun _ q _ h => hF q.1 h)) (fun i j x y hx hy hxy => ap i x hx (by rw [hxy]; exact hD1.2 j y hy))⟩
section LC
variable {p : Program} {l : Launch} {e : Env} {R : Room} {s : State} {m : MethodId} {args : Array Value} {below : List Frame} {meth : Method} {c : Code} {H : Heap} {locs : List Loc} {cells slots : Nat} {Q : State → Prop}
variable {cc : ByteArray} {pc nL : Nat} {ls : Array Slot} {rest st0 : List Value} {own C : String} {idx : Nat} {y : MethodName} {bytes : ByteArray} {maxL n : Nat} {ret : Option FieldType} {rm : Room} {As : List Value} {D : va_G} {dA : ClassId} {h : Nat}
theorem ll_call {T : Type} {V : T → va_W} {u : T} {w2 : va_W} {post : Int32 → T → Prop} {A : Nat → Prop} {H0 : Heap} (S : CallFix p m c cc nL s args lw_all own) (hM : CI l y bytes maxL rm D dA V u (.ref h :: As) post) (hw : GoodIn lw_all (wsV own idx C y (ws_ y bytes maxL (some .int))))
    (hd : y.cls = C ∧ y.cls ≠ "java/lang/invoke/MethodHandle" ∧ y.cls ≠ "java/lang/invoke/VarHandle" ∧ (parseMethodDescriptor y.desc).map (fun d => d.parameters.length) = some n) (hrc : rm.cells = 0) (hrs : rm.slots = 0) (hR : rm.frames + 1 ≤ R.frames ∧ 8 + (maxL + 11) + rm.locals ≤ R.locals)
    (hn : As.length = n) (hsz : ls.size = nL) (hst : st0 = As.reverse ++ .ref h :: rest) (hrm : (rest.map fun v => v.category).sum ≤ 8) (hdg : decode cc pc = .ok (.invokevirtual idx, 3)) (hcs : cells ≤ R.cells ∧ slots ≤ R.slots)
    (hK : va_K D vwCl [(dA, .int)] s) (hA : ∀ q, H0.size ≤ q → A q) (hP : va_P D vwCl (V u ++ w2) H) (hD : va_D A (V u ++ w2)) (hS : va_S A H0 H locs) {ci : Nat} {q : vw_C} {fs : List Value} (hci : vwCl[ci]? = some q) (hq : q.1 = C) (h0 : (V u)[0]? = some (h, .inr (ci, fs)))
    (k : ∀ (r : Int32) (u' : T) (H1 : Heap) (locs1 : List Loc), post r u' → va_P D vwCl (w2 ++ V u') H1 → va_D A (w2 ++ V u') → va_S A H0 H1 locs1 → W p l e R s m args below meth c H1 locs1 cells slots Q (F0 m (pc + 3) ls (.int r :: rest))) : W p l e R s m args below meth c H locs cells slots Q (F0 m pc ls st0) := by
  subst hq
  have hP0 := va_left hP
  have hD0 := vd_left hD
  have hF : ∀ q, va_A (V u) H.size q → A q := fun q hq => hq.elim (fun ⟨k, e, he⟩ => hD0.2 k _ he) (fun h => hA q (Nat.le_trans hS.1 h))
  refine va_calli (va_runV (As := As) (rest := rest) S (hM H.size) (cwV n S.2.2.2.2 hw rfl hrc hrs hd hR) ⟨zz_blind, va_recv hK hP0 hci h0, fun U hU hW => ⟨rfl, by rw [hU], by rw [hU]; exact hP0, va_K.moved hW.alike hK, hD0.weaken (fun _ _ _ _ => trivial)⟩⟩ rfl hn hsz hst (lv_room hrm) hdg ⟨hcs.1, hcs.2⟩) hS (fun q _ h => hF q h) hF (fun r u' t H1 locs1 ht hvm hp hB hz hk hS1 => ?_)
  obtain ⟨gP, gD⟩ := va_beside hP hD hF hk (ht ▸ hB.1) hB.2.2
  exact k r u' H1 locs1 hp gP gD hS1
/-- a constructor's call beside a world -/
theorem ll_init {T : Type} {V : T → va_W} {dAf : T → ClassId} {w0 w2 : va_W} {post : T → Prop} {mc ms : Nat} {A : Nat → Prop} {H0 : Heap} {tys : List (ClassId × FieldType)} (S : CallFix p m c cc nL s args lw_all own) (hM : CN l y bytes maxL rm D w0 V dAf h post mc ms) (hw : GoodIn lw_all (ws_ y bytes maxL none)) (hini : Cond.initialized y.cls ∈ lw_all) (hlk : Cond.methodLink own idx y ∈ lw_all) (hinm : Cond.instanceMethod y ∈ lw_all) (hyn : y.name = "<init>")
    (hd : y.cls ≠ "java/lang/invoke/MethodHandle" ∧ y.cls ≠ "java/lang/invoke/VarHandle" ∧ (parseMethodDescriptor y.desc).map (fun d => d.parameters.length) = some 0) (hrc : rm.cells = mc) (hrs : rm.slots = ms) (hR : rm.frames + 1 ≤ R.frames ∧ 8 + (maxL + 11) + rm.locals ≤ R.locals)
    (hsz : ls.size = nL) (hst : st0 = .ref h :: rest) (hrm : (rest.map fun v => v.category).sum ≤ 8) (hdg : decode cc pc = .ok (.invokespecial idx, 3)) (hcs : cells + mc ≤ R.cells ∧ slots + ms ≤ R.slots)
    (hK : va_K D vwCl tys s) (hA : ∀ q, H0.size ≤ q → A q) (hP : va_P D vwCl (w0 ++ w2) H) (hD : va_D A (w0 ++ w2)) (hS : va_S A H0 H locs)
    (k : ∀ (u' : T) (H1 : Heap) (locs1 : List Loc), post u' → va_K D vwCl [(dAf u', .int)] s → va_P D vwCl (w2 ++ V u') H1 → va_D A (w2 ++ V u') → va_S A H0 H1 locs1 → W p l e R s m args below meth c H1 locs1 (cells + mc) (slots + ms) Q (F0 m (pc + 3) ls rest)) : W p l e R s m args below meth c H locs cells slots Q (F0 m pc ls st0) := by
  have hP0 := va_left hP
  have hD0 := vd_left hD
  have hK0 : va_K D vwCl [] s := hK.sub [] rfl
  have hF : ∀ q, va_A w0 H.size q → A q := fun q hq => hq.elim (fun ⟨k, e, he⟩ => hD0.2 k _ he) (fun h => hA q (Nat.le_trans hS.1 h))
  refine va_callv (va_runI (As := []) (rest := rest) S (hM H.size) (cwI 0 S.2.2.2.2 hw rfl hrc hrs (S.2.2.2.2 _ hini) (S.2.2.2.2 _ hlk) (S.2.2.2.2 _ hinm) hyn hd hR) ⟨?_, fun U hU hW => ⟨rfl, by rw [hU], by rw [hU]; exact hP0, va_K.moved hW.alike hK0, hD0.weaken (fun _ _ _ _ => trivial)⟩⟩ rfl rfl hsz hst (lv_room hrm) hdg hcs) hS (fun q _ h => hF q h) hF (fun u' t H1 locs1 ht hvm hp hB hz hk hS1 => ?_)
  · intro a U g mk z
    obtain ⟨z0, z1, zP, zK, zD⟩ := z
    exact ⟨z0, z1, zP, va_K.moved (u := U) (U := U.calling g mk a) (Vm.Alike.refl U.vm) zK, zD⟩
  · obtain ⟨gP, gD⟩ := va_beside hP hD hF hk (ht ▸ hB.1) hB.2.2
    exact k u' H1 locs1 hp (va_K.moved hvm.symm hB.2.1) gP gD hS1
theorem zs_ld {A : Nat → Prop} {H0 : Heap} {b L : Nat} {xs : Nat → Int32} (hx : p.tables.exec = Jvm.exec) (hb : c.code = cc) (hX : va_X b L xs s H0) (hbl : b < H0.size) (hbA : ¬ A b) (hS : va_S A H0 H locs) (hL : L ≤ 256) {j : Nat} (hj : j < L) (hdg : decode cc pc = .ok (.iaload, 1))
    (kk : W p l e R s m args below meth c H locs cells slots Q (F0 m (pc + 1) ls (.int (xs j) :: rest))) : W p l e R s m args below meth c H locs cells slots Q (F0 m pc ls (.int (nI j) :: .ref b :: rest)) :=
  va_sld hx hb hX hbl hbA hS (vp_in_nI hj (by omega)) hdg (by rw [nI_clamp (by omega)]; exact kk)
end LC
theorem sNext_uniq {pl ms : Nat → Int32} {n : Nat} {a af r r' : Int32} (h : sNext pl ms n a af r) (h' : sNext pl ms n a af r') : r = r' := by
  unfold sNext at h h'
  by_cases q : okV a
  · rw [if_pos q] at h h'; exact NX_uniq h h'
  · rw [if_neg q] at h h'; rw [h, h']
theorem law_le {L i : Nat} (hL : L ≤ 256) (hi : i ≤ 256) (h : ¬ nI L - nI 4 < nI i) : i + 4 ≤ L := by
  have h1 := Int32.le_iff_toInt_le.mp (Int32.not_lt.mp h)
  rw [pk_sub_toInt (by omega) (by omega), nI_toInt (by omega)] at h1
  omega
end
section
/-! the law's loop: whatever is called, the two answer alike, and hold the same facts -/ 
set_option maxHeartbeats 4000000 in
set_option maxRecDepth 100000 in
theorem law_loop {p : Program} {l : Launch} {e : Env} {s : State} {m : MethodId} {below : List Frame} {meth : Method} {c : Code} {D : va_G} {dA : ClassId} {h h2 : Nat} {q q2 : Nat → Nat} {b L : Nat} {xs : Nat → Int32} {args : Array Value} {Q : State → Prop} (hL : L ≤ 256) (S : CallFix p m c cL_law 4 s args lw_all R_law) (hX : va_X b L xs s s.heap) (hbl : b < s.heap.size) (hK : va_K D vwCl [(dA, .int)] s) (hret : ∀ (H : Heap) (locs : List Loc) (ls : Array Slot), va_S (fun q : Nat => s.heap.size ≤ q) s.heap H locs → W p l e room_1 s m args below meth c H locs 600000 7290000 Q (F0 m 624 ls [.int 1])) : ∀ (d i : Nat), 257 ≤ i + d → i ≤ 256 → ∀ (pl ms sv sf su cn sm lo hi : Nat → Int32) (n : Nat) (k : Int32), XI pl ms n sv sf cn sm lo hi → ∀ (H : Heap) (locs : List Loc), va_P D vwCl (XW h q dA pl ms sv sf su cn sm lo hi (nI n) k ++ MW h2 q2 dA pl ms (nI n)) H → va_D (fun q : Nat => s.heap.size ≤ q) (XW h q dA pl ms sv sf su cn sm lo hi (nI n) k ++ MW h2 q2 dA pl ms (nI n)) → va_S (fun q : Nat => s.heap.size ≤ q) s.heap H locs → ∀ ls : Array Slot, lv_has ls 4 [(0, .ref b), (1, .ref h), (2, .ref h2), (3, .int (nI i))] → W p l e room_1 s m args below meth c H locs 600000 7290000 Q (F0 m 18 ls []) := by
  have hx := S.1
  have hb := S.2.1
  have hbA : ¬ (fun q : Nat => s.heap.size ≤ q) b := by show ¬ s.heap.size ≤ b; omega
  have hA : ∀ q : Nat, s.heap.size ≤ q → (fun q : Nat => s.heap.size ≤ q) q := fun q h => h
  intro d
  induction d with
  | zero => intro i g1 g2; exact absurd g1 (by omega)
  | succ d ih =>
    intro i g1 g2 pl ms sv sf su cn sm lo hi n k hI H locs hP hD hS ls hl
    refine lv_iload_n hx hb dL_law_18 rfl (lv_at hl 3 rfl) ?_
    refine lv_aload_n hx hb dL_law_19 rfl (lv_at hl 0 rfl) ?_
    refine va_slen hx hb hX hbl hbA hS dL_law_20 ?_
    refine zz_set (y := nI L) rfl ?_
    refine lv_iconst (v := nI 4) hx hb dL_law_21 (by decide +kernel) ?_
    refine lv_isub hx hb dL_law_22 ?_
    refine lv_icmp_gt (tgt := 623) hx hb dL_law_23 (by decide) (fun c_1 => ?_) (fun c_1 => ?_)
    · refine lv_iconst (v := 1) hx hb dL_law_623 (by decide +kernel) ?_
      exact hret _ _ _ hS
    · have hi4 := law_le hL g2 c_1
      have cont : ∀ (pl ms sv sf su cn sm lo hi : Nat → Int32) (n : Nat) (k : Int32), XI pl ms n sv sf cn sm lo hi → ∀ (H : Heap) (locs : List Loc), va_P D vwCl (XW h q dA pl ms sv sf su cn sm lo hi (nI n) k ++ MW h2 q2 dA pl ms (nI n)) H → va_D (fun q : Nat => s.heap.size ≤ q) (XW h q dA pl ms sv sf su cn sm lo hi (nI n) k ++ MW h2 q2 dA pl ms (nI n)) → va_S (fun q : Nat => s.heap.size ≤ q) s.heap H locs → ∀ ls : Array Slot, lv_has ls 4 [(0, .ref b), (1, .ref h), (2, .ref h2), (3, .int (nI i))] → W p l e room_1 s m args below meth c H locs 600000 7290000 Q (F0 m 617 ls []) := by
        intro pl ms sv sf su cn sm lo hi n k hI H locs hP hD hS ls hl
        refine lv_iinc (v := nI (i + 4)) (lv' := [(3, .int (nI (i + 4))), (0, .ref b), (1, .ref h), (2, .ref h2)]) hx hb dL_law_617 hl (k := 3) rfl (by rw [show Int32.ofInt 4 = nI 4 by decide +kernel, nI_add]) (by decide) rfl (fun ls hl => ?_)
        refine lv_goto (tgt := 18) hx hb dL_law_620 (by decide) ?_
        exact ih (i + 4) (by omega) (by omega) pl ms sv sf su cn sm lo hi n k hI H locs hP hD hS ls (lv_sub hl [1, 2, 3, 0] rfl)
      refine lv_aload_n hx hb dL_law_26 rfl (lv_at hl 0 rfl) ?_
      refine lv_iload_n hx hb dL_law_27 rfl (lv_at hl 3 rfl) ?_
      refine zs_ld hx hb hX hbl hbA hS hL (by omega) dL_law_28 ?_
      refine lv_bipush (v := nI 31) hx hb dL_law_29 (by decide +kernel) ?_
      refine lv_iand hx hb dL_law_31 ?_
      obtain ⟨w, hw, ew⟩ := pk_andE (xs i) (m := nI 31) 5 (by decide +kernel)
      refine zz_set (y := nI w) ew ?_
      clear ew
      rcases (show w = 0 ∨ w = 1 ∨ w = 2 ∨ w = 3 ∨ w = 4 ∨ w = 5 ∨ w = 6 ∨ w = 7 ∨ w = 8 ∨ w = 9 ∨ w = 10 ∨ w = 11 ∨ w = 12 ∨ w = 13 ∨ w = 14 ∨ w = 15 ∨ w = 16 ∨ 16 < w by omega) with rfl | rfl | rfl | rfl | rfl | rfl | rfl | rfl | rfl | rfl | rfl | rfl | rfl | rfl | rfl | rfl | rfl | hw16
      · refine lv_tableIn (x := nI 0) (off := 84) (tgt := 116) hx hb dL_law_32 (by decide +kernel) (by decide +kernel) (by decide +kernel) (by decide) ?_
        refine lv_aload_n hx hb dL_law_116 rfl (lv_at hl 1 rfl) ?_
        refine lv_aload_n hx hb dL_law_117 rfl (lv_at hl 0 rfl) ?_
        refine lv_iload_n hx hb dL_law_118 rfl (lv_at hl 3 rfl) ?_
        refine lv_iconst (v := nI 1) hx hb dL_law_119 (by decide +kernel) ?_
        refine zz_add hx hb dL_law_120 ?_
        refine zs_ld hx hb hX hbl hbA hS hL (by omega) dL_law_121 ?_
        refine lv_aload_n hx hb dL_law_122 rfl (lv_at hl 0 rfl) ?_
        refine lv_iload_n hx hb dL_law_123 rfl (lv_at hl 3 rfl) ?_
        refine lv_iconst (v := nI 2) hx hb dL_law_124 (by decide +kernel) ?_
        refine zz_add hx hb dL_law_125 ?_
        refine zs_ld hx hb hX hbl hbA hS hL (by omega) dL_law_126 ?_
        refine ll_call (V := XV h q dA) (u := (pl, ms, sv, sf, su, cn, sm, lo, hi, nI n, k)) (w2 := MW h2 q2 dA pl ms (nI n)) (As := [.int (xs (i + 1)), .int (xs (i + 2))]) (rest := []) S (metX0_put l D dA h q pl ms sv sf su cn sm lo hi n k hI (xs (i + 1)) (xs (i + 2))) gw_L_13 hd_X0_put rfl rfl ⟨Nat.le_of_ble_eq_true rfl, Nat.le_of_ble_eq_true rfl⟩ rfl hl.1 rfl (Nat.le_of_ble_eq_true rfl) dL_law_127 ⟨Nat.le_of_ble_eq_true rfl, Nat.le_of_ble_eq_true rfl⟩ hK hA hP hD hS (ci := 0) rfl rfl rfl (fun r1 u1 H locs hu1 hP hD hS => ?_)
        obtain ⟨er1, sv1, sf1, su1, cn1, sm1, lo1, hi1, k1, rfl, hI1⟩ := hu1
        refine lv_aload_n hx hb dL_law_130 rfl (lv_at hl 2 rfl) ?_
        refine lv_aload_n hx hb dL_law_131 rfl (lv_at hl 0 rfl) ?_
        refine lv_iload_n hx hb dL_law_132 rfl (lv_at hl 3 rfl) ?_
        refine lv_iconst (v := nI 1) hx hb dL_law_133 (by decide +kernel) ?_
        refine zz_add hx hb dL_law_134 ?_
        refine zs_ld hx hb hX hbl hbA hS hL (by omega) dL_law_135 ?_
        refine lv_aload_n hx hb dL_law_136 rfl (lv_at hl 0 rfl) ?_
        refine lv_iload_n hx hb dL_law_137 rfl (lv_at hl 3 rfl) ?_
        refine lv_iconst (v := nI 2) hx hb dL_law_138 (by decide +kernel) ?_
        refine zz_add hx hb dL_law_139 ?_
        refine zs_ld hx hb hX hbl hbA hS hL (by omega) dL_law_140 ?_
        refine ll_call (V := MV h2 q2 dA) (u := (pl, ms, nI n)) (w2 := XV h q dA ((pPut (pl, ms, n) (xs (i + 1)) (xs (i + 2))).2.1, (pPut (pl, ms, n) (xs (i + 1)) (xs (i + 2))).2.2.1, sv1, sf1, su1, cn1, sm1, lo1, hi1, nI (pPut (pl, ms, n) (xs (i + 1)) (xs (i + 2))).2.2.2, k1)) (As := [.int (xs (i + 1)), .int (xs (i + 2))]) (rest := [.int r1]) S (metX1_put l D dA h2 q2 pl ms n hI.1.1 (xs (i + 1)) (xs (i + 2))) gw_L_17 hd_X1_put rfl rfl ⟨Nat.le_of_ble_eq_true rfl, Nat.le_of_ble_eq_true rfl⟩ rfl hl.1 rfl (Nat.le_of_ble_eq_true rfl) dL_law_141 ⟨Nat.le_of_ble_eq_true rfl, Nat.le_of_ble_eq_true rfl⟩ hK hA hP hD hS (ci := 1) rfl rfl rfl (fun r2 u2 H locs hu2 hP hD hS => ?_)
        obtain ⟨er2, rfl⟩ := hu2
        refine lv_icmp_eq (tgt := 617) hx hb dL_law_144 (by decide) (fun c_2 => ?_) (fun c_2 => absurd (er1.trans er2.symm) c_2)
        exact cont (pPut (pl, ms, n) (xs (i + 1)) (xs (i + 2))).2.1 (pPut (pl, ms, n) (xs (i + 1)) (xs (i + 2))).2.2.1 sv1 sf1 su1 cn1 sm1 lo1 hi1 (pPut (pl, ms, n) (xs (i + 1)) (xs (i + 2))).2.2.2 k1 hI1 H locs hP hD hS ls hl
      · refine lv_tableIn (x := nI 1) (off := 117) (tgt := 149) hx hb dL_law_32 (by decide +kernel) (by decide +kernel) (by decide +kernel) (by decide) ?_
        refine lv_aload_n hx hb dL_law_149 rfl (lv_at hl 1 rfl) ?_
        refine lv_aload_n hx hb dL_law_150 rfl (lv_at hl 0 rfl) ?_
        refine lv_iload_n hx hb dL_law_151 rfl (lv_at hl 3 rfl) ?_
        refine lv_iconst (v := nI 1) hx hb dL_law_152 (by decide +kernel) ?_
        refine zz_add hx hb dL_law_153 ?_
        refine zs_ld hx hb hX hbl hbA hS hL (by omega) dL_law_154 ?_
        refine lv_aload_n hx hb dL_law_155 rfl (lv_at hl 0 rfl) ?_
        refine lv_iload_n hx hb dL_law_156 rfl (lv_at hl 3 rfl) ?_
        refine lv_iconst (v := nI 2) hx hb dL_law_157 (by decide +kernel) ?_
        refine zz_add hx hb dL_law_158 ?_
        refine zs_ld hx hb hX hbl hbA hS hL (by omega) dL_law_159 ?_
        refine lv_aload_n hx hb dL_law_160 rfl (lv_at hl 0 rfl) ?_
        refine lv_iload_n hx hb dL_law_161 rfl (lv_at hl 3 rfl) ?_
        refine lv_iconst (v := nI 3) hx hb dL_law_162 (by decide +kernel) ?_
        refine zz_add hx hb dL_law_163 ?_
        refine zs_ld hx hb hX hbl hbA hS hL (by omega) dL_law_164 ?_
        refine ll_call (V := XV h q dA) (u := (pl, ms, sv, sf, su, cn, sm, lo, hi, nI n, k)) (w2 := MW h2 q2 dA pl ms (nI n)) (As := [.int (xs (i + 1)), .int (xs (i + 2)), .int (xs (i + 3))]) (rest := []) S (metX0_sow l D dA h q pl ms sv sf su cn sm lo hi n k hI (xs (i + 1)) (xs (i + 2)) (xs (i + 3))) gw_L_18 hd_X0_sow rfl rfl ⟨Nat.le_of_ble_eq_true rfl, Nat.le_of_ble_eq_true rfl⟩ rfl hl.1 rfl (Nat.le_of_ble_eq_true rfl) dL_law_165 ⟨Nat.le_of_ble_eq_true rfl, Nat.le_of_ble_eq_true rfl⟩ hK hA hP hD hS (ci := 0) rfl rfl rfl (fun r1 u1 H locs hu1 hP hD hS => ?_)
        obtain ⟨er1, sv1, sf1, su1, cn1, sm1, lo1, hi1, k1, rfl, hI1⟩ := hu1
        refine lv_aload_n hx hb dL_law_168 rfl (lv_at hl 2 rfl) ?_
        refine lv_aload_n hx hb dL_law_169 rfl (lv_at hl 0 rfl) ?_
        refine lv_iload_n hx hb dL_law_170 rfl (lv_at hl 3 rfl) ?_
        refine lv_iconst (v := nI 1) hx hb dL_law_171 (by decide +kernel) ?_
        refine zz_add hx hb dL_law_172 ?_
        refine zs_ld hx hb hX hbl hbA hS hL (by omega) dL_law_173 ?_
        refine lv_aload_n hx hb dL_law_174 rfl (lv_at hl 0 rfl) ?_
        refine lv_iload_n hx hb dL_law_175 rfl (lv_at hl 3 rfl) ?_
        refine lv_iconst (v := nI 2) hx hb dL_law_176 (by decide +kernel) ?_
        refine zz_add hx hb dL_law_177 ?_
        refine zs_ld hx hb hX hbl hbA hS hL (by omega) dL_law_178 ?_
        refine lv_aload_n hx hb dL_law_179 rfl (lv_at hl 0 rfl) ?_
        refine lv_iload_n hx hb dL_law_180 rfl (lv_at hl 3 rfl) ?_
        refine lv_iconst (v := nI 3) hx hb dL_law_181 (by decide +kernel) ?_
        refine zz_add hx hb dL_law_182 ?_
        refine zs_ld hx hb hX hbl hbA hS hL (by omega) dL_law_183 ?_
        refine ll_call (V := MV h2 q2 dA) (u := (pl, ms, nI n)) (w2 := XV h q dA ((pSow (pl, ms, n) (xs (i + 1)) (xs (i + 2)) (xs (i + 3))).2.1, (pSow (pl, ms, n) (xs (i + 1)) (xs (i + 2)) (xs (i + 3))).2.2.1, sv1, sf1, su1, cn1, sm1, lo1, hi1, nI (pSow (pl, ms, n) (xs (i + 1)) (xs (i + 2)) (xs (i + 3))).2.2.2, k1)) (As := [.int (xs (i + 1)), .int (xs (i + 2)), .int (xs (i + 3))]) (rest := [.int r1]) S (metX1_sow l D dA h2 q2 pl ms n hI.1.1 (xs (i + 1)) (xs (i + 2)) (xs (i + 3))) gw_L_22 hd_X1_sow rfl rfl ⟨Nat.le_of_ble_eq_true rfl, Nat.le_of_ble_eq_true rfl⟩ rfl hl.1 rfl (Nat.le_of_ble_eq_true rfl) dL_law_184 ⟨Nat.le_of_ble_eq_true rfl, Nat.le_of_ble_eq_true rfl⟩ hK hA hP hD hS (ci := 1) rfl rfl rfl (fun r2 u2 H locs hu2 hP hD hS => ?_)
        obtain ⟨er2, rfl⟩ := hu2
        refine lv_icmp_eq (tgt := 617) hx hb dL_law_187 (by decide) (fun c_2 => ?_) (fun c_2 => absurd (er1.trans er2.symm) c_2)
        exact cont (pSow (pl, ms, n) (xs (i + 1)) (xs (i + 2)) (xs (i + 3))).2.1 (pSow (pl, ms, n) (xs (i + 1)) (xs (i + 2)) (xs (i + 3))).2.2.1 sv1 sf1 su1 cn1 sm1 lo1 hi1 (pSow (pl, ms, n) (xs (i + 1)) (xs (i + 2)) (xs (i + 3))).2.2.2 k1 hI1 H locs hP hD hS ls hl
      · refine lv_tableIn (x := nI 2) (off := 160) (tgt := 192) hx hb dL_law_32 (by decide +kernel) (by decide +kernel) (by decide +kernel) (by decide) ?_
        refine lv_aload_n hx hb dL_law_192 rfl (lv_at hl 1 rfl) ?_
        refine lv_aload_n hx hb dL_law_193 rfl (lv_at hl 0 rfl) ?_
        refine lv_iload_n hx hb dL_law_194 rfl (lv_at hl 3 rfl) ?_
        refine lv_iconst (v := nI 1) hx hb dL_law_195 (by decide +kernel) ?_
        refine zz_add hx hb dL_law_196 ?_
        refine zs_ld hx hb hX hbl hbA hS hL (by omega) dL_law_197 ?_
        refine lv_aload_n hx hb dL_law_198 rfl (lv_at hl 0 rfl) ?_
        refine lv_iload_n hx hb dL_law_199 rfl (lv_at hl 3 rfl) ?_
        refine lv_iconst (v := nI 2) hx hb dL_law_200 (by decide +kernel) ?_
        refine zz_add hx hb dL_law_201 ?_
        refine zs_ld hx hb hX hbl hbA hS hL (by omega) dL_law_202 ?_
        refine ll_call (V := XV h q dA) (u := (pl, ms, sv, sf, su, cn, sm, lo, hi, nI n, k)) (w2 := MW h2 q2 dA pl ms (nI n)) (As := [.int (xs (i + 1)), .int (xs (i + 2))]) (rest := []) S (metX0_measure l D dA h q pl ms sv sf su cn sm lo hi n k hI (xs (i + 1)) (xs (i + 2))) gw_L_23 hd_X0_measure rfl rfl ⟨Nat.le_of_ble_eq_true rfl, Nat.le_of_ble_eq_true rfl⟩ rfl hl.1 rfl (Nat.le_of_ble_eq_true rfl) dL_law_203 ⟨Nat.le_of_ble_eq_true rfl, Nat.le_of_ble_eq_true rfl⟩ hK hA hP hD hS (ci := 0) rfl rfl rfl (fun r1 u1 H locs hu1 hP hD hS => ?_)
        obtain ⟨er1, sv1, sf1, su1, cn1, sm1, lo1, hi1, k1, rfl, hI1⟩ := hu1
        refine lv_aload_n hx hb dL_law_206 rfl (lv_at hl 2 rfl) ?_
        refine lv_aload_n hx hb dL_law_207 rfl (lv_at hl 0 rfl) ?_
        refine lv_iload_n hx hb dL_law_208 rfl (lv_at hl 3 rfl) ?_
        refine lv_iconst (v := nI 1) hx hb dL_law_209 (by decide +kernel) ?_
        refine zz_add hx hb dL_law_210 ?_
        refine zs_ld hx hb hX hbl hbA hS hL (by omega) dL_law_211 ?_
        refine lv_aload_n hx hb dL_law_212 rfl (lv_at hl 0 rfl) ?_
        refine lv_iload_n hx hb dL_law_213 rfl (lv_at hl 3 rfl) ?_
        refine lv_iconst (v := nI 2) hx hb dL_law_214 (by decide +kernel) ?_
        refine zz_add hx hb dL_law_215 ?_
        refine zs_ld hx hb hX hbl hbA hS hL (by omega) dL_law_216 ?_
        refine ll_call (V := MV h2 q2 dA) (u := (pl, ms, nI n)) (w2 := XV h q dA ((pMeas (pl, ms, n) (xs (i + 1)) (xs (i + 2))).2.1, (pMeas (pl, ms, n) (xs (i + 1)) (xs (i + 2))).2.2.1, sv1, sf1, su1, cn1, sm1, lo1, hi1, nI (pMeas (pl, ms, n) (xs (i + 1)) (xs (i + 2))).2.2.2, k1)) (As := [.int (xs (i + 1)), .int (xs (i + 2))]) (rest := [.int r1]) S (metX1_measure l D dA h2 q2 pl ms n hI.1.1 (xs (i + 1)) (xs (i + 2))) gw_L_26 hd_X1_measure rfl rfl ⟨Nat.le_of_ble_eq_true rfl, Nat.le_of_ble_eq_true rfl⟩ rfl hl.1 rfl (Nat.le_of_ble_eq_true rfl) dL_law_217 ⟨Nat.le_of_ble_eq_true rfl, Nat.le_of_ble_eq_true rfl⟩ hK hA hP hD hS (ci := 1) rfl rfl rfl (fun r2 u2 H locs hu2 hP hD hS => ?_)
        obtain ⟨er2, rfl⟩ := hu2
        refine lv_icmp_eq (tgt := 617) hx hb dL_law_220 (by decide) (fun c_2 => ?_) (fun c_2 => absurd (er1.trans er2.symm) c_2)
        exact cont (pMeas (pl, ms, n) (xs (i + 1)) (xs (i + 2))).2.1 (pMeas (pl, ms, n) (xs (i + 1)) (xs (i + 2))).2.2.1 sv1 sf1 su1 cn1 sm1 lo1 hi1 (pMeas (pl, ms, n) (xs (i + 1)) (xs (i + 2))).2.2.2 k1 hI1 H locs hP hD hS ls hl
      · refine lv_tableIn (x := nI 3) (off := 193) (tgt := 225) hx hb dL_law_32 (by decide +kernel) (by decide +kernel) (by decide +kernel) (by decide) ?_
        refine lv_aload_n hx hb dL_law_225 rfl (lv_at hl 1 rfl) ?_
        refine lv_aload_n hx hb dL_law_226 rfl (lv_at hl 0 rfl) ?_
        refine lv_iload_n hx hb dL_law_227 rfl (lv_at hl 3 rfl) ?_
        refine lv_iconst (v := nI 1) hx hb dL_law_228 (by decide +kernel) ?_
        refine zz_add hx hb dL_law_229 ?_
        refine zs_ld hx hb hX hbl hbA hS hL (by omega) dL_law_230 ?_
        refine ll_call (V := XV h q dA) (u := (pl, ms, sv, sf, su, cn, sm, lo, hi, nI n, k)) (w2 := MW h2 q2 dA pl ms (nI n)) (As := [.int (xs (i + 1))]) (rest := []) S (metX0_drop l D dA h q pl ms sv sf su cn sm lo hi n k hI (xs (i + 1))) gw_L_27 hd_X0_drop rfl rfl ⟨Nat.le_of_ble_eq_true rfl, Nat.le_of_ble_eq_true rfl⟩ rfl hl.1 rfl (Nat.le_of_ble_eq_true rfl) dL_law_231 ⟨Nat.le_of_ble_eq_true rfl, Nat.le_of_ble_eq_true rfl⟩ hK hA hP hD hS (ci := 0) rfl rfl rfl (fun r1 u1 H locs hu1 hP hD hS => ?_)
        obtain ⟨er1, sv1, sf1, su1, cn1, sm1, lo1, hi1, k1, rfl, hI1⟩ := hu1
        refine lv_aload_n hx hb dL_law_234 rfl (lv_at hl 2 rfl) ?_
        refine lv_aload_n hx hb dL_law_235 rfl (lv_at hl 0 rfl) ?_
        refine lv_iload_n hx hb dL_law_236 rfl (lv_at hl 3 rfl) ?_
        refine lv_iconst (v := nI 1) hx hb dL_law_237 (by decide +kernel) ?_
        refine zz_add hx hb dL_law_238 ?_
        refine zs_ld hx hb hX hbl hbA hS hL (by omega) dL_law_239 ?_
        refine ll_call (V := MV h2 q2 dA) (u := (pl, ms, nI n)) (w2 := XV h q dA ((pDrop (pl, ms, n) (xs (i + 1))).2.1, (pDrop (pl, ms, n) (xs (i + 1))).2.2.1, sv1, sf1, su1, cn1, sm1, lo1, hi1, nI (pDrop (pl, ms, n) (xs (i + 1))).2.2.2, k1)) (As := [.int (xs (i + 1))]) (rest := [.int r1]) S (metX1_drop l D dA h2 q2 pl ms n hI.1.1 (xs (i + 1))) gw_L_31 hd_X1_drop rfl rfl ⟨Nat.le_of_ble_eq_true rfl, Nat.le_of_ble_eq_true rfl⟩ rfl hl.1 rfl (Nat.le_of_ble_eq_true rfl) dL_law_240 ⟨Nat.le_of_ble_eq_true rfl, Nat.le_of_ble_eq_true rfl⟩ hK hA hP hD hS (ci := 1) rfl rfl rfl (fun r2 u2 H locs hu2 hP hD hS => ?_)
        obtain ⟨er2, rfl⟩ := hu2
        refine lv_icmp_eq (tgt := 617) hx hb dL_law_243 (by decide) (fun c_2 => ?_) (fun c_2 => absurd (er1.trans er2.symm) c_2)
        exact cont (pDrop (pl, ms, n) (xs (i + 1))).2.1 (pDrop (pl, ms, n) (xs (i + 1))).2.2.1 sv1 sf1 su1 cn1 sm1 lo1 hi1 (pDrop (pl, ms, n) (xs (i + 1))).2.2.2 k1 hI1 H locs hP hD hS ls hl
      · refine lv_tableIn (x := nI 4) (off := 216) (tgt := 248) hx hb dL_law_32 (by decide +kernel) (by decide +kernel) (by decide +kernel) (by decide) ?_
        refine lv_aload_n hx hb dL_law_248 rfl (lv_at hl 1 rfl) ?_
        refine lv_aload_n hx hb dL_law_249 rfl (lv_at hl 0 rfl) ?_
        refine lv_iload_n hx hb dL_law_250 rfl (lv_at hl 3 rfl) ?_
        refine lv_iconst (v := nI 1) hx hb dL_law_251 (by decide +kernel) ?_
        refine zz_add hx hb dL_law_252 ?_
        refine zs_ld hx hb hX hbl hbA hS hL (by omega) dL_law_253 ?_
        refine ll_call (V := XV h q dA) (u := (pl, ms, sv, sf, su, cn, sm, lo, hi, nI n, k)) (w2 := MW h2 q2 dA pl ms (nI n)) (As := [.int (xs (i + 1))]) (rest := []) S (metX0_prepare l D dA h q pl ms sv sf su cn sm lo hi n k hI (xs (i + 1))) gw_L_32 hd_X0_prepare rfl rfl ⟨Nat.le_of_ble_eq_true rfl, Nat.le_of_ble_eq_true rfl⟩ rfl hl.1 rfl (Nat.le_of_ble_eq_true rfl) dL_law_254 ⟨Nat.le_of_ble_eq_true rfl, Nat.le_of_ble_eq_true rfl⟩ hK hA hP hD hS (ci := 0) rfl rfl rfl (fun r1 u1 H locs hu1 hP hD hS => ?_)
        obtain ⟨er1, sv1, sf1, su1, cn1, sm1, lo1, hi1, k1, rfl, hI1⟩ := hu1
        refine lv_aload_n hx hb dL_law_257 rfl (lv_at hl 2 rfl) ?_
        refine lv_aload_n hx hb dL_law_258 rfl (lv_at hl 0 rfl) ?_
        refine lv_iload_n hx hb dL_law_259 rfl (lv_at hl 3 rfl) ?_
        refine lv_iconst (v := nI 1) hx hb dL_law_260 (by decide +kernel) ?_
        refine zz_add hx hb dL_law_261 ?_
        refine zs_ld hx hb hX hbl hbA hS hL (by omega) dL_law_262 ?_
        have hP : va_P D vwCl (MW h2 q2 dA pl ms (nI n) ++ XW h q dA pl ms sv1 sf1 su1 cn1 sm1 lo1 hi1 (nI n) k1) H := hP
        have hD : va_D (fun q : Nat => s.heap.size ≤ q) (MW h2 q2 dA pl ms (nI n) ++ XW h q dA pl ms sv1 sf1 su1 cn1 sm1 lo1 hi1 (nI n) k1) := hD
        refine zz_callR (As := [.int (xs (i + 1))]) (rest := [.int r1]) S (metX1_prepare l D dA h2 q2 pl ms n hI.1 (xs (i + 1))) gw_L_35 hd_X1_prepare rfl rfl ⟨Nat.le_of_ble_eq_true rfl, Nat.le_of_ble_eq_true rfl⟩ rfl hl.1 rfl (Nat.le_of_ble_eq_true rfl) dL_law_263 ⟨Nat.le_of_ble_eq_true rfl, Nat.le_of_ble_eq_true rfl⟩ hK (va_left hP) (ci := 1) rfl rfl rfl (fun r2 er2 => ?_)
        obtain ⟨hP, hD⟩ := va_swap hP hD
        refine lv_icmp_eq (tgt := 617) hx hb dL_law_266 (by decide) (fun c_2 => ?_) (fun c_2 => absurd (er1.trans er2.symm) c_2)
        exact cont pl ms sv1 sf1 su1 cn1 sm1 lo1 hi1 n k1 hI1 H locs hP hD hS ls hl
      · refine lv_tableIn (x := nI 5) (off := 239) (tgt := 271) hx hb dL_law_32 (by decide +kernel) (by decide +kernel) (by decide +kernel) (by decide) ?_
        refine lv_aload_n hx hb dL_law_271 rfl (lv_at hl 1 rfl) ?_
        refine ll_call (V := XV h q dA) (u := (pl, ms, sv, sf, su, cn, sm, lo, hi, nI n, k)) (w2 := MW h2 q2 dA pl ms (nI n)) (As := []) (rest := []) S (metX0_facts l D dA h q pl ms sv sf su cn sm lo hi n k hI ) gw_L_36 hd_X0_facts rfl rfl ⟨Nat.le_of_ble_eq_true rfl, Nat.le_of_ble_eq_true rfl⟩ rfl hl.1 rfl (Nat.le_of_ble_eq_true rfl) dL_law_272 ⟨Nat.le_of_ble_eq_true rfl, Nat.le_of_ble_eq_true rfl⟩ hK hA hP hD hS (ci := 0) rfl rfl rfl (fun r1 u1 H locs hu1 hP hD hS => ?_)
        obtain ⟨er1, sv1, sf1, su1, cn1, sm1, lo1, hi1, k1, rfl, hI1⟩ := hu1
        refine lv_aload_n hx hb dL_law_275 rfl (lv_at hl 2 rfl) ?_
        have hP : va_P D vwCl (MW h2 q2 dA pl ms (nI n) ++ XW h q dA pl ms sv1 sf1 su1 cn1 sm1 lo1 hi1 (nI n) k1) H := hP
        have hD : va_D (fun q : Nat => s.heap.size ≤ q) (MW h2 q2 dA pl ms (nI n) ++ XW h q dA pl ms sv1 sf1 su1 cn1 sm1 lo1 hi1 (nI n) k1) := hD
        refine zz_callR (As := []) (rest := [.int r1]) S (metX1_facts l D dA h2 q2 pl ms n ) gw_L_40 hd_X1_facts rfl rfl ⟨Nat.le_of_ble_eq_true rfl, Nat.le_of_ble_eq_true rfl⟩ rfl hl.1 rfl (Nat.le_of_ble_eq_true rfl) dL_law_276 ⟨Nat.le_of_ble_eq_true rfl, Nat.le_of_ble_eq_true rfl⟩ hK (va_left hP) (ci := 1) rfl rfl rfl (fun r2 er2 => ?_)
        obtain ⟨hP, hD⟩ := va_swap hP hD
        refine lv_icmp_eq (tgt := 617) hx hb dL_law_279 (by decide) (fun c_2 => ?_) (fun c_2 => absurd (er1.trans er2.symm) c_2)
        exact cont pl ms sv1 sf1 su1 cn1 sm1 lo1 hi1 n k1 hI1 H locs hP hD hS ls hl
      · refine lv_tableIn (x := nI 6) (off := 252) (tgt := 284) hx hb dL_law_32 (by decide +kernel) (by decide +kernel) (by decide +kernel) (by decide) ?_
        refine lv_aload_n hx hb dL_law_284 rfl (lv_at hl 1 rfl) ?_
        refine lv_aload_n hx hb dL_law_285 rfl (lv_at hl 0 rfl) ?_
        refine lv_iload_n hx hb dL_law_286 rfl (lv_at hl 3 rfl) ?_
        refine lv_iconst (v := nI 1) hx hb dL_law_287 (by decide +kernel) ?_
        refine zz_add hx hb dL_law_288 ?_
        refine zs_ld hx hb hX hbl hbA hS hL (by omega) dL_law_289 ?_
        refine lv_aload_n hx hb dL_law_290 rfl (lv_at hl 0 rfl) ?_
        refine lv_iload_n hx hb dL_law_291 rfl (lv_at hl 3 rfl) ?_
        refine lv_iconst (v := nI 2) hx hb dL_law_292 (by decide +kernel) ?_
        refine zz_add hx hb dL_law_293 ?_
        refine zs_ld hx hb hX hbl hbA hS hL (by omega) dL_law_294 ?_
        refine ll_call (V := XV h q dA) (u := (pl, ms, sv, sf, su, cn, sm, lo, hi, nI n, k)) (w2 := MW h2 q2 dA pl ms (nI n)) (As := [.int (xs (i + 1)), .int (xs (i + 2))]) (rest := []) S (metX0_cellOf l D dA h q pl ms sv sf su cn sm lo hi n k hI (xs (i + 1)) (xs (i + 2))) gw_L_41 hd_X0_cellOf rfl rfl ⟨Nat.le_of_ble_eq_true rfl, Nat.le_of_ble_eq_true rfl⟩ rfl hl.1 rfl (Nat.le_of_ble_eq_true rfl) dL_law_295 ⟨Nat.le_of_ble_eq_true rfl, Nat.le_of_ble_eq_true rfl⟩ hK hA hP hD hS (ci := 0) rfl rfl rfl (fun r1 u1 H locs hu1 hP hD hS => ?_)
        obtain ⟨er1, sv1, sf1, su1, cn1, sm1, lo1, hi1, k1, rfl, hI1⟩ := hu1
        refine lv_aload_n hx hb dL_law_298 rfl (lv_at hl 2 rfl) ?_
        refine lv_aload_n hx hb dL_law_299 rfl (lv_at hl 0 rfl) ?_
        refine lv_iload_n hx hb dL_law_300 rfl (lv_at hl 3 rfl) ?_
        refine lv_iconst (v := nI 1) hx hb dL_law_301 (by decide +kernel) ?_
        refine zz_add hx hb dL_law_302 ?_
        refine zs_ld hx hb hX hbl hbA hS hL (by omega) dL_law_303 ?_
        refine lv_aload_n hx hb dL_law_304 rfl (lv_at hl 0 rfl) ?_
        refine lv_iload_n hx hb dL_law_305 rfl (lv_at hl 3 rfl) ?_
        refine lv_iconst (v := nI 2) hx hb dL_law_306 (by decide +kernel) ?_
        refine zz_add hx hb dL_law_307 ?_
        refine zs_ld hx hb hX hbl hbA hS hL (by omega) dL_law_308 ?_
        have hP : va_P D vwCl (MW h2 q2 dA pl ms (nI n) ++ XW h q dA pl ms sv1 sf1 su1 cn1 sm1 lo1 hi1 (nI n) k1) H := hP
        have hD : va_D (fun q : Nat => s.heap.size ≤ q) (MW h2 q2 dA pl ms (nI n) ++ XW h q dA pl ms sv1 sf1 su1 cn1 sm1 lo1 hi1 (nI n) k1) := hD
        refine zz_callR (As := [.int (xs (i + 1)), .int (xs (i + 2))]) (rest := [.int r1]) S (metX1_cellOf l D dA h2 q2 pl ms n hI.1 (xs (i + 1)) (xs (i + 2))) gw_L_44 hd_X1_cellOf rfl rfl ⟨Nat.le_of_ble_eq_true rfl, Nat.le_of_ble_eq_true rfl⟩ rfl hl.1 rfl (Nat.le_of_ble_eq_true rfl) dL_law_309 ⟨Nat.le_of_ble_eq_true rfl, Nat.le_of_ble_eq_true rfl⟩ hK (va_left hP) (ci := 1) rfl rfl rfl (fun r2 er2 => ?_)
        obtain ⟨hP, hD⟩ := va_swap hP hD
        refine lv_icmp_eq (tgt := 617) hx hb dL_law_312 (by decide) (fun c_2 => ?_) (fun c_2 => absurd (er1.trans er2.symm) c_2)
        exact cont pl ms sv1 sf1 su1 cn1 sm1 lo1 hi1 n k1 hI1 H locs hP hD hS ls hl
      · refine lv_tableIn (x := nI 7) (off := 285) (tgt := 317) hx hb dL_law_32 (by decide +kernel) (by decide +kernel) (by decide +kernel) (by decide) ?_
        refine lv_aload_n hx hb dL_law_317 rfl (lv_at hl 1 rfl) ?_
        refine lv_aload_n hx hb dL_law_318 rfl (lv_at hl 0 rfl) ?_
        refine lv_iload_n hx hb dL_law_319 rfl (lv_at hl 3 rfl) ?_
        refine lv_iconst (v := nI 1) hx hb dL_law_320 (by decide +kernel) ?_
        refine zz_add hx hb dL_law_321 ?_
        refine zs_ld hx hb hX hbl hbA hS hL (by omega) dL_law_322 ?_
        refine ll_call (V := XV h q dA) (u := (pl, ms, sv, sf, su, cn, sm, lo, hi, nI n, k)) (w2 := MW h2 q2 dA pl ms (nI n)) (As := [.int (xs (i + 1))]) (rest := []) S (metX0_full l D dA h q pl ms sv sf su cn sm lo hi n k hI (xs (i + 1))) gw_L_45 hd_X0_full rfl rfl ⟨Nat.le_of_ble_eq_true rfl, Nat.le_of_ble_eq_true rfl⟩ rfl hl.1 rfl (Nat.le_of_ble_eq_true rfl) dL_law_323 ⟨Nat.le_of_ble_eq_true rfl, Nat.le_of_ble_eq_true rfl⟩ hK hA hP hD hS (ci := 0) rfl rfl rfl (fun r1 u1 H locs hu1 hP hD hS => ?_)
        obtain ⟨er1, sv1, sf1, su1, cn1, sm1, lo1, hi1, k1, rfl, hI1⟩ := hu1
        refine lv_aload_n hx hb dL_law_326 rfl (lv_at hl 2 rfl) ?_
        refine lv_aload_n hx hb dL_law_327 rfl (lv_at hl 0 rfl) ?_
        refine lv_iload_n hx hb dL_law_328 rfl (lv_at hl 3 rfl) ?_
        refine lv_iconst (v := nI 1) hx hb dL_law_329 (by decide +kernel) ?_
        refine zz_add hx hb dL_law_330 ?_
        refine zs_ld hx hb hX hbl hbA hS hL (by omega) dL_law_331 ?_
        have hP : va_P D vwCl (MW h2 q2 dA pl ms (nI n) ++ XW h q dA pl ms sv1 sf1 su1 cn1 sm1 lo1 hi1 (nI n) k1) H := hP
        have hD : va_D (fun q : Nat => s.heap.size ≤ q) (MW h2 q2 dA pl ms (nI n) ++ XW h q dA pl ms sv1 sf1 su1 cn1 sm1 lo1 hi1 (nI n) k1) := hD
        refine zz_callR (As := [.int (xs (i + 1))]) (rest := [.int r1]) S (metX1_full l D dA h2 q2 pl ms n hI.1 (xs (i + 1))) gw_L_48 hd_X1_full rfl rfl ⟨Nat.le_of_ble_eq_true rfl, Nat.le_of_ble_eq_true rfl⟩ rfl hl.1 rfl (Nat.le_of_ble_eq_true rfl) dL_law_332 ⟨Nat.le_of_ble_eq_true rfl, Nat.le_of_ble_eq_true rfl⟩ hK (va_left hP) (ci := 1) rfl rfl rfl (fun r2 er2 => ?_)
        obtain ⟨hP, hD⟩ := va_swap hP hD
        refine lv_icmp_eq (tgt := 617) hx hb dL_law_335 (by decide) (fun c_2 => ?_) (fun c_2 => absurd (er1.trans er2.symm) c_2)
        exact cont pl ms sv1 sf1 su1 cn1 sm1 lo1 hi1 n k1 hI1 H locs hP hD hS ls hl
      · refine lv_tableIn (x := nI 8) (off := 308) (tgt := 340) hx hb dL_law_32 (by decide +kernel) (by decide +kernel) (by decide +kernel) (by decide) ?_
        refine lv_aload_n hx hb dL_law_340 rfl (lv_at hl 1 rfl) ?_
        refine lv_aload_n hx hb dL_law_341 rfl (lv_at hl 0 rfl) ?_
        refine lv_iload_n hx hb dL_law_342 rfl (lv_at hl 3 rfl) ?_
        refine lv_iconst (v := nI 1) hx hb dL_law_343 (by decide +kernel) ?_
        refine zz_add hx hb dL_law_344 ?_
        refine zs_ld hx hb hX hbl hbA hS hL (by omega) dL_law_345 ?_
        refine lv_aload_n hx hb dL_law_346 rfl (lv_at hl 0 rfl) ?_
        refine lv_iload_n hx hb dL_law_347 rfl (lv_at hl 3 rfl) ?_
        refine lv_iconst (v := nI 2) hx hb dL_law_348 (by decide +kernel) ?_
        refine zz_add hx hb dL_law_349 ?_
        refine zs_ld hx hb hX hbl hbA hS hL (by omega) dL_law_350 ?_
        refine ll_call (V := XV h q dA) (u := (pl, ms, sv, sf, su, cn, sm, lo, hi, nI n, k)) (w2 := MW h2 q2 dA pl ms (nI n)) (As := [.int (xs (i + 1)), .int (xs (i + 2))]) (rest := []) S (metX0_count l D dA h q pl ms sv sf su cn sm lo hi n k hI (xs (i + 1)) (xs (i + 2))) gw_L_49 hd_X0_count rfl rfl ⟨Nat.le_of_ble_eq_true rfl, Nat.le_of_ble_eq_true rfl⟩ rfl hl.1 rfl (Nat.le_of_ble_eq_true rfl) dL_law_351 ⟨Nat.le_of_ble_eq_true rfl, Nat.le_of_ble_eq_true rfl⟩ hK hA hP hD hS (ci := 0) rfl rfl rfl (fun r1 u1 H locs hu1 hP hD hS => ?_)
        obtain ⟨er1, sv1, sf1, su1, cn1, sm1, lo1, hi1, k1, rfl, hI1⟩ := hu1
        refine lv_aload_n hx hb dL_law_354 rfl (lv_at hl 2 rfl) ?_
        refine lv_aload_n hx hb dL_law_355 rfl (lv_at hl 0 rfl) ?_
        refine lv_iload_n hx hb dL_law_356 rfl (lv_at hl 3 rfl) ?_
        refine lv_iconst (v := nI 1) hx hb dL_law_357 (by decide +kernel) ?_
        refine zz_add hx hb dL_law_358 ?_
        refine zs_ld hx hb hX hbl hbA hS hL (by omega) dL_law_359 ?_
        refine lv_aload_n hx hb dL_law_360 rfl (lv_at hl 0 rfl) ?_
        refine lv_iload_n hx hb dL_law_361 rfl (lv_at hl 3 rfl) ?_
        refine lv_iconst (v := nI 2) hx hb dL_law_362 (by decide +kernel) ?_
        refine zz_add hx hb dL_law_363 ?_
        refine zs_ld hx hb hX hbl hbA hS hL (by omega) dL_law_364 ?_
        have hP : va_P D vwCl (MW h2 q2 dA pl ms (nI n) ++ XW h q dA pl ms sv1 sf1 su1 cn1 sm1 lo1 hi1 (nI n) k1) H := hP
        have hD : va_D (fun q : Nat => s.heap.size ≤ q) (MW h2 q2 dA pl ms (nI n) ++ XW h q dA pl ms sv1 sf1 su1 cn1 sm1 lo1 hi1 (nI n) k1) := hD
        refine zz_callR (As := [.int (xs (i + 1)), .int (xs (i + 2))]) (rest := [.int r1]) S (metX1_count l D dA h2 q2 pl ms n hI.1 (xs (i + 1)) (xs (i + 2))) gw_L_52 hd_X1_count rfl rfl ⟨Nat.le_of_ble_eq_true rfl, Nat.le_of_ble_eq_true rfl⟩ rfl hl.1 rfl (Nat.le_of_ble_eq_true rfl) dL_law_365 ⟨Nat.le_of_ble_eq_true rfl, Nat.le_of_ble_eq_true rfl⟩ hK (va_left hP) (ci := 1) rfl rfl rfl (fun r2 er2 => ?_)
        obtain ⟨hP, hD⟩ := va_swap hP hD
        refine lv_icmp_eq (tgt := 617) hx hb dL_law_368 (by decide) (fun c_2 => ?_) (fun c_2 => absurd (er1.trans er2.symm) c_2)
        exact cont pl ms sv1 sf1 su1 cn1 sm1 lo1 hi1 n k1 hI1 H locs hP hD hS ls hl
      · refine lv_tableIn (x := nI 9) (off := 341) (tgt := 373) hx hb dL_law_32 (by decide +kernel) (by decide +kernel) (by decide +kernel) (by decide) ?_
        refine lv_aload_n hx hb dL_law_373 rfl (lv_at hl 1 rfl) ?_
        refine lv_aload_n hx hb dL_law_374 rfl (lv_at hl 0 rfl) ?_
        refine lv_iload_n hx hb dL_law_375 rfl (lv_at hl 3 rfl) ?_
        refine lv_iconst (v := nI 1) hx hb dL_law_376 (by decide +kernel) ?_
        refine zz_add hx hb dL_law_377 ?_
        refine zs_ld hx hb hX hbl hbA hS hL (by omega) dL_law_378 ?_
        refine lv_aload_n hx hb dL_law_379 rfl (lv_at hl 0 rfl) ?_
        refine lv_iload_n hx hb dL_law_380 rfl (lv_at hl 3 rfl) ?_
        refine lv_iconst (v := nI 2) hx hb dL_law_381 (by decide +kernel) ?_
        refine zz_add hx hb dL_law_382 ?_
        refine zs_ld hx hb hX hbl hbA hS hL (by omega) dL_law_383 ?_
        refine ll_call (V := XV h q dA) (u := (pl, ms, sv, sf, su, cn, sm, lo, hi, nI n, k)) (w2 := MW h2 q2 dA pl ms (nI n)) (As := [.int (xs (i + 1)), .int (xs (i + 2))]) (rest := []) S (metX0_sum l D dA h q pl ms sv sf su cn sm lo hi n k hI (xs (i + 1)) (xs (i + 2))) gw_L_53 hd_X0_sum rfl rfl ⟨Nat.le_of_ble_eq_true rfl, Nat.le_of_ble_eq_true rfl⟩ rfl hl.1 rfl (Nat.le_of_ble_eq_true rfl) dL_law_384 ⟨Nat.le_of_ble_eq_true rfl, Nat.le_of_ble_eq_true rfl⟩ hK hA hP hD hS (ci := 0) rfl rfl rfl (fun r1 u1 H locs hu1 hP hD hS => ?_)
        obtain ⟨er1, sv1, sf1, su1, cn1, sm1, lo1, hi1, k1, rfl, hI1⟩ := hu1
        refine lv_aload_n hx hb dL_law_387 rfl (lv_at hl 2 rfl) ?_
        refine lv_aload_n hx hb dL_law_388 rfl (lv_at hl 0 rfl) ?_
        refine lv_iload_n hx hb dL_law_389 rfl (lv_at hl 3 rfl) ?_
        refine lv_iconst (v := nI 1) hx hb dL_law_390 (by decide +kernel) ?_
        refine zz_add hx hb dL_law_391 ?_
        refine zs_ld hx hb hX hbl hbA hS hL (by omega) dL_law_392 ?_
        refine lv_aload_n hx hb dL_law_393 rfl (lv_at hl 0 rfl) ?_
        refine lv_iload_n hx hb dL_law_394 rfl (lv_at hl 3 rfl) ?_
        refine lv_iconst (v := nI 2) hx hb dL_law_395 (by decide +kernel) ?_
        refine zz_add hx hb dL_law_396 ?_
        refine zs_ld hx hb hX hbl hbA hS hL (by omega) dL_law_397 ?_
        have hP : va_P D vwCl (MW h2 q2 dA pl ms (nI n) ++ XW h q dA pl ms sv1 sf1 su1 cn1 sm1 lo1 hi1 (nI n) k1) H := hP
        have hD : va_D (fun q : Nat => s.heap.size ≤ q) (MW h2 q2 dA pl ms (nI n) ++ XW h q dA pl ms sv1 sf1 su1 cn1 sm1 lo1 hi1 (nI n) k1) := hD
        refine zz_callR (As := [.int (xs (i + 1)), .int (xs (i + 2))]) (rest := [.int r1]) S (metX1_sum l D dA h2 q2 pl ms n hI.1 (xs (i + 1)) (xs (i + 2))) gw_L_56 hd_X1_sum rfl rfl ⟨Nat.le_of_ble_eq_true rfl, Nat.le_of_ble_eq_true rfl⟩ rfl hl.1 rfl (Nat.le_of_ble_eq_true rfl) dL_law_398 ⟨Nat.le_of_ble_eq_true rfl, Nat.le_of_ble_eq_true rfl⟩ hK (va_left hP) (ci := 1) rfl rfl rfl (fun r2 er2 => ?_)
        obtain ⟨hP, hD⟩ := va_swap hP hD
        refine lv_icmp_eq (tgt := 617) hx hb dL_law_401 (by decide) (fun c_2 => ?_) (fun c_2 => absurd (er1.trans er2.symm) c_2)
        exact cont pl ms sv1 sf1 su1 cn1 sm1 lo1 hi1 n k1 hI1 H locs hP hD hS ls hl
      · refine lv_tableIn (x := nI 10) (off := 374) (tgt := 406) hx hb dL_law_32 (by decide +kernel) (by decide +kernel) (by decide +kernel) (by decide) ?_
        refine lv_aload_n hx hb dL_law_406 rfl (lv_at hl 1 rfl) ?_
        refine lv_aload_n hx hb dL_law_407 rfl (lv_at hl 0 rfl) ?_
        refine lv_iload_n hx hb dL_law_408 rfl (lv_at hl 3 rfl) ?_
        refine lv_iconst (v := nI 1) hx hb dL_law_409 (by decide +kernel) ?_
        refine zz_add hx hb dL_law_410 ?_
        refine zs_ld hx hb hX hbl hbA hS hL (by omega) dL_law_411 ?_
        refine lv_aload_n hx hb dL_law_412 rfl (lv_at hl 0 rfl) ?_
        refine lv_iload_n hx hb dL_law_413 rfl (lv_at hl 3 rfl) ?_
        refine lv_iconst (v := nI 2) hx hb dL_law_414 (by decide +kernel) ?_
        refine zz_add hx hb dL_law_415 ?_
        refine zs_ld hx hb hX hbl hbA hS hL (by omega) dL_law_416 ?_
        refine ll_call (V := XV h q dA) (u := (pl, ms, sv, sf, su, cn, sm, lo, hi, nI n, k)) (w2 := MW h2 q2 dA pl ms (nI n)) (As := [.int (xs (i + 1)), .int (xs (i + 2))]) (rest := []) S (metX0_least l D dA h q pl ms sv sf su cn sm lo hi n k hI (xs (i + 1)) (xs (i + 2))) gw_L_57 hd_X0_least rfl rfl ⟨Nat.le_of_ble_eq_true rfl, Nat.le_of_ble_eq_true rfl⟩ rfl hl.1 rfl (Nat.le_of_ble_eq_true rfl) dL_law_417 ⟨Nat.le_of_ble_eq_true rfl, Nat.le_of_ble_eq_true rfl⟩ hK hA hP hD hS (ci := 0) rfl rfl rfl (fun r1 u1 H locs hu1 hP hD hS => ?_)
        obtain ⟨er1, sv1, sf1, su1, cn1, sm1, lo1, hi1, k1, rfl, hI1⟩ := hu1
        refine lv_aload_n hx hb dL_law_420 rfl (lv_at hl 2 rfl) ?_
        refine lv_aload_n hx hb dL_law_421 rfl (lv_at hl 0 rfl) ?_
        refine lv_iload_n hx hb dL_law_422 rfl (lv_at hl 3 rfl) ?_
        refine lv_iconst (v := nI 1) hx hb dL_law_423 (by decide +kernel) ?_
        refine zz_add hx hb dL_law_424 ?_
        refine zs_ld hx hb hX hbl hbA hS hL (by omega) dL_law_425 ?_
        refine lv_aload_n hx hb dL_law_426 rfl (lv_at hl 0 rfl) ?_
        refine lv_iload_n hx hb dL_law_427 rfl (lv_at hl 3 rfl) ?_
        refine lv_iconst (v := nI 2) hx hb dL_law_428 (by decide +kernel) ?_
        refine zz_add hx hb dL_law_429 ?_
        refine zs_ld hx hb hX hbl hbA hS hL (by omega) dL_law_430 ?_
        have hP : va_P D vwCl (MW h2 q2 dA pl ms (nI n) ++ XW h q dA pl ms sv1 sf1 su1 cn1 sm1 lo1 hi1 (nI n) k1) H := hP
        have hD : va_D (fun q : Nat => s.heap.size ≤ q) (MW h2 q2 dA pl ms (nI n) ++ XW h q dA pl ms sv1 sf1 su1 cn1 sm1 lo1 hi1 (nI n) k1) := hD
        refine zz_callR (As := [.int (xs (i + 1)), .int (xs (i + 2))]) (rest := [.int r1]) S (metX1_least l D dA h2 q2 pl ms n hI.1 (xs (i + 1)) (xs (i + 2))) gw_L_60 hd_X1_least rfl rfl ⟨Nat.le_of_ble_eq_true rfl, Nat.le_of_ble_eq_true rfl⟩ rfl hl.1 rfl (Nat.le_of_ble_eq_true rfl) dL_law_431 ⟨Nat.le_of_ble_eq_true rfl, Nat.le_of_ble_eq_true rfl⟩ hK (va_left hP) (ci := 1) rfl rfl rfl (fun r2 er2 => ?_)
        obtain ⟨hP, hD⟩ := va_swap hP hD
        refine lv_icmp_eq (tgt := 617) hx hb dL_law_434 (by decide) (fun c_2 => ?_) (fun c_2 => absurd (er1.trans er2.symm) c_2)
        exact cont pl ms sv1 sf1 su1 cn1 sm1 lo1 hi1 n k1 hI1 H locs hP hD hS ls hl
      · refine lv_tableIn (x := nI 11) (off := 407) (tgt := 439) hx hb dL_law_32 (by decide +kernel) (by decide +kernel) (by decide +kernel) (by decide) ?_
        refine lv_aload_n hx hb dL_law_439 rfl (lv_at hl 1 rfl) ?_
        refine lv_aload_n hx hb dL_law_440 rfl (lv_at hl 0 rfl) ?_
        refine lv_iload_n hx hb dL_law_441 rfl (lv_at hl 3 rfl) ?_
        refine lv_iconst (v := nI 1) hx hb dL_law_442 (by decide +kernel) ?_
        refine zz_add hx hb dL_law_443 ?_
        refine zs_ld hx hb hX hbl hbA hS hL (by omega) dL_law_444 ?_
        refine lv_aload_n hx hb dL_law_445 rfl (lv_at hl 0 rfl) ?_
        refine lv_iload_n hx hb dL_law_446 rfl (lv_at hl 3 rfl) ?_
        refine lv_iconst (v := nI 2) hx hb dL_law_447 (by decide +kernel) ?_
        refine zz_add hx hb dL_law_448 ?_
        refine zs_ld hx hb hX hbl hbA hS hL (by omega) dL_law_449 ?_
        refine ll_call (V := XV h q dA) (u := (pl, ms, sv, sf, su, cn, sm, lo, hi, nI n, k)) (w2 := MW h2 q2 dA pl ms (nI n)) (As := [.int (xs (i + 1)), .int (xs (i + 2))]) (rest := []) S (metX0_most l D dA h q pl ms sv sf su cn sm lo hi n k hI (xs (i + 1)) (xs (i + 2))) gw_L_61 hd_X0_most rfl rfl ⟨Nat.le_of_ble_eq_true rfl, Nat.le_of_ble_eq_true rfl⟩ rfl hl.1 rfl (Nat.le_of_ble_eq_true rfl) dL_law_450 ⟨Nat.le_of_ble_eq_true rfl, Nat.le_of_ble_eq_true rfl⟩ hK hA hP hD hS (ci := 0) rfl rfl rfl (fun r1 u1 H locs hu1 hP hD hS => ?_)
        obtain ⟨er1, sv1, sf1, su1, cn1, sm1, lo1, hi1, k1, rfl, hI1⟩ := hu1
        refine lv_aload_n hx hb dL_law_453 rfl (lv_at hl 2 rfl) ?_
        refine lv_aload_n hx hb dL_law_454 rfl (lv_at hl 0 rfl) ?_
        refine lv_iload_n hx hb dL_law_455 rfl (lv_at hl 3 rfl) ?_
        refine lv_iconst (v := nI 1) hx hb dL_law_456 (by decide +kernel) ?_
        refine zz_add hx hb dL_law_457 ?_
        refine zs_ld hx hb hX hbl hbA hS hL (by omega) dL_law_458 ?_
        refine lv_aload_n hx hb dL_law_459 rfl (lv_at hl 0 rfl) ?_
        refine lv_iload_n hx hb dL_law_460 rfl (lv_at hl 3 rfl) ?_
        refine lv_iconst (v := nI 2) hx hb dL_law_461 (by decide +kernel) ?_
        refine zz_add hx hb dL_law_462 ?_
        refine zs_ld hx hb hX hbl hbA hS hL (by omega) dL_law_463 ?_
        have hP : va_P D vwCl (MW h2 q2 dA pl ms (nI n) ++ XW h q dA pl ms sv1 sf1 su1 cn1 sm1 lo1 hi1 (nI n) k1) H := hP
        have hD : va_D (fun q : Nat => s.heap.size ≤ q) (MW h2 q2 dA pl ms (nI n) ++ XW h q dA pl ms sv1 sf1 su1 cn1 sm1 lo1 hi1 (nI n) k1) := hD
        refine zz_callR (As := [.int (xs (i + 1)), .int (xs (i + 2))]) (rest := [.int r1]) S (metX1_most l D dA h2 q2 pl ms n hI.1 (xs (i + 1)) (xs (i + 2))) gw_L_64 hd_X1_most rfl rfl ⟨Nat.le_of_ble_eq_true rfl, Nat.le_of_ble_eq_true rfl⟩ rfl hl.1 rfl (Nat.le_of_ble_eq_true rfl) dL_law_464 ⟨Nat.le_of_ble_eq_true rfl, Nat.le_of_ble_eq_true rfl⟩ hK (va_left hP) (ci := 1) rfl rfl rfl (fun r2 er2 => ?_)
        obtain ⟨hP, hD⟩ := va_swap hP hD
        refine lv_icmp_eq (tgt := 617) hx hb dL_law_467 (by decide) (fun c_2 => ?_) (fun c_2 => absurd (er1.trans er2.symm) c_2)
        exact cont pl ms sv1 sf1 su1 cn1 sm1 lo1 hi1 n k1 hI1 H locs hP hD hS ls hl
      · refine lv_tableIn (x := nI 12) (off := 440) (tgt := 472) hx hb dL_law_32 (by decide +kernel) (by decide +kernel) (by decide +kernel) (by decide) ?_
        refine lv_aload_n hx hb dL_law_472 rfl (lv_at hl 1 rfl) ?_
        refine lv_aload_n hx hb dL_law_473 rfl (lv_at hl 0 rfl) ?_
        refine lv_iload_n hx hb dL_law_474 rfl (lv_at hl 3 rfl) ?_
        refine lv_iconst (v := nI 1) hx hb dL_law_475 (by decide +kernel) ?_
        refine zz_add hx hb dL_law_476 ?_
        refine zs_ld hx hb hX hbl hbA hS hL (by omega) dL_law_477 ?_
        refine lv_aload_n hx hb dL_law_478 rfl (lv_at hl 0 rfl) ?_
        refine lv_iload_n hx hb dL_law_479 rfl (lv_at hl 3 rfl) ?_
        refine lv_iconst (v := nI 2) hx hb dL_law_480 (by decide +kernel) ?_
        refine zz_add hx hb dL_law_481 ?_
        refine zs_ld hx hb hX hbl hbA hS hL (by omega) dL_law_482 ?_
        refine ll_call (V := XV h q dA) (u := (pl, ms, sv, sf, su, cn, sm, lo, hi, nI n, k)) (w2 := MW h2 q2 dA pl ms (nI n)) (As := [.int (xs (i + 1)), .int (xs (i + 2))]) (rest := []) S (metX0_next l D dA h q pl ms sv sf su cn sm lo hi n k hI (xs (i + 1)) (xs (i + 2))) gw_L_65 hd_X0_next rfl rfl ⟨Nat.le_of_ble_eq_true rfl, Nat.le_of_ble_eq_true rfl⟩ rfl hl.1 rfl (Nat.le_of_ble_eq_true rfl) dL_law_483 ⟨Nat.le_of_ble_eq_true rfl, Nat.le_of_ble_eq_true rfl⟩ hK hA hP hD hS (ci := 0) rfl rfl rfl (fun r1 u1 H locs hu1 hP hD hS => ?_)
        obtain ⟨er1, sv1, sf1, su1, cn1, sm1, lo1, hi1, k1, rfl, hI1⟩ := hu1
        refine lv_aload_n hx hb dL_law_486 rfl (lv_at hl 2 rfl) ?_
        refine lv_aload_n hx hb dL_law_487 rfl (lv_at hl 0 rfl) ?_
        refine lv_iload_n hx hb dL_law_488 rfl (lv_at hl 3 rfl) ?_
        refine lv_iconst (v := nI 1) hx hb dL_law_489 (by decide +kernel) ?_
        refine zz_add hx hb dL_law_490 ?_
        refine zs_ld hx hb hX hbl hbA hS hL (by omega) dL_law_491 ?_
        refine lv_aload_n hx hb dL_law_492 rfl (lv_at hl 0 rfl) ?_
        refine lv_iload_n hx hb dL_law_493 rfl (lv_at hl 3 rfl) ?_
        refine lv_iconst (v := nI 2) hx hb dL_law_494 (by decide +kernel) ?_
        refine zz_add hx hb dL_law_495 ?_
        refine zs_ld hx hb hX hbl hbA hS hL (by omega) dL_law_496 ?_
        have hP : va_P D vwCl (MW h2 q2 dA pl ms (nI n) ++ XW h q dA pl ms sv1 sf1 su1 cn1 sm1 lo1 hi1 (nI n) k1) H := hP
        have hD : va_D (fun q : Nat => s.heap.size ≤ q) (MW h2 q2 dA pl ms (nI n) ++ XW h q dA pl ms sv1 sf1 su1 cn1 sm1 lo1 hi1 (nI n) k1) := hD
        refine zz_callR (As := [.int (xs (i + 1)), .int (xs (i + 2))]) (rest := [.int r1]) S (metX1_next l D dA h2 q2 pl ms n hI.1 (xs (i + 1)) (xs (i + 2))) gw_L_68 hd_X1_next rfl rfl ⟨Nat.le_of_ble_eq_true rfl, Nat.le_of_ble_eq_true rfl⟩ rfl hl.1 rfl (Nat.le_of_ble_eq_true rfl) dL_law_497 ⟨Nat.le_of_ble_eq_true rfl, Nat.le_of_ble_eq_true rfl⟩ hK (va_left hP) (ci := 1) rfl rfl rfl (fun r2 er2 => ?_)
        obtain ⟨hP, hD⟩ := va_swap hP hD
        refine lv_icmp_eq (tgt := 617) hx hb dL_law_500 (by decide) (fun c_2 => ?_) (fun c_2 => absurd (sNext_uniq er1 er2) c_2)
        exact cont pl ms sv1 sf1 su1 cn1 sm1 lo1 hi1 n k1 hI1 H locs hP hD hS ls hl
      · refine lv_tableIn (x := nI 13) (off := 473) (tgt := 505) hx hb dL_law_32 (by decide +kernel) (by decide +kernel) (by decide +kernel) (by decide) ?_
        refine lv_aload_n hx hb dL_law_505 rfl (lv_at hl 1 rfl) ?_
        refine lv_aload_n hx hb dL_law_506 rfl (lv_at hl 0 rfl) ?_
        refine lv_iload_n hx hb dL_law_507 rfl (lv_at hl 3 rfl) ?_
        refine lv_iconst (v := nI 1) hx hb dL_law_508 (by decide +kernel) ?_
        refine zz_add hx hb dL_law_509 ?_
        refine zs_ld hx hb hX hbl hbA hS hL (by omega) dL_law_510 ?_
        refine ll_call (V := XV h q dA) (u := (pl, ms, sv, sf, su, cn, sm, lo, hi, nI n, k)) (w2 := MW h2 q2 dA pl ms (nI n)) (As := [.int (xs (i + 1))]) (rest := []) S (metX0_best l D dA h q pl ms sv sf su cn sm lo hi n k hI (xs (i + 1))) gw_L_69 hd_X0_best rfl rfl ⟨Nat.le_of_ble_eq_true rfl, Nat.le_of_ble_eq_true rfl⟩ rfl hl.1 rfl (Nat.le_of_ble_eq_true rfl) dL_law_511 ⟨Nat.le_of_ble_eq_true rfl, Nat.le_of_ble_eq_true rfl⟩ hK hA hP hD hS (ci := 0) rfl rfl rfl (fun r1 u1 H locs hu1 hP hD hS => ?_)
        obtain ⟨er1, sv1, sf1, su1, cn1, sm1, lo1, hi1, k1, rfl, hI1⟩ := hu1
        refine lv_aload_n hx hb dL_law_514 rfl (lv_at hl 2 rfl) ?_
        refine lv_aload_n hx hb dL_law_515 rfl (lv_at hl 0 rfl) ?_
        refine lv_iload_n hx hb dL_law_516 rfl (lv_at hl 3 rfl) ?_
        refine lv_iconst (v := nI 1) hx hb dL_law_517 (by decide +kernel) ?_
        refine zz_add hx hb dL_law_518 ?_
        refine zs_ld hx hb hX hbl hbA hS hL (by omega) dL_law_519 ?_
        have hP : va_P D vwCl (MW h2 q2 dA pl ms (nI n) ++ XW h q dA pl ms sv1 sf1 su1 cn1 sm1 lo1 hi1 (nI n) k1) H := hP
        have hD : va_D (fun q : Nat => s.heap.size ≤ q) (MW h2 q2 dA pl ms (nI n) ++ XW h q dA pl ms sv1 sf1 su1 cn1 sm1 lo1 hi1 (nI n) k1) := hD
        refine zz_callR (As := [.int (xs (i + 1))]) (rest := [.int r1]) S (metX1_best l D dA h2 q2 pl ms n hI.1 (xs (i + 1))) gw_L_72 hd_X1_best rfl rfl ⟨Nat.le_of_ble_eq_true rfl, Nat.le_of_ble_eq_true rfl⟩ rfl hl.1 rfl (Nat.le_of_ble_eq_true rfl) dL_law_520 ⟨Nat.le_of_ble_eq_true rfl, Nat.le_of_ble_eq_true rfl⟩ hK (va_left hP) (ci := 1) rfl rfl rfl (fun r2 er2 => ?_)
        obtain ⟨hP, hD⟩ := va_swap hP hD
        refine lv_icmp_eq (tgt := 617) hx hb dL_law_523 (by decide) (fun c_2 => ?_) (fun c_2 => absurd (er1.trans er2.symm) c_2)
        exact cont pl ms sv1 sf1 su1 cn1 sm1 lo1 hi1 n k1 hI1 H locs hP hD hS ls hl
      · refine lv_tableIn (x := nI 14) (off := 496) (tgt := 528) hx hb dL_law_32 (by decide +kernel) (by decide +kernel) (by decide +kernel) (by decide) ?_
        refine lv_aload_n hx hb dL_law_528 rfl (lv_at hl 1 rfl) ?_
        refine lv_aload_n hx hb dL_law_529 rfl (lv_at hl 0 rfl) ?_
        refine lv_iload_n hx hb dL_law_530 rfl (lv_at hl 3 rfl) ?_
        refine lv_iconst (v := nI 1) hx hb dL_law_531 (by decide +kernel) ?_
        refine zz_add hx hb dL_law_532 ?_
        refine zs_ld hx hb hX hbl hbA hS hL (by omega) dL_law_533 ?_
        refine lv_aload_n hx hb dL_law_534 rfl (lv_at hl 0 rfl) ?_
        refine lv_iload_n hx hb dL_law_535 rfl (lv_at hl 3 rfl) ?_
        refine lv_iconst (v := nI 2) hx hb dL_law_536 (by decide +kernel) ?_
        refine zz_add hx hb dL_law_537 ?_
        refine zs_ld hx hb hX hbl hbA hS hL (by omega) dL_law_538 ?_
        refine ll_call (V := XV h q dA) (u := (pl, ms, sv, sf, su, cn, sm, lo, hi, nI n, k)) (w2 := MW h2 q2 dA pl ms (nI n)) (As := [.int (xs (i + 1)), .int (xs (i + 2))]) (rest := []) S (metX0_having l D dA h q pl ms sv sf su cn sm lo hi n k hI (xs (i + 1)) (xs (i + 2))) gw_L_73 hd_X0_having rfl rfl ⟨Nat.le_of_ble_eq_true rfl, Nat.le_of_ble_eq_true rfl⟩ rfl hl.1 rfl (Nat.le_of_ble_eq_true rfl) dL_law_539 ⟨Nat.le_of_ble_eq_true rfl, Nat.le_of_ble_eq_true rfl⟩ hK hA hP hD hS (ci := 0) rfl rfl rfl (fun r1 u1 H locs hu1 hP hD hS => ?_)
        obtain ⟨er1, sv1, sf1, su1, cn1, sm1, lo1, hi1, k1, rfl, hI1⟩ := hu1
        refine lv_aload_n hx hb dL_law_542 rfl (lv_at hl 2 rfl) ?_
        refine lv_aload_n hx hb dL_law_543 rfl (lv_at hl 0 rfl) ?_
        refine lv_iload_n hx hb dL_law_544 rfl (lv_at hl 3 rfl) ?_
        refine lv_iconst (v := nI 1) hx hb dL_law_545 (by decide +kernel) ?_
        refine zz_add hx hb dL_law_546 ?_
        refine zs_ld hx hb hX hbl hbA hS hL (by omega) dL_law_547 ?_
        refine lv_aload_n hx hb dL_law_548 rfl (lv_at hl 0 rfl) ?_
        refine lv_iload_n hx hb dL_law_549 rfl (lv_at hl 3 rfl) ?_
        refine lv_iconst (v := nI 2) hx hb dL_law_550 (by decide +kernel) ?_
        refine zz_add hx hb dL_law_551 ?_
        refine zs_ld hx hb hX hbl hbA hS hL (by omega) dL_law_552 ?_
        have hP : va_P D vwCl (MW h2 q2 dA pl ms (nI n) ++ XW h q dA pl ms sv1 sf1 su1 cn1 sm1 lo1 hi1 (nI n) k1) H := hP
        have hD : va_D (fun q : Nat => s.heap.size ≤ q) (MW h2 q2 dA pl ms (nI n) ++ XW h q dA pl ms sv1 sf1 su1 cn1 sm1 lo1 hi1 (nI n) k1) := hD
        refine zz_callR (As := [.int (xs (i + 1)), .int (xs (i + 2))]) (rest := [.int r1]) S (metX1_having l D dA h2 q2 pl ms n hI.1 (xs (i + 1)) (xs (i + 2))) gw_L_76 hd_X1_having rfl rfl ⟨Nat.le_of_ble_eq_true rfl, Nat.le_of_ble_eq_true rfl⟩ rfl hl.1 rfl (Nat.le_of_ble_eq_true rfl) dL_law_553 ⟨Nat.le_of_ble_eq_true rfl, Nat.le_of_ble_eq_true rfl⟩ hK (va_left hP) (ci := 1) rfl rfl rfl (fun r2 er2 => ?_)
        obtain ⟨hP, hD⟩ := va_swap hP hD
        refine lv_icmp_eq (tgt := 617) hx hb dL_law_556 (by decide) (fun c_2 => ?_) (fun c_2 => absurd (er1.trans er2.symm) c_2)
        exact cont pl ms sv1 sf1 su1 cn1 sm1 lo1 hi1 n k1 hI1 H locs hP hD hS ls hl
      · refine lv_tableIn (x := nI 15) (off := 529) (tgt := 561) hx hb dL_law_32 (by decide +kernel) (by decide +kernel) (by decide +kernel) (by decide) ?_
        refine lv_aload_n hx hb dL_law_561 rfl (lv_at hl 1 rfl) ?_
        refine lv_aload_n hx hb dL_law_562 rfl (lv_at hl 0 rfl) ?_
        refine lv_iload_n hx hb dL_law_563 rfl (lv_at hl 3 rfl) ?_
        refine lv_iconst (v := nI 1) hx hb dL_law_564 (by decide +kernel) ?_
        refine zz_add hx hb dL_law_565 ?_
        refine zs_ld hx hb hX hbl hbA hS hL (by omega) dL_law_566 ?_
        refine lv_aload_n hx hb dL_law_567 rfl (lv_at hl 0 rfl) ?_
        refine lv_iload_n hx hb dL_law_568 rfl (lv_at hl 3 rfl) ?_
        refine lv_iconst (v := nI 2) hx hb dL_law_569 (by decide +kernel) ?_
        refine zz_add hx hb dL_law_570 ?_
        refine zs_ld hx hb hX hbl hbA hS hL (by omega) dL_law_571 ?_
        refine ll_call (V := XV h q dA) (u := (pl, ms, sv, sf, su, cn, sm, lo, hi, nI n, k)) (w2 := MW h2 q2 dA pl ms (nI n)) (As := [.int (xs (i + 1)), .int (xs (i + 2))]) (rest := []) S (metX0_finer l D dA h q pl ms sv sf su cn sm lo hi n k hI (xs (i + 1)) (xs (i + 2))) gw_L_77 hd_X0_finer rfl rfl ⟨Nat.le_of_ble_eq_true rfl, Nat.le_of_ble_eq_true rfl⟩ rfl hl.1 rfl (Nat.le_of_ble_eq_true rfl) dL_law_572 ⟨Nat.le_of_ble_eq_true rfl, Nat.le_of_ble_eq_true rfl⟩ hK hA hP hD hS (ci := 0) rfl rfl rfl (fun r1 u1 H locs hu1 hP hD hS => ?_)
        obtain ⟨er1, sv1, sf1, su1, cn1, sm1, lo1, hi1, k1, rfl, hI1⟩ := hu1
        refine lv_aload_n hx hb dL_law_575 rfl (lv_at hl 2 rfl) ?_
        refine lv_aload_n hx hb dL_law_576 rfl (lv_at hl 0 rfl) ?_
        refine lv_iload_n hx hb dL_law_577 rfl (lv_at hl 3 rfl) ?_
        refine lv_iconst (v := nI 1) hx hb dL_law_578 (by decide +kernel) ?_
        refine zz_add hx hb dL_law_579 ?_
        refine zs_ld hx hb hX hbl hbA hS hL (by omega) dL_law_580 ?_
        refine lv_aload_n hx hb dL_law_581 rfl (lv_at hl 0 rfl) ?_
        refine lv_iload_n hx hb dL_law_582 rfl (lv_at hl 3 rfl) ?_
        refine lv_iconst (v := nI 2) hx hb dL_law_583 (by decide +kernel) ?_
        refine zz_add hx hb dL_law_584 ?_
        refine zs_ld hx hb hX hbl hbA hS hL (by omega) dL_law_585 ?_
        have hP : va_P D vwCl (MW h2 q2 dA pl ms (nI n) ++ XW h q dA pl ms sv1 sf1 su1 cn1 sm1 lo1 hi1 (nI n) k1) H := hP
        have hD : va_D (fun q : Nat => s.heap.size ≤ q) (MW h2 q2 dA pl ms (nI n) ++ XW h q dA pl ms sv1 sf1 su1 cn1 sm1 lo1 hi1 (nI n) k1) := hD
        refine zz_callR (As := [.int (xs (i + 1)), .int (xs (i + 2))]) (rest := [.int r1]) S (metX1_finer l D dA h2 q2 pl ms n (xs (i + 1)) (xs (i + 2))) gw_L_80 hd_X1_finer rfl rfl ⟨Nat.le_of_ble_eq_true rfl, Nat.le_of_ble_eq_true rfl⟩ rfl hl.1 rfl (Nat.le_of_ble_eq_true rfl) dL_law_586 ⟨Nat.le_of_ble_eq_true rfl, Nat.le_of_ble_eq_true rfl⟩ hK (va_left hP) (ci := 1) rfl rfl rfl (fun r2 er2 => ?_)
        obtain ⟨hP, hD⟩ := va_swap hP hD
        refine lv_icmp_eq (tgt := 617) hx hb dL_law_589 (by decide) (fun c_2 => ?_) (fun c_2 => absurd (er1.trans er2.symm) c_2)
        exact cont pl ms sv1 sf1 su1 cn1 sm1 lo1 hi1 n k1 hI1 H locs hP hD hS ls hl
      · refine lv_tableIn (x := nI 16) (off := 562) (tgt := 594) hx hb dL_law_32 (by decide +kernel) (by decide +kernel) (by decide +kernel) (by decide) ?_
        refine lv_aload_n hx hb dL_law_594 rfl (lv_at hl 1 rfl) ?_
        refine lv_aload_n hx hb dL_law_595 rfl (lv_at hl 0 rfl) ?_
        refine lv_iload_n hx hb dL_law_596 rfl (lv_at hl 3 rfl) ?_
        refine lv_iconst (v := nI 1) hx hb dL_law_597 (by decide +kernel) ?_
        refine zz_add hx hb dL_law_598 ?_
        refine zs_ld hx hb hX hbl hbA hS hL (by omega) dL_law_599 ?_
        refine ll_call (V := XV h q dA) (u := (pl, ms, sv, sf, su, cn, sm, lo, hi, nI n, k)) (w2 := MW h2 q2 dA pl ms (nI n)) (As := [.int (xs (i + 1))]) (rest := []) S (metX0_viewsWith l D dA h q pl ms sv sf su cn sm lo hi n k hI (xs (i + 1))) gw_L_81 hd_X0_viewsWith rfl rfl ⟨Nat.le_of_ble_eq_true rfl, Nat.le_of_ble_eq_true rfl⟩ rfl hl.1 rfl (Nat.le_of_ble_eq_true rfl) dL_law_600 ⟨Nat.le_of_ble_eq_true rfl, Nat.le_of_ble_eq_true rfl⟩ hK hA hP hD hS (ci := 0) rfl rfl rfl (fun r1 u1 H locs hu1 hP hD hS => ?_)
        obtain ⟨er1, sv1, sf1, su1, cn1, sm1, lo1, hi1, k1, rfl, hI1⟩ := hu1
        refine lv_aload_n hx hb dL_law_603 rfl (lv_at hl 2 rfl) ?_
        refine lv_aload_n hx hb dL_law_604 rfl (lv_at hl 0 rfl) ?_
        refine lv_iload_n hx hb dL_law_605 rfl (lv_at hl 3 rfl) ?_
        refine lv_iconst (v := nI 1) hx hb dL_law_606 (by decide +kernel) ?_
        refine zz_add hx hb dL_law_607 ?_
        refine zs_ld hx hb hX hbl hbA hS hL (by omega) dL_law_608 ?_
        have hP : va_P D vwCl (MW h2 q2 dA pl ms (nI n) ++ XW h q dA pl ms sv1 sf1 su1 cn1 sm1 lo1 hi1 (nI n) k1) H := hP
        have hD : va_D (fun q : Nat => s.heap.size ≤ q) (MW h2 q2 dA pl ms (nI n) ++ XW h q dA pl ms sv1 sf1 su1 cn1 sm1 lo1 hi1 (nI n) k1) := hD
        refine zz_callR (As := [.int (xs (i + 1))]) (rest := [.int r1]) S (metX1_viewsWith l D dA h2 q2 pl ms n hI.1 (xs (i + 1))) gw_L_84 hd_X1_viewsWith rfl rfl ⟨Nat.le_of_ble_eq_true rfl, Nat.le_of_ble_eq_true rfl⟩ rfl hl.1 rfl (Nat.le_of_ble_eq_true rfl) dL_law_609 ⟨Nat.le_of_ble_eq_true rfl, Nat.le_of_ble_eq_true rfl⟩ hK (va_left hP) (ci := 1) rfl rfl rfl (fun r2 er2 => ?_)
        obtain ⟨hP, hD⟩ := va_swap hP hD
        refine lv_icmp_eq (tgt := 617) hx hb dL_law_612 (by decide) (fun c_2 => ?_) (fun c_2 => absurd (er1.trans er2.symm) c_2)
        exact cont pl ms sv1 sf1 su1 cn1 sm1 lo1 hi1 n k1 hI1 H locs hP hD hS ls hl
      · refine lv_tableOut (x := nI w) (tgt := 617) hx hb dL_law_32 (Or.inr (by rw [nI_toInt (by omega)]; omega)) (by decide) ?_
        exact cont pl ms sv sf su cn sm lo hi n k hI H locs hP hD hS ls hl
end
section
theorem law_classes {s0 : State} {b0 : Addr} (ht0 : ∀ w ∈ lw_tbl, w.before #[Value.ref b0] s0 = true) : ∃ D : va_G, va_K D vwCl [] s0 := by
  obtain ⟨c0_, iS0, hKn0⟩ := u_known (C := RX0) (T := TX0) (N := 11) (n := 11) ht0 (fun w h => lw_all_tbl (in_X0 w h)) (ht0 _ (lw_all_tbl q19))
  obtain ⟨c1_, iS1, hKn1⟩ := u_known (C := RX1) (T := TX1) (N := 3) (n := 3) ht0 (fun w h => lw_all_tbl (in_X1 w h)) (ht0 _ (lw_all_tbl q189))
  refine ⟨(fun k => if k = 0 then c0_ else c1_, fun k => if k = 0 then iS0 else iS1), ?_, fun k q h => by simp at h⟩
  intro k q hq
  match k, hq with
  | 0, hq => cases hq; exact hKn0
  | 1, hq => cases hq; exact hKn1
  | k + 2, hq => simp [vwCl] at hq
set_option maxHeartbeats 4000000 in
set_option maxRecDepth 100000 in
/-- from the entry, for every script of at most 256 ints, the law comes to its end with true -/
theorem whole_start {p : Program} {e : Env} {s : State} {m : MethodId} {below : List Frame} {meth : Method} {c : Code} (l : Launch) {b L : Nat} {xs : Nat → Int32} (hL : L ≤ 256) (C0 : lw_At p s m meth c b L xs) : W p l e room_1 s m #[Value.ref b] below meth c s.heap [] 0 0 (lw_Z below #[Value.ref b] s) (entryFrame m ([Value.ref b] : List Value).toArray 4) := by
  obtain ⟨hx, hb, hr, hml, hown, hts0, hX, hbl, hlocks, hgv⟩ := C0
  have hts : ∀ w ∈ lw_all, w.before #[Value.ref b] s = true := fun w h => hts0 w (lw_all_tbl h)
  obtain ⟨D, hK⟩ := law_classes hts0
  have S : CallFix p m c cL_law 4 s #[Value.ref b] lw_all R_law := ⟨hx, hb, hml, hown, hts⟩
  have hA : ∀ q : Nat, s.heap.size ≤ q → (fun q : Nat => s.heap.size ≤ q) q := fun q h => h
  have hS : va_S (fun q : Nat => s.heap.size ≤ q) s.heap s.heap [] := va_S.rf
  have hP : va_P D vwCl [] s.heap := fun k q h => by simp at h
  have hD : va_D (fun q : Nat => s.heap.size ≤ q) [] := ⟨fun i j p q h => by simp at h, fun k q h => by simp at h⟩
  have hl := lv_entry ([.ref b]) (n := 4) (Nat.le_of_ble_eq_true rfl)
  rw [lg_entry_eq]
  generalize (lg_sl ([.ref b]) ++ List.replicate (4 - (lg_sl ([.ref b])).length) Slot.unset).toArray = ls at hl ⊢
  have hl : lv_has ls 4 [(0, .ref b)] := hl
  refine va_new (ci := 0) (fs := [.null, .null, .null, .null, .null, .null, .null, .null, .null, .int (nI 0), .int (nI 0)]) (C := RX0) (T := TX0) (N := 11) hx hb hts in_X0 tyX0 tyX0_ok hown (hts _ q18) (hts _ q19) (hts _ q16) hK hP hD hS hA rfl (fun j hj => by rcases (show j = 0 ∨ j = 1 ∨ j = 2 ∨ j = 3 ∨ j = 4 ∨ j = 5 ∨ j = 6 ∨ j = 7 ∨ j = 8 ∨ j = 9 ∨ j = 10 by omega) with rfl | rfl | rfl | rfl | rfl | rfl | rfl | rfl | rfl | rfl | rfl <;> rfl) (Nat.le_of_ble_eq_true rfl) (Nat.le_of_ble_eq_true rfl) dL_law_0 (fun h H hP hD hS => ?_)
  have hP : va_P D vwCl (w0X0 h ++ []) H := hP
  have hD : va_D (fun q : Nat => s.heap.size ≤ q) (w0X0 h ++ []) := hD
  refine lv_dup hx hb dL_law_3 rfl ?_
  refine ll_init (V := fun (u : XT × (Nat → Nat) × ClassId) => XV h u.2.1 u.2.2 u.1) (w0 := w0X0 h) (w2 := []) (rest := [.ref h]) S (metX0_init l D h) (lw_meth q22) q16 q20 q21 rfl (by decide +kernel) rfl rfl ⟨Nat.le_of_ble_eq_true rfl, Nat.le_of_ble_eq_true rfl⟩ hl.1 rfl (Nat.le_of_ble_eq_true rfl) dL_law_4 ⟨Nat.le_of_ble_eq_true rfl, Nat.le_of_ble_eq_true rfl⟩ hK hA hP hD hS (fun u H locs hu hK hP hD hS => ?_)
  obtain ⟨u1, q, dA⟩ := u
  obtain ⟨sv, sf, su, cn, sm, lo, hi, k, e1, hI⟩ := hu
  have e1 : u1 = (zf, zf, sv, sf, su, cn, sm, lo, hi, nI 0, k) := e1
  subst e1
  have hI : XI zf zf 0 sv sf cn sm lo hi := hI
  have hK : va_K D vwCl [(dA, .int)] s := hK
  have hP : va_P D vwCl (XW h q dA zf zf sv sf su cn sm lo hi (nI 0) k) H := hP
  have hD : va_D (fun q : Nat => s.heap.size ≤ q) (XW h q dA zf zf sv sf su cn sm lo hi (nI 0) k) := hD
  refine lv_astore_n (lv' := [(1, .ref h), (0, .ref b)]) hx hb dL_law_7 rfl hl (by decide) rfl (fun ls hl => ?_)
  refine va_new (ci := 1) (fs := [.null, .null, .int (nI 0)]) (C := RX1) (T := TX1) (N := 3) hx hb hts in_X1 tyX1 tyX1_ok hown (hts _ q188) (hts _ q189) (hts _ q17) hK hP hD hS hA rfl (fun j hj => by rcases (show j = 0 ∨ j = 1 ∨ j = 2 by omega) with rfl | rfl | rfl <;> rfl) (Nat.le_of_ble_eq_true rfl) (Nat.le_of_ble_eq_true rfl) dL_law_8 (fun h2 H hP hD hS => ?_)
  obtain ⟨hP, hD⟩ := va_swap (w2 := w0X1 h2) hP hD
  refine lv_dup hx hb dL_law_11 rfl ?_
  refine ll_init (V := fun (u : MT × (Nat → Nat) × ClassId) => MV h2 u.2.1 u.2.2 u.1) (w0 := w0X1 h2) (w2 := XW h q dA zf zf sv sf su cn sm lo hi (nI 0) k) (rest := [.ref h2]) S (metX1_init l D h2) (lw_meth q192) q17 q190 q191 rfl (by decide +kernel) rfl rfl ⟨Nat.le_of_ble_eq_true rfl, Nat.le_of_ble_eq_true rfl⟩ hl.1 rfl (Nat.le_of_ble_eq_true rfl) dL_law_12 ⟨Nat.le_of_ble_eq_true rfl, Nat.le_of_ble_eq_true rfl⟩ hK hA hP hD hS (fun u H locs hu hK2 hP hD hS => ?_)
  obtain ⟨u1, q2, dB⟩ := u
  have e2 : u1 = (zf, zf, nI 0) := hu
  subst e2
  have e3 : dB = dA := dA_eq (hK.app hK2) 1 0 rfl rfl
  subst e3
  have hP : va_P D vwCl (XW h q dB zf zf sv sf su cn sm lo hi (nI 0) k ++ MW h2 q2 dB zf zf (nI 0)) H := hP
  have hD : va_D (fun q : Nat => s.heap.size ≤ q) (XW h q dB zf zf sv sf su cn sm lo hi (nI 0) k ++ MW h2 q2 dB zf zf (nI 0)) := hD
  refine lv_astore_n (lv' := [(2, .ref h2), (1, .ref h), (0, .ref b)]) hx hb dL_law_15 rfl hl (by decide) rfl (fun ls hl => ?_)
  refine lv_iconst (v := nI 0) hx hb dL_law_16 (by decide +kernel) ?_
  refine lv_istore_n (lv' := [(3, .int (nI 0)), (2, .ref h2), (1, .ref h), (0, .ref b)]) hx hb dL_law_17 rfl hl (by decide) rfl (fun ls hl => ?_)
  refine W.widen (k := 600000) (n := 7290000) (Nat.le_of_ble_eq_true rfl) (Nat.le_of_ble_eq_true rfl) ?_
  exact law_loop hL S hX hbl hK (fun H locs ls hS => va_forget hS.2.2 (lw_ret hx hb hr hlocks dL_law_624)) 257 0 (by omega) (by omega) zf zf sv sf su cn sm lo hi 0 k hI H locs hP hD hS ls (lv_sub hl [3, 2, 1, 0] rfl)
end
section
set_option maxHeartbeats 4000000 in
theorem lw_walk (l : Launch) (b : Addr) (xs : List Int32) : MetFree l x (headSpec (Jvm.Cond.code x code maxLocals ret :: tables_1) room_1) (lw_P b xs) (fun _ _ _ _ _ => True) lw_Q := by
  refine MetFree.of_bodyS (code := code) (maxLocals := maxLocals) (ret := ret) (by decide) ?_ ?_
  · intro args s m h hn
    obtain ⟨meth, c, h1, h2, h3, h4, h5, h6, -, -⟩ := Cond.code_spec hn (atoms_spec (ws := Jvm.Cond.code x code maxLocals ret :: tables_1) h _ List.mem_cons_self)
    exact ⟨meth, c, h1, h2, h3, h4, h5, h6⟩
  · intro p e s m args below meth c s₁ B hml0 hP _
    obtain ⟨rfl, hx, hbd, hgv⟩ := hP
    obtain ⟨scr, harrAt, hlist, hof, hsmall⟩ := hx
    obtain ⟨hcb, hkn, -, -⟩ := State.arrayAt?_spec harrAt
    have hown : s.vm.findClass R_law = some m.cls := findClass_of_methodNamed B.named
    have hts0 : ∀ c ∈ (Jvm.Cond.code x code maxLocals ret :: tables_1), c.before #[Value.ref b] s = true := atoms_spec (ws := Jvm.Cond.code x code maxLocals ret :: tables_1) B.pre
    have hts : ∀ w ∈ lw_tbl, w.before #[Value.ref b] s = true := k2_hts_sels lw_privs (fun w hw => hts0 w (List.mem_cons_of_mem _ hw)) lw_privs_ok
    have hml : c.maxLocals = 4 := B.maxLocals_eq (hts0 _ List.mem_cons_self)
    have X₀ : Stand p l e room_1 s m #[Value.ref b] below meth c s₁ [] 0 0 := Stand.of_body B
    have hh0 : s₁.heap = s.heap := by rw [B.state]; rfl
    have hsz : scr.slots.size = xs.length := by rw [← Array.length_toList, hlist, List.length_map]
    have hval : ∀ j : Nat, j < xs.length → scr.slots[j]? = some (.int (xs.getD j 0)) := fun j hj => by
      rw [← Array.getElem?_toList, hlist]
      simp [hj]
    have hbl : b < s.heap.size := (Array.getElem?_eq_some_iff.mp hcb).1
    have hX : va_X b xs.length (fun j => xs.getD j 0) s s.heap := ⟨scr, hcb, hof, hkn, hsz, hval⟩
    have K : W p l e room_1 s m #[Value.ref b] below meth c s₁.heap [] 0 0 (lw_Z below #[Value.ref b] s) (entryFrame m ([Value.ref b] : List Value).toArray 4) := by
      rw [hh0]
      exact whole_start l hbd ⟨B.exec, B.bytes, B.returns, hml, hown, hts, hX, hbl, B.notSynchronized, hgv⟩
    obtain ⟨t, a1, o, b1, b2, b3⟩ := K s₁ rfl X₀
    exact ⟨t, o, a1, b1, b2, b3⟩
theorem lw_pre_spec {args : Array Value} {s : State} (h : (Jvm.Cond.and given_1 narrow_1).before args s = true) (hr : rest_1_c.before args s = true) : ∃ (b : Addr) (xs : List Int32), lw_P b xs args s := by
  have hs := flat_of_before _ h
  have hq := flat_of_before _ hr
  have hc : (Cond.count 1).before args s = true := hs _ (by decide +kernel)
  have harr : (Cond.arrayOf (.arg 0) .int).before args s = true := hs _ (by decide +kernel)
  have hle : (Cond.le (.length (.arg 0)) (.int 256)).before args s = true := hs _ (by decide +kernel)
  have hlen : (Cond.isInt (.length (.arg 0))).before args s = true := hq _ (by decide +kernel)
  have hall : (Cond.all (.arg 0) (.isInt (.elem (.arg 0) (.index 0)))).before args s = true := hq _ (by decide +kernel)
  obtain ⟨b, xs, hb, hx⟩ := State.ints_of_pre rfl harr hlen hall
  have hsm : xs.length < 2 ^ 31 := hx.choose_spec.2.2.2
  have hev : (Term.length (.arg 0)).eval args s none [] s = some (.int xs.length.toInt32) := hx.length_eval hb
  have hv := Cond.le_ints hev (show (Term.int 256).eval args s none [] s = some (.int 256) from rfl)
  have hd : xs.length.toInt32 ≤ 256 := by
    simpa [Cond.before, Cond.holds, hv] using hle
  have hN : xs.length ≤ 256 := (Int32.ofNat_le_ofNat hsm (by decide)).mp (show Int32.ofNat xs.length ≤ Int32.ofNat 256 from hd)
  exact ⟨b, xs, Cond.one_arg hc (show args[0]? = some (.ref b) from hb), hx, hN, h⟩
theorem lw_comes (l : Launch) : Comes l x (Jvm.Cond.code x code maxLocals ret :: tables_1) room_1 (fun tb e args s => Calls_1 tb e args s ∧ rest_1 tb e args s ∧ Pre_1 tb e args s)
    (fun _ _ args s o t => lw_Q args s o t) := by
  intro p e ha hc hk s m args below hf hfit hheap happ hpre
  obtain ⟨b, xs, hP⟩ := lw_pre_spec hpre.2.2 hpre.2.1
  obtain ⟨k, o, h1, h2, h3, hQ⟩ := lw_walk l b xs p e ha hc hk s m args below hf ((Spec.applies_iff_loose hf).mp happ).1 hP trivial
  exact ⟨k, o, h1, h2, h3, hQ⟩
theorem lw_frame {s t : State} {o : Outcome} {args : Array Value} (h : Framed s o t [] 600000 7290000) :
    Framed s o t (fieldLocs frame_1_writes args s ++ arrayLocs frame_1_arrays args s ++ staticLocs frame_1_statics s) 600000 7290000 := h
theorem lw_limb (L : Cond) (hL : ∀ (args : Array Value) (s t : State), L.after args s (.returned (some (.int 1))) t = true) :
    ArmFor flags0 classFile x code maxLocals ret World_1 tables_1 room_1 Calls_1 rest_1 Pre_1
      (fun tb e a s o t => postC L tb e a s o t ∧ Framed s o t (fieldLocs frame_1_writes a s ++ arrayLocs frame_1_arrays a s ++ staticLocs frame_1_statics s) 600000 7290000) := by
  intro l _ _ _ p e ha hc hk s m args below hf hfit hheap happ hpre
  obtain ⟨k, o, h1, h2, h3, rfl, hF⟩ := lw_comes l p e ha hc hk s m args below hf hfit hheap happ hpre
  exact ⟨k, _, h1, h2, h3, hL args s _, lw_frame hF⟩
theorem i_vc : Claimed_1_1 ∧ Claimed_1_2 := ⟨lw_limb limb_1_1 (fun args s t => by simp [limb_1_1, Cond.after, Cond.holds, Cond.value]), lw_limb limb_1_2 (fun args s t => Cond.after_iff.mpr (by
  first | (rw [show limb_1_2 = Cond.eq .result (.int 1) from rfl, Cond.eq_ints (x := 1) (y := 1) rfl rfl]; simp; done) | (simp [limb_1_2, Cond.value, Term.eval]; done)))⟩
end
