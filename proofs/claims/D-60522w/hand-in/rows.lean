section
-- ===== PART A: goes FIRST, ahead of the names: the tables' words, and 'selects' of the private methods out of them =====
/-- a private method of a class that the tables say can be made, by its rows of tables_1 -/
def lw_okq (q : MethodName × Nat) : Prop := (q.1.cls ≠ "java/lang/invoke/MethodHandle" ∧ q.1.cls ≠ "java/lang/invoke/VarHandle") ∧ Cond.instantiable q.1.cls q.2 ∈ tables_1 ∧ Cond.privateMethod q.1 ∈ tables_1 ∧ Cond.instanceMethod q.1 ∈ tables_1
set_option maxRecDepth 100000
theorem lw_t1 {w : Cond} (h : w ∈ tables_1_1) : w ∈ tables_1 := List.mem_append_left _ h
theorem lw_t2 {w : Cond} (h : w ∈ tables_1_2) : w ∈ tables_1 := List.mem_append_right _ h
theorem lw_p0 : lw_okq (⟨"ShardedMap", "groupFor", "(II)I"⟩, 21) := ⟨⟨by decide +kernel, by decide +kernel⟩, lw_t1 (List.mem_of_getElem? (i := 4) rfl), lw_t1 (List.mem_of_getElem? (i := 85) rfl), lw_t1 (List.mem_of_getElem? (i := 86) rfl)⟩
theorem lw_p1 : lw_okq (⟨"ShardedMap", "moveOn", "(I)Z"⟩, 21) := ⟨⟨by decide +kernel, by decide +kernel⟩, lw_t1 (List.mem_of_getElem? (i := 4) rfl), lw_t1 (List.mem_of_getElem? (i := 89) rfl), lw_t1 (List.mem_of_getElem? (i := 90) rfl)⟩
theorem lw_p2 : lw_okq (⟨"ShardedMap", "groupIn", "(II)I"⟩, 21) := ⟨⟨by decide +kernel, by decide +kernel⟩, lw_t1 (List.mem_of_getElem? (i := 4) rfl), lw_t1 (List.mem_of_getElem? (i := 93) rfl), lw_t1 (List.mem_of_getElem? (i := 94) rfl)⟩
theorem lw_p3 : lw_okq (⟨"ShardedMap", "write", "(IIIII)V"⟩, 21) := ⟨⟨by decide +kernel, by decide +kernel⟩, lw_t1 (List.mem_of_getElem? (i := 4) rfl), lw_t1 (List.mem_of_getElem? (i := 97) rfl), lw_t1 (List.mem_of_getElem? (i := 98) rfl)⟩
theorem lw_p4 : lw_okq (⟨"ShardedMap", "saveImage", "(I)V"⟩, 21) := ⟨⟨by decide +kernel, by decide +kernel⟩, lw_t1 (List.mem_of_getElem? (i := 4) rfl), lw_t1 (List.mem_of_getElem? (i := 101) rfl), lw_t1 (List.mem_of_getElem? (i := 102) rfl)⟩
theorem lw_p5 : lw_okq (⟨"ShardedMap", "apply", "(IIIII)V"⟩, 21) := ⟨⟨by decide +kernel, by decide +kernel⟩, lw_t1 (List.mem_of_getElem? (i := 4) rfl), lw_t1 (List.mem_of_getElem? (i := 105) rfl), lw_t1 (List.mem_of_getElem? (i := 106) rfl)⟩
theorem lw_p6 : lw_okq (⟨"ShardedMap", "forget", "(II)V"⟩, 21) := ⟨⟨by decide +kernel, by decide +kernel⟩, lw_t1 (List.mem_of_getElem? (i := 4) rfl), lw_t1 (List.mem_of_getElem? (i := 109) rfl), lw_t1 (List.mem_of_getElem? (i := 110) rfl)⟩
theorem lw_p7 : lw_okq (⟨"ShardedMap", "pull", "(III)V"⟩, 21) := ⟨⟨by decide +kernel, by decide +kernel⟩, lw_t1 (List.mem_of_getElem? (i := 4) rfl), lw_t1 (List.mem_of_getElem? (i := 113) rfl), lw_t1 (List.mem_of_getElem? (i := 114) rfl)⟩
theorem lw_p8 : lw_okq (⟨"ShardedMap", "valueAt", "(II)I"⟩, 21) := ⟨⟨by decide +kernel, by decide +kernel⟩, lw_t1 (List.mem_of_getElem? (i := 4) rfl), lw_t1 (List.mem_of_getElem? (i := 117) rfl), lw_t1 (List.mem_of_getElem? (i := 118) rfl)⟩
theorem lw_p9 : lw_okq (⟨"ShardedMap", "holder", "(I)I"⟩, 21) := ⟨⟨by decide +kernel, by decide +kernel⟩, lw_t1 (List.mem_of_getElem? (i := 4) rfl), lw_t1 (List.mem_of_getElem? (i := 133) rfl), lw_t1 (List.mem_of_getElem? (i := 134) rfl)⟩
theorem lw_p10 : lw_okq (⟨"ShardedMapModel", "fresh", "(III)Z"⟩, 6) := ⟨⟨by decide +kernel, by decide +kernel⟩, lw_t1 (List.mem_of_getElem? (i := 165) rfl), lw_t1 (List.mem_of_getElem? (i := 197) rfl), lw_t1 (List.mem_of_getElem? (i := 198) rfl)⟩
theorem lw_p11 : lw_okq (⟨"ShardedMapModel", "again", "(III)I"⟩, 6) := ⟨⟨by decide +kernel, by decide +kernel⟩, lw_t1 (List.mem_of_getElem? (i := 165) rfl), lw_t1 (List.mem_of_getElem? (i := 201) rfl), lw_t1 (List.mem_of_getElem? (i := 202) rfl)⟩
theorem lw_p12 : lw_okq (⟨"ShardedMapModel", "done", "(IIII)I"⟩, 6) := ⟨⟨by decide +kernel, by decide +kernel⟩, lw_t1 (List.mem_of_getElem? (i := 165) rfl), lw_t1 (List.mem_of_getElem? (i := 213) rfl), lw_t1 (List.mem_of_getElem? (i := 214) rfl)⟩
def lw_privs_1 : List (MethodName × Nat) := [(⟨"ShardedMap", "groupFor", "(II)I"⟩, 21), (⟨"ShardedMap", "moveOn", "(I)Z"⟩, 21), (⟨"ShardedMap", "groupIn", "(II)I"⟩, 21), (⟨"ShardedMap", "write", "(IIIII)V"⟩, 21), (⟨"ShardedMap", "saveImage", "(I)V"⟩, 21), (⟨"ShardedMap", "apply", "(IIIII)V"⟩, 21), (⟨"ShardedMap", "forget", "(II)V"⟩, 21), (⟨"ShardedMap", "pull", "(III)V"⟩, 21), (⟨"ShardedMap", "valueAt", "(II)I"⟩, 21), (⟨"ShardedMap", "holder", "(I)I"⟩, 21), (⟨"ShardedMapModel", "fresh", "(III)Z"⟩, 6), (⟨"ShardedMapModel", "again", "(III)I"⟩, 6), (⟨"ShardedMapModel", "done", "(IIII)I"⟩, 6)]
theorem lw_r1 : ∀ q ∈ lw_privs_1, lw_okq q := List.forall_mem_cons.mpr ⟨lw_p0, List.forall_mem_cons.mpr ⟨lw_p1, List.forall_mem_cons.mpr ⟨lw_p2, List.forall_mem_cons.mpr ⟨lw_p3, List.forall_mem_cons.mpr ⟨lw_p4, List.forall_mem_cons.mpr ⟨lw_p5, List.forall_mem_cons.mpr ⟨lw_p6, List.forall_mem_cons.mpr ⟨lw_p7, List.forall_mem_cons.mpr ⟨lw_p8, List.forall_mem_cons.mpr ⟨lw_p9, List.forall_mem_cons.mpr ⟨lw_p10, List.forall_mem_cons.mpr ⟨lw_p11, List.forall_mem_cons.mpr ⟨lw_p12, fun _ h => absurd h List.not_mem_nil⟩⟩⟩⟩⟩⟩⟩⟩⟩⟩⟩⟩⟩
def lw_privs : List (MethodName × Nat) := lw_privs_1
def lw_tbl : List Cond := k2_sels lw_privs ++ tables_1
theorem lw_privs_ok : ∀ q ∈ lw_privs, lw_okq q := lw_r1
-- ===== ONE list of words for every method: the tables' words that hold all through a run =====
def lw_all : List Cond := lw_tbl.filter goodWord
/-- a word of the tables by its place: claim/WORDS.tsv -/
theorem lw_w {w : Cond} (i : Nat) (h : lw_tbl[i]? = some w) (g : goodWord w = true) : w ∈ lw_all := List.mem_filter.mpr ⟨List.mem_of_getElem? h, g⟩
theorem lw_all_tbl {w : Cond} (h : w ∈ lw_all) : w ∈ lw_tbl := (List.mem_filter.mp h).1
theorem lw_self : GoodIn lw_all lw_all := fun w h => ⟨h, good_of_word (List.mem_filter.mp h).2⟩
/-- a class's field words, by their places -/
theorem lw_in (ws : List Cond) (ps : List Nat) (hp : ws = ps.filterMap (fun i => lw_tbl[i]?)) (hg : ws.all goodWord = true) : ∀ w ∈ ws, w ∈ lw_all := by
  intro w h
  have h1 := List.all_eq_true.mp hg w h
  rw [hp] at h
  obtain ⟨i, -, hi⟩ := List.mem_filterMap.mp h
  exact lw_w i hi h1
/-- the words of a contract for the method y with code b, L locals, answer r -/
abbrev ws_ (y : MethodName) (b : ByteArray) (L : Nat) (r : Option FieldType) : List Cond := Cond.code y b L r :: lw_all
theorem lw_meth {y : MethodName} {b : ByteArray} {L : Nat} {r : Option FieldType} (h : Cond.code y b L r ∈ lw_all) : GoodIn lw_all (ws_ y b L r) := by
  intro w hw
  rcases List.mem_cons.mp hw with e | e
  · rw [e]
    exact lw_self _ h
  · exact lw_self _ e
theorem lw_app {a c : List Cond} (ha : ∀ w ∈ a, w ∈ lw_all) (hc : GoodIn lw_all c) : GoodIn lw_all (a ++ c) := by
  intro w hw
  rcases List.mem_append.mp hw with e | e
  · exact lw_self w (ha w e)
  · exact hc w e
/-- what a call through an object asks: cwV n hts (lw_V ..) -/
theorem lw_V {own : String} {idx : Nat} {C : String} {y : MethodName} {b : ByteArray} {L : Nat} {r : Option FieldType} (h1 : Cond.methodLink own idx y ∈ lw_all) (h2 : Cond.instanceMethod y ∈ lw_all) (h3 : Cond.selects C y y ∈ lw_all) (h4 : Cond.initialized C ∈ lw_all) (h5 : Cond.code y b L r ∈ lw_all) : GoodIn lw_all (wsV own idx C y (ws_ y b L r)) := by
  refine lw_app ?_ (lw_meth h5)
  intro w hw
  simp only [List.mem_cons, List.not_mem_nil, or_false] at hw
  rcases hw with e | e | e | e
  · rw [e]; exact h1
  · rw [e]; exact h2
  · rw [e]; exact h3
  · rw [e]; exact h4
/-- what a static call asks: va_cwS n hts (lw_S ..) -/
theorem lw_S {own : String} {idx : Nat} {y : MethodName} {b : ByteArray} {L : Nat} {r : Option FieldType} (h1 : Cond.methodLink own idx y ∈ lw_all) (h2 : Cond.static y ∈ lw_all) (h3 : Cond.initialized y.cls ∈ lw_all) (h4 : Cond.code y b L r ∈ lw_all) : GoodIn lw_all (va_wsS own idx y (ws_ y b L r)) := by
  refine lw_app ?_ (lw_meth h4)
  intro w hw
  simp only [List.mem_cons, List.not_mem_nil, or_false] at hw
  rcases hw with e | e | e
  · rw [e]; exact h1
  · rw [e]; exact h2
  · rw [e]; exact h3
/-- the words of a contract for a method WITH HANDLERS (hh: its table) -/
abbrev wsW_ (y : MethodName) (b : ByteArray) (L : Nat) (r : Option FieldType) (hh : List (Nat × Nat × Nat × Nat)) : List Cond := Cond.codeWith y b L r hh :: lw_all
theorem lw_methW {y : MethodName} {b : ByteArray} {L : Nat} {r : Option FieldType} {hh : List (Nat × Nat × Nat × Nat)} (h : Cond.codeWith y b L r hh ∈ lw_all) : GoodIn lw_all (wsW_ y b L r hh) := by
  intro w hw
  rcases List.mem_cons.mp hw with e | e
  · rw [e]
    exact lw_self _ h
  · exact lw_self _ e
/-- any list of words by their places (lw_in), good -/
theorem lw_good {ws : List Cond} (h : ∀ w ∈ ws, w ∈ lw_all) : GoodIn lw_all ws := fun w hw => lw_self w (h w hw)
/-- what a call of a method with handlers asks: vx_cwVW n hts (lw_VW ..), vx_cwSW n hts (lw_SW ..) -/
theorem lw_VW {own : String} {idx : Nat} {C : String} {y : MethodName} {b : ByteArray} {L : Nat} {r : Option FieldType} {hh : List (Nat × Nat × Nat × Nat)} (h1 : Cond.methodLink own idx y ∈ lw_all) (h2 : Cond.instanceMethod y ∈ lw_all) (h3 : Cond.selects C y y ∈ lw_all) (h4 : Cond.initialized C ∈ lw_all) (h5 : Cond.codeWith y b L r hh ∈ lw_all) : GoodIn lw_all (wsV own idx C y (wsW_ y b L r hh)) := by
  refine lw_app ?_ (lw_methW h5)
  intro w hw
  simp only [List.mem_cons, List.not_mem_nil, or_false] at hw
  rcases hw with e | e | e | e
  · rw [e]; exact h1
  · rw [e]; exact h2
  · rw [e]; exact h3
  · rw [e]; exact h4
theorem lw_SW {own : String} {idx : Nat} {y : MethodName} {b : ByteArray} {L : Nat} {r : Option FieldType} {hh : List (Nat × Nat × Nat × Nat)} (h1 : Cond.methodLink own idx y ∈ lw_all) (h2 : Cond.static y ∈ lw_all) (h3 : Cond.initialized y.cls ∈ lw_all) (h4 : Cond.codeWith y b L r hh ∈ lw_all) : GoodIn lw_all (va_wsS own idx y (wsW_ y b L r hh)) := by
  refine lw_app ?_ (lw_methW h4)
  intro w hw
  simp only [List.mem_cons, List.not_mem_nil, or_false] at hw
  rcases hw with e | e | e
  · rw [e]; exact h1
  · rw [e]; exact h2
  · rw [e]; exact h3
/-- a word by its place in its run of the tables -/
theorem lw_at {r : List Cond} (hr : ∀ w ∈ r, w ∈ lw_tbl) {w : Cond} (i : Nat) (h : r[i]? = some w) : w ∈ lw_tbl := hr w (List.mem_of_getElem? h)
theorem lw_g {w : Cond} (h : w ∈ lw_tbl) (g : goodWord w = true) : w ∈ lw_all := List.mem_filter.mpr ⟨h, g⟩
theorem lw_ms : ∀ w ∈ k2_sels lw_privs, w ∈ lw_tbl := fun w h => show w ∈ k2_sels lw_privs ++ tables_1 from List.mem_append_left _ h
theorem lw_m1 : ∀ w ∈ tables_1_1, w ∈ lw_tbl := fun w h => show w ∈ k2_sels lw_privs ++ tables_1 from List.mem_append_right (k2_sels lw_privs) (show w ∈ tables_1 from List.mem_append_left _ h)
theorem lw_m2 : ∀ w ∈ tables_1_2, w ∈ lw_tbl := fun w h => show w ∈ k2_sels lw_privs ++ tables_1 from List.mem_append_right (k2_sels lw_privs) (show w ∈ tables_1 from List.mem_append_right _ h)
theorem qs0 : (Cond.selects "ShardedMap" ⟨"ShardedMap", "groupFor", "(II)I"⟩ ⟨"ShardedMap", "groupFor", "(II)I"⟩) ∈ lw_all := lw_g (lw_at lw_ms 0 rfl) rfl
theorem qs1 : (Cond.selects "ShardedMap" ⟨"ShardedMap", "moveOn", "(I)Z"⟩ ⟨"ShardedMap", "moveOn", "(I)Z"⟩) ∈ lw_all := lw_g (lw_at lw_ms 1 rfl) rfl
theorem qs2 : (Cond.selects "ShardedMap" ⟨"ShardedMap", "groupIn", "(II)I"⟩ ⟨"ShardedMap", "groupIn", "(II)I"⟩) ∈ lw_all := lw_g (lw_at lw_ms 2 rfl) rfl
theorem qs3 : (Cond.selects "ShardedMap" ⟨"ShardedMap", "write", "(IIIII)V"⟩ ⟨"ShardedMap", "write", "(IIIII)V"⟩) ∈ lw_all := lw_g (lw_at lw_ms 3 rfl) rfl
theorem qs4 : (Cond.selects "ShardedMap" ⟨"ShardedMap", "saveImage", "(I)V"⟩ ⟨"ShardedMap", "saveImage", "(I)V"⟩) ∈ lw_all := lw_g (lw_at lw_ms 4 rfl) rfl
theorem qs5 : (Cond.selects "ShardedMap" ⟨"ShardedMap", "apply", "(IIIII)V"⟩ ⟨"ShardedMap", "apply", "(IIIII)V"⟩) ∈ lw_all := lw_g (lw_at lw_ms 5 rfl) rfl
theorem qs6 : (Cond.selects "ShardedMap" ⟨"ShardedMap", "forget", "(II)V"⟩ ⟨"ShardedMap", "forget", "(II)V"⟩) ∈ lw_all := lw_g (lw_at lw_ms 6 rfl) rfl
theorem qs7 : (Cond.selects "ShardedMap" ⟨"ShardedMap", "pull", "(III)V"⟩ ⟨"ShardedMap", "pull", "(III)V"⟩) ∈ lw_all := lw_g (lw_at lw_ms 7 rfl) rfl
theorem qs8 : (Cond.selects "ShardedMap" ⟨"ShardedMap", "valueAt", "(II)I"⟩ ⟨"ShardedMap", "valueAt", "(II)I"⟩) ∈ lw_all := lw_g (lw_at lw_ms 8 rfl) rfl
theorem qs9 : (Cond.selects "ShardedMap" ⟨"ShardedMap", "holder", "(I)I"⟩ ⟨"ShardedMap", "holder", "(I)I"⟩) ∈ lw_all := lw_g (lw_at lw_ms 9 rfl) rfl
theorem qs10 : (Cond.selects "ShardedMapModel" ⟨"ShardedMapModel", "fresh", "(III)Z"⟩ ⟨"ShardedMapModel", "fresh", "(III)Z"⟩) ∈ lw_all := lw_g (lw_at lw_ms 10 rfl) rfl
theorem qs11 : (Cond.selects "ShardedMapModel" ⟨"ShardedMapModel", "again", "(III)I"⟩ ⟨"ShardedMapModel", "again", "(III)I"⟩) ∈ lw_all := lw_g (lw_at lw_ms 11 rfl) rfl
theorem qs12 : (Cond.selects "ShardedMapModel" ⟨"ShardedMapModel", "done", "(IIII)I"⟩ ⟨"ShardedMapModel", "done", "(IIII)I"⟩) ∈ lw_all := lw_g (lw_at lw_ms 12 rfl) rfl
end
section
/-! ShardedMap -/
set_option maxRecDepth 100000
def RX0 : String := "ShardedMap"
def TX0 : u_T := fun k => match k with
  | 0 => ("ShardedMap", "value", "[I", true)
  | 1 => ("ShardedMap", "there", "[Z", true)
  | 2 => ("ShardedMap", "known", "[Z", true)
  | 3 => ("ShardedMap", "number", "[I", true)
  | 4 => ("ShardedMap", "answer", "[I", true)
  | 5 => ("ShardedMap", "state", "[I", true)
  | 6 => ("ShardedMap", "imageValue", "[I", true)
  | 7 => ("ShardedMap", "imageThere", "[Z", true)
  | 8 => ("ShardedMap", "imageKnown", "[Z", true)
  | 9 => ("ShardedMap", "imageNumber", "[I", true)
  | 10 => ("ShardedMap", "imageAnswer", "[I", true)
  | 11 => ("ShardedMap", "imageState", "[I", true)
  | 12 => ("ShardedMap", "logCount", "[I", true)
  | 13 => ("ShardedMap", "logKind", "[I", true)
  | 14 => ("ShardedMap", "logA", "[I", true)
  | 15 => ("ShardedMap", "logB", "[I", true)
  | 16 => ("ShardedMap", "logC", "[I", true)
  | 17 => ("ShardedMap", "homeOf", "[I", true)
  | 18 => ("ShardedMap", "pulled", "[I", true)
  | 19 => ("ShardedMap", "route", "[I", true)
  | _ => ("ShardedMap", "nextClass", "I", false)
def tyX0 : Nat → FieldType := fun k => match k with
  | 0 => .array .int
  | 1 => .array .boolean
  | 2 => .array .boolean
  | 3 => .array .int
  | 4 => .array .int
  | 5 => .array .int
  | 6 => .array .int
  | 7 => .array .boolean
  | 8 => .array .boolean
  | 9 => .array .int
  | 10 => .array .int
  | 11 => .array .int
  | 12 => .array .int
  | 13 => .array .int
  | 14 => .array .int
  | 15 => .array .int
  | 16 => .array .int
  | 17 => .array .int
  | 18 => .array .int
  | 19 => .array .int
  | _ => .int
abbrev wsX00 : List Cond := u_ws RX0 TX0 21
set_option maxRecDepth 100000 in
theorem nmX0 : ∀ a, a < 21 → ∀ b, b < 21 → a ≠ b → (TX0 a).2.1 ≠ (TX0 b).2.1 := by decide +kernel
set_option maxRecDepth 100000 in
theorem tyX0_ok : ∀ k, k < 21 → parseFieldDescriptor (TX0 k).2.2.1 = some (tyX0 k) := by decide +kernel
abbrev cX0_init : ByteArray := prog_1_method_1_code
def yX0_init : MethodName := ⟨RX0, "<init>", "()V"⟩
abbrev cX0_put : ByteArray := prog_1_method_2_code
def yX0_put : MethodName := ⟨RX0, "put", "(IIII)I"⟩
abbrev cX0_fits : ByteArray := prog_1_method_13_code
def yX0_fits : MethodName := ⟨RX0, "fits", "(II)Z"⟩
abbrev cX0_groupFor : ByteArray := prog_1_method_17_code
def yX0_groupFor : MethodName := ⟨RX0, "groupFor", "(II)I"⟩
abbrev cX0_moveOn : ByteArray := prog_1_method_18_code
def yX0_moveOn : MethodName := ⟨RX0, "moveOn", "(I)Z"⟩
abbrev cX0_groupIn : ByteArray := prog_1_method_15_code
def yX0_groupIn : MethodName := ⟨RX0, "groupIn", "(II)I"⟩
abbrev cX0_write : ByteArray := prog_1_method_20_code
def yX0_write : MethodName := ⟨RX0, "write", "(IIIII)V"⟩
abbrev cX0_saveImage : ByteArray := prog_1_method_21_code
def yX0_saveImage : MethodName := ⟨RX0, "saveImage", "(I)V"⟩
abbrev cX0_apply : ByteArray := prog_1_method_22_code
def yX0_apply : MethodName := ⟨RX0, "apply", "(IIIII)V"⟩
abbrev cX0_forget : ByteArray := prog_1_method_23_code
def yX0_forget : MethodName := ⟨RX0, "forget", "(II)V"⟩
abbrev cX0_pull : ByteArray := prog_1_method_19_code
def yX0_pull : MethodName := ⟨RX0, "pull", "(III)V"⟩
abbrev cX0_valueAt : ByteArray := prog_1_method_14_code
def yX0_valueAt : MethodName := ⟨RX0, "valueAt", "(II)I"⟩
abbrev cX0_addTo : ByteArray := prog_1_method_3_code
def yX0_addTo : MethodName := ⟨RX0, "addTo", "(IIII)I"⟩
abbrev cX0_remove : ByteArray := prog_1_method_4_code
def yX0_remove : MethodName := ⟨RX0, "remove", "(III)I"⟩
abbrev cX0_get : ByteArray := prog_1_method_5_code
def yX0_get : MethodName := ⟨RX0, "get", "(I)I"⟩
abbrev cX0_holder : ByteArray := prog_1_method_16_code
def yX0_holder : MethodName := ⟨RX0, "holder", "(I)I"⟩
abbrev cX0_has : ByteArray := prog_1_method_6_code
def yX0_has : MethodName := ⟨RX0, "has", "(I)Z"⟩
abbrev cX0_size : ByteArray := prog_1_method_7_code
def yX0_size : MethodName := ⟨RX0, "size", "(I)I"⟩
abbrev cX0_lastFrom : ByteArray := prog_1_method_8_code
def yX0_lastFrom : MethodName := ⟨RX0, "lastFrom", "(I)I"⟩
abbrev cX0_assign : ByteArray := prog_1_method_9_code
def yX0_assign : MethodName := ⟨RX0, "assign", "(II)I"⟩
abbrev cX0_home : ByteArray := prog_1_method_10_code
def yX0_home : MethodName := ⟨RX0, "home", "(I)I"⟩
abbrev cX0_work : ByteArray := prog_1_method_11_code
def yX0_work : MethodName := ⟨RX0, "work", "(I)V"⟩
abbrev cX0_lose : ByteArray := prog_1_method_12_code
def yX0_lose : MethodName := ⟨RX0, "lose", "(I)V"⟩
theorem q14 : (Jvm.Cond.initialized "ShardedMap") ∈ lw_all := lw_g (lw_at lw_m1 1 rfl) rfl
theorem q17 : (Jvm.Cond.instantiable "ShardedMap" (21 : Nat)) ∈ lw_all := lw_g (lw_at lw_m1 4 rfl) rfl
theorem q19 : (Jvm.Cond.instanceMethod ({ cls := "ShardedMap", name := "<init>", desc := "()V" } : Jvm.MethodName)) ∈ lw_all := lw_g (lw_at lw_m1 6 rfl) rfl
theorem q20 : (Jvm.Cond.code ({ cls := "ShardedMap", name := "<init>", desc := "()V" } : Jvm.MethodName) prog_1_method_1_code (3 : Nat) (Option.none : Option Jvm.ClassFile.FieldType)) ∈ lw_all := lw_g (lw_at lw_m1 7 rfl) rfl
theorem q21 : (Jvm.Cond.methodLink "ShardedMap" (1 : Nat) ({ cls := "java/lang/Object", name := "<init>", desc := "()V" } : Jvm.MethodName)) ∈ lw_all := lw_g (lw_at lw_m1 8 rfl) rfl
theorem q24 : (Jvm.Cond.fieldLink "ShardedMap" (7 : Nat) "ShardedMap" "value" "[I") ∈ lw_all := lw_g (lw_at lw_m1 11 rfl) rfl
theorem q25 : (Jvm.Cond.fieldLink "ShardedMap" (13 : Nat) "ShardedMap" "there" "[Z") ∈ lw_all := lw_g (lw_at lw_m1 12 rfl) rfl
theorem q26 : (Jvm.Cond.fieldLink "ShardedMap" (17 : Nat) "ShardedMap" "known" "[Z") ∈ lw_all := lw_g (lw_at lw_m1 13 rfl) rfl
theorem q27 : (Jvm.Cond.fieldLink "ShardedMap" (20 : Nat) "ShardedMap" "number" "[I") ∈ lw_all := lw_g (lw_at lw_m1 14 rfl) rfl
theorem q28 : (Jvm.Cond.fieldLink "ShardedMap" (23 : Nat) "ShardedMap" "answer" "[I") ∈ lw_all := lw_g (lw_at lw_m1 15 rfl) rfl
theorem q29 : (Jvm.Cond.fieldLink "ShardedMap" (26 : Nat) "ShardedMap" "state" "[I") ∈ lw_all := lw_g (lw_at lw_m1 16 rfl) rfl
theorem q30 : (Jvm.Cond.fieldLink "ShardedMap" (29 : Nat) "ShardedMap" "imageValue" "[I") ∈ lw_all := lw_g (lw_at lw_m1 17 rfl) rfl
theorem q31 : (Jvm.Cond.fieldLink "ShardedMap" (32 : Nat) "ShardedMap" "imageThere" "[Z") ∈ lw_all := lw_g (lw_at lw_m1 18 rfl) rfl
theorem q32 : (Jvm.Cond.fieldLink "ShardedMap" (35 : Nat) "ShardedMap" "imageKnown" "[Z") ∈ lw_all := lw_g (lw_at lw_m1 19 rfl) rfl
theorem q33 : (Jvm.Cond.fieldLink "ShardedMap" (38 : Nat) "ShardedMap" "imageNumber" "[I") ∈ lw_all := lw_g (lw_at lw_m1 20 rfl) rfl
theorem q34 : (Jvm.Cond.fieldLink "ShardedMap" (41 : Nat) "ShardedMap" "imageAnswer" "[I") ∈ lw_all := lw_g (lw_at lw_m1 21 rfl) rfl
theorem q35 : (Jvm.Cond.fieldLink "ShardedMap" (44 : Nat) "ShardedMap" "imageState" "[I") ∈ lw_all := lw_g (lw_at lw_m1 22 rfl) rfl
theorem q36 : (Jvm.Cond.fieldLink "ShardedMap" (47 : Nat) "ShardedMap" "logCount" "[I") ∈ lw_all := lw_g (lw_at lw_m1 23 rfl) rfl
theorem q37 : (Jvm.Cond.fieldLink "ShardedMap" (50 : Nat) "ShardedMap" "logKind" "[I") ∈ lw_all := lw_g (lw_at lw_m1 24 rfl) rfl
theorem q38 : (Jvm.Cond.fieldLink "ShardedMap" (53 : Nat) "ShardedMap" "logA" "[I") ∈ lw_all := lw_g (lw_at lw_m1 25 rfl) rfl
theorem q39 : (Jvm.Cond.fieldLink "ShardedMap" (56 : Nat) "ShardedMap" "logB" "[I") ∈ lw_all := lw_g (lw_at lw_m1 26 rfl) rfl
theorem q40 : (Jvm.Cond.fieldLink "ShardedMap" (59 : Nat) "ShardedMap" "logC" "[I") ∈ lw_all := lw_g (lw_at lw_m1 27 rfl) rfl
theorem q41 : (Jvm.Cond.fieldLink "ShardedMap" (62 : Nat) "ShardedMap" "homeOf" "[I") ∈ lw_all := lw_g (lw_at lw_m1 28 rfl) rfl
theorem q42 : (Jvm.Cond.fieldLink "ShardedMap" (65 : Nat) "ShardedMap" "pulled" "[I") ∈ lw_all := lw_g (lw_at lw_m1 29 rfl) rfl
theorem q43 : (Jvm.Cond.fieldLink "ShardedMap" (68 : Nat) "ShardedMap" "route" "[I") ∈ lw_all := lw_g (lw_at lw_m1 30 rfl) rfl
theorem q44 : (Jvm.Cond.fieldLink "ShardedMap" (90 : Nat) "ShardedMap" "nextClass" "I") ∈ lw_all := lw_g (lw_at lw_m1 31 rfl) rfl
theorem q45 : (Jvm.Cond.laysFinal "ShardedMap" "ShardedMap" "value" "[I") ∈ lw_all := lw_g (lw_at lw_m1 32 rfl) rfl
theorem q46 : (Jvm.Cond.soleField "ShardedMap" "value") ∈ lw_all := lw_g (lw_at lw_m1 33 rfl) rfl
theorem q47 : (Jvm.Cond.laysFinal "ShardedMap" "ShardedMap" "there" "[Z") ∈ lw_all := lw_g (lw_at lw_m1 34 rfl) rfl
theorem q48 : (Jvm.Cond.soleField "ShardedMap" "there") ∈ lw_all := lw_g (lw_at lw_m1 35 rfl) rfl
theorem q49 : (Jvm.Cond.laysFinal "ShardedMap" "ShardedMap" "known" "[Z") ∈ lw_all := lw_g (lw_at lw_m1 36 rfl) rfl
theorem q50 : (Jvm.Cond.soleField "ShardedMap" "known") ∈ lw_all := lw_g (lw_at lw_m1 37 rfl) rfl
theorem q51 : (Jvm.Cond.laysFinal "ShardedMap" "ShardedMap" "number" "[I") ∈ lw_all := lw_g (lw_at lw_m1 38 rfl) rfl
theorem q52 : (Jvm.Cond.soleField "ShardedMap" "number") ∈ lw_all := lw_g (lw_at lw_m1 39 rfl) rfl
theorem q53 : (Jvm.Cond.laysFinal "ShardedMap" "ShardedMap" "answer" "[I") ∈ lw_all := lw_g (lw_at lw_m1 40 rfl) rfl
theorem q54 : (Jvm.Cond.soleField "ShardedMap" "answer") ∈ lw_all := lw_g (lw_at lw_m1 41 rfl) rfl
theorem q55 : (Jvm.Cond.laysFinal "ShardedMap" "ShardedMap" "state" "[I") ∈ lw_all := lw_g (lw_at lw_m1 42 rfl) rfl
theorem q56 : (Jvm.Cond.soleField "ShardedMap" "state") ∈ lw_all := lw_g (lw_at lw_m1 43 rfl) rfl
theorem q57 : (Jvm.Cond.laysFinal "ShardedMap" "ShardedMap" "imageValue" "[I") ∈ lw_all := lw_g (lw_at lw_m1 44 rfl) rfl
theorem q58 : (Jvm.Cond.soleField "ShardedMap" "imageValue") ∈ lw_all := lw_g (lw_at lw_m1 45 rfl) rfl
theorem q59 : (Jvm.Cond.laysFinal "ShardedMap" "ShardedMap" "imageThere" "[Z") ∈ lw_all := lw_g (lw_at lw_m1 46 rfl) rfl
theorem q60 : (Jvm.Cond.soleField "ShardedMap" "imageThere") ∈ lw_all := lw_g (lw_at lw_m1 47 rfl) rfl
theorem q61 : (Jvm.Cond.laysFinal "ShardedMap" "ShardedMap" "imageKnown" "[Z") ∈ lw_all := lw_g (lw_at lw_m1 48 rfl) rfl
theorem q62 : (Jvm.Cond.soleField "ShardedMap" "imageKnown") ∈ lw_all := lw_g (lw_at lw_m1 49 rfl) rfl
theorem q63 : (Jvm.Cond.laysFinal "ShardedMap" "ShardedMap" "imageNumber" "[I") ∈ lw_all := lw_g (lw_at lw_m1 50 rfl) rfl
theorem q64 : (Jvm.Cond.soleField "ShardedMap" "imageNumber") ∈ lw_all := lw_g (lw_at lw_m1 51 rfl) rfl
theorem q65 : (Jvm.Cond.laysFinal "ShardedMap" "ShardedMap" "imageAnswer" "[I") ∈ lw_all := lw_g (lw_at lw_m1 52 rfl) rfl
theorem q66 : (Jvm.Cond.soleField "ShardedMap" "imageAnswer") ∈ lw_all := lw_g (lw_at lw_m1 53 rfl) rfl
theorem q67 : (Jvm.Cond.laysFinal "ShardedMap" "ShardedMap" "imageState" "[I") ∈ lw_all := lw_g (lw_at lw_m1 54 rfl) rfl
theorem q68 : (Jvm.Cond.soleField "ShardedMap" "imageState") ∈ lw_all := lw_g (lw_at lw_m1 55 rfl) rfl
theorem q69 : (Jvm.Cond.laysFinal "ShardedMap" "ShardedMap" "logCount" "[I") ∈ lw_all := lw_g (lw_at lw_m1 56 rfl) rfl
theorem q70 : (Jvm.Cond.soleField "ShardedMap" "logCount") ∈ lw_all := lw_g (lw_at lw_m1 57 rfl) rfl
theorem q71 : (Jvm.Cond.laysFinal "ShardedMap" "ShardedMap" "logKind" "[I") ∈ lw_all := lw_g (lw_at lw_m1 58 rfl) rfl
theorem q72 : (Jvm.Cond.soleField "ShardedMap" "logKind") ∈ lw_all := lw_g (lw_at lw_m1 59 rfl) rfl
theorem q73 : (Jvm.Cond.laysFinal "ShardedMap" "ShardedMap" "logA" "[I") ∈ lw_all := lw_g (lw_at lw_m1 60 rfl) rfl
theorem q74 : (Jvm.Cond.soleField "ShardedMap" "logA") ∈ lw_all := lw_g (lw_at lw_m1 61 rfl) rfl
theorem q75 : (Jvm.Cond.laysFinal "ShardedMap" "ShardedMap" "logB" "[I") ∈ lw_all := lw_g (lw_at lw_m1 62 rfl) rfl
theorem q76 : (Jvm.Cond.soleField "ShardedMap" "logB") ∈ lw_all := lw_g (lw_at lw_m1 63 rfl) rfl
theorem q77 : (Jvm.Cond.laysFinal "ShardedMap" "ShardedMap" "logC" "[I") ∈ lw_all := lw_g (lw_at lw_m1 64 rfl) rfl
theorem q78 : (Jvm.Cond.soleField "ShardedMap" "logC") ∈ lw_all := lw_g (lw_at lw_m1 65 rfl) rfl
theorem q79 : (Jvm.Cond.laysFinal "ShardedMap" "ShardedMap" "homeOf" "[I") ∈ lw_all := lw_g (lw_at lw_m1 66 rfl) rfl
theorem q80 : (Jvm.Cond.soleField "ShardedMap" "homeOf") ∈ lw_all := lw_g (lw_at lw_m1 67 rfl) rfl
theorem q81 : (Jvm.Cond.laysFinal "ShardedMap" "ShardedMap" "pulled" "[I") ∈ lw_all := lw_g (lw_at lw_m1 68 rfl) rfl
theorem q82 : (Jvm.Cond.soleField "ShardedMap" "pulled") ∈ lw_all := lw_g (lw_at lw_m1 69 rfl) rfl
theorem q83 : (Jvm.Cond.laysFinal "ShardedMap" "ShardedMap" "route" "[I") ∈ lw_all := lw_g (lw_at lw_m1 70 rfl) rfl
theorem q84 : (Jvm.Cond.soleField "ShardedMap" "route") ∈ lw_all := lw_g (lw_at lw_m1 71 rfl) rfl
theorem q85 : (Jvm.Cond.lays "ShardedMap" "ShardedMap" "nextClass" "I") ∈ lw_all := lw_g (lw_at lw_m1 72 rfl) rfl
theorem q86 : (Jvm.Cond.soleField "ShardedMap" "nextClass") ∈ lw_all := lw_g (lw_at lw_m1 73 rfl) rfl
theorem q87 : (Jvm.Cond.superclass "ShardedMap" "java/lang/Object") ∈ lw_all := lw_g (lw_at lw_m1 74 rfl) rfl
theorem q91 : (Jvm.Cond.instanceMethod ({ cls := "ShardedMap", name := "put", desc := "(IIII)I" } : Jvm.MethodName)) ∈ lw_all := lw_g (lw_at lw_m1 78 rfl) rfl
theorem q92 : (Jvm.Cond.selects "ShardedMap" ({ cls := "ShardedMap", name := "put", desc := "(IIII)I" } : Jvm.MethodName) ({ cls := "ShardedMap", name := "put", desc := "(IIII)I" } : Jvm.MethodName)) ∈ lw_all := lw_g (lw_at lw_m1 79 rfl) rfl
theorem q93 : (Jvm.Cond.code ({ cls := "ShardedMap", name := "put", desc := "(IIII)I" } : Jvm.MethodName) prog_1_method_2_code (8 : Nat) (Option.some Jvm.ClassFile.FieldType.int)) ∈ lw_all := lw_g (lw_at lw_m1 80 rfl) rfl
theorem q94 : (Jvm.Cond.methodLink "ShardedMap" (71 : Nat) ({ cls := "ShardedMap", name := "fits", desc := "(II)Z" } : Jvm.MethodName)) ∈ lw_all := lw_g (lw_at lw_m1 81 rfl) rfl
theorem q95 : (Jvm.Cond.static ({ cls := "ShardedMap", name := "fits", desc := "(II)Z" } : Jvm.MethodName)) ∈ lw_all := lw_g (lw_at lw_m1 82 rfl) rfl
theorem q96 : (Jvm.Cond.code ({ cls := "ShardedMap", name := "fits", desc := "(II)Z" } : Jvm.MethodName) prog_1_method_13_code (2 : Nat) (Option.some Jvm.ClassFile.FieldType.boolean)) ∈ lw_all := lw_g (lw_at lw_m1 83 rfl) rfl
theorem q97 : (Jvm.Cond.methodLink "ShardedMap" (75 : Nat) ({ cls := "ShardedMap", name := "groupFor", desc := "(II)I" } : Jvm.MethodName)) ∈ lw_all := lw_g (lw_at lw_m1 84 rfl) rfl
theorem q98 : (Jvm.Cond.privateMethod ({ cls := "ShardedMap", name := "groupFor", desc := "(II)I" } : Jvm.MethodName)) ∈ lw_tbl := lw_at lw_m1 85 rfl
theorem q99 : (Jvm.Cond.instanceMethod ({ cls := "ShardedMap", name := "groupFor", desc := "(II)I" } : Jvm.MethodName)) ∈ lw_all := lw_g (lw_at lw_m1 86 rfl) rfl
theorem q100 : (Jvm.Cond.code ({ cls := "ShardedMap", name := "groupFor", desc := "(II)I" } : Jvm.MethodName) prog_1_method_17_code (6 : Nat) (Option.some Jvm.ClassFile.FieldType.int)) ∈ lw_all := lw_g (lw_at lw_m1 87 rfl) rfl
theorem q101 : (Jvm.Cond.methodLink "ShardedMap" (94 : Nat) ({ cls := "ShardedMap", name := "moveOn", desc := "(I)Z" } : Jvm.MethodName)) ∈ lw_all := lw_g (lw_at lw_m1 88 rfl) rfl
theorem q102 : (Jvm.Cond.privateMethod ({ cls := "ShardedMap", name := "moveOn", desc := "(I)Z" } : Jvm.MethodName)) ∈ lw_tbl := lw_at lw_m1 89 rfl
theorem q103 : (Jvm.Cond.instanceMethod ({ cls := "ShardedMap", name := "moveOn", desc := "(I)Z" } : Jvm.MethodName)) ∈ lw_all := lw_g (lw_at lw_m1 90 rfl) rfl
theorem q104 : (Jvm.Cond.code ({ cls := "ShardedMap", name := "moveOn", desc := "(I)Z" } : Jvm.MethodName) prog_1_method_18_code (6 : Nat) (Option.some Jvm.ClassFile.FieldType.boolean)) ∈ lw_all := lw_g (lw_at lw_m1 91 rfl) rfl
theorem q105 : (Jvm.Cond.methodLink "ShardedMap" (101 : Nat) ({ cls := "ShardedMap", name := "groupIn", desc := "(II)I" } : Jvm.MethodName)) ∈ lw_all := lw_g (lw_at lw_m1 92 rfl) rfl
theorem q106 : (Jvm.Cond.privateMethod ({ cls := "ShardedMap", name := "groupIn", desc := "(II)I" } : Jvm.MethodName)) ∈ lw_tbl := lw_at lw_m1 93 rfl
theorem q107 : (Jvm.Cond.instanceMethod ({ cls := "ShardedMap", name := "groupIn", desc := "(II)I" } : Jvm.MethodName)) ∈ lw_all := lw_g (lw_at lw_m1 94 rfl) rfl
theorem q108 : (Jvm.Cond.code ({ cls := "ShardedMap", name := "groupIn", desc := "(II)I" } : Jvm.MethodName) prog_1_method_15_code (4 : Nat) (Option.some Jvm.ClassFile.FieldType.int)) ∈ lw_all := lw_g (lw_at lw_m1 95 rfl) rfl
theorem q109 : (Jvm.Cond.methodLink "ShardedMap" (82 : Nat) ({ cls := "ShardedMap", name := "write", desc := "(IIIII)V" } : Jvm.MethodName)) ∈ lw_all := lw_g (lw_at lw_m1 96 rfl) rfl
theorem q110 : (Jvm.Cond.privateMethod ({ cls := "ShardedMap", name := "write", desc := "(IIIII)V" } : Jvm.MethodName)) ∈ lw_tbl := lw_at lw_m1 97 rfl
theorem q111 : (Jvm.Cond.instanceMethod ({ cls := "ShardedMap", name := "write", desc := "(IIIII)V" } : Jvm.MethodName)) ∈ lw_all := lw_g (lw_at lw_m1 98 rfl) rfl
theorem q112 : (Jvm.Cond.code ({ cls := "ShardedMap", name := "write", desc := "(IIIII)V" } : Jvm.MethodName) prog_1_method_20_code (7 : Nat) (Option.none : Option Jvm.ClassFile.FieldType)) ∈ lw_all := lw_g (lw_at lw_m1 99 rfl) rfl
theorem q113 : (Jvm.Cond.methodLink "ShardedMap" (108 : Nat) ({ cls := "ShardedMap", name := "saveImage", desc := "(I)V" } : Jvm.MethodName)) ∈ lw_all := lw_g (lw_at lw_m1 100 rfl) rfl
theorem q114 : (Jvm.Cond.privateMethod ({ cls := "ShardedMap", name := "saveImage", desc := "(I)V" } : Jvm.MethodName)) ∈ lw_tbl := lw_at lw_m1 101 rfl
theorem q115 : (Jvm.Cond.instanceMethod ({ cls := "ShardedMap", name := "saveImage", desc := "(I)V" } : Jvm.MethodName)) ∈ lw_all := lw_g (lw_at lw_m1 102 rfl) rfl
theorem q116 : (Jvm.Cond.code ({ cls := "ShardedMap", name := "saveImage", desc := "(I)V" } : Jvm.MethodName) prog_1_method_21_code (3 : Nat) (Option.none : Option Jvm.ClassFile.FieldType)) ∈ lw_all := lw_g (lw_at lw_m1 103 rfl) rfl
theorem q117 : (Jvm.Cond.methodLink "ShardedMap" (98 : Nat) ({ cls := "ShardedMap", name := "apply", desc := "(IIIII)V" } : Jvm.MethodName)) ∈ lw_all := lw_g (lw_at lw_m1 104 rfl) rfl
theorem q118 : (Jvm.Cond.privateMethod ({ cls := "ShardedMap", name := "apply", desc := "(IIIII)V" } : Jvm.MethodName)) ∈ lw_tbl := lw_at lw_m1 105 rfl
theorem q119 : (Jvm.Cond.instanceMethod ({ cls := "ShardedMap", name := "apply", desc := "(IIIII)V" } : Jvm.MethodName)) ∈ lw_all := lw_g (lw_at lw_m1 106 rfl) rfl
theorem q120 : (Jvm.Cond.code ({ cls := "ShardedMap", name := "apply", desc := "(IIIII)V" } : Jvm.MethodName) prog_1_method_22_code (6 : Nat) (Option.none : Option Jvm.ClassFile.FieldType)) ∈ lw_all := lw_g (lw_at lw_m1 107 rfl) rfl
theorem q121 : (Jvm.Cond.methodLink "ShardedMap" (112 : Nat) ({ cls := "ShardedMap", name := "forget", desc := "(II)V" } : Jvm.MethodName)) ∈ lw_all := lw_g (lw_at lw_m1 108 rfl) rfl
theorem q122 : (Jvm.Cond.privateMethod ({ cls := "ShardedMap", name := "forget", desc := "(II)V" } : Jvm.MethodName)) ∈ lw_tbl := lw_at lw_m1 109 rfl
theorem q123 : (Jvm.Cond.instanceMethod ({ cls := "ShardedMap", name := "forget", desc := "(II)V" } : Jvm.MethodName)) ∈ lw_all := lw_g (lw_at lw_m1 110 rfl) rfl
theorem q124 : (Jvm.Cond.code ({ cls := "ShardedMap", name := "forget", desc := "(II)V" } : Jvm.MethodName) prog_1_method_23_code (4 : Nat) (Option.none : Option Jvm.ClassFile.FieldType)) ∈ lw_all := lw_g (lw_at lw_m1 111 rfl) rfl
theorem q125 : (Jvm.Cond.methodLink "ShardedMap" (104 : Nat) ({ cls := "ShardedMap", name := "pull", desc := "(III)V" } : Jvm.MethodName)) ∈ lw_all := lw_g (lw_at lw_m1 112 rfl) rfl
theorem q126 : (Jvm.Cond.privateMethod ({ cls := "ShardedMap", name := "pull", desc := "(III)V" } : Jvm.MethodName)) ∈ lw_tbl := lw_at lw_m1 113 rfl
theorem q127 : (Jvm.Cond.instanceMethod ({ cls := "ShardedMap", name := "pull", desc := "(III)V" } : Jvm.MethodName)) ∈ lw_all := lw_g (lw_at lw_m1 114 rfl) rfl
theorem q128 : (Jvm.Cond.code ({ cls := "ShardedMap", name := "pull", desc := "(III)V" } : Jvm.MethodName) prog_1_method_19_code (7 : Nat) (Option.none : Option Jvm.ClassFile.FieldType)) ∈ lw_all := lw_g (lw_at lw_m1 115 rfl) rfl
theorem q129 : (Jvm.Cond.methodLink "ShardedMap" (79 : Nat) ({ cls := "ShardedMap", name := "valueAt", desc := "(II)I" } : Jvm.MethodName)) ∈ lw_all := lw_g (lw_at lw_m1 116 rfl) rfl
theorem q130 : (Jvm.Cond.privateMethod ({ cls := "ShardedMap", name := "valueAt", desc := "(II)I" } : Jvm.MethodName)) ∈ lw_tbl := lw_at lw_m1 117 rfl
theorem q131 : (Jvm.Cond.instanceMethod ({ cls := "ShardedMap", name := "valueAt", desc := "(II)I" } : Jvm.MethodName)) ∈ lw_all := lw_g (lw_at lw_m1 118 rfl) rfl
theorem q132 : (Jvm.Cond.code ({ cls := "ShardedMap", name := "valueAt", desc := "(II)I" } : Jvm.MethodName) prog_1_method_14_code (3 : Nat) (Option.some Jvm.ClassFile.FieldType.int)) ∈ lw_all := lw_g (lw_at lw_m1 119 rfl) rfl
theorem q134 : (Jvm.Cond.instanceMethod ({ cls := "ShardedMap", name := "addTo", desc := "(IIII)I" } : Jvm.MethodName)) ∈ lw_all := lw_g (lw_at lw_m1 121 rfl) rfl
theorem q135 : (Jvm.Cond.selects "ShardedMap" ({ cls := "ShardedMap", name := "addTo", desc := "(IIII)I" } : Jvm.MethodName) ({ cls := "ShardedMap", name := "addTo", desc := "(IIII)I" } : Jvm.MethodName)) ∈ lw_all := lw_g (lw_at lw_m1 122 rfl) rfl
theorem q136 : (Jvm.Cond.code ({ cls := "ShardedMap", name := "addTo", desc := "(IIII)I" } : Jvm.MethodName) prog_1_method_3_code (8 : Nat) (Option.some Jvm.ClassFile.FieldType.int)) ∈ lw_all := lw_g (lw_at lw_m1 123 rfl) rfl
theorem q138 : (Jvm.Cond.instanceMethod ({ cls := "ShardedMap", name := "remove", desc := "(III)I" } : Jvm.MethodName)) ∈ lw_all := lw_g (lw_at lw_m1 125 rfl) rfl
theorem q139 : (Jvm.Cond.selects "ShardedMap" ({ cls := "ShardedMap", name := "remove", desc := "(III)I" } : Jvm.MethodName) ({ cls := "ShardedMap", name := "remove", desc := "(III)I" } : Jvm.MethodName)) ∈ lw_all := lw_g (lw_at lw_m1 126 rfl) rfl
theorem q140 : (Jvm.Cond.code ({ cls := "ShardedMap", name := "remove", desc := "(III)I" } : Jvm.MethodName) prog_1_method_4_code (7 : Nat) (Option.some Jvm.ClassFile.FieldType.int)) ∈ lw_all := lw_g (lw_at lw_m1 127 rfl) rfl
theorem q142 : (Jvm.Cond.instanceMethod ({ cls := "ShardedMap", name := "get", desc := "(I)I" } : Jvm.MethodName)) ∈ lw_all := lw_g (lw_at lw_m1 129 rfl) rfl
theorem q143 : (Jvm.Cond.selects "ShardedMap" ({ cls := "ShardedMap", name := "get", desc := "(I)I" } : Jvm.MethodName) ({ cls := "ShardedMap", name := "get", desc := "(I)I" } : Jvm.MethodName)) ∈ lw_all := lw_g (lw_at lw_m1 130 rfl) rfl
theorem q144 : (Jvm.Cond.code ({ cls := "ShardedMap", name := "get", desc := "(I)I" } : Jvm.MethodName) prog_1_method_5_code (3 : Nat) (Option.some Jvm.ClassFile.FieldType.int)) ∈ lw_all := lw_g (lw_at lw_m1 131 rfl) rfl
theorem q145 : (Jvm.Cond.methodLink "ShardedMap" (86 : Nat) ({ cls := "ShardedMap", name := "holder", desc := "(I)I" } : Jvm.MethodName)) ∈ lw_all := lw_g (lw_at lw_m1 132 rfl) rfl
theorem q146 : (Jvm.Cond.privateMethod ({ cls := "ShardedMap", name := "holder", desc := "(I)I" } : Jvm.MethodName)) ∈ lw_tbl := lw_at lw_m1 133 rfl
theorem q147 : (Jvm.Cond.instanceMethod ({ cls := "ShardedMap", name := "holder", desc := "(I)I" } : Jvm.MethodName)) ∈ lw_all := lw_g (lw_at lw_m1 134 rfl) rfl
theorem q148 : (Jvm.Cond.code ({ cls := "ShardedMap", name := "holder", desc := "(I)I" } : Jvm.MethodName) prog_1_method_16_code (3 : Nat) (Option.some Jvm.ClassFile.FieldType.int)) ∈ lw_all := lw_g (lw_at lw_m1 135 rfl) rfl
theorem q150 : (Jvm.Cond.instanceMethod ({ cls := "ShardedMap", name := "has", desc := "(I)Z" } : Jvm.MethodName)) ∈ lw_all := lw_g (lw_at lw_m1 137 rfl) rfl
theorem q151 : (Jvm.Cond.selects "ShardedMap" ({ cls := "ShardedMap", name := "has", desc := "(I)Z" } : Jvm.MethodName) ({ cls := "ShardedMap", name := "has", desc := "(I)Z" } : Jvm.MethodName)) ∈ lw_all := lw_g (lw_at lw_m1 138 rfl) rfl
theorem q152 : (Jvm.Cond.code ({ cls := "ShardedMap", name := "has", desc := "(I)Z" } : Jvm.MethodName) prog_1_method_6_code (3 : Nat) (Option.some Jvm.ClassFile.FieldType.boolean)) ∈ lw_all := lw_g (lw_at lw_m1 139 rfl) rfl
theorem q154 : (Jvm.Cond.instanceMethod ({ cls := "ShardedMap", name := "size", desc := "(I)I" } : Jvm.MethodName)) ∈ lw_all := lw_g (lw_at lw_m1 141 rfl) rfl
theorem q155 : (Jvm.Cond.selects "ShardedMap" ({ cls := "ShardedMap", name := "size", desc := "(I)I" } : Jvm.MethodName) ({ cls := "ShardedMap", name := "size", desc := "(I)I" } : Jvm.MethodName)) ∈ lw_all := lw_g (lw_at lw_m1 142 rfl) rfl
theorem q156 : (Jvm.Cond.code ({ cls := "ShardedMap", name := "size", desc := "(I)I" } : Jvm.MethodName) prog_1_method_7_code (6 : Nat) (Option.some Jvm.ClassFile.FieldType.int)) ∈ lw_all := lw_g (lw_at lw_m1 143 rfl) rfl
theorem q158 : (Jvm.Cond.instanceMethod ({ cls := "ShardedMap", name := "lastFrom", desc := "(I)I" } : Jvm.MethodName)) ∈ lw_all := lw_g (lw_at lw_m1 145 rfl) rfl
theorem q159 : (Jvm.Cond.selects "ShardedMap" ({ cls := "ShardedMap", name := "lastFrom", desc := "(I)I" } : Jvm.MethodName) ({ cls := "ShardedMap", name := "lastFrom", desc := "(I)I" } : Jvm.MethodName)) ∈ lw_all := lw_g (lw_at lw_m1 146 rfl) rfl
theorem q160 : (Jvm.Cond.code ({ cls := "ShardedMap", name := "lastFrom", desc := "(I)I" } : Jvm.MethodName) prog_1_method_8_code (4 : Nat) (Option.some Jvm.ClassFile.FieldType.int)) ∈ lw_all := lw_g (lw_at lw_m1 147 rfl) rfl
theorem q162 : (Jvm.Cond.instanceMethod ({ cls := "ShardedMap", name := "assign", desc := "(II)I" } : Jvm.MethodName)) ∈ lw_all := lw_g (lw_at lw_m1 149 rfl) rfl
theorem q163 : (Jvm.Cond.selects "ShardedMap" ({ cls := "ShardedMap", name := "assign", desc := "(II)I" } : Jvm.MethodName) ({ cls := "ShardedMap", name := "assign", desc := "(II)I" } : Jvm.MethodName)) ∈ lw_all := lw_g (lw_at lw_m1 150 rfl) rfl
theorem q164 : (Jvm.Cond.code ({ cls := "ShardedMap", name := "assign", desc := "(II)I" } : Jvm.MethodName) prog_1_method_9_code (4 : Nat) (Option.some Jvm.ClassFile.FieldType.int)) ∈ lw_all := lw_g (lw_at lw_m1 151 rfl) rfl
theorem q166 : (Jvm.Cond.instanceMethod ({ cls := "ShardedMap", name := "home", desc := "(I)I" } : Jvm.MethodName)) ∈ lw_all := lw_g (lw_at lw_m1 153 rfl) rfl
theorem q167 : (Jvm.Cond.selects "ShardedMap" ({ cls := "ShardedMap", name := "home", desc := "(I)I" } : Jvm.MethodName) ({ cls := "ShardedMap", name := "home", desc := "(I)I" } : Jvm.MethodName)) ∈ lw_all := lw_g (lw_at lw_m1 154 rfl) rfl
theorem q168 : (Jvm.Cond.code ({ cls := "ShardedMap", name := "home", desc := "(I)I" } : Jvm.MethodName) prog_1_method_10_code (2 : Nat) (Option.some Jvm.ClassFile.FieldType.int)) ∈ lw_all := lw_g (lw_at lw_m1 155 rfl) rfl
theorem q170 : (Jvm.Cond.instanceMethod ({ cls := "ShardedMap", name := "work", desc := "(I)V" } : Jvm.MethodName)) ∈ lw_all := lw_g (lw_at lw_m1 157 rfl) rfl
theorem q171 : (Jvm.Cond.selects "ShardedMap" ({ cls := "ShardedMap", name := "work", desc := "(I)V" } : Jvm.MethodName) ({ cls := "ShardedMap", name := "work", desc := "(I)V" } : Jvm.MethodName)) ∈ lw_all := lw_g (lw_at lw_m1 158 rfl) rfl
theorem q172 : (Jvm.Cond.code ({ cls := "ShardedMap", name := "work", desc := "(I)V" } : Jvm.MethodName) prog_1_method_11_code (5 : Nat) (Option.none : Option Jvm.ClassFile.FieldType)) ∈ lw_all := lw_g (lw_at lw_m1 159 rfl) rfl
theorem q174 : (Jvm.Cond.instanceMethod ({ cls := "ShardedMap", name := "lose", desc := "(I)V" } : Jvm.MethodName)) ∈ lw_all := lw_g (lw_at lw_m1 161 rfl) rfl
theorem q175 : (Jvm.Cond.selects "ShardedMap" ({ cls := "ShardedMap", name := "lose", desc := "(I)V" } : Jvm.MethodName) ({ cls := "ShardedMap", name := "lose", desc := "(I)V" } : Jvm.MethodName)) ∈ lw_all := lw_g (lw_at lw_m1 162 rfl) rfl
theorem q176 : (Jvm.Cond.code ({ cls := "ShardedMap", name := "lose", desc := "(I)V" } : Jvm.MethodName) prog_1_method_12_code (4 : Nat) (Option.none : Option Jvm.ClassFile.FieldType)) ∈ lw_all := lw_g (lw_at lw_m1 163 rfl) rfl
theorem in_X0 : ∀ w ∈ wsX00, w ∈ lw_all := lw_in wsX00 [45, 47, 49, 51, 53, 55, 57, 59, 61, 63, 65, 67, 69, 71, 73, 75, 77, 79, 81, 83, 85] (by decide +kernel) (by decide +kernel)

/-! ShardedMapModel -/
set_option maxRecDepth 100000
def RX1 : String := "ShardedMapModel"
def TX1 : u_T := fun k => match k with
  | 0 => ("ShardedMapModel", "there", "[Z", true)
  | 1 => ("ShardedMapModel", "value", "[I", true)
  | 2 => ("ShardedMapModel", "remembers", "[Z", true)
  | 3 => ("ShardedMapModel", "lastNumber", "[I", true)
  | 4 => ("ShardedMapModel", "lastAnswer", "[I", true)
  | _ => ("ShardedMapModel", "homes", "[I", true)
def tyX1 : Nat → FieldType := fun k => match k with
  | 0 => .array .boolean
  | 1 => .array .int
  | 2 => .array .boolean
  | 3 => .array .int
  | 4 => .array .int
  | _ => .array .int
abbrev wsX10 : List Cond := u_ws RX1 TX1 6
theorem nmX1 : ∀ a, a < 6 → ∀ b, b < 6 → a ≠ b → (TX1 a).2.1 ≠ (TX1 b).2.1 := by decide +kernel
theorem tyX1_ok : ∀ k, k < 6 → parseFieldDescriptor (TX1 k).2.2.1 = some (tyX1 k) := by decide +kernel
abbrev cX1_init : ByteArray := prog_3_method_1_code
def yX1_init : MethodName := ⟨RX1, "<init>", "()V"⟩
abbrev cX1_put : ByteArray := prog_3_method_6_code
def yX1_put : MethodName := ⟨RX1, "put", "(IIII)I"⟩
abbrev cX1_bad : ByteArray := prog_3_method_2_code
def yX1_bad : MethodName := ⟨RX1, "bad", "(II)Z"⟩
abbrev cX1_fresh : ByteArray := prog_3_method_3_code
def yX1_fresh : MethodName := ⟨RX1, "fresh", "(III)Z"⟩
abbrev cX1_again : ByteArray := prog_3_method_4_code
def yX1_again : MethodName := ⟨RX1, "again", "(III)I"⟩
abbrev cX1_get : ByteArray := prog_3_method_9_code
def yX1_get : MethodName := ⟨RX1, "get", "(I)I"⟩
abbrev cX1_has : ByteArray := prog_3_method_10_code
def yX1_has : MethodName := ⟨RX1, "has", "(I)Z"⟩
abbrev cX1_done : ByteArray := prog_3_method_5_code
def yX1_done : MethodName := ⟨RX1, "done", "(IIII)I"⟩
abbrev cX1_addTo : ByteArray := prog_3_method_7_code
def yX1_addTo : MethodName := ⟨RX1, "addTo", "(IIII)I"⟩
abbrev cX1_remove : ByteArray := prog_3_method_8_code
def yX1_remove : MethodName := ⟨RX1, "remove", "(III)I"⟩
abbrev cX1_size : ByteArray := prog_3_method_11_code
def yX1_size : MethodName := ⟨RX1, "size", "(I)I"⟩
abbrev cX1_lastFrom : ByteArray := prog_3_method_12_code
def yX1_lastFrom : MethodName := ⟨RX1, "lastFrom", "(I)I"⟩
abbrev cX1_assign : ByteArray := prog_3_method_13_code
def yX1_assign : MethodName := ⟨RX1, "assign", "(II)I"⟩
abbrev cX1_home : ByteArray := prog_3_method_14_code
def yX1_home : MethodName := ⟨RX1, "home", "(I)I"⟩
abbrev cX1_work : ByteArray := prog_3_method_15_code
def yX1_work : MethodName := ⟨RX1, "work", "(I)V"⟩
abbrev cX1_lose : ByteArray := prog_3_method_16_code
def yX1_lose : MethodName := ⟨RX1, "lose", "(I)V"⟩
theorem q15 : (Jvm.Cond.initialized "ShardedMapModel") ∈ lw_all := lw_g (lw_at lw_m1 2 rfl) rfl
theorem q178 : (Jvm.Cond.instantiable "ShardedMapModel" (6 : Nat)) ∈ lw_all := lw_g (lw_at lw_m1 165 rfl) rfl
theorem q180 : (Jvm.Cond.instanceMethod ({ cls := "ShardedMapModel", name := "<init>", desc := "()V" } : Jvm.MethodName)) ∈ lw_all := lw_g (lw_at lw_m1 167 rfl) rfl
theorem q181 : (Jvm.Cond.code ({ cls := "ShardedMapModel", name := "<init>", desc := "()V" } : Jvm.MethodName) prog_3_method_1_code (2 : Nat) (Option.none : Option Jvm.ClassFile.FieldType)) ∈ lw_all := lw_g (lw_at lw_m1 168 rfl) rfl
theorem q182 : (Jvm.Cond.methodLink "ShardedMapModel" (1 : Nat) ({ cls := "java/lang/Object", name := "<init>", desc := "()V" } : Jvm.MethodName)) ∈ lw_all := lw_g (lw_at lw_m1 169 rfl) rfl
theorem q183 : (Jvm.Cond.fieldLink "ShardedMapModel" (7 : Nat) "ShardedMapModel" "there" "[Z") ∈ lw_all := lw_g (lw_at lw_m1 170 rfl) rfl
theorem q184 : (Jvm.Cond.fieldLink "ShardedMapModel" (13 : Nat) "ShardedMapModel" "value" "[I") ∈ lw_all := lw_g (lw_at lw_m1 171 rfl) rfl
theorem q185 : (Jvm.Cond.fieldLink "ShardedMapModel" (17 : Nat) "ShardedMapModel" "remembers" "[Z") ∈ lw_all := lw_g (lw_at lw_m1 172 rfl) rfl
theorem q186 : (Jvm.Cond.fieldLink "ShardedMapModel" (20 : Nat) "ShardedMapModel" "lastNumber" "[I") ∈ lw_all := lw_g (lw_at lw_m1 173 rfl) rfl
theorem q187 : (Jvm.Cond.fieldLink "ShardedMapModel" (23 : Nat) "ShardedMapModel" "lastAnswer" "[I") ∈ lw_all := lw_g (lw_at lw_m1 174 rfl) rfl
theorem q188 : (Jvm.Cond.fieldLink "ShardedMapModel" (26 : Nat) "ShardedMapModel" "homes" "[I") ∈ lw_all := lw_g (lw_at lw_m1 175 rfl) rfl
theorem q189 : (Jvm.Cond.laysFinal "ShardedMapModel" "ShardedMapModel" "there" "[Z") ∈ lw_all := lw_g (lw_at lw_m1 176 rfl) rfl
theorem q190 : (Jvm.Cond.soleField "ShardedMapModel" "there") ∈ lw_all := lw_g (lw_at lw_m1 177 rfl) rfl
theorem q191 : (Jvm.Cond.laysFinal "ShardedMapModel" "ShardedMapModel" "value" "[I") ∈ lw_all := lw_g (lw_at lw_m1 178 rfl) rfl
theorem q192 : (Jvm.Cond.soleField "ShardedMapModel" "value") ∈ lw_all := lw_g (lw_at lw_m1 179 rfl) rfl
theorem q193 : (Jvm.Cond.laysFinal "ShardedMapModel" "ShardedMapModel" "remembers" "[Z") ∈ lw_all := lw_g (lw_at lw_m1 180 rfl) rfl
theorem q194 : (Jvm.Cond.soleField "ShardedMapModel" "remembers") ∈ lw_all := lw_g (lw_at lw_m1 181 rfl) rfl
theorem q195 : (Jvm.Cond.laysFinal "ShardedMapModel" "ShardedMapModel" "lastNumber" "[I") ∈ lw_all := lw_g (lw_at lw_m1 182 rfl) rfl
theorem q196 : (Jvm.Cond.soleField "ShardedMapModel" "lastNumber") ∈ lw_all := lw_g (lw_at lw_m1 183 rfl) rfl
theorem q197 : (Jvm.Cond.laysFinal "ShardedMapModel" "ShardedMapModel" "lastAnswer" "[I") ∈ lw_all := lw_g (lw_at lw_m1 184 rfl) rfl
theorem q198 : (Jvm.Cond.soleField "ShardedMapModel" "lastAnswer") ∈ lw_all := lw_g (lw_at lw_m1 185 rfl) rfl
theorem q199 : (Jvm.Cond.laysFinal "ShardedMapModel" "ShardedMapModel" "homes" "[I") ∈ lw_all := lw_g (lw_at lw_m1 186 rfl) rfl
theorem q200 : (Jvm.Cond.soleField "ShardedMapModel" "homes") ∈ lw_all := lw_g (lw_at lw_m1 187 rfl) rfl
theorem q201 : (Jvm.Cond.superclass "ShardedMapModel" "java/lang/Object") ∈ lw_all := lw_g (lw_at lw_m1 188 rfl) rfl
theorem q203 : (Jvm.Cond.instanceMethod ({ cls := "ShardedMapModel", name := "put", desc := "(IIII)I" } : Jvm.MethodName)) ∈ lw_all := lw_g (lw_at lw_m1 190 rfl) rfl
theorem q204 : (Jvm.Cond.selects "ShardedMapModel" ({ cls := "ShardedMapModel", name := "put", desc := "(IIII)I" } : Jvm.MethodName) ({ cls := "ShardedMapModel", name := "put", desc := "(IIII)I" } : Jvm.MethodName)) ∈ lw_all := lw_g (lw_at lw_m1 191 rfl) rfl
theorem q205 : (Jvm.Cond.code ({ cls := "ShardedMapModel", name := "put", desc := "(IIII)I" } : Jvm.MethodName) prog_3_method_6_code (6 : Nat) (Option.some Jvm.ClassFile.FieldType.int)) ∈ lw_all := lw_g (lw_at lw_m1 192 rfl) rfl
theorem q206 : (Jvm.Cond.methodLink "ShardedMapModel" (29 : Nat) ({ cls := "ShardedMapModel", name := "bad", desc := "(II)Z" } : Jvm.MethodName)) ∈ lw_all := lw_g (lw_at lw_m1 193 rfl) rfl
theorem q207 : (Jvm.Cond.static ({ cls := "ShardedMapModel", name := "bad", desc := "(II)Z" } : Jvm.MethodName)) ∈ lw_all := lw_g (lw_at lw_m1 194 rfl) rfl
theorem q208 : (Jvm.Cond.code ({ cls := "ShardedMapModel", name := "bad", desc := "(II)Z" } : Jvm.MethodName) prog_3_method_2_code (2 : Nat) (Option.some Jvm.ClassFile.FieldType.boolean)) ∈ lw_all := lw_g (lw_at lw_m1 195 rfl) rfl
theorem q209 : (Jvm.Cond.methodLink "ShardedMapModel" (33 : Nat) ({ cls := "ShardedMapModel", name := "fresh", desc := "(III)Z" } : Jvm.MethodName)) ∈ lw_all := lw_g (lw_at lw_m1 196 rfl) rfl
theorem q210 : (Jvm.Cond.privateMethod ({ cls := "ShardedMapModel", name := "fresh", desc := "(III)Z" } : Jvm.MethodName)) ∈ lw_tbl := lw_at lw_m1 197 rfl
theorem q211 : (Jvm.Cond.instanceMethod ({ cls := "ShardedMapModel", name := "fresh", desc := "(III)Z" } : Jvm.MethodName)) ∈ lw_all := lw_g (lw_at lw_m1 198 rfl) rfl
theorem q212 : (Jvm.Cond.code ({ cls := "ShardedMapModel", name := "fresh", desc := "(III)Z" } : Jvm.MethodName) prog_3_method_3_code (5 : Nat) (Option.some Jvm.ClassFile.FieldType.boolean)) ∈ lw_all := lw_g (lw_at lw_m1 199 rfl) rfl
theorem q213 : (Jvm.Cond.methodLink "ShardedMapModel" (37 : Nat) ({ cls := "ShardedMapModel", name := "again", desc := "(III)I" } : Jvm.MethodName)) ∈ lw_all := lw_g (lw_at lw_m1 200 rfl) rfl
theorem q214 : (Jvm.Cond.privateMethod ({ cls := "ShardedMapModel", name := "again", desc := "(III)I" } : Jvm.MethodName)) ∈ lw_tbl := lw_at lw_m1 201 rfl
theorem q215 : (Jvm.Cond.instanceMethod ({ cls := "ShardedMapModel", name := "again", desc := "(III)I" } : Jvm.MethodName)) ∈ lw_all := lw_g (lw_at lw_m1 202 rfl) rfl
theorem q216 : (Jvm.Cond.code ({ cls := "ShardedMapModel", name := "again", desc := "(III)I" } : Jvm.MethodName) prog_3_method_4_code (5 : Nat) (Option.some Jvm.ClassFile.FieldType.int)) ∈ lw_all := lw_g (lw_at lw_m1 203 rfl) rfl
theorem q217 : (Jvm.Cond.methodLink "ShardedMapModel" (41 : Nat) ({ cls := "ShardedMapModel", name := "get", desc := "(I)I" } : Jvm.MethodName)) ∈ lw_all := lw_g (lw_at lw_m1 204 rfl) rfl
theorem q218 : (Jvm.Cond.instanceMethod ({ cls := "ShardedMapModel", name := "get", desc := "(I)I" } : Jvm.MethodName)) ∈ lw_all := lw_g (lw_at lw_m1 205 rfl) rfl
theorem q219 : (Jvm.Cond.selects "ShardedMapModel" ({ cls := "ShardedMapModel", name := "get", desc := "(I)I" } : Jvm.MethodName) ({ cls := "ShardedMapModel", name := "get", desc := "(I)I" } : Jvm.MethodName)) ∈ lw_all := lw_g (lw_at lw_m1 206 rfl) rfl
theorem q220 : (Jvm.Cond.code ({ cls := "ShardedMapModel", name := "get", desc := "(I)I" } : Jvm.MethodName) prog_3_method_9_code (2 : Nat) (Option.some Jvm.ClassFile.FieldType.int)) ∈ lw_all := lw_g (lw_at lw_m1 207 rfl) rfl
theorem q221 : (Jvm.Cond.methodLink "ShardedMapModel" (49 : Nat) ({ cls := "ShardedMapModel", name := "has", desc := "(I)Z" } : Jvm.MethodName)) ∈ lw_all := lw_g (lw_at lw_m1 208 rfl) rfl
theorem q222 : (Jvm.Cond.instanceMethod ({ cls := "ShardedMapModel", name := "has", desc := "(I)Z" } : Jvm.MethodName)) ∈ lw_all := lw_g (lw_at lw_m1 209 rfl) rfl
theorem q223 : (Jvm.Cond.selects "ShardedMapModel" ({ cls := "ShardedMapModel", name := "has", desc := "(I)Z" } : Jvm.MethodName) ({ cls := "ShardedMapModel", name := "has", desc := "(I)Z" } : Jvm.MethodName)) ∈ lw_all := lw_g (lw_at lw_m1 210 rfl) rfl
theorem q224 : (Jvm.Cond.code ({ cls := "ShardedMapModel", name := "has", desc := "(I)Z" } : Jvm.MethodName) prog_3_method_10_code (2 : Nat) (Option.some Jvm.ClassFile.FieldType.boolean)) ∈ lw_all := lw_g (lw_at lw_m1 211 rfl) rfl
theorem q225 : (Jvm.Cond.methodLink "ShardedMapModel" (45 : Nat) ({ cls := "ShardedMapModel", name := "done", desc := "(IIII)I" } : Jvm.MethodName)) ∈ lw_all := lw_g (lw_at lw_m1 212 rfl) rfl
theorem q226 : (Jvm.Cond.privateMethod ({ cls := "ShardedMapModel", name := "done", desc := "(IIII)I" } : Jvm.MethodName)) ∈ lw_tbl := lw_at lw_m1 213 rfl
theorem q227 : (Jvm.Cond.instanceMethod ({ cls := "ShardedMapModel", name := "done", desc := "(IIII)I" } : Jvm.MethodName)) ∈ lw_all := lw_g (lw_at lw_m1 214 rfl) rfl
theorem q228 : (Jvm.Cond.code ({ cls := "ShardedMapModel", name := "done", desc := "(IIII)I" } : Jvm.MethodName) prog_3_method_5_code (6 : Nat) (Option.some Jvm.ClassFile.FieldType.int)) ∈ lw_all := lw_g (lw_at lw_m1 215 rfl) rfl
theorem q230 : (Jvm.Cond.instanceMethod ({ cls := "ShardedMapModel", name := "addTo", desc := "(IIII)I" } : Jvm.MethodName)) ∈ lw_all := lw_g (lw_at lw_m1 217 rfl) rfl
theorem q231 : (Jvm.Cond.selects "ShardedMapModel" ({ cls := "ShardedMapModel", name := "addTo", desc := "(IIII)I" } : Jvm.MethodName) ({ cls := "ShardedMapModel", name := "addTo", desc := "(IIII)I" } : Jvm.MethodName)) ∈ lw_all := lw_g (lw_at lw_m1 218 rfl) rfl
theorem q232 : (Jvm.Cond.code ({ cls := "ShardedMapModel", name := "addTo", desc := "(IIII)I" } : Jvm.MethodName) prog_3_method_7_code (6 : Nat) (Option.some Jvm.ClassFile.FieldType.int)) ∈ lw_all := lw_g (lw_at lw_m1 219 rfl) rfl
theorem q234 : (Jvm.Cond.instanceMethod ({ cls := "ShardedMapModel", name := "remove", desc := "(III)I" } : Jvm.MethodName)) ∈ lw_all := lw_g (lw_at lw_m1 221 rfl) rfl
theorem q235 : (Jvm.Cond.selects "ShardedMapModel" ({ cls := "ShardedMapModel", name := "remove", desc := "(III)I" } : Jvm.MethodName) ({ cls := "ShardedMapModel", name := "remove", desc := "(III)I" } : Jvm.MethodName)) ∈ lw_all := lw_g (lw_at lw_m1 222 rfl) rfl
theorem q236 : (Jvm.Cond.code ({ cls := "ShardedMapModel", name := "remove", desc := "(III)I" } : Jvm.MethodName) prog_3_method_8_code (5 : Nat) (Option.some Jvm.ClassFile.FieldType.int)) ∈ lw_all := lw_g (lw_at lw_m1 223 rfl) rfl
theorem q240 : (Jvm.Cond.instanceMethod ({ cls := "ShardedMapModel", name := "size", desc := "(I)I" } : Jvm.MethodName)) ∈ lw_all := lw_g (lw_at lw_m1 227 rfl) rfl
theorem q241 : (Jvm.Cond.selects "ShardedMapModel" ({ cls := "ShardedMapModel", name := "size", desc := "(I)I" } : Jvm.MethodName) ({ cls := "ShardedMapModel", name := "size", desc := "(I)I" } : Jvm.MethodName)) ∈ lw_all := lw_g (lw_at lw_m1 228 rfl) rfl
theorem q242 : (Jvm.Cond.code ({ cls := "ShardedMapModel", name := "size", desc := "(I)I" } : Jvm.MethodName) prog_3_method_11_code (4 : Nat) (Option.some Jvm.ClassFile.FieldType.int)) ∈ lw_all := lw_g (lw_at lw_m1 229 rfl) rfl
theorem q244 : (Jvm.Cond.instanceMethod ({ cls := "ShardedMapModel", name := "lastFrom", desc := "(I)I" } : Jvm.MethodName)) ∈ lw_all := lw_g (lw_at lw_m1 231 rfl) rfl
theorem q245 : (Jvm.Cond.selects "ShardedMapModel" ({ cls := "ShardedMapModel", name := "lastFrom", desc := "(I)I" } : Jvm.MethodName) ({ cls := "ShardedMapModel", name := "lastFrom", desc := "(I)I" } : Jvm.MethodName)) ∈ lw_all := lw_g (lw_at lw_m1 232 rfl) rfl
theorem q246 : (Jvm.Cond.code ({ cls := "ShardedMapModel", name := "lastFrom", desc := "(I)I" } : Jvm.MethodName) prog_3_method_12_code (3 : Nat) (Option.some Jvm.ClassFile.FieldType.int)) ∈ lw_all := lw_g (lw_at lw_m1 233 rfl) rfl
theorem q248 : (Jvm.Cond.instanceMethod ({ cls := "ShardedMapModel", name := "assign", desc := "(II)I" } : Jvm.MethodName)) ∈ lw_all := lw_g (lw_at lw_m1 235 rfl) rfl
theorem q249 : (Jvm.Cond.selects "ShardedMapModel" ({ cls := "ShardedMapModel", name := "assign", desc := "(II)I" } : Jvm.MethodName) ({ cls := "ShardedMapModel", name := "assign", desc := "(II)I" } : Jvm.MethodName)) ∈ lw_all := lw_g (lw_at lw_m1 236 rfl) rfl
theorem q250 : (Jvm.Cond.code ({ cls := "ShardedMapModel", name := "assign", desc := "(II)I" } : Jvm.MethodName) prog_3_method_13_code (4 : Nat) (Option.some Jvm.ClassFile.FieldType.int)) ∈ lw_all := lw_g (lw_at lw_m1 237 rfl) rfl
theorem q252 : (Jvm.Cond.instanceMethod ({ cls := "ShardedMapModel", name := "home", desc := "(I)I" } : Jvm.MethodName)) ∈ lw_all := lw_g (lw_at lw_m1 239 rfl) rfl
theorem q253 : (Jvm.Cond.selects "ShardedMapModel" ({ cls := "ShardedMapModel", name := "home", desc := "(I)I" } : Jvm.MethodName) ({ cls := "ShardedMapModel", name := "home", desc := "(I)I" } : Jvm.MethodName)) ∈ lw_all := lw_g (lw_at lw_m2 0 rfl) rfl
theorem q254 : (Jvm.Cond.code ({ cls := "ShardedMapModel", name := "home", desc := "(I)I" } : Jvm.MethodName) prog_3_method_14_code (2 : Nat) (Option.some Jvm.ClassFile.FieldType.int)) ∈ lw_all := lw_g (lw_at lw_m2 1 rfl) rfl
theorem q256 : (Jvm.Cond.instanceMethod ({ cls := "ShardedMapModel", name := "work", desc := "(I)V" } : Jvm.MethodName)) ∈ lw_all := lw_g (lw_at lw_m2 3 rfl) rfl
theorem q257 : (Jvm.Cond.selects "ShardedMapModel" ({ cls := "ShardedMapModel", name := "work", desc := "(I)V" } : Jvm.MethodName) ({ cls := "ShardedMapModel", name := "work", desc := "(I)V" } : Jvm.MethodName)) ∈ lw_all := lw_g (lw_at lw_m2 4 rfl) rfl
theorem q258 : (Jvm.Cond.code ({ cls := "ShardedMapModel", name := "work", desc := "(I)V" } : Jvm.MethodName) prog_3_method_15_code (2 : Nat) (Option.none : Option Jvm.ClassFile.FieldType)) ∈ lw_all := lw_g (lw_at lw_m2 5 rfl) rfl
theorem q260 : (Jvm.Cond.instanceMethod ({ cls := "ShardedMapModel", name := "lose", desc := "(I)V" } : Jvm.MethodName)) ∈ lw_all := lw_g (lw_at lw_m2 7 rfl) rfl
theorem q261 : (Jvm.Cond.selects "ShardedMapModel" ({ cls := "ShardedMapModel", name := "lose", desc := "(I)V" } : Jvm.MethodName) ({ cls := "ShardedMapModel", name := "lose", desc := "(I)V" } : Jvm.MethodName)) ∈ lw_all := lw_g (lw_at lw_m2 8 rfl) rfl
theorem q262 : (Jvm.Cond.code ({ cls := "ShardedMapModel", name := "lose", desc := "(I)V" } : Jvm.MethodName) prog_3_method_16_code (2 : Nat) (Option.none : Option Jvm.ClassFile.FieldType)) ∈ lw_all := lw_g (lw_at lw_m2 9 rfl) rfl
theorem in_X1 : ∀ w ∈ wsX10, w ∈ lw_all := lw_in wsX10 [189, 191, 193, 195, 197, 199] (by decide +kernel) (by decide +kernel)

/-! java/lang/Object -/
set_option maxRecDepth 100000
def RJ0 : String := "java/lang/Object"
abbrev cJ0_init : ByteArray := object_method_1_code
def yJ0_init : MethodName := ⟨RJ0, "<init>", "()V"⟩
theorem dJ0_init_0 : decode cJ0_init 0 = .ok (.return_, 1) := by decide +kernel
theorem q22 : (Jvm.Cond.instanceMethod ({ cls := "java/lang/Object", name := "<init>", desc := "()V" } : Jvm.MethodName)) ∈ lw_all := lw_g (lw_at lw_m1 9 rfl) rfl
theorem q23 : (Jvm.Cond.code ({ cls := "java/lang/Object", name := "<init>", desc := "()V" } : Jvm.MethodName) object_method_1_code (1 : Nat) (Option.none : Option Jvm.ClassFile.FieldType)) ∈ lw_all := lw_g (lw_at lw_m1 10 rfl) rfl
theorem q13 : (Jvm.Cond.initialized "ShardedMapLaw") ∈ lw_all := lw_g (lw_at lw_m1 0 rfl) rfl
set_option maxRecDepth 100000
theorem q16 : (Jvm.Cond.classLink "ShardedMapLaw" (7 : Nat) "ShardedMap") ∈ lw_all := lw_g (lw_at lw_m1 3 rfl) rfl
theorem q18 : (Jvm.Cond.methodLink "ShardedMapLaw" (9 : Nat) ({ cls := "ShardedMap", name := "<init>", desc := "()V" } : Jvm.MethodName)) ∈ lw_all := lw_g (lw_at lw_m1 5 rfl) rfl
theorem q90 : (Jvm.Cond.methodLink "ShardedMapLaw" (13 : Nat) ({ cls := "ShardedMap", name := "put", desc := "(IIII)I" } : Jvm.MethodName)) ∈ lw_all := lw_g (lw_at lw_m1 77 rfl) rfl
theorem q133 : (Jvm.Cond.methodLink "ShardedMapLaw" (18 : Nat) ({ cls := "ShardedMap", name := "addTo", desc := "(IIII)I" } : Jvm.MethodName)) ∈ lw_all := lw_g (lw_at lw_m1 120 rfl) rfl
theorem q137 : (Jvm.Cond.methodLink "ShardedMapLaw" (22 : Nat) ({ cls := "ShardedMap", name := "remove", desc := "(III)I" } : Jvm.MethodName)) ∈ lw_all := lw_g (lw_at lw_m1 124 rfl) rfl
theorem q141 : (Jvm.Cond.methodLink "ShardedMapLaw" (27 : Nat) ({ cls := "ShardedMap", name := "get", desc := "(I)I" } : Jvm.MethodName)) ∈ lw_all := lw_g (lw_at lw_m1 128 rfl) rfl
theorem q149 : (Jvm.Cond.methodLink "ShardedMapLaw" (32 : Nat) ({ cls := "ShardedMap", name := "has", desc := "(I)Z" } : Jvm.MethodName)) ∈ lw_all := lw_g (lw_at lw_m1 136 rfl) rfl
theorem q153 : (Jvm.Cond.methodLink "ShardedMapLaw" (37 : Nat) ({ cls := "ShardedMap", name := "size", desc := "(I)I" } : Jvm.MethodName)) ∈ lw_all := lw_g (lw_at lw_m1 140 rfl) rfl
theorem q157 : (Jvm.Cond.methodLink "ShardedMapLaw" (41 : Nat) ({ cls := "ShardedMap", name := "lastFrom", desc := "(I)I" } : Jvm.MethodName)) ∈ lw_all := lw_g (lw_at lw_m1 144 rfl) rfl
theorem q161 : (Jvm.Cond.methodLink "ShardedMapLaw" (45 : Nat) ({ cls := "ShardedMap", name := "assign", desc := "(II)I" } : Jvm.MethodName)) ∈ lw_all := lw_g (lw_at lw_m1 148 rfl) rfl
theorem q165 : (Jvm.Cond.methodLink "ShardedMapLaw" (50 : Nat) ({ cls := "ShardedMap", name := "home", desc := "(I)I" } : Jvm.MethodName)) ∈ lw_all := lw_g (lw_at lw_m1 152 rfl) rfl
theorem q169 : (Jvm.Cond.methodLink "ShardedMapLaw" (54 : Nat) ({ cls := "ShardedMap", name := "work", desc := "(I)V" } : Jvm.MethodName)) ∈ lw_all := lw_g (lw_at lw_m1 156 rfl) rfl
theorem q173 : (Jvm.Cond.methodLink "ShardedMapLaw" (59 : Nat) ({ cls := "ShardedMap", name := "lose", desc := "(I)V" } : Jvm.MethodName)) ∈ lw_all := lw_g (lw_at lw_m1 160 rfl) rfl
theorem q177 : (Jvm.Cond.classLink "ShardedMapLaw" (10 : Nat) "ShardedMapModel") ∈ lw_all := lw_g (lw_at lw_m1 164 rfl) rfl
theorem q179 : (Jvm.Cond.methodLink "ShardedMapLaw" (12 : Nat) ({ cls := "ShardedMapModel", name := "<init>", desc := "()V" } : Jvm.MethodName)) ∈ lw_all := lw_g (lw_at lw_m1 166 rfl) rfl
theorem q202 : (Jvm.Cond.methodLink "ShardedMapLaw" (17 : Nat) ({ cls := "ShardedMapModel", name := "put", desc := "(IIII)I" } : Jvm.MethodName)) ∈ lw_all := lw_g (lw_at lw_m1 189 rfl) rfl
theorem q229 : (Jvm.Cond.methodLink "ShardedMapLaw" (21 : Nat) ({ cls := "ShardedMapModel", name := "addTo", desc := "(IIII)I" } : Jvm.MethodName)) ∈ lw_all := lw_g (lw_at lw_m1 216 rfl) rfl
theorem q233 : (Jvm.Cond.methodLink "ShardedMapLaw" (26 : Nat) ({ cls := "ShardedMapModel", name := "remove", desc := "(III)I" } : Jvm.MethodName)) ∈ lw_all := lw_g (lw_at lw_m1 220 rfl) rfl
theorem q237 : (Jvm.Cond.methodLink "ShardedMapLaw" (31 : Nat) ({ cls := "ShardedMapModel", name := "get", desc := "(I)I" } : Jvm.MethodName)) ∈ lw_all := lw_g (lw_at lw_m1 224 rfl) rfl
theorem q238 : (Jvm.Cond.methodLink "ShardedMapLaw" (36 : Nat) ({ cls := "ShardedMapModel", name := "has", desc := "(I)Z" } : Jvm.MethodName)) ∈ lw_all := lw_g (lw_at lw_m1 225 rfl) rfl
theorem q239 : (Jvm.Cond.methodLink "ShardedMapLaw" (40 : Nat) ({ cls := "ShardedMapModel", name := "size", desc := "(I)I" } : Jvm.MethodName)) ∈ lw_all := lw_g (lw_at lw_m1 226 rfl) rfl
theorem q243 : (Jvm.Cond.methodLink "ShardedMapLaw" (44 : Nat) ({ cls := "ShardedMapModel", name := "lastFrom", desc := "(I)I" } : Jvm.MethodName)) ∈ lw_all := lw_g (lw_at lw_m1 230 rfl) rfl
theorem q247 : (Jvm.Cond.methodLink "ShardedMapLaw" (49 : Nat) ({ cls := "ShardedMapModel", name := "assign", desc := "(II)I" } : Jvm.MethodName)) ∈ lw_all := lw_g (lw_at lw_m1 234 rfl) rfl
theorem q251 : (Jvm.Cond.methodLink "ShardedMapLaw" (53 : Nat) ({ cls := "ShardedMapModel", name := "home", desc := "(I)I" } : Jvm.MethodName)) ∈ lw_all := lw_g (lw_at lw_m1 238 rfl) rfl
theorem q255 : (Jvm.Cond.methodLink "ShardedMapLaw" (58 : Nat) ({ cls := "ShardedMapModel", name := "work", desc := "(I)V" } : Jvm.MethodName)) ∈ lw_all := lw_g (lw_at lw_m2 2 rfl) rfl
theorem q259 : (Jvm.Cond.methodLink "ShardedMapLaw" (62 : Nat) ({ cls := "ShardedMapModel", name := "lose", desc := "(I)V" } : Jvm.MethodName)) ∈ lw_all := lw_g (lw_at lw_m2 6 rfl) rfl
theorem q88 : (Jvm.Cond.arrayClass Jvm.ClassFile.FieldType.int) ∈ lw_all := lw_g (lw_at lw_m1 75 rfl) rfl
set_option maxRecDepth 100000
theorem q89 : (Jvm.Cond.arrayClass Jvm.ClassFile.FieldType.boolean) ∈ lw_all := lw_g (lw_at lw_m1 76 rfl) rfl

abbrev cL_law : ByteArray := code
end
section
set_option maxRecDepth 100000
theorem dX0_init_0 : decode cX0_init 0 = .ok (.aload_n 0, 1) := by decide +kernel
theorem dX0_init_1 : decode cX0_init 1 = .ok (.invokespecial 1, 3) := by decide +kernel
theorem dX0_init_4 : decode cX0_init 4 = .ok (.aload_n 0, 1) := by decide +kernel
theorem dX0_init_5 : decode cX0_init 5 = .ok (.sipush 128, 3) := by decide +kernel
theorem dX0_init_8 : decode cX0_init 8 = .ok (.newarray .int, 2) := by decide +kernel
theorem dX0_init_10 : decode cX0_init 10 = .ok (.putfield 7, 3) := by decide +kernel
theorem dX0_init_13 : decode cX0_init 13 = .ok (.aload_n 0, 1) := by decide +kernel
theorem dX0_init_14 : decode cX0_init 14 = .ok (.sipush 128, 3) := by decide +kernel
theorem dX0_init_17 : decode cX0_init 17 = .ok (.newarray .boolean, 2) := by decide +kernel
theorem dX0_init_19 : decode cX0_init 19 = .ok (.putfield 13, 3) := by decide +kernel
theorem dX0_init_22 : decode cX0_init 22 = .ok (.aload_n 0, 1) := by decide +kernel
theorem dX0_init_23 : decode cX0_init 23 = .ok (.sipush 128, 3) := by decide +kernel
theorem dX0_init_26 : decode cX0_init 26 = .ok (.newarray .boolean, 2) := by decide +kernel
theorem dX0_init_28 : decode cX0_init 28 = .ok (.putfield 17, 3) := by decide +kernel
theorem dX0_init_31 : decode cX0_init 31 = .ok (.aload_n 0, 1) := by decide +kernel
theorem dX0_init_32 : decode cX0_init 32 = .ok (.sipush 128, 3) := by decide +kernel
theorem dX0_init_35 : decode cX0_init 35 = .ok (.newarray .int, 2) := by decide +kernel
theorem dX0_init_37 : decode cX0_init 37 = .ok (.putfield 20, 3) := by decide +kernel
theorem dX0_init_40 : decode cX0_init 40 = .ok (.aload_n 0, 1) := by decide +kernel
theorem dX0_init_41 : decode cX0_init 41 = .ok (.sipush 128, 3) := by decide +kernel
theorem dX0_init_44 : decode cX0_init 44 = .ok (.newarray .int, 2) := by decide +kernel
theorem dX0_init_46 : decode cX0_init 46 = .ok (.putfield 23, 3) := by decide +kernel
theorem dX0_init_49 : decode cX0_init 49 = .ok (.aload_n 0, 1) := by decide +kernel
theorem dX0_init_50 : decode cX0_init 50 = .ok (.bipush 32, 2) := by decide +kernel
theorem dX0_init_52 : decode cX0_init 52 = .ok (.newarray .int, 2) := by decide +kernel
theorem dX0_init_54 : decode cX0_init 54 = .ok (.putfield 26, 3) := by decide +kernel
theorem dX0_init_57 : decode cX0_init 57 = .ok (.aload_n 0, 1) := by decide +kernel
theorem dX0_init_58 : decode cX0_init 58 = .ok (.sipush 128, 3) := by decide +kernel
theorem dX0_init_61 : decode cX0_init 61 = .ok (.newarray .int, 2) := by decide +kernel
theorem dX0_init_63 : decode cX0_init 63 = .ok (.putfield 29, 3) := by decide +kernel
theorem dX0_init_66 : decode cX0_init 66 = .ok (.aload_n 0, 1) := by decide +kernel
theorem dX0_init_67 : decode cX0_init 67 = .ok (.sipush 128, 3) := by decide +kernel
theorem dX0_init_70 : decode cX0_init 70 = .ok (.newarray .boolean, 2) := by decide +kernel
theorem dX0_init_72 : decode cX0_init 72 = .ok (.putfield 32, 3) := by decide +kernel
theorem dX0_init_75 : decode cX0_init 75 = .ok (.aload_n 0, 1) := by decide +kernel
theorem dX0_init_76 : decode cX0_init 76 = .ok (.sipush 128, 3) := by decide +kernel
theorem dX0_init_79 : decode cX0_init 79 = .ok (.newarray .boolean, 2) := by decide +kernel
theorem dX0_init_81 : decode cX0_init 81 = .ok (.putfield 35, 3) := by decide +kernel
theorem dX0_init_84 : decode cX0_init 84 = .ok (.aload_n 0, 1) := by decide +kernel
theorem dX0_init_85 : decode cX0_init 85 = .ok (.sipush 128, 3) := by decide +kernel
theorem dX0_init_88 : decode cX0_init 88 = .ok (.newarray .int, 2) := by decide +kernel
theorem dX0_init_90 : decode cX0_init 90 = .ok (.putfield 38, 3) := by decide +kernel
theorem dX0_init_93 : decode cX0_init 93 = .ok (.aload_n 0, 1) := by decide +kernel
theorem dX0_init_94 : decode cX0_init 94 = .ok (.sipush 128, 3) := by decide +kernel
theorem dX0_init_97 : decode cX0_init 97 = .ok (.newarray .int, 2) := by decide +kernel
theorem dX0_init_99 : decode cX0_init 99 = .ok (.putfield 41, 3) := by decide +kernel
theorem dX0_init_102 : decode cX0_init 102 = .ok (.aload_n 0, 1) := by decide +kernel
theorem dX0_init_103 : decode cX0_init 103 = .ok (.bipush 32, 2) := by decide +kernel
theorem dX0_init_105 : decode cX0_init 105 = .ok (.newarray .int, 2) := by decide +kernel
theorem dX0_init_107 : decode cX0_init 107 = .ok (.putfield 44, 3) := by decide +kernel
theorem dX0_init_110 : decode cX0_init 110 = .ok (.aload_n 0, 1) := by decide +kernel
theorem dX0_init_111 : decode cX0_init 111 = .ok (.iconst 4, 1) := by decide +kernel
theorem dX0_init_112 : decode cX0_init 112 = .ok (.newarray .int, 2) := by decide +kernel
theorem dX0_init_114 : decode cX0_init 114 = .ok (.putfield 47, 3) := by decide +kernel
theorem dX0_init_117 : decode cX0_init 117 = .ok (.aload_n 0, 1) := by decide +kernel
theorem dX0_init_118 : decode cX0_init 118 = .ok (.bipush 32, 2) := by decide +kernel
theorem dX0_init_120 : decode cX0_init 120 = .ok (.newarray .int, 2) := by decide +kernel
theorem dX0_init_122 : decode cX0_init 122 = .ok (.putfield 50, 3) := by decide +kernel
theorem dX0_init_125 : decode cX0_init 125 = .ok (.aload_n 0, 1) := by decide +kernel
theorem dX0_init_126 : decode cX0_init 126 = .ok (.bipush 32, 2) := by decide +kernel
theorem dX0_init_128 : decode cX0_init 128 = .ok (.newarray .int, 2) := by decide +kernel
theorem dX0_init_130 : decode cX0_init 130 = .ok (.putfield 53, 3) := by decide +kernel
theorem dX0_init_133 : decode cX0_init 133 = .ok (.aload_n 0, 1) := by decide +kernel
theorem dX0_init_134 : decode cX0_init 134 = .ok (.bipush 32, 2) := by decide +kernel
theorem dX0_init_136 : decode cX0_init 136 = .ok (.newarray .int, 2) := by decide +kernel
theorem dX0_init_138 : decode cX0_init 138 = .ok (.putfield 56, 3) := by decide +kernel
theorem dX0_init_141 : decode cX0_init 141 = .ok (.aload_n 0, 1) := by decide +kernel
theorem dX0_init_142 : decode cX0_init 142 = .ok (.bipush 32, 2) := by decide +kernel
theorem dX0_init_144 : decode cX0_init 144 = .ok (.newarray .int, 2) := by decide +kernel
theorem dX0_init_146 : decode cX0_init 146 = .ok (.putfield 59, 3) := by decide +kernel
theorem dX0_init_149 : decode cX0_init 149 = .ok (.aload_n 0, 1) := by decide +kernel
theorem dX0_init_150 : decode cX0_init 150 = .ok (.bipush 8, 2) := by decide +kernel
theorem dX0_init_152 : decode cX0_init 152 = .ok (.newarray .int, 2) := by decide +kernel
theorem dX0_init_154 : decode cX0_init 154 = .ok (.putfield 62, 3) := by decide +kernel
theorem dX0_init_157 : decode cX0_init 157 = .ok (.aload_n 0, 1) := by decide +kernel
theorem dX0_init_158 : decode cX0_init 158 = .ok (.bipush 8, 2) := by decide +kernel
theorem dX0_init_160 : decode cX0_init 160 = .ok (.newarray .int, 2) := by decide +kernel
theorem dX0_init_162 : decode cX0_init 162 = .ok (.putfield 65, 3) := by decide +kernel
theorem dX0_init_165 : decode cX0_init 165 = .ok (.aload_n 0, 1) := by decide +kernel
theorem dX0_init_166 : decode cX0_init 166 = .ok (.bipush 32, 2) := by decide +kernel
theorem dX0_init_168 : decode cX0_init 168 = .ok (.newarray .int, 2) := by decide +kernel
theorem dX0_init_170 : decode cX0_init 170 = .ok (.putfield 68, 3) := by decide +kernel
theorem dX0_init_173 : decode cX0_init 173 = .ok (.iconst 0, 1) := by decide +kernel
theorem dX0_init_174 : decode cX0_init 174 = .ok (.istore_n 1, 1) := by decide +kernel
theorem dX0_init_175 : decode cX0_init 175 = .ok (.iload_n 1, 1) := by decide +kernel
theorem dX0_init_176 : decode cX0_init 176 = .ok (.bipush 8, 2) := by decide +kernel
theorem dX0_init_178 : decode cX0_init 178 = .ok (.if_icmp .ge 73, 3) := by decide +kernel
theorem dX0_init_181 : decode cX0_init 181 = .ok (.aload_n 0, 1) := by decide +kernel
theorem dX0_init_182 : decode cX0_init 182 = .ok (.getfield 62, 3) := by decide +kernel
theorem dX0_init_185 : decode cX0_init 185 = .ok (.iload_n 1, 1) := by decide +kernel
theorem dX0_init_186 : decode cX0_init 186 = .ok (.iload_n 1, 1) := by decide +kernel
theorem dX0_init_187 : decode cX0_init 187 = .ok (.iconst 3, 1) := by decide +kernel
theorem dX0_init_188 : decode cX0_init 188 = .ok (.iand, 1) := by decide +kernel
theorem dX0_init_189 : decode cX0_init 189 = .ok (.iastore, 1) := by decide +kernel
theorem dX0_init_190 : decode cX0_init 190 = .ok (.aload_n 0, 1) := by decide +kernel
theorem dX0_init_191 : decode cX0_init 191 = .ok (.getfield 26, 3) := by decide +kernel
theorem dX0_init_194 : decode cX0_init 194 = .ok (.bipush 8, 2) := by decide +kernel
theorem dX0_init_196 : decode cX0_init 196 = .ok (.iload_n 1, 1) := by decide +kernel
theorem dX0_init_197 : decode cX0_init 197 = .ok (.iconst 3, 1) := by decide +kernel
theorem dX0_init_198 : decode cX0_init 198 = .ok (.iand, 1) := by decide +kernel
theorem dX0_init_199 : decode cX0_init 199 = .ok (.imul, 1) := by decide +kernel
theorem dX0_init_200 : decode cX0_init 200 = .ok (.iload_n 1, 1) := by decide +kernel
theorem dX0_init_201 : decode cX0_init 201 = .ok (.iadd, 1) := by decide +kernel
theorem dX0_init_202 : decode cX0_init 202 = .ok (.iconst 1, 1) := by decide +kernel
theorem dX0_init_203 : decode cX0_init 203 = .ok (.iastore, 1) := by decide +kernel
theorem dX0_init_204 : decode cX0_init 204 = .ok (.aload_n 0, 1) := by decide +kernel
theorem dX0_init_205 : decode cX0_init 205 = .ok (.getfield 44, 3) := by decide +kernel
theorem dX0_init_208 : decode cX0_init 208 = .ok (.bipush 8, 2) := by decide +kernel
theorem dX0_init_210 : decode cX0_init 210 = .ok (.iload_n 1, 1) := by decide +kernel
theorem dX0_init_211 : decode cX0_init 211 = .ok (.iconst 3, 1) := by decide +kernel
theorem dX0_init_212 : decode cX0_init 212 = .ok (.iand, 1) := by decide +kernel
theorem dX0_init_213 : decode cX0_init 213 = .ok (.imul, 1) := by decide +kernel
theorem dX0_init_214 : decode cX0_init 214 = .ok (.iload_n 1, 1) := by decide +kernel
theorem dX0_init_215 : decode cX0_init 215 = .ok (.iadd, 1) := by decide +kernel
theorem dX0_init_216 : decode cX0_init 216 = .ok (.iconst 1, 1) := by decide +kernel
theorem dX0_init_217 : decode cX0_init 217 = .ok (.iastore, 1) := by decide +kernel
theorem dX0_init_218 : decode cX0_init 218 = .ok (.iconst 0, 1) := by decide +kernel
theorem dX0_init_219 : decode cX0_init 219 = .ok (.istore_n 2, 1) := by decide +kernel
theorem dX0_init_220 : decode cX0_init 220 = .ok (.iload_n 2, 1) := by decide +kernel
theorem dX0_init_221 : decode cX0_init 221 = .ok (.iconst 4, 1) := by decide +kernel
theorem dX0_init_222 : decode cX0_init 222 = .ok (.if_icmp .ge 23, 3) := by decide +kernel
theorem dX0_init_225 : decode cX0_init 225 = .ok (.aload_n 0, 1) := by decide +kernel
theorem dX0_init_226 : decode cX0_init 226 = .ok (.getfield 68, 3) := by decide +kernel
theorem dX0_init_229 : decode cX0_init 229 = .ok (.bipush 8, 2) := by decide +kernel
theorem dX0_init_231 : decode cX0_init 231 = .ok (.iload_n 2, 1) := by decide +kernel
theorem dX0_init_232 : decode cX0_init 232 = .ok (.imul, 1) := by decide +kernel
theorem dX0_init_233 : decode cX0_init 233 = .ok (.iload_n 1, 1) := by decide +kernel
theorem dX0_init_234 : decode cX0_init 234 = .ok (.iadd, 1) := by decide +kernel
theorem dX0_init_235 : decode cX0_init 235 = .ok (.iload_n 1, 1) := by decide +kernel
theorem dX0_init_236 : decode cX0_init 236 = .ok (.iconst 3, 1) := by decide +kernel
theorem dX0_init_237 : decode cX0_init 237 = .ok (.iand, 1) := by decide +kernel
theorem dX0_init_238 : decode cX0_init 238 = .ok (.iastore, 1) := by decide +kernel
theorem dX0_init_239 : decode cX0_init 239 = .ok (.iinc 2 1, 3) := by decide +kernel
theorem dX0_init_242 : decode cX0_init 242 = .ok (.goto (-22), 3) := by decide +kernel
theorem dX0_init_245 : decode cX0_init 245 = .ok (.iinc 1 1, 3) := by decide +kernel
theorem dX0_init_248 : decode cX0_init 248 = .ok (.goto (-73), 3) := by decide +kernel
theorem dX0_init_251 : decode cX0_init 251 = .ok (.return_, 1) := by decide +kernel
theorem dX0_put_0 : decode cX0_put 0 = .ok (.iload_n 1, 1) := by decide +kernel
theorem dX0_put_1 : decode cX0_put 1 = .ok (.iload_n 3, 1) := by decide +kernel
theorem dX0_put_2 : decode cX0_put 2 = .ok (.invokestatic 71, 3) := by decide +kernel
theorem dX0_put_5 : decode cX0_put 5 = .ok (.ifCond .ne 6, 3) := by decide +kernel
theorem dX0_put_8 : decode cX0_put 8 = .ok (.bipush (-2), 2) := by decide +kernel
theorem dX0_put_10 : decode cX0_put 10 = .ok (.ireturn, 1) := by decide +kernel
theorem dX0_put_11 : decode cX0_put 11 = .ok (.aload_n 0, 1) := by decide +kernel
theorem dX0_put_12 : decode cX0_put 12 = .ok (.iload_n 1, 1) := by decide +kernel
theorem dX0_put_13 : decode cX0_put 13 = .ok (.iload_n 3, 1) := by decide +kernel
theorem dX0_put_14 : decode cX0_put 14 = .ok (.bipush 7, 2) := by decide +kernel
theorem dX0_put_16 : decode cX0_put 16 = .ok (.iand, 1) := by decide +kernel
theorem dX0_put_17 : decode cX0_put 17 = .ok (.invokevirtual 75, 3) := by decide +kernel
theorem dX0_put_20 : decode cX0_put 20 = .ok (.istore 5, 2) := by decide +kernel
theorem dX0_put_22 : decode cX0_put 22 = .ok (.bipush 32, 2) := by decide +kernel
theorem dX0_put_24 : decode cX0_put 24 = .ok (.iload 5, 2) := by decide +kernel
theorem dX0_put_26 : decode cX0_put 26 = .ok (.imul, 1) := by decide +kernel
theorem dX0_put_27 : decode cX0_put 27 = .ok (.iconst 4, 1) := by decide +kernel
theorem dX0_put_28 : decode cX0_put 28 = .ok (.iload_n 3, 1) := by decide +kernel
theorem dX0_put_29 : decode cX0_put 29 = .ok (.bipush 7, 2) := by decide +kernel
theorem dX0_put_31 : decode cX0_put 31 = .ok (.iand, 1) := by decide +kernel
theorem dX0_put_32 : decode cX0_put 32 = .ok (.imul, 1) := by decide +kernel
theorem dX0_put_33 : decode cX0_put 33 = .ok (.iadd, 1) := by decide +kernel
theorem dX0_put_34 : decode cX0_put 34 = .ok (.iload_n 1, 1) := by decide +kernel
theorem dX0_put_35 : decode cX0_put 35 = .ok (.iadd, 1) := by decide +kernel
theorem dX0_put_36 : decode cX0_put 36 = .ok (.istore 6, 2) := by decide +kernel
theorem dX0_put_38 : decode cX0_put 38 = .ok (.aload_n 0, 1) := by decide +kernel
theorem dX0_put_39 : decode cX0_put 39 = .ok (.getfield 17, 3) := by decide +kernel
theorem dX0_put_42 : decode cX0_put 42 = .ok (.iload 6, 2) := by decide +kernel
theorem dX0_put_44 : decode cX0_put 44 = .ok (.baload, 1) := by decide +kernel
theorem dX0_put_45 : decode cX0_put 45 = .ok (.ifCond .eq 37, 3) := by decide +kernel
theorem dX0_put_48 : decode cX0_put 48 = .ok (.iload_n 2, 1) := by decide +kernel
theorem dX0_put_49 : decode cX0_put 49 = .ok (.aload_n 0, 1) := by decide +kernel
theorem dX0_put_50 : decode cX0_put 50 = .ok (.getfield 20, 3) := by decide +kernel
theorem dX0_put_53 : decode cX0_put 53 = .ok (.iload 6, 2) := by decide +kernel
theorem dX0_put_55 : decode cX0_put 55 = .ok (.iaload, 1) := by decide +kernel
theorem dX0_put_56 : decode cX0_put 56 = .ok (.if_icmp .gt 26, 3) := by decide +kernel
theorem dX0_put_59 : decode cX0_put 59 = .ok (.iload_n 2, 1) := by decide +kernel
theorem dX0_put_60 : decode cX0_put 60 = .ok (.aload_n 0, 1) := by decide +kernel
theorem dX0_put_61 : decode cX0_put 61 = .ok (.getfield 20, 3) := by decide +kernel
theorem dX0_put_64 : decode cX0_put 64 = .ok (.iload 6, 2) := by decide +kernel
theorem dX0_put_66 : decode cX0_put 66 = .ok (.iaload, 1) := by decide +kernel
theorem dX0_put_67 : decode cX0_put 67 = .ok (.if_icmp .ne 13, 3) := by decide +kernel
theorem dX0_put_70 : decode cX0_put 70 = .ok (.aload_n 0, 1) := by decide +kernel
theorem dX0_put_71 : decode cX0_put 71 = .ok (.getfield 23, 3) := by decide +kernel
theorem dX0_put_74 : decode cX0_put 74 = .ok (.iload 6, 2) := by decide +kernel
theorem dX0_put_76 : decode cX0_put 76 = .ok (.iaload, 1) := by decide +kernel
theorem dX0_put_77 : decode cX0_put 77 = .ok (.goto 4, 3) := by decide +kernel
theorem dX0_put_80 : decode cX0_put 80 = .ok (.iconst (-1), 1) := by decide +kernel
theorem dX0_put_81 : decode cX0_put 81 = .ok (.ireturn, 1) := by decide +kernel
theorem dX0_put_82 : decode cX0_put 82 = .ok (.aload_n 0, 1) := by decide +kernel
theorem dX0_put_83 : decode cX0_put 83 = .ok (.iload 5, 2) := by decide +kernel
theorem dX0_put_85 : decode cX0_put 85 = .ok (.iload_n 3, 1) := by decide +kernel
theorem dX0_put_86 : decode cX0_put 86 = .ok (.invokevirtual 79, 3) := by decide +kernel
theorem dX0_put_89 : decode cX0_put 89 = .ok (.istore 7, 2) := by decide +kernel
theorem dX0_put_91 : decode cX0_put 91 = .ok (.aload_n 0, 1) := by decide +kernel
theorem dX0_put_92 : decode cX0_put 92 = .ok (.iload 5, 2) := by decide +kernel
theorem dX0_put_94 : decode cX0_put 94 = .ok (.iconst 0, 1) := by decide +kernel
theorem dX0_put_95 : decode cX0_put 95 = .ok (.iload_n 3, 1) := by decide +kernel
theorem dX0_put_96 : decode cX0_put 96 = .ok (.iload 4, 2) := by decide +kernel
theorem dX0_put_98 : decode cX0_put 98 = .ok (.iconst 1, 1) := by decide +kernel
theorem dX0_put_99 : decode cX0_put 99 = .ok (.invokevirtual 82, 3) := by decide +kernel
theorem dX0_put_102 : decode cX0_put 102 = .ok (.aload_n 0, 1) := by decide +kernel
theorem dX0_put_103 : decode cX0_put 103 = .ok (.iload 5, 2) := by decide +kernel
theorem dX0_put_105 : decode cX0_put 105 = .ok (.iconst 1, 1) := by decide +kernel
theorem dX0_put_106 : decode cX0_put 106 = .ok (.iconst 4, 1) := by decide +kernel
theorem dX0_put_107 : decode cX0_put 107 = .ok (.iload_n 3, 1) := by decide +kernel
theorem dX0_put_108 : decode cX0_put 108 = .ok (.bipush 7, 2) := by decide +kernel
theorem dX0_put_110 : decode cX0_put 110 = .ok (.iand, 1) := by decide +kernel
theorem dX0_put_111 : decode cX0_put 111 = .ok (.imul, 1) := by decide +kernel
theorem dX0_put_112 : decode cX0_put 112 = .ok (.iload_n 1, 1) := by decide +kernel
theorem dX0_put_113 : decode cX0_put 113 = .ok (.iadd, 1) := by decide +kernel
theorem dX0_put_114 : decode cX0_put 114 = .ok (.iload_n 2, 1) := by decide +kernel
theorem dX0_put_115 : decode cX0_put 115 = .ok (.iload 7, 2) := by decide +kernel
theorem dX0_put_117 : decode cX0_put 117 = .ok (.invokevirtual 82, 3) := by decide +kernel
theorem dX0_put_120 : decode cX0_put 120 = .ok (.iload 7, 2) := by decide +kernel
theorem dX0_put_122 : decode cX0_put 122 = .ok (.ireturn, 1) := by decide +kernel
theorem dX0_fits_0 : decode cX0_fits 0 = .ok (.iload_n 0, 1) := by decide +kernel
theorem dX0_fits_1 : decode cX0_fits 1 = .ok (.ifCond .lt 22, 3) := by decide +kernel
theorem dX0_fits_4 : decode cX0_fits 4 = .ok (.iload_n 0, 1) := by decide +kernel
theorem dX0_fits_5 : decode cX0_fits 5 = .ok (.iconst 3, 1) := by decide +kernel
theorem dX0_fits_6 : decode cX0_fits 6 = .ok (.if_icmp .gt 17, 3) := by decide +kernel
theorem dX0_fits_9 : decode cX0_fits 9 = .ok (.iload_n 1, 1) := by decide +kernel
theorem dX0_fits_10 : decode cX0_fits 10 = .ok (.ifCond .lt 13, 3) := by decide +kernel
theorem dX0_fits_13 : decode cX0_fits 13 = .ok (.iload_n 1, 1) := by decide +kernel
theorem dX0_fits_14 : decode cX0_fits 14 = .ok (.bipush 31, 2) := by decide +kernel
theorem dX0_fits_16 : decode cX0_fits 16 = .ok (.if_icmp .gt 7, 3) := by decide +kernel
theorem dX0_fits_19 : decode cX0_fits 19 = .ok (.iconst 1, 1) := by decide +kernel
theorem dX0_fits_20 : decode cX0_fits 20 = .ok (.goto 4, 3) := by decide +kernel
theorem dX0_fits_23 : decode cX0_fits 23 = .ok (.iconst 0, 1) := by decide +kernel
theorem dX0_fits_24 : decode cX0_fits 24 = .ok (.ireturn, 1) := by decide +kernel
theorem dX0_groupFor_0 : decode cX0_groupFor 0 = .ok (.aload_n 0, 1) := by decide +kernel
theorem dX0_groupFor_1 : decode cX0_groupFor 1 = .ok (.getfield 68, 3) := by decide +kernel
theorem dX0_groupFor_4 : decode cX0_groupFor 4 = .ok (.bipush 8, 2) := by decide +kernel
theorem dX0_groupFor_6 : decode cX0_groupFor 6 = .ok (.iload_n 1, 1) := by decide +kernel
theorem dX0_groupFor_7 : decode cX0_groupFor 7 = .ok (.imul, 1) := by decide +kernel
theorem dX0_groupFor_8 : decode cX0_groupFor 8 = .ok (.iload_n 2, 1) := by decide +kernel
theorem dX0_groupFor_9 : decode cX0_groupFor 9 = .ok (.iadd, 1) := by decide +kernel
theorem dX0_groupFor_10 : decode cX0_groupFor 10 = .ok (.iaload, 1) := by decide +kernel
theorem dX0_groupFor_11 : decode cX0_groupFor 11 = .ok (.istore_n 3, 1) := by decide +kernel
theorem dX0_groupFor_12 : decode cX0_groupFor 12 = .ok (.aload_n 0, 1) := by decide +kernel
theorem dX0_groupFor_13 : decode cX0_groupFor 13 = .ok (.getfield 26, 3) := by decide +kernel
theorem dX0_groupFor_16 : decode cX0_groupFor 16 = .ok (.bipush 8, 2) := by decide +kernel
theorem dX0_groupFor_18 : decode cX0_groupFor 18 = .ok (.iload_n 3, 1) := by decide +kernel
theorem dX0_groupFor_19 : decode cX0_groupFor 19 = .ok (.imul, 1) := by decide +kernel
theorem dX0_groupFor_20 : decode cX0_groupFor 20 = .ok (.iload_n 2, 1) := by decide +kernel
theorem dX0_groupFor_21 : decode cX0_groupFor 21 = .ok (.iadd, 1) := by decide +kernel
theorem dX0_groupFor_22 : decode cX0_groupFor 22 = .ok (.iaload, 1) := by decide +kernel
theorem dX0_groupFor_23 : decode cX0_groupFor 23 = .ok (.iconst 1, 1) := by decide +kernel
theorem dX0_groupFor_24 : decode cX0_groupFor 24 = .ok (.if_icmp .ne 5, 3) := by decide +kernel
theorem dX0_groupFor_27 : decode cX0_groupFor 27 = .ok (.iload_n 3, 1) := by decide +kernel
theorem dX0_groupFor_28 : decode cX0_groupFor 28 = .ok (.ireturn, 1) := by decide +kernel
theorem dX0_groupFor_29 : decode cX0_groupFor 29 = .ok (.aload_n 0, 1) := by decide +kernel
theorem dX0_groupFor_30 : decode cX0_groupFor 30 = .ok (.getfield 62, 3) := by decide +kernel
theorem dX0_groupFor_33 : decode cX0_groupFor 33 = .ok (.iload_n 2, 1) := by decide +kernel
theorem dX0_groupFor_34 : decode cX0_groupFor 34 = .ok (.iaload, 1) := by decide +kernel
theorem dX0_groupFor_35 : decode cX0_groupFor 35 = .ok (.istore 4, 2) := by decide +kernel
theorem dX0_groupFor_37 : decode cX0_groupFor 37 = .ok (.iconst 0, 1) := by decide +kernel
theorem dX0_groupFor_38 : decode cX0_groupFor 38 = .ok (.istore 5, 2) := by decide +kernel
theorem dX0_groupFor_40 : decode cX0_groupFor 40 = .ok (.iload 5, 2) := by decide +kernel
theorem dX0_groupFor_42 : decode cX0_groupFor 42 = .ok (.bipush 40, 2) := by decide +kernel
theorem dX0_groupFor_44 : decode cX0_groupFor 44 = .ok (.if_icmp .ge 31, 3) := by decide +kernel
theorem dX0_groupFor_47 : decode cX0_groupFor 47 = .ok (.aload_n 0, 1) := by decide +kernel
theorem dX0_groupFor_48 : decode cX0_groupFor 48 = .ok (.getfield 26, 3) := by decide +kernel
theorem dX0_groupFor_51 : decode cX0_groupFor 51 = .ok (.bipush 8, 2) := by decide +kernel
theorem dX0_groupFor_53 : decode cX0_groupFor 53 = .ok (.iload 4, 2) := by decide +kernel
theorem dX0_groupFor_55 : decode cX0_groupFor 55 = .ok (.imul, 1) := by decide +kernel
theorem dX0_groupFor_56 : decode cX0_groupFor 56 = .ok (.iload_n 2, 1) := by decide +kernel
theorem dX0_groupFor_57 : decode cX0_groupFor 57 = .ok (.iadd, 1) := by decide +kernel
theorem dX0_groupFor_58 : decode cX0_groupFor 58 = .ok (.iaload, 1) := by decide +kernel
theorem dX0_groupFor_59 : decode cX0_groupFor 59 = .ok (.iconst 1, 1) := by decide +kernel
theorem dX0_groupFor_60 : decode cX0_groupFor 60 = .ok (.if_icmp .eq 15, 3) := by decide +kernel
theorem dX0_groupFor_63 : decode cX0_groupFor 63 = .ok (.aload_n 0, 1) := by decide +kernel
theorem dX0_groupFor_64 : decode cX0_groupFor 64 = .ok (.iload_n 2, 1) := by decide +kernel
theorem dX0_groupFor_65 : decode cX0_groupFor 65 = .ok (.invokevirtual 94, 3) := by decide +kernel
theorem dX0_groupFor_68 : decode cX0_groupFor 68 = .ok (.pop, 1) := by decide +kernel
theorem dX0_groupFor_69 : decode cX0_groupFor 69 = .ok (.iinc 5 1, 3) := by decide +kernel
theorem dX0_groupFor_72 : decode cX0_groupFor 72 = .ok (.goto (-32), 3) := by decide +kernel
theorem dX0_groupFor_75 : decode cX0_groupFor 75 = .ok (.aload_n 0, 1) := by decide +kernel
theorem dX0_groupFor_76 : decode cX0_groupFor 76 = .ok (.getfield 68, 3) := by decide +kernel
theorem dX0_groupFor_79 : decode cX0_groupFor 79 = .ok (.bipush 8, 2) := by decide +kernel
theorem dX0_groupFor_81 : decode cX0_groupFor 81 = .ok (.iload_n 1, 1) := by decide +kernel
theorem dX0_groupFor_82 : decode cX0_groupFor 82 = .ok (.imul, 1) := by decide +kernel
theorem dX0_groupFor_83 : decode cX0_groupFor 83 = .ok (.iload_n 2, 1) := by decide +kernel
theorem dX0_groupFor_84 : decode cX0_groupFor 84 = .ok (.iadd, 1) := by decide +kernel
theorem dX0_groupFor_85 : decode cX0_groupFor 85 = .ok (.iload 4, 2) := by decide +kernel
theorem dX0_groupFor_87 : decode cX0_groupFor 87 = .ok (.iastore, 1) := by decide +kernel
theorem dX0_groupFor_88 : decode cX0_groupFor 88 = .ok (.iload 4, 2) := by decide +kernel
theorem dX0_groupFor_90 : decode cX0_groupFor 90 = .ok (.ireturn, 1) := by decide +kernel
theorem dX0_moveOn_0 : decode cX0_moveOn 0 = .ok (.aload_n 0, 1) := by decide +kernel
theorem dX0_moveOn_1 : decode cX0_moveOn 1 = .ok (.iload_n 1, 1) := by decide +kernel
theorem dX0_moveOn_2 : decode cX0_moveOn 2 = .ok (.iconst 1, 1) := by decide +kernel
theorem dX0_moveOn_3 : decode cX0_moveOn 3 = .ok (.invokevirtual 101, 3) := by decide +kernel
theorem dX0_moveOn_6 : decode cX0_moveOn 6 = .ok (.istore_n 2, 1) := by decide +kernel
theorem dX0_moveOn_7 : decode cX0_moveOn 7 = .ok (.aload_n 0, 1) := by decide +kernel
theorem dX0_moveOn_8 : decode cX0_moveOn 8 = .ok (.iload_n 1, 1) := by decide +kernel
theorem dX0_moveOn_9 : decode cX0_moveOn 9 = .ok (.iconst 2, 1) := by decide +kernel
theorem dX0_moveOn_10 : decode cX0_moveOn 10 = .ok (.invokevirtual 101, 3) := by decide +kernel
theorem dX0_moveOn_13 : decode cX0_moveOn 13 = .ok (.istore_n 3, 1) := by decide +kernel
theorem dX0_moveOn_14 : decode cX0_moveOn 14 = .ok (.aload_n 0, 1) := by decide +kernel
theorem dX0_moveOn_15 : decode cX0_moveOn 15 = .ok (.iload_n 1, 1) := by decide +kernel
theorem dX0_moveOn_16 : decode cX0_moveOn 16 = .ok (.iconst 3, 1) := by decide +kernel
theorem dX0_moveOn_17 : decode cX0_moveOn 17 = .ok (.invokevirtual 101, 3) := by decide +kernel
theorem dX0_moveOn_20 : decode cX0_moveOn 20 = .ok (.istore 4, 2) := by decide +kernel
theorem dX0_moveOn_22 : decode cX0_moveOn 22 = .ok (.aload_n 0, 1) := by decide +kernel
theorem dX0_moveOn_23 : decode cX0_moveOn 23 = .ok (.getfield 62, 3) := by decide +kernel
theorem dX0_moveOn_26 : decode cX0_moveOn 26 = .ok (.iload_n 1, 1) := by decide +kernel
theorem dX0_moveOn_27 : decode cX0_moveOn 27 = .ok (.iaload, 1) := by decide +kernel
theorem dX0_moveOn_28 : decode cX0_moveOn 28 = .ok (.istore 5, 2) := by decide +kernel
theorem dX0_moveOn_30 : decode cX0_moveOn 30 = .ok (.iload_n 2, 1) := by decide +kernel
theorem dX0_moveOn_31 : decode cX0_moveOn 31 = .ok (.ifCond .lt 18, 3) := by decide +kernel
theorem dX0_moveOn_34 : decode cX0_moveOn 34 = .ok (.iload_n 3, 1) := by decide +kernel
theorem dX0_moveOn_35 : decode cX0_moveOn 35 = .ok (.ifCond .lt 14, 3) := by decide +kernel
theorem dX0_moveOn_38 : decode cX0_moveOn 38 = .ok (.aload_n 0, 1) := by decide +kernel
theorem dX0_moveOn_39 : decode cX0_moveOn 39 = .ok (.iload_n 3, 1) := by decide +kernel
theorem dX0_moveOn_40 : decode cX0_moveOn 40 = .ok (.iconst 3, 1) := by decide +kernel
theorem dX0_moveOn_41 : decode cX0_moveOn 41 = .ok (.iload_n 1, 1) := by decide +kernel
theorem dX0_moveOn_42 : decode cX0_moveOn 42 = .ok (.iconst 0, 1) := by decide +kernel
theorem dX0_moveOn_43 : decode cX0_moveOn 43 = .ok (.iconst 0, 1) := by decide +kernel
theorem dX0_moveOn_44 : decode cX0_moveOn 44 = .ok (.invokevirtual 82, 3) := by decide +kernel
theorem dX0_moveOn_47 : decode cX0_moveOn 47 = .ok (.iconst 1, 1) := by decide +kernel
theorem dX0_moveOn_48 : decode cX0_moveOn 48 = .ok (.ireturn, 1) := by decide +kernel
theorem dX0_moveOn_49 : decode cX0_moveOn 49 = .ok (.iload_n 2, 1) := by decide +kernel
theorem dX0_moveOn_50 : decode cX0_moveOn 50 = .ok (.ifCond .lt 22, 3) := by decide +kernel
theorem dX0_moveOn_53 : decode cX0_moveOn 53 = .ok (.iload_n 2, 1) := by decide +kernel
theorem dX0_moveOn_54 : decode cX0_moveOn 54 = .ok (.iload 5, 2) := by decide +kernel
theorem dX0_moveOn_56 : decode cX0_moveOn 56 = .ok (.if_icmp .ne 5, 3) := by decide +kernel
theorem dX0_moveOn_59 : decode cX0_moveOn 59 = .ok (.iconst 0, 1) := by decide +kernel
theorem dX0_moveOn_60 : decode cX0_moveOn 60 = .ok (.ireturn, 1) := by decide +kernel
theorem dX0_moveOn_61 : decode cX0_moveOn 61 = .ok (.aload_n 0, 1) := by decide +kernel
theorem dX0_moveOn_62 : decode cX0_moveOn 62 = .ok (.iload_n 2, 1) := by decide +kernel
theorem dX0_moveOn_63 : decode cX0_moveOn 63 = .ok (.iconst 2, 1) := by decide +kernel
theorem dX0_moveOn_64 : decode cX0_moveOn 64 = .ok (.iload_n 1, 1) := by decide +kernel
theorem dX0_moveOn_65 : decode cX0_moveOn 65 = .ok (.iconst 2, 1) := by decide +kernel
theorem dX0_moveOn_66 : decode cX0_moveOn 66 = .ok (.iconst 0, 1) := by decide +kernel
theorem dX0_moveOn_67 : decode cX0_moveOn 67 = .ok (.invokevirtual 82, 3) := by decide +kernel
theorem dX0_moveOn_70 : decode cX0_moveOn 70 = .ok (.iconst 1, 1) := by decide +kernel
theorem dX0_moveOn_71 : decode cX0_moveOn 71 = .ok (.ireturn, 1) := by decide +kernel
theorem dX0_moveOn_72 : decode cX0_moveOn 72 = .ok (.iload 4, 2) := by decide +kernel
theorem dX0_moveOn_74 : decode cX0_moveOn 74 = .ok (.ifCond .ge 32, 3) := by decide +kernel
theorem dX0_moveOn_77 : decode cX0_moveOn 77 = .ok (.aload_n 0, 1) := by decide +kernel
theorem dX0_moveOn_78 : decode cX0_moveOn 78 = .ok (.getfield 65, 3) := by decide +kernel
theorem dX0_moveOn_81 : decode cX0_moveOn 81 = .ok (.iload_n 1, 1) := by decide +kernel
theorem dX0_moveOn_82 : decode cX0_moveOn 82 = .ok (.iconst 0, 1) := by decide +kernel
theorem dX0_moveOn_83 : decode cX0_moveOn 83 = .ok (.iastore, 1) := by decide +kernel
theorem dX0_moveOn_84 : decode cX0_moveOn 84 = .ok (.aload_n 0, 1) := by decide +kernel
theorem dX0_moveOn_85 : decode cX0_moveOn 85 = .ok (.iload 5, 2) := by decide +kernel
theorem dX0_moveOn_87 : decode cX0_moveOn 87 = .ok (.iconst 2, 1) := by decide +kernel
theorem dX0_moveOn_88 : decode cX0_moveOn 88 = .ok (.iload_n 1, 1) := by decide +kernel
theorem dX0_moveOn_89 : decode cX0_moveOn 89 = .ok (.iload 5, 2) := by decide +kernel
theorem dX0_moveOn_91 : decode cX0_moveOn 91 = .ok (.iload_n 3, 1) := by decide +kernel
theorem dX0_moveOn_92 : decode cX0_moveOn 92 = .ok (.if_icmp .ne 7, 3) := by decide +kernel
theorem dX0_moveOn_95 : decode cX0_moveOn 95 = .ok (.iconst 1, 1) := by decide +kernel
theorem dX0_moveOn_96 : decode cX0_moveOn 96 = .ok (.goto 4, 3) := by decide +kernel
theorem dX0_moveOn_99 : decode cX0_moveOn 99 = .ok (.iconst 3, 1) := by decide +kernel
theorem dX0_moveOn_100 : decode cX0_moveOn 100 = .ok (.iconst 0, 1) := by decide +kernel
theorem dX0_moveOn_101 : decode cX0_moveOn 101 = .ok (.invokevirtual 82, 3) := by decide +kernel
theorem dX0_moveOn_104 : decode cX0_moveOn 104 = .ok (.iconst 1, 1) := by decide +kernel
theorem dX0_moveOn_105 : decode cX0_moveOn 105 = .ok (.ireturn, 1) := by decide +kernel
theorem dX0_moveOn_106 : decode cX0_moveOn 106 = .ok (.aload_n 0, 1) := by decide +kernel
theorem dX0_moveOn_107 : decode cX0_moveOn 107 = .ok (.getfield 65, 3) := by decide +kernel
theorem dX0_moveOn_110 : decode cX0_moveOn 110 = .ok (.iload_n 1, 1) := by decide +kernel
theorem dX0_moveOn_111 : decode cX0_moveOn 111 = .ok (.iaload, 1) := by decide +kernel
theorem dX0_moveOn_112 : decode cX0_moveOn 112 = .ok (.bipush 8, 2) := by decide +kernel
theorem dX0_moveOn_114 : decode cX0_moveOn 114 = .ok (.if_icmp .ge 24, 3) := by decide +kernel
theorem dX0_moveOn_117 : decode cX0_moveOn 117 = .ok (.aload_n 0, 1) := by decide +kernel
theorem dX0_moveOn_118 : decode cX0_moveOn 118 = .ok (.iload_n 1, 1) := by decide +kernel
theorem dX0_moveOn_119 : decode cX0_moveOn 119 = .ok (.iload_n 3, 1) := by decide +kernel
theorem dX0_moveOn_120 : decode cX0_moveOn 120 = .ok (.iload 4, 2) := by decide +kernel
theorem dX0_moveOn_122 : decode cX0_moveOn 122 = .ok (.invokevirtual 104, 3) := by decide +kernel
theorem dX0_moveOn_125 : decode cX0_moveOn 125 = .ok (.aload_n 0, 1) := by decide +kernel
theorem dX0_moveOn_126 : decode cX0_moveOn 126 = .ok (.getfield 65, 3) := by decide +kernel
theorem dX0_moveOn_129 : decode cX0_moveOn 129 = .ok (.iload_n 1, 1) := by decide +kernel
theorem dX0_moveOn_130 : decode cX0_moveOn 130 = .ok (.dup2, 1) := by decide +kernel
theorem dX0_moveOn_131 : decode cX0_moveOn 131 = .ok (.iaload, 1) := by decide +kernel
theorem dX0_moveOn_132 : decode cX0_moveOn 132 = .ok (.iconst 1, 1) := by decide +kernel
theorem dX0_moveOn_133 : decode cX0_moveOn 133 = .ok (.iadd, 1) := by decide +kernel
theorem dX0_moveOn_134 : decode cX0_moveOn 134 = .ok (.iastore, 1) := by decide +kernel
theorem dX0_moveOn_135 : decode cX0_moveOn 135 = .ok (.goto 13, 3) := by decide +kernel
theorem dX0_moveOn_138 : decode cX0_moveOn 138 = .ok (.aload_n 0, 1) := by decide +kernel
theorem dX0_moveOn_139 : decode cX0_moveOn 139 = .ok (.iload 4, 2) := by decide +kernel
theorem dX0_moveOn_141 : decode cX0_moveOn 141 = .ok (.iconst 2, 1) := by decide +kernel
theorem dX0_moveOn_142 : decode cX0_moveOn 142 = .ok (.iload_n 1, 1) := by decide +kernel
theorem dX0_moveOn_143 : decode cX0_moveOn 143 = .ok (.iconst 1, 1) := by decide +kernel
theorem dX0_moveOn_144 : decode cX0_moveOn 144 = .ok (.iconst 0, 1) := by decide +kernel
theorem dX0_moveOn_145 : decode cX0_moveOn 145 = .ok (.invokevirtual 82, 3) := by decide +kernel
theorem dX0_moveOn_148 : decode cX0_moveOn 148 = .ok (.iconst 1, 1) := by decide +kernel
theorem dX0_moveOn_149 : decode cX0_moveOn 149 = .ok (.ireturn, 1) := by decide +kernel
theorem dX0_groupIn_0 : decode cX0_groupIn 0 = .ok (.iconst 0, 1) := by decide +kernel
theorem dX0_groupIn_1 : decode cX0_groupIn 1 = .ok (.istore_n 3, 1) := by decide +kernel
theorem dX0_groupIn_2 : decode cX0_groupIn 2 = .ok (.iload_n 3, 1) := by decide +kernel
theorem dX0_groupIn_3 : decode cX0_groupIn 3 = .ok (.iconst 4, 1) := by decide +kernel
theorem dX0_groupIn_4 : decode cX0_groupIn 4 = .ok (.if_icmp .ge 26, 3) := by decide +kernel
theorem dX0_groupIn_7 : decode cX0_groupIn 7 = .ok (.aload_n 0, 1) := by decide +kernel
theorem dX0_groupIn_8 : decode cX0_groupIn 8 = .ok (.getfield 26, 3) := by decide +kernel
theorem dX0_groupIn_11 : decode cX0_groupIn 11 = .ok (.bipush 8, 2) := by decide +kernel
theorem dX0_groupIn_13 : decode cX0_groupIn 13 = .ok (.iload_n 3, 1) := by decide +kernel
theorem dX0_groupIn_14 : decode cX0_groupIn 14 = .ok (.imul, 1) := by decide +kernel
theorem dX0_groupIn_15 : decode cX0_groupIn 15 = .ok (.iload_n 1, 1) := by decide +kernel
theorem dX0_groupIn_16 : decode cX0_groupIn 16 = .ok (.iadd, 1) := by decide +kernel
theorem dX0_groupIn_17 : decode cX0_groupIn 17 = .ok (.iaload, 1) := by decide +kernel
theorem dX0_groupIn_18 : decode cX0_groupIn 18 = .ok (.iload_n 2, 1) := by decide +kernel
theorem dX0_groupIn_19 : decode cX0_groupIn 19 = .ok (.if_icmp .ne 5, 3) := by decide +kernel
theorem dX0_groupIn_22 : decode cX0_groupIn 22 = .ok (.iload_n 3, 1) := by decide +kernel
theorem dX0_groupIn_23 : decode cX0_groupIn 23 = .ok (.ireturn, 1) := by decide +kernel
theorem dX0_groupIn_24 : decode cX0_groupIn 24 = .ok (.iinc 3 1, 3) := by decide +kernel
theorem dX0_groupIn_27 : decode cX0_groupIn 27 = .ok (.goto (-25), 3) := by decide +kernel
theorem dX0_groupIn_30 : decode cX0_groupIn 30 = .ok (.iconst (-1), 1) := by decide +kernel
theorem dX0_groupIn_31 : decode cX0_groupIn 31 = .ok (.ireturn, 1) := by decide +kernel
theorem dX0_write_0 : decode cX0_write 0 = .ok (.aload_n 0, 1) := by decide +kernel
theorem dX0_write_1 : decode cX0_write 1 = .ok (.getfield 47, 3) := by decide +kernel
theorem dX0_write_4 : decode cX0_write 4 = .ok (.iload_n 1, 1) := by decide +kernel
theorem dX0_write_5 : decode cX0_write 5 = .ok (.iaload, 1) := by decide +kernel
theorem dX0_write_6 : decode cX0_write 6 = .ok (.bipush 8, 2) := by decide +kernel
theorem dX0_write_8 : decode cX0_write 8 = .ok (.if_icmp .lt 8, 3) := by decide +kernel
theorem dX0_write_11 : decode cX0_write 11 = .ok (.aload_n 0, 1) := by decide +kernel
theorem dX0_write_12 : decode cX0_write 12 = .ok (.iload_n 1, 1) := by decide +kernel
end
section
set_option maxRecDepth 100000
theorem dX0_write_13 : decode cX0_write 13 = .ok (.invokevirtual 108, 3) := by decide +kernel
theorem dX0_write_16 : decode cX0_write 16 = .ok (.bipush 8, 2) := by decide +kernel
theorem dX0_write_18 : decode cX0_write 18 = .ok (.iload_n 1, 1) := by decide +kernel
theorem dX0_write_19 : decode cX0_write 19 = .ok (.imul, 1) := by decide +kernel
theorem dX0_write_20 : decode cX0_write 20 = .ok (.aload_n 0, 1) := by decide +kernel
theorem dX0_write_21 : decode cX0_write 21 = .ok (.getfield 47, 3) := by decide +kernel
theorem dX0_write_24 : decode cX0_write 24 = .ok (.iload_n 1, 1) := by decide +kernel
theorem dX0_write_25 : decode cX0_write 25 = .ok (.iaload, 1) := by decide +kernel
theorem dX0_write_26 : decode cX0_write 26 = .ok (.iadd, 1) := by decide +kernel
theorem dX0_write_27 : decode cX0_write 27 = .ok (.istore 6, 2) := by decide +kernel
theorem dX0_write_29 : decode cX0_write 29 = .ok (.aload_n 0, 1) := by decide +kernel
theorem dX0_write_30 : decode cX0_write 30 = .ok (.getfield 50, 3) := by decide +kernel
theorem dX0_write_33 : decode cX0_write 33 = .ok (.iload 6, 2) := by decide +kernel
theorem dX0_write_35 : decode cX0_write 35 = .ok (.iload_n 2, 1) := by decide +kernel
theorem dX0_write_36 : decode cX0_write 36 = .ok (.iastore, 1) := by decide +kernel
theorem dX0_write_37 : decode cX0_write 37 = .ok (.aload_n 0, 1) := by decide +kernel
theorem dX0_write_38 : decode cX0_write 38 = .ok (.getfield 53, 3) := by decide +kernel
theorem dX0_write_41 : decode cX0_write 41 = .ok (.iload 6, 2) := by decide +kernel
theorem dX0_write_43 : decode cX0_write 43 = .ok (.iload_n 3, 1) := by decide +kernel
theorem dX0_write_44 : decode cX0_write 44 = .ok (.iastore, 1) := by decide +kernel
theorem dX0_write_45 : decode cX0_write 45 = .ok (.aload_n 0, 1) := by decide +kernel
theorem dX0_write_46 : decode cX0_write 46 = .ok (.getfield 56, 3) := by decide +kernel
theorem dX0_write_49 : decode cX0_write 49 = .ok (.iload 6, 2) := by decide +kernel
theorem dX0_write_51 : decode cX0_write 51 = .ok (.iload 4, 2) := by decide +kernel
theorem dX0_write_53 : decode cX0_write 53 = .ok (.iastore, 1) := by decide +kernel
theorem dX0_write_54 : decode cX0_write 54 = .ok (.aload_n 0, 1) := by decide +kernel
theorem dX0_write_55 : decode cX0_write 55 = .ok (.getfield 59, 3) := by decide +kernel
theorem dX0_write_58 : decode cX0_write 58 = .ok (.iload 6, 2) := by decide +kernel
theorem dX0_write_60 : decode cX0_write 60 = .ok (.iload 5, 2) := by decide +kernel
theorem dX0_write_62 : decode cX0_write 62 = .ok (.iastore, 1) := by decide +kernel
theorem dX0_write_63 : decode cX0_write 63 = .ok (.aload_n 0, 1) := by decide +kernel
theorem dX0_write_64 : decode cX0_write 64 = .ok (.getfield 47, 3) := by decide +kernel
theorem dX0_write_67 : decode cX0_write 67 = .ok (.iload_n 1, 1) := by decide +kernel
theorem dX0_write_68 : decode cX0_write 68 = .ok (.dup2, 1) := by decide +kernel
theorem dX0_write_69 : decode cX0_write 69 = .ok (.iaload, 1) := by decide +kernel
theorem dX0_write_70 : decode cX0_write 70 = .ok (.iconst 1, 1) := by decide +kernel
theorem dX0_write_71 : decode cX0_write 71 = .ok (.iadd, 1) := by decide +kernel
theorem dX0_write_72 : decode cX0_write 72 = .ok (.iastore, 1) := by decide +kernel
theorem dX0_write_73 : decode cX0_write 73 = .ok (.aload_n 0, 1) := by decide +kernel
theorem dX0_write_74 : decode cX0_write 74 = .ok (.iload_n 1, 1) := by decide +kernel
theorem dX0_write_75 : decode cX0_write 75 = .ok (.iload_n 2, 1) := by decide +kernel
theorem dX0_write_76 : decode cX0_write 76 = .ok (.iload_n 3, 1) := by decide +kernel
theorem dX0_write_77 : decode cX0_write 77 = .ok (.iload 4, 2) := by decide +kernel
theorem dX0_write_79 : decode cX0_write 79 = .ok (.iload 5, 2) := by decide +kernel
theorem dX0_write_81 : decode cX0_write 81 = .ok (.invokevirtual 98, 3) := by decide +kernel
theorem dX0_write_84 : decode cX0_write 84 = .ok (.return_, 1) := by decide +kernel
theorem dX0_saveImage_0 : decode cX0_saveImage 0 = .ok (.bipush 32, 2) := by decide +kernel
theorem dX0_saveImage_2 : decode cX0_saveImage 2 = .ok (.iload_n 1, 1) := by decide +kernel
theorem dX0_saveImage_3 : decode cX0_saveImage 3 = .ok (.imul, 1) := by decide +kernel
theorem dX0_saveImage_4 : decode cX0_saveImage 4 = .ok (.istore_n 2, 1) := by decide +kernel
theorem dX0_saveImage_5 : decode cX0_saveImage 5 = .ok (.iload_n 2, 1) := by decide +kernel
theorem dX0_saveImage_6 : decode cX0_saveImage 6 = .ok (.bipush 32, 2) := by decide +kernel
theorem dX0_saveImage_8 : decode cX0_saveImage 8 = .ok (.iload_n 1, 1) := by decide +kernel
theorem dX0_saveImage_9 : decode cX0_saveImage 9 = .ok (.imul, 1) := by decide +kernel
theorem dX0_saveImage_10 : decode cX0_saveImage 10 = .ok (.bipush 32, 2) := by decide +kernel
theorem dX0_saveImage_12 : decode cX0_saveImage 12 = .ok (.iadd, 1) := by decide +kernel
theorem dX0_saveImage_13 : decode cX0_saveImage 13 = .ok (.if_icmp .ge 69, 3) := by decide +kernel
theorem dX0_saveImage_16 : decode cX0_saveImage 16 = .ok (.aload_n 0, 1) := by decide +kernel
theorem dX0_saveImage_17 : decode cX0_saveImage 17 = .ok (.getfield 29, 3) := by decide +kernel
theorem dX0_saveImage_20 : decode cX0_saveImage 20 = .ok (.iload_n 2, 1) := by decide +kernel
theorem dX0_saveImage_21 : decode cX0_saveImage 21 = .ok (.aload_n 0, 1) := by decide +kernel
theorem dX0_saveImage_22 : decode cX0_saveImage 22 = .ok (.getfield 7, 3) := by decide +kernel
theorem dX0_saveImage_25 : decode cX0_saveImage 25 = .ok (.iload_n 2, 1) := by decide +kernel
theorem dX0_saveImage_26 : decode cX0_saveImage 26 = .ok (.iaload, 1) := by decide +kernel
theorem dX0_saveImage_27 : decode cX0_saveImage 27 = .ok (.iastore, 1) := by decide +kernel
theorem dX0_saveImage_28 : decode cX0_saveImage 28 = .ok (.aload_n 0, 1) := by decide +kernel
theorem dX0_saveImage_29 : decode cX0_saveImage 29 = .ok (.getfield 32, 3) := by decide +kernel
theorem dX0_saveImage_32 : decode cX0_saveImage 32 = .ok (.iload_n 2, 1) := by decide +kernel
theorem dX0_saveImage_33 : decode cX0_saveImage 33 = .ok (.aload_n 0, 1) := by decide +kernel
theorem dX0_saveImage_34 : decode cX0_saveImage 34 = .ok (.getfield 13, 3) := by decide +kernel
theorem dX0_saveImage_37 : decode cX0_saveImage 37 = .ok (.iload_n 2, 1) := by decide +kernel
theorem dX0_saveImage_38 : decode cX0_saveImage 38 = .ok (.baload, 1) := by decide +kernel
theorem dX0_saveImage_39 : decode cX0_saveImage 39 = .ok (.bastore, 1) := by decide +kernel
theorem dX0_saveImage_40 : decode cX0_saveImage 40 = .ok (.aload_n 0, 1) := by decide +kernel
theorem dX0_saveImage_41 : decode cX0_saveImage 41 = .ok (.getfield 35, 3) := by decide +kernel
theorem dX0_saveImage_44 : decode cX0_saveImage 44 = .ok (.iload_n 2, 1) := by decide +kernel
theorem dX0_saveImage_45 : decode cX0_saveImage 45 = .ok (.aload_n 0, 1) := by decide +kernel
theorem dX0_saveImage_46 : decode cX0_saveImage 46 = .ok (.getfield 17, 3) := by decide +kernel
theorem dX0_saveImage_49 : decode cX0_saveImage 49 = .ok (.iload_n 2, 1) := by decide +kernel
theorem dX0_saveImage_50 : decode cX0_saveImage 50 = .ok (.baload, 1) := by decide +kernel
theorem dX0_saveImage_51 : decode cX0_saveImage 51 = .ok (.bastore, 1) := by decide +kernel
theorem dX0_saveImage_52 : decode cX0_saveImage 52 = .ok (.aload_n 0, 1) := by decide +kernel
theorem dX0_saveImage_53 : decode cX0_saveImage 53 = .ok (.getfield 38, 3) := by decide +kernel
theorem dX0_saveImage_56 : decode cX0_saveImage 56 = .ok (.iload_n 2, 1) := by decide +kernel
theorem dX0_saveImage_57 : decode cX0_saveImage 57 = .ok (.aload_n 0, 1) := by decide +kernel
theorem dX0_saveImage_58 : decode cX0_saveImage 58 = .ok (.getfield 20, 3) := by decide +kernel
theorem dX0_saveImage_61 : decode cX0_saveImage 61 = .ok (.iload_n 2, 1) := by decide +kernel
theorem dX0_saveImage_62 : decode cX0_saveImage 62 = .ok (.iaload, 1) := by decide +kernel
theorem dX0_saveImage_63 : decode cX0_saveImage 63 = .ok (.iastore, 1) := by decide +kernel
theorem dX0_saveImage_64 : decode cX0_saveImage 64 = .ok (.aload_n 0, 1) := by decide +kernel
theorem dX0_saveImage_65 : decode cX0_saveImage 65 = .ok (.getfield 41, 3) := by decide +kernel
theorem dX0_saveImage_68 : decode cX0_saveImage 68 = .ok (.iload_n 2, 1) := by decide +kernel
theorem dX0_saveImage_69 : decode cX0_saveImage 69 = .ok (.aload_n 0, 1) := by decide +kernel
theorem dX0_saveImage_70 : decode cX0_saveImage 70 = .ok (.getfield 23, 3) := by decide +kernel
theorem dX0_saveImage_73 : decode cX0_saveImage 73 = .ok (.iload_n 2, 1) := by decide +kernel
theorem dX0_saveImage_74 : decode cX0_saveImage 74 = .ok (.iaload, 1) := by decide +kernel
theorem dX0_saveImage_75 : decode cX0_saveImage 75 = .ok (.iastore, 1) := by decide +kernel
theorem dX0_saveImage_76 : decode cX0_saveImage 76 = .ok (.iinc 2 1, 3) := by decide +kernel
theorem dX0_saveImage_79 : decode cX0_saveImage 79 = .ok (.goto (-74), 3) := by decide +kernel
theorem dX0_saveImage_82 : decode cX0_saveImage 82 = .ok (.iconst 0, 1) := by decide +kernel
theorem dX0_saveImage_83 : decode cX0_saveImage 83 = .ok (.istore_n 2, 1) := by decide +kernel
theorem dX0_saveImage_84 : decode cX0_saveImage 84 = .ok (.iload_n 2, 1) := by decide +kernel
theorem dX0_saveImage_85 : decode cX0_saveImage 85 = .ok (.bipush 8, 2) := by decide +kernel
theorem dX0_saveImage_87 : decode cX0_saveImage 87 = .ok (.if_icmp .ge 31, 3) := by decide +kernel
theorem dX0_saveImage_90 : decode cX0_saveImage 90 = .ok (.aload_n 0, 1) := by decide +kernel
theorem dX0_saveImage_91 : decode cX0_saveImage 91 = .ok (.getfield 44, 3) := by decide +kernel
theorem dX0_saveImage_94 : decode cX0_saveImage 94 = .ok (.bipush 8, 2) := by decide +kernel
theorem dX0_saveImage_96 : decode cX0_saveImage 96 = .ok (.iload_n 1, 1) := by decide +kernel
theorem dX0_saveImage_97 : decode cX0_saveImage 97 = .ok (.imul, 1) := by decide +kernel
theorem dX0_saveImage_98 : decode cX0_saveImage 98 = .ok (.iload_n 2, 1) := by decide +kernel
theorem dX0_saveImage_99 : decode cX0_saveImage 99 = .ok (.iadd, 1) := by decide +kernel
theorem dX0_saveImage_100 : decode cX0_saveImage 100 = .ok (.aload_n 0, 1) := by decide +kernel
theorem dX0_saveImage_101 : decode cX0_saveImage 101 = .ok (.getfield 26, 3) := by decide +kernel
theorem dX0_saveImage_104 : decode cX0_saveImage 104 = .ok (.bipush 8, 2) := by decide +kernel
theorem dX0_saveImage_106 : decode cX0_saveImage 106 = .ok (.iload_n 1, 1) := by decide +kernel
theorem dX0_saveImage_107 : decode cX0_saveImage 107 = .ok (.imul, 1) := by decide +kernel
theorem dX0_saveImage_108 : decode cX0_saveImage 108 = .ok (.iload_n 2, 1) := by decide +kernel
theorem dX0_saveImage_109 : decode cX0_saveImage 109 = .ok (.iadd, 1) := by decide +kernel
theorem dX0_saveImage_110 : decode cX0_saveImage 110 = .ok (.iaload, 1) := by decide +kernel
theorem dX0_saveImage_111 : decode cX0_saveImage 111 = .ok (.iastore, 1) := by decide +kernel
theorem dX0_saveImage_112 : decode cX0_saveImage 112 = .ok (.iinc 2 1, 3) := by decide +kernel
theorem dX0_saveImage_115 : decode cX0_saveImage 115 = .ok (.goto (-31), 3) := by decide +kernel
theorem dX0_saveImage_118 : decode cX0_saveImage 118 = .ok (.aload_n 0, 1) := by decide +kernel
theorem dX0_saveImage_119 : decode cX0_saveImage 119 = .ok (.getfield 47, 3) := by decide +kernel
theorem dX0_saveImage_122 : decode cX0_saveImage 122 = .ok (.iload_n 1, 1) := by decide +kernel
theorem dX0_saveImage_123 : decode cX0_saveImage 123 = .ok (.iconst 0, 1) := by decide +kernel
theorem dX0_saveImage_124 : decode cX0_saveImage 124 = .ok (.iastore, 1) := by decide +kernel
theorem dX0_saveImage_125 : decode cX0_saveImage 125 = .ok (.return_, 1) := by decide +kernel
theorem dX0_apply_0 : decode cX0_apply 0 = .ok (.iload_n 2, 1) := by decide +kernel
theorem dX0_apply_1 : decode cX0_apply 1 = .ok (.ifCond .ne 41, 3) := by decide +kernel
theorem dX0_apply_4 : decode cX0_apply 4 = .ok (.aload_n 0, 1) := by decide +kernel
theorem dX0_apply_5 : decode cX0_apply 5 = .ok (.getfield 7, 3) := by decide +kernel
theorem dX0_apply_8 : decode cX0_apply 8 = .ok (.bipush 32, 2) := by decide +kernel
theorem dX0_apply_10 : decode cX0_apply 10 = .ok (.iload_n 1, 1) := by decide +kernel
theorem dX0_apply_11 : decode cX0_apply 11 = .ok (.imul, 1) := by decide +kernel
theorem dX0_apply_12 : decode cX0_apply 12 = .ok (.iload_n 3, 1) := by decide +kernel
theorem dX0_apply_13 : decode cX0_apply 13 = .ok (.iadd, 1) := by decide +kernel
theorem dX0_apply_14 : decode cX0_apply 14 = .ok (.iload 4, 2) := by decide +kernel
theorem dX0_apply_16 : decode cX0_apply 16 = .ok (.iastore, 1) := by decide +kernel
theorem dX0_apply_17 : decode cX0_apply 17 = .ok (.aload_n 0, 1) := by decide +kernel
theorem dX0_apply_18 : decode cX0_apply 18 = .ok (.getfield 13, 3) := by decide +kernel
theorem dX0_apply_21 : decode cX0_apply 21 = .ok (.bipush 32, 2) := by decide +kernel
theorem dX0_apply_23 : decode cX0_apply 23 = .ok (.iload_n 1, 1) := by decide +kernel
theorem dX0_apply_24 : decode cX0_apply 24 = .ok (.imul, 1) := by decide +kernel
theorem dX0_apply_25 : decode cX0_apply 25 = .ok (.iload_n 3, 1) := by decide +kernel
theorem dX0_apply_26 : decode cX0_apply 26 = .ok (.iadd, 1) := by decide +kernel
theorem dX0_apply_27 : decode cX0_apply 27 = .ok (.iload 5, 2) := by decide +kernel
theorem dX0_apply_29 : decode cX0_apply 29 = .ok (.iconst 1, 1) := by decide +kernel
theorem dX0_apply_30 : decode cX0_apply 30 = .ok (.if_icmp .ne 7, 3) := by decide +kernel
theorem dX0_apply_33 : decode cX0_apply 33 = .ok (.iconst 1, 1) := by decide +kernel
theorem dX0_apply_34 : decode cX0_apply 34 = .ok (.goto 4, 3) := by decide +kernel
theorem dX0_apply_37 : decode cX0_apply 37 = .ok (.iconst 0, 1) := by decide +kernel
theorem dX0_apply_38 : decode cX0_apply 38 = .ok (.bastore, 1) := by decide +kernel
theorem dX0_apply_39 : decode cX0_apply 39 = .ok (.goto 76, 3) := by decide +kernel
theorem dX0_apply_42 : decode cX0_apply 42 = .ok (.iload_n 2, 1) := by decide +kernel
theorem dX0_apply_43 : decode cX0_apply 43 = .ok (.iconst 1, 1) := by decide +kernel
theorem dX0_apply_44 : decode cX0_apply 44 = .ok (.if_icmp .ne 44, 3) := by decide +kernel
theorem dX0_apply_47 : decode cX0_apply 47 = .ok (.aload_n 0, 1) := by decide +kernel
theorem dX0_apply_48 : decode cX0_apply 48 = .ok (.getfield 17, 3) := by decide +kernel
theorem dX0_apply_51 : decode cX0_apply 51 = .ok (.bipush 32, 2) := by decide +kernel
theorem dX0_apply_53 : decode cX0_apply 53 = .ok (.iload_n 1, 1) := by decide +kernel
theorem dX0_apply_54 : decode cX0_apply 54 = .ok (.imul, 1) := by decide +kernel
theorem dX0_apply_55 : decode cX0_apply 55 = .ok (.iload_n 3, 1) := by decide +kernel
theorem dX0_apply_56 : decode cX0_apply 56 = .ok (.iadd, 1) := by decide +kernel
theorem dX0_apply_57 : decode cX0_apply 57 = .ok (.iconst 1, 1) := by decide +kernel
theorem dX0_apply_58 : decode cX0_apply 58 = .ok (.bastore, 1) := by decide +kernel
theorem dX0_apply_59 : decode cX0_apply 59 = .ok (.aload_n 0, 1) := by decide +kernel
theorem dX0_apply_60 : decode cX0_apply 60 = .ok (.getfield 20, 3) := by decide +kernel
theorem dX0_apply_63 : decode cX0_apply 63 = .ok (.bipush 32, 2) := by decide +kernel
theorem dX0_apply_65 : decode cX0_apply 65 = .ok (.iload_n 1, 1) := by decide +kernel
theorem dX0_apply_66 : decode cX0_apply 66 = .ok (.imul, 1) := by decide +kernel
theorem dX0_apply_67 : decode cX0_apply 67 = .ok (.iload_n 3, 1) := by decide +kernel
theorem dX0_apply_68 : decode cX0_apply 68 = .ok (.iadd, 1) := by decide +kernel
theorem dX0_apply_69 : decode cX0_apply 69 = .ok (.iload 4, 2) := by decide +kernel
theorem dX0_apply_71 : decode cX0_apply 71 = .ok (.iastore, 1) := by decide +kernel
theorem dX0_apply_72 : decode cX0_apply 72 = .ok (.aload_n 0, 1) := by decide +kernel
theorem dX0_apply_73 : decode cX0_apply 73 = .ok (.getfield 23, 3) := by decide +kernel
theorem dX0_apply_76 : decode cX0_apply 76 = .ok (.bipush 32, 2) := by decide +kernel
theorem dX0_apply_78 : decode cX0_apply 78 = .ok (.iload_n 1, 1) := by decide +kernel
theorem dX0_apply_79 : decode cX0_apply 79 = .ok (.imul, 1) := by decide +kernel
theorem dX0_apply_80 : decode cX0_apply 80 = .ok (.iload_n 3, 1) := by decide +kernel
theorem dX0_apply_81 : decode cX0_apply 81 = .ok (.iadd, 1) := by decide +kernel
theorem dX0_apply_82 : decode cX0_apply 82 = .ok (.iload 5, 2) := by decide +kernel
theorem dX0_apply_84 : decode cX0_apply 84 = .ok (.iastore, 1) := by decide +kernel
theorem dX0_apply_85 : decode cX0_apply 85 = .ok (.goto 30, 3) := by decide +kernel
theorem dX0_apply_88 : decode cX0_apply 88 = .ok (.iload_n 2, 1) := by decide +kernel
theorem dX0_apply_89 : decode cX0_apply 89 = .ok (.iconst 2, 1) := by decide +kernel
theorem dX0_apply_90 : decode cX0_apply 90 = .ok (.if_icmp .ne 19, 3) := by decide +kernel
theorem dX0_apply_93 : decode cX0_apply 93 = .ok (.aload_n 0, 1) := by decide +kernel
theorem dX0_apply_94 : decode cX0_apply 94 = .ok (.getfield 26, 3) := by decide +kernel
theorem dX0_apply_97 : decode cX0_apply 97 = .ok (.bipush 8, 2) := by decide +kernel
theorem dX0_apply_99 : decode cX0_apply 99 = .ok (.iload_n 1, 1) := by decide +kernel
theorem dX0_apply_100 : decode cX0_apply 100 = .ok (.imul, 1) := by decide +kernel
theorem dX0_apply_101 : decode cX0_apply 101 = .ok (.iload_n 3, 1) := by decide +kernel
theorem dX0_apply_102 : decode cX0_apply 102 = .ok (.iadd, 1) := by decide +kernel
theorem dX0_apply_103 : decode cX0_apply 103 = .ok (.iload 4, 2) := by decide +kernel
theorem dX0_apply_105 : decode cX0_apply 105 = .ok (.iastore, 1) := by decide +kernel
theorem dX0_apply_106 : decode cX0_apply 106 = .ok (.goto 9, 3) := by decide +kernel
theorem dX0_apply_109 : decode cX0_apply 109 = .ok (.aload_n 0, 1) := by decide +kernel
theorem dX0_apply_110 : decode cX0_apply 110 = .ok (.iload_n 1, 1) := by decide +kernel
theorem dX0_apply_111 : decode cX0_apply 111 = .ok (.iload_n 3, 1) := by decide +kernel
theorem dX0_apply_112 : decode cX0_apply 112 = .ok (.invokevirtual 112, 3) := by decide +kernel
theorem dX0_apply_115 : decode cX0_apply 115 = .ok (.return_, 1) := by decide +kernel
theorem dX0_forget_0 : decode cX0_forget 0 = .ok (.aload_n 0, 1) := by decide +kernel
theorem dX0_forget_1 : decode cX0_forget 1 = .ok (.getfield 26, 3) := by decide +kernel
theorem dX0_forget_4 : decode cX0_forget 4 = .ok (.bipush 8, 2) := by decide +kernel
theorem dX0_forget_6 : decode cX0_forget 6 = .ok (.iload_n 1, 1) := by decide +kernel
theorem dX0_forget_7 : decode cX0_forget 7 = .ok (.imul, 1) := by decide +kernel
theorem dX0_forget_8 : decode cX0_forget 8 = .ok (.iload_n 2, 1) := by decide +kernel
theorem dX0_forget_9 : decode cX0_forget 9 = .ok (.iadd, 1) := by decide +kernel
theorem dX0_forget_10 : decode cX0_forget 10 = .ok (.iconst 0, 1) := by decide +kernel
theorem dX0_forget_11 : decode cX0_forget 11 = .ok (.iastore, 1) := by decide +kernel
theorem dX0_forget_12 : decode cX0_forget 12 = .ok (.iload_n 2, 1) := by decide +kernel
theorem dX0_forget_13 : decode cX0_forget 13 = .ok (.istore_n 3, 1) := by decide +kernel
theorem dX0_forget_14 : decode cX0_forget 14 = .ok (.iload_n 3, 1) := by decide +kernel
theorem dX0_forget_15 : decode cX0_forget 15 = .ok (.bipush 32, 2) := by decide +kernel
theorem dX0_forget_17 : decode cX0_forget 17 = .ok (.if_icmp .ge 33, 3) := by decide +kernel
theorem dX0_forget_20 : decode cX0_forget 20 = .ok (.aload_n 0, 1) := by decide +kernel
theorem dX0_forget_21 : decode cX0_forget 21 = .ok (.getfield 13, 3) := by decide +kernel
theorem dX0_forget_24 : decode cX0_forget 24 = .ok (.bipush 32, 2) := by decide +kernel
theorem dX0_forget_26 : decode cX0_forget 26 = .ok (.iload_n 1, 1) := by decide +kernel
theorem dX0_forget_27 : decode cX0_forget 27 = .ok (.imul, 1) := by decide +kernel
theorem dX0_forget_28 : decode cX0_forget 28 = .ok (.iload_n 3, 1) := by decide +kernel
theorem dX0_forget_29 : decode cX0_forget 29 = .ok (.iadd, 1) := by decide +kernel
theorem dX0_forget_30 : decode cX0_forget 30 = .ok (.iconst 0, 1) := by decide +kernel
theorem dX0_forget_31 : decode cX0_forget 31 = .ok (.bastore, 1) := by decide +kernel
theorem dX0_forget_32 : decode cX0_forget 32 = .ok (.aload_n 0, 1) := by decide +kernel
theorem dX0_forget_33 : decode cX0_forget 33 = .ok (.getfield 7, 3) := by decide +kernel
theorem dX0_forget_36 : decode cX0_forget 36 = .ok (.bipush 32, 2) := by decide +kernel
theorem dX0_forget_38 : decode cX0_forget 38 = .ok (.iload_n 1, 1) := by decide +kernel
theorem dX0_forget_39 : decode cX0_forget 39 = .ok (.imul, 1) := by decide +kernel
theorem dX0_forget_40 : decode cX0_forget 40 = .ok (.iload_n 3, 1) := by decide +kernel
theorem dX0_forget_41 : decode cX0_forget 41 = .ok (.iadd, 1) := by decide +kernel
theorem dX0_forget_42 : decode cX0_forget 42 = .ok (.iconst 0, 1) := by decide +kernel
theorem dX0_forget_43 : decode cX0_forget 43 = .ok (.iastore, 1) := by decide +kernel
theorem dX0_forget_44 : decode cX0_forget 44 = .ok (.iinc 3 8, 3) := by decide +kernel
theorem dX0_forget_47 : decode cX0_forget 47 = .ok (.goto (-33), 3) := by decide +kernel
theorem dX0_forget_50 : decode cX0_forget 50 = .ok (.iconst 0, 1) := by decide +kernel
theorem dX0_forget_51 : decode cX0_forget 51 = .ok (.istore_n 3, 1) := by decide +kernel
theorem dX0_forget_52 : decode cX0_forget 52 = .ok (.iload_n 3, 1) := by decide +kernel
theorem dX0_forget_53 : decode cX0_forget 53 = .ok (.iconst 4, 1) := by decide +kernel
theorem dX0_forget_54 : decode cX0_forget 54 = .ok (.if_icmp .ge 25, 3) := by decide +kernel
theorem dX0_forget_57 : decode cX0_forget 57 = .ok (.aload_n 0, 1) := by decide +kernel
theorem dX0_forget_58 : decode cX0_forget 58 = .ok (.getfield 17, 3) := by decide +kernel
theorem dX0_forget_61 : decode cX0_forget 61 = .ok (.bipush 32, 2) := by decide +kernel
theorem dX0_forget_63 : decode cX0_forget 63 = .ok (.iload_n 1, 1) := by decide +kernel
theorem dX0_forget_64 : decode cX0_forget 64 = .ok (.imul, 1) := by decide +kernel
theorem dX0_forget_65 : decode cX0_forget 65 = .ok (.iconst 4, 1) := by decide +kernel
theorem dX0_forget_66 : decode cX0_forget 66 = .ok (.iload_n 2, 1) := by decide +kernel
theorem dX0_forget_67 : decode cX0_forget 67 = .ok (.imul, 1) := by decide +kernel
theorem dX0_forget_68 : decode cX0_forget 68 = .ok (.iadd, 1) := by decide +kernel
theorem dX0_forget_69 : decode cX0_forget 69 = .ok (.iload_n 3, 1) := by decide +kernel
theorem dX0_forget_70 : decode cX0_forget 70 = .ok (.iadd, 1) := by decide +kernel
theorem dX0_forget_71 : decode cX0_forget 71 = .ok (.iconst 0, 1) := by decide +kernel
theorem dX0_forget_72 : decode cX0_forget 72 = .ok (.bastore, 1) := by decide +kernel
theorem dX0_forget_73 : decode cX0_forget 73 = .ok (.iinc 3 1, 3) := by decide +kernel
theorem dX0_forget_76 : decode cX0_forget 76 = .ok (.goto (-24), 3) := by decide +kernel
theorem dX0_forget_79 : decode cX0_forget 79 = .ok (.return_, 1) := by decide +kernel
theorem dX0_pull_0 : decode cX0_pull 0 = .ok (.aload_n 0, 1) := by decide +kernel
theorem dX0_pull_1 : decode cX0_pull 1 = .ok (.getfield 65, 3) := by decide +kernel
theorem dX0_pull_4 : decode cX0_pull 4 = .ok (.iload_n 1, 1) := by decide +kernel
theorem dX0_pull_5 : decode cX0_pull 5 = .ok (.iaload, 1) := by decide +kernel
theorem dX0_pull_6 : decode cX0_pull 6 = .ok (.istore 4, 2) := by decide +kernel
theorem dX0_pull_8 : decode cX0_pull 8 = .ok (.iload 4, 2) := by decide +kernel
theorem dX0_pull_10 : decode cX0_pull 10 = .ok (.iconst 4, 1) := by decide +kernel
theorem dX0_pull_11 : decode cX0_pull 11 = .ok (.if_icmp .ge 54, 3) := by decide +kernel
theorem dX0_pull_14 : decode cX0_pull 14 = .ok (.iload_n 1, 1) := by decide +kernel
theorem dX0_pull_15 : decode cX0_pull 15 = .ok (.bipush 8, 2) := by decide +kernel
theorem dX0_pull_17 : decode cX0_pull 17 = .ok (.iload 4, 2) := by decide +kernel
theorem dX0_pull_19 : decode cX0_pull 19 = .ok (.imul, 1) := by decide +kernel
theorem dX0_pull_20 : decode cX0_pull 20 = .ok (.iadd, 1) := by decide +kernel
theorem dX0_pull_21 : decode cX0_pull 21 = .ok (.istore 5, 2) := by decide +kernel
theorem dX0_pull_23 : decode cX0_pull 23 = .ok (.bipush 32, 2) := by decide +kernel
theorem dX0_pull_25 : decode cX0_pull 25 = .ok (.iload_n 2, 1) := by decide +kernel
theorem dX0_pull_26 : decode cX0_pull 26 = .ok (.imul, 1) := by decide +kernel
theorem dX0_pull_27 : decode cX0_pull 27 = .ok (.iload 5, 2) := by decide +kernel
theorem dX0_pull_29 : decode cX0_pull 29 = .ok (.iadd, 1) := by decide +kernel
theorem dX0_pull_30 : decode cX0_pull 30 = .ok (.istore 6, 2) := by decide +kernel
theorem dX0_pull_32 : decode cX0_pull 32 = .ok (.aload_n 0, 1) := by decide +kernel
theorem dX0_pull_33 : decode cX0_pull 33 = .ok (.iload_n 3, 1) := by decide +kernel
theorem dX0_pull_34 : decode cX0_pull 34 = .ok (.iconst 0, 1) := by decide +kernel
theorem dX0_pull_35 : decode cX0_pull 35 = .ok (.iload 5, 2) := by decide +kernel
theorem dX0_pull_37 : decode cX0_pull 37 = .ok (.aload_n 0, 1) := by decide +kernel
theorem dX0_pull_38 : decode cX0_pull 38 = .ok (.getfield 7, 3) := by decide +kernel
theorem dX0_pull_41 : decode cX0_pull 41 = .ok (.iload 6, 2) := by decide +kernel
theorem dX0_pull_43 : decode cX0_pull 43 = .ok (.iaload, 1) := by decide +kernel
theorem dX0_pull_44 : decode cX0_pull 44 = .ok (.aload_n 0, 1) := by decide +kernel
theorem dX0_pull_45 : decode cX0_pull 45 = .ok (.getfield 13, 3) := by decide +kernel
theorem dX0_pull_48 : decode cX0_pull 48 = .ok (.iload 6, 2) := by decide +kernel
theorem dX0_pull_50 : decode cX0_pull 50 = .ok (.baload, 1) := by decide +kernel
theorem dX0_pull_51 : decode cX0_pull 51 = .ok (.ifCond .eq 7, 3) := by decide +kernel
theorem dX0_pull_54 : decode cX0_pull 54 = .ok (.iconst 1, 1) := by decide +kernel
theorem dX0_pull_55 : decode cX0_pull 55 = .ok (.goto 4, 3) := by decide +kernel
theorem dX0_pull_58 : decode cX0_pull 58 = .ok (.iconst 0, 1) := by decide +kernel
theorem dX0_pull_59 : decode cX0_pull 59 = .ok (.invokevirtual 82, 3) := by decide +kernel
theorem dX0_pull_62 : decode cX0_pull 62 = .ok (.goto 54, 3) := by decide +kernel
theorem dX0_pull_65 : decode cX0_pull 65 = .ok (.iconst 4, 1) := by decide +kernel
theorem dX0_pull_66 : decode cX0_pull 66 = .ok (.iload_n 1, 1) := by decide +kernel
theorem dX0_pull_67 : decode cX0_pull 67 = .ok (.imul, 1) := by decide +kernel
theorem dX0_pull_68 : decode cX0_pull 68 = .ok (.iload 4, 2) := by decide +kernel
theorem dX0_pull_70 : decode cX0_pull 70 = .ok (.iadd, 1) := by decide +kernel
theorem dX0_pull_71 : decode cX0_pull 71 = .ok (.iconst 4, 1) := by decide +kernel
theorem dX0_pull_72 : decode cX0_pull 72 = .ok (.isub, 1) := by decide +kernel
theorem dX0_pull_73 : decode cX0_pull 73 = .ok (.istore 5, 2) := by decide +kernel
theorem dX0_pull_75 : decode cX0_pull 75 = .ok (.bipush 32, 2) := by decide +kernel
theorem dX0_pull_77 : decode cX0_pull 77 = .ok (.iload_n 2, 1) := by decide +kernel
theorem dX0_pull_78 : decode cX0_pull 78 = .ok (.imul, 1) := by decide +kernel
theorem dX0_pull_79 : decode cX0_pull 79 = .ok (.iload 5, 2) := by decide +kernel
theorem dX0_pull_81 : decode cX0_pull 81 = .ok (.iadd, 1) := by decide +kernel
theorem dX0_pull_82 : decode cX0_pull 82 = .ok (.istore 6, 2) := by decide +kernel
theorem dX0_pull_84 : decode cX0_pull 84 = .ok (.aload_n 0, 1) := by decide +kernel
theorem dX0_pull_85 : decode cX0_pull 85 = .ok (.getfield 17, 3) := by decide +kernel
theorem dX0_pull_88 : decode cX0_pull 88 = .ok (.iload 6, 2) := by decide +kernel
theorem dX0_pull_90 : decode cX0_pull 90 = .ok (.baload, 1) := by decide +kernel
theorem dX0_pull_91 : decode cX0_pull 91 = .ok (.ifCond .eq 25, 3) := by decide +kernel
theorem dX0_pull_94 : decode cX0_pull 94 = .ok (.aload_n 0, 1) := by decide +kernel
theorem dX0_pull_95 : decode cX0_pull 95 = .ok (.iload_n 3, 1) := by decide +kernel
theorem dX0_pull_96 : decode cX0_pull 96 = .ok (.iconst 1, 1) := by decide +kernel
theorem dX0_pull_97 : decode cX0_pull 97 = .ok (.iload 5, 2) := by decide +kernel
theorem dX0_pull_99 : decode cX0_pull 99 = .ok (.aload_n 0, 1) := by decide +kernel
theorem dX0_pull_100 : decode cX0_pull 100 = .ok (.getfield 20, 3) := by decide +kernel
theorem dX0_pull_103 : decode cX0_pull 103 = .ok (.iload 6, 2) := by decide +kernel
theorem dX0_pull_105 : decode cX0_pull 105 = .ok (.iaload, 1) := by decide +kernel
theorem dX0_pull_106 : decode cX0_pull 106 = .ok (.aload_n 0, 1) := by decide +kernel
theorem dX0_pull_107 : decode cX0_pull 107 = .ok (.getfield 23, 3) := by decide +kernel
theorem dX0_pull_110 : decode cX0_pull 110 = .ok (.iload 6, 2) := by decide +kernel
theorem dX0_pull_112 : decode cX0_pull 112 = .ok (.iaload, 1) := by decide +kernel
theorem dX0_pull_113 : decode cX0_pull 113 = .ok (.invokevirtual 82, 3) := by decide +kernel
theorem dX0_pull_116 : decode cX0_pull 116 = .ok (.return_, 1) := by decide +kernel
theorem dX0_valueAt_0 : decode cX0_valueAt 0 = .ok (.aload_n 0, 1) := by decide +kernel
theorem dX0_valueAt_1 : decode cX0_valueAt 1 = .ok (.getfield 13, 3) := by decide +kernel
theorem dX0_valueAt_4 : decode cX0_valueAt 4 = .ok (.bipush 32, 2) := by decide +kernel
theorem dX0_valueAt_6 : decode cX0_valueAt 6 = .ok (.iload_n 1, 1) := by decide +kernel
theorem dX0_valueAt_7 : decode cX0_valueAt 7 = .ok (.imul, 1) := by decide +kernel
theorem dX0_valueAt_8 : decode cX0_valueAt 8 = .ok (.iload_n 2, 1) := by decide +kernel
theorem dX0_valueAt_9 : decode cX0_valueAt 9 = .ok (.iadd, 1) := by decide +kernel
theorem dX0_valueAt_10 : decode cX0_valueAt 10 = .ok (.baload, 1) := by decide +kernel
theorem dX0_valueAt_11 : decode cX0_valueAt 11 = .ok (.ifCond .eq 17, 3) := by decide +kernel
theorem dX0_valueAt_14 : decode cX0_valueAt 14 = .ok (.aload_n 0, 1) := by decide +kernel
theorem dX0_valueAt_15 : decode cX0_valueAt 15 = .ok (.getfield 7, 3) := by decide +kernel
theorem dX0_valueAt_18 : decode cX0_valueAt 18 = .ok (.bipush 32, 2) := by decide +kernel
theorem dX0_valueAt_20 : decode cX0_valueAt 20 = .ok (.iload_n 1, 1) := by decide +kernel
theorem dX0_valueAt_21 : decode cX0_valueAt 21 = .ok (.imul, 1) := by decide +kernel
theorem dX0_valueAt_22 : decode cX0_valueAt 22 = .ok (.iload_n 2, 1) := by decide +kernel
theorem dX0_valueAt_23 : decode cX0_valueAt 23 = .ok (.iadd, 1) := by decide +kernel
theorem dX0_valueAt_24 : decode cX0_valueAt 24 = .ok (.iaload, 1) := by decide +kernel
theorem dX0_valueAt_25 : decode cX0_valueAt 25 = .ok (.goto 4, 3) := by decide +kernel
theorem dX0_valueAt_28 : decode cX0_valueAt 28 = .ok (.iconst 0, 1) := by decide +kernel
theorem dX0_valueAt_29 : decode cX0_valueAt 29 = .ok (.ireturn, 1) := by decide +kernel
theorem dX0_addTo_0 : decode cX0_addTo 0 = .ok (.iload_n 1, 1) := by decide +kernel
theorem dX0_addTo_1 : decode cX0_addTo 1 = .ok (.iload_n 3, 1) := by decide +kernel
theorem dX0_addTo_2 : decode cX0_addTo 2 = .ok (.invokestatic 71, 3) := by decide +kernel
theorem dX0_addTo_5 : decode cX0_addTo 5 = .ok (.ifCond .ne 6, 3) := by decide +kernel
theorem dX0_addTo_8 : decode cX0_addTo 8 = .ok (.bipush (-2), 2) := by decide +kernel
theorem dX0_addTo_10 : decode cX0_addTo 10 = .ok (.ireturn, 1) := by decide +kernel
theorem dX0_addTo_11 : decode cX0_addTo 11 = .ok (.aload_n 0, 1) := by decide +kernel
theorem dX0_addTo_12 : decode cX0_addTo 12 = .ok (.iload_n 1, 1) := by decide +kernel
theorem dX0_addTo_13 : decode cX0_addTo 13 = .ok (.iload_n 3, 1) := by decide +kernel
theorem dX0_addTo_14 : decode cX0_addTo 14 = .ok (.bipush 7, 2) := by decide +kernel
theorem dX0_addTo_16 : decode cX0_addTo 16 = .ok (.iand, 1) := by decide +kernel
theorem dX0_addTo_17 : decode cX0_addTo 17 = .ok (.invokevirtual 75, 3) := by decide +kernel
theorem dX0_addTo_20 : decode cX0_addTo 20 = .ok (.istore 5, 2) := by decide +kernel
theorem dX0_addTo_22 : decode cX0_addTo 22 = .ok (.bipush 32, 2) := by decide +kernel
theorem dX0_addTo_24 : decode cX0_addTo 24 = .ok (.iload 5, 2) := by decide +kernel
theorem dX0_addTo_26 : decode cX0_addTo 26 = .ok (.imul, 1) := by decide +kernel
theorem dX0_addTo_27 : decode cX0_addTo 27 = .ok (.iconst 4, 1) := by decide +kernel
theorem dX0_addTo_28 : decode cX0_addTo 28 = .ok (.iload_n 3, 1) := by decide +kernel
theorem dX0_addTo_29 : decode cX0_addTo 29 = .ok (.bipush 7, 2) := by decide +kernel
theorem dX0_addTo_31 : decode cX0_addTo 31 = .ok (.iand, 1) := by decide +kernel
theorem dX0_addTo_32 : decode cX0_addTo 32 = .ok (.imul, 1) := by decide +kernel
theorem dX0_addTo_33 : decode cX0_addTo 33 = .ok (.iadd, 1) := by decide +kernel
theorem dX0_addTo_34 : decode cX0_addTo 34 = .ok (.iload_n 1, 1) := by decide +kernel
theorem dX0_addTo_35 : decode cX0_addTo 35 = .ok (.iadd, 1) := by decide +kernel
theorem dX0_addTo_36 : decode cX0_addTo 36 = .ok (.istore 6, 2) := by decide +kernel
theorem dX0_addTo_38 : decode cX0_addTo 38 = .ok (.aload_n 0, 1) := by decide +kernel
theorem dX0_addTo_39 : decode cX0_addTo 39 = .ok (.getfield 17, 3) := by decide +kernel
theorem dX0_addTo_42 : decode cX0_addTo 42 = .ok (.iload 6, 2) := by decide +kernel
theorem dX0_addTo_44 : decode cX0_addTo 44 = .ok (.baload, 1) := by decide +kernel
theorem dX0_addTo_45 : decode cX0_addTo 45 = .ok (.ifCond .eq 37, 3) := by decide +kernel
theorem dX0_addTo_48 : decode cX0_addTo 48 = .ok (.iload_n 2, 1) := by decide +kernel
theorem dX0_addTo_49 : decode cX0_addTo 49 = .ok (.aload_n 0, 1) := by decide +kernel
theorem dX0_addTo_50 : decode cX0_addTo 50 = .ok (.getfield 20, 3) := by decide +kernel
theorem dX0_addTo_53 : decode cX0_addTo 53 = .ok (.iload 6, 2) := by decide +kernel
theorem dX0_addTo_55 : decode cX0_addTo 55 = .ok (.iaload, 1) := by decide +kernel
theorem dX0_addTo_56 : decode cX0_addTo 56 = .ok (.if_icmp .gt 26, 3) := by decide +kernel
theorem dX0_addTo_59 : decode cX0_addTo 59 = .ok (.iload_n 2, 1) := by decide +kernel
theorem dX0_addTo_60 : decode cX0_addTo 60 = .ok (.aload_n 0, 1) := by decide +kernel
theorem dX0_addTo_61 : decode cX0_addTo 61 = .ok (.getfield 20, 3) := by decide +kernel
theorem dX0_addTo_64 : decode cX0_addTo 64 = .ok (.iload 6, 2) := by decide +kernel
theorem dX0_addTo_66 : decode cX0_addTo 66 = .ok (.iaload, 1) := by decide +kernel
theorem dX0_addTo_67 : decode cX0_addTo 67 = .ok (.if_icmp .ne 13, 3) := by decide +kernel
theorem dX0_addTo_70 : decode cX0_addTo 70 = .ok (.aload_n 0, 1) := by decide +kernel
theorem dX0_addTo_71 : decode cX0_addTo 71 = .ok (.getfield 23, 3) := by decide +kernel
theorem dX0_addTo_74 : decode cX0_addTo 74 = .ok (.iload 6, 2) := by decide +kernel
theorem dX0_addTo_76 : decode cX0_addTo 76 = .ok (.iaload, 1) := by decide +kernel
theorem dX0_addTo_77 : decode cX0_addTo 77 = .ok (.goto 4, 3) := by decide +kernel
theorem dX0_addTo_80 : decode cX0_addTo 80 = .ok (.iconst (-1), 1) := by decide +kernel
theorem dX0_addTo_81 : decode cX0_addTo 81 = .ok (.ireturn, 1) := by decide +kernel
theorem dX0_addTo_82 : decode cX0_addTo 82 = .ok (.aload_n 0, 1) := by decide +kernel
theorem dX0_addTo_83 : decode cX0_addTo 83 = .ok (.iload 5, 2) := by decide +kernel
theorem dX0_addTo_85 : decode cX0_addTo 85 = .ok (.iload_n 3, 1) := by decide +kernel
theorem dX0_addTo_86 : decode cX0_addTo 86 = .ok (.invokevirtual 79, 3) := by decide +kernel
theorem dX0_addTo_89 : decode cX0_addTo 89 = .ok (.iload 4, 2) := by decide +kernel
theorem dX0_addTo_91 : decode cX0_addTo 91 = .ok (.iadd, 1) := by decide +kernel
theorem dX0_addTo_92 : decode cX0_addTo 92 = .ok (.istore 7, 2) := by decide +kernel
theorem dX0_addTo_94 : decode cX0_addTo 94 = .ok (.aload_n 0, 1) := by decide +kernel
theorem dX0_addTo_95 : decode cX0_addTo 95 = .ok (.iload 5, 2) := by decide +kernel
theorem dX0_addTo_97 : decode cX0_addTo 97 = .ok (.iconst 0, 1) := by decide +kernel
theorem dX0_addTo_98 : decode cX0_addTo 98 = .ok (.iload_n 3, 1) := by decide +kernel
theorem dX0_addTo_99 : decode cX0_addTo 99 = .ok (.iload 7, 2) := by decide +kernel
theorem dX0_addTo_101 : decode cX0_addTo 101 = .ok (.iconst 1, 1) := by decide +kernel
theorem dX0_addTo_102 : decode cX0_addTo 102 = .ok (.invokevirtual 82, 3) := by decide +kernel
theorem dX0_addTo_105 : decode cX0_addTo 105 = .ok (.aload_n 0, 1) := by decide +kernel
end
section
set_option maxRecDepth 100000
theorem dX0_addTo_106 : decode cX0_addTo 106 = .ok (.iload 5, 2) := by decide +kernel
theorem dX0_addTo_108 : decode cX0_addTo 108 = .ok (.iconst 1, 1) := by decide +kernel
theorem dX0_addTo_109 : decode cX0_addTo 109 = .ok (.iconst 4, 1) := by decide +kernel
theorem dX0_addTo_110 : decode cX0_addTo 110 = .ok (.iload_n 3, 1) := by decide +kernel
theorem dX0_addTo_111 : decode cX0_addTo 111 = .ok (.bipush 7, 2) := by decide +kernel
theorem dX0_addTo_113 : decode cX0_addTo 113 = .ok (.iand, 1) := by decide +kernel
theorem dX0_addTo_114 : decode cX0_addTo 114 = .ok (.imul, 1) := by decide +kernel
theorem dX0_addTo_115 : decode cX0_addTo 115 = .ok (.iload_n 1, 1) := by decide +kernel
theorem dX0_addTo_116 : decode cX0_addTo 116 = .ok (.iadd, 1) := by decide +kernel
theorem dX0_addTo_117 : decode cX0_addTo 117 = .ok (.iload_n 2, 1) := by decide +kernel
theorem dX0_addTo_118 : decode cX0_addTo 118 = .ok (.iload 7, 2) := by decide +kernel
theorem dX0_addTo_120 : decode cX0_addTo 120 = .ok (.invokevirtual 82, 3) := by decide +kernel
theorem dX0_addTo_123 : decode cX0_addTo 123 = .ok (.iload 7, 2) := by decide +kernel
theorem dX0_addTo_125 : decode cX0_addTo 125 = .ok (.ireturn, 1) := by decide +kernel
theorem dX0_remove_0 : decode cX0_remove 0 = .ok (.iload_n 1, 1) := by decide +kernel
theorem dX0_remove_1 : decode cX0_remove 1 = .ok (.iload_n 3, 1) := by decide +kernel
theorem dX0_remove_2 : decode cX0_remove 2 = .ok (.invokestatic 71, 3) := by decide +kernel
theorem dX0_remove_5 : decode cX0_remove 5 = .ok (.ifCond .ne 6, 3) := by decide +kernel
theorem dX0_remove_8 : decode cX0_remove 8 = .ok (.bipush (-2), 2) := by decide +kernel
theorem dX0_remove_10 : decode cX0_remove 10 = .ok (.ireturn, 1) := by decide +kernel
theorem dX0_remove_11 : decode cX0_remove 11 = .ok (.aload_n 0, 1) := by decide +kernel
theorem dX0_remove_12 : decode cX0_remove 12 = .ok (.iload_n 1, 1) := by decide +kernel
theorem dX0_remove_13 : decode cX0_remove 13 = .ok (.iload_n 3, 1) := by decide +kernel
theorem dX0_remove_14 : decode cX0_remove 14 = .ok (.bipush 7, 2) := by decide +kernel
theorem dX0_remove_16 : decode cX0_remove 16 = .ok (.iand, 1) := by decide +kernel
theorem dX0_remove_17 : decode cX0_remove 17 = .ok (.invokevirtual 75, 3) := by decide +kernel
theorem dX0_remove_20 : decode cX0_remove 20 = .ok (.istore 4, 2) := by decide +kernel
theorem dX0_remove_22 : decode cX0_remove 22 = .ok (.bipush 32, 2) := by decide +kernel
theorem dX0_remove_24 : decode cX0_remove 24 = .ok (.iload 4, 2) := by decide +kernel
theorem dX0_remove_26 : decode cX0_remove 26 = .ok (.imul, 1) := by decide +kernel
theorem dX0_remove_27 : decode cX0_remove 27 = .ok (.iconst 4, 1) := by decide +kernel
theorem dX0_remove_28 : decode cX0_remove 28 = .ok (.iload_n 3, 1) := by decide +kernel
theorem dX0_remove_29 : decode cX0_remove 29 = .ok (.bipush 7, 2) := by decide +kernel
theorem dX0_remove_31 : decode cX0_remove 31 = .ok (.iand, 1) := by decide +kernel
theorem dX0_remove_32 : decode cX0_remove 32 = .ok (.imul, 1) := by decide +kernel
theorem dX0_remove_33 : decode cX0_remove 33 = .ok (.iadd, 1) := by decide +kernel
theorem dX0_remove_34 : decode cX0_remove 34 = .ok (.iload_n 1, 1) := by decide +kernel
theorem dX0_remove_35 : decode cX0_remove 35 = .ok (.iadd, 1) := by decide +kernel
theorem dX0_remove_36 : decode cX0_remove 36 = .ok (.istore 5, 2) := by decide +kernel
theorem dX0_remove_38 : decode cX0_remove 38 = .ok (.aload_n 0, 1) := by decide +kernel
theorem dX0_remove_39 : decode cX0_remove 39 = .ok (.getfield 17, 3) := by decide +kernel
theorem dX0_remove_42 : decode cX0_remove 42 = .ok (.iload 5, 2) := by decide +kernel
theorem dX0_remove_44 : decode cX0_remove 44 = .ok (.baload, 1) := by decide +kernel
theorem dX0_remove_45 : decode cX0_remove 45 = .ok (.ifCond .eq 37, 3) := by decide +kernel
theorem dX0_remove_48 : decode cX0_remove 48 = .ok (.iload_n 2, 1) := by decide +kernel
theorem dX0_remove_49 : decode cX0_remove 49 = .ok (.aload_n 0, 1) := by decide +kernel
theorem dX0_remove_50 : decode cX0_remove 50 = .ok (.getfield 20, 3) := by decide +kernel
theorem dX0_remove_53 : decode cX0_remove 53 = .ok (.iload 5, 2) := by decide +kernel
theorem dX0_remove_55 : decode cX0_remove 55 = .ok (.iaload, 1) := by decide +kernel
theorem dX0_remove_56 : decode cX0_remove 56 = .ok (.if_icmp .gt 26, 3) := by decide +kernel
theorem dX0_remove_59 : decode cX0_remove 59 = .ok (.iload_n 2, 1) := by decide +kernel
theorem dX0_remove_60 : decode cX0_remove 60 = .ok (.aload_n 0, 1) := by decide +kernel
theorem dX0_remove_61 : decode cX0_remove 61 = .ok (.getfield 20, 3) := by decide +kernel
theorem dX0_remove_64 : decode cX0_remove 64 = .ok (.iload 5, 2) := by decide +kernel
theorem dX0_remove_66 : decode cX0_remove 66 = .ok (.iaload, 1) := by decide +kernel
theorem dX0_remove_67 : decode cX0_remove 67 = .ok (.if_icmp .ne 13, 3) := by decide +kernel
theorem dX0_remove_70 : decode cX0_remove 70 = .ok (.aload_n 0, 1) := by decide +kernel
theorem dX0_remove_71 : decode cX0_remove 71 = .ok (.getfield 23, 3) := by decide +kernel
theorem dX0_remove_74 : decode cX0_remove 74 = .ok (.iload 5, 2) := by decide +kernel
theorem dX0_remove_76 : decode cX0_remove 76 = .ok (.iaload, 1) := by decide +kernel
theorem dX0_remove_77 : decode cX0_remove 77 = .ok (.goto 4, 3) := by decide +kernel
theorem dX0_remove_80 : decode cX0_remove 80 = .ok (.iconst (-1), 1) := by decide +kernel
theorem dX0_remove_81 : decode cX0_remove 81 = .ok (.ireturn, 1) := by decide +kernel
theorem dX0_remove_82 : decode cX0_remove 82 = .ok (.aload_n 0, 1) := by decide +kernel
theorem dX0_remove_83 : decode cX0_remove 83 = .ok (.iload 4, 2) := by decide +kernel
theorem dX0_remove_85 : decode cX0_remove 85 = .ok (.iload_n 3, 1) := by decide +kernel
theorem dX0_remove_86 : decode cX0_remove 86 = .ok (.invokevirtual 79, 3) := by decide +kernel
theorem dX0_remove_89 : decode cX0_remove 89 = .ok (.istore 6, 2) := by decide +kernel
theorem dX0_remove_91 : decode cX0_remove 91 = .ok (.aload_n 0, 1) := by decide +kernel
theorem dX0_remove_92 : decode cX0_remove 92 = .ok (.iload 4, 2) := by decide +kernel
theorem dX0_remove_94 : decode cX0_remove 94 = .ok (.iconst 0, 1) := by decide +kernel
theorem dX0_remove_95 : decode cX0_remove 95 = .ok (.iload_n 3, 1) := by decide +kernel
theorem dX0_remove_96 : decode cX0_remove 96 = .ok (.iconst 0, 1) := by decide +kernel
theorem dX0_remove_97 : decode cX0_remove 97 = .ok (.iconst 0, 1) := by decide +kernel
theorem dX0_remove_98 : decode cX0_remove 98 = .ok (.invokevirtual 82, 3) := by decide +kernel
theorem dX0_remove_101 : decode cX0_remove 101 = .ok (.aload_n 0, 1) := by decide +kernel
theorem dX0_remove_102 : decode cX0_remove 102 = .ok (.iload 4, 2) := by decide +kernel
theorem dX0_remove_104 : decode cX0_remove 104 = .ok (.iconst 1, 1) := by decide +kernel
theorem dX0_remove_105 : decode cX0_remove 105 = .ok (.iconst 4, 1) := by decide +kernel
theorem dX0_remove_106 : decode cX0_remove 106 = .ok (.iload_n 3, 1) := by decide +kernel
theorem dX0_remove_107 : decode cX0_remove 107 = .ok (.bipush 7, 2) := by decide +kernel
theorem dX0_remove_109 : decode cX0_remove 109 = .ok (.iand, 1) := by decide +kernel
theorem dX0_remove_110 : decode cX0_remove 110 = .ok (.imul, 1) := by decide +kernel
theorem dX0_remove_111 : decode cX0_remove 111 = .ok (.iload_n 1, 1) := by decide +kernel
theorem dX0_remove_112 : decode cX0_remove 112 = .ok (.iadd, 1) := by decide +kernel
theorem dX0_remove_113 : decode cX0_remove 113 = .ok (.iload_n 2, 1) := by decide +kernel
theorem dX0_remove_114 : decode cX0_remove 114 = .ok (.iload 6, 2) := by decide +kernel
theorem dX0_remove_116 : decode cX0_remove 116 = .ok (.invokevirtual 82, 3) := by decide +kernel
theorem dX0_remove_119 : decode cX0_remove 119 = .ok (.iload 6, 2) := by decide +kernel
theorem dX0_remove_121 : decode cX0_remove 121 = .ok (.ireturn, 1) := by decide +kernel
theorem dX0_get_0 : decode cX0_get 0 = .ok (.iload_n 1, 1) := by decide +kernel
theorem dX0_get_1 : decode cX0_get 1 = .ok (.ifCond .lt 9, 3) := by decide +kernel
theorem dX0_get_4 : decode cX0_get 4 = .ok (.iload_n 1, 1) := by decide +kernel
theorem dX0_get_5 : decode cX0_get 5 = .ok (.bipush 31, 2) := by decide +kernel
theorem dX0_get_7 : decode cX0_get 7 = .ok (.if_icmp .le 5, 3) := by decide +kernel
theorem dX0_get_10 : decode cX0_get 10 = .ok (.iconst 0, 1) := by decide +kernel
theorem dX0_get_11 : decode cX0_get 11 = .ok (.ireturn, 1) := by decide +kernel
theorem dX0_get_12 : decode cX0_get 12 = .ok (.aload_n 0, 1) := by decide +kernel
theorem dX0_get_13 : decode cX0_get 13 = .ok (.iload_n 1, 1) := by decide +kernel
theorem dX0_get_14 : decode cX0_get 14 = .ok (.bipush 7, 2) := by decide +kernel
theorem dX0_get_16 : decode cX0_get 16 = .ok (.iand, 1) := by decide +kernel
theorem dX0_get_17 : decode cX0_get 17 = .ok (.invokevirtual 86, 3) := by decide +kernel
theorem dX0_get_20 : decode cX0_get 20 = .ok (.istore_n 2, 1) := by decide +kernel
theorem dX0_get_21 : decode cX0_get 21 = .ok (.aload_n 0, 1) := by decide +kernel
theorem dX0_get_22 : decode cX0_get 22 = .ok (.iload_n 2, 1) := by decide +kernel
theorem dX0_get_23 : decode cX0_get 23 = .ok (.iload_n 1, 1) := by decide +kernel
theorem dX0_get_24 : decode cX0_get 24 = .ok (.invokevirtual 79, 3) := by decide +kernel
theorem dX0_get_27 : decode cX0_get 27 = .ok (.ireturn, 1) := by decide +kernel
theorem dX0_holder_0 : decode cX0_holder 0 = .ok (.aload_n 0, 1) := by decide +kernel
theorem dX0_holder_1 : decode cX0_holder 1 = .ok (.iload_n 1, 1) := by decide +kernel
theorem dX0_holder_2 : decode cX0_holder 2 = .ok (.iconst 1, 1) := by decide +kernel
theorem dX0_holder_3 : decode cX0_holder 3 = .ok (.invokevirtual 101, 3) := by decide +kernel
theorem dX0_holder_6 : decode cX0_holder 6 = .ok (.istore_n 2, 1) := by decide +kernel
theorem dX0_holder_7 : decode cX0_holder 7 = .ok (.iload_n 2, 1) := by decide +kernel
theorem dX0_holder_8 : decode cX0_holder 8 = .ok (.ifCond .ge 10, 3) := by decide +kernel
theorem dX0_holder_11 : decode cX0_holder 11 = .ok (.aload_n 0, 1) := by decide +kernel
theorem dX0_holder_12 : decode cX0_holder 12 = .ok (.iload_n 1, 1) := by decide +kernel
theorem dX0_holder_13 : decode cX0_holder 13 = .ok (.iconst 2, 1) := by decide +kernel
theorem dX0_holder_14 : decode cX0_holder 14 = .ok (.invokevirtual 101, 3) := by decide +kernel
theorem dX0_holder_17 : decode cX0_holder 17 = .ok (.istore_n 2, 1) := by decide +kernel
theorem dX0_holder_18 : decode cX0_holder 18 = .ok (.iload_n 2, 1) := by decide +kernel
theorem dX0_holder_19 : decode cX0_holder 19 = .ok (.ifCond .ge 7, 3) := by decide +kernel
theorem dX0_holder_22 : decode cX0_holder 22 = .ok (.iconst 0, 1) := by decide +kernel
theorem dX0_holder_23 : decode cX0_holder 23 = .ok (.goto 4, 3) := by decide +kernel
theorem dX0_holder_26 : decode cX0_holder 26 = .ok (.iload_n 2, 1) := by decide +kernel
theorem dX0_holder_27 : decode cX0_holder 27 = .ok (.ireturn, 1) := by decide +kernel
theorem dX0_has_0 : decode cX0_has 0 = .ok (.iload_n 1, 1) := by decide +kernel
theorem dX0_has_1 : decode cX0_has 1 = .ok (.ifCond .lt 9, 3) := by decide +kernel
theorem dX0_has_4 : decode cX0_has 4 = .ok (.iload_n 1, 1) := by decide +kernel
theorem dX0_has_5 : decode cX0_has 5 = .ok (.bipush 31, 2) := by decide +kernel
theorem dX0_has_7 : decode cX0_has 7 = .ok (.if_icmp .le 5, 3) := by decide +kernel
theorem dX0_has_10 : decode cX0_has 10 = .ok (.iconst 0, 1) := by decide +kernel
theorem dX0_has_11 : decode cX0_has 11 = .ok (.ireturn, 1) := by decide +kernel
theorem dX0_has_12 : decode cX0_has 12 = .ok (.aload_n 0, 1) := by decide +kernel
theorem dX0_has_13 : decode cX0_has 13 = .ok (.iload_n 1, 1) := by decide +kernel
theorem dX0_has_14 : decode cX0_has 14 = .ok (.bipush 7, 2) := by decide +kernel
theorem dX0_has_16 : decode cX0_has 16 = .ok (.iand, 1) := by decide +kernel
theorem dX0_has_17 : decode cX0_has 17 = .ok (.invokevirtual 86, 3) := by decide +kernel
theorem dX0_has_20 : decode cX0_has 20 = .ok (.istore_n 2, 1) := by decide +kernel
theorem dX0_has_21 : decode cX0_has 21 = .ok (.aload_n 0, 1) := by decide +kernel
theorem dX0_has_22 : decode cX0_has 22 = .ok (.getfield 13, 3) := by decide +kernel
theorem dX0_has_25 : decode cX0_has 25 = .ok (.bipush 32, 2) := by decide +kernel
theorem dX0_has_27 : decode cX0_has 27 = .ok (.iload_n 2, 1) := by decide +kernel
theorem dX0_has_28 : decode cX0_has 28 = .ok (.imul, 1) := by decide +kernel
theorem dX0_has_29 : decode cX0_has 29 = .ok (.iload_n 1, 1) := by decide +kernel
theorem dX0_has_30 : decode cX0_has 30 = .ok (.iadd, 1) := by decide +kernel
theorem dX0_has_31 : decode cX0_has 31 = .ok (.baload, 1) := by decide +kernel
theorem dX0_has_32 : decode cX0_has 32 = .ok (.ireturn, 1) := by decide +kernel
theorem dX0_size_0 : decode cX0_size 0 = .ok (.iload_n 1, 1) := by decide +kernel
theorem dX0_size_1 : decode cX0_size 1 = .ok (.bipush 7, 2) := by decide +kernel
theorem dX0_size_3 : decode cX0_size 3 = .ok (.iand, 1) := by decide +kernel
theorem dX0_size_4 : decode cX0_size 4 = .ok (.istore_n 2, 1) := by decide +kernel
theorem dX0_size_5 : decode cX0_size 5 = .ok (.aload_n 0, 1) := by decide +kernel
theorem dX0_size_6 : decode cX0_size 6 = .ok (.iload_n 2, 1) := by decide +kernel
theorem dX0_size_7 : decode cX0_size 7 = .ok (.invokevirtual 86, 3) := by decide +kernel
theorem dX0_size_10 : decode cX0_size 10 = .ok (.istore_n 3, 1) := by decide +kernel
theorem dX0_size_11 : decode cX0_size 11 = .ok (.iconst 0, 1) := by decide +kernel
theorem dX0_size_12 : decode cX0_size 12 = .ok (.istore 4, 2) := by decide +kernel
theorem dX0_size_14 : decode cX0_size 14 = .ok (.iload_n 2, 1) := by decide +kernel
theorem dX0_size_15 : decode cX0_size 15 = .ok (.istore 5, 2) := by decide +kernel
theorem dX0_size_17 : decode cX0_size 17 = .ok (.iload 5, 2) := by decide +kernel
theorem dX0_size_19 : decode cX0_size 19 = .ok (.bipush 32, 2) := by decide +kernel
theorem dX0_size_21 : decode cX0_size 21 = .ok (.if_icmp .ge 27, 3) := by decide +kernel
theorem dX0_size_24 : decode cX0_size 24 = .ok (.aload_n 0, 1) := by decide +kernel
theorem dX0_size_25 : decode cX0_size 25 = .ok (.getfield 13, 3) := by decide +kernel
theorem dX0_size_28 : decode cX0_size 28 = .ok (.bipush 32, 2) := by decide +kernel
theorem dX0_size_30 : decode cX0_size 30 = .ok (.iload_n 3, 1) := by decide +kernel
theorem dX0_size_31 : decode cX0_size 31 = .ok (.imul, 1) := by decide +kernel
theorem dX0_size_32 : decode cX0_size 32 = .ok (.iload 5, 2) := by decide +kernel
theorem dX0_size_34 : decode cX0_size 34 = .ok (.iadd, 1) := by decide +kernel
theorem dX0_size_35 : decode cX0_size 35 = .ok (.baload, 1) := by decide +kernel
theorem dX0_size_36 : decode cX0_size 36 = .ok (.ifCond .eq 6, 3) := by decide +kernel
theorem dX0_size_39 : decode cX0_size 39 = .ok (.iinc 4 1, 3) := by decide +kernel
theorem dX0_size_42 : decode cX0_size 42 = .ok (.iinc 5 8, 3) := by decide +kernel
theorem dX0_size_45 : decode cX0_size 45 = .ok (.goto (-28), 3) := by decide +kernel
theorem dX0_size_48 : decode cX0_size 48 = .ok (.iload 4, 2) := by decide +kernel
theorem dX0_size_50 : decode cX0_size 50 = .ok (.ireturn, 1) := by decide +kernel
theorem dX0_lastFrom_0 : decode cX0_lastFrom 0 = .ok (.bipush 31, 2) := by decide +kernel
theorem dX0_lastFrom_2 : decode cX0_lastFrom 2 = .ok (.istore_n 2, 1) := by decide +kernel
theorem dX0_lastFrom_3 : decode cX0_lastFrom 3 = .ok (.iload_n 2, 1) := by decide +kernel
theorem dX0_lastFrom_4 : decode cX0_lastFrom 4 = .ok (.ifCond .lt 49, 3) := by decide +kernel
theorem dX0_lastFrom_7 : decode cX0_lastFrom 7 = .ok (.aload_n 0, 1) := by decide +kernel
theorem dX0_lastFrom_8 : decode cX0_lastFrom 8 = .ok (.iload_n 2, 1) := by decide +kernel
theorem dX0_lastFrom_9 : decode cX0_lastFrom 9 = .ok (.bipush 7, 2) := by decide +kernel
theorem dX0_lastFrom_11 : decode cX0_lastFrom 11 = .ok (.iand, 1) := by decide +kernel
theorem dX0_lastFrom_12 : decode cX0_lastFrom 12 = .ok (.invokevirtual 86, 3) := by decide +kernel
theorem dX0_lastFrom_15 : decode cX0_lastFrom 15 = .ok (.istore_n 3, 1) := by decide +kernel
theorem dX0_lastFrom_16 : decode cX0_lastFrom 16 = .ok (.aload_n 0, 1) := by decide +kernel
theorem dX0_lastFrom_17 : decode cX0_lastFrom 17 = .ok (.getfield 13, 3) := by decide +kernel
theorem dX0_lastFrom_20 : decode cX0_lastFrom 20 = .ok (.bipush 32, 2) := by decide +kernel
theorem dX0_lastFrom_22 : decode cX0_lastFrom 22 = .ok (.iload_n 3, 1) := by decide +kernel
theorem dX0_lastFrom_23 : decode cX0_lastFrom 23 = .ok (.imul, 1) := by decide +kernel
theorem dX0_lastFrom_24 : decode cX0_lastFrom 24 = .ok (.iload_n 2, 1) := by decide +kernel
theorem dX0_lastFrom_25 : decode cX0_lastFrom 25 = .ok (.iadd, 1) := by decide +kernel
theorem dX0_lastFrom_26 : decode cX0_lastFrom 26 = .ok (.baload, 1) := by decide +kernel
theorem dX0_lastFrom_27 : decode cX0_lastFrom 27 = .ok (.ifCond .eq 20, 3) := by decide +kernel
theorem dX0_lastFrom_30 : decode cX0_lastFrom 30 = .ok (.aload_n 0, 1) := by decide +kernel
theorem dX0_lastFrom_31 : decode cX0_lastFrom 31 = .ok (.getfield 7, 3) := by decide +kernel
theorem dX0_lastFrom_34 : decode cX0_lastFrom 34 = .ok (.bipush 32, 2) := by decide +kernel
theorem dX0_lastFrom_36 : decode cX0_lastFrom 36 = .ok (.iload_n 3, 1) := by decide +kernel
theorem dX0_lastFrom_37 : decode cX0_lastFrom 37 = .ok (.imul, 1) := by decide +kernel
theorem dX0_lastFrom_38 : decode cX0_lastFrom 38 = .ok (.iload_n 2, 1) := by decide +kernel
theorem dX0_lastFrom_39 : decode cX0_lastFrom 39 = .ok (.iadd, 1) := by decide +kernel
theorem dX0_lastFrom_40 : decode cX0_lastFrom 40 = .ok (.iaload, 1) := by decide +kernel
theorem dX0_lastFrom_41 : decode cX0_lastFrom 41 = .ok (.iload_n 1, 1) := by decide +kernel
theorem dX0_lastFrom_42 : decode cX0_lastFrom 42 = .ok (.if_icmp .lt 5, 3) := by decide +kernel
theorem dX0_lastFrom_45 : decode cX0_lastFrom 45 = .ok (.iload_n 2, 1) := by decide +kernel
theorem dX0_lastFrom_46 : decode cX0_lastFrom 46 = .ok (.ireturn, 1) := by decide +kernel
theorem dX0_lastFrom_47 : decode cX0_lastFrom 47 = .ok (.iinc 2 (-1), 3) := by decide +kernel
theorem dX0_lastFrom_50 : decode cX0_lastFrom 50 = .ok (.goto (-47), 3) := by decide +kernel
theorem dX0_lastFrom_53 : decode cX0_lastFrom 53 = .ok (.iconst (-1), 1) := by decide +kernel
theorem dX0_lastFrom_54 : decode cX0_lastFrom 54 = .ok (.ireturn, 1) := by decide +kernel
theorem dX0_assign_0 : decode cX0_assign 0 = .ok (.aload_n 0, 1) := by decide +kernel
theorem dX0_assign_1 : decode cX0_assign 1 = .ok (.getfield 62, 3) := by decide +kernel
theorem dX0_assign_4 : decode cX0_assign 4 = .ok (.iload_n 1, 1) := by decide +kernel
theorem dX0_assign_5 : decode cX0_assign 5 = .ok (.bipush 7, 2) := by decide +kernel
theorem dX0_assign_7 : decode cX0_assign 7 = .ok (.iand, 1) := by decide +kernel
theorem dX0_assign_8 : decode cX0_assign 8 = .ok (.iaload, 1) := by decide +kernel
theorem dX0_assign_9 : decode cX0_assign 9 = .ok (.istore_n 3, 1) := by decide +kernel
theorem dX0_assign_10 : decode cX0_assign 10 = .ok (.aload_n 0, 1) := by decide +kernel
theorem dX0_assign_11 : decode cX0_assign 11 = .ok (.getfield 62, 3) := by decide +kernel
theorem dX0_assign_14 : decode cX0_assign 14 = .ok (.iload_n 1, 1) := by decide +kernel
theorem dX0_assign_15 : decode cX0_assign 15 = .ok (.bipush 7, 2) := by decide +kernel
theorem dX0_assign_17 : decode cX0_assign 17 = .ok (.iand, 1) := by decide +kernel
theorem dX0_assign_18 : decode cX0_assign 18 = .ok (.iload_n 2, 1) := by decide +kernel
theorem dX0_assign_19 : decode cX0_assign 19 = .ok (.iconst 3, 1) := by decide +kernel
theorem dX0_assign_20 : decode cX0_assign 20 = .ok (.iand, 1) := by decide +kernel
theorem dX0_assign_21 : decode cX0_assign 21 = .ok (.iastore, 1) := by decide +kernel
theorem dX0_assign_22 : decode cX0_assign 22 = .ok (.iload_n 3, 1) := by decide +kernel
theorem dX0_assign_23 : decode cX0_assign 23 = .ok (.ireturn, 1) := by decide +kernel
theorem dX0_home_0 : decode cX0_home 0 = .ok (.aload_n 0, 1) := by decide +kernel
theorem dX0_home_1 : decode cX0_home 1 = .ok (.getfield 62, 3) := by decide +kernel
theorem dX0_home_4 : decode cX0_home 4 = .ok (.iload_n 1, 1) := by decide +kernel
theorem dX0_home_5 : decode cX0_home 5 = .ok (.bipush 7, 2) := by decide +kernel
theorem dX0_home_7 : decode cX0_home 7 = .ok (.iand, 1) := by decide +kernel
theorem dX0_home_8 : decode cX0_home 8 = .ok (.iaload, 1) := by decide +kernel
theorem dX0_home_9 : decode cX0_home 9 = .ok (.ireturn, 1) := by decide +kernel
theorem dX0_work_0 : decode cX0_work 0 = .ok (.iconst 0, 1) := by decide +kernel
theorem dX0_work_1 : decode cX0_work 1 = .ok (.istore_n 2, 1) := by decide +kernel
theorem dX0_work_2 : decode cX0_work 2 = .ok (.iconst 0, 1) := by decide +kernel
theorem dX0_work_3 : decode cX0_work 3 = .ok (.istore_n 3, 1) := by decide +kernel
theorem dX0_work_4 : decode cX0_work 4 = .ok (.iload_n 3, 1) := by decide +kernel
theorem dX0_work_5 : decode cX0_work 5 = .ok (.iload_n 1, 1) := by decide +kernel
theorem dX0_work_6 : decode cX0_work 6 = .ok (.if_icmp .ge 57, 3) := by decide +kernel
theorem dX0_work_9 : decode cX0_work 9 = .ok (.iload_n 3, 1) := by decide +kernel
theorem dX0_work_10 : decode cX0_work 10 = .ok (.bipush 100, 2) := by decide +kernel
theorem dX0_work_12 : decode cX0_work 12 = .ok (.if_icmp .ge 51, 3) := by decide +kernel
theorem dX0_work_15 : decode cX0_work 15 = .ok (.iload_n 2, 1) := by decide +kernel
theorem dX0_work_16 : decode cX0_work 16 = .ok (.bipush 8, 2) := by decide +kernel
theorem dX0_work_18 : decode cX0_work 18 = .ok (.if_icmp .ge 45, 3) := by decide +kernel
theorem dX0_work_21 : decode cX0_work 21 = .ok (.aload_n 0, 1) := by decide +kernel
theorem dX0_work_22 : decode cX0_work 22 = .ok (.aload_n 0, 1) := by decide +kernel
theorem dX0_work_23 : decode cX0_work 23 = .ok (.getfield 90, 3) := by decide +kernel
theorem dX0_work_26 : decode cX0_work 26 = .ok (.invokevirtual 94, 3) := by decide +kernel
theorem dX0_work_29 : decode cX0_work 29 = .ok (.istore 4, 2) := by decide +kernel
theorem dX0_work_31 : decode cX0_work 31 = .ok (.iload 4, 2) := by decide +kernel
theorem dX0_work_33 : decode cX0_work 33 = .ok (.ifCond .eq 7, 3) := by decide +kernel
theorem dX0_work_36 : decode cX0_work 36 = .ok (.iconst 0, 1) := by decide +kernel
theorem dX0_work_37 : decode cX0_work 37 = .ok (.goto 6, 3) := by decide +kernel
theorem dX0_work_40 : decode cX0_work 40 = .ok (.iload_n 2, 1) := by decide +kernel
theorem dX0_work_41 : decode cX0_work 41 = .ok (.iconst 1, 1) := by decide +kernel
theorem dX0_work_42 : decode cX0_work 42 = .ok (.iadd, 1) := by decide +kernel
theorem dX0_work_43 : decode cX0_work 43 = .ok (.istore_n 2, 1) := by decide +kernel
theorem dX0_work_44 : decode cX0_work 44 = .ok (.aload_n 0, 1) := by decide +kernel
theorem dX0_work_45 : decode cX0_work 45 = .ok (.aload_n 0, 1) := by decide +kernel
theorem dX0_work_46 : decode cX0_work 46 = .ok (.getfield 90, 3) := by decide +kernel
theorem dX0_work_49 : decode cX0_work 49 = .ok (.iconst 1, 1) := by decide +kernel
theorem dX0_work_50 : decode cX0_work 50 = .ok (.iadd, 1) := by decide +kernel
theorem dX0_work_51 : decode cX0_work 51 = .ok (.bipush 7, 2) := by decide +kernel
theorem dX0_work_53 : decode cX0_work 53 = .ok (.iand, 1) := by decide +kernel
theorem dX0_work_54 : decode cX0_work 54 = .ok (.putfield 90, 3) := by decide +kernel
theorem dX0_work_57 : decode cX0_work 57 = .ok (.iinc 3 1, 3) := by decide +kernel
theorem dX0_work_60 : decode cX0_work 60 = .ok (.goto (-56), 3) := by decide +kernel
theorem dX0_work_63 : decode cX0_work 63 = .ok (.return_, 1) := by decide +kernel
theorem dX0_lose_0 : decode cX0_lose 0 = .ok (.iload_n 1, 1) := by decide +kernel
theorem dX0_lose_1 : decode cX0_lose 1 = .ok (.iconst 3, 1) := by decide +kernel
theorem dX0_lose_2 : decode cX0_lose 2 = .ok (.iand, 1) := by decide +kernel
theorem dX0_lose_3 : decode cX0_lose 3 = .ok (.istore_n 2, 1) := by decide +kernel
theorem dX0_lose_4 : decode cX0_lose 4 = .ok (.bipush 32, 2) := by decide +kernel
theorem dX0_lose_6 : decode cX0_lose 6 = .ok (.iload_n 2, 1) := by decide +kernel
theorem dX0_lose_7 : decode cX0_lose 7 = .ok (.imul, 1) := by decide +kernel
theorem dX0_lose_8 : decode cX0_lose 8 = .ok (.istore_n 3, 1) := by decide +kernel
theorem dX0_lose_9 : decode cX0_lose 9 = .ok (.iload_n 3, 1) := by decide +kernel
theorem dX0_lose_10 : decode cX0_lose 10 = .ok (.bipush 32, 2) := by decide +kernel
theorem dX0_lose_12 : decode cX0_lose 12 = .ok (.iload_n 2, 1) := by decide +kernel
theorem dX0_lose_13 : decode cX0_lose 13 = .ok (.imul, 1) := by decide +kernel
theorem dX0_lose_14 : decode cX0_lose 14 = .ok (.bipush 32, 2) := by decide +kernel
theorem dX0_lose_16 : decode cX0_lose 16 = .ok (.iadd, 1) := by decide +kernel
theorem dX0_lose_17 : decode cX0_lose 17 = .ok (.if_icmp .ge 69, 3) := by decide +kernel
theorem dX0_lose_20 : decode cX0_lose 20 = .ok (.aload_n 0, 1) := by decide +kernel
theorem dX0_lose_21 : decode cX0_lose 21 = .ok (.getfield 7, 3) := by decide +kernel
theorem dX0_lose_24 : decode cX0_lose 24 = .ok (.iload_n 3, 1) := by decide +kernel
theorem dX0_lose_25 : decode cX0_lose 25 = .ok (.aload_n 0, 1) := by decide +kernel
theorem dX0_lose_26 : decode cX0_lose 26 = .ok (.getfield 29, 3) := by decide +kernel
theorem dX0_lose_29 : decode cX0_lose 29 = .ok (.iload_n 3, 1) := by decide +kernel
theorem dX0_lose_30 : decode cX0_lose 30 = .ok (.iaload, 1) := by decide +kernel
theorem dX0_lose_31 : decode cX0_lose 31 = .ok (.iastore, 1) := by decide +kernel
theorem dX0_lose_32 : decode cX0_lose 32 = .ok (.aload_n 0, 1) := by decide +kernel
theorem dX0_lose_33 : decode cX0_lose 33 = .ok (.getfield 13, 3) := by decide +kernel
theorem dX0_lose_36 : decode cX0_lose 36 = .ok (.iload_n 3, 1) := by decide +kernel
theorem dX0_lose_37 : decode cX0_lose 37 = .ok (.aload_n 0, 1) := by decide +kernel
theorem dX0_lose_38 : decode cX0_lose 38 = .ok (.getfield 32, 3) := by decide +kernel
theorem dX0_lose_41 : decode cX0_lose 41 = .ok (.iload_n 3, 1) := by decide +kernel
theorem dX0_lose_42 : decode cX0_lose 42 = .ok (.baload, 1) := by decide +kernel
theorem dX0_lose_43 : decode cX0_lose 43 = .ok (.bastore, 1) := by decide +kernel
theorem dX0_lose_44 : decode cX0_lose 44 = .ok (.aload_n 0, 1) := by decide +kernel
theorem dX0_lose_45 : decode cX0_lose 45 = .ok (.getfield 17, 3) := by decide +kernel
theorem dX0_lose_48 : decode cX0_lose 48 = .ok (.iload_n 3, 1) := by decide +kernel
theorem dX0_lose_49 : decode cX0_lose 49 = .ok (.aload_n 0, 1) := by decide +kernel
theorem dX0_lose_50 : decode cX0_lose 50 = .ok (.getfield 35, 3) := by decide +kernel
theorem dX0_lose_53 : decode cX0_lose 53 = .ok (.iload_n 3, 1) := by decide +kernel
theorem dX0_lose_54 : decode cX0_lose 54 = .ok (.baload, 1) := by decide +kernel
theorem dX0_lose_55 : decode cX0_lose 55 = .ok (.bastore, 1) := by decide +kernel
theorem dX0_lose_56 : decode cX0_lose 56 = .ok (.aload_n 0, 1) := by decide +kernel
theorem dX0_lose_57 : decode cX0_lose 57 = .ok (.getfield 20, 3) := by decide +kernel
theorem dX0_lose_60 : decode cX0_lose 60 = .ok (.iload_n 3, 1) := by decide +kernel
theorem dX0_lose_61 : decode cX0_lose 61 = .ok (.aload_n 0, 1) := by decide +kernel
theorem dX0_lose_62 : decode cX0_lose 62 = .ok (.getfield 38, 3) := by decide +kernel
theorem dX0_lose_65 : decode cX0_lose 65 = .ok (.iload_n 3, 1) := by decide +kernel
theorem dX0_lose_66 : decode cX0_lose 66 = .ok (.iaload, 1) := by decide +kernel
theorem dX0_lose_67 : decode cX0_lose 67 = .ok (.iastore, 1) := by decide +kernel
theorem dX0_lose_68 : decode cX0_lose 68 = .ok (.aload_n 0, 1) := by decide +kernel
theorem dX0_lose_69 : decode cX0_lose 69 = .ok (.getfield 23, 3) := by decide +kernel
theorem dX0_lose_72 : decode cX0_lose 72 = .ok (.iload_n 3, 1) := by decide +kernel
theorem dX0_lose_73 : decode cX0_lose 73 = .ok (.aload_n 0, 1) := by decide +kernel
theorem dX0_lose_74 : decode cX0_lose 74 = .ok (.getfield 41, 3) := by decide +kernel
theorem dX0_lose_77 : decode cX0_lose 77 = .ok (.iload_n 3, 1) := by decide +kernel
theorem dX0_lose_78 : decode cX0_lose 78 = .ok (.iaload, 1) := by decide +kernel
theorem dX0_lose_79 : decode cX0_lose 79 = .ok (.iastore, 1) := by decide +kernel
theorem dX0_lose_80 : decode cX0_lose 80 = .ok (.iinc 3 1, 3) := by decide +kernel
theorem dX0_lose_83 : decode cX0_lose 83 = .ok (.goto (-74), 3) := by decide +kernel
theorem dX0_lose_86 : decode cX0_lose 86 = .ok (.iconst 0, 1) := by decide +kernel
theorem dX0_lose_87 : decode cX0_lose 87 = .ok (.istore_n 3, 1) := by decide +kernel
theorem dX0_lose_88 : decode cX0_lose 88 = .ok (.iload_n 3, 1) := by decide +kernel
theorem dX0_lose_89 : decode cX0_lose 89 = .ok (.bipush 8, 2) := by decide +kernel
theorem dX0_lose_91 : decode cX0_lose 91 = .ok (.if_icmp .ge 31, 3) := by decide +kernel
theorem dX0_lose_94 : decode cX0_lose 94 = .ok (.aload_n 0, 1) := by decide +kernel
theorem dX0_lose_95 : decode cX0_lose 95 = .ok (.getfield 26, 3) := by decide +kernel
theorem dX0_lose_98 : decode cX0_lose 98 = .ok (.bipush 8, 2) := by decide +kernel
theorem dX0_lose_100 : decode cX0_lose 100 = .ok (.iload_n 2, 1) := by decide +kernel
theorem dX0_lose_101 : decode cX0_lose 101 = .ok (.imul, 1) := by decide +kernel
theorem dX0_lose_102 : decode cX0_lose 102 = .ok (.iload_n 3, 1) := by decide +kernel
theorem dX0_lose_103 : decode cX0_lose 103 = .ok (.iadd, 1) := by decide +kernel
theorem dX0_lose_104 : decode cX0_lose 104 = .ok (.aload_n 0, 1) := by decide +kernel
theorem dX0_lose_105 : decode cX0_lose 105 = .ok (.getfield 44, 3) := by decide +kernel
theorem dX0_lose_108 : decode cX0_lose 108 = .ok (.bipush 8, 2) := by decide +kernel
theorem dX0_lose_110 : decode cX0_lose 110 = .ok (.iload_n 2, 1) := by decide +kernel
theorem dX0_lose_111 : decode cX0_lose 111 = .ok (.imul, 1) := by decide +kernel
theorem dX0_lose_112 : decode cX0_lose 112 = .ok (.iload_n 3, 1) := by decide +kernel
theorem dX0_lose_113 : decode cX0_lose 113 = .ok (.iadd, 1) := by decide +kernel
theorem dX0_lose_114 : decode cX0_lose 114 = .ok (.iaload, 1) := by decide +kernel
theorem dX0_lose_115 : decode cX0_lose 115 = .ok (.iastore, 1) := by decide +kernel
theorem dX0_lose_116 : decode cX0_lose 116 = .ok (.iinc 3 1, 3) := by decide +kernel
theorem dX0_lose_119 : decode cX0_lose 119 = .ok (.goto (-31), 3) := by decide +kernel
theorem dX0_lose_122 : decode cX0_lose 122 = .ok (.bipush 8, 2) := by decide +kernel
theorem dX0_lose_124 : decode cX0_lose 124 = .ok (.iload_n 2, 1) := by decide +kernel
theorem dX0_lose_125 : decode cX0_lose 125 = .ok (.imul, 1) := by decide +kernel
theorem dX0_lose_126 : decode cX0_lose 126 = .ok (.istore_n 3, 1) := by decide +kernel
theorem dX0_lose_127 : decode cX0_lose 127 = .ok (.iload_n 3, 1) := by decide +kernel
theorem dX0_lose_128 : decode cX0_lose 128 = .ok (.bipush 8, 2) := by decide +kernel
theorem dX0_lose_130 : decode cX0_lose 130 = .ok (.iload_n 2, 1) := by decide +kernel
theorem dX0_lose_131 : decode cX0_lose 131 = .ok (.imul, 1) := by decide +kernel
theorem dX0_lose_132 : decode cX0_lose 132 = .ok (.aload_n 0, 1) := by decide +kernel
theorem dX0_lose_133 : decode cX0_lose 133 = .ok (.getfield 47, 3) := by decide +kernel
theorem dX0_lose_136 : decode cX0_lose 136 = .ok (.iload_n 2, 1) := by decide +kernel
theorem dX0_lose_137 : decode cX0_lose 137 = .ok (.iaload, 1) := by decide +kernel
theorem dX0_lose_138 : decode cX0_lose 138 = .ok (.iadd, 1) := by decide +kernel
theorem dX0_lose_139 : decode cX0_lose 139 = .ok (.if_icmp .ge 38, 3) := by decide +kernel
theorem dX0_lose_142 : decode cX0_lose 142 = .ok (.aload_n 0, 1) := by decide +kernel
theorem dX0_lose_143 : decode cX0_lose 143 = .ok (.iload_n 2, 1) := by decide +kernel
theorem dX0_lose_144 : decode cX0_lose 144 = .ok (.aload_n 0, 1) := by decide +kernel
theorem dX0_lose_145 : decode cX0_lose 145 = .ok (.getfield 50, 3) := by decide +kernel
theorem dX0_lose_148 : decode cX0_lose 148 = .ok (.iload_n 3, 1) := by decide +kernel
theorem dX0_lose_149 : decode cX0_lose 149 = .ok (.iaload, 1) := by decide +kernel
theorem dX0_lose_150 : decode cX0_lose 150 = .ok (.aload_n 0, 1) := by decide +kernel
theorem dX0_lose_151 : decode cX0_lose 151 = .ok (.getfield 53, 3) := by decide +kernel
theorem dX0_lose_154 : decode cX0_lose 154 = .ok (.iload_n 3, 1) := by decide +kernel
theorem dX0_lose_155 : decode cX0_lose 155 = .ok (.iaload, 1) := by decide +kernel
theorem dX0_lose_156 : decode cX0_lose 156 = .ok (.aload_n 0, 1) := by decide +kernel
theorem dX0_lose_157 : decode cX0_lose 157 = .ok (.getfield 56, 3) := by decide +kernel
theorem dX0_lose_160 : decode cX0_lose 160 = .ok (.iload_n 3, 1) := by decide +kernel
theorem dX0_lose_161 : decode cX0_lose 161 = .ok (.iaload, 1) := by decide +kernel
theorem dX0_lose_162 : decode cX0_lose 162 = .ok (.aload_n 0, 1) := by decide +kernel
theorem dX0_lose_163 : decode cX0_lose 163 = .ok (.getfield 59, 3) := by decide +kernel
theorem dX0_lose_166 : decode cX0_lose 166 = .ok (.iload_n 3, 1) := by decide +kernel
theorem dX0_lose_167 : decode cX0_lose 167 = .ok (.iaload, 1) := by decide +kernel
theorem dX0_lose_168 : decode cX0_lose 168 = .ok (.invokevirtual 98, 3) := by decide +kernel
theorem dX0_lose_171 : decode cX0_lose 171 = .ok (.iinc 3 1, 3) := by decide +kernel
theorem dX0_lose_174 : decode cX0_lose 174 = .ok (.goto (-47), 3) := by decide +kernel
theorem dX0_lose_177 : decode cX0_lose 177 = .ok (.iconst 0, 1) := by decide +kernel
theorem dX0_lose_178 : decode cX0_lose 178 = .ok (.istore_n 3, 1) := by decide +kernel
theorem dX0_lose_179 : decode cX0_lose 179 = .ok (.iload_n 3, 1) := by decide +kernel
theorem dX0_lose_180 : decode cX0_lose 180 = .ok (.bipush 8, 2) := by decide +kernel
theorem dX0_lose_182 : decode cX0_lose 182 = .ok (.if_icmp .ge 31, 3) := by decide +kernel
theorem dX0_lose_185 : decode cX0_lose 185 = .ok (.aload_n 0, 1) := by decide +kernel
theorem dX0_lose_186 : decode cX0_lose 186 = .ok (.getfield 26, 3) := by decide +kernel
theorem dX0_lose_189 : decode cX0_lose 189 = .ok (.bipush 8, 2) := by decide +kernel
theorem dX0_lose_191 : decode cX0_lose 191 = .ok (.iload_n 2, 1) := by decide +kernel
theorem dX0_lose_192 : decode cX0_lose 192 = .ok (.imul, 1) := by decide +kernel
theorem dX0_lose_193 : decode cX0_lose 193 = .ok (.iload_n 3, 1) := by decide +kernel
theorem dX0_lose_194 : decode cX0_lose 194 = .ok (.iadd, 1) := by decide +kernel
theorem dX0_lose_195 : decode cX0_lose 195 = .ok (.iaload, 1) := by decide +kernel
theorem dX0_lose_196 : decode cX0_lose 196 = .ok (.iconst 3, 1) := by decide +kernel
theorem dX0_lose_197 : decode cX0_lose 197 = .ok (.if_icmp .ne 10, 3) := by decide +kernel
theorem dX0_lose_200 : decode cX0_lose 200 = .ok (.aload_n 0, 1) := by decide +kernel
theorem dX0_lose_201 : decode cX0_lose 201 = .ok (.getfield 65, 3) := by decide +kernel
theorem dX0_lose_204 : decode cX0_lose 204 = .ok (.iload_n 3, 1) := by decide +kernel
theorem dX0_lose_205 : decode cX0_lose 205 = .ok (.iconst 0, 1) := by decide +kernel
theorem dX0_lose_206 : decode cX0_lose 206 = .ok (.iastore, 1) := by decide +kernel
theorem dX0_lose_207 : decode cX0_lose 207 = .ok (.iinc 3 1, 3) := by decide +kernel
theorem dX0_lose_210 : decode cX0_lose 210 = .ok (.goto (-31), 3) := by decide +kernel
theorem dX0_lose_213 : decode cX0_lose 213 = .ok (.return_, 1) := by decide +kernel
end
section
set_option maxRecDepth 100000
theorem dX1_init_0 : decode cX1_init 0 = .ok (.aload_n 0, 1) := by decide +kernel
theorem dX1_init_1 : decode cX1_init 1 = .ok (.invokespecial 1, 3) := by decide +kernel
theorem dX1_init_4 : decode cX1_init 4 = .ok (.aload_n 0, 1) := by decide +kernel
theorem dX1_init_5 : decode cX1_init 5 = .ok (.bipush 32, 2) := by decide +kernel
theorem dX1_init_7 : decode cX1_init 7 = .ok (.newarray .boolean, 2) := by decide +kernel
theorem dX1_init_9 : decode cX1_init 9 = .ok (.putfield 7, 3) := by decide +kernel
theorem dX1_init_12 : decode cX1_init 12 = .ok (.aload_n 0, 1) := by decide +kernel
theorem dX1_init_13 : decode cX1_init 13 = .ok (.bipush 32, 2) := by decide +kernel
theorem dX1_init_15 : decode cX1_init 15 = .ok (.newarray .int, 2) := by decide +kernel
theorem dX1_init_17 : decode cX1_init 17 = .ok (.putfield 13, 3) := by decide +kernel
theorem dX1_init_20 : decode cX1_init 20 = .ok (.aload_n 0, 1) := by decide +kernel
theorem dX1_init_21 : decode cX1_init 21 = .ok (.bipush 32, 2) := by decide +kernel
theorem dX1_init_23 : decode cX1_init 23 = .ok (.newarray .boolean, 2) := by decide +kernel
theorem dX1_init_25 : decode cX1_init 25 = .ok (.putfield 17, 3) := by decide +kernel
theorem dX1_init_28 : decode cX1_init 28 = .ok (.aload_n 0, 1) := by decide +kernel
theorem dX1_init_29 : decode cX1_init 29 = .ok (.bipush 32, 2) := by decide +kernel
theorem dX1_init_31 : decode cX1_init 31 = .ok (.newarray .int, 2) := by decide +kernel
theorem dX1_init_33 : decode cX1_init 33 = .ok (.putfield 20, 3) := by decide +kernel
theorem dX1_init_36 : decode cX1_init 36 = .ok (.aload_n 0, 1) := by decide +kernel
theorem dX1_init_37 : decode cX1_init 37 = .ok (.bipush 32, 2) := by decide +kernel
theorem dX1_init_39 : decode cX1_init 39 = .ok (.newarray .int, 2) := by decide +kernel
theorem dX1_init_41 : decode cX1_init 41 = .ok (.putfield 23, 3) := by decide +kernel
theorem dX1_init_44 : decode cX1_init 44 = .ok (.aload_n 0, 1) := by decide +kernel
theorem dX1_init_45 : decode cX1_init 45 = .ok (.bipush 8, 2) := by decide +kernel
theorem dX1_init_47 : decode cX1_init 47 = .ok (.newarray .int, 2) := by decide +kernel
theorem dX1_init_49 : decode cX1_init 49 = .ok (.putfield 26, 3) := by decide +kernel
theorem dX1_init_52 : decode cX1_init 52 = .ok (.iconst 0, 1) := by decide +kernel
theorem dX1_init_53 : decode cX1_init 53 = .ok (.istore_n 1, 1) := by decide +kernel
theorem dX1_init_54 : decode cX1_init 54 = .ok (.iload_n 1, 1) := by decide +kernel
theorem dX1_init_55 : decode cX1_init 55 = .ok (.bipush 8, 2) := by decide +kernel
theorem dX1_init_57 : decode cX1_init 57 = .ok (.if_icmp .ge 18, 3) := by decide +kernel
theorem dX1_init_60 : decode cX1_init 60 = .ok (.aload_n 0, 1) := by decide +kernel
theorem dX1_init_61 : decode cX1_init 61 = .ok (.getfield 26, 3) := by decide +kernel
theorem dX1_init_64 : decode cX1_init 64 = .ok (.iload_n 1, 1) := by decide +kernel
theorem dX1_init_65 : decode cX1_init 65 = .ok (.iload_n 1, 1) := by decide +kernel
theorem dX1_init_66 : decode cX1_init 66 = .ok (.iconst 3, 1) := by decide +kernel
theorem dX1_init_67 : decode cX1_init 67 = .ok (.iand, 1) := by decide +kernel
theorem dX1_init_68 : decode cX1_init 68 = .ok (.iastore, 1) := by decide +kernel
theorem dX1_init_69 : decode cX1_init 69 = .ok (.iinc 1 1, 3) := by decide +kernel
theorem dX1_init_72 : decode cX1_init 72 = .ok (.goto (-18), 3) := by decide +kernel
theorem dX1_init_75 : decode cX1_init 75 = .ok (.return_, 1) := by decide +kernel
theorem dX1_put_0 : decode cX1_put 0 = .ok (.iload_n 1, 1) := by decide +kernel
theorem dX1_put_1 : decode cX1_put 1 = .ok (.iload_n 3, 1) := by decide +kernel
theorem dX1_put_2 : decode cX1_put 2 = .ok (.invokestatic 29, 3) := by decide +kernel
theorem dX1_put_5 : decode cX1_put 5 = .ok (.ifCond .eq 6, 3) := by decide +kernel
theorem dX1_put_8 : decode cX1_put 8 = .ok (.bipush (-2), 2) := by decide +kernel
theorem dX1_put_10 : decode cX1_put 10 = .ok (.ireturn, 1) := by decide +kernel
theorem dX1_put_11 : decode cX1_put 11 = .ok (.aload_n 0, 1) := by decide +kernel
theorem dX1_put_12 : decode cX1_put 12 = .ok (.iload_n 1, 1) := by decide +kernel
theorem dX1_put_13 : decode cX1_put 13 = .ok (.iload_n 2, 1) := by decide +kernel
theorem dX1_put_14 : decode cX1_put 14 = .ok (.iload_n 3, 1) := by decide +kernel
theorem dX1_put_15 : decode cX1_put 15 = .ok (.invokevirtual 33, 3) := by decide +kernel
theorem dX1_put_18 : decode cX1_put 18 = .ok (.ifCond .ne 11, 3) := by decide +kernel
theorem dX1_put_21 : decode cX1_put 21 = .ok (.aload_n 0, 1) := by decide +kernel
theorem dX1_put_22 : decode cX1_put 22 = .ok (.iload_n 1, 1) := by decide +kernel
theorem dX1_put_23 : decode cX1_put 23 = .ok (.iload_n 2, 1) := by decide +kernel
theorem dX1_put_24 : decode cX1_put 24 = .ok (.iload_n 3, 1) := by decide +kernel
theorem dX1_put_25 : decode cX1_put 25 = .ok (.invokevirtual 37, 3) := by decide +kernel
theorem dX1_put_28 : decode cX1_put 28 = .ok (.ireturn, 1) := by decide +kernel
theorem dX1_put_29 : decode cX1_put 29 = .ok (.aload_n 0, 1) := by decide +kernel
theorem dX1_put_30 : decode cX1_put 30 = .ok (.iload_n 3, 1) := by decide +kernel
theorem dX1_put_31 : decode cX1_put 31 = .ok (.invokevirtual 41, 3) := by decide +kernel
theorem dX1_put_34 : decode cX1_put 34 = .ok (.istore 5, 2) := by decide +kernel
theorem dX1_put_36 : decode cX1_put 36 = .ok (.aload_n 0, 1) := by decide +kernel
theorem dX1_put_37 : decode cX1_put 37 = .ok (.getfield 7, 3) := by decide +kernel
theorem dX1_put_40 : decode cX1_put 40 = .ok (.iload_n 3, 1) := by decide +kernel
theorem dX1_put_41 : decode cX1_put 41 = .ok (.iconst 1, 1) := by decide +kernel
theorem dX1_put_42 : decode cX1_put 42 = .ok (.bastore, 1) := by decide +kernel
theorem dX1_put_43 : decode cX1_put 43 = .ok (.aload_n 0, 1) := by decide +kernel
theorem dX1_put_44 : decode cX1_put 44 = .ok (.getfield 13, 3) := by decide +kernel
theorem dX1_put_47 : decode cX1_put 47 = .ok (.iload_n 3, 1) := by decide +kernel
theorem dX1_put_48 : decode cX1_put 48 = .ok (.iload 4, 2) := by decide +kernel
theorem dX1_put_50 : decode cX1_put 50 = .ok (.iastore, 1) := by decide +kernel
theorem dX1_put_51 : decode cX1_put 51 = .ok (.aload_n 0, 1) := by decide +kernel
theorem dX1_put_52 : decode cX1_put 52 = .ok (.iload_n 1, 1) := by decide +kernel
theorem dX1_put_53 : decode cX1_put 53 = .ok (.iload_n 2, 1) := by decide +kernel
theorem dX1_put_54 : decode cX1_put 54 = .ok (.iload_n 3, 1) := by decide +kernel
theorem dX1_put_55 : decode cX1_put 55 = .ok (.iload 5, 2) := by decide +kernel
theorem dX1_put_57 : decode cX1_put 57 = .ok (.invokevirtual 45, 3) := by decide +kernel
theorem dX1_put_60 : decode cX1_put 60 = .ok (.ireturn, 1) := by decide +kernel
theorem dX1_bad_0 : decode cX1_bad 0 = .ok (.iload_n 0, 1) := by decide +kernel
theorem dX1_bad_1 : decode cX1_bad 1 = .ok (.ifCond .lt 18, 3) := by decide +kernel
theorem dX1_bad_4 : decode cX1_bad 4 = .ok (.iload_n 0, 1) := by decide +kernel
theorem dX1_bad_5 : decode cX1_bad 5 = .ok (.iconst 3, 1) := by decide +kernel
theorem dX1_bad_6 : decode cX1_bad 6 = .ok (.if_icmp .gt 13, 3) := by decide +kernel
theorem dX1_bad_9 : decode cX1_bad 9 = .ok (.iload_n 1, 1) := by decide +kernel
theorem dX1_bad_10 : decode cX1_bad 10 = .ok (.ifCond .lt 9, 3) := by decide +kernel
theorem dX1_bad_13 : decode cX1_bad 13 = .ok (.iload_n 1, 1) := by decide +kernel
theorem dX1_bad_14 : decode cX1_bad 14 = .ok (.bipush 31, 2) := by decide +kernel
theorem dX1_bad_16 : decode cX1_bad 16 = .ok (.if_icmp .le 7, 3) := by decide +kernel
theorem dX1_bad_19 : decode cX1_bad 19 = .ok (.iconst 1, 1) := by decide +kernel
theorem dX1_bad_20 : decode cX1_bad 20 = .ok (.goto 4, 3) := by decide +kernel
theorem dX1_bad_23 : decode cX1_bad 23 = .ok (.iconst 0, 1) := by decide +kernel
theorem dX1_bad_24 : decode cX1_bad 24 = .ok (.ireturn, 1) := by decide +kernel
theorem dX1_fresh_0 : decode cX1_fresh 0 = .ok (.iconst 4, 1) := by decide +kernel
theorem dX1_fresh_1 : decode cX1_fresh 1 = .ok (.iload_n 3, 1) := by decide +kernel
theorem dX1_fresh_2 : decode cX1_fresh 2 = .ok (.bipush 7, 2) := by decide +kernel
theorem dX1_fresh_4 : decode cX1_fresh 4 = .ok (.iand, 1) := by decide +kernel
theorem dX1_fresh_5 : decode cX1_fresh 5 = .ok (.imul, 1) := by decide +kernel
theorem dX1_fresh_6 : decode cX1_fresh 6 = .ok (.iload_n 1, 1) := by decide +kernel
theorem dX1_fresh_7 : decode cX1_fresh 7 = .ok (.iadd, 1) := by decide +kernel
theorem dX1_fresh_8 : decode cX1_fresh 8 = .ok (.istore 4, 2) := by decide +kernel
theorem dX1_fresh_10 : decode cX1_fresh 10 = .ok (.aload_n 0, 1) := by decide +kernel
theorem dX1_fresh_11 : decode cX1_fresh 11 = .ok (.getfield 17, 3) := by decide +kernel
theorem dX1_fresh_14 : decode cX1_fresh 14 = .ok (.iload 4, 2) := by decide +kernel
theorem dX1_fresh_16 : decode cX1_fresh 16 = .ok (.baload, 1) := by decide +kernel
theorem dX1_fresh_17 : decode cX1_fresh 17 = .ok (.ifCond .eq 14, 3) := by decide +kernel
theorem dX1_fresh_20 : decode cX1_fresh 20 = .ok (.aload_n 0, 1) := by decide +kernel
theorem dX1_fresh_21 : decode cX1_fresh 21 = .ok (.getfield 20, 3) := by decide +kernel
theorem dX1_fresh_24 : decode cX1_fresh 24 = .ok (.iload 4, 2) := by decide +kernel
theorem dX1_fresh_26 : decode cX1_fresh 26 = .ok (.iaload, 1) := by decide +kernel
theorem dX1_fresh_27 : decode cX1_fresh 27 = .ok (.iload_n 2, 1) := by decide +kernel
theorem dX1_fresh_28 : decode cX1_fresh 28 = .ok (.if_icmp .ge 7, 3) := by decide +kernel
theorem dX1_fresh_31 : decode cX1_fresh 31 = .ok (.iconst 1, 1) := by decide +kernel
theorem dX1_fresh_32 : decode cX1_fresh 32 = .ok (.goto 4, 3) := by decide +kernel
theorem dX1_fresh_35 : decode cX1_fresh 35 = .ok (.iconst 0, 1) := by decide +kernel
theorem dX1_fresh_36 : decode cX1_fresh 36 = .ok (.ireturn, 1) := by decide +kernel
theorem dX1_again_0 : decode cX1_again 0 = .ok (.iconst 4, 1) := by decide +kernel
theorem dX1_again_1 : decode cX1_again 1 = .ok (.iload_n 3, 1) := by decide +kernel
theorem dX1_again_2 : decode cX1_again 2 = .ok (.bipush 7, 2) := by decide +kernel
theorem dX1_again_4 : decode cX1_again 4 = .ok (.iand, 1) := by decide +kernel
theorem dX1_again_5 : decode cX1_again 5 = .ok (.imul, 1) := by decide +kernel
theorem dX1_again_6 : decode cX1_again 6 = .ok (.iload_n 1, 1) := by decide +kernel
theorem dX1_again_7 : decode cX1_again 7 = .ok (.iadd, 1) := by decide +kernel
theorem dX1_again_8 : decode cX1_again 8 = .ok (.istore 4, 2) := by decide +kernel
theorem dX1_again_10 : decode cX1_again 10 = .ok (.aload_n 0, 1) := by decide +kernel
theorem dX1_again_11 : decode cX1_again 11 = .ok (.getfield 20, 3) := by decide +kernel
theorem dX1_again_14 : decode cX1_again 14 = .ok (.iload 4, 2) := by decide +kernel
theorem dX1_again_16 : decode cX1_again 16 = .ok (.iaload, 1) := by decide +kernel
theorem dX1_again_17 : decode cX1_again 17 = .ok (.iload_n 2, 1) := by decide +kernel
theorem dX1_again_18 : decode cX1_again 18 = .ok (.if_icmp .ne 13, 3) := by decide +kernel
theorem dX1_again_21 : decode cX1_again 21 = .ok (.aload_n 0, 1) := by decide +kernel
theorem dX1_again_22 : decode cX1_again 22 = .ok (.getfield 23, 3) := by decide +kernel
theorem dX1_again_25 : decode cX1_again 25 = .ok (.iload 4, 2) := by decide +kernel
theorem dX1_again_27 : decode cX1_again 27 = .ok (.iaload, 1) := by decide +kernel
theorem dX1_again_28 : decode cX1_again 28 = .ok (.goto 4, 3) := by decide +kernel
theorem dX1_again_31 : decode cX1_again 31 = .ok (.iconst (-1), 1) := by decide +kernel
theorem dX1_again_32 : decode cX1_again 32 = .ok (.ireturn, 1) := by decide +kernel
theorem dX1_get_0 : decode cX1_get 0 = .ok (.aload_n 0, 1) := by decide +kernel
theorem dX1_get_1 : decode cX1_get 1 = .ok (.iload_n 1, 1) := by decide +kernel
theorem dX1_get_2 : decode cX1_get 2 = .ok (.invokevirtual 49, 3) := by decide +kernel
theorem dX1_get_5 : decode cX1_get 5 = .ok (.ifCond .eq 12, 3) := by decide +kernel
theorem dX1_get_8 : decode cX1_get 8 = .ok (.aload_n 0, 1) := by decide +kernel
theorem dX1_get_9 : decode cX1_get 9 = .ok (.getfield 13, 3) := by decide +kernel
theorem dX1_get_12 : decode cX1_get 12 = .ok (.iload_n 1, 1) := by decide +kernel
theorem dX1_get_13 : decode cX1_get 13 = .ok (.iaload, 1) := by decide +kernel
theorem dX1_get_14 : decode cX1_get 14 = .ok (.goto 4, 3) := by decide +kernel
theorem dX1_get_17 : decode cX1_get 17 = .ok (.iconst 0, 1) := by decide +kernel
theorem dX1_get_18 : decode cX1_get 18 = .ok (.ireturn, 1) := by decide +kernel
theorem dX1_has_0 : decode cX1_has 0 = .ok (.iload_n 1, 1) := by decide +kernel
theorem dX1_has_1 : decode cX1_has 1 = .ok (.ifCond .lt 22, 3) := by decide +kernel
theorem dX1_has_4 : decode cX1_has 4 = .ok (.iload_n 1, 1) := by decide +kernel
theorem dX1_has_5 : decode cX1_has 5 = .ok (.bipush 32, 2) := by decide +kernel
theorem dX1_has_7 : decode cX1_has 7 = .ok (.if_icmp .ge 16, 3) := by decide +kernel
theorem dX1_has_10 : decode cX1_has 10 = .ok (.aload_n 0, 1) := by decide +kernel
theorem dX1_has_11 : decode cX1_has 11 = .ok (.getfield 7, 3) := by decide +kernel
theorem dX1_has_14 : decode cX1_has 14 = .ok (.iload_n 1, 1) := by decide +kernel
theorem dX1_has_15 : decode cX1_has 15 = .ok (.baload, 1) := by decide +kernel
theorem dX1_has_16 : decode cX1_has 16 = .ok (.ifCond .eq 7, 3) := by decide +kernel
theorem dX1_has_19 : decode cX1_has 19 = .ok (.iconst 1, 1) := by decide +kernel
theorem dX1_has_20 : decode cX1_has 20 = .ok (.goto 4, 3) := by decide +kernel
theorem dX1_has_23 : decode cX1_has 23 = .ok (.iconst 0, 1) := by decide +kernel
theorem dX1_has_24 : decode cX1_has 24 = .ok (.ireturn, 1) := by decide +kernel
theorem dX1_done_0 : decode cX1_done 0 = .ok (.iconst 4, 1) := by decide +kernel
theorem dX1_done_1 : decode cX1_done 1 = .ok (.iload_n 3, 1) := by decide +kernel
theorem dX1_done_2 : decode cX1_done 2 = .ok (.bipush 7, 2) := by decide +kernel
theorem dX1_done_4 : decode cX1_done 4 = .ok (.iand, 1) := by decide +kernel
theorem dX1_done_5 : decode cX1_done 5 = .ok (.imul, 1) := by decide +kernel
theorem dX1_done_6 : decode cX1_done 6 = .ok (.iload_n 1, 1) := by decide +kernel
theorem dX1_done_7 : decode cX1_done 7 = .ok (.iadd, 1) := by decide +kernel
theorem dX1_done_8 : decode cX1_done 8 = .ok (.istore 5, 2) := by decide +kernel
theorem dX1_done_10 : decode cX1_done 10 = .ok (.aload_n 0, 1) := by decide +kernel
theorem dX1_done_11 : decode cX1_done 11 = .ok (.getfield 17, 3) := by decide +kernel
theorem dX1_done_14 : decode cX1_done 14 = .ok (.iload 5, 2) := by decide +kernel
theorem dX1_done_16 : decode cX1_done 16 = .ok (.iconst 1, 1) := by decide +kernel
theorem dX1_done_17 : decode cX1_done 17 = .ok (.bastore, 1) := by decide +kernel
theorem dX1_done_18 : decode cX1_done 18 = .ok (.aload_n 0, 1) := by decide +kernel
theorem dX1_done_19 : decode cX1_done 19 = .ok (.getfield 20, 3) := by decide +kernel
theorem dX1_done_22 : decode cX1_done 22 = .ok (.iload 5, 2) := by decide +kernel
theorem dX1_done_24 : decode cX1_done 24 = .ok (.iload_n 2, 1) := by decide +kernel
theorem dX1_done_25 : decode cX1_done 25 = .ok (.iastore, 1) := by decide +kernel
theorem dX1_done_26 : decode cX1_done 26 = .ok (.aload_n 0, 1) := by decide +kernel
theorem dX1_done_27 : decode cX1_done 27 = .ok (.getfield 23, 3) := by decide +kernel
theorem dX1_done_30 : decode cX1_done 30 = .ok (.iload 5, 2) := by decide +kernel
theorem dX1_done_32 : decode cX1_done 32 = .ok (.iload 4, 2) := by decide +kernel
theorem dX1_done_34 : decode cX1_done 34 = .ok (.iastore, 1) := by decide +kernel
theorem dX1_done_35 : decode cX1_done 35 = .ok (.iload 4, 2) := by decide +kernel
theorem dX1_done_37 : decode cX1_done 37 = .ok (.ireturn, 1) := by decide +kernel
theorem dX1_addTo_0 : decode cX1_addTo 0 = .ok (.iload_n 1, 1) := by decide +kernel
theorem dX1_addTo_1 : decode cX1_addTo 1 = .ok (.iload_n 3, 1) := by decide +kernel
theorem dX1_addTo_2 : decode cX1_addTo 2 = .ok (.invokestatic 29, 3) := by decide +kernel
theorem dX1_addTo_5 : decode cX1_addTo 5 = .ok (.ifCond .eq 6, 3) := by decide +kernel
theorem dX1_addTo_8 : decode cX1_addTo 8 = .ok (.bipush (-2), 2) := by decide +kernel
theorem dX1_addTo_10 : decode cX1_addTo 10 = .ok (.ireturn, 1) := by decide +kernel
theorem dX1_addTo_11 : decode cX1_addTo 11 = .ok (.aload_n 0, 1) := by decide +kernel
theorem dX1_addTo_12 : decode cX1_addTo 12 = .ok (.iload_n 1, 1) := by decide +kernel
theorem dX1_addTo_13 : decode cX1_addTo 13 = .ok (.iload_n 2, 1) := by decide +kernel
theorem dX1_addTo_14 : decode cX1_addTo 14 = .ok (.iload_n 3, 1) := by decide +kernel
theorem dX1_addTo_15 : decode cX1_addTo 15 = .ok (.invokevirtual 33, 3) := by decide +kernel
theorem dX1_addTo_18 : decode cX1_addTo 18 = .ok (.ifCond .ne 11, 3) := by decide +kernel
theorem dX1_addTo_21 : decode cX1_addTo 21 = .ok (.aload_n 0, 1) := by decide +kernel
theorem dX1_addTo_22 : decode cX1_addTo 22 = .ok (.iload_n 1, 1) := by decide +kernel
theorem dX1_addTo_23 : decode cX1_addTo 23 = .ok (.iload_n 2, 1) := by decide +kernel
theorem dX1_addTo_24 : decode cX1_addTo 24 = .ok (.iload_n 3, 1) := by decide +kernel
theorem dX1_addTo_25 : decode cX1_addTo 25 = .ok (.invokevirtual 37, 3) := by decide +kernel
theorem dX1_addTo_28 : decode cX1_addTo 28 = .ok (.ireturn, 1) := by decide +kernel
theorem dX1_addTo_29 : decode cX1_addTo 29 = .ok (.aload_n 0, 1) := by decide +kernel
theorem dX1_addTo_30 : decode cX1_addTo 30 = .ok (.iload_n 3, 1) := by decide +kernel
theorem dX1_addTo_31 : decode cX1_addTo 31 = .ok (.invokevirtual 41, 3) := by decide +kernel
theorem dX1_addTo_34 : decode cX1_addTo 34 = .ok (.iload 4, 2) := by decide +kernel
theorem dX1_addTo_36 : decode cX1_addTo 36 = .ok (.iadd, 1) := by decide +kernel
theorem dX1_addTo_37 : decode cX1_addTo 37 = .ok (.istore 5, 2) := by decide +kernel
theorem dX1_addTo_39 : decode cX1_addTo 39 = .ok (.aload_n 0, 1) := by decide +kernel
theorem dX1_addTo_40 : decode cX1_addTo 40 = .ok (.getfield 7, 3) := by decide +kernel
theorem dX1_addTo_43 : decode cX1_addTo 43 = .ok (.iload_n 3, 1) := by decide +kernel
theorem dX1_addTo_44 : decode cX1_addTo 44 = .ok (.iconst 1, 1) := by decide +kernel
theorem dX1_addTo_45 : decode cX1_addTo 45 = .ok (.bastore, 1) := by decide +kernel
theorem dX1_addTo_46 : decode cX1_addTo 46 = .ok (.aload_n 0, 1) := by decide +kernel
theorem dX1_addTo_47 : decode cX1_addTo 47 = .ok (.getfield 13, 3) := by decide +kernel
theorem dX1_addTo_50 : decode cX1_addTo 50 = .ok (.iload_n 3, 1) := by decide +kernel
theorem dX1_addTo_51 : decode cX1_addTo 51 = .ok (.iload 5, 2) := by decide +kernel
theorem dX1_addTo_53 : decode cX1_addTo 53 = .ok (.iastore, 1) := by decide +kernel
theorem dX1_addTo_54 : decode cX1_addTo 54 = .ok (.aload_n 0, 1) := by decide +kernel
theorem dX1_addTo_55 : decode cX1_addTo 55 = .ok (.iload_n 1, 1) := by decide +kernel
theorem dX1_addTo_56 : decode cX1_addTo 56 = .ok (.iload_n 2, 1) := by decide +kernel
theorem dX1_addTo_57 : decode cX1_addTo 57 = .ok (.iload_n 3, 1) := by decide +kernel
theorem dX1_addTo_58 : decode cX1_addTo 58 = .ok (.iload 5, 2) := by decide +kernel
theorem dX1_addTo_60 : decode cX1_addTo 60 = .ok (.invokevirtual 45, 3) := by decide +kernel
theorem dX1_addTo_63 : decode cX1_addTo 63 = .ok (.ireturn, 1) := by decide +kernel
theorem dX1_remove_0 : decode cX1_remove 0 = .ok (.iload_n 1, 1) := by decide +kernel
theorem dX1_remove_1 : decode cX1_remove 1 = .ok (.iload_n 3, 1) := by decide +kernel
theorem dX1_remove_2 : decode cX1_remove 2 = .ok (.invokestatic 29, 3) := by decide +kernel
theorem dX1_remove_5 : decode cX1_remove 5 = .ok (.ifCond .eq 6, 3) := by decide +kernel
theorem dX1_remove_8 : decode cX1_remove 8 = .ok (.bipush (-2), 2) := by decide +kernel
theorem dX1_remove_10 : decode cX1_remove 10 = .ok (.ireturn, 1) := by decide +kernel
theorem dX1_remove_11 : decode cX1_remove 11 = .ok (.aload_n 0, 1) := by decide +kernel
theorem dX1_remove_12 : decode cX1_remove 12 = .ok (.iload_n 1, 1) := by decide +kernel
theorem dX1_remove_13 : decode cX1_remove 13 = .ok (.iload_n 2, 1) := by decide +kernel
theorem dX1_remove_14 : decode cX1_remove 14 = .ok (.iload_n 3, 1) := by decide +kernel
theorem dX1_remove_15 : decode cX1_remove 15 = .ok (.invokevirtual 33, 3) := by decide +kernel
theorem dX1_remove_18 : decode cX1_remove 18 = .ok (.ifCond .ne 11, 3) := by decide +kernel
theorem dX1_remove_21 : decode cX1_remove 21 = .ok (.aload_n 0, 1) := by decide +kernel
theorem dX1_remove_22 : decode cX1_remove 22 = .ok (.iload_n 1, 1) := by decide +kernel
theorem dX1_remove_23 : decode cX1_remove 23 = .ok (.iload_n 2, 1) := by decide +kernel
theorem dX1_remove_24 : decode cX1_remove 24 = .ok (.iload_n 3, 1) := by decide +kernel
theorem dX1_remove_25 : decode cX1_remove 25 = .ok (.invokevirtual 37, 3) := by decide +kernel
theorem dX1_remove_28 : decode cX1_remove 28 = .ok (.ireturn, 1) := by decide +kernel
theorem dX1_remove_29 : decode cX1_remove 29 = .ok (.aload_n 0, 1) := by decide +kernel
theorem dX1_remove_30 : decode cX1_remove 30 = .ok (.iload_n 3, 1) := by decide +kernel
theorem dX1_remove_31 : decode cX1_remove 31 = .ok (.invokevirtual 41, 3) := by decide +kernel
theorem dX1_remove_34 : decode cX1_remove 34 = .ok (.istore 4, 2) := by decide +kernel
theorem dX1_remove_36 : decode cX1_remove 36 = .ok (.aload_n 0, 1) := by decide +kernel
theorem dX1_remove_37 : decode cX1_remove 37 = .ok (.getfield 7, 3) := by decide +kernel
theorem dX1_remove_40 : decode cX1_remove 40 = .ok (.iload_n 3, 1) := by decide +kernel
theorem dX1_remove_41 : decode cX1_remove 41 = .ok (.iconst 0, 1) := by decide +kernel
theorem dX1_remove_42 : decode cX1_remove 42 = .ok (.bastore, 1) := by decide +kernel
theorem dX1_remove_43 : decode cX1_remove 43 = .ok (.aload_n 0, 1) := by decide +kernel
theorem dX1_remove_44 : decode cX1_remove 44 = .ok (.iload_n 1, 1) := by decide +kernel
theorem dX1_remove_45 : decode cX1_remove 45 = .ok (.iload_n 2, 1) := by decide +kernel
theorem dX1_remove_46 : decode cX1_remove 46 = .ok (.iload_n 3, 1) := by decide +kernel
theorem dX1_remove_47 : decode cX1_remove 47 = .ok (.iload 4, 2) := by decide +kernel
theorem dX1_remove_49 : decode cX1_remove 49 = .ok (.invokevirtual 45, 3) := by decide +kernel
theorem dX1_remove_52 : decode cX1_remove 52 = .ok (.ireturn, 1) := by decide +kernel
theorem dX1_size_0 : decode cX1_size 0 = .ok (.iconst 0, 1) := by decide +kernel
theorem dX1_size_1 : decode cX1_size 1 = .ok (.istore_n 2, 1) := by decide +kernel
theorem dX1_size_2 : decode cX1_size 2 = .ok (.iconst 0, 1) := by decide +kernel
theorem dX1_size_3 : decode cX1_size 3 = .ok (.istore_n 3, 1) := by decide +kernel
theorem dX1_size_4 : decode cX1_size 4 = .ok (.iload_n 3, 1) := by decide +kernel
theorem dX1_size_5 : decode cX1_size 5 = .ok (.bipush 32, 2) := by decide +kernel
theorem dX1_size_7 : decode cX1_size 7 = .ok (.if_icmp .ge 32, 3) := by decide +kernel
theorem dX1_size_10 : decode cX1_size 10 = .ok (.aload_n 0, 1) := by decide +kernel
theorem dX1_size_11 : decode cX1_size 11 = .ok (.getfield 7, 3) := by decide +kernel
theorem dX1_size_14 : decode cX1_size 14 = .ok (.iload_n 3, 1) := by decide +kernel
theorem dX1_size_15 : decode cX1_size 15 = .ok (.baload, 1) := by decide +kernel
theorem dX1_size_16 : decode cX1_size 16 = .ok (.ifCond .eq 17, 3) := by decide +kernel
theorem dX1_size_19 : decode cX1_size 19 = .ok (.iload_n 3, 1) := by decide +kernel
theorem dX1_size_20 : decode cX1_size 20 = .ok (.bipush 7, 2) := by decide +kernel
theorem dX1_size_22 : decode cX1_size 22 = .ok (.iand, 1) := by decide +kernel
theorem dX1_size_23 : decode cX1_size 23 = .ok (.iload_n 1, 1) := by decide +kernel
theorem dX1_size_24 : decode cX1_size 24 = .ok (.bipush 7, 2) := by decide +kernel
theorem dX1_size_26 : decode cX1_size 26 = .ok (.iand, 1) := by decide +kernel
theorem dX1_size_27 : decode cX1_size 27 = .ok (.if_icmp .ne 6, 3) := by decide +kernel
theorem dX1_size_30 : decode cX1_size 30 = .ok (.iinc 2 1, 3) := by decide +kernel
theorem dX1_size_33 : decode cX1_size 33 = .ok (.iinc 3 1, 3) := by decide +kernel
theorem dX1_size_36 : decode cX1_size 36 = .ok (.goto (-32), 3) := by decide +kernel
theorem dX1_size_39 : decode cX1_size 39 = .ok (.iload_n 2, 1) := by decide +kernel
theorem dX1_size_40 : decode cX1_size 40 = .ok (.ireturn, 1) := by decide +kernel
theorem dX1_lastFrom_0 : decode cX1_lastFrom 0 = .ok (.bipush 31, 2) := by decide +kernel
theorem dX1_lastFrom_2 : decode cX1_lastFrom 2 = .ok (.istore_n 2, 1) := by decide +kernel
theorem dX1_lastFrom_3 : decode cX1_lastFrom 3 = .ok (.iload_n 2, 1) := by decide +kernel
theorem dX1_lastFrom_4 : decode cX1_lastFrom 4 = .ok (.ifCond .lt 30, 3) := by decide +kernel
theorem dX1_lastFrom_7 : decode cX1_lastFrom 7 = .ok (.aload_n 0, 1) := by decide +kernel
theorem dX1_lastFrom_8 : decode cX1_lastFrom 8 = .ok (.getfield 7, 3) := by decide +kernel
theorem dX1_lastFrom_11 : decode cX1_lastFrom 11 = .ok (.iload_n 2, 1) := by decide +kernel
theorem dX1_lastFrom_12 : decode cX1_lastFrom 12 = .ok (.baload, 1) := by decide +kernel
theorem dX1_lastFrom_13 : decode cX1_lastFrom 13 = .ok (.ifCond .eq 15, 3) := by decide +kernel
theorem dX1_lastFrom_16 : decode cX1_lastFrom 16 = .ok (.aload_n 0, 1) := by decide +kernel
theorem dX1_lastFrom_17 : decode cX1_lastFrom 17 = .ok (.getfield 13, 3) := by decide +kernel
theorem dX1_lastFrom_20 : decode cX1_lastFrom 20 = .ok (.iload_n 2, 1) := by decide +kernel
theorem dX1_lastFrom_21 : decode cX1_lastFrom 21 = .ok (.iaload, 1) := by decide +kernel
theorem dX1_lastFrom_22 : decode cX1_lastFrom 22 = .ok (.iload_n 1, 1) := by decide +kernel
theorem dX1_lastFrom_23 : decode cX1_lastFrom 23 = .ok (.if_icmp .lt 5, 3) := by decide +kernel
theorem dX1_lastFrom_26 : decode cX1_lastFrom 26 = .ok (.iload_n 2, 1) := by decide +kernel
theorem dX1_lastFrom_27 : decode cX1_lastFrom 27 = .ok (.ireturn, 1) := by decide +kernel
theorem dX1_lastFrom_28 : decode cX1_lastFrom 28 = .ok (.iinc 2 (-1), 3) := by decide +kernel
theorem dX1_lastFrom_31 : decode cX1_lastFrom 31 = .ok (.goto (-28), 3) := by decide +kernel
theorem dX1_lastFrom_34 : decode cX1_lastFrom 34 = .ok (.iconst (-1), 1) := by decide +kernel
theorem dX1_lastFrom_35 : decode cX1_lastFrom 35 = .ok (.ireturn, 1) := by decide +kernel
theorem dX1_assign_0 : decode cX1_assign 0 = .ok (.aload_n 0, 1) := by decide +kernel
theorem dX1_assign_1 : decode cX1_assign 1 = .ok (.getfield 26, 3) := by decide +kernel
theorem dX1_assign_4 : decode cX1_assign 4 = .ok (.iload_n 1, 1) := by decide +kernel
theorem dX1_assign_5 : decode cX1_assign 5 = .ok (.bipush 7, 2) := by decide +kernel
theorem dX1_assign_7 : decode cX1_assign 7 = .ok (.iand, 1) := by decide +kernel
theorem dX1_assign_8 : decode cX1_assign 8 = .ok (.iaload, 1) := by decide +kernel
theorem dX1_assign_9 : decode cX1_assign 9 = .ok (.istore_n 3, 1) := by decide +kernel
theorem dX1_assign_10 : decode cX1_assign 10 = .ok (.aload_n 0, 1) := by decide +kernel
theorem dX1_assign_11 : decode cX1_assign 11 = .ok (.getfield 26, 3) := by decide +kernel
theorem dX1_assign_14 : decode cX1_assign 14 = .ok (.iload_n 1, 1) := by decide +kernel
theorem dX1_assign_15 : decode cX1_assign 15 = .ok (.bipush 7, 2) := by decide +kernel
theorem dX1_assign_17 : decode cX1_assign 17 = .ok (.iand, 1) := by decide +kernel
theorem dX1_assign_18 : decode cX1_assign 18 = .ok (.iload_n 2, 1) := by decide +kernel
theorem dX1_assign_19 : decode cX1_assign 19 = .ok (.iconst 3, 1) := by decide +kernel
theorem dX1_assign_20 : decode cX1_assign 20 = .ok (.iand, 1) := by decide +kernel
theorem dX1_assign_21 : decode cX1_assign 21 = .ok (.iastore, 1) := by decide +kernel
theorem dX1_assign_22 : decode cX1_assign 22 = .ok (.iload_n 3, 1) := by decide +kernel
theorem dX1_assign_23 : decode cX1_assign 23 = .ok (.ireturn, 1) := by decide +kernel
theorem dX1_home_0 : decode cX1_home 0 = .ok (.aload_n 0, 1) := by decide +kernel
theorem dX1_home_1 : decode cX1_home 1 = .ok (.getfield 26, 3) := by decide +kernel
theorem dX1_home_4 : decode cX1_home 4 = .ok (.iload_n 1, 1) := by decide +kernel
theorem dX1_home_5 : decode cX1_home 5 = .ok (.bipush 7, 2) := by decide +kernel
theorem dX1_home_7 : decode cX1_home 7 = .ok (.iand, 1) := by decide +kernel
theorem dX1_home_8 : decode cX1_home 8 = .ok (.iaload, 1) := by decide +kernel
theorem dX1_home_9 : decode cX1_home 9 = .ok (.ireturn, 1) := by decide +kernel
theorem dX1_work_0 : decode cX1_work 0 = .ok (.return_, 1) := by decide +kernel
theorem dX1_lose_0 : decode cX1_lose 0 = .ok (.return_, 1) := by decide +kernel
end
section
set_option maxRecDepth 100000
theorem dL_law_0 : decode cL_law 0 = .ok (.new 7, 3) := by decide +kernel
theorem dL_law_3 : decode cL_law 3 = .ok (.dup, 1) := by decide +kernel
theorem dL_law_4 : decode cL_law 4 = .ok (.invokespecial 9, 3) := by decide +kernel
theorem dL_law_7 : decode cL_law 7 = .ok (.astore_n 1, 1) := by decide +kernel
theorem dL_law_8 : decode cL_law 8 = .ok (.new 10, 3) := by decide +kernel
theorem dL_law_11 : decode cL_law 11 = .ok (.dup, 1) := by decide +kernel
theorem dL_law_12 : decode cL_law 12 = .ok (.invokespecial 12, 3) := by decide +kernel
theorem dL_law_15 : decode cL_law 15 = .ok (.astore_n 2, 1) := by decide +kernel
theorem dL_law_16 : decode cL_law 16 = .ok (.iconst 0, 1) := by decide +kernel
theorem dL_law_17 : decode cL_law 17 = .ok (.istore_n 3, 1) := by decide +kernel
theorem dL_law_18 : decode cL_law 18 = .ok (.iload_n 3, 1) := by decide +kernel
theorem dL_law_19 : decode cL_law 19 = .ok (.aload_n 0, 1) := by decide +kernel
theorem dL_law_20 : decode cL_law 20 = .ok (.arraylength, 1) := by decide +kernel
theorem dL_law_21 : decode cL_law 21 = .ok (.iconst 5, 1) := by decide +kernel
theorem dL_law_22 : decode cL_law 22 = .ok (.isub, 1) := by decide +kernel
theorem dL_law_23 : decode cL_law 23 = .ok (.if_icmp .gt 414, 3) := by decide +kernel
theorem dL_law_26 : decode cL_law 26 = .ok (.aload_n 0, 1) := by decide +kernel
theorem dL_law_27 : decode cL_law 27 = .ok (.iload_n 3, 1) := by decide +kernel
theorem dL_law_28 : decode cL_law 28 = .ok (.iaload, 1) := by decide +kernel
theorem dL_law_29 : decode cL_law 29 = .ok (.bipush 15, 2) := by decide +kernel
theorem dL_law_31 : decode cL_law 31 = .ok (.iand, 1) := by decide +kernel
theorem dL_law_32 : decode cL_law 32 = .ok (.tableswitch 399 0 10 #[60, 113, 166, 209, 232, 255, 278, 301, 334, 357, 378], 60) := by decide +kernel
theorem dL_law_92 : decode cL_law 92 = .ok (.aload_n 1, 1) := by decide +kernel
theorem dL_law_93 : decode cL_law 93 = .ok (.aload_n 0, 1) := by decide +kernel
theorem dL_law_94 : decode cL_law 94 = .ok (.iload_n 3, 1) := by decide +kernel
theorem dL_law_95 : decode cL_law 95 = .ok (.iconst 1, 1) := by decide +kernel
theorem dL_law_96 : decode cL_law 96 = .ok (.iadd, 1) := by decide +kernel
theorem dL_law_97 : decode cL_law 97 = .ok (.iaload, 1) := by decide +kernel
theorem dL_law_98 : decode cL_law 98 = .ok (.aload_n 0, 1) := by decide +kernel
theorem dL_law_99 : decode cL_law 99 = .ok (.iload_n 3, 1) := by decide +kernel
theorem dL_law_100 : decode cL_law 100 = .ok (.iconst 2, 1) := by decide +kernel
theorem dL_law_101 : decode cL_law 101 = .ok (.iadd, 1) := by decide +kernel
theorem dL_law_102 : decode cL_law 102 = .ok (.iaload, 1) := by decide +kernel
theorem dL_law_103 : decode cL_law 103 = .ok (.aload_n 0, 1) := by decide +kernel
theorem dL_law_104 : decode cL_law 104 = .ok (.iload_n 3, 1) := by decide +kernel
theorem dL_law_105 : decode cL_law 105 = .ok (.iconst 3, 1) := by decide +kernel
theorem dL_law_106 : decode cL_law 106 = .ok (.iadd, 1) := by decide +kernel
theorem dL_law_107 : decode cL_law 107 = .ok (.iaload, 1) := by decide +kernel
theorem dL_law_108 : decode cL_law 108 = .ok (.aload_n 0, 1) := by decide +kernel
theorem dL_law_109 : decode cL_law 109 = .ok (.iload_n 3, 1) := by decide +kernel
theorem dL_law_110 : decode cL_law 110 = .ok (.iconst 4, 1) := by decide +kernel
theorem dL_law_111 : decode cL_law 111 = .ok (.iadd, 1) := by decide +kernel
theorem dL_law_112 : decode cL_law 112 = .ok (.iaload, 1) := by decide +kernel
theorem dL_law_113 : decode cL_law 113 = .ok (.invokevirtual 13, 3) := by decide +kernel
theorem dL_law_116 : decode cL_law 116 = .ok (.aload_n 2, 1) := by decide +kernel
theorem dL_law_117 : decode cL_law 117 = .ok (.aload_n 0, 1) := by decide +kernel
theorem dL_law_118 : decode cL_law 118 = .ok (.iload_n 3, 1) := by decide +kernel
theorem dL_law_119 : decode cL_law 119 = .ok (.iconst 1, 1) := by decide +kernel
theorem dL_law_120 : decode cL_law 120 = .ok (.iadd, 1) := by decide +kernel
theorem dL_law_121 : decode cL_law 121 = .ok (.iaload, 1) := by decide +kernel
theorem dL_law_122 : decode cL_law 122 = .ok (.aload_n 0, 1) := by decide +kernel
theorem dL_law_123 : decode cL_law 123 = .ok (.iload_n 3, 1) := by decide +kernel
theorem dL_law_124 : decode cL_law 124 = .ok (.iconst 2, 1) := by decide +kernel
theorem dL_law_125 : decode cL_law 125 = .ok (.iadd, 1) := by decide +kernel
theorem dL_law_126 : decode cL_law 126 = .ok (.iaload, 1) := by decide +kernel
theorem dL_law_127 : decode cL_law 127 = .ok (.aload_n 0, 1) := by decide +kernel
theorem dL_law_128 : decode cL_law 128 = .ok (.iload_n 3, 1) := by decide +kernel
theorem dL_law_129 : decode cL_law 129 = .ok (.iconst 3, 1) := by decide +kernel
theorem dL_law_130 : decode cL_law 130 = .ok (.iadd, 1) := by decide +kernel
theorem dL_law_131 : decode cL_law 131 = .ok (.iaload, 1) := by decide +kernel
theorem dL_law_132 : decode cL_law 132 = .ok (.aload_n 0, 1) := by decide +kernel
theorem dL_law_133 : decode cL_law 133 = .ok (.iload_n 3, 1) := by decide +kernel
theorem dL_law_134 : decode cL_law 134 = .ok (.iconst 4, 1) := by decide +kernel
theorem dL_law_135 : decode cL_law 135 = .ok (.iadd, 1) := by decide +kernel
theorem dL_law_136 : decode cL_law 136 = .ok (.iaload, 1) := by decide +kernel
theorem dL_law_137 : decode cL_law 137 = .ok (.invokevirtual 17, 3) := by decide +kernel
theorem dL_law_140 : decode cL_law 140 = .ok (.if_icmp .eq 291, 3) := by decide +kernel
theorem dL_law_143 : decode cL_law 143 = .ok (.iconst 0, 1) := by decide +kernel
theorem dL_law_144 : decode cL_law 144 = .ok (.ireturn, 1) := by decide +kernel
theorem dL_law_145 : decode cL_law 145 = .ok (.aload_n 1, 1) := by decide +kernel
theorem dL_law_146 : decode cL_law 146 = .ok (.aload_n 0, 1) := by decide +kernel
theorem dL_law_147 : decode cL_law 147 = .ok (.iload_n 3, 1) := by decide +kernel
theorem dL_law_148 : decode cL_law 148 = .ok (.iconst 1, 1) := by decide +kernel
theorem dL_law_149 : decode cL_law 149 = .ok (.iadd, 1) := by decide +kernel
theorem dL_law_150 : decode cL_law 150 = .ok (.iaload, 1) := by decide +kernel
theorem dL_law_151 : decode cL_law 151 = .ok (.aload_n 0, 1) := by decide +kernel
theorem dL_law_152 : decode cL_law 152 = .ok (.iload_n 3, 1) := by decide +kernel
theorem dL_law_153 : decode cL_law 153 = .ok (.iconst 2, 1) := by decide +kernel
theorem dL_law_154 : decode cL_law 154 = .ok (.iadd, 1) := by decide +kernel
theorem dL_law_155 : decode cL_law 155 = .ok (.iaload, 1) := by decide +kernel
theorem dL_law_156 : decode cL_law 156 = .ok (.aload_n 0, 1) := by decide +kernel
theorem dL_law_157 : decode cL_law 157 = .ok (.iload_n 3, 1) := by decide +kernel
theorem dL_law_158 : decode cL_law 158 = .ok (.iconst 3, 1) := by decide +kernel
theorem dL_law_159 : decode cL_law 159 = .ok (.iadd, 1) := by decide +kernel
theorem dL_law_160 : decode cL_law 160 = .ok (.iaload, 1) := by decide +kernel
theorem dL_law_161 : decode cL_law 161 = .ok (.aload_n 0, 1) := by decide +kernel
theorem dL_law_162 : decode cL_law 162 = .ok (.iload_n 3, 1) := by decide +kernel
theorem dL_law_163 : decode cL_law 163 = .ok (.iconst 4, 1) := by decide +kernel
theorem dL_law_164 : decode cL_law 164 = .ok (.iadd, 1) := by decide +kernel
theorem dL_law_165 : decode cL_law 165 = .ok (.iaload, 1) := by decide +kernel
theorem dL_law_166 : decode cL_law 166 = .ok (.invokevirtual 18, 3) := by decide +kernel
theorem dL_law_169 : decode cL_law 169 = .ok (.aload_n 2, 1) := by decide +kernel
theorem dL_law_170 : decode cL_law 170 = .ok (.aload_n 0, 1) := by decide +kernel
theorem dL_law_171 : decode cL_law 171 = .ok (.iload_n 3, 1) := by decide +kernel
theorem dL_law_172 : decode cL_law 172 = .ok (.iconst 1, 1) := by decide +kernel
theorem dL_law_173 : decode cL_law 173 = .ok (.iadd, 1) := by decide +kernel
theorem dL_law_174 : decode cL_law 174 = .ok (.iaload, 1) := by decide +kernel
theorem dL_law_175 : decode cL_law 175 = .ok (.aload_n 0, 1) := by decide +kernel
theorem dL_law_176 : decode cL_law 176 = .ok (.iload_n 3, 1) := by decide +kernel
theorem dL_law_177 : decode cL_law 177 = .ok (.iconst 2, 1) := by decide +kernel
theorem dL_law_178 : decode cL_law 178 = .ok (.iadd, 1) := by decide +kernel
theorem dL_law_179 : decode cL_law 179 = .ok (.iaload, 1) := by decide +kernel
theorem dL_law_180 : decode cL_law 180 = .ok (.aload_n 0, 1) := by decide +kernel
theorem dL_law_181 : decode cL_law 181 = .ok (.iload_n 3, 1) := by decide +kernel
theorem dL_law_182 : decode cL_law 182 = .ok (.iconst 3, 1) := by decide +kernel
theorem dL_law_183 : decode cL_law 183 = .ok (.iadd, 1) := by decide +kernel
theorem dL_law_184 : decode cL_law 184 = .ok (.iaload, 1) := by decide +kernel
theorem dL_law_185 : decode cL_law 185 = .ok (.aload_n 0, 1) := by decide +kernel
theorem dL_law_186 : decode cL_law 186 = .ok (.iload_n 3, 1) := by decide +kernel
theorem dL_law_187 : decode cL_law 187 = .ok (.iconst 4, 1) := by decide +kernel
theorem dL_law_188 : decode cL_law 188 = .ok (.iadd, 1) := by decide +kernel
theorem dL_law_189 : decode cL_law 189 = .ok (.iaload, 1) := by decide +kernel
theorem dL_law_190 : decode cL_law 190 = .ok (.invokevirtual 21, 3) := by decide +kernel
theorem dL_law_193 : decode cL_law 193 = .ok (.if_icmp .eq 238, 3) := by decide +kernel
theorem dL_law_196 : decode cL_law 196 = .ok (.iconst 0, 1) := by decide +kernel
theorem dL_law_197 : decode cL_law 197 = .ok (.ireturn, 1) := by decide +kernel
theorem dL_law_198 : decode cL_law 198 = .ok (.aload_n 1, 1) := by decide +kernel
theorem dL_law_199 : decode cL_law 199 = .ok (.aload_n 0, 1) := by decide +kernel
theorem dL_law_200 : decode cL_law 200 = .ok (.iload_n 3, 1) := by decide +kernel
theorem dL_law_201 : decode cL_law 201 = .ok (.iconst 1, 1) := by decide +kernel
theorem dL_law_202 : decode cL_law 202 = .ok (.iadd, 1) := by decide +kernel
theorem dL_law_203 : decode cL_law 203 = .ok (.iaload, 1) := by decide +kernel
theorem dL_law_204 : decode cL_law 204 = .ok (.aload_n 0, 1) := by decide +kernel
theorem dL_law_205 : decode cL_law 205 = .ok (.iload_n 3, 1) := by decide +kernel
theorem dL_law_206 : decode cL_law 206 = .ok (.iconst 2, 1) := by decide +kernel
theorem dL_law_207 : decode cL_law 207 = .ok (.iadd, 1) := by decide +kernel
theorem dL_law_208 : decode cL_law 208 = .ok (.iaload, 1) := by decide +kernel
theorem dL_law_209 : decode cL_law 209 = .ok (.aload_n 0, 1) := by decide +kernel
theorem dL_law_210 : decode cL_law 210 = .ok (.iload_n 3, 1) := by decide +kernel
theorem dL_law_211 : decode cL_law 211 = .ok (.iconst 3, 1) := by decide +kernel
theorem dL_law_212 : decode cL_law 212 = .ok (.iadd, 1) := by decide +kernel
theorem dL_law_213 : decode cL_law 213 = .ok (.iaload, 1) := by decide +kernel
theorem dL_law_214 : decode cL_law 214 = .ok (.invokevirtual 22, 3) := by decide +kernel
theorem dL_law_217 : decode cL_law 217 = .ok (.aload_n 2, 1) := by decide +kernel
theorem dL_law_218 : decode cL_law 218 = .ok (.aload_n 0, 1) := by decide +kernel
theorem dL_law_219 : decode cL_law 219 = .ok (.iload_n 3, 1) := by decide +kernel
theorem dL_law_220 : decode cL_law 220 = .ok (.iconst 1, 1) := by decide +kernel
theorem dL_law_221 : decode cL_law 221 = .ok (.iadd, 1) := by decide +kernel
theorem dL_law_222 : decode cL_law 222 = .ok (.iaload, 1) := by decide +kernel
theorem dL_law_223 : decode cL_law 223 = .ok (.aload_n 0, 1) := by decide +kernel
theorem dL_law_224 : decode cL_law 224 = .ok (.iload_n 3, 1) := by decide +kernel
theorem dL_law_225 : decode cL_law 225 = .ok (.iconst 2, 1) := by decide +kernel
theorem dL_law_226 : decode cL_law 226 = .ok (.iadd, 1) := by decide +kernel
theorem dL_law_227 : decode cL_law 227 = .ok (.iaload, 1) := by decide +kernel
theorem dL_law_228 : decode cL_law 228 = .ok (.aload_n 0, 1) := by decide +kernel
theorem dL_law_229 : decode cL_law 229 = .ok (.iload_n 3, 1) := by decide +kernel
theorem dL_law_230 : decode cL_law 230 = .ok (.iconst 3, 1) := by decide +kernel
theorem dL_law_231 : decode cL_law 231 = .ok (.iadd, 1) := by decide +kernel
theorem dL_law_232 : decode cL_law 232 = .ok (.iaload, 1) := by decide +kernel
theorem dL_law_233 : decode cL_law 233 = .ok (.invokevirtual 26, 3) := by decide +kernel
theorem dL_law_236 : decode cL_law 236 = .ok (.if_icmp .eq 195, 3) := by decide +kernel
theorem dL_law_239 : decode cL_law 239 = .ok (.iconst 0, 1) := by decide +kernel
theorem dL_law_240 : decode cL_law 240 = .ok (.ireturn, 1) := by decide +kernel
theorem dL_law_241 : decode cL_law 241 = .ok (.aload_n 1, 1) := by decide +kernel
theorem dL_law_242 : decode cL_law 242 = .ok (.aload_n 0, 1) := by decide +kernel
theorem dL_law_243 : decode cL_law 243 = .ok (.iload_n 3, 1) := by decide +kernel
theorem dL_law_244 : decode cL_law 244 = .ok (.iconst 1, 1) := by decide +kernel
theorem dL_law_245 : decode cL_law 245 = .ok (.iadd, 1) := by decide +kernel
theorem dL_law_246 : decode cL_law 246 = .ok (.iaload, 1) := by decide +kernel
theorem dL_law_247 : decode cL_law 247 = .ok (.invokevirtual 27, 3) := by decide +kernel
theorem dL_law_250 : decode cL_law 250 = .ok (.aload_n 2, 1) := by decide +kernel
theorem dL_law_251 : decode cL_law 251 = .ok (.aload_n 0, 1) := by decide +kernel
theorem dL_law_252 : decode cL_law 252 = .ok (.iload_n 3, 1) := by decide +kernel
theorem dL_law_253 : decode cL_law 253 = .ok (.iconst 1, 1) := by decide +kernel
theorem dL_law_254 : decode cL_law 254 = .ok (.iadd, 1) := by decide +kernel
theorem dL_law_255 : decode cL_law 255 = .ok (.iaload, 1) := by decide +kernel
theorem dL_law_256 : decode cL_law 256 = .ok (.invokevirtual 31, 3) := by decide +kernel
theorem dL_law_259 : decode cL_law 259 = .ok (.if_icmp .eq 172, 3) := by decide +kernel
theorem dL_law_262 : decode cL_law 262 = .ok (.iconst 0, 1) := by decide +kernel
theorem dL_law_263 : decode cL_law 263 = .ok (.ireturn, 1) := by decide +kernel
theorem dL_law_264 : decode cL_law 264 = .ok (.aload_n 1, 1) := by decide +kernel
theorem dL_law_265 : decode cL_law 265 = .ok (.aload_n 0, 1) := by decide +kernel
theorem dL_law_266 : decode cL_law 266 = .ok (.iload_n 3, 1) := by decide +kernel
theorem dL_law_267 : decode cL_law 267 = .ok (.iconst 1, 1) := by decide +kernel
theorem dL_law_268 : decode cL_law 268 = .ok (.iadd, 1) := by decide +kernel
theorem dL_law_269 : decode cL_law 269 = .ok (.iaload, 1) := by decide +kernel
theorem dL_law_270 : decode cL_law 270 = .ok (.invokevirtual 32, 3) := by decide +kernel
theorem dL_law_273 : decode cL_law 273 = .ok (.aload_n 2, 1) := by decide +kernel
theorem dL_law_274 : decode cL_law 274 = .ok (.aload_n 0, 1) := by decide +kernel
theorem dL_law_275 : decode cL_law 275 = .ok (.iload_n 3, 1) := by decide +kernel
theorem dL_law_276 : decode cL_law 276 = .ok (.iconst 1, 1) := by decide +kernel
theorem dL_law_277 : decode cL_law 277 = .ok (.iadd, 1) := by decide +kernel
theorem dL_law_278 : decode cL_law 278 = .ok (.iaload, 1) := by decide +kernel
theorem dL_law_279 : decode cL_law 279 = .ok (.invokevirtual 36, 3) := by decide +kernel
theorem dL_law_282 : decode cL_law 282 = .ok (.if_icmp .eq 149, 3) := by decide +kernel
theorem dL_law_285 : decode cL_law 285 = .ok (.iconst 0, 1) := by decide +kernel
theorem dL_law_286 : decode cL_law 286 = .ok (.ireturn, 1) := by decide +kernel
theorem dL_law_287 : decode cL_law 287 = .ok (.aload_n 1, 1) := by decide +kernel
theorem dL_law_288 : decode cL_law 288 = .ok (.aload_n 0, 1) := by decide +kernel
theorem dL_law_289 : decode cL_law 289 = .ok (.iload_n 3, 1) := by decide +kernel
theorem dL_law_290 : decode cL_law 290 = .ok (.iconst 1, 1) := by decide +kernel
theorem dL_law_291 : decode cL_law 291 = .ok (.iadd, 1) := by decide +kernel
theorem dL_law_292 : decode cL_law 292 = .ok (.iaload, 1) := by decide +kernel
theorem dL_law_293 : decode cL_law 293 = .ok (.invokevirtual 37, 3) := by decide +kernel
theorem dL_law_296 : decode cL_law 296 = .ok (.aload_n 2, 1) := by decide +kernel
theorem dL_law_297 : decode cL_law 297 = .ok (.aload_n 0, 1) := by decide +kernel
theorem dL_law_298 : decode cL_law 298 = .ok (.iload_n 3, 1) := by decide +kernel
theorem dL_law_299 : decode cL_law 299 = .ok (.iconst 1, 1) := by decide +kernel
theorem dL_law_300 : decode cL_law 300 = .ok (.iadd, 1) := by decide +kernel
theorem dL_law_301 : decode cL_law 301 = .ok (.iaload, 1) := by decide +kernel
theorem dL_law_302 : decode cL_law 302 = .ok (.invokevirtual 40, 3) := by decide +kernel
theorem dL_law_305 : decode cL_law 305 = .ok (.if_icmp .eq 126, 3) := by decide +kernel
theorem dL_law_308 : decode cL_law 308 = .ok (.iconst 0, 1) := by decide +kernel
theorem dL_law_309 : decode cL_law 309 = .ok (.ireturn, 1) := by decide +kernel
theorem dL_law_310 : decode cL_law 310 = .ok (.aload_n 1, 1) := by decide +kernel
theorem dL_law_311 : decode cL_law 311 = .ok (.aload_n 0, 1) := by decide +kernel
theorem dL_law_312 : decode cL_law 312 = .ok (.iload_n 3, 1) := by decide +kernel
theorem dL_law_313 : decode cL_law 313 = .ok (.iconst 1, 1) := by decide +kernel
theorem dL_law_314 : decode cL_law 314 = .ok (.iadd, 1) := by decide +kernel
theorem dL_law_315 : decode cL_law 315 = .ok (.iaload, 1) := by decide +kernel
theorem dL_law_316 : decode cL_law 316 = .ok (.invokevirtual 41, 3) := by decide +kernel
theorem dL_law_319 : decode cL_law 319 = .ok (.aload_n 2, 1) := by decide +kernel
theorem dL_law_320 : decode cL_law 320 = .ok (.aload_n 0, 1) := by decide +kernel
theorem dL_law_321 : decode cL_law 321 = .ok (.iload_n 3, 1) := by decide +kernel
theorem dL_law_322 : decode cL_law 322 = .ok (.iconst 1, 1) := by decide +kernel
theorem dL_law_323 : decode cL_law 323 = .ok (.iadd, 1) := by decide +kernel
theorem dL_law_324 : decode cL_law 324 = .ok (.iaload, 1) := by decide +kernel
theorem dL_law_325 : decode cL_law 325 = .ok (.invokevirtual 44, 3) := by decide +kernel
theorem dL_law_328 : decode cL_law 328 = .ok (.if_icmp .eq 103, 3) := by decide +kernel
theorem dL_law_331 : decode cL_law 331 = .ok (.iconst 0, 1) := by decide +kernel
theorem dL_law_332 : decode cL_law 332 = .ok (.ireturn, 1) := by decide +kernel
theorem dL_law_333 : decode cL_law 333 = .ok (.aload_n 1, 1) := by decide +kernel
theorem dL_law_334 : decode cL_law 334 = .ok (.aload_n 0, 1) := by decide +kernel
theorem dL_law_335 : decode cL_law 335 = .ok (.iload_n 3, 1) := by decide +kernel
theorem dL_law_336 : decode cL_law 336 = .ok (.iconst 1, 1) := by decide +kernel
theorem dL_law_337 : decode cL_law 337 = .ok (.iadd, 1) := by decide +kernel
theorem dL_law_338 : decode cL_law 338 = .ok (.iaload, 1) := by decide +kernel
theorem dL_law_339 : decode cL_law 339 = .ok (.aload_n 0, 1) := by decide +kernel
theorem dL_law_340 : decode cL_law 340 = .ok (.iload_n 3, 1) := by decide +kernel
theorem dL_law_341 : decode cL_law 341 = .ok (.iconst 2, 1) := by decide +kernel
theorem dL_law_342 : decode cL_law 342 = .ok (.iadd, 1) := by decide +kernel
theorem dL_law_343 : decode cL_law 343 = .ok (.iaload, 1) := by decide +kernel
theorem dL_law_344 : decode cL_law 344 = .ok (.invokevirtual 45, 3) := by decide +kernel
theorem dL_law_347 : decode cL_law 347 = .ok (.aload_n 2, 1) := by decide +kernel
theorem dL_law_348 : decode cL_law 348 = .ok (.aload_n 0, 1) := by decide +kernel
theorem dL_law_349 : decode cL_law 349 = .ok (.iload_n 3, 1) := by decide +kernel
theorem dL_law_350 : decode cL_law 350 = .ok (.iconst 1, 1) := by decide +kernel
theorem dL_law_351 : decode cL_law 351 = .ok (.iadd, 1) := by decide +kernel
theorem dL_law_352 : decode cL_law 352 = .ok (.iaload, 1) := by decide +kernel
theorem dL_law_353 : decode cL_law 353 = .ok (.aload_n 0, 1) := by decide +kernel
theorem dL_law_354 : decode cL_law 354 = .ok (.iload_n 3, 1) := by decide +kernel
theorem dL_law_355 : decode cL_law 355 = .ok (.iconst 2, 1) := by decide +kernel
theorem dL_law_356 : decode cL_law 356 = .ok (.iadd, 1) := by decide +kernel
theorem dL_law_357 : decode cL_law 357 = .ok (.iaload, 1) := by decide +kernel
theorem dL_law_358 : decode cL_law 358 = .ok (.invokevirtual 49, 3) := by decide +kernel
theorem dL_law_361 : decode cL_law 361 = .ok (.if_icmp .eq 70, 3) := by decide +kernel
theorem dL_law_364 : decode cL_law 364 = .ok (.iconst 0, 1) := by decide +kernel
theorem dL_law_365 : decode cL_law 365 = .ok (.ireturn, 1) := by decide +kernel
theorem dL_law_366 : decode cL_law 366 = .ok (.aload_n 1, 1) := by decide +kernel
theorem dL_law_367 : decode cL_law 367 = .ok (.aload_n 0, 1) := by decide +kernel
theorem dL_law_368 : decode cL_law 368 = .ok (.iload_n 3, 1) := by decide +kernel
theorem dL_law_369 : decode cL_law 369 = .ok (.iconst 1, 1) := by decide +kernel
theorem dL_law_370 : decode cL_law 370 = .ok (.iadd, 1) := by decide +kernel
theorem dL_law_371 : decode cL_law 371 = .ok (.iaload, 1) := by decide +kernel
theorem dL_law_372 : decode cL_law 372 = .ok (.invokevirtual 50, 3) := by decide +kernel
theorem dL_law_375 : decode cL_law 375 = .ok (.aload_n 2, 1) := by decide +kernel
theorem dL_law_376 : decode cL_law 376 = .ok (.aload_n 0, 1) := by decide +kernel
theorem dL_law_377 : decode cL_law 377 = .ok (.iload_n 3, 1) := by decide +kernel
theorem dL_law_378 : decode cL_law 378 = .ok (.iconst 1, 1) := by decide +kernel
theorem dL_law_379 : decode cL_law 379 = .ok (.iadd, 1) := by decide +kernel
theorem dL_law_380 : decode cL_law 380 = .ok (.iaload, 1) := by decide +kernel
theorem dL_law_381 : decode cL_law 381 = .ok (.invokevirtual 53, 3) := by decide +kernel
theorem dL_law_384 : decode cL_law 384 = .ok (.if_icmp .eq 47, 3) := by decide +kernel
theorem dL_law_387 : decode cL_law 387 = .ok (.iconst 0, 1) := by decide +kernel
theorem dL_law_388 : decode cL_law 388 = .ok (.ireturn, 1) := by decide +kernel
theorem dL_law_389 : decode cL_law 389 = .ok (.aload_n 1, 1) := by decide +kernel
theorem dL_law_390 : decode cL_law 390 = .ok (.aload_n 0, 1) := by decide +kernel
theorem dL_law_391 : decode cL_law 391 = .ok (.iload_n 3, 1) := by decide +kernel
theorem dL_law_392 : decode cL_law 392 = .ok (.iconst 1, 1) := by decide +kernel
theorem dL_law_393 : decode cL_law 393 = .ok (.iadd, 1) := by decide +kernel
theorem dL_law_394 : decode cL_law 394 = .ok (.iaload, 1) := by decide +kernel
theorem dL_law_395 : decode cL_law 395 = .ok (.invokevirtual 54, 3) := by decide +kernel
theorem dL_law_398 : decode cL_law 398 = .ok (.aload_n 2, 1) := by decide +kernel
theorem dL_law_399 : decode cL_law 399 = .ok (.aload_n 0, 1) := by decide +kernel
theorem dL_law_400 : decode cL_law 400 = .ok (.iload_n 3, 1) := by decide +kernel
theorem dL_law_401 : decode cL_law 401 = .ok (.iconst 1, 1) := by decide +kernel
theorem dL_law_402 : decode cL_law 402 = .ok (.iadd, 1) := by decide +kernel
theorem dL_law_403 : decode cL_law 403 = .ok (.iaload, 1) := by decide +kernel
theorem dL_law_404 : decode cL_law 404 = .ok (.invokevirtual 58, 3) := by decide +kernel
theorem dL_law_407 : decode cL_law 407 = .ok (.goto 24, 3) := by decide +kernel
theorem dL_law_410 : decode cL_law 410 = .ok (.aload_n 1, 1) := by decide +kernel
theorem dL_law_411 : decode cL_law 411 = .ok (.aload_n 0, 1) := by decide +kernel
theorem dL_law_412 : decode cL_law 412 = .ok (.iload_n 3, 1) := by decide +kernel
theorem dL_law_413 : decode cL_law 413 = .ok (.iconst 1, 1) := by decide +kernel
theorem dL_law_414 : decode cL_law 414 = .ok (.iadd, 1) := by decide +kernel
theorem dL_law_415 : decode cL_law 415 = .ok (.iaload, 1) := by decide +kernel
theorem dL_law_416 : decode cL_law 416 = .ok (.invokevirtual 59, 3) := by decide +kernel
theorem dL_law_419 : decode cL_law 419 = .ok (.aload_n 2, 1) := by decide +kernel
theorem dL_law_420 : decode cL_law 420 = .ok (.aload_n 0, 1) := by decide +kernel
theorem dL_law_421 : decode cL_law 421 = .ok (.iload_n 3, 1) := by decide +kernel
theorem dL_law_422 : decode cL_law 422 = .ok (.iconst 1, 1) := by decide +kernel
theorem dL_law_423 : decode cL_law 423 = .ok (.iadd, 1) := by decide +kernel
theorem dL_law_424 : decode cL_law 424 = .ok (.iaload, 1) := by decide +kernel
theorem dL_law_425 : decode cL_law 425 = .ok (.invokevirtual 62, 3) := by decide +kernel
theorem dL_law_428 : decode cL_law 428 = .ok (.goto 3, 3) := by decide +kernel
theorem dL_law_431 : decode cL_law 431 = .ok (.iinc 3 5, 3) := by decide +kernel
theorem dL_law_434 : decode cL_law 434 = .ok (.goto (-416), 3) := by decide +kernel
theorem dL_law_437 : decode cL_law 437 = .ok (.iconst 1, 1) := by decide +kernel
theorem dL_law_438 : decode cL_law 438 = .ok (.ireturn, 1) := by decide +kernel
end
section
/-! GENERIC WORLDS: one object whose first n fields are arrays (of int or boolean), the others the values ex; M k i is what array k holds at place i -/
abbrev SM : Type := Nat → Nat → Int32
def sU (M : SM) (k i : Nat) (x : Int32) : SM := fun j q => if j = k ∧ q = i then x else M j q
theorem sU_s (M : SM) (k i : Nat) (x : Int32) : sU M k i x k i = x := by simp [sU]
theorem sU_k {M : SM} {k i j q : Nat} {x : Int32} (h : j ≠ k) : sU M k i x j q = M j q := by simp [sU, h]
theorem sU_i {M : SM} {k i j q : Nat} {x : Int32} (h : q ≠ i) : sU M k i x j q = M j q := by simp [sU, h]
def gw (ci n : Nat) (len : Nat → Nat) (d : Nat → ClassId) (h : Nat) (ad : Nat → Nat) (M : SM) (ex : List Value) : va_W :=
  (h, .inr (ci, (List.range n).map (fun k => Value.ref (ad k)) ++ ex)) :: (List.range n).map (fun k => (ad k, .inl (d k, len k, .inl (M k))))
def gK (n : Nat) (d : Nat → ClassId) (ty : Nat → FieldType) : List (ClassId × FieldType) := (List.range n).map (fun k => (d k, ty k))
/-- the addresses of such a world -/
def gA (n h : Nat) (ad : Nat → Nat) : Nat → Prop := fun q => q = h ∨ ∃ k, k < n ∧ q = ad k
/-- they are apart -/
def gAp (n h : Nat) (ad : Nat → Nat) : Prop := (∀ i j, i < n → j < n → ad i = ad j → i = j) ∧ ∀ i, i < n → ad i ≠ h
theorem gw_at {ci n : Nat} {len : Nat → Nat} {d : Nat → ClassId} {h : Nat} {ad : Nat → Nat} {M : SM} {ex : List Value} {k : Nat} (hk : k < n) : (gw ci n len d h ad M ex)[k + 1]? = some (ad k, .inl (d k, len k, .inl (M k))) := by
  simp [gw, hk]
theorem gw_ob {ci n : Nat} {len : Nat → Nat} {d : Nat → ClassId} {h : Nat} {ad : Nat → Nat} {M : SM} {ex : List Value} : (gw ci n len d h ad M ex)[0]? = some (h, .inr (ci, (List.range n).map (fun k => Value.ref (ad k)) ++ ex)) := rfl
theorem gK_at {n : Nat} {d : Nat → ClassId} {ty : Nat → FieldType} {k : Nat} (hk : k < n) : (gK n d ty)[k]? = some (d k, ty k) := by
  simp [gK, hk]
theorem gw_set {ci n : Nat} {len : Nat → Nat} {d : Nat → ClassId} {h : Nat} {ad : Nat → Nat} {M : SM} {ex : List Value} {k i : Nat} {x : Int32} (hk : k < n) :
    (gw ci n len d h ad M ex).set (k + 1) (ad k, .inl (d k, len k, .inl (upd (M k) i x))) = gw ci n len d h ad (sU M k i x) ex := by
  unfold gw
  rw [List.set_cons_succ]
  congr 1
  apply List.ext_getElem?
  intro j
  rw [List.getElem?_set]
  by_cases hj : k = j
  · subst hj
    simp only [List.length_map, List.length_range, hk, if_true, List.getElem?_map, List.getElem?_range hk, Option.map_some]
    rw [show upd (M k) i x = sU M k i x k from by
      funext q
      by_cases hq : q = i
      · simp [sU, upd, hq]
      · simp [sU, upd, hq]]
  · simp only [hj, if_false, List.getElem?_map]
    cases hr : (List.range n)[j]? with
    | none => rfl
    | some v =>
      have hv : v = j := by
        have := (List.getElem?_eq_some_iff.mp hr)
        obtain ⟨h1, h2⟩ := this
        simp at h2
        exact h2.symm
      subst hv
      simp only [Option.map_some]
      rw [show sU M k i x v = M v from by
        funext q
        simp [sU, Ne.symm hj]]
theorem gw_setx {ci n : Nat} {len : Nat → Nat} {d : Nat → ClassId} {h : Nat} {ad : Nat → Nat} {M : SM} {ex : List Value} {j : Nat} {v : Value} :
    (gw ci n len d h ad M ex).set 0 (h, .inr (ci, ((List.range n).map (fun k => Value.ref (ad k)) ++ ex).set (n + j) v)) = gw ci n len d h ad M (ex.set j v) := by
  unfold gw
  rw [List.set_cons_zero]
  congr 4
  rw [List.set_append_right _ _ (by simp)]
  simp
theorem gw_D {ci n : Nat} {len : Nat → Nat} {d : Nat → ClassId} {h : Nat} {ad : Nat → Nat} {M : SM} {ex : List Value} {A : Nat → Prop} (ha : gAp n h ad) (hA : ∀ q, gA n h ad q → A q) : va_D A (gw ci n len d h ad M ex) := by
  have key : ∀ (i : Nat) (x : Nat × va_E), (gw ci n len d h ad M ex)[i]? = some x → (i = 0 ∧ x.1 = h) ∨ ∃ k, k < n ∧ i = k + 1 ∧ x.1 = ad k := by
    intro i x hx
    match i, hx with
    | 0, hx => exact Or.inl ⟨rfl, by rw [gw_ob] at hx; cases hx; rfl⟩
    | k + 1, hx =>
      by_cases hk : k < n
      · rw [gw_at hk] at hx
        cases hx
        exact Or.inr ⟨k, hk, rfl, rfl⟩
      · exfalso
        simp [gw, hk] at hx
  refine ⟨fun i j x y hx hy hxy => ?_, fun i x hx => ?_⟩
  · rcases key i x hx with ⟨a1, a2⟩ | ⟨k, a1, a2, a3⟩ <;> rcases key j y hy with ⟨b1, b2⟩ | ⟨k', b1, b2, b3⟩
    · omega
    · exact absurd (b3.symm.trans (hxy.symm.trans a2)) (ha.2 k' b1)
    · exact absurd (a3.symm.trans (hxy.trans b2)) (ha.2 k a1)
    · have := ha.1 k k' a1 b1 (a3.symm.trans (hxy.trans b3))
      omega
  · rcases key i x hx with ⟨a1, a2⟩ | ⟨k, a1, a2, a3⟩
    · exact hA _ (Or.inl a2)
    · exact hA _ (Or.inr ⟨k, a1, a3⟩)
/-- what a world's cells are depends on their own addresses alone -/
theorem gw_kept {D : va_G} {cl : List vw_C} {ci n : Nat} {len : Nat → Nat} {d : Nat → ClassId} {h : Nat} {ad : Nat → Nat} {M : SM} {ex : List Value} {H H1 : Heap} (hP : va_P D cl (gw ci n len d h ad M ex) H) (hk : ∀ q, q < H.size → gA n h ad q → H1[q]? = H[q]?) : va_P D cl (gw ci n len d h ad M ex) H1 := by
  refine hP.kept (fun i x hx => hk _ (hP i x hx).lt ?_)
  match i, hx with
  | 0, hx => rw [gw_ob] at hx; cases hx; exact Or.inl rfl
  | k + 1, hx =>
    by_cases hk : k < n
    · rw [gw_at hk] at hx
      cases hx
      exact Or.inr ⟨k, hk, rfl⟩
    · exfalso
      simp [gw, hk] at hx
section GX
variable {p : Program} {l : Launch} {e : Env} {R : Room} {s : State} {m : MethodId} {args : Array Value} {below : List Frame} {meth : Method} {c : Code} {H : Heap} {locs : List Loc} {cells slots : Nat} {Q : State → Prop}
variable {cc : ByteArray} {pc : Nat} {ls : Array Slot} {rest : List Value} {D : va_G} {cl : List vw_C} {A : Nat → Prop} {H0 : Heap}
variable {ci n : Nat} {len : Nat → Nat} {d : Nat → ClassId} {ty : Nat → FieldType} {h : Nat} {ad : Nat → Nat} {M : SM} {ex : List Value}
/-- the number on top, under another name -/
theorem gx_re {x y : Int32} (hxy : x = y) (kk : W p l e R s m args below meth c H locs cells slots Q (F0 m pc ls (.int y :: rest))) : W p l e R s m args below meth c H locs cells slots Q (F0 m pc ls (.int x :: rest)) := by rw [hxy]; exact kk
theorem gx_add (hx : p.tables.exec = Jvm.exec) (hb : c.code = cc) {a b : Nat} (hdg : decode cc pc = .ok (.iadd, 1)) (kk : W p l e R s m args below meth c H locs cells slots Q (F0 m (pc + 1) ls (.int (nI (a + b)) :: rest))) : W p l e R s m args below meth c H locs cells slots Q (F0 m pc ls (.int (nI b) :: .int (nI a) :: rest)) := by
  refine lv_iadd hx hb hdg ?_
  rw [nI_add]; exact kk
theorem gx_mul (hx : p.tables.exec = Jvm.exec) (hb : c.code = cc) {a b : Nat} (hdg : decode cc pc = .ok (.imul, 1)) (kk : W p l e R s m args below meth c H locs cells slots Q (F0 m (pc + 1) ls (.int (nI (a * b)) :: rest))) : W p l e R s m args below meth c H locs cells slots Q (F0 m pc ls (.int (nI b) :: .int (nI a) :: rest)) := by
  refine lv_imul hx hb hdg ?_
  rw [pk_mul]; exact kk
theorem gx_sub (hx : p.tables.exec = Jvm.exec) (hb : c.code = cc) {a b : Nat} (hab : b ≤ a) (hdg : decode cc pc = .ok (.isub, 1)) (kk : W p l e R s m args below meth c H locs cells slots Q (F0 m (pc + 1) ls (.int (nI (a - b)) :: rest))) : W p l e R s m args below meth c H locs cells slots Q (F0 m pc ls (.int (nI b) :: .int (nI a) :: rest)) := by
  refine lv_isub hx hb hdg ?_
  rw [pk_sub hab]; exact kk
/-- and with a mask of k bits -/
theorem gx_and (hx : p.tables.exec = Jvm.exec) (hb : c.code = cc) {a j : Nat} {x y : Int32} (hj : x &&& y = nI j) (hdg : decode cc pc = .ok (.iand, 1)) (kk : W p l e R s m args below meth c H locs cells slots Q (F0 m (pc + 1) ls (.int (nI j) :: rest))) : W p l e R s m args below meth c H locs cells slots Q (F0 m pc ls (.int y :: .int x :: rest)) := by
  refine lv_iand hx hb hdg ?_
  rw [hj]; exact kk
theorem gx_ge (hx : p.tables.exec = Jvm.exec) (hb : c.code = cc) {a b : Nat} {off : Int} (tgt : Nat) (ha : a < 2147483648) (hbb : b < 2147483648) (hdg : decode cc pc = .ok (.if_icmp .ge off, 3)) (ht : (pc : Int) + off = (tgt : Int)) (k1 : b ≤ a → W p l e R s m args below meth c H locs cells slots Q (F0 m tgt ls rest)) (k2 : a < b → W p l e R s m args below meth c H locs cells slots Q (F0 m (pc + 3) ls rest)) : W p l e R s m args below meth c H locs cells slots Q (F0 m pc ls (.int (nI b) :: .int (nI a) :: rest)) := by
  refine lv_icmp_ge (tgt := tgt) hx hb hdg ht (fun q => k1 ?_) (fun q => k2 ?_)
  · exact (nI_leI hbb ha).mp q
  · exact Nat.lt_of_not_le (fun h => q ((nI_leI hbb ha).mpr h))
theorem gx_lt (hx : p.tables.exec = Jvm.exec) (hb : c.code = cc) {a b : Nat} {off : Int} (tgt : Nat) (ha : a < 2147483648) (hbb : b < 2147483648) (hdg : decode cc pc = .ok (.if_icmp .lt off, 3)) (ht : (pc : Int) + off = (tgt : Int)) (k1 : a < b → W p l e R s m args below meth c H locs cells slots Q (F0 m tgt ls rest)) (k2 : b ≤ a → W p l e R s m args below meth c H locs cells slots Q (F0 m (pc + 3) ls rest)) : W p l e R s m args below meth c H locs cells slots Q (F0 m pc ls (.int (nI b) :: .int (nI a) :: rest)) := by
  refine lv_icmp_lt (tgt := tgt) hx hb hdg ht (fun q => k1 ?_) (fun q => k2 ?_)
  · exact (nI_ltI ha hbb).mp q
  · exact Nat.le_of_not_lt (fun h => q ((nI_ltI ha hbb).mpr h))
theorem gx_gt (hx : p.tables.exec = Jvm.exec) (hb : c.code = cc) {a b : Nat} {off : Int} (tgt : Nat) (ha : a < 2147483648) (hbb : b < 2147483648) (hdg : decode cc pc = .ok (.if_icmp .gt off, 3)) (ht : (pc : Int) + off = (tgt : Int)) (k1 : b < a → W p l e R s m args below meth c H locs cells slots Q (F0 m tgt ls rest)) (k2 : a ≤ b → W p l e R s m args below meth c H locs cells slots Q (F0 m (pc + 3) ls rest)) : W p l e R s m args below meth c H locs cells slots Q (F0 m pc ls (.int (nI b) :: .int (nI a) :: rest)) := by
  refine lv_icmp_gt (tgt := tgt) hx hb hdg ht (fun q => k1 ?_) (fun q => k2 ?_)
  · exact (nI_ltI hbb ha).mp q
  · exact Nat.le_of_not_lt (fun h => q ((nI_ltI hbb ha).mpr h))
theorem gx_ne (hx : p.tables.exec = Jvm.exec) (hb : c.code = cc) {a b : Nat} {off : Int} (tgt : Nat) (ha : a < 2147483648) (hbb : b < 2147483648) (hdg : decode cc pc = .ok (.if_icmp .ne off, 3)) (ht : (pc : Int) + off = (tgt : Int)) (k1 : a ≠ b → W p l e R s m args below meth c H locs cells slots Q (F0 m tgt ls rest)) (k2 : a = b → W p l e R s m args below meth c H locs cells slots Q (F0 m (pc + 3) ls rest)) : W p l e R s m args below meth c H locs cells slots Q (F0 m pc ls (.int (nI b) :: .int (nI a) :: rest)) := by
  refine lv_icmp_ne (tgt := tgt) hx hb hdg ht (fun q => k1 ?_) (fun q => k2 ?_)
  · exact fun h => q (by rw [h])
  · first | exact (nI_eq ha hbb).mp q | exact (nI_eq ha hbb).mp (Decidable.of_not_not q)
theorem gx_eq (hx : p.tables.exec = Jvm.exec) (hb : c.code = cc) {a b : Nat} {off : Int} (tgt : Nat) (ha : a < 2147483648) (hbb : b < 2147483648) (hdg : decode cc pc = .ok (.if_icmp .eq off, 3)) (ht : (pc : Int) + off = (tgt : Int)) (k1 : a = b → W p l e R s m args below meth c H locs cells slots Q (F0 m tgt ls rest)) (k2 : a ≠ b → W p l e R s m args below meth c H locs cells slots Q (F0 m (pc + 3) ls rest)) : W p l e R s m args below meth c H locs cells slots Q (F0 m pc ls (.int (nI b) :: .int (nI a) :: rest)) := by
  refine lv_icmp_eq (tgt := tgt) hx hb hdg ht (fun q => k1 ?_) (fun q => k2 ?_)
  · exact (nI_eq ha hbb).mp q
  · exact fun h => q (by rw [h])
theorem gx_ifeq (hx : p.tables.exec = Jvm.exec) (hb : c.code = cc) {a : Nat} {off : Int} (tgt : Nat) (ha : a < 2147483648) (hdg : decode cc pc = .ok (.ifCond .eq off, 3)) (ht : (pc : Int) + off = (tgt : Int)) (k1 : a = 0 → W p l e R s m args below meth c H locs cells slots Q (F0 m tgt ls rest)) (k2 : a ≠ 0 → W p l e R s m args below meth c H locs cells slots Q (F0 m (pc + 3) ls rest)) : W p l e R s m args below meth c H locs cells slots Q (F0 m pc ls (.int (nI a) :: rest)) := by
  refine lv_if_eq (tgt := tgt) hx hb hdg ht (fun q => k1 ?_) (fun q => k2 ?_)
  · exact (nI_eq ha (by decide)).mp q
  · exact fun h => q (by rw [h]; rfl)
theorem gx_ifne (hx : p.tables.exec = Jvm.exec) (hb : c.code = cc) {a : Nat} {off : Int} (tgt : Nat) (ha : a < 2147483648) (hdg : decode cc pc = .ok (.ifCond .ne off, 3)) (ht : (pc : Int) + off = (tgt : Int)) (k1 : a ≠ 0 → W p l e R s m args below meth c H locs cells slots Q (F0 m tgt ls rest)) (k2 : a = 0 → W p l e R s m args below meth c H locs cells slots Q (F0 m (pc + 3) ls rest)) : W p l e R s m args below meth c H locs cells slots Q (F0 m pc ls (.int (nI a) :: rest)) := by
  refine lv_if_ne (tgt := tgt) hx hb hdg ht (fun q => k1 ?_) (fun q => k2 ?_)
  · exact fun h => q (by rw [h]; rfl)
  · first | exact (nI_eq ha (by decide)).mp q | exact (nI_eq ha (by decide)).mp (Decidable.of_not_not q)
theorem gx_iald (hx : p.tables.exec = Jvm.exec) (hb : c.code = cc) (hK : va_K D cl (gK n d ty) s) (hP : va_P D cl (gw ci n len d h ad M ex) H) (k : Nat) {i : Nat} (L : Nat) (hk : k < n) (hL : len k = L) (hty : ty k = .int) (hi : i < L) (h31 : L < 2147483648) (hdg : decode cc pc = .ok (.iaload, 1)) (kk : W p l e R s m args below meth c H locs cells slots Q (F0 m (pc + 1) ls (.int (M k i) :: rest))) : W p l e R s m args below meth c H locs cells slots Q (F0 m pc ls (.int (nI i) :: .ref (ad k) :: rest)) := by
  refine va_iald hx hb hK hP (k + 1) k (gw_at hk) (by rw [gK_at hk, hty]) (by rw [hL]; exact vp_in_nI hi h31) hdg ?_
  rw [nI_clamp (by omega)]; exact kk
theorem gx_zald (hx : p.tables.exec = Jvm.exec) (hb : c.code = cc) (hK : va_K D cl (gK n d ty) s) (hP : va_P D cl (gw ci n len d h ad M ex) H) (k : Nat) {i : Nat} (L : Nat) (hk : k < n) (hL : len k = L) (hty : ty k = .boolean) (hi : i < L) (h31 : L < 2147483648) (hdg : decode cc pc = .ok (.baload, 1)) (kk : W p l e R s m args below meth c H locs cells slots Q (F0 m (pc + 1) ls (.int (M k i) :: rest))) : W p l e R s m args below meth c H locs cells slots Q (F0 m pc ls (.int (nI i) :: .ref (ad k) :: rest)) := by
  refine va_zald hx hb hK hP (k + 1) k (gw_at hk) (by rw [gK_at hk, hty]) (by rw [hL]; exact vp_in_nI hi h31) hdg ?_
  rw [nI_clamp (by omega)]; exact kk
theorem gx_iast (hx : p.tables.exec = Jvm.exec) (hb : c.code = cc) (hK : va_K D cl (gK n d ty) s) (ha : gAp n h ad) (hA : ∀ q, gA n h ad q → A q) (hP : va_P D cl (gw ci n len d h ad M ex) H) (hS : va_S A H0 H locs) (k : Nat) {i : Nat} {x : Int32} (L : Nat) (hk : k < n) (hL : len k = L) (hty : ty k = .int) (hi : i < L) (h31 : L < 2147483648) (hdg : decode cc pc = .ok (.iastore, 1)) (kk : ∀ (H1 : Heap) (locs1 : List Loc), va_P D cl (gw ci n len d h ad (sU M k i x) ex) H1 → va_S A H0 H1 locs1 → W p l e R s m args below meth c H1 locs1 cells slots Q (F0 m (pc + 1) ls rest)) : W p l e R s m args below meth c H locs cells slots Q (F0 m pc ls (.int x :: .int (nI i) :: .ref (ad k) :: rest)) := by
  refine va_iast hx hb hK hP (gw_D ha hA) hS (k + 1) k (gw_at hk) (by rw [gK_at hk, hty]) (by rw [hL]; exact vp_in_nI hi h31) hdg (fun H1 locs1 hP1 _ hS1 => ?_)
  rw [nI_clamp (by omega), gw_set hk] at hP1
  exact kk H1 locs1 hP1 hS1
theorem gx_zast (hx : p.tables.exec = Jvm.exec) (hb : c.code = cc) (hK : va_K D cl (gK n d ty) s) (ha : gAp n h ad) (hA : ∀ q, gA n h ad q → A q) (hP : va_P D cl (gw ci n len d h ad M ex) H) (hS : va_S A H0 H locs) (k : Nat) {i : Nat} {x : Int32} (L : Nat) (hk : k < n) (hL : len k = L) (hty : ty k = .boolean) (hi : i < L) (h31 : L < 2147483648) (hx01 : x = 0 ∨ x = 1) (hdg : decode cc pc = .ok (.bastore, 1)) (kk : ∀ (H1 : Heap) (locs1 : List Loc), va_P D cl (gw ci n len d h ad (sU M k i x) ex) H1 → va_S A H0 H1 locs1 → W p l e R s m args below meth c H1 locs1 cells slots Q (F0 m (pc + 1) ls rest)) : W p l e R s m args below meth c H locs cells slots Q (F0 m pc ls (.int x :: .int (nI i) :: .ref (ad k) :: rest)) := by
  refine va_zast hx hb hK hP (gw_D ha hA) hS (k + 1) k (gw_at hk) (by rw [gK_at hk, hty]) (by rw [hL]; exact vp_in_nI hi h31) hdg (fun H1 locs1 hP1 _ hS1 => ?_)
  rw [nI_clamp (by omega), show vp_nar .boolean x = x from by rcases hx01 with q | q <;> subst q <;> rfl, gw_set hk] at hP1
  exact kk H1 locs1 hP1 hS1
end GX
end
section
/-! THE TWO CLASSES' WORLDS, and the rows of a contract: its start, getfield of an array, calls of methods of the same object -/
abbrev vwCl : List vw_C := [(RX0, TX0, 21), (RX1, TX1, 6)]
/-- classes' ids and slots; array classes; the object's address; its arrays' addresses -/
abbrev Cx : Type := va_G × (Nat → ClassId) × Nat × (Nat → Nat)
def len0 : Nat → Nat := fun k => match k with
  | 5 => 32 | 11 => 32 | 12 => 4 | 13 => 32 | 14 => 32 | 15 => 32 | 16 => 32 | 17 => 8 | 18 => 8 | 19 => 32 | _ => 128
def ety0 : Nat → FieldType := fun k => match k with
  | 1 => .boolean | 2 => .boolean | 7 => .boolean | 8 => .boolean | _ => .int
def len1 : Nat → Nat := fun k => match k with
  | 5 => 8 | _ => 32
def ety1 : Nat → FieldType := fun k => match k with
  | 0 => .boolean | 2 => .boolean | _ => .int
abbrev gE (ci n : Nat) (len : Nat → Nat) (ex : List Value) (E : Cx) (M : SM) : va_W := gw ci n len E.2.1 E.2.2.1 E.2.2.2 M ex
abbrev w0 (E : Cx) (M : SM) (nx : Int32) : va_W := gE 0 20 len0 [.int nx] E M
abbrev w1 (E : Cx) (M : SM) : va_W := gE 1 6 len1 [] E M
def gB (ci n : Nat) (len : Nat → Nat) (ety : Nat → FieldType) (ex : List Value) (E : Cx) (M : SM) (U : State) : Prop := va_P E.1 vwCl (gE ci n len ex E M) U.heap ∧ va_K E.1 vwCl (gK n E.2.1 ety) U
def gZ (ci n : Nat) (len : Nat → Nat) (ex : List Value) (E : Cx) (M : SM) (t : State) : Prop := va_P E.1 vwCl (gE ci n len ex E M) t.heap
abbrev gAE (n : Nat) (E : Cx) : Nat → Prop := gA n E.2.2.1 E.2.2.2
abbrev gApE (n : Nat) (E : Cx) : Prop := gAp n E.2.2.1 E.2.2.2
abbrev B0 (E : Cx) (M : SM) (nx : Int32) : State → Prop := gB 0 20 len0 ety0 [.int nx] E M
abbrev Z0 (E : Cx) (nx : Int32) : SM → State → Prop := gZ 0 20 len0 [.int nx] E
abbrev B1 (E : Cx) (M : SM) : State → Prop := gB 1 6 len1 ety1 [] E M
abbrev Z1 (E : Cx) : SM → State → Prop := gZ 1 6 len1 [] E
/-- what stays all through a method's body -/
def Fx (p : Program) (s : State) (m : MethodId) (c : Code) (args : Array Value) (cc : ByteArray) (nL : Nat) (own : String) (T : u_T) (ci n N : Nat) (ety : Nat → FieldType) (E : Cx) : Prop :=
  CallFix p m c cc nL s args lw_all own ∧ va_K E.1 vwCl (gK n E.2.1 ety) s ∧ gAp n E.2.2.1 E.2.2.2 ∧ vwCl[ci]? = some (own, T, N) ∧ (∀ w ∈ u_ws own T N, w ∈ lw_all)
theorem gB_blind {av : List Value} {ci n : Nat} {len : Nat → Nat} {ety : Nat → FieldType} {ex : List Value} {E : Cx} {M : SM} : FrameBlind (va_Pc av (gB ci n len ety ex E M)) := fun a U g mk q => by
  obtain ⟨q0, qP, qK⟩ := q
  exact ⟨q0, qP, va_K.moved (u := U) (U := U.calling g mk a) (Vm.Alike.refl U.vm) qK⟩
theorem gZ_of {ci n : Nat} {len : Nat → Nat} {ex : List Value} {E : Cx} {M : SM} {H : Heap} (hP : va_P E.1 vwCl (gE ci n len ex E M) H) : ∀ t : State, t.heap = H → gZ ci n len ex E M t := fun t ht => by
  unfold gZ
  rw [ht]
  exact hP
section GY
variable {p : Program} {l : Launch} {e : Env} {R : Room} {s : State} {m : MethodId} {args : Array Value} {below : List Frame} {meth : Method} {c : Code} {H : Heap} {locs : List Loc} {cells slots : Nat} {Q : State → Prop}
variable {cc : ByteArray} {pc nL : Nat} {ls : Array Slot} {rest st0 : List Value}
variable {own : String} {T : u_T} {ci n N : Nat} {len : Nat → Nat} {ety : Nat → FieldType} {E : Cx} {M : SM} {ex : List Value}
theorem g_start {y : MethodName} {ret : Option FieldType} {rm : Room} {Qc : Array Value → State → Outcome → State → Prop} {As : List Value} (hy : plainName y.cls = true) (hyc : y.cls = own) (hap : gAp n E.2.2.1 E.2.2.2) (hcl : vwCl[ci]? = some (own, T, N)) (hin : ∀ w ∈ u_ws own T N, w ∈ lw_all)
    (hlen : (lg_sl (.ref E.2.2.1 :: As)).length ≤ nL)
    (body : ∀ (p : Program) (e : Env) (s : State) (m : MethodId) (below : List Frame) (meth : Method) (c : Code) (ls : Array Slot), Fx p s m c (Value.ref E.2.2.1 :: As).toArray cc nL own T ci n N ety E → meth.sig.returnType = ret → meth.locks = false → va_P E.1 vwCl (gE ci n len ex E M) s.heap → va_S (gAE n E) s.heap s.heap [] → lv_has ls nL (lv_args 0 (.ref E.2.2.1 :: As)) →
      W p l e rm s m (Value.ref E.2.2.1 :: As).toArray below meth c s.heap [] 0 0 (MQ below Qc (Value.ref E.2.2.1 :: As).toArray s 0 0 (gAE n E)) (F0 m 0 ls [])) :
    Met l y (ws_ y cc nL ret) rm (va_Pc (.ref E.2.2.1 :: As) (gB ci n len ety ex E M)) Qc 0 0 (gAE n E) := by
  refine Met.ofW (cc := cc) (maxL := nL) (ret := ret) hy rfl ?_
  intro p e s m args below meth c s₁ B hml hv
  obtain ⟨rfl, hP, hK⟩ := hv
  have hts := atoms_spec (ws := ws_ y cc nL ret) B.pre
  have hts : ∀ w ∈ lw_all, w.before _ s = true := fun w h => hts w (List.mem_cons_of_mem _ h)
  have hown : s.vm.findClass own = some m.cls := by rw [← hyc]; exact findClass_of_methodNamed B.named
  have hl := lv_entry (.ref E.2.2.1 :: As) (n := nL) hlen
  rw [lg_entry_eq]
  exact body p e s m below meth c _ ⟨⟨B.exec, B.bytes, hml, hown, hts⟩, hK, hap, hcl, hin⟩ B.returns B.notSynchronized hP va_S.rf hl
theorem g_get (F : Fx p s m c args cc nL own T ci n N ety E) (hP : va_P E.1 vwCl (gE ci n len ex E M) H) (k : Nat) {index : Nat} (hk : k < n) (hkN : k < N) (h1 : (T k).1 = own) (hq : Cond.fieldLink own index own (T k).2.1 (T k).2.2.1 ∈ lw_all) (hdg : decode cc pc = .ok (.getfield index, 3))
    (kk : W p l e R s m args below meth c H locs cells slots Q (F0 m (pc + 3) ls (.ref (E.2.2.2 k) :: rest))) : W p l e R s m args below meth c H locs cells slots Q (F0 m pc ls (.ref E.2.2.1 :: rest)) := by
  obtain ⟨⟨hx, hb, hml, hown, hts⟩, hK, hap, hcl, hin⟩ := F
  refine va_get (v := .ref (E.2.2.2 k)) hx hb hts hin hown hK hP 0 gw_ob hcl k hkN (hts _ hq) (fun _ h9 => by rw [h1] at h9; exact h9) ?_ hdg kk
  rw [List.getElem?_append_left (by simp [hk])]
  simp [hk]
/-- getfield of one of the values behind the arrays -/
theorem g_getx (F : Fx p s m c args cc nL own T ci n N ety E) (hP : va_P E.1 vwCl (gE ci n len ex E M) H) (j : Nat) {index : Nat} {v : Value} (hkN : n + j < N) (hv : ex[j]? = some v) (h1 : (T (n + j)).1 = own) (hq : Cond.fieldLink own index own (T (n + j)).2.1 (T (n + j)).2.2.1 ∈ lw_all) (hdg : decode cc pc = .ok (.getfield index, 3))
    (kk : W p l e R s m args below meth c H locs cells slots Q (F0 m (pc + 3) ls (v :: rest))) : W p l e R s m args below meth c H locs cells slots Q (F0 m pc ls (.ref E.2.2.1 :: rest)) := by
  obtain ⟨⟨hx, hb, hml, hown, hts⟩, hK, hap, hcl, hin⟩ := F
  refine va_get (v := v) hx hb hts hin hown hK hP 0 gw_ob hcl (n + j) hkN (hts _ hq) (fun _ h9 => by rw [h1] at h9; exact h9) ?_ hdg kk
  rw [List.getElem?_append_right (by simp)]
  simpa using hv
theorem g_iald (F : Fx p s m c args cc nL own T ci n N ety E) (hP : va_P E.1 vwCl (gE ci n len ex E M) H) (k : Nat) {i : Nat} (L : Nat) (hk : k < n) (hL : len k = L) (hty : ety k = .int) (hi : i < L) (h31 : L < 2147483648) (hdg : decode cc pc = .ok (.iaload, 1)) (kk : W p l e R s m args below meth c H locs cells slots Q (F0 m (pc + 1) ls (.int (M k i) :: rest))) : W p l e R s m args below meth c H locs cells slots Q (F0 m pc ls (.int (nI i) :: .ref (E.2.2.2 k) :: rest)) :=
  gx_iald F.1.1 F.1.2.1 F.2.1 hP k L hk hL hty hi h31 hdg kk
theorem g_zald (F : Fx p s m c args cc nL own T ci n N ety E) (hP : va_P E.1 vwCl (gE ci n len ex E M) H) (k : Nat) {i : Nat} (L : Nat) (hk : k < n) (hL : len k = L) (hty : ety k = .boolean) (hi : i < L) (h31 : L < 2147483648) (hdg : decode cc pc = .ok (.baload, 1)) (kk : W p l e R s m args below meth c H locs cells slots Q (F0 m (pc + 1) ls (.int (M k i) :: rest))) : W p l e R s m args below meth c H locs cells slots Q (F0 m pc ls (.int (nI i) :: .ref (E.2.2.2 k) :: rest)) :=
  gx_zald F.1.1 F.1.2.1 F.2.1 hP k L hk hL hty hi h31 hdg kk
theorem g_iast (F : Fx p s m c args cc nL own T ci n N ety E) {A : Nat → Prop} {H0 : Heap} (hA : ∀ q, gAE n E q → A q) (hP : va_P E.1 vwCl (gE ci n len ex E M) H) (hS : va_S A H0 H locs) (k : Nat) {i : Nat} {x : Int32} (L : Nat) (hk : k < n) (hL : len k = L) (hty : ety k = .int) (hi : i < L) (h31 : L < 2147483648) (hdg : decode cc pc = .ok (.iastore, 1)) (kk : ∀ (M1 : SM) (H1 : Heap) (locs1 : List Loc), M1 = sU M k i x → va_P E.1 vwCl (gE ci n len ex E M1) H1 → va_S A H0 H1 locs1 → W p l e R s m args below meth c H1 locs1 cells slots Q (F0 m (pc + 1) ls rest)) : W p l e R s m args below meth c H locs cells slots Q (F0 m pc ls (.int x :: .int (nI i) :: .ref (E.2.2.2 k) :: rest)) :=
  gx_iast F.1.1 F.1.2.1 F.2.1 F.2.2.1 hA hP hS k L hk hL hty hi h31 hdg (fun H1 locs1 h1 h2 => kk _ H1 locs1 rfl h1 h2)
theorem g_zast (F : Fx p s m c args cc nL own T ci n N ety E) {A : Nat → Prop} {H0 : Heap} (hA : ∀ q, gAE n E q → A q) (hP : va_P E.1 vwCl (gE ci n len ex E M) H) (hS : va_S A H0 H locs) (k : Nat) {i : Nat} {x : Int32} (L : Nat) (hk : k < n) (hL : len k = L) (hty : ety k = .boolean) (hi : i < L) (h31 : L < 2147483648) (hx01 : x = 0 ∨ x = 1) (hdg : decode cc pc = .ok (.bastore, 1)) (kk : ∀ (M1 : SM) (H1 : Heap) (locs1 : List Loc), M1 = sU M k i x → va_P E.1 vwCl (gE ci n len ex E M1) H1 → va_S A H0 H1 locs1 → W p l e R s m args below meth c H1 locs1 cells slots Q (F0 m (pc + 1) ls rest)) : W p l e R s m args below meth c H locs cells slots Q (F0 m pc ls (.int x :: .int (nI i) :: .ref (E.2.2.2 k) :: rest)) :=
  gx_zast F.1.1 F.1.2.1 F.2.1 F.2.2.1 hA hP hS k L hk hL hty hi h31 hx01 hdg (fun H1 locs1 h1 h2 => kk _ H1 locs1 rfl h1 h2)
theorem g_run {y : MethodName} {bytes : ByteArray} {maxL index k : Nat} {ret : Option FieldType} {rm : Room} {As : List Value} {Qc : Array Value → State → Outcome → State → Prop} {free : Addr → Prop} (F : Fx p s m c args cc nL own T ci n N ety E) (hP : va_P E.1 vwCl (gE ci n len ex E M) H)
    (hM : Met l y (ws_ y bytes maxL ret) rm (va_Pc (.ref E.2.2.1 :: As) (gB ci n len ety ex E M)) Qc 0 0 free) (hG : GoodIn lw_all (wsV own index own y (ws_ y bytes maxL ret))) (hrm : rm.cells = 0 ∧ rm.slots = 0)
    (hd : y.cls = own ∧ y.cls ≠ "java/lang/invoke/MethodHandle" ∧ y.cls ≠ "java/lang/invoke/VarHandle" ∧ (parseMethodDescriptor y.desc).map (fun d => d.parameters.length) = some k) (hR : rm.frames + 1 ≤ R.frames ∧ 8 + (maxL + 11) + rm.locals ≤ R.locals) (hcs : cells ≤ R.cells ∧ slots ≤ R.slots)
    (hn : As.length = k) (hl : ls.size = nL) (hst : st0 = As.reverse ++ .ref E.2.2.1 :: rest) (hroom : (rest.map fun v => v.category).sum ≤ 8) (hdg : decode cc pc = .ok (.invokevirtual index, 3)) :
    va_Run p l e R s m args below meth c H locs cells slots 0 0 (F0 m pc ls st0) rest (Qc (Value.ref E.2.2.1 :: As).toArray) free := by
  refine va_runV F.1 hM (cwV k F.1.2.2.2.2 hG rfl hrm.1 hrm.2 hd hR) ⟨gB_blind, va_recv F.2.1 hP (q0 := 0) F.2.2.2.1 gw_ob, fun U hU hW => ⟨rfl, by rw [hU]; exact hP, va_K.moved hW.alike F.2.1⟩⟩ rfl hn hl hst (lv_room hroom) hdg ⟨?_, ?_⟩
  · exact hcs.1
  · exact hcs.2
theorem g_calli {y : MethodName} {bytes : ByteArray} {maxL index k : Nat} {ret : Option FieldType} {rm : Room} {As : List Value} {post : Int32 → SM → Prop} (F : Fx p s m c args cc nL own T ci n N ety E) (hP : va_P E.1 vwCl (gE ci n len ex E M) H) (hS : va_S (gAE n E) s.heap H locs)
    (hM : Met l y (ws_ y bytes maxL ret) rm (va_Pc (.ref E.2.2.1 :: As) (gB ci n len ety ex E M)) (va_Qi post (gZ ci n len ex E) (gAE n E)) 0 0 (gAE n E)) (hG : GoodIn lw_all (wsV own index own y (ws_ y bytes maxL ret))) (hrm : rm.cells = 0 ∧ rm.slots = 0)
    (hd : y.cls = own ∧ y.cls ≠ "java/lang/invoke/MethodHandle" ∧ y.cls ≠ "java/lang/invoke/VarHandle" ∧ (parseMethodDescriptor y.desc).map (fun d => d.parameters.length) = some k) (hR : rm.frames + 1 ≤ R.frames ∧ 8 + (maxL + 11) + rm.locals ≤ R.locals)
    (hn : As.length = k) (hl : ls.size = nL) (hst : st0 = As.reverse ++ .ref E.2.2.1 :: rest) (hroom : (rest.map fun v => v.category).sum ≤ 8) (hdg : decode cc pc = .ok (.invokevirtual index, 3))
    (kk : ∀ (r : Int32) (u : SM) (H1 : Heap) (locs1 : List Loc), post r u → va_P E.1 vwCl (gE ci n len ex E u) H1 → va_S (gAE n E) s.heap H1 locs1 → W p l e R s m args below meth c H1 locs1 0 0 Q (F0 m (pc + 3) ls (.int r :: rest))) : W p l e R s m args below meth c H locs 0 0 Q (F0 m pc ls st0) := by
  refine va_calli (g_run F hP hM hG hrm hd hR ⟨Nat.zero_le _, Nat.zero_le _⟩ hn hl hst hroom hdg) hS (fun q _ h => h) (fun q h => h) (fun r u t H1 locs1 ht hvm hw hB hz1 hk1 hS1 => ?_)
  exact kk r u H1 locs1 hw (by rw [← ht]; exact hB) hS1
theorem g_callv {y : MethodName} {bytes : ByteArray} {maxL index k : Nat} {rm : Room} {As : List Value} {post : SM → Prop} (F : Fx p s m c args cc nL own T ci n N ety E) (hP : va_P E.1 vwCl (gE ci n len ex E M) H) (hS : va_S (gAE n E) s.heap H locs)
    (hM : Met l y (ws_ y bytes maxL none) rm (va_Pc (.ref E.2.2.1 :: As) (gB ci n len ety ex E M)) (va_Qv post (gZ ci n len ex E) (gAE n E)) 0 0 (gAE n E)) (hG : GoodIn lw_all (wsV own index own y (ws_ y bytes maxL none))) (hrm : rm.cells = 0 ∧ rm.slots = 0)
    (hd : y.cls = own ∧ y.cls ≠ "java/lang/invoke/MethodHandle" ∧ y.cls ≠ "java/lang/invoke/VarHandle" ∧ (parseMethodDescriptor y.desc).map (fun d => d.parameters.length) = some k) (hR : rm.frames + 1 ≤ R.frames ∧ 8 + (maxL + 11) + rm.locals ≤ R.locals)
    (hn : As.length = k) (hl : ls.size = nL) (hst : st0 = As.reverse ++ .ref E.2.2.1 :: rest) (hroom : (rest.map fun v => v.category).sum ≤ 8) (hdg : decode cc pc = .ok (.invokevirtual index, 3))
    (kk : ∀ (u : SM) (H1 : Heap) (locs1 : List Loc), post u → va_P E.1 vwCl (gE ci n len ex E u) H1 → va_S (gAE n E) s.heap H1 locs1 → W p l e R s m args below meth c H1 locs1 0 0 Q (F0 m (pc + 3) ls rest)) : W p l e R s m args below meth c H locs 0 0 Q (F0 m pc ls st0) := by
  refine va_callv (g_run F hP hM hG hrm hd hR ⟨Nat.zero_le _, Nat.zero_le _⟩ hn hl hst hroom hdg) hS (fun q _ h => h) (fun q h => h) (fun u t H1 locs1 ht hvm hw hB hz1 hk1 hS1 => ?_)
  exact kk u H1 locs1 hw (by rw [← ht]; exact hB) hS1
/-- the ends of a method -/
theorem g_iret {S : Type} {post : Int32 → S → Prop} {Bq : S → State → Prop} {A : Nat → Prop} {v : Int32} (hx : p.tables.exec = Jvm.exec) (hb : c.code = cc) (hr : meth.sig.returnType = some .int) (hlocks : meth.locks = false) (hS : va_S A s.heap H locs) (u : S) (hp : post v u) (hB : ∀ t : State, t.heap = H → Bq u t) (hdg : decode cc pc = .ok (.ireturn, 1)) : W p l e R s m args below meth c H locs 0 0 (MQ below (va_Qi post Bq A) args s 0 0 A) (F0 m pc ls [.int v]) :=
  W.iret hx hb hr (fun t ht _ => ⟨⟨v, u, rfl, hp, hB t ht⟩, hS.F ht⟩) hS.2.2 hdg hlocks
theorem g_zret {S : Type} {post : Int32 → S → Prop} {Bq : S → State → Prop} {A : Nat → Prop} {v : Int32} (hx : p.tables.exec = Jvm.exec) (hb : c.code = cc) (hr : meth.sig.returnType = some .boolean) (hlocks : meth.locks = false) (hS : va_S A s.heap H locs) (h01 : v = 0 ∨ v = 1) (u : S) (hp : post v u) (hB : ∀ t : State, t.heap = H → Bq u t) (hdg : decode cc pc = .ok (.ireturn, 1)) : W p l e R s m args below meth c H locs 0 0 (MQ below (va_Qi post Bq A) args s 0 0 A) (F0 m pc ls [.int v]) :=
  W.zret hx hb hr (by rcases h01 with q | q <;> subst q <;> rfl) (fun t ht _ => ⟨⟨v, u, rfl, hp, hB t ht⟩, hS.F ht⟩) hS.2.2 hdg hlocks
theorem g_vret {S : Type} {post : S → Prop} {Bq : S → State → Prop} {A : Nat → Prop} (hx : p.tables.exec = Jvm.exec) (hb : c.code = cc) (hr : meth.sig.returnType = none) (hlocks : meth.locks = false) (hS : va_S A s.heap H locs) (u : S) (hp : post u) (hB : ∀ t : State, t.heap = H → Bq u t) (hdg : decode cc pc = .ok (.return_, 1)) : W p l e R s m args below meth c H locs 0 0 (MQ below (va_Qv post Bq A) args s 0 0 A) (F0 m pc ls []) :=
  W.vret hx hb hr (fun t ht _ => ⟨⟨u, rfl, hp, hB t ht⟩, hS.F ht⟩) hS.2.2 hdg hlocks
end GY
end
section
/-! PURE PART 1: what forget, saveImage, apply and write do to the arrays; the image with its log replayed is the memory -/
/-- forget(g, c), the keys below b and the clients below q done -/
def fgL (M : SM) (g c b q : Nat) : SM := fun k i =>
  if k = 5 ∧ i = 8 * g + c then 0
  else if (k = 0 ∨ k = 1) ∧ 32 * g ≤ i ∧ i < 32 * g + b ∧ i < 32 * g + 32 ∧ i % 8 = c then 0
  else if k = 2 ∧ 32 * g + 4 * c ≤ i ∧ i < 32 * g + 4 * c + q then 0
  else M k i
def fg (M : SM) (g c : Nat) : SM := fgL M g c 32 4
theorem fgL_0 {M : SM} {g c : Nat} (hc : c < 8) : sU M 5 (8 * g + c) 0 = fgL M g c c 0 := by
  funext k i
  simp only [sU, fgL]
  (repeat' split) <;> first | rfl | (exfalso; omega)
theorem fgL_key {M : SM} {g c u : Nat} (hc : c < 8) (hu : u < 4) : sU (sU (fgL M g c (c + 8 * u) 0) 1 (32 * g + (c + 8 * u)) 0) 0 (32 * g + (c + 8 * u)) 0 = fgL M g c (c + 8 * (u + 1)) 0 := by
  funext k i
  simp only [sU, fgL]
  (repeat' split) <;> first | rfl | (exfalso; omega)
theorem fgL_32 {M : SM} {g c b : Nat} (hb : 32 ≤ b) : fgL M g c b 0 = fgL M g c 32 0 := by
  funext k i
  simp only [fgL]
  (repeat' split) <;> first | rfl | (exfalso; omega)
theorem fgL_cl {M : SM} {g c q : Nat} (hq : q < 4) : sU (fgL M g c 32 q) 2 (32 * g + 4 * c + q) 0 = fgL M g c 32 (q + 1) := by
  funext k i
  simp only [sU, fgL]
  (repeat' split) <;> first | rfl | (exfalso; omega)
/-- saveImage(g), the places below b of its block done, and those below q of its states -/
def svL (M : SM) (g b q : Nat) : SM := fun k i =>
  if 6 ≤ k ∧ k ≤ 10 ∧ 32 * g ≤ i ∧ i < b then M (k - 6) i
  else if k = 11 ∧ 8 * g ≤ i ∧ i < 8 * g + q then M 5 i
  else M k i
def sv (M : SM) (g : Nat) : SM := sU (svL M g (32 * g + 32) 8) 12 g 0
theorem svL_0 {M : SM} {g : Nat} : svL M g (32 * g) 0 = M := by
  funext k i
  simp only [svL]
  (repeat' split) <;> first | rfl | (exfalso; omega)
theorem svL_b {M : SM} {g i : Nat} (hi : 32 * g ≤ i) : sU (sU (sU (sU (sU (svL M g i 0) 6 i (M 0 i)) 7 i (M 1 i)) 8 i (M 2 i)) 9 i (M 3 i)) 10 i (M 4 i) = svL M g (i + 1) 0 := by
  funext k j
  by_cases hj : j = i
  · subst hj
    by_cases h6 : k = 6
    · subst h6; simp [sU, svL, hi]
    by_cases h7 : k = 7
    · subst h7; simp [sU, svL, hi]
    by_cases h8 : k = 8
    · subst h8; simp [sU, svL, hi]
    by_cases h9 : k = 9
    · subst h9; simp [sU, svL, hi]
    by_cases h10 : k = 10
    · subst h10; simp [sU, svL, hi]
    simp only [sU, svL]
    (repeat' split) <;> first | rfl | (exfalso; omega)
  · simp only [sU, svL]
    (repeat' split) <;> first | rfl | (exfalso; omega)
theorem svL_c {M : SM} {g b q : Nat} : sU (svL M g b q) 11 (8 * g + q) (M 5 (8 * g + q)) = svL M g b (q + 1) := by
  funext k j
  by_cases hj : k = 11 ∧ j = 8 * g + q
  · obtain ⟨h1, h2⟩ := hj
    subst h1; subst h2
    simp [sU, svL]
  · simp only [sU, svL]
    (repeat' split) <;> first | rfl | (exfalso; omega)
theorem svL_lo {M : SM} {g b q k i : Nat} (h : k < 6 ∨ 12 ≤ k) : svL M g b q k i = M k i := by
  simp only [svL]
  (repeat' split) <;> first | rfl | (exfalso; omega)
theorem sv_lo {M : SM} {g k i : Nat} (h : k < 6 ∨ 13 ≤ k) : sv M g k i = M k i := by
  rw [sv, sU_k (by omega), svL_lo (by omega)]
/-- apply -/
def ap (M : SM) (g kind a : Nat) (b c : Int32) : SM :=
  if kind = 0 then sU (sU M 0 (32 * g + a) b) 1 (32 * g + a) (if c = 1 then 1 else 0)
  else if kind = 1 then sU (sU (sU M 2 (32 * g + a) 1) 3 (32 * g + a) b) 4 (32 * g + a) c
  else if kind = 2 then sU M 5 (8 * g + a) b
  else fg M g a
/-- the entries that are written -/
def okE (kind a : Nat) : Prop := (kind ≤ 1 ∧ a < 32) ∨ (2 ≤ kind ∧ kind ≤ 3 ∧ a < 8)
/-- the places of group g's memory -/
def inB (g k i : Nat) : Prop := (k < 5 ∧ 32 * g ≤ i ∧ i < 32 * g + 32) ∨ (k = 5 ∧ 8 * g ≤ i ∧ i < 8 * g + 8)
theorem ap_out {M : SM} {g kind a : Nat} {b c : Int32} {k i : Nat} (hok : okE kind a) (h : ¬ inB g k i) : ap M g kind a b c k i = M k i := by
  unfold okE at hok
  unfold inB at h
  unfold ap
  split
  · simp only [sU]
    rw [if_neg (by omega), if_neg (by omega)]
  · split
    · simp only [sU]
      rw [if_neg (by omega), if_neg (by omega), if_neg (by omega)]
    · split
      · simp only [sU]
        rw [if_neg (by omega)]
      · simp only [fg, fgL]
        rw [if_neg (by omega), if_neg (by omega), if_neg (by omega)]
theorem sU_pt {M M' : SM} {k i j q : Nat} {x : Int32} (h : M j q = M' j q) : sU M k i x j q = sU M' k i x j q := by
  simp only [sU, h]
theorem ap_pt {M M' : SM} {g kind a : Nat} {b c : Int32} {k i : Nat} (h : M k i = M' k i) : ap M g kind a b c k i = ap M' g kind a b c k i := by
  unfold ap
  split
  · exact sU_pt (sU_pt h)
  · split
    · exact sU_pt (sU_pt (sU_pt h))
    · split
      · exact sU_pt h
      · simp only [fg, fgL, h]
/-- the image of group g laid into its memory -/
def ld (M : SM) (g : Nat) : SM := fun k i => if k < 5 ∧ 32 * g ≤ i ∧ i < 32 * g + 32 then M (k + 6) i else if k = 5 ∧ 8 * g ≤ i ∧ i < 8 * g + 8 then M 11 i else M k i
/-- and n entries of its log replayed -/
def rp (M : SM) (g : Nat) : Nat → SM
  | 0 => ld M g
  | n + 1 => ap (rp M g n) g (M 13 (8 * g + n)).toNatClampNeg (M 14 (8 * g + n)).toNatClampNeg (M 15 (8 * g + n)) (M 16 (8 * g + n))
def okL (M : SM) (g n : Nat) : Prop := ∀ j, j < n → ∃ kind a, okE kind a ∧ M 13 (8 * g + j) = nI kind ∧ M 14 (8 * g + j) = nI a
theorem okE_31 {kind a : Nat} (h : okE kind a) : kind < 2147483648 ∧ a < 2147483648 := by
  unfold okE at h; omega
theorem rp_out {M : SM} {g k i : Nat} (h : ¬ inB g k i) : ∀ n, okL M g n → rp M g n k i = M k i := by
  intro n
  induction n with
  | zero =>
    intro _
    unfold inB at h
    simp only [rp, ld]
    rw [if_neg (by omega), if_neg (by omega)]
  | succ n ih =>
    intro hok
    obtain ⟨kd, a, h1, h2, h3⟩ := hok n (by omega)
    simp only [rp]
    rw [h2, h3, nI_clamp (okE_31 h1).1, nI_clamp (okE_31 h1).2, ap_out h1 h]
    exact ih (fun j hj => hok j (by omega))
theorem rp_in {M M' : SM} {g : Nat} (h1 : ∀ k i, 6 ≤ k → k ≤ 10 → 32 * g ≤ i → i < 32 * g + 32 → M k i = M' k i) (h2 : ∀ i, 8 * g ≤ i → i < 8 * g + 8 → M 11 i = M' 11 i) {k i : Nat} (h : inB g k i) : ∀ n, n ≤ 8 → (∀ k j, 13 ≤ k → k ≤ 16 → j < n → M k (8 * g + j) = M' k (8 * g + j)) → rp M g n k i = rp M' g n k i := by
  intro n
  induction n with
  | zero =>
    intro _ _
    unfold inB at h
    simp only [rp, ld]
    rcases h with ⟨a1, a2, a3⟩ | ⟨a1, a2, a3⟩
    · rw [if_pos ⟨a1, a2, a3⟩, if_pos ⟨a1, a2, a3⟩]
      exact h1 _ _ (by omega) (by omega) a2 a3
    · rw [if_neg (by omega), if_pos ⟨a1, a2, a3⟩, if_neg (by omega), if_pos ⟨a1, a2, a3⟩]
      exact h2 _ a2 a3
  | succ n ih =>
    intro hn hl
    simp only [rp]
    rw [hl 13 n (by omega) (by omega) (by omega), hl 14 n (by omega) (by omega) (by omega), hl 15 n (by omega) (by omega) (by omega), hl 16 n (by omega) (by omega) (by omega)]
    exact ap_pt (ih (by omega) (fun k j a b c => hl k j a b (by omega)))
def Du (M : SM) (g : Nat) : Prop := ∃ n, n ≤ 8 ∧ M 12 g = nI n ∧ okL M g n ∧ rp M g n = M
def Bo (M : SM) : Prop := ∀ i, (M 1 i = 0 ∨ M 1 i = 1) ∧ (M 2 i = 0 ∨ M 2 i = 1) ∧ (M 7 i = 0 ∨ M 7 i = 1) ∧ (M 8 i = 0 ∨ M 8 i = 1)
/-- what the groups have written down is what they hold -/
def Dur (M : SM) : Prop := Bo M ∧ ∀ g, g < 4 → Du M g
/-- all that Du says of group g is the same -/
def sameG (M M' : SM) (g : Nat) : Prop := (∀ k i, inB g k i → M' k i = M k i) ∧ (∀ k i, 6 ≤ k → k ≤ 10 → 32 * g ≤ i → i < 32 * g + 32 → M' k i = M k i) ∧ (∀ i, 8 * g ≤ i → i < 8 * g + 8 → M' 11 i = M 11 i) ∧ M' 12 g = M 12 g ∧ ∀ k i, 13 ≤ k → k ≤ 16 → 8 * g ≤ i → i < 8 * g + 8 → M' k i = M k i
theorem Du_same {M M' : SM} {g : Nat} (h : Du M g) (hs : sameG M M' g) : Du M' g := by
  obtain ⟨n, hn, h12, hok, hrp⟩ := h
  obtain ⟨s1, s2, s3, s4, s5⟩ := hs
  have hok' : okL M' g n := fun j hj => by
    obtain ⟨kd, a, a1, a2, a3⟩ := hok j hj
    exact ⟨kd, a, a1, by rw [s5 13 _ (by omega) (by omega) (by omega) (by omega)]; exact a2, by rw [s5 14 _ (by omega) (by omega) (by omega) (by omega)]; exact a3⟩
  refine ⟨n, hn, by rw [s4]; exact h12, hok', ?_⟩
  funext k i
  by_cases hb : inB g k i
  · rw [rp_in (M' := M) s2 s3 hb n hn (fun k j a b c => s5 k _ a b (by omega) (by omega)), hrp, s1 k i hb]
  · exact rp_out hb n hok'
/-- the log's next entry -/
def lg (M : SM) (g n kind a : Nat) (b c : Int32) : SM := sU (sU (sU (sU (sU M 13 (8 * g + n) (nI kind)) 14 (8 * g + n) (nI a)) 15 (8 * g + n) b) 16 (8 * g + n) c) 12 g (nI (n + 1))
theorem lg_lo {M : SM} {g n kind a : Nat} {b c : Int32} {k i : Nat} (h : k < 12 ∨ 17 ≤ k) : lg M g n kind a b c k i = M k i := by
  simp only [lg]
  rw [sU_k (by omega), sU_k (by omega), sU_k (by omega), sU_k (by omega), sU_k (by omega)]
theorem lg_at {M : SM} {g n kind a : Nat} {b c : Int32} {k i : Nat} (h : i ≠ 8 * g + n) (h12 : k ≠ 12 ∨ i ≠ g) : lg M g n kind a b c k i = M k i := by
  simp only [lg, sU]
  rw [if_neg (by omega), if_neg (by omega), if_neg (by omega), if_neg (by omega), if_neg (by omega)]
theorem Bo_ap {M : SM} {g kind a : Nat} {b c : Int32} (hok : okE kind a) (h : Bo M) : Bo (ap M g kind a b c) := by
  intro i
  obtain ⟨h1, h2, h3, h4⟩ := h i
  refine ⟨?_, ?_, ?_, ?_⟩
  · unfold ap
    split
    · simp only [sU]; split
      · split <;> simp
      · rw [if_neg (by omega)]; exact h1
    · split
      · rw [sU_k (by omega), sU_k (by omega), sU_k (by omega)]; exact h1
      · split
        · rw [sU_k (by omega)]; exact h1
        · simp only [fg, fgL]
          (repeat' split) <;> first | exact h1 | simp
  · unfold ap
    split
    · rw [sU_k (by omega), sU_k (by omega)]; exact h2
    · split
      · rw [sU_k (by omega), sU_k (by omega)]
        simp only [sU]; split
        · simp
        · exact h2
      · split
        · rw [sU_k (by omega)]; exact h2
        · simp only [fg, fgL]
          (repeat' split) <;> first | exact h2 | simp
  · rw [ap_out hok (by unfold inB; omega)]; exact h3
  · rw [ap_out hok (by unfold inB; omega)]; exact h4
theorem Dur_write {M : SM} {g n kind a : Nat} {b c : Int32} (hD : Dur M) (hg : g < 4) (hn : n < 8) (h12 : M 12 g = nI n) (hok : okE kind a) : Dur (ap (lg M g n kind a b c) g kind a b c) := by
  obtain ⟨hB, hG⟩ := hD
  refine ⟨Bo_ap hok (fun i => ?_), fun g' hg' => ?_⟩
  · rw [lg_lo (by omega), lg_lo (by omega), lg_lo (by omega), lg_lo (by omega)]
    exact hB i
  · by_cases e : g' = g
    · subst e
      obtain ⟨n', hn', h12', hokL, hrp⟩ := hG g' hg'
      have en : n' = n := (nI_eq (by omega) (by omega)).mp (h12'.symm.trans h12)
      subst en
      have o13 : ∀ k i, 12 ≤ k → k ≤ 16 → ap (lg M g' n' kind a b c) g' kind a b c k i = lg M g' n' kind a b c k i := fun k i a1 a2 => ap_out hok (by unfold inB; omega)
      have e13 : lg M g' n' kind a b c 13 (8 * g' + n') = nI kind := by simp [lg, sU]
      have e14 : lg M g' n' kind a b c 14 (8 * g' + n') = nI a := by simp [lg, sU]
      have e15 : lg M g' n' kind a b c 15 (8 * g' + n') = b := by simp [lg, sU]
      have e16 : lg M g' n' kind a b c 16 (8 * g' + n') = c := by simp [lg, sU]
      have hokL' : okL (ap (lg M g' n' kind a b c) g' kind a b c) g' n' := fun j hj => by
        obtain ⟨kd, a0, a1, a2, a3⟩ := hokL j hj
        exact ⟨kd, a0, a1, by rw [o13 _ _ (by omega) (by omega), lg_at (by omega) (by omega)]; exact a2, by rw [o13 _ _ (by omega) (by omega), lg_at (by omega) (by omega)]; exact a3⟩
      refine ⟨n' + 1, by omega, ?_, ?_, ?_⟩
      · rw [o13 _ _ (by omega) (by omega)]; simp [lg, sU]
      · intro j hj
        by_cases ej : j = n'
        · subst ej
          exact ⟨kind, a, hok, by rw [o13 _ _ (by omega) (by omega)]; exact e13, by rw [o13 _ _ (by omega) (by omega)]; exact e14⟩
        · exact hokL' j (by omega)
      · have key : rp (ap (lg M g' n' kind a b c) g' kind a b c) g' n' = lg M g' n' kind a b c := by
          funext k i
          by_cases hb : inB g' k i
          · rw [rp_in (M' := M) ?_ ?_ hb n' hn' ?_, hrp, lg_lo (by unfold inB at hb; omega)]
            · intro k i a1 a2 a3 a4
              rw [ap_out hok (by unfold inB; omega), lg_lo (by omega)]
            · intro i a1 a2
              rw [ap_out hok (by unfold inB; omega), lg_lo (by omega)]
            · intro k j a1 a2 a3
              rw [o13 _ _ (by omega) (by omega), lg_at (by omega) (by omega)]
          · rw [rp_out hb n' hokL', ap_out hok hb]
        show ap (rp (ap (lg M g' n' kind a b c) g' kind a b c) g' n') g' _ _ _ _ = _
        rw [key, o13 13 _ (by omega) (by omega), o13 14 _ (by omega) (by omega), o13 15 _ (by omega) (by omega), o13 16 _ (by omega) (by omega), e13, e14, e15, e16, nI_clamp (okE_31 hok).1, nI_clamp (okE_31 hok).2]
    · refine Du_same (hG g' hg') ⟨?_, ?_, ?_, ?_, ?_⟩
      · intro k i hb
        rw [ap_out hok (by unfold inB at hb ⊢; omega), lg_lo (by unfold inB at hb; omega)]
      · intro k i a1 a2 a3 a4
        rw [ap_out hok (by unfold inB; omega), lg_lo (by omega)]
      · intro i a1 a2
        rw [ap_out hok (by unfold inB; omega), lg_lo (by omega)]
      · rw [ap_out hok (by unfold inB; omega)]
        simp only [lg, sU]
        rw [if_neg (by omega), if_neg (by omega), if_neg (by omega), if_neg (by omega), if_neg (by omega)]
      · intro k i a1 a2 a3 a4
        rw [ap_out hok (by unfold inB; omega), lg_at (by omega) (by omega)]
theorem Dur_sv {M : SM} {g : Nat} (hD : Dur M) (hg : g < 4) : Dur (sv M g) ∧ sv M g 12 g = nI 0 := by
  obtain ⟨hB, hG⟩ := hD
  have e12 : sv M g 12 g = nI 0 := by rw [sv, sU_s]; rfl
  refine ⟨⟨fun i => ?_, fun g' hg' => ?_⟩, e12⟩
  · obtain ⟨h1, h2, h3, h4⟩ := hB i
    refine ⟨by rw [sv_lo (by omega)]; exact h1, by rw [sv_lo (by omega)]; exact h2, ?_, ?_⟩
    · rw [sv, sU_k (by omega)]
      simp only [svL]
      split
      · exact h1
      · rw [if_neg (by omega)]; exact h3
    · rw [sv, sU_k (by omega)]
      simp only [svL]
      split
      · exact h2
      · rw [if_neg (by omega)]; exact h4
  · by_cases e : g' = g
    · subst e
      refine ⟨0, by omega, e12, fun j hj => absurd hj (by omega), ?_⟩
      funext k i
      simp only [rp, ld]
      split
      · rename_i q
        rw [sv, sU_k (by omega), sU_k (by omega), show svL M g' (32 * g' + 32) 8 k i = M k i from svL_lo (by omega)]
        simp only [svL]
        rw [if_pos (by omega)]
        congr 1
      · split
        · rename_i q
          obtain ⟨q1, q2, q3⟩ := q
          subst q1
          rw [sv, sU_k (by omega), sU_k (by omega), show svL M g' (32 * g' + 32) 8 5 i = M 5 i from svL_lo (by omega)]
          simp [svL, q2, q3]
        · rfl
    · refine Du_same (hG g' hg') ⟨?_, ?_, ?_, ?_, ?_⟩
      · intro k i hb
        exact sv_lo (by unfold inB at hb; omega)
      · intro k i a1 a2 a3 a4
        rw [sv, sU_k (by omega)]
        simp only [svL]
        rw [if_neg (by omega), if_neg (by omega)]
      · intro i a1 a2
        rw [sv, sU_k (by omega)]
        simp only [svL]
        rw [if_neg (by omega), if_neg (by omega)]
      · rw [sv, sU_i (by omega), svL_lo (by omega)]
      · intro k i a1 a2 a3 a4
        exact sv_lo (by omega)
end
section
set_option maxRecDepth 100000
section
variable {p : Program} {l : Launch} {e : Env} {R : Room} {s : State} {m : MethodId} {args : Array Value} {below : List Frame} {meth : Method} {c : Code} {Q : State → Prop} {E : Cx} {nx : Int32}
set_option maxHeartbeats 4000000 in
/-- forget's second loop -/
theorem lp_forget_2 (F : Fx p s m c args cX0_forget 4 RX0 TX0 0 20 21 ety0 E) {g cl : Nat} (hg : g < 4) (hc : cl < 8) (M : SM) (exit : ∀ (H : Heap) (locs : List Loc) (ls : Array Slot), va_P E.1 vwCl (w0 E (fgL M g cl 32 4) nx) H → va_S (gAE 20 E) s.heap H locs → lv_has ls 4 [(0, .ref E.2.2.1), (1, .int (nI g)), (2, .int (nI cl)), (3, .int (nI 4))] → W p l e R s m args below meth c H locs 0 0 Q (F0 m 79 ls [])) :
    ∀ (n q : Nat) (H : Heap) (locs : List Loc) (ls : Array Slot), q + n = 4 → va_P E.1 vwCl (w0 E (fgL M g cl 32 q) nx) H → va_S (gAE 20 E) s.heap H locs → lv_has ls 4 [(0, .ref E.2.2.1), (1, .int (nI g)), (2, .int (nI cl)), (3, .int (nI q))] → W p l e R s m args below meth c H locs 0 0 Q (F0 m 52 ls []) := by
  have hx := F.1.1
  have hb := F.1.2.1
  intro n
  induction n with
  | zero =>
    intro q H locs ls hq hP hS hl
    have hq : q = 4 := by omega
    subst hq
    refine lv_iload_n hx hb dX0_forget_52 rfl (lv_at hl 3 rfl) ?_
    refine lv_iconst (v := nI 4) hx hb dX0_forget_53 (by decide) ?_
    refine gx_ge hx hb 79 (by omega) (by omega) dX0_forget_54 (by decide) (fun c_1 => ?_) (fun c_1 => ?_)
    · exact exit H locs ls hP hS (lv_sub hl [0, 1, 2, 3] rfl)
    · exact absurd c_1 (by omega)
  | succ n ih =>
    intro q H locs ls hq hP hS hl
    refine lv_iload_n hx hb dX0_forget_52 rfl (lv_at hl 3 rfl) ?_
    refine lv_iconst (v := nI 4) hx hb dX0_forget_53 (by decide) ?_
    refine gx_ge hx hb 79 (by omega) (by omega) dX0_forget_54 (by decide) (fun c_2 => ?_) (fun c_2 => ?_)
    · exact absurd c_2 (by omega)
    · refine lv_aload_n hx hb dX0_forget_57 rfl (lv_at hl 0 rfl) ?_
      refine g_get F hP 2 (by decide) (by decide) rfl q26 dX0_forget_58 ?_
      refine lv_bipush (v := nI 32) hx hb dX0_forget_61 (by decide) ?_
      refine lv_iload_n hx hb dX0_forget_63 rfl (lv_at hl 1 rfl) ?_
      refine gx_mul hx hb dX0_forget_64 ?_
      refine lv_iconst (v := nI 4) hx hb dX0_forget_65 (by decide) ?_
      refine lv_iload_n hx hb dX0_forget_66 rfl (lv_at hl 2 rfl) ?_
      refine gx_mul hx hb dX0_forget_67 ?_
      refine gx_add hx hb dX0_forget_68 ?_
      refine lv_iload_n hx hb dX0_forget_69 rfl (lv_at hl 3 rfl) ?_
      refine gx_add hx hb dX0_forget_70 ?_
      refine lv_iconst (v := 0) hx hb dX0_forget_71 (by decide) ?_
      refine g_zast F (fun _ h => h) hP hS 2 128 (by decide) rfl rfl (by omega) (by decide) (by decide) dX0_forget_72 (fun M1 H locs eM1 hP hS => ?_)
      refine lv_iinc (v := nI (q + 1)) (lv' := [(3, .int (nI (q + 1))), (0, .ref E.2.2.1), (1, .int (nI g)), (2, .int (nI cl))]) hx hb dX0_forget_73 hl (k := 3) rfl (nI_add q 1) (by decide) rfl (fun ls hl => ?_)
      refine lv_goto (tgt := 52) hx hb dX0_forget_76 (by decide) ?_
      exact ih (q + 1) H locs ls (by omega) (by rw [eM1, fgL_cl (by omega)] at hP; exact hP) hS (lv_sub hl [1, 2, 3, 0] rfl)
set_option maxHeartbeats 4000000 in
/-- forget's first loop -/
theorem lp_forget_1 (F : Fx p s m c args cX0_forget 4 RX0 TX0 0 20 21 ety0 E) {g cl : Nat} (hg : g < 4) (hc : cl < 8) (M : SM) (exit : ∀ (H : Heap) (locs : List Loc) (ls : Array Slot), va_P E.1 vwCl (w0 E (fgL M g cl 32 0) nx) H → va_S (gAE 20 E) s.heap H locs → lv_has ls 4 [(0, .ref E.2.2.1), (1, .int (nI g)), (2, .int (nI cl)), (3, .int (nI (cl + 8 * 4)))] → W p l e R s m args below meth c H locs 0 0 Q (F0 m 50 ls [])) :
    ∀ (n u : Nat) (H : Heap) (locs : List Loc) (ls : Array Slot), u + n = 4 → va_P E.1 vwCl (w0 E (fgL M g cl (cl + 8 * u) 0) nx) H → va_S (gAE 20 E) s.heap H locs → lv_has ls 4 [(0, .ref E.2.2.1), (1, .int (nI g)), (2, .int (nI cl)), (3, .int (nI (cl + 8 * u)))] → W p l e R s m args below meth c H locs 0 0 Q (F0 m 14 ls []) := by
  have hx := F.1.1
  have hb := F.1.2.1
  intro n
  induction n with
  | zero =>
    intro u H locs ls hq hP hS hl
    have hq : u = 4 := by omega
    subst hq
    refine lv_iload_n hx hb dX0_forget_14 rfl (lv_at hl 3 rfl) ?_
    refine lv_bipush (v := nI 32) hx hb dX0_forget_15 (by decide) ?_
    refine gx_ge hx hb 50 (by omega) (by omega) dX0_forget_17 (by decide) (fun c_3 => ?_) (fun c_3 => ?_)
    · exact exit H locs ls (by rw [fgL_32 (by omega)] at hP; exact hP) hS (lv_sub hl [0, 1, 2, 3] rfl)
    · exact absurd c_3 (by omega)
  | succ n ih =>
    intro u H locs ls hq hP hS hl
    refine lv_iload_n hx hb dX0_forget_14 rfl (lv_at hl 3 rfl) ?_
    refine lv_bipush (v := nI 32) hx hb dX0_forget_15 (by decide) ?_
    refine gx_ge hx hb 50 (by omega) (by omega) dX0_forget_17 (by decide) (fun c_4 => ?_) (fun c_4 => ?_)
    · exact absurd c_4 (by omega)
    · refine lv_aload_n hx hb dX0_forget_20 rfl (lv_at hl 0 rfl) ?_
      refine g_get F hP 1 (by decide) (by decide) rfl q25 dX0_forget_21 ?_
      refine lv_bipush (v := nI 32) hx hb dX0_forget_24 (by decide) ?_
      refine lv_iload_n hx hb dX0_forget_26 rfl (lv_at hl 1 rfl) ?_
      refine gx_mul hx hb dX0_forget_27 ?_
      refine lv_iload_n hx hb dX0_forget_28 rfl (lv_at hl 3 rfl) ?_
      refine gx_add hx hb dX0_forget_29 ?_
      refine lv_iconst (v := 0) hx hb dX0_forget_30 (by decide) ?_
      refine g_zast F (fun _ h => h) hP hS 1 128 (by decide) rfl rfl (by omega) (by decide) (by decide) dX0_forget_31 (fun M1 H locs eM1 hP hS => ?_)
      refine lv_aload_n hx hb dX0_forget_32 rfl (lv_at hl 0 rfl) ?_
      refine g_get F hP 0 (by decide) (by decide) rfl q24 dX0_forget_33 ?_
      refine lv_bipush (v := nI 32) hx hb dX0_forget_36 (by decide) ?_
      refine lv_iload_n hx hb dX0_forget_38 rfl (lv_at hl 1 rfl) ?_
      refine gx_mul hx hb dX0_forget_39 ?_
      refine lv_iload_n hx hb dX0_forget_40 rfl (lv_at hl 3 rfl) ?_
      refine gx_add hx hb dX0_forget_41 ?_
      refine lv_iconst (v := 0) hx hb dX0_forget_42 (by decide) ?_
      refine g_iast F (fun _ h => h) hP hS 0 128 (by decide) rfl rfl (by omega) (by decide) dX0_forget_43 (fun M2 H locs eM2 hP hS => ?_)
      refine lv_iinc (v := nI (cl + 8 * (u + 1))) (lv' := [(3, .int (nI (cl + 8 * (u + 1)))), (0, .ref E.2.2.1), (1, .int (nI g)), (2, .int (nI cl))]) hx hb dX0_forget_44 hl (k := 3) rfl ((nI_add (cl + 8 * u) 8).trans (congrArg nI (show cl + 8 * u + 8 = cl + 8 * (u + 1) by omega))) (by decide) rfl (fun ls hl => ?_)
      refine lv_goto (tgt := 14) hx hb dX0_forget_47 (by decide) ?_
      exact ih (u + 1) H locs ls (by omega) (by rw [eM2, eM1, fgL_key (by omega) (by omega)] at hP; exact hP) hS (lv_sub hl [1, 2, 3, 0] rfl)
end
set_option maxHeartbeats 4000000 in
theorem m0_forget (l : Launch) (E : Cx) (hap : gApE 20 E) (nx : Int32) (M : SM) (g cl : Nat) (hg : g < 4) (hc : cl < 8) : Met l yX0_forget (ws_ yX0_forget cX0_forget 4 none) ({ frames := 0, cells := 0, slots := 0, locals := 0 }) (va_Pc [.ref E.2.2.1, .int (nI g), .int (nI cl)] (B0 E M nx)) (va_Qv (fun u => u = fg M g cl) (Z0 E nx) (gAE 20 E)) 0 0 (gAE 20 E) := by
  refine g_start (own := RX0) (T := TX0) (N := 21) (by decide) rfl hap rfl in_X0 (Nat.le_of_ble_eq_true rfl) ?_
  intro p e s m below meth c ls F hr hlocks hP hS hl
  have hx := F.1.1
  have hb := F.1.2.1
  have hl : lv_has ls 4 [(0, .ref E.2.2.1), (1, .int (nI g)), (2, .int (nI cl))] := hl
  refine lv_aload_n hx hb dX0_forget_0 rfl (lv_at hl 0 rfl) ?_
  refine g_get F hP 5 (by decide) (by decide) rfl q29 dX0_forget_1 ?_
  refine lv_bipush (v := nI 8) hx hb dX0_forget_4 (by decide) ?_
  refine lv_iload_n hx hb dX0_forget_6 rfl (lv_at hl 1 rfl) ?_
  refine gx_mul hx hb dX0_forget_7 ?_
  refine lv_iload_n hx hb dX0_forget_8 rfl (lv_at hl 2 rfl) ?_
  refine gx_add hx hb dX0_forget_9 ?_
  refine lv_iconst (v := 0) hx hb dX0_forget_10 (by decide) ?_
  refine g_iast F (fun _ h => h) hP hS 5 32 (by decide) rfl rfl (by omega) (by decide) dX0_forget_11 (fun M1 H locs eM1 hP hS => ?_)
  refine lv_iload_n hx hb dX0_forget_12 rfl (lv_at hl 2 rfl) ?_
  refine lv_istore_n (lv' := [(3, .int (nI cl)), (0, .ref E.2.2.1), (1, .int (nI g)), (2, .int (nI cl))]) hx hb dX0_forget_13 rfl hl (by decide) rfl (fun ls hl => ?_)
  rw [eM1, fgL_0 hc] at hP
  refine lp_forget_1 F hg hc M (fun H locs ls hP hS hl => ?_) 4 0 _ _ _ (by omega) hP hS (lv_sub hl [1, 2, 3, 0] rfl)
  refine lv_iconst (v := nI 0) hx hb dX0_forget_50 (by decide) ?_
  refine lv_istore_n (lv' := [(3, .int (nI 0)), (0, .ref E.2.2.1), (1, .int (nI g)), (2, .int (nI cl))]) hx hb dX0_forget_51 rfl hl (by decide) rfl (fun ls hl => ?_)
  refine lp_forget_2 F hg hc M (fun H locs ls hP hS hl => ?_) 4 0 _ _ _ (by omega) hP hS (lv_sub hl [1, 2, 3, 0] rfl)
  exact g_vret hx hb hr hlocks hS (fg M g cl) rfl (gZ_of hP) dX0_forget_79
end
section
set_option maxRecDepth 100000
section
variable {p : Program} {l : Launch} {e : Env} {R : Room} {s : State} {m : MethodId} {args : Array Value} {below : List Frame} {meth : Method} {c : Code} {Q : State → Prop} {E : Cx} {nx : Int32}
set_option maxHeartbeats 4000000 in
/-- saveImage's first loop -/
theorem lp_saveImage_1 (F : Fx p s m c args cX0_saveImage 3 RX0 TX0 0 20 21 ety0 E) {g : Nat} (hg : g < 4) (M : SM) (hB : Bo M) (exit : ∀ (H : Heap) (locs : List Loc) (ls : Array Slot), va_P E.1 vwCl (w0 E (svL M g (32 * g + 32) 0) nx) H → va_S (gAE 20 E) s.heap H locs → lv_has ls 3 [(0, .ref E.2.2.1), (1, .int (nI g)), (2, .int (nI (32 * g + 32)))] → W p l e R s m args below meth c H locs 0 0 Q (F0 m 82 ls [])) :
    ∀ (n i : Nat) (H : Heap) (locs : List Loc) (ls : Array Slot), i + n = 32 * g + 32 → 32 * g ≤ i → va_P E.1 vwCl (w0 E (svL M g i 0) nx) H → va_S (gAE 20 E) s.heap H locs → lv_has ls 3 [(0, .ref E.2.2.1), (1, .int (nI g)), (2, .int (nI i))] → W p l e R s m args below meth c H locs 0 0 Q (F0 m 5 ls []) := by
  have hx := F.1.1
  have hb := F.1.2.1
  intro n
  induction n with
  | zero =>
    intro i H locs ls hi hi2 hP hS hl
    have hi : i = 32 * g + 32 := by omega
    subst hi
    refine lv_iload_n hx hb dX0_saveImage_5 rfl (lv_at hl 2 rfl) ?_
    refine lv_bipush (v := nI 32) hx hb dX0_saveImage_6 (by decide) ?_
    refine lv_iload_n hx hb dX0_saveImage_8 rfl (lv_at hl 1 rfl) ?_
    refine gx_mul hx hb dX0_saveImage_9 ?_
    refine lv_bipush (v := nI 32) hx hb dX0_saveImage_10 (by decide) ?_
    refine gx_add hx hb dX0_saveImage_12 ?_
    refine gx_ge hx hb 82 (by omega) (by omega) dX0_saveImage_13 (by decide) (fun c_5 => ?_) (fun c_5 => ?_)
    · exact exit H locs ls hP hS (lv_sub hl [0, 1, 2] rfl)
    · exact absurd c_5 (by omega)
  | succ n ih =>
    intro i H locs ls hi hi2 hP hS hl
    refine lv_iload_n hx hb dX0_saveImage_5 rfl (lv_at hl 2 rfl) ?_
    refine lv_bipush (v := nI 32) hx hb dX0_saveImage_6 (by decide) ?_
    refine lv_iload_n hx hb dX0_saveImage_8 rfl (lv_at hl 1 rfl) ?_
    refine gx_mul hx hb dX0_saveImage_9 ?_
    refine lv_bipush (v := nI 32) hx hb dX0_saveImage_10 (by decide) ?_
    refine gx_add hx hb dX0_saveImage_12 ?_
    refine gx_ge hx hb 82 (by omega) (by omega) dX0_saveImage_13 (by decide) (fun c_6 => ?_) (fun c_6 => ?_)
    · exact absurd c_6 (by omega)
    · refine lv_aload_n hx hb dX0_saveImage_16 rfl (lv_at hl 0 rfl) ?_
      refine g_get F hP 6 (by decide) (by decide) rfl q30 dX0_saveImage_17 ?_
      refine lv_iload_n hx hb dX0_saveImage_20 rfl (lv_at hl 2 rfl) ?_
      refine lv_aload_n hx hb dX0_saveImage_21 rfl (lv_at hl 0 rfl) ?_
      refine g_get F hP 0 (by decide) (by decide) rfl q24 dX0_saveImage_22 ?_
      refine lv_iload_n hx hb dX0_saveImage_25 rfl (lv_at hl 2 rfl) ?_
      refine g_iald F hP 0 128 (by decide) rfl rfl (by omega) (by decide) dX0_saveImage_26 ?_
      refine gx_re (y := M 0 i) (by rw [svL_lo (by omega)]) ?_
      refine g_iast F (fun _ h => h) hP hS 6 128 (by decide) rfl rfl (by omega) (by decide) dX0_saveImage_27 (fun M1 H locs eM1 hP hS => ?_)
      refine lv_aload_n hx hb dX0_saveImage_28 rfl (lv_at hl 0 rfl) ?_
      refine g_get F hP 7 (by decide) (by decide) rfl q31 dX0_saveImage_29 ?_
      refine lv_iload_n hx hb dX0_saveImage_32 rfl (lv_at hl 2 rfl) ?_
      refine lv_aload_n hx hb dX0_saveImage_33 rfl (lv_at hl 0 rfl) ?_
      refine g_get F hP 1 (by decide) (by decide) rfl q25 dX0_saveImage_34 ?_
      refine lv_iload_n hx hb dX0_saveImage_37 rfl (lv_at hl 2 rfl) ?_
      refine g_zald F hP 1 128 (by decide) rfl rfl (by omega) (by decide) dX0_saveImage_38 ?_
      refine gx_re (y := M 1 i) (by rw [eM1, sU_k (by omega), svL_lo (by omega)]) ?_
      refine g_zast F (fun _ h => h) hP hS 7 128 (by decide) rfl rfl (by omega) (by decide) (hB i).1 dX0_saveImage_39 (fun M2 H locs eM2 hP hS => ?_)
      refine lv_aload_n hx hb dX0_saveImage_40 rfl (lv_at hl 0 rfl) ?_
      refine g_get F hP 8 (by decide) (by decide) rfl q32 dX0_saveImage_41 ?_
      refine lv_iload_n hx hb dX0_saveImage_44 rfl (lv_at hl 2 rfl) ?_
      refine lv_aload_n hx hb dX0_saveImage_45 rfl (lv_at hl 0 rfl) ?_
      refine g_get F hP 2 (by decide) (by decide) rfl q26 dX0_saveImage_46 ?_
      refine lv_iload_n hx hb dX0_saveImage_49 rfl (lv_at hl 2 rfl) ?_
      refine g_zald F hP 2 128 (by decide) rfl rfl (by omega) (by decide) dX0_saveImage_50 ?_
      refine gx_re (y := M 2 i) (by rw [eM2, sU_k (by omega), eM1, sU_k (by omega), svL_lo (by omega)]) ?_
      refine g_zast F (fun _ h => h) hP hS 8 128 (by decide) rfl rfl (by omega) (by decide) (hB i).2.1 dX0_saveImage_51 (fun M3 H locs eM3 hP hS => ?_)
      refine lv_aload_n hx hb dX0_saveImage_52 rfl (lv_at hl 0 rfl) ?_
      refine g_get F hP 9 (by decide) (by decide) rfl q33 dX0_saveImage_53 ?_
      refine lv_iload_n hx hb dX0_saveImage_56 rfl (lv_at hl 2 rfl) ?_
      refine lv_aload_n hx hb dX0_saveImage_57 rfl (lv_at hl 0 rfl) ?_
      refine g_get F hP 3 (by decide) (by decide) rfl q27 dX0_saveImage_58 ?_
      refine lv_iload_n hx hb dX0_saveImage_61 rfl (lv_at hl 2 rfl) ?_
      refine g_iald F hP 3 128 (by decide) rfl rfl (by omega) (by decide) dX0_saveImage_62 ?_
      refine gx_re (y := M 3 i) (by rw [eM3, sU_k (by omega), eM2, sU_k (by omega), eM1, sU_k (by omega), svL_lo (by omega)]) ?_
      refine g_iast F (fun _ h => h) hP hS 9 128 (by decide) rfl rfl (by omega) (by decide) dX0_saveImage_63 (fun M4 H locs eM4 hP hS => ?_)
      refine lv_aload_n hx hb dX0_saveImage_64 rfl (lv_at hl 0 rfl) ?_
      refine g_get F hP 10 (by decide) (by decide) rfl q34 dX0_saveImage_65 ?_
      refine lv_iload_n hx hb dX0_saveImage_68 rfl (lv_at hl 2 rfl) ?_
      refine lv_aload_n hx hb dX0_saveImage_69 rfl (lv_at hl 0 rfl) ?_
      refine g_get F hP 4 (by decide) (by decide) rfl q28 dX0_saveImage_70 ?_
      refine lv_iload_n hx hb dX0_saveImage_73 rfl (lv_at hl 2 rfl) ?_
      refine g_iald F hP 4 128 (by decide) rfl rfl (by omega) (by decide) dX0_saveImage_74 ?_
      refine gx_re (y := M 4 i) (by rw [eM4, sU_k (by omega), eM3, sU_k (by omega), eM2, sU_k (by omega), eM1, sU_k (by omega), svL_lo (by omega)]) ?_
      refine g_iast F (fun _ h => h) hP hS 10 128 (by decide) rfl rfl (by omega) (by decide) dX0_saveImage_75 (fun M5 H locs eM5 hP hS => ?_)
      refine lv_iinc (v := nI (i + 1)) (lv' := [(2, .int (nI (i + 1))), (0, .ref E.2.2.1), (1, .int (nI g))]) hx hb dX0_saveImage_76 hl (k := 2) rfl (nI_add i 1) (by decide) rfl (fun ls hl => ?_)
      refine lv_goto (tgt := 5) hx hb dX0_saveImage_79 (by decide) ?_
      exact ih (i + 1) H locs ls (by omega) (by omega) (by rw [eM5, eM4, eM3, eM2, eM1, svL_b hi2] at hP; exact hP) hS (lv_sub hl [1, 2, 0] rfl)
set_option maxHeartbeats 4000000 in
/-- saveImage's second loop -/
theorem lp_saveImage_2 (F : Fx p s m c args cX0_saveImage 3 RX0 TX0 0 20 21 ety0 E) {g : Nat} (hg : g < 4) (M : SM) (exit : ∀ (H : Heap) (locs : List Loc) (ls : Array Slot), va_P E.1 vwCl (w0 E (svL M g (32 * g + 32) 8) nx) H → va_S (gAE 20 E) s.heap H locs → lv_has ls 3 [(0, .ref E.2.2.1), (1, .int (nI g)), (2, .int (nI 8))] → W p l e R s m args below meth c H locs 0 0 Q (F0 m 118 ls [])) :
    ∀ (n q : Nat) (H : Heap) (locs : List Loc) (ls : Array Slot), q + n = 8 → va_P E.1 vwCl (w0 E (svL M g (32 * g + 32) q) nx) H → va_S (gAE 20 E) s.heap H locs → lv_has ls 3 [(0, .ref E.2.2.1), (1, .int (nI g)), (2, .int (nI q))] → W p l e R s m args below meth c H locs 0 0 Q (F0 m 84 ls []) := by
  have hx := F.1.1
  have hb := F.1.2.1
  intro n
  induction n with
  | zero =>
    intro q H locs ls hi hP hS hl
    have hi : q = 8 := by omega
    subst hi
    refine lv_iload_n hx hb dX0_saveImage_84 rfl (lv_at hl 2 rfl) ?_
    refine lv_bipush (v := nI 8) hx hb dX0_saveImage_85 (by decide) ?_
    refine gx_ge hx hb 118 (by omega) (by omega) dX0_saveImage_87 (by decide) (fun c_7 => ?_) (fun c_7 => ?_)
    · exact exit H locs ls hP hS (lv_sub hl [0, 1, 2] rfl)
    · exact absurd c_7 (by omega)
  | succ n ih =>
    intro q H locs ls hi hP hS hl
    refine lv_iload_n hx hb dX0_saveImage_84 rfl (lv_at hl 2 rfl) ?_
    refine lv_bipush (v := nI 8) hx hb dX0_saveImage_85 (by decide) ?_
    refine gx_ge hx hb 118 (by omega) (by omega) dX0_saveImage_87 (by decide) (fun c_8 => ?_) (fun c_8 => ?_)
    · exact absurd c_8 (by omega)
    · refine lv_aload_n hx hb dX0_saveImage_90 rfl (lv_at hl 0 rfl) ?_
      refine g_get F hP 11 (by decide) (by decide) rfl q35 dX0_saveImage_91 ?_
      refine lv_bipush (v := nI 8) hx hb dX0_saveImage_94 (by decide) ?_
      refine lv_iload_n hx hb dX0_saveImage_96 rfl (lv_at hl 1 rfl) ?_
      refine gx_mul hx hb dX0_saveImage_97 ?_
      refine lv_iload_n hx hb dX0_saveImage_98 rfl (lv_at hl 2 rfl) ?_
      refine gx_add hx hb dX0_saveImage_99 ?_
      refine lv_aload_n hx hb dX0_saveImage_100 rfl (lv_at hl 0 rfl) ?_
      refine g_get F hP 5 (by decide) (by decide) rfl q29 dX0_saveImage_101 ?_
      refine lv_bipush (v := nI 8) hx hb dX0_saveImage_104 (by decide) ?_
      refine lv_iload_n hx hb dX0_saveImage_106 rfl (lv_at hl 1 rfl) ?_
      refine gx_mul hx hb dX0_saveImage_107 ?_
      refine lv_iload_n hx hb dX0_saveImage_108 rfl (lv_at hl 2 rfl) ?_
      refine gx_add hx hb dX0_saveImage_109 ?_
      refine g_iald F hP 5 32 (by decide) rfl rfl (by omega) (by decide) dX0_saveImage_110 ?_
      refine gx_re (y := M 5 (8 * g + q)) (svL_lo (by omega)) ?_
      refine g_iast F (fun _ h => h) hP hS 11 32 (by decide) rfl rfl (by omega) (by decide) dX0_saveImage_111 (fun M1 H locs eM1 hP hS => ?_)
      refine lv_iinc (v := nI (q + 1)) (lv' := [(2, .int (nI (q + 1))), (0, .ref E.2.2.1), (1, .int (nI g))]) hx hb dX0_saveImage_112 hl (k := 2) rfl (nI_add q 1) (by decide) rfl (fun ls hl => ?_)
      refine lv_goto (tgt := 84) hx hb dX0_saveImage_115 (by decide) ?_
      exact ih (q + 1) H locs ls (by omega) (by rw [eM1, svL_c] at hP; exact hP) hS (lv_sub hl [1, 2, 0] rfl)
end
set_option maxHeartbeats 4000000 in
theorem m0_saveImage (l : Launch) (E : Cx) (hap : gApE 20 E) (nx : Int32) (M : SM) (hB : Bo M) (g : Nat) (hg : g < 4) : Met l yX0_saveImage (ws_ yX0_saveImage cX0_saveImage 3 none) ({ frames := 0, cells := 0, slots := 0, locals := 0 }) (va_Pc [.ref E.2.2.1, .int (nI g)] (B0 E M nx)) (va_Qv (fun u => u = sv M g) (Z0 E nx) (gAE 20 E)) 0 0 (gAE 20 E) := by
  refine g_start (own := RX0) (T := TX0) (N := 21) (by decide) rfl hap rfl in_X0 (Nat.le_of_ble_eq_true rfl) ?_
  intro p e s m below meth c ls F hr hlocks hP hS hl
  have hx := F.1.1
  have hb := F.1.2.1
  have hl : lv_has ls 3 [(0, .ref E.2.2.1), (1, .int (nI g))] := hl
  refine lv_bipush (v := nI 32) hx hb dX0_saveImage_0 (by decide) ?_
  refine lv_iload_n hx hb dX0_saveImage_2 rfl (lv_at hl 1 rfl) ?_
  refine gx_mul hx hb dX0_saveImage_3 ?_
  refine lv_istore_n (lv' := [(2, .int (nI (32 * g))), (0, .ref E.2.2.1), (1, .int (nI g))]) hx hb dX0_saveImage_4 rfl hl (by decide) rfl (fun ls hl => ?_)
  refine lp_saveImage_1 F hg M hB (fun H locs ls hP hS hl => ?_) 32 (32 * g) _ _ _ (by omega) (by omega) (by rw [svL_0]; exact hP) hS (lv_sub hl [1, 2, 0] rfl)
  refine lv_iconst (v := nI 0) hx hb dX0_saveImage_82 (by decide) ?_
  refine lv_istore_n (lv' := [(2, .int (nI 0)), (0, .ref E.2.2.1), (1, .int (nI g))]) hx hb dX0_saveImage_83 rfl hl (by decide) rfl (fun ls hl => ?_)
  refine lp_saveImage_2 F hg M (fun H locs ls hP hS hl => ?_) 8 0 _ _ _ (by omega) hP hS (lv_sub hl [1, 2, 0] rfl)
  refine lv_aload_n hx hb dX0_saveImage_118 rfl (lv_at hl 0 rfl) ?_
  refine g_get F hP 12 (by decide) (by decide) rfl q36 dX0_saveImage_119 ?_
  refine lv_iload_n hx hb dX0_saveImage_122 rfl (lv_at hl 1 rfl) ?_
  refine lv_iconst (v := 0) hx hb dX0_saveImage_123 (by decide) ?_
  refine g_iast F (fun _ h => h) hP hS 12 4 (by decide) rfl rfl (by omega) (by decide) dX0_saveImage_124 (fun M1 H locs eM1 hP hS => ?_)
  exact g_vret hx hb hr hlocks hS M1 eM1 (gZ_of hP) dX0_saveImage_125
end
section
set_option maxRecDepth 100000
set_option maxHeartbeats 4000000 in
theorem m0_apply (l : Launch) (E : Cx) (hap : gApE 20 E) (nx : Int32) (M : SM) (g kd a : Nat) (b cv : Int32) (hg : g < 4) (hok : okE kd a) : Met l yX0_apply (ws_ yX0_apply cX0_apply 6 none) ({ frames := 1, cells := 0, slots := 0, locals := 23 }) (va_Pc [.ref E.2.2.1, .int (nI g), .int (nI kd), .int (nI a), .int b, .int cv] (B0 E M nx)) (va_Qv (fun u => u = ap M g kd a b cv) (Z0 E nx) (gAE 20 E)) 0 0 (gAE 20 E) := by
  refine g_start (own := RX0) (T := TX0) (N := 21) (by decide) rfl hap rfl in_X0 (Nat.le_of_ble_eq_true rfl) ?_
  intro p e s m below meth c ls F hr hlocks hP hS hl
  have hx := F.1.1
  have hb := F.1.2.1
  have hl : lv_has ls 6 [(0, .ref E.2.2.1), (1, .int (nI g)), (2, .int (nI kd)), (3, .int (nI a)), (4, .int b), (5, .int cv)] := hl
  unfold okE at hok
  refine lv_iload_n hx hb dX0_apply_0 rfl (lv_at hl 2 rfl) ?_
  refine gx_ifne hx hb 42 (by omega) dX0_apply_1 (by decide) (fun k0 => ?_) (fun k0 => ?_)
  · have hk0 := k0
    refine lv_iload_n hx hb dX0_apply_42 rfl (lv_at hl 2 rfl) ?_
    refine lv_iconst (v := nI 1) hx hb dX0_apply_43 (by decide) ?_
    refine gx_ne hx hb 88 (by omega) (by omega) dX0_apply_44 (by decide) (fun k1 => ?_) (fun k1 => ?_)
    · refine lv_iload_n hx hb dX0_apply_88 rfl (lv_at hl 2 rfl) ?_
      refine lv_iconst (v := nI 2) hx hb dX0_apply_89 (by decide) ?_
      refine gx_ne hx hb 109 (by omega) (by omega) dX0_apply_90 (by decide) (fun k2 => ?_) (fun k2 => ?_)
      · refine lv_aload_n hx hb dX0_apply_109 rfl (lv_at hl 0 rfl) ?_
        refine lv_iload_n hx hb dX0_apply_110 rfl (lv_at hl 1 rfl) ?_
        refine lv_iload_n hx hb dX0_apply_111 rfl (lv_at hl 3 rfl) ?_
        refine g_callv (k := 2) F hP hS (m0_forget l E hap nx M g a hg (by omega)) (lw_V q121 q123 qs6 q14 q124) ⟨rfl, rfl⟩ (by decide +kernel) ⟨Nat.le_of_ble_eq_true rfl, Nat.le_of_ble_eq_true rfl⟩ rfl hl.1 rfl (Nat.le_of_ble_eq_true rfl) dX0_apply_112 (fun u H locs hw_u hP hS => ?_)
        exact g_vret hx hb hr hlocks hS u (by rw [hw_u, ap, if_neg k0, if_neg k1, if_neg k2]) (gZ_of hP) dX0_apply_115
      · refine lv_aload_n hx hb dX0_apply_93 rfl (lv_at hl 0 rfl) ?_
        refine g_get F hP 5 (by decide) (by decide) rfl q29 dX0_apply_94 ?_
        refine lv_bipush (v := nI 8) hx hb dX0_apply_97 (by decide) ?_
        refine lv_iload_n hx hb dX0_apply_99 rfl (lv_at hl 1 rfl) ?_
        refine gx_mul hx hb dX0_apply_100 ?_
        refine lv_iload_n hx hb dX0_apply_101 rfl (lv_at hl 3 rfl) ?_
        refine gx_add hx hb dX0_apply_102 ?_
        refine lv_iload hx hb dX0_apply_103 (lv_at hl 4 rfl) ?_
        refine g_iast F (fun _ h => h) hP hS 5 32 (by decide) rfl rfl (by omega) (by decide) dX0_apply_105 (fun M1 H locs eM1 hP hS => ?_)
        refine lv_goto (tgt := 115) hx hb dX0_apply_106 (by decide) ?_
        exact g_vret hx hb hr hlocks hS M1 (by rw [eM1, ap, if_neg k0, if_neg k1, if_pos k2]) (gZ_of hP) dX0_apply_115
    · refine lv_aload_n hx hb dX0_apply_47 rfl (lv_at hl 0 rfl) ?_
      refine g_get F hP 2 (by decide) (by decide) rfl q26 dX0_apply_48 ?_
      refine lv_bipush (v := nI 32) hx hb dX0_apply_51 (by decide) ?_
      refine lv_iload_n hx hb dX0_apply_53 rfl (lv_at hl 1 rfl) ?_
      refine gx_mul hx hb dX0_apply_54 ?_
      refine lv_iload_n hx hb dX0_apply_55 rfl (lv_at hl 3 rfl) ?_
      refine gx_add hx hb dX0_apply_56 ?_
      refine lv_iconst (v := 1) hx hb dX0_apply_57 (by decide) ?_
      refine g_zast F (fun _ h => h) hP hS 2 128 (by decide) rfl rfl (by omega) (by decide) (by decide) dX0_apply_58 (fun M1 H locs eM1 hP hS => ?_)
      refine lv_aload_n hx hb dX0_apply_59 rfl (lv_at hl 0 rfl) ?_
      refine g_get F hP 3 (by decide) (by decide) rfl q27 dX0_apply_60 ?_
      refine lv_bipush (v := nI 32) hx hb dX0_apply_63 (by decide) ?_
      refine lv_iload_n hx hb dX0_apply_65 rfl (lv_at hl 1 rfl) ?_
      refine gx_mul hx hb dX0_apply_66 ?_
      refine lv_iload_n hx hb dX0_apply_67 rfl (lv_at hl 3 rfl) ?_
      refine gx_add hx hb dX0_apply_68 ?_
      refine lv_iload hx hb dX0_apply_69 (lv_at hl 4 rfl) ?_
      refine g_iast F (fun _ h => h) hP hS 3 128 (by decide) rfl rfl (by omega) (by decide) dX0_apply_71 (fun M2 H locs eM2 hP hS => ?_)
      refine lv_aload_n hx hb dX0_apply_72 rfl (lv_at hl 0 rfl) ?_
      refine g_get F hP 4 (by decide) (by decide) rfl q28 dX0_apply_73 ?_
      refine lv_bipush (v := nI 32) hx hb dX0_apply_76 (by decide) ?_
      refine lv_iload_n hx hb dX0_apply_78 rfl (lv_at hl 1 rfl) ?_
      refine gx_mul hx hb dX0_apply_79 ?_
      refine lv_iload_n hx hb dX0_apply_80 rfl (lv_at hl 3 rfl) ?_
      refine gx_add hx hb dX0_apply_81 ?_
      refine lv_iload hx hb dX0_apply_82 (lv_at hl 5 rfl) ?_
      refine g_iast F (fun _ h => h) hP hS 4 128 (by decide) rfl rfl (by omega) (by decide) dX0_apply_84 (fun M3 H locs eM3 hP hS => ?_)
      refine lv_goto (tgt := 115) hx hb dX0_apply_85 (by decide) ?_
      exact g_vret hx hb hr hlocks hS M3 (by rw [eM3, eM2, eM1, ap, if_neg k0, if_pos k1]) (gZ_of hP) dX0_apply_115
  · refine lv_aload_n hx hb dX0_apply_4 rfl (lv_at hl 0 rfl) ?_
    refine g_get F hP 0 (by decide) (by decide) rfl q24 dX0_apply_5 ?_
    refine lv_bipush (v := nI 32) hx hb dX0_apply_8 (by decide) ?_
    refine lv_iload_n hx hb dX0_apply_10 rfl (lv_at hl 1 rfl) ?_
    refine gx_mul hx hb dX0_apply_11 ?_
    refine lv_iload_n hx hb dX0_apply_12 rfl (lv_at hl 3 rfl) ?_
    refine gx_add hx hb dX0_apply_13 ?_
    refine lv_iload hx hb dX0_apply_14 (lv_at hl 4 rfl) ?_
    refine g_iast F (fun _ h => h) hP hS 0 128 (by decide) rfl rfl (by omega) (by decide) dX0_apply_16 (fun M1 H locs eM1 hP hS => ?_)
    refine lv_aload_n hx hb dX0_apply_17 rfl (lv_at hl 0 rfl) ?_
    refine g_get F hP 1 (by decide) (by decide) rfl q25 dX0_apply_18 ?_
    refine lv_bipush (v := nI 32) hx hb dX0_apply_21 (by decide) ?_
    refine lv_iload_n hx hb dX0_apply_23 rfl (lv_at hl 1 rfl) ?_
    refine gx_mul hx hb dX0_apply_24 ?_
    refine lv_iload_n hx hb dX0_apply_25 rfl (lv_at hl 3 rfl) ?_
    refine gx_add hx hb dX0_apply_26 ?_
    refine lv_iload hx hb dX0_apply_27 (lv_at hl 5 rfl) ?_
    refine lv_iconst (v := nI 1) hx hb dX0_apply_29 (by decide) ?_
    refine lv_icmp_ne (tgt := 37) hx hb dX0_apply_30 (by decide) (fun k1 => ?_) (fun k1 => ?_)
    · have k1 : ¬ cv = 1 := k1
      refine lv_iconst (v := 0) hx hb dX0_apply_37 (by decide) ?_
      refine g_zast F (fun _ h => h) hP hS 1 128 (by decide) rfl rfl (by omega) (by decide) (by decide) dX0_apply_38 (fun M2 H locs eM2 hP hS => ?_)
      refine lv_goto (tgt := 115) hx hb dX0_apply_39 (by decide) ?_
      exact g_vret hx hb hr hlocks hS M2 (by rw [eM2, eM1, ap, if_pos k0, if_neg k1]) (gZ_of hP) dX0_apply_115
    · have k1 : cv = 1 := by first | exact k1 | exact Decidable.of_not_not k1
      refine lv_iconst (v := 1) hx hb dX0_apply_33 (by decide) ?_
      refine lv_goto (tgt := 38) hx hb dX0_apply_34 (by decide) ?_
      refine g_zast F (fun _ h => h) hP hS 1 128 (by decide) rfl rfl (by omega) (by decide) (by decide) dX0_apply_38 (fun M2 H locs eM2 hP hS => ?_)
      refine lv_goto (tgt := 115) hx hb dX0_apply_39 (by decide) ?_
      exact g_vret hx hb hr hlocks hS M2 (by rw [eM2, eM1, ap, if_pos k0, if_pos k1]) (gZ_of hP) dX0_apply_115
end
section
set_option maxRecDepth 100000
section
variable {p : Program} {l : Launch} {e : Env} {R : Room} {s : State} {m : MethodId} {args : Array Value} {below : List Frame} {meth : Method} {c : Code} {Q : State → Prop} {E : Cx} {nx : Int32}
set_option maxHeartbeats 4000000 in
/-- write behind its first test: the log's next entry, and apply -/
theorem wr_tail (hap : gApE 20 E) (F : Fx p s m c args cX0_write 7 RX0 TX0 0 20 21 ety0 E) {g kd a n : Nat} {b cv : Int32} (hg : g < 4) (hok : okE kd a) (hn : n < 8) (hR : 2 ≤ R.frames ∧ 48 ≤ R.locals) (M : SM) (h12 : M 12 g = nI n)
    (exit : ∀ (H : Heap) (locs : List Loc) (ls : Array Slot), va_P E.1 vwCl (w0 E (ap (lg M g n kd a b cv) g kd a b cv) nx) H → va_S (gAE 20 E) s.heap H locs → W p l e R s m args below meth c H locs 0 0 Q (F0 m 84 ls []))
    (H : Heap) (locs : List Loc) (ls : Array Slot) (hP : va_P E.1 vwCl (w0 E M nx) H) (hS : va_S (gAE 20 E) s.heap H locs) (hl : lv_has ls 7 [(0, .ref E.2.2.1), (1, .int (nI g)), (2, .int (nI kd)), (3, .int (nI a)), (4, .int b), (5, .int cv)]) : W p l e R s m args below meth c H locs 0 0 Q (F0 m 16 ls []) := by
  have hx := F.1.1
  have hb := F.1.2.1
  refine lv_bipush (v := nI 8) hx hb dX0_write_16 (by decide) ?_
  refine lv_iload_n hx hb dX0_write_18 rfl (lv_at hl 1 rfl) ?_
  refine gx_mul hx hb dX0_write_19 ?_
  refine lv_aload_n hx hb dX0_write_20 rfl (lv_at hl 0 rfl) ?_
  refine g_get F hP 12 (by decide) (by decide) rfl q36 dX0_write_21 ?_
  refine lv_iload_n hx hb dX0_write_24 rfl (lv_at hl 1 rfl) ?_
  refine g_iald F hP 12 4 (by decide) rfl rfl (by omega) (by decide) dX0_write_25 ?_
  refine gx_re (y := nI n) h12 ?_
  refine gx_add hx hb dX0_write_26 ?_
  refine lv_istore (lv' := [(6, .int (nI ((8 * g) + n))), (0, .ref E.2.2.1), (1, .int (nI g)), (2, .int (nI kd)), (3, .int (nI a)), (4, .int b), (5, .int cv)]) hx hb dX0_write_27 hl (by decide) rfl (fun ls hl => ?_)
  refine lv_aload_n hx hb dX0_write_29 rfl (lv_at hl 1 rfl) ?_
  refine g_get F hP 13 (by decide) (by decide) rfl q37 dX0_write_30 ?_
  refine lv_iload hx hb dX0_write_33 (lv_at hl 0 rfl) ?_
  refine lv_iload_n hx hb dX0_write_35 rfl (lv_at hl 3 rfl) ?_
  refine g_iast F (fun _ h => h) hP hS 13 32 (by decide) rfl rfl (by omega) (by decide) dX0_write_36 (fun M1 H locs eM1 hP hS => ?_)
  refine lv_aload_n hx hb dX0_write_37 rfl (lv_at hl 1 rfl) ?_
  refine g_get F hP 14 (by decide) (by decide) rfl q38 dX0_write_38 ?_
  refine lv_iload hx hb dX0_write_41 (lv_at hl 0 rfl) ?_
  refine lv_iload_n hx hb dX0_write_43 rfl (lv_at hl 4 rfl) ?_
  refine g_iast F (fun _ h => h) hP hS 14 32 (by decide) rfl rfl (by omega) (by decide) dX0_write_44 (fun M2 H locs eM2 hP hS => ?_)
  refine lv_aload_n hx hb dX0_write_45 rfl (lv_at hl 1 rfl) ?_
  refine g_get F hP 15 (by decide) (by decide) rfl q39 dX0_write_46 ?_
  refine lv_iload hx hb dX0_write_49 (lv_at hl 0 rfl) ?_
  refine lv_iload hx hb dX0_write_51 (lv_at hl 5 rfl) ?_
  refine g_iast F (fun _ h => h) hP hS 15 32 (by decide) rfl rfl (by omega) (by decide) dX0_write_53 (fun M3 H locs eM3 hP hS => ?_)
  refine lv_aload_n hx hb dX0_write_54 rfl (lv_at hl 1 rfl) ?_
  refine g_get F hP 16 (by decide) (by decide) rfl q40 dX0_write_55 ?_
  refine lv_iload hx hb dX0_write_58 (lv_at hl 0 rfl) ?_
  refine lv_iload hx hb dX0_write_60 (lv_at hl 6 rfl) ?_
  refine g_iast F (fun _ h => h) hP hS 16 32 (by decide) rfl rfl (by omega) (by decide) dX0_write_62 (fun M4 H locs eM4 hP hS => ?_)
  refine lv_aload_n hx hb dX0_write_63 rfl (lv_at hl 1 rfl) ?_
  refine g_get F hP 12 (by decide) (by decide) rfl q36 dX0_write_64 ?_
  refine lv_iload_n hx hb dX0_write_67 rfl (lv_at hl 2 rfl) ?_
  refine lv_dup2_11 hx hb dX0_write_68 rfl rfl ?_
  refine g_iald F hP 12 4 (by decide) rfl rfl (by omega) (by decide) dX0_write_69 ?_
  refine gx_re (y := nI n) (by rw [eM4, sU_k (by decide), eM3, sU_k (by decide), eM2, sU_k (by decide), eM1, sU_k (by decide)]; exact h12) ?_
  refine lv_iconst (v := nI 1) hx hb dX0_write_70 (by decide) ?_
  refine gx_add hx hb dX0_write_71 ?_
  refine g_iast F (fun _ h => h) hP hS 12 4 (by decide) rfl rfl (by omega) (by decide) dX0_write_72 (fun M5 H locs eM5 hP hS => ?_)
  refine lv_aload_n hx hb dX0_write_73 rfl (lv_at hl 1 rfl) ?_
  refine lv_iload_n hx hb dX0_write_74 rfl (lv_at hl 2 rfl) ?_
  refine lv_iload_n hx hb dX0_write_75 rfl (lv_at hl 3 rfl) ?_
  refine lv_iload_n hx hb dX0_write_76 rfl (lv_at hl 4 rfl) ?_
  refine lv_iload hx hb dX0_write_77 (lv_at hl 5 rfl) ?_
  refine lv_iload hx hb dX0_write_79 (lv_at hl 6 rfl) ?_
  have e5 : M5 = lg M g n kd a b cv := by rw [eM5, eM4, eM3, eM2, eM1]; rfl
  refine g_callv (k := 5) F hP hS (m0_apply l E hap nx M5 g kd a b cv hg hok) (lw_V q117 q119 qs5 q14 q120) ⟨rfl, rfl⟩ (by decide +kernel) ⟨hR.1, hR.2⟩ rfl hl.1 rfl (Nat.le_of_ble_eq_true rfl) dX0_write_81 (fun u H locs hw_u hP hS => ?_)
  exact exit H locs ls (by rw [hw_u, e5] at hP; exact hP) hS
end
set_option maxHeartbeats 4000000 in
theorem m0_write (l : Launch) (E : Cx) (hap : gApE 20 E) (nx : Int32) (M : SM) (hD : Dur M) (g kd a : Nat) (b cv : Int32) (hg : g < 4) (hok : okE kd a) : Met l yX0_write (ws_ yX0_write cX0_write 7 none) ({ frames := 2, cells := 0, slots := 0, locals := 48 }) (va_Pc [.ref E.2.2.1, .int (nI g), .int (nI kd), .int (nI a), .int b, .int cv] (B0 E M nx)) (va_Qv (fun u => Dur u ∧ ∀ k i, (k < 6 ∨ 17 ≤ k) → u k i = ap M g kd a b cv k i) (Z0 E nx) (gAE 20 E)) 0 0 (gAE 20 E) := by
  refine g_start (own := RX0) (T := TX0) (N := 21) (by decide) rfl hap rfl in_X0 (Nat.le_of_ble_eq_true rfl) ?_
  intro p e s m below meth c ls F hr hlocks hP hS hl
  have hx := F.1.1
  have hb := F.1.2.1
  have hl : lv_has ls 7 [(0, .ref E.2.2.1), (1, .int (nI g)), (2, .int (nI kd)), (3, .int (nI a)), (4, .int b), (5, .int cv)] := hl
  obtain ⟨n, hn, h12, -, -⟩ := hD.2 g hg
  refine lv_aload_n hx hb dX0_write_0 rfl (lv_at hl 0 rfl) ?_
  refine g_get F hP 12 (by decide) (by decide) rfl q36 dX0_write_1 ?_
  refine lv_iload_n hx hb dX0_write_4 rfl (lv_at hl 1 rfl) ?_
  refine g_iald F hP 12 4 (by decide) rfl rfl (by omega) (by decide) dX0_write_5 ?_
  refine gx_re (y := nI n) h12 ?_
  refine lv_bipush (v := nI 8) hx hb dX0_write_6 (by decide) ?_
  refine gx_lt hx hb 16 (by omega) (by omega) dX0_write_8 (by decide) (fun c_9 => ?_) (fun c_9 => ?_)
  · refine wr_tail hap F hg hok (by omega) ⟨Nat.le_refl _, Nat.le_refl _⟩ M h12 (fun H locs ls hP hS => ?_) _ _ _ hP hS (lv_sub hl [0, 1, 2, 3, 4, 5] rfl)
    exact g_vret hx hb hr hlocks hS _ ⟨Dur_write hD hg (by omega) h12 hok, fun k i hk => ap_pt (lg_lo (by omega))⟩ (gZ_of hP) dX0_write_84
  · refine lv_aload_n hx hb dX0_write_11 rfl (lv_at hl 0 rfl) ?_
    refine lv_iload_n hx hb dX0_write_12 rfl (lv_at hl 1 rfl) ?_
    refine g_callv (k := 1) F hP hS (m0_saveImage l E hap nx M hD.1 g hg) (lw_V q113 q115 qs4 q14 q116) ⟨rfl, rfl⟩ (by decide +kernel) ⟨Nat.le_of_ble_eq_true rfl, Nat.le_of_ble_eq_true rfl⟩ rfl hl.1 rfl (Nat.le_of_ble_eq_true rfl) dX0_write_13 (fun u H locs hw_u hP hS => ?_)
    subst hw_u
    obtain ⟨hD1, h0⟩ := Dur_sv hD hg
    refine wr_tail hap F hg hok (by omega) ⟨Nat.le_refl _, Nat.le_refl _⟩ (sv M g) h0 (fun H locs ls hP hS => ?_) _ _ _ hP hS (lv_sub hl [0, 1, 2, 3, 4, 5] rfl)
    exact g_vret hx hb hr hlocks hS _ ⟨Dur_write hD1 hg (by omega) h0 hok, fun k i hk => ap_pt (by rw [lg_lo (by omega), sv_lo (by omega)])⟩ (gZ_of hP) dX0_write_84
end
section
/-! PURE PART 2: the phases of a class, and what the model's state has to do with the groups' -/
/-- group h's copy of class c is the model's -/
def Hold (M m : SM) (c h : Nat) : Prop :=
  (∀ u, u < 4 → M 1 (32 * h + (c + 8 * u)) = m 0 (c + 8 * u) ∧ (m 0 (c + 8 * u) ≠ 0 → M 0 (32 * h + (c + 8 * u)) = m 1 (c + 8 * u))) ∧
  (∀ i, i < 4 → M 2 (32 * h + (4 * c + i)) = m 2 (4 * c + i) ∧ (m 2 (4 * c + i) ≠ 0 → M 3 (32 * h + (4 * c + i)) = m 3 (4 * c + i) ∧ M 4 (32 * h + (4 * c + i)) = m 4 (4 * c + i)))
def Clr (M : SM) (c g : Nat) : Prop := ∀ i, i < 4 → M 2 (32 * g + (4 * c + i)) = 0
/-- of class c, p units have been pulled from f to t -/
def Part (M : SM) (c f t p : Nat) : Prop :=
  (∀ u, u < 4 → u < p → M 1 (32 * t + (c + 8 * u)) = M 1 (32 * f + (c + 8 * u)) ∧ M 0 (32 * t + (c + 8 * u)) = M 0 (32 * f + (c + 8 * u))) ∧
  (∀ i, i < 4 → M 2 (32 * t + (4 * c + i)) ≠ 0 → M 2 (32 * f + (4 * c + i)) ≠ 0) ∧
  (∀ i, i < 4 → i + 4 < p → M 2 (32 * t + (4 * c + i)) = M 2 (32 * f + (4 * c + i)) ∧ (M 2 (32 * f + (4 * c + i)) ≠ 0 → M 3 (32 * t + (4 * c + i)) = M 3 (32 * f + (4 * c + i)) ∧ M 4 (32 * t + (4 * c + i)) = M 4 (32 * f + (4 * c + i))))
/-- a group's state in the phase: kd 0: a serves; 1: a is frozen; 2: a is frozen, b incoming; 3: a serves, b is frozen -/
def sg (kd a b g : Nat) : Int32 := if g = a then (if kd = 0 ∨ kd = 3 then 1 else 2) else if g = b ∧ 2 ≤ kd then (if kd = 2 then 3 else 2) else 0
def Ph (M m : SM) (c kd a b p : Nat) : Prop :=
  (a < 4 ∧ b < 4 ∧ kd < 4 ∧ (2 ≤ kd → a ≠ b)) ∧ (∀ g, g < 4 → M 5 (8 * g + c) = sg kd a b g) ∧ Hold M m c a ∧ (∀ g, g < 4 → sg kd a b g = 0 → Clr M c g) ∧ (kd = 2 → p ≤ 8 ∧ M 18 c = nI p ∧ Part M c a b p)
/-- how many steps at most before group h serves -/
def rk (kd a b p h : Nat) : Nat := if kd = 0 then (if a = h then 0 else 11) else if kd = 1 then (if a = h then 1 else 10) else if kd = 2 then (9 - p) + (if b = h then 0 else 12) else (if a = h then 0 else 12)
def Core (M m : SM) : Prop := (∀ c, c < 8 → ∃ kd a b p, Ph M m c kd a b p) ∧ (∀ c, c < 8 → ∃ h, h < 4 ∧ M 17 c = nI h ∧ m 5 c = nI h) ∧ (∀ i, i < 32 → ∃ r, r < 4 ∧ M 19 i = nI r)
/-- what of M and m class c's phase rests on -/
def sameD (M M' : SM) (c g : Nat) : Prop := (∀ k u, k < 2 → u < 4 → M' k (32 * g + (c + 8 * u)) = M k (32 * g + (c + 8 * u))) ∧ (∀ k i, 2 ≤ k → k ≤ 4 → i < 4 → M' k (32 * g + (4 * c + i)) = M k (32 * g + (4 * c + i)))
def sameC (M M' : SM) (c : Nat) : Prop := (∀ g, g < 4 → M' 5 (8 * g + c) = M 5 (8 * g + c)) ∧ (∀ g, g < 4 → sameD M M' c g) ∧ M' 18 c = M 18 c
def sameM (m m' : SM) (c : Nat) : Prop := (∀ k u, k < 2 → u < 4 → m' k (c + 8 * u) = m k (c + 8 * u)) ∧ (∀ k i, 2 ≤ k → k ≤ 4 → i < 4 → m' k (4 * c + i) = m k (4 * c + i))
theorem sameM_rf (m : SM) (c : Nat) : sameM m m c := ⟨fun _ _ _ _ => rfl, fun _ _ _ _ _ => rfl⟩
theorem Hold_same {M M' m m' : SM} {c h : Nat} (s : sameD M M' c h) (t : sameM m m' c) (H : Hold M m c h) : Hold M' m' c h := by
  obtain ⟨s2, s3⟩ := s
  obtain ⟨t1, t2⟩ := t
  obtain ⟨H1, H2⟩ := H
  refine ⟨fun u hu => ?_, fun i hi => ?_⟩
  · rw [s2 1 u (by omega) hu, s2 0 u (by omega) hu, t1 0 u (by omega) hu, t1 1 u (by omega) hu]
    exact H1 u hu
  · rw [s3 2 i (by omega) (by omega) hi, s3 3 i (by omega) (by omega) hi, s3 4 i (by omega) (by omega) hi, t2 2 i (by omega) (by omega) hi, t2 3 i (by omega) (by omega) hi, t2 4 i (by omega) (by omega) hi]
    exact H2 i hi
theorem Clr_same {M M' : SM} {c g : Nat} (s : sameD M M' c g) (H : Clr M c g) : Clr M' c g := fun i hi => by
  rw [s.2 2 i (by omega) (by omega) hi]
  exact H i hi
theorem Part_same {M M' : SM} {c f t p : Nat} (sf : sameD M M' c f) (st : sameD M M' c t) (H : Part M c f t p) : Part M' c f t p := by
  obtain ⟨f2, f3⟩ := sf
  obtain ⟨t2, t3⟩ := st
  obtain ⟨H1, H2, H3⟩ := H
  refine ⟨fun u hu hp => ?_, fun i hi => ?_, fun i hi hp => ?_⟩
  · rw [t2 1 u (by omega) hu, f2 1 u (by omega) hu, t2 0 u (by omega) hu, f2 0 u (by omega) hu]
    exact H1 u hu hp
  · rw [t3 2 i (by omega) (by omega) hi, f3 2 i (by omega) (by omega) hi]
    exact H2 i hi
  · rw [t3 2 i (by omega) (by omega) hi, f3 2 i (by omega) (by omega) hi, t3 3 i (by omega) (by omega) hi, f3 3 i (by omega) (by omega) hi, t3 4 i (by omega) (by omega) hi, f3 4 i (by omega) (by omega) hi]
    exact H3 i hi hp
theorem Ph_same {M M' m m' : SM} {c kd a b p : Nat} (s : sameC M M' c) (t : sameM m m' c) (H : Ph M m c kd a b p) : Ph M' m' c kd a b p := by
  obtain ⟨⟨h1, h2, h3, h4⟩, h5, h6, h7, h8⟩ := H
  refine ⟨⟨h1, h2, h3, h4⟩, fun g hg => by rw [s.1 g hg]; exact h5 g hg, Hold_same (s.2.1 a h1) t h6, fun g hg q => Clr_same (s.2.1 g hg) (h7 g hg q), fun q => ?_⟩
  obtain ⟨q1, q2, q3⟩ := h8 q
  exact ⟨q1, by rw [s.2.2]; exact q2, Part_same (s.2.1 a h1) (s.2.1 b h2) q3⟩
/-- the arrays that are looked at -/
def vis (M M' : SM) : Prop := ∀ k i, (k < 6 ∨ 17 ≤ k) → M' k i = M k i
theorem vis_D {M M' : SM} (h : vis M M') (c g : Nat) : sameD M M' c g := ⟨fun k u _ _ => h _ _ (by omega), fun k i _ _ _ => h _ _ (by omega)⟩
theorem vis_C {M M' : SM} (h : vis M M') (c : Nat) : sameC M M' c := ⟨fun g _ => h _ _ (by omega), fun g _ => vis_D h c g, h _ _ (by omega)⟩
theorem sameD_trans {M M' M'' : SM} {c g : Nat} (s : sameD M M' c g) (t : sameD M' M'' c g) : sameD M M'' c g := ⟨fun k u a b => (t.1 k u a b).trans (s.1 k u a b), fun k i a b d => (t.2 k i a b d).trans (s.2 k i a b d)⟩
theorem sameC_trans {M M' M'' : SM} {c : Nat} (s : sameC M M' c) (t : sameC M' M'' c) : sameC M M'' c := ⟨fun g hg => (t.1 g hg).trans (s.1 g hg), fun g hg => sameD_trans (s.2.1 g hg) (t.2.1 g hg), t.2.2.trans s.2.2⟩
/-- the class of an entry -/
def clE (kind a c : Nat) : Prop := (kind = 0 ∧ a < 32 ∧ a % 8 = c) ∨ (kind = 1 ∧ 4 * c ≤ a ∧ a < 4 * c + 4) ∨ ((kind = 2 ∨ kind = 3) ∧ a = c)
theorem clE_ok {kind a c : Nat} (hc : c < 8) (h : clE kind a c) : okE kind a := by
  unfold clE at h
  unfold okE
  omega
theorem ap_C {M : SM} {g kind a c c' : Nat} {b cv : Int32} (hc : c < 8) (hc' : c' < 8) (hne : c' ≠ c) (hcl : clE kind a c) : sameC M (ap M g kind a b cv) c' := by
  unfold clE at hcl
  unfold ap
  rcases hcl with ⟨e, h1, h2⟩ | ⟨e, h1, h2⟩ | ⟨e, h1⟩
  · rw [if_pos e]
    refine ⟨fun g' _ => ?_, fun g' _ => ⟨fun k u _ _ => ?_, fun k i _ _ _ => ?_⟩, ?_⟩
    · rw [sU_k (by omega), sU_k (by omega)]
    · rw [sU_i (by omega), sU_i (by omega)]
    · rw [sU_k (by omega), sU_k (by omega)]
    · rw [sU_k (by omega), sU_k (by omega)]
  · rw [if_neg (by omega), if_pos e]
    refine ⟨fun g' _ => ?_, fun g' _ => ⟨fun k u _ _ => ?_, fun k i _ _ _ => ?_⟩, ?_⟩
    · rw [sU_k (by omega), sU_k (by omega), sU_k (by omega)]
    · rw [sU_k (by omega), sU_k (by omega), sU_k (by omega)]
    · rw [sU_i (by omega), sU_i (by omega), sU_i (by omega)]
    · rw [sU_k (by omega), sU_k (by omega), sU_k (by omega)]
  · rw [if_neg (by omega), if_neg (by omega)]
    split
    · refine ⟨fun g' _ => ?_, fun g' _ => ⟨fun k u _ _ => ?_, fun k i _ _ _ => ?_⟩, ?_⟩
      · rw [sU_i (by omega)]
      · rw [sU_k (by omega)]
      · rw [sU_k (by omega)]
      · rw [sU_k (by omega)]
    · refine ⟨fun g' _ => ?_, fun g' _ => ⟨fun k u _ _ => ?_, fun k i _ _ _ => ?_⟩, ?_⟩
      · simp only [fg, fgL]
        rw [if_neg (by omega), if_neg (by omega), if_neg (by omega)]
      · simp only [fg, fgL]
        rw [if_neg (by omega), if_neg (by omega), if_neg (by omega)]
      · simp only [fg, fgL]
        rw [if_neg (by omega), if_neg (by omega), if_neg (by omega)]
      · simp only [fg, fgL]
        rw [if_neg (by omega), if_neg (by omega), if_neg (by omega)]
theorem ap_17 {M : SM} {g kind a k i : Nat} {b cv : Int32} (hok : okE kind a) (hk : 17 ≤ k) : ap M g kind a b cv k i = M k i := ap_out hok (by unfold inB; omega)
/-- one class moves on, all else stays -/
theorem Core_step {M M' m m' : SM} {c kd a b p : Nat} (hC : Core M m) (h1 : ∀ c', c' < 8 → c' ≠ c → sameC M M' c' ∧ sameM m m' c') (hP : Ph M' m' c kd a b p) (h17 : ∀ i, M' 17 i = M 17 i) (h19 : ∀ i, M' 19 i = M 19 i) (h5 : ∀ i, m' 5 i = m 5 i) : Core M' m' := by
  obtain ⟨q1, q2, q3⟩ := hC
  refine ⟨fun c' hc' => ?_, fun c' hc' => ?_, fun i hi => ?_⟩
  · by_cases e : c' = c
    · subst e; exact ⟨_, _, _, _, hP⟩
    · obtain ⟨kd', a', b', p', q⟩ := q1 c' hc'
      obtain ⟨s, t⟩ := h1 c' hc' e
      exact ⟨_, _, _, _, Ph_same s t q⟩
  · rw [h17, h5]; exact q2 c' hc'
  · rw [h19]; exact q3 i hi
theorem rk_le {M m : SM} {c kd a b p h : Nat} (H : Ph M m c kd a b p) : rk kd a b p h ≤ 21 := by
  unfold rk
  (repeat' split) <;> omega
theorem rk_1 {M m : SM} {c kd a b p h : Nat} (H : Ph M m c kd a b p) (hh : h < 4) : rk kd a b p h = 0 ↔ M 5 (8 * h + c) = 1 := by
  obtain ⟨⟨h1, h2, h3, h4⟩, h5, h6, h7, h8⟩ := H
  rw [h5 h hh]
  have hk : kd = 0 ∨ kd = 1 ∨ kd = 2 ∨ kd = 3 := by omega
  rcases hk with e | e | e | e
  · subst e
    simp only [rk, sg]
    by_cases q : a = h
    · subst q; simp
    · simp [q, Ne.symm q]
  · subst e
    simp only [rk, sg]
    by_cases q : a = h
    · subst q; simp
    · simp [q, Ne.symm q]
  · subst e
    have := (h8 rfl).1
    constructor
    · intro q
      exfalso
      simp [rk] at q
      omega
    · intro q
      exfalso
      simp only [sg] at q
      (repeat' (split at q)) <;> first | (exact absurd q (by decide)) | omega
  · subst e
    simp only [rk, sg]
    by_cases q : a = h
    · subst q; simp
    · by_cases q2 : h = b
      · simp [q, Ne.symm q, q2]
        exact ⟨Eq.symm, Eq.symm⟩
      · simp [q, Ne.symm q, q2]
/-- who serves holds the model's copy -/
theorem Ph_serve {M m : SM} {c kd a b p g : Nat} (H : Ph M m c kd a b p) (hg : g < 4) (h1 : M 5 (8 * g + c) = 1) : g = a ∧ (kd = 0 ∨ kd = 3) := by
  have := (rk_1 (h := g) H hg).mpr h1
  obtain ⟨⟨_, _, hk, _⟩, _, _, _, h8⟩ := H
  unfold rk at this
  have h8' : kd = 2 → p ≤ 8 := fun q => (h8 q).1
  (repeat' (split at this)) <;> omega
/-- what groupIn answers -/
def giP (M : SM) (c : Nat) (x r : Int32) : Prop := (∃ g, g < 4 ∧ r = nI g ∧ M 5 (8 * g + c) = x ∧ ∀ j, j < g → ¬ M 5 (8 * j + c) = x) ∨ (r = -1 ∧ ∀ j, j < 4 → ¬ M 5 (8 * j + c) = x)
theorem giP_yes {M : SM} {c g0 : Nat} {x r : Int32} (h : giP M c x r) (hg : g0 < 4) (h1 : M 5 (8 * g0 + c) = x) (h2 : ∀ g, g < 4 → M 5 (8 * g + c) = x → g = g0) : r = nI g0 := by
  rcases h with ⟨g, a1, a2, a3, a4⟩ | ⟨a1, a2⟩
  · rw [a2, h2 g a1 a3]
  · exact absurd h1 (a2 g0 hg)
theorem giP_no {M : SM} {c : Nat} {x r : Int32} (h : giP M c x r) (h2 : ∀ g, g < 4 → ¬ M 5 (8 * g + c) = x) : r = -1 := by
  rcases h with ⟨g, a1, a2, a3, a4⟩ | ⟨a1, a2⟩
  · exact absurd a3 (h2 g a1)
  · exact a1
theorem sg_1 {kd a b g : Nat} : sg kd a b g = 1 ↔ g = a ∧ (kd = 0 ∨ kd = 3) := by
  unfold sg
  (repeat' split) <;> simp_all
theorem sg_2 {kd a b g : Nat} (h : 2 ≤ kd → a ≠ b) (hk : kd < 4) : sg kd a b g = 2 ↔ (g = a ∧ (kd = 1 ∨ kd = 2)) ∨ (g = b ∧ kd = 3) := by
  unfold sg
  (repeat' split) <;> simp <;> omega
theorem sg_3 {kd a b g : Nat} (h : 2 ≤ kd → a ≠ b) : sg kd a b g = 3 ↔ g = b ∧ kd = 2 := by
  unfold sg
  (repeat' split) <;> simp <;> omega
theorem sg_0 {kd a b g : Nat} : sg kd a b g = 0 ↔ g ≠ a ∧ (g ≠ b ∨ kd < 2) := by
  unfold sg
  (repeat' split) <;> simp <;> omega
end
section
/-! PURE PART 3: the steps of moveOn -/
theorem Dur_hi {M M' : SM} (hD : Dur M) (h : ∀ k i, k < 17 → M' k i = M k i) : Dur M' := by
  obtain ⟨hB, hG⟩ := hD
  refine ⟨fun i => ?_, fun g hg => Du_same (hG g hg) ⟨fun k i hb => h k i (by unfold inB at hb; omega), fun k i _ _ _ _ => h k i (by omega), fun i _ _ => h _ _ (by omega), h _ _ (by omega), fun k i _ _ _ _ => h k i (by omega)⟩⟩
  rw [h 1 i (by omega), h 2 i (by omega), h 7 i (by omega), h 8 i (by omega)]
  exact hB i
theorem ap0 {M : SM} {g a : Nat} {b c : Int32} : ap M g 0 a b c = sU (sU M 0 (32 * g + a) b) 1 (32 * g + a) (if c = 1 then 1 else 0) := rfl
theorem ap1 {M : SM} {g a : Nat} {b c : Int32} : ap M g 1 a b c = sU (sU (sU M 2 (32 * g + a) 1) 3 (32 * g + a) b) 4 (32 * g + a) c := rfl
theorem ap2 {M : SM} {g a : Nat} {b c : Int32} : ap M g 2 a b c = sU M 5 (8 * g + a) b := rfl
theorem ap3 {M : SM} {g a : Nat} {b c : Int32} : ap M g 3 a b c = fg M g a := rfl
/-- a state changes, no data do -/
theorem st_state {M M' m : SM} {c kd a b p g0 : Nat} {v : Int32} (hb : a < 4 ∧ b < 4 ∧ kd < 4 ∧ (2 ≤ kd → a ≠ b)) (hc : c < 8) (hs : ∀ g, g < 4 → sg kd a b g = if g = g0 then v else M 5 (8 * g + c)) (hH : Hold M m c a) (hcl : ∀ g, g < 4 → sg kd a b g = 0 → Clr M c g) (hp : kd = 2 → p ≤ 8 ∧ M 18 c = nI p ∧ Part M c a b p) (hv : vis (sU M 5 (8 * g0 + c) v) M') : Ph M' m c kd a b p := by
  have sD : ∀ g, sameD M M' c g := fun g => sameD_trans ⟨fun k u _ _ => sU_k (by omega), fun k i _ _ _ => sU_k (by omega)⟩ (vis_D hv c g)
  refine ⟨hb, fun g hg => ?_, Hold_same (sD a) (sameM_rf m c) hH, fun g hg q => Clr_same (sD g) (hcl g hg q), fun q => ?_⟩
  · rw [hv 5 _ (by omega), hs g hg]
    simp only [sU]
    by_cases e : g = g0
    · subst e; simp
    · rw [if_neg e, if_neg (by omega)]
  · obtain ⟨q1, q2, q3⟩ := hp q
    exact ⟨q1, by rw [hv 18 _ (by omega), sU_k (by omega)]; exact q2, Part_same (sD a) (sD b) q3⟩
/-- the frozen group forgets the class -/
theorem st_forget {M M' m : SM} {c a b p : Nat} (hc : c < 8) (H : Ph M m c 3 a b p) (hv : vis (fg M b c) M') : Ph M' m c 0 a 0 0 := by
  obtain ⟨⟨h1, h2, h3, h4⟩, h5, h6, h7, h8⟩ := H
  have hne : a ≠ b := h4 (by omega)
  have sD : ∀ g, g < 4 → g ≠ b → sameD M M' c g := fun g hg hgb => sameD_trans ⟨fun k u _ _ => by
      simp only [fg, fgL]
      rw [if_neg (by omega), if_neg (by omega), if_neg (by omega)], fun k i _ _ _ => by
      simp only [fg, fgL]
      rw [if_neg (by omega), if_neg (by omega), if_neg (by omega)]⟩ (vis_D hv c g)
  refine ⟨⟨h1, by omega, by omega, by omega⟩, fun g hg => ?_, Hold_same (sD a h1 hne) (sameM_rf m c) h6, fun g hg q => ?_, fun q => absurd q (by omega)⟩
  · rw [hv 5 _ (by omega)]
    by_cases e : g = b
    · subst e
      simp [fg, fgL, sg, Ne.symm hne]
    · have : fg M b c 5 (8 * g + c) = M 5 (8 * g + c) := by
        simp only [fg, fgL]
        rw [if_neg (by omega), if_neg (by omega), if_neg (by omega)]
      rw [this, h5 g hg]
      simp [sg, e]
  · by_cases e : g = b
    · subst e
      intro i hi
      rw [hv 2 _ (by omega)]
      unfold fg fgL
      rw [if_neg (by omega), if_neg (by omega), if_pos (by omega)]
    · refine Clr_same (sD g hg e) (h7 g hg ?_)
      rw [sg_0] at q ⊢
      exact ⟨q.1, Or.inl e⟩
/-- what pull does -/
def plM (M : SM) (c f t p : Nat) : SM := if p < 4 then ap M t 0 (c + 8 * p) (M 0 (32 * f + (c + 8 * p))) (if M 1 (32 * f + (c + 8 * p)) = 0 then 0 else 1)
  else if M 2 (32 * f + (4 * c + p - 4)) = 0 then M else ap M t 1 (4 * c + p - 4) (M 3 (32 * f + (4 * c + p - 4))) (M 4 (32 * f + (4 * c + p - 4)))
theorem plM_hi {M : SM} {c f t p k i : Nat} (hk : 17 ≤ k) (hc : c < 8) (hp : p < 8) : plM M c f t p k i = M k i := by
  unfold plM
  split
  · exact ap_17 (by unfold okE; omega) hk
  · split
    · rfl
    · exact ap_17 (by unfold okE; omega) hk
theorem plM_5 {M : SM} {c f t p i : Nat} : plM M c f t p 5 i = M 5 i := by
  unfold plM
  split
  · rw [ap0]
    rw [sU_k (by omega), sU_k (by omega)]
  · split
    · rfl
    · rw [ap1, sU_k (by omega), sU_k (by omega), sU_k (by omega)]
theorem plM_C {M : SM} {c c' f t p : Nat} (hc : c < 8) (hc' : c' < 8) (hne : c' ≠ c) (hp : p < 8) : sameC M (plM M c f t p) c' := by
  unfold plM
  split
  · exact ap_C hc hc' hne (Or.inl ⟨rfl, by omega, by omega⟩)
  · split
    · exact ⟨fun _ _ => rfl, fun _ _ => ⟨fun _ _ _ _ => rfl, fun _ _ _ _ _ => rfl⟩, rfl⟩
    · exact ap_C hc hc' hne (Or.inr (Or.inl ⟨rfl, by omega, by omega⟩))
/-- another group's data stay -/
theorem plM_D {M : SM} {c f t p g : Nat} (hc : c < 8) (hp : p < 8) (hg : g ≠ t) : sameD M (plM M c f t p) c g := by
  unfold plM
  split
  · rw [ap0]
    exact ⟨fun k u _ _ => by rw [sU_i (by omega), sU_i (by omega)], fun k i _ _ _ => by rw [sU_k (by omega), sU_k (by omega)]⟩
  · split
    · exact ⟨fun _ _ _ _ => rfl, fun _ _ _ _ _ => rfl⟩
    · rw [ap1]
      exact ⟨fun k u _ _ => by rw [sU_k (by omega), sU_k (by omega), sU_k (by omega)], fun k i _ _ _ => by rw [sU_i (by omega), sU_i (by omega), sU_i (by omega)]⟩
theorem plM_keys {M : SM} {c f t p : Nat} (hB : Bo M) (hp : p < 4) (k u : Nat) (hk : k < 2) : plM M c f t p k (32 * t + (c + 8 * u)) = if u = p then M k (32 * f + (c + 8 * p)) else M k (32 * t + (c + 8 * u)) := by
  unfold plM
  rw [if_pos hp]
  rw [ap0]
  by_cases e : u = p
  · subst e
    rw [if_pos rfl]
    rcases (show k = 0 ∨ k = 1 by omega) with q | q
    · subst q
      rw [sU_k (by omega), sU_s]
    · subst q
      rw [sU_s]
      rcases (hB (32 * f + (c + 8 * u))).1 with z | z
      · rw [z]; decide
      · rw [z]; decide
  · rw [if_neg e, sU_i (by omega), sU_i (by omega)]
theorem plM_keys2 {M : SM} {c f t p : Nat} (hp : ¬ p < 4) (k i : Nat) (hk : k < 2) : plM M c f t p k i = M k i := by
  unfold plM
  rw [if_neg hp]
  split
  · rfl
  · rw [ap1, sU_k (by omega), sU_k (by omega), sU_k (by omega)]
theorem plM_cl1 {M : SM} {c f t p : Nat} (hp : p < 4) (k i : Nat) (hk : 2 ≤ k) : plM M c f t p k i = M k i := by
  unfold plM
  rw [if_pos hp]
  rw [ap0]
  rw [sU_k (by omega), sU_k (by omega)]
theorem plM_cl2 {M : SM} {c f t p : Nat} (hB : Bo M) (hp : ¬ p < 4) (h0 : ¬ M 2 (32 * f + (4 * c + (p - 4))) = 0) (k i : Nat) (hk : 2 ≤ k) (hk4 : k ≤ 4) : plM M c f t p k (32 * t + (4 * c + i)) = if i = p - 4 then M k (32 * f + (4 * c + i)) else M k (32 * t + (4 * c + i)) := by
  have e4 : 4 * c + p - 4 = 4 * c + (p - 4) := by omega
  unfold plM
  rw [if_neg hp, e4, if_neg h0]
  rw [ap1]
  by_cases e : i = p - 4
  · subst e
    rw [if_pos rfl]
    rcases (show k = 2 ∨ k = 3 ∨ k = 4 by omega) with q | q | q
    · subst q
      rw [sU_k (by omega), sU_k (by omega), sU_s]
      rcases (hB (32 * f + (4 * c + (p - 4)))).2.1 with z | z
      · exact absurd z h0
      · exact z.symm
    · subst q
      rw [sU_k (by omega), sU_s]
    · subst q
      rw [sU_s]
  · rw [if_neg e, sU_i (by omega), sU_i (by omega), sU_i (by omega)]
theorem plM_cl3 {M : SM} {c f t p : Nat} (hp : ¬ p < 4) (h0 : M 2 (32 * f + (4 * c + (p - 4))) = 0) : plM M c f t p = M := by
  have e4 : 4 * c + p - 4 = 4 * c + (p - 4) := by omega
  unfold plM
  rw [if_neg hp, e4, if_pos h0]
theorem st_pull {M M' m : SM} {c a b p : Nat} (hB : Bo M) (hc : c < 8) (hp : p < 8) (H : Ph M m c 2 a b p) (hv : vis (sU (plM M c a b p) 18 c (nI (p + 1))) M') : Ph M' m c 2 a b (p + 1) := by
  obtain ⟨⟨h1, h2, h3, h4⟩, h5, h6, h7, h8⟩ := H
  have hne : a ≠ b := h4 (by omega)
  obtain ⟨q1, q2, q3, q4, q5⟩ := h8 rfl
  have eq5 : ∀ k i, k ≤ 5 → M' k i = plM M c a b p k i := fun k i hk => by rw [hv k _ (by omega), sU_k (by omega)]
  have sD : ∀ g, g ≠ b → sameD M M' c g := fun g hgb => sameD_trans (plM_D (f := a) hc hp hgb) ⟨fun k u _ _ => eq5 _ _ (by omega), fun k i _ _ _ => eq5 _ _ (by omega)⟩
  refine ⟨⟨h1, h2, h3, h4⟩, fun g hg => by rw [eq5 5 _ (by omega), plM_5]; exact h5 g hg, Hold_same (sD a hne) (sameM_rf m c) h6, fun g hg q => Clr_same (sD g (by rw [sg_0] at q; omega)) (h7 g hg q), fun _ => ⟨by omega, by rw [hv 18 _ (by omega), sU_s], ?_, ?_, ?_⟩⟩
  · intro u hu hup
    rw [(sD a hne).1 1 u (by omega) hu, (sD a hne).1 0 u (by omega) hu, eq5 1 _ (by omega), eq5 0 _ (by omega)]
    by_cases h4 : p < 4
    · rw [plM_keys hB h4 1 u (by omega), plM_keys hB h4 0 u (by omega)]
      by_cases e : u = p
      · subst e; simp
      · rw [if_neg e, if_neg e]; exact q3 u hu (by omega)
    · rw [plM_keys2 h4 1 _ (by omega), plM_keys2 h4 0 _ (by omega)]
      exact q3 u hu (by omega)
  · intro i hi
    rw [(sD a hne).2 2 i (by omega) (by omega) hi, eq5 2 _ (by omega)]
    by_cases h4 : p < 4
    · rw [plM_cl1 h4 2 _ (by omega)]; exact q4 i hi
    · by_cases h0 : M 2 (32 * a + (4 * c + (p - 4))) = 0
      · rw [plM_cl3 h4 h0]; exact q4 i hi
      · rw [plM_cl2 hB h4 h0 2 i (by omega) (by omega)]
        split
        · exact fun z => z
        · exact q4 i hi
  · intro i hi hip
    rw [(sD a hne).2 2 i (by omega) (by omega) hi, (sD a hne).2 3 i (by omega) (by omega) hi, (sD a hne).2 4 i (by omega) (by omega) hi, eq5 2 _ (by omega), eq5 3 _ (by omega), eq5 4 _ (by omega)]
    have h4 : ¬ p < 4 := by omega
    by_cases h0 : M 2 (32 * a + (4 * c + (p - 4))) = 0
    · rw [plM_cl3 h4 h0]
      by_cases e : i = p - 4
      · subst e
        refine ⟨?_, fun z => absurd h0 z⟩
        rw [h0]
        exact Decidable.byContradiction (fun z => q4 _ hi z h0)
      · exact q5 i hi (by omega)
    · rw [plM_cl2 hB h4 h0 2 i (by omega) (by omega), plM_cl2 hB h4 h0 3 i (by omega) (by omega), plM_cl2 hB h4 h0 4 i (by omega) (by omega)]
      by_cases e : i = p - 4
      · rw [if_pos e, if_pos e, if_pos e]
        exact ⟨rfl, fun _ => ⟨rfl, rfl⟩⟩
      · rw [if_neg e, if_neg e, if_neg e]
        exact q5 i hi (by omega)
/-- all is pulled: the copy is the model's -/
theorem Hold_part {M m : SM} {c f t : Nat} (H : Hold M m c f) (P : Part M c f t 8) : Hold M m c t := by
  obtain ⟨H1, H2⟩ := H
  obtain ⟨P1, P2, P3⟩ := P
  refine ⟨fun u hu => ?_, fun i hi => ?_⟩
  · obtain ⟨a1, a2⟩ := P1 u hu (by omega)
    rw [a1, a2]; exact H1 u hu
  · obtain ⟨a1, a2⟩ := P3 i hi (by omega)
    obtain ⟨b1, b2⟩ := H2 i hi
    refine ⟨a1.trans b1, fun z => ?_⟩
    obtain ⟨c1, c2⟩ := a2 (by rw [b1]; exact z)
    rw [c1, c2]; exact b2 z
/-- what holds behind moveOn -/
def MvP (M m : SM) (c h rank : Nat) (u : SM) : Prop := Dur u ∧ Core u m ∧ (∃ kd a b p, Ph u m c kd a b p ∧ (rank ≠ 0 → rk kd a b p h < rank)) ∧ (∀ i, u 17 i = M 17 i) ∧ (∀ i, u 19 i = M 19 i)
/-- a write of an entry of class c, behind which c has a phase -/
theorem MvP_of {M M1 m u : SM} {c h rank kd a b p : Nat} (hc : c < 8) (hC : Core M m) (hD : Dur u) (hP : Ph u m c kd a b p) (hr : rank ≠ 0 → rk kd a b p h < rank) (hv : vis M1 u) (hs : ∀ c', c' < 8 → c' ≠ c → sameC M M1 c') (h17 : ∀ i, M1 17 i = M 17 i) (h19 : ∀ i, M1 19 i = M 19 i) : MvP M m c h rank u := by
  refine ⟨hD, Core_step hC (fun c' h1 h2 => ⟨sameC_trans (hs c' h1 h2) (vis_C hv c'), sameM_rf m c'⟩) hP (fun i => ?_) (fun i => ?_) (fun _ => rfl), ⟨_, _, _, _, hP, hr⟩, fun i => ?_, fun i => ?_⟩
  · rw [hv _ _ (by omega), h17]
  · rw [hv _ _ (by omega), h19]
  · rw [hv _ _ (by omega), h17]
  · rw [hv _ _ (by omega), h19]
end
section
/-! PURE PART 4: what groupIn answers in a phase; the steps by their entries -/
theorem gi1_yes {M m : SM} {c kd a b p : Nat} {r : Int32} (H : Ph M m c kd a b p) (hk : kd = 0 ∨ kd = 3) (h : giP M c 1 r) : r = nI a :=
  giP_yes h H.1.1 (by rw [H.2.1 a H.1.1, sg_1]; exact ⟨rfl, hk⟩) (fun g hg q => by rw [H.2.1 g hg, sg_1] at q; exact q.1)
theorem gi1_no {M m : SM} {c kd a b p : Nat} {r : Int32} (H : Ph M m c kd a b p) (hk : kd = 1 ∨ kd = 2) (h : giP M c 1 r) : r = -1 :=
  giP_no h (fun g hg q => by rw [H.2.1 g hg, sg_1] at q; omega)
theorem gi2_a {M m : SM} {c kd a b p : Nat} {r : Int32} (H : Ph M m c kd a b p) (hk : kd = 1 ∨ kd = 2) (h : giP M c 2 r) : r = nI a :=
  giP_yes h H.1.1 (by rw [H.2.1 a H.1.1, sg_2 H.1.2.2.2 H.1.2.2.1]; exact Or.inl ⟨rfl, hk⟩) (fun g hg q => by rw [H.2.1 g hg, sg_2 H.1.2.2.2 H.1.2.2.1] at q; omega)
theorem gi2_b {M m : SM} {c kd a b p : Nat} {r : Int32} (H : Ph M m c kd a b p) (hk : kd = 3) (h : giP M c 2 r) : r = nI b :=
  giP_yes h H.1.2.1 (by rw [H.2.1 b H.1.2.1, sg_2 H.1.2.2.2 H.1.2.2.1]; exact Or.inr ⟨rfl, hk⟩) (fun g hg q => by rw [H.2.1 g hg, sg_2 H.1.2.2.2 H.1.2.2.1] at q; omega)
theorem gi2_no {M m : SM} {c kd a b p : Nat} {r : Int32} (H : Ph M m c kd a b p) (hk : kd = 0) (h : giP M c 2 r) : r = -1 :=
  giP_no h (fun g hg q => by rw [H.2.1 g hg, sg_2 H.1.2.2.2 H.1.2.2.1] at q; omega)
theorem gi3_b {M m : SM} {c kd a b p : Nat} {r : Int32} (H : Ph M m c kd a b p) (hk : kd = 2) (h : giP M c 3 r) : r = nI b :=
  giP_yes h H.1.2.1 (by rw [H.2.1 b H.1.2.1, sg_3 H.1.2.2.2]; exact ⟨rfl, hk⟩) (fun g hg q => by rw [H.2.1 g hg, sg_3 H.1.2.2.2] at q; omega)
theorem gi3_no {M m : SM} {c kd a b p : Nat} {r : Int32} (H : Ph M m c kd a b p) (hk : kd ≠ 2) (h : giP M c 3 r) : r = -1 :=
  giP_no h (fun g hg q => by rw [H.2.1 g hg, sg_3 H.1.2.2.2] at q; omega)
theorem st_freeze {M M' m : SM} {c a b p : Nat} {x : Int32} (hc : c < 8) (H : Ph M m c 0 a b p) (hv : vis (ap M a 2 c 2 x) M') : Ph M' m c 1 a 0 0 := by
  obtain ⟨⟨h1, h2, h3, h4⟩, h5, h6, h7, h8⟩ := H
  refine st_state (g0 := a) (v := 2) ⟨h1, by omega, by omega, by omega⟩ hc (fun g hg => ?_) h6 (fun g hg q => h7 g hg ?_) (fun q => absurd q (by omega)) hv
  · rw [h5 g hg]
    by_cases e : g = a
    · subst e; simp [sg]
    · simp [sg, e]
  · rw [sg_0] at q ⊢
    exact ⟨q.1, Or.inr (by omega)⟩
theorem sU18_D {M : SM} {c i g : Nat} {x : Int32} : sameD M (sU M 18 i x) c g := ⟨fun k u _ _ => sU_k (by omega), fun k i _ _ _ => sU_k (by omega)⟩
theorem st_back {M M' m : SM} {c a b p : Nat} {x : Int32} (hc : c < 8) (H : Ph M m c 1 a b p) (hv : vis (ap (sU M 18 c 0) a 2 c 1 x) M') : Ph M' m c 0 a 0 0 := by
  obtain ⟨⟨h1, h2, h3, h4⟩, h5, h6, h7, h8⟩ := H
  refine st_state (M := sU M 18 c 0) (g0 := a) (v := 1) ⟨h1, by omega, by omega, by omega⟩ hc (fun g hg => ?_) (Hold_same sU18_D (sameM_rf m c) h6) (fun g hg q => Clr_same sU18_D (h7 g hg ?_)) (fun q => absurd q (by omega)) hv
  · rw [sU_k (by omega), h5 g hg]
    by_cases e : g = a
    · subst e; simp [sg]
    · simp [sg, e]
  · rw [sg_0] at q ⊢
    exact ⟨q.1, Or.inr (by omega)⟩
theorem st_in {M M' m : SM} {c a b p h : Nat} {x : Int32} (hc : c < 8) (hh : h < 4) (hne : h ≠ a) (H : Ph M m c 1 a b p) (hv : vis (ap (sU M 18 c 0) h 2 c 3 x) M') : Ph M' m c 2 a h 0 := by
  obtain ⟨⟨h1, h2, h3, h4⟩, h5, h6, h7, h8⟩ := H
  refine st_state (M := sU M 18 c 0) (g0 := h) (v := 3) ⟨h1, hh, by omega, fun _ => Ne.symm hne⟩ hc (fun g hg => ?_) (Hold_same sU18_D (sameM_rf m c) h6) (fun g hg q => Clr_same sU18_D (h7 g hg ?_)) (fun _ => ⟨by omega, by rw [sU_s]; rfl, ?_, ?_, ?_⟩) hv
  · rw [sU_k (by omega), h5 g hg]
    by_cases e : g = h
    · subst e; simp [sg, hne]
    · by_cases e2 : g = a
      · subst e2; simp [sg, e]
      · simp [sg, e, e2]
  · rw [sg_0] at q ⊢
    exact ⟨q.1, Or.inr (by omega)⟩
  · intro u _ q; omega
  · intro i hi q
    refine absurd ?_ q
    rw [sU_k (by omega)]
    exact h7 h hh (by rw [sg_0]; exact ⟨hne, Or.inr (by omega)⟩) i hi
  · intro i _ q; omega
theorem st_serve {M M' m : SM} {c a b : Nat} {x : Int32} (hc : c < 8) (H : Ph M m c 2 a b 8) (hv : vis (ap M b 2 c 1 x) M') : Ph M' m c 3 b a 0 := by
  obtain ⟨⟨h1, h2, h3, h4⟩, h5, h6, h7, h8⟩ := H
  have hne : a ≠ b := h4 (by omega)
  refine st_state (g0 := b) (v := 1) ⟨h2, h1, by omega, fun _ => Ne.symm hne⟩ hc (fun g hg => ?_) (Hold_part h6 (h8 rfl).2.2) (fun g hg q => h7 g hg ?_) (fun q => absurd q (by omega)) hv
  · rw [h5 g hg]
    by_cases e : g = b
    · subst e; simp [sg]
    · by_cases e2 : g = a
      · subst e2; simp [sg, e]
      · simp [sg, e, e2]
  · rw [sg_0] at q ⊢
    omega
end
section
/-! static methods that only look at their numbers -/
section GS
variable {p : Program} {l : Launch} {e : Env} {R : Room} {s : State} {m : MethodId} {args : Array Value} {below : List Frame} {meth : Method} {c : Code} {H : Heap} {locs : List Loc} {cells slots : Nat} {Q : State → Prop}
variable {cc : ByteArray} {pc nL : Nat} {ls : Array Slot} {rest st0 : List Value}
variable {own : String} {T : u_T} {ci n N : Nat} {len : Nat → Nat} {ety : Nat → FieldType} {E : Cx} {M : SM} {ex : List Value}
theorem gS_start {y : MethodName} {ret : Option FieldType} {rm : Room} {Qc : Array Value → State → Outcome → State → Prop} {free : Addr → Prop} {As : List Value} (hy : plainName y.cls = true) (hlen : (lg_sl As).length ≤ nL)
    (body : ∀ (p : Program) (e : Env) (s : State) (m : MethodId) (below : List Frame) (meth : Method) (c : Code) (ls : Array Slot), p.tables.exec = Jvm.exec → c.code = cc → meth.sig.returnType = ret → meth.locks = false → lv_has ls nL (lv_args 0 As) →
      W p l e rm s m As.toArray below meth c s.heap [] 0 0 (MQ below Qc As.toArray s 0 0 free) (F0 m 0 ls [])) :
    Met l y (ws_ y cc nL ret) rm (va_Pc As (fun _ => True)) Qc 0 0 free := by
  refine Met.ofW (cc := cc) (maxL := nL) (ret := ret) hy rfl ?_
  intro p e s m args below meth c s₁ B hml hv
  obtain ⟨rfl, -⟩ := hv
  have hl := lv_entry As (n := nL) hlen
  rw [lg_entry_eq]
  exact body p e s m below meth c _ B.exec B.bytes B.returns B.notSynchronized hl
theorem g_callS {y : MethodName} {bytes : ByteArray} {maxL index k : Nat} {ret : Option FieldType} {rm : Room} {As : List Value} {post : Int32 → Unit → Prop} (F : Fx p s m c args cc nL own T ci n N ety E) (hP : va_P E.1 vwCl (gE ci n len ex E M) H) {A : Nat → Prop} (hS : va_S A s.heap H locs)
    (hM : Met l y (ws_ y bytes maxL ret) rm (va_Pc As (fun _ => True)) (va_Qi post (fun _ _ => True) (fun _ => False)) 0 0 (fun _ => False)) (hG : GoodIn lw_all (va_wsS own index y (ws_ y bytes maxL ret))) (hrm : rm.cells = 0 ∧ rm.slots = 0)
    (hd : y.cls ≠ "java/lang/invoke/MethodHandle" ∧ y.cls ≠ "java/lang/invoke/VarHandle" ∧ (parseMethodDescriptor y.desc).map (fun d => d.parameters.length) = some k) (hR : rm.frames + 1 ≤ R.frames ∧ 8 + (maxL + 11) + rm.locals ≤ R.locals)
    (hn : As.length = k) (hl : ls.size = nL) (hst : st0 = As.reverse ++ rest) (hroom : (rest.map fun v => v.category).sum ≤ 8) (hdg : decode cc pc = .ok (.invokestatic index, 3))
    (kk : ∀ (r : Int32) (H1 : Heap) (locs1 : List Loc), post r () → va_P E.1 vwCl (gE ci n len ex E M) H1 → va_S A s.heap H1 locs1 → W p l e R s m args below meth c H1 locs1 0 0 Q (F0 m (pc + 3) ls (.int r :: rest))) : W p l e R s m args below meth c H locs 0 0 Q (F0 m pc ls st0) := by
  refine va_calli (va_runS F.1 hM (va_cwS k F.1.2.2.2.2 hG rfl hrm.1 hrm.2 hd hR) ⟨fun a U g mk q => q, fun U hU hW => ⟨rfl, trivial⟩⟩ rfl hn hl hst (lv_room hroom) hdg ⟨Nat.zero_le _, Nat.zero_le _⟩) hS (fun q _ h => absurd h (fun z => z)) (fun q h => absurd h (fun z => z)) (fun r u t H1 locs1 ht hvm hw hB hz1 hk1 hS1 => ?_)
  exact kk r H1 locs1 hw (gw_kept hP (fun q hq _ => hk1 q hq (fun z => z))) hS1
end GS
end
section
set_option maxRecDepth 100000
def fitP (x y : Int32) : Prop := ¬ x < 0 ∧ ¬ nI 3 < x ∧ ¬ y < 0 ∧ ¬ nI 31 < y
set_option maxHeartbeats 4000000 in
theorem m0_fits (l : Launch) (x y : Int32) : Met l yX0_fits (ws_ yX0_fits cX0_fits 2 (some .boolean)) ({ frames := 0, cells := 0, slots := 0, locals := 0 }) (va_Pc [.int x, .int y] (fun _ => True)) (va_Qi (fun r (_ : Unit) => (r = 1 ∧ fitP x y) ∨ (r = 0 ∧ ¬ fitP x y)) (fun _ _ => True) (fun _ => False)) 0 0 (fun _ => False) := by
  refine gS_start (by decide) (Nat.le_of_ble_eq_true rfl) ?_
  intro p e s m below meth c ls hx hb hr hlocks hl
  have hl : lv_has ls 2 [(0, .int x), (1, .int y)] := hl
  refine lv_iload_n hx hb dX0_fits_0 rfl (lv_at hl 0 rfl) ?_
  refine lv_if_lt (tgt := 23) hx hb dX0_fits_1 (by decide) (fun c1 => ?_) (fun c1 => ?_)
  · refine lv_iconst (v := 0) hx hb dX0_fits_23 (by decide) ?_
    exact g_zret hx hb hr hlocks va_S.rf (Or.inl rfl) () (Or.inr ⟨rfl, fun q => q.1 c1⟩) (fun _ _ => trivial) dX0_fits_24
  · refine lv_iload_n hx hb dX0_fits_4 rfl (lv_at hl 0 rfl) ?_
    refine lv_iconst (v := nI 3) hx hb dX0_fits_5 (by decide) ?_
    refine lv_icmp_gt (tgt := 23) hx hb dX0_fits_6 (by decide) (fun c2 => ?_) (fun c2 => ?_)
    · refine lv_iconst (v := 0) hx hb dX0_fits_23 (by decide) ?_
      exact g_zret hx hb hr hlocks va_S.rf (Or.inl rfl) () (Or.inr ⟨rfl, fun q => q.2.1 c2⟩) (fun _ _ => trivial) dX0_fits_24
    · refine lv_iload_n hx hb dX0_fits_9 rfl (lv_at hl 1 rfl) ?_
      refine lv_if_lt (tgt := 23) hx hb dX0_fits_10 (by decide) (fun c3 => ?_) (fun c3 => ?_)
      · refine lv_iconst (v := 0) hx hb dX0_fits_23 (by decide) ?_
        exact g_zret hx hb hr hlocks va_S.rf (Or.inl rfl) () (Or.inr ⟨rfl, fun q => q.2.2.1 c3⟩) (fun _ _ => trivial) dX0_fits_24
      · refine lv_iload_n hx hb dX0_fits_13 rfl (lv_at hl 1 rfl) ?_
        refine lv_bipush (v := nI 31) hx hb dX0_fits_14 (by decide) ?_
        refine lv_icmp_gt (tgt := 23) hx hb dX0_fits_16 (by decide) (fun c4 => ?_) (fun c4 => ?_)
        · refine lv_iconst (v := 0) hx hb dX0_fits_23 (by decide) ?_
          exact g_zret hx hb hr hlocks va_S.rf (Or.inl rfl) () (Or.inr ⟨rfl, fun q => q.2.2.2 c4⟩) (fun _ _ => trivial) dX0_fits_24
        · refine lv_iconst (v := 1) hx hb dX0_fits_19 (by decide) ?_
          refine lv_goto (tgt := 24) hx hb dX0_fits_20 (by decide) ?_
          exact g_zret hx hb hr hlocks va_S.rf (Or.inr rfl) () (Or.inl ⟨rfl, c1, c2, c3, c4⟩) (fun _ _ => trivial) dX0_fits_24
set_option maxHeartbeats 4000000 in
theorem m0_valueAt (l : Launch) (E : Cx) (hap : gApE 20 E) (nx : Int32) (M : SM) (g k : Nat) (hg : g < 4) (hk : k < 32) : Met l yX0_valueAt (ws_ yX0_valueAt cX0_valueAt 3 (some .int)) ({ frames := 0, cells := 0, slots := 0, locals := 0 }) (va_Pc [.ref E.2.2.1, .int (nI g), .int (nI k)] (B0 E M nx)) (va_Qi (fun r u => r = (if M 1 (32 * g + k) = 0 then 0 else M 0 (32 * g + k)) ∧ u = M) (Z0 E nx) (gAE 20 E)) 0 0 (gAE 20 E) := by
  refine g_start (own := RX0) (T := TX0) (N := 21) (by decide) rfl hap rfl in_X0 (Nat.le_of_ble_eq_true rfl) ?_
  intro p e s m below meth c ls F hr hlocks hP hS hl
  have hx := F.1.1
  have hb := F.1.2.1
  have hl : lv_has ls 3 [(0, .ref E.2.2.1), (1, .int (nI g)), (2, .int (nI k))] := hl
  refine lv_aload_n hx hb dX0_valueAt_0 rfl (lv_at hl 0 rfl) ?_
  refine g_get F hP 1 (by decide) (by decide) rfl q25 dX0_valueAt_1 ?_
  refine lv_bipush (v := nI 32) hx hb dX0_valueAt_4 (by decide) ?_
  refine lv_iload_n hx hb dX0_valueAt_6 rfl (lv_at hl 1 rfl) ?_
  refine gx_mul hx hb dX0_valueAt_7 ?_
  refine lv_iload_n hx hb dX0_valueAt_8 rfl (lv_at hl 2 rfl) ?_
  refine gx_add hx hb dX0_valueAt_9 ?_
  refine g_zald F hP 1 128 (by decide) rfl rfl (by omega) (by decide) dX0_valueAt_10 ?_
  refine lv_if_eq (tgt := 28) hx hb dX0_valueAt_11 (by decide) (fun c1 => ?_) (fun c1 => ?_)
  · refine lv_iconst (v := 0) hx hb dX0_valueAt_28 (by decide) ?_
    exact g_iret hx hb hr hlocks hS M ⟨by rw [if_pos c1], rfl⟩ (gZ_of hP) dX0_valueAt_29
  · refine lv_aload_n hx hb dX0_valueAt_14 rfl (lv_at hl 0 rfl) ?_
    refine g_get F hP 0 (by decide) (by decide) rfl q24 dX0_valueAt_15 ?_
    refine lv_bipush (v := nI 32) hx hb dX0_valueAt_18 (by decide) ?_
    refine lv_iload_n hx hb dX0_valueAt_20 rfl (lv_at hl 1 rfl) ?_
    refine gx_mul hx hb dX0_valueAt_21 ?_
    refine lv_iload_n hx hb dX0_valueAt_22 rfl (lv_at hl 2 rfl) ?_
    refine gx_add hx hb dX0_valueAt_23 ?_
    refine g_iald F hP 0 128 (by decide) rfl rfl (by omega) (by decide) dX0_valueAt_24 ?_
    refine lv_goto (tgt := 29) hx hb dX0_valueAt_25 (by decide) ?_
    exact g_iret hx hb hr hlocks hS M ⟨by rw [if_neg c1], rfl⟩ (gZ_of hP) dX0_valueAt_29
section
variable {p : Program} {l : Launch} {e : Env} {R : Room} {s : State} {m : MethodId} {args : Array Value} {below : List Frame} {meth : Method} {c : Code} {Q : State → Prop} {E : Cx} {nx : Int32}
set_option maxHeartbeats 4000000 in
/-- groupIn's loop -/
theorem lp_groupIn (F : Fx p s m c args cX0_groupIn 4 RX0 TX0 0 20 21 ety0 E) {cl : Nat} {x : Int32} (hc : cl < 8) (M : SM) (hr : meth.sig.returnType = some .int) (hlocks : meth.locks = false) :
    ∀ (n g : Nat) (H : Heap) (locs : List Loc) (ls : Array Slot), g + n = 4 → (∀ j, j < g → ¬ M 5 (8 * j + cl) = x) → va_P E.1 vwCl (w0 E M nx) H → va_S (gAE 20 E) s.heap H locs → lv_has ls 4 [(0, .ref E.2.2.1), (1, .int (nI cl)), (2, .int x), (3, .int (nI g))] → W p l e R s m args below meth c H locs 0 0 (MQ below (va_Qi (fun r u => giP M cl x r ∧ u = M) (Z0 E nx) (gAE 20 E)) args s 0 0 (gAE 20 E)) (F0 m 2 ls []) := by
  have hx := F.1.1
  have hb := F.1.2.1
  intro n
  induction n with
  | zero =>
    intro g H locs ls hg hno hP hS hl
    have hg : g = 4 := by omega
    subst hg
    refine lv_iload_n hx hb dX0_groupIn_2 rfl (lv_at hl 3 rfl) ?_
    refine lv_iconst (v := nI 4) hx hb dX0_groupIn_3 (by decide) ?_
    refine gx_ge hx hb 30 (by omega) (by omega) dX0_groupIn_4 (by decide) (fun c_1 => ?_) (fun c_1 => ?_)
    · refine lv_iconst (v := (-1)) hx hb dX0_groupIn_30 (by decide) ?_
      exact g_iret hx hb hr hlocks hS M ⟨Or.inr ⟨rfl, hno⟩, rfl⟩ (gZ_of hP) dX0_groupIn_31
    · exact absurd c_1 (by omega)
  | succ n ih =>
    intro g H locs ls hg hno hP hS hl
    refine lv_iload_n hx hb dX0_groupIn_2 rfl (lv_at hl 3 rfl) ?_
    refine lv_iconst (v := nI 4) hx hb dX0_groupIn_3 (by decide) ?_
    refine gx_ge hx hb 30 (by omega) (by omega) dX0_groupIn_4 (by decide) (fun c_2 => ?_) (fun c_2 => ?_)
    · exact absurd c_2 (by omega)
    · refine lv_aload_n hx hb dX0_groupIn_7 rfl (lv_at hl 0 rfl) ?_
      refine g_get F hP 5 (by decide) (by decide) rfl q29 dX0_groupIn_8 ?_
      refine lv_bipush (v := nI 8) hx hb dX0_groupIn_11 (by decide) ?_
      refine lv_iload_n hx hb dX0_groupIn_13 rfl (lv_at hl 3 rfl) ?_
      refine gx_mul hx hb dX0_groupIn_14 ?_
      refine lv_iload_n hx hb dX0_groupIn_15 rfl (lv_at hl 1 rfl) ?_
      refine gx_add hx hb dX0_groupIn_16 ?_
      refine g_iald F hP 5 32 (by decide) rfl rfl (by omega) (by decide) dX0_groupIn_17 ?_
      refine lv_iload_n hx hb dX0_groupIn_18 rfl (lv_at hl 2 rfl) ?_
      refine lv_icmp_ne (tgt := 24) hx hb dX0_groupIn_19 (by decide) (fun c1 => ?_) (fun c1 => ?_)
      · refine lv_iinc (v := nI (g + 1)) (lv' := [(3, .int (nI (g + 1))), (0, .ref E.2.2.1), (1, .int (nI cl)), (2, .int x)]) hx hb dX0_groupIn_24 hl (k := 3) rfl (nI_add g 1) (by decide) rfl (fun ls hl => ?_)
        refine lv_goto (tgt := 2) hx hb dX0_groupIn_27 (by decide) ?_
        exact ih (g + 1) H locs ls (by omega) (fun j hj => by rcases (show j < g ∨ j = g by omega) with q | q; exact hno j q; rw [q]; exact c1) hP hS (lv_sub hl [1, 2, 3, 0] rfl)
      · refine lv_iload_n hx hb dX0_groupIn_22 rfl (lv_at hl 3 rfl) ?_
        exact g_iret hx hb hr hlocks hS M ⟨Or.inl ⟨g, by omega, rfl, c1, hno⟩, rfl⟩ (gZ_of hP) dX0_groupIn_23
end
set_option maxHeartbeats 4000000 in
theorem m0_groupIn (l : Launch) (E : Cx) (hap : gApE 20 E) (nx : Int32) (M : SM) (cl : Nat) (x : Int32) (hc : cl < 8) : Met l yX0_groupIn (ws_ yX0_groupIn cX0_groupIn 4 (some .int)) ({ frames := 0, cells := 0, slots := 0, locals := 0 }) (va_Pc [.ref E.2.2.1, .int (nI cl), .int x] (B0 E M nx)) (va_Qi (fun r u => giP M cl x r ∧ u = M) (Z0 E nx) (gAE 20 E)) 0 0 (gAE 20 E) := by
  refine g_start (own := RX0) (T := TX0) (N := 21) (by decide) rfl hap rfl in_X0 (Nat.le_of_ble_eq_true rfl) ?_
  intro p e s m below meth c ls F hr hlocks hP hS hl
  have hx := F.1.1
  have hb := F.1.2.1
  have hl : lv_has ls 4 [(0, .ref E.2.2.1), (1, .int (nI cl)), (2, .int x)] := hl
  refine lv_iconst (v := nI 0) hx hb dX0_groupIn_0 (by decide) ?_
  refine lv_istore_n (lv' := [(3, .int (nI 0)), (0, .ref E.2.2.1), (1, .int (nI cl)), (2, .int x)]) hx hb dX0_groupIn_1 rfl hl (by decide) rfl (fun ls hl => ?_)
  exact lp_groupIn F hc M hr hlocks 4 0 _ _ _ (by omega) (fun j hj => absurd hj (by omega)) hP hS (lv_sub hl [1, 2, 3, 0] rfl)
set_option maxHeartbeats 4000000 in
theorem m0_holder (l : Launch) (E : Cx) (hap : gApE 20 E) (nx : Int32) (M : SM) (mm : SM) (cl kd a b p : Nat) (hc : cl < 8) (hH : Ph M mm cl kd a b p) : Met l yX0_holder (ws_ yX0_holder cX0_holder 3 (some .int)) ({ frames := 1, cells := 0, slots := 0, locals := 23 }) (va_Pc [.ref E.2.2.1, .int (nI cl)] (B0 E M nx)) (va_Qi (fun r u => r = nI a ∧ u = M) (Z0 E nx) (gAE 20 E)) 0 0 (gAE 20 E) := by
  refine g_start (own := RX0) (T := TX0) (N := 21) (by decide) rfl hap rfl in_X0 (Nat.le_of_ble_eq_true rfl) ?_
  intro p e s m below meth c ls F hr hlocks hP hS hl
  have hx := F.1.1
  have hb := F.1.2.1
  have hl : lv_has ls 3 [(0, .ref E.2.2.1), (1, .int (nI cl))] := hl
  have hk : (kd = 0 ∨ kd = 3) ∨ (kd = 1 ∨ kd = 2) := by have := hH.1.2.2.1; omega
  have ha := hH.1.1
  rcases hk with hk | hk
  · refine lv_aload_n hx hb dX0_holder_0 rfl (lv_at hl 0 rfl) ?_
    refine lv_iload_n hx hb dX0_holder_1 rfl (lv_at hl 1 rfl) ?_
    refine lv_iconst (v := 1) hx hb dX0_holder_2 (by decide) ?_
    refine g_calli (k := 2) F hP hS (m0_groupIn l E hap nx M cl 1 hc) (lw_V q105 q107 qs2 q14 q108) ⟨rfl, rfl⟩ (by decide +kernel) ⟨Nat.le_of_ble_eq_true rfl, Nat.le_of_ble_eq_true rfl⟩ rfl hl.1 rfl (Nat.le_of_ble_eq_true rfl) dX0_holder_3 (fun r1 u H locs hw_r1 hP hS => ?_)
    obtain ⟨hg1, eu1⟩ := hw_r1
    rw [eu1] at hP
    have e1 := gi1_yes hH hk hg1
    subst e1
    refine lv_istore_n (lv' := [(2, .int (nI a)), (0, .ref E.2.2.1), (1, .int (nI cl))]) hx hb dX0_holder_6 rfl hl (by decide) rfl (fun ls hl => ?_)
    refine lv_iload_n hx hb dX0_holder_7 rfl (lv_at hl 0 rfl) ?_
    refine lv_if_ge (tgt := 18) hx hb dX0_holder_8 (by decide) (fun c_3 => ?_) (fun c_3 => ?_)
    · refine lv_iload_n hx hb dX0_holder_18 rfl (lv_at hl 0 rfl) ?_
      refine lv_if_ge (tgt := 26) hx hb dX0_holder_19 (by decide) (fun c_4 => ?_) (fun c_4 => ?_)
      · refine lv_iload_n hx hb dX0_holder_26 rfl (lv_at hl 0 rfl) ?_
        exact g_iret hx hb hr hlocks hS M ⟨rfl, rfl⟩ (gZ_of hP) dX0_holder_27
      · exact absurd (nI_pos' (by omega)) c_4
    · exact absurd (nI_pos' (by omega)) c_3
  · refine lv_aload_n hx hb dX0_holder_0 rfl (lv_at hl 0 rfl) ?_
    refine lv_iload_n hx hb dX0_holder_1 rfl (lv_at hl 1 rfl) ?_
    refine lv_iconst (v := 1) hx hb dX0_holder_2 (by decide) ?_
    refine g_calli (k := 2) F hP hS (m0_groupIn l E hap nx M cl 1 hc) (lw_V q105 q107 qs2 q14 q108) ⟨rfl, rfl⟩ (by decide +kernel) ⟨Nat.le_of_ble_eq_true rfl, Nat.le_of_ble_eq_true rfl⟩ rfl hl.1 rfl (Nat.le_of_ble_eq_true rfl) dX0_holder_3 (fun r1 u H locs hw_r1 hP hS => ?_)
    obtain ⟨hg1, eu1⟩ := hw_r1
    rw [eu1] at hP
    have e1 := gi1_no hH hk hg1
    subst e1
    refine lv_istore_n (lv' := [(2, .int (-1)), (0, .ref E.2.2.1), (1, .int (nI cl))]) hx hb dX0_holder_6 rfl hl (by decide) rfl (fun ls hl => ?_)
    refine lv_iload_n hx hb dX0_holder_7 rfl (lv_at hl 0 rfl) ?_
    refine lv_if_ge (tgt := 18) hx hb dX0_holder_8 (by decide) (fun c_5 => ?_) (fun c_5 => ?_)
    · exact absurd c_5 (by decide)
    · refine lv_aload_n hx hb dX0_holder_11 rfl (lv_at hl 1 rfl) ?_
      refine lv_iload_n hx hb dX0_holder_12 rfl (lv_at hl 2 rfl) ?_
      refine lv_iconst (v := 2) hx hb dX0_holder_13 (by decide) ?_
      refine g_calli (k := 2) F hP hS (m0_groupIn l E hap nx M cl 2 hc) (lw_V q105 q107 qs2 q14 q108) ⟨rfl, rfl⟩ (by decide +kernel) ⟨Nat.le_of_ble_eq_true rfl, Nat.le_of_ble_eq_true rfl⟩ rfl hl.1 rfl (Nat.le_of_ble_eq_true rfl) dX0_holder_14 (fun r2 u2 H locs hw_r2 hP hS => ?_)
      obtain ⟨hg2, eu2⟩ := hw_r2
      rw [eu2] at hP
      have e2 := gi2_a hH hk hg2
      subst e2
      refine lv_istore_n (lv' := [(2, .int (nI a)), (0, .ref E.2.2.1), (1, .int (nI cl))]) hx hb dX0_holder_17 rfl hl (by decide) rfl (fun ls hl => ?_)
      refine lv_iload_n hx hb dX0_holder_18 rfl (lv_at hl 0 rfl) ?_
      refine lv_if_ge (tgt := 26) hx hb dX0_holder_19 (by decide) (fun c_6 => ?_) (fun c_6 => ?_)
      · refine lv_iload_n hx hb dX0_holder_26 rfl (lv_at hl 0 rfl) ?_
        exact g_iret hx hb hr hlocks hS M ⟨rfl, rfl⟩ (gZ_of hP) dX0_holder_27
      · exact absurd (nI_pos' (by omega)) c_6
end
section
set_option maxRecDepth 100000
set_option maxHeartbeats 4000000 in
theorem m0_pull (l : Launch) (E : Cx) (hap : gApE 20 E) (nx : Int32) (M : SM) (hD : Dur M) (cl f to p1 : Nat) (hc : cl < 8) (hf : f < 4) (ht : to < 4) (hp : p1 < 8) (h18 : M 18 cl = nI p1) : Met l yX0_pull (ws_ yX0_pull cX0_pull 7 none) ({ frames := 3, cells := 0, slots := 0, locals := 74 }) (va_Pc [.ref E.2.2.1, .int (nI cl), .int (nI f), .int (nI to)] (B0 E M nx)) (va_Qv (fun u => Dur u ∧ vis (plM M cl f to p1) u) (Z0 E nx) (gAE 20 E)) 0 0 (gAE 20 E) := by
  refine g_start (own := RX0) (T := TX0) (N := 21) (by decide) rfl hap rfl in_X0 (Nat.le_of_ble_eq_true rfl) ?_
  intro p e s m below meth c ls F hr hlocks hP hS hl
  have hx := F.1.1
  have hb := F.1.2.1
  have hl : lv_has ls 7 [(0, .ref E.2.2.1), (1, .int (nI cl)), (2, .int (nI f)), (3, .int (nI to))] := hl
  refine lv_aload_n hx hb dX0_pull_0 rfl (lv_at hl 0 rfl) ?_
  refine g_get F hP 18 (by decide) (by decide) rfl q42 dX0_pull_1 ?_
  refine lv_iload_n hx hb dX0_pull_4 rfl (lv_at hl 1 rfl) ?_
  refine g_iald F hP 18 8 (by decide) rfl rfl (by omega) (by decide) dX0_pull_5 ?_
  refine gx_re (y := nI p1) h18 ?_
  refine lv_istore (lv' := [(4, .int (nI p1)), (0, .ref E.2.2.1), (1, .int (nI cl)), (2, .int (nI f)), (3, .int (nI to))]) hx hb dX0_pull_6 hl (by decide) rfl (fun ls hl => ?_)
  refine lv_iload hx hb dX0_pull_8 (lv_at hl 0 rfl) ?_
  refine lv_iconst (v := nI 4) hx hb dX0_pull_10 (by decide) ?_
  refine gx_ge hx hb 65 (by omega) (by omega) dX0_pull_11 (by decide) (fun c4 => ?_) (fun c4 => ?_)
  · have c4' : ¬ p1 < 4 := by omega
    refine lv_iconst (v := nI 4) hx hb dX0_pull_65 (by decide) ?_
    refine lv_iload_n hx hb dX0_pull_66 rfl (lv_at hl 2 rfl) ?_
    refine gx_mul hx hb dX0_pull_67 ?_
    refine lv_iload hx hb dX0_pull_68 (lv_at hl 0 rfl) ?_
    refine gx_add hx hb dX0_pull_70 ?_
    refine lv_iconst (v := nI 4) hx hb dX0_pull_71 (by decide) ?_
    refine gx_sub hx hb (by omega) dX0_pull_72 ?_
    refine lv_istore (lv' := [(5, .int (nI (((4 * cl) + p1) - 4))), (4, .int (nI p1)), (0, .ref E.2.2.1), (1, .int (nI cl)), (2, .int (nI f)), (3, .int (nI to))]) hx hb dX0_pull_73 hl (by decide) rfl (fun ls hl => ?_)
    refine lv_bipush (v := nI 32) hx hb dX0_pull_75 (by decide) ?_
    refine lv_iload_n hx hb dX0_pull_77 rfl (lv_at hl 4 rfl) ?_
    refine gx_mul hx hb dX0_pull_78 ?_
    refine lv_iload hx hb dX0_pull_79 (lv_at hl 0 rfl) ?_
    refine gx_add hx hb dX0_pull_81 ?_
    refine lv_istore (lv' := [(6, .int (nI ((32 * f) + (((4 * cl) + p1) - 4)))), (5, .int (nI (((4 * cl) + p1) - 4))), (4, .int (nI p1)), (0, .ref E.2.2.1), (1, .int (nI cl)), (2, .int (nI f)), (3, .int (nI to))]) hx hb dX0_pull_82 hl (by decide) rfl (fun ls hl => ?_)
    refine lv_aload_n hx hb dX0_pull_84 rfl (lv_at hl 3 rfl) ?_
    refine g_get F hP 2 (by decide) (by decide) rfl q26 dX0_pull_85 ?_
    refine lv_iload hx hb dX0_pull_88 (lv_at hl 0 rfl) ?_
    refine g_zald F hP 2 128 (by decide) rfl rfl (by omega) (by decide) dX0_pull_90 ?_
    refine lv_if_eq (tgt := 116) hx hb dX0_pull_91 (by decide) (fun c1 => ?_) (fun c1 => ?_)
    · exact g_vret hx hb hr hlocks hS M ⟨hD, fun k i _ => by rw [plM, if_neg c4', if_pos c1]⟩ (gZ_of hP) dX0_pull_116
    · refine lv_aload_n hx hb dX0_pull_94 rfl (lv_at hl 3 rfl) ?_
      refine lv_iload_n hx hb dX0_pull_95 rfl (lv_at hl 6 rfl) ?_
      refine lv_iconst (v := nI 1) hx hb dX0_pull_96 (by decide) ?_
      refine lv_iload hx hb dX0_pull_97 (lv_at hl 1 rfl) ?_
      refine lv_aload_n hx hb dX0_pull_99 rfl (lv_at hl 3 rfl) ?_
      refine g_get F hP 3 (by decide) (by decide) rfl q27 dX0_pull_100 ?_
      refine lv_iload hx hb dX0_pull_103 (lv_at hl 0 rfl) ?_
      refine g_iald F hP 3 128 (by decide) rfl rfl (by omega) (by decide) dX0_pull_105 ?_
      refine lv_aload_n hx hb dX0_pull_106 rfl (lv_at hl 3 rfl) ?_
      refine g_get F hP 4 (by decide) (by decide) rfl q28 dX0_pull_107 ?_
      refine lv_iload hx hb dX0_pull_110 (lv_at hl 0 rfl) ?_
      refine g_iald F hP 4 128 (by decide) rfl rfl (by omega) (by decide) dX0_pull_112 ?_
      refine g_callv (k := 5) F hP hS (m0_write l E hap nx M hD to 1 (4 * cl + p1 - 4) (M 3 (32 * f + (4 * cl + p1 - 4))) (M 4 (32 * f + (4 * cl + p1 - 4))) ht (by unfold okE; omega)) (lw_V q109 q111 qs3 q14 q112) ⟨rfl, rfl⟩ (by decide +kernel) ⟨Nat.le_of_ble_eq_true rfl, Nat.le_of_ble_eq_true rfl⟩ rfl hl.1 rfl (Nat.le_of_ble_eq_true rfl) dX0_pull_113 (fun u H locs hw_u hP hS => ?_)
      exact g_vret hx hb hr hlocks hS u ⟨hw_u.1, fun k i hk => by rw [plM, if_neg c4', if_neg c1]; exact hw_u.2 k i hk⟩ (gZ_of hP) dX0_pull_116
  · have c4' : p1 < 4 := c4
    refine lv_iload_n hx hb dX0_pull_14 rfl (lv_at hl 2 rfl) ?_
    refine lv_bipush (v := nI 8) hx hb dX0_pull_15 (by decide) ?_
    refine lv_iload hx hb dX0_pull_17 (lv_at hl 0 rfl) ?_
    refine gx_mul hx hb dX0_pull_19 ?_
    refine gx_add hx hb dX0_pull_20 ?_
    refine lv_istore (lv' := [(5, .int (nI (cl + (8 * p1)))), (4, .int (nI p1)), (0, .ref E.2.2.1), (1, .int (nI cl)), (2, .int (nI f)), (3, .int (nI to))]) hx hb dX0_pull_21 hl (by decide) rfl (fun ls hl => ?_)
    refine lv_bipush (v := nI 32) hx hb dX0_pull_23 (by decide) ?_
    refine lv_iload_n hx hb dX0_pull_25 rfl (lv_at hl 4 rfl) ?_
    refine gx_mul hx hb dX0_pull_26 ?_
    refine lv_iload hx hb dX0_pull_27 (lv_at hl 0 rfl) ?_
    refine gx_add hx hb dX0_pull_29 ?_
    refine lv_istore (lv' := [(6, .int (nI ((32 * f) + (cl + (8 * p1))))), (5, .int (nI (cl + (8 * p1)))), (4, .int (nI p1)), (0, .ref E.2.2.1), (1, .int (nI cl)), (2, .int (nI f)), (3, .int (nI to))]) hx hb dX0_pull_30 hl (by decide) rfl (fun ls hl => ?_)
    refine lv_aload_n hx hb dX0_pull_32 rfl (lv_at hl 3 rfl) ?_
    refine lv_iload_n hx hb dX0_pull_33 rfl (lv_at hl 6 rfl) ?_
    refine lv_iconst (v := nI 0) hx hb dX0_pull_34 (by decide) ?_
    refine lv_iload hx hb dX0_pull_35 (lv_at hl 1 rfl) ?_
    refine lv_aload_n hx hb dX0_pull_37 rfl (lv_at hl 3 rfl) ?_
    refine g_get F hP 0 (by decide) (by decide) rfl q24 dX0_pull_38 ?_
    refine lv_iload hx hb dX0_pull_41 (lv_at hl 0 rfl) ?_
    refine g_iald F hP 0 128 (by decide) rfl rfl (by omega) (by decide) dX0_pull_43 ?_
    refine lv_aload_n hx hb dX0_pull_44 rfl (lv_at hl 3 rfl) ?_
    refine g_get F hP 1 (by decide) (by decide) rfl q25 dX0_pull_45 ?_
    refine lv_iload hx hb dX0_pull_48 (lv_at hl 0 rfl) ?_
    refine g_zald F hP 1 128 (by decide) rfl rfl (by omega) (by decide) dX0_pull_50 ?_
    refine lv_if_eq (tgt := 58) hx hb dX0_pull_51 (by decide) (fun c1 => ?_) (fun c1 => ?_)
    · refine lv_iconst (v := 0) hx hb dX0_pull_58 (by decide) ?_
      refine g_callv (k := 5) F hP hS (m0_write l E hap nx M hD to 0 (cl + 8 * p1) (M 0 (32 * f + (cl + 8 * p1))) 0 ht (by unfold okE; omega)) (lw_V q109 q111 qs3 q14 q112) ⟨rfl, rfl⟩ (by decide +kernel) ⟨Nat.le_of_ble_eq_true rfl, Nat.le_of_ble_eq_true rfl⟩ rfl hl.1 rfl (Nat.le_of_ble_eq_true rfl) dX0_pull_59 (fun u H locs hw_u hP hS => ?_)
      refine lv_goto (tgt := 116) hx hb dX0_pull_62 (by decide) ?_
      exact g_vret hx hb hr hlocks hS u ⟨hw_u.1, fun k i hk => by rw [plM, if_pos c4', if_pos c1]; exact hw_u.2 k i hk⟩ (gZ_of hP) dX0_pull_116
    · refine lv_iconst (v := 1) hx hb dX0_pull_54 (by decide) ?_
      refine lv_goto (tgt := 59) hx hb dX0_pull_55 (by decide) ?_
      refine g_callv (k := 5) F hP hS (m0_write l E hap nx M hD to 0 (cl + 8 * p1) (M 0 (32 * f + (cl + 8 * p1))) 1 ht (by unfold okE; omega)) (lw_V q109 q111 qs3 q14 q112) ⟨rfl, rfl⟩ (by decide +kernel) ⟨Nat.le_of_ble_eq_true rfl, Nat.le_of_ble_eq_true rfl⟩ rfl hl.1 rfl (Nat.le_of_ble_eq_true rfl) dX0_pull_59 (fun u H locs hw_u hP hS => ?_)
      refine lv_goto (tgt := 116) hx hb dX0_pull_62 (by decide) ?_
      exact g_vret hx hb hr hlocks hS u ⟨hw_u.1, fun k i hk => by rw [plM, if_pos c4', if_neg c1]; exact hw_u.2 k i hk⟩ (gZ_of hP) dX0_pull_116
end
section
/-! PURE PART 5: the ranks fall -/
theorem rk_30 {a b p h : Nat} (q : rk 3 a b p h ≠ 0) : rk 0 a 0 0 h < rk 3 a b p h := by
  unfold rk at *
  by_cases e : a = h <;> simp [e] at q ⊢
theorem rk_01 {a b p h : Nat} (q : a ≠ h) : rk 1 a 0 0 h < rk 0 a b p h := by
  unfold rk
  simp [q]
theorem rk_10 {a b p h : Nat} (q : a = h) : rk 0 a 0 0 h < rk 1 a b p h := by
  unfold rk
  simp [q]
theorem rk_12 {a b p h : Nat} (q : a ≠ h) : rk 2 a h 0 h < rk 1 a b p h := by
  unfold rk
  simp [q]
theorem rk_22 {a b p h : Nat} (q : p < 8) : rk 2 a b (p + 1) h < rk 2 a b p h := by
  unfold rk
  simp
  omega
theorem rk_23 {a b h : Nat} : rk 3 b a 0 h < rk 2 a b 8 h := by
  unfold rk
  by_cases e : b = h <;> simp [e]
theorem sU18_C {M : SM} {c c' : Nat} {x : Int32} (h : c' ≠ c) : sameC M (sU M 18 c x) c' := ⟨fun g _ => sU_k (by omega), fun g _ => sU18_D, sU_i h⟩
theorem vis_sU {M M' : SM} {k i : Nat} {x : Int32} (h : vis M M') : vis (sU M k i x) (sU M' k i x) := fun k' i' hk => sU_pt (h k' i' hk)
end
section
set_option maxRecDepth 100000
set_option maxHeartbeats 4000000 in
theorem m0_moveOn (l : Launch) (E : Cx) (hap : gApE 20 E) (nx : Int32) (M : SM) (mm : SM) (hD : Dur M) (hC : Core M mm) (cl kd a b pp h : Nat) (hc : cl < 8) (hH : Ph M mm cl kd a b pp) (hh : h < 4) (h17 : M 17 cl = nI h) : Met l yX0_moveOn (ws_ yX0_moveOn cX0_moveOn 6 (some .boolean)) ({ frames := 4, cells := 0, slots := 0, locals := 100 }) (va_Pc [.ref E.2.2.1, .int (nI cl)] (B0 E M nx)) (va_Qi (fun r u => (r = 0 ∨ r = 1) ∧ MvP M mm cl h (rk kd a b pp h) u) (Z0 E nx) (gAE 20 E)) 0 0 (gAE 20 E) := by
  refine g_start (own := RX0) (T := TX0) (N := 21) (by decide) rfl hap rfl in_X0 (Nat.le_of_ble_eq_true rfl) ?_
  intro p e s m below meth c ls F hr hlocks hP hS hl
  have hx := F.1.1
  have hb := F.1.2.1
  have hl : lv_has ls 6 [(0, .ref E.2.2.1), (1, .int (nI cl))] := hl
  have ha := hH.1.1
  have hb4 := hH.1.2.1
  have hk : kd = 0 ∨ kd = 1 ∨ kd = 2 ∨ kd = 3 := by have := hH.1.2.2.1; omega
  rcases hk with ek | ek | ek | ek
  · subst ek
    refine lv_aload_n hx hb dX0_moveOn_0 rfl (lv_at hl 0 rfl) ?_
    refine lv_iload_n hx hb dX0_moveOn_1 rfl (lv_at hl 1 rfl) ?_
    refine lv_iconst (v := 1) hx hb dX0_moveOn_2 (by decide) ?_
    refine g_calli (k := 2) F hP hS (m0_groupIn l E hap nx M cl 1 hc) (lw_V q105 q107 qs2 q14 q108) ⟨rfl, rfl⟩ (by decide +kernel) ⟨Nat.le_of_ble_eq_true rfl, Nat.le_of_ble_eq_true rfl⟩ rfl hl.1 rfl (Nat.le_of_ble_eq_true rfl) dX0_moveOn_3 (fun r1 u1 H locs hw_r1 hP hS => ?_)
    obtain ⟨hg1, eu1⟩ := hw_r1
    rw [eu1] at hP
    have e1 := gi1_yes hH (Or.inl rfl) hg1
    subst e1
    refine lv_istore_n (lv' := [(2, .int (nI a)), (0, .ref E.2.2.1), (1, .int (nI cl))]) hx hb dX0_moveOn_6 rfl hl (by decide) rfl (fun ls hl => ?_)
    refine lv_aload_n hx hb dX0_moveOn_7 rfl (lv_at hl 1 rfl) ?_
    refine lv_iload_n hx hb dX0_moveOn_8 rfl (lv_at hl 2 rfl) ?_
    refine lv_iconst (v := 2) hx hb dX0_moveOn_9 (by decide) ?_
    refine g_calli (k := 2) F hP hS (m0_groupIn l E hap nx M cl 2 hc) (lw_V q105 q107 qs2 q14 q108) ⟨rfl, rfl⟩ (by decide +kernel) ⟨Nat.le_of_ble_eq_true rfl, Nat.le_of_ble_eq_true rfl⟩ rfl hl.1 rfl (Nat.le_of_ble_eq_true rfl) dX0_moveOn_10 (fun r2 u2 H locs hw_r2 hP hS => ?_)
    obtain ⟨hg2, eu2⟩ := hw_r2
    rw [eu2] at hP
    have e2 := gi2_no hH rfl hg2
    subst e2
    refine lv_istore_n (lv' := [(3, .int (-1)), (2, .int (nI a)), (0, .ref E.2.2.1), (1, .int (nI cl))]) hx hb dX0_moveOn_13 rfl hl (by decide) rfl (fun ls hl => ?_)
    refine lv_aload_n hx hb dX0_moveOn_14 rfl (lv_at hl 2 rfl) ?_
    refine lv_iload_n hx hb dX0_moveOn_15 rfl (lv_at hl 3 rfl) ?_
    refine lv_iconst (v := 3) hx hb dX0_moveOn_16 (by decide) ?_
    refine g_calli (k := 2) F hP hS (m0_groupIn l E hap nx M cl 3 hc) (lw_V q105 q107 qs2 q14 q108) ⟨rfl, rfl⟩ (by decide +kernel) ⟨Nat.le_of_ble_eq_true rfl, Nat.le_of_ble_eq_true rfl⟩ rfl hl.1 rfl (Nat.le_of_ble_eq_true rfl) dX0_moveOn_17 (fun r3 u3 H locs hw_r3 hP hS => ?_)
    obtain ⟨hg3, eu3⟩ := hw_r3
    rw [eu3] at hP
    have e3 := gi3_no hH (by decide) hg3
    subst e3
    refine lv_istore (lv' := [(4, .int (-1)), (3, .int (-1)), (2, .int (nI a)), (0, .ref E.2.2.1), (1, .int (nI cl))]) hx hb dX0_moveOn_20 hl (by decide) rfl (fun ls hl => ?_)
    refine lv_aload_n hx hb dX0_moveOn_22 rfl (lv_at hl 3 rfl) ?_
    refine g_get F hP 17 (by decide) (by decide) rfl q41 dX0_moveOn_23 ?_
    refine lv_iload_n hx hb dX0_moveOn_26 rfl (lv_at hl 4 rfl) ?_
    refine g_iald F hP 17 8 (by decide) rfl rfl (by omega) (by decide) dX0_moveOn_27 ?_
    refine gx_re (y := nI h) h17 ?_
    refine lv_istore (lv' := [(5, .int (nI h)), (4, .int (-1)), (3, .int (-1)), (2, .int (nI a)), (0, .ref E.2.2.1), (1, .int (nI cl))]) hx hb dX0_moveOn_28 hl (by decide) rfl (fun ls hl => ?_)
    refine lv_iload_n hx hb dX0_moveOn_30 rfl (lv_at hl 3 rfl) ?_
    refine lv_if_lt (tgt := 49) hx hb dX0_moveOn_31 (by decide) (fun c_1 => ?_) (fun c_1 => ?_)
    · exact absurd c_1 (nI_pos (by omega))
    · refine lv_iload_n hx hb dX0_moveOn_34 rfl (lv_at hl 2 rfl) ?_
      refine lv_if_lt (tgt := 49) hx hb dX0_moveOn_35 (by decide) (fun c_2 => ?_) (fun c_2 => ?_)
      · refine lv_iload_n hx hb dX0_moveOn_49 rfl (lv_at hl 3 rfl) ?_
        refine lv_if_lt (tgt := 72) hx hb dX0_moveOn_50 (by decide) (fun c_3 => ?_) (fun c_3 => ?_)
        · exact absurd c_3 (nI_pos (by omega))
        · refine lv_iload_n hx hb dX0_moveOn_53 rfl (lv_at hl 3 rfl) ?_
          refine lv_iload hx hb dX0_moveOn_54 (lv_at hl 0 rfl) ?_
          refine gx_ne hx hb 61 (by omega) (by omega) dX0_moveOn_56 (by decide) (fun cah => ?_) (fun cah => ?_)
          · refine lv_aload_n hx hb dX0_moveOn_61 rfl (lv_at hl 4 rfl) ?_
            refine lv_iload_n hx hb dX0_moveOn_62 rfl (lv_at hl 3 rfl) ?_
            refine lv_iconst (v := nI 2) hx hb dX0_moveOn_63 (by decide) ?_
            refine lv_iload_n hx hb dX0_moveOn_64 rfl (lv_at hl 5 rfl) ?_
            refine lv_iconst (v := 2) hx hb dX0_moveOn_65 (by decide) ?_
            refine lv_iconst (v := 0) hx hb dX0_moveOn_66 (by decide) ?_
            refine g_callv (k := 5) F hP hS (m0_write l E hap nx M hD a 2 cl 2 0 ha (by unfold okE; omega)) (lw_V q109 q111 qs3 q14 q112) ⟨rfl, rfl⟩ (by decide +kernel) ⟨Nat.le_of_ble_eq_true rfl, Nat.le_of_ble_eq_true rfl⟩ rfl hl.1 rfl (Nat.le_of_ble_eq_true rfl) dX0_moveOn_67 (fun u H locs hw_u hP hS => ?_)
            refine lv_iconst (v := 1) hx hb dX0_moveOn_70 (by decide) ?_
            exact g_zret hx hb hr hlocks hS (Or.inr rfl) u ⟨Or.inr rfl, MvP_of hc hC hw_u.1 (st_freeze hc hH hw_u.2) (fun _ => rk_01 cah) hw_u.2 (fun c' q1 q2 => ap_C hc q1 q2 (Or.inr (Or.inr ⟨Or.inl rfl, rfl⟩))) (fun i => ap_17 (by unfold okE; omega) (by omega)) (fun i => ap_17 (by unfold okE; omega) (by omega))⟩ (gZ_of hP) dX0_moveOn_71
          · refine lv_iconst (v := 0) hx hb dX0_moveOn_59 (by decide) ?_
            exact g_zret hx hb hr hlocks hS (Or.inl rfl) M ⟨Or.inl rfl, hD, hC, ⟨0, a, b, pp, hH, fun q => absurd (by unfold rk; simp [cah]) q⟩, fun _ => rfl, fun _ => rfl⟩ (gZ_of hP) dX0_moveOn_60
      · exact absurd (by decide) c_2
  · subst ek
    refine lv_aload_n hx hb dX0_moveOn_0 rfl (lv_at hl 0 rfl) ?_
    refine lv_iload_n hx hb dX0_moveOn_1 rfl (lv_at hl 1 rfl) ?_
    refine lv_iconst (v := 1) hx hb dX0_moveOn_2 (by decide) ?_
    refine g_calli (k := 2) F hP hS (m0_groupIn l E hap nx M cl 1 hc) (lw_V q105 q107 qs2 q14 q108) ⟨rfl, rfl⟩ (by decide +kernel) ⟨Nat.le_of_ble_eq_true rfl, Nat.le_of_ble_eq_true rfl⟩ rfl hl.1 rfl (Nat.le_of_ble_eq_true rfl) dX0_moveOn_3 (fun r1 u1 H locs hw_r1 hP hS => ?_)
    obtain ⟨hg1, eu1⟩ := hw_r1
    rw [eu1] at hP
    have e1 := gi1_no hH (Or.inl rfl) hg1
    subst e1
    refine lv_istore_n (lv' := [(2, .int (-1)), (0, .ref E.2.2.1), (1, .int (nI cl))]) hx hb dX0_moveOn_6 rfl hl (by decide) rfl (fun ls hl => ?_)
    refine lv_aload_n hx hb dX0_moveOn_7 rfl (lv_at hl 1 rfl) ?_
    refine lv_iload_n hx hb dX0_moveOn_8 rfl (lv_at hl 2 rfl) ?_
    refine lv_iconst (v := 2) hx hb dX0_moveOn_9 (by decide) ?_
    refine g_calli (k := 2) F hP hS (m0_groupIn l E hap nx M cl 2 hc) (lw_V q105 q107 qs2 q14 q108) ⟨rfl, rfl⟩ (by decide +kernel) ⟨Nat.le_of_ble_eq_true rfl, Nat.le_of_ble_eq_true rfl⟩ rfl hl.1 rfl (Nat.le_of_ble_eq_true rfl) dX0_moveOn_10 (fun r2 u2 H locs hw_r2 hP hS => ?_)
    obtain ⟨hg2, eu2⟩ := hw_r2
    rw [eu2] at hP
    have e2 := gi2_a hH (Or.inl rfl) hg2
    subst e2
    refine lv_istore_n (lv' := [(3, .int (nI a)), (2, .int (-1)), (0, .ref E.2.2.1), (1, .int (nI cl))]) hx hb dX0_moveOn_13 rfl hl (by decide) rfl (fun ls hl => ?_)
    refine lv_aload_n hx hb dX0_moveOn_14 rfl (lv_at hl 2 rfl) ?_
    refine lv_iload_n hx hb dX0_moveOn_15 rfl (lv_at hl 3 rfl) ?_
    refine lv_iconst (v := 3) hx hb dX0_moveOn_16 (by decide) ?_
    refine g_calli (k := 2) F hP hS (m0_groupIn l E hap nx M cl 3 hc) (lw_V q105 q107 qs2 q14 q108) ⟨rfl, rfl⟩ (by decide +kernel) ⟨Nat.le_of_ble_eq_true rfl, Nat.le_of_ble_eq_true rfl⟩ rfl hl.1 rfl (Nat.le_of_ble_eq_true rfl) dX0_moveOn_17 (fun r3 u3 H locs hw_r3 hP hS => ?_)
    obtain ⟨hg3, eu3⟩ := hw_r3
    rw [eu3] at hP
    have e3 := gi3_no hH (by decide) hg3
    subst e3
    refine lv_istore (lv' := [(4, .int (-1)), (3, .int (nI a)), (2, .int (-1)), (0, .ref E.2.2.1), (1, .int (nI cl))]) hx hb dX0_moveOn_20 hl (by decide) rfl (fun ls hl => ?_)
    refine lv_aload_n hx hb dX0_moveOn_22 rfl (lv_at hl 3 rfl) ?_
    refine g_get F hP 17 (by decide) (by decide) rfl q41 dX0_moveOn_23 ?_
    refine lv_iload_n hx hb dX0_moveOn_26 rfl (lv_at hl 4 rfl) ?_
    refine g_iald F hP 17 8 (by decide) rfl rfl (by omega) (by decide) dX0_moveOn_27 ?_
    refine gx_re (y := nI h) h17 ?_
    refine lv_istore (lv' := [(5, .int (nI h)), (4, .int (-1)), (3, .int (nI a)), (2, .int (-1)), (0, .ref E.2.2.1), (1, .int (nI cl))]) hx hb dX0_moveOn_28 hl (by decide) rfl (fun ls hl => ?_)
    refine lv_iload_n hx hb dX0_moveOn_30 rfl (lv_at hl 3 rfl) ?_
    refine lv_if_lt (tgt := 49) hx hb dX0_moveOn_31 (by decide) (fun c_4 => ?_) (fun c_4 => ?_)
    · refine lv_iload_n hx hb dX0_moveOn_49 rfl (lv_at hl 3 rfl) ?_
      refine lv_if_lt (tgt := 72) hx hb dX0_moveOn_50 (by decide) (fun c_5 => ?_) (fun c_5 => ?_)
      · refine lv_iload hx hb dX0_moveOn_72 (lv_at hl 1 rfl) ?_
        refine lv_if_ge (tgt := 106) hx hb dX0_moveOn_74 (by decide) (fun c_6 => ?_) (fun c_6 => ?_)
        · exact absurd c_6 (by decide)
        · refine lv_aload_n hx hb dX0_moveOn_77 rfl (lv_at hl 4 rfl) ?_
          refine g_get F hP 18 (by decide) (by decide) rfl q42 dX0_moveOn_78 ?_
          refine lv_iload_n hx hb dX0_moveOn_81 rfl (lv_at hl 5 rfl) ?_
          refine lv_iconst (v := 0) hx hb dX0_moveOn_82 (by decide) ?_
          refine g_iast F (fun _ h => h) hP hS 18 8 (by decide) rfl rfl (by omega) (by decide) dX0_moveOn_83 (fun M1 H locs eM1 hP hS => ?_)
          subst eM1
          refine lv_aload_n hx hb dX0_moveOn_84 rfl (lv_at hl 4 rfl) ?_
          refine lv_iload hx hb dX0_moveOn_85 (lv_at hl 0 rfl) ?_
          refine lv_iconst (v := nI 2) hx hb dX0_moveOn_87 (by decide) ?_
          refine lv_iload_n hx hb dX0_moveOn_88 rfl (lv_at hl 5 rfl) ?_
          refine lv_iload hx hb dX0_moveOn_89 (lv_at hl 0 rfl) ?_
          refine lv_iload_n hx hb dX0_moveOn_91 rfl (lv_at hl 2 rfl) ?_
          refine gx_ne hx hb 99 (by omega) (by omega) dX0_moveOn_92 (by decide) (fun cha => ?_) (fun cha => ?_)
          · refine lv_iconst (v := 3) hx hb dX0_moveOn_99 (by decide) ?_
            refine lv_iconst (v := 0) hx hb dX0_moveOn_100 (by decide) ?_
            refine g_callv (k := 5) F hP hS (m0_write l E hap nx (sU M 18 cl 0) (Dur_hi hD (fun k i hk => sU_k (by omega))) h 2 cl 3 0 hh (by unfold okE; omega)) (lw_V q109 q111 qs3 q14 q112) ⟨rfl, rfl⟩ (by decide +kernel) ⟨Nat.le_of_ble_eq_true rfl, Nat.le_of_ble_eq_true rfl⟩ rfl hl.1 rfl (Nat.le_of_ble_eq_true rfl) dX0_moveOn_101 (fun u H locs hw_u hP hS => ?_)
            refine lv_iconst (v := 1) hx hb dX0_moveOn_104 (by decide) ?_
            exact g_zret hx hb hr hlocks hS (Or.inr rfl) u ⟨Or.inr rfl, MvP_of hc hC hw_u.1 (st_in hc hh cha hH hw_u.2) (fun _ => rk_12 (Ne.symm cha)) hw_u.2 (fun c' q1 q2 => sameC_trans (sU18_C q2) (ap_C hc q1 q2 (Or.inr (Or.inr ⟨Or.inl rfl, rfl⟩)))) (fun i => (ap_17 (by unfold okE; omega) (by omega)).trans (sU_k (by omega))) (fun i => (ap_17 (by unfold okE; omega) (by omega)).trans (sU_k (by omega)))⟩ (gZ_of hP) dX0_moveOn_105
          · refine lv_iconst (v := 1) hx hb dX0_moveOn_95 (by decide) ?_
            refine lv_goto (tgt := 100) hx hb dX0_moveOn_96 (by decide) ?_
            refine lv_iconst (v := 0) hx hb dX0_moveOn_100 (by decide) ?_
            refine g_callv (k := 5) F hP hS (m0_write l E hap nx (sU M 18 cl 0) (Dur_hi hD (fun k i hk => sU_k (by omega))) h 2 cl 1 0 hh (by unfold okE; omega)) (lw_V q109 q111 qs3 q14 q112) ⟨rfl, rfl⟩ (by decide +kernel) ⟨Nat.le_of_ble_eq_true rfl, Nat.le_of_ble_eq_true rfl⟩ rfl hl.1 rfl (Nat.le_of_ble_eq_true rfl) dX0_moveOn_101 (fun u H locs hw_u hP hS => ?_)
            refine lv_iconst (v := 1) hx hb dX0_moveOn_104 (by decide) ?_
            exact g_zret hx hb hr hlocks hS (Or.inr rfl) u ⟨Or.inr rfl, MvP_of hc hC hw_u.1 (st_back hc hH (by rw [← cha]; exact hw_u.2)) (fun _ => rk_10 cha.symm) hw_u.2 (fun c' q1 q2 => sameC_trans (sU18_C q2) (ap_C hc q1 q2 (Or.inr (Or.inr ⟨Or.inl rfl, rfl⟩)))) (fun i => (ap_17 (by unfold okE; omega) (by omega)).trans (sU_k (by omega))) (fun i => (ap_17 (by unfold okE; omega) (by omega)).trans (sU_k (by omega)))⟩ (gZ_of hP) dX0_moveOn_105
      · exact absurd (by decide) c_5
    · exact absurd (by decide) c_4
  · subst ek
    obtain ⟨hp8, h18, -⟩ := hH.2.2.2.2 rfl
    refine lv_aload_n hx hb dX0_moveOn_0 rfl (lv_at hl 0 rfl) ?_
    refine lv_iload_n hx hb dX0_moveOn_1 rfl (lv_at hl 1 rfl) ?_
    refine lv_iconst (v := 1) hx hb dX0_moveOn_2 (by decide) ?_
    refine g_calli (k := 2) F hP hS (m0_groupIn l E hap nx M cl 1 hc) (lw_V q105 q107 qs2 q14 q108) ⟨rfl, rfl⟩ (by decide +kernel) ⟨Nat.le_of_ble_eq_true rfl, Nat.le_of_ble_eq_true rfl⟩ rfl hl.1 rfl (Nat.le_of_ble_eq_true rfl) dX0_moveOn_3 (fun r1 u1 H locs hw_r1 hP hS => ?_)
    obtain ⟨hg1, eu1⟩ := hw_r1
    rw [eu1] at hP
    have e1 := gi1_no hH (Or.inr rfl) hg1
    subst e1
    refine lv_istore_n (lv' := [(2, .int (-1)), (0, .ref E.2.2.1), (1, .int (nI cl))]) hx hb dX0_moveOn_6 rfl hl (by decide) rfl (fun ls hl => ?_)
    refine lv_aload_n hx hb dX0_moveOn_7 rfl (lv_at hl 1 rfl) ?_
    refine lv_iload_n hx hb dX0_moveOn_8 rfl (lv_at hl 2 rfl) ?_
    refine lv_iconst (v := 2) hx hb dX0_moveOn_9 (by decide) ?_
    refine g_calli (k := 2) F hP hS (m0_groupIn l E hap nx M cl 2 hc) (lw_V q105 q107 qs2 q14 q108) ⟨rfl, rfl⟩ (by decide +kernel) ⟨Nat.le_of_ble_eq_true rfl, Nat.le_of_ble_eq_true rfl⟩ rfl hl.1 rfl (Nat.le_of_ble_eq_true rfl) dX0_moveOn_10 (fun r2 u2 H locs hw_r2 hP hS => ?_)
    obtain ⟨hg2, eu2⟩ := hw_r2
    rw [eu2] at hP
    have e2 := gi2_a hH (Or.inr rfl) hg2
    subst e2
    refine lv_istore_n (lv' := [(3, .int (nI a)), (2, .int (-1)), (0, .ref E.2.2.1), (1, .int (nI cl))]) hx hb dX0_moveOn_13 rfl hl (by decide) rfl (fun ls hl => ?_)
    refine lv_aload_n hx hb dX0_moveOn_14 rfl (lv_at hl 2 rfl) ?_
    refine lv_iload_n hx hb dX0_moveOn_15 rfl (lv_at hl 3 rfl) ?_
    refine lv_iconst (v := 3) hx hb dX0_moveOn_16 (by decide) ?_
    refine g_calli (k := 2) F hP hS (m0_groupIn l E hap nx M cl 3 hc) (lw_V q105 q107 qs2 q14 q108) ⟨rfl, rfl⟩ (by decide +kernel) ⟨Nat.le_of_ble_eq_true rfl, Nat.le_of_ble_eq_true rfl⟩ rfl hl.1 rfl (Nat.le_of_ble_eq_true rfl) dX0_moveOn_17 (fun r3 u3 H locs hw_r3 hP hS => ?_)
    obtain ⟨hg3, eu3⟩ := hw_r3
    rw [eu3] at hP
    have e3 := gi3_b hH rfl hg3
    subst e3
    refine lv_istore (lv' := [(4, .int (nI b)), (3, .int (nI a)), (2, .int (-1)), (0, .ref E.2.2.1), (1, .int (nI cl))]) hx hb dX0_moveOn_20 hl (by decide) rfl (fun ls hl => ?_)
    refine lv_aload_n hx hb dX0_moveOn_22 rfl (lv_at hl 3 rfl) ?_
    refine g_get F hP 17 (by decide) (by decide) rfl q41 dX0_moveOn_23 ?_
    refine lv_iload_n hx hb dX0_moveOn_26 rfl (lv_at hl 4 rfl) ?_
    refine g_iald F hP 17 8 (by decide) rfl rfl (by omega) (by decide) dX0_moveOn_27 ?_
    refine gx_re (y := nI h) h17 ?_
    refine lv_istore (lv' := [(5, .int (nI h)), (4, .int (nI b)), (3, .int (nI a)), (2, .int (-1)), (0, .ref E.2.2.1), (1, .int (nI cl))]) hx hb dX0_moveOn_28 hl (by decide) rfl (fun ls hl => ?_)
    refine lv_iload_n hx hb dX0_moveOn_30 rfl (lv_at hl 3 rfl) ?_
    refine lv_if_lt (tgt := 49) hx hb dX0_moveOn_31 (by decide) (fun c_7 => ?_) (fun c_7 => ?_)
    · refine lv_iload_n hx hb dX0_moveOn_49 rfl (lv_at hl 3 rfl) ?_
      refine lv_if_lt (tgt := 72) hx hb dX0_moveOn_50 (by decide) (fun c_8 => ?_) (fun c_8 => ?_)
      · refine lv_iload hx hb dX0_moveOn_72 (lv_at hl 1 rfl) ?_
        refine lv_if_ge (tgt := 106) hx hb dX0_moveOn_74 (by decide) (fun c_9 => ?_) (fun c_9 => ?_)
        · refine lv_aload_n hx hb dX0_moveOn_106 rfl (lv_at hl 4 rfl) ?_
          refine g_get F hP 18 (by decide) (by decide) rfl q42 dX0_moveOn_107 ?_
          refine lv_iload_n hx hb dX0_moveOn_110 rfl (lv_at hl 5 rfl) ?_
          refine g_iald F hP 18 8 (by decide) rfl rfl (by omega) (by decide) dX0_moveOn_111 ?_
          refine gx_re (y := nI pp) h18 ?_
          refine lv_bipush (v := nI 8) hx hb dX0_moveOn_112 (by decide) ?_
          refine gx_ge hx hb 138 (by omega) (by omega) dX0_moveOn_114 (by decide) (fun c8 => ?_) (fun c8 => ?_)
          · have e8 : pp = 8 := by omega
            subst e8
            refine lv_aload_n hx hb dX0_moveOn_138 rfl (lv_at hl 4 rfl) ?_
            refine lv_iload hx hb dX0_moveOn_139 (lv_at hl 1 rfl) ?_
            refine lv_iconst (v := nI 2) hx hb dX0_moveOn_141 (by decide) ?_
            refine lv_iload_n hx hb dX0_moveOn_142 rfl (lv_at hl 5 rfl) ?_
            refine lv_iconst (v := 1) hx hb dX0_moveOn_143 (by decide) ?_
            refine lv_iconst (v := 0) hx hb dX0_moveOn_144 (by decide) ?_
            refine g_callv (k := 5) F hP hS (m0_write l E hap nx M hD b 2 cl 1 0 hb4 (by unfold okE; omega)) (lw_V q109 q111 qs3 q14 q112) ⟨rfl, rfl⟩ (by decide +kernel) ⟨Nat.le_of_ble_eq_true rfl, Nat.le_of_ble_eq_true rfl⟩ rfl hl.1 rfl (Nat.le_of_ble_eq_true rfl) dX0_moveOn_145 (fun u H locs hw_u hP hS => ?_)
            refine lv_iconst (v := 1) hx hb dX0_moveOn_148 (by decide) ?_
            exact g_zret hx hb hr hlocks hS (Or.inr rfl) u ⟨Or.inr rfl, MvP_of hc hC hw_u.1 (st_serve hc hH hw_u.2) (fun _ => rk_23) hw_u.2 (fun c' q1 q2 => ap_C hc q1 q2 (Or.inr (Or.inr ⟨Or.inl rfl, rfl⟩))) (fun i => ap_17 (by unfold okE; omega) (by omega)) (fun i => ap_17 (by unfold okE; omega) (by omega))⟩ (gZ_of hP) dX0_moveOn_149
          · refine lv_aload_n hx hb dX0_moveOn_117 rfl (lv_at hl 4 rfl) ?_
            refine lv_iload_n hx hb dX0_moveOn_118 rfl (lv_at hl 5 rfl) ?_
            refine lv_iload_n hx hb dX0_moveOn_119 rfl (lv_at hl 2 rfl) ?_
            refine lv_iload hx hb dX0_moveOn_120 (lv_at hl 1 rfl) ?_
            refine g_callv (k := 3) F hP hS (m0_pull l E hap nx M hD cl a b pp hc ha hb4 c8 h18) (lw_V q125 q127 qs7 q14 q128) ⟨rfl, rfl⟩ (by decide +kernel) ⟨Nat.le_of_ble_eq_true rfl, Nat.le_of_ble_eq_true rfl⟩ rfl hl.1 rfl (Nat.le_of_ble_eq_true rfl) dX0_moveOn_122 (fun u H locs hw_u hP hS => ?_)
            refine lv_aload_n hx hb dX0_moveOn_125 rfl (lv_at hl 4 rfl) ?_
            refine g_get F hP 18 (by decide) (by decide) rfl q42 dX0_moveOn_126 ?_
            refine lv_iload_n hx hb dX0_moveOn_129 rfl (lv_at hl 5 rfl) ?_
            refine lv_dup2_11 hx hb dX0_moveOn_130 rfl rfl ?_
            refine g_iald F hP 18 8 (by decide) rfl rfl (by omega) (by decide) dX0_moveOn_131 ?_
            refine gx_re (y := nI pp) ((hw_u.2 18 cl (by omega)).trans ((plM_hi (by omega) hc c8).trans h18)) ?_
            refine lv_iconst (v := nI 1) hx hb dX0_moveOn_132 (by decide) ?_
            refine gx_add hx hb dX0_moveOn_133 ?_
            refine g_iast F (fun _ h => h) hP hS 18 8 (by decide) rfl rfl (by omega) (by decide) dX0_moveOn_134 (fun M2 H locs eM2 hP hS => ?_)
            refine lv_goto (tgt := 148) hx hb dX0_moveOn_135 (by decide) ?_
            refine lv_iconst (v := 1) hx hb dX0_moveOn_148 (by decide) ?_
            exact g_zret hx hb hr hlocks hS (Or.inr rfl) M2 ⟨Or.inr rfl, MvP_of (M1 := sU (plM M cl a b pp) 18 cl (nI (pp + 1))) hc hC (Dur_hi hw_u.1 (fun k i hk => by rw [eM2]; exact sU_k (by omega))) (st_pull hD.1 hc c8 hH (by rw [eM2]; exact vis_sU hw_u.2)) (fun _ => rk_22 c8) (by rw [eM2]; exact vis_sU hw_u.2) (fun c' q1 q2 => sameC_trans (plM_C hc q1 q2 c8) (sU18_C q2)) (fun i => (sU_k (by omega)).trans (plM_hi (by omega) hc c8)) (fun i => (sU_k (by omega)).trans (plM_hi (by omega) hc c8))⟩ (gZ_of hP) dX0_moveOn_149
        · exact absurd (nI_pos' (by omega)) c_9
      · exact absurd (by decide) c_8
    · exact absurd (by decide) c_7
  · subst ek
    refine lv_aload_n hx hb dX0_moveOn_0 rfl (lv_at hl 0 rfl) ?_
    refine lv_iload_n hx hb dX0_moveOn_1 rfl (lv_at hl 1 rfl) ?_
    refine lv_iconst (v := 1) hx hb dX0_moveOn_2 (by decide) ?_
    refine g_calli (k := 2) F hP hS (m0_groupIn l E hap nx M cl 1 hc) (lw_V q105 q107 qs2 q14 q108) ⟨rfl, rfl⟩ (by decide +kernel) ⟨Nat.le_of_ble_eq_true rfl, Nat.le_of_ble_eq_true rfl⟩ rfl hl.1 rfl (Nat.le_of_ble_eq_true rfl) dX0_moveOn_3 (fun r1 u1 H locs hw_r1 hP hS => ?_)
    obtain ⟨hg1, eu1⟩ := hw_r1
    rw [eu1] at hP
    have e1 := gi1_yes hH (Or.inr rfl) hg1
    subst e1
    refine lv_istore_n (lv' := [(2, .int (nI a)), (0, .ref E.2.2.1), (1, .int (nI cl))]) hx hb dX0_moveOn_6 rfl hl (by decide) rfl (fun ls hl => ?_)
    refine lv_aload_n hx hb dX0_moveOn_7 rfl (lv_at hl 1 rfl) ?_
    refine lv_iload_n hx hb dX0_moveOn_8 rfl (lv_at hl 2 rfl) ?_
    refine lv_iconst (v := 2) hx hb dX0_moveOn_9 (by decide) ?_
    refine g_calli (k := 2) F hP hS (m0_groupIn l E hap nx M cl 2 hc) (lw_V q105 q107 qs2 q14 q108) ⟨rfl, rfl⟩ (by decide +kernel) ⟨Nat.le_of_ble_eq_true rfl, Nat.le_of_ble_eq_true rfl⟩ rfl hl.1 rfl (Nat.le_of_ble_eq_true rfl) dX0_moveOn_10 (fun r2 u2 H locs hw_r2 hP hS => ?_)
    obtain ⟨hg2, eu2⟩ := hw_r2
    rw [eu2] at hP
    have e2 := gi2_b hH rfl hg2
    subst e2
    refine lv_istore_n (lv' := [(3, .int (nI b)), (2, .int (nI a)), (0, .ref E.2.2.1), (1, .int (nI cl))]) hx hb dX0_moveOn_13 rfl hl (by decide) rfl (fun ls hl => ?_)
    refine lv_aload_n hx hb dX0_moveOn_14 rfl (lv_at hl 2 rfl) ?_
    refine lv_iload_n hx hb dX0_moveOn_15 rfl (lv_at hl 3 rfl) ?_
    refine lv_iconst (v := 3) hx hb dX0_moveOn_16 (by decide) ?_
    refine g_calli (k := 2) F hP hS (m0_groupIn l E hap nx M cl 3 hc) (lw_V q105 q107 qs2 q14 q108) ⟨rfl, rfl⟩ (by decide +kernel) ⟨Nat.le_of_ble_eq_true rfl, Nat.le_of_ble_eq_true rfl⟩ rfl hl.1 rfl (Nat.le_of_ble_eq_true rfl) dX0_moveOn_17 (fun r3 u3 H locs hw_r3 hP hS => ?_)
    obtain ⟨hg3, eu3⟩ := hw_r3
    rw [eu3] at hP
    have e3 := gi3_no hH (by decide) hg3
    subst e3
    refine lv_istore (lv' := [(4, .int (-1)), (3, .int (nI b)), (2, .int (nI a)), (0, .ref E.2.2.1), (1, .int (nI cl))]) hx hb dX0_moveOn_20 hl (by decide) rfl (fun ls hl => ?_)
    refine lv_aload_n hx hb dX0_moveOn_22 rfl (lv_at hl 3 rfl) ?_
    refine g_get F hP 17 (by decide) (by decide) rfl q41 dX0_moveOn_23 ?_
    refine lv_iload_n hx hb dX0_moveOn_26 rfl (lv_at hl 4 rfl) ?_
    refine g_iald F hP 17 8 (by decide) rfl rfl (by omega) (by decide) dX0_moveOn_27 ?_
    refine gx_re (y := nI h) h17 ?_
    refine lv_istore (lv' := [(5, .int (nI h)), (4, .int (-1)), (3, .int (nI b)), (2, .int (nI a)), (0, .ref E.2.2.1), (1, .int (nI cl))]) hx hb dX0_moveOn_28 hl (by decide) rfl (fun ls hl => ?_)
    refine lv_iload_n hx hb dX0_moveOn_30 rfl (lv_at hl 3 rfl) ?_
    refine lv_if_lt (tgt := 49) hx hb dX0_moveOn_31 (by decide) (fun c_10 => ?_) (fun c_10 => ?_)
    · exact absurd c_10 (nI_pos (by omega))
    · refine lv_iload_n hx hb dX0_moveOn_34 rfl (lv_at hl 2 rfl) ?_
      refine lv_if_lt (tgt := 49) hx hb dX0_moveOn_35 (by decide) (fun c_11 => ?_) (fun c_11 => ?_)
      · exact absurd c_11 (nI_pos (by omega))
      · refine lv_aload_n hx hb dX0_moveOn_38 rfl (lv_at hl 4 rfl) ?_
        refine lv_iload_n hx hb dX0_moveOn_39 rfl (lv_at hl 2 rfl) ?_
        refine lv_iconst (v := nI 3) hx hb dX0_moveOn_40 (by decide) ?_
        refine lv_iload_n hx hb dX0_moveOn_41 rfl (lv_at hl 5 rfl) ?_
        refine lv_iconst (v := 0) hx hb dX0_moveOn_42 (by decide) ?_
        refine lv_iconst (v := 0) hx hb dX0_moveOn_43 (by decide) ?_
        refine g_callv (k := 5) F hP hS (m0_write l E hap nx M hD b 3 cl 0 0 hb4 (by unfold okE; omega)) (lw_V q109 q111 qs3 q14 q112) ⟨rfl, rfl⟩ (by decide +kernel) ⟨Nat.le_of_ble_eq_true rfl, Nat.le_of_ble_eq_true rfl⟩ rfl hl.1 rfl (Nat.le_of_ble_eq_true rfl) dX0_moveOn_44 (fun u H locs hw_u hP hS => ?_)
        refine lv_iconst (v := 1) hx hb dX0_moveOn_47 (by decide) ?_
        exact g_zret hx hb hr hlocks hS (Or.inr rfl) u ⟨Or.inr rfl, MvP_of hc hC hw_u.1 (st_forget hc hH hw_u.2) (fun q => rk_30 q) hw_u.2 (fun c' q1 q2 => ap_C hc q1 q2 (Or.inr (Or.inr ⟨Or.inr rfl, rfl⟩))) (fun i => ap_17 (by unfold okE; omega) (by omega)) (fun i => ap_17 (by unfold okE; omega) (by omega))⟩ (gZ_of hP) dX0_moveOn_48
end
section
/-! PURE PART 6: routes, homes -/
theorem Core_route {M m : SM} {j r : Nat} (hC : Core M m) (hr : r < 4) : Core (sU M 19 j (nI r)) m := by
  obtain ⟨q1, q2, q3⟩ := hC
  refine ⟨fun c hc => ?_, fun c hc => ?_, fun i hi => ?_⟩
  · obtain ⟨kd, a, b, p, q⟩ := q1 c hc
    exact ⟨kd, a, b, p, Ph_same ⟨fun g _ => sU_k (by omega), fun g _ => ⟨fun k u _ _ => sU_k (by omega), fun k i _ _ _ => sU_k (by omega)⟩, sU_k (by omega)⟩ (sameM_rf m c) q⟩
  · rw [sU_k (by omega)]; exact q2 c hc
  · by_cases e : i = j
    · subst e; exact ⟨r, hr, sU_s _ _ _ _⟩
    · rw [sU_i e]; exact q3 i hi
/-- assign: both homes change alike -/
theorem Core_assign {M m : SM} {c h : Nat} (hC : Core M m) (hh : h < 4) : Core (sU M 17 c (nI h)) (sU m 5 c (nI h)) := by
  obtain ⟨q1, q2, q3⟩ := hC
  refine ⟨fun c' hc => ?_, fun c' hc => ?_, fun i hi => ?_⟩
  · obtain ⟨kd, a, b, p, q⟩ := q1 c' hc
    exact ⟨kd, a, b, p, Ph_same ⟨fun g _ => sU_k (by omega), fun g _ => ⟨fun k u _ _ => sU_k (by omega), fun k i _ _ _ => sU_k (by omega)⟩, sU_k (by omega)⟩ ⟨fun k u _ _ => sU_k (by omega), fun k i _ _ _ => sU_k (by omega)⟩ q⟩
  · by_cases e : c' = c
    · subst e; exact ⟨h, hh, sU_s _ _ _ _, sU_s _ _ _ _⟩
    · rw [sU_i e, sU_i e]; exact q2 c' hc
  · rw [sU_k (by omega)]; exact q3 i hi
theorem Dur_17 {M : SM} {k i : Nat} {x : Int32} (hD : Dur M) (hk : 17 ≤ k) : Dur (sU M k i x) := Dur_hi hD (fun _ _ h => sU_k (by omega))
/-- lose: what was pulled is forgotten -/
theorem Core_lose {M M' m : SM} (hC : Core M m) (h1 : ∀ k i, k < 6 → M' k i = M k i) (h17 : ∀ i, M' 17 i = M 17 i) (h19 : ∀ i, M' 19 i = M 19 i) (h18 : ∀ c, c < 8 → M' 18 c = M 18 c ∨ M' 18 c = 0) : Core M' m := by
  obtain ⟨q1, q2, q3⟩ := hC
  refine ⟨fun c hc => ?_, fun c hc => by rw [h17]; exact q2 c hc, fun i hi => by rw [h19]; exact q3 i hi⟩
  obtain ⟨kd, a, b, p, q⟩ := q1 c hc
  have sD : ∀ g, sameD M M' c g := fun g => ⟨fun k u _ _ => h1 _ _ (by omega), fun k i _ _ _ => h1 _ _ (by omega)⟩
  rcases h18 c hc with e | e
  · exact ⟨kd, a, b, p, Ph_same ⟨fun g _ => h1 _ _ (by omega), fun g _ => sD g, e⟩ (sameM_rf m c) q⟩
  · obtain ⟨h1', h5, h6, h7, h8⟩ := q
    refine ⟨kd, a, b, 0, h1', fun g hg => by rw [h1 _ _ (by omega)]; exact h5 g hg, Hold_same (sD a) (sameM_rf m c) h6, fun g hg z => Clr_same (sD g) (h7 g hg z), fun z => ⟨by omega, e, ?_, ?_, ?_⟩⟩
    · intro u _ q; omega
    · exact (Part_same (sD a) (sD b) (h8 z).2.2).2.1
    · intro i _ q; omega
end
section
set_option maxRecDepth 100000
section
variable {p : Program} {l : Launch} {e : Env} {R : Room} {s : State} {m : MethodId} {args : Array Value} {below : List Frame} {meth : Method} {c : Code} {Q : State → Prop} {E : Cx} {nx : Int32}
set_option maxHeartbeats 4000000 in
/-- groupFor's loop: the home serves before its steps are spent -/
theorem lp_groupFor (hap : gApE 20 E) (F : Fx p s m c args cX0_groupFor 6 RX0 TX0 0 20 21 ety0 E) {i cl g0 h : Nat} (hi : i < 4) (hc : cl < 8) (hh : h < 4) (mm : SM) (hR : 5 ≤ R.frames ∧ 125 ≤ R.locals)
    (exit : ∀ (M1 : SM) (H : Heap) (locs : List Loc) (ls : Array Slot), Dur M1 → Core M1 mm → M1 5 (8 * h + cl) = 1 → va_P E.1 vwCl (w0 E M1 nx) H → va_S (gAE 20 E) s.heap H locs → lv_has ls 6 [(0, .ref E.2.2.1), (1, .int (nI i)), (2, .int (nI cl)), (3, .int (nI g0)), (4, .int (nI h))] → W p l e R s m args below meth c H locs 0 0 Q (F0 m 75 ls [])) :
    ∀ (n k kd a b pp : Nat) (M1 : SM) (H : Heap) (locs : List Loc) (ls : Array Slot), 21 < k + n → rk kd a b pp h + k ≤ 21 → Dur M1 → Core M1 mm → Ph M1 mm cl kd a b pp → M1 17 cl = nI h → va_P E.1 vwCl (w0 E M1 nx) H → va_S (gAE 20 E) s.heap H locs → lv_has ls 6 [(0, .ref E.2.2.1), (1, .int (nI i)), (2, .int (nI cl)), (3, .int (nI g0)), (4, .int (nI h)), (5, .int (nI k))] → W p l e R s m args below meth c H locs 0 0 Q (F0 m 40 ls []) := by
  have hx := F.1.1
  have hb := F.1.2.1
  intro n
  induction n with
  | zero =>
    intro k kd a b pp M1 H locs ls hk hrk
    exact absurd hk (by omega)
  | succ n ih =>
    intro k kd a b pp M1 H locs ls hk hrk hD hC hH h17 hP hS hl
    refine lv_iload hx hb dX0_groupFor_40 (lv_at hl 5 rfl) ?_
    refine lv_bipush (v := nI 40) hx hb dX0_groupFor_42 (by decide) ?_
    refine gx_ge hx hb 75 (by omega) (by omega) dX0_groupFor_44 (by decide) (fun c_1 => ?_) (fun c_1 => ?_)
    · exact absurd c_1 (by omega)
    · refine lv_aload_n hx hb dX0_groupFor_47 rfl (lv_at hl 0 rfl) ?_
      refine g_get F hP 5 (by decide) (by decide) rfl q29 dX0_groupFor_48 ?_
      refine lv_bipush (v := nI 8) hx hb dX0_groupFor_51 (by decide) ?_
      refine lv_iload hx hb dX0_groupFor_53 (lv_at hl 4 rfl) ?_
      refine gx_mul hx hb dX0_groupFor_55 ?_
      refine lv_iload_n hx hb dX0_groupFor_56 rfl (lv_at hl 2 rfl) ?_
      refine gx_add hx hb dX0_groupFor_57 ?_
      refine g_iald F hP 5 32 (by decide) rfl rfl (by omega) (by decide) dX0_groupFor_58 ?_
      refine lv_iconst (v := 1) hx hb dX0_groupFor_59 (by decide) ?_
      refine lv_icmp_eq (tgt := 75) hx hb dX0_groupFor_60 (by decide) (fun c1 => ?_) (fun c1 => ?_)
      · exact exit M1 H locs ls hD hC c1 hP hS (lv_sub hl [0, 1, 2, 3, 4] rfl)
      · refine lv_aload_n hx hb dX0_groupFor_63 rfl (lv_at hl 0 rfl) ?_
        refine lv_iload_n hx hb dX0_groupFor_64 rfl (lv_at hl 2 rfl) ?_
        refine g_calli (k := 1) F hP hS (m0_moveOn l E hap nx M1 mm hD hC cl kd a b pp h hc hH hh h17) (lw_V q101 q103 qs1 q14 q104) ⟨rfl, rfl⟩ (by decide +kernel) ⟨hR.1, hR.2⟩ rfl hl.1 rfl (Nat.le_of_ble_eq_true rfl) dX0_groupFor_65 (fun r u H locs hw_r hP hS => ?_)
        obtain ⟨-, hD2, hC2, ⟨kd2, a2, b2, pp2, hH2, hr2⟩, h17u, h19u⟩ := hw_r
        have hr2 := hr2 (fun z => c1 ((rk_1 hH hh).mp z))
        refine lv_pop hx hb dX0_groupFor_68 rfl ?_
        refine lv_iinc (v := nI (k + 1)) (lv' := [(5, .int (nI (k + 1))), (0, .ref E.2.2.1), (1, .int (nI i)), (2, .int (nI cl)), (3, .int (nI g0)), (4, .int (nI h))]) hx hb dX0_groupFor_69 hl (k := 5) rfl (nI_add k 1) (by decide) rfl (fun ls hl => ?_)
        refine lv_goto (tgt := 40) hx hb dX0_groupFor_72 (by decide) ?_
        exact ih (k + 1) kd2 a2 b2 pp2 u H locs ls (by omega) (by omega) hD2 hC2 hH2 (by rw [h17u]; exact h17) hP hS (lv_sub hl [1, 2, 3, 4, 5, 0] rfl)
end
set_option maxHeartbeats 4000000 in
theorem m0_groupFor (l : Launch) (E : Cx) (hap : gApE 20 E) (nx : Int32) (M : SM) (mm : SM) (hD : Dur M) (hC : Core M mm) (i cl : Nat) (hi : i < 4) (hc : cl < 8) : Met l yX0_groupFor (ws_ yX0_groupFor cX0_groupFor 6 (some .int)) ({ frames := 5, cells := 0, slots := 0, locals := 125 }) (va_Pc [.ref E.2.2.1, .int (nI i), .int (nI cl)] (B0 E M nx)) (va_Qi (fun r u => ∃ g, g < 4 ∧ r = nI g ∧ Dur u ∧ Core u mm ∧ u 5 (8 * g + cl) = 1) (Z0 E nx) (gAE 20 E)) 0 0 (gAE 20 E) := by
  refine g_start (own := RX0) (T := TX0) (N := 21) (by decide) rfl hap rfl in_X0 (Nat.le_of_ble_eq_true rfl) ?_
  intro p e s m below meth c ls F hr hlocks hP hS hl
  have hx := F.1.1
  have hb := F.1.2.1
  have hl : lv_has ls 6 [(0, .ref E.2.2.1), (1, .int (nI i)), (2, .int (nI cl))] := hl
  obtain ⟨g0, hg0, e19⟩ := hC.2.2 (8 * i + cl) (by omega)
  obtain ⟨h, hh, e17, -⟩ := hC.2.1 cl hc
  obtain ⟨kd, a, b, pp, hH⟩ := hC.1 cl hc
  refine lv_aload_n hx hb dX0_groupFor_0 rfl (lv_at hl 0 rfl) ?_
  refine g_get F hP 19 (by decide) (by decide) rfl q43 dX0_groupFor_1 ?_
  refine lv_bipush (v := nI 8) hx hb dX0_groupFor_4 (by decide) ?_
  refine lv_iload_n hx hb dX0_groupFor_6 rfl (lv_at hl 1 rfl) ?_
  refine gx_mul hx hb dX0_groupFor_7 ?_
  refine lv_iload_n hx hb dX0_groupFor_8 rfl (lv_at hl 2 rfl) ?_
  refine gx_add hx hb dX0_groupFor_9 ?_
  refine g_iald F hP 19 32 (by decide) rfl rfl (by omega) (by decide) dX0_groupFor_10 ?_
  refine gx_re (y := nI g0) e19 ?_
  refine lv_istore_n (lv' := [(3, .int (nI g0)), (0, .ref E.2.2.1), (1, .int (nI i)), (2, .int (nI cl))]) hx hb dX0_groupFor_11 rfl hl (by decide) rfl (fun ls hl => ?_)
  refine lv_aload_n hx hb dX0_groupFor_12 rfl (lv_at hl 1 rfl) ?_
  refine g_get F hP 5 (by decide) (by decide) rfl q29 dX0_groupFor_13 ?_
  refine lv_bipush (v := nI 8) hx hb dX0_groupFor_16 (by decide) ?_
  refine lv_iload_n hx hb dX0_groupFor_18 rfl (lv_at hl 0 rfl) ?_
  refine gx_mul hx hb dX0_groupFor_19 ?_
  refine lv_iload_n hx hb dX0_groupFor_20 rfl (lv_at hl 3 rfl) ?_
  refine gx_add hx hb dX0_groupFor_21 ?_
  refine g_iald F hP 5 32 (by decide) rfl rfl (by omega) (by decide) dX0_groupFor_22 ?_
  refine lv_iconst (v := 1) hx hb dX0_groupFor_23 (by decide) ?_
  refine lv_icmp_ne (tgt := 29) hx hb dX0_groupFor_24 (by decide) (fun c1 => ?_) (fun c1 => ?_)
  · refine lv_aload_n hx hb dX0_groupFor_29 rfl (lv_at hl 1 rfl) ?_
    refine g_get F hP 17 (by decide) (by decide) rfl q41 dX0_groupFor_30 ?_
    refine lv_iload_n hx hb dX0_groupFor_33 rfl (lv_at hl 3 rfl) ?_
    refine g_iald F hP 17 8 (by decide) rfl rfl (by omega) (by decide) dX0_groupFor_34 ?_
    refine gx_re (y := nI h) e17 ?_
    refine lv_istore (lv' := [(4, .int (nI h)), (3, .int (nI g0)), (0, .ref E.2.2.1), (1, .int (nI i)), (2, .int (nI cl))]) hx hb dX0_groupFor_35 hl (by decide) rfl (fun ls hl => ?_)
    refine lv_iconst (v := nI 0) hx hb dX0_groupFor_37 (by decide) ?_
    refine lv_istore (lv' := [(5, .int (nI 0)), (4, .int (nI h)), (3, .int (nI g0)), (0, .ref E.2.2.1), (1, .int (nI i)), (2, .int (nI cl))]) hx hb dX0_groupFor_38 hl (by decide) rfl (fun ls hl => ?_)
    refine lp_groupFor hap F hi hc hh mm ⟨Nat.le_refl _, Nat.le_refl _⟩ (fun M1 H locs ls hD1 hC1 h1 hP hS hl => ?_) 22 0 kd a b pp M _ _ _ (by omega) (rk_le hH) hD hC hH e17 hP hS (lv_sub hl [3, 4, 5, 2, 1, 0] rfl)
    refine lv_aload_n hx hb dX0_groupFor_75 rfl (lv_at hl 0 rfl) ?_
    refine g_get F hP 19 (by decide) (by decide) rfl q43 dX0_groupFor_76 ?_
    refine lv_bipush (v := nI 8) hx hb dX0_groupFor_79 (by decide) ?_
    refine lv_iload_n hx hb dX0_groupFor_81 rfl (lv_at hl 1 rfl) ?_
    refine gx_mul hx hb dX0_groupFor_82 ?_
    refine lv_iload_n hx hb dX0_groupFor_83 rfl (lv_at hl 2 rfl) ?_
    refine gx_add hx hb dX0_groupFor_84 ?_
    refine lv_iload hx hb dX0_groupFor_85 (lv_at hl 4 rfl) ?_
    refine g_iast F (fun _ h => h) hP hS 19 32 (by decide) rfl rfl (by omega) (by decide) dX0_groupFor_87 (fun M2 H locs eM2 hP hS => ?_)
    refine lv_iload hx hb dX0_groupFor_88 (lv_at hl 4 rfl) ?_
    exact g_iret hx hb hr hlocks hS M2 ⟨h, hh, rfl, by rw [eM2]; exact Dur_17 hD1 (by omega), by rw [eM2]; exact Core_route hC1 hh, by rw [eM2, sU_k (by omega)]; exact h1⟩ (gZ_of hP) dX0_groupFor_90
  · refine lv_iload_n hx hb dX0_groupFor_27 rfl (lv_at hl 0 rfl) ?_
    exact g_iret hx hb hr hlocks hS M ⟨g0, hg0, rfl, hD, hC, c1⟩ (gZ_of hP) dX0_groupFor_28
end
section
/-! PURE PART 7: a request, on the model and on the groups -/
def mDone (m : SM) (q : Nat) (num ans : Int32) : SM := sU (sU (sU m 2 q 1) 3 q num) 4 q ans
def mGet (m : SM) (k : Nat) : Int32 := if m 0 k = 0 then 0 else m 1 k
def reqR (m : SM) (q : Nat) (num ans : Int32) : Int32 := if m 2 q = 0 ∨ m 3 q < num then ans else if m 3 q = num then m 4 q else -1
def reqM (m : SM) (q : Nat) (num ans : Int32) (m1 : SM) : SM := if m 2 q = 0 ∨ m 3 q < num then mDone m1 q num ans else m
theorem and7 {k : Nat} (h : k < 2147483648) : nI k &&& nI 7 = nI (k % 8) := pk_andN (by omega) 3 (by decide)
theorem fit_nI {i k : Nat} (hi : i < 4) (hk : k < 32) : fitP (nI i) (nI k) := ⟨nI_pos (by omega), nI_nlt (by omega) (by omega), nI_pos (by omega), nI_nlt (by omega) (by omega)⟩
theorem fit_of {x y : Int32} (h : fitP x y) : ∃ i k, i < 4 ∧ k < 32 ∧ x = nI i ∧ y = nI k := by
  obtain ⟨h1, h2, h3, h4⟩ := h
  obtain ⟨i, hi, ei⟩ := nI_of2 (M := nI 3) (n := 3) (by decide) h1 (Int32.not_lt.mp h2)
  obtain ⟨k, hk, ek⟩ := nI_of2 (M := nI 31) (n := 31) (by decide) h3 (Int32.not_lt.mp h4)
  exact ⟨i, k, by omega, by omega, ei, ek⟩
theorem Hold_key {M m : SM} {c h k : Nat} (H : Hold M m c h) (hk : k < 32) (hc : k % 8 = c) : M 1 (32 * h + k) = m 0 k ∧ (m 0 k ≠ 0 → M 0 (32 * h + k) = m 1 k) := by
  have := H.1 (k / 8) (by omega)
  rw [show c + 8 * (k / 8) = k by omega] at this
  exact this
theorem mGet_of {M m : SM} {c h k : Nat} (H : Hold M m c h) (hk : k < 32) (hc : k % 8 = c) : (if M 1 (32 * h + k) = 0 then 0 else M 0 (32 * h + k)) = mGet m k := by
  obtain ⟨h1, h2⟩ := Hold_key H hk hc
  unfold mGet
  rw [h1]
  split
  · rfl
  · rename_i q; exact h2 q
theorem Core_do {M M1 M2 m m1 : SM} {c kd g b p k i : Nat} {v cv num ans : Int32} (hc : c < 8) (hk : k < 32) (hkc : k % 8 = c) (hi : i < 4) (hkd : kd = 0 ∨ kd = 3) (hC : Core M m) (hH : Ph M m c kd g b p) (hv1 : vis (ap M g 0 k v cv) M1) (hv2 : vis (ap M1 g 1 (4 * c + i) num ans) M2) (hm0 : m1 0 k = if cv = 1 then 1 else 0) (hm1 : m1 0 k ≠ 0 → m1 1 k = v) (hmo : ∀ kk j, (2 ≤ kk ∨ j ≠ k) → m1 kk j = m kk j) : Core M2 (mDone m1 (4 * c + i) num ans) := by
  have hm2 : ∀ kk j, (kk < 2 ∨ 5 ≤ kk ∨ j ≠ 4 * c + i) → mDone m1 (4 * c + i) num ans kk j = m1 kk j := fun kk j h => by
    simp only [mDone, sU]
    rw [if_neg (by omega), if_neg (by omega), if_neg (by omega)]
  have e2 : ∀ kk j, kk < 6 ∨ 17 ≤ kk → M2 kk j = ap M1 g 1 (4 * c + i) num ans kk j := hv2
  have e1 : ∀ kk j, kk < 6 ∨ 17 ≤ kk → M1 kk j = ap M g 0 k v cv kk j := hv1
  have o2 : ∀ kk j, kk < 6 ∨ 17 ≤ kk → (kk < 2 ∨ 5 ≤ kk ∨ j ≠ 32 * g + (4 * c + i)) → M2 kk j = M1 kk j := fun kk j h1 h2 => by
    rw [e2 kk j h1, ap1]
    simp only [sU]
    rw [if_neg (by omega), if_neg (by omega), if_neg (by omega)]
  have o1 : ∀ kk j, kk < 6 ∨ 17 ≤ kk → (2 ≤ kk ∨ j ≠ 32 * g + k) → M1 kk j = M kk j := fun kk j h1 h2 => by
    rw [e1 kk j h1, ap0]
    simp only [sU]
    rw [if_neg (by omega), if_neg (by omega)]
  obtain ⟨⟨h1, h2, h3, h4⟩, h5, h6, h7, h8⟩ := hH
  have sD : ∀ g', g' ≠ g → sameD M M2 c g' := fun g' hg' => ⟨fun kk u a b => by rw [o2 _ _ (by omega) (by omega), o1 _ _ (by omega) (by omega)], fun kk j a b d => by rw [o2 _ _ (by omega) (by omega), o1 _ _ (by omega) (by omega)]⟩
  refine Core_step (c := c) hC (fun c' hc' hne => ⟨?_, ?_⟩) (kd := kd) (a := g) (b := b) (p := p) ⟨⟨h1, h2, h3, h4⟩, fun g' hg' => ?_, ⟨fun u hu => ?_, fun j hj => ?_⟩, fun g' hg' q => Clr_same (sD g' ?_) (h7 g' hg' q), fun q => absurd q (by omega)⟩ (fun j => ?_) (fun j => ?_) (fun j => ?_)
  · exact sameC_trans (sameC_trans (ap_C hc hc' hne (Or.inl ⟨rfl, hk, hkc⟩)) (vis_C hv1 c')) (sameC_trans (ap_C hc hc' hne (Or.inr (Or.inl ⟨rfl, by omega, by omega⟩))) (vis_C hv2 c'))
  · exact ⟨fun kk u a b => by rw [hm2 _ _ (by omega), hmo _ _ (by omega)], fun kk j a b d => by rw [hm2 _ _ (by omega), hmo _ _ (by omega)]⟩
  · rw [o2 _ _ (by omega) (by omega), o1 _ _ (by omega) (by omega)]; exact h5 g' hg'
  · rw [o2 _ _ (by omega) (by omega), o2 _ _ (by omega) (by omega), hm2 _ _ (by omega), hm2 _ _ (by omega)]
    by_cases e : c + 8 * u = k
    · rw [e, e1 _ _ (by omega), e1 _ _ (by omega), ap0, sU_s, sU_k (by omega), sU_s, hm0]
      exact ⟨rfl, fun q => (hm1 (by rw [hm0]; exact q)).symm⟩
    · rw [o1 _ _ (by omega) (by omega), o1 _ _ (by omega) (by omega), hmo _ _ (by omega), hmo _ _ (by omega)]
      exact h6.1 u hu
  · by_cases e : j = i
    · subst e
      rw [e2 _ _ (by omega), e2 _ _ (by omega), e2 _ _ (by omega), ap1]
      simp [mDone, sU]
    · rw [o2 _ _ (by omega) (by omega), o2 _ _ (by omega) (by omega), o2 _ _ (by omega) (by omega), o1 _ _ (by omega) (by omega), o1 _ _ (by omega) (by omega), o1 _ _ (by omega) (by omega), hm2 _ _ (by omega), hm2 _ _ (by omega), hm2 _ _ (by omega), hmo _ _ (by omega), hmo _ _ (by omega), hmo _ _ (by omega)]
      exact h6.2 j hj
  · intro e
    subst e
    rw [sg_0] at q
    exact q.1 rfl
  · rw [o2 _ _ (by omega) (by omega), o1 _ _ (by omega) (by omega)]
  · rw [o2 _ _ (by omega) (by omega), o1 _ _ (by omega) (by omega)]
  · rw [hm2 _ _ (by omega), hmo _ _ (by omega)]
end
section
set_option maxRecDepth 100000
set_option maxHeartbeats 4000000 in
theorem m0_put_bad (l : Launch) (E : Cx) (hap : gApE 20 E) (nx : Int32) (M : SM) (mm : SM) (hD : Dur M) (hC : Core M mm) (x y : Int32) (num v : Int32) (hbad : ¬ fitP x y) : Met l yX0_put (ws_ yX0_put cX0_put 8 (some .int)) ({ frames := 6, cells := 0, slots := 0, locals := 150 }) (va_Pc [.ref E.2.2.1, .int x, .int num, .int y, .int v] (B0 E M nx)) (va_Qi (fun r u => r = -2 ∧ Dur u ∧ Core u mm) (Z0 E nx) (gAE 20 E)) 0 0 (gAE 20 E) := by
  refine g_start (own := RX0) (T := TX0) (N := 21) (by decide) rfl hap rfl in_X0 (Nat.le_of_ble_eq_true rfl) ?_
  intro p e s m below meth c ls F hr hlocks hP hS hl
  have hx := F.1.1
  have hb := F.1.2.1
  have hl : lv_has ls 8 [(0, .ref E.2.2.1), (1, .int x), (2, .int num), (3, .int y), (4, .int v)] := hl
  refine lv_iload_n hx hb dX0_put_0 rfl (lv_at hl 1 rfl) ?_
  refine lv_iload_n hx hb dX0_put_1 rfl (lv_at hl 3 rfl) ?_
  refine g_callS (k := 2) F hP hS (m0_fits l x y) (lw_S q94 q95 q14 q96) ⟨rfl, rfl⟩ (by decide +kernel) ⟨Nat.le_of_ble_eq_true rfl, Nat.le_of_ble_eq_true rfl⟩ rfl hl.1 rfl (Nat.le_of_ble_eq_true rfl) dX0_put_2 (fun r0 H locs hw_r0 hP hS => ?_)
  have e0 : r0 = 0 := by
    rcases hw_r0 with ⟨-, q⟩ | ⟨q, -⟩
    · exact absurd q hbad
    · exact q
  subst e0
  refine lv_if_ne (tgt := 11) hx hb dX0_put_5 (by decide) (fun c_1 => ?_) (fun c_1 => ?_)
  · exact absurd rfl c_1
  · refine lv_bipush (v := (-2)) hx hb dX0_put_8 (by decide) ?_
    exact g_iret hx hb hr hlocks hS M ⟨rfl, hD, hC⟩ (gZ_of hP) dX0_put_10
set_option maxHeartbeats 4000000 in
theorem m0_put_ok (l : Launch) (E : Cx) (hap : gApE 20 E) (nx : Int32) (M : SM) (mm : SM) (hD : Dur M) (hC : Core M mm) (i k : Nat) (num v : Int32) (hi : i < 4) (hk : k < 32) : Met l yX0_put (ws_ yX0_put cX0_put 8 (some .int)) ({ frames := 6, cells := 0, slots := 0, locals := 150 }) (va_Pc [.ref E.2.2.1, .int (nI i), .int num, .int (nI k), .int v] (B0 E M nx)) (va_Qi (fun r u => r = reqR mm (4 * (k % 8) + i) num (mGet mm k) ∧ Dur u ∧ Core u (reqM mm (4 * (k % 8) + i) num (mGet mm k) (sU (sU mm 0 k 1) 1 k v))) (Z0 E nx) (gAE 20 E)) 0 0 (gAE 20 E) := by
  refine g_start (own := RX0) (T := TX0) (N := 21) (by decide) rfl hap rfl in_X0 (Nat.le_of_ble_eq_true rfl) ?_
  intro p e s m below meth c ls F hr hlocks hP hS hl
  have hx := F.1.1
  have hb := F.1.2.1
  have hl : lv_has ls 8 [(0, .ref E.2.2.1), (1, .int (nI i)), (2, .int num), (3, .int (nI k)), (4, .int v)] := hl
  refine lv_iload_n hx hb dX0_put_0 rfl (lv_at hl 1 rfl) ?_
  refine lv_iload_n hx hb dX0_put_1 rfl (lv_at hl 3 rfl) ?_
  refine g_callS (k := 2) F hP hS (m0_fits l (nI i) (nI k)) (lw_S q94 q95 q14 q96) ⟨rfl, rfl⟩ (by decide +kernel) ⟨Nat.le_of_ble_eq_true rfl, Nat.le_of_ble_eq_true rfl⟩ rfl hl.1 rfl (Nat.le_of_ble_eq_true rfl) dX0_put_2 (fun r0 H locs hw_r0 hP hS => ?_)
  have e0 : r0 = 1 := by
    rcases hw_r0 with ⟨q, -⟩ | ⟨-, q⟩
    · exact q
    · exact absurd (fit_nI hi hk) q
  subst e0
  refine lv_if_ne (tgt := 11) hx hb dX0_put_5 (by decide) (fun c_2 => ?_) (fun c_2 => ?_)
  · refine lv_aload_n hx hb dX0_put_11 rfl (lv_at hl 0 rfl) ?_
    refine lv_iload_n hx hb dX0_put_12 rfl (lv_at hl 1 rfl) ?_
    refine lv_iload_n hx hb dX0_put_13 rfl (lv_at hl 3 rfl) ?_
    refine lv_bipush (v := nI 7) hx hb dX0_put_14 (by decide) ?_
    refine gx_and (a := 0) (j := (k % 8)) hx hb (and7 (by omega)) dX0_put_16 ?_
    refine g_calli (k := 2) F hP hS (m0_groupFor l E hap nx M mm hD hC i (k % 8) hi (by omega)) (lw_V q97 q99 qs0 q14 q100) ⟨rfl, rfl⟩ (by decide +kernel) ⟨Nat.le_of_ble_eq_true rfl, Nat.le_of_ble_eq_true rfl⟩ rfl hl.1 rfl (Nat.le_of_ble_eq_true rfl) dX0_put_17 (fun r1 u H locs hw_r1 hP hS => ?_)
    obtain ⟨g, hg, er, hD1, hC1, h1⟩ := hw_r1
    subst er
    obtain ⟨kd, a, b, pp, hH⟩ := hC1.1 (k % 8) (by omega)
    obtain ⟨ga, hkd⟩ := Ph_serve hH hg h1
    subst ga
    have hHo := hH.2.2.1
    obtain ⟨hq2, hq34⟩ := hHo.2 i hi
    refine lv_istore (lv' := [(5, .int (nI g)), (0, .ref E.2.2.1), (1, .int (nI i)), (2, .int num), (3, .int (nI k)), (4, .int v)]) hx hb dX0_put_20 hl (by decide) rfl (fun ls hl => ?_)
    refine lv_bipush (v := nI 32) hx hb dX0_put_22 (by decide) ?_
    refine lv_iload hx hb dX0_put_24 (lv_at hl 0 rfl) ?_
    refine gx_mul hx hb dX0_put_26 ?_
    refine lv_iconst (v := nI 4) hx hb dX0_put_27 (by decide) ?_
    refine lv_iload_n hx hb dX0_put_28 rfl (lv_at hl 4 rfl) ?_
    refine lv_bipush (v := nI 7) hx hb dX0_put_29 (by decide) ?_
    refine gx_and (a := 0) (j := (k % 8)) hx hb (and7 (by omega)) dX0_put_31 ?_
    refine gx_mul hx hb dX0_put_32 ?_
    refine gx_add hx hb dX0_put_33 ?_
    refine lv_iload_n hx hb dX0_put_34 rfl (lv_at hl 2 rfl) ?_
    refine gx_add hx hb dX0_put_35 ?_
    refine gx_re (y := nI (32 * g + (4 * (k % 8) + i))) (congrArg nI (show ((32 * g) + (4 * ((k % 8)))) + i = 32 * g + (4 * (k % 8) + i) by omega)) ?_
    refine lv_istore (lv' := [(6, .int (nI (32 * g + (4 * (k % 8) + i)))), (5, .int (nI g)), (0, .ref E.2.2.1), (1, .int (nI i)), (2, .int num), (3, .int (nI k)), (4, .int v)]) hx hb dX0_put_36 hl (by decide) rfl (fun ls hl => ?_)
    refine lv_aload_n hx hb dX0_put_38 rfl (lv_at hl 2 rfl) ?_
    refine g_get F hP 2 (by decide) (by decide) rfl q26 dX0_put_39 ?_
    refine lv_iload hx hb dX0_put_42 (lv_at hl 0 rfl) ?_
    refine g_zald F hP 2 128 (by decide) rfl rfl (by omega) (by decide) dX0_put_44 ?_
    refine gx_re (y := mm 2 (4 * (k % 8) + i)) hq2 ?_
    refine lv_if_eq (tgt := 82) hx hb dX0_put_45 (by decide) (fun c2 => ?_) (fun c2 => ?_)
    · have hfr : mm 2 (4 * (k % 8) + i) = 0 ∨ mm 3 (4 * (k % 8) + i) < num := Or.inl c2
      refine lv_aload_n hx hb dX0_put_82 rfl (lv_at hl 2 rfl) ?_
      refine lv_iload hx hb dX0_put_83 (lv_at hl 1 rfl) ?_
      refine lv_iload_n hx hb dX0_put_85 rfl (lv_at hl 5 rfl) ?_
      refine g_calli (k := 2) F hP hS (m0_valueAt l E hap nx u g k hg hk) (lw_V q129 q131 qs8 q14 q132) ⟨rfl, rfl⟩ (by decide +kernel) ⟨Nat.le_of_ble_eq_true rfl, Nat.le_of_ble_eq_true rfl⟩ rfl hl.1 rfl (Nat.le_of_ble_eq_true rfl) dX0_put_86 (fun r2 u2 H locs hw_r2 hP hS => ?_)
      obtain ⟨er2, eu2⟩ := hw_r2
      rw [eu2] at hP
      rw [mGet_of hHo hk rfl] at er2
      subst er2
      refine lv_istore (lv' := [(7, .int (mGet mm k)), (6, .int (nI (32 * g + (4 * (k % 8) + i)))), (5, .int (nI g)), (0, .ref E.2.2.1), (1, .int (nI i)), (2, .int num), (3, .int (nI k)), (4, .int v)]) hx hb dX0_put_89 hl (by decide) rfl (fun ls hl => ?_)
      refine lv_aload_n hx hb dX0_put_91 rfl (lv_at hl 3 rfl) ?_
      refine lv_iload hx hb dX0_put_92 (lv_at hl 2 rfl) ?_
      refine lv_iconst (v := nI 0) hx hb dX0_put_94 (by decide) ?_
      refine lv_iload_n hx hb dX0_put_95 rfl (lv_at hl 6 rfl) ?_
      refine lv_iload hx hb dX0_put_96 (lv_at hl 7 rfl) ?_
      refine lv_iconst (v := 1) hx hb dX0_put_98 (by decide) ?_
      refine g_callv (k := 5) F hP hS (m0_write l E hap nx u hD1 g 0 k v 1 hg (by unfold okE; omega)) (lw_V q109 q111 qs3 q14 q112) ⟨rfl, rfl⟩ (by decide +kernel) ⟨Nat.le_of_ble_eq_true rfl, Nat.le_of_ble_eq_true rfl⟩ rfl hl.1 rfl (Nat.le_of_ble_eq_true rfl) dX0_put_99 (fun u3 H locs hw_u3 hP hS => ?_)
      refine lv_aload_n hx hb dX0_put_102 rfl (lv_at hl 3 rfl) ?_
      refine lv_iload hx hb dX0_put_103 (lv_at hl 2 rfl) ?_
      refine lv_iconst (v := nI 1) hx hb dX0_put_105 (by decide) ?_
      refine lv_iconst (v := nI 4) hx hb dX0_put_106 (by decide) ?_
      refine lv_iload_n hx hb dX0_put_107 rfl (lv_at hl 6 rfl) ?_
      refine lv_bipush (v := nI 7) hx hb dX0_put_108 (by decide) ?_
      refine gx_and (a := 0) (j := (k % 8)) hx hb (and7 (by omega)) dX0_put_110 ?_
      refine gx_mul hx hb dX0_put_111 ?_
      refine lv_iload_n hx hb dX0_put_112 rfl (lv_at hl 4 rfl) ?_
      refine gx_add hx hb dX0_put_113 ?_
      refine lv_iload_n hx hb dX0_put_114 rfl (lv_at hl 5 rfl) ?_
      refine lv_iload hx hb dX0_put_115 (lv_at hl 0 rfl) ?_
      refine g_callv (k := 5) F hP hS (m0_write l E hap nx u3 hw_u3.1 g 1 (4 * (k % 8) + i) num (mGet mm k) hg (by unfold okE; omega)) (lw_V q109 q111 qs3 q14 q112) ⟨rfl, rfl⟩ (by decide +kernel) ⟨Nat.le_of_ble_eq_true rfl, Nat.le_of_ble_eq_true rfl⟩ rfl hl.1 rfl (Nat.le_of_ble_eq_true rfl) dX0_put_117 (fun u4 H locs hw_u4 hP hS => ?_)
      refine lv_iload hx hb dX0_put_120 (lv_at hl 0 rfl) ?_
      exact g_iret hx hb hr hlocks hS u4 ⟨by rw [reqR, if_pos hfr], hw_u4.1, by rw [reqM, if_pos hfr]; exact Core_do (by omega) hk rfl hi hkd hC1 hH hw_u3.2 hw_u4.2 (by rw [sU_k (by omega), sU_s]; rfl) (fun _ => sU_s _ _ _ _) (fun kk j q => by simp only [sU]; rw [if_neg (by omega), if_neg (by omega)])⟩ (gZ_of hP) dX0_put_122
    · obtain ⟨hq3, hq4⟩ := hq34 c2
      refine lv_iload_n hx hb dX0_put_48 rfl (lv_at hl 4 rfl) ?_
      refine lv_aload_n hx hb dX0_put_49 rfl (lv_at hl 2 rfl) ?_
      refine g_get F hP 3 (by decide) (by decide) rfl q27 dX0_put_50 ?_
      refine lv_iload hx hb dX0_put_53 (lv_at hl 0 rfl) ?_
      refine g_iald F hP 3 128 (by decide) rfl rfl (by omega) (by decide) dX0_put_55 ?_
      refine gx_re (y := mm 3 (4 * (k % 8) + i)) hq3 ?_
      refine lv_icmp_gt (tgt := 82) hx hb dX0_put_56 (by decide) (fun c3 => ?_) (fun c3 => ?_)
      · have hfr : mm 2 (4 * (k % 8) + i) = 0 ∨ mm 3 (4 * (k % 8) + i) < num := Or.inr c3
        refine lv_aload_n hx hb dX0_put_82 rfl (lv_at hl 2 rfl) ?_
        refine lv_iload hx hb dX0_put_83 (lv_at hl 1 rfl) ?_
        refine lv_iload_n hx hb dX0_put_85 rfl (lv_at hl 5 rfl) ?_
        refine g_calli (k := 2) F hP hS (m0_valueAt l E hap nx u g k hg hk) (lw_V q129 q131 qs8 q14 q132) ⟨rfl, rfl⟩ (by decide +kernel) ⟨Nat.le_of_ble_eq_true rfl, Nat.le_of_ble_eq_true rfl⟩ rfl hl.1 rfl (Nat.le_of_ble_eq_true rfl) dX0_put_86 (fun r2 u2 H locs hw_r2 hP hS => ?_)
        obtain ⟨er2, eu2⟩ := hw_r2
        rw [eu2] at hP
        rw [mGet_of hHo hk rfl] at er2
        subst er2
        refine lv_istore (lv' := [(7, .int (mGet mm k)), (6, .int (nI (32 * g + (4 * (k % 8) + i)))), (5, .int (nI g)), (0, .ref E.2.2.1), (1, .int (nI i)), (2, .int num), (3, .int (nI k)), (4, .int v)]) hx hb dX0_put_89 hl (by decide) rfl (fun ls hl => ?_)
        refine lv_aload_n hx hb dX0_put_91 rfl (lv_at hl 3 rfl) ?_
        refine lv_iload hx hb dX0_put_92 (lv_at hl 2 rfl) ?_
        refine lv_iconst (v := nI 0) hx hb dX0_put_94 (by decide) ?_
        refine lv_iload_n hx hb dX0_put_95 rfl (lv_at hl 6 rfl) ?_
        refine lv_iload hx hb dX0_put_96 (lv_at hl 7 rfl) ?_
        refine lv_iconst (v := 1) hx hb dX0_put_98 (by decide) ?_
        refine g_callv (k := 5) F hP hS (m0_write l E hap nx u hD1 g 0 k v 1 hg (by unfold okE; omega)) (lw_V q109 q111 qs3 q14 q112) ⟨rfl, rfl⟩ (by decide +kernel) ⟨Nat.le_of_ble_eq_true rfl, Nat.le_of_ble_eq_true rfl⟩ rfl hl.1 rfl (Nat.le_of_ble_eq_true rfl) dX0_put_99 (fun u3 H locs hw_u3 hP hS => ?_)
        refine lv_aload_n hx hb dX0_put_102 rfl (lv_at hl 3 rfl) ?_
        refine lv_iload hx hb dX0_put_103 (lv_at hl 2 rfl) ?_
        refine lv_iconst (v := nI 1) hx hb dX0_put_105 (by decide) ?_
        refine lv_iconst (v := nI 4) hx hb dX0_put_106 (by decide) ?_
        refine lv_iload_n hx hb dX0_put_107 rfl (lv_at hl 6 rfl) ?_
        refine lv_bipush (v := nI 7) hx hb dX0_put_108 (by decide) ?_
        refine gx_and (a := 0) (j := (k % 8)) hx hb (and7 (by omega)) dX0_put_110 ?_
        refine gx_mul hx hb dX0_put_111 ?_
        refine lv_iload_n hx hb dX0_put_112 rfl (lv_at hl 4 rfl) ?_
        refine gx_add hx hb dX0_put_113 ?_
        refine lv_iload_n hx hb dX0_put_114 rfl (lv_at hl 5 rfl) ?_
        refine lv_iload hx hb dX0_put_115 (lv_at hl 0 rfl) ?_
        refine g_callv (k := 5) F hP hS (m0_write l E hap nx u3 hw_u3.1 g 1 (4 * (k % 8) + i) num (mGet mm k) hg (by unfold okE; omega)) (lw_V q109 q111 qs3 q14 q112) ⟨rfl, rfl⟩ (by decide +kernel) ⟨Nat.le_of_ble_eq_true rfl, Nat.le_of_ble_eq_true rfl⟩ rfl hl.1 rfl (Nat.le_of_ble_eq_true rfl) dX0_put_117 (fun u4 H locs hw_u4 hP hS => ?_)
        refine lv_iload hx hb dX0_put_120 (lv_at hl 0 rfl) ?_
        exact g_iret hx hb hr hlocks hS u4 ⟨by rw [reqR, if_pos hfr], hw_u4.1, by rw [reqM, if_pos hfr]; exact Core_do (by omega) hk rfl hi hkd hC1 hH hw_u3.2 hw_u4.2 (by rw [sU_k (by omega), sU_s]; rfl) (fun _ => sU_s _ _ _ _) (fun kk j q => by simp only [sU]; rw [if_neg (by omega), if_neg (by omega)])⟩ (gZ_of hP) dX0_put_122
      · have hfr : ¬ (mm 2 (4 * (k % 8) + i) = 0 ∨ mm 3 (4 * (k % 8) + i) < num) := fun q => q.elim c2 c3
        refine lv_iload_n hx hb dX0_put_59 rfl (lv_at hl 4 rfl) ?_
        refine lv_aload_n hx hb dX0_put_60 rfl (lv_at hl 2 rfl) ?_
        refine g_get F hP 3 (by decide) (by decide) rfl q27 dX0_put_61 ?_
        refine lv_iload hx hb dX0_put_64 (lv_at hl 0 rfl) ?_
        refine g_iald F hP 3 128 (by decide) rfl rfl (by omega) (by decide) dX0_put_66 ?_
        refine gx_re (y := mm 3 (4 * (k % 8) + i)) hq3 ?_
        refine lv_icmp_ne (tgt := 80) hx hb dX0_put_67 (by decide) (fun c4 => ?_) (fun c4 => ?_)
        · refine lv_iconst (v := (-1)) hx hb dX0_put_80 (by decide) ?_
          exact g_iret hx hb hr hlocks hS u ⟨by rw [reqR, if_neg hfr, if_neg (fun z => c4 z.symm)], hD1, by rw [reqM, if_neg hfr]; exact hC1⟩ (gZ_of hP) dX0_put_81
        · refine lv_aload_n hx hb dX0_put_70 rfl (lv_at hl 2 rfl) ?_
          refine g_get F hP 4 (by decide) (by decide) rfl q28 dX0_put_71 ?_
          refine lv_iload hx hb dX0_put_74 (lv_at hl 0 rfl) ?_
          refine g_iald F hP 4 128 (by decide) rfl rfl (by omega) (by decide) dX0_put_76 ?_
          refine gx_re (y := mm 4 (4 * (k % 8) + i)) hq4 ?_
          refine lv_goto (tgt := 81) hx hb dX0_put_77 (by decide) ?_
          exact g_iret hx hb hr hlocks hS u ⟨by rw [reqR, if_neg hfr, if_pos (by first | exact c4.symm | exact (Decidable.of_not_not c4).symm)], hD1, by rw [reqM, if_neg hfr]; exact hC1⟩ (gZ_of hP) dX0_put_81
  · exact absurd c_2 (by decide)
set_option maxHeartbeats 4000000 in
theorem m0_addTo_bad (l : Launch) (E : Cx) (hap : gApE 20 E) (nx : Int32) (M : SM) (mm : SM) (hD : Dur M) (hC : Core M mm) (x y : Int32) (num v : Int32) (hbad : ¬ fitP x y) : Met l yX0_addTo (ws_ yX0_addTo cX0_addTo 8 (some .int)) ({ frames := 6, cells := 0, slots := 0, locals := 150 }) (va_Pc [.ref E.2.2.1, .int x, .int num, .int y, .int v] (B0 E M nx)) (va_Qi (fun r u => r = -2 ∧ Dur u ∧ Core u mm) (Z0 E nx) (gAE 20 E)) 0 0 (gAE 20 E) := by
  refine g_start (own := RX0) (T := TX0) (N := 21) (by decide) rfl hap rfl in_X0 (Nat.le_of_ble_eq_true rfl) ?_
  intro p e s m below meth c ls F hr hlocks hP hS hl
  have hx := F.1.1
  have hb := F.1.2.1
  have hl : lv_has ls 8 [(0, .ref E.2.2.1), (1, .int x), (2, .int num), (3, .int y), (4, .int v)] := hl
  refine lv_iload_n hx hb dX0_addTo_0 rfl (lv_at hl 1 rfl) ?_
  refine lv_iload_n hx hb dX0_addTo_1 rfl (lv_at hl 3 rfl) ?_
  refine g_callS (k := 2) F hP hS (m0_fits l x y) (lw_S q94 q95 q14 q96) ⟨rfl, rfl⟩ (by decide +kernel) ⟨Nat.le_of_ble_eq_true rfl, Nat.le_of_ble_eq_true rfl⟩ rfl hl.1 rfl (Nat.le_of_ble_eq_true rfl) dX0_addTo_2 (fun r0 H locs hw_r0 hP hS => ?_)
  have e0 : r0 = 0 := by
    rcases hw_r0 with ⟨-, q⟩ | ⟨q, -⟩
    · exact absurd q hbad
    · exact q
  subst e0
  refine lv_if_ne (tgt := 11) hx hb dX0_addTo_5 (by decide) (fun c_3 => ?_) (fun c_3 => ?_)
  · exact absurd rfl c_3
  · refine lv_bipush (v := (-2)) hx hb dX0_addTo_8 (by decide) ?_
    exact g_iret hx hb hr hlocks hS M ⟨rfl, hD, hC⟩ (gZ_of hP) dX0_addTo_10
set_option maxHeartbeats 4000000 in
theorem m0_addTo_ok (l : Launch) (E : Cx) (hap : gApE 20 E) (nx : Int32) (M : SM) (mm : SM) (hD : Dur M) (hC : Core M mm) (i k : Nat) (num v : Int32) (hi : i < 4) (hk : k < 32) : Met l yX0_addTo (ws_ yX0_addTo cX0_addTo 8 (some .int)) ({ frames := 6, cells := 0, slots := 0, locals := 150 }) (va_Pc [.ref E.2.2.1, .int (nI i), .int num, .int (nI k), .int v] (B0 E M nx)) (va_Qi (fun r u => r = reqR mm (4 * (k % 8) + i) num (mGet mm k + v) ∧ Dur u ∧ Core u (reqM mm (4 * (k % 8) + i) num (mGet mm k + v) (sU (sU mm 0 k 1) 1 k (mGet mm k + v)))) (Z0 E nx) (gAE 20 E)) 0 0 (gAE 20 E) := by
  refine g_start (own := RX0) (T := TX0) (N := 21) (by decide) rfl hap rfl in_X0 (Nat.le_of_ble_eq_true rfl) ?_
  intro p e s m below meth c ls F hr hlocks hP hS hl
  have hx := F.1.1
  have hb := F.1.2.1
  have hl : lv_has ls 8 [(0, .ref E.2.2.1), (1, .int (nI i)), (2, .int num), (3, .int (nI k)), (4, .int v)] := hl
  refine lv_iload_n hx hb dX0_addTo_0 rfl (lv_at hl 1 rfl) ?_
  refine lv_iload_n hx hb dX0_addTo_1 rfl (lv_at hl 3 rfl) ?_
  refine g_callS (k := 2) F hP hS (m0_fits l (nI i) (nI k)) (lw_S q94 q95 q14 q96) ⟨rfl, rfl⟩ (by decide +kernel) ⟨Nat.le_of_ble_eq_true rfl, Nat.le_of_ble_eq_true rfl⟩ rfl hl.1 rfl (Nat.le_of_ble_eq_true rfl) dX0_addTo_2 (fun r0 H locs hw_r0 hP hS => ?_)
  have e0 : r0 = 1 := by
    rcases hw_r0 with ⟨q, -⟩ | ⟨-, q⟩
    · exact q
    · exact absurd (fit_nI hi hk) q
  subst e0
  refine lv_if_ne (tgt := 11) hx hb dX0_addTo_5 (by decide) (fun c_4 => ?_) (fun c_4 => ?_)
  · refine lv_aload_n hx hb dX0_addTo_11 rfl (lv_at hl 0 rfl) ?_
    refine lv_iload_n hx hb dX0_addTo_12 rfl (lv_at hl 1 rfl) ?_
    refine lv_iload_n hx hb dX0_addTo_13 rfl (lv_at hl 3 rfl) ?_
    refine lv_bipush (v := nI 7) hx hb dX0_addTo_14 (by decide) ?_
    refine gx_and (a := 0) (j := (k % 8)) hx hb (and7 (by omega)) dX0_addTo_16 ?_
    refine g_calli (k := 2) F hP hS (m0_groupFor l E hap nx M mm hD hC i (k % 8) hi (by omega)) (lw_V q97 q99 qs0 q14 q100) ⟨rfl, rfl⟩ (by decide +kernel) ⟨Nat.le_of_ble_eq_true rfl, Nat.le_of_ble_eq_true rfl⟩ rfl hl.1 rfl (Nat.le_of_ble_eq_true rfl) dX0_addTo_17 (fun r1 u H locs hw_r1 hP hS => ?_)
    obtain ⟨g, hg, er, hD1, hC1, h1⟩ := hw_r1
    subst er
    obtain ⟨kd, a, b, pp, hH⟩ := hC1.1 (k % 8) (by omega)
    obtain ⟨ga, hkd⟩ := Ph_serve hH hg h1
    subst ga
    have hHo := hH.2.2.1
    obtain ⟨hq2, hq34⟩ := hHo.2 i hi
    refine lv_istore (lv' := [(5, .int (nI g)), (0, .ref E.2.2.1), (1, .int (nI i)), (2, .int num), (3, .int (nI k)), (4, .int v)]) hx hb dX0_addTo_20 hl (by decide) rfl (fun ls hl => ?_)
    refine lv_bipush (v := nI 32) hx hb dX0_addTo_22 (by decide) ?_
    refine lv_iload hx hb dX0_addTo_24 (lv_at hl 0 rfl) ?_
    refine gx_mul hx hb dX0_addTo_26 ?_
    refine lv_iconst (v := nI 4) hx hb dX0_addTo_27 (by decide) ?_
    refine lv_iload_n hx hb dX0_addTo_28 rfl (lv_at hl 4 rfl) ?_
    refine lv_bipush (v := nI 7) hx hb dX0_addTo_29 (by decide) ?_
    refine gx_and (a := 0) (j := (k % 8)) hx hb (and7 (by omega)) dX0_addTo_31 ?_
    refine gx_mul hx hb dX0_addTo_32 ?_
    refine gx_add hx hb dX0_addTo_33 ?_
    refine lv_iload_n hx hb dX0_addTo_34 rfl (lv_at hl 2 rfl) ?_
    refine gx_add hx hb dX0_addTo_35 ?_
    refine gx_re (y := nI (32 * g + (4 * (k % 8) + i))) (congrArg nI (show ((32 * g) + (4 * ((k % 8)))) + i = 32 * g + (4 * (k % 8) + i) by omega)) ?_
    refine lv_istore (lv' := [(6, .int (nI (32 * g + (4 * (k % 8) + i)))), (5, .int (nI g)), (0, .ref E.2.2.1), (1, .int (nI i)), (2, .int num), (3, .int (nI k)), (4, .int v)]) hx hb dX0_addTo_36 hl (by decide) rfl (fun ls hl => ?_)
    refine lv_aload_n hx hb dX0_addTo_38 rfl (lv_at hl 2 rfl) ?_
    refine g_get F hP 2 (by decide) (by decide) rfl q26 dX0_addTo_39 ?_
    refine lv_iload hx hb dX0_addTo_42 (lv_at hl 0 rfl) ?_
    refine g_zald F hP 2 128 (by decide) rfl rfl (by omega) (by decide) dX0_addTo_44 ?_
    refine gx_re (y := mm 2 (4 * (k % 8) + i)) hq2 ?_
    refine lv_if_eq (tgt := 82) hx hb dX0_addTo_45 (by decide) (fun c2 => ?_) (fun c2 => ?_)
    · have hfr : mm 2 (4 * (k % 8) + i) = 0 ∨ mm 3 (4 * (k % 8) + i) < num := Or.inl c2
      refine lv_aload_n hx hb dX0_addTo_82 rfl (lv_at hl 2 rfl) ?_
      refine lv_iload hx hb dX0_addTo_83 (lv_at hl 1 rfl) ?_
      refine lv_iload_n hx hb dX0_addTo_85 rfl (lv_at hl 5 rfl) ?_
      refine g_calli (k := 2) F hP hS (m0_valueAt l E hap nx u g k hg hk) (lw_V q129 q131 qs8 q14 q132) ⟨rfl, rfl⟩ (by decide +kernel) ⟨Nat.le_of_ble_eq_true rfl, Nat.le_of_ble_eq_true rfl⟩ rfl hl.1 rfl (Nat.le_of_ble_eq_true rfl) dX0_addTo_86 (fun r2 u2 H locs hw_r2 hP hS => ?_)
      obtain ⟨er2, eu2⟩ := hw_r2
      rw [eu2] at hP
      rw [mGet_of hHo hk rfl] at er2
      subst er2
      refine lv_iload hx hb dX0_addTo_89 (lv_at hl 6 rfl) ?_
      refine lv_iadd hx hb dX0_addTo_91 ?_
      refine lv_istore (lv' := [(7, .int ((mGet mm k) + v)), (6, .int (nI (32 * g + (4 * (k % 8) + i)))), (5, .int (nI g)), (0, .ref E.2.2.1), (1, .int (nI i)), (2, .int num), (3, .int (nI k)), (4, .int v)]) hx hb dX0_addTo_92 hl (by decide) rfl (fun ls hl => ?_)
      refine lv_aload_n hx hb dX0_addTo_94 rfl (lv_at hl 3 rfl) ?_
      refine lv_iload hx hb dX0_addTo_95 (lv_at hl 2 rfl) ?_
      refine lv_iconst (v := nI 0) hx hb dX0_addTo_97 (by decide) ?_
      refine lv_iload_n hx hb dX0_addTo_98 rfl (lv_at hl 6 rfl) ?_
      refine lv_iload hx hb dX0_addTo_99 (lv_at hl 0 rfl) ?_
      refine lv_iconst (v := 1) hx hb dX0_addTo_101 (by decide) ?_
      refine g_callv (k := 5) F hP hS (m0_write l E hap nx u hD1 g 0 k (mGet mm k + v) 1 hg (by unfold okE; omega)) (lw_V q109 q111 qs3 q14 q112) ⟨rfl, rfl⟩ (by decide +kernel) ⟨Nat.le_of_ble_eq_true rfl, Nat.le_of_ble_eq_true rfl⟩ rfl hl.1 rfl (Nat.le_of_ble_eq_true rfl) dX0_addTo_102 (fun u3 H locs hw_u3 hP hS => ?_)
      refine lv_aload_n hx hb dX0_addTo_105 rfl (lv_at hl 3 rfl) ?_
      refine lv_iload hx hb dX0_addTo_106 (lv_at hl 2 rfl) ?_
      refine lv_iconst (v := nI 1) hx hb dX0_addTo_108 (by decide) ?_
      refine lv_iconst (v := nI 4) hx hb dX0_addTo_109 (by decide) ?_
      refine lv_iload_n hx hb dX0_addTo_110 rfl (lv_at hl 6 rfl) ?_
      refine lv_bipush (v := nI 7) hx hb dX0_addTo_111 (by decide) ?_
      refine gx_and (a := 0) (j := (k % 8)) hx hb (and7 (by omega)) dX0_addTo_113 ?_
      refine gx_mul hx hb dX0_addTo_114 ?_
      refine lv_iload_n hx hb dX0_addTo_115 rfl (lv_at hl 4 rfl) ?_
      refine gx_add hx hb dX0_addTo_116 ?_
      refine lv_iload_n hx hb dX0_addTo_117 rfl (lv_at hl 5 rfl) ?_
      refine lv_iload hx hb dX0_addTo_118 (lv_at hl 0 rfl) ?_
      refine g_callv (k := 5) F hP hS (m0_write l E hap nx u3 hw_u3.1 g 1 (4 * (k % 8) + i) num (mGet mm k + v) hg (by unfold okE; omega)) (lw_V q109 q111 qs3 q14 q112) ⟨rfl, rfl⟩ (by decide +kernel) ⟨Nat.le_of_ble_eq_true rfl, Nat.le_of_ble_eq_true rfl⟩ rfl hl.1 rfl (Nat.le_of_ble_eq_true rfl) dX0_addTo_120 (fun u4 H locs hw_u4 hP hS => ?_)
      refine lv_iload hx hb dX0_addTo_123 (lv_at hl 0 rfl) ?_
      exact g_iret hx hb hr hlocks hS u4 ⟨by rw [reqR, if_pos hfr], hw_u4.1, by rw [reqM, if_pos hfr]; exact Core_do (by omega) hk rfl hi hkd hC1 hH hw_u3.2 hw_u4.2 (by rw [sU_k (by omega), sU_s]; rfl) (fun _ => sU_s _ _ _ _) (fun kk j q => by simp only [sU]; rw [if_neg (by omega), if_neg (by omega)])⟩ (gZ_of hP) dX0_addTo_125
    · obtain ⟨hq3, hq4⟩ := hq34 c2
      refine lv_iload_n hx hb dX0_addTo_48 rfl (lv_at hl 4 rfl) ?_
      refine lv_aload_n hx hb dX0_addTo_49 rfl (lv_at hl 2 rfl) ?_
      refine g_get F hP 3 (by decide) (by decide) rfl q27 dX0_addTo_50 ?_
      refine lv_iload hx hb dX0_addTo_53 (lv_at hl 0 rfl) ?_
      refine g_iald F hP 3 128 (by decide) rfl rfl (by omega) (by decide) dX0_addTo_55 ?_
      refine gx_re (y := mm 3 (4 * (k % 8) + i)) hq3 ?_
      refine lv_icmp_gt (tgt := 82) hx hb dX0_addTo_56 (by decide) (fun c3 => ?_) (fun c3 => ?_)
      · have hfr : mm 2 (4 * (k % 8) + i) = 0 ∨ mm 3 (4 * (k % 8) + i) < num := Or.inr c3
        refine lv_aload_n hx hb dX0_addTo_82 rfl (lv_at hl 2 rfl) ?_
        refine lv_iload hx hb dX0_addTo_83 (lv_at hl 1 rfl) ?_
        refine lv_iload_n hx hb dX0_addTo_85 rfl (lv_at hl 5 rfl) ?_
        refine g_calli (k := 2) F hP hS (m0_valueAt l E hap nx u g k hg hk) (lw_V q129 q131 qs8 q14 q132) ⟨rfl, rfl⟩ (by decide +kernel) ⟨Nat.le_of_ble_eq_true rfl, Nat.le_of_ble_eq_true rfl⟩ rfl hl.1 rfl (Nat.le_of_ble_eq_true rfl) dX0_addTo_86 (fun r2 u2 H locs hw_r2 hP hS => ?_)
        obtain ⟨er2, eu2⟩ := hw_r2
        rw [eu2] at hP
        rw [mGet_of hHo hk rfl] at er2
        subst er2
        refine lv_iload hx hb dX0_addTo_89 (lv_at hl 6 rfl) ?_
        refine lv_iadd hx hb dX0_addTo_91 ?_
        refine lv_istore (lv' := [(7, .int ((mGet mm k) + v)), (6, .int (nI (32 * g + (4 * (k % 8) + i)))), (5, .int (nI g)), (0, .ref E.2.2.1), (1, .int (nI i)), (2, .int num), (3, .int (nI k)), (4, .int v)]) hx hb dX0_addTo_92 hl (by decide) rfl (fun ls hl => ?_)
        refine lv_aload_n hx hb dX0_addTo_94 rfl (lv_at hl 3 rfl) ?_
        refine lv_iload hx hb dX0_addTo_95 (lv_at hl 2 rfl) ?_
        refine lv_iconst (v := nI 0) hx hb dX0_addTo_97 (by decide) ?_
        refine lv_iload_n hx hb dX0_addTo_98 rfl (lv_at hl 6 rfl) ?_
        refine lv_iload hx hb dX0_addTo_99 (lv_at hl 0 rfl) ?_
        refine lv_iconst (v := 1) hx hb dX0_addTo_101 (by decide) ?_
        refine g_callv (k := 5) F hP hS (m0_write l E hap nx u hD1 g 0 k (mGet mm k + v) 1 hg (by unfold okE; omega)) (lw_V q109 q111 qs3 q14 q112) ⟨rfl, rfl⟩ (by decide +kernel) ⟨Nat.le_of_ble_eq_true rfl, Nat.le_of_ble_eq_true rfl⟩ rfl hl.1 rfl (Nat.le_of_ble_eq_true rfl) dX0_addTo_102 (fun u3 H locs hw_u3 hP hS => ?_)
        refine lv_aload_n hx hb dX0_addTo_105 rfl (lv_at hl 3 rfl) ?_
        refine lv_iload hx hb dX0_addTo_106 (lv_at hl 2 rfl) ?_
        refine lv_iconst (v := nI 1) hx hb dX0_addTo_108 (by decide) ?_
        refine lv_iconst (v := nI 4) hx hb dX0_addTo_109 (by decide) ?_
        refine lv_iload_n hx hb dX0_addTo_110 rfl (lv_at hl 6 rfl) ?_
        refine lv_bipush (v := nI 7) hx hb dX0_addTo_111 (by decide) ?_
        refine gx_and (a := 0) (j := (k % 8)) hx hb (and7 (by omega)) dX0_addTo_113 ?_
        refine gx_mul hx hb dX0_addTo_114 ?_
        refine lv_iload_n hx hb dX0_addTo_115 rfl (lv_at hl 4 rfl) ?_
        refine gx_add hx hb dX0_addTo_116 ?_
        refine lv_iload_n hx hb dX0_addTo_117 rfl (lv_at hl 5 rfl) ?_
        refine lv_iload hx hb dX0_addTo_118 (lv_at hl 0 rfl) ?_
        refine g_callv (k := 5) F hP hS (m0_write l E hap nx u3 hw_u3.1 g 1 (4 * (k % 8) + i) num (mGet mm k + v) hg (by unfold okE; omega)) (lw_V q109 q111 qs3 q14 q112) ⟨rfl, rfl⟩ (by decide +kernel) ⟨Nat.le_of_ble_eq_true rfl, Nat.le_of_ble_eq_true rfl⟩ rfl hl.1 rfl (Nat.le_of_ble_eq_true rfl) dX0_addTo_120 (fun u4 H locs hw_u4 hP hS => ?_)
        refine lv_iload hx hb dX0_addTo_123 (lv_at hl 0 rfl) ?_
        exact g_iret hx hb hr hlocks hS u4 ⟨by rw [reqR, if_pos hfr], hw_u4.1, by rw [reqM, if_pos hfr]; exact Core_do (by omega) hk rfl hi hkd hC1 hH hw_u3.2 hw_u4.2 (by rw [sU_k (by omega), sU_s]; rfl) (fun _ => sU_s _ _ _ _) (fun kk j q => by simp only [sU]; rw [if_neg (by omega), if_neg (by omega)])⟩ (gZ_of hP) dX0_addTo_125
      · have hfr : ¬ (mm 2 (4 * (k % 8) + i) = 0 ∨ mm 3 (4 * (k % 8) + i) < num) := fun q => q.elim c2 c3
        refine lv_iload_n hx hb dX0_addTo_59 rfl (lv_at hl 4 rfl) ?_
        refine lv_aload_n hx hb dX0_addTo_60 rfl (lv_at hl 2 rfl) ?_
        refine g_get F hP 3 (by decide) (by decide) rfl q27 dX0_addTo_61 ?_
        refine lv_iload hx hb dX0_addTo_64 (lv_at hl 0 rfl) ?_
        refine g_iald F hP 3 128 (by decide) rfl rfl (by omega) (by decide) dX0_addTo_66 ?_
        refine gx_re (y := mm 3 (4 * (k % 8) + i)) hq3 ?_
        refine lv_icmp_ne (tgt := 80) hx hb dX0_addTo_67 (by decide) (fun c4 => ?_) (fun c4 => ?_)
        · refine lv_iconst (v := (-1)) hx hb dX0_addTo_80 (by decide) ?_
          exact g_iret hx hb hr hlocks hS u ⟨by rw [reqR, if_neg hfr, if_neg (fun z => c4 z.symm)], hD1, by rw [reqM, if_neg hfr]; exact hC1⟩ (gZ_of hP) dX0_addTo_81
        · refine lv_aload_n hx hb dX0_addTo_70 rfl (lv_at hl 2 rfl) ?_
          refine g_get F hP 4 (by decide) (by decide) rfl q28 dX0_addTo_71 ?_
          refine lv_iload hx hb dX0_addTo_74 (lv_at hl 0 rfl) ?_
          refine g_iald F hP 4 128 (by decide) rfl rfl (by omega) (by decide) dX0_addTo_76 ?_
          refine gx_re (y := mm 4 (4 * (k % 8) + i)) hq4 ?_
          refine lv_goto (tgt := 81) hx hb dX0_addTo_77 (by decide) ?_
          exact g_iret hx hb hr hlocks hS u ⟨by rw [reqR, if_neg hfr, if_pos (by first | exact c4.symm | exact (Decidable.of_not_not c4).symm)], hD1, by rw [reqM, if_neg hfr]; exact hC1⟩ (gZ_of hP) dX0_addTo_81
  · exact absurd c_4 (by decide)
set_option maxHeartbeats 4000000 in
theorem m0_remove_bad (l : Launch) (E : Cx) (hap : gApE 20 E) (nx : Int32) (M : SM) (mm : SM) (hD : Dur M) (hC : Core M mm) (x y : Int32) (num : Int32) (hbad : ¬ fitP x y) : Met l yX0_remove (ws_ yX0_remove cX0_remove 7 (some .int)) ({ frames := 6, cells := 0, slots := 0, locals := 150 }) (va_Pc [.ref E.2.2.1, .int x, .int num, .int y] (B0 E M nx)) (va_Qi (fun r u => r = -2 ∧ Dur u ∧ Core u mm) (Z0 E nx) (gAE 20 E)) 0 0 (gAE 20 E) := by
  refine g_start (own := RX0) (T := TX0) (N := 21) (by decide) rfl hap rfl in_X0 (Nat.le_of_ble_eq_true rfl) ?_
  intro p e s m below meth c ls F hr hlocks hP hS hl
  have hx := F.1.1
  have hb := F.1.2.1
  have hl : lv_has ls 7 [(0, .ref E.2.2.1), (1, .int x), (2, .int num), (3, .int y)] := hl
  refine lv_iload_n hx hb dX0_remove_0 rfl (lv_at hl 1 rfl) ?_
  refine lv_iload_n hx hb dX0_remove_1 rfl (lv_at hl 3 rfl) ?_
  refine g_callS (k := 2) F hP hS (m0_fits l x y) (lw_S q94 q95 q14 q96) ⟨rfl, rfl⟩ (by decide +kernel) ⟨Nat.le_of_ble_eq_true rfl, Nat.le_of_ble_eq_true rfl⟩ rfl hl.1 rfl (Nat.le_of_ble_eq_true rfl) dX0_remove_2 (fun r0 H locs hw_r0 hP hS => ?_)
  have e0 : r0 = 0 := by
    rcases hw_r0 with ⟨-, q⟩ | ⟨q, -⟩
    · exact absurd q hbad
    · exact q
  subst e0
  refine lv_if_ne (tgt := 11) hx hb dX0_remove_5 (by decide) (fun c_5 => ?_) (fun c_5 => ?_)
  · exact absurd rfl c_5
  · refine lv_bipush (v := (-2)) hx hb dX0_remove_8 (by decide) ?_
    exact g_iret hx hb hr hlocks hS M ⟨rfl, hD, hC⟩ (gZ_of hP) dX0_remove_10
set_option maxHeartbeats 4000000 in
theorem m0_remove_ok (l : Launch) (E : Cx) (hap : gApE 20 E) (nx : Int32) (M : SM) (mm : SM) (hD : Dur M) (hC : Core M mm) (i k : Nat) (num : Int32) (hi : i < 4) (hk : k < 32) : Met l yX0_remove (ws_ yX0_remove cX0_remove 7 (some .int)) ({ frames := 6, cells := 0, slots := 0, locals := 150 }) (va_Pc [.ref E.2.2.1, .int (nI i), .int num, .int (nI k)] (B0 E M nx)) (va_Qi (fun r u => r = reqR mm (4 * (k % 8) + i) num (mGet mm k) ∧ Dur u ∧ Core u (reqM mm (4 * (k % 8) + i) num (mGet mm k) (sU mm 0 k 0))) (Z0 E nx) (gAE 20 E)) 0 0 (gAE 20 E) := by
  refine g_start (own := RX0) (T := TX0) (N := 21) (by decide) rfl hap rfl in_X0 (Nat.le_of_ble_eq_true rfl) ?_
  intro p e s m below meth c ls F hr hlocks hP hS hl
  have hx := F.1.1
  have hb := F.1.2.1
  have hl : lv_has ls 7 [(0, .ref E.2.2.1), (1, .int (nI i)), (2, .int num), (3, .int (nI k))] := hl
  refine lv_iload_n hx hb dX0_remove_0 rfl (lv_at hl 1 rfl) ?_
  refine lv_iload_n hx hb dX0_remove_1 rfl (lv_at hl 3 rfl) ?_
  refine g_callS (k := 2) F hP hS (m0_fits l (nI i) (nI k)) (lw_S q94 q95 q14 q96) ⟨rfl, rfl⟩ (by decide +kernel) ⟨Nat.le_of_ble_eq_true rfl, Nat.le_of_ble_eq_true rfl⟩ rfl hl.1 rfl (Nat.le_of_ble_eq_true rfl) dX0_remove_2 (fun r0 H locs hw_r0 hP hS => ?_)
  have e0 : r0 = 1 := by
    rcases hw_r0 with ⟨q, -⟩ | ⟨-, q⟩
    · exact q
    · exact absurd (fit_nI hi hk) q
  subst e0
  refine lv_if_ne (tgt := 11) hx hb dX0_remove_5 (by decide) (fun c_6 => ?_) (fun c_6 => ?_)
  · refine lv_aload_n hx hb dX0_remove_11 rfl (lv_at hl 0 rfl) ?_
    refine lv_iload_n hx hb dX0_remove_12 rfl (lv_at hl 1 rfl) ?_
    refine lv_iload_n hx hb dX0_remove_13 rfl (lv_at hl 3 rfl) ?_
    refine lv_bipush (v := nI 7) hx hb dX0_remove_14 (by decide) ?_
    refine gx_and (a := 0) (j := (k % 8)) hx hb (and7 (by omega)) dX0_remove_16 ?_
    refine g_calli (k := 2) F hP hS (m0_groupFor l E hap nx M mm hD hC i (k % 8) hi (by omega)) (lw_V q97 q99 qs0 q14 q100) ⟨rfl, rfl⟩ (by decide +kernel) ⟨Nat.le_of_ble_eq_true rfl, Nat.le_of_ble_eq_true rfl⟩ rfl hl.1 rfl (Nat.le_of_ble_eq_true rfl) dX0_remove_17 (fun r1 u H locs hw_r1 hP hS => ?_)
    obtain ⟨g, hg, er, hD1, hC1, h1⟩ := hw_r1
    subst er
    obtain ⟨kd, a, b, pp, hH⟩ := hC1.1 (k % 8) (by omega)
    obtain ⟨ga, hkd⟩ := Ph_serve hH hg h1
    subst ga
    have hHo := hH.2.2.1
    obtain ⟨hq2, hq34⟩ := hHo.2 i hi
    refine lv_istore (lv' := [(4, .int (nI g)), (0, .ref E.2.2.1), (1, .int (nI i)), (2, .int num), (3, .int (nI k))]) hx hb dX0_remove_20 hl (by decide) rfl (fun ls hl => ?_)
    refine lv_bipush (v := nI 32) hx hb dX0_remove_22 (by decide) ?_
    refine lv_iload hx hb dX0_remove_24 (lv_at hl 0 rfl) ?_
    refine gx_mul hx hb dX0_remove_26 ?_
    refine lv_iconst (v := nI 4) hx hb dX0_remove_27 (by decide) ?_
    refine lv_iload_n hx hb dX0_remove_28 rfl (lv_at hl 4 rfl) ?_
    refine lv_bipush (v := nI 7) hx hb dX0_remove_29 (by decide) ?_
    refine gx_and (a := 0) (j := (k % 8)) hx hb (and7 (by omega)) dX0_remove_31 ?_
    refine gx_mul hx hb dX0_remove_32 ?_
    refine gx_add hx hb dX0_remove_33 ?_
    refine lv_iload_n hx hb dX0_remove_34 rfl (lv_at hl 2 rfl) ?_
    refine gx_add hx hb dX0_remove_35 ?_
    refine gx_re (y := nI (32 * g + (4 * (k % 8) + i))) (congrArg nI (show ((32 * g) + (4 * ((k % 8)))) + i = 32 * g + (4 * (k % 8) + i) by omega)) ?_
    refine lv_istore (lv' := [(5, .int (nI (32 * g + (4 * (k % 8) + i)))), (4, .int (nI g)), (0, .ref E.2.2.1), (1, .int (nI i)), (2, .int num), (3, .int (nI k))]) hx hb dX0_remove_36 hl (by decide) rfl (fun ls hl => ?_)
    refine lv_aload_n hx hb dX0_remove_38 rfl (lv_at hl 2 rfl) ?_
    refine g_get F hP 2 (by decide) (by decide) rfl q26 dX0_remove_39 ?_
    refine lv_iload hx hb dX0_remove_42 (lv_at hl 0 rfl) ?_
    refine g_zald F hP 2 128 (by decide) rfl rfl (by omega) (by decide) dX0_remove_44 ?_
    refine gx_re (y := mm 2 (4 * (k % 8) + i)) hq2 ?_
    refine lv_if_eq (tgt := 82) hx hb dX0_remove_45 (by decide) (fun c2 => ?_) (fun c2 => ?_)
    · have hfr : mm 2 (4 * (k % 8) + i) = 0 ∨ mm 3 (4 * (k % 8) + i) < num := Or.inl c2
      refine lv_aload_n hx hb dX0_remove_82 rfl (lv_at hl 2 rfl) ?_
      refine lv_iload hx hb dX0_remove_83 (lv_at hl 1 rfl) ?_
      refine lv_iload_n hx hb dX0_remove_85 rfl (lv_at hl 5 rfl) ?_
      refine g_calli (k := 2) F hP hS (m0_valueAt l E hap nx u g k hg hk) (lw_V q129 q131 qs8 q14 q132) ⟨rfl, rfl⟩ (by decide +kernel) ⟨Nat.le_of_ble_eq_true rfl, Nat.le_of_ble_eq_true rfl⟩ rfl hl.1 rfl (Nat.le_of_ble_eq_true rfl) dX0_remove_86 (fun r2 u2 H locs hw_r2 hP hS => ?_)
      obtain ⟨er2, eu2⟩ := hw_r2
      rw [eu2] at hP
      rw [mGet_of hHo hk rfl] at er2
      subst er2
      refine lv_istore (lv' := [(6, .int (mGet mm k)), (5, .int (nI (32 * g + (4 * (k % 8) + i)))), (4, .int (nI g)), (0, .ref E.2.2.1), (1, .int (nI i)), (2, .int num), (3, .int (nI k))]) hx hb dX0_remove_89 hl (by decide) rfl (fun ls hl => ?_)
      refine lv_aload_n hx hb dX0_remove_91 rfl (lv_at hl 3 rfl) ?_
      refine lv_iload hx hb dX0_remove_92 (lv_at hl 2 rfl) ?_
      refine lv_iconst (v := nI 0) hx hb dX0_remove_94 (by decide) ?_
      refine lv_iload_n hx hb dX0_remove_95 rfl (lv_at hl 6 rfl) ?_
      refine lv_iconst (v := 0) hx hb dX0_remove_96 (by decide) ?_
      refine lv_iconst (v := 0) hx hb dX0_remove_97 (by decide) ?_
      refine g_callv (k := 5) F hP hS (m0_write l E hap nx u hD1 g 0 k 0 0 hg (by unfold okE; omega)) (lw_V q109 q111 qs3 q14 q112) ⟨rfl, rfl⟩ (by decide +kernel) ⟨Nat.le_of_ble_eq_true rfl, Nat.le_of_ble_eq_true rfl⟩ rfl hl.1 rfl (Nat.le_of_ble_eq_true rfl) dX0_remove_98 (fun u3 H locs hw_u3 hP hS => ?_)
      refine lv_aload_n hx hb dX0_remove_101 rfl (lv_at hl 3 rfl) ?_
      refine lv_iload hx hb dX0_remove_102 (lv_at hl 2 rfl) ?_
      refine lv_iconst (v := nI 1) hx hb dX0_remove_104 (by decide) ?_
      refine lv_iconst (v := nI 4) hx hb dX0_remove_105 (by decide) ?_
      refine lv_iload_n hx hb dX0_remove_106 rfl (lv_at hl 6 rfl) ?_
      refine lv_bipush (v := nI 7) hx hb dX0_remove_107 (by decide) ?_
      refine gx_and (a := 0) (j := (k % 8)) hx hb (and7 (by omega)) dX0_remove_109 ?_
      refine gx_mul hx hb dX0_remove_110 ?_
      refine lv_iload_n hx hb dX0_remove_111 rfl (lv_at hl 4 rfl) ?_
      refine gx_add hx hb dX0_remove_112 ?_
      refine lv_iload_n hx hb dX0_remove_113 rfl (lv_at hl 5 rfl) ?_
      refine lv_iload hx hb dX0_remove_114 (lv_at hl 0 rfl) ?_
      refine g_callv (k := 5) F hP hS (m0_write l E hap nx u3 hw_u3.1 g 1 (4 * (k % 8) + i) num (mGet mm k) hg (by unfold okE; omega)) (lw_V q109 q111 qs3 q14 q112) ⟨rfl, rfl⟩ (by decide +kernel) ⟨Nat.le_of_ble_eq_true rfl, Nat.le_of_ble_eq_true rfl⟩ rfl hl.1 rfl (Nat.le_of_ble_eq_true rfl) dX0_remove_116 (fun u4 H locs hw_u4 hP hS => ?_)
      refine lv_iload hx hb dX0_remove_119 (lv_at hl 0 rfl) ?_
      exact g_iret hx hb hr hlocks hS u4 ⟨by rw [reqR, if_pos hfr], hw_u4.1, by rw [reqM, if_pos hfr]; exact Core_do (by omega) hk rfl hi hkd hC1 hH hw_u3.2 hw_u4.2 (by rw [sU_s]; rfl) (fun q => absurd (sU_s _ _ _ _) q) (fun kk j q => by simp only [sU]; rw [if_neg (by omega)])⟩ (gZ_of hP) dX0_remove_121
    · obtain ⟨hq3, hq4⟩ := hq34 c2
      refine lv_iload_n hx hb dX0_remove_48 rfl (lv_at hl 4 rfl) ?_
      refine lv_aload_n hx hb dX0_remove_49 rfl (lv_at hl 2 rfl) ?_
      refine g_get F hP 3 (by decide) (by decide) rfl q27 dX0_remove_50 ?_
      refine lv_iload hx hb dX0_remove_53 (lv_at hl 0 rfl) ?_
      refine g_iald F hP 3 128 (by decide) rfl rfl (by omega) (by decide) dX0_remove_55 ?_
      refine gx_re (y := mm 3 (4 * (k % 8) + i)) hq3 ?_
      refine lv_icmp_gt (tgt := 82) hx hb dX0_remove_56 (by decide) (fun c3 => ?_) (fun c3 => ?_)
      · have hfr : mm 2 (4 * (k % 8) + i) = 0 ∨ mm 3 (4 * (k % 8) + i) < num := Or.inr c3
        refine lv_aload_n hx hb dX0_remove_82 rfl (lv_at hl 2 rfl) ?_
        refine lv_iload hx hb dX0_remove_83 (lv_at hl 1 rfl) ?_
        refine lv_iload_n hx hb dX0_remove_85 rfl (lv_at hl 5 rfl) ?_
        refine g_calli (k := 2) F hP hS (m0_valueAt l E hap nx u g k hg hk) (lw_V q129 q131 qs8 q14 q132) ⟨rfl, rfl⟩ (by decide +kernel) ⟨Nat.le_of_ble_eq_true rfl, Nat.le_of_ble_eq_true rfl⟩ rfl hl.1 rfl (Nat.le_of_ble_eq_true rfl) dX0_remove_86 (fun r2 u2 H locs hw_r2 hP hS => ?_)
        obtain ⟨er2, eu2⟩ := hw_r2
        rw [eu2] at hP
        rw [mGet_of hHo hk rfl] at er2
        subst er2
        refine lv_istore (lv' := [(6, .int (mGet mm k)), (5, .int (nI (32 * g + (4 * (k % 8) + i)))), (4, .int (nI g)), (0, .ref E.2.2.1), (1, .int (nI i)), (2, .int num), (3, .int (nI k))]) hx hb dX0_remove_89 hl (by decide) rfl (fun ls hl => ?_)
        refine lv_aload_n hx hb dX0_remove_91 rfl (lv_at hl 3 rfl) ?_
        refine lv_iload hx hb dX0_remove_92 (lv_at hl 2 rfl) ?_
        refine lv_iconst (v := nI 0) hx hb dX0_remove_94 (by decide) ?_
        refine lv_iload_n hx hb dX0_remove_95 rfl (lv_at hl 6 rfl) ?_
        refine lv_iconst (v := 0) hx hb dX0_remove_96 (by decide) ?_
        refine lv_iconst (v := 0) hx hb dX0_remove_97 (by decide) ?_
        refine g_callv (k := 5) F hP hS (m0_write l E hap nx u hD1 g 0 k 0 0 hg (by unfold okE; omega)) (lw_V q109 q111 qs3 q14 q112) ⟨rfl, rfl⟩ (by decide +kernel) ⟨Nat.le_of_ble_eq_true rfl, Nat.le_of_ble_eq_true rfl⟩ rfl hl.1 rfl (Nat.le_of_ble_eq_true rfl) dX0_remove_98 (fun u3 H locs hw_u3 hP hS => ?_)
        refine lv_aload_n hx hb dX0_remove_101 rfl (lv_at hl 3 rfl) ?_
        refine lv_iload hx hb dX0_remove_102 (lv_at hl 2 rfl) ?_
        refine lv_iconst (v := nI 1) hx hb dX0_remove_104 (by decide) ?_
        refine lv_iconst (v := nI 4) hx hb dX0_remove_105 (by decide) ?_
        refine lv_iload_n hx hb dX0_remove_106 rfl (lv_at hl 6 rfl) ?_
        refine lv_bipush (v := nI 7) hx hb dX0_remove_107 (by decide) ?_
        refine gx_and (a := 0) (j := (k % 8)) hx hb (and7 (by omega)) dX0_remove_109 ?_
        refine gx_mul hx hb dX0_remove_110 ?_
        refine lv_iload_n hx hb dX0_remove_111 rfl (lv_at hl 4 rfl) ?_
        refine gx_add hx hb dX0_remove_112 ?_
        refine lv_iload_n hx hb dX0_remove_113 rfl (lv_at hl 5 rfl) ?_
        refine lv_iload hx hb dX0_remove_114 (lv_at hl 0 rfl) ?_
        refine g_callv (k := 5) F hP hS (m0_write l E hap nx u3 hw_u3.1 g 1 (4 * (k % 8) + i) num (mGet mm k) hg (by unfold okE; omega)) (lw_V q109 q111 qs3 q14 q112) ⟨rfl, rfl⟩ (by decide +kernel) ⟨Nat.le_of_ble_eq_true rfl, Nat.le_of_ble_eq_true rfl⟩ rfl hl.1 rfl (Nat.le_of_ble_eq_true rfl) dX0_remove_116 (fun u4 H locs hw_u4 hP hS => ?_)
        refine lv_iload hx hb dX0_remove_119 (lv_at hl 0 rfl) ?_
        exact g_iret hx hb hr hlocks hS u4 ⟨by rw [reqR, if_pos hfr], hw_u4.1, by rw [reqM, if_pos hfr]; exact Core_do (by omega) hk rfl hi hkd hC1 hH hw_u3.2 hw_u4.2 (by rw [sU_s]; rfl) (fun q => absurd (sU_s _ _ _ _) q) (fun kk j q => by simp only [sU]; rw [if_neg (by omega)])⟩ (gZ_of hP) dX0_remove_121
      · have hfr : ¬ (mm 2 (4 * (k % 8) + i) = 0 ∨ mm 3 (4 * (k % 8) + i) < num) := fun q => q.elim c2 c3
        refine lv_iload_n hx hb dX0_remove_59 rfl (lv_at hl 4 rfl) ?_
        refine lv_aload_n hx hb dX0_remove_60 rfl (lv_at hl 2 rfl) ?_
        refine g_get F hP 3 (by decide) (by decide) rfl q27 dX0_remove_61 ?_
        refine lv_iload hx hb dX0_remove_64 (lv_at hl 0 rfl) ?_
        refine g_iald F hP 3 128 (by decide) rfl rfl (by omega) (by decide) dX0_remove_66 ?_
        refine gx_re (y := mm 3 (4 * (k % 8) + i)) hq3 ?_
        refine lv_icmp_ne (tgt := 80) hx hb dX0_remove_67 (by decide) (fun c4 => ?_) (fun c4 => ?_)
        · refine lv_iconst (v := (-1)) hx hb dX0_remove_80 (by decide) ?_
          exact g_iret hx hb hr hlocks hS u ⟨by rw [reqR, if_neg hfr, if_neg (fun z => c4 z.symm)], hD1, by rw [reqM, if_neg hfr]; exact hC1⟩ (gZ_of hP) dX0_remove_81
        · refine lv_aload_n hx hb dX0_remove_70 rfl (lv_at hl 2 rfl) ?_
          refine g_get F hP 4 (by decide) (by decide) rfl q28 dX0_remove_71 ?_
          refine lv_iload hx hb dX0_remove_74 (lv_at hl 0 rfl) ?_
          refine g_iald F hP 4 128 (by decide) rfl rfl (by omega) (by decide) dX0_remove_76 ?_
          refine gx_re (y := mm 4 (4 * (k % 8) + i)) hq4 ?_
          refine lv_goto (tgt := 81) hx hb dX0_remove_77 (by decide) ?_
          exact g_iret hx hb hr hlocks hS u ⟨by rw [reqR, if_neg hfr, if_pos (by first | exact c4.symm | exact (Decidable.of_not_not c4).symm)], hD1, by rw [reqM, if_neg hfr]; exact hC1⟩ (gZ_of hP) dX0_remove_81
  · exact absurd c_6 (by decide)
end
section
/-! PURE PART 8: looking; lose -/
def inR (y : Int32) : Prop := ∃ k, k < 32 ∧ y = nI k
theorem inR_le {y : Int32} (h1 : ¬ y < 0) (h2 : y ≤ nI 31) : inR y := by
  obtain ⟨k, hk, ek⟩ := nI_of2 (M := nI 31) (n := 31) (by decide) h1 h2
  exact ⟨k, by omega, ek⟩
theorem inR_lt {y : Int32} (h1 : ¬ y < 0) (h2 : ¬ nI 32 ≤ y) : inR y := by
  rcases pk_ix y (n := 32) (by decide) with q | q | ⟨k, hk, ek⟩
  · exact absurd q h1
  · exact absurd q h2
  · exact ⟨k, hk, ek⟩
/-- how many of the first u keys of class c are there -/
def cu (m : SM) (c : Nat) : Nat → Nat
  | 0 => 0
  | u + 1 => if m 0 (c + 8 * u) = 0 then cu m c u else cu m c u + 1
/-- the last key below n that is there with at least x -/
def lf (m : SM) (x : Int32) : Nat → Int32
  | 0 => -1
  | n + 1 => if m 0 n = 0 ∨ m 1 n < x then lf m x n else nI n
theorem lf_skip {m : SM} {x : Int32} {n : Nat} (h : m 0 n = 0 ∨ m 1 n < x) : lf m x (n + 1) = lf m x n := by rw [lf, if_pos h]
theorem lf_here {m : SM} {x : Int32} {n : Nat} (h0 : ¬ m 0 n = 0) (h1 : ¬ m 1 n < x) : lf m x (n + 1) = nI n := by rw [lf, if_neg (fun q => q.elim h0 h1)]
/-- lose, its first loops: the image laid into the memory, places below b, states below q -/
def ldL (M : SM) (g b q : Nat) : SM := fun k i =>
  if k < 5 ∧ 32 * g ≤ i ∧ i < b then M (k + 6) i
  else if k = 5 ∧ 8 * g ≤ i ∧ i < 8 * g + q then M 11 i
  else M k i
theorem ldL_0 {M : SM} {g : Nat} : ldL M g (32 * g) 0 = M := by
  funext k i
  simp only [ldL]
  (repeat' split) <;> first | rfl | (exfalso; omega)
theorem ldL_b {M : SM} {g i : Nat} (hi : 32 * g ≤ i) : sU (sU (sU (sU (sU (ldL M g i 0) 0 i (M 6 i)) 1 i (M 7 i)) 2 i (M 8 i)) 3 i (M 9 i)) 4 i (M 10 i) = ldL M g (i + 1) 0 := by
  funext k j
  by_cases hj : j = i
  · subst hj
    by_cases h0 : k = 0
    · subst h0; simp [sU, ldL, hi]
    by_cases h1 : k = 1
    · subst h1; simp [sU, ldL, hi]
    by_cases h2 : k = 2
    · subst h2; simp [sU, ldL, hi]
    by_cases h3 : k = 3
    · subst h3; simp [sU, ldL, hi]
    by_cases h4 : k = 4
    · subst h4; simp [sU, ldL, hi]
    simp only [sU, ldL]
    (repeat' split) <;> first | rfl | (exfalso; omega)
  · simp only [sU, ldL]
    (repeat' split) <;> first | rfl | (exfalso; omega)
theorem ldL_c {M : SM} {g b q : Nat} : sU (ldL M g b q) 5 (8 * g + q) (M 11 (8 * g + q)) = ldL M g b (q + 1) := by
  funext k j
  by_cases hj : k = 5 ∧ j = 8 * g + q
  · obtain ⟨h1, h2⟩ := hj
    subst h1; subst h2
    simp [sU, ldL]
  · simp only [sU, ldL]
    (repeat' split) <;> first | rfl | (exfalso; omega)
theorem ldL_hi {M : SM} {g b q k i : Nat} (h : 6 ≤ k) : ldL M g b q k i = M k i := by
  simp only [ldL]
  (repeat' split) <;> first | rfl | (exfalso; omega)
theorem ldL_ld {M : SM} {g : Nat} : ldL M g (32 * g + 32) 8 = rp M g 0 := rfl
/-- lose's last loop: what was pulled of the classes below q -/
def loM (M : SM) (g q : Nat) : SM := fun k i => if k = 18 ∧ i < q ∧ M 5 (8 * g + i) = 3 then 0 else M k i
theorem loM_0 {M : SM} {g : Nat} : loM M g 0 = M := by
  funext k i
  simp [loM]
theorem loM_y {M : SM} {g q : Nat} (h : M 5 (8 * g + q) = 3) : sU (loM M g q) 18 q 0 = loM M g (q + 1) := by
  funext k i
  by_cases e : k = 18 ∧ i = q
  · obtain ⟨e1, e2⟩ := e
    subst e1; subst e2
    simp [sU, loM, h]
  · simp only [sU, loM]
    rw [if_neg e]
    by_cases z : k = 18 ∧ i < q ∧ M 5 (8 * g + i) = 3
    · rw [if_pos z, if_pos ⟨z.1, by omega, z.2.2⟩]
    · rw [if_neg z, if_neg (fun w => z ⟨w.1, by omega, w.2.2⟩)]
theorem loM_n {M : SM} {g q : Nat} (h : ¬ M 5 (8 * g + q) = 3) : loM M g q = loM M g (q + 1) := by
  funext k i
  simp only [loM]
  by_cases z : k = 18 ∧ i < q ∧ M 5 (8 * g + i) = 3
  · rw [if_pos z, if_pos ⟨z.1, by omega, z.2.2⟩]
  · rw [if_neg z, if_neg]
    intro w
    rcases (show i < q ∨ i = q by omega) with e | e
    · exact z ⟨w.1, e, w.2.2⟩
    · subst e; exact h w.2.2
theorem loM_k {M : SM} {g q k i : Nat} (h : k ≠ 18) : loM M g q k i = M k i := by simp [loM, h]
theorem loM_Dur {M : SM} {g q : Nat} (hD : Dur M) : Dur (loM M g q) := Dur_hi hD (fun k i hk => loM_k (by omega))
theorem loM_Core {M m : SM} {g q : Nat} (hC : Core M m) : Core (loM M g q) m := Core_lose hC (fun k i hk => loM_k (by omega)) (fun i => loM_k (by omega)) (fun i => loM_k (by omega)) (fun c _ => by
  simp only [loM]
  split
  · exact Or.inr rfl
  · exact Or.inl rfl)
end
section
set_option maxRecDepth 100000
set_option maxHeartbeats 4000000 in
theorem m0_get_bad (l : Launch) (E : Cx) (hap : gApE 20 E) (nx : Int32) (M : SM) (y : Int32) (hbad : ¬ inR y) : Met l yX0_get (ws_ yX0_get cX0_get 3 (some .int)) ({ frames := 2, cells := 0, slots := 0, locals := 60 }) (va_Pc [.ref E.2.2.1, .int y] (B0 E M nx)) (va_Qi (fun r u => r = 0 ∧ u = M) (Z0 E nx) (gAE 20 E)) 0 0 (gAE 20 E) := by
  refine g_start (own := RX0) (T := TX0) (N := 21) (by decide) rfl hap rfl in_X0 (Nat.le_of_ble_eq_true rfl) ?_
  intro p e s m below meth c ls F hr hlocks hP hS hl
  have hx := F.1.1
  have hb := F.1.2.1
  have hl : lv_has ls 3 [(0, .ref E.2.2.1), (1, .int y)] := hl
  refine lv_iload_n hx hb dX0_get_0 rfl (lv_at hl 1 rfl) ?_
  refine lv_if_lt (tgt := 10) hx hb dX0_get_1 (by decide) (fun c1 => ?_) (fun c1 => ?_)
  · refine lv_iconst (v := 0) hx hb dX0_get_10 (by decide) ?_
    exact g_iret hx hb hr hlocks hS M ⟨rfl, rfl⟩ (gZ_of hP) dX0_get_11
  · refine lv_iload_n hx hb dX0_get_4 rfl (lv_at hl 1 rfl) ?_
    refine lv_bipush (v := nI 31) hx hb dX0_get_5 (by decide) ?_
    refine lv_icmp_le (tgt := 12) hx hb dX0_get_7 (by decide) (fun c2 => ?_) (fun c2 => ?_)
    · exact absurd (inR_le c1 c2) hbad
    · refine lv_iconst (v := 0) hx hb dX0_get_10 (by decide) ?_
      exact g_iret hx hb hr hlocks hS M ⟨rfl, rfl⟩ (gZ_of hP) dX0_get_11
set_option maxHeartbeats 4000000 in
theorem m0_get_ok (l : Launch) (E : Cx) (hap : gApE 20 E) (nx : Int32) (M : SM) (mm : SM) (hD : Dur M) (hC : Core M mm) (k : Nat) (hk : k < 32) : Met l yX0_get (ws_ yX0_get cX0_get 3 (some .int)) ({ frames := 2, cells := 0, slots := 0, locals := 60 }) (va_Pc [.ref E.2.2.1, .int (nI k)] (B0 E M nx)) (va_Qi (fun r u => r = mGet mm k ∧ u = M) (Z0 E nx) (gAE 20 E)) 0 0 (gAE 20 E) := by
  refine g_start (own := RX0) (T := TX0) (N := 21) (by decide) rfl hap rfl in_X0 (Nat.le_of_ble_eq_true rfl) ?_
  intro p e s m below meth c ls F hr hlocks hP hS hl
  have hx := F.1.1
  have hb := F.1.2.1
  have hl : lv_has ls 3 [(0, .ref E.2.2.1), (1, .int (nI k))] := hl
  refine lv_iload_n hx hb dX0_get_0 rfl (lv_at hl 1 rfl) ?_
  refine lv_if_lt (tgt := 10) hx hb dX0_get_1 (by decide) (fun c_1 => ?_) (fun c_1 => ?_)
  · exact absurd c_1 (nI_pos (by omega))
  · refine lv_iload_n hx hb dX0_get_4 rfl (lv_at hl 1 rfl) ?_
    refine lv_bipush (v := nI 31) hx hb dX0_get_5 (by decide) ?_
    refine lv_icmp_le (tgt := 12) hx hb dX0_get_7 (by decide) (fun c_2 => ?_) (fun c_2 => ?_)
    · refine lv_aload_n hx hb dX0_get_12 rfl (lv_at hl 0 rfl) ?_
      refine lv_iload_n hx hb dX0_get_13 rfl (lv_at hl 1 rfl) ?_
      refine lv_bipush (v := nI 7) hx hb dX0_get_14 (by decide) ?_
      refine gx_and (a := 0) (j := (k % 8)) hx hb (and7 (by omega)) dX0_get_16 ?_
      obtain ⟨kd, a, b, pp, hH⟩ := hC.1 (k % 8) (by omega)
      have ha := hH.1.1
      have hHo := hH.2.2.1
      refine g_calli (k := 1) F hP hS (m0_holder l E hap nx M mm (k % 8) kd a b pp (by omega) hH) (lw_V q145 q147 qs9 q14 q148) ⟨rfl, rfl⟩ (by decide +kernel) ⟨Nat.le_of_ble_eq_true rfl, Nat.le_of_ble_eq_true rfl⟩ rfl hl.1 rfl (Nat.le_of_ble_eq_true rfl) dX0_get_17 (fun r1 u1 H locs hw_r1 hP hS => ?_)
      obtain ⟨er, eu⟩ := hw_r1
      rw [eu] at hP
      subst er
      refine lv_istore_n (lv' := [(2, .int (nI a)), (0, .ref E.2.2.1), (1, .int (nI k))]) hx hb dX0_get_20 rfl hl (by decide) rfl (fun ls hl => ?_)
      refine lv_aload_n hx hb dX0_get_21 rfl (lv_at hl 1 rfl) ?_
      refine lv_iload_n hx hb dX0_get_22 rfl (lv_at hl 0 rfl) ?_
      refine lv_iload_n hx hb dX0_get_23 rfl (lv_at hl 2 rfl) ?_
      refine g_calli (k := 2) F hP hS (m0_valueAt l E hap nx M a k ha hk) (lw_V q129 q131 qs8 q14 q132) ⟨rfl, rfl⟩ (by decide +kernel) ⟨Nat.le_of_ble_eq_true rfl, Nat.le_of_ble_eq_true rfl⟩ rfl hl.1 rfl (Nat.le_of_ble_eq_true rfl) dX0_get_24 (fun r2 u2 H locs hw_r2 hP hS => ?_)
      obtain ⟨er2, eu2⟩ := hw_r2
      rw [eu2] at hP
      rw [mGet_of hHo hk rfl] at er2
      exact g_iret hx hb hr hlocks hS M ⟨er2, rfl⟩ (gZ_of hP) dX0_get_27
    · exact absurd (nI_le (by omega) (by omega)) c_2
set_option maxHeartbeats 4000000 in
theorem m0_has_bad (l : Launch) (E : Cx) (hap : gApE 20 E) (nx : Int32) (M : SM) (y : Int32) (hbad : ¬ inR y) : Met l yX0_has (ws_ yX0_has cX0_has 3 (some .boolean)) ({ frames := 2, cells := 0, slots := 0, locals := 60 }) (va_Pc [.ref E.2.2.1, .int y] (B0 E M nx)) (va_Qi (fun r u => r = 0 ∧ u = M) (Z0 E nx) (gAE 20 E)) 0 0 (gAE 20 E) := by
  refine g_start (own := RX0) (T := TX0) (N := 21) (by decide) rfl hap rfl in_X0 (Nat.le_of_ble_eq_true rfl) ?_
  intro p e s m below meth c ls F hr hlocks hP hS hl
  have hx := F.1.1
  have hb := F.1.2.1
  have hl : lv_has ls 3 [(0, .ref E.2.2.1), (1, .int y)] := hl
  refine lv_iload_n hx hb dX0_has_0 rfl (lv_at hl 1 rfl) ?_
  refine lv_if_lt (tgt := 10) hx hb dX0_has_1 (by decide) (fun c1 => ?_) (fun c1 => ?_)
  · refine lv_iconst (v := 0) hx hb dX0_has_10 (by decide) ?_
    exact g_zret hx hb hr hlocks hS (Or.inl rfl) M ⟨rfl, rfl⟩ (gZ_of hP) dX0_has_11
  · refine lv_iload_n hx hb dX0_has_4 rfl (lv_at hl 1 rfl) ?_
    refine lv_bipush (v := nI 31) hx hb dX0_has_5 (by decide) ?_
    refine lv_icmp_le (tgt := 12) hx hb dX0_has_7 (by decide) (fun c2 => ?_) (fun c2 => ?_)
    · exact absurd (inR_le c1 c2) hbad
    · refine lv_iconst (v := 0) hx hb dX0_has_10 (by decide) ?_
      exact g_zret hx hb hr hlocks hS (Or.inl rfl) M ⟨rfl, rfl⟩ (gZ_of hP) dX0_has_11
set_option maxHeartbeats 4000000 in
theorem m0_has_ok (l : Launch) (E : Cx) (hap : gApE 20 E) (nx : Int32) (M : SM) (mm : SM) (hD : Dur M) (hC : Core M mm) (k : Nat) (hk : k < 32) : Met l yX0_has (ws_ yX0_has cX0_has 3 (some .boolean)) ({ frames := 2, cells := 0, slots := 0, locals := 60 }) (va_Pc [.ref E.2.2.1, .int (nI k)] (B0 E M nx)) (va_Qi (fun r u => r = mm 0 k ∧ u = M) (Z0 E nx) (gAE 20 E)) 0 0 (gAE 20 E) := by
  refine g_start (own := RX0) (T := TX0) (N := 21) (by decide) rfl hap rfl in_X0 (Nat.le_of_ble_eq_true rfl) ?_
  intro p e s m below meth c ls F hr hlocks hP hS hl
  have hx := F.1.1
  have hb := F.1.2.1
  have hl : lv_has ls 3 [(0, .ref E.2.2.1), (1, .int (nI k))] := hl
  refine lv_iload_n hx hb dX0_has_0 rfl (lv_at hl 1 rfl) ?_
  refine lv_if_lt (tgt := 10) hx hb dX0_has_1 (by decide) (fun c_3 => ?_) (fun c_3 => ?_)
  · exact absurd c_3 (nI_pos (by omega))
  · refine lv_iload_n hx hb dX0_has_4 rfl (lv_at hl 1 rfl) ?_
    refine lv_bipush (v := nI 31) hx hb dX0_has_5 (by decide) ?_
    refine lv_icmp_le (tgt := 12) hx hb dX0_has_7 (by decide) (fun c_4 => ?_) (fun c_4 => ?_)
    · refine lv_aload_n hx hb dX0_has_12 rfl (lv_at hl 0 rfl) ?_
      refine lv_iload_n hx hb dX0_has_13 rfl (lv_at hl 1 rfl) ?_
      refine lv_bipush (v := nI 7) hx hb dX0_has_14 (by decide) ?_
      refine gx_and (a := 0) (j := (k % 8)) hx hb (and7 (by omega)) dX0_has_16 ?_
      obtain ⟨kd, a, b, pp, hH⟩ := hC.1 (k % 8) (by omega)
      have ha := hH.1.1
      have hHo := hH.2.2.1
      refine g_calli (k := 1) F hP hS (m0_holder l E hap nx M mm (k % 8) kd a b pp (by omega) hH) (lw_V q145 q147 qs9 q14 q148) ⟨rfl, rfl⟩ (by decide +kernel) ⟨Nat.le_of_ble_eq_true rfl, Nat.le_of_ble_eq_true rfl⟩ rfl hl.1 rfl (Nat.le_of_ble_eq_true rfl) dX0_has_17 (fun r1 u1 H locs hw_r1 hP hS => ?_)
      obtain ⟨er, eu⟩ := hw_r1
      rw [eu] at hP
      subst er
      refine lv_istore_n (lv' := [(2, .int (nI a)), (0, .ref E.2.2.1), (1, .int (nI k))]) hx hb dX0_has_20 rfl hl (by decide) rfl (fun ls hl => ?_)
      refine lv_aload_n hx hb dX0_has_21 rfl (lv_at hl 1 rfl) ?_
      refine g_get F hP 1 (by decide) (by decide) rfl q25 dX0_has_22 ?_
      refine lv_bipush (v := nI 32) hx hb dX0_has_25 (by decide) ?_
      refine lv_iload_n hx hb dX0_has_27 rfl (lv_at hl 0 rfl) ?_
      refine gx_mul hx hb dX0_has_28 ?_
      refine lv_iload_n hx hb dX0_has_29 rfl (lv_at hl 2 rfl) ?_
      refine gx_add hx hb dX0_has_30 ?_
      refine g_zald F hP 1 128 (by decide) rfl rfl (by omega) (by decide) dX0_has_31 ?_
      refine gx_re (y := mm 0 k) (Hold_key hHo hk rfl).1 ?_
      exact g_zret hx hb hr hlocks hS (by rw [← (Hold_key hHo hk rfl).1]; exact (hD.1 _).1) M ⟨rfl, rfl⟩ (gZ_of hP) dX0_has_32
    · exact absurd (nI_le (by omega) (by omega)) c_4
section
variable {p : Program} {l : Launch} {e : Env} {R : Room} {s : State} {m : MethodId} {args : Array Value} {below : List Frame} {meth : Method} {c : Code} {Q : State → Prop} {E : Cx} {nx : Int32}
set_option maxHeartbeats 4000000 in
/-- size's loop -/
theorem lp_size (F : Fx p s m c args cX0_size 6 RX0 TX0 0 20 21 ety0 E) {cl a : Nat} {x : Int32} (hc : cl < 8) (ha : a < 4) (M mm : SM) (hHo : Hold M mm cl a)
    (exit : ∀ (H : Heap) (locs : List Loc) (ls : Array Slot), va_P E.1 vwCl (w0 E M nx) H → va_S (gAE 20 E) s.heap H locs → lv_has ls 6 [(0, .ref E.2.2.1), (1, .int x), (2, .int (nI cl)), (3, .int (nI a)), (4, .int (nI (cu mm cl 4)))] → W p l e R s m args below meth c H locs 0 0 Q (F0 m 48 ls [])) :
    ∀ (n u : Nat) (H : Heap) (locs : List Loc) (ls : Array Slot), u + n = 4 → va_P E.1 vwCl (w0 E M nx) H → va_S (gAE 20 E) s.heap H locs → lv_has ls 6 [(0, .ref E.2.2.1), (1, .int x), (2, .int (nI cl)), (3, .int (nI a)), (4, .int (nI (cu mm cl u))), (5, .int (nI (cl + 8 * u)))] → W p l e R s m args below meth c H locs 0 0 Q (F0 m 17 ls []) := by
  have hx := F.1.1
  have hb := F.1.2.1
  intro n
  induction n with
  | zero =>
    intro u H locs ls hu hP hS hl
    have hu : u = 4 := by omega
    subst hu
    refine lv_iload hx hb dX0_size_17 (lv_at hl 5 rfl) ?_
    refine lv_bipush (v := nI 32) hx hb dX0_size_19 (by decide) ?_
    refine gx_ge hx hb 48 (by omega) (by omega) dX0_size_21 (by decide) (fun c_5 => ?_) (fun c_5 => ?_)
    · exact exit H locs ls hP hS (lv_sub hl [0, 1, 2, 3, 4] rfl)
    · exact absurd c_5 (by omega)
  | succ n ih =>
    intro u H locs ls hu hP hS hl
    refine lv_iload hx hb dX0_size_17 (lv_at hl 5 rfl) ?_
    refine lv_bipush (v := nI 32) hx hb dX0_size_19 (by decide) ?_
    refine gx_ge hx hb 48 (by omega) (by omega) dX0_size_21 (by decide) (fun c_6 => ?_) (fun c_6 => ?_)
    · exact absurd c_6 (by omega)
    · refine lv_aload_n hx hb dX0_size_24 rfl (lv_at hl 0 rfl) ?_
      refine g_get F hP 1 (by decide) (by decide) rfl q25 dX0_size_25 ?_
      refine lv_bipush (v := nI 32) hx hb dX0_size_28 (by decide) ?_
      refine lv_iload_n hx hb dX0_size_30 rfl (lv_at hl 3 rfl) ?_
      refine gx_mul hx hb dX0_size_31 ?_
      refine lv_iload hx hb dX0_size_32 (lv_at hl 5 rfl) ?_
      refine gx_add hx hb dX0_size_34 ?_
      refine g_zald F hP 1 128 (by decide) rfl rfl (by omega) (by decide) dX0_size_35 ?_
      refine gx_re (y := mm 0 (cl + 8 * u)) (hHo.1 u (by omega)).1 ?_
      refine lv_if_eq (tgt := 42) hx hb dX0_size_36 (by decide) (fun c1 => ?_) (fun c1 => ?_)
      · have ec : cu mm cl u = cu mm cl (u + 1) := by rw [cu, if_pos c1]
        rw [ec] at hl
        refine lv_iinc (v := nI (cl + 8 * (u + 1))) (lv' := [(5, .int (nI (cl + 8 * (u + 1)))), (0, .ref E.2.2.1), (1, .int x), (2, .int (nI cl)), (3, .int (nI a)), (4, .int (nI (cu mm cl (u + 1))))]) hx hb dX0_size_42 hl (k := 5) rfl ((nI_add (cl + 8 * u) 8).trans (congrArg nI (show cl + 8 * u + 8 = cl + 8 * (u + 1) by omega))) (by decide) rfl (fun ls hl => ?_)
        refine lv_goto (tgt := 17) hx hb dX0_size_45 (by decide) ?_
        exact ih (u + 1) H locs ls (by omega) hP hS (lv_sub hl [1, 2, 3, 4, 5, 0] rfl)
      · have ec : cu mm cl u + 1 = cu mm cl (u + 1) := by rw [cu, if_neg c1]
        refine lv_iinc (v := nI (cu mm cl (u + 1))) (lv' := [(4, .int (nI (cu mm cl (u + 1)))), (0, .ref E.2.2.1), (1, .int x), (2, .int (nI cl)), (3, .int (nI a)), (5, .int (nI (cl + 8 * u)))]) hx hb dX0_size_39 hl (k := 4) rfl ((nI_add (cu mm cl u) 1).trans (congrArg nI ec)) (by decide) rfl (fun ls hl => ?_)
        refine lv_iinc (v := nI (cl + 8 * (u + 1))) (lv' := [(5, .int (nI (cl + 8 * (u + 1)))), (4, .int (nI (cu mm cl (u + 1)))), (0, .ref E.2.2.1), (1, .int x), (2, .int (nI cl)), (3, .int (nI a))]) hx hb dX0_size_42 hl (k := 5) rfl ((nI_add (cl + 8 * u) 8).trans (congrArg nI (show cl + 8 * u + 8 = cl + 8 * (u + 1) by omega))) (by decide) rfl (fun ls hl => ?_)
        refine lv_goto (tgt := 17) hx hb dX0_size_45 (by decide) ?_
        exact ih (u + 1) H locs ls (by omega) hP hS (lv_sub hl [2, 3, 4, 5, 1, 0] rfl)
end
set_option maxHeartbeats 4000000 in
theorem m0_size (l : Launch) (E : Cx) (hap : gApE 20 E) (nx : Int32) (M : SM) (mm : SM) (hD : Dur M) (hC : Core M mm) (x : Int32) (cl : Nat) (hc : cl < 8) (hx7 : x &&& nI 7 = nI cl) : Met l yX0_size (ws_ yX0_size cX0_size 6 (some .int)) ({ frames := 2, cells := 0, slots := 0, locals := 60 }) (va_Pc [.ref E.2.2.1, .int x] (B0 E M nx)) (va_Qi (fun r u => r = nI (cu mm cl 4) ∧ u = M) (Z0 E nx) (gAE 20 E)) 0 0 (gAE 20 E) := by
  refine g_start (own := RX0) (T := TX0) (N := 21) (by decide) rfl hap rfl in_X0 (Nat.le_of_ble_eq_true rfl) ?_
  intro p e s m below meth c ls F hr hlocks hP hS hl
  have hx := F.1.1
  have hb := F.1.2.1
  have hl : lv_has ls 6 [(0, .ref E.2.2.1), (1, .int x)] := hl
  refine lv_iload_n hx hb dX0_size_0 rfl (lv_at hl 1 rfl) ?_
  refine lv_bipush (v := nI 7) hx hb dX0_size_1 (by decide) ?_
  refine gx_and (a := 0) (j := cl) hx hb hx7 dX0_size_3 ?_
  refine lv_istore_n (lv' := [(2, .int (nI cl)), (0, .ref E.2.2.1), (1, .int x)]) hx hb dX0_size_4 rfl hl (by decide) rfl (fun ls hl => ?_)
  refine lv_aload_n hx hb dX0_size_5 rfl (lv_at hl 1 rfl) ?_
  refine lv_iload_n hx hb dX0_size_6 rfl (lv_at hl 0 rfl) ?_
  obtain ⟨kd, a, b, pp, hH⟩ := hC.1 cl (by omega)
  have ha := hH.1.1
  have hHo := hH.2.2.1
  refine g_calli (k := 1) F hP hS (m0_holder l E hap nx M mm cl kd a b pp (by omega) hH) (lw_V q145 q147 qs9 q14 q148) ⟨rfl, rfl⟩ (by decide +kernel) ⟨Nat.le_of_ble_eq_true rfl, Nat.le_of_ble_eq_true rfl⟩ rfl hl.1 rfl (Nat.le_of_ble_eq_true rfl) dX0_size_7 (fun r1 u1 H locs hw_r1 hP hS => ?_)
  obtain ⟨er, eu⟩ := hw_r1
  rw [eu] at hP
  subst er
  refine lv_istore_n (lv' := [(3, .int (nI a)), (2, .int (nI cl)), (0, .ref E.2.2.1), (1, .int x)]) hx hb dX0_size_10 rfl hl (by decide) rfl (fun ls hl => ?_)
  refine lv_iconst (v := nI 0) hx hb dX0_size_11 (by decide) ?_
  refine lv_istore (lv' := [(4, .int (nI 0)), (3, .int (nI a)), (2, .int (nI cl)), (0, .ref E.2.2.1), (1, .int x)]) hx hb dX0_size_12 hl (by decide) rfl (fun ls hl => ?_)
  refine lv_iload_n hx hb dX0_size_14 rfl (lv_at hl 2 rfl) ?_
  refine lv_istore (lv' := [(5, .int (nI cl)), (4, .int (nI 0)), (3, .int (nI a)), (2, .int (nI cl)), (0, .ref E.2.2.1), (1, .int x)]) hx hb dX0_size_15 hl (by decide) rfl (fun ls hl => ?_)
  refine lp_size F hc ha M mm hHo (fun H locs ls hP hS hl => ?_) 4 0 _ _ _ (by omega) hP hS (lv_sub hl [4, 5, 3, 2, 1, 0] rfl)
  refine lv_iload hx hb dX0_size_48 (lv_at hl 4 rfl) ?_
  exact g_iret hx hb hr hlocks hS M ⟨rfl, rfl⟩ (gZ_of hP) dX0_size_50
section
variable {p : Program} {l : Launch} {e : Env} {R : Room} {s : State} {m : MethodId} {args : Array Value} {below : List Frame} {meth : Method} {c : Code} {Q : State → Prop} {E : Cx} {nx : Int32}
set_option maxHeartbeats 4000000 in
/-- lastFrom's loop -/
theorem lp_lastFrom (hap : gApE 20 E) (F : Fx p s m c args cX0_lastFrom 4 RX0 TX0 0 20 21 ety0 E) {x : Int32} (M mm : SM) (hC : Core M mm) (hR : 2 ≤ R.frames ∧ 45 ≤ R.locals) (hr : meth.sig.returnType = some .int) (hlocks : meth.locks = false) :
    ∀ (n : Nat) (H : Heap) (locs : List Loc) (ls : Array Slot), n ≤ 32 → lf mm x 32 = lf mm x n → va_P E.1 vwCl (w0 E M nx) H → va_S (gAE 20 E) s.heap H locs → lv_has ls 4 [(0, .ref E.2.2.1), (1, .int x), (2, .int (nI n + (-1)))] → W p l e R s m args below meth c H locs 0 0 (MQ below (va_Qi (fun r u => r = lf mm x 32 ∧ u = M) (Z0 E nx) (gAE 20 E)) args s 0 0 (gAE 20 E)) (F0 m 3 ls []) := by
  have hx := F.1.1
  have hb := F.1.2.1
  intro n
  induction n with
  | zero =>
    intro H locs ls hn hlf hP hS hl
    have hl : lv_has ls 4 [(0, .ref E.2.2.1), (1, .int x), (2, .int (-1))] := hl
    refine lv_iload_n hx hb dX0_lastFrom_3 rfl (lv_at hl 2 rfl) ?_
    refine lv_if_lt (tgt := 53) hx hb dX0_lastFrom_4 (by decide) (fun c_7 => ?_) (fun c_7 => ?_)
    · refine lv_iconst (v := (-1)) hx hb dX0_lastFrom_53 (by decide) ?_
      exact g_iret hx hb hr hlocks hS M ⟨hlf.symm, rfl⟩ (gZ_of hP) dX0_lastFrom_54
    · exact absurd (by decide) c_7
  | succ n ih =>
    intro H locs ls hn hlf hP hS hl
    rw [pk_m1] at hl
    refine lv_iload_n hx hb dX0_lastFrom_3 rfl (lv_at hl 2 rfl) ?_
    refine lv_if_lt (tgt := 53) hx hb dX0_lastFrom_4 (by decide) (fun c_8 => ?_) (fun c_8 => ?_)
    · exact absurd c_8 (nI_pos (by omega))
    · refine lv_aload_n hx hb dX0_lastFrom_7 rfl (lv_at hl 0 rfl) ?_
      refine lv_iload_n hx hb dX0_lastFrom_8 rfl (lv_at hl 2 rfl) ?_
      refine lv_bipush (v := nI 7) hx hb dX0_lastFrom_9 (by decide) ?_
      refine gx_and (a := 0) (j := (n % 8)) hx hb (and7 (by omega)) dX0_lastFrom_11 ?_
      obtain ⟨kd, a, b, pp, hH⟩ := hC.1 (n % 8) (by omega)
      have ha := hH.1.1
      have hHo := hH.2.2.1
      refine g_calli (k := 1) F hP hS (m0_holder l E hap nx M mm (n % 8) kd a b pp (by omega) hH) (lw_V q145 q147 qs9 q14 q148) ⟨rfl, rfl⟩ (by decide +kernel) ⟨hR.1, hR.2⟩ rfl hl.1 rfl (Nat.le_of_ble_eq_true rfl) dX0_lastFrom_12 (fun r1 u1 H locs hw_r1 hP hS => ?_)
      obtain ⟨er, eu⟩ := hw_r1
      rw [eu] at hP
      subst er
      obtain ⟨hk1, hk0⟩ := Hold_key hHo (k := n) (by omega) rfl
      refine lv_istore_n (lv' := [(3, .int (nI a)), (0, .ref E.2.2.1), (1, .int x), (2, .int (nI n))]) hx hb dX0_lastFrom_15 rfl hl (by decide) rfl (fun ls hl => ?_)
      refine lv_aload_n hx hb dX0_lastFrom_16 rfl (lv_at hl 1 rfl) ?_
      refine g_get F hP 1 (by decide) (by decide) rfl q25 dX0_lastFrom_17 ?_
      refine lv_bipush (v := nI 32) hx hb dX0_lastFrom_20 (by decide) ?_
      refine lv_iload_n hx hb dX0_lastFrom_22 rfl (lv_at hl 0 rfl) ?_
      refine gx_mul hx hb dX0_lastFrom_23 ?_
      refine lv_iload_n hx hb dX0_lastFrom_24 rfl (lv_at hl 3 rfl) ?_
      refine gx_add hx hb dX0_lastFrom_25 ?_
      refine g_zald F hP 1 128 (by decide) rfl rfl (by omega) (by decide) dX0_lastFrom_26 ?_
      refine gx_re (y := mm 0 n) hk1 ?_
      refine lv_if_eq (tgt := 47) hx hb dX0_lastFrom_27 (by decide) (fun c1 => ?_) (fun c1 => ?_)
      · have hs : mm 0 n = 0 ∨ mm 1 n < x := Or.inl c1
        refine lv_iinc (v := nI n + (-1)) (lv' := [(2, .int (nI n + (-1))), (3, .int (nI a)), (0, .ref E.2.2.1), (1, .int x)]) hx hb dX0_lastFrom_47 hl (k := 3) rfl rfl (by decide) rfl (fun ls hl => ?_)
        refine lv_goto (tgt := 3) hx hb dX0_lastFrom_50 (by decide) ?_
        exact ih H locs ls (by omega) (by rw [hlf, lf_skip hs]) hP hS (lv_sub hl [2, 3, 0] rfl)
      · refine lv_aload_n hx hb dX0_lastFrom_30 rfl (lv_at hl 1 rfl) ?_
        refine g_get F hP 0 (by decide) (by decide) rfl q24 dX0_lastFrom_31 ?_
        refine lv_bipush (v := nI 32) hx hb dX0_lastFrom_34 (by decide) ?_
        refine lv_iload_n hx hb dX0_lastFrom_36 rfl (lv_at hl 0 rfl) ?_
        refine gx_mul hx hb dX0_lastFrom_37 ?_
        refine lv_iload_n hx hb dX0_lastFrom_38 rfl (lv_at hl 3 rfl) ?_
        refine gx_add hx hb dX0_lastFrom_39 ?_
        refine g_iald F hP 0 128 (by decide) rfl rfl (by omega) (by decide) dX0_lastFrom_40 ?_
        refine gx_re (y := mm 1 n) (hk0 c1) ?_
        refine lv_iload_n hx hb dX0_lastFrom_41 rfl (lv_at hl 2 rfl) ?_
        refine lv_icmp_lt (tgt := 47) hx hb dX0_lastFrom_42 (by decide) (fun c2 => ?_) (fun c2 => ?_)
        · have hs : mm 0 n = 0 ∨ mm 1 n < x := Or.inr c2
          refine lv_iinc (v := nI n + (-1)) (lv' := [(2, .int (nI n + (-1))), (3, .int (nI a)), (0, .ref E.2.2.1), (1, .int x)]) hx hb dX0_lastFrom_47 hl (k := 3) rfl rfl (by decide) rfl (fun ls hl => ?_)
          refine lv_goto (tgt := 3) hx hb dX0_lastFrom_50 (by decide) ?_
          exact ih H locs ls (by omega) (by rw [hlf, lf_skip hs]) hP hS (lv_sub hl [2, 3, 0] rfl)
        · refine lv_iload_n hx hb dX0_lastFrom_45 rfl (lv_at hl 3 rfl) ?_
          exact g_iret hx hb hr hlocks hS M ⟨by rw [hlf, lf_here c1 c2], rfl⟩ (gZ_of hP) dX0_lastFrom_46
end
set_option maxHeartbeats 4000000 in
theorem m0_lastFrom (l : Launch) (E : Cx) (hap : gApE 20 E) (nx : Int32) (M : SM) (mm : SM) (hD : Dur M) (hC : Core M mm) (x : Int32)  : Met l yX0_lastFrom (ws_ yX0_lastFrom cX0_lastFrom 4 (some .int)) ({ frames := 2, cells := 0, slots := 0, locals := 60 }) (va_Pc [.ref E.2.2.1, .int x] (B0 E M nx)) (va_Qi (fun r u => r = lf mm x 32 ∧ u = M) (Z0 E nx) (gAE 20 E)) 0 0 (gAE 20 E) := by
  refine g_start (own := RX0) (T := TX0) (N := 21) (by decide) rfl hap rfl in_X0 (Nat.le_of_ble_eq_true rfl) ?_
  intro p e s m below meth c ls F hr hlocks hP hS hl
  have hx := F.1.1
  have hb := F.1.2.1
  have hl : lv_has ls 4 [(0, .ref E.2.2.1), (1, .int x)] := hl
  refine lv_bipush (v := nI 31) hx hb dX0_lastFrom_0 (by decide) ?_
  refine lv_istore_n (lv' := [(2, .int (nI 31)), (0, .ref E.2.2.1), (1, .int x)]) hx hb dX0_lastFrom_2 rfl hl (by decide) rfl (fun ls hl => ?_)
  exact lp_lastFrom hap F M mm hC ⟨Nat.le_of_ble_eq_true rfl, Nat.le_of_ble_eq_true rfl⟩ hr hlocks 32 _ _ _ (by omega) rfl hP hS (lv_sub hl [1, 2, 0] rfl)
set_option maxHeartbeats 4000000 in
theorem m0_assign (l : Launch) (E : Cx) (hap : gApE 20 E) (nx : Int32) (M : SM) (mm : SM) (hD : Dur M) (hC : Core M mm) (x y : Int32) (cl h : Nat) (hc : cl < 8) (hh : h < 4) (hx7 : x &&& nI 7 = nI cl) (hy3 : y &&& nI 3 = nI h) : Met l yX0_assign (ws_ yX0_assign cX0_assign 4 (some .int)) ({ frames := 2, cells := 0, slots := 0, locals := 60 }) (va_Pc [.ref E.2.2.1, .int x, .int y] (B0 E M nx)) (va_Qi (fun r u => r = mm 5 cl ∧ Dur u ∧ Core u (sU mm 5 cl (nI h))) (Z0 E nx) (gAE 20 E)) 0 0 (gAE 20 E) := by
  refine g_start (own := RX0) (T := TX0) (N := 21) (by decide) rfl hap rfl in_X0 (Nat.le_of_ble_eq_true rfl) ?_
  intro p e s m below meth c ls F hr hlocks hP hS hl
  have hx := F.1.1
  have hb := F.1.2.1
  have hl : lv_has ls 4 [(0, .ref E.2.2.1), (1, .int x), (2, .int y)] := hl
  obtain ⟨h0, hh0, e17, e5⟩ := hC.2.1 cl hc
  refine lv_aload_n hx hb dX0_assign_0 rfl (lv_at hl 0 rfl) ?_
  refine g_get F hP 17 (by decide) (by decide) rfl q41 dX0_assign_1 ?_
  refine lv_iload_n hx hb dX0_assign_4 rfl (lv_at hl 1 rfl) ?_
  refine lv_bipush (v := nI 7) hx hb dX0_assign_5 (by decide) ?_
  refine gx_and (a := 0) (j := cl) hx hb hx7 dX0_assign_7 ?_
  refine g_iald F hP 17 8 (by decide) rfl rfl (by omega) (by decide) dX0_assign_8 ?_
  refine gx_re (y := mm 5 cl) (e17.trans e5.symm) ?_
  refine lv_istore_n (lv' := [(3, .int (mm 5 cl)), (0, .ref E.2.2.1), (1, .int x), (2, .int y)]) hx hb dX0_assign_9 rfl hl (by decide) rfl (fun ls hl => ?_)
  refine lv_aload_n hx hb dX0_assign_10 rfl (lv_at hl 1 rfl) ?_
  refine g_get F hP 17 (by decide) (by decide) rfl q41 dX0_assign_11 ?_
  refine lv_iload_n hx hb dX0_assign_14 rfl (lv_at hl 2 rfl) ?_
  refine lv_bipush (v := nI 7) hx hb dX0_assign_15 (by decide) ?_
  refine gx_and (a := 0) (j := cl) hx hb hx7 dX0_assign_17 ?_
  refine lv_iload_n hx hb dX0_assign_18 rfl (lv_at hl 3 rfl) ?_
  refine lv_iconst (v := nI 3) hx hb dX0_assign_19 (by decide) ?_
  refine gx_and (a := 0) (j := h) hx hb hy3 dX0_assign_20 ?_
  refine g_iast F (fun _ h => h) hP hS 17 8 (by decide) rfl rfl (by omega) (by decide) dX0_assign_21 (fun M1 H locs eM1 hP hS => ?_)
  refine lv_iload_n hx hb dX0_assign_22 rfl (lv_at hl 0 rfl) ?_
  exact g_iret hx hb hr hlocks hS M1 ⟨rfl, by rw [eM1]; exact Dur_17 hD (by omega), by rw [eM1]; exact Core_assign hC hh⟩ (gZ_of hP) dX0_assign_23
set_option maxHeartbeats 4000000 in
theorem m0_home (l : Launch) (E : Cx) (hap : gApE 20 E) (nx : Int32) (M : SM) (mm : SM) (hD : Dur M) (hC : Core M mm) (x : Int32) (cl : Nat) (hc : cl < 8) (hx7 : x &&& nI 7 = nI cl) : Met l yX0_home (ws_ yX0_home cX0_home 2 (some .int)) ({ frames := 2, cells := 0, slots := 0, locals := 60 }) (va_Pc [.ref E.2.2.1, .int x] (B0 E M nx)) (va_Qi (fun r u => r = mm 5 cl ∧ u = M) (Z0 E nx) (gAE 20 E)) 0 0 (gAE 20 E) := by
  refine g_start (own := RX0) (T := TX0) (N := 21) (by decide) rfl hap rfl in_X0 (Nat.le_of_ble_eq_true rfl) ?_
  intro p e s m below meth c ls F hr hlocks hP hS hl
  have hx := F.1.1
  have hb := F.1.2.1
  have hl : lv_has ls 2 [(0, .ref E.2.2.1), (1, .int x)] := hl
  obtain ⟨h0, hh0, e17, e5⟩ := hC.2.1 cl hc
  refine lv_aload_n hx hb dX0_home_0 rfl (lv_at hl 0 rfl) ?_
  refine g_get F hP 17 (by decide) (by decide) rfl q41 dX0_home_1 ?_
  refine lv_iload_n hx hb dX0_home_4 rfl (lv_at hl 1 rfl) ?_
  refine lv_bipush (v := nI 7) hx hb dX0_home_5 (by decide) ?_
  refine gx_and (a := 0) (j := cl) hx hb hx7 dX0_home_7 ?_
  refine g_iald F hP 17 8 (by decide) rfl rfl (by omega) (by decide) dX0_home_8 ?_
  refine gx_re (y := mm 5 cl) (e17.trans e5.symm) ?_
  exact g_iret hx hb hr hlocks hS M ⟨rfl, rfl⟩ (gZ_of hP) dX0_home_9
end
section
/-! putfield of one of the values behind the arrays -/
section GP
variable {p : Program} {l : Launch} {e : Env} {R : Room} {s : State} {m : MethodId} {args : Array Value} {below : List Frame} {meth : Method} {c : Code} {H : Heap} {locs : List Loc} {cells slots : Nat} {Q : State → Prop}
variable {cc : ByteArray} {pc nL : Nat} {ls : Array Slot} {rest st0 : List Value}
variable {own : String} {T : u_T} {ci n N : Nat} {len : Nat → Nat} {ety : Nat → FieldType} {E : Cx} {M : SM} {ex : List Value}
theorem g_putx (F : Fx p s m c args cc nL own T ci n N ety E) {A : Nat → Prop} {H0 : Heap} (hA : ∀ q, gAE n E q → A q) (hP : va_P E.1 vwCl (gE ci n len ex E M) H) (hS : va_S A H0 H locs) (j : Nat) {index : Nat} {v : Value} {ty : FieldType} (ty0 : Nat → FieldType) (hty : ∀ k, k < N → parseFieldDescriptor (T k).2.2.1 = some (ty0 k)) (hnm : ∀ a, a < N → ∀ b, b < N → a ≠ b → (T a).2.1 ≠ (T b).2.1) (hkN : n + j < N) (hj : j < ex.length) (h1 : (T (n + j)).1 = own) (hq : Cond.fieldLink own index own (T (n + j)).2.1 (T (n + j)).2.2.1 ∈ lw_all) (hfin : (T (n + j)).2.2.2 = false) (hd : parseFieldDescriptor (T (n + j)).2.2.1 = some ty) (hn : narrow ty v = v) (hfit : fits ty v = true) (hdg : decode cc pc = .ok (.putfield index, 3))
    (kk : ∀ (H1 : Heap) (locs1 : List Loc), va_P E.1 vwCl (gE ci n len (ex.set j v) E M) H1 → va_S A H0 H1 locs1 → W p l e R s m args below meth c H1 locs1 cells slots Q (F0 m (pc + 3) ls rest)) : W p l e R s m args below meth c H locs cells slots Q (F0 m pc ls (v :: .ref E.2.2.1 :: rest)) := by
  obtain ⟨⟨hx, hb, hml, hown, hts⟩, hK, hap, hcl, hin⟩ := F
  refine va_put hx hb hts hin ty0 hty hnm hown hK hP (gw_D hap hA) hS 0 gw_ob hcl (n + j) hkN (hts _ hq) (fun _ h9 => by rw [h1] at h9; exact h9) hfin hd hn hfit (by simp; omega) hdg (fun H1 locs1 hP1 _ hS1 => ?_)
  rw [gw_setx] at hP1
  exact kk H1 locs1 hP1 hS1
end GP
end
section
set_option maxRecDepth 100000
section
variable {p : Program} {l : Launch} {e : Env} {R : Room} {s : State} {m : MethodId} {args : Array Value} {below : List Frame} {meth : Method} {c : Code} {Q : State → Prop} {E : Cx}
set_option maxHeartbeats 4000000 in
/-- work's loop -/
theorem lp_work (hap : gApE 20 E) (F : Fx p s m c args cX0_work 5 RX0 TX0 0 20 21 ety0 E) {x : Int32} (mm : SM) (hR : 5 ≤ R.frames ∧ 125 ≤ R.locals) (hr : meth.sig.returnType = none) (hlocks : meth.locks = false) :
    ∀ (n k j : Nat) (idle : Int32) (M : SM) (H : Heap) (locs : List Loc) (ls : Array Slot), k + n = 100 → j < 8 → Dur M → Core M mm → va_P E.1 vwCl (w0 E M (nI j)) H → va_S (gAE 20 E) s.heap H locs → lv_has ls 5 [(0, .ref E.2.2.1), (1, .int x), (2, .int idle), (3, .int (nI k))] → W p l e R s m args below meth c H locs 0 0 (MQ below (va_Qv (fun z : SM × Int32 => Dur z.1 ∧ Core z.1 mm ∧ ∃ j, j < 8 ∧ z.2 = nI j) (fun (z : SM × Int32) => Z0 E z.2 z.1) (gAE 20 E)) args s 0 0 (gAE 20 E)) (F0 m 4 ls []) := by
  have hx := F.1.1
  have hb := F.1.2.1
  intro n
  induction n with
  | zero =>
    intro k j idle M H locs ls hk hj hD hC hP hS hl
    have hk : k = 100 := by omega
    subst hk
    refine lv_iload_n hx hb dX0_work_4 rfl (lv_at hl 3 rfl) ?_
    refine lv_iload_n hx hb dX0_work_5 rfl (lv_at hl 1 rfl) ?_
    refine lv_icmp_ge (tgt := 63) hx hb dX0_work_6 (by decide) (fun c_1 => ?_) (fun c_1 => ?_)
    · exact g_vret hx hb hr hlocks hS (M, nI j) ⟨hD, hC, j, hj, rfl⟩ (gZ_of hP) dX0_work_63
    · refine lv_iload_n hx hb dX0_work_9 rfl (lv_at hl 3 rfl) ?_
      refine lv_bipush (v := nI 100) hx hb dX0_work_10 (by decide) ?_
      refine gx_ge hx hb 63 (by omega) (by omega) dX0_work_12 (by decide) (fun c_2 => ?_) (fun c_2 => ?_)
      · exact g_vret hx hb hr hlocks hS (M, nI j) ⟨hD, hC, j, hj, rfl⟩ (gZ_of hP) dX0_work_63
      · exact absurd c_2 (by omega)
  | succ n ih =>
    intro k j idle M H locs ls hk hj hD hC hP hS hl
    refine lv_iload_n hx hb dX0_work_4 rfl (lv_at hl 3 rfl) ?_
    refine lv_iload_n hx hb dX0_work_5 rfl (lv_at hl 1 rfl) ?_
    refine lv_icmp_ge (tgt := 63) hx hb dX0_work_6 (by decide) (fun c_3 => ?_) (fun c_3 => ?_)
    · exact g_vret hx hb hr hlocks hS (M, nI j) ⟨hD, hC, j, hj, rfl⟩ (gZ_of hP) dX0_work_63
    · refine lv_iload_n hx hb dX0_work_9 rfl (lv_at hl 3 rfl) ?_
      refine lv_bipush (v := nI 100) hx hb dX0_work_10 (by decide) ?_
      refine gx_ge hx hb 63 (by omega) (by omega) dX0_work_12 (by decide) (fun c_4 => ?_) (fun c_4 => ?_)
      · exact g_vret hx hb hr hlocks hS (M, nI j) ⟨hD, hC, j, hj, rfl⟩ (gZ_of hP) dX0_work_63
      · refine lv_iload_n hx hb dX0_work_15 rfl (lv_at hl 2 rfl) ?_
        refine lv_bipush (v := nI 8) hx hb dX0_work_16 (by decide) ?_
        refine lv_icmp_ge (tgt := 63) hx hb dX0_work_18 (by decide) (fun c_5 => ?_) (fun c_5 => ?_)
        · exact g_vret hx hb hr hlocks hS (M, nI j) ⟨hD, hC, j, hj, rfl⟩ (gZ_of hP) dX0_work_63
        · refine lv_aload_n hx hb dX0_work_21 rfl (lv_at hl 0 rfl) ?_
          refine lv_aload_n hx hb dX0_work_22 rfl (lv_at hl 0 rfl) ?_
          refine g_getx F hP 0 (by decide) rfl rfl q44 dX0_work_23 ?_
          obtain ⟨h, hh, h17, -⟩ := hC.2.1 j hj
          obtain ⟨kd, a, b, pp, hH⟩ := hC.1 j hj
          refine g_calli (k := 1) F hP hS (m0_moveOn l E hap (nI j) M mm hD hC j kd a b pp h hj hH hh h17) (lw_V q101 q103 qs1 q14 q104) ⟨rfl, rfl⟩ (by decide +kernel) ⟨hR.1, hR.2⟩ rfl hl.1 rfl (Nat.le_of_ble_eq_true rfl) dX0_work_26 (fun r u H locs hw_r hP hS => ?_)
          obtain ⟨-, hD2, hC2, -⟩ := hw_r
          refine lv_istore (lv' := [(4, .int r), (0, .ref E.2.2.1), (1, .int x), (2, .int idle), (3, .int (nI k))]) hx hb dX0_work_29 hl (by decide) rfl (fun ls hl => ?_)
          refine lv_iload hx hb dX0_work_31 (lv_at hl 0 rfl) ?_
          refine lv_if_eq (tgt := 40) hx hb dX0_work_33 (by decide) (fun c_6 => ?_) (fun c_6 => ?_)
          · refine lv_iload_n hx hb dX0_work_40 rfl (lv_at hl 3 rfl) ?_
            refine lv_iconst (v := nI 1) hx hb dX0_work_41 (by decide) ?_
            refine lv_iadd hx hb dX0_work_42 ?_
            refine lv_istore_n (lv' := [(2, .int (idle + (nI 1))), (4, .int r), (0, .ref E.2.2.1), (1, .int x), (3, .int (nI k))]) hx hb dX0_work_43 rfl hl (by decide) rfl (fun ls hl => ?_)
            refine lv_aload_n hx hb dX0_work_44 rfl (lv_at hl 2 rfl) ?_
            refine lv_aload_n hx hb dX0_work_45 rfl (lv_at hl 2 rfl) ?_
            refine g_getx F hP 0 (by decide) rfl rfl q44 dX0_work_46 ?_
            refine lv_iconst (v := nI 1) hx hb dX0_work_49 (by decide) ?_
            refine gx_add hx hb dX0_work_50 ?_
            refine lv_bipush (v := nI 7) hx hb dX0_work_51 (by decide) ?_
            refine gx_and (a := 0) (j := ((j + 1) % 8)) hx hb (and7 (by omega)) dX0_work_53 ?_
            refine g_putx F (fun _ h => h) hP hS 0 tyX0 tyX0_ok nmX0 (by decide) (Nat.le_of_ble_eq_true rfl) rfl q44 rfl (ty := .int) (by decide +kernel) rfl rfl dX0_work_54 (fun H locs hP hS => ?_)
            refine lv_iinc (v := nI (k + 1)) (lv' := [(3, .int (nI (k + 1))), (2, .int (idle + (nI 1))), (4, .int r), (0, .ref E.2.2.1), (1, .int x)]) hx hb dX0_work_57 hl (k := 4) rfl (nI_add k 1) (by decide) rfl (fun ls hl => ?_)
            refine lv_goto (tgt := 4) hx hb dX0_work_60 (by decide) ?_
            exact ih (k + 1) ((j + 1) % 8) _ u H locs ls (by omega) (by omega) hD2 hC2 hP hS (lv_sub hl [3, 4, 1, 0] rfl)
          · refine lv_iconst (v := nI 0) hx hb dX0_work_36 (by decide) ?_
            refine lv_goto (tgt := 43) hx hb dX0_work_37 (by decide) ?_
            refine lv_istore_n (lv' := [(2, .int (nI 0)), (4, .int r), (0, .ref E.2.2.1), (1, .int x), (3, .int (nI k))]) hx hb dX0_work_43 rfl hl (by decide) rfl (fun ls hl => ?_)
            refine lv_aload_n hx hb dX0_work_44 rfl (lv_at hl 2 rfl) ?_
            refine lv_aload_n hx hb dX0_work_45 rfl (lv_at hl 2 rfl) ?_
            refine g_getx F hP 0 (by decide) rfl rfl q44 dX0_work_46 ?_
            refine lv_iconst (v := nI 1) hx hb dX0_work_49 (by decide) ?_
            refine gx_add hx hb dX0_work_50 ?_
            refine lv_bipush (v := nI 7) hx hb dX0_work_51 (by decide) ?_
            refine gx_and (a := 0) (j := ((j + 1) % 8)) hx hb (and7 (by omega)) dX0_work_53 ?_
            refine g_putx F (fun _ h => h) hP hS 0 tyX0 tyX0_ok nmX0 (by decide) (Nat.le_of_ble_eq_true rfl) rfl q44 rfl (ty := .int) (by decide +kernel) rfl rfl dX0_work_54 (fun H locs hP hS => ?_)
            refine lv_iinc (v := nI (k + 1)) (lv' := [(3, .int (nI (k + 1))), (2, .int (nI 0)), (4, .int r), (0, .ref E.2.2.1), (1, .int x)]) hx hb dX0_work_57 hl (k := 4) rfl (nI_add k 1) (by decide) rfl (fun ls hl => ?_)
            refine lv_goto (tgt := 4) hx hb dX0_work_60 (by decide) ?_
            exact ih (k + 1) ((j + 1) % 8) _ u H locs ls (by omega) (by omega) hD2 hC2 hP hS (lv_sub hl [3, 4, 1, 0] rfl)
end
set_option maxHeartbeats 4000000 in
theorem m0_work (l : Launch) (E : Cx) (hap : gApE 20 E) (nx : Int32) (M : SM) (mm : SM) (hD : Dur M) (hC : Core M mm) (x : Int32) (j : Nat) (hj : j < 8) (hnx : nx = nI j) : Met l yX0_work (ws_ yX0_work cX0_work 5 none) ({ frames := 5, cells := 0, slots := 0, locals := 125 }) (va_Pc [.ref E.2.2.1, .int x] (B0 E M nx)) (va_Qv (fun z : SM × Int32 => Dur z.1 ∧ Core z.1 mm ∧ ∃ j, j < 8 ∧ z.2 = nI j) (fun (z : SM × Int32) => Z0 E z.2 z.1) (gAE 20 E)) 0 0 (gAE 20 E) := by
  refine g_start (own := RX0) (T := TX0) (N := 21) (by decide) rfl hap rfl in_X0 (Nat.le_of_ble_eq_true rfl) ?_
  intro p e s m below meth c ls F hr hlocks hP hS hl
  have hx := F.1.1
  have hb := F.1.2.1
  have hl : lv_has ls 5 [(0, .ref E.2.2.1), (1, .int x)] := hl
  subst hnx
  refine lv_iconst (v := nI 0) hx hb dX0_work_0 (by decide) ?_
  refine lv_istore_n (lv' := [(2, .int (nI 0)), (0, .ref E.2.2.1), (1, .int x)]) hx hb dX0_work_1 rfl hl (by decide) rfl (fun ls hl => ?_)
  refine lv_iconst (v := nI 0) hx hb dX0_work_2 (by decide) ?_
  refine lv_istore_n (lv' := [(3, .int (nI 0)), (2, .int (nI 0)), (0, .ref E.2.2.1), (1, .int x)]) hx hb dX0_work_3 rfl hl (by decide) rfl (fun ls hl => ?_)
  exact lp_work hap F mm ⟨Nat.le_of_ble_eq_true rfl, Nat.le_of_ble_eq_true rfl⟩ hr hlocks 100 0 j _ M _ _ _ (by omega) hj hD hC hP hS (lv_sub hl [2, 3, 1, 0] rfl)
end
section
set_option maxRecDepth 100000
section
variable {p : Program} {l : Launch} {e : Env} {R : Room} {s : State} {m : MethodId} {args : Array Value} {below : List Frame} {meth : Method} {c : Code} {Q : State → Prop} {E : Cx} {nx : Int32}
set_option maxHeartbeats 4000000 in
/-- lose's first loop -/
theorem lp_lose_1 (F : Fx p s m c args cX0_lose 4 RX0 TX0 0 20 21 ety0 E) {x : Int32} {g : Nat} (hg : g < 4) (M : SM) (hB : Bo M) (exit : ∀ (H : Heap) (locs : List Loc) (ls : Array Slot), va_P E.1 vwCl (w0 E (ldL M g (32 * g + 32) 0) nx) H → va_S (gAE 20 E) s.heap H locs → lv_has ls 4 [(0, .ref E.2.2.1), (1, .int x), (2, .int (nI g))] → W p l e R s m args below meth c H locs 0 0 Q (F0 m 86 ls [])) :
    ∀ (n i : Nat) (H : Heap) (locs : List Loc) (ls : Array Slot), i + n = 32 * g + 32 → 32 * g ≤ i → va_P E.1 vwCl (w0 E (ldL M g i 0) nx) H → va_S (gAE 20 E) s.heap H locs → lv_has ls 4 [(0, .ref E.2.2.1), (1, .int x), (2, .int (nI g)), (3, .int (nI i))] → W p l e R s m args below meth c H locs 0 0 Q (F0 m 9 ls []) := by
  have hx := F.1.1
  have hb := F.1.2.1
  intro n
  induction n with
  | zero =>
    intro i H locs ls hi hi2 hP hS hl
    have hi : i = 32 * g + 32 := by omega
    subst hi
    refine lv_iload_n hx hb dX0_lose_9 rfl (lv_at hl 3 rfl) ?_
    refine lv_bipush (v := nI 32) hx hb dX0_lose_10 (by decide) ?_
    refine lv_iload_n hx hb dX0_lose_12 rfl (lv_at hl 2 rfl) ?_
    refine gx_mul hx hb dX0_lose_13 ?_
    refine lv_bipush (v := nI 32) hx hb dX0_lose_14 (by decide) ?_
    refine gx_add hx hb dX0_lose_16 ?_
    refine gx_ge hx hb 86 (by omega) (by omega) dX0_lose_17 (by decide) (fun c_7 => ?_) (fun c_7 => ?_)
    · exact exit H locs ls hP hS (lv_sub hl [0, 1, 2] rfl)
    · exact absurd c_7 (by omega)
  | succ n ih =>
    intro i H locs ls hi hi2 hP hS hl
    refine lv_iload_n hx hb dX0_lose_9 rfl (lv_at hl 3 rfl) ?_
    refine lv_bipush (v := nI 32) hx hb dX0_lose_10 (by decide) ?_
    refine lv_iload_n hx hb dX0_lose_12 rfl (lv_at hl 2 rfl) ?_
    refine gx_mul hx hb dX0_lose_13 ?_
    refine lv_bipush (v := nI 32) hx hb dX0_lose_14 (by decide) ?_
    refine gx_add hx hb dX0_lose_16 ?_
    refine gx_ge hx hb 86 (by omega) (by omega) dX0_lose_17 (by decide) (fun c_8 => ?_) (fun c_8 => ?_)
    · exact absurd c_8 (by omega)
    · refine lv_aload_n hx hb dX0_lose_20 rfl (lv_at hl 0 rfl) ?_
      refine g_get F hP 0 (by decide) (by decide) rfl q24 dX0_lose_21 ?_
      refine lv_iload_n hx hb dX0_lose_24 rfl (lv_at hl 3 rfl) ?_
      refine lv_aload_n hx hb dX0_lose_25 rfl (lv_at hl 0 rfl) ?_
      refine g_get F hP 6 (by decide) (by decide) rfl q30 dX0_lose_26 ?_
      refine lv_iload_n hx hb dX0_lose_29 rfl (lv_at hl 3 rfl) ?_
      refine g_iald F hP 6 128 (by decide) rfl rfl (by omega) (by decide) dX0_lose_30 ?_
      refine gx_re (y := M 6 i) (by rw [ldL_hi (by omega)]) ?_
      refine g_iast F (fun _ h => h) hP hS 0 128 (by decide) rfl rfl (by omega) (by decide) dX0_lose_31 (fun M1 H locs eM1 hP hS => ?_)
      refine lv_aload_n hx hb dX0_lose_32 rfl (lv_at hl 0 rfl) ?_
      refine g_get F hP 1 (by decide) (by decide) rfl q25 dX0_lose_33 ?_
      refine lv_iload_n hx hb dX0_lose_36 rfl (lv_at hl 3 rfl) ?_
      refine lv_aload_n hx hb dX0_lose_37 rfl (lv_at hl 0 rfl) ?_
      refine g_get F hP 7 (by decide) (by decide) rfl q31 dX0_lose_38 ?_
      refine lv_iload_n hx hb dX0_lose_41 rfl (lv_at hl 3 rfl) ?_
      refine g_zald F hP 7 128 (by decide) rfl rfl (by omega) (by decide) dX0_lose_42 ?_
      refine gx_re (y := M 7 i) (by rw [eM1, sU_k (by omega), ldL_hi (by omega)]) ?_
      refine g_zast F (fun _ h => h) hP hS 1 128 (by decide) rfl rfl (by omega) (by decide) (hB i).2.2.1 dX0_lose_43 (fun M2 H locs eM2 hP hS => ?_)
      refine lv_aload_n hx hb dX0_lose_44 rfl (lv_at hl 0 rfl) ?_
      refine g_get F hP 2 (by decide) (by decide) rfl q26 dX0_lose_45 ?_
      refine lv_iload_n hx hb dX0_lose_48 rfl (lv_at hl 3 rfl) ?_
      refine lv_aload_n hx hb dX0_lose_49 rfl (lv_at hl 0 rfl) ?_
      refine g_get F hP 8 (by decide) (by decide) rfl q32 dX0_lose_50 ?_
      refine lv_iload_n hx hb dX0_lose_53 rfl (lv_at hl 3 rfl) ?_
      refine g_zald F hP 8 128 (by decide) rfl rfl (by omega) (by decide) dX0_lose_54 ?_
      refine gx_re (y := M 8 i) (by rw [eM2, sU_k (by omega), eM1, sU_k (by omega), ldL_hi (by omega)]) ?_
      refine g_zast F (fun _ h => h) hP hS 2 128 (by decide) rfl rfl (by omega) (by decide) (hB i).2.2.2 dX0_lose_55 (fun M3 H locs eM3 hP hS => ?_)
      refine lv_aload_n hx hb dX0_lose_56 rfl (lv_at hl 0 rfl) ?_
      refine g_get F hP 3 (by decide) (by decide) rfl q27 dX0_lose_57 ?_
      refine lv_iload_n hx hb dX0_lose_60 rfl (lv_at hl 3 rfl) ?_
      refine lv_aload_n hx hb dX0_lose_61 rfl (lv_at hl 0 rfl) ?_
      refine g_get F hP 9 (by decide) (by decide) rfl q33 dX0_lose_62 ?_
      refine lv_iload_n hx hb dX0_lose_65 rfl (lv_at hl 3 rfl) ?_
      refine g_iald F hP 9 128 (by decide) rfl rfl (by omega) (by decide) dX0_lose_66 ?_
      refine gx_re (y := M 9 i) (by rw [eM3, sU_k (by omega), eM2, sU_k (by omega), eM1, sU_k (by omega), ldL_hi (by omega)]) ?_
      refine g_iast F (fun _ h => h) hP hS 3 128 (by decide) rfl rfl (by omega) (by decide) dX0_lose_67 (fun M4 H locs eM4 hP hS => ?_)
      refine lv_aload_n hx hb dX0_lose_68 rfl (lv_at hl 0 rfl) ?_
      refine g_get F hP 4 (by decide) (by decide) rfl q28 dX0_lose_69 ?_
      refine lv_iload_n hx hb dX0_lose_72 rfl (lv_at hl 3 rfl) ?_
      refine lv_aload_n hx hb dX0_lose_73 rfl (lv_at hl 0 rfl) ?_
      refine g_get F hP 10 (by decide) (by decide) rfl q34 dX0_lose_74 ?_
      refine lv_iload_n hx hb dX0_lose_77 rfl (lv_at hl 3 rfl) ?_
      refine g_iald F hP 10 128 (by decide) rfl rfl (by omega) (by decide) dX0_lose_78 ?_
      refine gx_re (y := M 10 i) (by rw [eM4, sU_k (by omega), eM3, sU_k (by omega), eM2, sU_k (by omega), eM1, sU_k (by omega), ldL_hi (by omega)]) ?_
      refine g_iast F (fun _ h => h) hP hS 4 128 (by decide) rfl rfl (by omega) (by decide) dX0_lose_79 (fun M5 H locs eM5 hP hS => ?_)
      refine lv_iinc (v := nI (i + 1)) (lv' := [(3, .int (nI (i + 1))), (0, .ref E.2.2.1), (1, .int x), (2, .int (nI g))]) hx hb dX0_lose_80 hl (k := 3) rfl (nI_add i 1) (by decide) rfl (fun ls hl => ?_)
      refine lv_goto (tgt := 9) hx hb dX0_lose_83 (by decide) ?_
      exact ih (i + 1) H locs ls (by omega) (by omega) (by rw [eM5, eM4, eM3, eM2, eM1, ldL_b hi2] at hP; exact hP) hS (lv_sub hl [1, 2, 3, 0] rfl)
set_option maxHeartbeats 4000000 in
/-- lose's second loop -/
theorem lp_lose_2 (F : Fx p s m c args cX0_lose 4 RX0 TX0 0 20 21 ety0 E) {x : Int32} {g : Nat} (hg : g < 4) (M : SM) (exit : ∀ (H : Heap) (locs : List Loc) (ls : Array Slot), va_P E.1 vwCl (w0 E (ldL M g (32 * g + 32) 8) nx) H → va_S (gAE 20 E) s.heap H locs → lv_has ls 4 [(0, .ref E.2.2.1), (1, .int x), (2, .int (nI g))] → W p l e R s m args below meth c H locs 0 0 Q (F0 m 122 ls [])) :
    ∀ (n q : Nat) (H : Heap) (locs : List Loc) (ls : Array Slot), q + n = 8 → va_P E.1 vwCl (w0 E (ldL M g (32 * g + 32) q) nx) H → va_S (gAE 20 E) s.heap H locs → lv_has ls 4 [(0, .ref E.2.2.1), (1, .int x), (2, .int (nI g)), (3, .int (nI q))] → W p l e R s m args below meth c H locs 0 0 Q (F0 m 88 ls []) := by
  have hx := F.1.1
  have hb := F.1.2.1
  intro n
  induction n with
  | zero =>
    intro q H locs ls hi hP hS hl
    have hi : q = 8 := by omega
    subst hi
    refine lv_iload_n hx hb dX0_lose_88 rfl (lv_at hl 3 rfl) ?_
    refine lv_bipush (v := nI 8) hx hb dX0_lose_89 (by decide) ?_
    refine gx_ge hx hb 122 (by omega) (by omega) dX0_lose_91 (by decide) (fun c_9 => ?_) (fun c_9 => ?_)
    · exact exit H locs ls hP hS (lv_sub hl [0, 1, 2] rfl)
    · exact absurd c_9 (by omega)
  | succ n ih =>
    intro q H locs ls hi hP hS hl
    refine lv_iload_n hx hb dX0_lose_88 rfl (lv_at hl 3 rfl) ?_
    refine lv_bipush (v := nI 8) hx hb dX0_lose_89 (by decide) ?_
    refine gx_ge hx hb 122 (by omega) (by omega) dX0_lose_91 (by decide) (fun c_10 => ?_) (fun c_10 => ?_)
    · exact absurd c_10 (by omega)
    · refine lv_aload_n hx hb dX0_lose_94 rfl (lv_at hl 0 rfl) ?_
      refine g_get F hP 5 (by decide) (by decide) rfl q29 dX0_lose_95 ?_
      refine lv_bipush (v := nI 8) hx hb dX0_lose_98 (by decide) ?_
      refine lv_iload_n hx hb dX0_lose_100 rfl (lv_at hl 2 rfl) ?_
      refine gx_mul hx hb dX0_lose_101 ?_
      refine lv_iload_n hx hb dX0_lose_102 rfl (lv_at hl 3 rfl) ?_
      refine gx_add hx hb dX0_lose_103 ?_
      refine lv_aload_n hx hb dX0_lose_104 rfl (lv_at hl 0 rfl) ?_
      refine g_get F hP 11 (by decide) (by decide) rfl q35 dX0_lose_105 ?_
      refine lv_bipush (v := nI 8) hx hb dX0_lose_108 (by decide) ?_
      refine lv_iload_n hx hb dX0_lose_110 rfl (lv_at hl 2 rfl) ?_
      refine gx_mul hx hb dX0_lose_111 ?_
      refine lv_iload_n hx hb dX0_lose_112 rfl (lv_at hl 3 rfl) ?_
      refine gx_add hx hb dX0_lose_113 ?_
      refine g_iald F hP 11 32 (by decide) rfl rfl (by omega) (by decide) dX0_lose_114 ?_
      refine gx_re (y := M 11 (8 * g + q)) (ldL_hi (by omega)) ?_
      refine g_iast F (fun _ h => h) hP hS 5 32 (by decide) rfl rfl (by omega) (by decide) dX0_lose_115 (fun M1 H locs eM1 hP hS => ?_)
      refine lv_iinc (v := nI (q + 1)) (lv' := [(3, .int (nI (q + 1))), (0, .ref E.2.2.1), (1, .int x), (2, .int (nI g))]) hx hb dX0_lose_116 hl (k := 3) rfl (nI_add q 1) (by decide) rfl (fun ls hl => ?_)
      refine lv_goto (tgt := 88) hx hb dX0_lose_119 (by decide) ?_
      exact ih (q + 1) H locs ls (by omega) (by rw [eM1, ldL_c] at hP; exact hP) hS (lv_sub hl [1, 2, 3, 0] rfl)
set_option maxHeartbeats 4000000 in
/-- lose's third loop: the log replayed -/
theorem lp_lose_3 (hap : gApE 20 E) (F : Fx p s m c args cX0_lose 4 RX0 TX0 0 20 21 ety0 E) {x : Int32} {g nn : Nat} (hg : g < 4) (hnn : nn ≤ 8) (M : SM) (h12 : M 12 g = nI nn) (hok : okL M g nn) (hR : 2 ≤ R.frames ∧ 48 ≤ R.locals) (exit : ∀ (H : Heap) (locs : List Loc) (ls : Array Slot), va_P E.1 vwCl (w0 E (rp M g nn) nx) H → va_S (gAE 20 E) s.heap H locs → lv_has ls 4 [(0, .ref E.2.2.1), (1, .int x), (2, .int (nI g))] → W p l e R s m args below meth c H locs 0 0 Q (F0 m 177 ls [])) :
    ∀ (n j : Nat) (H : Heap) (locs : List Loc) (ls : Array Slot), j + n = nn → va_P E.1 vwCl (w0 E (rp M g j) nx) H → va_S (gAE 20 E) s.heap H locs → lv_has ls 4 [(0, .ref E.2.2.1), (1, .int x), (2, .int (nI g)), (3, .int (nI (8 * g + j)))] → W p l e R s m args below meth c H locs 0 0 Q (F0 m 127 ls []) := by
  have hx := F.1.1
  have hb := F.1.2.1
  intro n
  induction n with
  | zero =>
    intro j H locs ls hj hP hS hl
    have hj : j = nn := by omega
    subst hj
    refine lv_iload_n hx hb dX0_lose_127 rfl (lv_at hl 3 rfl) ?_
    refine lv_bipush (v := nI 8) hx hb dX0_lose_128 (by decide) ?_
    refine lv_iload_n hx hb dX0_lose_130 rfl (lv_at hl 2 rfl) ?_
    refine gx_mul hx hb dX0_lose_131 ?_
    refine lv_aload_n hx hb dX0_lose_132 rfl (lv_at hl 0 rfl) ?_
    refine g_get F hP 12 (by decide) (by decide) rfl q36 dX0_lose_133 ?_
    refine lv_iload_n hx hb dX0_lose_136 rfl (lv_at hl 2 rfl) ?_
    refine g_iald F hP 12 4 (by decide) rfl rfl (by omega) (by decide) dX0_lose_137 ?_
    refine gx_re (y := nI j) ((rp_out (by unfold inB; omega) j (fun q hq => hok q (by omega))).trans h12) ?_
    refine gx_add hx hb dX0_lose_138 ?_
    refine gx_ge hx hb 177 (by omega) (by omega) dX0_lose_139 (by decide) (fun c_11 => ?_) (fun c_11 => ?_)
    · exact exit H locs ls hP hS (lv_sub hl [0, 1, 2] rfl)
    · exact absurd c_11 (by omega)
  | succ n ih =>
    intro j H locs ls hj hP hS hl
    obtain ⟨kd, av, hok1, h13, h14⟩ := hok j (by omega)
    have hokj : okL M g j := fun q hq => hok q (by omega)
    refine lv_iload_n hx hb dX0_lose_127 rfl (lv_at hl 3 rfl) ?_
    refine lv_bipush (v := nI 8) hx hb dX0_lose_128 (by decide) ?_
    refine lv_iload_n hx hb dX0_lose_130 rfl (lv_at hl 2 rfl) ?_
    refine gx_mul hx hb dX0_lose_131 ?_
    refine lv_aload_n hx hb dX0_lose_132 rfl (lv_at hl 0 rfl) ?_
    refine g_get F hP 12 (by decide) (by decide) rfl q36 dX0_lose_133 ?_
    refine lv_iload_n hx hb dX0_lose_136 rfl (lv_at hl 2 rfl) ?_
    refine g_iald F hP 12 4 (by decide) rfl rfl (by omega) (by decide) dX0_lose_137 ?_
    refine gx_re (y := nI nn) ((rp_out (by unfold inB; omega) j (fun q hq => hok q (by omega))).trans h12) ?_
    refine gx_add hx hb dX0_lose_138 ?_
    refine gx_ge hx hb 177 (by omega) (by omega) dX0_lose_139 (by decide) (fun c_12 => ?_) (fun c_12 => ?_)
    · exact absurd c_12 (by omega)
    · refine lv_aload_n hx hb dX0_lose_142 rfl (lv_at hl 0 rfl) ?_
      refine lv_iload_n hx hb dX0_lose_143 rfl (lv_at hl 2 rfl) ?_
      refine lv_aload_n hx hb dX0_lose_144 rfl (lv_at hl 0 rfl) ?_
      refine g_get F hP 13 (by decide) (by decide) rfl q37 dX0_lose_145 ?_
      refine lv_iload_n hx hb dX0_lose_148 rfl (lv_at hl 3 rfl) ?_
      refine g_iald F hP 13 32 (by decide) rfl rfl (by omega) (by decide) dX0_lose_149 ?_
      refine gx_re (y := nI kd) ((rp_out (by unfold inB; omega) j hokj).trans h13) ?_
      refine lv_aload_n hx hb dX0_lose_150 rfl (lv_at hl 0 rfl) ?_
      refine g_get F hP 14 (by decide) (by decide) rfl q38 dX0_lose_151 ?_
      refine lv_iload_n hx hb dX0_lose_154 rfl (lv_at hl 3 rfl) ?_
      refine g_iald F hP 14 32 (by decide) rfl rfl (by omega) (by decide) dX0_lose_155 ?_
      refine gx_re (y := nI av) ((rp_out (by unfold inB; omega) j hokj).trans h14) ?_
      refine lv_aload_n hx hb dX0_lose_156 rfl (lv_at hl 0 rfl) ?_
      refine g_get F hP 15 (by decide) (by decide) rfl q39 dX0_lose_157 ?_
      refine lv_iload_n hx hb dX0_lose_160 rfl (lv_at hl 3 rfl) ?_
      refine g_iald F hP 15 32 (by decide) rfl rfl (by omega) (by decide) dX0_lose_161 ?_
      refine gx_re (y := M 15 (8 * g + j)) (rp_out (by unfold inB; omega) j hokj) ?_
      refine lv_aload_n hx hb dX0_lose_162 rfl (lv_at hl 0 rfl) ?_
      refine g_get F hP 16 (by decide) (by decide) rfl q40 dX0_lose_163 ?_
      refine lv_iload_n hx hb dX0_lose_166 rfl (lv_at hl 3 rfl) ?_
      refine g_iald F hP 16 32 (by decide) rfl rfl (by omega) (by decide) dX0_lose_167 ?_
      refine gx_re (y := M 16 (8 * g + j)) (rp_out (by unfold inB; omega) j hokj) ?_
      refine g_callv (k := 5) F hP hS (m0_apply l E hap nx (rp M g j) g kd av (M 15 (8 * g + j)) (M 16 (8 * g + j)) hg hok1) (lw_V q117 q119 qs5 q14 q120) ⟨rfl, rfl⟩ (by decide +kernel) ⟨hR.1, hR.2⟩ rfl hl.1 rfl (Nat.le_of_ble_eq_true rfl) dX0_lose_168 (fun u H locs hw_u hP hS => ?_)
      have eu : u = rp M g (j + 1) := by rw [hw_u, rp, h13, h14, nI_clamp (okE_31 hok1).1, nI_clamp (okE_31 hok1).2]
      refine lv_iinc (v := nI (8 * g + j + 1)) (lv' := [(3, .int (nI (8 * g + j + 1))), (0, .ref E.2.2.1), (1, .int x), (2, .int (nI g))]) hx hb dX0_lose_171 hl (k := 3) rfl (nI_add (8 * g + j) 1) (by decide) rfl (fun ls hl => ?_)
      refine lv_goto (tgt := 127) hx hb dX0_lose_174 (by decide) ?_
      exact ih (j + 1) H locs ls (by omega) (by rw [eu] at hP; exact hP) hS (lv_sub hl [1, 2, 3, 0] rfl)
set_option maxHeartbeats 4000000 in
/-- lose's last loop -/
theorem lp_lose_4 (F : Fx p s m c args cX0_lose 4 RX0 TX0 0 20 21 ety0 E) {x : Int32} {g : Nat} (hg : g < 4) (M : SM) (exit : ∀ (H : Heap) (locs : List Loc) (ls : Array Slot), va_P E.1 vwCl (w0 E (loM M g 8) nx) H → va_S (gAE 20 E) s.heap H locs → lv_has ls 4 [(0, .ref E.2.2.1), (1, .int x), (2, .int (nI g))] → W p l e R s m args below meth c H locs 0 0 Q (F0 m 213 ls [])) :
    ∀ (n q : Nat) (H : Heap) (locs : List Loc) (ls : Array Slot), q + n = 8 → va_P E.1 vwCl (w0 E (loM M g q) nx) H → va_S (gAE 20 E) s.heap H locs → lv_has ls 4 [(0, .ref E.2.2.1), (1, .int x), (2, .int (nI g)), (3, .int (nI q))] → W p l e R s m args below meth c H locs 0 0 Q (F0 m 179 ls []) := by
  have hx := F.1.1
  have hb := F.1.2.1
  intro n
  induction n with
  | zero =>
    intro q H locs ls hi hP hS hl
    have hi : q = 8 := by omega
    subst hi
    refine lv_iload_n hx hb dX0_lose_179 rfl (lv_at hl 3 rfl) ?_
    refine lv_bipush (v := nI 8) hx hb dX0_lose_180 (by decide) ?_
    refine gx_ge hx hb 213 (by omega) (by omega) dX0_lose_182 (by decide) (fun c_13 => ?_) (fun c_13 => ?_)
    · exact exit H locs ls hP hS (lv_sub hl [0, 1, 2] rfl)
    · exact absurd c_13 (by omega)
  | succ n ih =>
    intro q H locs ls hi hP hS hl
    refine lv_iload_n hx hb dX0_lose_179 rfl (lv_at hl 3 rfl) ?_
    refine lv_bipush (v := nI 8) hx hb dX0_lose_180 (by decide) ?_
    refine gx_ge hx hb 213 (by omega) (by omega) dX0_lose_182 (by decide) (fun c_14 => ?_) (fun c_14 => ?_)
    · exact absurd c_14 (by omega)
    · refine lv_aload_n hx hb dX0_lose_185 rfl (lv_at hl 0 rfl) ?_
      refine g_get F hP 5 (by decide) (by decide) rfl q29 dX0_lose_186 ?_
      refine lv_bipush (v := nI 8) hx hb dX0_lose_189 (by decide) ?_
      refine lv_iload_n hx hb dX0_lose_191 rfl (lv_at hl 2 rfl) ?_
      refine gx_mul hx hb dX0_lose_192 ?_
      refine lv_iload_n hx hb dX0_lose_193 rfl (lv_at hl 3 rfl) ?_
      refine gx_add hx hb dX0_lose_194 ?_
      refine g_iald F hP 5 32 (by decide) rfl rfl (by omega) (by decide) dX0_lose_195 ?_
      refine gx_re (y := M 5 (8 * g + q)) (loM_k (by omega)) ?_
      refine lv_iconst (v := 3) hx hb dX0_lose_196 (by decide) ?_
      refine lv_icmp_ne (tgt := 207) hx hb dX0_lose_197 (by decide) (fun c1 => ?_) (fun c1 => ?_)
      · refine lv_iinc (v := nI (q + 1)) (lv' := [(3, .int (nI (q + 1))), (0, .ref E.2.2.1), (1, .int x), (2, .int (nI g))]) hx hb dX0_lose_207 hl (k := 3) rfl (nI_add q 1) (by decide) rfl (fun ls hl => ?_)
        refine lv_goto (tgt := 179) hx hb dX0_lose_210 (by decide) ?_
        exact ih (q + 1) H locs ls (by omega) (by rw [loM_n c1] at hP; exact hP) hS (lv_sub hl [1, 2, 3, 0] rfl)
      · refine lv_aload_n hx hb dX0_lose_200 rfl (lv_at hl 0 rfl) ?_
        refine g_get F hP 18 (by decide) (by decide) rfl q42 dX0_lose_201 ?_
        refine lv_iload_n hx hb dX0_lose_204 rfl (lv_at hl 3 rfl) ?_
        refine lv_iconst (v := 0) hx hb dX0_lose_205 (by decide) ?_
        refine g_iast F (fun _ h => h) hP hS 18 8 (by decide) rfl rfl (by omega) (by decide) dX0_lose_206 (fun M1 H locs eM1 hP hS => ?_)
        refine lv_iinc (v := nI (q + 1)) (lv' := [(3, .int (nI (q + 1))), (0, .ref E.2.2.1), (1, .int x), (2, .int (nI g))]) hx hb dX0_lose_207 hl (k := 3) rfl (nI_add q 1) (by decide) rfl (fun ls hl => ?_)
        refine lv_goto (tgt := 179) hx hb dX0_lose_210 (by decide) ?_
        exact ih (q + 1) H locs ls (by omega) (by rw [eM1, loM_y (by first | exact c1 | exact Decidable.of_not_not c1)] at hP; exact hP) hS (lv_sub hl [1, 2, 3, 0] rfl)
end
set_option maxHeartbeats 4000000 in
theorem m0_lose (l : Launch) (E : Cx) (hap : gApE 20 E) (nx : Int32) (M : SM) (mm : SM) (hD : Dur M) (hC : Core M mm) (x : Int32) (g : Nat) (hg : g < 4) (hx3 : x &&& nI 3 = nI g) : Met l yX0_lose (ws_ yX0_lose cX0_lose 4 none) ({ frames := 2, cells := 0, slots := 0, locals := 48 }) (va_Pc [.ref E.2.2.1, .int x] (B0 E M nx)) (va_Qv (fun u => Dur u ∧ Core u mm) (Z0 E nx) (gAE 20 E)) 0 0 (gAE 20 E) := by
  refine g_start (own := RX0) (T := TX0) (N := 21) (by decide) rfl hap rfl in_X0 (Nat.le_of_ble_eq_true rfl) ?_
  intro p e s m below meth c ls F hr hlocks hP hS hl
  have hx := F.1.1
  have hb := F.1.2.1
  have hl : lv_has ls 4 [(0, .ref E.2.2.1), (1, .int x)] := hl
  obtain ⟨nn, hnn, h12, hok, hrp⟩ := hD.2 g hg
  refine lv_iload_n hx hb dX0_lose_0 rfl (lv_at hl 1 rfl) ?_
  refine lv_iconst (v := nI 3) hx hb dX0_lose_1 (by decide) ?_
  refine gx_and (a := 0) (j := g) hx hb hx3 dX0_lose_2 ?_
  refine lv_istore_n (lv' := [(2, .int (nI g)), (0, .ref E.2.2.1), (1, .int x)]) hx hb dX0_lose_3 rfl hl (by decide) rfl (fun ls hl => ?_)
  refine lv_bipush (v := nI 32) hx hb dX0_lose_4 (by decide) ?_
  refine lv_iload_n hx hb dX0_lose_6 rfl (lv_at hl 0 rfl) ?_
  refine gx_mul hx hb dX0_lose_7 ?_
  refine lv_istore_n (lv' := [(3, .int (nI (32 * g))), (2, .int (nI g)), (0, .ref E.2.2.1), (1, .int x)]) hx hb dX0_lose_8 rfl hl (by decide) rfl (fun ls hl => ?_)
  refine lp_lose_1 F hg M hD.1 (fun H locs ls hP hS hl => ?_) 32 (32 * g) _ _ _ (by omega) (by omega) (by rw [ldL_0]; exact hP) hS (lv_sub hl [2, 3, 1, 0] rfl)
  refine lv_iconst (v := nI 0) hx hb dX0_lose_86 (by decide) ?_
  refine lv_istore_n (lv' := [(3, .int (nI 0)), (0, .ref E.2.2.1), (1, .int x), (2, .int (nI g))]) hx hb dX0_lose_87 rfl hl (by decide) rfl (fun ls hl => ?_)
  refine lp_lose_2 F hg M (fun H locs ls hP hS hl => ?_) 8 0 _ _ _ (by omega) hP hS (lv_sub hl [1, 2, 3, 0] rfl)
  refine lv_bipush (v := nI 8) hx hb dX0_lose_122 (by decide) ?_
  refine lv_iload_n hx hb dX0_lose_124 rfl (lv_at hl 2 rfl) ?_
  refine gx_mul hx hb dX0_lose_125 ?_
  refine lv_istore_n (lv' := [(3, .int (nI (8 * g))), (0, .ref E.2.2.1), (1, .int x), (2, .int (nI g))]) hx hb dX0_lose_126 rfl hl (by decide) rfl (fun ls hl => ?_)
  refine lp_lose_3 hap F hg hnn M h12 hok ⟨Nat.le_of_ble_eq_true rfl, Nat.le_of_ble_eq_true rfl⟩ (fun H locs ls hP hS hl => ?_) nn 0 _ _ _ (by omega) hP hS (lv_sub hl [1, 2, 3, 0] rfl)
  rw [hrp] at hP
  refine lv_iconst (v := nI 0) hx hb dX0_lose_177 (by decide) ?_
  refine lv_istore_n (lv' := [(3, .int (nI 0)), (0, .ref E.2.2.1), (1, .int x), (2, .int (nI g))]) hx hb dX0_lose_178 rfl hl (by decide) rfl (fun ls hl => ?_)
  refine lp_lose_4 F hg M (fun H locs ls hP hS hl => ?_) 8 0 _ _ _ (by omega) (by rw [loM_0]; exact hP) hS (lv_sub hl [1, 2, 3, 0] rfl)
  exact g_vret hx hb hr hlocks hS (loM M g 8) ⟨loM_Dur hD, loM_Core hC⟩ (gZ_of hP) dX0_lose_213
end
section
/-! CONSTRUCTORS: the world while the arrays are made one after another -/
def gpF (n j : Nat) (ad : Nat → Nat) (ex : List Value) : List Value := (List.range n).map (fun k => if k < j then Value.ref (ad k) else Value.null) ++ ex
def gp (ci n j : Nat) (len : Nat → Nat) (d : Nat → ClassId) (h : Nat) (ad : Nat → Nat) (ex : List Value) : va_W :=
  (h, .inr (ci, gpF n j ad ex)) :: (List.range j).map (fun k => (ad k, .inl (d k, len k, .inl (fun _ => 0))))
theorem gp_full {ci n : Nat} {len : Nat → Nat} {d : Nat → ClassId} {h : Nat} {ad : Nat → Nat} {ex : List Value} : gp ci n n len d h ad ex = gw ci n len d h ad (fun _ _ => 0) ex := by
  unfold gp gw gpF
  rw [List.map_congr_left (f := fun k => if k < n then Value.ref (ad k) else Value.null) (g := fun k => Value.ref (ad k)) (fun a ha => if_pos (List.mem_range.mp ha))]
theorem gp_next {ci n j : Nat} {len : Nat → Nat} {d : Nat → ClassId} {h : Nat} {ad : Nat → Nat} {ex : List Value} {q : Nat} {cA : ClassId} (hj : j < n) :
    ((gp ci n j len d h ad ex) ++ ([(q, .inl (cA, len j, .inl (fun _ => 0)))] : va_W)).set 0 (h, .inr (ci, (gpF n j ad ex).set j (.ref q))) = gp ci n (j + 1) len (fun k => if k = j then cA else d k) h (fun k => if k = j then q else ad k) ex := by
  have e1 : (gpF n j ad ex).set j (.ref q) = gpF n (j + 1) (fun k => if k = j then q else ad k) ex := by
    unfold gpF
    rw [List.set_append_left _ _ (by simp [hj])]
    congr 1
    apply List.ext_getElem?
    intro i
    rw [List.getElem?_set]
    by_cases e : j = i
    · subst e
      simp [hj]
    · simp only [e, if_false, List.getElem?_map]
      cases hr : (List.range n)[i]? with
      | none => rfl
      | some v =>
        have hv : v = i := by
          obtain ⟨h1, h2⟩ := List.getElem?_eq_some_iff.mp hr
          simp at h2
          exact h2.symm
        subst hv
        simp only [Option.map_some]
        by_cases z : v < j
        · rw [if_pos z, if_pos (by omega), if_neg (by omega)]
        · rw [if_neg z, if_neg (by omega)]
  unfold gp
  rw [List.cons_append, List.set_cons_zero, e1]
  congr 1
  rw [List.range_succ, List.map_append]
  congr 1
  · apply List.map_congr_left
    intro a ha
    have := List.mem_range.mp ha
    show _ = ((if a = j then q else ad a), Sum.inl ((if a = j then cA else d a), _, _))
    rw [if_neg (by omega), if_neg (by omega)]
  · simp
theorem gK_next {j : Nat} {d : Nat → ClassId} {ety : Nat → FieldType} {cA : ClassId} : gK j d ety ++ [(cA, ety j)] = gK (j + 1) (fun k => if k = j then cA else d k) ety := by
  unfold gK
  rw [List.range_succ, List.map_append]
  congr 1
  · apply List.map_congr_left
    intro a ha
    have := List.mem_range.mp ha
    show _ = ((if a = j then cA else d a), _)
    rw [if_neg (by omega)]
  · simp
theorem gw_ap {ci n : Nat} {len : Nat → Nat} {d : Nat → ClassId} {h : Nat} {ad : Nat → Nat} {M : SM} {ex : List Value} {A : Nat → Prop} (hD : va_D A (gw ci n len d h ad M ex)) : gAp n h ad ∧ ∀ q, gA n h ad q → A q := by
  refine ⟨⟨fun i j hi hj e => ?_, fun i hi e => ?_⟩, fun q hq => ?_⟩
  · have := hD.1 (i + 1) (j + 1) _ _ (gw_at hi) (gw_at hj) e
    omega
  · have := hD.1 (i + 1) 0 _ _ (gw_at hi) gw_ob e
    omega
  · rcases hq with e | ⟨k, hk, e⟩
    · rw [e]; exact hD.2 0 _ gw_ob
    · rw [e]; exact hD.2 (k + 1) _ (gw_at hk)
section GC
variable {p : Program} {l : Launch} {e : Env} {R : Room} {s : State} {m : MethodId} {args : Array Value} {below : List Frame} {meth : Method} {c : Code} {H : Heap} {locs : List Loc} {cells slots : Nat} {Q : State → Prop}
variable {cc : ByteArray} {pc nL : Nat} {ls : Array Slot} {rest : List Value} {D : va_G} {A : Nat → Prop} {H0 : Heap}
variable {own : String} {T : u_T} {ci n N : Nat} {len : Nat → Nat} {ety : Nat → FieldType} {d : Nat → ClassId} {h : Nat} {ad : Nat → Nat} {ex : List Value}
/-- newarray and putfield of the j-th field -/
theorem gp_step (hx : p.tables.exec = Jvm.exec) (hb : c.code = cc) (hts : ∀ w ∈ lw_all, w.before args s = true) (hin : ∀ w ∈ u_ws own T N, w ∈ lw_all) (hown : s.vm.findClass own = some m.cls) (hcl : vwCl[ci]? = some (own, T, N)) (ty0 : Nat → FieldType) (hty : ∀ k, k < N → parseFieldDescriptor (T k).2.2.1 = some (ty0 k)) (hnm : ∀ a, a < N → ∀ b, b < N → a ≠ b → (T a).2.1 ≠ (T b).2.1) (hname : meth.name = "<init>")
    (j L : Nat) {aty : ArrayType} {index : Nat} (harr : Cond.arrayClass (newarray.typeOf aty) ∈ lw_all) (hte : newarray.typeOf aty = ety j) (hdef : ∀ cA : ClassId, vp_cell cA (L, .inl (fun _ => 0)) = arrV cA L (fun _ => defaultValue (ety j))) (hlen : len j = L) (hL : L < 2147483648) (hbytes : L * componentBytes (ety j) ≤ 536870912) (hcells : cells + 1 ≤ R.cells) (hslots : slots + L ≤ R.slots)
    (hdg1 : decode cc pc = .ok (.newarray aty, 2)) (hj : j < n) (hjN : j < N) (h1 : (T j).1 = own) (hq : Cond.fieldLink own index own (T j).2.1 (T j).2.2.1 ∈ lw_all) (hfin : (T j).2.2.2 = true) (hd : parseFieldDescriptor (T j).2.2.1 = some (.array (ety j))) (hdg2 : decode cc (pc + 2) = .ok (.putfield index, 3))
    (hK : va_K D vwCl (gK j d ety) s) (hP : va_P D vwCl (gp ci n j len d h ad ex) H) (hD : va_D A (gp ci n j len d h ad ex)) (hS : va_S A H0 H locs) (hA : ∀ q, H0.size ≤ q → A q)
    (kk : ∀ (ad' : Nat → Nat) (d' : Nat → ClassId) (H1 : Heap) (locs1 : List Loc), va_K D vwCl (gK (j + 1) d' ety) s → va_P D vwCl (gp ci n (j + 1) len d' h ad' ex) H1 → va_D A (gp ci n (j + 1) len d' h ad' ex) → va_S A H0 H1 locs1 → W p l e R s m args below meth c H1 locs1 (cells + 1) (slots + L) Q (F0 m (pc + 2 + 3) ls rest)) :
    W p l e R s m args below meth c H locs cells slots Q (F0 m pc ls (.int (nI L) :: .ref h :: rest)) := by
  refine va_newa (N' := L) (a0 := (L, .inl (fun _ => 0))) hx hb (hts _ harr) hte hK hP hD hS hA hdef (nI_pos (by omega)) (nI_clamp (by omega)) hbytes hcells hslots hdg1 (fun q cA H1 hK hP hD hS => ?_)
  refine va_putF (q0 := 0) (v := .ref q) (fs := gpF n j ad ex) hx hb hts hin ty0 hty hnm hown hK hP hD hS rfl hcl j hjN (hts _ hq) (fun _ h9 => by rw [h1] at h9; exact h9) hfin hname h1 hd rfl rfl (by unfold gpF; simp; omega) hdg2 (fun H2 locs2 hP hD hS => ?_)
  rw [gK_next] at hK
  have hl2 : ((q, .inl (cA, L, .inl (fun _ => 0))) : Nat × va_E) = (q, .inl (cA, len j, .inl (fun _ => 0))) := by rw [hlen]
  rw [hl2, gp_next hj] at hP hD
  exact kk _ _ H2 locs2 hK hP hD hS
end GC
/-- what a constructor leaves: the arrays are new -/
def gI (ci n : Nat) (len : Nat → Nat) (ety : Nat → FieldType) (ex : List Value) (D : va_G) (h sz : Nat) (M : SM) (z : (Nat → ClassId) × (Nat → Nat)) (t : State) : Prop := va_P D vwCl (gw ci n len z.1 h z.2 M ex) t.heap ∧ va_K D vwCl (gK n z.1 ety) t ∧ gAp n h z.2 ∧ ∀ k, k < n → sz ≤ z.2 k
/-- ShardedMap's first state: homes and states of the classes below a, routes of those below b and of b for the clients below r -/
def iM (a b r : Nat) : SM := fun k i =>
  if k = 17 ∧ i < a then nI (i % 4)
  else if (k = 5 ∨ k = 11) ∧ i < 32 ∧ i % 8 < a ∧ i / 8 = i % 8 % 4 then 1
  else if k = 19 ∧ i < 32 ∧ (i % 8 < b ∨ (i % 8 = b ∧ i / 8 < r)) then nI (i % 8 % 4)
  else 0
theorem iM_0 : (fun _ _ => 0 : SM) = iM 0 0 0 := by
  funext k i
  simp only [iM]
  (repeat' split) <;> first | rfl | (exfalso; omega)
theorem iM_1 {n : Nat} (hn : n < 8) : sU (sU (sU (iM n n 0) 17 n (nI (n % 4))) 5 (8 * (n % 4) + n) 1) 11 (8 * (n % 4) + n) 1 = iM (n + 1) n 0 := by
  funext k i
  by_cases hi : i = 8 * (n % 4) + n
  · have a1 : i % 8 = n := by omega
    have a2 : i / 8 = n % 4 := by omega
    have a3 : i < 32 := by omega
    unfold sU iM
    rw [a1, a2]
    (repeat' split) <;> first | rfl | (exfalso; omega) | exact congrArg nI (by omega)
  · have a1 : ¬ (i % 8 = n ∧ i / 8 = i % 8 % 4) := by omega
    generalize i % 8 = x at a1
    generalize x % 4 = y at a1
    simp only [sU, iM]
    (repeat' split) <;> first | rfl | (exfalso; omega) | exact congrArg nI (by omega)
theorem iM_2 {n r : Nat} (hn : n < 8) (hr : r < 4) : sU (iM (n + 1) n r) 19 (8 * r + n) (nI (n % 4)) = iM (n + 1) n (r + 1) := by
  funext k i
  simp only [sU, iM]
  (repeat' split) <;> first | rfl | (exfalso; omega) | exact congrArg nI (by omega)
theorem iM_3 {n : Nat} : iM (n + 1) n 4 = iM (n + 1) (n + 1) 0 := by
  funext k i
  simp only [iM]
  (repeat' split) <;> first | rfl | (exfalso; omega)
theorem and3 {k : Nat} (h : k < 2147483648) : nI k &&& nI 3 = nI (k % 4) := pk_andN (by omega) 2 (by decide)
/-- the model's -/
def mI (a : Nat) : SM := fun k i => if k = 5 ∧ i < a then nI (i % 4) else 0
theorem mI_0 : (fun _ _ => 0 : SM) = mI 0 := by
  funext k i
  simp [mI]
theorem mI_1 {n : Nat} : sU (mI n) 5 n (nI (n % 4)) = mI (n + 1) := by
  funext k i
  simp only [sU, mI]
  (repeat' split) <;> first | rfl | (exfalso; omega) | exact congrArg nI (by omega)
theorem Dur_ini : Dur (iM 8 8 0) := by
  have z : ∀ k i, k ≠ 17 → k ≠ 5 → k ≠ 11 → k ≠ 19 → iM 8 8 0 k i = 0 := fun k i h1 h2 h3 h4 => by
    simp only [iM]
    (repeat' split) <;> first | rfl | (exfalso; omega)
  refine ⟨fun i => ⟨Or.inl (z _ _ (by omega) (by omega) (by omega) (by omega)), Or.inl (z _ _ (by omega) (by omega) (by omega) (by omega)), Or.inl (z _ _ (by omega) (by omega) (by omega) (by omega)), Or.inl (z _ _ (by omega) (by omega) (by omega) (by omega))⟩, fun g hg => ⟨0, by omega, z _ _ (by omega) (by omega) (by omega) (by omega), fun j hj => absurd hj (by omega), ?_⟩⟩
  funext k i
  simp only [rp, ld]
  split
  · rename_i q
    rw [z _ _ (by omega) (by omega) (by omega) (by omega)]
    by_cases e : k = 5
    · omega
    · rw [z _ _ (by omega) (by omega) (by omega) (by omega)]
  · split
    · rename_i q
      obtain ⟨q1, q2, q3⟩ := q
      subst q1
      simp [iM]
    · rfl
theorem Core_ini : Core (iM 8 8 0) (mI 8) := by
  have z : ∀ k i, k ≠ 17 → k ≠ 5 → k ≠ 11 → k ≠ 19 → iM 8 8 0 k i = 0 := fun k i h1 h2 h3 h4 => by
    simp only [iM]
    (repeat' split) <;> first | rfl | (exfalso; omega)
  have y : ∀ k i, k ≠ 5 → mI 8 k i = 0 := fun k i h => by
    simp only [mI]
    rw [if_neg (by omega)]
  refine ⟨fun c hc => ⟨0, c % 4, 0, 0, ⟨by omega, by omega, by omega, by omega⟩, fun g hg => ?_, ⟨fun u hu => ?_, fun i hi => ?_⟩, fun g hg _ i hi => z _ _ (by omega) (by omega) (by omega) (by omega), fun q => absurd q (by omega)⟩, fun c hc => ⟨c % 4, by omega, ?_, ?_⟩, fun i hi => ⟨i % 8 % 4, by omega, ?_⟩⟩
  · have a1 : (8 * g + c) % 8 = c := by omega
    have a2 : (8 * g + c) / 8 = g := by omega
    unfold iM sg
    rw [a1, a2, if_neg (by omega)]
    by_cases e : g = c % 4
    · rw [if_pos e, if_pos (Or.inl rfl), if_pos ⟨Or.inl rfl, by omega, hc, e⟩]
    · rw [if_neg (fun q => e q.2.2.2), if_neg (by omega), if_neg e, if_neg (by omega)]
  · rw [z _ _ (by omega) (by omega) (by omega) (by omega), y _ _ (by omega)]
    exact ⟨rfl, fun q => absurd rfl q⟩
  · rw [z _ _ (by omega) (by omega) (by omega) (by omega), y _ _ (by omega)]
    exact ⟨rfl, fun q => absurd rfl q⟩
  · unfold iM
    rw [if_pos (by omega)]
  · unfold mI
    rw [if_pos (by omega)]
  · unfold iM
    rw [if_neg (by omega), if_neg (by omega), if_pos (by omega)]
end
section
set_option maxRecDepth 100000
theorem gp_D0 {ci n : Nat} {len : Nat → Nat} {d : Nat → ClassId} {h : Nat} {ad : Nat → Nat} {ex : List Value} {A : Nat → Prop} (hA : A h) : va_D A (gp ci n 0 len d h ad ex) := by
  have key : ∀ (i : Nat) (x : Nat × va_E), (gp ci n 0 len d h ad ex)[i]? = some x → i = 0 ∧ x.1 = h := by
    intro i x hx
    match i, hx with
    | 0, hx => cases hx; exact ⟨rfl, rfl⟩
    | i + 1, hx => simp [gp] at hx
  refine ⟨fun i j x y hx hy _ => ?_, fun i x hx => ?_⟩
  · rw [(key i x hx).1, (key j y hy).1]
  · rw [(key i x hx).2]; exact hA
section
variable {p : Program} {l : Launch} {e : Env} {R : Room} {s : State} {m : MethodId} {args : Array Value} {below : List Frame} {meth : Method} {c : Code} {Q : State → Prop} {E : Cx} {cells slots : Nat} {A : Nat → Prop}
set_option maxHeartbeats 4000000 in
/-- the constructor's inner loop -/
theorem lp_init_2 (F : Fx p s m c args cX0_init 3 RX0 TX0 0 20 21 ety0 E) (hA : ∀ q, gAE 20 E q → A q) {a : Nat} (ha : a < 8) (exit : ∀ (H : Heap) (locs : List Loc) (ls : Array Slot), va_P E.1 vwCl (w0 E (iM (a + 1) (a + 1) 0) 0) H → va_S A s.heap H locs → lv_has ls 3 [(0, .ref E.2.2.1), (1, .int (nI a))] → W p l e R s m args below meth c H locs cells slots Q (F0 m 245 ls [])) :
    ∀ (n r : Nat) (H : Heap) (locs : List Loc) (ls : Array Slot), r + n = 4 → va_P E.1 vwCl (w0 E (iM (a + 1) a r) 0) H → va_S A s.heap H locs → lv_has ls 3 [(0, .ref E.2.2.1), (1, .int (nI a)), (2, .int (nI r))] → W p l e R s m args below meth c H locs cells slots Q (F0 m 220 ls []) := by
  have hx := F.1.1
  have hb := F.1.2.1
  intro n
  induction n with
  | zero =>
    intro r H locs ls hi hP hS hl
    have hi : r = 4 := by omega
    subst hi
    refine lv_iload_n hx hb dX0_init_220 rfl (lv_at hl 2 rfl) ?_
    refine lv_iconst (v := nI 4) hx hb dX0_init_221 (by decide) ?_
    refine gx_ge hx hb 245 (by omega) (by omega) dX0_init_222 (by decide) (fun c_1 => ?_) (fun c_1 => ?_)
    · exact exit H locs ls (by rw [iM_3] at hP; exact hP) hS (lv_sub hl [0, 1] rfl)
    · exact absurd c_1 (by omega)
  | succ n ih =>
    intro r H locs ls hi hP hS hl
    refine lv_iload_n hx hb dX0_init_220 rfl (lv_at hl 2 rfl) ?_
    refine lv_iconst (v := nI 4) hx hb dX0_init_221 (by decide) ?_
    refine gx_ge hx hb 245 (by omega) (by omega) dX0_init_222 (by decide) (fun c_2 => ?_) (fun c_2 => ?_)
    · exact absurd c_2 (by omega)
    · refine lv_aload_n hx hb dX0_init_225 rfl (lv_at hl 0 rfl) ?_
      refine g_get F hP 19 (by decide) (by decide) rfl q43 dX0_init_226 ?_
      refine lv_bipush (v := nI 8) hx hb dX0_init_229 (by decide) ?_
      refine lv_iload_n hx hb dX0_init_231 rfl (lv_at hl 2 rfl) ?_
      refine gx_mul hx hb dX0_init_232 ?_
      refine lv_iload_n hx hb dX0_init_233 rfl (lv_at hl 1 rfl) ?_
      refine gx_add hx hb dX0_init_234 ?_
      refine lv_iload_n hx hb dX0_init_235 rfl (lv_at hl 1 rfl) ?_
      refine lv_iconst (v := nI 3) hx hb dX0_init_236 (by decide) ?_
      refine gx_and (a := 0) (j := (a % 4)) hx hb (and3 (by omega)) dX0_init_237 ?_
      refine g_iast F hA hP hS 19 32 (by decide) rfl rfl (by omega) (by decide) dX0_init_238 (fun M1 H locs eM1 hP hS => ?_)
      refine lv_iinc (v := nI (r + 1)) (lv' := [(2, .int (nI (r + 1))), (0, .ref E.2.2.1), (1, .int (nI a))]) hx hb dX0_init_239 hl (k := 2) rfl (nI_add r 1) (by decide) rfl (fun ls hl => ?_)
      refine lv_goto (tgt := 220) hx hb dX0_init_242 (by decide) ?_
      exact ih (r + 1) H locs ls (by omega) (by rw [eM1, iM_2 ha (by omega)] at hP; exact hP) hS (lv_sub hl [1, 2, 0] rfl)
set_option maxHeartbeats 4000000 in
/-- the constructor's loop -/
theorem lp_init_1 (F : Fx p s m c args cX0_init 3 RX0 TX0 0 20 21 ety0 E) (hA : ∀ q, gAE 20 E q → A q)  (exit : ∀ (H : Heap) (locs : List Loc) (ls : Array Slot), va_P E.1 vwCl (w0 E (iM 8 8 0) 0) H → va_S A s.heap H locs → lv_has ls 3 [(0, .ref E.2.2.1)] → W p l e R s m args below meth c H locs cells slots Q (F0 m 251 ls [])) :
    ∀ (n a : Nat) (H : Heap) (locs : List Loc) (ls : Array Slot), a + n = 8 → va_P E.1 vwCl (w0 E (iM a a 0) 0) H → va_S A s.heap H locs → lv_has ls 3 [(0, .ref E.2.2.1), (1, .int (nI a))] → W p l e R s m args below meth c H locs cells slots Q (F0 m 175 ls []) := by
  have hx := F.1.1
  have hb := F.1.2.1
  intro n
  induction n with
  | zero =>
    intro a H locs ls hi hP hS hl
    have hi : a = 8 := by omega
    subst hi
    refine lv_iload_n hx hb dX0_init_175 rfl (lv_at hl 1 rfl) ?_
    refine lv_bipush (v := nI 8) hx hb dX0_init_176 (by decide) ?_
    refine gx_ge hx hb 251 (by omega) (by omega) dX0_init_178 (by decide) (fun c_3 => ?_) (fun c_3 => ?_)
    · exact exit H locs ls hP hS (lv_sub hl [0] rfl)
    · exact absurd c_3 (by omega)
  | succ n ih =>
    intro a H locs ls hi hP hS hl
    refine lv_iload_n hx hb dX0_init_175 rfl (lv_at hl 1 rfl) ?_
    refine lv_bipush (v := nI 8) hx hb dX0_init_176 (by decide) ?_
    refine gx_ge hx hb 251 (by omega) (by omega) dX0_init_178 (by decide) (fun c_4 => ?_) (fun c_4 => ?_)
    · exact absurd c_4 (by omega)
    · refine lv_aload_n hx hb dX0_init_181 rfl (lv_at hl 0 rfl) ?_
      refine g_get F hP 17 (by decide) (by decide) rfl q41 dX0_init_182 ?_
      refine lv_iload_n hx hb dX0_init_185 rfl (lv_at hl 1 rfl) ?_
      refine lv_iload_n hx hb dX0_init_186 rfl (lv_at hl 1 rfl) ?_
      refine lv_iconst (v := nI 3) hx hb dX0_init_187 (by decide) ?_
      refine gx_and (a := 0) (j := (a % 4)) hx hb (and3 (by omega)) dX0_init_188 ?_
      refine g_iast F hA hP hS 17 8 (by decide) rfl rfl (by omega) (by decide) dX0_init_189 (fun M1 H locs eM1 hP hS => ?_)
      refine lv_aload_n hx hb dX0_init_190 rfl (lv_at hl 0 rfl) ?_
      refine g_get F hP 5 (by decide) (by decide) rfl q29 dX0_init_191 ?_
      refine lv_bipush (v := nI 8) hx hb dX0_init_194 (by decide) ?_
      refine lv_iload_n hx hb dX0_init_196 rfl (lv_at hl 1 rfl) ?_
      refine lv_iconst (v := nI 3) hx hb dX0_init_197 (by decide) ?_
      refine gx_and (a := 0) (j := (a % 4)) hx hb (and3 (by omega)) dX0_init_198 ?_
      refine gx_mul hx hb dX0_init_199 ?_
      refine lv_iload_n hx hb dX0_init_200 rfl (lv_at hl 1 rfl) ?_
      refine gx_add hx hb dX0_init_201 ?_
      refine lv_iconst (v := 1) hx hb dX0_init_202 (by decide) ?_
      refine g_iast F hA hP hS 5 32 (by decide) rfl rfl (by omega) (by decide) dX0_init_203 (fun M2 H locs eM2 hP hS => ?_)
      refine lv_aload_n hx hb dX0_init_204 rfl (lv_at hl 0 rfl) ?_
      refine g_get F hP 11 (by decide) (by decide) rfl q35 dX0_init_205 ?_
      refine lv_bipush (v := nI 8) hx hb dX0_init_208 (by decide) ?_
      refine lv_iload_n hx hb dX0_init_210 rfl (lv_at hl 1 rfl) ?_
      refine lv_iconst (v := nI 3) hx hb dX0_init_211 (by decide) ?_
      refine gx_and (a := 0) (j := (a % 4)) hx hb (and3 (by omega)) dX0_init_212 ?_
      refine gx_mul hx hb dX0_init_213 ?_
      refine lv_iload_n hx hb dX0_init_214 rfl (lv_at hl 1 rfl) ?_
      refine gx_add hx hb dX0_init_215 ?_
      refine lv_iconst (v := 1) hx hb dX0_init_216 (by decide) ?_
      refine g_iast F hA hP hS 11 32 (by decide) rfl rfl (by omega) (by decide) dX0_init_217 (fun M3 H locs eM3 hP hS => ?_)
      refine lv_iconst (v := nI 0) hx hb dX0_init_218 (by decide) ?_
      refine lv_istore_n (lv' := [(2, .int (nI 0)), (0, .ref E.2.2.1), (1, .int (nI a))]) hx hb dX0_init_219 rfl hl (by decide) rfl (fun ls hl => ?_)
      rw [eM3, eM2, eM1, iM_1 (by omega)] at hP
      refine lp_init_2 F hA (a := a) (by omega) (fun H locs ls hP hS hl => ?_) 4 0 _ _ _ (by omega) hP hS (lv_sub hl [1, 2, 0] rfl)
      refine lv_iinc (v := nI (a + 1)) (lv' := [(1, .int (nI (a + 1))), (0, .ref E.2.2.1)]) hx hb dX0_init_245 hl (k := 1) rfl (nI_add a 1) (by decide) rfl (fun ls hl => ?_)
      refine lv_goto (tgt := 175) hx hb dX0_init_248 (by decide) ?_
      exact ih (a + 1) H locs ls (by omega) hP hS (lv_sub hl [1, 0] rfl)
end
set_option maxHeartbeats 4000000 in
theorem m0_init (l : Launch) (D : va_G) (h sz : Nat) : Met l yX0_init (ws_ yX0_init cX0_init 3 none) ({ frames := 1, cells := 20, slots := 1524, locals := 12 }) (va_Pc [.ref h] (fun U => U.heap.size = sz ∧ va_P D vwCl [(h, .inr (0, gpF 20 0 (fun _ => 0) [.int 0]))] U.heap ∧ va_K D vwCl [] U)) (va_Qv (fun _ => True) (gI 0 20 len0 ety0 [.int 0] D h sz (iM 8 8 0)) (fun q => q = h ∨ sz ≤ q)) 20 1524 (fun q => q = h ∨ sz ≤ q) := by
  refine Met.ofW (cc := cX0_init) (maxL := 3) (ret := none) (by decide) rfl ?_
  intro p e s m args below meth c s₁ B hml hv
  obtain ⟨rfl, hsz, hP, hK⟩ := hv
  have hx := B.exec
  have hb := B.bytes
  have hr := B.returns
  have hts := atoms_spec (ws := ws_ yX0_init cX0_init 3 none) B.pre
  have hts : ∀ w ∈ lw_all, w.before _ s = true := fun w h => hts w (List.mem_cons_of_mem _ h)
  have hown : s.vm.findClass RX0 = some m.cls := findClass_of_methodNamed B.named
  have hlocks := B.notSynchronized
  have hin : meth.name = "<init>" := (name_of_methodNamed B.named B.method).1
  subst hsz
  generalize hAe : (fun q => q = h ∨ s.heap.size ≤ q) = A
  have hAh : A h := by rw [← hAe]; exact Or.inl rfl
  have hA : ∀ q : Nat, s.heap.size ≤ q → A q := fun q h => by rw [← hAe]; exact Or.inr h
  have hS : va_S A s.heap s.heap [] := va_S.rf
  obtain ⟨d, -⟩ : ∃ d : Nat → ClassId, True := ⟨D.1, trivial⟩
  obtain ⟨ad, ead⟩ : ∃ ad : Nat → Nat, ad = (fun _ => 0) := ⟨_, rfl⟩
  rw [← ead] at hP
  have hD : va_D A (gp 0 20 0 len0 d h ad [.int 0]) := gp_D0 hAh
  have hP : va_P D vwCl (gp 0 20 0 len0 d h ad [.int 0]) s.heap := hP
  have hK : va_K D vwCl (gK 0 d ety0) s := hK
  have hl := lv_entry ([.ref h]) (n := 3) (Nat.le_of_ble_eq_true rfl)
  rw [lg_entry_eq]
  generalize (lg_sl ([.ref h]) ++ List.replicate (3 - (lg_sl ([.ref h])).length) Slot.unset).toArray = ls at hl ⊢
  have hl : lv_has ls 3 [(0, .ref h)] := hl
  refine lv_aload_n hx hb dX0_init_0 rfl (lv_at hl 0 rfl) ?_
  refine W.objInit hx hb hown (hts _ q21) (hts _ q22) (hts _ q23) rfl (by rw [hml]; exact hl.1) rfl dX0_init_1 (Nat.le_of_ble_eq_true rfl) (Nat.le_of_ble_eq_true rfl) ?_
  refine W.eq (g2 := F0 m 4 ls []) rfl ?_
  refine lv_aload_n hx hb dX0_init_4 rfl (lv_at hl 0 rfl) ?_
  refine lv_sipush (v := nI 128) hx hb dX0_init_5 (by decide) ?_
  refine gp_step (aty := .int) (ci := 0) (n := 20) (len := len0) (ety := ety0) (ex := [.int 0]) (own := RX0) (T := TX0) (N := 21) hx hb hts in_X0 hown rfl tyX0 tyX0_ok nmX0 hin 0 128 q88 rfl (fun _ => rfl) rfl (by decide) (by decide) (Nat.le_of_ble_eq_true rfl) (Nat.le_of_ble_eq_true rfl) dX0_init_8 (by decide) (by decide) rfl q24 rfl (by decide +kernel) dX0_init_10 hK hP hD hS hA (fun ad d H locs hK hP hD hS => ?_)
  refine lv_aload_n hx hb dX0_init_13 rfl (lv_at hl 0 rfl) ?_
  refine lv_sipush (v := nI 128) hx hb dX0_init_14 (by decide) ?_
  refine gp_step (aty := .boolean) (ci := 0) (n := 20) (len := len0) (ety := ety0) (ex := [.int 0]) (own := RX0) (T := TX0) (N := 21) hx hb hts in_X0 hown rfl tyX0 tyX0_ok nmX0 hin 1 128 q89 rfl (fun _ => rfl) rfl (by decide) (by decide) (Nat.le_of_ble_eq_true rfl) (Nat.le_of_ble_eq_true rfl) dX0_init_17 (by decide) (by decide) rfl q25 rfl (by decide +kernel) dX0_init_19 hK hP hD hS hA (fun ad d H locs hK hP hD hS => ?_)
  refine lv_aload_n hx hb dX0_init_22 rfl (lv_at hl 0 rfl) ?_
  refine lv_sipush (v := nI 128) hx hb dX0_init_23 (by decide) ?_
  refine gp_step (aty := .boolean) (ci := 0) (n := 20) (len := len0) (ety := ety0) (ex := [.int 0]) (own := RX0) (T := TX0) (N := 21) hx hb hts in_X0 hown rfl tyX0 tyX0_ok nmX0 hin 2 128 q89 rfl (fun _ => rfl) rfl (by decide) (by decide) (Nat.le_of_ble_eq_true rfl) (Nat.le_of_ble_eq_true rfl) dX0_init_26 (by decide) (by decide) rfl q26 rfl (by decide +kernel) dX0_init_28 hK hP hD hS hA (fun ad d H locs hK hP hD hS => ?_)
  refine lv_aload_n hx hb dX0_init_31 rfl (lv_at hl 0 rfl) ?_
  refine lv_sipush (v := nI 128) hx hb dX0_init_32 (by decide) ?_
  refine gp_step (aty := .int) (ci := 0) (n := 20) (len := len0) (ety := ety0) (ex := [.int 0]) (own := RX0) (T := TX0) (N := 21) hx hb hts in_X0 hown rfl tyX0 tyX0_ok nmX0 hin 3 128 q88 rfl (fun _ => rfl) rfl (by decide) (by decide) (Nat.le_of_ble_eq_true rfl) (Nat.le_of_ble_eq_true rfl) dX0_init_35 (by decide) (by decide) rfl q27 rfl (by decide +kernel) dX0_init_37 hK hP hD hS hA (fun ad d H locs hK hP hD hS => ?_)
  refine lv_aload_n hx hb dX0_init_40 rfl (lv_at hl 0 rfl) ?_
  refine lv_sipush (v := nI 128) hx hb dX0_init_41 (by decide) ?_
  refine gp_step (aty := .int) (ci := 0) (n := 20) (len := len0) (ety := ety0) (ex := [.int 0]) (own := RX0) (T := TX0) (N := 21) hx hb hts in_X0 hown rfl tyX0 tyX0_ok nmX0 hin 4 128 q88 rfl (fun _ => rfl) rfl (by decide) (by decide) (Nat.le_of_ble_eq_true rfl) (Nat.le_of_ble_eq_true rfl) dX0_init_44 (by decide) (by decide) rfl q28 rfl (by decide +kernel) dX0_init_46 hK hP hD hS hA (fun ad d H locs hK hP hD hS => ?_)
  refine lv_aload_n hx hb dX0_init_49 rfl (lv_at hl 0 rfl) ?_
  refine lv_bipush (v := nI 32) hx hb dX0_init_50 (by decide) ?_
  refine gp_step (aty := .int) (ci := 0) (n := 20) (len := len0) (ety := ety0) (ex := [.int 0]) (own := RX0) (T := TX0) (N := 21) hx hb hts in_X0 hown rfl tyX0 tyX0_ok nmX0 hin 5 32 q88 rfl (fun _ => rfl) rfl (by decide) (by decide) (Nat.le_of_ble_eq_true rfl) (Nat.le_of_ble_eq_true rfl) dX0_init_52 (by decide) (by decide) rfl q29 rfl (by decide +kernel) dX0_init_54 hK hP hD hS hA (fun ad d H locs hK hP hD hS => ?_)
  refine lv_aload_n hx hb dX0_init_57 rfl (lv_at hl 0 rfl) ?_
  refine lv_sipush (v := nI 128) hx hb dX0_init_58 (by decide) ?_
  refine gp_step (aty := .int) (ci := 0) (n := 20) (len := len0) (ety := ety0) (ex := [.int 0]) (own := RX0) (T := TX0) (N := 21) hx hb hts in_X0 hown rfl tyX0 tyX0_ok nmX0 hin 6 128 q88 rfl (fun _ => rfl) rfl (by decide) (by decide) (Nat.le_of_ble_eq_true rfl) (Nat.le_of_ble_eq_true rfl) dX0_init_61 (by decide) (by decide) rfl q30 rfl (by decide +kernel) dX0_init_63 hK hP hD hS hA (fun ad d H locs hK hP hD hS => ?_)
  refine lv_aload_n hx hb dX0_init_66 rfl (lv_at hl 0 rfl) ?_
  refine lv_sipush (v := nI 128) hx hb dX0_init_67 (by decide) ?_
  refine gp_step (aty := .boolean) (ci := 0) (n := 20) (len := len0) (ety := ety0) (ex := [.int 0]) (own := RX0) (T := TX0) (N := 21) hx hb hts in_X0 hown rfl tyX0 tyX0_ok nmX0 hin 7 128 q89 rfl (fun _ => rfl) rfl (by decide) (by decide) (Nat.le_of_ble_eq_true rfl) (Nat.le_of_ble_eq_true rfl) dX0_init_70 (by decide) (by decide) rfl q31 rfl (by decide +kernel) dX0_init_72 hK hP hD hS hA (fun ad d H locs hK hP hD hS => ?_)
  refine lv_aload_n hx hb dX0_init_75 rfl (lv_at hl 0 rfl) ?_
  refine lv_sipush (v := nI 128) hx hb dX0_init_76 (by decide) ?_
  refine gp_step (aty := .boolean) (ci := 0) (n := 20) (len := len0) (ety := ety0) (ex := [.int 0]) (own := RX0) (T := TX0) (N := 21) hx hb hts in_X0 hown rfl tyX0 tyX0_ok nmX0 hin 8 128 q89 rfl (fun _ => rfl) rfl (by decide) (by decide) (Nat.le_of_ble_eq_true rfl) (Nat.le_of_ble_eq_true rfl) dX0_init_79 (by decide) (by decide) rfl q32 rfl (by decide +kernel) dX0_init_81 hK hP hD hS hA (fun ad d H locs hK hP hD hS => ?_)
  refine lv_aload_n hx hb dX0_init_84 rfl (lv_at hl 0 rfl) ?_
  refine lv_sipush (v := nI 128) hx hb dX0_init_85 (by decide) ?_
  refine gp_step (aty := .int) (ci := 0) (n := 20) (len := len0) (ety := ety0) (ex := [.int 0]) (own := RX0) (T := TX0) (N := 21) hx hb hts in_X0 hown rfl tyX0 tyX0_ok nmX0 hin 9 128 q88 rfl (fun _ => rfl) rfl (by decide) (by decide) (Nat.le_of_ble_eq_true rfl) (Nat.le_of_ble_eq_true rfl) dX0_init_88 (by decide) (by decide) rfl q33 rfl (by decide +kernel) dX0_init_90 hK hP hD hS hA (fun ad d H locs hK hP hD hS => ?_)
  refine lv_aload_n hx hb dX0_init_93 rfl (lv_at hl 0 rfl) ?_
  refine lv_sipush (v := nI 128) hx hb dX0_init_94 (by decide) ?_
  refine gp_step (aty := .int) (ci := 0) (n := 20) (len := len0) (ety := ety0) (ex := [.int 0]) (own := RX0) (T := TX0) (N := 21) hx hb hts in_X0 hown rfl tyX0 tyX0_ok nmX0 hin 10 128 q88 rfl (fun _ => rfl) rfl (by decide) (by decide) (Nat.le_of_ble_eq_true rfl) (Nat.le_of_ble_eq_true rfl) dX0_init_97 (by decide) (by decide) rfl q34 rfl (by decide +kernel) dX0_init_99 hK hP hD hS hA (fun ad d H locs hK hP hD hS => ?_)
  refine lv_aload_n hx hb dX0_init_102 rfl (lv_at hl 0 rfl) ?_
  refine lv_bipush (v := nI 32) hx hb dX0_init_103 (by decide) ?_
  refine gp_step (aty := .int) (ci := 0) (n := 20) (len := len0) (ety := ety0) (ex := [.int 0]) (own := RX0) (T := TX0) (N := 21) hx hb hts in_X0 hown rfl tyX0 tyX0_ok nmX0 hin 11 32 q88 rfl (fun _ => rfl) rfl (by decide) (by decide) (Nat.le_of_ble_eq_true rfl) (Nat.le_of_ble_eq_true rfl) dX0_init_105 (by decide) (by decide) rfl q35 rfl (by decide +kernel) dX0_init_107 hK hP hD hS hA (fun ad d H locs hK hP hD hS => ?_)
  refine lv_aload_n hx hb dX0_init_110 rfl (lv_at hl 0 rfl) ?_
  refine lv_iconst (v := nI 4) hx hb dX0_init_111 (by decide) ?_
  refine gp_step (aty := .int) (ci := 0) (n := 20) (len := len0) (ety := ety0) (ex := [.int 0]) (own := RX0) (T := TX0) (N := 21) hx hb hts in_X0 hown rfl tyX0 tyX0_ok nmX0 hin 12 4 q88 rfl (fun _ => rfl) rfl (by decide) (by decide) (Nat.le_of_ble_eq_true rfl) (Nat.le_of_ble_eq_true rfl) dX0_init_112 (by decide) (by decide) rfl q36 rfl (by decide +kernel) dX0_init_114 hK hP hD hS hA (fun ad d H locs hK hP hD hS => ?_)
  refine lv_aload_n hx hb dX0_init_117 rfl (lv_at hl 0 rfl) ?_
  refine lv_bipush (v := nI 32) hx hb dX0_init_118 (by decide) ?_
  refine gp_step (aty := .int) (ci := 0) (n := 20) (len := len0) (ety := ety0) (ex := [.int 0]) (own := RX0) (T := TX0) (N := 21) hx hb hts in_X0 hown rfl tyX0 tyX0_ok nmX0 hin 13 32 q88 rfl (fun _ => rfl) rfl (by decide) (by decide) (Nat.le_of_ble_eq_true rfl) (Nat.le_of_ble_eq_true rfl) dX0_init_120 (by decide) (by decide) rfl q37 rfl (by decide +kernel) dX0_init_122 hK hP hD hS hA (fun ad d H locs hK hP hD hS => ?_)
  refine lv_aload_n hx hb dX0_init_125 rfl (lv_at hl 0 rfl) ?_
  refine lv_bipush (v := nI 32) hx hb dX0_init_126 (by decide) ?_
  refine gp_step (aty := .int) (ci := 0) (n := 20) (len := len0) (ety := ety0) (ex := [.int 0]) (own := RX0) (T := TX0) (N := 21) hx hb hts in_X0 hown rfl tyX0 tyX0_ok nmX0 hin 14 32 q88 rfl (fun _ => rfl) rfl (by decide) (by decide) (Nat.le_of_ble_eq_true rfl) (Nat.le_of_ble_eq_true rfl) dX0_init_128 (by decide) (by decide) rfl q38 rfl (by decide +kernel) dX0_init_130 hK hP hD hS hA (fun ad d H locs hK hP hD hS => ?_)
  refine lv_aload_n hx hb dX0_init_133 rfl (lv_at hl 0 rfl) ?_
  refine lv_bipush (v := nI 32) hx hb dX0_init_134 (by decide) ?_
  refine gp_step (aty := .int) (ci := 0) (n := 20) (len := len0) (ety := ety0) (ex := [.int 0]) (own := RX0) (T := TX0) (N := 21) hx hb hts in_X0 hown rfl tyX0 tyX0_ok nmX0 hin 15 32 q88 rfl (fun _ => rfl) rfl (by decide) (by decide) (Nat.le_of_ble_eq_true rfl) (Nat.le_of_ble_eq_true rfl) dX0_init_136 (by decide) (by decide) rfl q39 rfl (by decide +kernel) dX0_init_138 hK hP hD hS hA (fun ad d H locs hK hP hD hS => ?_)
  refine lv_aload_n hx hb dX0_init_141 rfl (lv_at hl 0 rfl) ?_
  refine lv_bipush (v := nI 32) hx hb dX0_init_142 (by decide) ?_
  refine gp_step (aty := .int) (ci := 0) (n := 20) (len := len0) (ety := ety0) (ex := [.int 0]) (own := RX0) (T := TX0) (N := 21) hx hb hts in_X0 hown rfl tyX0 tyX0_ok nmX0 hin 16 32 q88 rfl (fun _ => rfl) rfl (by decide) (by decide) (Nat.le_of_ble_eq_true rfl) (Nat.le_of_ble_eq_true rfl) dX0_init_144 (by decide) (by decide) rfl q40 rfl (by decide +kernel) dX0_init_146 hK hP hD hS hA (fun ad d H locs hK hP hD hS => ?_)
  refine lv_aload_n hx hb dX0_init_149 rfl (lv_at hl 0 rfl) ?_
  refine lv_bipush (v := nI 8) hx hb dX0_init_150 (by decide) ?_
  refine gp_step (aty := .int) (ci := 0) (n := 20) (len := len0) (ety := ety0) (ex := [.int 0]) (own := RX0) (T := TX0) (N := 21) hx hb hts in_X0 hown rfl tyX0 tyX0_ok nmX0 hin 17 8 q88 rfl (fun _ => rfl) rfl (by decide) (by decide) (Nat.le_of_ble_eq_true rfl) (Nat.le_of_ble_eq_true rfl) dX0_init_152 (by decide) (by decide) rfl q41 rfl (by decide +kernel) dX0_init_154 hK hP hD hS hA (fun ad d H locs hK hP hD hS => ?_)
  refine lv_aload_n hx hb dX0_init_157 rfl (lv_at hl 0 rfl) ?_
  refine lv_bipush (v := nI 8) hx hb dX0_init_158 (by decide) ?_
  refine gp_step (aty := .int) (ci := 0) (n := 20) (len := len0) (ety := ety0) (ex := [.int 0]) (own := RX0) (T := TX0) (N := 21) hx hb hts in_X0 hown rfl tyX0 tyX0_ok nmX0 hin 18 8 q88 rfl (fun _ => rfl) rfl (by decide) (by decide) (Nat.le_of_ble_eq_true rfl) (Nat.le_of_ble_eq_true rfl) dX0_init_160 (by decide) (by decide) rfl q42 rfl (by decide +kernel) dX0_init_162 hK hP hD hS hA (fun ad d H locs hK hP hD hS => ?_)
  refine lv_aload_n hx hb dX0_init_165 rfl (lv_at hl 0 rfl) ?_
  refine lv_bipush (v := nI 32) hx hb dX0_init_166 (by decide) ?_
  refine gp_step (aty := .int) (ci := 0) (n := 20) (len := len0) (ety := ety0) (ex := [.int 0]) (own := RX0) (T := TX0) (N := 21) hx hb hts in_X0 hown rfl tyX0 tyX0_ok nmX0 hin 19 32 q88 rfl (fun _ => rfl) rfl (by decide) (by decide) (Nat.le_of_ble_eq_true rfl) (Nat.le_of_ble_eq_true rfl) dX0_init_168 (by decide) (by decide) rfl q43 rfl (by decide +kernel) dX0_init_170 hK hP hD hS hA (fun ad d H locs hK hP hD hS => ?_)
  have hP : va_P D vwCl (gp 0 20 20 len0 d h ad [.int 0]) H := hP
  have hD : va_D A (gp 0 20 20 len0 d h ad [.int 0]) := hD
  have hK : va_K D vwCl (gK 20 d ety0) s := hK
  rw [gp_full] at hP hD
  obtain ⟨hap, hAq⟩ := gw_ap hD
  refine W.widen (k := 20) (n := 1524) (Nat.le_of_ble_eq_true rfl) (Nat.le_of_ble_eq_true rfl) ?_
  refine W.eq (g2 := F0 m 173 ls []) rfl ?_
  have F : Fx p s m c ([.ref h] : List Value).toArray cX0_init 3 RX0 TX0 0 20 21 ety0 (D, d, h, ad) := ⟨⟨hx, hb, hml, hown, hts⟩, hK, hap, rfl, in_X0⟩
  rw [iM_0] at hP
  refine lv_iconst (v := nI 0) hx hb dX0_init_173 (by decide) ?_
  refine lv_istore_n (lv' := [(1, .int (nI 0)), (0, .ref h)]) hx hb dX0_init_174 rfl hl (by decide) rfl (fun ls hl => ?_)
  refine lp_init_1 F hAq (fun H locs ls hP hS hl => ?_) 8 0 _ _ _ (by omega) hP hS (lv_sub hl [1, 0] rfl)
  have hsz2 : ∀ k, k < 20 → s.heap.size ≤ ad k := fun k hk => by
    have z := hAq (ad k) (Or.inr ⟨k, hk, rfl⟩)
    rw [← hAe] at z
    exact z.elim (fun y => absurd y (hap.2 k hk)) (fun y => y)
  exact W.vret hx hb hr (fun t ht hW => ⟨⟨(d, ad), rfl, trivial, by rw [ht]; exact hP, va_K.moved hW.alike hK, hap, hsz2⟩, hS.F ht⟩) hS.2.2 dX0_init_251
section
variable {p : Program} {l : Launch} {e : Env} {R : Room} {s : State} {m : MethodId} {args : Array Value} {below : List Frame} {meth : Method} {c : Code} {Q : State → Prop} {E : Cx} {cells slots : Nat} {A : Nat → Prop}
set_option maxHeartbeats 4000000 in
/-- the model's constructor's loop -/
theorem lp1_init (F : Fx p s m c args cX1_init 2 RX1 TX1 1 6 6 ety1 E) (hA : ∀ q, gAE 6 E q → A q)  (exit : ∀ (H : Heap) (locs : List Loc) (ls : Array Slot), va_P E.1 vwCl (w1 E (mI 8)) H → va_S A s.heap H locs → lv_has ls 2 [(0, .ref E.2.2.1)] → W p l e R s m args below meth c H locs cells slots Q (F0 m 75 ls [])) :
    ∀ (n a : Nat) (H : Heap) (locs : List Loc) (ls : Array Slot), a + n = 8 → va_P E.1 vwCl (w1 E (mI a)) H → va_S A s.heap H locs → lv_has ls 2 [(0, .ref E.2.2.1), (1, .int (nI a))] → W p l e R s m args below meth c H locs cells slots Q (F0 m 54 ls []) := by
  have hx := F.1.1
  have hb := F.1.2.1
  intro n
  induction n with
  | zero =>
    intro a H locs ls hi hP hS hl
    have hi : a = 8 := by omega
    subst hi
    refine lv_iload_n hx hb dX1_init_54 rfl (lv_at hl 1 rfl) ?_
    refine lv_bipush (v := nI 8) hx hb dX1_init_55 (by decide) ?_
    refine gx_ge hx hb 75 (by omega) (by omega) dX1_init_57 (by decide) (fun c_5 => ?_) (fun c_5 => ?_)
    · exact exit H locs ls hP hS (lv_sub hl [0] rfl)
    · exact absurd c_5 (by omega)
  | succ n ih =>
    intro a H locs ls hi hP hS hl
    refine lv_iload_n hx hb dX1_init_54 rfl (lv_at hl 1 rfl) ?_
    refine lv_bipush (v := nI 8) hx hb dX1_init_55 (by decide) ?_
    refine gx_ge hx hb 75 (by omega) (by omega) dX1_init_57 (by decide) (fun c_6 => ?_) (fun c_6 => ?_)
    · exact absurd c_6 (by omega)
    · refine lv_aload_n hx hb dX1_init_60 rfl (lv_at hl 0 rfl) ?_
      refine g_get F hP 5 (by decide) (by decide) rfl q188 dX1_init_61 ?_
      refine lv_iload_n hx hb dX1_init_64 rfl (lv_at hl 1 rfl) ?_
      refine lv_iload_n hx hb dX1_init_65 rfl (lv_at hl 1 rfl) ?_
      refine lv_iconst (v := nI 3) hx hb dX1_init_66 (by decide) ?_
      refine gx_and (a := 0) (j := (a % 4)) hx hb (and3 (by omega)) dX1_init_67 ?_
      refine g_iast F hA hP hS 5 8 (by decide) rfl rfl (by omega) (by decide) dX1_init_68 (fun M1 H locs eM1 hP hS => ?_)
      refine lv_iinc (v := nI (a + 1)) (lv' := [(1, .int (nI (a + 1))), (0, .ref E.2.2.1)]) hx hb dX1_init_69 hl (k := 1) rfl (nI_add a 1) (by decide) rfl (fun ls hl => ?_)
      refine lv_goto (tgt := 54) hx hb dX1_init_72 (by decide) ?_
      exact ih (a + 1) H locs ls (by omega) (by rw [eM1, mI_1] at hP; exact hP) hS (lv_sub hl [1, 0] rfl)
end
set_option maxHeartbeats 4000000 in
theorem m1_init (l : Launch) (D : va_G) (h sz : Nat) : Met l yX1_init (ws_ yX1_init cX1_init 2 none) ({ frames := 1, cells := 6, slots := 168, locals := 12 }) (va_Pc [.ref h] (fun U => U.heap.size = sz ∧ va_P D vwCl [(h, .inr (1, gpF 6 0 (fun _ => 0) []))] U.heap ∧ va_K D vwCl [] U)) (va_Qv (fun _ => True) (gI 1 6 len1 ety1 [] D h sz (mI 8)) (fun q => q = h ∨ sz ≤ q)) 6 168 (fun q => q = h ∨ sz ≤ q) := by
  refine Met.ofW (cc := cX1_init) (maxL := 2) (ret := none) (by decide) rfl ?_
  intro p e s m args below meth c s₁ B hml hv
  obtain ⟨rfl, hsz, hP, hK⟩ := hv
  have hx := B.exec
  have hb := B.bytes
  have hr := B.returns
  have hts := atoms_spec (ws := ws_ yX1_init cX1_init 2 none) B.pre
  have hts : ∀ w ∈ lw_all, w.before _ s = true := fun w h => hts w (List.mem_cons_of_mem _ h)
  have hown : s.vm.findClass RX1 = some m.cls := findClass_of_methodNamed B.named
  have hlocks := B.notSynchronized
  have hin : meth.name = "<init>" := (name_of_methodNamed B.named B.method).1
  subst hsz
  generalize hAe : (fun q => q = h ∨ s.heap.size ≤ q) = A
  have hAh : A h := by rw [← hAe]; exact Or.inl rfl
  have hA : ∀ q : Nat, s.heap.size ≤ q → A q := fun q h => by rw [← hAe]; exact Or.inr h
  have hS : va_S A s.heap s.heap [] := va_S.rf
  obtain ⟨d, -⟩ : ∃ d : Nat → ClassId, True := ⟨D.1, trivial⟩
  obtain ⟨ad, ead⟩ : ∃ ad : Nat → Nat, ad = (fun _ => 0) := ⟨_, rfl⟩
  rw [← ead] at hP
  have hD : va_D A (gp 1 6 0 len1 d h ad []) := gp_D0 hAh
  have hP : va_P D vwCl (gp 1 6 0 len1 d h ad []) s.heap := hP
  have hK : va_K D vwCl (gK 0 d ety1) s := hK
  have hl := lv_entry ([.ref h]) (n := 2) (Nat.le_of_ble_eq_true rfl)
  rw [lg_entry_eq]
  generalize (lg_sl ([.ref h]) ++ List.replicate (2 - (lg_sl ([.ref h])).length) Slot.unset).toArray = ls at hl ⊢
  have hl : lv_has ls 2 [(0, .ref h)] := hl
  refine lv_aload_n hx hb dX1_init_0 rfl (lv_at hl 0 rfl) ?_
  refine W.objInit hx hb hown (hts _ q182) (hts _ q22) (hts _ q23) rfl (by rw [hml]; exact hl.1) rfl dX1_init_1 (Nat.le_of_ble_eq_true rfl) (Nat.le_of_ble_eq_true rfl) ?_
  refine W.eq (g2 := F0 m 4 ls []) rfl ?_
  refine lv_aload_n hx hb dX1_init_4 rfl (lv_at hl 0 rfl) ?_
  refine lv_bipush (v := nI 32) hx hb dX1_init_5 (by decide) ?_
  refine gp_step (aty := .boolean) (ci := 1) (n := 6) (len := len1) (ety := ety1) (ex := []) (own := RX1) (T := TX1) (N := 6) hx hb hts in_X1 hown rfl tyX1 tyX1_ok nmX1 hin 0 32 q89 rfl (fun _ => rfl) rfl (by decide) (by decide) (Nat.le_of_ble_eq_true rfl) (Nat.le_of_ble_eq_true rfl) dX1_init_7 (by decide) (by decide) rfl q183 rfl (by decide +kernel) dX1_init_9 hK hP hD hS hA (fun ad d H locs hK hP hD hS => ?_)
  refine lv_aload_n hx hb dX1_init_12 rfl (lv_at hl 0 rfl) ?_
  refine lv_bipush (v := nI 32) hx hb dX1_init_13 (by decide) ?_
  refine gp_step (aty := .int) (ci := 1) (n := 6) (len := len1) (ety := ety1) (ex := []) (own := RX1) (T := TX1) (N := 6) hx hb hts in_X1 hown rfl tyX1 tyX1_ok nmX1 hin 1 32 q88 rfl (fun _ => rfl) rfl (by decide) (by decide) (Nat.le_of_ble_eq_true rfl) (Nat.le_of_ble_eq_true rfl) dX1_init_15 (by decide) (by decide) rfl q184 rfl (by decide +kernel) dX1_init_17 hK hP hD hS hA (fun ad d H locs hK hP hD hS => ?_)
  refine lv_aload_n hx hb dX1_init_20 rfl (lv_at hl 0 rfl) ?_
  refine lv_bipush (v := nI 32) hx hb dX1_init_21 (by decide) ?_
  refine gp_step (aty := .boolean) (ci := 1) (n := 6) (len := len1) (ety := ety1) (ex := []) (own := RX1) (T := TX1) (N := 6) hx hb hts in_X1 hown rfl tyX1 tyX1_ok nmX1 hin 2 32 q89 rfl (fun _ => rfl) rfl (by decide) (by decide) (Nat.le_of_ble_eq_true rfl) (Nat.le_of_ble_eq_true rfl) dX1_init_23 (by decide) (by decide) rfl q185 rfl (by decide +kernel) dX1_init_25 hK hP hD hS hA (fun ad d H locs hK hP hD hS => ?_)
  refine lv_aload_n hx hb dX1_init_28 rfl (lv_at hl 0 rfl) ?_
  refine lv_bipush (v := nI 32) hx hb dX1_init_29 (by decide) ?_
  refine gp_step (aty := .int) (ci := 1) (n := 6) (len := len1) (ety := ety1) (ex := []) (own := RX1) (T := TX1) (N := 6) hx hb hts in_X1 hown rfl tyX1 tyX1_ok nmX1 hin 3 32 q88 rfl (fun _ => rfl) rfl (by decide) (by decide) (Nat.le_of_ble_eq_true rfl) (Nat.le_of_ble_eq_true rfl) dX1_init_31 (by decide) (by decide) rfl q186 rfl (by decide +kernel) dX1_init_33 hK hP hD hS hA (fun ad d H locs hK hP hD hS => ?_)
  refine lv_aload_n hx hb dX1_init_36 rfl (lv_at hl 0 rfl) ?_
  refine lv_bipush (v := nI 32) hx hb dX1_init_37 (by decide) ?_
  refine gp_step (aty := .int) (ci := 1) (n := 6) (len := len1) (ety := ety1) (ex := []) (own := RX1) (T := TX1) (N := 6) hx hb hts in_X1 hown rfl tyX1 tyX1_ok nmX1 hin 4 32 q88 rfl (fun _ => rfl) rfl (by decide) (by decide) (Nat.le_of_ble_eq_true rfl) (Nat.le_of_ble_eq_true rfl) dX1_init_39 (by decide) (by decide) rfl q187 rfl (by decide +kernel) dX1_init_41 hK hP hD hS hA (fun ad d H locs hK hP hD hS => ?_)
  refine lv_aload_n hx hb dX1_init_44 rfl (lv_at hl 0 rfl) ?_
  refine lv_bipush (v := nI 8) hx hb dX1_init_45 (by decide) ?_
  refine gp_step (aty := .int) (ci := 1) (n := 6) (len := len1) (ety := ety1) (ex := []) (own := RX1) (T := TX1) (N := 6) hx hb hts in_X1 hown rfl tyX1 tyX1_ok nmX1 hin 5 8 q88 rfl (fun _ => rfl) rfl (by decide) (by decide) (Nat.le_of_ble_eq_true rfl) (Nat.le_of_ble_eq_true rfl) dX1_init_47 (by decide) (by decide) rfl q188 rfl (by decide +kernel) dX1_init_49 hK hP hD hS hA (fun ad d H locs hK hP hD hS => ?_)
  have hP : va_P D vwCl (gp 1 6 6 len1 d h ad []) H := hP
  have hD : va_D A (gp 1 6 6 len1 d h ad []) := hD
  have hK : va_K D vwCl (gK 6 d ety1) s := hK
  rw [gp_full] at hP hD
  obtain ⟨hap, hAq⟩ := gw_ap hD
  refine W.widen (k := 6) (n := 168) (Nat.le_of_ble_eq_true rfl) (Nat.le_of_ble_eq_true rfl) ?_
  refine W.eq (g2 := F0 m 52 ls []) rfl ?_
  have F : Fx p s m c ([.ref h] : List Value).toArray cX1_init 2 RX1 TX1 1 6 6 ety1 (D, d, h, ad) := ⟨⟨hx, hb, hml, hown, hts⟩, hK, hap, rfl, in_X1⟩
  rw [mI_0] at hP
  refine lv_iconst (v := nI 0) hx hb dX1_init_52 (by decide) ?_
  refine lv_istore_n (lv' := [(1, .int (nI 0)), (0, .ref h)]) hx hb dX1_init_53 rfl hl (by decide) rfl (fun ls hl => ?_)
  refine lp1_init F hAq (fun H locs ls hP hS hl => ?_) 8 0 _ _ _ (by omega) hP hS (lv_sub hl [1, 0] rfl)
  have hsz2 : ∀ k, k < 6 → s.heap.size ≤ ad k := fun k hk => by
    have z := hAq (ad k) (Or.inr ⟨k, hk, rfl⟩)
    rw [← hAe] at z
    exact z.elim (fun y => absurd y (hap.2 k hk)) (fun y => y)
  exact W.vret hx hb hr (fun t ht hW => ⟨⟨(d, ad), rfl, trivial, by rw [ht]; exact hP, va_K.moved hW.alike hK, hap, hsz2⟩, hS.F ht⟩) hS.2.2 dX1_init_75
end
section
set_option maxRecDepth 100000
set_option maxHeartbeats 4000000 in
theorem m1_bad (l : Launch) (x y : Int32) : Met l yX1_bad (ws_ yX1_bad cX1_bad 2 (some .boolean)) ({ frames := 0, cells := 0, slots := 0, locals := 0 }) (va_Pc [.int x, .int y] (fun _ => True)) (va_Qi (fun r (_ : Unit) => (r = 1 ∧ ¬ fitP x y) ∨ (r = 0 ∧ fitP x y)) (fun _ _ => True) (fun _ => False)) 0 0 (fun _ => False) := by
  refine gS_start (by decide) (Nat.le_of_ble_eq_true rfl) ?_
  intro p e s m below meth c ls hx hb hr hlocks hl
  have hl : lv_has ls 2 [(0, .int x), (1, .int y)] := hl
  refine lv_iload_n hx hb dX1_bad_0 rfl (lv_at hl 0 rfl) ?_
  refine lv_if_lt (tgt := 19) hx hb dX1_bad_1 (by decide) (fun c1 => ?_) (fun c1 => ?_)
  · refine lv_iconst (v := 1) hx hb dX1_bad_19 (by decide) ?_
    refine lv_goto (tgt := 24) hx hb dX1_bad_20 (by decide) ?_
    exact g_zret hx hb hr hlocks va_S.rf (Or.inr rfl) () (Or.inl ⟨rfl, fun q => q.1 c1⟩) (fun _ _ => trivial) dX1_bad_24
  · refine lv_iload_n hx hb dX1_bad_4 rfl (lv_at hl 0 rfl) ?_
    refine lv_iconst (v := nI 3) hx hb dX1_bad_5 (by decide) ?_
    refine lv_icmp_gt (tgt := 19) hx hb dX1_bad_6 (by decide) (fun c2 => ?_) (fun c2 => ?_)
    · refine lv_iconst (v := 1) hx hb dX1_bad_19 (by decide) ?_
      refine lv_goto (tgt := 24) hx hb dX1_bad_20 (by decide) ?_
      exact g_zret hx hb hr hlocks va_S.rf (Or.inr rfl) () (Or.inl ⟨rfl, fun q => q.2.1 c2⟩) (fun _ _ => trivial) dX1_bad_24
    · refine lv_iload_n hx hb dX1_bad_9 rfl (lv_at hl 1 rfl) ?_
      refine lv_if_lt (tgt := 19) hx hb dX1_bad_10 (by decide) (fun c3 => ?_) (fun c3 => ?_)
      · refine lv_iconst (v := 1) hx hb dX1_bad_19 (by decide) ?_
        refine lv_goto (tgt := 24) hx hb dX1_bad_20 (by decide) ?_
        exact g_zret hx hb hr hlocks va_S.rf (Or.inr rfl) () (Or.inl ⟨rfl, fun q => q.2.2.1 c3⟩) (fun _ _ => trivial) dX1_bad_24
      · refine lv_iload_n hx hb dX1_bad_13 rfl (lv_at hl 1 rfl) ?_
        refine lv_bipush (v := nI 31) hx hb dX1_bad_14 (by decide) ?_
        refine lv_icmp_le (tgt := 23) hx hb dX1_bad_16 (by decide) (fun c4 => ?_) (fun c4 => ?_)
        · refine lv_iconst (v := 0) hx hb dX1_bad_23 (by decide) ?_
          exact g_zret hx hb hr hlocks va_S.rf (Or.inl rfl) () (Or.inr ⟨rfl, c1, c2, c3, Int32.not_lt.mpr c4⟩) (fun _ _ => trivial) dX1_bad_24
        · refine lv_iconst (v := 1) hx hb dX1_bad_19 (by decide) ?_
          refine lv_goto (tgt := 24) hx hb dX1_bad_20 (by decide) ?_
          exact g_zret hx hb hr hlocks va_S.rf (Or.inr rfl) () (Or.inl ⟨rfl, fun q => q.2.2.2 (Int32.not_le.mp c4)⟩) (fun _ _ => trivial) dX1_bad_24
set_option maxHeartbeats 4000000 in
theorem m1_fresh (l : Launch) (E : Cx) (hap : gApE 6 E) (M : SM) (i k : Nat) (num : Int32) (hi : i < 4) (hk : k < 32) : Met l yX1_fresh (ws_ yX1_fresh cX1_fresh 5 (some .boolean)) ({ frames := 0, cells := 0, slots := 0, locals := 0 }) (va_Pc [.ref E.2.2.1, .int (nI i), .int num, .int (nI k)] (B1 E M)) (va_Qi (fun r u => ((r = 1 ∧ (M 2 (4 * (k % 8) + i) = 0 ∨ M 3 (4 * (k % 8) + i) < num)) ∨ (r = 0 ∧ ¬ (M 2 (4 * (k % 8) + i) = 0 ∨ M 3 (4 * (k % 8) + i) < num))) ∧ u = M) (Z1 E) (gAE 6 E)) 0 0 (gAE 6 E) := by
  refine g_start (own := RX1) (T := TX1) (N := 6) (by decide) rfl hap rfl in_X1 (Nat.le_of_ble_eq_true rfl) ?_
  intro p e s m below meth c ls F hr hlocks hP hS hl
  have hx := F.1.1
  have hb := F.1.2.1
  have hl : lv_has ls 5 [(0, .ref E.2.2.1), (1, .int (nI i)), (2, .int num), (3, .int (nI k))] := hl
  refine lv_iconst (v := nI 4) hx hb dX1_fresh_0 (by decide) ?_
  refine lv_iload_n hx hb dX1_fresh_1 rfl (lv_at hl 3 rfl) ?_
  refine lv_bipush (v := nI 7) hx hb dX1_fresh_2 (by decide) ?_
  refine gx_and (a := 0) (j := (k % 8)) hx hb (and7 (by omega)) dX1_fresh_4 ?_
  refine gx_mul hx hb dX1_fresh_5 ?_
  refine lv_iload_n hx hb dX1_fresh_6 rfl (lv_at hl 1 rfl) ?_
  refine gx_add hx hb dX1_fresh_7 ?_
  refine lv_istore (lv' := [(4, .int (nI ((4 * ((k % 8))) + i))), (0, .ref E.2.2.1), (1, .int (nI i)), (2, .int num), (3, .int (nI k))]) hx hb dX1_fresh_8 hl (by decide) rfl (fun ls hl => ?_)
  refine lv_aload_n hx hb dX1_fresh_10 rfl (lv_at hl 1 rfl) ?_
  refine g_get F hP 2 (by decide) (by decide) rfl q185 dX1_fresh_11 ?_
  refine lv_iload hx hb dX1_fresh_14 (lv_at hl 0 rfl) ?_
  refine g_zald F hP 2 32 (by decide) rfl rfl (by omega) (by decide) dX1_fresh_16 ?_
  refine lv_if_eq (tgt := 31) hx hb dX1_fresh_17 (by decide) (fun c1 => ?_) (fun c1 => ?_)
  · refine lv_iconst (v := 1) hx hb dX1_fresh_31 (by decide) ?_
    refine lv_goto (tgt := 36) hx hb dX1_fresh_32 (by decide) ?_
    exact g_zret hx hb hr hlocks hS (Or.inr rfl) M ⟨Or.inl ⟨rfl, Or.inl c1⟩, rfl⟩ (gZ_of hP) dX1_fresh_36
  · refine lv_aload_n hx hb dX1_fresh_20 rfl (lv_at hl 1 rfl) ?_
    refine g_get F hP 3 (by decide) (by decide) rfl q186 dX1_fresh_21 ?_
    refine lv_iload hx hb dX1_fresh_24 (lv_at hl 0 rfl) ?_
    refine g_iald F hP 3 32 (by decide) rfl rfl (by omega) (by decide) dX1_fresh_26 ?_
    refine lv_iload_n hx hb dX1_fresh_27 rfl (lv_at hl 3 rfl) ?_
    refine lv_icmp_ge (tgt := 35) hx hb dX1_fresh_28 (by decide) (fun c2 => ?_) (fun c2 => ?_)
    · refine lv_iconst (v := 0) hx hb dX1_fresh_35 (by decide) ?_
      exact g_zret hx hb hr hlocks hS (Or.inl rfl) M ⟨Or.inr ⟨rfl, fun q => q.elim c1 (fun z => absurd c2 (Int32.not_le.mpr z))⟩, rfl⟩ (gZ_of hP) dX1_fresh_36
    · refine lv_iconst (v := 1) hx hb dX1_fresh_31 (by decide) ?_
      refine lv_goto (tgt := 36) hx hb dX1_fresh_32 (by decide) ?_
      exact g_zret hx hb hr hlocks hS (Or.inr rfl) M ⟨Or.inl ⟨rfl, Or.inr (Int32.not_le.mp c2)⟩, rfl⟩ (gZ_of hP) dX1_fresh_36
set_option maxHeartbeats 4000000 in
theorem m1_again (l : Launch) (E : Cx) (hap : gApE 6 E) (M : SM) (i k : Nat) (num : Int32) (hi : i < 4) (hk : k < 32) : Met l yX1_again (ws_ yX1_again cX1_again 5 (some .int)) ({ frames := 0, cells := 0, slots := 0, locals := 0 }) (va_Pc [.ref E.2.2.1, .int (nI i), .int num, .int (nI k)] (B1 E M)) (va_Qi (fun r u => r = (if M 3 (4 * (k % 8) + i) = num then M 4 (4 * (k % 8) + i) else -1) ∧ u = M) (Z1 E) (gAE 6 E)) 0 0 (gAE 6 E) := by
  refine g_start (own := RX1) (T := TX1) (N := 6) (by decide) rfl hap rfl in_X1 (Nat.le_of_ble_eq_true rfl) ?_
  intro p e s m below meth c ls F hr hlocks hP hS hl
  have hx := F.1.1
  have hb := F.1.2.1
  have hl : lv_has ls 5 [(0, .ref E.2.2.1), (1, .int (nI i)), (2, .int num), (3, .int (nI k))] := hl
  refine lv_iconst (v := nI 4) hx hb dX1_again_0 (by decide) ?_
  refine lv_iload_n hx hb dX1_again_1 rfl (lv_at hl 3 rfl) ?_
  refine lv_bipush (v := nI 7) hx hb dX1_again_2 (by decide) ?_
  refine gx_and (a := 0) (j := (k % 8)) hx hb (and7 (by omega)) dX1_again_4 ?_
  refine gx_mul hx hb dX1_again_5 ?_
  refine lv_iload_n hx hb dX1_again_6 rfl (lv_at hl 1 rfl) ?_
  refine gx_add hx hb dX1_again_7 ?_
  refine lv_istore (lv' := [(4, .int (nI ((4 * ((k % 8))) + i))), (0, .ref E.2.2.1), (1, .int (nI i)), (2, .int num), (3, .int (nI k))]) hx hb dX1_again_8 hl (by decide) rfl (fun ls hl => ?_)
  refine lv_aload_n hx hb dX1_again_10 rfl (lv_at hl 1 rfl) ?_
  refine g_get F hP 3 (by decide) (by decide) rfl q186 dX1_again_11 ?_
  refine lv_iload hx hb dX1_again_14 (lv_at hl 0 rfl) ?_
  refine g_iald F hP 3 32 (by decide) rfl rfl (by omega) (by decide) dX1_again_16 ?_
  refine lv_iload_n hx hb dX1_again_17 rfl (lv_at hl 3 rfl) ?_
  refine lv_icmp_ne (tgt := 31) hx hb dX1_again_18 (by decide) (fun c1 => ?_) (fun c1 => ?_)
  · refine lv_iconst (v := (-1)) hx hb dX1_again_31 (by decide) ?_
    exact g_iret hx hb hr hlocks hS M ⟨by rw [if_neg c1], rfl⟩ (gZ_of hP) dX1_again_32
  · refine lv_aload_n hx hb dX1_again_21 rfl (lv_at hl 1 rfl) ?_
    refine g_get F hP 4 (by decide) (by decide) rfl q187 dX1_again_22 ?_
    refine lv_iload hx hb dX1_again_25 (lv_at hl 0 rfl) ?_
    refine g_iald F hP 4 32 (by decide) rfl rfl (by omega) (by decide) dX1_again_27 ?_
    refine lv_goto (tgt := 32) hx hb dX1_again_28 (by decide) ?_
    exact g_iret hx hb hr hlocks hS M ⟨by rw [if_pos (by first | exact c1 | exact Decidable.of_not_not c1)], rfl⟩ (gZ_of hP) dX1_again_32
set_option maxHeartbeats 4000000 in
theorem m1_done (l : Launch) (E : Cx) (hap : gApE 6 E) (M : SM) (i k : Nat) (num ans : Int32) (hi : i < 4) (hk : k < 32) : Met l yX1_done (ws_ yX1_done cX1_done 6 (some .int)) ({ frames := 0, cells := 0, slots := 0, locals := 0 }) (va_Pc [.ref E.2.2.1, .int (nI i), .int num, .int (nI k), .int ans] (B1 E M)) (va_Qi (fun r u => r = ans ∧ u = mDone M (4 * (k % 8) + i) num ans) (Z1 E) (gAE 6 E)) 0 0 (gAE 6 E) := by
  refine g_start (own := RX1) (T := TX1) (N := 6) (by decide) rfl hap rfl in_X1 (Nat.le_of_ble_eq_true rfl) ?_
  intro p e s m below meth c ls F hr hlocks hP hS hl
  have hx := F.1.1
  have hb := F.1.2.1
  have hl : lv_has ls 6 [(0, .ref E.2.2.1), (1, .int (nI i)), (2, .int num), (3, .int (nI k)), (4, .int ans)] := hl
  refine lv_iconst (v := nI 4) hx hb dX1_done_0 (by decide) ?_
  refine lv_iload_n hx hb dX1_done_1 rfl (lv_at hl 3 rfl) ?_
  refine lv_bipush (v := nI 7) hx hb dX1_done_2 (by decide) ?_
  refine gx_and (a := 0) (j := (k % 8)) hx hb (and7 (by omega)) dX1_done_4 ?_
  refine gx_mul hx hb dX1_done_5 ?_
  refine lv_iload_n hx hb dX1_done_6 rfl (lv_at hl 1 rfl) ?_
  refine gx_add hx hb dX1_done_7 ?_
  refine lv_istore (lv' := [(5, .int (nI ((4 * ((k % 8))) + i))), (0, .ref E.2.2.1), (1, .int (nI i)), (2, .int num), (3, .int (nI k)), (4, .int ans)]) hx hb dX1_done_8 hl (by decide) rfl (fun ls hl => ?_)
  refine lv_aload_n hx hb dX1_done_10 rfl (lv_at hl 1 rfl) ?_
  refine g_get F hP 2 (by decide) (by decide) rfl q185 dX1_done_11 ?_
  refine lv_iload hx hb dX1_done_14 (lv_at hl 0 rfl) ?_
  refine lv_iconst (v := 1) hx hb dX1_done_16 (by decide) ?_
  refine g_zast F (fun _ h => h) hP hS 2 32 (by decide) rfl rfl (by omega) (by decide) (by decide) dX1_done_17 (fun M1 H locs eM1 hP hS => ?_)
  refine lv_aload_n hx hb dX1_done_18 rfl (lv_at hl 1 rfl) ?_
  refine g_get F hP 3 (by decide) (by decide) rfl q186 dX1_done_19 ?_
  refine lv_iload hx hb dX1_done_22 (lv_at hl 0 rfl) ?_
  refine lv_iload_n hx hb dX1_done_24 rfl (lv_at hl 3 rfl) ?_
  refine g_iast F (fun _ h => h) hP hS 3 32 (by decide) rfl rfl (by omega) (by decide) dX1_done_25 (fun M2 H locs eM2 hP hS => ?_)
  refine lv_aload_n hx hb dX1_done_26 rfl (lv_at hl 1 rfl) ?_
  refine g_get F hP 4 (by decide) (by decide) rfl q187 dX1_done_27 ?_
  refine lv_iload hx hb dX1_done_30 (lv_at hl 0 rfl) ?_
  refine lv_iload hx hb dX1_done_32 (lv_at hl 5 rfl) ?_
  refine g_iast F (fun _ h => h) hP hS 4 32 (by decide) rfl rfl (by omega) (by decide) dX1_done_34 (fun M3 H locs eM3 hP hS => ?_)
  refine lv_iload hx hb dX1_done_35 (lv_at hl 5 rfl) ?_
  exact g_iret hx hb hr hlocks hS M3 ⟨rfl, by rw [eM3, eM2, eM1]; rfl⟩ (gZ_of hP) dX1_done_37
set_option maxHeartbeats 4000000 in
theorem m1_has_bad (l : Launch) (E : Cx) (hap : gApE 6 E) (M : SM) (y : Int32) (hbad : ¬ inR y) : Met l yX1_has (ws_ yX1_has cX1_has 2 (some .boolean)) ({ frames := 0, cells := 0, slots := 0, locals := 0 }) (va_Pc [.ref E.2.2.1, .int y] (B1 E M)) (va_Qi (fun r u => r = 0 ∧ u = M) (Z1 E) (gAE 6 E)) 0 0 (gAE 6 E) := by
  refine g_start (own := RX1) (T := TX1) (N := 6) (by decide) rfl hap rfl in_X1 (Nat.le_of_ble_eq_true rfl) ?_
  intro p e s m below meth c ls F hr hlocks hP hS hl
  have hx := F.1.1
  have hb := F.1.2.1
  have hl : lv_has ls 2 [(0, .ref E.2.2.1), (1, .int y)] := hl
  refine lv_iload_n hx hb dX1_has_0 rfl (lv_at hl 1 rfl) ?_
  refine lv_if_lt (tgt := 23) hx hb dX1_has_1 (by decide) (fun c1 => ?_) (fun c1 => ?_)
  · refine lv_iconst (v := 0) hx hb dX1_has_23 (by decide) ?_
    exact g_zret hx hb hr hlocks hS (Or.inl rfl) M ⟨rfl, rfl⟩ (gZ_of hP) dX1_has_24
  · refine lv_iload_n hx hb dX1_has_4 rfl (lv_at hl 1 rfl) ?_
    refine lv_bipush (v := nI 32) hx hb dX1_has_5 (by decide) ?_
    refine lv_icmp_ge (tgt := 23) hx hb dX1_has_7 (by decide) (fun c2 => ?_) (fun c2 => ?_)
    · refine lv_iconst (v := 0) hx hb dX1_has_23 (by decide) ?_
      exact g_zret hx hb hr hlocks hS (Or.inl rfl) M ⟨rfl, rfl⟩ (gZ_of hP) dX1_has_24
    · exact absurd (inR_lt c1 c2) hbad
set_option maxHeartbeats 4000000 in
theorem m1_has_ok (l : Launch) (E : Cx) (hap : gApE 6 E) (M : SM) (k : Nat) (hk : k < 32) : Met l yX1_has (ws_ yX1_has cX1_has 2 (some .boolean)) ({ frames := 0, cells := 0, slots := 0, locals := 0 }) (va_Pc [.ref E.2.2.1, .int (nI k)] (B1 E M)) (va_Qi (fun r u => r = (if M 0 k = 0 then 0 else 1) ∧ u = M) (Z1 E) (gAE 6 E)) 0 0 (gAE 6 E) := by
  refine g_start (own := RX1) (T := TX1) (N := 6) (by decide) rfl hap rfl in_X1 (Nat.le_of_ble_eq_true rfl) ?_
  intro p e s m below meth c ls F hr hlocks hP hS hl
  have hx := F.1.1
  have hb := F.1.2.1
  have hl : lv_has ls 2 [(0, .ref E.2.2.1), (1, .int (nI k))] := hl
  refine lv_iload_n hx hb dX1_has_0 rfl (lv_at hl 1 rfl) ?_
  refine lv_if_lt (tgt := 23) hx hb dX1_has_1 (by decide) (fun c_1 => ?_) (fun c_1 => ?_)
  · exact absurd c_1 (nI_pos (by omega))
  · refine lv_iload_n hx hb dX1_has_4 rfl (lv_at hl 1 rfl) ?_
    refine lv_bipush (v := nI 32) hx hb dX1_has_5 (by decide) ?_
    refine gx_ge hx hb 23 (by omega) (by omega) dX1_has_7 (by decide) (fun c_2 => ?_) (fun c_2 => ?_)
    · exact absurd c_2 (by omega)
    · refine lv_aload_n hx hb dX1_has_10 rfl (lv_at hl 0 rfl) ?_
      refine g_get F hP 0 (by decide) (by decide) rfl q183 dX1_has_11 ?_
      refine lv_iload_n hx hb dX1_has_14 rfl (lv_at hl 1 rfl) ?_
      refine g_zald F hP 0 32 (by decide) rfl rfl (by omega) (by decide) dX1_has_15 ?_
      refine lv_if_eq (tgt := 23) hx hb dX1_has_16 (by decide) (fun c1 => ?_) (fun c1 => ?_)
      · refine lv_iconst (v := 0) hx hb dX1_has_23 (by decide) ?_
        exact g_zret hx hb hr hlocks hS (Or.inl rfl) M ⟨by rw [if_pos c1], rfl⟩ (gZ_of hP) dX1_has_24
      · refine lv_iconst (v := 1) hx hb dX1_has_19 (by decide) ?_
        refine lv_goto (tgt := 24) hx hb dX1_has_20 (by decide) ?_
        exact g_zret hx hb hr hlocks hS (Or.inr rfl) M ⟨by rw [if_neg c1], rfl⟩ (gZ_of hP) dX1_has_24
set_option maxHeartbeats 4000000 in
theorem m1_get_bad (l : Launch) (E : Cx) (hap : gApE 6 E) (M : SM) (y : Int32) (hbad : ¬ inR y) : Met l yX1_get (ws_ yX1_get cX1_get 2 (some .int)) ({ frames := 1, cells := 0, slots := 0, locals := 21 }) (va_Pc [.ref E.2.2.1, .int y] (B1 E M)) (va_Qi (fun r u => r = 0 ∧ u = M) (Z1 E) (gAE 6 E)) 0 0 (gAE 6 E) := by
  refine g_start (own := RX1) (T := TX1) (N := 6) (by decide) rfl hap rfl in_X1 (Nat.le_of_ble_eq_true rfl) ?_
  intro p e s m below meth c ls F hr hlocks hP hS hl
  have hx := F.1.1
  have hb := F.1.2.1
  have hl : lv_has ls 2 [(0, .ref E.2.2.1), (1, .int y)] := hl
  refine lv_aload_n hx hb dX1_get_0 rfl (lv_at hl 0 rfl) ?_
  refine lv_iload_n hx hb dX1_get_1 rfl (lv_at hl 1 rfl) ?_
  refine g_calli (k := 1) F hP hS (m1_has_bad l E hap M y hbad) (lw_V q221 q222 q223 q15 q224) ⟨rfl, rfl⟩ (by decide +kernel) ⟨Nat.le_of_ble_eq_true rfl, Nat.le_of_ble_eq_true rfl⟩ rfl hl.1 rfl (Nat.le_of_ble_eq_true rfl) dX1_get_2 (fun r0 u0 H locs hw_r0 hP hS => ?_)
  obtain ⟨er0, eu0⟩ := hw_r0
  rw [eu0] at hP
  subst er0
  refine lv_if_eq (tgt := 17) hx hb dX1_get_5 (by decide) (fun c_3 => ?_) (fun c_3 => ?_)
  · refine lv_iconst (v := 0) hx hb dX1_get_17 (by decide) ?_
    exact g_iret hx hb hr hlocks hS M ⟨rfl, rfl⟩ (gZ_of hP) dX1_get_18
  · exact absurd rfl c_3
set_option maxHeartbeats 4000000 in
theorem m1_get_ok (l : Launch) (E : Cx) (hap : gApE 6 E) (M : SM) (k : Nat) (hk : k < 32) : Met l yX1_get (ws_ yX1_get cX1_get 2 (some .int)) ({ frames := 1, cells := 0, slots := 0, locals := 21 }) (va_Pc [.ref E.2.2.1, .int (nI k)] (B1 E M)) (va_Qi (fun r u => r = mGet M k ∧ u = M) (Z1 E) (gAE 6 E)) 0 0 (gAE 6 E) := by
  refine g_start (own := RX1) (T := TX1) (N := 6) (by decide) rfl hap rfl in_X1 (Nat.le_of_ble_eq_true rfl) ?_
  intro p e s m below meth c ls F hr hlocks hP hS hl
  have hx := F.1.1
  have hb := F.1.2.1
  have hl : lv_has ls 2 [(0, .ref E.2.2.1), (1, .int (nI k))] := hl
  refine lv_aload_n hx hb dX1_get_0 rfl (lv_at hl 0 rfl) ?_
  refine lv_iload_n hx hb dX1_get_1 rfl (lv_at hl 1 rfl) ?_
  refine g_calli (k := 1) F hP hS (m1_has_ok l E hap M k hk) (lw_V q221 q222 q223 q15 q224) ⟨rfl, rfl⟩ (by decide +kernel) ⟨Nat.le_of_ble_eq_true rfl, Nat.le_of_ble_eq_true rfl⟩ rfl hl.1 rfl (Nat.le_of_ble_eq_true rfl) dX1_get_2 (fun r0 u0 H locs hw_r0 hP hS => ?_)
  obtain ⟨er0, eu0⟩ := hw_r0
  rw [eu0] at hP
  refine lv_if_eq (tgt := 17) hx hb dX1_get_5 (by decide) (fun c1 => ?_) (fun c1 => ?_)
  · have h0 : M 0 k = 0 := by
      by_cases z : M 0 k = 0
      · exact z
      · rw [if_neg z] at er0; rw [er0] at c1; exact absurd c1 (by decide)
    refine lv_iconst (v := 0) hx hb dX1_get_17 (by decide) ?_
    exact g_iret hx hb hr hlocks hS M ⟨by rw [mGet, if_pos h0], rfl⟩ (gZ_of hP) dX1_get_18
  · have h0 : ¬ M 0 k = 0 := fun z => by rw [if_pos z] at er0; exact c1 er0
    refine lv_aload_n hx hb dX1_get_8 rfl (lv_at hl 0 rfl) ?_
    refine g_get F hP 1 (by decide) (by decide) rfl q184 dX1_get_9 ?_
    refine lv_iload_n hx hb dX1_get_12 rfl (lv_at hl 1 rfl) ?_
    refine g_iald F hP 1 32 (by decide) rfl rfl (by omega) (by decide) dX1_get_13 ?_
    refine lv_goto (tgt := 18) hx hb dX1_get_14 (by decide) ?_
    exact g_iret hx hb hr hlocks hS M ⟨by rw [mGet, if_neg h0], rfl⟩ (gZ_of hP) dX1_get_18
end
section
set_option maxRecDepth 100000
set_option maxHeartbeats 4000000 in
theorem m1_put_bad (l : Launch) (E : Cx) (hap : gApE 6 E) (M : SM) (x y : Int32) (num v : Int32) (hbad : ¬ fitP x y) : Met l yX1_put (ws_ yX1_put cX1_put 6 (some .int)) ({ frames := 2, cells := 0, slots := 0, locals := 60 }) (va_Pc [.ref E.2.2.1, .int x, .int num, .int y, .int v] (B1 E M)) (va_Qi (fun r u => r = -2 ∧ u = M) (Z1 E) (gAE 6 E)) 0 0 (gAE 6 E) := by
  refine g_start (own := RX1) (T := TX1) (N := 6) (by decide) rfl hap rfl in_X1 (Nat.le_of_ble_eq_true rfl) ?_
  intro p e s m below meth c ls F hr hlocks hP hS hl
  have hx := F.1.1
  have hb := F.1.2.1
  have hl : lv_has ls 6 [(0, .ref E.2.2.1), (1, .int x), (2, .int num), (3, .int y), (4, .int v)] := hl
  refine lv_iload_n hx hb dX1_put_0 rfl (lv_at hl 1 rfl) ?_
  refine lv_iload_n hx hb dX1_put_1 rfl (lv_at hl 3 rfl) ?_
  refine g_callS (k := 2) F hP hS (m1_bad l x y) (lw_S q206 q207 q15 q208) ⟨rfl, rfl⟩ (by decide +kernel) ⟨Nat.le_of_ble_eq_true rfl, Nat.le_of_ble_eq_true rfl⟩ rfl hl.1 rfl (Nat.le_of_ble_eq_true rfl) dX1_put_2 (fun r0 H locs hw_r0 hP hS => ?_)
  have e0 : r0 = 1 := by
    rcases hw_r0 with ⟨q, -⟩ | ⟨-, q⟩
    · exact q
    · exact absurd q hbad
  subst e0
  refine lv_if_eq (tgt := 11) hx hb dX1_put_5 (by decide) (fun c_4 => ?_) (fun c_4 => ?_)
  · exact absurd c_4 (by decide)
  · refine lv_bipush (v := (-2)) hx hb dX1_put_8 (by decide) ?_
    exact g_iret hx hb hr hlocks hS M ⟨rfl, rfl⟩ (gZ_of hP) dX1_put_10
set_option maxHeartbeats 4000000 in
theorem m1_put_ok (l : Launch) (E : Cx) (hap : gApE 6 E) (M : SM) (i k : Nat) (num v : Int32) (hi : i < 4) (hk : k < 32) : Met l yX1_put (ws_ yX1_put cX1_put 6 (some .int)) ({ frames := 2, cells := 0, slots := 0, locals := 60 }) (va_Pc [.ref E.2.2.1, .int (nI i), .int num, .int (nI k), .int v] (B1 E M)) (va_Qi (fun r u => r = reqR M (4 * (k % 8) + i) num (mGet M k) ∧ u = reqM M (4 * (k % 8) + i) num (mGet M k) (sU (sU M 0 k 1) 1 k v)) (Z1 E) (gAE 6 E)) 0 0 (gAE 6 E) := by
  refine g_start (own := RX1) (T := TX1) (N := 6) (by decide) rfl hap rfl in_X1 (Nat.le_of_ble_eq_true rfl) ?_
  intro p e s m below meth c ls F hr hlocks hP hS hl
  have hx := F.1.1
  have hb := F.1.2.1
  have hl : lv_has ls 6 [(0, .ref E.2.2.1), (1, .int (nI i)), (2, .int num), (3, .int (nI k)), (4, .int v)] := hl
  refine lv_iload_n hx hb dX1_put_0 rfl (lv_at hl 1 rfl) ?_
  refine lv_iload_n hx hb dX1_put_1 rfl (lv_at hl 3 rfl) ?_
  refine g_callS (k := 2) F hP hS (m1_bad l (nI i) (nI k)) (lw_S q206 q207 q15 q208) ⟨rfl, rfl⟩ (by decide +kernel) ⟨Nat.le_of_ble_eq_true rfl, Nat.le_of_ble_eq_true rfl⟩ rfl hl.1 rfl (Nat.le_of_ble_eq_true rfl) dX1_put_2 (fun r0 H locs hw_r0 hP hS => ?_)
  have e0 : r0 = 0 := by
    rcases hw_r0 with ⟨-, q⟩ | ⟨q, -⟩
    · exact absurd (fit_nI hi hk) q
    · exact q
  subst e0
  refine lv_if_eq (tgt := 11) hx hb dX1_put_5 (by decide) (fun c_5 => ?_) (fun c_5 => ?_)
  · refine lv_aload_n hx hb dX1_put_11 rfl (lv_at hl 0 rfl) ?_
    refine lv_iload_n hx hb dX1_put_12 rfl (lv_at hl 1 rfl) ?_
    refine lv_iload_n hx hb dX1_put_13 rfl (lv_at hl 2 rfl) ?_
    refine lv_iload_n hx hb dX1_put_14 rfl (lv_at hl 3 rfl) ?_
    refine g_calli (k := 3) F hP hS (m1_fresh l E hap M i k num hi hk) (lw_V q209 q211 qs10 q15 q212) ⟨rfl, rfl⟩ (by decide +kernel) ⟨Nat.le_of_ble_eq_true rfl, Nat.le_of_ble_eq_true rfl⟩ rfl hl.1 rfl (Nat.le_of_ble_eq_true rfl) dX1_put_15 (fun r1 u1 H locs hw_r1 hP hS => ?_)
    obtain ⟨hr1, eu1⟩ := hw_r1
    rw [eu1] at hP
    refine lv_if_ne (tgt := 29) hx hb dX1_put_18 (by decide) (fun c1 => ?_) (fun c1 => ?_)
    · have hfr : (M 2 (4 * (k % 8) + i) = 0 ∨ M 3 (4 * (k % 8) + i) < num) := by
        rcases hr1 with ⟨-, q⟩ | ⟨q, -⟩
        · exact q
        · exact absurd q c1
      refine lv_aload_n hx hb dX1_put_29 rfl (lv_at hl 0 rfl) ?_
      refine lv_iload_n hx hb dX1_put_30 rfl (lv_at hl 3 rfl) ?_
      refine g_calli (k := 1) F hP hS (m1_get_ok l E hap M k hk) (lw_V q217 q218 q219 q15 q220) ⟨rfl, rfl⟩ (by decide +kernel) ⟨Nat.le_of_ble_eq_true rfl, Nat.le_of_ble_eq_true rfl⟩ rfl hl.1 rfl (Nat.le_of_ble_eq_true rfl) dX1_put_31 (fun r3 u3 H locs hw_r3 hP hS => ?_)
      obtain ⟨er3, eu3⟩ := hw_r3
      rw [eu3] at hP
      subst er3
      refine lv_istore (lv' := [(5, .int (mGet M k)), (0, .ref E.2.2.1), (1, .int (nI i)), (2, .int num), (3, .int (nI k)), (4, .int v)]) hx hb dX1_put_34 hl (by decide) rfl (fun ls hl => ?_)
      refine lv_aload_n hx hb dX1_put_36 rfl (lv_at hl 1 rfl) ?_
      refine g_get F hP 0 (by decide) (by decide) rfl q183 dX1_put_37 ?_
      refine lv_iload_n hx hb dX1_put_40 rfl (lv_at hl 4 rfl) ?_
      refine lv_iconst (v := 1) hx hb dX1_put_41 (by decide) ?_
      refine g_zast F (fun _ h => h) hP hS 0 32 (by decide) rfl rfl (by omega) (by decide) (by decide) dX1_put_42 (fun MA0 H locs eMA0 hP hS => ?_)
      refine lv_aload_n hx hb dX1_put_43 rfl (lv_at hl 1 rfl) ?_
      refine g_get F hP 1 (by decide) (by decide) rfl q184 dX1_put_44 ?_
      refine lv_iload_n hx hb dX1_put_47 rfl (lv_at hl 4 rfl) ?_
      refine lv_iload hx hb dX1_put_48 (lv_at hl 5 rfl) ?_
      refine g_iast F (fun _ h => h) hP hS 1 32 (by decide) rfl rfl (by omega) (by decide) dX1_put_50 (fun MA1 H locs eMA1 hP hS => ?_)
      refine lv_aload_n hx hb dX1_put_51 rfl (lv_at hl 1 rfl) ?_
      refine lv_iload_n hx hb dX1_put_52 rfl (lv_at hl 2 rfl) ?_
      refine lv_iload_n hx hb dX1_put_53 rfl (lv_at hl 3 rfl) ?_
      refine lv_iload_n hx hb dX1_put_54 rfl (lv_at hl 4 rfl) ?_
      refine lv_iload hx hb dX1_put_55 (lv_at hl 0 rfl) ?_
      refine g_calli (k := 4) F hP hS (m1_done l E hap MA1 i k num (mGet M k) hi hk) (lw_V q225 q227 qs12 q15 q228) ⟨rfl, rfl⟩ (by decide +kernel) ⟨Nat.le_of_ble_eq_true rfl, Nat.le_of_ble_eq_true rfl⟩ rfl hl.1 rfl (Nat.le_of_ble_eq_true rfl) dX1_put_57 (fun r4 u4 H locs hw_r4 hP hS => ?_)
      obtain ⟨er4, eu4⟩ := hw_r4
      exact g_iret hx hb hr hlocks hS u4 ⟨by rw [reqR, if_pos hfr]; exact er4, by rw [reqM, if_pos hfr, eu4, eMA1, eMA0]⟩ (gZ_of hP) dX1_put_60
    · have c1' : r1 = 0 := by first | exact c1 | exact Decidable.of_not_not c1
      have hfr : ¬ (M 2 (4 * (k % 8) + i) = 0 ∨ M 3 (4 * (k % 8) + i) < num) := by
        rcases hr1 with ⟨q, -⟩ | ⟨-, q⟩
        · exact absurd (q.symm.trans c1') (by decide)
        · exact q
      refine lv_aload_n hx hb dX1_put_21 rfl (lv_at hl 0 rfl) ?_
      refine lv_iload_n hx hb dX1_put_22 rfl (lv_at hl 1 rfl) ?_
      refine lv_iload_n hx hb dX1_put_23 rfl (lv_at hl 2 rfl) ?_
      refine lv_iload_n hx hb dX1_put_24 rfl (lv_at hl 3 rfl) ?_
      refine g_calli (k := 3) F hP hS (m1_again l E hap M i k num hi hk) (lw_V q213 q215 qs11 q15 q216) ⟨rfl, rfl⟩ (by decide +kernel) ⟨Nat.le_of_ble_eq_true rfl, Nat.le_of_ble_eq_true rfl⟩ rfl hl.1 rfl (Nat.le_of_ble_eq_true rfl) dX1_put_25 (fun r2 u2 H locs hw_r2 hP hS => ?_)
      obtain ⟨er2, eu2⟩ := hw_r2
      rw [eu2] at hP
      exact g_iret hx hb hr hlocks hS M ⟨by rw [reqR, if_neg hfr]; exact er2, by rw [reqM, if_neg hfr]⟩ (gZ_of hP) dX1_put_28
  · exact absurd rfl c_5
set_option maxHeartbeats 4000000 in
theorem m1_addTo_bad (l : Launch) (E : Cx) (hap : gApE 6 E) (M : SM) (x y : Int32) (num v : Int32) (hbad : ¬ fitP x y) : Met l yX1_addTo (ws_ yX1_addTo cX1_addTo 6 (some .int)) ({ frames := 2, cells := 0, slots := 0, locals := 60 }) (va_Pc [.ref E.2.2.1, .int x, .int num, .int y, .int v] (B1 E M)) (va_Qi (fun r u => r = -2 ∧ u = M) (Z1 E) (gAE 6 E)) 0 0 (gAE 6 E) := by
  refine g_start (own := RX1) (T := TX1) (N := 6) (by decide) rfl hap rfl in_X1 (Nat.le_of_ble_eq_true rfl) ?_
  intro p e s m below meth c ls F hr hlocks hP hS hl
  have hx := F.1.1
  have hb := F.1.2.1
  have hl : lv_has ls 6 [(0, .ref E.2.2.1), (1, .int x), (2, .int num), (3, .int y), (4, .int v)] := hl
  refine lv_iload_n hx hb dX1_addTo_0 rfl (lv_at hl 1 rfl) ?_
  refine lv_iload_n hx hb dX1_addTo_1 rfl (lv_at hl 3 rfl) ?_
  refine g_callS (k := 2) F hP hS (m1_bad l x y) (lw_S q206 q207 q15 q208) ⟨rfl, rfl⟩ (by decide +kernel) ⟨Nat.le_of_ble_eq_true rfl, Nat.le_of_ble_eq_true rfl⟩ rfl hl.1 rfl (Nat.le_of_ble_eq_true rfl) dX1_addTo_2 (fun r0 H locs hw_r0 hP hS => ?_)
  have e0 : r0 = 1 := by
    rcases hw_r0 with ⟨q, -⟩ | ⟨-, q⟩
    · exact q
    · exact absurd q hbad
  subst e0
  refine lv_if_eq (tgt := 11) hx hb dX1_addTo_5 (by decide) (fun c_6 => ?_) (fun c_6 => ?_)
  · exact absurd c_6 (by decide)
  · refine lv_bipush (v := (-2)) hx hb dX1_addTo_8 (by decide) ?_
    exact g_iret hx hb hr hlocks hS M ⟨rfl, rfl⟩ (gZ_of hP) dX1_addTo_10
set_option maxHeartbeats 4000000 in
theorem m1_addTo_ok (l : Launch) (E : Cx) (hap : gApE 6 E) (M : SM) (i k : Nat) (num v : Int32) (hi : i < 4) (hk : k < 32) : Met l yX1_addTo (ws_ yX1_addTo cX1_addTo 6 (some .int)) ({ frames := 2, cells := 0, slots := 0, locals := 60 }) (va_Pc [.ref E.2.2.1, .int (nI i), .int num, .int (nI k), .int v] (B1 E M)) (va_Qi (fun r u => r = reqR M (4 * (k % 8) + i) num (mGet M k + v) ∧ u = reqM M (4 * (k % 8) + i) num (mGet M k + v) (sU (sU M 0 k 1) 1 k (mGet M k + v))) (Z1 E) (gAE 6 E)) 0 0 (gAE 6 E) := by
  refine g_start (own := RX1) (T := TX1) (N := 6) (by decide) rfl hap rfl in_X1 (Nat.le_of_ble_eq_true rfl) ?_
  intro p e s m below meth c ls F hr hlocks hP hS hl
  have hx := F.1.1
  have hb := F.1.2.1
  have hl : lv_has ls 6 [(0, .ref E.2.2.1), (1, .int (nI i)), (2, .int num), (3, .int (nI k)), (4, .int v)] := hl
  refine lv_iload_n hx hb dX1_addTo_0 rfl (lv_at hl 1 rfl) ?_
  refine lv_iload_n hx hb dX1_addTo_1 rfl (lv_at hl 3 rfl) ?_
  refine g_callS (k := 2) F hP hS (m1_bad l (nI i) (nI k)) (lw_S q206 q207 q15 q208) ⟨rfl, rfl⟩ (by decide +kernel) ⟨Nat.le_of_ble_eq_true rfl, Nat.le_of_ble_eq_true rfl⟩ rfl hl.1 rfl (Nat.le_of_ble_eq_true rfl) dX1_addTo_2 (fun r0 H locs hw_r0 hP hS => ?_)
  have e0 : r0 = 0 := by
    rcases hw_r0 with ⟨-, q⟩ | ⟨q, -⟩
    · exact absurd (fit_nI hi hk) q
    · exact q
  subst e0
  refine lv_if_eq (tgt := 11) hx hb dX1_addTo_5 (by decide) (fun c_7 => ?_) (fun c_7 => ?_)
  · refine lv_aload_n hx hb dX1_addTo_11 rfl (lv_at hl 0 rfl) ?_
    refine lv_iload_n hx hb dX1_addTo_12 rfl (lv_at hl 1 rfl) ?_
    refine lv_iload_n hx hb dX1_addTo_13 rfl (lv_at hl 2 rfl) ?_
    refine lv_iload_n hx hb dX1_addTo_14 rfl (lv_at hl 3 rfl) ?_
    refine g_calli (k := 3) F hP hS (m1_fresh l E hap M i k num hi hk) (lw_V q209 q211 qs10 q15 q212) ⟨rfl, rfl⟩ (by decide +kernel) ⟨Nat.le_of_ble_eq_true rfl, Nat.le_of_ble_eq_true rfl⟩ rfl hl.1 rfl (Nat.le_of_ble_eq_true rfl) dX1_addTo_15 (fun r1 u1 H locs hw_r1 hP hS => ?_)
    obtain ⟨hr1, eu1⟩ := hw_r1
    rw [eu1] at hP
    refine lv_if_ne (tgt := 29) hx hb dX1_addTo_18 (by decide) (fun c1 => ?_) (fun c1 => ?_)
    · have hfr : (M 2 (4 * (k % 8) + i) = 0 ∨ M 3 (4 * (k % 8) + i) < num) := by
        rcases hr1 with ⟨-, q⟩ | ⟨q, -⟩
        · exact q
        · exact absurd q c1
      refine lv_aload_n hx hb dX1_addTo_29 rfl (lv_at hl 0 rfl) ?_
      refine lv_iload_n hx hb dX1_addTo_30 rfl (lv_at hl 3 rfl) ?_
      refine g_calli (k := 1) F hP hS (m1_get_ok l E hap M k hk) (lw_V q217 q218 q219 q15 q220) ⟨rfl, rfl⟩ (by decide +kernel) ⟨Nat.le_of_ble_eq_true rfl, Nat.le_of_ble_eq_true rfl⟩ rfl hl.1 rfl (Nat.le_of_ble_eq_true rfl) dX1_addTo_31 (fun r3 u3 H locs hw_r3 hP hS => ?_)
      obtain ⟨er3, eu3⟩ := hw_r3
      rw [eu3] at hP
      subst er3
      refine lv_iload hx hb dX1_addTo_34 (lv_at hl 4 rfl) ?_
      refine lv_iadd hx hb dX1_addTo_36 ?_
      refine lv_istore (lv' := [(5, .int ((mGet M k) + v)), (0, .ref E.2.2.1), (1, .int (nI i)), (2, .int num), (3, .int (nI k)), (4, .int v)]) hx hb dX1_addTo_37 hl (by decide) rfl (fun ls hl => ?_)
      refine lv_aload_n hx hb dX1_addTo_39 rfl (lv_at hl 1 rfl) ?_
      refine g_get F hP 0 (by decide) (by decide) rfl q183 dX1_addTo_40 ?_
      refine lv_iload_n hx hb dX1_addTo_43 rfl (lv_at hl 4 rfl) ?_
      refine lv_iconst (v := 1) hx hb dX1_addTo_44 (by decide) ?_
      refine g_zast F (fun _ h => h) hP hS 0 32 (by decide) rfl rfl (by omega) (by decide) (by decide) dX1_addTo_45 (fun MA0 H locs eMA0 hP hS => ?_)
      refine lv_aload_n hx hb dX1_addTo_46 rfl (lv_at hl 1 rfl) ?_
      refine g_get F hP 1 (by decide) (by decide) rfl q184 dX1_addTo_47 ?_
      refine lv_iload_n hx hb dX1_addTo_50 rfl (lv_at hl 4 rfl) ?_
      refine lv_iload hx hb dX1_addTo_51 (lv_at hl 0 rfl) ?_
      refine g_iast F (fun _ h => h) hP hS 1 32 (by decide) rfl rfl (by omega) (by decide) dX1_addTo_53 (fun MA1 H locs eMA1 hP hS => ?_)
      refine lv_aload_n hx hb dX1_addTo_54 rfl (lv_at hl 1 rfl) ?_
      refine lv_iload_n hx hb dX1_addTo_55 rfl (lv_at hl 2 rfl) ?_
      refine lv_iload_n hx hb dX1_addTo_56 rfl (lv_at hl 3 rfl) ?_
      refine lv_iload_n hx hb dX1_addTo_57 rfl (lv_at hl 4 rfl) ?_
      refine lv_iload hx hb dX1_addTo_58 (lv_at hl 0 rfl) ?_
      refine g_calli (k := 4) F hP hS (m1_done l E hap MA1 i k num (mGet M k + v) hi hk) (lw_V q225 q227 qs12 q15 q228) ⟨rfl, rfl⟩ (by decide +kernel) ⟨Nat.le_of_ble_eq_true rfl, Nat.le_of_ble_eq_true rfl⟩ rfl hl.1 rfl (Nat.le_of_ble_eq_true rfl) dX1_addTo_60 (fun r4 u4 H locs hw_r4 hP hS => ?_)
      obtain ⟨er4, eu4⟩ := hw_r4
      exact g_iret hx hb hr hlocks hS u4 ⟨by rw [reqR, if_pos hfr]; exact er4, by rw [reqM, if_pos hfr, eu4, eMA1, eMA0]⟩ (gZ_of hP) dX1_addTo_63
    · have c1' : r1 = 0 := by first | exact c1 | exact Decidable.of_not_not c1
      have hfr : ¬ (M 2 (4 * (k % 8) + i) = 0 ∨ M 3 (4 * (k % 8) + i) < num) := by
        rcases hr1 with ⟨q, -⟩ | ⟨-, q⟩
        · exact absurd (q.symm.trans c1') (by decide)
        · exact q
      refine lv_aload_n hx hb dX1_addTo_21 rfl (lv_at hl 0 rfl) ?_
      refine lv_iload_n hx hb dX1_addTo_22 rfl (lv_at hl 1 rfl) ?_
      refine lv_iload_n hx hb dX1_addTo_23 rfl (lv_at hl 2 rfl) ?_
      refine lv_iload_n hx hb dX1_addTo_24 rfl (lv_at hl 3 rfl) ?_
      refine g_calli (k := 3) F hP hS (m1_again l E hap M i k num hi hk) (lw_V q213 q215 qs11 q15 q216) ⟨rfl, rfl⟩ (by decide +kernel) ⟨Nat.le_of_ble_eq_true rfl, Nat.le_of_ble_eq_true rfl⟩ rfl hl.1 rfl (Nat.le_of_ble_eq_true rfl) dX1_addTo_25 (fun r2 u2 H locs hw_r2 hP hS => ?_)
      obtain ⟨er2, eu2⟩ := hw_r2
      rw [eu2] at hP
      exact g_iret hx hb hr hlocks hS M ⟨by rw [reqR, if_neg hfr]; exact er2, by rw [reqM, if_neg hfr]⟩ (gZ_of hP) dX1_addTo_28
  · exact absurd rfl c_7
set_option maxHeartbeats 4000000 in
theorem m1_remove_bad (l : Launch) (E : Cx) (hap : gApE 6 E) (M : SM) (x y : Int32) (num : Int32) (hbad : ¬ fitP x y) : Met l yX1_remove (ws_ yX1_remove cX1_remove 5 (some .int)) ({ frames := 2, cells := 0, slots := 0, locals := 60 }) (va_Pc [.ref E.2.2.1, .int x, .int num, .int y] (B1 E M)) (va_Qi (fun r u => r = -2 ∧ u = M) (Z1 E) (gAE 6 E)) 0 0 (gAE 6 E) := by
  refine g_start (own := RX1) (T := TX1) (N := 6) (by decide) rfl hap rfl in_X1 (Nat.le_of_ble_eq_true rfl) ?_
  intro p e s m below meth c ls F hr hlocks hP hS hl
  have hx := F.1.1
  have hb := F.1.2.1
  have hl : lv_has ls 5 [(0, .ref E.2.2.1), (1, .int x), (2, .int num), (3, .int y)] := hl
  refine lv_iload_n hx hb dX1_remove_0 rfl (lv_at hl 1 rfl) ?_
  refine lv_iload_n hx hb dX1_remove_1 rfl (lv_at hl 3 rfl) ?_
  refine g_callS (k := 2) F hP hS (m1_bad l x y) (lw_S q206 q207 q15 q208) ⟨rfl, rfl⟩ (by decide +kernel) ⟨Nat.le_of_ble_eq_true rfl, Nat.le_of_ble_eq_true rfl⟩ rfl hl.1 rfl (Nat.le_of_ble_eq_true rfl) dX1_remove_2 (fun r0 H locs hw_r0 hP hS => ?_)
  have e0 : r0 = 1 := by
    rcases hw_r0 with ⟨q, -⟩ | ⟨-, q⟩
    · exact q
    · exact absurd q hbad
  subst e0
  refine lv_if_eq (tgt := 11) hx hb dX1_remove_5 (by decide) (fun c_8 => ?_) (fun c_8 => ?_)
  · exact absurd c_8 (by decide)
  · refine lv_bipush (v := (-2)) hx hb dX1_remove_8 (by decide) ?_
    exact g_iret hx hb hr hlocks hS M ⟨rfl, rfl⟩ (gZ_of hP) dX1_remove_10
set_option maxHeartbeats 4000000 in
theorem m1_remove_ok (l : Launch) (E : Cx) (hap : gApE 6 E) (M : SM) (i k : Nat) (num : Int32) (hi : i < 4) (hk : k < 32) : Met l yX1_remove (ws_ yX1_remove cX1_remove 5 (some .int)) ({ frames := 2, cells := 0, slots := 0, locals := 60 }) (va_Pc [.ref E.2.2.1, .int (nI i), .int num, .int (nI k)] (B1 E M)) (va_Qi (fun r u => r = reqR M (4 * (k % 8) + i) num (mGet M k) ∧ u = reqM M (4 * (k % 8) + i) num (mGet M k) (sU M 0 k 0)) (Z1 E) (gAE 6 E)) 0 0 (gAE 6 E) := by
  refine g_start (own := RX1) (T := TX1) (N := 6) (by decide) rfl hap rfl in_X1 (Nat.le_of_ble_eq_true rfl) ?_
  intro p e s m below meth c ls F hr hlocks hP hS hl
  have hx := F.1.1
  have hb := F.1.2.1
  have hl : lv_has ls 5 [(0, .ref E.2.2.1), (1, .int (nI i)), (2, .int num), (3, .int (nI k))] := hl
  refine lv_iload_n hx hb dX1_remove_0 rfl (lv_at hl 1 rfl) ?_
  refine lv_iload_n hx hb dX1_remove_1 rfl (lv_at hl 3 rfl) ?_
  refine g_callS (k := 2) F hP hS (m1_bad l (nI i) (nI k)) (lw_S q206 q207 q15 q208) ⟨rfl, rfl⟩ (by decide +kernel) ⟨Nat.le_of_ble_eq_true rfl, Nat.le_of_ble_eq_true rfl⟩ rfl hl.1 rfl (Nat.le_of_ble_eq_true rfl) dX1_remove_2 (fun r0 H locs hw_r0 hP hS => ?_)
  have e0 : r0 = 0 := by
    rcases hw_r0 with ⟨-, q⟩ | ⟨q, -⟩
    · exact absurd (fit_nI hi hk) q
    · exact q
  subst e0
  refine lv_if_eq (tgt := 11) hx hb dX1_remove_5 (by decide) (fun c_9 => ?_) (fun c_9 => ?_)
  · refine lv_aload_n hx hb dX1_remove_11 rfl (lv_at hl 0 rfl) ?_
    refine lv_iload_n hx hb dX1_remove_12 rfl (lv_at hl 1 rfl) ?_
    refine lv_iload_n hx hb dX1_remove_13 rfl (lv_at hl 2 rfl) ?_
    refine lv_iload_n hx hb dX1_remove_14 rfl (lv_at hl 3 rfl) ?_
    refine g_calli (k := 3) F hP hS (m1_fresh l E hap M i k num hi hk) (lw_V q209 q211 qs10 q15 q212) ⟨rfl, rfl⟩ (by decide +kernel) ⟨Nat.le_of_ble_eq_true rfl, Nat.le_of_ble_eq_true rfl⟩ rfl hl.1 rfl (Nat.le_of_ble_eq_true rfl) dX1_remove_15 (fun r1 u1 H locs hw_r1 hP hS => ?_)
    obtain ⟨hr1, eu1⟩ := hw_r1
    rw [eu1] at hP
    refine lv_if_ne (tgt := 29) hx hb dX1_remove_18 (by decide) (fun c1 => ?_) (fun c1 => ?_)
    · have hfr : (M 2 (4 * (k % 8) + i) = 0 ∨ M 3 (4 * (k % 8) + i) < num) := by
        rcases hr1 with ⟨-, q⟩ | ⟨q, -⟩
        · exact q
        · exact absurd q c1
      refine lv_aload_n hx hb dX1_remove_29 rfl (lv_at hl 0 rfl) ?_
      refine lv_iload_n hx hb dX1_remove_30 rfl (lv_at hl 3 rfl) ?_
      refine g_calli (k := 1) F hP hS (m1_get_ok l E hap M k hk) (lw_V q217 q218 q219 q15 q220) ⟨rfl, rfl⟩ (by decide +kernel) ⟨Nat.le_of_ble_eq_true rfl, Nat.le_of_ble_eq_true rfl⟩ rfl hl.1 rfl (Nat.le_of_ble_eq_true rfl) dX1_remove_31 (fun r3 u3 H locs hw_r3 hP hS => ?_)
      obtain ⟨er3, eu3⟩ := hw_r3
      rw [eu3] at hP
      subst er3
      refine lv_istore (lv' := [(4, .int (mGet M k)), (0, .ref E.2.2.1), (1, .int (nI i)), (2, .int num), (3, .int (nI k))]) hx hb dX1_remove_34 hl (by decide) rfl (fun ls hl => ?_)
      refine lv_aload_n hx hb dX1_remove_36 rfl (lv_at hl 1 rfl) ?_
      refine g_get F hP 0 (by decide) (by decide) rfl q183 dX1_remove_37 ?_
      refine lv_iload_n hx hb dX1_remove_40 rfl (lv_at hl 4 rfl) ?_
      refine lv_iconst (v := 0) hx hb dX1_remove_41 (by decide) ?_
      refine g_zast F (fun _ h => h) hP hS 0 32 (by decide) rfl rfl (by omega) (by decide) (by decide) dX1_remove_42 (fun MA0 H locs eMA0 hP hS => ?_)
      refine lv_aload_n hx hb dX1_remove_43 rfl (lv_at hl 1 rfl) ?_
      refine lv_iload_n hx hb dX1_remove_44 rfl (lv_at hl 2 rfl) ?_
      refine lv_iload_n hx hb dX1_remove_45 rfl (lv_at hl 3 rfl) ?_
      refine lv_iload_n hx hb dX1_remove_46 rfl (lv_at hl 4 rfl) ?_
      refine lv_iload hx hb dX1_remove_47 (lv_at hl 0 rfl) ?_
      refine g_calli (k := 4) F hP hS (m1_done l E hap MA0 i k num (mGet M k) hi hk) (lw_V q225 q227 qs12 q15 q228) ⟨rfl, rfl⟩ (by decide +kernel) ⟨Nat.le_of_ble_eq_true rfl, Nat.le_of_ble_eq_true rfl⟩ rfl hl.1 rfl (Nat.le_of_ble_eq_true rfl) dX1_remove_49 (fun r4 u4 H locs hw_r4 hP hS => ?_)
      obtain ⟨er4, eu4⟩ := hw_r4
      exact g_iret hx hb hr hlocks hS u4 ⟨by rw [reqR, if_pos hfr]; exact er4, by rw [reqM, if_pos hfr, eu4, eMA0]⟩ (gZ_of hP) dX1_remove_52
    · have c1' : r1 = 0 := by first | exact c1 | exact Decidable.of_not_not c1
      have hfr : ¬ (M 2 (4 * (k % 8) + i) = 0 ∨ M 3 (4 * (k % 8) + i) < num) := by
        rcases hr1 with ⟨q, -⟩ | ⟨-, q⟩
        · exact absurd (q.symm.trans c1') (by decide)
        · exact q
      refine lv_aload_n hx hb dX1_remove_21 rfl (lv_at hl 0 rfl) ?_
      refine lv_iload_n hx hb dX1_remove_22 rfl (lv_at hl 1 rfl) ?_
      refine lv_iload_n hx hb dX1_remove_23 rfl (lv_at hl 2 rfl) ?_
      refine lv_iload_n hx hb dX1_remove_24 rfl (lv_at hl 3 rfl) ?_
      refine g_calli (k := 3) F hP hS (m1_again l E hap M i k num hi hk) (lw_V q213 q215 qs11 q15 q216) ⟨rfl, rfl⟩ (by decide +kernel) ⟨Nat.le_of_ble_eq_true rfl, Nat.le_of_ble_eq_true rfl⟩ rfl hl.1 rfl (Nat.le_of_ble_eq_true rfl) dX1_remove_25 (fun r2 u2 H locs hw_r2 hP hS => ?_)
      obtain ⟨er2, eu2⟩ := hw_r2
      rw [eu2] at hP
      exact g_iret hx hb hr hlocks hS M ⟨by rw [reqR, if_neg hfr]; exact er2, by rw [reqM, if_neg hfr]⟩ (gZ_of hP) dX1_remove_28
  · exact absurd rfl c_9
end
section
set_option maxRecDepth 100000
/-- how many keys of class c below n are there -/
def cs (m : SM) (c : Nat) : Nat → Nat
  | 0 => 0
  | n + 1 => if m 0 n = 0 then cs m c n else if n % 8 = c then cs m c n + 1 else cs m c n
theorem cs_cu8 {m : SM} {c u : Nat} (hc : c < 8) (h0 : cs m c (8 * u) = cu m c u) : ∀ j, j ≤ 8 → cs m c (8 * u + j) = if j ≤ c then cu m c u else cu m c (u + 1) := by
  intro j
  induction j with
  | zero => intro _; rw [if_pos (by omega)]; exact h0
  | succ j ih =>
    intro hj
    have ih := ih (by omega)
    show (if m 0 (8 * u + j) = 0 then cs m c (8 * u + j) else if (8 * u + j) % 8 = c then cs m c (8 * u + j) + 1 else cs m c (8 * u + j)) = _
    rw [ih]
    rcases (show j < c ∨ j = c ∨ c < j by omega) with q | q | q
    · rw [if_pos (show j ≤ c by omega), if_pos (show j + 1 ≤ c by omega), if_neg (show ¬ (8 * u + j) % 8 = c by omega)]
      split <;> rfl
    · rw [if_pos (show j ≤ c by omega), if_neg (show ¬ j + 1 ≤ c by omega), if_pos (show (8 * u + j) % 8 = c by omega), cu, show c + 8 * u = 8 * u + j by omega]
    · rw [if_neg (show ¬ j ≤ c by omega), if_neg (show ¬ j + 1 ≤ c by omega), if_neg (show ¬ (8 * u + j) % 8 = c by omega)]
      split <;> rfl
theorem cs_cu {m : SM} {c : Nat} (hc : c < 8) : ∀ u, cs m c (8 * u) = cu m c u := by
  intro u
  induction u with
  | zero => rfl
  | succ u ih =>
    have := cs_cu8 hc ih 8 (by omega)
    rw [if_neg (by omega)] at this
    exact this
theorem cs_le (m : SM) (c : Nat) : ∀ n, cs m c n ≤ n := by
  intro n
  induction n with
  | zero => exact Nat.le_refl _
  | succ n ih =>
    rw [cs]
    (repeat' split) <;> omega
section
variable {p : Program} {l : Launch} {e : Env} {R : Room} {s : State} {m : MethodId} {args : Array Value} {below : List Frame} {meth : Method} {c : Code} {Q : State → Prop} {E : Cx}
set_option maxHeartbeats 4000000 in
/-- size's loop -/
theorem lp1_size (F : Fx p s m c args cX1_size 4 RX1 TX1 1 6 6 ety1 E) {cl : Nat} {x : Int32} (hc : cl < 8) (hx7 : x &&& nI 7 = nI cl) (M : SM)
    (exit : ∀ (H : Heap) (locs : List Loc) (ls : Array Slot), va_P E.1 vwCl (w1 E M) H → va_S (gAE 6 E) s.heap H locs → lv_has ls 4 [(0, .ref E.2.2.1), (1, .int x), (2, .int (nI (cs M cl 32)))] → W p l e R s m args below meth c H locs 0 0 Q (F0 m 39 ls [])) :
    ∀ (n k : Nat) (H : Heap) (locs : List Loc) (ls : Array Slot), k + n = 32 → va_P E.1 vwCl (w1 E M) H → va_S (gAE 6 E) s.heap H locs → lv_has ls 4 [(0, .ref E.2.2.1), (1, .int x), (2, .int (nI (cs M cl k))), (3, .int (nI k))] → W p l e R s m args below meth c H locs 0 0 Q (F0 m 4 ls []) := by
  have hx := F.1.1
  have hb := F.1.2.1
  intro n
  induction n with
  | zero =>
    intro k H locs ls hk hP hS hl
    have hk : k = 32 := by omega
    subst hk
    refine lv_iload_n hx hb dX1_size_4 rfl (lv_at hl 3 rfl) ?_
    refine lv_bipush (v := nI 32) hx hb dX1_size_5 (by decide) ?_
    refine gx_ge hx hb 39 (by omega) (by omega) dX1_size_7 (by decide) (fun c_10 => ?_) (fun c_10 => ?_)
    · exact exit H locs ls hP hS (lv_sub hl [0, 1, 2] rfl)
    · exact absurd c_10 (by omega)
  | succ n ih =>
    intro k H locs ls hk hP hS hl
    refine lv_iload_n hx hb dX1_size_4 rfl (lv_at hl 3 rfl) ?_
    refine lv_bipush (v := nI 32) hx hb dX1_size_5 (by decide) ?_
    refine gx_ge hx hb 39 (by omega) (by omega) dX1_size_7 (by decide) (fun c_11 => ?_) (fun c_11 => ?_)
    · exact absurd c_11 (by omega)
    · refine lv_aload_n hx hb dX1_size_10 rfl (lv_at hl 0 rfl) ?_
      refine g_get F hP 0 (by decide) (by decide) rfl q183 dX1_size_11 ?_
      refine lv_iload_n hx hb dX1_size_14 rfl (lv_at hl 3 rfl) ?_
      refine g_zald F hP 0 32 (by decide) rfl rfl (by omega) (by decide) dX1_size_15 ?_
      refine lv_if_eq (tgt := 33) hx hb dX1_size_16 (by decide) (fun c1 => ?_) (fun c1 => ?_)
      · have ec : cs M cl k = cs M cl (k + 1) := by rw [cs, if_pos c1]
        rw [ec] at hl
        refine lv_iinc (v := nI (k + 1)) (lv' := [(3, .int (nI (k + 1))), (0, .ref E.2.2.1), (1, .int x), (2, .int (nI (cs M cl (k + 1))))]) hx hb dX1_size_33 hl (k := 3) rfl (nI_add k 1) (by decide) rfl (fun ls hl => ?_)
        refine lv_goto (tgt := 4) hx hb dX1_size_36 (by decide) ?_
        exact ih (k + 1) H locs ls (by omega) hP hS (lv_sub hl [1, 2, 3, 0] rfl)
      · refine lv_iload_n hx hb dX1_size_19 rfl (lv_at hl 3 rfl) ?_
        refine lv_bipush (v := nI 7) hx hb dX1_size_20 (by decide) ?_
        refine gx_and (a := 0) (j := (k % 8)) hx hb (and7 (by omega)) dX1_size_22 ?_
        refine lv_iload_n hx hb dX1_size_23 rfl (lv_at hl 1 rfl) ?_
        refine lv_bipush (v := nI 7) hx hb dX1_size_24 (by decide) ?_
        refine gx_and (a := 0) (j := cl) hx hb hx7 dX1_size_26 ?_
        refine gx_ne hx hb 33 (by omega) (by omega) dX1_size_27 (by decide) (fun c2 => ?_) (fun c2 => ?_)
        · have ec : cs M cl k = cs M cl (k + 1) := by rw [cs, if_neg c1, if_neg c2]
          rw [ec] at hl
          refine lv_iinc (v := nI (k + 1)) (lv' := [(3, .int (nI (k + 1))), (0, .ref E.2.2.1), (1, .int x), (2, .int (nI (cs M cl (k + 1))))]) hx hb dX1_size_33 hl (k := 3) rfl (nI_add k 1) (by decide) rfl (fun ls hl => ?_)
          refine lv_goto (tgt := 4) hx hb dX1_size_36 (by decide) ?_
          exact ih (k + 1) H locs ls (by omega) hP hS (lv_sub hl [1, 2, 3, 0] rfl)
        · have ec : cs M cl k + 1 = cs M cl (k + 1) := by rw [cs, if_neg c1, if_pos c2]
          refine lv_iinc (v := nI (cs M cl (k + 1))) (lv' := [(2, .int (nI (cs M cl (k + 1)))), (0, .ref E.2.2.1), (1, .int x), (3, .int (nI k))]) hx hb dX1_size_30 hl (k := 2) rfl ((nI_add (cs M cl k) 1).trans (congrArg nI ec)) (by decide) rfl (fun ls hl => ?_)
          refine lv_iinc (v := nI (k + 1)) (lv' := [(3, .int (nI (k + 1))), (2, .int (nI (cs M cl (k + 1)))), (0, .ref E.2.2.1), (1, .int x)]) hx hb dX1_size_33 hl (k := 3) rfl (nI_add k 1) (by decide) rfl (fun ls hl => ?_)
          refine lv_goto (tgt := 4) hx hb dX1_size_36 (by decide) ?_
          exact ih (k + 1) H locs ls (by omega) hP hS (lv_sub hl [2, 3, 1, 0] rfl)
end
set_option maxHeartbeats 4000000 in
theorem m1_size (l : Launch) (E : Cx) (hap : gApE 6 E) (M : SM) (x : Int32) (cl : Nat) (hc : cl < 8) (hx7 : x &&& nI 7 = nI cl) : Met l yX1_size (ws_ yX1_size cX1_size 4 (some .int)) ({ frames := 2, cells := 0, slots := 0, locals := 60 }) (va_Pc [.ref E.2.2.1, .int x] (B1 E M)) (va_Qi (fun r u => r = nI (cu M cl 4) ∧ u = M) (Z1 E) (gAE 6 E)) 0 0 (gAE 6 E) := by
  refine g_start (own := RX1) (T := TX1) (N := 6) (by decide) rfl hap rfl in_X1 (Nat.le_of_ble_eq_true rfl) ?_
  intro p e s m below meth c ls F hr hlocks hP hS hl
  have hx := F.1.1
  have hb := F.1.2.1
  have hl : lv_has ls 4 [(0, .ref E.2.2.1), (1, .int x)] := hl
  refine lv_iconst (v := nI 0) hx hb dX1_size_0 (by decide) ?_
  refine lv_istore_n (lv' := [(2, .int (nI 0)), (0, .ref E.2.2.1), (1, .int x)]) hx hb dX1_size_1 rfl hl (by decide) rfl (fun ls hl => ?_)
  refine lv_iconst (v := nI 0) hx hb dX1_size_2 (by decide) ?_
  refine lv_istore_n (lv' := [(3, .int (nI 0)), (2, .int (nI 0)), (0, .ref E.2.2.1), (1, .int x)]) hx hb dX1_size_3 rfl hl (by decide) rfl (fun ls hl => ?_)
  refine lp1_size F hc hx7 M (fun H locs ls hP hS hl => ?_) 32 0 _ _ _ (by omega) hP hS (lv_sub hl [2, 3, 1, 0] rfl)
  refine lv_iload_n hx hb dX1_size_39 rfl (lv_at hl 2 rfl) ?_
  exact g_iret hx hb hr hlocks hS M ⟨congrArg nI (cs_cu hc 4), rfl⟩ (gZ_of hP) dX1_size_40
section
variable {p : Program} {l : Launch} {e : Env} {R : Room} {s : State} {m : MethodId} {args : Array Value} {below : List Frame} {meth : Method} {c : Code} {Q : State → Prop} {E : Cx}
set_option maxHeartbeats 4000000 in
/-- lastFrom's loop -/
theorem lp1_lastFrom (F : Fx p s m c args cX1_lastFrom 3 RX1 TX1 1 6 6 ety1 E) {x : Int32} (M : SM) (hr : meth.sig.returnType = some .int) (hlocks : meth.locks = false) :
    ∀ (n : Nat) (H : Heap) (locs : List Loc) (ls : Array Slot), n ≤ 32 → lf M x 32 = lf M x n → va_P E.1 vwCl (w1 E M) H → va_S (gAE 6 E) s.heap H locs → lv_has ls 3 [(0, .ref E.2.2.1), (1, .int x), (2, .int (nI n + (-1)))] → W p l e R s m args below meth c H locs 0 0 (MQ below (va_Qi (fun r u => r = lf M x 32 ∧ u = M) (Z1 E) (gAE 6 E)) args s 0 0 (gAE 6 E)) (F0 m 3 ls []) := by
  have hx := F.1.1
  have hb := F.1.2.1
  intro n
  induction n with
  | zero =>
    intro H locs ls hn hlf hP hS hl
    have hl : lv_has ls 3 [(0, .ref E.2.2.1), (1, .int x), (2, .int (-1))] := hl
    refine lv_iload_n hx hb dX1_lastFrom_3 rfl (lv_at hl 2 rfl) ?_
    refine lv_if_lt (tgt := 34) hx hb dX1_lastFrom_4 (by decide) (fun c_12 => ?_) (fun c_12 => ?_)
    · refine lv_iconst (v := (-1)) hx hb dX1_lastFrom_34 (by decide) ?_
      exact g_iret hx hb hr hlocks hS M ⟨hlf.symm, rfl⟩ (gZ_of hP) dX1_lastFrom_35
    · exact absurd (by decide) c_12
  | succ n ih =>
    intro H locs ls hn hlf hP hS hl
    rw [pk_m1] at hl
    refine lv_iload_n hx hb dX1_lastFrom_3 rfl (lv_at hl 2 rfl) ?_
    refine lv_if_lt (tgt := 34) hx hb dX1_lastFrom_4 (by decide) (fun c_13 => ?_) (fun c_13 => ?_)
    · exact absurd c_13 (nI_pos (by omega))
    · refine lv_aload_n hx hb dX1_lastFrom_7 rfl (lv_at hl 0 rfl) ?_
      refine g_get F hP 0 (by decide) (by decide) rfl q183 dX1_lastFrom_8 ?_
      refine lv_iload_n hx hb dX1_lastFrom_11 rfl (lv_at hl 2 rfl) ?_
      refine g_zald F hP 0 32 (by decide) rfl rfl (by omega) (by decide) dX1_lastFrom_12 ?_
      refine lv_if_eq (tgt := 28) hx hb dX1_lastFrom_13 (by decide) (fun c1 => ?_) (fun c1 => ?_)
      · have hs : M 0 n = 0 ∨ M 1 n < x := Or.inl c1
        refine lv_iinc (v := nI n + (-1)) (lv' := [(2, .int (nI n + (-1))), (0, .ref E.2.2.1), (1, .int x)]) hx hb dX1_lastFrom_28 hl (k := 2) rfl rfl (by decide) rfl (fun ls hl => ?_)
        refine lv_goto (tgt := 3) hx hb dX1_lastFrom_31 (by decide) ?_
        exact ih H locs ls (by omega) (by rw [hlf, lf_skip hs]) hP hS (lv_sub hl [1, 2, 0] rfl)
      · refine lv_aload_n hx hb dX1_lastFrom_16 rfl (lv_at hl 0 rfl) ?_
        refine g_get F hP 1 (by decide) (by decide) rfl q184 dX1_lastFrom_17 ?_
        refine lv_iload_n hx hb dX1_lastFrom_20 rfl (lv_at hl 2 rfl) ?_
        refine g_iald F hP 1 32 (by decide) rfl rfl (by omega) (by decide) dX1_lastFrom_21 ?_
        refine lv_iload_n hx hb dX1_lastFrom_22 rfl (lv_at hl 1 rfl) ?_
        refine lv_icmp_lt (tgt := 28) hx hb dX1_lastFrom_23 (by decide) (fun c2 => ?_) (fun c2 => ?_)
        · have hs : M 0 n = 0 ∨ M 1 n < x := Or.inr c2
          refine lv_iinc (v := nI n + (-1)) (lv' := [(2, .int (nI n + (-1))), (0, .ref E.2.2.1), (1, .int x)]) hx hb dX1_lastFrom_28 hl (k := 2) rfl rfl (by decide) rfl (fun ls hl => ?_)
          refine lv_goto (tgt := 3) hx hb dX1_lastFrom_31 (by decide) ?_
          exact ih H locs ls (by omega) (by rw [hlf, lf_skip hs]) hP hS (lv_sub hl [1, 2, 0] rfl)
        · refine lv_iload_n hx hb dX1_lastFrom_26 rfl (lv_at hl 2 rfl) ?_
          exact g_iret hx hb hr hlocks hS M ⟨by rw [hlf, lf_here c1 c2], rfl⟩ (gZ_of hP) dX1_lastFrom_27
end
set_option maxHeartbeats 4000000 in
theorem m1_lastFrom (l : Launch) (E : Cx) (hap : gApE 6 E) (M : SM) (x : Int32)  : Met l yX1_lastFrom (ws_ yX1_lastFrom cX1_lastFrom 3 (some .int)) ({ frames := 2, cells := 0, slots := 0, locals := 60 }) (va_Pc [.ref E.2.2.1, .int x] (B1 E M)) (va_Qi (fun r u => r = lf M x 32 ∧ u = M) (Z1 E) (gAE 6 E)) 0 0 (gAE 6 E) := by
  refine g_start (own := RX1) (T := TX1) (N := 6) (by decide) rfl hap rfl in_X1 (Nat.le_of_ble_eq_true rfl) ?_
  intro p e s m below meth c ls F hr hlocks hP hS hl
  have hx := F.1.1
  have hb := F.1.2.1
  have hl : lv_has ls 3 [(0, .ref E.2.2.1), (1, .int x)] := hl
  refine lv_bipush (v := nI 31) hx hb dX1_lastFrom_0 (by decide) ?_
  refine lv_istore_n (lv' := [(2, .int (nI 31)), (0, .ref E.2.2.1), (1, .int x)]) hx hb dX1_lastFrom_2 rfl hl (by decide) rfl (fun ls hl => ?_)
  exact lp1_lastFrom F M hr hlocks 32 _ _ _ (by omega) rfl hP hS (lv_sub hl [1, 2, 0] rfl)
set_option maxHeartbeats 4000000 in
theorem m1_assign (l : Launch) (E : Cx) (hap : gApE 6 E) (M : SM) (x y : Int32) (cl h : Nat) (hc : cl < 8) (hx7 : x &&& nI 7 = nI cl) (hy3 : y &&& nI 3 = nI h) : Met l yX1_assign (ws_ yX1_assign cX1_assign 4 (some .int)) ({ frames := 2, cells := 0, slots := 0, locals := 60 }) (va_Pc [.ref E.2.2.1, .int x, .int y] (B1 E M)) (va_Qi (fun r u => r = M 5 cl ∧ u = sU M 5 cl (nI h)) (Z1 E) (gAE 6 E)) 0 0 (gAE 6 E) := by
  refine g_start (own := RX1) (T := TX1) (N := 6) (by decide) rfl hap rfl in_X1 (Nat.le_of_ble_eq_true rfl) ?_
  intro p e s m below meth c ls F hr hlocks hP hS hl
  have hx := F.1.1
  have hb := F.1.2.1
  have hl : lv_has ls 4 [(0, .ref E.2.2.1), (1, .int x), (2, .int y)] := hl
  refine lv_aload_n hx hb dX1_assign_0 rfl (lv_at hl 0 rfl) ?_
  refine g_get F hP 5 (by decide) (by decide) rfl q188 dX1_assign_1 ?_
  refine lv_iload_n hx hb dX1_assign_4 rfl (lv_at hl 1 rfl) ?_
  refine lv_bipush (v := nI 7) hx hb dX1_assign_5 (by decide) ?_
  refine gx_and (a := 0) (j := cl) hx hb hx7 dX1_assign_7 ?_
  refine g_iald F hP 5 8 (by decide) rfl rfl (by omega) (by decide) dX1_assign_8 ?_
  refine lv_istore_n (lv' := [(3, .int (M 5 cl)), (0, .ref E.2.2.1), (1, .int x), (2, .int y)]) hx hb dX1_assign_9 rfl hl (by decide) rfl (fun ls hl => ?_)
  refine lv_aload_n hx hb dX1_assign_10 rfl (lv_at hl 1 rfl) ?_
  refine g_get F hP 5 (by decide) (by decide) rfl q188 dX1_assign_11 ?_
  refine lv_iload_n hx hb dX1_assign_14 rfl (lv_at hl 2 rfl) ?_
  refine lv_bipush (v := nI 7) hx hb dX1_assign_15 (by decide) ?_
  refine gx_and (a := 0) (j := cl) hx hb hx7 dX1_assign_17 ?_
  refine lv_iload_n hx hb dX1_assign_18 rfl (lv_at hl 3 rfl) ?_
  refine lv_iconst (v := nI 3) hx hb dX1_assign_19 (by decide) ?_
  refine gx_and (a := 0) (j := h) hx hb hy3 dX1_assign_20 ?_
  refine g_iast F (fun _ h => h) hP hS 5 8 (by decide) rfl rfl (by omega) (by decide) dX1_assign_21 (fun M1 H locs eM1 hP hS => ?_)
  refine lv_iload_n hx hb dX1_assign_22 rfl (lv_at hl 0 rfl) ?_
  exact g_iret hx hb hr hlocks hS M1 ⟨rfl, eM1⟩ (gZ_of hP) dX1_assign_23
set_option maxHeartbeats 4000000 in
theorem m1_home (l : Launch) (E : Cx) (hap : gApE 6 E) (M : SM) (x : Int32) (cl : Nat) (hc : cl < 8) (hx7 : x &&& nI 7 = nI cl) : Met l yX1_home (ws_ yX1_home cX1_home 2 (some .int)) ({ frames := 2, cells := 0, slots := 0, locals := 60 }) (va_Pc [.ref E.2.2.1, .int x] (B1 E M)) (va_Qi (fun r u => r = M 5 cl ∧ u = M) (Z1 E) (gAE 6 E)) 0 0 (gAE 6 E) := by
  refine g_start (own := RX1) (T := TX1) (N := 6) (by decide) rfl hap rfl in_X1 (Nat.le_of_ble_eq_true rfl) ?_
  intro p e s m below meth c ls F hr hlocks hP hS hl
  have hx := F.1.1
  have hb := F.1.2.1
  have hl : lv_has ls 2 [(0, .ref E.2.2.1), (1, .int x)] := hl
  refine lv_aload_n hx hb dX1_home_0 rfl (lv_at hl 0 rfl) ?_
  refine g_get F hP 5 (by decide) (by decide) rfl q188 dX1_home_1 ?_
  refine lv_iload_n hx hb dX1_home_4 rfl (lv_at hl 1 rfl) ?_
  refine lv_bipush (v := nI 7) hx hb dX1_home_5 (by decide) ?_
  refine gx_and (a := 0) (j := cl) hx hb hx7 dX1_home_7 ?_
  refine g_iald F hP 5 8 (by decide) rfl rfl (by omega) (by decide) dX1_home_8 ?_
  exact g_iret hx hb hr hlocks hS M ⟨rfl, rfl⟩ (gZ_of hP) dX1_home_9
set_option maxHeartbeats 4000000 in
theorem m1_work (l : Launch) (E : Cx) (hap : gApE 6 E) (M : SM) (x : Int32)  : Met l yX1_work (ws_ yX1_work cX1_work 2 none) ({ frames := 2, cells := 0, slots := 0, locals := 60 }) (va_Pc [.ref E.2.2.1, .int x] (B1 E M)) (va_Qv (fun u => u = M) (Z1 E) (gAE 6 E)) 0 0 (gAE 6 E) := by
  refine g_start (own := RX1) (T := TX1) (N := 6) (by decide) rfl hap rfl in_X1 (Nat.le_of_ble_eq_true rfl) ?_
  intro p e s m below meth c ls F hr hlocks hP hS hl
  have hx := F.1.1
  have hb := F.1.2.1
  have hl : lv_has ls 2 [(0, .ref E.2.2.1), (1, .int x)] := hl
  exact g_vret hx hb hr hlocks hS M rfl (gZ_of hP) dX1_work_0
set_option maxHeartbeats 4000000 in
theorem m1_lose (l : Launch) (E : Cx) (hap : gApE 6 E) (M : SM) (x : Int32)  : Met l yX1_lose (ws_ yX1_lose cX1_lose 2 none) ({ frames := 2, cells := 0, slots := 0, locals := 60 }) (va_Pc [.ref E.2.2.1, .int x] (B1 E M)) (va_Qv (fun u => u = M) (Z1 E) (gAE 6 E)) 0 0 (gAE 6 E) := by
  refine g_start (own := RX1) (T := TX1) (N := 6) (by decide) rfl hap rfl in_X1 (Nat.le_of_ble_eq_true rfl) ?_
  intro p e s m below meth c ls F hr hlocks hP hS hl
  have hx := F.1.1
  have hb := F.1.2.1
  have hl : lv_has ls 2 [(0, .ref E.2.2.1), (1, .int x)] := hl
  exact g_vret hx hb hr hlocks hS M rfl (gZ_of hP) dX1_lose_0
end
section
/-! THE CLAIM OUT OF ONE WALK OF THE LAW'S BODY. Your part is whole_start (and what it stands on); all else here is the same for every law, but numbers. -/
def R_law : String := "ShardedMapLaw"
def lw_P (b : Addr) (xs : List Int32) (args : Array Value) (s : State) : Prop := args = #[.ref b] ∧ s.IntsAt b xs ∧ xs.length ≤ 320 ∧ (Jvm.Cond.and given_1 narrow_1).before args s = true
def lw_Q (_ : Array Value) (s : State) (o : Outcome) (t : State) : Prop := o = .returned (some (.int 1)) ∧ Framed s o t [] 600000 7290000
def lw_Z (below : List Frame) (a : Array Value) (s : State) : State → Prop := fun t => ∃ o, t.status = .running ∧ Ended t below o ∧ lw_Q a s o t
/-- the law's own end, with 1 on the stack, nothing written that was there before, its room as the claim has it -/
theorem lw_ret {p : Program} {l : Launch} {e : Env} {s : State} {m : MethodId} {below : List Frame} {meth : Method} {c : Code} {b : Nat} (hx : p.tables.exec = Jvm.exec) (hb : c.code = code) (hr : meth.sig.returnType = ret) (hlocks : meth.locks = false) {pc : Nat} {H : Heap} {ls : Array Slot} (hdg : decode code pc = .ok (.ireturn, 1)) : W p l e room_1 s m #[Value.ref b] below meth c H [] 600000 7290000 (lw_Z below #[Value.ref b] s) (F0 m pc ls [.int 1]) := by
  intro T hT X
  obtain ⟨fs, hret, hrun, hended, hW, hframe⟩ := X.leave (v := some (.int 1)) (hlocks := hlocks) (fun h => by rw [hr] at h; cases h)
  have hmeth' : T.vm.method? m = some meth := X.method'
  refine ⟨T.setFrames fs, ?_, .returned (some (.int 1)), hrun, hended, rfl, ⟨_, rfl⟩, hW, hframe⟩
  jvm_step X.here [X.here.top, hx, hb, hdg, hmeth', hr, ret, narrow_b1]
  (try refine ⟨rfl, ?_⟩); (try refine ⟨rfl, ?_⟩)
  first | (intro acts; rw [hret _ acts rfl rfl rfl]) | rw [hret _ _ rfl rfl rfl]
  exact Steps.refl _
/-- what holds at the law's entry: the machine, the code, the tables' words (any of lw_tbl by 'hts w (by decide +kernel)'), the script of L ints xs at the cell b, what the Statement gives of the start (any of its parts by flat_of_before) -/
def lw_At (p : Program) (s : State) (m : MethodId) (meth : Method) (c : Code) (b L : Nat) (xs : Nat → Int32) : Prop :=
  p.tables.exec = Jvm.exec ∧ c.code = code ∧ meth.sig.returnType = ret ∧ c.maxLocals = 4 ∧ s.vm.findClass R_law = some m.cls ∧ (∀ w ∈ lw_tbl, w.before #[Value.ref b] s = true) ∧ va_X b L xs s s.heap ∧ b < s.heap.size ∧ meth.locks = false ∧ (Jvm.Cond.and given_1 narrow_1).before #[Value.ref b] s = true
set_option maxRecDepth 100000
/-! ROWS OF THE LAW: its script, its calls, with the two worlds side by side -/
/-- what stays of the two worlds -/
def Lw (s : State) (E0 E1 : Cx) : Prop := va_K E0.1 vwCl (gK 20 E0.2.1 ety0) s ∧ va_K E1.1 vwCl (gK 6 E1.2.1 ety1) s ∧ gApE 20 E0 ∧ gApE 6 E1 ∧ (∀ q, gAE 20 E0 q → ¬ gAE 6 E1 q) ∧ (∀ q, gAE 20 E0 q → s.heap.size ≤ q) ∧ (∀ q, gAE 6 E1 q → s.heap.size ≤ q)
/-- what stays all through the law -/
def LF (p : Program) (s : State) (m : MethodId) (c : Code) (args : Array Value) (b L : Nat) (xs : Nat → Int32) (E0 E1 : Cx) : Prop :=
  CallFix p m c cL_law 4 s args lw_all R_law ∧ Lw s E0 E1 ∧ va_X b L xs s s.heap ∧ b < s.heap.size ∧ L ≤ 320
/-- the law's invariant -/
def LI (s : State) (E0 E1 : Cx) (H : Heap) (locs : List Loc) : Prop := ∃ (M mm : SM) (nx : Int32), va_P E0.1 vwCl (w0 E0 M nx) H ∧ va_P E1.1 vwCl (w1 E1 mm) H ∧ va_S (fun q : Nat => s.heap.size ≤ q) s.heap H locs ∧ Dur M ∧ Core M mm ∧ ∃ j, j < 8 ∧ nx = nI j
section GL
variable {p : Program} {l : Launch} {e : Env} {R : Room} {s : State} {m : MethodId} {args : Array Value} {below : List Frame} {meth : Method} {c : Code} {H : Heap} {locs : List Loc} {cells slots : Nat} {Q : State → Prop}
variable {pc : Nat} {ls : Array Slot} {rest st0 : List Value} {b L i : Nat} {xs : Nat → Int32}
variable {C : String} {T : u_T} {ci n N : Nat} {len : Nat → Nat} {ety : Nat → FieldType} {E E0 E1 : Cx} {M mm : SM} {nx : Int32} {ex : List Value}
/-- script[i + j] -/
theorem l_ld (F : LF p s m c args b L xs E0 E1) (hS : va_S (fun q : Nat => s.heap.size ≤ q) s.heap H locs) (hl : lv_has ls 4 [(0, .ref b), (1, .ref E0.2.2.1), (2, .ref E1.2.2.1), (3, .int (nI i))]) (j : Nat) {nj : Int} (hj : i + j < L) (hn : Int32.ofInt nj = nI j)
    (d0 : decode cL_law pc = .ok (.aload_n 0, 1)) (d1 : decode cL_law (pc + 1) = .ok (.iload_n 3, 1)) (d2 : decode cL_law (pc + 2) = .ok (.iconst nj, 1)) (d3 : decode cL_law (pc + 3) = .ok (.iadd, 1)) (d4 : decode cL_law (pc + 4) = .ok (.iaload, 1))
    (kk : W p l e R s m args below meth c H locs cells slots Q (F0 m (pc + 5) ls (.int (xs (i + j)) :: rest))) : W p l e R s m args below meth c H locs cells slots Q (F0 m pc ls rest) := by
  obtain ⟨⟨hx, hb, hml, hown, hts⟩, -, hX, hbl, hL⟩ := F
  refine lv_aload_n hx hb d0 rfl (lv_at hl 0 rfl) ?_
  refine lv_iload_n hx hb d1 rfl (lv_at hl 3 rfl) ?_
  refine lv_iconst (v := nI j) hx hb d2 hn ?_
  refine gx_add hx hb d3 ?_
  refine va_sld hx hb hX hbl (Nat.not_le.mpr hbl) hS (vp_in_nI hj (by omega)) d4 ?_
  rw [nI_clamp (by omega)]
  exact kk
theorem l_run {y : MethodName} {bytes : ByteArray} {maxL index k : Nat} {ret : Option FieldType} {rm : Room} {As : List Value} {Qc : Array Value → State → Outcome → State → Prop} {free : Addr → Prop} (S : CallFix p m c cL_law 4 s args lw_all R_law) (hK : va_K E.1 vwCl (gK n E.2.1 ety) s) (hcl : vwCl[ci]? = some (C, T, N)) (hP : va_P E.1 vwCl (gE ci n len ex E M) H)
    (hM : Met l y (ws_ y bytes maxL ret) rm (va_Pc (.ref E.2.2.1 :: As) (gB ci n len ety ex E M)) Qc 0 0 free) (hG : GoodIn lw_all (wsV R_law index C y (ws_ y bytes maxL ret))) (hrm : rm.cells = 0 ∧ rm.slots = 0)
    (hd : y.cls = C ∧ y.cls ≠ "java/lang/invoke/MethodHandle" ∧ y.cls ≠ "java/lang/invoke/VarHandle" ∧ (parseMethodDescriptor y.desc).map (fun d => d.parameters.length) = some k) (hR : rm.frames + 1 ≤ R.frames ∧ 8 + (maxL + 11) + rm.locals ≤ R.locals) (hcs : cells ≤ R.cells ∧ slots ≤ R.slots)
    (hn : As.length = k) (hl : ls.size = 4) (hst : st0 = As.reverse ++ .ref E.2.2.1 :: rest) (hroom : (rest.map fun v => v.category).sum ≤ 8) (hdg : decode cL_law pc = .ok (.invokevirtual index, 3)) :
    va_Run p l e R s m args below meth c H locs cells slots 0 0 (F0 m pc ls st0) rest (Qc (Value.ref E.2.2.1 :: As).toArray) free := by
  refine va_runV S hM (cwV k S.2.2.2.2 hG rfl hrm.1 hrm.2 hd hR) ⟨gB_blind, va_recv hK hP (q0 := 0) hcl gw_ob, fun U hU hW => ⟨rfl, by rw [hU]; exact hP, va_K.moved hW.alike hK⟩⟩ rfl hn hl hst (lv_room hroom) hdg ⟨?_, ?_⟩
  · exact hcs.1
  · exact hcs.2
theorem l_xi {y : MethodName} {bytes : ByteArray} {maxL index k : Nat} {ret : Option FieldType} {rm : Room} {As : List Value} {post : Int32 → SM → Prop} (F : LF p s m c args b L xs E0 E1) (hP0 : va_P E0.1 vwCl (w0 E0 M nx) H) (hP1 : va_P E1.1 vwCl (w1 E1 mm) H) (hS : va_S (fun q : Nat => s.heap.size ≤ q) s.heap H locs)
    (hM : Met l y (ws_ y bytes maxL ret) rm (va_Pc (.ref E0.2.2.1 :: As) (B0 E0 M nx)) (va_Qi post (Z0 E0 nx) (gAE 20 E0)) 0 0 (gAE 20 E0)) (hG : GoodIn lw_all (wsV R_law index RX0 y (ws_ y bytes maxL ret))) (hrm : rm.cells = 0 ∧ rm.slots = 0)
    (hd : y.cls = RX0 ∧ y.cls ≠ "java/lang/invoke/MethodHandle" ∧ y.cls ≠ "java/lang/invoke/VarHandle" ∧ (parseMethodDescriptor y.desc).map (fun d => d.parameters.length) = some k) (hR : rm.frames + 1 ≤ R.frames ∧ 8 + (maxL + 11) + rm.locals ≤ R.locals) (hcs : cells ≤ R.cells ∧ slots ≤ R.slots)
    (hn : As.length = k) (hl : ls.size = 4) (hst : st0 = As.reverse ++ .ref E0.2.2.1 :: rest) (hroom : (rest.map fun v => v.category).sum ≤ 8) (hdg : decode cL_law pc = .ok (.invokevirtual index, 3))
    (kk : ∀ (r : Int32) (u : SM) (H1 : Heap) (locs1 : List Loc), post r u → va_P E0.1 vwCl (w0 E0 u nx) H1 → va_P E1.1 vwCl (w1 E1 mm) H1 → va_S (fun q : Nat => s.heap.size ≤ q) s.heap H1 locs1 → W p l e R s m args below meth c H1 locs1 cells slots Q (F0 m (pc + 3) ls (.int r :: rest))) : W p l e R s m args below meth c H locs cells slots Q (F0 m pc ls st0) := by
  have Lo := F.2.1
  refine va_calli (l_run (C := RX0) (T := TX0) (N := 21) (ci := 0) (n := 20) (len := len0) (ety := ety0) F.1 Lo.1 rfl hP0 hM hG hrm hd hR hcs hn hl hst hroom hdg) hS (fun q _ h => Lo.2.2.2.2.2.1 q h) Lo.2.2.2.2.2.1 (fun r u t H1 locs1 ht hvm hw hB hz1 hk1 hS1 => ?_)
  exact kk r u H1 locs1 hw (by rw [← ht]; exact hB) (gw_kept hP1 (fun q hq h1 => hk1 q hq (fun h0 => Lo.2.2.2.2.1 q h0 h1))) hS1
theorem l_xv {y : MethodName} {bytes : ByteArray} {maxL index k : Nat} {ret : Option FieldType} {rm : Room} {As : List Value} {post : SM → Prop} (F : LF p s m c args b L xs E0 E1) (hP0 : va_P E0.1 vwCl (w0 E0 M nx) H) (hP1 : va_P E1.1 vwCl (w1 E1 mm) H) (hS : va_S (fun q : Nat => s.heap.size ≤ q) s.heap H locs)
    (hM : Met l y (ws_ y bytes maxL ret) rm (va_Pc (.ref E0.2.2.1 :: As) (B0 E0 M nx)) (va_Qv post (Z0 E0 nx) (gAE 20 E0)) 0 0 (gAE 20 E0)) (hG : GoodIn lw_all (wsV R_law index RX0 y (ws_ y bytes maxL ret))) (hrm : rm.cells = 0 ∧ rm.slots = 0)
    (hd : y.cls = RX0 ∧ y.cls ≠ "java/lang/invoke/MethodHandle" ∧ y.cls ≠ "java/lang/invoke/VarHandle" ∧ (parseMethodDescriptor y.desc).map (fun d => d.parameters.length) = some k) (hR : rm.frames + 1 ≤ R.frames ∧ 8 + (maxL + 11) + rm.locals ≤ R.locals) (hcs : cells ≤ R.cells ∧ slots ≤ R.slots)
    (hn : As.length = k) (hl : ls.size = 4) (hst : st0 = As.reverse ++ .ref E0.2.2.1 :: rest) (hroom : (rest.map fun v => v.category).sum ≤ 8) (hdg : decode cL_law pc = .ok (.invokevirtual index, 3))
    (kk : ∀ (u : SM) (H1 : Heap) (locs1 : List Loc), post u → va_P E0.1 vwCl (w0 E0 u nx) H1 → va_P E1.1 vwCl (w1 E1 mm) H1 → va_S (fun q : Nat => s.heap.size ≤ q) s.heap H1 locs1 → W p l e R s m args below meth c H1 locs1 cells slots Q (F0 m (pc + 3) ls rest)) : W p l e R s m args below meth c H locs cells slots Q (F0 m pc ls st0) := by
  have Lo := F.2.1
  refine va_callv (l_run (C := RX0) (T := TX0) (N := 21) (ci := 0) (n := 20) (len := len0) (ety := ety0) F.1 Lo.1 rfl hP0 hM hG hrm hd hR hcs hn hl hst hroom hdg) hS (fun q _ h => Lo.2.2.2.2.2.1 q h) Lo.2.2.2.2.2.1 (fun u t H1 locs1 ht hvm hw hB hz1 hk1 hS1 => ?_)
  exact kk u H1 locs1 hw (by rw [← ht]; exact hB) (gw_kept hP1 (fun q hq h1 => hk1 q hq (fun h0 => Lo.2.2.2.2.1 q h0 h1))) hS1
theorem l_xw {y : MethodName} {bytes : ByteArray} {maxL index k : Nat} {ret : Option FieldType} {rm : Room} {As : List Value} {post : SM × Int32 → Prop} (F : LF p s m c args b L xs E0 E1) (hP0 : va_P E0.1 vwCl (w0 E0 M nx) H) (hP1 : va_P E1.1 vwCl (w1 E1 mm) H) (hS : va_S (fun q : Nat => s.heap.size ≤ q) s.heap H locs)
    (hM : Met l y (ws_ y bytes maxL ret) rm (va_Pc (.ref E0.2.2.1 :: As) (B0 E0 M nx)) (va_Qv post (fun (z : SM × Int32) => Z0 E0 z.2 z.1) (gAE 20 E0)) 0 0 (gAE 20 E0)) (hG : GoodIn lw_all (wsV R_law index RX0 y (ws_ y bytes maxL ret))) (hrm : rm.cells = 0 ∧ rm.slots = 0)
    (hd : y.cls = RX0 ∧ y.cls ≠ "java/lang/invoke/MethodHandle" ∧ y.cls ≠ "java/lang/invoke/VarHandle" ∧ (parseMethodDescriptor y.desc).map (fun d => d.parameters.length) = some k) (hR : rm.frames + 1 ≤ R.frames ∧ 8 + (maxL + 11) + rm.locals ≤ R.locals) (hcs : cells ≤ R.cells ∧ slots ≤ R.slots)
    (hn : As.length = k) (hl : ls.size = 4) (hst : st0 = As.reverse ++ .ref E0.2.2.1 :: rest) (hroom : (rest.map fun v => v.category).sum ≤ 8) (hdg : decode cL_law pc = .ok (.invokevirtual index, 3))
    (kk : ∀ (u : SM × Int32) (H1 : Heap) (locs1 : List Loc), post u → va_P E0.1 vwCl (w0 E0 u.1 u.2) H1 → va_P E1.1 vwCl (w1 E1 mm) H1 → va_S (fun q : Nat => s.heap.size ≤ q) s.heap H1 locs1 → W p l e R s m args below meth c H1 locs1 cells slots Q (F0 m (pc + 3) ls rest)) : W p l e R s m args below meth c H locs cells slots Q (F0 m pc ls st0) := by
  have Lo := F.2.1
  refine va_callv (l_run (C := RX0) (T := TX0) (N := 21) (ci := 0) (n := 20) (len := len0) (ety := ety0) F.1 Lo.1 rfl hP0 hM hG hrm hd hR hcs hn hl hst hroom hdg) hS (fun q _ h => Lo.2.2.2.2.2.1 q h) Lo.2.2.2.2.2.1 (fun u t H1 locs1 ht hvm hw hB hz1 hk1 hS1 => ?_)
  exact kk u H1 locs1 hw (by rw [← ht]; exact hB) (gw_kept hP1 (fun q hq h1 => hk1 q hq (fun h0 => Lo.2.2.2.2.1 q h0 h1))) hS1
theorem l_mi {y : MethodName} {bytes : ByteArray} {maxL index k : Nat} {ret : Option FieldType} {rm : Room} {As : List Value} {post : Int32 → SM → Prop} (F : LF p s m c args b L xs E0 E1) (hP0 : va_P E0.1 vwCl (w0 E0 M nx) H) (hP1 : va_P E1.1 vwCl (w1 E1 mm) H) (hS : va_S (fun q : Nat => s.heap.size ≤ q) s.heap H locs)
    (hM : Met l y (ws_ y bytes maxL ret) rm (va_Pc (.ref E1.2.2.1 :: As) (B1 E1 mm)) (va_Qi post (Z1 E1) (gAE 6 E1)) 0 0 (gAE 6 E1)) (hG : GoodIn lw_all (wsV R_law index RX1 y (ws_ y bytes maxL ret))) (hrm : rm.cells = 0 ∧ rm.slots = 0)
    (hd : y.cls = RX1 ∧ y.cls ≠ "java/lang/invoke/MethodHandle" ∧ y.cls ≠ "java/lang/invoke/VarHandle" ∧ (parseMethodDescriptor y.desc).map (fun d => d.parameters.length) = some k) (hR : rm.frames + 1 ≤ R.frames ∧ 8 + (maxL + 11) + rm.locals ≤ R.locals) (hcs : cells ≤ R.cells ∧ slots ≤ R.slots)
    (hn : As.length = k) (hl : ls.size = 4) (hst : st0 = As.reverse ++ .ref E1.2.2.1 :: rest) (hroom : (rest.map fun v => v.category).sum ≤ 8) (hdg : decode cL_law pc = .ok (.invokevirtual index, 3))
    (kk : ∀ (r : Int32) (u : SM) (H1 : Heap) (locs1 : List Loc), post r u → va_P E0.1 vwCl (w0 E0 M nx) H1 → va_P E1.1 vwCl (w1 E1 u) H1 → va_S (fun q : Nat => s.heap.size ≤ q) s.heap H1 locs1 → W p l e R s m args below meth c H1 locs1 cells slots Q (F0 m (pc + 3) ls (.int r :: rest))) : W p l e R s m args below meth c H locs cells slots Q (F0 m pc ls st0) := by
  have Lo := F.2.1
  refine va_calli (l_run (C := RX1) (T := TX1) (N := 6) (ci := 1) (n := 6) (len := len1) (ety := ety1) F.1 Lo.2.1 rfl hP1 hM hG hrm hd hR hcs hn hl hst hroom hdg) hS (fun q _ h => Lo.2.2.2.2.2.2 q h) Lo.2.2.2.2.2.2 (fun r u t H1 locs1 ht hvm hw hB hz1 hk1 hS1 => ?_)
  exact kk r u H1 locs1 hw (gw_kept hP0 (fun q hq h0 => hk1 q hq (Lo.2.2.2.2.1 q h0))) (by rw [← ht]; exact hB) hS1
theorem l_mv {y : MethodName} {bytes : ByteArray} {maxL index k : Nat} {ret : Option FieldType} {rm : Room} {As : List Value} {post : SM → Prop} (F : LF p s m c args b L xs E0 E1) (hP0 : va_P E0.1 vwCl (w0 E0 M nx) H) (hP1 : va_P E1.1 vwCl (w1 E1 mm) H) (hS : va_S (fun q : Nat => s.heap.size ≤ q) s.heap H locs)
    (hM : Met l y (ws_ y bytes maxL ret) rm (va_Pc (.ref E1.2.2.1 :: As) (B1 E1 mm)) (va_Qv post (Z1 E1) (gAE 6 E1)) 0 0 (gAE 6 E1)) (hG : GoodIn lw_all (wsV R_law index RX1 y (ws_ y bytes maxL ret))) (hrm : rm.cells = 0 ∧ rm.slots = 0)
    (hd : y.cls = RX1 ∧ y.cls ≠ "java/lang/invoke/MethodHandle" ∧ y.cls ≠ "java/lang/invoke/VarHandle" ∧ (parseMethodDescriptor y.desc).map (fun d => d.parameters.length) = some k) (hR : rm.frames + 1 ≤ R.frames ∧ 8 + (maxL + 11) + rm.locals ≤ R.locals) (hcs : cells ≤ R.cells ∧ slots ≤ R.slots)
    (hn : As.length = k) (hl : ls.size = 4) (hst : st0 = As.reverse ++ .ref E1.2.2.1 :: rest) (hroom : (rest.map fun v => v.category).sum ≤ 8) (hdg : decode cL_law pc = .ok (.invokevirtual index, 3))
    (kk : ∀ (u : SM) (H1 : Heap) (locs1 : List Loc), post u → va_P E0.1 vwCl (w0 E0 M nx) H1 → va_P E1.1 vwCl (w1 E1 u) H1 → va_S (fun q : Nat => s.heap.size ≤ q) s.heap H1 locs1 → W p l e R s m args below meth c H1 locs1 cells slots Q (F0 m (pc + 3) ls rest)) : W p l e R s m args below meth c H locs cells slots Q (F0 m pc ls st0) := by
  have Lo := F.2.1
  refine va_callv (l_run (C := RX1) (T := TX1) (N := 6) (ci := 1) (n := 6) (len := len1) (ety := ety1) F.1 Lo.2.1 rfl hP1 hM hG hrm hd hR hcs hn hl hst hroom hdg) hS (fun q _ h => Lo.2.2.2.2.2.2 q h) Lo.2.2.2.2.2.2 (fun u t H1 locs1 ht hvm hw hB hz1 hk1 hS1 => ?_)
  exact kk u H1 locs1 hw (gw_kept hP0 (fun q hq h0 => hk1 q hq (Lo.2.2.2.2.1 q h0))) (by rw [← ht]; exact hB) hS1
end GL
end
section
set_option maxRecDepth 100000
/-! PAIRS: for each call one answer and one new state of the model, for both classes -/
theorem mm01 {M mm : SM} (hD : Dur M) (hC : Core M mm) {k : Nat} (hk : k < 32) : (if mm 0 k = 0 then 0 else 1) = mm 0 k := by
  obtain ⟨kd, a, b, pp, hH⟩ := hC.1 (k % 8) (by omega)
  have h1 := (Hold_key hH.2.2.1 hk rfl).1
  have h2 := (hD.1 (32 * a + k)).1
  rw [h1] at h2
  rcases h2 with e | e
  · rw [if_pos e]; exact e.symm
  · rw [e]; rfl
theorem pr_put (l : Launch) (E0 E1 : Cx) (hap0 : gApE 20 E0) (hap1 : gApE 6 E1) (nx : Int32) (M mm : SM) (hD : Dur M) (hC : Core M mm) (x num y v : Int32) : ∃ (ra : Int32) (mm' : SM), Met l yX0_put (ws_ yX0_put cX0_put 8 (some .int)) ({ frames := 6, cells := 0, slots := 0, locals := 150 }) (va_Pc [.ref E0.2.2.1, .int x, .int num, .int y, .int v] (B0 E0 M nx)) (va_Qi (fun r u => r = ra ∧ Dur u ∧ Core u mm') (Z0 E0 nx) (gAE 20 E0)) 0 0 (gAE 20 E0) ∧ Met l yX1_put (ws_ yX1_put cX1_put 6 (some .int)) ({ frames := 2, cells := 0, slots := 0, locals := 60 }) (va_Pc [.ref E1.2.2.1, .int x, .int num, .int y, .int v] (B1 E1 mm)) (va_Qi (fun r u => r = ra ∧ u = mm') (Z1 E1) (gAE 6 E1)) 0 0 (gAE 6 E1) := by
  by_cases hf : fitP x y
  · obtain ⟨i, k, hi, hk, ex, ey⟩ := fit_of hf
    subst ex; subst ey
    exact ⟨_, _, m0_put_ok l E0 hap0 nx M mm hD hC i k num v hi hk, m1_put_ok l E1 hap1 mm i k num v hi hk⟩
  · exact ⟨_, _, m0_put_bad l E0 hap0 nx M mm hD hC x y num v hf, m1_put_bad l E1 hap1 mm x y num v hf⟩
theorem pr_addTo (l : Launch) (E0 E1 : Cx) (hap0 : gApE 20 E0) (hap1 : gApE 6 E1) (nx : Int32) (M mm : SM) (hD : Dur M) (hC : Core M mm) (x num y v : Int32) : ∃ (ra : Int32) (mm' : SM), Met l yX0_addTo (ws_ yX0_addTo cX0_addTo 8 (some .int)) ({ frames := 6, cells := 0, slots := 0, locals := 150 }) (va_Pc [.ref E0.2.2.1, .int x, .int num, .int y, .int v] (B0 E0 M nx)) (va_Qi (fun r u => r = ra ∧ Dur u ∧ Core u mm') (Z0 E0 nx) (gAE 20 E0)) 0 0 (gAE 20 E0) ∧ Met l yX1_addTo (ws_ yX1_addTo cX1_addTo 6 (some .int)) ({ frames := 2, cells := 0, slots := 0, locals := 60 }) (va_Pc [.ref E1.2.2.1, .int x, .int num, .int y, .int v] (B1 E1 mm)) (va_Qi (fun r u => r = ra ∧ u = mm') (Z1 E1) (gAE 6 E1)) 0 0 (gAE 6 E1) := by
  by_cases hf : fitP x y
  · obtain ⟨i, k, hi, hk, ex, ey⟩ := fit_of hf
    subst ex; subst ey
    exact ⟨_, _, m0_addTo_ok l E0 hap0 nx M mm hD hC i k num v hi hk, m1_addTo_ok l E1 hap1 mm i k num v hi hk⟩
  · exact ⟨_, _, m0_addTo_bad l E0 hap0 nx M mm hD hC x y num v hf, m1_addTo_bad l E1 hap1 mm x y num v hf⟩
theorem pr_remove (l : Launch) (E0 E1 : Cx) (hap0 : gApE 20 E0) (hap1 : gApE 6 E1) (nx : Int32) (M mm : SM) (hD : Dur M) (hC : Core M mm) (x num y : Int32) : ∃ (ra : Int32) (mm' : SM), Met l yX0_remove (ws_ yX0_remove cX0_remove 7 (some .int)) ({ frames := 6, cells := 0, slots := 0, locals := 150 }) (va_Pc [.ref E0.2.2.1, .int x, .int num, .int y] (B0 E0 M nx)) (va_Qi (fun r u => r = ra ∧ Dur u ∧ Core u mm') (Z0 E0 nx) (gAE 20 E0)) 0 0 (gAE 20 E0) ∧ Met l yX1_remove (ws_ yX1_remove cX1_remove 5 (some .int)) ({ frames := 2, cells := 0, slots := 0, locals := 60 }) (va_Pc [.ref E1.2.2.1, .int x, .int num, .int y] (B1 E1 mm)) (va_Qi (fun r u => r = ra ∧ u = mm') (Z1 E1) (gAE 6 E1)) 0 0 (gAE 6 E1) := by
  by_cases hf : fitP x y
  · obtain ⟨i, k, hi, hk, ex, ey⟩ := fit_of hf
    subst ex; subst ey
    exact ⟨_, _, m0_remove_ok l E0 hap0 nx M mm hD hC i k num hi hk, m1_remove_ok l E1 hap1 mm i k num hi hk⟩
  · exact ⟨_, _, m0_remove_bad l E0 hap0 nx M mm hD hC x y num hf, m1_remove_bad l E1 hap1 mm x y num hf⟩
theorem pr_get (l : Launch) (E0 E1 : Cx) (hap0 : gApE 20 E0) (hap1 : gApE 6 E1) (nx : Int32) (M mm : SM) (hD : Dur M) (hC : Core M mm) (x : Int32) : ∃ ra : Int32, Met l yX0_get (ws_ yX0_get cX0_get 3 (some .int)) ({ frames := 2, cells := 0, slots := 0, locals := 60 }) (va_Pc [.ref E0.2.2.1, .int x] (B0 E0 M nx)) (va_Qi (fun r u => r = ra ∧ u = M) (Z0 E0 nx) (gAE 20 E0)) 0 0 (gAE 20 E0) ∧ Met l yX1_get (ws_ yX1_get cX1_get 2 (some .int)) ({ frames := 1, cells := 0, slots := 0, locals := 21 }) (va_Pc [.ref E1.2.2.1, .int x] (B1 E1 mm)) (va_Qi (fun r u => r = ra ∧ u = mm) (Z1 E1) (gAE 6 E1)) 0 0 (gAE 6 E1) := by
  by_cases hf : inR x
  · obtain ⟨k, hk, ex⟩ := hf
    subst ex
    have h1 := m1_get_ok l E1 hap1 mm k hk
    exact ⟨_, m0_get_ok l E0 hap0 nx M mm hD hC k hk, h1⟩
  · exact ⟨_, m0_get_bad l E0 hap0 nx M x hf, m1_get_bad l E1 hap1 mm x hf⟩
theorem pr_has (l : Launch) (E0 E1 : Cx) (hap0 : gApE 20 E0) (hap1 : gApE 6 E1) (nx : Int32) (M mm : SM) (hD : Dur M) (hC : Core M mm) (x : Int32) : ∃ ra : Int32, Met l yX0_has (ws_ yX0_has cX0_has 3 (some .boolean)) ({ frames := 2, cells := 0, slots := 0, locals := 60 }) (va_Pc [.ref E0.2.2.1, .int x] (B0 E0 M nx)) (va_Qi (fun r u => r = ra ∧ u = M) (Z0 E0 nx) (gAE 20 E0)) 0 0 (gAE 20 E0) ∧ Met l yX1_has (ws_ yX1_has cX1_has 2 (some .boolean)) ({ frames := 0, cells := 0, slots := 0, locals := 0 }) (va_Pc [.ref E1.2.2.1, .int x] (B1 E1 mm)) (va_Qi (fun r u => r = ra ∧ u = mm) (Z1 E1) (gAE 6 E1)) 0 0 (gAE 6 E1) := by
  by_cases hf : inR x
  · obtain ⟨k, hk, ex⟩ := hf
    subst ex
    have h1 := m1_has_ok l E1 hap1 mm k hk
    rw [mm01 hD hC hk] at h1
    exact ⟨_, m0_has_ok l E0 hap0 nx M mm hD hC k hk, h1⟩
  · exact ⟨_, m0_has_bad l E0 hap0 nx M x hf, m1_has_bad l E1 hap1 mm x hf⟩
theorem pr_size (l : Launch) (E0 E1 : Cx) (hap0 : gApE 20 E0) (hap1 : gApE 6 E1) (nx : Int32) (M mm : SM) (hD : Dur M) (hC : Core M mm) (x : Int32) : ∃ ra : Int32, Met l yX0_size (ws_ yX0_size cX0_size 6 (some .int)) ({ frames := 2, cells := 0, slots := 0, locals := 60 }) (va_Pc [.ref E0.2.2.1, .int x] (B0 E0 M nx)) (va_Qi (fun r u => r = ra ∧ u = M) (Z0 E0 nx) (gAE 20 E0)) 0 0 (gAE 20 E0) ∧ Met l yX1_size (ws_ yX1_size cX1_size 4 (some .int)) ({ frames := 2, cells := 0, slots := 0, locals := 60 }) (va_Pc [.ref E1.2.2.1, .int x] (B1 E1 mm)) (va_Qi (fun r u => r = ra ∧ u = mm) (Z1 E1) (gAE 6 E1)) 0 0 (gAE 6 E1) := by
  obtain ⟨cl, hc, e7⟩ := pk_andE x (m := nI 7) 3 (by decide)
  exact ⟨_, m0_size l E0 hap0 nx M mm hD hC x cl hc e7, m1_size l E1 hap1 mm x cl hc e7⟩
theorem pr_home (l : Launch) (E0 E1 : Cx) (hap0 : gApE 20 E0) (hap1 : gApE 6 E1) (nx : Int32) (M mm : SM) (hD : Dur M) (hC : Core M mm) (x : Int32) : ∃ ra : Int32, Met l yX0_home (ws_ yX0_home cX0_home 2 (some .int)) ({ frames := 2, cells := 0, slots := 0, locals := 60 }) (va_Pc [.ref E0.2.2.1, .int x] (B0 E0 M nx)) (va_Qi (fun r u => r = ra ∧ u = M) (Z0 E0 nx) (gAE 20 E0)) 0 0 (gAE 20 E0) ∧ Met l yX1_home (ws_ yX1_home cX1_home 2 (some .int)) ({ frames := 2, cells := 0, slots := 0, locals := 60 }) (va_Pc [.ref E1.2.2.1, .int x] (B1 E1 mm)) (va_Qi (fun r u => r = ra ∧ u = mm) (Z1 E1) (gAE 6 E1)) 0 0 (gAE 6 E1) := by
  obtain ⟨cl, hc, e7⟩ := pk_andE x (m := nI 7) 3 (by decide)
  exact ⟨_, m0_home l E0 hap0 nx M mm hD hC x cl hc e7, m1_home l E1 hap1 mm x cl hc e7⟩
theorem pr_lastFrom (l : Launch) (E0 E1 : Cx) (hap0 : gApE 20 E0) (hap1 : gApE 6 E1) (nx : Int32) (M mm : SM) (hD : Dur M) (hC : Core M mm) (x : Int32) : ∃ ra : Int32, Met l yX0_lastFrom (ws_ yX0_lastFrom cX0_lastFrom 4 (some .int)) ({ frames := 2, cells := 0, slots := 0, locals := 60 }) (va_Pc [.ref E0.2.2.1, .int x] (B0 E0 M nx)) (va_Qi (fun r u => r = ra ∧ u = M) (Z0 E0 nx) (gAE 20 E0)) 0 0 (gAE 20 E0) ∧ Met l yX1_lastFrom (ws_ yX1_lastFrom cX1_lastFrom 3 (some .int)) ({ frames := 2, cells := 0, slots := 0, locals := 60 }) (va_Pc [.ref E1.2.2.1, .int x] (B1 E1 mm)) (va_Qi (fun r u => r = ra ∧ u = mm) (Z1 E1) (gAE 6 E1)) 0 0 (gAE 6 E1) :=
  ⟨_, m0_lastFrom l E0 hap0 nx M mm hD hC x, m1_lastFrom l E1 hap1 mm x⟩
theorem pr_assign (l : Launch) (E0 E1 : Cx) (hap0 : gApE 20 E0) (hap1 : gApE 6 E1) (nx : Int32) (M mm : SM) (hD : Dur M) (hC : Core M mm) (x y : Int32) : ∃ (ra : Int32) (mm' : SM), Met l yX0_assign (ws_ yX0_assign cX0_assign 4 (some .int)) ({ frames := 2, cells := 0, slots := 0, locals := 60 }) (va_Pc [.ref E0.2.2.1, .int x, .int y] (B0 E0 M nx)) (va_Qi (fun r u => r = ra ∧ Dur u ∧ Core u mm') (Z0 E0 nx) (gAE 20 E0)) 0 0 (gAE 20 E0) ∧ Met l yX1_assign (ws_ yX1_assign cX1_assign 4 (some .int)) ({ frames := 2, cells := 0, slots := 0, locals := 60 }) (va_Pc [.ref E1.2.2.1, .int x, .int y] (B1 E1 mm)) (va_Qi (fun r u => r = ra ∧ u = mm') (Z1 E1) (gAE 6 E1)) 0 0 (gAE 6 E1) := by
  obtain ⟨cl, hc, e7⟩ := pk_andE x (m := nI 7) 3 (by decide)
  obtain ⟨h, hh, e3⟩ := pk_andE y (m := nI 3) 2 (by decide)
  exact ⟨_, _, m0_assign l E0 hap0 nx M mm hD hC x y cl h hc hh e7 e3, m1_assign l E1 hap1 mm x y cl h hc e7 e3⟩
theorem pr_lose (l : Launch) (E0 E1 : Cx) (hap0 : gApE 20 E0) (hap1 : gApE 6 E1) (nx : Int32) (M mm : SM) (hD : Dur M) (hC : Core M mm) (x : Int32) : Met l yX0_lose (ws_ yX0_lose cX0_lose 4 none) ({ frames := 2, cells := 0, slots := 0, locals := 48 }) (va_Pc [.ref E0.2.2.1, .int x] (B0 E0 M nx)) (va_Qv (fun u => Dur u ∧ Core u mm) (Z0 E0 nx) (gAE 20 E0)) 0 0 (gAE 20 E0) ∧ Met l yX1_lose (ws_ yX1_lose cX1_lose 2 none) ({ frames := 2, cells := 0, slots := 0, locals := 60 }) (va_Pc [.ref E1.2.2.1, .int x] (B1 E1 mm)) (va_Qv (fun u => u = mm) (Z1 E1) (gAE 6 E1)) 0 0 (gAE 6 E1) := by
  obtain ⟨g, hg, e3⟩ := pk_andE x (m := nI 3) 2 (by decide)
  exact ⟨m0_lose l E0 hap0 nx M mm hD hC x g hg e3, m1_lose l E1 hap1 mm x⟩
end
section
set_option maxRecDepth 100000
section
variable {p : Program} {l : Launch} {e : Env} {s : State} {m : MethodId} {args : Array Value} {below : List Frame} {meth : Method} {c : Code} {H : Heap} {locs : List Loc} {Q : State → Prop} {ls : Array Slot} {b L i : Nat} {xs : Nat → Int32} {E0 E1 : Cx}
set_option maxHeartbeats 4000000 in
theorem law_0 (F : LF p s m c args b L xs E0 E1) (hi : i + 5 ≤ L) (hI : LI s E0 E1 H locs) (hl : lv_has ls 4 [(0, .ref b), (1, .ref E0.2.2.1), (2, .ref E1.2.2.1), (3, .int (nI i))]) (next : ∀ (H : Heap) (locs : List Loc), LI s E0 E1 H locs → W p l e room_1 s m args below meth c H locs 28 1719 Q (F0 m 431 ls [])) : W p l e room_1 s m args below meth c H locs 28 1719 Q (F0 m 92 ls []) := by
  obtain ⟨M, mm, nx, hP0, hP1, hS, hD, hC, j, hj, hnx⟩ := hI
  have hx := F.1.1
  have hb := F.1.2.1
  have Lo := F.2.1
  refine lv_aload_n hx hb dL_law_92 rfl (lv_at hl 1 rfl) ?_
  refine l_ld F hS hl 1 (by omega) (by decide) dL_law_93 dL_law_94 dL_law_95 dL_law_96 dL_law_97 ?_
  refine l_ld F hS hl 2 (by omega) (by decide) dL_law_98 dL_law_99 dL_law_100 dL_law_101 dL_law_102 ?_
  refine l_ld F hS hl 3 (by omega) (by decide) dL_law_103 dL_law_104 dL_law_105 dL_law_106 dL_law_107 ?_
  refine l_ld F hS hl 4 (by omega) (by decide) dL_law_108 dL_law_109 dL_law_110 dL_law_111 dL_law_112 ?_
  obtain ⟨ra, mm', hA, hB⟩ := pr_put l E0 E1 Lo.2.2.1 Lo.2.2.2.1 nx M mm hD hC (xs (i + 1)) (xs (i + 2)) (xs (i + 3)) (xs (i + 4))
  refine l_xi (k := 4) F hP0 hP1 hS hA (lw_V q90 q91 q92 q14 q93) ⟨rfl, rfl⟩ (by decide +kernel) ⟨Nat.le_of_ble_eq_true rfl, Nat.le_of_ble_eq_true rfl⟩ ⟨Nat.le_of_ble_eq_true rfl, Nat.le_of_ble_eq_true rfl⟩ rfl hl.1 rfl (Nat.le_of_ble_eq_true rfl) dL_law_113 (fun r0 u H locs hw hP0 hP1 hS => ?_)
  obtain ⟨er0, hD, hC⟩ := hw
  refine lv_aload_n hx hb dL_law_116 rfl (lv_at hl 2 rfl) ?_
  refine l_ld F hS hl 1 (by omega) (by decide) dL_law_117 dL_law_118 dL_law_119 dL_law_120 dL_law_121 ?_
  refine l_ld F hS hl 2 (by omega) (by decide) dL_law_122 dL_law_123 dL_law_124 dL_law_125 dL_law_126 ?_
  refine l_ld F hS hl 3 (by omega) (by decide) dL_law_127 dL_law_128 dL_law_129 dL_law_130 dL_law_131 ?_
  refine l_ld F hS hl 4 (by omega) (by decide) dL_law_132 dL_law_133 dL_law_134 dL_law_135 dL_law_136 ?_
  refine l_mi (k := 4) F hP0 hP1 hS hB (lw_V q202 q203 q204 q15 q205) ⟨rfl, rfl⟩ (by decide +kernel) ⟨Nat.le_of_ble_eq_true rfl, Nat.le_of_ble_eq_true rfl⟩ ⟨Nat.le_of_ble_eq_true rfl, Nat.le_of_ble_eq_true rfl⟩ rfl hl.1 rfl (Nat.le_of_ble_eq_true rfl) dL_law_137 (fun r1 u1 H locs hw hP0 hP1 hS => ?_)
  obtain ⟨er1, eu1⟩ := hw
  rw [eu1] at hP1
  refine lv_icmp_eq (tgt := 431) hx hb dL_law_140 (by decide) (fun _ => ?_) (fun q => absurd (er0.trans er1.symm) q)
  exact next H locs ⟨u, mm', nx, hP0, hP1, hS, hD, hC, j, hj, hnx⟩
set_option maxHeartbeats 4000000 in
theorem law_1 (F : LF p s m c args b L xs E0 E1) (hi : i + 5 ≤ L) (hI : LI s E0 E1 H locs) (hl : lv_has ls 4 [(0, .ref b), (1, .ref E0.2.2.1), (2, .ref E1.2.2.1), (3, .int (nI i))]) (next : ∀ (H : Heap) (locs : List Loc), LI s E0 E1 H locs → W p l e room_1 s m args below meth c H locs 28 1719 Q (F0 m 431 ls [])) : W p l e room_1 s m args below meth c H locs 28 1719 Q (F0 m 145 ls []) := by
  obtain ⟨M, mm, nx, hP0, hP1, hS, hD, hC, j, hj, hnx⟩ := hI
  have hx := F.1.1
  have hb := F.1.2.1
  have Lo := F.2.1
  refine lv_aload_n hx hb dL_law_145 rfl (lv_at hl 1 rfl) ?_
  refine l_ld F hS hl 1 (by omega) (by decide) dL_law_146 dL_law_147 dL_law_148 dL_law_149 dL_law_150 ?_
  refine l_ld F hS hl 2 (by omega) (by decide) dL_law_151 dL_law_152 dL_law_153 dL_law_154 dL_law_155 ?_
  refine l_ld F hS hl 3 (by omega) (by decide) dL_law_156 dL_law_157 dL_law_158 dL_law_159 dL_law_160 ?_
  refine l_ld F hS hl 4 (by omega) (by decide) dL_law_161 dL_law_162 dL_law_163 dL_law_164 dL_law_165 ?_
  obtain ⟨ra, mm', hA, hB⟩ := pr_addTo l E0 E1 Lo.2.2.1 Lo.2.2.2.1 nx M mm hD hC (xs (i + 1)) (xs (i + 2)) (xs (i + 3)) (xs (i + 4))
  refine l_xi (k := 4) F hP0 hP1 hS hA (lw_V q133 q134 q135 q14 q136) ⟨rfl, rfl⟩ (by decide +kernel) ⟨Nat.le_of_ble_eq_true rfl, Nat.le_of_ble_eq_true rfl⟩ ⟨Nat.le_of_ble_eq_true rfl, Nat.le_of_ble_eq_true rfl⟩ rfl hl.1 rfl (Nat.le_of_ble_eq_true rfl) dL_law_166 (fun r0 u H locs hw hP0 hP1 hS => ?_)
  obtain ⟨er0, hD, hC⟩ := hw
  refine lv_aload_n hx hb dL_law_169 rfl (lv_at hl 2 rfl) ?_
  refine l_ld F hS hl 1 (by omega) (by decide) dL_law_170 dL_law_171 dL_law_172 dL_law_173 dL_law_174 ?_
  refine l_ld F hS hl 2 (by omega) (by decide) dL_law_175 dL_law_176 dL_law_177 dL_law_178 dL_law_179 ?_
  refine l_ld F hS hl 3 (by omega) (by decide) dL_law_180 dL_law_181 dL_law_182 dL_law_183 dL_law_184 ?_
  refine l_ld F hS hl 4 (by omega) (by decide) dL_law_185 dL_law_186 dL_law_187 dL_law_188 dL_law_189 ?_
  refine l_mi (k := 4) F hP0 hP1 hS hB (lw_V q229 q230 q231 q15 q232) ⟨rfl, rfl⟩ (by decide +kernel) ⟨Nat.le_of_ble_eq_true rfl, Nat.le_of_ble_eq_true rfl⟩ ⟨Nat.le_of_ble_eq_true rfl, Nat.le_of_ble_eq_true rfl⟩ rfl hl.1 rfl (Nat.le_of_ble_eq_true rfl) dL_law_190 (fun r1 u1 H locs hw hP0 hP1 hS => ?_)
  obtain ⟨er1, eu1⟩ := hw
  rw [eu1] at hP1
  refine lv_icmp_eq (tgt := 431) hx hb dL_law_193 (by decide) (fun _ => ?_) (fun q => absurd (er0.trans er1.symm) q)
  exact next H locs ⟨u, mm', nx, hP0, hP1, hS, hD, hC, j, hj, hnx⟩
set_option maxHeartbeats 4000000 in
theorem law_2 (F : LF p s m c args b L xs E0 E1) (hi : i + 5 ≤ L) (hI : LI s E0 E1 H locs) (hl : lv_has ls 4 [(0, .ref b), (1, .ref E0.2.2.1), (2, .ref E1.2.2.1), (3, .int (nI i))]) (next : ∀ (H : Heap) (locs : List Loc), LI s E0 E1 H locs → W p l e room_1 s m args below meth c H locs 28 1719 Q (F0 m 431 ls [])) : W p l e room_1 s m args below meth c H locs 28 1719 Q (F0 m 198 ls []) := by
  obtain ⟨M, mm, nx, hP0, hP1, hS, hD, hC, j, hj, hnx⟩ := hI
  have hx := F.1.1
  have hb := F.1.2.1
  have Lo := F.2.1
  refine lv_aload_n hx hb dL_law_198 rfl (lv_at hl 1 rfl) ?_
  refine l_ld F hS hl 1 (by omega) (by decide) dL_law_199 dL_law_200 dL_law_201 dL_law_202 dL_law_203 ?_
  refine l_ld F hS hl 2 (by omega) (by decide) dL_law_204 dL_law_205 dL_law_206 dL_law_207 dL_law_208 ?_
  refine l_ld F hS hl 3 (by omega) (by decide) dL_law_209 dL_law_210 dL_law_211 dL_law_212 dL_law_213 ?_
  obtain ⟨ra, mm', hA, hB⟩ := pr_remove l E0 E1 Lo.2.2.1 Lo.2.2.2.1 nx M mm hD hC (xs (i + 1)) (xs (i + 2)) (xs (i + 3))
  refine l_xi (k := 3) F hP0 hP1 hS hA (lw_V q137 q138 q139 q14 q140) ⟨rfl, rfl⟩ (by decide +kernel) ⟨Nat.le_of_ble_eq_true rfl, Nat.le_of_ble_eq_true rfl⟩ ⟨Nat.le_of_ble_eq_true rfl, Nat.le_of_ble_eq_true rfl⟩ rfl hl.1 rfl (Nat.le_of_ble_eq_true rfl) dL_law_214 (fun r0 u H locs hw hP0 hP1 hS => ?_)
  obtain ⟨er0, hD, hC⟩ := hw
  refine lv_aload_n hx hb dL_law_217 rfl (lv_at hl 2 rfl) ?_
  refine l_ld F hS hl 1 (by omega) (by decide) dL_law_218 dL_law_219 dL_law_220 dL_law_221 dL_law_222 ?_
  refine l_ld F hS hl 2 (by omega) (by decide) dL_law_223 dL_law_224 dL_law_225 dL_law_226 dL_law_227 ?_
  refine l_ld F hS hl 3 (by omega) (by decide) dL_law_228 dL_law_229 dL_law_230 dL_law_231 dL_law_232 ?_
  refine l_mi (k := 3) F hP0 hP1 hS hB (lw_V q233 q234 q235 q15 q236) ⟨rfl, rfl⟩ (by decide +kernel) ⟨Nat.le_of_ble_eq_true rfl, Nat.le_of_ble_eq_true rfl⟩ ⟨Nat.le_of_ble_eq_true rfl, Nat.le_of_ble_eq_true rfl⟩ rfl hl.1 rfl (Nat.le_of_ble_eq_true rfl) dL_law_233 (fun r1 u1 H locs hw hP0 hP1 hS => ?_)
  obtain ⟨er1, eu1⟩ := hw
  rw [eu1] at hP1
  refine lv_icmp_eq (tgt := 431) hx hb dL_law_236 (by decide) (fun _ => ?_) (fun q => absurd (er0.trans er1.symm) q)
  exact next H locs ⟨u, mm', nx, hP0, hP1, hS, hD, hC, j, hj, hnx⟩
set_option maxHeartbeats 4000000 in
theorem law_3 (F : LF p s m c args b L xs E0 E1) (hi : i + 5 ≤ L) (hI : LI s E0 E1 H locs) (hl : lv_has ls 4 [(0, .ref b), (1, .ref E0.2.2.1), (2, .ref E1.2.2.1), (3, .int (nI i))]) (next : ∀ (H : Heap) (locs : List Loc), LI s E0 E1 H locs → W p l e room_1 s m args below meth c H locs 28 1719 Q (F0 m 431 ls [])) : W p l e room_1 s m args below meth c H locs 28 1719 Q (F0 m 241 ls []) := by
  obtain ⟨M, mm, nx, hP0, hP1, hS, hD, hC, j, hj, hnx⟩ := hI
  have hx := F.1.1
  have hb := F.1.2.1
  have Lo := F.2.1
  refine lv_aload_n hx hb dL_law_241 rfl (lv_at hl 1 rfl) ?_
  refine l_ld F hS hl 1 (by omega) (by decide) dL_law_242 dL_law_243 dL_law_244 dL_law_245 dL_law_246 ?_
  obtain ⟨ra, hA, hB⟩ := pr_get l E0 E1 Lo.2.2.1 Lo.2.2.2.1 nx M mm hD hC (xs (i + 1))
  refine l_xi (k := 1) F hP0 hP1 hS hA (lw_V q141 q142 q143 q14 q144) ⟨rfl, rfl⟩ (by decide +kernel) ⟨Nat.le_of_ble_eq_true rfl, Nat.le_of_ble_eq_true rfl⟩ ⟨Nat.le_of_ble_eq_true rfl, Nat.le_of_ble_eq_true rfl⟩ rfl hl.1 rfl (Nat.le_of_ble_eq_true rfl) dL_law_247 (fun r0 u H locs hw hP0 hP1 hS => ?_)
  obtain ⟨er0, eu⟩ := hw
  rw [eu] at hP0
  refine lv_aload_n hx hb dL_law_250 rfl (lv_at hl 2 rfl) ?_
  refine l_ld F hS hl 1 (by omega) (by decide) dL_law_251 dL_law_252 dL_law_253 dL_law_254 dL_law_255 ?_
  refine l_mi (k := 1) F hP0 hP1 hS hB (lw_V q237 q218 q219 q15 q220) ⟨rfl, rfl⟩ (by decide +kernel) ⟨Nat.le_of_ble_eq_true rfl, Nat.le_of_ble_eq_true rfl⟩ ⟨Nat.le_of_ble_eq_true rfl, Nat.le_of_ble_eq_true rfl⟩ rfl hl.1 rfl (Nat.le_of_ble_eq_true rfl) dL_law_256 (fun r1 u1 H locs hw hP0 hP1 hS => ?_)
  obtain ⟨er1, eu1⟩ := hw
  rw [eu1] at hP1
  refine lv_icmp_eq (tgt := 431) hx hb dL_law_259 (by decide) (fun _ => ?_) (fun q => absurd (er0.trans er1.symm) q)
  exact next H locs ⟨M, mm, nx, hP0, hP1, hS, hD, hC, j, hj, hnx⟩
set_option maxHeartbeats 4000000 in
theorem law_4 (F : LF p s m c args b L xs E0 E1) (hi : i + 5 ≤ L) (hI : LI s E0 E1 H locs) (hl : lv_has ls 4 [(0, .ref b), (1, .ref E0.2.2.1), (2, .ref E1.2.2.1), (3, .int (nI i))]) (next : ∀ (H : Heap) (locs : List Loc), LI s E0 E1 H locs → W p l e room_1 s m args below meth c H locs 28 1719 Q (F0 m 431 ls [])) : W p l e room_1 s m args below meth c H locs 28 1719 Q (F0 m 264 ls []) := by
  obtain ⟨M, mm, nx, hP0, hP1, hS, hD, hC, j, hj, hnx⟩ := hI
  have hx := F.1.1
  have hb := F.1.2.1
  have Lo := F.2.1
  refine lv_aload_n hx hb dL_law_264 rfl (lv_at hl 1 rfl) ?_
  refine l_ld F hS hl 1 (by omega) (by decide) dL_law_265 dL_law_266 dL_law_267 dL_law_268 dL_law_269 ?_
  obtain ⟨ra, hA, hB⟩ := pr_has l E0 E1 Lo.2.2.1 Lo.2.2.2.1 nx M mm hD hC (xs (i + 1))
  refine l_xi (k := 1) F hP0 hP1 hS hA (lw_V q149 q150 q151 q14 q152) ⟨rfl, rfl⟩ (by decide +kernel) ⟨Nat.le_of_ble_eq_true rfl, Nat.le_of_ble_eq_true rfl⟩ ⟨Nat.le_of_ble_eq_true rfl, Nat.le_of_ble_eq_true rfl⟩ rfl hl.1 rfl (Nat.le_of_ble_eq_true rfl) dL_law_270 (fun r0 u H locs hw hP0 hP1 hS => ?_)
  obtain ⟨er0, eu⟩ := hw
  rw [eu] at hP0
  refine lv_aload_n hx hb dL_law_273 rfl (lv_at hl 2 rfl) ?_
  refine l_ld F hS hl 1 (by omega) (by decide) dL_law_274 dL_law_275 dL_law_276 dL_law_277 dL_law_278 ?_
  refine l_mi (k := 1) F hP0 hP1 hS hB (lw_V q238 q222 q223 q15 q224) ⟨rfl, rfl⟩ (by decide +kernel) ⟨Nat.le_of_ble_eq_true rfl, Nat.le_of_ble_eq_true rfl⟩ ⟨Nat.le_of_ble_eq_true rfl, Nat.le_of_ble_eq_true rfl⟩ rfl hl.1 rfl (Nat.le_of_ble_eq_true rfl) dL_law_279 (fun r1 u1 H locs hw hP0 hP1 hS => ?_)
  obtain ⟨er1, eu1⟩ := hw
  rw [eu1] at hP1
  refine lv_icmp_eq (tgt := 431) hx hb dL_law_282 (by decide) (fun _ => ?_) (fun q => absurd (er0.trans er1.symm) q)
  exact next H locs ⟨M, mm, nx, hP0, hP1, hS, hD, hC, j, hj, hnx⟩
set_option maxHeartbeats 4000000 in
theorem law_5 (F : LF p s m c args b L xs E0 E1) (hi : i + 5 ≤ L) (hI : LI s E0 E1 H locs) (hl : lv_has ls 4 [(0, .ref b), (1, .ref E0.2.2.1), (2, .ref E1.2.2.1), (3, .int (nI i))]) (next : ∀ (H : Heap) (locs : List Loc), LI s E0 E1 H locs → W p l e room_1 s m args below meth c H locs 28 1719 Q (F0 m 431 ls [])) : W p l e room_1 s m args below meth c H locs 28 1719 Q (F0 m 287 ls []) := by
  obtain ⟨M, mm, nx, hP0, hP1, hS, hD, hC, j, hj, hnx⟩ := hI
  have hx := F.1.1
  have hb := F.1.2.1
  have Lo := F.2.1
  refine lv_aload_n hx hb dL_law_287 rfl (lv_at hl 1 rfl) ?_
  refine l_ld F hS hl 1 (by omega) (by decide) dL_law_288 dL_law_289 dL_law_290 dL_law_291 dL_law_292 ?_
  obtain ⟨ra, hA, hB⟩ := pr_size l E0 E1 Lo.2.2.1 Lo.2.2.2.1 nx M mm hD hC (xs (i + 1))
  refine l_xi (k := 1) F hP0 hP1 hS hA (lw_V q153 q154 q155 q14 q156) ⟨rfl, rfl⟩ (by decide +kernel) ⟨Nat.le_of_ble_eq_true rfl, Nat.le_of_ble_eq_true rfl⟩ ⟨Nat.le_of_ble_eq_true rfl, Nat.le_of_ble_eq_true rfl⟩ rfl hl.1 rfl (Nat.le_of_ble_eq_true rfl) dL_law_293 (fun r0 u H locs hw hP0 hP1 hS => ?_)
  obtain ⟨er0, eu⟩ := hw
  rw [eu] at hP0
  refine lv_aload_n hx hb dL_law_296 rfl (lv_at hl 2 rfl) ?_
  refine l_ld F hS hl 1 (by omega) (by decide) dL_law_297 dL_law_298 dL_law_299 dL_law_300 dL_law_301 ?_
  refine l_mi (k := 1) F hP0 hP1 hS hB (lw_V q239 q240 q241 q15 q242) ⟨rfl, rfl⟩ (by decide +kernel) ⟨Nat.le_of_ble_eq_true rfl, Nat.le_of_ble_eq_true rfl⟩ ⟨Nat.le_of_ble_eq_true rfl, Nat.le_of_ble_eq_true rfl⟩ rfl hl.1 rfl (Nat.le_of_ble_eq_true rfl) dL_law_302 (fun r1 u1 H locs hw hP0 hP1 hS => ?_)
  obtain ⟨er1, eu1⟩ := hw
  rw [eu1] at hP1
  refine lv_icmp_eq (tgt := 431) hx hb dL_law_305 (by decide) (fun _ => ?_) (fun q => absurd (er0.trans er1.symm) q)
  exact next H locs ⟨M, mm, nx, hP0, hP1, hS, hD, hC, j, hj, hnx⟩
set_option maxHeartbeats 4000000 in
theorem law_6 (F : LF p s m c args b L xs E0 E1) (hi : i + 5 ≤ L) (hI : LI s E0 E1 H locs) (hl : lv_has ls 4 [(0, .ref b), (1, .ref E0.2.2.1), (2, .ref E1.2.2.1), (3, .int (nI i))]) (next : ∀ (H : Heap) (locs : List Loc), LI s E0 E1 H locs → W p l e room_1 s m args below meth c H locs 28 1719 Q (F0 m 431 ls [])) : W p l e room_1 s m args below meth c H locs 28 1719 Q (F0 m 310 ls []) := by
  obtain ⟨M, mm, nx, hP0, hP1, hS, hD, hC, j, hj, hnx⟩ := hI
  have hx := F.1.1
  have hb := F.1.2.1
  have Lo := F.2.1
  refine lv_aload_n hx hb dL_law_310 rfl (lv_at hl 1 rfl) ?_
  refine l_ld F hS hl 1 (by omega) (by decide) dL_law_311 dL_law_312 dL_law_313 dL_law_314 dL_law_315 ?_
  obtain ⟨ra, hA, hB⟩ := pr_lastFrom l E0 E1 Lo.2.2.1 Lo.2.2.2.1 nx M mm hD hC (xs (i + 1))
  refine l_xi (k := 1) F hP0 hP1 hS hA (lw_V q157 q158 q159 q14 q160) ⟨rfl, rfl⟩ (by decide +kernel) ⟨Nat.le_of_ble_eq_true rfl, Nat.le_of_ble_eq_true rfl⟩ ⟨Nat.le_of_ble_eq_true rfl, Nat.le_of_ble_eq_true rfl⟩ rfl hl.1 rfl (Nat.le_of_ble_eq_true rfl) dL_law_316 (fun r0 u H locs hw hP0 hP1 hS => ?_)
  obtain ⟨er0, eu⟩ := hw
  rw [eu] at hP0
  refine lv_aload_n hx hb dL_law_319 rfl (lv_at hl 2 rfl) ?_
  refine l_ld F hS hl 1 (by omega) (by decide) dL_law_320 dL_law_321 dL_law_322 dL_law_323 dL_law_324 ?_
  refine l_mi (k := 1) F hP0 hP1 hS hB (lw_V q243 q244 q245 q15 q246) ⟨rfl, rfl⟩ (by decide +kernel) ⟨Nat.le_of_ble_eq_true rfl, Nat.le_of_ble_eq_true rfl⟩ ⟨Nat.le_of_ble_eq_true rfl, Nat.le_of_ble_eq_true rfl⟩ rfl hl.1 rfl (Nat.le_of_ble_eq_true rfl) dL_law_325 (fun r1 u1 H locs hw hP0 hP1 hS => ?_)
  obtain ⟨er1, eu1⟩ := hw
  rw [eu1] at hP1
  refine lv_icmp_eq (tgt := 431) hx hb dL_law_328 (by decide) (fun _ => ?_) (fun q => absurd (er0.trans er1.symm) q)
  exact next H locs ⟨M, mm, nx, hP0, hP1, hS, hD, hC, j, hj, hnx⟩
set_option maxHeartbeats 4000000 in
theorem law_7 (F : LF p s m c args b L xs E0 E1) (hi : i + 5 ≤ L) (hI : LI s E0 E1 H locs) (hl : lv_has ls 4 [(0, .ref b), (1, .ref E0.2.2.1), (2, .ref E1.2.2.1), (3, .int (nI i))]) (next : ∀ (H : Heap) (locs : List Loc), LI s E0 E1 H locs → W p l e room_1 s m args below meth c H locs 28 1719 Q (F0 m 431 ls [])) : W p l e room_1 s m args below meth c H locs 28 1719 Q (F0 m 333 ls []) := by
  obtain ⟨M, mm, nx, hP0, hP1, hS, hD, hC, j, hj, hnx⟩ := hI
  have hx := F.1.1
  have hb := F.1.2.1
  have Lo := F.2.1
  refine lv_aload_n hx hb dL_law_333 rfl (lv_at hl 1 rfl) ?_
  refine l_ld F hS hl 1 (by omega) (by decide) dL_law_334 dL_law_335 dL_law_336 dL_law_337 dL_law_338 ?_
  refine l_ld F hS hl 2 (by omega) (by decide) dL_law_339 dL_law_340 dL_law_341 dL_law_342 dL_law_343 ?_
  obtain ⟨ra, mm', hA, hB⟩ := pr_assign l E0 E1 Lo.2.2.1 Lo.2.2.2.1 nx M mm hD hC (xs (i + 1)) (xs (i + 2))
  refine l_xi (k := 2) F hP0 hP1 hS hA (lw_V q161 q162 q163 q14 q164) ⟨rfl, rfl⟩ (by decide +kernel) ⟨Nat.le_of_ble_eq_true rfl, Nat.le_of_ble_eq_true rfl⟩ ⟨Nat.le_of_ble_eq_true rfl, Nat.le_of_ble_eq_true rfl⟩ rfl hl.1 rfl (Nat.le_of_ble_eq_true rfl) dL_law_344 (fun r0 u H locs hw hP0 hP1 hS => ?_)
  obtain ⟨er0, hD, hC⟩ := hw
  refine lv_aload_n hx hb dL_law_347 rfl (lv_at hl 2 rfl) ?_
  refine l_ld F hS hl 1 (by omega) (by decide) dL_law_348 dL_law_349 dL_law_350 dL_law_351 dL_law_352 ?_
  refine l_ld F hS hl 2 (by omega) (by decide) dL_law_353 dL_law_354 dL_law_355 dL_law_356 dL_law_357 ?_
  refine l_mi (k := 2) F hP0 hP1 hS hB (lw_V q247 q248 q249 q15 q250) ⟨rfl, rfl⟩ (by decide +kernel) ⟨Nat.le_of_ble_eq_true rfl, Nat.le_of_ble_eq_true rfl⟩ ⟨Nat.le_of_ble_eq_true rfl, Nat.le_of_ble_eq_true rfl⟩ rfl hl.1 rfl (Nat.le_of_ble_eq_true rfl) dL_law_358 (fun r1 u1 H locs hw hP0 hP1 hS => ?_)
  obtain ⟨er1, eu1⟩ := hw
  rw [eu1] at hP1
  refine lv_icmp_eq (tgt := 431) hx hb dL_law_361 (by decide) (fun _ => ?_) (fun q => absurd (er0.trans er1.symm) q)
  exact next H locs ⟨u, mm', nx, hP0, hP1, hS, hD, hC, j, hj, hnx⟩
set_option maxHeartbeats 4000000 in
theorem law_8 (F : LF p s m c args b L xs E0 E1) (hi : i + 5 ≤ L) (hI : LI s E0 E1 H locs) (hl : lv_has ls 4 [(0, .ref b), (1, .ref E0.2.2.1), (2, .ref E1.2.2.1), (3, .int (nI i))]) (next : ∀ (H : Heap) (locs : List Loc), LI s E0 E1 H locs → W p l e room_1 s m args below meth c H locs 28 1719 Q (F0 m 431 ls [])) : W p l e room_1 s m args below meth c H locs 28 1719 Q (F0 m 366 ls []) := by
  obtain ⟨M, mm, nx, hP0, hP1, hS, hD, hC, j, hj, hnx⟩ := hI
  have hx := F.1.1
  have hb := F.1.2.1
  have Lo := F.2.1
  refine lv_aload_n hx hb dL_law_366 rfl (lv_at hl 1 rfl) ?_
  refine l_ld F hS hl 1 (by omega) (by decide) dL_law_367 dL_law_368 dL_law_369 dL_law_370 dL_law_371 ?_
  obtain ⟨ra, hA, hB⟩ := pr_home l E0 E1 Lo.2.2.1 Lo.2.2.2.1 nx M mm hD hC (xs (i + 1))
  refine l_xi (k := 1) F hP0 hP1 hS hA (lw_V q165 q166 q167 q14 q168) ⟨rfl, rfl⟩ (by decide +kernel) ⟨Nat.le_of_ble_eq_true rfl, Nat.le_of_ble_eq_true rfl⟩ ⟨Nat.le_of_ble_eq_true rfl, Nat.le_of_ble_eq_true rfl⟩ rfl hl.1 rfl (Nat.le_of_ble_eq_true rfl) dL_law_372 (fun r0 u H locs hw hP0 hP1 hS => ?_)
  obtain ⟨er0, eu⟩ := hw
  rw [eu] at hP0
  refine lv_aload_n hx hb dL_law_375 rfl (lv_at hl 2 rfl) ?_
  refine l_ld F hS hl 1 (by omega) (by decide) dL_law_376 dL_law_377 dL_law_378 dL_law_379 dL_law_380 ?_
  refine l_mi (k := 1) F hP0 hP1 hS hB (lw_V q251 q252 q253 q15 q254) ⟨rfl, rfl⟩ (by decide +kernel) ⟨Nat.le_of_ble_eq_true rfl, Nat.le_of_ble_eq_true rfl⟩ ⟨Nat.le_of_ble_eq_true rfl, Nat.le_of_ble_eq_true rfl⟩ rfl hl.1 rfl (Nat.le_of_ble_eq_true rfl) dL_law_381 (fun r1 u1 H locs hw hP0 hP1 hS => ?_)
  obtain ⟨er1, eu1⟩ := hw
  rw [eu1] at hP1
  refine lv_icmp_eq (tgt := 431) hx hb dL_law_384 (by decide) (fun _ => ?_) (fun q => absurd (er0.trans er1.symm) q)
  exact next H locs ⟨M, mm, nx, hP0, hP1, hS, hD, hC, j, hj, hnx⟩
set_option maxHeartbeats 4000000 in
theorem law_9 (F : LF p s m c args b L xs E0 E1) (hi : i + 5 ≤ L) (hI : LI s E0 E1 H locs) (hl : lv_has ls 4 [(0, .ref b), (1, .ref E0.2.2.1), (2, .ref E1.2.2.1), (3, .int (nI i))]) (next : ∀ (H : Heap) (locs : List Loc), LI s E0 E1 H locs → W p l e room_1 s m args below meth c H locs 28 1719 Q (F0 m 431 ls [])) : W p l e room_1 s m args below meth c H locs 28 1719 Q (F0 m 389 ls []) := by
  obtain ⟨M, mm, nx, hP0, hP1, hS, hD, hC, j, hj, hnx⟩ := hI
  have hx := F.1.1
  have hb := F.1.2.1
  have Lo := F.2.1
  refine lv_aload_n hx hb dL_law_389 rfl (lv_at hl 1 rfl) ?_
  refine l_ld F hS hl 1 (by omega) (by decide) dL_law_390 dL_law_391 dL_law_392 dL_law_393 dL_law_394 ?_
  refine l_xw (k := 1) F hP0 hP1 hS (m0_work l E0 Lo.2.2.1 nx M mm hD hC (xs (i + 1)) j hj hnx) (lw_V q169 q170 q171 q14 q172) ⟨rfl, rfl⟩ (by decide +kernel) ⟨Nat.le_of_ble_eq_true rfl, Nat.le_of_ble_eq_true rfl⟩ ⟨Nat.le_of_ble_eq_true rfl, Nat.le_of_ble_eq_true rfl⟩ rfl hl.1 rfl (Nat.le_of_ble_eq_true rfl) dL_law_395 (fun u H locs hw hP0 hP1 hS => ?_)
  obtain ⟨hD, hC, hj⟩ := hw
  refine lv_aload_n hx hb dL_law_398 rfl (lv_at hl 2 rfl) ?_
  refine l_ld F hS hl 1 (by omega) (by decide) dL_law_399 dL_law_400 dL_law_401 dL_law_402 dL_law_403 ?_
  refine l_mv (k := 1) F hP0 hP1 hS (m1_work l E1 Lo.2.2.2.1 mm (xs (i + 1))) (lw_V q255 q256 q257 q15 q258) ⟨rfl, rfl⟩ (by decide +kernel) ⟨Nat.le_of_ble_eq_true rfl, Nat.le_of_ble_eq_true rfl⟩ ⟨Nat.le_of_ble_eq_true rfl, Nat.le_of_ble_eq_true rfl⟩ rfl hl.1 rfl (Nat.le_of_ble_eq_true rfl) dL_law_404 (fun u1 H locs hw hP0 hP1 hS => ?_)
  rw [hw] at hP1
  refine lv_goto (tgt := 431) hx hb dL_law_407 (by decide) ?_
  exact next H locs ⟨u.1, mm, u.2, hP0, hP1, hS, hD, hC, hj⟩
set_option maxHeartbeats 4000000 in
theorem law_10 (F : LF p s m c args b L xs E0 E1) (hi : i + 5 ≤ L) (hI : LI s E0 E1 H locs) (hl : lv_has ls 4 [(0, .ref b), (1, .ref E0.2.2.1), (2, .ref E1.2.2.1), (3, .int (nI i))]) (next : ∀ (H : Heap) (locs : List Loc), LI s E0 E1 H locs → W p l e room_1 s m args below meth c H locs 28 1719 Q (F0 m 431 ls [])) : W p l e room_1 s m args below meth c H locs 28 1719 Q (F0 m 410 ls []) := by
  obtain ⟨M, mm, nx, hP0, hP1, hS, hD, hC, j, hj, hnx⟩ := hI
  have hx := F.1.1
  have hb := F.1.2.1
  have Lo := F.2.1
  refine lv_aload_n hx hb dL_law_410 rfl (lv_at hl 1 rfl) ?_
  refine l_ld F hS hl 1 (by omega) (by decide) dL_law_411 dL_law_412 dL_law_413 dL_law_414 dL_law_415 ?_
  obtain ⟨hA, hB⟩ := pr_lose l E0 E1 Lo.2.2.1 Lo.2.2.2.1 nx M mm hD hC (xs (i + 1))
  refine l_xv (k := 1) F hP0 hP1 hS hA (lw_V q173 q174 q175 q14 q176) ⟨rfl, rfl⟩ (by decide +kernel) ⟨Nat.le_of_ble_eq_true rfl, Nat.le_of_ble_eq_true rfl⟩ ⟨Nat.le_of_ble_eq_true rfl, Nat.le_of_ble_eq_true rfl⟩ rfl hl.1 rfl (Nat.le_of_ble_eq_true rfl) dL_law_416 (fun u H locs hw hP0 hP1 hS => ?_)
  obtain ⟨hD, hC⟩ := hw
  refine lv_aload_n hx hb dL_law_419 rfl (lv_at hl 2 rfl) ?_
  refine l_ld F hS hl 1 (by omega) (by decide) dL_law_420 dL_law_421 dL_law_422 dL_law_423 dL_law_424 ?_
  refine l_mv (k := 1) F hP0 hP1 hS hB (lw_V q259 q260 q261 q15 q262) ⟨rfl, rfl⟩ (by decide +kernel) ⟨Nat.le_of_ble_eq_true rfl, Nat.le_of_ble_eq_true rfl⟩ ⟨Nat.le_of_ble_eq_true rfl, Nat.le_of_ble_eq_true rfl⟩ rfl hl.1 rfl (Nat.le_of_ble_eq_true rfl) dL_law_425 (fun u1 H locs hw hP0 hP1 hS => ?_)
  rw [hw] at hP1
  refine lv_goto (tgt := 431) hx hb dL_law_428 (by decide) ?_
  exact next H locs ⟨u, mm, nx, hP0, hP1, hS, hD, hC, j, hj, hnx⟩
end
end
section
set_option maxRecDepth 100000
section
variable {p : Program} {l : Launch} {e : Env} {s : State} {m : MethodId} {below : List Frame} {meth : Method} {c : Code} {b L : Nat} {xs : Nat → Int32} {E0 E1 : Cx}
set_option maxHeartbeats 4000000 in
/-- the law's loop -/
theorem law_loop (F : LF p s m c #[Value.ref b] b L xs E0 E1) (hr : meth.sig.returnType = ret) (hlocks : meth.locks = false) :
    ∀ (n i : Nat) (H : Heap) (locs : List Loc) (ls : Array Slot), i ≤ L → L + 1 ≤ i + n → LI s E0 E1 H locs → lv_has ls 4 [(0, .ref b), (1, .ref E0.2.2.1), (2, .ref E1.2.2.1), (3, .int (nI i))] → W p l e room_1 s m #[Value.ref b] below meth c H locs 28 1719 (lw_Z below #[Value.ref b] s) (F0 m 18 ls []) := by
  have hx := F.1.1
  have hb := F.1.2.1
  have hX := F.2.2.1
  have hbl := F.2.2.2.1
  have hL := F.2.2.2.2
  have hbA : ¬ (fun q : Nat => s.heap.size ≤ q) b := Nat.not_le.mpr hbl
  intro n
  induction n with
  | zero =>
    intro i H locs ls h1 h2
    exact absurd h2 (by omega)
  | succ n ih =>
    intro i H locs ls hi hin hI hl
    obtain ⟨M, mm, nx, hP0, hP1, hS, hrest⟩ := id hI
    refine lv_iload_n hx hb dL_law_18 rfl (lv_at hl 3 rfl) ?_
    refine lv_aload_n hx hb dL_law_19 rfl (lv_at hl 0 rfl) ?_
    refine va_slen hx hb hX hbl hbA hS dL_law_20 ?_
    refine lv_iconst (v := nI 5) hx hb dL_law_21 (by decide) ?_
    refine lv_isub hx hb dL_law_22 ?_
    refine lv_icmp_gt (tgt := 437) hx hb dL_law_23 (by decide) (fun c1 => ?_) (fun c1 => ?_)
    · refine lv_iconst (v := 1) hx hb dL_law_437 (by decide) ?_
      refine va_forget (fun q hq => hS.2.2 q hq) ?_
      refine W.widen (k := 600000) (n := 7290000) (Nat.le_of_ble_eq_true rfl) (Nat.le_of_ble_eq_true rfl) ?_
      exact lw_ret hx hb hr hlocks dL_law_438
    · have h5 : i + 5 ≤ L := by
        rcases Nat.lt_or_ge L (i + 5) with q | q
        · refine absurd (Int32.lt_iff_toInt_lt.mpr ?_) c1
          show (nI L - nI 5).toInt < (nI i).toInt
          rw [pk_sub_toInt (by omega) (by omega), nI_toInt (by omega)]
          omega
        · exact q
      refine lv_aload_n hx hb dL_law_26 rfl (lv_at hl 0 rfl) ?_
      refine lv_iload_n hx hb dL_law_27 rfl (lv_at hl 3 rfl) ?_
      refine va_sld hx hb hX hbl hbA hS (vp_in_nI (show i < L by omega) (by omega)) dL_law_28 ?_
      refine lv_bipush (v := nI 15) hx hb dL_law_29 (by decide) ?_
      obtain ⟨o, ho, eo⟩ := pk_andE (xs (nI i).toNatClampNeg) (m := nI 15) 4 (by decide)
      refine gx_and (a := 0) (j := o) hx hb eo dL_law_31 ?_
      have next : ∀ (H : Heap) (locs : List Loc), LI s E0 E1 H locs → W p l e room_1 s m #[Value.ref b] below meth c H locs 28 1719 (lw_Z below #[Value.ref b] s) (F0 m 431 ls []) := by
        intro H locs hI
        refine lv_iinc (v := nI (i + 5)) (lv' := [(3, .int (nI (i + 5))), (0, .ref b), (1, .ref E0.2.2.1), (2, .ref E1.2.2.1)]) hx hb dL_law_431 hl (k := 3) rfl (nI_add i 5) (by decide) rfl (fun ls hl => ?_)
        refine lv_goto (tgt := 18) hx hb dL_law_434 (by decide) ?_
        exact ih (i + 5) H locs ls h5 (by omega) hI (lv_sub hl [1, 2, 3, 0] rfl)
      rcases (show o = 0 ∨ o = 1 ∨ o = 2 ∨ o = 3 ∨ o = 4 ∨ o = 5 ∨ o = 6 ∨ o = 7 ∨ o = 8 ∨ o = 9 ∨ o = 10 ∨ 11 ≤ o by omega) with q | q | q | q | q | q | q | q | q | q | q | q
      · subst q
        refine lv_tableIn (tgt := 92) hx hb dL_law_32 (by decide) (by decide) (off := 60) (by decide) (by decide) ?_
        exact law_0 F h5 hI hl next
      · subst q
        refine lv_tableIn (tgt := 145) hx hb dL_law_32 (by decide) (by decide) (off := 113) (by decide) (by decide) ?_
        exact law_1 F h5 hI hl next
      · subst q
        refine lv_tableIn (tgt := 198) hx hb dL_law_32 (by decide) (by decide) (off := 166) (by decide) (by decide) ?_
        exact law_2 F h5 hI hl next
      · subst q
        refine lv_tableIn (tgt := 241) hx hb dL_law_32 (by decide) (by decide) (off := 209) (by decide) (by decide) ?_
        exact law_3 F h5 hI hl next
      · subst q
        refine lv_tableIn (tgt := 264) hx hb dL_law_32 (by decide) (by decide) (off := 232) (by decide) (by decide) ?_
        exact law_4 F h5 hI hl next
      · subst q
        refine lv_tableIn (tgt := 287) hx hb dL_law_32 (by decide) (by decide) (off := 255) (by decide) (by decide) ?_
        exact law_5 F h5 hI hl next
      · subst q
        refine lv_tableIn (tgt := 310) hx hb dL_law_32 (by decide) (by decide) (off := 278) (by decide) (by decide) ?_
        exact law_6 F h5 hI hl next
      · subst q
        refine lv_tableIn (tgt := 333) hx hb dL_law_32 (by decide) (by decide) (off := 301) (by decide) (by decide) ?_
        exact law_7 F h5 hI hl next
      · subst q
        refine lv_tableIn (tgt := 366) hx hb dL_law_32 (by decide) (by decide) (off := 334) (by decide) (by decide) ?_
        exact law_8 F h5 hI hl next
      · subst q
        refine lv_tableIn (tgt := 389) hx hb dL_law_32 (by decide) (by decide) (off := 357) (by decide) (by decide) ?_
        exact law_9 F h5 hI hl next
      · subst q
        refine lv_tableIn (tgt := 410) hx hb dL_law_32 (by decide) (by decide) (off := 378) (by decide) (by decide) ?_
        exact law_10 F h5 hI hl next
      · refine lv_tableOut (tgt := 431) hx hb dL_law_32 (Or.inr (by rw [nI_toInt (by omega)]; omega)) (by decide) ?_
        exact next H locs hI
end
end
section
set_option maxRecDepth 100000
theorem va_P_left {D : va_G} {cl : List vw_C} {ws wt : va_W} {H : Heap} (h : va_P D cl (ws ++ wt) H) : va_P D cl ws H := fun k q hk => h k q (by rw [List.getElem?_append_left (List.getElem?_eq_some_iff.mp hk).1]; exact hk)
theorem va_P_last {D : va_G} {cl : List vw_C} {ws : va_W} {x : Nat × va_E} {H : Heap} (h : va_P D cl (ws ++ [x]) H) : va_P D cl [x] H := fun k q hk => by
  match k, hk with
  | 0, hk => exact h ws.length q (by rw [List.getElem?_append_right (Nat.le_refl _), Nat.sub_self]; exact hk)
  | k + 1, hk => simp at hk
theorem va_D_last {A : Nat → Prop} {ws : va_W} {x : Nat × va_E} (h : va_D A (ws ++ [x])) : A x.1 ∧ ∀ (k : Nat) (q : Nat × va_E), ws[k]? = some q → q.1 ≠ x.1 := by
  have hx : (ws ++ [x])[ws.length]? = some x := by simp
  refine ⟨h.2 _ _ hx, fun k q hk e => ?_⟩
  have hlt := (List.getElem?_eq_some_iff.mp hk).1
  have := h.1 k ws.length q x (by rw [List.getElem?_append_left hlt]; exact hk) hx e
  omega
theorem gw_adr {ci n : Nat} {len : Nat → Nat} {d : Nat → ClassId} {h : Nat} {ad : Nat → Nat} {M : SM} {ex : List Value} {q : Nat} (hq : gA n h ad q) : ∃ (k : Nat) (x : Nat × va_E), (gw ci n len d h ad M ex)[k]? = some x ∧ x.1 = q := by
  rcases hq with e | ⟨k, hk, e⟩
  · exact ⟨0, _, gw_ob, e.symm⟩
  · exact ⟨k + 1, _, gw_at hk, e.symm⟩
set_option maxHeartbeats 4000000 in
set_option maxRecDepth 100000 in
/-- THE LAW, from its entry -/
theorem whole_start {p : Program} {e : Env} {s : State} {m : MethodId} {below : List Frame} {meth : Method} {c : Code} (l : Launch) {b L : Nat} {xs : Nat → Int32} (hL : L ≤ 320) (C0 : lw_At p s m meth c b L xs) : W p l e room_1 s m #[Value.ref b] below meth c s.heap [] 0 0 (lw_Z below #[Value.ref b] s) (entryFrame m ([Value.ref b] : List Value).toArray 4) := by
  obtain ⟨hx, hb, hr, hml, hown, hts0, hX, hbl, hlocks, hgv⟩ := id C0
  have hts : ∀ w ∈ lw_all, w.before #[Value.ref b] s = true := fun w h => hts0 w (lw_all_tbl h)
  have S : CallFix p m c cL_law 4 s #[Value.ref b] lw_all R_law := ⟨hx, hb, hml, hown, hts⟩
  have hA : ∀ q : Nat, s.heap.size ≤ q → (fun q : Nat => s.heap.size ≤ q) q := fun _ h => h
  obtain ⟨c0, iS0, hKn0⟩ := u_known (C := RX0) (T := TX0) (N := 21) (n := 21) hts in_X0 (hts _ q17)
  obtain ⟨c1, iS1, hKn1⟩ := u_known (C := RX1) (T := TX1) (N := 6) (n := 6) hts in_X1 (hts _ q178)
  obtain ⟨D, hKc⟩ : ∃ D : va_G, ∀ (k : Nat) (q : vw_C), vwCl[k]? = some q → u_Kn s q.1 q.2.1 q.2.2 (D.1 k) (D.2 k) := by
    refine ⟨(fun k => if k = 0 then c0 else c1, fun k => if k = 0 then iS0 else iS1), ?_⟩
    intro k q hq
    match k, hq with
    | 0, hq => cases hq; exact hKn0
    | 1, hq => cases hq; exact hKn1
    | k + 2, hq => simp [vwCl] at hq
  have hS : va_S (fun q : Nat => s.heap.size ≤ q) s.heap s.heap [] := va_S.rf
  have hK : va_K D vwCl [] s := ⟨hKc, fun k q h => by simp at h⟩
  have hP : va_P D vwCl [] s.heap := fun k q h => by simp at h
  have hD : va_D (fun q : Nat => s.heap.size ≤ q) [] := ⟨fun i j p q h => by simp at h, fun k q h => by simp at h⟩
  have hl := lv_entry ([.ref b]) (n := 4) (Nat.le_of_ble_eq_true rfl)
  rw [lg_entry_eq]
  generalize (lg_sl ([.ref b]) ++ List.replicate (4 - (lg_sl ([.ref b])).length) Slot.unset).toArray = ls at hl ⊢
  have hl : lv_has ls 4 [(0, .ref b)] := hl
  refine va_new (ci := 0) (fs := gpF 20 0 (fun _ => 0) [.int 0]) (C := RX0) (T := TX0) (N := 21) hx hb hts in_X0 tyX0 tyX0_ok hown (hts _ q16) (hts _ q17) (hts _ q14) hK hP hD hS hA rfl (fun j hj => by rcases (show j = 0 ∨ j = 1 ∨ j = 2 ∨ j = 3 ∨ j = 4 ∨ j = 5 ∨ j = 6 ∨ j = 7 ∨ j = 8 ∨ j = 9 ∨ j = 10 ∨ j = 11 ∨ j = 12 ∨ j = 13 ∨ j = 14 ∨ j = 15 ∨ j = 16 ∨ j = 17 ∨ j = 18 ∨ j = 19 ∨ j = 20 by omega) with rfl | rfl | rfl | rfl | rfl | rfl | rfl | rfl | rfl | rfl | rfl | rfl | rfl | rfl | rfl | rfl | rfl | rfl | rfl | rfl | rfl <;> rfl) (Nat.le_of_ble_eq_true rfl) (Nat.le_of_ble_eq_true rfl) dL_law_0 (fun h0 H hP hD hS => ?_)
  have hP : va_P D vwCl [(h0, .inr (0, gpF 20 0 (fun _ => 0) [.int 0]))] H := hP
  have hh0 : s.heap.size ≤ h0 := hD.2 0 _ rfl
  refine W.widen (k := 1) (n := 21) (Nat.le_of_ble_eq_true rfl) (Nat.le_of_ble_eq_true rfl) ?_
  refine lv_dup hx hb dL_law_3 rfl ?_
  have hf0 : ∀ q, (q = h0 ∨ H.size ≤ q) → s.heap.size ≤ q := fun q h => h.elim (fun e => by rw [e]; exact hh0) (fun e => Nat.le_trans hS.1 e)
  refine va_callv (va_runI (As := []) (rest := [.ref h0]) S (m0_init l D h0 H.size) (cwI 0 hts (lw_meth q20) rfl rfl rfl (hts _ q14) (hts _ q18) (hts _ q19) rfl (by decide +kernel) ⟨Nat.le_of_ble_eq_true rfl, Nat.le_of_ble_eq_true rfl⟩) ⟨fun a U g mk q => by obtain ⟨q0, q1, qP, qK⟩ := q; exact ⟨q0, q1, qP, va_K.moved (u := U) (U := U.calling g mk a) (Vm.Alike.refl U.vm) qK⟩, fun U hU hW => ⟨rfl, by rw [hU], by rw [hU]; exact hP, va_K.moved hW.alike hK⟩⟩ rfl rfl hl.1 rfl (lv_room (Nat.le_of_ble_eq_true rfl)) dL_law_4 ⟨Nat.le_of_ble_eq_true rfl, Nat.le_of_ble_eq_true rfl⟩) hS (fun q _ h => hf0 q h) hf0 (fun u t H1 locs ht hvm hw hB hz1 hk1 hS => ?_)
  obtain ⟨d0, ad0⟩ := u
  obtain ⟨hP0, hK0, hap0, hsz0⟩ := hB
  rw [ht] at hP0
  have hK0 : va_K D vwCl (gK 20 d0 ety0) s := va_K.moved hvm.symm hK0
  have hP0 : va_P D vwCl (gw 0 20 len0 d0 h0 ad0 (iM 8 8 0) [.int 0]) H1 := hP0
  have hA0 : ∀ q, gA 20 h0 ad0 q → s.heap.size ≤ q := fun q hq => by
    rcases hq with e | ⟨k, hk, e⟩
    · rw [e]; exact hh0
    · rw [e]; exact hf0 _ (Or.inr (hsz0 k hk))
  have hD0 : va_D (fun q : Nat => s.heap.size ≤ q) (gw 0 20 len0 d0 h0 ad0 (iM 8 8 0) [.int 0]) := gw_D hap0 hA0
  refine W.widen (k := 21) (n := 1545) (Nat.le_of_ble_eq_true rfl) (Nat.le_of_ble_eq_true rfl) ?_
  refine lv_astore_n (lv' := [(1, .ref h0), (0, .ref b)]) hx hb dL_law_7 rfl hl (by decide) rfl (fun ls hl => ?_)
  refine va_new (ci := 1) (fs := gpF 6 0 (fun _ => 0) []) (C := RX1) (T := TX1) (N := 6) hx hb hts in_X1 tyX1 tyX1_ok hown (hts _ q177) (hts _ q178) (hts _ q15) hK0 hP0 hD0 hS hA rfl (fun j hj => by rcases (show j = 0 ∨ j = 1 ∨ j = 2 ∨ j = 3 ∨ j = 4 ∨ j = 5 by omega) with rfl | rfl | rfl | rfl | rfl | rfl <;> rfl) (Nat.le_of_ble_eq_true rfl) (Nat.le_of_ble_eq_true rfl) dL_law_8 (fun h1 H2 hP hD hS => ?_)
  have hP0 := va_P_left hP
  have hP1 : va_P D vwCl [(h1, .inr (1, gpF 6 0 (fun _ => 0) []))] H2 := va_P_last hP
  obtain ⟨hh1, hne⟩ := va_D_last hD
  have hh1 : s.heap.size ≤ h1 := hh1
  refine W.widen (k := 22) (n := 1551) (Nat.le_of_ble_eq_true rfl) (Nat.le_of_ble_eq_true rfl) ?_
  refine lv_dup hx hb dL_law_11 rfl ?_
  have hf1 : ∀ q, (q = h1 ∨ H2.size ≤ q) → s.heap.size ≤ q := fun q h => h.elim (fun e => by rw [e]; exact hh1) (fun e => Nat.le_trans hS.1 e)
  have hlt : ∀ q, gA 20 h0 ad0 q → q < H2.size ∧ q ≠ h1 := fun q hq => by
    obtain ⟨k, x, hkx, ex⟩ := gw_adr (ci := 0) (len := len0) (d := d0) (M := iM 8 8 0) (ex := [.int 0]) hq
    rw [← ex]
    exact ⟨(hP0 k x hkx).lt, hne k x hkx⟩
  refine va_callv (va_runI (As := []) (rest := [.ref h1]) S (m1_init l D h1 H2.size) (cwI 0 hts (lw_meth q181) rfl rfl rfl (hts _ q15) (hts _ q179) (hts _ q180) rfl (by decide +kernel) ⟨Nat.le_of_ble_eq_true rfl, Nat.le_of_ble_eq_true rfl⟩) ⟨fun a U g mk q => by obtain ⟨q0, q1, qP, qK⟩ := q; exact ⟨q0, q1, qP, va_K.moved (u := U) (U := U.calling g mk a) (Vm.Alike.refl U.vm) qK⟩, fun U hU hW => ⟨rfl, by rw [hU], by rw [hU]; exact hP1, va_K.moved hW.alike hK⟩⟩ rfl rfl hl.1 rfl (lv_room (Nat.le_of_ble_eq_true rfl)) dL_law_12 ⟨Nat.le_of_ble_eq_true rfl, Nat.le_of_ble_eq_true rfl⟩) hS (fun q _ h => hf1 q h) hf1 (fun u t H3 locs ht hvm hw hB hz1 hk1 hS => ?_)
  obtain ⟨d1, ad1⟩ := u
  obtain ⟨hP1, hK1, hap1, hsz1⟩ := hB
  rw [ht] at hP1
  have hK1 : va_K D vwCl (gK 6 d1 ety1) s := va_K.moved hvm.symm hK1
  have hP1 : va_P D vwCl (gw 1 6 len1 d1 h1 ad1 (mI 8) []) H3 := hP1
  have hP0 : va_P D vwCl (gw 0 20 len0 d0 h0 ad0 (iM 8 8 0) [.int 0]) H3 := gw_kept hP0 (fun q hq h => hk1 q hq (fun z => z.elim (hlt q h).2 (fun y => absurd (hlt q h).1 (Nat.not_lt.mpr y))))
  have hA1 : ∀ q, gA 6 h1 ad1 q → s.heap.size ≤ q := fun q hq => by
    rcases hq with e | ⟨k, hk, e⟩
    · rw [e]; exact hh1
    · rw [e]; exact hf1 _ (Or.inr (hsz1 k hk))
  have hsep : ∀ q, gA 20 h0 ad0 q → ¬ gA 6 h1 ad1 q := fun q hq hq1 => by
    obtain ⟨z1, z2⟩ := hlt q hq
    rcases hq1 with e | ⟨k, hk, e⟩
    · exact z2 e
    · have z3 : H2.size ≤ ad1 k := hsz1 k hk
      omega
  refine W.widen (k := 28) (n := 1719) (Nat.le_of_ble_eq_true rfl) (Nat.le_of_ble_eq_true rfl) ?_
  refine lv_astore_n (lv' := [(2, .ref h1), (1, .ref h0), (0, .ref b)]) hx hb dL_law_15 rfl hl (by decide) rfl (fun ls hl => ?_)
  refine lv_iconst (v := nI 0) hx hb dL_law_16 (by decide) ?_
  refine lv_istore_n (lv' := [(3, .int (nI 0)), (2, .ref h1), (1, .ref h0), (0, .ref b)]) hx hb dL_law_17 rfl hl (by decide) rfl (fun ls hl => ?_)
  exact law_loop (E0 := (D, d0, h0, ad0)) (E1 := (D, d1, h1, ad1)) ⟨S, ⟨hK0, hK1, hap0, hap1, hsep, hA0, hA1⟩, hX, hbl, hL⟩ hr hlocks (L + 1) 0 H3 locs ls (Nat.zero_le L) (by omega) ⟨iM 8 8 0, mI 8, 0, hP0, hP1, hS, Dur_ini, Core_ini, 0, by omega, nI_0.symm⟩ (lv_sub hl [3, 2, 1, 0] rfl)
end
section
set_option maxHeartbeats 4000000 in
theorem lw_walk (l : Launch) (b : Addr) (xs : List Int32) : MetFree l x (headSpec (Jvm.Cond.code x code maxLocals ret :: tables_1) room_1) (lw_P b xs) (fun _ _ _ _ _ => True) lw_Q := by
  refine MetFree.of_bodyS (code := code) (maxLocals := maxLocals) (ret := ret) (by decide) ?_ ?_
  · intro args s m h hn
    obtain ⟨meth, c, h1, h2, h3, h4, h5, h6, -, -⟩ := Cond.code_spec hn (atoms_spec (ws := Jvm.Cond.code x code maxLocals ret :: tables_1) h _ List.mem_cons_self)
    exact ⟨meth, c, h1, h2, h3, h4, h5, h6⟩
  · intro p e s m args below meth c s₁ B hml0 hP _
    obtain ⟨rfl, hx, hbd, hgv⟩ := hP
    obtain ⟨scr, harrAt, hlist, hof, hsmall⟩ := hx
    obtain ⟨hcb, hkn, -, -⟩ := State.arrayAt?_spec harrAt
    have hown : s.vm.findClass R_law = some m.cls := findClass_of_methodNamed B.named
    have hts0 : ∀ c ∈ (Jvm.Cond.code x code maxLocals ret :: tables_1), c.before #[Value.ref b] s = true := atoms_spec (ws := Jvm.Cond.code x code maxLocals ret :: tables_1) B.pre
    have hts : ∀ w ∈ lw_tbl, w.before #[Value.ref b] s = true := k2_hts_sels lw_privs (fun w hw => hts0 w (List.mem_cons_of_mem _ hw)) lw_privs_ok
    have hml : c.maxLocals = 4 := B.maxLocals_eq (hts0 _ List.mem_cons_self)
    have X₀ : Stand p l e room_1 s m #[Value.ref b] below meth c s₁ [] 0 0 := Stand.of_body B
    have hh0 : s₁.heap = s.heap := by rw [B.state]; rfl
    have hsz : scr.slots.size = xs.length := by rw [← Array.length_toList, hlist, List.length_map]
    have hval : ∀ j : Nat, j < xs.length → scr.slots[j]? = some (.int (xs.getD j 0)) := fun j hj => by
      rw [← Array.getElem?_toList, hlist]
      simp [hj]
    have hbl : b < s.heap.size := (Array.getElem?_eq_some_iff.mp hcb).1
    have hX : va_X b xs.length (fun j => xs.getD j 0) s s.heap := ⟨scr, hcb, hof, hkn, hsz, hval⟩
    have K : W p l e room_1 s m #[Value.ref b] below meth c s₁.heap [] 0 0 (lw_Z below #[Value.ref b] s) (entryFrame m ([Value.ref b] : List Value).toArray 4) := by
      rw [hh0]
      exact whole_start l hbd ⟨B.exec, B.bytes, B.returns, hml, hown, hts, hX, hbl, B.notSynchronized, hgv⟩
    obtain ⟨t, a1, o, b1, b2, b3⟩ := K s₁ rfl X₀
    exact ⟨t, o, a1, b1, b2, b3⟩
theorem lw_pre_spec {args : Array Value} {s : State} (h : (Jvm.Cond.and given_1 narrow_1).before args s = true) (hr : rest_1_c.before args s = true) : ∃ (b : Addr) (xs : List Int32), lw_P b xs args s := by
  have hs := flat_of_before _ h
  have hq := flat_of_before _ hr
  have hc : (Cond.count 1).before args s = true := hs _ (by decide +kernel)
  have harr : (Cond.arrayOf (.arg 0) .int).before args s = true := hs _ (by decide +kernel)
  have hle : (Cond.le (.length (.arg 0)) (.int 320)).before args s = true := hs _ (by decide +kernel)
  have hlen : (Cond.isInt (.length (.arg 0))).before args s = true := hq _ (by decide +kernel)
  have hall : (Cond.all (.arg 0) (.isInt (.elem (.arg 0) (.index 0)))).before args s = true := hq _ (by decide +kernel)
  obtain ⟨b, xs, hb, hx⟩ := State.ints_of_pre rfl harr hlen hall
  have hsm : xs.length < 2 ^ 31 := hx.choose_spec.2.2.2
  have hev : (Term.length (.arg 0)).eval args s none [] s = some (.int xs.length.toInt32) := hx.length_eval hb
  have hv := Cond.le_ints hev (show (Term.int 320).eval args s none [] s = some (.int 320) from rfl)
  have hd : xs.length.toInt32 ≤ 320 := by
    simpa [Cond.before, Cond.holds, hv] using hle
  have hN : xs.length ≤ 320 := (Int32.ofNat_le_ofNat hsm (by decide)).mp (show Int32.ofNat xs.length ≤ Int32.ofNat 320 from hd)
  exact ⟨b, xs, Cond.one_arg hc (show args[0]? = some (.ref b) from hb), hx, hN, h⟩
theorem lw_comes (l : Launch) : Comes l x (Jvm.Cond.code x code maxLocals ret :: tables_1) room_1 (fun tb e args s => Calls_1 tb e args s ∧ rest_1 tb e args s ∧ Pre_1 tb e args s)
    (fun _ _ args s o t => lw_Q args s o t) := by
  intro p e ha hc hk s m args below hf hfit hheap happ hpre
  obtain ⟨b, xs, hP⟩ := lw_pre_spec hpre.2.2 hpre.2.1
  obtain ⟨k, o, h1, h2, h3, hQ⟩ := lw_walk l b xs p e ha hc hk s m args below hf ((Spec.applies_iff_loose hf).mp happ).1 hP trivial
  exact ⟨k, o, h1, h2, h3, hQ⟩
theorem lw_frame {s t : State} {o : Outcome} {args : Array Value} (h : Framed s o t [] 600000 7290000) :
    Framed s o t (fieldLocs frame_1_writes args s ++ arrayLocs frame_1_arrays args s ++ staticLocs frame_1_statics s) 600000 7290000 := h
theorem lw_limb (L : Cond) (hL : ∀ (args : Array Value) (s t : State), L.after args s (.returned (some (.int 1))) t = true) :
    ArmFor flags0 classFile x code maxLocals ret World_1 tables_1 room_1 Calls_1 rest_1 Pre_1
      (fun tb e a s o t => postC L tb e a s o t ∧ Framed s o t (fieldLocs frame_1_writes a s ++ arrayLocs frame_1_arrays a s ++ staticLocs frame_1_statics s) 600000 7290000) := by
  intro l _ _ _ p e ha hc hk s m args below hf hfit hheap happ hpre
  obtain ⟨k, o, h1, h2, h3, rfl, hF⟩ := lw_comes l p e ha hc hk s m args below hf hfit hheap happ hpre
  exact ⟨k, _, h1, h2, h3, hL args s _, lw_frame hF⟩
theorem i_vc : Claimed_1_1 ∧ Claimed_1_2 := ⟨lw_limb limb_1_1 (fun args s t => by simp [limb_1_1, Cond.after, Cond.holds, Cond.value]), lw_limb limb_1_2 (fun args s t => Cond.after_iff.mpr (by
  first | (rw [show limb_1_2 = Cond.eq .result (.int 1) from rfl, Cond.eq_ints (x := 1) (y := 1) rfl rfl]; simp; done) | (simp [limb_1_2, Cond.value, Term.eval]; done)))⟩
end
