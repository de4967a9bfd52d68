section
-- ===== PART A: goes FIRST, ahead of the names: the tables' words, and 'selects' of the private methods out of them =====
/-- a private method of a class that the tables say can be made, by its rows of tables_1 -/
def lw_okq (q : MethodName × Nat) : Prop := (q.1.cls ≠ "java/lang/invoke/MethodHandle" ∧ q.1.cls ≠ "java/lang/invoke/VarHandle") ∧ Cond.instantiable q.1.cls q.2 ∈ tables_1 ∧ Cond.privateMethod q.1 ∈ tables_1 ∧ Cond.instanceMethod q.1 ∈ tables_1
set_option maxRecDepth 100000
theorem lw_t1 {w : Cond} (h : w ∈ tables_1_1) : w ∈ tables_1 := List.mem_append_left _ h
theorem lw_t2 {w : Cond} (h : w ∈ tables_1_2) : w ∈ tables_1 := List.mem_append_right _ h
theorem lw_p0 : lw_okq (⟨"IntegerHull", "prepare", "()V"⟩, 10) := ⟨⟨by decide +kernel, by decide +kernel⟩, lw_t1 (List.mem_of_getElem? (i := 4) rfl), lw_t1 (List.mem_of_getElem? (i := 63) rfl), lw_t1 (List.mem_of_getElem? (i := 64) rfl)⟩
theorem lw_p1 : lw_okq (⟨"IntegerHull", "fillColumn", "(I)V"⟩, 10) := ⟨⟨by decide +kernel, by decide +kernel⟩, lw_t1 (List.mem_of_getElem? (i := 4) rfl), lw_t1 (List.mem_of_getElem? (i := 67) rfl), lw_t1 (List.mem_of_getElem? (i := 68) rfl)⟩
theorem lw_p2 : lw_okq (⟨"IntegerHull", "narrow", "(II)V"⟩, 10) := ⟨⟨by decide +kernel, by decide +kernel⟩, lw_t1 (List.mem_of_getElem? (i := 4) rfl), lw_t1 (List.mem_of_getElem? (i := 71) rfl), lw_t1 (List.mem_of_getElem? (i := 72) rfl)⟩
theorem lw_p3 : lw_okq (⟨"IntegerHull", "some", "(I)Z"⟩, 10) := ⟨⟨by decide +kernel, by decide +kernel⟩, lw_t1 (List.mem_of_getElem? (i := 4) rfl), lw_t1 (List.mem_of_getElem? (i := 78) rfl), lw_t1 (List.mem_of_getElem? (i := 79) rfl)⟩
theorem lw_p4 : lw_okq (⟨"IntegerHull", "addPoint", "(III)V"⟩, 10) := ⟨⟨by decide +kernel, by decide +kernel⟩, lw_t1 (List.mem_of_getElem? (i := 4) rfl), lw_t1 (List.mem_of_getElem? (i := 82) rfl), lw_t1 (List.mem_of_getElem? (i := 83) rfl)⟩
theorem lw_p5 : lw_okq (⟨"IntegerHull", "turn", "(IIII)I"⟩, 10) := ⟨⟨by decide +kernel, by decide +kernel⟩, lw_t1 (List.mem_of_getElem? (i := 4) rfl), lw_t1 (List.mem_of_getElem? (i := 86) rfl), lw_t1 (List.mem_of_getElem? (i := 87) rfl)⟩
theorem lw_p6 : lw_okq (⟨"IntegerHullModel", "refresh", "()V"⟩, 8) := ⟨⟨by decide +kernel, by decide +kernel⟩, lw_t1 (List.mem_of_getElem? (i := 130) rfl), lw_t1 (List.mem_of_getElem? (i := 136) rfl), lw_t1 (List.mem_of_getElem? (i := 137) rfl)⟩
theorem lw_p7 : lw_okq (⟨"IntegerHullModel", "walk", "()V"⟩, 8) := ⟨⟨by decide +kernel, by decide +kernel⟩, lw_t1 (List.mem_of_getElem? (i := 130) rfl), lw_t1 (List.mem_of_getElem? (i := 144) rfl), lw_t1 (List.mem_of_getElem? (i := 145) rfl)⟩
theorem lw_p8 : lw_okq (⟨"IntegerHullModel", "next", "(I)I"⟩, 8) := ⟨⟨by decide +kernel, by decide +kernel⟩, lw_t1 (List.mem_of_getElem? (i := 130) rfl), lw_t1 (List.mem_of_getElem? (i := 148) rfl), lw_t1 (List.mem_of_getElem? (i := 149) rfl)⟩
theorem lw_p9 : lw_okq (⟨"IntegerHullModel", "turn", "(III)I"⟩, 8) := ⟨⟨by decide +kernel, by decide +kernel⟩, lw_t1 (List.mem_of_getElem? (i := 130) rfl), lw_t1 (List.mem_of_getElem? (i := 152) rfl), lw_t1 (List.mem_of_getElem? (i := 153) rfl)⟩
theorem lw_p10 : lw_okq (⟨"IntegerHullModel", "xOf", "(I)I"⟩, 8) := ⟨⟨by decide +kernel, by decide +kernel⟩, lw_t1 (List.mem_of_getElem? (i := 130) rfl), lw_t1 (List.mem_of_getElem? (i := 156) rfl), lw_t1 (List.mem_of_getElem? (i := 157) rfl)⟩
theorem lw_p11 : lw_okq (⟨"IntegerHullModel", "yOf", "(I)I"⟩, 8) := ⟨⟨by decide +kernel, by decide +kernel⟩, lw_t1 (List.mem_of_getElem? (i := 130) rfl), lw_t1 (List.mem_of_getElem? (i := 160) rfl), lw_t1 (List.mem_of_getElem? (i := 161) rfl)⟩
theorem lw_p12 : lw_okq (⟨"IntegerHullModel", "distance", "(II)I"⟩, 8) := ⟨⟨by decide +kernel, by decide +kernel⟩, lw_t1 (List.mem_of_getElem? (i := 130) rfl), lw_t1 (List.mem_of_getElem? (i := 164) rfl), lw_t1 (List.mem_of_getElem? (i := 165) rfl)⟩
theorem lw_p13 : lw_okq (⟨"IntegerHullModel", "onBorder", "(I)Z"⟩, 8) := ⟨⟨by decide +kernel, by decide +kernel⟩, lw_t1 (List.mem_of_getElem? (i := 130) rfl), lw_t1 (List.mem_of_getElem? (i := 226) rfl), lw_t1 (List.mem_of_getElem? (i := 227) rfl)⟩
theorem lw_p14 : lw_okq (⟨"IntegerHullModel", "isFactor", "(I)Z"⟩, 8) := ⟨⟨by decide +kernel, by decide +kernel⟩, lw_t1 (List.mem_of_getElem? (i := 130) rfl), lw_t1 (List.mem_of_getElem? (i := 234) rfl), lw_t1 (List.mem_of_getElem? (i := 235) rfl)⟩
theorem lw_p15 : lw_okq (⟨"IntegerHullModel", "value", "(III)I"⟩, 8) := ⟨⟨by decide +kernel, by decide +kernel⟩, lw_t1 (List.mem_of_getElem? (i := 130) rfl), lw_t1 (List.mem_of_getElem? (i := 238) rfl), lw_t1 (List.mem_of_getElem? (i := 239) rfl)⟩
def lw_privs_1 : List (MethodName × Nat) := [(⟨"IntegerHull", "prepare", "()V"⟩, 10), (⟨"IntegerHull", "fillColumn", "(I)V"⟩, 10), (⟨"IntegerHull", "narrow", "(II)V"⟩, 10), (⟨"IntegerHull", "some", "(I)Z"⟩, 10), (⟨"IntegerHull", "addPoint", "(III)V"⟩, 10), (⟨"IntegerHull", "turn", "(IIII)I"⟩, 10), (⟨"IntegerHullModel", "refresh", "()V"⟩, 8), (⟨"IntegerHullModel", "walk", "()V"⟩, 8), (⟨"IntegerHullModel", "next", "(I)I"⟩, 8), (⟨"IntegerHullModel", "turn", "(III)I"⟩, 8), (⟨"IntegerHullModel", "xOf", "(I)I"⟩, 8), (⟨"IntegerHullModel", "yOf", "(I)I"⟩, 8), (⟨"IntegerHullModel", "distance", "(II)I"⟩, 8), (⟨"IntegerHullModel", "onBorder", "(I)Z"⟩, 8), (⟨"IntegerHullModel", "isFactor", "(I)Z"⟩, 8), (⟨"IntegerHullModel", "value", "(III)I"⟩, 8)]
theorem lw_r1 : ∀ q ∈ lw_privs_1, lw_okq q := List.forall_mem_cons.mpr ⟨lw_p0, List.forall_mem_cons.mpr ⟨lw_p1, List.forall_mem_cons.mpr ⟨lw_p2, List.forall_mem_cons.mpr ⟨lw_p3, List.forall_mem_cons.mpr ⟨lw_p4, List.forall_mem_cons.mpr ⟨lw_p5, List.forall_mem_cons.mpr ⟨lw_p6, List.forall_mem_cons.mpr ⟨lw_p7, List.forall_mem_cons.mpr ⟨lw_p8, List.forall_mem_cons.mpr ⟨lw_p9, List.forall_mem_cons.mpr ⟨lw_p10, List.forall_mem_cons.mpr ⟨lw_p11, List.forall_mem_cons.mpr ⟨lw_p12, List.forall_mem_cons.mpr ⟨lw_p13, List.forall_mem_cons.mpr ⟨lw_p14, List.forall_mem_cons.mpr ⟨lw_p15, fun _ h => absurd h List.not_mem_nil⟩⟩⟩⟩⟩⟩⟩⟩⟩⟩⟩⟩⟩⟩⟩⟩
def lw_privs : List (MethodName × Nat) := lw_privs_1
def lw_tbl : List Cond := k2_sels lw_privs ++ tables_1
theorem lw_privs_ok : ∀ q ∈ lw_privs, lw_okq q := lw_r1
-- ===== ONE list of words for every method: the tables' words that hold all through a run =====
def lw_all : List Cond := lw_tbl.filter goodWord
/-- a word of the tables by its place: claim/WORDS.tsv -/
theorem lw_w {w : Cond} (i : Nat) (h : lw_tbl[i]? = some w) (g : goodWord w = true) : w ∈ lw_all := List.mem_filter.mpr ⟨List.mem_of_getElem? h, g⟩
theorem lw_all_tbl {w : Cond} (h : w ∈ lw_all) : w ∈ lw_tbl := (List.mem_filter.mp h).1
theorem lw_self : GoodIn lw_all lw_all := fun w h => ⟨h, good_of_word (List.mem_filter.mp h).2⟩
/-- a class's field words, by their places -/
theorem lw_in (ws : List Cond) (ps : List Nat) (hp : ws = ps.filterMap (fun i => lw_tbl[i]?)) (hg : ws.all goodWord = true) : ∀ w ∈ ws, w ∈ lw_all := by
  intro w h
  have h1 := List.all_eq_true.mp hg w h
  rw [hp] at h
  obtain ⟨i, -, hi⟩ := List.mem_filterMap.mp h
  exact lw_w i hi h1
/-- the words of a contract for the method y with code b, L locals, answer r -/
abbrev ws_ (y : MethodName) (b : ByteArray) (L : Nat) (r : Option FieldType) : List Cond := Cond.code y b L r :: lw_all
theorem lw_meth {y : MethodName} {b : ByteArray} {L : Nat} {r : Option FieldType} (h : Cond.code y b L r ∈ lw_all) : GoodIn lw_all (ws_ y b L r) := by
  intro w hw
  rcases List.mem_cons.mp hw with e | e
  · rw [e]
    exact lw_self _ h
  · exact lw_self _ e
theorem lw_app {a c : List Cond} (ha : ∀ w ∈ a, w ∈ lw_all) (hc : GoodIn lw_all c) : GoodIn lw_all (a ++ c) := by
  intro w hw
  rcases List.mem_append.mp hw with e | e
  · exact lw_self w (ha w e)
  · exact hc w e
/-- what a call through an object asks: cwV n hts (lw_V ..) -/
theorem lw_V {own : String} {idx : Nat} {C : String} {y : MethodName} {b : ByteArray} {L : Nat} {r : Option FieldType} (h1 : Cond.methodLink own idx y ∈ lw_all) (h2 : Cond.instanceMethod y ∈ lw_all) (h3 : Cond.selects C y y ∈ lw_all) (h4 : Cond.initialized C ∈ lw_all) (h5 : Cond.code y b L r ∈ lw_all) : GoodIn lw_all (wsV own idx C y (ws_ y b L r)) := by
  refine lw_app ?_ (lw_meth h5)
  intro w hw
  simp only [List.mem_cons, List.not_mem_nil, or_false] at hw
  rcases hw with e | e | e | e
  · rw [e]; exact h1
  · rw [e]; exact h2
  · rw [e]; exact h3
  · rw [e]; exact h4
/-- what a static call asks: va_cwS n hts (lw_S ..) -/
theorem lw_S {own : String} {idx : Nat} {y : MethodName} {b : ByteArray} {L : Nat} {r : Option FieldType} (h1 : Cond.methodLink own idx y ∈ lw_all) (h2 : Cond.static y ∈ lw_all) (h3 : Cond.initialized y.cls ∈ lw_all) (h4 : Cond.code y b L r ∈ lw_all) : GoodIn lw_all (va_wsS own idx y (ws_ y b L r)) := by
  refine lw_app ?_ (lw_meth h4)
  intro w hw
  simp only [List.mem_cons, List.not_mem_nil, or_false] at hw
  rcases hw with e | e | e
  · rw [e]; exact h1
  · rw [e]; exact h2
  · rw [e]; exact h3
/-- the words of a contract for a method WITH HANDLERS (hh: its table) -/
abbrev wsW_ (y : MethodName) (b : ByteArray) (L : Nat) (r : Option FieldType) (hh : List (Nat × Nat × Nat × Nat)) : List Cond := Cond.codeWith y b L r hh :: lw_all
theorem lw_methW {y : MethodName} {b : ByteArray} {L : Nat} {r : Option FieldType} {hh : List (Nat × Nat × Nat × Nat)} (h : Cond.codeWith y b L r hh ∈ lw_all) : GoodIn lw_all (wsW_ y b L r hh) := by
  intro w hw
  rcases List.mem_cons.mp hw with e | e
  · rw [e]
    exact lw_self _ h
  · exact lw_self _ e
/-- any list of words by their places (lw_in), good -/
theorem lw_good {ws : List Cond} (h : ∀ w ∈ ws, w ∈ lw_all) : GoodIn lw_all ws := fun w hw => lw_self w (h w hw)
/-- what a call of a method with handlers asks: vx_cwVW n hts (lw_VW ..), vx_cwSW n hts (lw_SW ..) -/
theorem lw_VW {own : String} {idx : Nat} {C : String} {y : MethodName} {b : ByteArray} {L : Nat} {r : Option FieldType} {hh : List (Nat × Nat × Nat × Nat)} (h1 : Cond.methodLink own idx y ∈ lw_all) (h2 : Cond.instanceMethod y ∈ lw_all) (h3 : Cond.selects C y y ∈ lw_all) (h4 : Cond.initialized C ∈ lw_all) (h5 : Cond.codeWith y b L r hh ∈ lw_all) : GoodIn lw_all (wsV own idx C y (wsW_ y b L r hh)) := by
  refine lw_app ?_ (lw_methW h5)
  intro w hw
  simp only [List.mem_cons, List.not_mem_nil, or_false] at hw
  rcases hw with e | e | e | e
  · rw [e]; exact h1
  · rw [e]; exact h2
  · rw [e]; exact h3
  · rw [e]; exact h4
theorem lw_SW {own : String} {idx : Nat} {y : MethodName} {b : ByteArray} {L : Nat} {r : Option FieldType} {hh : List (Nat × Nat × Nat × Nat)} (h1 : Cond.methodLink own idx y ∈ lw_all) (h2 : Cond.static y ∈ lw_all) (h3 : Cond.initialized y.cls ∈ lw_all) (h4 : Cond.codeWith y b L r hh ∈ lw_all) : GoodIn lw_all (va_wsS own idx y (wsW_ y b L r hh)) := by
  refine lw_app ?_ (lw_methW h4)
  intro w hw
  simp only [List.mem_cons, List.not_mem_nil, or_false] at hw
  rcases hw with e | e | e
  · rw [e]; exact h1
  · rw [e]; exact h2
  · rw [e]; exact h3
/-- a word by its place in its run of the tables -/
theorem lw_at {r : List Cond} (hr : ∀ w ∈ r, w ∈ lw_tbl) {w : Cond} (i : Nat) (h : r[i]? = some w) : w ∈ lw_tbl := hr w (List.mem_of_getElem? h)
theorem lw_g {w : Cond} (h : w ∈ lw_tbl) (g : goodWord w = true) : w ∈ lw_all := List.mem_filter.mpr ⟨h, g⟩
theorem lw_ms : ∀ w ∈ k2_sels lw_privs, w ∈ lw_tbl := fun w h => show w ∈ k2_sels lw_privs ++ tables_1 from List.mem_append_left _ h
theorem lw_m1 : ∀ w ∈ tables_1_1, w ∈ lw_tbl := fun w h => show w ∈ k2_sels lw_privs ++ tables_1 from List.mem_append_right (k2_sels lw_privs) (show w ∈ tables_1 from List.mem_append_left _ h)
theorem lw_m2 : ∀ w ∈ tables_1_2, w ∈ lw_tbl := fun w h => show w ∈ k2_sels lw_privs ++ tables_1 from List.mem_append_right (k2_sels lw_privs) (show w ∈ tables_1 from List.mem_append_right _ h)
theorem qs0 : (Cond.selects "IntegerHull" ⟨"IntegerHull", "prepare", "()V"⟩ ⟨"IntegerHull", "prepare", "()V"⟩) ∈ lw_all := lw_g (lw_at lw_ms 0 rfl) rfl
theorem qs1 : (Cond.selects "IntegerHull" ⟨"IntegerHull", "fillColumn", "(I)V"⟩ ⟨"IntegerHull", "fillColumn", "(I)V"⟩) ∈ lw_all := lw_g (lw_at lw_ms 1 rfl) rfl
theorem qs2 : (Cond.selects "IntegerHull" ⟨"IntegerHull", "narrow", "(II)V"⟩ ⟨"IntegerHull", "narrow", "(II)V"⟩) ∈ lw_all := lw_g (lw_at lw_ms 2 rfl) rfl
theorem qs3 : (Cond.selects "IntegerHull" ⟨"IntegerHull", "some", "(I)Z"⟩ ⟨"IntegerHull", "some", "(I)Z"⟩) ∈ lw_all := lw_g (lw_at lw_ms 3 rfl) rfl
theorem qs4 : (Cond.selects "IntegerHull" ⟨"IntegerHull", "addPoint", "(III)V"⟩ ⟨"IntegerHull", "addPoint", "(III)V"⟩) ∈ lw_all := lw_g (lw_at lw_ms 4 rfl) rfl
theorem qs5 : (Cond.selects "IntegerHull" ⟨"IntegerHull", "turn", "(IIII)I"⟩ ⟨"IntegerHull", "turn", "(IIII)I"⟩) ∈ lw_all := lw_g (lw_at lw_ms 5 rfl) rfl
theorem qs6 : (Cond.selects "IntegerHullModel" ⟨"IntegerHullModel", "refresh", "()V"⟩ ⟨"IntegerHullModel", "refresh", "()V"⟩) ∈ lw_all := lw_g (lw_at lw_ms 6 rfl) rfl
theorem qs7 : (Cond.selects "IntegerHullModel" ⟨"IntegerHullModel", "walk", "()V"⟩ ⟨"IntegerHullModel", "walk", "()V"⟩) ∈ lw_all := lw_g (lw_at lw_ms 7 rfl) rfl
theorem qs8 : (Cond.selects "IntegerHullModel" ⟨"IntegerHullModel", "next", "(I)I"⟩ ⟨"IntegerHullModel", "next", "(I)I"⟩) ∈ lw_all := lw_g (lw_at lw_ms 8 rfl) rfl
theorem qs9 : (Cond.selects "IntegerHullModel" ⟨"IntegerHullModel", "turn", "(III)I"⟩ ⟨"IntegerHullModel", "turn", "(III)I"⟩) ∈ lw_all := lw_g (lw_at lw_ms 9 rfl) rfl
theorem qs10 : (Cond.selects "IntegerHullModel" ⟨"IntegerHullModel", "xOf", "(I)I"⟩ ⟨"IntegerHullModel", "xOf", "(I)I"⟩) ∈ lw_all := lw_g (lw_at lw_ms 10 rfl) rfl
theorem qs11 : (Cond.selects "IntegerHullModel" ⟨"IntegerHullModel", "yOf", "(I)I"⟩ ⟨"IntegerHullModel", "yOf", "(I)I"⟩) ∈ lw_all := lw_g (lw_at lw_ms 11 rfl) rfl
theorem qs12 : (Cond.selects "IntegerHullModel" ⟨"IntegerHullModel", "distance", "(II)I"⟩ ⟨"IntegerHullModel", "distance", "(II)I"⟩) ∈ lw_all := lw_g (lw_at lw_ms 12 rfl) rfl
theorem qs13 : (Cond.selects "IntegerHullModel" ⟨"IntegerHullModel", "onBorder", "(I)Z"⟩ ⟨"IntegerHullModel", "onBorder", "(I)Z"⟩) ∈ lw_all := lw_g (lw_at lw_ms 13 rfl) rfl
theorem qs14 : (Cond.selects "IntegerHullModel" ⟨"IntegerHullModel", "isFactor", "(I)Z"⟩ ⟨"IntegerHullModel", "isFactor", "(I)Z"⟩) ∈ lw_all := lw_g (lw_at lw_ms 14 rfl) rfl
theorem qs15 : (Cond.selects "IntegerHullModel" ⟨"IntegerHullModel", "value", "(III)I"⟩ ⟨"IntegerHullModel", "value", "(III)I"⟩) ∈ lw_all := lw_g (lw_at lw_ms 15 rfl) rfl
end
section
set_option maxRecDepth 100000
def RX0 : String := "IntegerHull"
def TX0 : u_T := fun k => match k with
  | 0 => ("IntegerHull", "conditions", "I", false)
  | 1 => ("IntegerHull", "fa", "[I", true)
  | 2 => ("IntegerHull", "fb", "[I", true)
  | 3 => ("IntegerHull", "fc", "[I", true)
  | 4 => ("IntegerHull", "ready", "Z", false)
  | 5 => ("IntegerHull", "low", "[I", true)
  | 6 => ("IntegerHull", "high", "[I", true)
  | 7 => ("IntegerHull", "count", "I", false)
  | 8 => ("IntegerHull", "cx", "[I", true)
  | _ => ("IntegerHull", "cy", "[I", true)
def tyX0 : Nat → FieldType := fun k => match k with
  | 0 => .int
  | 1 => .array .int
  | 2 => .array .int
  | 3 => .array .int
  | 4 => .boolean
  | 5 => .array .int
  | 6 => .array .int
  | 7 => .int
  | 8 => .array .int
  | _ => .array .int
abbrev wsX00 : List Cond := u_ws RX0 TX0 10
theorem nmX0 : ∀ a, a < 10 → ∀ b, b < 10 → a ≠ b → (TX0 a).2.1 ≠ (TX0 b).2.1 := by decide +kernel
theorem tyX0_ok : ∀ k, k < 10 → parseFieldDescriptor (TX0 k).2.2.1 = some (tyX0 k) := by decide +kernel
abbrev cX0_init : ByteArray := prog_1_method_1_code
def yX0_init : MethodName := ⟨RX0, "<init>", "()V"⟩
theorem dX0_init_0 : decode cX0_init 0 = .ok (.aload_n 0, 1) := by decide +kernel
theorem dX0_init_1 : decode cX0_init 1 = .ok (.invokespecial 1, 3) := by decide +kernel
theorem dX0_init_4 : decode cX0_init 4 = .ok (.aload_n 0, 1) := by decide +kernel
theorem dX0_init_5 : decode cX0_init 5 = .ok (.bipush 8, 2) := by decide +kernel
theorem dX0_init_7 : decode cX0_init 7 = .ok (.newarray .int, 2) := by decide +kernel
theorem dX0_init_9 : decode cX0_init 9 = .ok (.putfield 7, 3) := by decide +kernel
theorem dX0_init_12 : decode cX0_init 12 = .ok (.aload_n 0, 1) := by decide +kernel
theorem dX0_init_13 : decode cX0_init 13 = .ok (.bipush 8, 2) := by decide +kernel
theorem dX0_init_15 : decode cX0_init 15 = .ok (.newarray .int, 2) := by decide +kernel
theorem dX0_init_17 : decode cX0_init 17 = .ok (.putfield 13, 3) := by decide +kernel
theorem dX0_init_20 : decode cX0_init 20 = .ok (.aload_n 0, 1) := by decide +kernel
theorem dX0_init_21 : decode cX0_init 21 = .ok (.bipush 8, 2) := by decide +kernel
theorem dX0_init_23 : decode cX0_init 23 = .ok (.newarray .int, 2) := by decide +kernel
theorem dX0_init_25 : decode cX0_init 25 = .ok (.putfield 16, 3) := by decide +kernel
theorem dX0_init_28 : decode cX0_init 28 = .ok (.aload_n 0, 1) := by decide +kernel
theorem dX0_init_29 : decode cX0_init 29 = .ok (.bipush 41, 2) := by decide +kernel
theorem dX0_init_31 : decode cX0_init 31 = .ok (.newarray .int, 2) := by decide +kernel
theorem dX0_init_33 : decode cX0_init 33 = .ok (.putfield 19, 3) := by decide +kernel
theorem dX0_init_36 : decode cX0_init 36 = .ok (.aload_n 0, 1) := by decide +kernel
theorem dX0_init_37 : decode cX0_init 37 = .ok (.bipush 41, 2) := by decide +kernel
theorem dX0_init_39 : decode cX0_init 39 = .ok (.newarray .int, 2) := by decide +kernel
theorem dX0_init_41 : decode cX0_init 41 = .ok (.putfield 22, 3) := by decide +kernel
theorem dX0_init_44 : decode cX0_init 44 = .ok (.aload_n 0, 1) := by decide +kernel
theorem dX0_init_45 : decode cX0_init 45 = .ok (.bipush 84, 2) := by decide +kernel
theorem dX0_init_47 : decode cX0_init 47 = .ok (.newarray .int, 2) := by decide +kernel
theorem dX0_init_49 : decode cX0_init 49 = .ok (.putfield 25, 3) := by decide +kernel
theorem dX0_init_52 : decode cX0_init 52 = .ok (.aload_n 0, 1) := by decide +kernel
theorem dX0_init_53 : decode cX0_init 53 = .ok (.bipush 84, 2) := by decide +kernel
theorem dX0_init_55 : decode cX0_init 55 = .ok (.newarray .int, 2) := by decide +kernel
theorem dX0_init_57 : decode cX0_init 57 = .ok (.putfield 28, 3) := by decide +kernel
theorem dX0_init_60 : decode cX0_init 60 = .ok (.aload_n 0, 1) := by decide +kernel
theorem dX0_init_61 : decode cX0_init 61 = .ok (.iconst 0, 1) := by decide +kernel
theorem dX0_init_62 : decode cX0_init 62 = .ok (.putfield 31, 3) := by decide +kernel
theorem dX0_init_65 : decode cX0_init 65 = .ok (.return_, 1) := by decide +kernel
abbrev cX0_condition : ByteArray := prog_1_method_2_code
def yX0_condition : MethodName := ⟨RX0, "condition", "(III)I"⟩
theorem dX0_condition_0 : decode cX0_condition 0 = .ok (.iload_n 1, 1) := by decide +kernel
theorem dX0_condition_1 : decode cX0_condition 1 = .ok (.bipush (-9), 2) := by decide +kernel
theorem dX0_condition_3 : decode cX0_condition 3 = .ok (.if_icmp .lt 36, 3) := by decide +kernel
theorem dX0_condition_6 : decode cX0_condition 6 = .ok (.iload_n 1, 1) := by decide +kernel
theorem dX0_condition_7 : decode cX0_condition 7 = .ok (.bipush 9, 2) := by decide +kernel
theorem dX0_condition_9 : decode cX0_condition 9 = .ok (.if_icmp .gt 30, 3) := by decide +kernel
theorem dX0_condition_12 : decode cX0_condition 12 = .ok (.iload_n 2, 1) := by decide +kernel
theorem dX0_condition_13 : decode cX0_condition 13 = .ok (.bipush (-9), 2) := by decide +kernel
theorem dX0_condition_15 : decode cX0_condition 15 = .ok (.if_icmp .lt 24, 3) := by decide +kernel
theorem dX0_condition_18 : decode cX0_condition 18 = .ok (.iload_n 2, 1) := by decide +kernel
theorem dX0_condition_19 : decode cX0_condition 19 = .ok (.bipush 9, 2) := by decide +kernel
theorem dX0_condition_21 : decode cX0_condition 21 = .ok (.if_icmp .gt 18, 3) := by decide +kernel
theorem dX0_condition_24 : decode cX0_condition 24 = .ok (.iload_n 1, 1) := by decide +kernel
theorem dX0_condition_25 : decode cX0_condition 25 = .ok (.ifCond .ne 7, 3) := by decide +kernel
theorem dX0_condition_28 : decode cX0_condition 28 = .ok (.iload_n 2, 1) := by decide +kernel
theorem dX0_condition_29 : decode cX0_condition 29 = .ok (.ifCond .eq 10, 3) := by decide +kernel
theorem dX0_condition_32 : decode cX0_condition 32 = .ok (.iload_n 3, 1) := by decide +kernel
theorem dX0_condition_33 : decode cX0_condition 33 = .ok (.invokestatic 35, 3) := by decide +kernel
theorem dX0_condition_36 : decode cX0_condition 36 = .ok (.ifCond .eq 5, 3) := by decide +kernel
theorem dX0_condition_39 : decode cX0_condition 39 = .ok (.iconst (-1), 1) := by decide +kernel
theorem dX0_condition_40 : decode cX0_condition 40 = .ok (.ireturn, 1) := by decide +kernel
theorem dX0_condition_41 : decode cX0_condition 41 = .ok (.aload_n 0, 1) := by decide +kernel
theorem dX0_condition_42 : decode cX0_condition 42 = .ok (.getfield 31, 3) := by decide +kernel
theorem dX0_condition_45 : decode cX0_condition 45 = .ok (.bipush 8, 2) := by decide +kernel
theorem dX0_condition_47 : decode cX0_condition 47 = .ok (.if_icmp .lt 6, 3) := by decide +kernel
theorem dX0_condition_50 : decode cX0_condition 50 = .ok (.bipush (-2), 2) := by decide +kernel
theorem dX0_condition_52 : decode cX0_condition 52 = .ok (.ireturn, 1) := by decide +kernel
theorem dX0_condition_53 : decode cX0_condition 53 = .ok (.aload_n 0, 1) := by decide +kernel
theorem dX0_condition_54 : decode cX0_condition 54 = .ok (.getfield 7, 3) := by decide +kernel
theorem dX0_condition_57 : decode cX0_condition 57 = .ok (.aload_n 0, 1) := by decide +kernel
theorem dX0_condition_58 : decode cX0_condition 58 = .ok (.getfield 31, 3) := by decide +kernel
theorem dX0_condition_61 : decode cX0_condition 61 = .ok (.iload_n 1, 1) := by decide +kernel
theorem dX0_condition_62 : decode cX0_condition 62 = .ok (.iastore, 1) := by decide +kernel
theorem dX0_condition_63 : decode cX0_condition 63 = .ok (.aload_n 0, 1) := by decide +kernel
theorem dX0_condition_64 : decode cX0_condition 64 = .ok (.getfield 13, 3) := by decide +kernel
theorem dX0_condition_67 : decode cX0_condition 67 = .ok (.aload_n 0, 1) := by decide +kernel
theorem dX0_condition_68 : decode cX0_condition 68 = .ok (.getfield 31, 3) := by decide +kernel
theorem dX0_condition_71 : decode cX0_condition 71 = .ok (.iload_n 2, 1) := by decide +kernel
theorem dX0_condition_72 : decode cX0_condition 72 = .ok (.iastore, 1) := by decide +kernel
theorem dX0_condition_73 : decode cX0_condition 73 = .ok (.aload_n 0, 1) := by decide +kernel
theorem dX0_condition_74 : decode cX0_condition 74 = .ok (.getfield 16, 3) := by decide +kernel
theorem dX0_condition_77 : decode cX0_condition 77 = .ok (.aload_n 0, 1) := by decide +kernel
theorem dX0_condition_78 : decode cX0_condition 78 = .ok (.getfield 31, 3) := by decide +kernel
theorem dX0_condition_81 : decode cX0_condition 81 = .ok (.iload_n 3, 1) := by decide +kernel
theorem dX0_condition_82 : decode cX0_condition 82 = .ok (.iastore, 1) := by decide +kernel
theorem dX0_condition_83 : decode cX0_condition 83 = .ok (.aload_n 0, 1) := by decide +kernel
theorem dX0_condition_84 : decode cX0_condition 84 = .ok (.dup, 1) := by decide +kernel
theorem dX0_condition_85 : decode cX0_condition 85 = .ok (.getfield 31, 3) := by decide +kernel
theorem dX0_condition_88 : decode cX0_condition 88 = .ok (.iconst 1, 1) := by decide +kernel
theorem dX0_condition_89 : decode cX0_condition 89 = .ok (.iadd, 1) := by decide +kernel
theorem dX0_condition_90 : decode cX0_condition 90 = .ok (.putfield 31, 3) := by decide +kernel
theorem dX0_condition_93 : decode cX0_condition 93 = .ok (.aload_n 0, 1) := by decide +kernel
theorem dX0_condition_94 : decode cX0_condition 94 = .ok (.iconst 0, 1) := by decide +kernel
theorem dX0_condition_95 : decode cX0_condition 95 = .ok (.putfield 39, 3) := by decide +kernel
theorem dX0_condition_98 : decode cX0_condition 98 = .ok (.aload_n 0, 1) := by decide +kernel
theorem dX0_condition_99 : decode cX0_condition 99 = .ok (.getfield 31, 3) := by decide +kernel
theorem dX0_condition_102 : decode cX0_condition 102 = .ok (.ireturn, 1) := by decide +kernel
abbrev cX0_badBound : ByteArray := prog_1_method_3_code
def yX0_badBound : MethodName := ⟨RX0, "badBound", "(I)Z"⟩
theorem dX0_badBound_0 : decode cX0_badBound 0 = .ok (.iload_n 0, 1) := by decide +kernel
theorem dX0_badBound_1 : decode cX0_badBound 1 = .ok (.sipush (-1000), 3) := by decide +kernel
theorem dX0_badBound_4 : decode cX0_badBound 4 = .ok (.if_icmp .lt 10, 3) := by decide +kernel
theorem dX0_badBound_7 : decode cX0_badBound 7 = .ok (.iload_n 0, 1) := by decide +kernel
theorem dX0_badBound_8 : decode cX0_badBound 8 = .ok (.sipush 1000, 3) := by decide +kernel
theorem dX0_badBound_11 : decode cX0_badBound 11 = .ok (.if_icmp .le 7, 3) := by decide +kernel
theorem dX0_badBound_14 : decode cX0_badBound 14 = .ok (.iconst 1, 1) := by decide +kernel
theorem dX0_badBound_15 : decode cX0_badBound 15 = .ok (.goto 4, 3) := by decide +kernel
theorem dX0_badBound_18 : decode cX0_badBound 18 = .ok (.iconst 0, 1) := by decide +kernel
theorem dX0_badBound_19 : decode cX0_badBound 19 = .ok (.ireturn, 1) := by decide +kernel
abbrev cX0_drop : ByteArray := prog_1_method_4_code
def yX0_drop : MethodName := ⟨RX0, "drop", "()I"⟩
theorem dX0_drop_0 : decode cX0_drop 0 = .ok (.aload_n 0, 1) := by decide +kernel
theorem dX0_drop_1 : decode cX0_drop 1 = .ok (.getfield 31, 3) := by decide +kernel
theorem dX0_drop_4 : decode cX0_drop 4 = .ok (.ifCond .ne 6, 3) := by decide +kernel
theorem dX0_drop_7 : decode cX0_drop 7 = .ok (.bipush (-3), 2) := by decide +kernel
theorem dX0_drop_9 : decode cX0_drop 9 = .ok (.ireturn, 1) := by decide +kernel
theorem dX0_drop_10 : decode cX0_drop 10 = .ok (.aload_n 0, 1) := by decide +kernel
theorem dX0_drop_11 : decode cX0_drop 11 = .ok (.dup, 1) := by decide +kernel
theorem dX0_drop_12 : decode cX0_drop 12 = .ok (.getfield 31, 3) := by decide +kernel
theorem dX0_drop_15 : decode cX0_drop 15 = .ok (.iconst 1, 1) := by decide +kernel
theorem dX0_drop_16 : decode cX0_drop 16 = .ok (.isub, 1) := by decide +kernel
theorem dX0_drop_17 : decode cX0_drop 17 = .ok (.putfield 31, 3) := by decide +kernel
theorem dX0_drop_20 : decode cX0_drop 20 = .ok (.aload_n 0, 1) := by decide +kernel
theorem dX0_drop_21 : decode cX0_drop 21 = .ok (.iconst 0, 1) := by decide +kernel
theorem dX0_drop_22 : decode cX0_drop 22 = .ok (.putfield 39, 3) := by decide +kernel
theorem dX0_drop_25 : decode cX0_drop 25 = .ok (.aload_n 0, 1) := by decide +kernel
theorem dX0_drop_26 : decode cX0_drop 26 = .ok (.getfield 31, 3) := by decide +kernel
theorem dX0_drop_29 : decode cX0_drop 29 = .ok (.ireturn, 1) := by decide +kernel
abbrev cX0_shift : ByteArray := prog_1_method_5_code
def yX0_shift : MethodName := ⟨RX0, "shift", "(II)I"⟩
theorem dX0_shift_0 : decode cX0_shift 0 = .ok (.iload_n 1, 1) := by decide +kernel
theorem dX0_shift_1 : decode cX0_shift 1 = .ok (.ifCond .lt 11, 3) := by decide +kernel
theorem dX0_shift_4 : decode cX0_shift 4 = .ok (.iload_n 1, 1) := by decide +kernel
theorem dX0_shift_5 : decode cX0_shift 5 = .ok (.aload_n 0, 1) := by decide +kernel
theorem dX0_shift_6 : decode cX0_shift 6 = .ok (.getfield 31, 3) := by decide +kernel
theorem dX0_shift_9 : decode cX0_shift 9 = .ok (.if_icmp .lt 6, 3) := by decide +kernel
theorem dX0_shift_12 : decode cX0_shift 12 = .ok (.bipush (-3), 2) := by decide +kernel
theorem dX0_shift_14 : decode cX0_shift 14 = .ok (.ireturn, 1) := by decide +kernel
theorem dX0_shift_15 : decode cX0_shift 15 = .ok (.iload_n 2, 1) := by decide +kernel
theorem dX0_shift_16 : decode cX0_shift 16 = .ok (.invokestatic 35, 3) := by decide +kernel
theorem dX0_shift_19 : decode cX0_shift 19 = .ok (.ifCond .eq 5, 3) := by decide +kernel
theorem dX0_shift_22 : decode cX0_shift 22 = .ok (.iconst (-1), 1) := by decide +kernel
theorem dX0_shift_23 : decode cX0_shift 23 = .ok (.ireturn, 1) := by decide +kernel
theorem dX0_shift_24 : decode cX0_shift 24 = .ok (.aload_n 0, 1) := by decide +kernel
theorem dX0_shift_25 : decode cX0_shift 25 = .ok (.getfield 16, 3) := by decide +kernel
theorem dX0_shift_28 : decode cX0_shift 28 = .ok (.iload_n 1, 1) := by decide +kernel
theorem dX0_shift_29 : decode cX0_shift 29 = .ok (.iaload, 1) := by decide +kernel
theorem dX0_shift_30 : decode cX0_shift 30 = .ok (.istore_n 3, 1) := by decide +kernel
theorem dX0_shift_31 : decode cX0_shift 31 = .ok (.aload_n 0, 1) := by decide +kernel
theorem dX0_shift_32 : decode cX0_shift 32 = .ok (.getfield 16, 3) := by decide +kernel
theorem dX0_shift_35 : decode cX0_shift 35 = .ok (.iload_n 1, 1) := by decide +kernel
theorem dX0_shift_36 : decode cX0_shift 36 = .ok (.iload_n 2, 1) := by decide +kernel
theorem dX0_shift_37 : decode cX0_shift 37 = .ok (.iastore, 1) := by decide +kernel
theorem dX0_shift_38 : decode cX0_shift 38 = .ok (.aload_n 0, 1) := by decide +kernel
theorem dX0_shift_39 : decode cX0_shift 39 = .ok (.iconst 0, 1) := by decide +kernel
theorem dX0_shift_40 : decode cX0_shift 40 = .ok (.putfield 39, 3) := by decide +kernel
theorem dX0_shift_43 : decode cX0_shift 43 = .ok (.iload_n 3, 1) := by decide +kernel
theorem dX0_shift_44 : decode cX0_shift 44 = .ok (.ireturn, 1) := by decide +kernel
abbrev cX0_points : ByteArray := prog_1_method_13_code
def yX0_points : MethodName := ⟨RX0, "points", "()I"⟩
theorem dX0_points_0 : decode cX0_points 0 = .ok (.aload_n 0, 1) := by decide +kernel
theorem dX0_points_1 : decode cX0_points 1 = .ok (.invokevirtual 69, 3) := by decide +kernel
theorem dX0_points_4 : decode cX0_points 4 = .ok (.iconst 0, 1) := by decide +kernel
theorem dX0_points_5 : decode cX0_points 5 = .ok (.istore_n 1, 1) := by decide +kernel
theorem dX0_points_6 : decode cX0_points 6 = .ok (.iconst 0, 1) := by decide +kernel
theorem dX0_points_7 : decode cX0_points 7 = .ok (.istore_n 2, 1) := by decide +kernel
theorem dX0_points_8 : decode cX0_points 8 = .ok (.iload_n 2, 1) := by decide +kernel
theorem dX0_points_9 : decode cX0_points 9 = .ok (.bipush 41, 2) := by decide +kernel
theorem dX0_points_11 : decode cX0_points 11 = .ok (.if_icmp .ge 35, 3) := by decide +kernel
theorem dX0_points_14 : decode cX0_points 14 = .ok (.aload_n 0, 1) := by decide +kernel
theorem dX0_points_15 : decode cX0_points 15 = .ok (.iload_n 2, 1) := by decide +kernel
theorem dX0_points_16 : decode cX0_points 16 = .ok (.invokevirtual 62, 3) := by decide +kernel
theorem dX0_points_19 : decode cX0_points 19 = .ok (.ifCond .eq 21, 3) := by decide +kernel
theorem dX0_points_22 : decode cX0_points 22 = .ok (.iload_n 1, 1) := by decide +kernel
theorem dX0_points_23 : decode cX0_points 23 = .ok (.aload_n 0, 1) := by decide +kernel
theorem dX0_points_24 : decode cX0_points 24 = .ok (.getfield 22, 3) := by decide +kernel
theorem dX0_points_27 : decode cX0_points 27 = .ok (.iload_n 2, 1) := by decide +kernel
theorem dX0_points_28 : decode cX0_points 28 = .ok (.iaload, 1) := by decide +kernel
theorem dX0_points_29 : decode cX0_points 29 = .ok (.aload_n 0, 1) := by decide +kernel
theorem dX0_points_30 : decode cX0_points 30 = .ok (.getfield 19, 3) := by decide +kernel
theorem dX0_points_33 : decode cX0_points 33 = .ok (.iload_n 2, 1) := by decide +kernel
theorem dX0_points_34 : decode cX0_points 34 = .ok (.iaload, 1) := by decide +kernel
theorem dX0_points_35 : decode cX0_points 35 = .ok (.isub, 1) := by decide +kernel
theorem dX0_points_36 : decode cX0_points 36 = .ok (.iconst 1, 1) := by decide +kernel
theorem dX0_points_37 : decode cX0_points 37 = .ok (.iadd, 1) := by decide +kernel
theorem dX0_points_38 : decode cX0_points 38 = .ok (.iadd, 1) := by decide +kernel
theorem dX0_points_39 : decode cX0_points 39 = .ok (.istore_n 1, 1) := by decide +kernel
theorem dX0_points_40 : decode cX0_points 40 = .ok (.iinc 2 1, 3) := by decide +kernel
theorem dX0_points_43 : decode cX0_points 43 = .ok (.goto (-35), 3) := by decide +kernel
theorem dX0_points_46 : decode cX0_points 46 = .ok (.iload_n 1, 1) := by decide +kernel
theorem dX0_points_47 : decode cX0_points 47 = .ok (.ireturn, 1) := by decide +kernel
abbrev cX0_prepare : ByteArray := prog_1_method_12_code
def yX0_prepare : MethodName := ⟨RX0, "prepare", "()V"⟩
theorem dX0_prepare_0 : decode cX0_prepare 0 = .ok (.aload_n 0, 1) := by decide +kernel
theorem dX0_prepare_1 : decode cX0_prepare 1 = .ok (.getfield 39, 3) := by decide +kernel
theorem dX0_prepare_4 : decode cX0_prepare 4 = .ok (.ifCond .eq 4, 3) := by decide +kernel
theorem dX0_prepare_7 : decode cX0_prepare 7 = .ok (.return_, 1) := by decide +kernel
theorem dX0_prepare_8 : decode cX0_prepare 8 = .ok (.aload_n 0, 1) := by decide +kernel
theorem dX0_prepare_9 : decode cX0_prepare 9 = .ok (.iconst 1, 1) := by decide +kernel
theorem dX0_prepare_10 : decode cX0_prepare 10 = .ok (.putfield 39, 3) := by decide +kernel
theorem dX0_prepare_13 : decode cX0_prepare 13 = .ok (.aload_n 0, 1) := by decide +kernel
theorem dX0_prepare_14 : decode cX0_prepare 14 = .ok (.iconst 0, 1) := by decide +kernel
theorem dX0_prepare_15 : decode cX0_prepare 15 = .ok (.putfield 51, 3) := by decide +kernel
theorem dX0_prepare_18 : decode cX0_prepare 18 = .ok (.iconst (-1), 1) := by decide +kernel
theorem dX0_prepare_19 : decode cX0_prepare 19 = .ok (.istore_n 1, 1) := by decide +kernel
theorem dX0_prepare_20 : decode cX0_prepare 20 = .ok (.iconst 0, 1) := by decide +kernel
theorem dX0_prepare_21 : decode cX0_prepare 21 = .ok (.istore_n 2, 1) := by decide +kernel
theorem dX0_prepare_22 : decode cX0_prepare 22 = .ok (.iload_n 2, 1) := by decide +kernel
theorem dX0_prepare_23 : decode cX0_prepare 23 = .ok (.bipush 41, 2) := by decide +kernel
theorem dX0_prepare_25 : decode cX0_prepare 25 = .ok (.if_icmp .ge 36, 3) := by decide +kernel
theorem dX0_prepare_28 : decode cX0_prepare 28 = .ok (.aload_n 0, 1) := by decide +kernel
theorem dX0_prepare_29 : decode cX0_prepare 29 = .ok (.iload_n 2, 1) := by decide +kernel
theorem dX0_prepare_30 : decode cX0_prepare 30 = .ok (.invokevirtual 58, 3) := by decide +kernel
theorem dX0_prepare_33 : decode cX0_prepare 33 = .ok (.aload_n 0, 1) := by decide +kernel
theorem dX0_prepare_34 : decode cX0_prepare 34 = .ok (.iload_n 2, 1) := by decide +kernel
theorem dX0_prepare_35 : decode cX0_prepare 35 = .ok (.invokevirtual 62, 3) := by decide +kernel
theorem dX0_prepare_38 : decode cX0_prepare 38 = .ok (.ifCond .eq 17, 3) := by decide +kernel
theorem dX0_prepare_41 : decode cX0_prepare 41 = .ok (.aload_n 0, 1) := by decide +kernel
theorem dX0_prepare_42 : decode cX0_prepare 42 = .ok (.iconst 0, 1) := by decide +kernel
theorem dX0_prepare_43 : decode cX0_prepare 43 = .ok (.iload_n 2, 1) := by decide +kernel
theorem dX0_prepare_44 : decode cX0_prepare 44 = .ok (.aload_n 0, 1) := by decide +kernel
theorem dX0_prepare_45 : decode cX0_prepare 45 = .ok (.getfield 19, 3) := by decide +kernel
theorem dX0_prepare_48 : decode cX0_prepare 48 = .ok (.iload_n 2, 1) := by decide +kernel
theorem dX0_prepare_49 : decode cX0_prepare 49 = .ok (.iaload, 1) := by decide +kernel
theorem dX0_prepare_50 : decode cX0_prepare 50 = .ok (.invokevirtual 65, 3) := by decide +kernel
theorem dX0_prepare_53 : decode cX0_prepare 53 = .ok (.iload_n 2, 1) := by decide +kernel
theorem dX0_prepare_54 : decode cX0_prepare 54 = .ok (.istore_n 1, 1) := by decide +kernel
theorem dX0_prepare_55 : decode cX0_prepare 55 = .ok (.iinc 2 1, 3) := by decide +kernel
theorem dX0_prepare_58 : decode cX0_prepare 58 = .ok (.goto (-36), 3) := by decide +kernel
theorem dX0_prepare_61 : decode cX0_prepare 61 = .ok (.iload_n 1, 1) := by decide +kernel
theorem dX0_prepare_62 : decode cX0_prepare 62 = .ok (.ifCond .ge 4, 3) := by decide +kernel
theorem dX0_prepare_65 : decode cX0_prepare 65 = .ok (.return_, 1) := by decide +kernel
theorem dX0_prepare_66 : decode cX0_prepare 66 = .ok (.aload_n 0, 1) := by decide +kernel
theorem dX0_prepare_67 : decode cX0_prepare 67 = .ok (.getfield 51, 3) := by decide +kernel
theorem dX0_prepare_70 : decode cX0_prepare 70 = .ok (.iconst 1, 1) := by decide +kernel
theorem dX0_prepare_71 : decode cX0_prepare 71 = .ok (.isub, 1) := by decide +kernel
theorem dX0_prepare_72 : decode cX0_prepare 72 = .ok (.istore_n 2, 1) := by decide +kernel
theorem dX0_prepare_73 : decode cX0_prepare 73 = .ok (.iload_n 1, 1) := by decide +kernel
theorem dX0_prepare_74 : decode cX0_prepare 74 = .ok (.istore_n 3, 1) := by decide +kernel
theorem dX0_prepare_75 : decode cX0_prepare 75 = .ok (.iload_n 3, 1) := by decide +kernel
theorem dX0_prepare_76 : decode cX0_prepare 76 = .ok (.ifCond .lt 49, 3) := by decide +kernel
theorem dX0_prepare_79 : decode cX0_prepare 79 = .ok (.aload_n 0, 1) := by decide +kernel
theorem dX0_prepare_80 : decode cX0_prepare 80 = .ok (.iload_n 3, 1) := by decide +kernel
theorem dX0_prepare_81 : decode cX0_prepare 81 = .ok (.invokevirtual 62, 3) := by decide +kernel
theorem dX0_prepare_84 : decode cX0_prepare 84 = .ok (.ifCond .eq 35, 3) := by decide +kernel
theorem dX0_prepare_87 : decode cX0_prepare 87 = .ok (.iload_n 3, 1) := by decide +kernel
theorem dX0_prepare_88 : decode cX0_prepare 88 = .ok (.iload_n 1, 1) := by decide +kernel
theorem dX0_prepare_89 : decode cX0_prepare 89 = .ok (.if_icmp .ne 18, 3) := by decide +kernel
theorem dX0_prepare_92 : decode cX0_prepare 92 = .ok (.aload_n 0, 1) := by decide +kernel
theorem dX0_prepare_93 : decode cX0_prepare 93 = .ok (.getfield 19, 3) := by decide +kernel
theorem dX0_prepare_96 : decode cX0_prepare 96 = .ok (.iload_n 3, 1) := by decide +kernel
theorem dX0_prepare_97 : decode cX0_prepare 97 = .ok (.iaload, 1) := by decide +kernel
theorem dX0_prepare_98 : decode cX0_prepare 98 = .ok (.aload_n 0, 1) := by decide +kernel
theorem dX0_prepare_99 : decode cX0_prepare 99 = .ok (.getfield 22, 3) := by decide +kernel
theorem dX0_prepare_102 : decode cX0_prepare 102 = .ok (.iload_n 3, 1) := by decide +kernel
theorem dX0_prepare_103 : decode cX0_prepare 103 = .ok (.iaload, 1) := by decide +kernel
theorem dX0_prepare_104 : decode cX0_prepare 104 = .ok (.if_icmp .eq 15, 3) := by decide +kernel
theorem dX0_prepare_107 : decode cX0_prepare 107 = .ok (.aload_n 0, 1) := by decide +kernel
theorem dX0_prepare_108 : decode cX0_prepare 108 = .ok (.iload_n 2, 1) := by decide +kernel
theorem dX0_prepare_109 : decode cX0_prepare 109 = .ok (.iload_n 3, 1) := by decide +kernel
theorem dX0_prepare_110 : decode cX0_prepare 110 = .ok (.aload_n 0, 1) := by decide +kernel
theorem dX0_prepare_111 : decode cX0_prepare 111 = .ok (.getfield 22, 3) := by decide +kernel
theorem dX0_prepare_114 : decode cX0_prepare 114 = .ok (.iload_n 3, 1) := by decide +kernel
theorem dX0_prepare_115 : decode cX0_prepare 115 = .ok (.iaload, 1) := by decide +kernel
theorem dX0_prepare_116 : decode cX0_prepare 116 = .ok (.invokevirtual 65, 3) := by decide +kernel
theorem dX0_prepare_119 : decode cX0_prepare 119 = .ok (.iinc 3 (-1), 3) := by decide +kernel
theorem dX0_prepare_122 : decode cX0_prepare 122 = .ok (.goto (-47), 3) := by decide +kernel
theorem dX0_prepare_125 : decode cX0_prepare 125 = .ok (.aload_n 0, 1) := by decide +kernel
theorem dX0_prepare_126 : decode cX0_prepare 126 = .ok (.getfield 51, 3) := by decide +kernel
theorem dX0_prepare_129 : decode cX0_prepare 129 = .ok (.iconst 1, 1) := by decide +kernel
theorem dX0_prepare_130 : decode cX0_prepare 130 = .ok (.if_icmp .le 53, 3) := by decide +kernel
theorem dX0_prepare_133 : decode cX0_prepare 133 = .ok (.aload_n 0, 1) := by decide +kernel
theorem dX0_prepare_134 : decode cX0_prepare 134 = .ok (.getfield 25, 3) := by decide +kernel
theorem dX0_prepare_137 : decode cX0_prepare 137 = .ok (.aload_n 0, 1) := by decide +kernel
theorem dX0_prepare_138 : decode cX0_prepare 138 = .ok (.getfield 51, 3) := by decide +kernel
theorem dX0_prepare_141 : decode cX0_prepare 141 = .ok (.iconst 1, 1) := by decide +kernel
theorem dX0_prepare_142 : decode cX0_prepare 142 = .ok (.isub, 1) := by decide +kernel
theorem dX0_prepare_143 : decode cX0_prepare 143 = .ok (.iaload, 1) := by decide +kernel
theorem dX0_prepare_144 : decode cX0_prepare 144 = .ok (.aload_n 0, 1) := by decide +kernel
theorem dX0_prepare_145 : decode cX0_prepare 145 = .ok (.getfield 25, 3) := by decide +kernel
theorem dX0_prepare_148 : decode cX0_prepare 148 = .ok (.iconst 0, 1) := by decide +kernel
theorem dX0_prepare_149 : decode cX0_prepare 149 = .ok (.iaload, 1) := by decide +kernel
theorem dX0_prepare_150 : decode cX0_prepare 150 = .ok (.if_icmp .ne 33, 3) := by decide +kernel
theorem dX0_prepare_153 : decode cX0_prepare 153 = .ok (.aload_n 0, 1) := by decide +kernel
theorem dX0_prepare_154 : decode cX0_prepare 154 = .ok (.getfield 28, 3) := by decide +kernel
theorem dX0_prepare_157 : decode cX0_prepare 157 = .ok (.aload_n 0, 1) := by decide +kernel
theorem dX0_prepare_158 : decode cX0_prepare 158 = .ok (.getfield 51, 3) := by decide +kernel
theorem dX0_prepare_161 : decode cX0_prepare 161 = .ok (.iconst 1, 1) := by decide +kernel
theorem dX0_prepare_162 : decode cX0_prepare 162 = .ok (.isub, 1) := by decide +kernel
theorem dX0_prepare_163 : decode cX0_prepare 163 = .ok (.iaload, 1) := by decide +kernel
theorem dX0_prepare_164 : decode cX0_prepare 164 = .ok (.aload_n 0, 1) := by decide +kernel
theorem dX0_prepare_165 : decode cX0_prepare 165 = .ok (.getfield 28, 3) := by decide +kernel
theorem dX0_prepare_168 : decode cX0_prepare 168 = .ok (.iconst 0, 1) := by decide +kernel
theorem dX0_prepare_169 : decode cX0_prepare 169 = .ok (.iaload, 1) := by decide +kernel
theorem dX0_prepare_170 : decode cX0_prepare 170 = .ok (.if_icmp .ne 13, 3) := by decide +kernel
theorem dX0_prepare_173 : decode cX0_prepare 173 = .ok (.aload_n 0, 1) := by decide +kernel
theorem dX0_prepare_174 : decode cX0_prepare 174 = .ok (.dup, 1) := by decide +kernel
theorem dX0_prepare_175 : decode cX0_prepare 175 = .ok (.getfield 51, 3) := by decide +kernel
theorem dX0_prepare_178 : decode cX0_prepare 178 = .ok (.iconst 1, 1) := by decide +kernel
theorem dX0_prepare_179 : decode cX0_prepare 179 = .ok (.isub, 1) := by decide +kernel
theorem dX0_prepare_180 : decode cX0_prepare 180 = .ok (.putfield 51, 3) := by decide +kernel
theorem dX0_prepare_183 : decode cX0_prepare 183 = .ok (.return_, 1) := by decide +kernel
abbrev cX0_fillColumn : ByteArray := prog_1_method_8_code
def yX0_fillColumn : MethodName := ⟨RX0, "fillColumn", "(I)V"⟩
theorem dX0_fillColumn_0 : decode cX0_fillColumn 0 = .ok (.aload_n 0, 1) := by decide +kernel
theorem dX0_fillColumn_1 : decode cX0_fillColumn 1 = .ok (.getfield 19, 3) := by decide +kernel
theorem dX0_fillColumn_4 : decode cX0_fillColumn 4 = .ok (.iload_n 1, 1) := by decide +kernel
theorem dX0_fillColumn_5 : decode cX0_fillColumn 5 = .ok (.iconst 0, 1) := by decide +kernel
theorem dX0_fillColumn_6 : decode cX0_fillColumn 6 = .ok (.iastore, 1) := by decide +kernel
theorem dX0_fillColumn_7 : decode cX0_fillColumn 7 = .ok (.aload_n 0, 1) := by decide +kernel
theorem dX0_fillColumn_8 : decode cX0_fillColumn 8 = .ok (.getfield 22, 3) := by decide +kernel
theorem dX0_fillColumn_11 : decode cX0_fillColumn 11 = .ok (.iload_n 1, 1) := by decide +kernel
theorem dX0_fillColumn_12 : decode cX0_fillColumn 12 = .ok (.bipush 40, 2) := by decide +kernel
theorem dX0_fillColumn_14 : decode cX0_fillColumn 14 = .ok (.iastore, 1) := by decide +kernel
theorem dX0_fillColumn_15 : decode cX0_fillColumn 15 = .ok (.iconst 0, 1) := by decide +kernel
theorem dX0_fillColumn_16 : decode cX0_fillColumn 16 = .ok (.istore_n 2, 1) := by decide +kernel
theorem dX0_fillColumn_17 : decode cX0_fillColumn 17 = .ok (.iload_n 2, 1) := by decide +kernel
theorem dX0_fillColumn_18 : decode cX0_fillColumn 18 = .ok (.aload_n 0, 1) := by decide +kernel
theorem dX0_fillColumn_19 : decode cX0_fillColumn 19 = .ok (.getfield 31, 3) := by decide +kernel
theorem dX0_fillColumn_22 : decode cX0_fillColumn 22 = .ok (.if_icmp .ge 15, 3) := by decide +kernel
theorem dX0_fillColumn_25 : decode cX0_fillColumn 25 = .ok (.aload_n 0, 1) := by decide +kernel
theorem dX0_fillColumn_26 : decode cX0_fillColumn 26 = .ok (.iload_n 1, 1) := by decide +kernel
theorem dX0_fillColumn_27 : decode cX0_fillColumn 27 = .ok (.iload_n 2, 1) := by decide +kernel
theorem dX0_fillColumn_28 : decode cX0_fillColumn 28 = .ok (.invokevirtual 47, 3) := by decide +kernel
theorem dX0_fillColumn_31 : decode cX0_fillColumn 31 = .ok (.iinc 2 1, 3) := by decide +kernel
theorem dX0_fillColumn_34 : decode cX0_fillColumn 34 = .ok (.goto (-17), 3) := by decide +kernel
theorem dX0_fillColumn_37 : decode cX0_fillColumn 37 = .ok (.return_, 1) := by decide +kernel
end
section
set_option maxRecDepth 100000
abbrev cX0_narrow : ByteArray := prog_1_method_7_code
def yX0_narrow : MethodName := ⟨RX0, "narrow", "(II)V"⟩
theorem dX0_narrow_0 : decode cX0_narrow 0 = .ok (.aload_n 0, 1) := by decide +kernel
theorem dX0_narrow_1 : decode cX0_narrow 1 = .ok (.getfield 16, 3) := by decide +kernel
theorem dX0_narrow_4 : decode cX0_narrow 4 = .ok (.iload_n 2, 1) := by decide +kernel
theorem dX0_narrow_5 : decode cX0_narrow 5 = .ok (.iaload, 1) := by decide +kernel
theorem dX0_narrow_6 : decode cX0_narrow 6 = .ok (.aload_n 0, 1) := by decide +kernel
theorem dX0_narrow_7 : decode cX0_narrow 7 = .ok (.getfield 7, 3) := by decide +kernel
theorem dX0_narrow_10 : decode cX0_narrow 10 = .ok (.iload_n 2, 1) := by decide +kernel
theorem dX0_narrow_11 : decode cX0_narrow 11 = .ok (.iaload, 1) := by decide +kernel
theorem dX0_narrow_12 : decode cX0_narrow 12 = .ok (.iload_n 1, 1) := by decide +kernel
theorem dX0_narrow_13 : decode cX0_narrow 13 = .ok (.imul, 1) := by decide +kernel
theorem dX0_narrow_14 : decode cX0_narrow 14 = .ok (.isub, 1) := by decide +kernel
theorem dX0_narrow_15 : decode cX0_narrow 15 = .ok (.istore_n 3, 1) := by decide +kernel
theorem dX0_narrow_16 : decode cX0_narrow 16 = .ok (.aload_n 0, 1) := by decide +kernel
theorem dX0_narrow_17 : decode cX0_narrow 17 = .ok (.getfield 13, 3) := by decide +kernel
theorem dX0_narrow_20 : decode cX0_narrow 20 = .ok (.iload_n 2, 1) := by decide +kernel
theorem dX0_narrow_21 : decode cX0_narrow 21 = .ok (.iaload, 1) := by decide +kernel
theorem dX0_narrow_22 : decode cX0_narrow 22 = .ok (.ifCond .le 37, 3) := by decide +kernel
theorem dX0_narrow_25 : decode cX0_narrow 25 = .ok (.iload_n 3, 1) := by decide +kernel
theorem dX0_narrow_26 : decode cX0_narrow 26 = .ok (.aload_n 0, 1) := by decide +kernel
theorem dX0_narrow_27 : decode cX0_narrow 27 = .ok (.getfield 13, 3) := by decide +kernel
theorem dX0_narrow_30 : decode cX0_narrow 30 = .ok (.iload_n 2, 1) := by decide +kernel
theorem dX0_narrow_31 : decode cX0_narrow 31 = .ok (.iaload, 1) := by decide +kernel
theorem dX0_narrow_32 : decode cX0_narrow 32 = .ok (.invokestatic 43, 3) := by decide +kernel
theorem dX0_narrow_35 : decode cX0_narrow 35 = .ok (.istore 4, 2) := by decide +kernel
theorem dX0_narrow_37 : decode cX0_narrow 37 = .ok (.iload 4, 2) := by decide +kernel
theorem dX0_narrow_39 : decode cX0_narrow 39 = .ok (.aload_n 0, 1) := by decide +kernel
theorem dX0_narrow_40 : decode cX0_narrow 40 = .ok (.getfield 22, 3) := by decide +kernel
theorem dX0_narrow_43 : decode cX0_narrow 43 = .ok (.iload_n 1, 1) := by decide +kernel
theorem dX0_narrow_44 : decode cX0_narrow 44 = .ok (.iaload, 1) := by decide +kernel
theorem dX0_narrow_45 : decode cX0_narrow 45 = .ok (.if_icmp .ge 11, 3) := by decide +kernel
theorem dX0_narrow_48 : decode cX0_narrow 48 = .ok (.aload_n 0, 1) := by decide +kernel
theorem dX0_narrow_49 : decode cX0_narrow 49 = .ok (.getfield 22, 3) := by decide +kernel
theorem dX0_narrow_52 : decode cX0_narrow 52 = .ok (.iload_n 1, 1) := by decide +kernel
theorem dX0_narrow_53 : decode cX0_narrow 53 = .ok (.iload 4, 2) := by decide +kernel
theorem dX0_narrow_55 : decode cX0_narrow 55 = .ok (.iastore, 1) := by decide +kernel
theorem dX0_narrow_56 : decode cX0_narrow 56 = .ok (.goto 59, 3) := by decide +kernel
theorem dX0_narrow_59 : decode cX0_narrow 59 = .ok (.aload_n 0, 1) := by decide +kernel
theorem dX0_narrow_60 : decode cX0_narrow 60 = .ok (.getfield 13, 3) := by decide +kernel
theorem dX0_narrow_63 : decode cX0_narrow 63 = .ok (.iload_n 2, 1) := by decide +kernel
theorem dX0_narrow_64 : decode cX0_narrow 64 = .ok (.iaload, 1) := by decide +kernel
theorem dX0_narrow_65 : decode cX0_narrow 65 = .ok (.ifCond .ge 39, 3) := by decide +kernel
theorem dX0_narrow_68 : decode cX0_narrow 68 = .ok (.iload_n 3, 1) := by decide +kernel
theorem dX0_narrow_69 : decode cX0_narrow 69 = .ok (.aload_n 0, 1) := by decide +kernel
theorem dX0_narrow_70 : decode cX0_narrow 70 = .ok (.getfield 13, 3) := by decide +kernel
theorem dX0_narrow_73 : decode cX0_narrow 73 = .ok (.iload_n 2, 1) := by decide +kernel
theorem dX0_narrow_74 : decode cX0_narrow 74 = .ok (.iaload, 1) := by decide +kernel
theorem dX0_narrow_75 : decode cX0_narrow 75 = .ok (.ineg, 1) := by decide +kernel
theorem dX0_narrow_76 : decode cX0_narrow 76 = .ok (.invokestatic 43, 3) := by decide +kernel
theorem dX0_narrow_79 : decode cX0_narrow 79 = .ok (.ineg, 1) := by decide +kernel
theorem dX0_narrow_80 : decode cX0_narrow 80 = .ok (.istore 4, 2) := by decide +kernel
theorem dX0_narrow_82 : decode cX0_narrow 82 = .ok (.iload 4, 2) := by decide +kernel
theorem dX0_narrow_84 : decode cX0_narrow 84 = .ok (.aload_n 0, 1) := by decide +kernel
theorem dX0_narrow_85 : decode cX0_narrow 85 = .ok (.getfield 19, 3) := by decide +kernel
theorem dX0_narrow_88 : decode cX0_narrow 88 = .ok (.iload_n 1, 1) := by decide +kernel
theorem dX0_narrow_89 : decode cX0_narrow 89 = .ok (.iaload, 1) := by decide +kernel
theorem dX0_narrow_90 : decode cX0_narrow 90 = .ok (.if_icmp .le 11, 3) := by decide +kernel
theorem dX0_narrow_93 : decode cX0_narrow 93 = .ok (.aload_n 0, 1) := by decide +kernel
theorem dX0_narrow_94 : decode cX0_narrow 94 = .ok (.getfield 19, 3) := by decide +kernel
theorem dX0_narrow_97 : decode cX0_narrow 97 = .ok (.iload_n 1, 1) := by decide +kernel
theorem dX0_narrow_98 : decode cX0_narrow 98 = .ok (.iload 4, 2) := by decide +kernel
theorem dX0_narrow_100 : decode cX0_narrow 100 = .ok (.iastore, 1) := by decide +kernel
theorem dX0_narrow_101 : decode cX0_narrow 101 = .ok (.goto 14, 3) := by decide +kernel
theorem dX0_narrow_104 : decode cX0_narrow 104 = .ok (.iload_n 3, 1) := by decide +kernel
theorem dX0_narrow_105 : decode cX0_narrow 105 = .ok (.ifCond .ge 10, 3) := by decide +kernel
theorem dX0_narrow_108 : decode cX0_narrow 108 = .ok (.aload_n 0, 1) := by decide +kernel
theorem dX0_narrow_109 : decode cX0_narrow 109 = .ok (.getfield 22, 3) := by decide +kernel
theorem dX0_narrow_112 : decode cX0_narrow 112 = .ok (.iload_n 1, 1) := by decide +kernel
theorem dX0_narrow_113 : decode cX0_narrow 113 = .ok (.iconst (-1), 1) := by decide +kernel
theorem dX0_narrow_114 : decode cX0_narrow 114 = .ok (.iastore, 1) := by decide +kernel
theorem dX0_narrow_115 : decode cX0_narrow 115 = .ok (.return_, 1) := by decide +kernel
abbrev cX0_floorDiv : ByteArray := prog_1_method_6_code
def yX0_floorDiv : MethodName := ⟨RX0, "floorDiv", "(II)I"⟩
theorem dX0_floorDiv_0 : decode cX0_floorDiv 0 = .ok (.iload_n 1, 1) := by decide +kernel
theorem dX0_floorDiv_1 : decode cX0_floorDiv 1 = .ok (.ifCond .gt 5, 3) := by decide +kernel
theorem dX0_floorDiv_4 : decode cX0_floorDiv 4 = .ok (.iconst 0, 1) := by decide +kernel
theorem dX0_floorDiv_5 : decode cX0_floorDiv 5 = .ok (.ireturn, 1) := by decide +kernel
theorem dX0_floorDiv_6 : decode cX0_floorDiv 6 = .ok (.iload_n 0, 1) := by decide +kernel
theorem dX0_floorDiv_7 : decode cX0_floorDiv 7 = .ok (.iload_n 1, 1) := by decide +kernel
theorem dX0_floorDiv_8 : decode cX0_floorDiv 8 = .ok (.idiv, 1) := by decide +kernel
theorem dX0_floorDiv_9 : decode cX0_floorDiv 9 = .ok (.istore_n 2, 1) := by decide +kernel
theorem dX0_floorDiv_10 : decode cX0_floorDiv 10 = .ok (.iload_n 2, 1) := by decide +kernel
theorem dX0_floorDiv_11 : decode cX0_floorDiv 11 = .ok (.iload_n 1, 1) := by decide +kernel
theorem dX0_floorDiv_12 : decode cX0_floorDiv 12 = .ok (.imul, 1) := by decide +kernel
theorem dX0_floorDiv_13 : decode cX0_floorDiv 13 = .ok (.iload_n 0, 1) := by decide +kernel
theorem dX0_floorDiv_14 : decode cX0_floorDiv 14 = .ok (.if_icmp .le 9, 3) := by decide +kernel
theorem dX0_floorDiv_17 : decode cX0_floorDiv 17 = .ok (.iload_n 2, 1) := by decide +kernel
theorem dX0_floorDiv_18 : decode cX0_floorDiv 18 = .ok (.iconst 1, 1) := by decide +kernel
theorem dX0_floorDiv_19 : decode cX0_floorDiv 19 = .ok (.isub, 1) := by decide +kernel
theorem dX0_floorDiv_20 : decode cX0_floorDiv 20 = .ok (.goto 4, 3) := by decide +kernel
theorem dX0_floorDiv_23 : decode cX0_floorDiv 23 = .ok (.iload_n 2, 1) := by decide +kernel
theorem dX0_floorDiv_24 : decode cX0_floorDiv 24 = .ok (.ireturn, 1) := by decide +kernel
abbrev cX0_some : ByteArray := prog_1_method_9_code
def yX0_some : MethodName := ⟨RX0, "some", "(I)Z"⟩
theorem dX0_some_0 : decode cX0_some 0 = .ok (.aload_n 0, 1) := by decide +kernel
theorem dX0_some_1 : decode cX0_some 1 = .ok (.getfield 19, 3) := by decide +kernel
theorem dX0_some_4 : decode cX0_some 4 = .ok (.iload_n 1, 1) := by decide +kernel
theorem dX0_some_5 : decode cX0_some 5 = .ok (.iaload, 1) := by decide +kernel
theorem dX0_some_6 : decode cX0_some 6 = .ok (.aload_n 0, 1) := by decide +kernel
theorem dX0_some_7 : decode cX0_some 7 = .ok (.getfield 22, 3) := by decide +kernel
theorem dX0_some_10 : decode cX0_some 10 = .ok (.iload_n 1, 1) := by decide +kernel
theorem dX0_some_11 : decode cX0_some 11 = .ok (.iaload, 1) := by decide +kernel
theorem dX0_some_12 : decode cX0_some 12 = .ok (.if_icmp .gt 7, 3) := by decide +kernel
theorem dX0_some_15 : decode cX0_some 15 = .ok (.iconst 1, 1) := by decide +kernel
theorem dX0_some_16 : decode cX0_some 16 = .ok (.goto 4, 3) := by decide +kernel
theorem dX0_some_19 : decode cX0_some 19 = .ok (.iconst 0, 1) := by decide +kernel
theorem dX0_some_20 : decode cX0_some 20 = .ok (.ireturn, 1) := by decide +kernel
abbrev cX0_addPoint : ByteArray := prog_1_method_11_code
def yX0_addPoint : MethodName := ⟨RX0, "addPoint", "(III)V"⟩
theorem dX0_addPoint_0 : decode cX0_addPoint 0 = .ok (.aload_n 0, 1) := by decide +kernel
theorem dX0_addPoint_1 : decode cX0_addPoint 1 = .ok (.getfield 51, 3) := by decide +kernel
theorem dX0_addPoint_4 : decode cX0_addPoint 4 = .ok (.iload_n 1, 1) := by decide +kernel
theorem dX0_addPoint_5 : decode cX0_addPoint 5 = .ok (.isub, 1) := by decide +kernel
theorem dX0_addPoint_6 : decode cX0_addPoint 6 = .ok (.iconst 2, 1) := by decide +kernel
theorem dX0_addPoint_7 : decode cX0_addPoint 7 = .ok (.if_icmp .lt 37, 3) := by decide +kernel
theorem dX0_addPoint_10 : decode cX0_addPoint 10 = .ok (.aload_n 0, 1) := by decide +kernel
theorem dX0_addPoint_11 : decode cX0_addPoint 11 = .ok (.aload_n 0, 1) := by decide +kernel
theorem dX0_addPoint_12 : decode cX0_addPoint 12 = .ok (.getfield 51, 3) := by decide +kernel
theorem dX0_addPoint_15 : decode cX0_addPoint 15 = .ok (.iconst 2, 1) := by decide +kernel
theorem dX0_addPoint_16 : decode cX0_addPoint 16 = .ok (.isub, 1) := by decide +kernel
theorem dX0_addPoint_17 : decode cX0_addPoint 17 = .ok (.aload_n 0, 1) := by decide +kernel
theorem dX0_addPoint_18 : decode cX0_addPoint 18 = .ok (.getfield 51, 3) := by decide +kernel
theorem dX0_addPoint_21 : decode cX0_addPoint 21 = .ok (.iconst 1, 1) := by decide +kernel
theorem dX0_addPoint_22 : decode cX0_addPoint 22 = .ok (.isub, 1) := by decide +kernel
theorem dX0_addPoint_23 : decode cX0_addPoint 23 = .ok (.iload_n 2, 1) := by decide +kernel
theorem dX0_addPoint_24 : decode cX0_addPoint 24 = .ok (.iload_n 3, 1) := by decide +kernel
theorem dX0_addPoint_25 : decode cX0_addPoint 25 = .ok (.invokevirtual 54, 3) := by decide +kernel
theorem dX0_addPoint_28 : decode cX0_addPoint 28 = .ok (.ifCond .gt 16, 3) := by decide +kernel
theorem dX0_addPoint_31 : decode cX0_addPoint 31 = .ok (.aload_n 0, 1) := by decide +kernel
theorem dX0_addPoint_32 : decode cX0_addPoint 32 = .ok (.dup, 1) := by decide +kernel
theorem dX0_addPoint_33 : decode cX0_addPoint 33 = .ok (.getfield 51, 3) := by decide +kernel
theorem dX0_addPoint_36 : decode cX0_addPoint 36 = .ok (.iconst 1, 1) := by decide +kernel
theorem dX0_addPoint_37 : decode cX0_addPoint 37 = .ok (.isub, 1) := by decide +kernel
theorem dX0_addPoint_38 : decode cX0_addPoint 38 = .ok (.putfield 51, 3) := by decide +kernel
theorem dX0_addPoint_41 : decode cX0_addPoint 41 = .ok (.goto (-41), 3) := by decide +kernel
theorem dX0_addPoint_44 : decode cX0_addPoint 44 = .ok (.aload_n 0, 1) := by decide +kernel
theorem dX0_addPoint_45 : decode cX0_addPoint 45 = .ok (.getfield 25, 3) := by decide +kernel
theorem dX0_addPoint_48 : decode cX0_addPoint 48 = .ok (.aload_n 0, 1) := by decide +kernel
theorem dX0_addPoint_49 : decode cX0_addPoint 49 = .ok (.getfield 51, 3) := by decide +kernel
theorem dX0_addPoint_52 : decode cX0_addPoint 52 = .ok (.iload_n 2, 1) := by decide +kernel
theorem dX0_addPoint_53 : decode cX0_addPoint 53 = .ok (.iastore, 1) := by decide +kernel
theorem dX0_addPoint_54 : decode cX0_addPoint 54 = .ok (.aload_n 0, 1) := by decide +kernel
theorem dX0_addPoint_55 : decode cX0_addPoint 55 = .ok (.getfield 28, 3) := by decide +kernel
theorem dX0_addPoint_58 : decode cX0_addPoint 58 = .ok (.aload_n 0, 1) := by decide +kernel
theorem dX0_addPoint_59 : decode cX0_addPoint 59 = .ok (.getfield 51, 3) := by decide +kernel
theorem dX0_addPoint_62 : decode cX0_addPoint 62 = .ok (.iload_n 3, 1) := by decide +kernel
theorem dX0_addPoint_63 : decode cX0_addPoint 63 = .ok (.iastore, 1) := by decide +kernel
theorem dX0_addPoint_64 : decode cX0_addPoint 64 = .ok (.aload_n 0, 1) := by decide +kernel
theorem dX0_addPoint_65 : decode cX0_addPoint 65 = .ok (.dup, 1) := by decide +kernel
theorem dX0_addPoint_66 : decode cX0_addPoint 66 = .ok (.getfield 51, 3) := by decide +kernel
theorem dX0_addPoint_69 : decode cX0_addPoint 69 = .ok (.iconst 1, 1) := by decide +kernel
theorem dX0_addPoint_70 : decode cX0_addPoint 70 = .ok (.iadd, 1) := by decide +kernel
theorem dX0_addPoint_71 : decode cX0_addPoint 71 = .ok (.putfield 51, 3) := by decide +kernel
theorem dX0_addPoint_74 : decode cX0_addPoint 74 = .ok (.return_, 1) := by decide +kernel
abbrev cX0_turn : ByteArray := prog_1_method_10_code
def yX0_turn : MethodName := ⟨RX0, "turn", "(IIII)I"⟩
theorem dX0_turn_0 : decode cX0_turn 0 = .ok (.aload_n 0, 1) := by decide +kernel
theorem dX0_turn_1 : decode cX0_turn 1 = .ok (.getfield 25, 3) := by decide +kernel
theorem dX0_turn_4 : decode cX0_turn 4 = .ok (.iload_n 2, 1) := by decide +kernel
theorem dX0_turn_5 : decode cX0_turn 5 = .ok (.iaload, 1) := by decide +kernel
theorem dX0_turn_6 : decode cX0_turn 6 = .ok (.aload_n 0, 1) := by decide +kernel
theorem dX0_turn_7 : decode cX0_turn 7 = .ok (.getfield 25, 3) := by decide +kernel
theorem dX0_turn_10 : decode cX0_turn 10 = .ok (.iload_n 1, 1) := by decide +kernel
theorem dX0_turn_11 : decode cX0_turn 11 = .ok (.iaload, 1) := by decide +kernel
theorem dX0_turn_12 : decode cX0_turn 12 = .ok (.isub, 1) := by decide +kernel
theorem dX0_turn_13 : decode cX0_turn 13 = .ok (.iload 4, 2) := by decide +kernel
theorem dX0_turn_15 : decode cX0_turn 15 = .ok (.aload_n 0, 1) := by decide +kernel
theorem dX0_turn_16 : decode cX0_turn 16 = .ok (.getfield 28, 3) := by decide +kernel
theorem dX0_turn_19 : decode cX0_turn 19 = .ok (.iload_n 1, 1) := by decide +kernel
theorem dX0_turn_20 : decode cX0_turn 20 = .ok (.iaload, 1) := by decide +kernel
theorem dX0_turn_21 : decode cX0_turn 21 = .ok (.isub, 1) := by decide +kernel
theorem dX0_turn_22 : decode cX0_turn 22 = .ok (.imul, 1) := by decide +kernel
theorem dX0_turn_23 : decode cX0_turn 23 = .ok (.aload_n 0, 1) := by decide +kernel
theorem dX0_turn_24 : decode cX0_turn 24 = .ok (.getfield 28, 3) := by decide +kernel
theorem dX0_turn_27 : decode cX0_turn 27 = .ok (.iload_n 2, 1) := by decide +kernel
theorem dX0_turn_28 : decode cX0_turn 28 = .ok (.iaload, 1) := by decide +kernel
theorem dX0_turn_29 : decode cX0_turn 29 = .ok (.aload_n 0, 1) := by decide +kernel
theorem dX0_turn_30 : decode cX0_turn 30 = .ok (.getfield 28, 3) := by decide +kernel
theorem dX0_turn_33 : decode cX0_turn 33 = .ok (.iload_n 1, 1) := by decide +kernel
theorem dX0_turn_34 : decode cX0_turn 34 = .ok (.iaload, 1) := by decide +kernel
theorem dX0_turn_35 : decode cX0_turn 35 = .ok (.isub, 1) := by decide +kernel
theorem dX0_turn_36 : decode cX0_turn 36 = .ok (.iload_n 3, 1) := by decide +kernel
theorem dX0_turn_37 : decode cX0_turn 37 = .ok (.aload_n 0, 1) := by decide +kernel
theorem dX0_turn_38 : decode cX0_turn 38 = .ok (.getfield 25, 3) := by decide +kernel
theorem dX0_turn_41 : decode cX0_turn 41 = .ok (.iload_n 1, 1) := by decide +kernel
theorem dX0_turn_42 : decode cX0_turn 42 = .ok (.iaload, 1) := by decide +kernel
theorem dX0_turn_43 : decode cX0_turn 43 = .ok (.isub, 1) := by decide +kernel
theorem dX0_turn_44 : decode cX0_turn 44 = .ok (.imul, 1) := by decide +kernel
theorem dX0_turn_45 : decode cX0_turn 45 = .ok (.isub, 1) := by decide +kernel
theorem dX0_turn_46 : decode cX0_turn 46 = .ok (.ireturn, 1) := by decide +kernel
abbrev cX0_has : ByteArray := prog_1_method_14_code
def yX0_has : MethodName := ⟨RX0, "has", "(II)Z"⟩
theorem dX0_has_0 : decode cX0_has 0 = .ok (.iload_n 1, 1) := by decide +kernel
theorem dX0_has_1 : decode cX0_has 1 = .ok (.ifCond .lt 19, 3) := by decide +kernel
theorem dX0_has_4 : decode cX0_has 4 = .ok (.iload_n 1, 1) := by decide +kernel
theorem dX0_has_5 : decode cX0_has 5 = .ok (.bipush 41, 2) := by decide +kernel
theorem dX0_has_7 : decode cX0_has 7 = .ok (.if_icmp .ge 13, 3) := by decide +kernel
theorem dX0_has_10 : decode cX0_has 10 = .ok (.iload_n 2, 1) := by decide +kernel
theorem dX0_has_11 : decode cX0_has 11 = .ok (.ifCond .lt 9, 3) := by decide +kernel
theorem dX0_has_14 : decode cX0_has 14 = .ok (.iload_n 2, 1) := by decide +kernel
theorem dX0_has_15 : decode cX0_has 15 = .ok (.bipush 41, 2) := by decide +kernel
theorem dX0_has_17 : decode cX0_has 17 = .ok (.if_icmp .lt 5, 3) := by decide +kernel
theorem dX0_has_20 : decode cX0_has 20 = .ok (.iconst 0, 1) := by decide +kernel
theorem dX0_has_21 : decode cX0_has 21 = .ok (.ireturn, 1) := by decide +kernel
theorem dX0_has_22 : decode cX0_has 22 = .ok (.aload_n 0, 1) := by decide +kernel
theorem dX0_has_23 : decode cX0_has 23 = .ok (.invokevirtual 69, 3) := by decide +kernel
theorem dX0_has_26 : decode cX0_has 26 = .ok (.aload_n 0, 1) := by decide +kernel
theorem dX0_has_27 : decode cX0_has 27 = .ok (.getfield 19, 3) := by decide +kernel
theorem dX0_has_30 : decode cX0_has 30 = .ok (.iload_n 1, 1) := by decide +kernel
theorem dX0_has_31 : decode cX0_has 31 = .ok (.iaload, 1) := by decide +kernel
theorem dX0_has_32 : decode cX0_has 32 = .ok (.iload_n 2, 1) := by decide +kernel
theorem dX0_has_33 : decode cX0_has 33 = .ok (.if_icmp .gt 17, 3) := by decide +kernel
theorem dX0_has_36 : decode cX0_has 36 = .ok (.iload_n 2, 1) := by decide +kernel
theorem dX0_has_37 : decode cX0_has 37 = .ok (.aload_n 0, 1) := by decide +kernel
theorem dX0_has_38 : decode cX0_has 38 = .ok (.getfield 22, 3) := by decide +kernel
theorem dX0_has_41 : decode cX0_has 41 = .ok (.iload_n 1, 1) := by decide +kernel
theorem dX0_has_42 : decode cX0_has 42 = .ok (.iaload, 1) := by decide +kernel
theorem dX0_has_43 : decode cX0_has 43 = .ok (.if_icmp .gt 7, 3) := by decide +kernel
theorem dX0_has_46 : decode cX0_has 46 = .ok (.iconst 1, 1) := by decide +kernel
theorem dX0_has_47 : decode cX0_has 47 = .ok (.goto 4, 3) := by decide +kernel
theorem dX0_has_50 : decode cX0_has 50 = .ok (.iconst 0, 1) := by decide +kernel
theorem dX0_has_51 : decode cX0_has 51 = .ok (.ireturn, 1) := by decide +kernel
abbrev cX0_corners : ByteArray := prog_1_method_15_code
def yX0_corners : MethodName := ⟨RX0, "corners", "()I"⟩
theorem dX0_corners_0 : decode cX0_corners 0 = .ok (.aload_n 0, 1) := by decide +kernel
theorem dX0_corners_1 : decode cX0_corners 1 = .ok (.invokevirtual 69, 3) := by decide +kernel
theorem dX0_corners_4 : decode cX0_corners 4 = .ok (.aload_n 0, 1) := by decide +kernel
theorem dX0_corners_5 : decode cX0_corners 5 = .ok (.getfield 51, 3) := by decide +kernel
theorem dX0_corners_8 : decode cX0_corners 8 = .ok (.ireturn, 1) := by decide +kernel
abbrev cX0_corner : ByteArray := prog_1_method_16_code
def yX0_corner : MethodName := ⟨RX0, "corner", "(I)I"⟩
theorem dX0_corner_0 : decode cX0_corner 0 = .ok (.aload_n 0, 1) := by decide +kernel
theorem dX0_corner_1 : decode cX0_corner 1 = .ok (.invokevirtual 69, 3) := by decide +kernel
theorem dX0_corner_4 : decode cX0_corner 4 = .ok (.iload_n 1, 1) := by decide +kernel
theorem dX0_corner_5 : decode cX0_corner 5 = .ok (.ifCond .lt 11, 3) := by decide +kernel
theorem dX0_corner_8 : decode cX0_corner 8 = .ok (.iload_n 1, 1) := by decide +kernel
theorem dX0_corner_9 : decode cX0_corner 9 = .ok (.aload_n 0, 1) := by decide +kernel
theorem dX0_corner_10 : decode cX0_corner 10 = .ok (.getfield 51, 3) := by decide +kernel
theorem dX0_corner_13 : decode cX0_corner 13 = .ok (.if_icmp .lt 6, 3) := by decide +kernel
theorem dX0_corner_16 : decode cX0_corner 16 = .ok (.bipush (-3), 2) := by decide +kernel
theorem dX0_corner_18 : decode cX0_corner 18 = .ok (.ireturn, 1) := by decide +kernel
theorem dX0_corner_19 : decode cX0_corner 19 = .ok (.aload_n 0, 1) := by decide +kernel
theorem dX0_corner_20 : decode cX0_corner 20 = .ok (.getfield 25, 3) := by decide +kernel
theorem dX0_corner_23 : decode cX0_corner 23 = .ok (.iload_n 1, 1) := by decide +kernel
theorem dX0_corner_24 : decode cX0_corner 24 = .ok (.iaload, 1) := by decide +kernel
theorem dX0_corner_25 : decode cX0_corner 25 = .ok (.bipush 64, 2) := by decide +kernel
theorem dX0_corner_27 : decode cX0_corner 27 = .ok (.aload_n 0, 1) := by decide +kernel
theorem dX0_corner_28 : decode cX0_corner 28 = .ok (.getfield 28, 3) := by decide +kernel
theorem dX0_corner_31 : decode cX0_corner 31 = .ok (.iload_n 1, 1) := by decide +kernel
theorem dX0_corner_32 : decode cX0_corner 32 = .ok (.iaload, 1) := by decide +kernel
theorem dX0_corner_33 : decode cX0_corner 33 = .ok (.imul, 1) := by decide +kernel
theorem dX0_corner_34 : decode cX0_corner 34 = .ok (.iadd, 1) := by decide +kernel
theorem dX0_corner_35 : decode cX0_corner 35 = .ok (.ireturn, 1) := by decide +kernel
abbrev cX0_area2 : ByteArray := prog_1_method_17_code
def yX0_area2 : MethodName := ⟨RX0, "area2", "()I"⟩
theorem dX0_area2_0 : decode cX0_area2 0 = .ok (.aload_n 0, 1) := by decide +kernel
theorem dX0_area2_1 : decode cX0_area2 1 = .ok (.invokevirtual 69, 3) := by decide +kernel
theorem dX0_area2_4 : decode cX0_area2 4 = .ok (.iconst 0, 1) := by decide +kernel
theorem dX0_area2_5 : decode cX0_area2 5 = .ok (.istore_n 1, 1) := by decide +kernel
theorem dX0_area2_6 : decode cX0_area2 6 = .ok (.iconst 0, 1) := by decide +kernel
theorem dX0_area2_7 : decode cX0_area2 7 = .ok (.istore_n 2, 1) := by decide +kernel
theorem dX0_area2_8 : decode cX0_area2 8 = .ok (.iload_n 2, 1) := by decide +kernel
theorem dX0_area2_9 : decode cX0_area2 9 = .ok (.aload_n 0, 1) := by decide +kernel
theorem dX0_area2_10 : decode cX0_area2 10 = .ok (.getfield 51, 3) := by decide +kernel
theorem dX0_area2_13 : decode cX0_area2 13 = .ok (.if_icmp .ge 57, 3) := by decide +kernel
theorem dX0_area2_16 : decode cX0_area2 16 = .ok (.iload_n 2, 1) := by decide +kernel
theorem dX0_area2_17 : decode cX0_area2 17 = .ok (.iconst 1, 1) := by decide +kernel
theorem dX0_area2_18 : decode cX0_area2 18 = .ok (.iadd, 1) := by decide +kernel
theorem dX0_area2_19 : decode cX0_area2 19 = .ok (.aload_n 0, 1) := by decide +kernel
theorem dX0_area2_20 : decode cX0_area2 20 = .ok (.getfield 51, 3) := by decide +kernel
theorem dX0_area2_23 : decode cX0_area2 23 = .ok (.if_icmp .ge 9, 3) := by decide +kernel
theorem dX0_area2_26 : decode cX0_area2 26 = .ok (.iload_n 2, 1) := by decide +kernel
theorem dX0_area2_27 : decode cX0_area2 27 = .ok (.iconst 1, 1) := by decide +kernel
theorem dX0_area2_28 : decode cX0_area2 28 = .ok (.iadd, 1) := by decide +kernel
theorem dX0_area2_29 : decode cX0_area2 29 = .ok (.goto 4, 3) := by decide +kernel
theorem dX0_area2_32 : decode cX0_area2 32 = .ok (.iconst 0, 1) := by decide +kernel
theorem dX0_area2_33 : decode cX0_area2 33 = .ok (.istore_n 3, 1) := by decide +kernel
theorem dX0_area2_34 : decode cX0_area2 34 = .ok (.iload_n 1, 1) := by decide +kernel
theorem dX0_area2_35 : decode cX0_area2 35 = .ok (.aload_n 0, 1) := by decide +kernel
theorem dX0_area2_36 : decode cX0_area2 36 = .ok (.getfield 25, 3) := by decide +kernel
theorem dX0_area2_39 : decode cX0_area2 39 = .ok (.iload_n 2, 1) := by decide +kernel
theorem dX0_area2_40 : decode cX0_area2 40 = .ok (.iaload, 1) := by decide +kernel
theorem dX0_area2_41 : decode cX0_area2 41 = .ok (.aload_n 0, 1) := by decide +kernel
theorem dX0_area2_42 : decode cX0_area2 42 = .ok (.getfield 28, 3) := by decide +kernel
theorem dX0_area2_45 : decode cX0_area2 45 = .ok (.iload_n 3, 1) := by decide +kernel
theorem dX0_area2_46 : decode cX0_area2 46 = .ok (.iaload, 1) := by decide +kernel
theorem dX0_area2_47 : decode cX0_area2 47 = .ok (.imul, 1) := by decide +kernel
theorem dX0_area2_48 : decode cX0_area2 48 = .ok (.aload_n 0, 1) := by decide +kernel
theorem dX0_area2_49 : decode cX0_area2 49 = .ok (.getfield 25, 3) := by decide +kernel
theorem dX0_area2_52 : decode cX0_area2 52 = .ok (.iload_n 3, 1) := by decide +kernel
theorem dX0_area2_53 : decode cX0_area2 53 = .ok (.iaload, 1) := by decide +kernel
theorem dX0_area2_54 : decode cX0_area2 54 = .ok (.aload_n 0, 1) := by decide +kernel
theorem dX0_area2_55 : decode cX0_area2 55 = .ok (.getfield 28, 3) := by decide +kernel
theorem dX0_area2_58 : decode cX0_area2 58 = .ok (.iload_n 2, 1) := by decide +kernel
theorem dX0_area2_59 : decode cX0_area2 59 = .ok (.iaload, 1) := by decide +kernel
theorem dX0_area2_60 : decode cX0_area2 60 = .ok (.imul, 1) := by decide +kernel
theorem dX0_area2_61 : decode cX0_area2 61 = .ok (.isub, 1) := by decide +kernel
theorem dX0_area2_62 : decode cX0_area2 62 = .ok (.iadd, 1) := by decide +kernel
theorem dX0_area2_63 : decode cX0_area2 63 = .ok (.istore_n 1, 1) := by decide +kernel
theorem dX0_area2_64 : decode cX0_area2 64 = .ok (.iinc 2 1, 3) := by decide +kernel
theorem dX0_area2_67 : decode cX0_area2 67 = .ok (.goto (-59), 3) := by decide +kernel
theorem dX0_area2_70 : decode cX0_area2 70 = .ok (.iload_n 1, 1) := by decide +kernel
theorem dX0_area2_71 : decode cX0_area2 71 = .ok (.ireturn, 1) := by decide +kernel
abbrev cX0_border : ByteArray := prog_1_method_19_code
def yX0_border : MethodName := ⟨RX0, "border", "()I"⟩
theorem dX0_border_0 : decode cX0_border 0 = .ok (.aload_n 0, 1) := by decide +kernel
theorem dX0_border_1 : decode cX0_border 1 = .ok (.invokevirtual 69, 3) := by decide +kernel
theorem dX0_border_4 : decode cX0_border 4 = .ok (.aload_n 0, 1) := by decide +kernel
theorem dX0_border_5 : decode cX0_border 5 = .ok (.getfield 51, 3) := by decide +kernel
theorem dX0_border_8 : decode cX0_border 8 = .ok (.iconst 3, 1) := by decide +kernel
theorem dX0_border_9 : decode cX0_border 9 = .ok (.if_icmp .ge 8, 3) := by decide +kernel
theorem dX0_border_12 : decode cX0_border 12 = .ok (.aload_n 0, 1) := by decide +kernel
theorem dX0_border_13 : decode cX0_border 13 = .ok (.invokevirtual 72, 3) := by decide +kernel
theorem dX0_border_16 : decode cX0_border 16 = .ok (.ireturn, 1) := by decide +kernel
theorem dX0_border_17 : decode cX0_border 17 = .ok (.iconst 0, 1) := by decide +kernel
theorem dX0_border_18 : decode cX0_border 18 = .ok (.istore_n 1, 1) := by decide +kernel
theorem dX0_border_19 : decode cX0_border 19 = .ok (.iconst 0, 1) := by decide +kernel
theorem dX0_border_20 : decode cX0_border 20 = .ok (.istore_n 2, 1) := by decide +kernel
theorem dX0_border_21 : decode cX0_border 21 = .ok (.iload_n 2, 1) := by decide +kernel
theorem dX0_border_22 : decode cX0_border 22 = .ok (.aload_n 0, 1) := by decide +kernel
theorem dX0_border_23 : decode cX0_border 23 = .ok (.getfield 51, 3) := by decide +kernel
theorem dX0_border_26 : decode cX0_border 26 = .ok (.if_icmp .ge 59, 3) := by decide +kernel
theorem dX0_border_29 : decode cX0_border 29 = .ok (.iload_n 2, 1) := by decide +kernel
theorem dX0_border_30 : decode cX0_border 30 = .ok (.iconst 1, 1) := by decide +kernel
theorem dX0_border_31 : decode cX0_border 31 = .ok (.iadd, 1) := by decide +kernel
theorem dX0_border_32 : decode cX0_border 32 = .ok (.aload_n 0, 1) := by decide +kernel
theorem dX0_border_33 : decode cX0_border 33 = .ok (.getfield 51, 3) := by decide +kernel
theorem dX0_border_36 : decode cX0_border 36 = .ok (.if_icmp .ge 9, 3) := by decide +kernel
theorem dX0_border_39 : decode cX0_border 39 = .ok (.iload_n 2, 1) := by decide +kernel
theorem dX0_border_40 : decode cX0_border 40 = .ok (.iconst 1, 1) := by decide +kernel
theorem dX0_border_41 : decode cX0_border 41 = .ok (.iadd, 1) := by decide +kernel
theorem dX0_border_42 : decode cX0_border 42 = .ok (.goto 4, 3) := by decide +kernel
theorem dX0_border_45 : decode cX0_border 45 = .ok (.iconst 0, 1) := by decide +kernel
theorem dX0_border_46 : decode cX0_border 46 = .ok (.istore_n 3, 1) := by decide +kernel
theorem dX0_border_47 : decode cX0_border 47 = .ok (.iload_n 1, 1) := by decide +kernel
theorem dX0_border_48 : decode cX0_border 48 = .ok (.aload_n 0, 1) := by decide +kernel
theorem dX0_border_49 : decode cX0_border 49 = .ok (.getfield 25, 3) := by decide +kernel
theorem dX0_border_52 : decode cX0_border 52 = .ok (.iload_n 3, 1) := by decide +kernel
theorem dX0_border_53 : decode cX0_border 53 = .ok (.iaload, 1) := by decide +kernel
theorem dX0_border_54 : decode cX0_border 54 = .ok (.aload_n 0, 1) := by decide +kernel
theorem dX0_border_55 : decode cX0_border 55 = .ok (.getfield 25, 3) := by decide +kernel
theorem dX0_border_58 : decode cX0_border 58 = .ok (.iload_n 2, 1) := by decide +kernel
theorem dX0_border_59 : decode cX0_border 59 = .ok (.iaload, 1) := by decide +kernel
theorem dX0_border_60 : decode cX0_border 60 = .ok (.isub, 1) := by decide +kernel
theorem dX0_border_61 : decode cX0_border 61 = .ok (.aload_n 0, 1) := by decide +kernel
theorem dX0_border_62 : decode cX0_border 62 = .ok (.getfield 28, 3) := by decide +kernel
theorem dX0_border_65 : decode cX0_border 65 = .ok (.iload_n 3, 1) := by decide +kernel
theorem dX0_border_66 : decode cX0_border 66 = .ok (.iaload, 1) := by decide +kernel
theorem dX0_border_67 : decode cX0_border 67 = .ok (.aload_n 0, 1) := by decide +kernel
theorem dX0_border_68 : decode cX0_border 68 = .ok (.getfield 28, 3) := by decide +kernel
theorem dX0_border_71 : decode cX0_border 71 = .ok (.iload_n 2, 1) := by decide +kernel
theorem dX0_border_72 : decode cX0_border 72 = .ok (.iaload, 1) := by decide +kernel
theorem dX0_border_73 : decode cX0_border 73 = .ok (.isub, 1) := by decide +kernel
theorem dX0_border_74 : decode cX0_border 74 = .ok (.invokestatic 76, 3) := by decide +kernel
theorem dX0_border_77 : decode cX0_border 77 = .ok (.iadd, 1) := by decide +kernel
theorem dX0_border_78 : decode cX0_border 78 = .ok (.istore_n 1, 1) := by decide +kernel
theorem dX0_border_79 : decode cX0_border 79 = .ok (.iinc 2 1, 3) := by decide +kernel
theorem dX0_border_82 : decode cX0_border 82 = .ok (.goto (-61), 3) := by decide +kernel
theorem dX0_border_85 : decode cX0_border 85 = .ok (.iload_n 1, 1) := by decide +kernel
theorem dX0_border_86 : decode cX0_border 86 = .ok (.ireturn, 1) := by decide +kernel
end
section
set_option maxRecDepth 100000
abbrev cX0_gcd : ByteArray := prog_1_method_18_code
def yX0_gcd : MethodName := ⟨RX0, "gcd", "(II)I"⟩
theorem dX0_gcd_0 : decode cX0_gcd 0 = .ok (.iload_n 0, 1) := by decide +kernel
theorem dX0_gcd_1 : decode cX0_gcd 1 = .ok (.ifCond .ge 8, 3) := by decide +kernel
theorem dX0_gcd_4 : decode cX0_gcd 4 = .ok (.iload_n 0, 1) := by decide +kernel
theorem dX0_gcd_5 : decode cX0_gcd 5 = .ok (.ineg, 1) := by decide +kernel
theorem dX0_gcd_6 : decode cX0_gcd 6 = .ok (.goto 4, 3) := by decide +kernel
theorem dX0_gcd_9 : decode cX0_gcd 9 = .ok (.iload_n 0, 1) := by decide +kernel
theorem dX0_gcd_10 : decode cX0_gcd 10 = .ok (.istore_n 2, 1) := by decide +kernel
theorem dX0_gcd_11 : decode cX0_gcd 11 = .ok (.iload_n 1, 1) := by decide +kernel
theorem dX0_gcd_12 : decode cX0_gcd 12 = .ok (.ifCond .ge 8, 3) := by decide +kernel
theorem dX0_gcd_15 : decode cX0_gcd 15 = .ok (.iload_n 1, 1) := by decide +kernel
theorem dX0_gcd_16 : decode cX0_gcd 16 = .ok (.ineg, 1) := by decide +kernel
theorem dX0_gcd_17 : decode cX0_gcd 17 = .ok (.goto 4, 3) := by decide +kernel
theorem dX0_gcd_20 : decode cX0_gcd 20 = .ok (.iload_n 1, 1) := by decide +kernel
theorem dX0_gcd_21 : decode cX0_gcd 21 = .ok (.istore_n 3, 1) := by decide +kernel
theorem dX0_gcd_22 : decode cX0_gcd 22 = .ok (.iconst 0, 1) := by decide +kernel
theorem dX0_gcd_23 : decode cX0_gcd 23 = .ok (.istore 4, 2) := by decide +kernel
theorem dX0_gcd_25 : decode cX0_gcd 25 = .ok (.iload 4, 2) := by decide +kernel
theorem dX0_gcd_27 : decode cX0_gcd 27 = .ok (.bipush 20, 2) := by decide +kernel
theorem dX0_gcd_29 : decode cX0_gcd 29 = .ok (.if_icmp .ge 23, 3) := by decide +kernel
theorem dX0_gcd_32 : decode cX0_gcd 32 = .ok (.iload_n 3, 1) := by decide +kernel
theorem dX0_gcd_33 : decode cX0_gcd 33 = .ok (.ifCond .le 19, 3) := by decide +kernel
theorem dX0_gcd_36 : decode cX0_gcd 36 = .ok (.iload_n 2, 1) := by decide +kernel
theorem dX0_gcd_37 : decode cX0_gcd 37 = .ok (.iload_n 3, 1) := by decide +kernel
theorem dX0_gcd_38 : decode cX0_gcd 38 = .ok (.irem, 1) := by decide +kernel
theorem dX0_gcd_39 : decode cX0_gcd 39 = .ok (.istore 5, 2) := by decide +kernel
theorem dX0_gcd_41 : decode cX0_gcd 41 = .ok (.iload_n 3, 1) := by decide +kernel
theorem dX0_gcd_42 : decode cX0_gcd 42 = .ok (.istore_n 2, 1) := by decide +kernel
theorem dX0_gcd_43 : decode cX0_gcd 43 = .ok (.iload 5, 2) := by decide +kernel
theorem dX0_gcd_45 : decode cX0_gcd 45 = .ok (.istore_n 3, 1) := by decide +kernel
theorem dX0_gcd_46 : decode cX0_gcd 46 = .ok (.iinc 4 1, 3) := by decide +kernel
theorem dX0_gcd_49 : decode cX0_gcd 49 = .ok (.goto (-24), 3) := by decide +kernel
theorem dX0_gcd_52 : decode cX0_gcd 52 = .ok (.iload_n 2, 1) := by decide +kernel
theorem dX0_gcd_53 : decode cX0_gcd 53 = .ok (.ireturn, 1) := by decide +kernel
abbrev cX0_best : ByteArray := prog_1_method_21_code
def yX0_best : MethodName := ⟨RX0, "best", "(II)I"⟩
theorem dX0_best_0 : decode cX0_best 0 = .ok (.aload_n 0, 1) := by decide +kernel
theorem dX0_best_1 : decode cX0_best 1 = .ok (.iload_n 1, 1) := by decide +kernel
theorem dX0_best_2 : decode cX0_best 2 = .ok (.iload_n 2, 1) := by decide +kernel
theorem dX0_best_3 : decode cX0_best 3 = .ok (.invokevirtual 79, 3) := by decide +kernel
theorem dX0_best_6 : decode cX0_best 6 = .ok (.istore_n 3, 1) := by decide +kernel
theorem dX0_best_7 : decode cX0_best 7 = .ok (.iload_n 3, 1) := by decide +kernel
theorem dX0_best_8 : decode cX0_best 8 = .ok (.ifCond .ge 7, 3) := by decide +kernel
theorem dX0_best_11 : decode cX0_best 11 = .ok (.iload_n 3, 1) := by decide +kernel
theorem dX0_best_12 : decode cX0_best 12 = .ok (.goto 20, 3) := by decide +kernel
theorem dX0_best_15 : decode cX0_best 15 = .ok (.iload_n 1, 1) := by decide +kernel
theorem dX0_best_16 : decode cX0_best 16 = .ok (.aload_n 0, 1) := by decide +kernel
theorem dX0_best_17 : decode cX0_best 17 = .ok (.getfield 25, 3) := by decide +kernel
theorem dX0_best_20 : decode cX0_best 20 = .ok (.iload_n 3, 1) := by decide +kernel
theorem dX0_best_21 : decode cX0_best 21 = .ok (.iaload, 1) := by decide +kernel
theorem dX0_best_22 : decode cX0_best 22 = .ok (.imul, 1) := by decide +kernel
theorem dX0_best_23 : decode cX0_best 23 = .ok (.iload_n 2, 1) := by decide +kernel
theorem dX0_best_24 : decode cX0_best 24 = .ok (.aload_n 0, 1) := by decide +kernel
theorem dX0_best_25 : decode cX0_best 25 = .ok (.getfield 28, 3) := by decide +kernel
theorem dX0_best_28 : decode cX0_best 28 = .ok (.iload_n 3, 1) := by decide +kernel
theorem dX0_best_29 : decode cX0_best 29 = .ok (.iaload, 1) := by decide +kernel
theorem dX0_best_30 : decode cX0_best 30 = .ok (.imul, 1) := by decide +kernel
theorem dX0_best_31 : decode cX0_best 31 = .ok (.iadd, 1) := by decide +kernel
theorem dX0_best_32 : decode cX0_best 32 = .ok (.ireturn, 1) := by decide +kernel
abbrev cX0_bestCorner : ByteArray := prog_1_method_22_code
def yX0_bestCorner : MethodName := ⟨RX0, "bestCorner", "(II)I"⟩
theorem dX0_bestCorner_0 : decode cX0_bestCorner 0 = .ok (.iload_n 1, 1) := by decide +kernel
theorem dX0_bestCorner_1 : decode cX0_bestCorner 1 = .ok (.iload_n 2, 1) := by decide +kernel
theorem dX0_bestCorner_2 : decode cX0_bestCorner 2 = .ok (.invokestatic 82, 3) := by decide +kernel
theorem dX0_bestCorner_5 : decode cX0_bestCorner 5 = .ok (.ifCond .eq 5, 3) := by decide +kernel
theorem dX0_bestCorner_8 : decode cX0_bestCorner 8 = .ok (.iconst (-1), 1) := by decide +kernel
theorem dX0_bestCorner_9 : decode cX0_bestCorner 9 = .ok (.ireturn, 1) := by decide +kernel
theorem dX0_bestCorner_10 : decode cX0_bestCorner 10 = .ok (.aload_n 0, 1) := by decide +kernel
theorem dX0_bestCorner_11 : decode cX0_bestCorner 11 = .ok (.invokevirtual 69, 3) := by decide +kernel
theorem dX0_bestCorner_14 : decode cX0_bestCorner 14 = .ok (.aload_n 0, 1) := by decide +kernel
theorem dX0_bestCorner_15 : decode cX0_bestCorner 15 = .ok (.getfield 51, 3) := by decide +kernel
theorem dX0_bestCorner_18 : decode cX0_bestCorner 18 = .ok (.ifCond .ne 6, 3) := by decide +kernel
theorem dX0_bestCorner_21 : decode cX0_bestCorner 21 = .ok (.bipush (-3), 2) := by decide +kernel
theorem dX0_bestCorner_23 : decode cX0_bestCorner 23 = .ok (.ireturn, 1) := by decide +kernel
theorem dX0_bestCorner_24 : decode cX0_bestCorner 24 = .ok (.iconst 0, 1) := by decide +kernel
theorem dX0_bestCorner_25 : decode cX0_bestCorner 25 = .ok (.istore_n 3, 1) := by decide +kernel
theorem dX0_bestCorner_26 : decode cX0_bestCorner 26 = .ok (.iconst 1, 1) := by decide +kernel
theorem dX0_bestCorner_27 : decode cX0_bestCorner 27 = .ok (.istore 4, 2) := by decide +kernel
theorem dX0_bestCorner_29 : decode cX0_bestCorner 29 = .ok (.iload 4, 2) := by decide +kernel
theorem dX0_bestCorner_31 : decode cX0_bestCorner 31 = .ok (.aload_n 0, 1) := by decide +kernel
theorem dX0_bestCorner_32 : decode cX0_bestCorner 32 = .ok (.getfield 51, 3) := by decide +kernel
theorem dX0_bestCorner_35 : decode cX0_bestCorner 35 = .ok (.if_icmp .ge 51, 3) := by decide +kernel
theorem dX0_bestCorner_38 : decode cX0_bestCorner 38 = .ok (.iload_n 1, 1) := by decide +kernel
theorem dX0_bestCorner_39 : decode cX0_bestCorner 39 = .ok (.aload_n 0, 1) := by decide +kernel
theorem dX0_bestCorner_40 : decode cX0_bestCorner 40 = .ok (.getfield 25, 3) := by decide +kernel
theorem dX0_bestCorner_43 : decode cX0_bestCorner 43 = .ok (.iload 4, 2) := by decide +kernel
theorem dX0_bestCorner_45 : decode cX0_bestCorner 45 = .ok (.iaload, 1) := by decide +kernel
theorem dX0_bestCorner_46 : decode cX0_bestCorner 46 = .ok (.imul, 1) := by decide +kernel
theorem dX0_bestCorner_47 : decode cX0_bestCorner 47 = .ok (.iload_n 2, 1) := by decide +kernel
theorem dX0_bestCorner_48 : decode cX0_bestCorner 48 = .ok (.aload_n 0, 1) := by decide +kernel
theorem dX0_bestCorner_49 : decode cX0_bestCorner 49 = .ok (.getfield 28, 3) := by decide +kernel
theorem dX0_bestCorner_52 : decode cX0_bestCorner 52 = .ok (.iload 4, 2) := by decide +kernel
theorem dX0_bestCorner_54 : decode cX0_bestCorner 54 = .ok (.iaload, 1) := by decide +kernel
theorem dX0_bestCorner_55 : decode cX0_bestCorner 55 = .ok (.imul, 1) := by decide +kernel
theorem dX0_bestCorner_56 : decode cX0_bestCorner 56 = .ok (.iadd, 1) := by decide +kernel
theorem dX0_bestCorner_57 : decode cX0_bestCorner 57 = .ok (.iload_n 1, 1) := by decide +kernel
theorem dX0_bestCorner_58 : decode cX0_bestCorner 58 = .ok (.aload_n 0, 1) := by decide +kernel
theorem dX0_bestCorner_59 : decode cX0_bestCorner 59 = .ok (.getfield 25, 3) := by decide +kernel
theorem dX0_bestCorner_62 : decode cX0_bestCorner 62 = .ok (.iload_n 3, 1) := by decide +kernel
theorem dX0_bestCorner_63 : decode cX0_bestCorner 63 = .ok (.iaload, 1) := by decide +kernel
theorem dX0_bestCorner_64 : decode cX0_bestCorner 64 = .ok (.imul, 1) := by decide +kernel
theorem dX0_bestCorner_65 : decode cX0_bestCorner 65 = .ok (.iload_n 2, 1) := by decide +kernel
theorem dX0_bestCorner_66 : decode cX0_bestCorner 66 = .ok (.aload_n 0, 1) := by decide +kernel
theorem dX0_bestCorner_67 : decode cX0_bestCorner 67 = .ok (.getfield 28, 3) := by decide +kernel
theorem dX0_bestCorner_70 : decode cX0_bestCorner 70 = .ok (.iload_n 3, 1) := by decide +kernel
theorem dX0_bestCorner_71 : decode cX0_bestCorner 71 = .ok (.iaload, 1) := by decide +kernel
theorem dX0_bestCorner_72 : decode cX0_bestCorner 72 = .ok (.imul, 1) := by decide +kernel
theorem dX0_bestCorner_73 : decode cX0_bestCorner 73 = .ok (.iadd, 1) := by decide +kernel
theorem dX0_bestCorner_74 : decode cX0_bestCorner 74 = .ok (.if_icmp .le 6, 3) := by decide +kernel
theorem dX0_bestCorner_77 : decode cX0_bestCorner 77 = .ok (.iload 4, 2) := by decide +kernel
theorem dX0_bestCorner_79 : decode cX0_bestCorner 79 = .ok (.istore_n 3, 1) := by decide +kernel
theorem dX0_bestCorner_80 : decode cX0_bestCorner 80 = .ok (.iinc 4 1, 3) := by decide +kernel
theorem dX0_bestCorner_83 : decode cX0_bestCorner 83 = .ok (.goto (-54), 3) := by decide +kernel
theorem dX0_bestCorner_86 : decode cX0_bestCorner 86 = .ok (.iload_n 3, 1) := by decide +kernel
theorem dX0_bestCorner_87 : decode cX0_bestCorner 87 = .ok (.ireturn, 1) := by decide +kernel
abbrev cX0_badDirection : ByteArray := prog_1_method_20_code
def yX0_badDirection : MethodName := ⟨RX0, "badDirection", "(II)Z"⟩
theorem dX0_badDirection_0 : decode cX0_badDirection 0 = .ok (.iload_n 0, 1) := by decide +kernel
theorem dX0_badDirection_1 : decode cX0_badDirection 1 = .ok (.bipush (-100), 2) := by decide +kernel
theorem dX0_badDirection_3 : decode cX0_badDirection 3 = .ok (.if_icmp .lt 21, 3) := by decide +kernel
theorem dX0_badDirection_6 : decode cX0_badDirection 6 = .ok (.iload_n 0, 1) := by decide +kernel
theorem dX0_badDirection_7 : decode cX0_badDirection 7 = .ok (.bipush 100, 2) := by decide +kernel
theorem dX0_badDirection_9 : decode cX0_badDirection 9 = .ok (.if_icmp .gt 15, 3) := by decide +kernel
theorem dX0_badDirection_12 : decode cX0_badDirection 12 = .ok (.iload_n 1, 1) := by decide +kernel
theorem dX0_badDirection_13 : decode cX0_badDirection 13 = .ok (.bipush (-100), 2) := by decide +kernel
theorem dX0_badDirection_15 : decode cX0_badDirection 15 = .ok (.if_icmp .lt 9, 3) := by decide +kernel
theorem dX0_badDirection_18 : decode cX0_badDirection 18 = .ok (.iload_n 1, 1) := by decide +kernel
theorem dX0_badDirection_19 : decode cX0_badDirection 19 = .ok (.bipush 100, 2) := by decide +kernel
theorem dX0_badDirection_21 : decode cX0_badDirection 21 = .ok (.if_icmp .le 7, 3) := by decide +kernel
theorem dX0_badDirection_24 : decode cX0_badDirection 24 = .ok (.iconst 1, 1) := by decide +kernel
theorem dX0_badDirection_25 : decode cX0_badDirection 25 = .ok (.goto 4, 3) := by decide +kernel
theorem dX0_badDirection_28 : decode cX0_badDirection 28 = .ok (.iconst 0, 1) := by decide +kernel
theorem dX0_badDirection_29 : decode cX0_badDirection 29 = .ok (.ireturn, 1) := by decide +kernel
abbrev cX0_column : ByteArray := prog_1_method_23_code
def yX0_column : MethodName := ⟨RX0, "column", "(I)I"⟩
theorem dX0_column_0 : decode cX0_column 0 = .ok (.iload_n 1, 1) := by decide +kernel
theorem dX0_column_1 : decode cX0_column 1 = .ok (.ifCond .lt 9, 3) := by decide +kernel
theorem dX0_column_4 : decode cX0_column 4 = .ok (.iload_n 1, 1) := by decide +kernel
theorem dX0_column_5 : decode cX0_column 5 = .ok (.bipush 41, 2) := by decide +kernel
theorem dX0_column_7 : decode cX0_column 7 = .ok (.if_icmp .lt 5, 3) := by decide +kernel
theorem dX0_column_10 : decode cX0_column 10 = .ok (.iconst 0, 1) := by decide +kernel
theorem dX0_column_11 : decode cX0_column 11 = .ok (.ireturn, 1) := by decide +kernel
theorem dX0_column_12 : decode cX0_column 12 = .ok (.aload_n 0, 1) := by decide +kernel
theorem dX0_column_13 : decode cX0_column 13 = .ok (.invokevirtual 69, 3) := by decide +kernel
theorem dX0_column_16 : decode cX0_column 16 = .ok (.aload_n 0, 1) := by decide +kernel
theorem dX0_column_17 : decode cX0_column 17 = .ok (.iload_n 1, 1) := by decide +kernel
theorem dX0_column_18 : decode cX0_column 18 = .ok (.invokevirtual 62, 3) := by decide +kernel
theorem dX0_column_21 : decode cX0_column 21 = .ok (.ifCond .eq 21, 3) := by decide +kernel
theorem dX0_column_24 : decode cX0_column 24 = .ok (.aload_n 0, 1) := by decide +kernel
theorem dX0_column_25 : decode cX0_column 25 = .ok (.getfield 22, 3) := by decide +kernel
theorem dX0_column_28 : decode cX0_column 28 = .ok (.iload_n 1, 1) := by decide +kernel
theorem dX0_column_29 : decode cX0_column 29 = .ok (.iaload, 1) := by decide +kernel
theorem dX0_column_30 : decode cX0_column 30 = .ok (.aload_n 0, 1) := by decide +kernel
theorem dX0_column_31 : decode cX0_column 31 = .ok (.getfield 19, 3) := by decide +kernel
theorem dX0_column_34 : decode cX0_column 34 = .ok (.iload_n 1, 1) := by decide +kernel
theorem dX0_column_35 : decode cX0_column 35 = .ok (.iaload, 1) := by decide +kernel
theorem dX0_column_36 : decode cX0_column 36 = .ok (.isub, 1) := by decide +kernel
theorem dX0_column_37 : decode cX0_column 37 = .ok (.iconst 1, 1) := by decide +kernel
theorem dX0_column_38 : decode cX0_column 38 = .ok (.iadd, 1) := by decide +kernel
theorem dX0_column_39 : decode cX0_column 39 = .ok (.goto 4, 3) := by decide +kernel
theorem dX0_column_42 : decode cX0_column 42 = .ok (.iconst 0, 1) := by decide +kernel
theorem dX0_column_43 : decode cX0_column 43 = .ok (.ireturn, 1) := by decide +kernel
theorem q17 : (Jvm.Cond.initialized "IntegerHull") ∈ lw_all := lw_g (lw_at lw_m1 1 rfl) rfl
theorem q20 : (Jvm.Cond.instantiable "IntegerHull" (10 : Nat)) ∈ lw_all := lw_g (lw_at lw_m1 4 rfl) rfl
theorem q22 : (Jvm.Cond.instanceMethod ({ cls := "IntegerHull", name := "<init>", desc := "()V" } : Jvm.MethodName)) ∈ lw_all := lw_g (lw_at lw_m1 6 rfl) rfl
theorem q23 : (Jvm.Cond.code ({ cls := "IntegerHull", name := "<init>", desc := "()V" } : Jvm.MethodName) prog_1_method_1_code (1 : Nat) (Option.none : Option Jvm.ClassFile.FieldType)) ∈ lw_all := lw_g (lw_at lw_m1 7 rfl) rfl
theorem q24 : (Jvm.Cond.methodLink "IntegerHull" (1 : Nat) ({ cls := "java/lang/Object", name := "<init>", desc := "()V" } : Jvm.MethodName)) ∈ lw_all := lw_g (lw_at lw_m1 8 rfl) rfl
theorem q27 : (Jvm.Cond.fieldLink "IntegerHull" (31 : Nat) "IntegerHull" "conditions" "I") ∈ lw_all := lw_g (lw_at lw_m1 11 rfl) rfl
theorem q28 : (Jvm.Cond.fieldLink "IntegerHull" (7 : Nat) "IntegerHull" "fa" "[I") ∈ lw_all := lw_g (lw_at lw_m1 12 rfl) rfl
theorem q29 : (Jvm.Cond.fieldLink "IntegerHull" (13 : Nat) "IntegerHull" "fb" "[I") ∈ lw_all := lw_g (lw_at lw_m1 13 rfl) rfl
theorem q30 : (Jvm.Cond.fieldLink "IntegerHull" (16 : Nat) "IntegerHull" "fc" "[I") ∈ lw_all := lw_g (lw_at lw_m1 14 rfl) rfl
theorem q31 : (Jvm.Cond.fieldLink "IntegerHull" (39 : Nat) "IntegerHull" "ready" "Z") ∈ lw_all := lw_g (lw_at lw_m1 15 rfl) rfl
theorem q32 : (Jvm.Cond.fieldLink "IntegerHull" (19 : Nat) "IntegerHull" "low" "[I") ∈ lw_all := lw_g (lw_at lw_m1 16 rfl) rfl
theorem q33 : (Jvm.Cond.fieldLink "IntegerHull" (22 : Nat) "IntegerHull" "high" "[I") ∈ lw_all := lw_g (lw_at lw_m1 17 rfl) rfl
theorem q34 : (Jvm.Cond.fieldLink "IntegerHull" (51 : Nat) "IntegerHull" "count" "I") ∈ lw_all := lw_g (lw_at lw_m1 18 rfl) rfl
theorem q35 : (Jvm.Cond.fieldLink "IntegerHull" (25 : Nat) "IntegerHull" "cx" "[I") ∈ lw_all := lw_g (lw_at lw_m1 19 rfl) rfl
theorem q36 : (Jvm.Cond.fieldLink "IntegerHull" (28 : Nat) "IntegerHull" "cy" "[I") ∈ lw_all := lw_g (lw_at lw_m1 20 rfl) rfl
theorem q37 : (Jvm.Cond.lays "IntegerHull" "IntegerHull" "conditions" "I") ∈ lw_all := lw_g (lw_at lw_m1 21 rfl) rfl
theorem q38 : (Jvm.Cond.soleField "IntegerHull" "conditions") ∈ lw_all := lw_g (lw_at lw_m1 22 rfl) rfl
theorem q39 : (Jvm.Cond.laysFinal "IntegerHull" "IntegerHull" "fa" "[I") ∈ lw_all := lw_g (lw_at lw_m1 23 rfl) rfl
theorem q40 : (Jvm.Cond.soleField "IntegerHull" "fa") ∈ lw_all := lw_g (lw_at lw_m1 24 rfl) rfl
theorem q41 : (Jvm.Cond.laysFinal "IntegerHull" "IntegerHull" "fb" "[I") ∈ lw_all := lw_g (lw_at lw_m1 25 rfl) rfl
theorem q42 : (Jvm.Cond.soleField "IntegerHull" "fb") ∈ lw_all := lw_g (lw_at lw_m1 26 rfl) rfl
theorem q43 : (Jvm.Cond.laysFinal "IntegerHull" "IntegerHull" "fc" "[I") ∈ lw_all := lw_g (lw_at lw_m1 27 rfl) rfl
theorem q44 : (Jvm.Cond.soleField "IntegerHull" "fc") ∈ lw_all := lw_g (lw_at lw_m1 28 rfl) rfl
theorem q45 : (Jvm.Cond.lays "IntegerHull" "IntegerHull" "ready" "Z") ∈ lw_all := lw_g (lw_at lw_m1 29 rfl) rfl
theorem q46 : (Jvm.Cond.soleField "IntegerHull" "ready") ∈ lw_all := lw_g (lw_at lw_m1 30 rfl) rfl
theorem q47 : (Jvm.Cond.laysFinal "IntegerHull" "IntegerHull" "low" "[I") ∈ lw_all := lw_g (lw_at lw_m1 31 rfl) rfl
theorem q48 : (Jvm.Cond.soleField "IntegerHull" "low") ∈ lw_all := lw_g (lw_at lw_m1 32 rfl) rfl
theorem q49 : (Jvm.Cond.laysFinal "IntegerHull" "IntegerHull" "high" "[I") ∈ lw_all := lw_g (lw_at lw_m1 33 rfl) rfl
theorem q50 : (Jvm.Cond.soleField "IntegerHull" "high") ∈ lw_all := lw_g (lw_at lw_m1 34 rfl) rfl
theorem q51 : (Jvm.Cond.lays "IntegerHull" "IntegerHull" "count" "I") ∈ lw_all := lw_g (lw_at lw_m1 35 rfl) rfl
theorem q52 : (Jvm.Cond.soleField "IntegerHull" "count") ∈ lw_all := lw_g (lw_at lw_m1 36 rfl) rfl
theorem q53 : (Jvm.Cond.laysFinal "IntegerHull" "IntegerHull" "cx" "[I") ∈ lw_all := lw_g (lw_at lw_m1 37 rfl) rfl
theorem q54 : (Jvm.Cond.soleField "IntegerHull" "cx") ∈ lw_all := lw_g (lw_at lw_m1 38 rfl) rfl
theorem q55 : (Jvm.Cond.laysFinal "IntegerHull" "IntegerHull" "cy" "[I") ∈ lw_all := lw_g (lw_at lw_m1 39 rfl) rfl
theorem q56 : (Jvm.Cond.soleField "IntegerHull" "cy") ∈ lw_all := lw_g (lw_at lw_m1 40 rfl) rfl
theorem q57 : (Jvm.Cond.superclass "IntegerHull" "java/lang/Object") ∈ lw_all := lw_g (lw_at lw_m1 41 rfl) rfl
theorem q60 : (Jvm.Cond.instanceMethod ({ cls := "IntegerHull", name := "condition", desc := "(III)I" } : Jvm.MethodName)) ∈ lw_all := lw_g (lw_at lw_m1 44 rfl) rfl
theorem q61 : (Jvm.Cond.selects "IntegerHull" ({ cls := "IntegerHull", name := "condition", desc := "(III)I" } : Jvm.MethodName) ({ cls := "IntegerHull", name := "condition", desc := "(III)I" } : Jvm.MethodName)) ∈ lw_all := lw_g (lw_at lw_m1 45 rfl) rfl
theorem q62 : (Jvm.Cond.code ({ cls := "IntegerHull", name := "condition", desc := "(III)I" } : Jvm.MethodName) prog_1_method_2_code (4 : Nat) (Option.some Jvm.ClassFile.FieldType.int)) ∈ lw_all := lw_g (lw_at lw_m1 46 rfl) rfl
theorem q63 : (Jvm.Cond.methodLink "IntegerHull" (35 : Nat) ({ cls := "IntegerHull", name := "badBound", desc := "(I)Z" } : Jvm.MethodName)) ∈ lw_all := lw_g (lw_at lw_m1 47 rfl) rfl
theorem q64 : (Jvm.Cond.static ({ cls := "IntegerHull", name := "badBound", desc := "(I)Z" } : Jvm.MethodName)) ∈ lw_all := lw_g (lw_at lw_m1 48 rfl) rfl
theorem q65 : (Jvm.Cond.code ({ cls := "IntegerHull", name := "badBound", desc := "(I)Z" } : Jvm.MethodName) prog_1_method_3_code (1 : Nat) (Option.some Jvm.ClassFile.FieldType.boolean)) ∈ lw_all := lw_g (lw_at lw_m1 49 rfl) rfl
theorem q67 : (Jvm.Cond.instanceMethod ({ cls := "IntegerHull", name := "drop", desc := "()I" } : Jvm.MethodName)) ∈ lw_all := lw_g (lw_at lw_m1 51 rfl) rfl
theorem q68 : (Jvm.Cond.selects "IntegerHull" ({ cls := "IntegerHull", name := "drop", desc := "()I" } : Jvm.MethodName) ({ cls := "IntegerHull", name := "drop", desc := "()I" } : Jvm.MethodName)) ∈ lw_all := lw_g (lw_at lw_m1 52 rfl) rfl
theorem q69 : (Jvm.Cond.code ({ cls := "IntegerHull", name := "drop", desc := "()I" } : Jvm.MethodName) prog_1_method_4_code (1 : Nat) (Option.some Jvm.ClassFile.FieldType.int)) ∈ lw_all := lw_g (lw_at lw_m1 53 rfl) rfl
theorem q71 : (Jvm.Cond.instanceMethod ({ cls := "IntegerHull", name := "shift", desc := "(II)I" } : Jvm.MethodName)) ∈ lw_all := lw_g (lw_at lw_m1 55 rfl) rfl
theorem q72 : (Jvm.Cond.selects "IntegerHull" ({ cls := "IntegerHull", name := "shift", desc := "(II)I" } : Jvm.MethodName) ({ cls := "IntegerHull", name := "shift", desc := "(II)I" } : Jvm.MethodName)) ∈ lw_all := lw_g (lw_at lw_m1 56 rfl) rfl
theorem q73 : (Jvm.Cond.code ({ cls := "IntegerHull", name := "shift", desc := "(II)I" } : Jvm.MethodName) prog_1_method_5_code (4 : Nat) (Option.some Jvm.ClassFile.FieldType.int)) ∈ lw_all := lw_g (lw_at lw_m1 57 rfl) rfl
theorem q75 : (Jvm.Cond.instanceMethod ({ cls := "IntegerHull", name := "points", desc := "()I" } : Jvm.MethodName)) ∈ lw_all := lw_g (lw_at lw_m1 59 rfl) rfl
theorem q76 : (Jvm.Cond.selects "IntegerHull" ({ cls := "IntegerHull", name := "points", desc := "()I" } : Jvm.MethodName) ({ cls := "IntegerHull", name := "points", desc := "()I" } : Jvm.MethodName)) ∈ lw_all := lw_g (lw_at lw_m1 60 rfl) rfl
theorem q77 : (Jvm.Cond.code ({ cls := "IntegerHull", name := "points", desc := "()I" } : Jvm.MethodName) prog_1_method_13_code (3 : Nat) (Option.some Jvm.ClassFile.FieldType.int)) ∈ lw_all := lw_g (lw_at lw_m1 61 rfl) rfl
theorem q78 : (Jvm.Cond.methodLink "IntegerHull" (69 : Nat) ({ cls := "IntegerHull", name := "prepare", desc := "()V" } : Jvm.MethodName)) ∈ lw_all := lw_g (lw_at lw_m1 62 rfl) rfl
theorem q79 : (Jvm.Cond.privateMethod ({ cls := "IntegerHull", name := "prepare", desc := "()V" } : Jvm.MethodName)) ∈ lw_tbl := lw_at lw_m1 63 rfl
theorem q80 : (Jvm.Cond.instanceMethod ({ cls := "IntegerHull", name := "prepare", desc := "()V" } : Jvm.MethodName)) ∈ lw_all := lw_g (lw_at lw_m1 64 rfl) rfl
theorem q81 : (Jvm.Cond.code ({ cls := "IntegerHull", name := "prepare", desc := "()V" } : Jvm.MethodName) prog_1_method_12_code (4 : Nat) (Option.none : Option Jvm.ClassFile.FieldType)) ∈ lw_all := lw_g (lw_at lw_m1 65 rfl) rfl
theorem q82 : (Jvm.Cond.methodLink "IntegerHull" (58 : Nat) ({ cls := "IntegerHull", name := "fillColumn", desc := "(I)V" } : Jvm.MethodName)) ∈ lw_all := lw_g (lw_at lw_m1 66 rfl) rfl
theorem q83 : (Jvm.Cond.privateMethod ({ cls := "IntegerHull", name := "fillColumn", desc := "(I)V" } : Jvm.MethodName)) ∈ lw_tbl := lw_at lw_m1 67 rfl
theorem q84 : (Jvm.Cond.instanceMethod ({ cls := "IntegerHull", name := "fillColumn", desc := "(I)V" } : Jvm.MethodName)) ∈ lw_all := lw_g (lw_at lw_m1 68 rfl) rfl
theorem q85 : (Jvm.Cond.code ({ cls := "IntegerHull", name := "fillColumn", desc := "(I)V" } : Jvm.MethodName) prog_1_method_8_code (3 : Nat) (Option.none : Option Jvm.ClassFile.FieldType)) ∈ lw_all := lw_g (lw_at lw_m1 69 rfl) rfl
theorem q86 : (Jvm.Cond.methodLink "IntegerHull" (47 : Nat) ({ cls := "IntegerHull", name := "narrow", desc := "(II)V" } : Jvm.MethodName)) ∈ lw_all := lw_g (lw_at lw_m1 70 rfl) rfl
theorem q87 : (Jvm.Cond.privateMethod ({ cls := "IntegerHull", name := "narrow", desc := "(II)V" } : Jvm.MethodName)) ∈ lw_tbl := lw_at lw_m1 71 rfl
theorem q88 : (Jvm.Cond.instanceMethod ({ cls := "IntegerHull", name := "narrow", desc := "(II)V" } : Jvm.MethodName)) ∈ lw_all := lw_g (lw_at lw_m1 72 rfl) rfl
theorem q89 : (Jvm.Cond.code ({ cls := "IntegerHull", name := "narrow", desc := "(II)V" } : Jvm.MethodName) prog_1_method_7_code (5 : Nat) (Option.none : Option Jvm.ClassFile.FieldType)) ∈ lw_all := lw_g (lw_at lw_m1 73 rfl) rfl
theorem q90 : (Jvm.Cond.methodLink "IntegerHull" (43 : Nat) ({ cls := "IntegerHull", name := "floorDiv", desc := "(II)I" } : Jvm.MethodName)) ∈ lw_all := lw_g (lw_at lw_m1 74 rfl) rfl
theorem q91 : (Jvm.Cond.static ({ cls := "IntegerHull", name := "floorDiv", desc := "(II)I" } : Jvm.MethodName)) ∈ lw_all := lw_g (lw_at lw_m1 75 rfl) rfl
theorem q92 : (Jvm.Cond.code ({ cls := "IntegerHull", name := "floorDiv", desc := "(II)I" } : Jvm.MethodName) prog_1_method_6_code (3 : Nat) (Option.some Jvm.ClassFile.FieldType.int)) ∈ lw_all := lw_g (lw_at lw_m1 76 rfl) rfl
theorem q93 : (Jvm.Cond.methodLink "IntegerHull" (62 : Nat) ({ cls := "IntegerHull", name := "some", desc := "(I)Z" } : Jvm.MethodName)) ∈ lw_all := lw_g (lw_at lw_m1 77 rfl) rfl
theorem q94 : (Jvm.Cond.privateMethod ({ cls := "IntegerHull", name := "some", desc := "(I)Z" } : Jvm.MethodName)) ∈ lw_tbl := lw_at lw_m1 78 rfl
theorem q95 : (Jvm.Cond.instanceMethod ({ cls := "IntegerHull", name := "some", desc := "(I)Z" } : Jvm.MethodName)) ∈ lw_all := lw_g (lw_at lw_m1 79 rfl) rfl
theorem q96 : (Jvm.Cond.code ({ cls := "IntegerHull", name := "some", desc := "(I)Z" } : Jvm.MethodName) prog_1_method_9_code (2 : Nat) (Option.some Jvm.ClassFile.FieldType.boolean)) ∈ lw_all := lw_g (lw_at lw_m1 80 rfl) rfl
theorem q97 : (Jvm.Cond.methodLink "IntegerHull" (65 : Nat) ({ cls := "IntegerHull", name := "addPoint", desc := "(III)V" } : Jvm.MethodName)) ∈ lw_all := lw_g (lw_at lw_m1 81 rfl) rfl
theorem q98 : (Jvm.Cond.privateMethod ({ cls := "IntegerHull", name := "addPoint", desc := "(III)V" } : Jvm.MethodName)) ∈ lw_tbl := lw_at lw_m1 82 rfl
theorem q99 : (Jvm.Cond.instanceMethod ({ cls := "IntegerHull", name := "addPoint", desc := "(III)V" } : Jvm.MethodName)) ∈ lw_all := lw_g (lw_at lw_m1 83 rfl) rfl
theorem q100 : (Jvm.Cond.code ({ cls := "IntegerHull", name := "addPoint", desc := "(III)V" } : Jvm.MethodName) prog_1_method_11_code (4 : Nat) (Option.none : Option Jvm.ClassFile.FieldType)) ∈ lw_all := lw_g (lw_at lw_m1 84 rfl) rfl
theorem q101 : (Jvm.Cond.methodLink "IntegerHull" (54 : Nat) ({ cls := "IntegerHull", name := "turn", desc := "(IIII)I" } : Jvm.MethodName)) ∈ lw_all := lw_g (lw_at lw_m1 85 rfl) rfl
theorem q102 : (Jvm.Cond.privateMethod ({ cls := "IntegerHull", name := "turn", desc := "(IIII)I" } : Jvm.MethodName)) ∈ lw_tbl := lw_at lw_m1 86 rfl
theorem q103 : (Jvm.Cond.instanceMethod ({ cls := "IntegerHull", name := "turn", desc := "(IIII)I" } : Jvm.MethodName)) ∈ lw_all := lw_g (lw_at lw_m1 87 rfl) rfl
theorem q104 : (Jvm.Cond.code ({ cls := "IntegerHull", name := "turn", desc := "(IIII)I" } : Jvm.MethodName) prog_1_method_10_code (5 : Nat) (Option.some Jvm.ClassFile.FieldType.int)) ∈ lw_all := lw_g (lw_at lw_m1 88 rfl) rfl
theorem q106 : (Jvm.Cond.instanceMethod ({ cls := "IntegerHull", name := "has", desc := "(II)Z" } : Jvm.MethodName)) ∈ lw_all := lw_g (lw_at lw_m1 90 rfl) rfl
theorem q107 : (Jvm.Cond.selects "IntegerHull" ({ cls := "IntegerHull", name := "has", desc := "(II)Z" } : Jvm.MethodName) ({ cls := "IntegerHull", name := "has", desc := "(II)Z" } : Jvm.MethodName)) ∈ lw_all := lw_g (lw_at lw_m1 91 rfl) rfl
theorem q108 : (Jvm.Cond.code ({ cls := "IntegerHull", name := "has", desc := "(II)Z" } : Jvm.MethodName) prog_1_method_14_code (3 : Nat) (Option.some Jvm.ClassFile.FieldType.boolean)) ∈ lw_all := lw_g (lw_at lw_m1 92 rfl) rfl
theorem q110 : (Jvm.Cond.instanceMethod ({ cls := "IntegerHull", name := "corners", desc := "()I" } : Jvm.MethodName)) ∈ lw_all := lw_g (lw_at lw_m1 94 rfl) rfl
theorem q111 : (Jvm.Cond.selects "IntegerHull" ({ cls := "IntegerHull", name := "corners", desc := "()I" } : Jvm.MethodName) ({ cls := "IntegerHull", name := "corners", desc := "()I" } : Jvm.MethodName)) ∈ lw_all := lw_g (lw_at lw_m1 95 rfl) rfl
theorem q112 : (Jvm.Cond.code ({ cls := "IntegerHull", name := "corners", desc := "()I" } : Jvm.MethodName) prog_1_method_15_code (1 : Nat) (Option.some Jvm.ClassFile.FieldType.int)) ∈ lw_all := lw_g (lw_at lw_m1 96 rfl) rfl
theorem q114 : (Jvm.Cond.instanceMethod ({ cls := "IntegerHull", name := "corner", desc := "(I)I" } : Jvm.MethodName)) ∈ lw_all := lw_g (lw_at lw_m1 98 rfl) rfl
theorem q115 : (Jvm.Cond.selects "IntegerHull" ({ cls := "IntegerHull", name := "corner", desc := "(I)I" } : Jvm.MethodName) ({ cls := "IntegerHull", name := "corner", desc := "(I)I" } : Jvm.MethodName)) ∈ lw_all := lw_g (lw_at lw_m1 99 rfl) rfl
theorem q116 : (Jvm.Cond.code ({ cls := "IntegerHull", name := "corner", desc := "(I)I" } : Jvm.MethodName) prog_1_method_16_code (2 : Nat) (Option.some Jvm.ClassFile.FieldType.int)) ∈ lw_all := lw_g (lw_at lw_m1 100 rfl) rfl
theorem q118 : (Jvm.Cond.instanceMethod ({ cls := "IntegerHull", name := "area2", desc := "()I" } : Jvm.MethodName)) ∈ lw_all := lw_g (lw_at lw_m1 102 rfl) rfl
theorem q119 : (Jvm.Cond.selects "IntegerHull" ({ cls := "IntegerHull", name := "area2", desc := "()I" } : Jvm.MethodName) ({ cls := "IntegerHull", name := "area2", desc := "()I" } : Jvm.MethodName)) ∈ lw_all := lw_g (lw_at lw_m1 103 rfl) rfl
theorem q120 : (Jvm.Cond.code ({ cls := "IntegerHull", name := "area2", desc := "()I" } : Jvm.MethodName) prog_1_method_17_code (4 : Nat) (Option.some Jvm.ClassFile.FieldType.int)) ∈ lw_all := lw_g (lw_at lw_m1 104 rfl) rfl
theorem q122 : (Jvm.Cond.instanceMethod ({ cls := "IntegerHull", name := "border", desc := "()I" } : Jvm.MethodName)) ∈ lw_all := lw_g (lw_at lw_m1 106 rfl) rfl
theorem q123 : (Jvm.Cond.selects "IntegerHull" ({ cls := "IntegerHull", name := "border", desc := "()I" } : Jvm.MethodName) ({ cls := "IntegerHull", name := "border", desc := "()I" } : Jvm.MethodName)) ∈ lw_all := lw_g (lw_at lw_m1 107 rfl) rfl
theorem q124 : (Jvm.Cond.code ({ cls := "IntegerHull", name := "border", desc := "()I" } : Jvm.MethodName) prog_1_method_19_code (4 : Nat) (Option.some Jvm.ClassFile.FieldType.int)) ∈ lw_all := lw_g (lw_at lw_m1 108 rfl) rfl
theorem q125 : (Jvm.Cond.methodLink "IntegerHull" (72 : Nat) ({ cls := "IntegerHull", name := "points", desc := "()I" } : Jvm.MethodName)) ∈ lw_all := lw_g (lw_at lw_m1 109 rfl) rfl
theorem q126 : (Jvm.Cond.methodLink "IntegerHull" (76 : Nat) ({ cls := "IntegerHull", name := "gcd", desc := "(II)I" } : Jvm.MethodName)) ∈ lw_all := lw_g (lw_at lw_m1 110 rfl) rfl
theorem q127 : (Jvm.Cond.static ({ cls := "IntegerHull", name := "gcd", desc := "(II)I" } : Jvm.MethodName)) ∈ lw_all := lw_g (lw_at lw_m1 111 rfl) rfl
theorem q128 : (Jvm.Cond.code ({ cls := "IntegerHull", name := "gcd", desc := "(II)I" } : Jvm.MethodName) prog_1_method_18_code (6 : Nat) (Option.some Jvm.ClassFile.FieldType.int)) ∈ lw_all := lw_g (lw_at lw_m1 112 rfl) rfl
theorem q130 : (Jvm.Cond.instanceMethod ({ cls := "IntegerHull", name := "best", desc := "(II)I" } : Jvm.MethodName)) ∈ lw_all := lw_g (lw_at lw_m1 114 rfl) rfl
theorem q131 : (Jvm.Cond.selects "IntegerHull" ({ cls := "IntegerHull", name := "best", desc := "(II)I" } : Jvm.MethodName) ({ cls := "IntegerHull", name := "best", desc := "(II)I" } : Jvm.MethodName)) ∈ lw_all := lw_g (lw_at lw_m1 115 rfl) rfl
theorem q132 : (Jvm.Cond.code ({ cls := "IntegerHull", name := "best", desc := "(II)I" } : Jvm.MethodName) prog_1_method_21_code (4 : Nat) (Option.some Jvm.ClassFile.FieldType.int)) ∈ lw_all := lw_g (lw_at lw_m1 116 rfl) rfl
theorem q133 : (Jvm.Cond.methodLink "IntegerHull" (79 : Nat) ({ cls := "IntegerHull", name := "bestCorner", desc := "(II)I" } : Jvm.MethodName)) ∈ lw_all := lw_g (lw_at lw_m1 117 rfl) rfl
theorem q134 : (Jvm.Cond.instanceMethod ({ cls := "IntegerHull", name := "bestCorner", desc := "(II)I" } : Jvm.MethodName)) ∈ lw_all := lw_g (lw_at lw_m1 118 rfl) rfl
theorem q135 : (Jvm.Cond.selects "IntegerHull" ({ cls := "IntegerHull", name := "bestCorner", desc := "(II)I" } : Jvm.MethodName) ({ cls := "IntegerHull", name := "bestCorner", desc := "(II)I" } : Jvm.MethodName)) ∈ lw_all := lw_g (lw_at lw_m1 119 rfl) rfl
theorem q136 : (Jvm.Cond.code ({ cls := "IntegerHull", name := "bestCorner", desc := "(II)I" } : Jvm.MethodName) prog_1_method_22_code (5 : Nat) (Option.some Jvm.ClassFile.FieldType.int)) ∈ lw_all := lw_g (lw_at lw_m1 120 rfl) rfl
theorem q137 : (Jvm.Cond.methodLink "IntegerHull" (82 : Nat) ({ cls := "IntegerHull", name := "badDirection", desc := "(II)Z" } : Jvm.MethodName)) ∈ lw_all := lw_g (lw_at lw_m1 121 rfl) rfl
theorem q138 : (Jvm.Cond.static ({ cls := "IntegerHull", name := "badDirection", desc := "(II)Z" } : Jvm.MethodName)) ∈ lw_all := lw_g (lw_at lw_m1 122 rfl) rfl
theorem q139 : (Jvm.Cond.code ({ cls := "IntegerHull", name := "badDirection", desc := "(II)Z" } : Jvm.MethodName) prog_1_method_20_code (2 : Nat) (Option.some Jvm.ClassFile.FieldType.boolean)) ∈ lw_all := lw_g (lw_at lw_m1 123 rfl) rfl
theorem q142 : (Jvm.Cond.instanceMethod ({ cls := "IntegerHull", name := "column", desc := "(I)I" } : Jvm.MethodName)) ∈ lw_all := lw_g (lw_at lw_m1 126 rfl) rfl
theorem q143 : (Jvm.Cond.selects "IntegerHull" ({ cls := "IntegerHull", name := "column", desc := "(I)I" } : Jvm.MethodName) ({ cls := "IntegerHull", name := "column", desc := "(I)I" } : Jvm.MethodName)) ∈ lw_all := lw_g (lw_at lw_m1 127 rfl) rfl
theorem q144 : (Jvm.Cond.code ({ cls := "IntegerHull", name := "column", desc := "(I)I" } : Jvm.MethodName) prog_1_method_23_code (2 : Nat) (Option.some Jvm.ClassFile.FieldType.int)) ∈ lw_all := lw_g (lw_at lw_m1 128 rfl) rfl
theorem in_X0 : ∀ w ∈ wsX00, w ∈ lw_all := lw_in wsX00 [37, 39, 41, 43, 45, 47, 49, 51, 53, 55] (by decide +kernel) (by decide +kernel)
end
section
set_option maxRecDepth 100000
def RX1 : String := "IntegerHullModel"
def TX1 : u_T := fun k => match k with
  | 0 => ("IntegerHullModel", "as", "[I", true)
  | 1 => ("IntegerHullModel", "bs", "[I", true)
  | 2 => ("IntegerHullModel", "cs", "[I", true)
  | 3 => ("IntegerHullModel", "conditions", "I", false)
  | 4 => ("IntegerHullModel", "list", "[I", true)
  | 5 => ("IntegerHullModel", "listed", "I", false)
  | 6 => ("IntegerHullModel", "hull", "[I", true)
  | _ => ("IntegerHullModel", "hullSize", "I", false)
def tyX1 : Nat → FieldType := fun k => match k with
  | 0 => .array .int
  | 1 => .array .int
  | 2 => .array .int
  | 3 => .int
  | 4 => .array .int
  | 5 => .int
  | 6 => .array .int
  | _ => .int
abbrev wsX10 : List Cond := u_ws RX1 TX1 8
theorem nmX1 : ∀ a, a < 8 → ∀ b, b < 8 → a ≠ b → (TX1 a).2.1 ≠ (TX1 b).2.1 := by decide +kernel
theorem tyX1_ok : ∀ k, k < 8 → parseFieldDescriptor (TX1 k).2.2.1 = some (tyX1 k) := by decide +kernel
abbrev cX1_init : ByteArray := prog_3_method_1_code
def yX1_init : MethodName := ⟨RX1, "<init>", "()V"⟩
theorem dX1_init_0 : decode cX1_init 0 = .ok (.aload_n 0, 1) := by decide +kernel
theorem dX1_init_1 : decode cX1_init 1 = .ok (.invokespecial 1, 3) := by decide +kernel
theorem dX1_init_4 : decode cX1_init 4 = .ok (.aload_n 0, 1) := by decide +kernel
theorem dX1_init_5 : decode cX1_init 5 = .ok (.bipush 8, 2) := by decide +kernel
theorem dX1_init_7 : decode cX1_init 7 = .ok (.newarray .int, 2) := by decide +kernel
theorem dX1_init_9 : decode cX1_init 9 = .ok (.putfield 7, 3) := by decide +kernel
theorem dX1_init_12 : decode cX1_init 12 = .ok (.aload_n 0, 1) := by decide +kernel
theorem dX1_init_13 : decode cX1_init 13 = .ok (.bipush 8, 2) := by decide +kernel
theorem dX1_init_15 : decode cX1_init 15 = .ok (.newarray .int, 2) := by decide +kernel
theorem dX1_init_17 : decode cX1_init 17 = .ok (.putfield 13, 3) := by decide +kernel
theorem dX1_init_20 : decode cX1_init 20 = .ok (.aload_n 0, 1) := by decide +kernel
theorem dX1_init_21 : decode cX1_init 21 = .ok (.bipush 8, 2) := by decide +kernel
theorem dX1_init_23 : decode cX1_init 23 = .ok (.newarray .int, 2) := by decide +kernel
theorem dX1_init_25 : decode cX1_init 25 = .ok (.putfield 16, 3) := by decide +kernel
theorem dX1_init_28 : decode cX1_init 28 = .ok (.aload_n 0, 1) := by decide +kernel
theorem dX1_init_29 : decode cX1_init 29 = .ok (.sipush 1681, 3) := by decide +kernel
theorem dX1_init_32 : decode cX1_init 32 = .ok (.newarray .int, 2) := by decide +kernel
theorem dX1_init_34 : decode cX1_init 34 = .ok (.putfield 19, 3) := by decide +kernel
theorem dX1_init_37 : decode cX1_init 37 = .ok (.aload_n 0, 1) := by decide +kernel
theorem dX1_init_38 : decode cX1_init 38 = .ok (.sipush 256, 3) := by decide +kernel
theorem dX1_init_41 : decode cX1_init 41 = .ok (.newarray .int, 2) := by decide +kernel
theorem dX1_init_43 : decode cX1_init 43 = .ok (.putfield 22, 3) := by decide +kernel
theorem dX1_init_46 : decode cX1_init 46 = .ok (.aload_n 0, 1) := by decide +kernel
theorem dX1_init_47 : decode cX1_init 47 = .ok (.invokevirtual 25, 3) := by decide +kernel
theorem dX1_init_50 : decode cX1_init 50 = .ok (.return_, 1) := by decide +kernel
abbrev cX1_refresh : ByteArray := prog_3_method_5_code
def yX1_refresh : MethodName := ⟨RX1, "refresh", "()V"⟩
theorem dX1_refresh_0 : decode cX1_refresh 0 = .ok (.aload_n 0, 1) := by decide +kernel
theorem dX1_refresh_1 : decode cX1_refresh 1 = .ok (.iconst 0, 1) := by decide +kernel
theorem dX1_refresh_2 : decode cX1_refresh 2 = .ok (.putfield 32, 3) := by decide +kernel
theorem dX1_refresh_5 : decode cX1_refresh 5 = .ok (.iconst 0, 1) := by decide +kernel
theorem dX1_refresh_6 : decode cX1_refresh 6 = .ok (.istore_n 1, 1) := by decide +kernel
theorem dX1_refresh_7 : decode cX1_refresh 7 = .ok (.iload_n 1, 1) := by decide +kernel
theorem dX1_refresh_8 : decode cX1_refresh 8 = .ok (.sipush 1681, 3) := by decide +kernel
theorem dX1_refresh_11 : decode cX1_refresh 11 = .ok (.if_icmp .ge 55, 3) := by decide +kernel
theorem dX1_refresh_14 : decode cX1_refresh 14 = .ok (.aload_n 0, 1) := by decide +kernel
theorem dX1_refresh_15 : decode cX1_refresh 15 = .ok (.iload_n 1, 1) := by decide +kernel
theorem dX1_refresh_16 : decode cX1_refresh 16 = .ok (.bipush 41, 2) := by decide +kernel
theorem dX1_refresh_18 : decode cX1_refresh 18 = .ok (.idiv, 1) := by decide +kernel
theorem dX1_refresh_19 : decode cX1_refresh 19 = .ok (.iload_n 1, 1) := by decide +kernel
theorem dX1_refresh_20 : decode cX1_refresh 20 = .ok (.bipush 41, 2) := by decide +kernel
theorem dX1_refresh_22 : decode cX1_refresh 22 = .ok (.irem, 1) := by decide +kernel
theorem dX1_refresh_23 : decode cX1_refresh 23 = .ok (.invokevirtual 35, 3) := by decide +kernel
theorem dX1_refresh_26 : decode cX1_refresh 26 = .ok (.ifCond .eq 34, 3) := by decide +kernel
theorem dX1_refresh_29 : decode cX1_refresh 29 = .ok (.aload_n 0, 1) := by decide +kernel
theorem dX1_refresh_30 : decode cX1_refresh 30 = .ok (.getfield 19, 3) := by decide +kernel
theorem dX1_refresh_33 : decode cX1_refresh 33 = .ok (.aload_n 0, 1) := by decide +kernel
theorem dX1_refresh_34 : decode cX1_refresh 34 = .ok (.getfield 32, 3) := by decide +kernel
theorem dX1_refresh_37 : decode cX1_refresh 37 = .ok (.iload_n 1, 1) := by decide +kernel
theorem dX1_refresh_38 : decode cX1_refresh 38 = .ok (.bipush 41, 2) := by decide +kernel
theorem dX1_refresh_40 : decode cX1_refresh 40 = .ok (.idiv, 1) := by decide +kernel
theorem dX1_refresh_41 : decode cX1_refresh 41 = .ok (.bipush 64, 2) := by decide +kernel
theorem dX1_refresh_43 : decode cX1_refresh 43 = .ok (.iload_n 1, 1) := by decide +kernel
theorem dX1_refresh_44 : decode cX1_refresh 44 = .ok (.bipush 41, 2) := by decide +kernel
theorem dX1_refresh_46 : decode cX1_refresh 46 = .ok (.irem, 1) := by decide +kernel
theorem dX1_refresh_47 : decode cX1_refresh 47 = .ok (.imul, 1) := by decide +kernel
theorem dX1_refresh_48 : decode cX1_refresh 48 = .ok (.iadd, 1) := by decide +kernel
theorem dX1_refresh_49 : decode cX1_refresh 49 = .ok (.iastore, 1) := by decide +kernel
theorem dX1_refresh_50 : decode cX1_refresh 50 = .ok (.aload_n 0, 1) := by decide +kernel
theorem dX1_refresh_51 : decode cX1_refresh 51 = .ok (.dup, 1) := by decide +kernel
theorem dX1_refresh_52 : decode cX1_refresh 52 = .ok (.getfield 32, 3) := by decide +kernel
theorem dX1_refresh_55 : decode cX1_refresh 55 = .ok (.iconst 1, 1) := by decide +kernel
theorem dX1_refresh_56 : decode cX1_refresh 56 = .ok (.iadd, 1) := by decide +kernel
theorem dX1_refresh_57 : decode cX1_refresh 57 = .ok (.putfield 32, 3) := by decide +kernel
theorem dX1_refresh_60 : decode cX1_refresh 60 = .ok (.iinc 1 1, 3) := by decide +kernel
theorem dX1_refresh_63 : decode cX1_refresh 63 = .ok (.goto (-56), 3) := by decide +kernel
theorem dX1_refresh_66 : decode cX1_refresh 66 = .ok (.aload_n 0, 1) := by decide +kernel
theorem dX1_refresh_67 : decode cX1_refresh 67 = .ok (.invokevirtual 39, 3) := by decide +kernel
theorem dX1_refresh_70 : decode cX1_refresh 70 = .ok (.return_, 1) := by decide +kernel
abbrev cX1_has : ByteArray := prog_3_method_13_code
def yX1_has : MethodName := ⟨RX1, "has", "(II)Z"⟩
theorem dX1_has_0 : decode cX1_has 0 = .ok (.iload_n 1, 1) := by decide +kernel
theorem dX1_has_1 : decode cX1_has 1 = .ok (.ifCond .lt 19, 3) := by decide +kernel
theorem dX1_has_4 : decode cX1_has 4 = .ok (.iload_n 1, 1) := by decide +kernel
theorem dX1_has_5 : decode cX1_has 5 = .ok (.bipush 40, 2) := by decide +kernel
theorem dX1_has_7 : decode cX1_has 7 = .ok (.if_icmp .gt 13, 3) := by decide +kernel
theorem dX1_has_10 : decode cX1_has 10 = .ok (.iload_n 2, 1) := by decide +kernel
theorem dX1_has_11 : decode cX1_has 11 = .ok (.ifCond .lt 9, 3) := by decide +kernel
theorem dX1_has_14 : decode cX1_has 14 = .ok (.iload_n 2, 1) := by decide +kernel
theorem dX1_has_15 : decode cX1_has 15 = .ok (.bipush 40, 2) := by decide +kernel
theorem dX1_has_17 : decode cX1_has 17 = .ok (.if_icmp .le 5, 3) := by decide +kernel
theorem dX1_has_20 : decode cX1_has 20 = .ok (.iconst 0, 1) := by decide +kernel
theorem dX1_has_21 : decode cX1_has 21 = .ok (.ireturn, 1) := by decide +kernel
theorem dX1_has_22 : decode cX1_has 22 = .ok (.iconst 0, 1) := by decide +kernel
theorem dX1_has_23 : decode cX1_has 23 = .ok (.istore_n 3, 1) := by decide +kernel
theorem dX1_has_24 : decode cX1_has 24 = .ok (.iload_n 3, 1) := by decide +kernel
theorem dX1_has_25 : decode cX1_has 25 = .ok (.aload_n 0, 1) := by decide +kernel
theorem dX1_has_26 : decode cX1_has 26 = .ok (.getfield 28, 3) := by decide +kernel
theorem dX1_has_29 : decode cX1_has 29 = .ok (.if_icmp .ge 37, 3) := by decide +kernel
theorem dX1_has_32 : decode cX1_has 32 = .ok (.aload_n 0, 1) := by decide +kernel
theorem dX1_has_33 : decode cX1_has 33 = .ok (.getfield 7, 3) := by decide +kernel
theorem dX1_has_36 : decode cX1_has 36 = .ok (.iload_n 3, 1) := by decide +kernel
theorem dX1_has_37 : decode cX1_has 37 = .ok (.iaload, 1) := by decide +kernel
theorem dX1_has_38 : decode cX1_has 38 = .ok (.iload_n 1, 1) := by decide +kernel
theorem dX1_has_39 : decode cX1_has 39 = .ok (.imul, 1) := by decide +kernel
theorem dX1_has_40 : decode cX1_has 40 = .ok (.aload_n 0, 1) := by decide +kernel
theorem dX1_has_41 : decode cX1_has 41 = .ok (.getfield 13, 3) := by decide +kernel
theorem dX1_has_44 : decode cX1_has 44 = .ok (.iload_n 3, 1) := by decide +kernel
theorem dX1_has_45 : decode cX1_has 45 = .ok (.iaload, 1) := by decide +kernel
theorem dX1_has_46 : decode cX1_has 46 = .ok (.iload_n 2, 1) := by decide +kernel
theorem dX1_has_47 : decode cX1_has 47 = .ok (.imul, 1) := by decide +kernel
theorem dX1_has_48 : decode cX1_has 48 = .ok (.iadd, 1) := by decide +kernel
theorem dX1_has_49 : decode cX1_has 49 = .ok (.aload_n 0, 1) := by decide +kernel
theorem dX1_has_50 : decode cX1_has 50 = .ok (.getfield 16, 3) := by decide +kernel
theorem dX1_has_53 : decode cX1_has 53 = .ok (.iload_n 3, 1) := by decide +kernel
theorem dX1_has_54 : decode cX1_has 54 = .ok (.iaload, 1) := by decide +kernel
theorem dX1_has_55 : decode cX1_has 55 = .ok (.if_icmp .le 5, 3) := by decide +kernel
theorem dX1_has_58 : decode cX1_has 58 = .ok (.iconst 0, 1) := by decide +kernel
theorem dX1_has_59 : decode cX1_has 59 = .ok (.ireturn, 1) := by decide +kernel
theorem dX1_has_60 : decode cX1_has 60 = .ok (.iinc 3 1, 3) := by decide +kernel
theorem dX1_has_63 : decode cX1_has 63 = .ok (.goto (-39), 3) := by decide +kernel
theorem dX1_has_66 : decode cX1_has 66 = .ok (.iconst 1, 1) := by decide +kernel
theorem dX1_has_67 : decode cX1_has 67 = .ok (.ireturn, 1) := by decide +kernel
abbrev cX1_walk : ByteArray := prog_3_method_11_code
def yX1_walk : MethodName := ⟨RX1, "walk", "()V"⟩
theorem dX1_walk_0 : decode cX1_walk 0 = .ok (.aload_n 0, 1) := by decide +kernel
theorem dX1_walk_1 : decode cX1_walk 1 = .ok (.iconst 0, 1) := by decide +kernel
theorem dX1_walk_2 : decode cX1_walk 2 = .ok (.putfield 57, 3) := by decide +kernel
theorem dX1_walk_5 : decode cX1_walk 5 = .ok (.aload_n 0, 1) := by decide +kernel
theorem dX1_walk_6 : decode cX1_walk 6 = .ok (.getfield 32, 3) := by decide +kernel
theorem dX1_walk_9 : decode cX1_walk 9 = .ok (.ifCond .ne 4, 3) := by decide +kernel
theorem dX1_walk_12 : decode cX1_walk 12 = .ok (.return_, 1) := by decide +kernel
theorem dX1_walk_13 : decode cX1_walk 13 = .ok (.aload_n 0, 1) := by decide +kernel
theorem dX1_walk_14 : decode cX1_walk 14 = .ok (.getfield 19, 3) := by decide +kernel
theorem dX1_walk_17 : decode cX1_walk 17 = .ok (.iconst 0, 1) := by decide +kernel
theorem dX1_walk_18 : decode cX1_walk 18 = .ok (.iaload, 1) := by decide +kernel
theorem dX1_walk_19 : decode cX1_walk 19 = .ok (.istore_n 1, 1) := by decide +kernel
theorem dX1_walk_20 : decode cX1_walk 20 = .ok (.iconst 0, 1) := by decide +kernel
theorem dX1_walk_21 : decode cX1_walk 21 = .ok (.istore_n 2, 1) := by decide +kernel
theorem dX1_walk_22 : decode cX1_walk 22 = .ok (.iload_n 2, 1) := by decide +kernel
theorem dX1_walk_23 : decode cX1_walk 23 = .ok (.sipush 256, 3) := by decide +kernel
theorem dX1_walk_26 : decode cX1_walk 26 = .ok (.if_icmp .ge 53, 3) := by decide +kernel
theorem dX1_walk_29 : decode cX1_walk 29 = .ok (.iload_n 2, 1) := by decide +kernel
theorem dX1_walk_30 : decode cX1_walk 30 = .ok (.ifCond .eq 13, 3) := by decide +kernel
theorem dX1_walk_33 : decode cX1_walk 33 = .ok (.iload_n 1, 1) := by decide +kernel
theorem dX1_walk_34 : decode cX1_walk 34 = .ok (.aload_n 0, 1) := by decide +kernel
theorem dX1_walk_35 : decode cX1_walk 35 = .ok (.getfield 19, 3) := by decide +kernel
theorem dX1_walk_38 : decode cX1_walk 38 = .ok (.iconst 0, 1) := by decide +kernel
theorem dX1_walk_39 : decode cX1_walk 39 = .ok (.iaload, 1) := by decide +kernel
theorem dX1_walk_40 : decode cX1_walk 40 = .ok (.if_icmp .eq 32, 3) := by decide +kernel
theorem dX1_walk_43 : decode cX1_walk 43 = .ok (.aload_n 0, 1) := by decide +kernel
theorem dX1_walk_44 : decode cX1_walk 44 = .ok (.getfield 22, 3) := by decide +kernel
theorem dX1_walk_47 : decode cX1_walk 47 = .ok (.aload_n 0, 1) := by decide +kernel
theorem dX1_walk_48 : decode cX1_walk 48 = .ok (.getfield 57, 3) := by decide +kernel
theorem dX1_walk_51 : decode cX1_walk 51 = .ok (.iload_n 1, 1) := by decide +kernel
theorem dX1_walk_52 : decode cX1_walk 52 = .ok (.iastore, 1) := by decide +kernel
theorem dX1_walk_53 : decode cX1_walk 53 = .ok (.aload_n 0, 1) := by decide +kernel
theorem dX1_walk_54 : decode cX1_walk 54 = .ok (.dup, 1) := by decide +kernel
theorem dX1_walk_55 : decode cX1_walk 55 = .ok (.getfield 57, 3) := by decide +kernel
theorem dX1_walk_58 : decode cX1_walk 58 = .ok (.iconst 1, 1) := by decide +kernel
theorem dX1_walk_59 : decode cX1_walk 59 = .ok (.iadd, 1) := by decide +kernel
theorem dX1_walk_60 : decode cX1_walk 60 = .ok (.putfield 57, 3) := by decide +kernel
theorem dX1_walk_63 : decode cX1_walk 63 = .ok (.aload_n 0, 1) := by decide +kernel
theorem dX1_walk_64 : decode cX1_walk 64 = .ok (.iload_n 1, 1) := by decide +kernel
theorem dX1_walk_65 : decode cX1_walk 65 = .ok (.invokevirtual 60, 3) := by decide +kernel
theorem dX1_walk_68 : decode cX1_walk 68 = .ok (.istore_n 1, 1) := by decide +kernel
theorem dX1_walk_69 : decode cX1_walk 69 = .ok (.goto 4, 3) := by decide +kernel
theorem dX1_walk_72 : decode cX1_walk 72 = .ok (.return_, 1) := by decide +kernel
theorem dX1_walk_73 : decode cX1_walk 73 = .ok (.iinc 2 1, 3) := by decide +kernel
theorem dX1_walk_76 : decode cX1_walk 76 = .ok (.goto (-54), 3) := by decide +kernel
theorem dX1_walk_79 : decode cX1_walk 79 = .ok (.return_, 1) := by decide +kernel
abbrev cX1_next : ByteArray := prog_3_method_10_code
def yX1_next : MethodName := ⟨RX1, "next", "(I)I"⟩
theorem dX1_next_0 : decode cX1_next 0 = .ok (.iload_n 1, 1) := by decide +kernel
theorem dX1_next_1 : decode cX1_next 1 = .ok (.istore_n 2, 1) := by decide +kernel
theorem dX1_next_2 : decode cX1_next 2 = .ok (.iconst 0, 1) := by decide +kernel
theorem dX1_next_3 : decode cX1_next 3 = .ok (.istore_n 3, 1) := by decide +kernel
theorem dX1_next_4 : decode cX1_next 4 = .ok (.iload_n 3, 1) := by decide +kernel
theorem dX1_next_5 : decode cX1_next 5 = .ok (.aload_n 0, 1) := by decide +kernel
theorem dX1_next_6 : decode cX1_next 6 = .ok (.getfield 32, 3) := by decide +kernel
theorem dX1_next_9 : decode cX1_next 9 = .ok (.if_icmp .ge 61, 3) := by decide +kernel
theorem dX1_next_12 : decode cX1_next 12 = .ok (.aload_n 0, 1) := by decide +kernel
theorem dX1_next_13 : decode cX1_next 13 = .ok (.getfield 19, 3) := by decide +kernel
theorem dX1_next_16 : decode cX1_next 16 = .ok (.iload_n 3, 1) := by decide +kernel
theorem dX1_next_17 : decode cX1_next 17 = .ok (.iaload, 1) := by decide +kernel
theorem dX1_next_18 : decode cX1_next 18 = .ok (.istore 4, 2) := by decide +kernel
theorem dX1_next_20 : decode cX1_next 20 = .ok (.aload_n 0, 1) := by decide +kernel
theorem dX1_next_21 : decode cX1_next 21 = .ok (.iload_n 1, 1) := by decide +kernel
theorem dX1_next_22 : decode cX1_next 22 = .ok (.iload_n 2, 1) := by decide +kernel
theorem dX1_next_23 : decode cX1_next 23 = .ok (.iload 4, 2) := by decide +kernel
theorem dX1_next_25 : decode cX1_next 25 = .ok (.invokevirtual 49, 3) := by decide +kernel
theorem dX1_next_28 : decode cX1_next 28 = .ok (.istore 5, 2) := by decide +kernel
theorem dX1_next_30 : decode cX1_next 30 = .ok (.iload_n 2, 1) := by decide +kernel
theorem dX1_next_31 : decode cX1_next 31 = .ok (.iload_n 1, 1) := by decide +kernel
theorem dX1_next_32 : decode cX1_next 32 = .ok (.if_icmp .eq 29, 3) := by decide +kernel
theorem dX1_next_35 : decode cX1_next 35 = .ok (.iload 5, 2) := by decide +kernel
theorem dX1_next_37 : decode cX1_next 37 = .ok (.ifCond .lt 24, 3) := by decide +kernel
theorem dX1_next_40 : decode cX1_next 40 = .ok (.iload 5, 2) := by decide +kernel
theorem dX1_next_42 : decode cX1_next 42 = .ok (.ifCond .ne 22, 3) := by decide +kernel
theorem dX1_next_45 : decode cX1_next 45 = .ok (.aload_n 0, 1) := by decide +kernel
theorem dX1_next_46 : decode cX1_next 46 = .ok (.iload_n 1, 1) := by decide +kernel
theorem dX1_next_47 : decode cX1_next 47 = .ok (.iload 4, 2) := by decide +kernel
theorem dX1_next_49 : decode cX1_next 49 = .ok (.invokevirtual 53, 3) := by decide +kernel
theorem dX1_next_52 : decode cX1_next 52 = .ok (.aload_n 0, 1) := by decide +kernel
theorem dX1_next_53 : decode cX1_next 53 = .ok (.iload_n 1, 1) := by decide +kernel
theorem dX1_next_54 : decode cX1_next 54 = .ok (.iload_n 2, 1) := by decide +kernel
theorem dX1_next_55 : decode cX1_next 55 = .ok (.invokevirtual 53, 3) := by decide +kernel
theorem dX1_next_58 : decode cX1_next 58 = .ok (.if_icmp .le 6, 3) := by decide +kernel
theorem dX1_next_61 : decode cX1_next 61 = .ok (.iload 4, 2) := by decide +kernel
theorem dX1_next_63 : decode cX1_next 63 = .ok (.istore_n 2, 1) := by decide +kernel
theorem dX1_next_64 : decode cX1_next 64 = .ok (.iinc 3 1, 3) := by decide +kernel
theorem dX1_next_67 : decode cX1_next 67 = .ok (.goto (-63), 3) := by decide +kernel
theorem dX1_next_70 : decode cX1_next 70 = .ok (.iload_n 2, 1) := by decide +kernel
theorem dX1_next_71 : decode cX1_next 71 = .ok (.ireturn, 1) := by decide +kernel
abbrev cX1_turn : ByteArray := prog_3_method_8_code
def yX1_turn : MethodName := ⟨RX1, "turn", "(III)I"⟩
theorem dX1_turn_0 : decode cX1_turn 0 = .ok (.aload_n 0, 1) := by decide +kernel
theorem dX1_turn_1 : decode cX1_turn 1 = .ok (.iload_n 2, 1) := by decide +kernel
theorem dX1_turn_2 : decode cX1_turn 2 = .ok (.invokevirtual 42, 3) := by decide +kernel
theorem dX1_turn_5 : decode cX1_turn 5 = .ok (.aload_n 0, 1) := by decide +kernel
theorem dX1_turn_6 : decode cX1_turn 6 = .ok (.iload_n 1, 1) := by decide +kernel
theorem dX1_turn_7 : decode cX1_turn 7 = .ok (.invokevirtual 42, 3) := by decide +kernel
theorem dX1_turn_10 : decode cX1_turn 10 = .ok (.isub, 1) := by decide +kernel
theorem dX1_turn_11 : decode cX1_turn 11 = .ok (.aload_n 0, 1) := by decide +kernel
theorem dX1_turn_12 : decode cX1_turn 12 = .ok (.iload_n 3, 1) := by decide +kernel
theorem dX1_turn_13 : decode cX1_turn 13 = .ok (.invokevirtual 46, 3) := by decide +kernel
theorem dX1_turn_16 : decode cX1_turn 16 = .ok (.aload_n 0, 1) := by decide +kernel
theorem dX1_turn_17 : decode cX1_turn 17 = .ok (.iload_n 1, 1) := by decide +kernel
theorem dX1_turn_18 : decode cX1_turn 18 = .ok (.invokevirtual 46, 3) := by decide +kernel
theorem dX1_turn_21 : decode cX1_turn 21 = .ok (.isub, 1) := by decide +kernel
theorem dX1_turn_22 : decode cX1_turn 22 = .ok (.imul, 1) := by decide +kernel
theorem dX1_turn_23 : decode cX1_turn 23 = .ok (.aload_n 0, 1) := by decide +kernel
theorem dX1_turn_24 : decode cX1_turn 24 = .ok (.iload_n 2, 1) := by decide +kernel
theorem dX1_turn_25 : decode cX1_turn 25 = .ok (.invokevirtual 46, 3) := by decide +kernel
theorem dX1_turn_28 : decode cX1_turn 28 = .ok (.aload_n 0, 1) := by decide +kernel
theorem dX1_turn_29 : decode cX1_turn 29 = .ok (.iload_n 1, 1) := by decide +kernel
theorem dX1_turn_30 : decode cX1_turn 30 = .ok (.invokevirtual 46, 3) := by decide +kernel
theorem dX1_turn_33 : decode cX1_turn 33 = .ok (.isub, 1) := by decide +kernel
theorem dX1_turn_34 : decode cX1_turn 34 = .ok (.aload_n 0, 1) := by decide +kernel
theorem dX1_turn_35 : decode cX1_turn 35 = .ok (.iload_n 3, 1) := by decide +kernel
theorem dX1_turn_36 : decode cX1_turn 36 = .ok (.invokevirtual 42, 3) := by decide +kernel
theorem dX1_turn_39 : decode cX1_turn 39 = .ok (.aload_n 0, 1) := by decide +kernel
theorem dX1_turn_40 : decode cX1_turn 40 = .ok (.iload_n 1, 1) := by decide +kernel
theorem dX1_turn_41 : decode cX1_turn 41 = .ok (.invokevirtual 42, 3) := by decide +kernel
theorem dX1_turn_44 : decode cX1_turn 44 = .ok (.isub, 1) := by decide +kernel
theorem dX1_turn_45 : decode cX1_turn 45 = .ok (.imul, 1) := by decide +kernel
theorem dX1_turn_46 : decode cX1_turn 46 = .ok (.isub, 1) := by decide +kernel
theorem dX1_turn_47 : decode cX1_turn 47 = .ok (.ireturn, 1) := by decide +kernel
abbrev cX1_xOf : ByteArray := prog_3_method_6_code
def yX1_xOf : MethodName := ⟨RX1, "xOf", "(I)I"⟩
theorem dX1_xOf_0 : decode cX1_xOf 0 = .ok (.iload_n 1, 1) := by decide +kernel
theorem dX1_xOf_1 : decode cX1_xOf 1 = .ok (.bipush 63, 2) := by decide +kernel
theorem dX1_xOf_3 : decode cX1_xOf 3 = .ok (.iand, 1) := by decide +kernel
theorem dX1_xOf_4 : decode cX1_xOf 4 = .ok (.ireturn, 1) := by decide +kernel
abbrev cX1_yOf : ByteArray := prog_3_method_7_code
def yX1_yOf : MethodName := ⟨RX1, "yOf", "(I)I"⟩
theorem dX1_yOf_0 : decode cX1_yOf 0 = .ok (.iload_n 1, 1) := by decide +kernel
theorem dX1_yOf_1 : decode cX1_yOf 1 = .ok (.bipush 6, 2) := by decide +kernel
theorem dX1_yOf_3 : decode cX1_yOf 3 = .ok (.ishr, 1) := by decide +kernel
theorem dX1_yOf_4 : decode cX1_yOf 4 = .ok (.ireturn, 1) := by decide +kernel
abbrev cX1_distance : ByteArray := prog_3_method_9_code
def yX1_distance : MethodName := ⟨RX1, "distance", "(II)I"⟩
theorem dX1_distance_0 : decode cX1_distance 0 = .ok (.aload_n 0, 1) := by decide +kernel
theorem dX1_distance_1 : decode cX1_distance 1 = .ok (.iload_n 2, 1) := by decide +kernel
theorem dX1_distance_2 : decode cX1_distance 2 = .ok (.invokevirtual 42, 3) := by decide +kernel
theorem dX1_distance_5 : decode cX1_distance 5 = .ok (.aload_n 0, 1) := by decide +kernel
theorem dX1_distance_6 : decode cX1_distance 6 = .ok (.iload_n 1, 1) := by decide +kernel
theorem dX1_distance_7 : decode cX1_distance 7 = .ok (.invokevirtual 42, 3) := by decide +kernel
theorem dX1_distance_10 : decode cX1_distance 10 = .ok (.isub, 1) := by decide +kernel
theorem dX1_distance_11 : decode cX1_distance 11 = .ok (.istore_n 3, 1) := by decide +kernel
theorem dX1_distance_12 : decode cX1_distance 12 = .ok (.aload_n 0, 1) := by decide +kernel
theorem dX1_distance_13 : decode cX1_distance 13 = .ok (.iload_n 2, 1) := by decide +kernel
theorem dX1_distance_14 : decode cX1_distance 14 = .ok (.invokevirtual 46, 3) := by decide +kernel
theorem dX1_distance_17 : decode cX1_distance 17 = .ok (.aload_n 0, 1) := by decide +kernel
theorem dX1_distance_18 : decode cX1_distance 18 = .ok (.iload_n 1, 1) := by decide +kernel
theorem dX1_distance_19 : decode cX1_distance 19 = .ok (.invokevirtual 46, 3) := by decide +kernel
theorem dX1_distance_22 : decode cX1_distance 22 = .ok (.isub, 1) := by decide +kernel
theorem dX1_distance_23 : decode cX1_distance 23 = .ok (.istore 4, 2) := by decide +kernel
theorem dX1_distance_25 : decode cX1_distance 25 = .ok (.iload_n 3, 1) := by decide +kernel
theorem dX1_distance_26 : decode cX1_distance 26 = .ok (.iload_n 3, 1) := by decide +kernel
theorem dX1_distance_27 : decode cX1_distance 27 = .ok (.imul, 1) := by decide +kernel
theorem dX1_distance_28 : decode cX1_distance 28 = .ok (.iload 4, 2) := by decide +kernel
theorem dX1_distance_30 : decode cX1_distance 30 = .ok (.iload 4, 2) := by decide +kernel
theorem dX1_distance_32 : decode cX1_distance 32 = .ok (.imul, 1) := by decide +kernel
theorem dX1_distance_33 : decode cX1_distance 33 = .ok (.iadd, 1) := by decide +kernel
theorem dX1_distance_34 : decode cX1_distance 34 = .ok (.ireturn, 1) := by decide +kernel
abbrev cX1_condition : ByteArray := prog_3_method_2_code
def yX1_condition : MethodName := ⟨RX1, "condition", "(III)I"⟩
theorem dX1_condition_0 : decode cX1_condition 0 = .ok (.iload_n 1, 1) := by decide +kernel
theorem dX1_condition_1 : decode cX1_condition 1 = .ok (.bipush (-9), 2) := by decide +kernel
theorem dX1_condition_3 : decode cX1_condition 3 = .ok (.if_icmp .lt 39, 3) := by decide +kernel
theorem dX1_condition_6 : decode cX1_condition 6 = .ok (.iload_n 1, 1) := by decide +kernel
theorem dX1_condition_7 : decode cX1_condition 7 = .ok (.bipush 9, 2) := by decide +kernel
theorem dX1_condition_9 : decode cX1_condition 9 = .ok (.if_icmp .gt 33, 3) := by decide +kernel
theorem dX1_condition_12 : decode cX1_condition 12 = .ok (.iload_n 2, 1) := by decide +kernel
theorem dX1_condition_13 : decode cX1_condition 13 = .ok (.bipush (-9), 2) := by decide +kernel
theorem dX1_condition_15 : decode cX1_condition 15 = .ok (.if_icmp .lt 27, 3) := by decide +kernel
theorem dX1_condition_18 : decode cX1_condition 18 = .ok (.iload_n 2, 1) := by decide +kernel
theorem dX1_condition_19 : decode cX1_condition 19 = .ok (.bipush 9, 2) := by decide +kernel
theorem dX1_condition_21 : decode cX1_condition 21 = .ok (.if_icmp .gt 21, 3) := by decide +kernel
theorem dX1_condition_24 : decode cX1_condition 24 = .ok (.iload_n 3, 1) := by decide +kernel
theorem dX1_condition_25 : decode cX1_condition 25 = .ok (.sipush (-1000), 3) := by decide +kernel
theorem dX1_condition_28 : decode cX1_condition 28 = .ok (.if_icmp .lt 14, 3) := by decide +kernel
theorem dX1_condition_31 : decode cX1_condition 31 = .ok (.iload_n 3, 1) := by decide +kernel
theorem dX1_condition_32 : decode cX1_condition 32 = .ok (.sipush 1000, 3) := by decide +kernel
theorem dX1_condition_35 : decode cX1_condition 35 = .ok (.if_icmp .gt 7, 3) := by decide +kernel
theorem dX1_condition_38 : decode cX1_condition 38 = .ok (.iconst 1, 1) := by decide +kernel
theorem dX1_condition_39 : decode cX1_condition 39 = .ok (.goto 4, 3) := by decide +kernel
theorem dX1_condition_42 : decode cX1_condition 42 = .ok (.iconst 0, 1) := by decide +kernel
theorem dX1_condition_43 : decode cX1_condition 43 = .ok (.istore 4, 2) := by decide +kernel
theorem dX1_condition_45 : decode cX1_condition 45 = .ok (.iload 4, 2) := by decide +kernel
theorem dX1_condition_47 : decode cX1_condition 47 = .ok (.ifCond .eq 11, 3) := by decide +kernel
theorem dX1_condition_50 : decode cX1_condition 50 = .ok (.iload_n 1, 1) := by decide +kernel
theorem dX1_condition_51 : decode cX1_condition 51 = .ok (.ifCond .ne 9, 3) := by decide +kernel
theorem dX1_condition_54 : decode cX1_condition 54 = .ok (.iload_n 2, 1) := by decide +kernel
theorem dX1_condition_55 : decode cX1_condition 55 = .ok (.ifCond .ne 5, 3) := by decide +kernel
theorem dX1_condition_58 : decode cX1_condition 58 = .ok (.iconst (-1), 1) := by decide +kernel
theorem dX1_condition_59 : decode cX1_condition 59 = .ok (.ireturn, 1) := by decide +kernel
theorem dX1_condition_60 : decode cX1_condition 60 = .ok (.aload_n 0, 1) := by decide +kernel
theorem dX1_condition_61 : decode cX1_condition 61 = .ok (.getfield 28, 3) := by decide +kernel
theorem dX1_condition_64 : decode cX1_condition 64 = .ok (.bipush 8, 2) := by decide +kernel
theorem dX1_condition_66 : decode cX1_condition 66 = .ok (.if_icmp .ne 6, 3) := by decide +kernel
theorem dX1_condition_69 : decode cX1_condition 69 = .ok (.bipush (-2), 2) := by decide +kernel
theorem dX1_condition_71 : decode cX1_condition 71 = .ok (.ireturn, 1) := by decide +kernel
theorem dX1_condition_72 : decode cX1_condition 72 = .ok (.aload_n 0, 1) := by decide +kernel
theorem dX1_condition_73 : decode cX1_condition 73 = .ok (.getfield 7, 3) := by decide +kernel
theorem dX1_condition_76 : decode cX1_condition 76 = .ok (.aload_n 0, 1) := by decide +kernel
theorem dX1_condition_77 : decode cX1_condition 77 = .ok (.getfield 28, 3) := by decide +kernel
theorem dX1_condition_80 : decode cX1_condition 80 = .ok (.iload_n 1, 1) := by decide +kernel
theorem dX1_condition_81 : decode cX1_condition 81 = .ok (.iastore, 1) := by decide +kernel
theorem dX1_condition_82 : decode cX1_condition 82 = .ok (.aload_n 0, 1) := by decide +kernel
theorem dX1_condition_83 : decode cX1_condition 83 = .ok (.getfield 13, 3) := by decide +kernel
theorem dX1_condition_86 : decode cX1_condition 86 = .ok (.aload_n 0, 1) := by decide +kernel
theorem dX1_condition_87 : decode cX1_condition 87 = .ok (.getfield 28, 3) := by decide +kernel
theorem dX1_condition_90 : decode cX1_condition 90 = .ok (.iload_n 2, 1) := by decide +kernel
theorem dX1_condition_91 : decode cX1_condition 91 = .ok (.iastore, 1) := by decide +kernel
theorem dX1_condition_92 : decode cX1_condition 92 = .ok (.aload_n 0, 1) := by decide +kernel
theorem dX1_condition_93 : decode cX1_condition 93 = .ok (.getfield 16, 3) := by decide +kernel
theorem dX1_condition_96 : decode cX1_condition 96 = .ok (.aload_n 0, 1) := by decide +kernel
theorem dX1_condition_97 : decode cX1_condition 97 = .ok (.getfield 28, 3) := by decide +kernel
theorem dX1_condition_100 : decode cX1_condition 100 = .ok (.iload_n 3, 1) := by decide +kernel
theorem dX1_condition_101 : decode cX1_condition 101 = .ok (.iastore, 1) := by decide +kernel
theorem dX1_condition_102 : decode cX1_condition 102 = .ok (.aload_n 0, 1) := by decide +kernel
theorem dX1_condition_103 : decode cX1_condition 103 = .ok (.dup, 1) := by decide +kernel
theorem dX1_condition_104 : decode cX1_condition 104 = .ok (.getfield 28, 3) := by decide +kernel
theorem dX1_condition_107 : decode cX1_condition 107 = .ok (.iconst 1, 1) := by decide +kernel
theorem dX1_condition_108 : decode cX1_condition 108 = .ok (.iadd, 1) := by decide +kernel
theorem dX1_condition_109 : decode cX1_condition 109 = .ok (.putfield 28, 3) := by decide +kernel
theorem dX1_condition_112 : decode cX1_condition 112 = .ok (.aload_n 0, 1) := by decide +kernel
theorem dX1_condition_113 : decode cX1_condition 113 = .ok (.invokevirtual 25, 3) := by decide +kernel
theorem dX1_condition_116 : decode cX1_condition 116 = .ok (.aload_n 0, 1) := by decide +kernel
theorem dX1_condition_117 : decode cX1_condition 117 = .ok (.getfield 28, 3) := by decide +kernel
theorem dX1_condition_120 : decode cX1_condition 120 = .ok (.ireturn, 1) := by decide +kernel
end
section
set_option maxRecDepth 100000
abbrev cX1_drop : ByteArray := prog_3_method_3_code
def yX1_drop : MethodName := ⟨RX1, "drop", "()I"⟩
theorem dX1_drop_0 : decode cX1_drop 0 = .ok (.aload_n 0, 1) := by decide +kernel
theorem dX1_drop_1 : decode cX1_drop 1 = .ok (.getfield 28, 3) := by decide +kernel
theorem dX1_drop_4 : decode cX1_drop 4 = .ok (.ifCond .ne 6, 3) := by decide +kernel
theorem dX1_drop_7 : decode cX1_drop 7 = .ok (.bipush (-3), 2) := by decide +kernel
theorem dX1_drop_9 : decode cX1_drop 9 = .ok (.ireturn, 1) := by decide +kernel
theorem dX1_drop_10 : decode cX1_drop 10 = .ok (.aload_n 0, 1) := by decide +kernel
theorem dX1_drop_11 : decode cX1_drop 11 = .ok (.dup, 1) := by decide +kernel
theorem dX1_drop_12 : decode cX1_drop 12 = .ok (.getfield 28, 3) := by decide +kernel
theorem dX1_drop_15 : decode cX1_drop 15 = .ok (.iconst 1, 1) := by decide +kernel
theorem dX1_drop_16 : decode cX1_drop 16 = .ok (.isub, 1) := by decide +kernel
theorem dX1_drop_17 : decode cX1_drop 17 = .ok (.putfield 28, 3) := by decide +kernel
theorem dX1_drop_20 : decode cX1_drop 20 = .ok (.aload_n 0, 1) := by decide +kernel
theorem dX1_drop_21 : decode cX1_drop 21 = .ok (.invokevirtual 25, 3) := by decide +kernel
theorem dX1_drop_24 : decode cX1_drop 24 = .ok (.aload_n 0, 1) := by decide +kernel
theorem dX1_drop_25 : decode cX1_drop 25 = .ok (.getfield 28, 3) := by decide +kernel
theorem dX1_drop_28 : decode cX1_drop 28 = .ok (.ireturn, 1) := by decide +kernel
abbrev cX1_shift : ByteArray := prog_3_method_4_code
def yX1_shift : MethodName := ⟨RX1, "shift", "(II)I"⟩
theorem dX1_shift_0 : decode cX1_shift 0 = .ok (.iload_n 1, 1) := by decide +kernel
theorem dX1_shift_1 : decode cX1_shift 1 = .ok (.ifCond .lt 11, 3) := by decide +kernel
theorem dX1_shift_4 : decode cX1_shift 4 = .ok (.iload_n 1, 1) := by decide +kernel
theorem dX1_shift_5 : decode cX1_shift 5 = .ok (.aload_n 0, 1) := by decide +kernel
theorem dX1_shift_6 : decode cX1_shift 6 = .ok (.getfield 28, 3) := by decide +kernel
theorem dX1_shift_9 : decode cX1_shift 9 = .ok (.if_icmp .lt 6, 3) := by decide +kernel
theorem dX1_shift_12 : decode cX1_shift 12 = .ok (.bipush (-3), 2) := by decide +kernel
theorem dX1_shift_14 : decode cX1_shift 14 = .ok (.ireturn, 1) := by decide +kernel
theorem dX1_shift_15 : decode cX1_shift 15 = .ok (.iload_n 2, 1) := by decide +kernel
theorem dX1_shift_16 : decode cX1_shift 16 = .ok (.sipush (-1000), 3) := by decide +kernel
theorem dX1_shift_19 : decode cX1_shift 19 = .ok (.if_icmp .lt 10, 3) := by decide +kernel
theorem dX1_shift_22 : decode cX1_shift 22 = .ok (.iload_n 2, 1) := by decide +kernel
theorem dX1_shift_23 : decode cX1_shift 23 = .ok (.sipush 1000, 3) := by decide +kernel
theorem dX1_shift_26 : decode cX1_shift 26 = .ok (.if_icmp .le 5, 3) := by decide +kernel
theorem dX1_shift_29 : decode cX1_shift 29 = .ok (.iconst (-1), 1) := by decide +kernel
theorem dX1_shift_30 : decode cX1_shift 30 = .ok (.ireturn, 1) := by decide +kernel
theorem dX1_shift_31 : decode cX1_shift 31 = .ok (.aload_n 0, 1) := by decide +kernel
theorem dX1_shift_32 : decode cX1_shift 32 = .ok (.getfield 16, 3) := by decide +kernel
theorem dX1_shift_35 : decode cX1_shift 35 = .ok (.iload_n 1, 1) := by decide +kernel
theorem dX1_shift_36 : decode cX1_shift 36 = .ok (.iaload, 1) := by decide +kernel
theorem dX1_shift_37 : decode cX1_shift 37 = .ok (.istore_n 3, 1) := by decide +kernel
theorem dX1_shift_38 : decode cX1_shift 38 = .ok (.aload_n 0, 1) := by decide +kernel
theorem dX1_shift_39 : decode cX1_shift 39 = .ok (.getfield 16, 3) := by decide +kernel
theorem dX1_shift_42 : decode cX1_shift 42 = .ok (.iload_n 1, 1) := by decide +kernel
theorem dX1_shift_43 : decode cX1_shift 43 = .ok (.iload_n 2, 1) := by decide +kernel
theorem dX1_shift_44 : decode cX1_shift 44 = .ok (.iastore, 1) := by decide +kernel
theorem dX1_shift_45 : decode cX1_shift 45 = .ok (.aload_n 0, 1) := by decide +kernel
theorem dX1_shift_46 : decode cX1_shift 46 = .ok (.invokevirtual 25, 3) := by decide +kernel
theorem dX1_shift_49 : decode cX1_shift 49 = .ok (.iload_n 3, 1) := by decide +kernel
theorem dX1_shift_50 : decode cX1_shift 50 = .ok (.ireturn, 1) := by decide +kernel
abbrev cX1_points : ByteArray := prog_3_method_12_code
def yX1_points : MethodName := ⟨RX1, "points", "()I"⟩
theorem dX1_points_0 : decode cX1_points 0 = .ok (.aload_n 0, 1) := by decide +kernel
theorem dX1_points_1 : decode cX1_points 1 = .ok (.getfield 32, 3) := by decide +kernel
theorem dX1_points_4 : decode cX1_points 4 = .ok (.ireturn, 1) := by decide +kernel
abbrev cX1_corners : ByteArray := prog_3_method_14_code
def yX1_corners : MethodName := ⟨RX1, "corners", "()I"⟩
theorem dX1_corners_0 : decode cX1_corners 0 = .ok (.aload_n 0, 1) := by decide +kernel
theorem dX1_corners_1 : decode cX1_corners 1 = .ok (.getfield 57, 3) := by decide +kernel
theorem dX1_corners_4 : decode cX1_corners 4 = .ok (.ireturn, 1) := by decide +kernel
abbrev cX1_corner : ByteArray := prog_3_method_15_code
def yX1_corner : MethodName := ⟨RX1, "corner", "(I)I"⟩
theorem dX1_corner_0 : decode cX1_corner 0 = .ok (.iload_n 1, 1) := by decide +kernel
theorem dX1_corner_1 : decode cX1_corner 1 = .ok (.ifCond .lt 20, 3) := by decide +kernel
theorem dX1_corner_4 : decode cX1_corner 4 = .ok (.iload_n 1, 1) := by decide +kernel
theorem dX1_corner_5 : decode cX1_corner 5 = .ok (.aload_n 0, 1) := by decide +kernel
theorem dX1_corner_6 : decode cX1_corner 6 = .ok (.getfield 57, 3) := by decide +kernel
theorem dX1_corner_9 : decode cX1_corner 9 = .ok (.if_icmp .ge 12, 3) := by decide +kernel
theorem dX1_corner_12 : decode cX1_corner 12 = .ok (.aload_n 0, 1) := by decide +kernel
theorem dX1_corner_13 : decode cX1_corner 13 = .ok (.getfield 22, 3) := by decide +kernel
theorem dX1_corner_16 : decode cX1_corner 16 = .ok (.iload_n 1, 1) := by decide +kernel
theorem dX1_corner_17 : decode cX1_corner 17 = .ok (.iaload, 1) := by decide +kernel
theorem dX1_corner_18 : decode cX1_corner 18 = .ok (.goto 5, 3) := by decide +kernel
theorem dX1_corner_21 : decode cX1_corner 21 = .ok (.bipush (-3), 2) := by decide +kernel
theorem dX1_corner_23 : decode cX1_corner 23 = .ok (.ireturn, 1) := by decide +kernel
abbrev cX1_area2 : ByteArray := prog_3_method_16_code
def yX1_area2 : MethodName := ⟨RX1, "area2", "()I"⟩
theorem dX1_area2_0 : decode cX1_area2 0 = .ok (.iconst 0, 1) := by decide +kernel
theorem dX1_area2_1 : decode cX1_area2 1 = .ok (.istore_n 1, 1) := by decide +kernel
theorem dX1_area2_2 : decode cX1_area2 2 = .ok (.iconst 1, 1) := by decide +kernel
theorem dX1_area2_3 : decode cX1_area2 3 = .ok (.istore_n 2, 1) := by decide +kernel
theorem dX1_area2_4 : decode cX1_area2 4 = .ok (.iload_n 2, 1) := by decide +kernel
theorem dX1_area2_5 : decode cX1_area2 5 = .ok (.iconst 1, 1) := by decide +kernel
theorem dX1_area2_6 : decode cX1_area2 6 = .ok (.iadd, 1) := by decide +kernel
theorem dX1_area2_7 : decode cX1_area2 7 = .ok (.aload_n 0, 1) := by decide +kernel
theorem dX1_area2_8 : decode cX1_area2 8 = .ok (.getfield 57, 3) := by decide +kernel
theorem dX1_area2_11 : decode cX1_area2 11 = .ok (.if_icmp .ge 36, 3) := by decide +kernel
theorem dX1_area2_14 : decode cX1_area2 14 = .ok (.iload_n 1, 1) := by decide +kernel
theorem dX1_area2_15 : decode cX1_area2 15 = .ok (.aload_n 0, 1) := by decide +kernel
theorem dX1_area2_16 : decode cX1_area2 16 = .ok (.aload_n 0, 1) := by decide +kernel
theorem dX1_area2_17 : decode cX1_area2 17 = .ok (.getfield 22, 3) := by decide +kernel
theorem dX1_area2_20 : decode cX1_area2 20 = .ok (.iconst 0, 1) := by decide +kernel
theorem dX1_area2_21 : decode cX1_area2 21 = .ok (.iaload, 1) := by decide +kernel
theorem dX1_area2_22 : decode cX1_area2 22 = .ok (.aload_n 0, 1) := by decide +kernel
theorem dX1_area2_23 : decode cX1_area2 23 = .ok (.getfield 22, 3) := by decide +kernel
theorem dX1_area2_26 : decode cX1_area2 26 = .ok (.iload_n 2, 1) := by decide +kernel
theorem dX1_area2_27 : decode cX1_area2 27 = .ok (.iaload, 1) := by decide +kernel
theorem dX1_area2_28 : decode cX1_area2 28 = .ok (.aload_n 0, 1) := by decide +kernel
theorem dX1_area2_29 : decode cX1_area2 29 = .ok (.getfield 22, 3) := by decide +kernel
theorem dX1_area2_32 : decode cX1_area2 32 = .ok (.iload_n 2, 1) := by decide +kernel
theorem dX1_area2_33 : decode cX1_area2 33 = .ok (.iconst 1, 1) := by decide +kernel
theorem dX1_area2_34 : decode cX1_area2 34 = .ok (.iadd, 1) := by decide +kernel
theorem dX1_area2_35 : decode cX1_area2 35 = .ok (.iaload, 1) := by decide +kernel
theorem dX1_area2_36 : decode cX1_area2 36 = .ok (.invokevirtual 49, 3) := by decide +kernel
theorem dX1_area2_39 : decode cX1_area2 39 = .ok (.iadd, 1) := by decide +kernel
theorem dX1_area2_40 : decode cX1_area2 40 = .ok (.istore_n 1, 1) := by decide +kernel
theorem dX1_area2_41 : decode cX1_area2 41 = .ok (.iinc 2 1, 3) := by decide +kernel
theorem dX1_area2_44 : decode cX1_area2 44 = .ok (.goto (-40), 3) := by decide +kernel
theorem dX1_area2_47 : decode cX1_area2 47 = .ok (.iload_n 1, 1) := by decide +kernel
theorem dX1_area2_48 : decode cX1_area2 48 = .ok (.ireturn, 1) := by decide +kernel
abbrev cX1_border : ByteArray := prog_3_method_18_code
def yX1_border : MethodName := ⟨RX1, "border", "()I"⟩
theorem dX1_border_0 : decode cX1_border 0 = .ok (.iconst 0, 1) := by decide +kernel
theorem dX1_border_1 : decode cX1_border 1 = .ok (.istore_n 1, 1) := by decide +kernel
theorem dX1_border_2 : decode cX1_border 2 = .ok (.iconst 0, 1) := by decide +kernel
theorem dX1_border_3 : decode cX1_border 3 = .ok (.istore_n 2, 1) := by decide +kernel
theorem dX1_border_4 : decode cX1_border 4 = .ok (.iload_n 2, 1) := by decide +kernel
theorem dX1_border_5 : decode cX1_border 5 = .ok (.aload_n 0, 1) := by decide +kernel
theorem dX1_border_6 : decode cX1_border 6 = .ok (.getfield 32, 3) := by decide +kernel
theorem dX1_border_9 : decode cX1_border 9 = .ok (.if_icmp .ge 33, 3) := by decide +kernel
theorem dX1_border_12 : decode cX1_border 12 = .ok (.aload_n 0, 1) := by decide +kernel
theorem dX1_border_13 : decode cX1_border 13 = .ok (.getfield 57, 3) := by decide +kernel
theorem dX1_border_16 : decode cX1_border 16 = .ok (.iconst 3, 1) := by decide +kernel
theorem dX1_border_17 : decode cX1_border 17 = .ok (.if_icmp .lt 16, 3) := by decide +kernel
theorem dX1_border_20 : decode cX1_border 20 = .ok (.aload_n 0, 1) := by decide +kernel
theorem dX1_border_21 : decode cX1_border 21 = .ok (.aload_n 0, 1) := by decide +kernel
theorem dX1_border_22 : decode cX1_border 22 = .ok (.getfield 19, 3) := by decide +kernel
theorem dX1_border_25 : decode cX1_border 25 = .ok (.iload_n 2, 1) := by decide +kernel
theorem dX1_border_26 : decode cX1_border 26 = .ok (.iaload, 1) := by decide +kernel
theorem dX1_border_27 : decode cX1_border 27 = .ok (.invokevirtual 63, 3) := by decide +kernel
theorem dX1_border_30 : decode cX1_border 30 = .ok (.ifCond .eq 6, 3) := by decide +kernel
theorem dX1_border_33 : decode cX1_border 33 = .ok (.iinc 1 1, 3) := by decide +kernel
theorem dX1_border_36 : decode cX1_border 36 = .ok (.iinc 2 1, 3) := by decide +kernel
theorem dX1_border_39 : decode cX1_border 39 = .ok (.goto (-35), 3) := by decide +kernel
theorem dX1_border_42 : decode cX1_border 42 = .ok (.iload_n 1, 1) := by decide +kernel
theorem dX1_border_43 : decode cX1_border 43 = .ok (.ireturn, 1) := by decide +kernel
abbrev cX1_onBorder : ByteArray := prog_3_method_17_code
def yX1_onBorder : MethodName := ⟨RX1, "onBorder", "(I)Z"⟩
theorem dX1_onBorder_0 : decode cX1_onBorder 0 = .ok (.iconst 0, 1) := by decide +kernel
theorem dX1_onBorder_1 : decode cX1_onBorder 1 = .ok (.istore_n 2, 1) := by decide +kernel
theorem dX1_onBorder_2 : decode cX1_onBorder 2 = .ok (.iload_n 2, 1) := by decide +kernel
theorem dX1_onBorder_3 : decode cX1_onBorder 3 = .ok (.aload_n 0, 1) := by decide +kernel
theorem dX1_onBorder_4 : decode cX1_onBorder 4 = .ok (.getfield 57, 3) := by decide +kernel
theorem dX1_onBorder_7 : decode cX1_onBorder 7 = .ok (.if_icmp .ge 54, 3) := by decide +kernel
theorem dX1_onBorder_10 : decode cX1_onBorder 10 = .ok (.iload_n 2, 1) := by decide +kernel
theorem dX1_onBorder_11 : decode cX1_onBorder 11 = .ok (.iconst 1, 1) := by decide +kernel
theorem dX1_onBorder_12 : decode cX1_onBorder 12 = .ok (.iadd, 1) := by decide +kernel
theorem dX1_onBorder_13 : decode cX1_onBorder 13 = .ok (.aload_n 0, 1) := by decide +kernel
theorem dX1_onBorder_14 : decode cX1_onBorder 14 = .ok (.getfield 57, 3) := by decide +kernel
theorem dX1_onBorder_17 : decode cX1_onBorder 17 = .ok (.if_icmp .ge 14, 3) := by decide +kernel
theorem dX1_onBorder_20 : decode cX1_onBorder 20 = .ok (.aload_n 0, 1) := by decide +kernel
theorem dX1_onBorder_21 : decode cX1_onBorder 21 = .ok (.getfield 22, 3) := by decide +kernel
theorem dX1_onBorder_24 : decode cX1_onBorder 24 = .ok (.iload_n 2, 1) := by decide +kernel
theorem dX1_onBorder_25 : decode cX1_onBorder 25 = .ok (.iconst 1, 1) := by decide +kernel
theorem dX1_onBorder_26 : decode cX1_onBorder 26 = .ok (.iadd, 1) := by decide +kernel
theorem dX1_onBorder_27 : decode cX1_onBorder 27 = .ok (.iaload, 1) := by decide +kernel
theorem dX1_onBorder_28 : decode cX1_onBorder 28 = .ok (.goto 9, 3) := by decide +kernel
theorem dX1_onBorder_31 : decode cX1_onBorder 31 = .ok (.aload_n 0, 1) := by decide +kernel
theorem dX1_onBorder_32 : decode cX1_onBorder 32 = .ok (.getfield 22, 3) := by decide +kernel
theorem dX1_onBorder_35 : decode cX1_onBorder 35 = .ok (.iconst 0, 1) := by decide +kernel
theorem dX1_onBorder_36 : decode cX1_onBorder 36 = .ok (.iaload, 1) := by decide +kernel
theorem dX1_onBorder_37 : decode cX1_onBorder 37 = .ok (.istore_n 3, 1) := by decide +kernel
theorem dX1_onBorder_38 : decode cX1_onBorder 38 = .ok (.aload_n 0, 1) := by decide +kernel
theorem dX1_onBorder_39 : decode cX1_onBorder 39 = .ok (.aload_n 0, 1) := by decide +kernel
theorem dX1_onBorder_40 : decode cX1_onBorder 40 = .ok (.getfield 22, 3) := by decide +kernel
theorem dX1_onBorder_43 : decode cX1_onBorder 43 = .ok (.iload_n 2, 1) := by decide +kernel
theorem dX1_onBorder_44 : decode cX1_onBorder 44 = .ok (.iaload, 1) := by decide +kernel
theorem dX1_onBorder_45 : decode cX1_onBorder 45 = .ok (.iload_n 3, 1) := by decide +kernel
theorem dX1_onBorder_46 : decode cX1_onBorder 46 = .ok (.iload_n 1, 1) := by decide +kernel
theorem dX1_onBorder_47 : decode cX1_onBorder 47 = .ok (.invokevirtual 49, 3) := by decide +kernel
theorem dX1_onBorder_50 : decode cX1_onBorder 50 = .ok (.ifCond .ne 5, 3) := by decide +kernel
theorem dX1_onBorder_53 : decode cX1_onBorder 53 = .ok (.iconst 1, 1) := by decide +kernel
theorem dX1_onBorder_54 : decode cX1_onBorder 54 = .ok (.ireturn, 1) := by decide +kernel
theorem dX1_onBorder_55 : decode cX1_onBorder 55 = .ok (.iinc 2 1, 3) := by decide +kernel
theorem dX1_onBorder_58 : decode cX1_onBorder 58 = .ok (.goto (-56), 3) := by decide +kernel
theorem dX1_onBorder_61 : decode cX1_onBorder 61 = .ok (.iconst 0, 1) := by decide +kernel
theorem dX1_onBorder_62 : decode cX1_onBorder 62 = .ok (.ireturn, 1) := by decide +kernel
abbrev cX1_best : ByteArray := prog_3_method_21_code
def yX1_best : MethodName := ⟨RX1, "best", "(II)I"⟩
theorem dX1_best_0 : decode cX1_best 0 = .ok (.aload_n 0, 1) := by decide +kernel
theorem dX1_best_1 : decode cX1_best 1 = .ok (.iload_n 1, 1) := by decide +kernel
theorem dX1_best_2 : decode cX1_best 2 = .ok (.invokevirtual 67, 3) := by decide +kernel
theorem dX1_best_5 : decode cX1_best 5 = .ok (.ifCond .eq 11, 3) := by decide +kernel
theorem dX1_best_8 : decode cX1_best 8 = .ok (.aload_n 0, 1) := by decide +kernel
theorem dX1_best_9 : decode cX1_best 9 = .ok (.iload_n 2, 1) := by decide +kernel
theorem dX1_best_10 : decode cX1_best 10 = .ok (.invokevirtual 67, 3) := by decide +kernel
theorem dX1_best_13 : decode cX1_best 13 = .ok (.ifCond .ne 5, 3) := by decide +kernel
theorem dX1_best_16 : decode cX1_best 16 = .ok (.iconst (-1), 1) := by decide +kernel
theorem dX1_best_17 : decode cX1_best 17 = .ok (.ireturn, 1) := by decide +kernel
theorem dX1_best_18 : decode cX1_best 18 = .ok (.aload_n 0, 1) := by decide +kernel
theorem dX1_best_19 : decode cX1_best 19 = .ok (.getfield 32, 3) := by decide +kernel
theorem dX1_best_22 : decode cX1_best 22 = .ok (.ifCond .ne 6, 3) := by decide +kernel
theorem dX1_best_25 : decode cX1_best 25 = .ok (.bipush (-3), 2) := by decide +kernel
theorem dX1_best_27 : decode cX1_best 27 = .ok (.ireturn, 1) := by decide +kernel
theorem dX1_best_28 : decode cX1_best 28 = .ok (.aload_n 0, 1) := by decide +kernel
theorem dX1_best_29 : decode cX1_best 29 = .ok (.iload_n 1, 1) := by decide +kernel
theorem dX1_best_30 : decode cX1_best 30 = .ok (.iload_n 2, 1) := by decide +kernel
theorem dX1_best_31 : decode cX1_best 31 = .ok (.aload_n 0, 1) := by decide +kernel
theorem dX1_best_32 : decode cX1_best 32 = .ok (.getfield 19, 3) := by decide +kernel
theorem dX1_best_35 : decode cX1_best 35 = .ok (.iconst 0, 1) := by decide +kernel
theorem dX1_best_36 : decode cX1_best 36 = .ok (.iaload, 1) := by decide +kernel
theorem dX1_best_37 : decode cX1_best 37 = .ok (.invokevirtual 70, 3) := by decide +kernel
theorem dX1_best_40 : decode cX1_best 40 = .ok (.istore_n 3, 1) := by decide +kernel
theorem dX1_best_41 : decode cX1_best 41 = .ok (.iconst 1, 1) := by decide +kernel
theorem dX1_best_42 : decode cX1_best 42 = .ok (.istore 4, 2) := by decide +kernel
theorem dX1_best_44 : decode cX1_best 44 = .ok (.iload 4, 2) := by decide +kernel
theorem dX1_best_46 : decode cX1_best 46 = .ok (.aload_n 0, 1) := by decide +kernel
theorem dX1_best_47 : decode cX1_best 47 = .ok (.getfield 32, 3) := by decide +kernel
theorem dX1_best_50 : decode cX1_best 50 = .ok (.if_icmp .ge 33, 3) := by decide +kernel
theorem dX1_best_53 : decode cX1_best 53 = .ok (.aload_n 0, 1) := by decide +kernel
theorem dX1_best_54 : decode cX1_best 54 = .ok (.iload_n 1, 1) := by decide +kernel
theorem dX1_best_55 : decode cX1_best 55 = .ok (.iload_n 2, 1) := by decide +kernel
theorem dX1_best_56 : decode cX1_best 56 = .ok (.aload_n 0, 1) := by decide +kernel
theorem dX1_best_57 : decode cX1_best 57 = .ok (.getfield 19, 3) := by decide +kernel
theorem dX1_best_60 : decode cX1_best 60 = .ok (.iload 4, 2) := by decide +kernel
theorem dX1_best_62 : decode cX1_best 62 = .ok (.iaload, 1) := by decide +kernel
theorem dX1_best_63 : decode cX1_best 63 = .ok (.invokevirtual 70, 3) := by decide +kernel
theorem dX1_best_66 : decode cX1_best 66 = .ok (.istore 5, 2) := by decide +kernel
theorem dX1_best_68 : decode cX1_best 68 = .ok (.iload 5, 2) := by decide +kernel
theorem dX1_best_70 : decode cX1_best 70 = .ok (.iload_n 3, 1) := by decide +kernel
theorem dX1_best_71 : decode cX1_best 71 = .ok (.if_icmp .le 6, 3) := by decide +kernel
theorem dX1_best_74 : decode cX1_best 74 = .ok (.iload 5, 2) := by decide +kernel
theorem dX1_best_76 : decode cX1_best 76 = .ok (.istore_n 3, 1) := by decide +kernel
theorem dX1_best_77 : decode cX1_best 77 = .ok (.iinc 4 1, 3) := by decide +kernel
theorem dX1_best_80 : decode cX1_best 80 = .ok (.goto (-36), 3) := by decide +kernel
theorem dX1_best_83 : decode cX1_best 83 = .ok (.iload_n 3, 1) := by decide +kernel
theorem dX1_best_84 : decode cX1_best 84 = .ok (.ireturn, 1) := by decide +kernel
abbrev cX1_isFactor : ByteArray := prog_3_method_19_code
def yX1_isFactor : MethodName := ⟨RX1, "isFactor", "(I)Z"⟩
theorem dX1_isFactor_0 : decode cX1_isFactor 0 = .ok (.iload_n 1, 1) := by decide +kernel
theorem dX1_isFactor_1 : decode cX1_isFactor 1 = .ok (.bipush (-100), 2) := by decide +kernel
theorem dX1_isFactor_3 : decode cX1_isFactor 3 = .ok (.if_icmp .lt 13, 3) := by decide +kernel
theorem dX1_isFactor_6 : decode cX1_isFactor 6 = .ok (.iload_n 1, 1) := by decide +kernel
theorem dX1_isFactor_7 : decode cX1_isFactor 7 = .ok (.bipush 100, 2) := by decide +kernel
theorem dX1_isFactor_9 : decode cX1_isFactor 9 = .ok (.if_icmp .gt 7, 3) := by decide +kernel
theorem dX1_isFactor_12 : decode cX1_isFactor 12 = .ok (.iconst 1, 1) := by decide +kernel
theorem dX1_isFactor_13 : decode cX1_isFactor 13 = .ok (.goto 4, 3) := by decide +kernel
theorem dX1_isFactor_16 : decode cX1_isFactor 16 = .ok (.iconst 0, 1) := by decide +kernel
theorem dX1_isFactor_17 : decode cX1_isFactor 17 = .ok (.ireturn, 1) := by decide +kernel
abbrev cX1_value : ByteArray := prog_3_method_20_code
def yX1_value : MethodName := ⟨RX1, "value", "(III)I"⟩
theorem dX1_value_0 : decode cX1_value 0 = .ok (.iload_n 1, 1) := by decide +kernel
theorem dX1_value_1 : decode cX1_value 1 = .ok (.aload_n 0, 1) := by decide +kernel
theorem dX1_value_2 : decode cX1_value 2 = .ok (.iload_n 3, 1) := by decide +kernel
theorem dX1_value_3 : decode cX1_value 3 = .ok (.invokevirtual 42, 3) := by decide +kernel
theorem dX1_value_6 : decode cX1_value 6 = .ok (.imul, 1) := by decide +kernel
theorem dX1_value_7 : decode cX1_value 7 = .ok (.iload_n 2, 1) := by decide +kernel
theorem dX1_value_8 : decode cX1_value 8 = .ok (.aload_n 0, 1) := by decide +kernel
theorem dX1_value_9 : decode cX1_value 9 = .ok (.iload_n 3, 1) := by decide +kernel
theorem dX1_value_10 : decode cX1_value 10 = .ok (.invokevirtual 46, 3) := by decide +kernel
theorem dX1_value_13 : decode cX1_value 13 = .ok (.imul, 1) := by decide +kernel
theorem dX1_value_14 : decode cX1_value 14 = .ok (.iadd, 1) := by decide +kernel
theorem dX1_value_15 : decode cX1_value 15 = .ok (.ireturn, 1) := by decide +kernel
abbrev cX1_bestCorner : ByteArray := prog_3_method_22_code
def yX1_bestCorner : MethodName := ⟨RX1, "bestCorner", "(II)I"⟩
theorem dX1_bestCorner_0 : decode cX1_bestCorner 0 = .ok (.aload_n 0, 1) := by decide +kernel
theorem dX1_bestCorner_1 : decode cX1_bestCorner 1 = .ok (.iload_n 1, 1) := by decide +kernel
theorem dX1_bestCorner_2 : decode cX1_bestCorner 2 = .ok (.invokevirtual 67, 3) := by decide +kernel
theorem dX1_bestCorner_5 : decode cX1_bestCorner 5 = .ok (.ifCond .eq 11, 3) := by decide +kernel
theorem dX1_bestCorner_8 : decode cX1_bestCorner 8 = .ok (.aload_n 0, 1) := by decide +kernel
theorem dX1_bestCorner_9 : decode cX1_bestCorner 9 = .ok (.iload_n 2, 1) := by decide +kernel
theorem dX1_bestCorner_10 : decode cX1_bestCorner 10 = .ok (.invokevirtual 67, 3) := by decide +kernel
theorem dX1_bestCorner_13 : decode cX1_bestCorner 13 = .ok (.ifCond .ne 5, 3) := by decide +kernel
theorem dX1_bestCorner_16 : decode cX1_bestCorner 16 = .ok (.iconst (-1), 1) := by decide +kernel
theorem dX1_bestCorner_17 : decode cX1_bestCorner 17 = .ok (.ireturn, 1) := by decide +kernel
theorem dX1_bestCorner_18 : decode cX1_bestCorner 18 = .ok (.aload_n 0, 1) := by decide +kernel
theorem dX1_bestCorner_19 : decode cX1_bestCorner 19 = .ok (.iload_n 1, 1) := by decide +kernel
theorem dX1_bestCorner_20 : decode cX1_bestCorner 20 = .ok (.iload_n 2, 1) := by decide +kernel
theorem dX1_bestCorner_21 : decode cX1_bestCorner 21 = .ok (.invokevirtual 73, 3) := by decide +kernel
theorem dX1_bestCorner_24 : decode cX1_bestCorner 24 = .ok (.istore_n 3, 1) := by decide +kernel
theorem dX1_bestCorner_25 : decode cX1_bestCorner 25 = .ok (.iconst 0, 1) := by decide +kernel
theorem dX1_bestCorner_26 : decode cX1_bestCorner 26 = .ok (.istore 4, 2) := by decide +kernel
theorem dX1_bestCorner_28 : decode cX1_bestCorner 28 = .ok (.iload 4, 2) := by decide +kernel
theorem dX1_bestCorner_30 : decode cX1_bestCorner 30 = .ok (.aload_n 0, 1) := by decide +kernel
theorem dX1_bestCorner_31 : decode cX1_bestCorner 31 = .ok (.getfield 57, 3) := by decide +kernel
theorem dX1_bestCorner_34 : decode cX1_bestCorner 34 = .ok (.if_icmp .ge 29, 3) := by decide +kernel
theorem dX1_bestCorner_37 : decode cX1_bestCorner 37 = .ok (.aload_n 0, 1) := by decide +kernel
theorem dX1_bestCorner_38 : decode cX1_bestCorner 38 = .ok (.iload_n 1, 1) := by decide +kernel
theorem dX1_bestCorner_39 : decode cX1_bestCorner 39 = .ok (.iload_n 2, 1) := by decide +kernel
theorem dX1_bestCorner_40 : decode cX1_bestCorner 40 = .ok (.aload_n 0, 1) := by decide +kernel
theorem dX1_bestCorner_41 : decode cX1_bestCorner 41 = .ok (.getfield 22, 3) := by decide +kernel
theorem dX1_bestCorner_44 : decode cX1_bestCorner 44 = .ok (.iload 4, 2) := by decide +kernel
theorem dX1_bestCorner_46 : decode cX1_bestCorner 46 = .ok (.iaload, 1) := by decide +kernel
theorem dX1_bestCorner_47 : decode cX1_bestCorner 47 = .ok (.invokevirtual 70, 3) := by decide +kernel
theorem dX1_bestCorner_50 : decode cX1_bestCorner 50 = .ok (.iload_n 3, 1) := by decide +kernel
theorem dX1_bestCorner_51 : decode cX1_bestCorner 51 = .ok (.if_icmp .ne 6, 3) := by decide +kernel
theorem dX1_bestCorner_54 : decode cX1_bestCorner 54 = .ok (.iload 4, 2) := by decide +kernel
theorem dX1_bestCorner_56 : decode cX1_bestCorner 56 = .ok (.ireturn, 1) := by decide +kernel
theorem dX1_bestCorner_57 : decode cX1_bestCorner 57 = .ok (.iinc 4 1, 3) := by decide +kernel
theorem dX1_bestCorner_60 : decode cX1_bestCorner 60 = .ok (.goto (-32), 3) := by decide +kernel
theorem dX1_bestCorner_63 : decode cX1_bestCorner 63 = .ok (.bipush (-3), 2) := by decide +kernel
theorem dX1_bestCorner_65 : decode cX1_bestCorner 65 = .ok (.ireturn, 1) := by decide +kernel
abbrev cX1_column : ByteArray := prog_3_method_23_code
def yX1_column : MethodName := ⟨RX1, "column", "(I)I"⟩
theorem dX1_column_0 : decode cX1_column 0 = .ok (.iconst 0, 1) := by decide +kernel
theorem dX1_column_1 : decode cX1_column 1 = .ok (.istore_n 2, 1) := by decide +kernel
theorem dX1_column_2 : decode cX1_column 2 = .ok (.iconst 0, 1) := by decide +kernel
theorem dX1_column_3 : decode cX1_column 3 = .ok (.istore_n 3, 1) := by decide +kernel
theorem dX1_column_4 : decode cX1_column 4 = .ok (.iload_n 3, 1) := by decide +kernel
theorem dX1_column_5 : decode cX1_column 5 = .ok (.aload_n 0, 1) := by decide +kernel
theorem dX1_column_6 : decode cX1_column 6 = .ok (.getfield 32, 3) := by decide +kernel
theorem dX1_column_9 : decode cX1_column 9 = .ok (.if_icmp .ge 26, 3) := by decide +kernel
theorem dX1_column_12 : decode cX1_column 12 = .ok (.aload_n 0, 1) := by decide +kernel
theorem dX1_column_13 : decode cX1_column 13 = .ok (.aload_n 0, 1) := by decide +kernel
theorem dX1_column_14 : decode cX1_column 14 = .ok (.getfield 19, 3) := by decide +kernel
theorem dX1_column_17 : decode cX1_column 17 = .ok (.iload_n 3, 1) := by decide +kernel
theorem dX1_column_18 : decode cX1_column 18 = .ok (.iaload, 1) := by decide +kernel
theorem dX1_column_19 : decode cX1_column 19 = .ok (.invokevirtual 42, 3) := by decide +kernel
theorem dX1_column_22 : decode cX1_column 22 = .ok (.iload_n 1, 1) := by decide +kernel
theorem dX1_column_23 : decode cX1_column 23 = .ok (.if_icmp .ne 6, 3) := by decide +kernel
theorem dX1_column_26 : decode cX1_column 26 = .ok (.iinc 2 1, 3) := by decide +kernel
theorem dX1_column_29 : decode cX1_column 29 = .ok (.iinc 3 1, 3) := by decide +kernel
theorem dX1_column_32 : decode cX1_column 32 = .ok (.goto (-28), 3) := by decide +kernel
theorem dX1_column_35 : decode cX1_column 35 = .ok (.iload_n 2, 1) := by decide +kernel
theorem dX1_column_36 : decode cX1_column 36 = .ok (.ireturn, 1) := by decide +kernel
theorem q18 : (Jvm.Cond.initialized "IntegerHullModel") ∈ lw_all := lw_g (lw_at lw_m1 2 rfl) rfl
theorem q146 : (Jvm.Cond.instantiable "IntegerHullModel" (8 : Nat)) ∈ lw_all := lw_g (lw_at lw_m1 130 rfl) rfl
theorem q148 : (Jvm.Cond.instanceMethod ({ cls := "IntegerHullModel", name := "<init>", desc := "()V" } : Jvm.MethodName)) ∈ lw_all := lw_g (lw_at lw_m1 132 rfl) rfl
theorem q149 : (Jvm.Cond.code ({ cls := "IntegerHullModel", name := "<init>", desc := "()V" } : Jvm.MethodName) prog_3_method_1_code (1 : Nat) (Option.none : Option Jvm.ClassFile.FieldType)) ∈ lw_all := lw_g (lw_at lw_m1 133 rfl) rfl
theorem q150 : (Jvm.Cond.methodLink "IntegerHullModel" (1 : Nat) ({ cls := "java/lang/Object", name := "<init>", desc := "()V" } : Jvm.MethodName)) ∈ lw_all := lw_g (lw_at lw_m1 134 rfl) rfl
theorem q151 : (Jvm.Cond.methodLink "IntegerHullModel" (25 : Nat) ({ cls := "IntegerHullModel", name := "refresh", desc := "()V" } : Jvm.MethodName)) ∈ lw_all := lw_g (lw_at lw_m1 135 rfl) rfl
theorem q152 : (Jvm.Cond.privateMethod ({ cls := "IntegerHullModel", name := "refresh", desc := "()V" } : Jvm.MethodName)) ∈ lw_tbl := lw_at lw_m1 136 rfl
theorem q153 : (Jvm.Cond.instanceMethod ({ cls := "IntegerHullModel", name := "refresh", desc := "()V" } : Jvm.MethodName)) ∈ lw_all := lw_g (lw_at lw_m1 137 rfl) rfl
theorem q154 : (Jvm.Cond.code ({ cls := "IntegerHullModel", name := "refresh", desc := "()V" } : Jvm.MethodName) prog_3_method_5_code (2 : Nat) (Option.none : Option Jvm.ClassFile.FieldType)) ∈ lw_all := lw_g (lw_at lw_m1 138 rfl) rfl
theorem q155 : (Jvm.Cond.methodLink "IntegerHullModel" (35 : Nat) ({ cls := "IntegerHullModel", name := "has", desc := "(II)Z" } : Jvm.MethodName)) ∈ lw_all := lw_g (lw_at lw_m1 139 rfl) rfl
theorem q156 : (Jvm.Cond.instanceMethod ({ cls := "IntegerHullModel", name := "has", desc := "(II)Z" } : Jvm.MethodName)) ∈ lw_all := lw_g (lw_at lw_m1 140 rfl) rfl
theorem q157 : (Jvm.Cond.selects "IntegerHullModel" ({ cls := "IntegerHullModel", name := "has", desc := "(II)Z" } : Jvm.MethodName) ({ cls := "IntegerHullModel", name := "has", desc := "(II)Z" } : Jvm.MethodName)) ∈ lw_all := lw_g (lw_at lw_m1 141 rfl) rfl
theorem q158 : (Jvm.Cond.code ({ cls := "IntegerHullModel", name := "has", desc := "(II)Z" } : Jvm.MethodName) prog_3_method_13_code (4 : Nat) (Option.some Jvm.ClassFile.FieldType.boolean)) ∈ lw_all := lw_g (lw_at lw_m1 142 rfl) rfl
theorem q159 : (Jvm.Cond.methodLink "IntegerHullModel" (39 : Nat) ({ cls := "IntegerHullModel", name := "walk", desc := "()V" } : Jvm.MethodName)) ∈ lw_all := lw_g (lw_at lw_m1 143 rfl) rfl
theorem q160 : (Jvm.Cond.privateMethod ({ cls := "IntegerHullModel", name := "walk", desc := "()V" } : Jvm.MethodName)) ∈ lw_tbl := lw_at lw_m1 144 rfl
end
section
set_option maxRecDepth 100000
theorem q161 : (Jvm.Cond.instanceMethod ({ cls := "IntegerHullModel", name := "walk", desc := "()V" } : Jvm.MethodName)) ∈ lw_all := lw_g (lw_at lw_m1 145 rfl) rfl
theorem q162 : (Jvm.Cond.code ({ cls := "IntegerHullModel", name := "walk", desc := "()V" } : Jvm.MethodName) prog_3_method_11_code (3 : Nat) (Option.none : Option Jvm.ClassFile.FieldType)) ∈ lw_all := lw_g (lw_at lw_m1 146 rfl) rfl
theorem q163 : (Jvm.Cond.methodLink "IntegerHullModel" (60 : Nat) ({ cls := "IntegerHullModel", name := "next", desc := "(I)I" } : Jvm.MethodName)) ∈ lw_all := lw_g (lw_at lw_m1 147 rfl) rfl
theorem q164 : (Jvm.Cond.privateMethod ({ cls := "IntegerHullModel", name := "next", desc := "(I)I" } : Jvm.MethodName)) ∈ lw_tbl := lw_at lw_m1 148 rfl
theorem q165 : (Jvm.Cond.instanceMethod ({ cls := "IntegerHullModel", name := "next", desc := "(I)I" } : Jvm.MethodName)) ∈ lw_all := lw_g (lw_at lw_m1 149 rfl) rfl
theorem q166 : (Jvm.Cond.code ({ cls := "IntegerHullModel", name := "next", desc := "(I)I" } : Jvm.MethodName) prog_3_method_10_code (6 : Nat) (Option.some Jvm.ClassFile.FieldType.int)) ∈ lw_all := lw_g (lw_at lw_m1 150 rfl) rfl
theorem q167 : (Jvm.Cond.methodLink "IntegerHullModel" (49 : Nat) ({ cls := "IntegerHullModel", name := "turn", desc := "(III)I" } : Jvm.MethodName)) ∈ lw_all := lw_g (lw_at lw_m1 151 rfl) rfl
theorem q168 : (Jvm.Cond.privateMethod ({ cls := "IntegerHullModel", name := "turn", desc := "(III)I" } : Jvm.MethodName)) ∈ lw_tbl := lw_at lw_m1 152 rfl
theorem q169 : (Jvm.Cond.instanceMethod ({ cls := "IntegerHullModel", name := "turn", desc := "(III)I" } : Jvm.MethodName)) ∈ lw_all := lw_g (lw_at lw_m1 153 rfl) rfl
theorem q170 : (Jvm.Cond.code ({ cls := "IntegerHullModel", name := "turn", desc := "(III)I" } : Jvm.MethodName) prog_3_method_8_code (4 : Nat) (Option.some Jvm.ClassFile.FieldType.int)) ∈ lw_all := lw_g (lw_at lw_m1 154 rfl) rfl
theorem q171 : (Jvm.Cond.methodLink "IntegerHullModel" (42 : Nat) ({ cls := "IntegerHullModel", name := "xOf", desc := "(I)I" } : Jvm.MethodName)) ∈ lw_all := lw_g (lw_at lw_m1 155 rfl) rfl
theorem q172 : (Jvm.Cond.privateMethod ({ cls := "IntegerHullModel", name := "xOf", desc := "(I)I" } : Jvm.MethodName)) ∈ lw_tbl := lw_at lw_m1 156 rfl
theorem q173 : (Jvm.Cond.instanceMethod ({ cls := "IntegerHullModel", name := "xOf", desc := "(I)I" } : Jvm.MethodName)) ∈ lw_all := lw_g (lw_at lw_m1 157 rfl) rfl
theorem q174 : (Jvm.Cond.code ({ cls := "IntegerHullModel", name := "xOf", desc := "(I)I" } : Jvm.MethodName) prog_3_method_6_code (2 : Nat) (Option.some Jvm.ClassFile.FieldType.int)) ∈ lw_all := lw_g (lw_at lw_m1 158 rfl) rfl
theorem q175 : (Jvm.Cond.methodLink "IntegerHullModel" (46 : Nat) ({ cls := "IntegerHullModel", name := "yOf", desc := "(I)I" } : Jvm.MethodName)) ∈ lw_all := lw_g (lw_at lw_m1 159 rfl) rfl
theorem q176 : (Jvm.Cond.privateMethod ({ cls := "IntegerHullModel", name := "yOf", desc := "(I)I" } : Jvm.MethodName)) ∈ lw_tbl := lw_at lw_m1 160 rfl
theorem q177 : (Jvm.Cond.instanceMethod ({ cls := "IntegerHullModel", name := "yOf", desc := "(I)I" } : Jvm.MethodName)) ∈ lw_all := lw_g (lw_at lw_m1 161 rfl) rfl
theorem q178 : (Jvm.Cond.code ({ cls := "IntegerHullModel", name := "yOf", desc := "(I)I" } : Jvm.MethodName) prog_3_method_7_code (2 : Nat) (Option.some Jvm.ClassFile.FieldType.int)) ∈ lw_all := lw_g (lw_at lw_m1 162 rfl) rfl
theorem q179 : (Jvm.Cond.methodLink "IntegerHullModel" (53 : Nat) ({ cls := "IntegerHullModel", name := "distance", desc := "(II)I" } : Jvm.MethodName)) ∈ lw_all := lw_g (lw_at lw_m1 163 rfl) rfl
theorem q180 : (Jvm.Cond.privateMethod ({ cls := "IntegerHullModel", name := "distance", desc := "(II)I" } : Jvm.MethodName)) ∈ lw_tbl := lw_at lw_m1 164 rfl
theorem q181 : (Jvm.Cond.instanceMethod ({ cls := "IntegerHullModel", name := "distance", desc := "(II)I" } : Jvm.MethodName)) ∈ lw_all := lw_g (lw_at lw_m1 165 rfl) rfl
theorem q182 : (Jvm.Cond.code ({ cls := "IntegerHullModel", name := "distance", desc := "(II)I" } : Jvm.MethodName) prog_3_method_9_code (5 : Nat) (Option.some Jvm.ClassFile.FieldType.int)) ∈ lw_all := lw_g (lw_at lw_m1 166 rfl) rfl
theorem q183 : (Jvm.Cond.fieldLink "IntegerHullModel" (7 : Nat) "IntegerHullModel" "as" "[I") ∈ lw_all := lw_g (lw_at lw_m1 167 rfl) rfl
theorem q184 : (Jvm.Cond.fieldLink "IntegerHullModel" (13 : Nat) "IntegerHullModel" "bs" "[I") ∈ lw_all := lw_g (lw_at lw_m1 168 rfl) rfl
theorem q185 : (Jvm.Cond.fieldLink "IntegerHullModel" (16 : Nat) "IntegerHullModel" "cs" "[I") ∈ lw_all := lw_g (lw_at lw_m1 169 rfl) rfl
theorem q186 : (Jvm.Cond.fieldLink "IntegerHullModel" (28 : Nat) "IntegerHullModel" "conditions" "I") ∈ lw_all := lw_g (lw_at lw_m1 170 rfl) rfl
theorem q187 : (Jvm.Cond.fieldLink "IntegerHullModel" (19 : Nat) "IntegerHullModel" "list" "[I") ∈ lw_all := lw_g (lw_at lw_m1 171 rfl) rfl
theorem q188 : (Jvm.Cond.fieldLink "IntegerHullModel" (32 : Nat) "IntegerHullModel" "listed" "I") ∈ lw_all := lw_g (lw_at lw_m1 172 rfl) rfl
theorem q189 : (Jvm.Cond.fieldLink "IntegerHullModel" (22 : Nat) "IntegerHullModel" "hull" "[I") ∈ lw_all := lw_g (lw_at lw_m1 173 rfl) rfl
theorem q190 : (Jvm.Cond.fieldLink "IntegerHullModel" (57 : Nat) "IntegerHullModel" "hullSize" "I") ∈ lw_all := lw_g (lw_at lw_m1 174 rfl) rfl
theorem q191 : (Jvm.Cond.laysFinal "IntegerHullModel" "IntegerHullModel" "as" "[I") ∈ lw_all := lw_g (lw_at lw_m1 175 rfl) rfl
theorem q192 : (Jvm.Cond.soleField "IntegerHullModel" "as") ∈ lw_all := lw_g (lw_at lw_m1 176 rfl) rfl
theorem q193 : (Jvm.Cond.laysFinal "IntegerHullModel" "IntegerHullModel" "bs" "[I") ∈ lw_all := lw_g (lw_at lw_m1 177 rfl) rfl
theorem q194 : (Jvm.Cond.soleField "IntegerHullModel" "bs") ∈ lw_all := lw_g (lw_at lw_m1 178 rfl) rfl
theorem q195 : (Jvm.Cond.laysFinal "IntegerHullModel" "IntegerHullModel" "cs" "[I") ∈ lw_all := lw_g (lw_at lw_m1 179 rfl) rfl
theorem q196 : (Jvm.Cond.soleField "IntegerHullModel" "cs") ∈ lw_all := lw_g (lw_at lw_m1 180 rfl) rfl
theorem q197 : (Jvm.Cond.lays "IntegerHullModel" "IntegerHullModel" "conditions" "I") ∈ lw_all := lw_g (lw_at lw_m1 181 rfl) rfl
theorem q198 : (Jvm.Cond.soleField "IntegerHullModel" "conditions") ∈ lw_all := lw_g (lw_at lw_m1 182 rfl) rfl
theorem q199 : (Jvm.Cond.laysFinal "IntegerHullModel" "IntegerHullModel" "list" "[I") ∈ lw_all := lw_g (lw_at lw_m1 183 rfl) rfl
theorem q200 : (Jvm.Cond.soleField "IntegerHullModel" "list") ∈ lw_all := lw_g (lw_at lw_m1 184 rfl) rfl
theorem q201 : (Jvm.Cond.lays "IntegerHullModel" "IntegerHullModel" "listed" "I") ∈ lw_all := lw_g (lw_at lw_m1 185 rfl) rfl
theorem q202 : (Jvm.Cond.soleField "IntegerHullModel" "listed") ∈ lw_all := lw_g (lw_at lw_m1 186 rfl) rfl
theorem q203 : (Jvm.Cond.laysFinal "IntegerHullModel" "IntegerHullModel" "hull" "[I") ∈ lw_all := lw_g (lw_at lw_m1 187 rfl) rfl
theorem q204 : (Jvm.Cond.soleField "IntegerHullModel" "hull") ∈ lw_all := lw_g (lw_at lw_m1 188 rfl) rfl
theorem q205 : (Jvm.Cond.lays "IntegerHullModel" "IntegerHullModel" "hullSize" "I") ∈ lw_all := lw_g (lw_at lw_m1 189 rfl) rfl
theorem q206 : (Jvm.Cond.soleField "IntegerHullModel" "hullSize") ∈ lw_all := lw_g (lw_at lw_m1 190 rfl) rfl
theorem q207 : (Jvm.Cond.superclass "IntegerHullModel" "java/lang/Object") ∈ lw_all := lw_g (lw_at lw_m1 191 rfl) rfl
theorem q209 : (Jvm.Cond.instanceMethod ({ cls := "IntegerHullModel", name := "condition", desc := "(III)I" } : Jvm.MethodName)) ∈ lw_all := lw_g (lw_at lw_m1 193 rfl) rfl
theorem q210 : (Jvm.Cond.selects "IntegerHullModel" ({ cls := "IntegerHullModel", name := "condition", desc := "(III)I" } : Jvm.MethodName) ({ cls := "IntegerHullModel", name := "condition", desc := "(III)I" } : Jvm.MethodName)) ∈ lw_all := lw_g (lw_at lw_m1 194 rfl) rfl
theorem q211 : (Jvm.Cond.code ({ cls := "IntegerHullModel", name := "condition", desc := "(III)I" } : Jvm.MethodName) prog_3_method_2_code (5 : Nat) (Option.some Jvm.ClassFile.FieldType.int)) ∈ lw_all := lw_g (lw_at lw_m1 195 rfl) rfl
theorem q213 : (Jvm.Cond.instanceMethod ({ cls := "IntegerHullModel", name := "drop", desc := "()I" } : Jvm.MethodName)) ∈ lw_all := lw_g (lw_at lw_m1 197 rfl) rfl
theorem q214 : (Jvm.Cond.selects "IntegerHullModel" ({ cls := "IntegerHullModel", name := "drop", desc := "()I" } : Jvm.MethodName) ({ cls := "IntegerHullModel", name := "drop", desc := "()I" } : Jvm.MethodName)) ∈ lw_all := lw_g (lw_at lw_m1 198 rfl) rfl
theorem q215 : (Jvm.Cond.code ({ cls := "IntegerHullModel", name := "drop", desc := "()I" } : Jvm.MethodName) prog_3_method_3_code (1 : Nat) (Option.some Jvm.ClassFile.FieldType.int)) ∈ lw_all := lw_g (lw_at lw_m1 199 rfl) rfl
theorem q217 : (Jvm.Cond.instanceMethod ({ cls := "IntegerHullModel", name := "shift", desc := "(II)I" } : Jvm.MethodName)) ∈ lw_all := lw_g (lw_at lw_m1 201 rfl) rfl
theorem q218 : (Jvm.Cond.selects "IntegerHullModel" ({ cls := "IntegerHullModel", name := "shift", desc := "(II)I" } : Jvm.MethodName) ({ cls := "IntegerHullModel", name := "shift", desc := "(II)I" } : Jvm.MethodName)) ∈ lw_all := lw_g (lw_at lw_m1 202 rfl) rfl
theorem q219 : (Jvm.Cond.code ({ cls := "IntegerHullModel", name := "shift", desc := "(II)I" } : Jvm.MethodName) prog_3_method_4_code (4 : Nat) (Option.some Jvm.ClassFile.FieldType.int)) ∈ lw_all := lw_g (lw_at lw_m1 203 rfl) rfl
theorem q221 : (Jvm.Cond.instanceMethod ({ cls := "IntegerHullModel", name := "points", desc := "()I" } : Jvm.MethodName)) ∈ lw_all := lw_g (lw_at lw_m1 205 rfl) rfl
theorem q222 : (Jvm.Cond.selects "IntegerHullModel" ({ cls := "IntegerHullModel", name := "points", desc := "()I" } : Jvm.MethodName) ({ cls := "IntegerHullModel", name := "points", desc := "()I" } : Jvm.MethodName)) ∈ lw_all := lw_g (lw_at lw_m1 206 rfl) rfl
theorem q223 : (Jvm.Cond.code ({ cls := "IntegerHullModel", name := "points", desc := "()I" } : Jvm.MethodName) prog_3_method_12_code (1 : Nat) (Option.some Jvm.ClassFile.FieldType.int)) ∈ lw_all := lw_g (lw_at lw_m1 207 rfl) rfl
theorem q226 : (Jvm.Cond.instanceMethod ({ cls := "IntegerHullModel", name := "corners", desc := "()I" } : Jvm.MethodName)) ∈ lw_all := lw_g (lw_at lw_m1 210 rfl) rfl
theorem q227 : (Jvm.Cond.selects "IntegerHullModel" ({ cls := "IntegerHullModel", name := "corners", desc := "()I" } : Jvm.MethodName) ({ cls := "IntegerHullModel", name := "corners", desc := "()I" } : Jvm.MethodName)) ∈ lw_all := lw_g (lw_at lw_m1 211 rfl) rfl
theorem q228 : (Jvm.Cond.code ({ cls := "IntegerHullModel", name := "corners", desc := "()I" } : Jvm.MethodName) prog_3_method_14_code (1 : Nat) (Option.some Jvm.ClassFile.FieldType.int)) ∈ lw_all := lw_g (lw_at lw_m1 212 rfl) rfl
theorem q230 : (Jvm.Cond.instanceMethod ({ cls := "IntegerHullModel", name := "corner", desc := "(I)I" } : Jvm.MethodName)) ∈ lw_all := lw_g (lw_at lw_m1 214 rfl) rfl
theorem q231 : (Jvm.Cond.selects "IntegerHullModel" ({ cls := "IntegerHullModel", name := "corner", desc := "(I)I" } : Jvm.MethodName) ({ cls := "IntegerHullModel", name := "corner", desc := "(I)I" } : Jvm.MethodName)) ∈ lw_all := lw_g (lw_at lw_m1 215 rfl) rfl
theorem q232 : (Jvm.Cond.code ({ cls := "IntegerHullModel", name := "corner", desc := "(I)I" } : Jvm.MethodName) prog_3_method_15_code (2 : Nat) (Option.some Jvm.ClassFile.FieldType.int)) ∈ lw_all := lw_g (lw_at lw_m1 216 rfl) rfl
theorem q234 : (Jvm.Cond.instanceMethod ({ cls := "IntegerHullModel", name := "area2", desc := "()I" } : Jvm.MethodName)) ∈ lw_all := lw_g (lw_at lw_m1 218 rfl) rfl
theorem q235 : (Jvm.Cond.selects "IntegerHullModel" ({ cls := "IntegerHullModel", name := "area2", desc := "()I" } : Jvm.MethodName) ({ cls := "IntegerHullModel", name := "area2", desc := "()I" } : Jvm.MethodName)) ∈ lw_all := lw_g (lw_at lw_m1 219 rfl) rfl
theorem q236 : (Jvm.Cond.code ({ cls := "IntegerHullModel", name := "area2", desc := "()I" } : Jvm.MethodName) prog_3_method_16_code (3 : Nat) (Option.some Jvm.ClassFile.FieldType.int)) ∈ lw_all := lw_g (lw_at lw_m1 220 rfl) rfl
theorem q238 : (Jvm.Cond.instanceMethod ({ cls := "IntegerHullModel", name := "border", desc := "()I" } : Jvm.MethodName)) ∈ lw_all := lw_g (lw_at lw_m1 222 rfl) rfl
theorem q239 : (Jvm.Cond.selects "IntegerHullModel" ({ cls := "IntegerHullModel", name := "border", desc := "()I" } : Jvm.MethodName) ({ cls := "IntegerHullModel", name := "border", desc := "()I" } : Jvm.MethodName)) ∈ lw_all := lw_g (lw_at lw_m1 223 rfl) rfl
theorem q240 : (Jvm.Cond.code ({ cls := "IntegerHullModel", name := "border", desc := "()I" } : Jvm.MethodName) prog_3_method_18_code (3 : Nat) (Option.some Jvm.ClassFile.FieldType.int)) ∈ lw_all := lw_g (lw_at lw_m1 224 rfl) rfl
theorem q241 : (Jvm.Cond.methodLink "IntegerHullModel" (63 : Nat) ({ cls := "IntegerHullModel", name := "onBorder", desc := "(I)Z" } : Jvm.MethodName)) ∈ lw_all := lw_g (lw_at lw_m1 225 rfl) rfl
theorem q242 : (Jvm.Cond.privateMethod ({ cls := "IntegerHullModel", name := "onBorder", desc := "(I)Z" } : Jvm.MethodName)) ∈ lw_tbl := lw_at lw_m1 226 rfl
theorem q243 : (Jvm.Cond.instanceMethod ({ cls := "IntegerHullModel", name := "onBorder", desc := "(I)Z" } : Jvm.MethodName)) ∈ lw_all := lw_g (lw_at lw_m1 227 rfl) rfl
theorem q244 : (Jvm.Cond.code ({ cls := "IntegerHullModel", name := "onBorder", desc := "(I)Z" } : Jvm.MethodName) prog_3_method_17_code (4 : Nat) (Option.some Jvm.ClassFile.FieldType.boolean)) ∈ lw_all := lw_g (lw_at lw_m1 228 rfl) rfl
theorem q246 : (Jvm.Cond.instanceMethod ({ cls := "IntegerHullModel", name := "best", desc := "(II)I" } : Jvm.MethodName)) ∈ lw_all := lw_g (lw_at lw_m1 230 rfl) rfl
theorem q247 : (Jvm.Cond.selects "IntegerHullModel" ({ cls := "IntegerHullModel", name := "best", desc := "(II)I" } : Jvm.MethodName) ({ cls := "IntegerHullModel", name := "best", desc := "(II)I" } : Jvm.MethodName)) ∈ lw_all := lw_g (lw_at lw_m1 231 rfl) rfl
theorem q248 : (Jvm.Cond.code ({ cls := "IntegerHullModel", name := "best", desc := "(II)I" } : Jvm.MethodName) prog_3_method_21_code (6 : Nat) (Option.some Jvm.ClassFile.FieldType.int)) ∈ lw_all := lw_g (lw_at lw_m1 232 rfl) rfl
theorem q249 : (Jvm.Cond.methodLink "IntegerHullModel" (67 : Nat) ({ cls := "IntegerHullModel", name := "isFactor", desc := "(I)Z" } : Jvm.MethodName)) ∈ lw_all := lw_g (lw_at lw_m1 233 rfl) rfl
theorem q250 : (Jvm.Cond.privateMethod ({ cls := "IntegerHullModel", name := "isFactor", desc := "(I)Z" } : Jvm.MethodName)) ∈ lw_tbl := lw_at lw_m1 234 rfl
theorem q251 : (Jvm.Cond.instanceMethod ({ cls := "IntegerHullModel", name := "isFactor", desc := "(I)Z" } : Jvm.MethodName)) ∈ lw_all := lw_g (lw_at lw_m1 235 rfl) rfl
theorem q252 : (Jvm.Cond.code ({ cls := "IntegerHullModel", name := "isFactor", desc := "(I)Z" } : Jvm.MethodName) prog_3_method_19_code (2 : Nat) (Option.some Jvm.ClassFile.FieldType.boolean)) ∈ lw_all := lw_g (lw_at lw_m1 236 rfl) rfl
theorem q253 : (Jvm.Cond.methodLink "IntegerHullModel" (70 : Nat) ({ cls := "IntegerHullModel", name := "value", desc := "(III)I" } : Jvm.MethodName)) ∈ lw_all := lw_g (lw_at lw_m1 237 rfl) rfl
theorem q254 : (Jvm.Cond.privateMethod ({ cls := "IntegerHullModel", name := "value", desc := "(III)I" } : Jvm.MethodName)) ∈ lw_tbl := lw_at lw_m1 238 rfl
theorem q255 : (Jvm.Cond.instanceMethod ({ cls := "IntegerHullModel", name := "value", desc := "(III)I" } : Jvm.MethodName)) ∈ lw_all := lw_g (lw_at lw_m1 239 rfl) rfl
theorem q256 : (Jvm.Cond.code ({ cls := "IntegerHullModel", name := "value", desc := "(III)I" } : Jvm.MethodName) prog_3_method_20_code (4 : Nat) (Option.some Jvm.ClassFile.FieldType.int)) ∈ lw_all := lw_g (lw_at lw_m2 0 rfl) rfl
theorem q258 : (Jvm.Cond.instanceMethod ({ cls := "IntegerHullModel", name := "bestCorner", desc := "(II)I" } : Jvm.MethodName)) ∈ lw_all := lw_g (lw_at lw_m2 2 rfl) rfl
theorem q259 : (Jvm.Cond.selects "IntegerHullModel" ({ cls := "IntegerHullModel", name := "bestCorner", desc := "(II)I" } : Jvm.MethodName) ({ cls := "IntegerHullModel", name := "bestCorner", desc := "(II)I" } : Jvm.MethodName)) ∈ lw_all := lw_g (lw_at lw_m2 3 rfl) rfl
theorem q260 : (Jvm.Cond.code ({ cls := "IntegerHullModel", name := "bestCorner", desc := "(II)I" } : Jvm.MethodName) prog_3_method_22_code (5 : Nat) (Option.some Jvm.ClassFile.FieldType.int)) ∈ lw_all := lw_g (lw_at lw_m2 4 rfl) rfl
theorem q261 : (Jvm.Cond.methodLink "IntegerHullModel" (73 : Nat) ({ cls := "IntegerHullModel", name := "best", desc := "(II)I" } : Jvm.MethodName)) ∈ lw_all := lw_g (lw_at lw_m2 5 rfl) rfl
theorem q263 : (Jvm.Cond.instanceMethod ({ cls := "IntegerHullModel", name := "column", desc := "(I)I" } : Jvm.MethodName)) ∈ lw_all := lw_g (lw_at lw_m2 7 rfl) rfl
theorem q264 : (Jvm.Cond.selects "IntegerHullModel" ({ cls := "IntegerHullModel", name := "column", desc := "(I)I" } : Jvm.MethodName) ({ cls := "IntegerHullModel", name := "column", desc := "(I)I" } : Jvm.MethodName)) ∈ lw_all := lw_g (lw_at lw_m2 8 rfl) rfl
theorem q265 : (Jvm.Cond.code ({ cls := "IntegerHullModel", name := "column", desc := "(I)I" } : Jvm.MethodName) prog_3_method_23_code (4 : Nat) (Option.some Jvm.ClassFile.FieldType.int)) ∈ lw_all := lw_g (lw_at lw_m2 9 rfl) rfl
theorem in_X1 : ∀ w ∈ wsX10, w ∈ lw_all := lw_in wsX10 [191, 193, 195, 197, 199, 201, 203, 205] (by decide +kernel) (by decide +kernel)
end
section
set_option maxRecDepth 100000
def RJ0 : String := "java/lang/Object"
abbrev cJ0_init : ByteArray := object_method_1_code
def yJ0_init : MethodName := ⟨RJ0, "<init>", "()V"⟩
theorem dJ0_init_0 : decode cJ0_init 0 = .ok (.return_, 1) := by decide +kernel
theorem q25 : (Jvm.Cond.instanceMethod ({ cls := "java/lang/Object", name := "<init>", desc := "()V" } : Jvm.MethodName)) ∈ lw_all := lw_g (lw_at lw_m1 9 rfl) rfl
theorem q26 : (Jvm.Cond.code ({ cls := "java/lang/Object", name := "<init>", desc := "()V" } : Jvm.MethodName) object_method_1_code (1 : Nat) (Option.none : Option Jvm.ClassFile.FieldType)) ∈ lw_all := lw_g (lw_at lw_m1 10 rfl) rfl
theorem q16 : (Jvm.Cond.initialized "IntegerHullLaw") ∈ lw_all := lw_g (lw_at lw_m1 0 rfl) rfl
theorem q19 : (Jvm.Cond.classLink "IntegerHullLaw" (7 : Nat) "IntegerHull") ∈ lw_all := lw_g (lw_at lw_m1 3 rfl) rfl
theorem q21 : (Jvm.Cond.methodLink "IntegerHullLaw" (9 : Nat) ({ cls := "IntegerHull", name := "<init>", desc := "()V" } : Jvm.MethodName)) ∈ lw_all := lw_g (lw_at lw_m1 5 rfl) rfl
theorem q59 : (Jvm.Cond.methodLink "IntegerHullLaw" (13 : Nat) ({ cls := "IntegerHull", name := "condition", desc := "(III)I" } : Jvm.MethodName)) ∈ lw_all := lw_g (lw_at lw_m1 43 rfl) rfl
theorem q66 : (Jvm.Cond.methodLink "IntegerHullLaw" (18 : Nat) ({ cls := "IntegerHull", name := "drop", desc := "()I" } : Jvm.MethodName)) ∈ lw_all := lw_g (lw_at lw_m1 50 rfl) rfl
theorem q70 : (Jvm.Cond.methodLink "IntegerHullLaw" (23 : Nat) ({ cls := "IntegerHull", name := "shift", desc := "(II)I" } : Jvm.MethodName)) ∈ lw_all := lw_g (lw_at lw_m1 54 rfl) rfl
theorem q74 : (Jvm.Cond.methodLink "IntegerHullLaw" (28 : Nat) ({ cls := "IntegerHull", name := "points", desc := "()I" } : Jvm.MethodName)) ∈ lw_all := lw_g (lw_at lw_m1 58 rfl) rfl
theorem q105 : (Jvm.Cond.methodLink "IntegerHullLaw" (32 : Nat) ({ cls := "IntegerHull", name := "has", desc := "(II)Z" } : Jvm.MethodName)) ∈ lw_all := lw_g (lw_at lw_m1 89 rfl) rfl
theorem q109 : (Jvm.Cond.methodLink "IntegerHullLaw" (37 : Nat) ({ cls := "IntegerHull", name := "corners", desc := "()I" } : Jvm.MethodName)) ∈ lw_all := lw_g (lw_at lw_m1 93 rfl) rfl
theorem q113 : (Jvm.Cond.methodLink "IntegerHullLaw" (41 : Nat) ({ cls := "IntegerHull", name := "corner", desc := "(I)I" } : Jvm.MethodName)) ∈ lw_all := lw_g (lw_at lw_m1 97 rfl) rfl
theorem q117 : (Jvm.Cond.methodLink "IntegerHullLaw" (46 : Nat) ({ cls := "IntegerHull", name := "area2", desc := "()I" } : Jvm.MethodName)) ∈ lw_all := lw_g (lw_at lw_m1 101 rfl) rfl
theorem q121 : (Jvm.Cond.methodLink "IntegerHullLaw" (50 : Nat) ({ cls := "IntegerHull", name := "border", desc := "()I" } : Jvm.MethodName)) ∈ lw_all := lw_g (lw_at lw_m1 105 rfl) rfl
theorem q129 : (Jvm.Cond.methodLink "IntegerHullLaw" (54 : Nat) ({ cls := "IntegerHull", name := "best", desc := "(II)I" } : Jvm.MethodName)) ∈ lw_all := lw_g (lw_at lw_m1 113 rfl) rfl
theorem q140 : (Jvm.Cond.methodLink "IntegerHullLaw" (58 : Nat) ({ cls := "IntegerHull", name := "bestCorner", desc := "(II)I" } : Jvm.MethodName)) ∈ lw_all := lw_g (lw_at lw_m1 124 rfl) rfl
theorem q141 : (Jvm.Cond.methodLink "IntegerHullLaw" (62 : Nat) ({ cls := "IntegerHull", name := "column", desc := "(I)I" } : Jvm.MethodName)) ∈ lw_all := lw_g (lw_at lw_m1 125 rfl) rfl
theorem q145 : (Jvm.Cond.classLink "IntegerHullLaw" (10 : Nat) "IntegerHullModel") ∈ lw_all := lw_g (lw_at lw_m1 129 rfl) rfl
theorem q147 : (Jvm.Cond.methodLink "IntegerHullLaw" (12 : Nat) ({ cls := "IntegerHullModel", name := "<init>", desc := "()V" } : Jvm.MethodName)) ∈ lw_all := lw_g (lw_at lw_m1 131 rfl) rfl
theorem q208 : (Jvm.Cond.methodLink "IntegerHullLaw" (17 : Nat) ({ cls := "IntegerHullModel", name := "condition", desc := "(III)I" } : Jvm.MethodName)) ∈ lw_all := lw_g (lw_at lw_m1 192 rfl) rfl
theorem q212 : (Jvm.Cond.methodLink "IntegerHullLaw" (22 : Nat) ({ cls := "IntegerHullModel", name := "drop", desc := "()I" } : Jvm.MethodName)) ∈ lw_all := lw_g (lw_at lw_m1 196 rfl) rfl
theorem q216 : (Jvm.Cond.methodLink "IntegerHullLaw" (27 : Nat) ({ cls := "IntegerHullModel", name := "shift", desc := "(II)I" } : Jvm.MethodName)) ∈ lw_all := lw_g (lw_at lw_m1 200 rfl) rfl
theorem q220 : (Jvm.Cond.methodLink "IntegerHullLaw" (31 : Nat) ({ cls := "IntegerHullModel", name := "points", desc := "()I" } : Jvm.MethodName)) ∈ lw_all := lw_g (lw_at lw_m1 204 rfl) rfl
theorem q224 : (Jvm.Cond.methodLink "IntegerHullLaw" (36 : Nat) ({ cls := "IntegerHullModel", name := "has", desc := "(II)Z" } : Jvm.MethodName)) ∈ lw_all := lw_g (lw_at lw_m1 208 rfl) rfl
theorem q225 : (Jvm.Cond.methodLink "IntegerHullLaw" (40 : Nat) ({ cls := "IntegerHullModel", name := "corners", desc := "()I" } : Jvm.MethodName)) ∈ lw_all := lw_g (lw_at lw_m1 209 rfl) rfl
theorem q229 : (Jvm.Cond.methodLink "IntegerHullLaw" (45 : Nat) ({ cls := "IntegerHullModel", name := "corner", desc := "(I)I" } : Jvm.MethodName)) ∈ lw_all := lw_g (lw_at lw_m1 213 rfl) rfl
theorem q233 : (Jvm.Cond.methodLink "IntegerHullLaw" (49 : Nat) ({ cls := "IntegerHullModel", name := "area2", desc := "()I" } : Jvm.MethodName)) ∈ lw_all := lw_g (lw_at lw_m1 217 rfl) rfl
theorem q237 : (Jvm.Cond.methodLink "IntegerHullLaw" (53 : Nat) ({ cls := "IntegerHullModel", name := "border", desc := "()I" } : Jvm.MethodName)) ∈ lw_all := lw_g (lw_at lw_m1 221 rfl) rfl
theorem q245 : (Jvm.Cond.methodLink "IntegerHullLaw" (57 : Nat) ({ cls := "IntegerHullModel", name := "best", desc := "(II)I" } : Jvm.MethodName)) ∈ lw_all := lw_g (lw_at lw_m1 229 rfl) rfl
theorem q257 : (Jvm.Cond.methodLink "IntegerHullLaw" (61 : Nat) ({ cls := "IntegerHullModel", name := "bestCorner", desc := "(II)I" } : Jvm.MethodName)) ∈ lw_all := lw_g (lw_at lw_m2 1 rfl) rfl
theorem q262 : (Jvm.Cond.methodLink "IntegerHullLaw" (65 : Nat) ({ cls := "IntegerHullModel", name := "column", desc := "(I)I" } : Jvm.MethodName)) ∈ lw_all := lw_g (lw_at lw_m2 6 rfl) rfl
theorem q58 : (Jvm.Cond.arrayClass Jvm.ClassFile.FieldType.int) ∈ lw_all := lw_g (lw_at lw_m1 42 rfl) rfl
abbrev cL_law : ByteArray := code
theorem dL_law_0 : decode cL_law 0 = .ok (.new 7, 3) := by decide +kernel
theorem dL_law_3 : decode cL_law 3 = .ok (.dup, 1) := by decide +kernel
theorem dL_law_4 : decode cL_law 4 = .ok (.invokespecial 9, 3) := by decide +kernel
theorem dL_law_7 : decode cL_law 7 = .ok (.astore_n 1, 1) := by decide +kernel
theorem dL_law_8 : decode cL_law 8 = .ok (.new 10, 3) := by decide +kernel
theorem dL_law_11 : decode cL_law 11 = .ok (.dup, 1) := by decide +kernel
theorem dL_law_12 : decode cL_law 12 = .ok (.invokespecial 12, 3) := by decide +kernel
theorem dL_law_15 : decode cL_law 15 = .ok (.astore_n 2, 1) := by decide +kernel
theorem dL_law_16 : decode cL_law 16 = .ok (.iconst 0, 1) := by decide +kernel
theorem dL_law_17 : decode cL_law 17 = .ok (.istore_n 3, 1) := by decide +kernel
theorem dL_law_18 : decode cL_law 18 = .ok (.iload_n 3, 1) := by decide +kernel
theorem dL_law_19 : decode cL_law 19 = .ok (.aload_n 0, 1) := by decide +kernel
theorem dL_law_20 : decode cL_law 20 = .ok (.arraylength, 1) := by decide +kernel
theorem dL_law_21 : decode cL_law 21 = .ok (.iconst 4, 1) := by decide +kernel
theorem dL_law_22 : decode cL_law 22 = .ok (.isub, 1) := by decide +kernel
theorem dL_law_23 : decode cL_law 23 = .ok (.if_icmp .gt 365, 3) := by decide +kernel
theorem dL_law_26 : decode cL_law 26 = .ok (.aload_n 0, 1) := by decide +kernel
theorem dL_law_27 : decode cL_law 27 = .ok (.iload_n 3, 1) := by decide +kernel
theorem dL_law_28 : decode cL_law 28 = .ok (.iaload, 1) := by decide +kernel
theorem dL_law_29 : decode cL_law 29 = .ok (.bipush 15, 2) := by decide +kernel
theorem dL_law_31 : decode cL_law 31 = .ok (.iand, 1) := by decide +kernel
theorem dL_law_32 : decode cL_law 32 = .ok (.tableswitch 350 0 11 #[64, 107, 120, 153, 166, 199, 212, 235, 248, 261, 294, 327], 64) := by decide +kernel
theorem dL_law_96 : decode cL_law 96 = .ok (.aload_n 1, 1) := by decide +kernel
theorem dL_law_97 : decode cL_law 97 = .ok (.aload_n 0, 1) := by decide +kernel
theorem dL_law_98 : decode cL_law 98 = .ok (.iload_n 3, 1) := by decide +kernel
theorem dL_law_99 : decode cL_law 99 = .ok (.iconst 1, 1) := by decide +kernel
theorem dL_law_100 : decode cL_law 100 = .ok (.iadd, 1) := by decide +kernel
theorem dL_law_101 : decode cL_law 101 = .ok (.iaload, 1) := by decide +kernel
theorem dL_law_102 : decode cL_law 102 = .ok (.aload_n 0, 1) := by decide +kernel
theorem dL_law_103 : decode cL_law 103 = .ok (.iload_n 3, 1) := by decide +kernel
theorem dL_law_104 : decode cL_law 104 = .ok (.iconst 2, 1) := by decide +kernel
theorem dL_law_105 : decode cL_law 105 = .ok (.iadd, 1) := by decide +kernel
theorem dL_law_106 : decode cL_law 106 = .ok (.iaload, 1) := by decide +kernel
theorem dL_law_107 : decode cL_law 107 = .ok (.aload_n 0, 1) := by decide +kernel
theorem dL_law_108 : decode cL_law 108 = .ok (.iload_n 3, 1) := by decide +kernel
theorem dL_law_109 : decode cL_law 109 = .ok (.iconst 3, 1) := by decide +kernel
theorem dL_law_110 : decode cL_law 110 = .ok (.iadd, 1) := by decide +kernel
theorem dL_law_111 : decode cL_law 111 = .ok (.iaload, 1) := by decide +kernel
theorem dL_law_112 : decode cL_law 112 = .ok (.invokevirtual 13, 3) := by decide +kernel
theorem dL_law_115 : decode cL_law 115 = .ok (.aload_n 2, 1) := by decide +kernel
theorem dL_law_116 : decode cL_law 116 = .ok (.aload_n 0, 1) := by decide +kernel
theorem dL_law_117 : decode cL_law 117 = .ok (.iload_n 3, 1) := by decide +kernel
theorem dL_law_118 : decode cL_law 118 = .ok (.iconst 1, 1) := by decide +kernel
theorem dL_law_119 : decode cL_law 119 = .ok (.iadd, 1) := by decide +kernel
theorem dL_law_120 : decode cL_law 120 = .ok (.iaload, 1) := by decide +kernel
theorem dL_law_121 : decode cL_law 121 = .ok (.aload_n 0, 1) := by decide +kernel
theorem dL_law_122 : decode cL_law 122 = .ok (.iload_n 3, 1) := by decide +kernel
theorem dL_law_123 : decode cL_law 123 = .ok (.iconst 2, 1) := by decide +kernel
theorem dL_law_124 : decode cL_law 124 = .ok (.iadd, 1) := by decide +kernel
theorem dL_law_125 : decode cL_law 125 = .ok (.iaload, 1) := by decide +kernel
theorem dL_law_126 : decode cL_law 126 = .ok (.aload_n 0, 1) := by decide +kernel
theorem dL_law_127 : decode cL_law 127 = .ok (.iload_n 3, 1) := by decide +kernel
theorem dL_law_128 : decode cL_law 128 = .ok (.iconst 3, 1) := by decide +kernel
theorem dL_law_129 : decode cL_law 129 = .ok (.iadd, 1) := by decide +kernel
theorem dL_law_130 : decode cL_law 130 = .ok (.iaload, 1) := by decide +kernel
theorem dL_law_131 : decode cL_law 131 = .ok (.invokevirtual 17, 3) := by decide +kernel
theorem dL_law_134 : decode cL_law 134 = .ok (.if_icmp .eq 248, 3) := by decide +kernel
theorem dL_law_137 : decode cL_law 137 = .ok (.iconst 0, 1) := by decide +kernel
theorem dL_law_138 : decode cL_law 138 = .ok (.ireturn, 1) := by decide +kernel
theorem dL_law_139 : decode cL_law 139 = .ok (.aload_n 1, 1) := by decide +kernel
theorem dL_law_140 : decode cL_law 140 = .ok (.invokevirtual 18, 3) := by decide +kernel
theorem dL_law_143 : decode cL_law 143 = .ok (.aload_n 2, 1) := by decide +kernel
theorem dL_law_144 : decode cL_law 144 = .ok (.invokevirtual 22, 3) := by decide +kernel
theorem dL_law_147 : decode cL_law 147 = .ok (.if_icmp .eq 235, 3) := by decide +kernel
theorem dL_law_150 : decode cL_law 150 = .ok (.iconst 0, 1) := by decide +kernel
theorem dL_law_151 : decode cL_law 151 = .ok (.ireturn, 1) := by decide +kernel
theorem dL_law_152 : decode cL_law 152 = .ok (.aload_n 1, 1) := by decide +kernel
theorem dL_law_153 : decode cL_law 153 = .ok (.aload_n 0, 1) := by decide +kernel
theorem dL_law_154 : decode cL_law 154 = .ok (.iload_n 3, 1) := by decide +kernel
theorem dL_law_155 : decode cL_law 155 = .ok (.iconst 1, 1) := by decide +kernel
theorem dL_law_156 : decode cL_law 156 = .ok (.iadd, 1) := by decide +kernel
theorem dL_law_157 : decode cL_law 157 = .ok (.iaload, 1) := by decide +kernel
theorem dL_law_158 : decode cL_law 158 = .ok (.aload_n 0, 1) := by decide +kernel
theorem dL_law_159 : decode cL_law 159 = .ok (.iload_n 3, 1) := by decide +kernel
theorem dL_law_160 : decode cL_law 160 = .ok (.iconst 2, 1) := by decide +kernel
theorem dL_law_161 : decode cL_law 161 = .ok (.iadd, 1) := by decide +kernel
theorem dL_law_162 : decode cL_law 162 = .ok (.iaload, 1) := by decide +kernel
theorem dL_law_163 : decode cL_law 163 = .ok (.invokevirtual 23, 3) := by decide +kernel
theorem dL_law_166 : decode cL_law 166 = .ok (.aload_n 2, 1) := by decide +kernel
theorem dL_law_167 : decode cL_law 167 = .ok (.aload_n 0, 1) := by decide +kernel
theorem dL_law_168 : decode cL_law 168 = .ok (.iload_n 3, 1) := by decide +kernel
theorem dL_law_169 : decode cL_law 169 = .ok (.iconst 1, 1) := by decide +kernel
theorem dL_law_170 : decode cL_law 170 = .ok (.iadd, 1) := by decide +kernel
theorem dL_law_171 : decode cL_law 171 = .ok (.iaload, 1) := by decide +kernel
theorem dL_law_172 : decode cL_law 172 = .ok (.aload_n 0, 1) := by decide +kernel
theorem dL_law_173 : decode cL_law 173 = .ok (.iload_n 3, 1) := by decide +kernel
theorem dL_law_174 : decode cL_law 174 = .ok (.iconst 2, 1) := by decide +kernel
theorem dL_law_175 : decode cL_law 175 = .ok (.iadd, 1) := by decide +kernel
theorem dL_law_176 : decode cL_law 176 = .ok (.iaload, 1) := by decide +kernel
theorem dL_law_177 : decode cL_law 177 = .ok (.invokevirtual 27, 3) := by decide +kernel
theorem dL_law_180 : decode cL_law 180 = .ok (.if_icmp .eq 202, 3) := by decide +kernel
theorem dL_law_183 : decode cL_law 183 = .ok (.iconst 0, 1) := by decide +kernel
theorem dL_law_184 : decode cL_law 184 = .ok (.ireturn, 1) := by decide +kernel
theorem dL_law_185 : decode cL_law 185 = .ok (.aload_n 1, 1) := by decide +kernel
theorem dL_law_186 : decode cL_law 186 = .ok (.invokevirtual 28, 3) := by decide +kernel
theorem dL_law_189 : decode cL_law 189 = .ok (.aload_n 2, 1) := by decide +kernel
theorem dL_law_190 : decode cL_law 190 = .ok (.invokevirtual 31, 3) := by decide +kernel
theorem dL_law_193 : decode cL_law 193 = .ok (.if_icmp .eq 189, 3) := by decide +kernel
theorem dL_law_196 : decode cL_law 196 = .ok (.iconst 0, 1) := by decide +kernel
theorem dL_law_197 : decode cL_law 197 = .ok (.ireturn, 1) := by decide +kernel
theorem dL_law_198 : decode cL_law 198 = .ok (.aload_n 1, 1) := by decide +kernel
theorem dL_law_199 : decode cL_law 199 = .ok (.aload_n 0, 1) := by decide +kernel
theorem dL_law_200 : decode cL_law 200 = .ok (.iload_n 3, 1) := by decide +kernel
theorem dL_law_201 : decode cL_law 201 = .ok (.iconst 1, 1) := by decide +kernel
theorem dL_law_202 : decode cL_law 202 = .ok (.iadd, 1) := by decide +kernel
theorem dL_law_203 : decode cL_law 203 = .ok (.iaload, 1) := by decide +kernel
theorem dL_law_204 : decode cL_law 204 = .ok (.aload_n 0, 1) := by decide +kernel
theorem dL_law_205 : decode cL_law 205 = .ok (.iload_n 3, 1) := by decide +kernel
theorem dL_law_206 : decode cL_law 206 = .ok (.iconst 2, 1) := by decide +kernel
theorem dL_law_207 : decode cL_law 207 = .ok (.iadd, 1) := by decide +kernel
theorem dL_law_208 : decode cL_law 208 = .ok (.iaload, 1) := by decide +kernel
theorem dL_law_209 : decode cL_law 209 = .ok (.invokevirtual 32, 3) := by decide +kernel
theorem dL_law_212 : decode cL_law 212 = .ok (.aload_n 2, 1) := by decide +kernel
theorem dL_law_213 : decode cL_law 213 = .ok (.aload_n 0, 1) := by decide +kernel
theorem dL_law_214 : decode cL_law 214 = .ok (.iload_n 3, 1) := by decide +kernel
theorem dL_law_215 : decode cL_law 215 = .ok (.iconst 1, 1) := by decide +kernel
theorem dL_law_216 : decode cL_law 216 = .ok (.iadd, 1) := by decide +kernel
theorem dL_law_217 : decode cL_law 217 = .ok (.iaload, 1) := by decide +kernel
theorem dL_law_218 : decode cL_law 218 = .ok (.aload_n 0, 1) := by decide +kernel
theorem dL_law_219 : decode cL_law 219 = .ok (.iload_n 3, 1) := by decide +kernel
theorem dL_law_220 : decode cL_law 220 = .ok (.iconst 2, 1) := by decide +kernel
theorem dL_law_221 : decode cL_law 221 = .ok (.iadd, 1) := by decide +kernel
theorem dL_law_222 : decode cL_law 222 = .ok (.iaload, 1) := by decide +kernel
theorem dL_law_223 : decode cL_law 223 = .ok (.invokevirtual 36, 3) := by decide +kernel
theorem dL_law_226 : decode cL_law 226 = .ok (.if_icmp .eq 156, 3) := by decide +kernel
theorem dL_law_229 : decode cL_law 229 = .ok (.iconst 0, 1) := by decide +kernel
theorem dL_law_230 : decode cL_law 230 = .ok (.ireturn, 1) := by decide +kernel
theorem dL_law_231 : decode cL_law 231 = .ok (.aload_n 1, 1) := by decide +kernel
theorem dL_law_232 : decode cL_law 232 = .ok (.invokevirtual 37, 3) := by decide +kernel
theorem dL_law_235 : decode cL_law 235 = .ok (.aload_n 2, 1) := by decide +kernel
theorem dL_law_236 : decode cL_law 236 = .ok (.invokevirtual 40, 3) := by decide +kernel
theorem dL_law_239 : decode cL_law 239 = .ok (.if_icmp .eq 143, 3) := by decide +kernel
theorem dL_law_242 : decode cL_law 242 = .ok (.iconst 0, 1) := by decide +kernel
theorem dL_law_243 : decode cL_law 243 = .ok (.ireturn, 1) := by decide +kernel
theorem dL_law_244 : decode cL_law 244 = .ok (.aload_n 1, 1) := by decide +kernel
theorem dL_law_245 : decode cL_law 245 = .ok (.aload_n 0, 1) := by decide +kernel
theorem dL_law_246 : decode cL_law 246 = .ok (.iload_n 3, 1) := by decide +kernel
theorem dL_law_247 : decode cL_law 247 = .ok (.iconst 1, 1) := by decide +kernel
theorem dL_law_248 : decode cL_law 248 = .ok (.iadd, 1) := by decide +kernel
theorem dL_law_249 : decode cL_law 249 = .ok (.iaload, 1) := by decide +kernel
theorem dL_law_250 : decode cL_law 250 = .ok (.invokevirtual 41, 3) := by decide +kernel
theorem dL_law_253 : decode cL_law 253 = .ok (.aload_n 2, 1) := by decide +kernel
theorem dL_law_254 : decode cL_law 254 = .ok (.aload_n 0, 1) := by decide +kernel
theorem dL_law_255 : decode cL_law 255 = .ok (.iload_n 3, 1) := by decide +kernel
theorem dL_law_256 : decode cL_law 256 = .ok (.iconst 1, 1) := by decide +kernel
theorem dL_law_257 : decode cL_law 257 = .ok (.iadd, 1) := by decide +kernel
theorem dL_law_258 : decode cL_law 258 = .ok (.iaload, 1) := by decide +kernel
theorem dL_law_259 : decode cL_law 259 = .ok (.invokevirtual 45, 3) := by decide +kernel
theorem dL_law_262 : decode cL_law 262 = .ok (.if_icmp .eq 120, 3) := by decide +kernel
theorem dL_law_265 : decode cL_law 265 = .ok (.iconst 0, 1) := by decide +kernel
theorem dL_law_266 : decode cL_law 266 = .ok (.ireturn, 1) := by decide +kernel
theorem dL_law_267 : decode cL_law 267 = .ok (.aload_n 1, 1) := by decide +kernel
theorem dL_law_268 : decode cL_law 268 = .ok (.invokevirtual 46, 3) := by decide +kernel
theorem dL_law_271 : decode cL_law 271 = .ok (.aload_n 2, 1) := by decide +kernel
theorem dL_law_272 : decode cL_law 272 = .ok (.invokevirtual 49, 3) := by decide +kernel
theorem dL_law_275 : decode cL_law 275 = .ok (.if_icmp .eq 107, 3) := by decide +kernel
theorem dL_law_278 : decode cL_law 278 = .ok (.iconst 0, 1) := by decide +kernel
theorem dL_law_279 : decode cL_law 279 = .ok (.ireturn, 1) := by decide +kernel
theorem dL_law_280 : decode cL_law 280 = .ok (.aload_n 1, 1) := by decide +kernel
theorem dL_law_281 : decode cL_law 281 = .ok (.invokevirtual 50, 3) := by decide +kernel
theorem dL_law_284 : decode cL_law 284 = .ok (.aload_n 2, 1) := by decide +kernel
theorem dL_law_285 : decode cL_law 285 = .ok (.invokevirtual 53, 3) := by decide +kernel
theorem dL_law_288 : decode cL_law 288 = .ok (.if_icmp .eq 94, 3) := by decide +kernel
theorem dL_law_291 : decode cL_law 291 = .ok (.iconst 0, 1) := by decide +kernel
theorem dL_law_292 : decode cL_law 292 = .ok (.ireturn, 1) := by decide +kernel
theorem dL_law_293 : decode cL_law 293 = .ok (.aload_n 1, 1) := by decide +kernel
theorem dL_law_294 : decode cL_law 294 = .ok (.aload_n 0, 1) := by decide +kernel
theorem dL_law_295 : decode cL_law 295 = .ok (.iload_n 3, 1) := by decide +kernel
theorem dL_law_296 : decode cL_law 296 = .ok (.iconst 1, 1) := by decide +kernel
theorem dL_law_297 : decode cL_law 297 = .ok (.iadd, 1) := by decide +kernel
theorem dL_law_298 : decode cL_law 298 = .ok (.iaload, 1) := by decide +kernel
theorem dL_law_299 : decode cL_law 299 = .ok (.aload_n 0, 1) := by decide +kernel
theorem dL_law_300 : decode cL_law 300 = .ok (.iload_n 3, 1) := by decide +kernel
theorem dL_law_301 : decode cL_law 301 = .ok (.iconst 2, 1) := by decide +kernel
theorem dL_law_302 : decode cL_law 302 = .ok (.iadd, 1) := by decide +kernel
theorem dL_law_303 : decode cL_law 303 = .ok (.iaload, 1) := by decide +kernel
theorem dL_law_304 : decode cL_law 304 = .ok (.invokevirtual 54, 3) := by decide +kernel
theorem dL_law_307 : decode cL_law 307 = .ok (.aload_n 2, 1) := by decide +kernel
theorem dL_law_308 : decode cL_law 308 = .ok (.aload_n 0, 1) := by decide +kernel
theorem dL_law_309 : decode cL_law 309 = .ok (.iload_n 3, 1) := by decide +kernel
theorem dL_law_310 : decode cL_law 310 = .ok (.iconst 1, 1) := by decide +kernel
theorem dL_law_311 : decode cL_law 311 = .ok (.iadd, 1) := by decide +kernel
theorem dL_law_312 : decode cL_law 312 = .ok (.iaload, 1) := by decide +kernel
theorem dL_law_313 : decode cL_law 313 = .ok (.aload_n 0, 1) := by decide +kernel
theorem dL_law_314 : decode cL_law 314 = .ok (.iload_n 3, 1) := by decide +kernel
theorem dL_law_315 : decode cL_law 315 = .ok (.iconst 2, 1) := by decide +kernel
theorem dL_law_316 : decode cL_law 316 = .ok (.iadd, 1) := by decide +kernel
theorem dL_law_317 : decode cL_law 317 = .ok (.iaload, 1) := by decide +kernel
theorem dL_law_318 : decode cL_law 318 = .ok (.invokevirtual 57, 3) := by decide +kernel
theorem dL_law_321 : decode cL_law 321 = .ok (.if_icmp .eq 61, 3) := by decide +kernel
theorem dL_law_324 : decode cL_law 324 = .ok (.iconst 0, 1) := by decide +kernel
theorem dL_law_325 : decode cL_law 325 = .ok (.ireturn, 1) := by decide +kernel
theorem dL_law_326 : decode cL_law 326 = .ok (.aload_n 1, 1) := by decide +kernel
theorem dL_law_327 : decode cL_law 327 = .ok (.aload_n 0, 1) := by decide +kernel
theorem dL_law_328 : decode cL_law 328 = .ok (.iload_n 3, 1) := by decide +kernel
theorem dL_law_329 : decode cL_law 329 = .ok (.iconst 1, 1) := by decide +kernel
theorem dL_law_330 : decode cL_law 330 = .ok (.iadd, 1) := by decide +kernel
theorem dL_law_331 : decode cL_law 331 = .ok (.iaload, 1) := by decide +kernel
theorem dL_law_332 : decode cL_law 332 = .ok (.aload_n 0, 1) := by decide +kernel
theorem dL_law_333 : decode cL_law 333 = .ok (.iload_n 3, 1) := by decide +kernel
theorem dL_law_334 : decode cL_law 334 = .ok (.iconst 2, 1) := by decide +kernel
theorem dL_law_335 : decode cL_law 335 = .ok (.iadd, 1) := by decide +kernel
theorem dL_law_336 : decode cL_law 336 = .ok (.iaload, 1) := by decide +kernel
theorem dL_law_337 : decode cL_law 337 = .ok (.invokevirtual 58, 3) := by decide +kernel
theorem dL_law_340 : decode cL_law 340 = .ok (.aload_n 2, 1) := by decide +kernel
theorem dL_law_341 : decode cL_law 341 = .ok (.aload_n 0, 1) := by decide +kernel
theorem dL_law_342 : decode cL_law 342 = .ok (.iload_n 3, 1) := by decide +kernel
theorem dL_law_343 : decode cL_law 343 = .ok (.iconst 1, 1) := by decide +kernel
theorem dL_law_344 : decode cL_law 344 = .ok (.iadd, 1) := by decide +kernel
theorem dL_law_345 : decode cL_law 345 = .ok (.iaload, 1) := by decide +kernel
theorem dL_law_346 : decode cL_law 346 = .ok (.aload_n 0, 1) := by decide +kernel
theorem dL_law_347 : decode cL_law 347 = .ok (.iload_n 3, 1) := by decide +kernel
theorem dL_law_348 : decode cL_law 348 = .ok (.iconst 2, 1) := by decide +kernel
theorem dL_law_349 : decode cL_law 349 = .ok (.iadd, 1) := by decide +kernel
theorem dL_law_350 : decode cL_law 350 = .ok (.iaload, 1) := by decide +kernel
theorem dL_law_351 : decode cL_law 351 = .ok (.invokevirtual 61, 3) := by decide +kernel
theorem dL_law_354 : decode cL_law 354 = .ok (.if_icmp .eq 28, 3) := by decide +kernel
theorem dL_law_357 : decode cL_law 357 = .ok (.iconst 0, 1) := by decide +kernel
theorem dL_law_358 : decode cL_law 358 = .ok (.ireturn, 1) := by decide +kernel
theorem dL_law_359 : decode cL_law 359 = .ok (.aload_n 1, 1) := by decide +kernel
theorem dL_law_360 : decode cL_law 360 = .ok (.aload_n 0, 1) := by decide +kernel
theorem dL_law_361 : decode cL_law 361 = .ok (.iload_n 3, 1) := by decide +kernel
theorem dL_law_362 : decode cL_law 362 = .ok (.iconst 1, 1) := by decide +kernel
theorem dL_law_363 : decode cL_law 363 = .ok (.iadd, 1) := by decide +kernel
theorem dL_law_364 : decode cL_law 364 = .ok (.iaload, 1) := by decide +kernel
theorem dL_law_365 : decode cL_law 365 = .ok (.invokevirtual 62, 3) := by decide +kernel
theorem dL_law_368 : decode cL_law 368 = .ok (.aload_n 2, 1) := by decide +kernel
theorem dL_law_369 : decode cL_law 369 = .ok (.aload_n 0, 1) := by decide +kernel
theorem dL_law_370 : decode cL_law 370 = .ok (.iload_n 3, 1) := by decide +kernel
theorem dL_law_371 : decode cL_law 371 = .ok (.iconst 1, 1) := by decide +kernel
theorem dL_law_372 : decode cL_law 372 = .ok (.iadd, 1) := by decide +kernel
theorem dL_law_373 : decode cL_law 373 = .ok (.iaload, 1) := by decide +kernel
theorem dL_law_374 : decode cL_law 374 = .ok (.invokevirtual 65, 3) := by decide +kernel
theorem dL_law_377 : decode cL_law 377 = .ok (.if_icmp .eq 5, 3) := by decide +kernel
theorem dL_law_380 : decode cL_law 380 = .ok (.iconst 0, 1) := by decide +kernel
theorem dL_law_381 : decode cL_law 381 = .ok (.ireturn, 1) := by decide +kernel
theorem dL_law_382 : decode cL_law 382 = .ok (.iinc 3 4, 3) := by decide +kernel
theorem dL_law_385 : decode cL_law 385 = .ok (.goto (-367), 3) := by decide +kernel
theorem dL_law_388 : decode cL_law 388 = .ok (.iconst 1, 1) := by decide +kernel
theorem dL_law_389 : decode cL_law 389 = .ok (.ireturn, 1) := by decide +kernel
end
section
/-! rows of this claim's walks: the worlds of the two objects, contracts that only read, contracts that write, their calls -/
abbrev hu_Cl : List vw_C := [(RX0, TX0, 10), (RX1, TX1, 8)]
/-- IntegerHull: conditions, ready, count, fa, fb, fc, low, high, cx, cy -/
abbrev hu_HS : Type := Int32 × Int32 × Int32 × (Nat → Int32) × (Nat → Int32) × (Nat → Int32) × (Nat → Int32) × (Nat → Int32) × (Nat → Int32) × (Nat → Int32)
abbrev hu_wH (d : ClassId) (ad : Nat → Nat) (u : hu_HS) : va_W := [(ad 0, .inr (0, [.int u.1, .ref (ad 1), .ref (ad 2), .ref (ad 3), .int u.2.1, .ref (ad 4), .ref (ad 5), .int u.2.2.1, .ref (ad 6), .ref (ad 7)])), (ad 1, .inl (d, 8, .inl u.2.2.2.1)), (ad 2, .inl (d, 8, .inl u.2.2.2.2.1)), (ad 3, .inl (d, 8, .inl u.2.2.2.2.2.1)), (ad 4, .inl (d, 41, .inl u.2.2.2.2.2.2.1)), (ad 5, .inl (d, 41, .inl u.2.2.2.2.2.2.2.1)), (ad 6, .inl (d, 84, .inl u.2.2.2.2.2.2.2.2.1)), (ad 7, .inl (d, 84, .inl u.2.2.2.2.2.2.2.2.2))]
/-- IntegerHullModel: as, bs, cs, conditions, list, listed, hull, hullSize -/
abbrev hu_MS : Type := (Nat → Int32) × (Nat → Int32) × (Nat → Int32) × Int32 × (Nat → Int32) × Int32 × (Nat → Int32) × Int32
abbrev hu_wM (d : ClassId) (ad : Nat → Nat) (u : hu_MS) : va_W := [(ad 0, .inr (1, [.ref (ad 1), .ref (ad 2), .ref (ad 3), .int u.2.2.2.1, .ref (ad 4), .int u.2.2.2.2.2.1, .ref (ad 5), .int u.2.2.2.2.2.2.2])), (ad 1, .inl (d, 8, .inl u.1)), (ad 2, .inl (d, 8, .inl u.2.1)), (ad 3, .inl (d, 8, .inl u.2.2.1)), (ad 4, .inl (d, 1681, .inl u.2.2.2.2.1)), (ad 5, .inl (d, 256, .inl u.2.2.2.2.2.2.1))]
abbrev hu_W {S : Type} (dC : Nat → ClassId) (dI : Nat → Nat → Nat) (d : ClassId) (wf : S → va_W) (A : Nat → Prop) (u : S) (t : State) : Prop := va_P (dC, dI) hu_Cl (wf u) t.heap ∧ va_K (dC, dI) hu_Cl [(d, .int)] t ∧ va_D A (wf u)
/-- what is fixed in a method's body -/
abbrev hu_cx (p : Program) (s : State) (m : MethodId) (args : Array Value) (meth : Method) (c : Code) (cc : ByteArray) (nL : Nat) (rt : Option FieldType) (own : String) : Prop := p.tables.exec = Jvm.exec ∧ c.code = cc ∧ meth.sig.returnType = rt ∧ c.maxLocals = nL ∧ s.vm.findClass own = some m.cls ∧ (∀ w ∈ lw_all, w.before args s = true) ∧ meth.locks = false
/-- a contract that only reads -/
abbrev hu_RO (l : Launch) (dC : Nat → ClassId) (dI : Nat → Nat → Nat) (d : ClassId) (ws : va_W) (y : MethodName) (cc : ByteArray) (nL : Nat) (rt : Option FieldType) (rm : Room) (av : List Value) (post : Int32 → Prop) : Prop := Met l y (ws_ y cc nL rt) rm (va_Pc av (fun U => va_P (dC, dI) hu_Cl ws U.heap ∧ va_K (dC, dI) hu_Cl [(d, .int)] U)) (vp_Si post) 0 0 (fun _ => False)
/-- a contract of a static method on numbers -/
abbrev hu_ST (l : Launch) (y : MethodName) (cc : ByteArray) (nL : Nat) (rt : Option FieldType) (rm : Room) (av : List Value) (post : Int32 → Prop) : Prop := Met l y (ws_ y cc nL rt) rm (va_Pc av (fun _ => True)) (vp_Si post) 0 0 (fun _ => False)
/-- contracts that write: an int answer, none -/
abbrev hu_CI {S : Type} (l : Launch) (dC : Nat → ClassId) (dI : Nat → Nat → Nat) (d : ClassId) (wf : S → va_W) (u : S) (sz : Nat) (y : MethodName) (cc : ByteArray) (nL : Nat) (rt : Option FieldType) (rm : Room) (av : List Value) (post : Int32 → S → Prop) : Prop := Met l y (ws_ y cc nL rt) rm (va_Pc av (fun U => U.heap.size = sz ∧ va_P (dC, dI) hu_Cl (wf u) U.heap ∧ va_K (dC, dI) hu_Cl [(d, .int)] U ∧ va_D (fun _ => True) (wf u))) (va_Qi post (hu_W dC dI d wf (va_A (wf u) sz)) (va_A (wf u) sz)) 0 0 (va_A (wf u) sz)
abbrev hu_CV {S : Type} (l : Launch) (dC : Nat → ClassId) (dI : Nat → Nat → Nat) (d : ClassId) (wf : S → va_W) (u : S) (sz : Nat) (y : MethodName) (cc : ByteArray) (nL : Nat) (rm : Room) (av : List Value) (post : S → Prop) : Prop := Met l y (ws_ y cc nL none) rm (va_Pc av (fun U => U.heap.size = sz ∧ va_P (dC, dI) hu_Cl (wf u) U.heap ∧ va_K (dC, dI) hu_Cl [(d, .int)] U ∧ va_D (fun _ => True) (wf u))) (va_Qv post (hu_W dC dI d wf (va_A (wf u) sz)) (va_A (wf u) sz)) 0 0 (va_A (wf u) sz)
theorem hu_met {l : Launch} {y : MethodName} {cc : ByteArray} {nL : Nat} {rt : Option FieldType} {rm : Room} {av : List Value} {B : State → Prop} {Qc : Array Value → State → Outcome → State → Prop} {mc ms : Nat} {free : Addr → Prop} (hy : plainName y.cls = true) (hn : (lg_sl av).length ≤ nL)
    (body : ∀ (p : Program) (e : Env) (s : State) (m : MethodId) (below : List Frame) (meth : Method) (c : Code) (ls : Array Slot), hu_cx p s m av.toArray meth c cc nL rt y.cls → meth.name = y.name → B s → lv_has ls nL (lv_args 0 av) → W p l e rm s m av.toArray below meth c s.heap [] 0 0 (MQ below Qc av.toArray s mc ms free) (F0 m 0 ls [])) : Met l y (ws_ y cc nL rt) rm (va_Pc av B) Qc mc ms free := by
  refine Met.ofW (cc := cc) (maxL := nL) (ret := rt) hy rfl ?_
  intro p e s m args below meth c s₁ B0 hml hv
  obtain ⟨rfl, hB⟩ := hv
  have hts := atoms_spec (ws := ws_ y cc nL rt) B0.pre
  have hl := lv_entry av (n := nL) hn
  rw [lg_entry_eq]
  generalize (lg_sl av ++ List.replicate (nL - (lg_sl av).length) Slot.unset).toArray = ls at hl ⊢
  exact body p e s m below meth c ls ⟨B0.exec, B0.bytes, B0.returns, hml, findClass_of_methodNamed B0.named, fun w h => hts w (List.mem_cons_of_mem _ h), B0.notSynchronized⟩ (name_of_methodNamed B0.named B0.method).1 hB hl
section HuW
variable {l : Launch} {dC : Nat → ClassId} {dI : Nat → Nat → Nat} {d : ClassId} {y : MethodName} {cc : ByteArray} {nL : Nat} {rt : Option FieldType} {rm : Room} {av : List Value}
theorem hu_metC_i {S : Type} {wf : S → va_W} {u : S} {post : Int32 → S → Prop} (hy : plainName y.cls = true) (hn : (lg_sl av).length ≤ nL) (sz : Nat)
    (body : ∀ (p : Program) (e : Env) (s : State) (m : MethodId) (below : List Frame) (meth : Method) (c : Code) (ls : Array Slot) (A : Nat → Prop), hu_cx p s m av.toArray meth c cc nL rt y.cls → va_P (dC, dI) hu_Cl (wf u) s.heap → va_K (dC, dI) hu_Cl [(d, .int)] s → va_D A (wf u) → va_S A s.heap s.heap [] → (∀ q : Nat, s.heap.size ≤ q → A q) → lv_has ls nL (lv_args 0 av) → W p l e rm s m av.toArray below meth c s.heap [] 0 0 (MQ below (va_Qi post (hu_W dC dI d wf A) A) av.toArray s 0 0 A) (F0 m 0 ls [])) : hu_CI l dC dI d wf u sz y cc nL rt rm av post := by
  refine hu_met hy hn ?_
  intro p e s m below meth c ls C _ hB hl
  obtain ⟨hsz, hP, hK, hD0⟩ := hB
  subst hsz
  exact body p e s m below meth c ls _ C hP hK (hD0.self (sz := s.heap.size)) va_S.rf (fun q h => Or.inr h) hl
theorem hu_metC_v {S : Type} {wf : S → va_W} {u : S} {post : S → Prop} (hy : plainName y.cls = true) (hn : (lg_sl av).length ≤ nL) (sz : Nat)
    (body : ∀ (p : Program) (e : Env) (s : State) (m : MethodId) (below : List Frame) (meth : Method) (c : Code) (ls : Array Slot) (A : Nat → Prop), hu_cx p s m av.toArray meth c cc nL none y.cls → va_P (dC, dI) hu_Cl (wf u) s.heap → va_K (dC, dI) hu_Cl [(d, .int)] s → va_D A (wf u) → va_S A s.heap s.heap [] → (∀ q : Nat, s.heap.size ≤ q → A q) → lv_has ls nL (lv_args 0 av) → W p l e rm s m av.toArray below meth c s.heap [] 0 0 (MQ below (va_Qv post (hu_W dC dI d wf A) A) av.toArray s 0 0 A) (F0 m 0 ls [])) : hu_CV l dC dI d wf u sz y cc nL rm av post := by
  refine hu_met hy hn ?_
  intro p e s m below meth c ls C _ hB hl
  obtain ⟨hsz, hP, hK, hD0⟩ := hB
  subst hsz
  exact body p e s m below meth c ls _ C hP hK (hD0.self (sz := s.heap.size)) va_S.rf (fun q h => Or.inr h) hl
end HuW
section HuR
variable {p : Program} {l : Launch} {e : Env} {R : Room} {s : State} {m : MethodId} {args : Array Value} {below : List Frame} {meth : Method} {c : Code} {H : Heap} {locs : List Loc} {cells slots : Nat} {Q : State → Prop} {cc : ByteArray} {pc : Nat} {ls : Array Slot} {rest st0 : List Value} {dC : Nat → ClassId} {dI : Nat → Nat → Nat} {d : ClassId} {A : Nat → Prop} {H0 : Heap} {v : Int32}
theorem hu_top {x z : Int32} (h : x = z) (k : W p l e R s m args below meth c H locs cells slots Q (F0 m pc ls (.int z :: rest))) : W p l e R s m args below meth c H locs cells slots Q (F0 m pc ls (.int x :: rest)) := by
  rw [h]; exact k
theorem hu_ald (hexec : p.tables.exec = Jvm.exec) (hb : c.code = cc) {D : va_G} {cl : List vw_C} {tys : List (ClassId × FieldType)} {ws : va_W} {a : Nat} (hK : va_K D cl tys s) (hP : va_P D cl ws H) (q0 t0 : Nat) {cA : ClassId} {n : Nat} {f : Nat → Int32} (ha : ws[q0]? = some (a, .inl (cA, n, .inl f))) (ht : tys[t0]? = some (cA, .int)) {i : Int32} (j : Nat) (hi : i = nI j) (hj : j < n) (hn : n < 2 ^ 31) (hdg : decode cc pc = .ok (.iaload, 1))
    (kk : W p l e R s m args below meth c H locs cells slots Q (F0 m (pc + 1) ls (.int (f j) :: rest))) : W p l e R s m args below meth c H locs cells slots Q (F0 m pc ls (.int i :: .ref a :: rest)) := by
  subst hi
  refine va_iald hexec hb hK hP q0 t0 ha ht (vp_in_nI hj hn) hdg ?_
  rw [nI_clamp (Nat.lt_trans hj hn)]
  exact kk
theorem hu_ast (hexec : p.tables.exec = Jvm.exec) (hb : c.code = cc) {D : va_G} {cl : List vw_C} {tys : List (ClassId × FieldType)} {ws : va_W} {a : Nat} (hK : va_K D cl tys s) (hP : va_P D cl ws H) (hD : va_D A ws) (hS : va_S A H0 H locs) (q0 t0 : Nat) {cA : ClassId} {n : Nat} {f : Nat → Int32} (ha : ws[q0]? = some (a, .inl (cA, n, .inl f))) (ht : tys[t0]? = some (cA, .int)) {i z : Int32} (j : Nat) (hi : i = nI j) (hj : j < n) (hn : n < 2 ^ 31) (hdg : decode cc pc = .ok (.iastore, 1))
    (kk : ∀ (H1 : Heap) (locs1 : List Loc), va_P D cl (ws.set q0 (a, .inl (cA, n, .inl (upd f j z)))) H1 → va_D A (ws.set q0 (a, .inl (cA, n, .inl (upd f j z)))) → va_S A H0 H1 locs1 → W p l e R s m args below meth c H1 locs1 cells slots Q (F0 m (pc + 1) ls rest)) : W p l e R s m args below meth c H locs cells slots Q (F0 m pc ls (.int z :: .int i :: .ref a :: rest)) := by
  subst hi
  refine va_iast hexec hb hK hP hD hS q0 t0 ha ht (vp_in_nI hj hn) hdg ?_
  rw [nI_clamp (Nat.lt_trans hj hn)]
  exact kk
theorem hu_retI {post : Int32 → Prop} (hexec : p.tables.exec = Jvm.exec) (hb : c.code = cc) (hr : meth.sig.returnType = some .int) (hlocks : meth.locks = false) (hp : post v) (hdg : decode cc pc = .ok (.ireturn, 1)) : W p l e R s m args below meth c s.heap [] 0 0 (MQ below (vp_Si post) args s 0 0 (fun _ => False)) (F0 m pc ls [.int v]) :=
  W.iret hexec hb hr (fun t ht _ => ⟨v, rfl, hp, ht⟩) (fun q h => absurd h List.not_mem_nil) hdg hlocks
theorem hu_retZ {post : Int32 → Prop} (hexec : p.tables.exec = Jvm.exec) (hb : c.code = cc) (hr : meth.sig.returnType = some .boolean) (hlocks : meth.locks = false) (hn : narrow .boolean (.int v) = .int v) (hp : post v) (hdg : decode cc pc = .ok (.ireturn, 1)) : W p l e R s m args below meth c s.heap [] 0 0 (MQ below (vp_Si post) args s 0 0 (fun _ => False)) (F0 m pc ls [.int v]) :=
  W.zret hexec hb hr hn (fun t ht _ => ⟨v, rfl, hp, ht⟩) (fun q h => absurd h List.not_mem_nil) hdg hlocks
theorem hu_retCI {S : Type} {wf : S → va_W} {post : Int32 → S → Prop} (u : S) (hexec : p.tables.exec = Jvm.exec) (hb : c.code = cc) (hr : meth.sig.returnType = some .int) (hlocks : meth.locks = false) (hK : va_K (dC, dI) hu_Cl [(d, .int)] s) (hP : va_P (dC, dI) hu_Cl (wf u) H) (hD : va_D A (wf u)) (hS : va_S A s.heap H locs) (hp : post v u) (hdg : decode cc pc = .ok (.ireturn, 1)) : W p l e R s m args below meth c H locs 0 0 (MQ below (va_Qi post (hu_W dC dI d wf A) A) args s 0 0 A) (F0 m pc ls [.int v]) :=
  W.iret hexec hb hr (fun t ht hW => ⟨⟨v, u, rfl, hp, by rw [ht]; exact hP, va_K.moved hW.alike hK, hD⟩, hS.F ht⟩) hS.2.2 hdg hlocks
theorem hu_retCZ {S : Type} {wf : S → va_W} {post : Int32 → S → Prop} (u : S) (hexec : p.tables.exec = Jvm.exec) (hb : c.code = cc) (hr : meth.sig.returnType = some .boolean) (hlocks : meth.locks = false) (hn : narrow .boolean (.int v) = .int v) (hK : va_K (dC, dI) hu_Cl [(d, .int)] s) (hP : va_P (dC, dI) hu_Cl (wf u) H) (hD : va_D A (wf u)) (hS : va_S A s.heap H locs) (hp : post v u) (hdg : decode cc pc = .ok (.ireturn, 1)) : W p l e R s m args below meth c H locs 0 0 (MQ below (va_Qi post (hu_W dC dI d wf A) A) args s 0 0 A) (F0 m pc ls [.int v]) :=
  W.zret hexec hb hr hn (fun t ht hW => ⟨⟨v, u, rfl, hp, by rw [ht]; exact hP, va_K.moved hW.alike hK, hD⟩, hS.F ht⟩) hS.2.2 hdg hlocks
theorem hu_retCV {S : Type} {wf : S → va_W} {post : S → Prop} (u : S) (hexec : p.tables.exec = Jvm.exec) (hb : c.code = cc) (hr : meth.sig.returnType = none) (hlocks : meth.locks = false) (hK : va_K (dC, dI) hu_Cl [(d, .int)] s) (hP : va_P (dC, dI) hu_Cl (wf u) H) (hD : va_D A (wf u)) (hS : va_S A s.heap H locs) (hp : post u) (hdg : decode cc pc = .ok (.return_, 1)) : W p l e R s m args below meth c H locs 0 0 (MQ below (va_Qv post (hu_W dC dI d wf A) A) args s 0 0 A) (F0 m pc ls []) :=
  W.vret hexec hb hr (fun t ht hW => ⟨⟨u, rfl, hp, by rw [ht]; exact hP, va_K.moved hW.alike hK, hD⟩, hS.F ht⟩) hS.2.2 hdg hlocks
variable {own C : String} {index : Nat} {y : MethodName} {cy : ByteArray} {nL L : Nat} {rt : Option FieldType} {rm : Room} {As : List Value} {b : Nat}
theorem hu_callS (n : Nat) {post : Int32 → Prop} (F : CallFix p m c cc nL s args lw_all own) (hM : hu_ST l y cy L rt rm As post) (hw : GoodIn lw_all (va_wsS own index y (ws_ y cy L rt)))
    (hd : y.cls ≠ "java/lang/invoke/MethodHandle" ∧ y.cls ≠ "java/lang/invoke/VarHandle" ∧ (parseMethodDescriptor y.desc).map (fun q => q.parameters.length) = some n) (hn : As.length = n) (hR : rm.frames + 1 ≤ R.frames ∧ 8 + (L + 11) + rm.locals ≤ R.locals) (hc : rm.cells = 0 ∧ rm.slots = 0)
    (hsz : ls.size = nL) (hst : st0 = As.reverse ++ rest) (hrm : (rest.map fun v => v.category).sum ≤ 8) (hf : cells ≤ R.cells ∧ slots ≤ R.slots) (hdg : decode cc pc = .ok (.invokestatic index, 3))
    (kk : ∀ r : Int32, post r → W p l e R s m args below meth c H locs cells slots Q (F0 m (pc + 3) ls (.int r :: rest))) : W p l e R s m args below meth c H locs cells slots Q (F0 m pc ls st0) :=
  vp_callSi (va_Run.run (va_runS (As := As) (rest := rest) (n := n) F hM (va_cwS n F.2.2.2.2 hw rfl hc.1 hc.2 hd hR) ⟨fun a U g mk q => q, fun U hU hW => ⟨rfl, trivial⟩⟩ rfl hn hsz hst (lv_room hrm) hdg hf)) kk
theorem hu_callR (n : Nat) {post : Int32 → Prop} {ws : va_W} (F : CallFix p m c cc nL s args lw_all own) (hM : hu_RO l dC dI d ws y cy L rt rm (.ref b :: As) post) (hw : GoodIn lw_all (wsV own index C y (ws_ y cy L rt)))
    (hd : y.cls = C ∧ y.cls ≠ "java/lang/invoke/MethodHandle" ∧ y.cls ≠ "java/lang/invoke/VarHandle" ∧ (parseMethodDescriptor y.desc).map (fun q => q.parameters.length) = some n) (hn : As.length = n) (hR : rm.frames + 1 ≤ R.frames ∧ 8 + (L + 11) + rm.locals ≤ R.locals) (hc : rm.cells = 0 ∧ rm.slots = 0)
    (hK : va_K (dC, dI) hu_Cl [(d, .int)] s) (hP : va_P (dC, dI) hu_Cl ws H) (hcell : ∃ cell : Cell, H[b]? = some cell ∧ cell.vm.isStatics = false ∧ s.vm.findClass C = some cell.cls)
    (hsz : ls.size = nL) (hst : st0 = As.reverse ++ .ref b :: rest) (hrm : (rest.map fun v => v.category).sum ≤ 8) (hf : cells ≤ R.cells ∧ slots ≤ R.slots) (hdg : decode cc pc = .ok (.invokevirtual index, 3))
    (kk : ∀ r : Int32, post r → W p l e R s m args below meth c H locs cells slots Q (F0 m (pc + 3) ls (.int r :: rest))) : W p l e R s m args below meth c H locs cells slots Q (F0 m pc ls st0) :=
  vp_callSi (va_Run.run (va_runV (As := As) (rest := rest) (n := n) F hM (cwV n F.2.2.2.2 hw rfl hc.1 hc.2 hd hR) ⟨fun a U g mk q => ⟨q.1, q.2.1, va_K.moved (u := U) (U := U.calling g mk a) (Vm.Alike.refl U.vm) q.2.2⟩, hcell, fun U hU hW => ⟨rfl, by rw [hU]; exact hP, va_K.moved hW.alike hK⟩⟩ rfl hn hsz hst (lv_room hrm) hdg hf)) kk
variable {S : Type} {wf : S → va_W} {u : S} {X wr : va_W}
theorem hu_callCI (n : Nat) {post : Int32 → S → Prop} (F : CallFix p m c cc nL s args lw_all own) (hM : hu_CI l dC dI d wf u H.size y cy L rt rm (.ref b :: As) post) (hw : GoodIn lw_all (wsV own index C y (ws_ y cy L rt)))
    (hd : y.cls = C ∧ y.cls ≠ "java/lang/invoke/MethodHandle" ∧ y.cls ≠ "java/lang/invoke/VarHandle" ∧ (parseMethodDescriptor y.desc).map (fun q => q.parameters.length) = some n) (hn : As.length = n) (hR : rm.frames + 1 ≤ R.frames ∧ 8 + (L + 11) + rm.locals ≤ R.locals) (hc : rm.cells = 0 ∧ rm.slots = 0)
    (hK : va_K (dC, dI) hu_Cl [(d, .int)] s) (hP : va_P (dC, dI) hu_Cl X H) (hD : va_D A X) (hS : va_S A H0 H locs) (hA : ∀ q, H0.size ≤ q → A q) (isC isR : List Nat) (hC : isC.map (fun i => X[i]?) = (wf u).map some) (hRr : isR.map (fun i => X[i]?) = wr.map some) (hns : va_nd isC = true ∧ va_nd isR = true) (hdis : ∀ i ∈ isR, i ∉ isC) (hsub : isC.filterMap (fun i => X[i]?) = wf u)
    (hcell : ∃ cell : Cell, H[b]? = some cell ∧ cell.vm.isStatics = false ∧ s.vm.findClass C = some cell.cls)
    (hsz : ls.size = nL) (hst : st0 = As.reverse ++ .ref b :: rest) (hrm : (rest.map fun v => v.category).sum ≤ 8) (hf : cells ≤ R.cells ∧ slots ≤ R.slots) (hdg : decode cc pc = .ok (.invokevirtual index, 3))
    (kk : ∀ (r : Int32) (u' : S) (H1 : Heap) (locs1 : List Loc), post r u' → va_P (dC, dI) hu_Cl (wr ++ wf u') H1 → va_D A (wr ++ wf u') → va_S A H0 H1 locs1 → W p l e R s m args below meth c H1 locs1 cells slots Q (F0 m (pc + 3) ls (.int r :: rest))) : W p l e R s m args below meth c H locs cells slots Q (F0 m pc ls st0) := by
  have hPc := hP.sub (ws' := wf u) isC hsub
  have hDc := hD.sub (ws' := wf u) isC hns.1 hC
  have hFc := va_free (wc := wf u) hD hS hA isC hC
  refine va_calli (va_runV (As := As) (rest := rest) (n := n) F hM (cwV n F.2.2.2.2 hw rfl hc.1 hc.2 hd hR) ⟨fun a U g mk q => ⟨q.1, q.2.1, q.2.2.1, va_K.moved (u := U) (U := U.calling g mk a) (Vm.Alike.refl U.vm) q.2.2.2.1, q.2.2.2.2⟩, hcell, fun U hU hW => ⟨rfl, by rw [hU], by rw [hU]; exact hPc, va_K.moved hW.alike hK, hDc.weaken (fun _ _ _ _ => trivial)⟩⟩ rfl hn hsz hst (lv_room hrm) hdg hf) hS (fun q _ h => hFc q h) hFc (fun r u' t H1 locs1 ht hvm hw1 hB hz1 hk1 hS1 => ?_)
  obtain ⟨hP1, hK1, hD1⟩ := hB
  rw [ht] at hP1
  obtain ⟨hP2, hD2⟩ := va_join (wr := wr) (w1 := wf u') hP hD isC isR hC hRr hns.2 hdis hk1 hFc hP1 hD1
  exact kk r u' H1 locs1 hw1 hP2 hD2 hS1
theorem hu_callCV (n : Nat) {post : S → Prop} (F : CallFix p m c cc nL s args lw_all own) (hM : hu_CV l dC dI d wf u H.size y cy L rm (.ref b :: As) post) (hw : GoodIn lw_all (wsV own index C y (ws_ y cy L none)))
    (hd : y.cls = C ∧ y.cls ≠ "java/lang/invoke/MethodHandle" ∧ y.cls ≠ "java/lang/invoke/VarHandle" ∧ (parseMethodDescriptor y.desc).map (fun q => q.parameters.length) = some n) (hn : As.length = n) (hR : rm.frames + 1 ≤ R.frames ∧ 8 + (L + 11) + rm.locals ≤ R.locals) (hc : rm.cells = 0 ∧ rm.slots = 0)
    (hK : va_K (dC, dI) hu_Cl [(d, .int)] s) (hP : va_P (dC, dI) hu_Cl X H) (hD : va_D A X) (hS : va_S A H0 H locs) (hA : ∀ q, H0.size ≤ q → A q) (isC isR : List Nat) (hC : isC.map (fun i => X[i]?) = (wf u).map some) (hRr : isR.map (fun i => X[i]?) = wr.map some) (hns : va_nd isC = true ∧ va_nd isR = true) (hdis : ∀ i ∈ isR, i ∉ isC) (hsub : isC.filterMap (fun i => X[i]?) = wf u)
    (hcell : ∃ cell : Cell, H[b]? = some cell ∧ cell.vm.isStatics = false ∧ s.vm.findClass C = some cell.cls)
    (hsz : ls.size = nL) (hst : st0 = As.reverse ++ .ref b :: rest) (hrm : (rest.map fun v => v.category).sum ≤ 8) (hf : cells ≤ R.cells ∧ slots ≤ R.slots) (hdg : decode cc pc = .ok (.invokevirtual index, 3))
    (kk : ∀ (u' : S) (H1 : Heap) (locs1 : List Loc), post u' → va_P (dC, dI) hu_Cl (wr ++ wf u') H1 → va_D A (wr ++ wf u') → va_S A H0 H1 locs1 → W p l e R s m args below meth c H1 locs1 cells slots Q (F0 m (pc + 3) ls rest)) : W p l e R s m args below meth c H locs cells slots Q (F0 m pc ls st0) := by
  have hPc := hP.sub (ws' := wf u) isC hsub
  have hDc := hD.sub (ws' := wf u) isC hns.1 hC
  have hFc := va_free (wc := wf u) hD hS hA isC hC
  refine va_callv (va_runV (As := As) (rest := rest) (n := n) F hM (cwV n F.2.2.2.2 hw rfl hc.1 hc.2 hd hR) ⟨fun a U g mk q => ⟨q.1, q.2.1, q.2.2.1, va_K.moved (u := U) (U := U.calling g mk a) (Vm.Alike.refl U.vm) q.2.2.2.1, q.2.2.2.2⟩, hcell, fun U hU hW => ⟨rfl, by rw [hU], by rw [hU]; exact hPc, va_K.moved hW.alike hK, hDc.weaken (fun _ _ _ _ => trivial)⟩⟩ rfl hn hsz hst (lv_room hrm) hdg hf) hS (fun q _ h => hFc q h) hFc (fun u' t H1 locs1 ht hvm hw1 hB hz1 hk1 hS1 => ?_)
  obtain ⟨hP1, hK1, hD1⟩ := hB
  rw [ht] at hP1
  obtain ⟨hP2, hD2⟩ := va_join (wr := wr) (w1 := wf u') hP hD isC isR hC hRr hns.2 hdis hk1 hFc hP1 hD1
  exact kk u' H1 locs1 hw1 hP2 hD2 hS1
end HuR
end
section
/-! Int32 against Int -/
section HuNum
def hu_iI (z : Int) : Int32 := Int32.ofInt z
theorem hu_iI_add (a b : Int) : hu_iI a + hu_iI b = hu_iI (a + b) := (Int32.ofInt_add a b).symm
theorem hu_iI_sub (a b : Int) : hu_iI a - hu_iI b = hu_iI (a - b) := (Int32.ofInt_sub a b).symm
theorem hu_iI_mul (a b : Int) : hu_iI a * hu_iI b = hu_iI (a * b) := (Int32.ofInt_mul a b).symm
theorem hu_iI_neg (a : Int) : -hu_iI a = hu_iI (-a) := (Int32.ofInt_neg a).symm
theorem hu_iI_nat (n : Nat) : nI n = hu_iI n := Int32.ofInt_eq_ofNat.symm
theorem hu_iI_of (z : Int32) : hu_iI z.toInt = z := Int32.ofInt_toInt z
theorem hu_iI_t {z : Int} (h1 : -2147483648 ≤ z) (h2 : z < 2147483648) : (hu_iI z).toInt = z := Int32.toInt_ofInt_of_le (by omega) (by omega)
theorem hu_iI_lt {a b : Int} (a1 : -2147483648 ≤ a) (a2 : a < 2147483648) (b1 : -2147483648 ≤ b) (b2 : b < 2147483648) : hu_iI a < hu_iI b ↔ a < b := by
  rw [Int32.lt_iff_toInt_lt, hu_iI_t a1 a2, hu_iI_t b1 b2]
theorem hu_iI_le {a b : Int} (a1 : -2147483648 ≤ a) (a2 : a < 2147483648) (b1 : -2147483648 ≤ b) (b2 : b < 2147483648) : hu_iI a ≤ hu_iI b ↔ a ≤ b := by
  rw [Int32.le_iff_toInt_le, hu_iI_t a1 a2, hu_iI_t b1 b2]
theorem hu_iI_eq {a b : Int} (a1 : -2147483648 ≤ a) (a2 : a < 2147483648) (b1 : -2147483648 ≤ b) (b2 : b < 2147483648) : hu_iI a = hu_iI b ↔ a = b := by
  rw [← Int32.toInt_inj, hu_iI_t a1 a2, hu_iI_t b1 b2]
theorem hu_iI_0 : (0 : Int32) = hu_iI 0 := rfl
theorem hu_iI_1 : (1 : Int32) = hu_iI 1 := rfl
theorem hu_lt (x z : Int32) : x < z ↔ x.toInt < z.toInt := Int32.lt_iff_toInt_lt
theorem hu_le (x z : Int32) : x ≤ z ↔ x.toInt ≤ z.toInt := Int32.le_iff_toInt_le
theorem hu_eq (x z : Int32) : x = z ↔ x.toInt = z.toInt := Int32.toInt_inj.symm
/-- what a computed number is, as an Int: out of its iI form -/
theorem hu_ti {x : Int32} {z : Int} (e : x = hu_iI z) (h1 : -2147483648 ≤ z) (h2 : z < 2147483648) : x.toInt = z := by
  rw [e]; exact hu_iI_t h1 h2
theorem hu_add_t {x z : Int32} (h1 : -2147483648 ≤ x.toInt + z.toInt) (h2 : x.toInt + z.toInt < 2147483648) : (x + z).toInt = x.toInt + z.toInt :=
  hu_ti (by rw [← hu_iI_add, hu_iI_of, hu_iI_of]) h1 h2
theorem hu_sub_t {x z : Int32} (h1 : -2147483648 ≤ x.toInt - z.toInt) (h2 : x.toInt - z.toInt < 2147483648) : (x - z).toInt = x.toInt - z.toInt :=
  hu_ti (by rw [← hu_iI_sub, hu_iI_of, hu_iI_of]) h1 h2
theorem hu_mul_t {x z : Int32} (h1 : -2147483648 ≤ x.toInt * z.toInt) (h2 : x.toInt * z.toInt < 2147483648) : (x * z).toInt = x.toInt * z.toInt :=
  hu_ti (by rw [← hu_iI_mul, hu_iI_of, hu_iI_of]) h1 h2
theorem hu_neg_t {x : Int32} (h1 : -2147483648 ≤ -x.toInt) (h2 : -x.toInt < 2147483648) : (-x).toInt = -x.toInt :=
  hu_ti (by rw [← hu_iI_neg, hu_iI_of]) h1 h2
theorem hu_nI_t {n : Nat} (h : n < 2147483648) : (nI n).toInt = (n : Int) := nI_toInt h
/-- products of small numbers are small -/
theorem hu_ab {a b A B : Int} (h1 : -A ≤ a) (h2 : a ≤ A) (h3 : -B ≤ b) (h4 : b ≤ B) : -(A * B) ≤ a * b ∧ a * b ≤ A * B := by
  have hA : 0 ≤ A := by omega
  have hB : 0 ≤ B := by omega
  have k1 := Int.mul_nonneg (show 0 ≤ A - a by omega) (show 0 ≤ B - b by omega)
  have k2 := Int.mul_nonneg (show 0 ≤ A + a by omega) (show 0 ≤ B + b by omega)
  have k3 := Int.mul_nonneg (show 0 ≤ A - a by omega) (show 0 ≤ B + b by omega)
  have k4 := Int.mul_nonneg (show 0 ≤ A + a by omega) (show 0 ≤ B - b by omega)
  have e1 : (A - a) * (B - b) = A * B - A * b - a * B + a * b := by grind
  have e2 : (A + a) * (B + b) = A * B + A * b + a * B + a * b := by grind
  have e3 : (A - a) * (B + b) = A * B + A * b - a * B - a * b := by grind
  have e4 : (A + a) * (B - b) = A * B - A * b + a * B - a * b := by grind
  omega
/-- a truth value -/
def hu_tf (r : Int32) (P : Prop) : Prop := (r = 1 ∧ P) ∨ (r = 0 ∧ ¬ P)
theorem hu_tf_eq {r r' : Int32} {P P' : Prop} (h : hu_tf r P) (h' : hu_tf r' P') (e : P ↔ P') : r = r' := by
  rcases h with ⟨a, b⟩ | ⟨a, b⟩ <;> rcases h' with ⟨a', b'⟩ | ⟨a', b'⟩
  · rw [a, a']
  · exact absurd (e.mp b) b'
  · exact absurd (e.mpr b') b
  · rw [a, a']
theorem hu_tf_t {P : Prop} (h : P) : hu_tf 1 P := Or.inl ⟨rfl, h⟩
theorem hu_tf_f {P : Prop} (h : ¬ P) : hu_tf 0 P := Or.inr ⟨rfl, h⟩
theorem hu_tf_ne {r : Int32} {P : Prop} (h : hu_tf r P) (c : ¬ r = 0) : P := by
  rcases h with ⟨a, b⟩ | ⟨a, b⟩
  · exact b
  · exact absurd a c
theorem hu_tf_0 {r : Int32} {P : Prop} (h : hu_tf r P) (c : r = 0) : ¬ P := by
  rcases h with ⟨a, b⟩ | ⟨a, b⟩
  · rw [a] at c; exact absurd c (by decide)
  · exact b
/-- division by a number above 0: floorDiv's number -/
theorem hu_fd {n d : Int32} (hd : 0 < d.toInt) (hn1 : -100000 ≤ n.toInt) (hn2 : n.toInt ≤ 100000) (hd2 : d.toInt ≤ 1000) :
    (n < n / d * d → (n / d - 1).toInt = n.toInt / d.toInt) ∧ (¬ n < n / d * d → (n / d).toInt = n.toInt / d.toInt) := by
  have hdne : d ≠ -1 := fun e => by rw [e] at hd; exact absurd hd (by decide)
  have hq : (n / d).toInt = n.toInt.tdiv d.toInt := Int32.toInt_div_of_ne_right n d hdne
  have hq1 := Int.mul_ediv_add_emod n.toInt d.toInt
  have hq2 := Int.emod_nonneg n.toInt (show d.toInt ≠ 0 by omega)
  have hq3 := Int.emod_lt_of_pos n.toInt hd
  have ht : n.toInt.tdiv d.toInt = if 0 ≤ n.toInt ∨ d.toInt ∣ n.toInt then n.toInt / d.toInt else n.toInt / d.toInt + d.toInt.sign := by
    rw [Int.tdiv_eq_ediv]
    split <;> omega
  have hsg : d.toInt.sign = 1 := Int.sign_eq_one_of_pos hd
  have b1 : -200000 ≤ n.toInt / d.toInt := by
    rcases Int.lt_or_le (n.toInt / d.toInt) (-200000) with q | q
    · have := Int.mul_nonneg (show 0 ≤ d.toInt - 1 by omega) (show 0 ≤ -(n.toInt / d.toInt) by omega)
      have e : (d.toInt - 1) * -(n.toInt / d.toInt) = -(d.toInt * (n.toInt / d.toInt)) + n.toInt / d.toInt := by grind
      omega
    · exact q
  have b2 : n.toInt / d.toInt ≤ 100000 := by
    rcases Int.lt_or_le 100000 (n.toInt / d.toInt) with q | q
    · have := Int.mul_nonneg (show 0 ≤ d.toInt - 1 by omega) (show 0 ≤ n.toInt / d.toInt by omega)
      have e : (d.toInt - 1) * (n.toInt / d.toInt) = d.toInt * (n.toInt / d.toInt) - n.toInt / d.toInt := by grind
      omega
    · exact q
  have b3 : -200001 ≤ n.toInt.tdiv d.toInt ∧ n.toInt.tdiv d.toInt ≤ 200001 := by
    rw [ht, hsg]
    split <;> omega
  have hm : (n / d * d).toInt = n.toInt.tdiv d.toInt * d.toInt := by
    have k := hu_ab (a := n.toInt.tdiv d.toInt) (b := d.toInt) (A := 200001) (B := 1000) (by omega) (by omega) (by omega) (by omega)
    rw [hu_mul_t (by rw [hq]; omega) (by rw [hq]; omega), hq]
  have hs : (n / d - 1).toInt = n.toInt.tdiv d.toInt - 1 := by
    have e1 : (1 : Int32).toInt = 1 := rfl
    rw [hu_sub_t (by rw [hq, e1]; omega) (by rw [hq, e1]; omega), hq, e1]
  rw [hu_lt, hm, hs, hq]
  rw [ht, hsg]
  have ec : n.toInt / d.toInt * d.toInt = d.toInt * (n.toInt / d.toInt) := Int.mul_comm _ _
  have ec2 : (n.toInt / d.toInt + 1) * d.toInt = d.toInt * (n.toInt / d.toInt) + d.toInt := by grind
  split
  · constructor
    · intro h; omega
    · intro _; rfl
  · constructor
    · intro _; omega
    · intro h; omega
end HuNum
end
section
/-! what the methods compute, on numbers and rows of numbers -/
section HuPure
def hu_nx (n i : Nat) : Nat := if i + 1 < n then i + 1 else 0
theorem hu_nx_y {n i : Nat} (h : i + 1 < n) : hu_nx n i = i + 1 := if_pos h
theorem hu_nx_n {n i : Nat} (h : ¬ i + 1 < n) : hu_nx n i = 0 := if_neg h
theorem hu_nx_lt {n i : Nat} (h : i < n) : hu_nx n i < n := by
  unfold hu_nx
  split <;> omega
/-- Euclid with so many rounds -/
def hu_gI : Nat → Nat → Nat → Nat
  | 0, a, _ => a
  | f + 1, a, b => if b = 0 then a else hu_gI f b (a % b)
theorem hu_gI_ok : ∀ a, a < 41 → ∀ b, b < 41 → hu_gI 20 a b = Nat.gcd a b := by decide +kernel
/-- the points of the columns below n -/
def hu_pts (lo hi : Nat → Int32) : Nat → Int32
  | 0 => 0
  | n + 1 => if lo n ≤ hi n then hu_pts lo hi n + (hi n - lo n + 1) else hu_pts lo hi n
/-- the shoelace sum -/
def hu_ar (cx cy : Nat → Int32) (n : Nat) : Nat → Int32
  | 0 => 0
  | i + 1 => hu_ar cx cy n i + (cx i * cy (hu_nx n i) - cx (hu_nx n i) * cy i)
def hu_gab (a b : Int32) : Nat := Nat.gcd a.toInt.natAbs b.toInt.natAbs
/-- the sum of the ways' lattice lengths -/
def hu_bd (cx cy : Nat → Int32) (n : Nat) : Nat → Int32
  | 0 => 0
  | i + 1 => hu_bd cx cy n i + nI (hu_gab (cx (hu_nx n i) - cx i) (cy (hu_nx n i) - cy i))
/-- the first greatest of v 0 .. v (i - 1) -/
def hu_at (v : Nat → Int32) : Nat → Nat
  | 0 => 0
  | i + 1 => if v (hu_at v i) < v i then i else hu_at v i
theorem hu_at_lt (v : Nat → Int32) : ∀ i, hu_at v i ≤ i
  | 0 => Nat.le_refl 0
  | i + 1 => by
    have := hu_at_lt v i
    unfold hu_at
    split <;> omega
def hu_xO (z : Int32) : Int32 := z &&& 63
def hu_yO (z : Int32) : Int32 := z >>> (6 &&& 31)
def hu_tR (a b r : Int32) : Int32 := (hu_xO b - hu_xO a) * (hu_yO r - hu_yO a) - (hu_yO b - hu_yO a) * (hu_xO r - hu_xO a)
def hu_dR (a b : Int32) : Int32 := (hu_xO b - hu_xO a) * (hu_xO b - hu_xO a) + (hu_yO b - hu_yO a) * (hu_yO b - hu_yO a)
def hu_vR (g h z : Int32) : Int32 := g * hu_xO z + h * hu_yO z
def hu_nC (a b r : Int32) : Prop := b = a ∨ hu_tR a b r < 0 ∨ (hu_tR a b r = 0 ∧ hu_dR a b < hu_dR a r)
/-- next, after so many of the list -/
def hu_nR (f : Nat → Int32) (a : Int32) : Nat → Int32
  | 0 => a
  | k + 1 => if hu_nR f a k = a ∨ hu_tR a (hu_nR f a k) (f k) < 0 ∨ (hu_tR a (hu_nR f a k) (f k) = 0 ∧ hu_dR a (hu_nR f a k) < hu_dR a (f k)) then f k else hu_nR f a k
theorem hu_nR_y {f : Nat → Int32} {a b : Int32} {k : Nat} (h : b = hu_nR f a k) (c : hu_nC a b (f k)) : f k = hu_nR f a (k + 1) := by
  subst h
  exact (if_pos c).symm
theorem hu_nR_n {f : Nat → Int32} {a b : Int32} {k : Nat} (h : b = hu_nR f a k) (c : ¬ hu_nC a b (f k)) : b = hu_nR f a (k + 1) := by
  subst h
  exact (if_neg c).symm
/-- the fan of triangles -/
def hu_an (h : Nat → Int32) : Nat → Int32
  | 0 => 0
  | k + 1 => hu_an h k + hu_tR (h 0) (h (k + 1)) (h (k + 2))
def hu_oB (h : Nat → Int32) (n : Nat) (z : Int32) : Prop := ∃ k, k < n ∧ hu_tR (h k) (h (hu_nx n k)) z = 0
/-- how many below n have P -/
noncomputable def hu_cnt (P : Nat → Prop) : Nat → Nat
  | 0 => 0
  | k + 1 => hu_cnt P k + (@ite _ (P k) (Classical.propDecidable _) 1 0)
theorem hu_cnt_y {P : Nat → Prop} {k : Nat} (h : P k) : hu_cnt P (k + 1) = hu_cnt P k + 1 := by
  show hu_cnt P k + _ = _
  rw [if_pos h]
theorem hu_cnt_n {P : Nat → Prop} {k : Nat} (h : ¬ P k) : hu_cnt P (k + 1) = hu_cnt P k := by
  show hu_cnt P k + _ = _
  rw [if_neg h]
  rfl
theorem hu_cnt_le (P : Nat → Prop) : ∀ k, hu_cnt P k ≤ k := by
  intro k
  induction k with
  | zero => exact Nat.le_refl 0
  | succ k ih =>
    by_cases h : P k
    · rw [hu_cnt_y h]; omega
    · rw [hu_cnt_n h]; omega
/-- the greatest of v 0 .. v (k - 1), at least v 0 -/
def hu_mx (v : Nat → Int32) : Nat → Int32
  | 0 => v 0
  | k + 1 => if hu_mx v k < v k then v k else hu_mx v k
theorem hu_mx_1 (v : Nat → Int32) : hu_mx v 1 = v 0 := by
  show (if v 0 < v 0 then v 0 else v 0) = v 0
  split <;> rfl
theorem hu_at_1 (v : Nat → Int32) : hu_at v 1 = 0 := by
  show (if v 0 < v 0 then 0 else 0) = 0
  split <;> rfl
theorem hu_at_y {v : Nat → Int32} {a i : Nat} (h : a = hu_at v i) (c : v a < v i) : i = hu_at v (i + 1) := by
  subst h
  exact (if_pos c).symm
theorem hu_at_n {v : Nat → Int32} {a i : Nat} (h : a = hu_at v i) (c : ¬ v a < v i) : a = hu_at v (i + 1) := by
  subst h
  exact (if_neg c).symm
theorem hu_mx_y {v : Nat → Int32} {a : Int32} {i : Nat} (h : a = hu_mx v i) (c : a < v i) : v i = hu_mx v (i + 1) := by
  subst h
  exact (if_pos c).symm
theorem hu_mx_n {v : Nat → Int32} {a : Int32} {i : Nat} (h : a = hu_mx v i) (c : ¬ a < v i) : a = hu_mx v (i + 1) := by
  subst h
  exact (if_neg c).symm
theorem hu_pts_y {lo hi : Nat → Int32} {n : Nat} {a : Int32} (h : a = hu_pts lo hi n) (c : lo n ≤ hi n) : a + (hi n - lo n + 1) = hu_pts lo hi (n + 1) := by
  subst h
  exact (if_pos c).symm
theorem hu_pts_n {lo hi : Nat → Int32} {n : Nat} {a : Int32} (h : a = hu_pts lo hi n) (c : ¬ lo n ≤ hi n) : a = hu_pts lo hi (n + 1) := by
  subst h
  exact (if_neg c).symm
theorem hu_absT {z : Int32} (h : ¬ 0 ≤ z) (h1 : -1000 ≤ z.toInt) : -z = nI z.toInt.natAbs := by
  rw [hu_le] at h
  have e0 : (0 : Int32).toInt = 0 := rfl
  rw [e0] at h
  rw [hu_iI_nat, ← hu_iI_of z, hu_iI_neg, hu_iI_of]
  congr 1
  omega
theorem hu_absF {z : Int32} (h : 0 ≤ z) : z = nI z.toInt.natAbs := by
  rw [hu_le] at h
  have e0 : (0 : Int32).toInt = 0 := rfl
  rw [e0] at h
  rw [hu_iI_nat, show ((z.toInt.natAbs : Nat) : Int) = z.toInt by omega, hu_iI_of]
end HuPure
end
section
/-! plane geometry over Int: no program in sight -/
section HuGeo
/-- twice the signed area of p, q, r -/
def hu_tn (p q r : Int × Int) : Int := (q.1 - p.1) * (r.2 - p.2) - (q.2 - p.2) * (r.1 - p.1)
/-- a linear form -/
def hu_lf (u v : Int) (p : Int × Int) : Int := u * p.1 + v * p.2
theorem hu_i1 (u v : Int) (a b c n : Int × Int) : hu_tn a b n * (hu_lf u v c - hu_lf u v b) = hu_tn a b c * (hu_lf u v n - hu_lf u v b) + hu_tn b c n * (hu_lf u v b - hu_lf u v a) := by
  obtain ⟨a1, a2⟩ := a; obtain ⟨b1, b2⟩ := b; obtain ⟨c1, c2⟩ := c; obtain ⟨n1, n2⟩ := n
  simp only [hu_tn, hu_lf]
  grind
theorem hu_i2 (u v : Int) (s t n r : Int × Int) : hu_tn t n r * (hu_lf u v t - hu_lf u v s) = hu_tn s t r * (hu_lf u v n - hu_lf u v t) + hu_tn s t n * (hu_lf u v t - hu_lf u v r) := by
  obtain ⟨a1, a2⟩ := s; obtain ⟨b1, b2⟩ := t; obtain ⟨c1, c2⟩ := r; obtain ⟨n1, n2⟩ := n
  simp only [hu_tn, hu_lf]
  grind
theorem hu_i3 (u v : Int) (s t n r : Int × Int) : hu_tn s n r * (hu_lf u v n - hu_lf u v t) = hu_tn t n r * (hu_lf u v n - hu_lf u v s) + (-hu_tn s t n) * (hu_lf u v n - hu_lf u v r) := by
  obtain ⟨a1, a2⟩ := s; obtain ⟨b1, b2⟩ := t; obtain ⟨c1, c2⟩ := r; obtain ⟨n1, n2⟩ := n
  simp only [hu_tn, hu_lf]
  grind
theorem hu_i4 (u v : Int) (s t n r : Int × Int) : hu_tn s n r * (hu_lf u v t - hu_lf u v s) = hu_tn s t r * (hu_lf u v n - hu_lf u v s) + (-hu_tn s t n) * (hu_lf u v r - hu_lf u v s) := by
  obtain ⟨a1, a2⟩ := s; obtain ⟨b1, b2⟩ := t; obtain ⟨c1, c2⟩ := r; obtain ⟨n1, n2⟩ := n
  simp only [hu_tn, hu_lf]
  grind
theorem hu_nn {X d : Int} (hd : 0 < d) (h : 0 ≤ X * d) : 0 ≤ X := by
  rcases Int.lt_or_le X 0 with q | q
  · have := Int.mul_neg_of_neg_of_pos q hd
    omega
  · exact q
theorem hu_pp {X d : Int} (hd : 0 < d) (h : 0 < X * d) : 0 < X := by
  rcases Int.lt_or_le 0 X with q | q
  · exact q
  · have := Int.mul_nonneg (show 0 ≤ -X by omega) (Int.le_of_lt hd)
    rw [Int.neg_mul] at this
    omega
/-- all of R lies on the left of the way from p to q, and what lies on it lies between -/
def hu_E (R : Int × Int → Prop) (u v : Int) (p q : Int × Int) : Prop := ∀ r, R r → 0 ≤ hu_tn p q r ∧ (hu_tn p q r = 0 → hu_lf u v p ≤ hu_lf u v r ∧ hu_lf u v r ≤ hu_lf u v q)
/-- a chain: it grows along the form, all its ways have R on the left, it turns left, its last corner is R's greatest -/
def hu_Ch (R : Int × Int → Prop) (u v : Int) (c : Nat → Int × Int) (b n : Nat) : Prop := b < n ∧ (∀ i, b ≤ i → i + 1 < n → hu_lf u v (c i) < hu_lf u v (c (i + 1))) ∧ (∀ i, b ≤ i → i + 1 < n → hu_E R u v (c i) (c (i + 1))) ∧ (∀ i, b ≤ i → i + 2 < n → 0 < hu_tn (c i) (c (i + 1)) (c (i + 2))) ∧ (∀ i, b ≤ i → i < n → R (c i)) ∧ (∀ r, R r → hu_lf u v r ≤ hu_lf u v (c (n - 1)))
/-- what the pops leave -/
def hu_Pop (c : Nat → Int × Int) (b n m : Nat) (p : Int × Int) : Prop := b ≤ m ∧ m ≤ n ∧ (m < b + 2 ∨ 0 < hu_tn (c (m - 2)) (c (m - 1)) p) ∧ ∀ j, m < j → j ≤ n → b + 2 ≤ j ∧ hu_tn (c (j - 2)) (c (j - 1)) p ≤ 0
theorem hu_Pop.lt {c : Nat → Int × Int} {b n m : Nat} {p : Int × Int} (h : hu_Pop c b n m p) (hn : b < n) : b < m := by
  rcases Nat.lt_or_ge b m with q | q
  · exact q
  · have := h.2.2.2 (b + 1) (by omega) (by omega)
    omega
theorem hu_Ch_congr {R R' : Int × Int → Prop} {u v : Int} {c : Nat → Int × Int} {b n : Nat} (h : hu_Ch R u v c b n) (e : ∀ r, R r ↔ R' r) : hu_Ch R' u v c b n := by
  have : R = R' := funext fun r => propext (e r)
  rw [← this]
  exact h
theorem hu_up {R : Int × Int → Prop} {u v : Int} {c : Nat → Int × Int} {b n m : Nat} {p : Int × Int} (h : hu_Ch R u v c b n) (hm : hu_Pop c b n m p) (ha : hu_lf u v (c (n - 1)) < hu_lf u v p) :
    ∀ d i, i + 2 + d = m → b ≤ i → 0 < hu_tn (c i) (c (i + 1)) p := by
  obtain ⟨h1, h2, h3, h4, h5, h6⟩ := h
  obtain ⟨m1, m2, m3, m4⟩ := hm
  intro d
  induction d with
  | zero =>
    intro i hi hb
    rcases m3 with q | q
    · omega
    · have e1 : m - 2 = i := by omega
      have e2 : m - 1 = i + 1 := by omega
      rw [e1, e2] at q
      exact q
  | succ d ih =>
    intro i hi hb
    have k1 : 0 < hu_tn (c (i + 1)) (c (i + 2)) p := ih (i + 1) (by omega) (by omega)
    have k2 := h4 i hb (by omega)
    have k3 := h2 i hb (by omega)
    have k4 : hu_lf u v (c (i + 1)) < hu_lf u v (c (i + 2)) := h2 (i + 1) (by omega) (by omega)
    have k5 := h6 _ (h5 (i + 1) (by omega) (by omega))
    have k6 := hu_i1 u v (c i) (c (i + 1)) (c (i + 2)) p
    refine hu_pp (d := hu_lf u v (c (i + 2)) - hu_lf u v (c (i + 1))) (by omega) ?_
    rw [k6]
    have k7 := Int.mul_pos k2 (show 0 < hu_lf u v p - hu_lf u v (c (i + 1)) by omega)
    have k8 := Int.mul_pos k1 (show 0 < hu_lf u v (c (i + 1)) - hu_lf u v (c i) by omega)
    omega
theorem hu_pin {R : Int × Int → Prop} {u v : Int} {c : Nat → Int × Int} {b n m : Nat} {p : Int × Int} (h : hu_Ch R u v c b n) (hm : hu_Pop c b n m p) (ha : hu_lf u v (c (n - 1)) < hu_lf u v p) :
    ∀ d j, j + d = n → m ≤ j → ∀ r, R r → hu_lf u v (c (j - 1)) < hu_lf u v r → 0 ≤ hu_tn (c (j - 1)) p r := by
  obtain ⟨h1, h2, h3, h4, h5, h6⟩ := h
  obtain ⟨m1, m2, m3, m4⟩ := hm
  intro d
  induction d with
  | zero =>
    intro j hj hm r hr hg
    have := h6 r hr
    rw [show j = n by omega] at hg
    omega
  | succ d ih =>
    intro j hj hm r hr hg
    obtain ⟨p1, p2⟩ := m4 (j + 1) (by omega) (by omega)
    rw [show j + 1 - 2 = j - 1 by omega, show j + 1 - 1 = j by omega] at p2
    have k0 := ih (j + 1) (by omega) (by omega)
    rw [show j + 1 - 1 = j by omega] at k0
    have g1 : hu_lf u v (c (j - 1)) < hu_lf u v (c j) := by
      have := h2 (j - 1) (by omega) (by omega)
      rw [show j - 1 + 1 = j by omega] at this
      exact this
    have g2 := h6 _ (h5 j (by omega) (by omega))
    have g3 := h6 r hr
    rcases Int.lt_or_le (hu_lf u v (c j)) (hu_lf u v r) with q | q
    · have k1 := k0 r hr q
      refine hu_nn (d := hu_lf u v p - hu_lf u v (c j)) (by omega) ?_
      rw [hu_i3]
      have k2 := Int.mul_nonneg k1 (show 0 ≤ hu_lf u v p - hu_lf u v (c (j - 1)) by omega)
      have k3 := Int.mul_nonneg (show 0 ≤ -hu_tn (c (j - 1)) (c j) p by omega) (show 0 ≤ hu_lf u v p - hu_lf u v r by omega)
      omega
    · have k1 := (h3 (j - 1) (by omega) (by omega) r hr).1
      rw [show j - 1 + 1 = j by omega] at k1
      refine hu_nn (d := hu_lf u v (c j) - hu_lf u v (c (j - 1))) (by omega) ?_
      rw [hu_i4]
      have k2 := Int.mul_nonneg k1 (show 0 ≤ hu_lf u v p - hu_lf u v (c (j - 1)) by omega)
      have k3 := Int.mul_nonneg (show 0 ≤ -hu_tn (c (j - 1)) (c j) p by omega) (show 0 ≤ hu_lf u v r - hu_lf u v (c (j - 1)) by omega)
      omega
/-- a point is added to a chain -/
theorem hu_step {R N : Int × Int → Prop} {u v : Int} {c c' : Nat → Int × Int} {b n m : Nat} {p : Int × Int} (h : hu_Ch R u v c b n) (hm : hu_Pop c b n m p) (e1 : c' m = p) (e2 : ∀ j, j < m → c' j = c j)
    (ha : hu_lf u v (c (n - 1)) < hu_lf u v p) (hb : ∀ r, N r → hu_lf u v r ≤ hu_lf u v p)
    (hc : ∀ r, N r → ∀ s t, R s → R t → hu_lf u v s < hu_lf u v t → hu_tn s t p ≤ hu_tn s t r)
    (hd : ∀ r, N r → ∀ t, R t → 0 ≤ hu_tn t p r ∧ (hu_tn t p r = 0 → hu_lf u v t ≤ hu_lf u v r))
    (he : ∀ r, R r → hu_lf u v r ≤ hu_lf u v (c b) → 0 ≤ hu_tn (c b) p r ∧ (hu_tn (c b) p r = 0 → hu_lf u v (c b) ≤ hu_lf u v r))
    (hf : N p) : hu_Ch (fun r => R r ∨ N r) u v c' b (m + 1) := by
  have hup := hu_up h hm ha
  have hpin := hu_pin h hm ha
  have hbm := hm.lt h.1
  obtain ⟨h1, h2, h3, h4, h5, h6⟩ := h
  obtain ⟨m1, m2, m3, m4⟩ := hm
  refine ⟨by omega, ?_, ?_, ?_, ?_, ?_⟩
  · intro i hi hin
    rw [e2 i (by omega)]
    rcases Nat.lt_or_ge (i + 1) m with q | q
    · rw [e2 _ q]
      exact h2 i hi (by omega)
    · rw [show i + 1 = m by omega, e1]
      have := h6 _ (h5 i hi (by omega))
      omega
  · intro i hi hin r hr
    rw [e2 i (by omega)]
    rcases Nat.lt_or_ge (i + 1) m with q | q
    · rw [e2 _ q]
      rcases hr with hr | hr
      · exact h3 i hi (by omega) r hr
      · have k1 := hup (m - 2 - i) i (by omega) hi
        have k2 := hc r hr _ _ (h5 i hi (by omega)) (h5 (i + 1) (by omega) (by omega)) (h2 i hi (by omega))
        exact ⟨by omega, fun h => by omega⟩
    · rw [show i + 1 = m by omega, e1]
      have gi := h6 _ (h5 i hi (by omega))
      rcases hr with hr | hr
      · have gr := h6 r hr
        rcases Int.lt_or_le (hu_lf u v (c i)) (hu_lf u v r) with g | g
        · have k1 := hpin (n - m) m (by omega) (Nat.le_refl m) r hr (by rw [show m - 1 = i by omega]; exact g)
          rw [show m - 1 = i by omega] at k1
          exact ⟨k1, fun _ => ⟨by omega, by omega⟩⟩
        · rcases Nat.lt_or_ge b i with w | w
          · have s1 := (h3 (i - 1) (by omega) (by omega) r hr).1
            have s2 := h2 (i - 1) (by omega) (by omega)
            have s3 : 0 < hu_tn (c (i - 1)) (c i) p := by
              have := hup 0 (i - 1) (by omega) (by omega)
              rw [show i - 1 + 1 = i by omega] at this
              exact this
            rw [show i - 1 + 1 = i by omega] at s1 s2
            have s4 := hu_i2 u v (c (i - 1)) (c i) p r
            have t1 := Int.mul_nonneg s1 (show 0 ≤ hu_lf u v p - hu_lf u v (c i) by omega)
            have t2 := Int.mul_nonneg (Int.le_of_lt s3) (show 0 ≤ hu_lf u v (c i) - hu_lf u v r by omega)
            refine ⟨hu_nn (d := hu_lf u v (c i) - hu_lf u v (c (i - 1))) (by omega) (by omega), fun h0 => ?_⟩
            rw [h0, Int.zero_mul] at s4
            rcases Int.lt_or_le (hu_lf u v r) (hu_lf u v (c i)) with z | z
            · have := Int.mul_pos s3 (show 0 < hu_lf u v (c i) - hu_lf u v r by omega)
              omega
            · exact ⟨z, by omega⟩
          · have hib : i = b := by omega
            subst hib
            obtain ⟨k1, k2⟩ := he r hr g
            exact ⟨k1, fun h0 => ⟨k2 h0, by omega⟩⟩
      · obtain ⟨k1, k2⟩ := hd r hr (c i) (h5 i hi (by omega))
        exact ⟨k1, fun h0 => ⟨k2 h0, hb r hr⟩⟩
  · intro i hi hin
    rw [e2 i (by omega), e2 (i + 1) (by omega)]
    rcases Nat.lt_or_ge (i + 2) m with q | q
    · rw [e2 _ q]
      exact h4 i hi (by omega)
    · rw [show i + 2 = m by omega, e1]
      exact hup 0 i (by omega) hi
  · intro i hi hin
    rcases Nat.lt_or_ge i m with q | q
    · rw [e2 i q]
      exact Or.inl (h5 i hi (by omega))
    · rw [show i = m by omega, e1]
      exact Or.inr hf
  · intro r hr
    rw [show m + 1 - 1 = m by omega, e1]
    rcases hr with hr | hr
    · have := h6 r hr
      omega
    · exact hb r hr
end HuGeo
end
section
/-! the two chains and the closed hull: no program in sight -/
section HuChain
def hu_Box (S : Int × Int → Prop) : Prop := ∀ r, S r → 0 ≤ r.1 ∧ r.1 ≤ 40 ∧ 0 ≤ r.2 ∧ r.2 ≤ 40
theorem hu_Ch_ext {R : Int × Int → Prop} {u v : Int} {c c' : Nat → Int × Int} {b n : Nat} (h : hu_Ch R u v c b n) (e : ∀ i, i < n → c' i = c i) : hu_Ch R u v c' b n := by
  obtain ⟨h1, h2, h3, h4, h5, h6⟩ := h
  refine ⟨h1, ?_, ?_, ?_, ?_, ?_⟩
  · intro i hi hn
    rw [e i (by omega), e _ hn]
    exact h2 i hi hn
  · intro i hi hn
    rw [e i (by omega), e _ hn]
    exact h3 i hi hn
  · intro i hi hn
    rw [e i (by omega), e (i + 1) (by omega), e _ hn]
    exact h4 i hi hn
  · intro i hi hn
    rw [e i hn]
    exact h5 i hi hn
  · intro r hr
    rw [e (n - 1) (by omega)]
    exact h6 r hr
theorem hu_Ch_mono {R : Int × Int → Prop} {u v : Int} {c : Nat → Int × Int} {b n : Nat} (h : hu_Ch R u v c b n) : ∀ d i, b ≤ i → i + d + 1 < n → hu_lf u v (c i) < hu_lf u v (c (i + d + 1)) := by
  intro d
  induction d with
  | zero =>
    intro i hi hn
    exact h.2.1 i hi hn
  | succ d ih =>
    intro i hi hn
    have k1 := ih i hi (by omega)
    have k2 := h.2.1 (i + d + 1) (by omega) (by omega)
    have e : i + (d + 1) + 1 = i + d + 1 + 1 := by omega
    rw [e]
    omega
/-- the tally of the lower chain: columns below X are done -/
def hu_L (S : Int × Int → Prop) (X : Int) (c : Nat → Int × Int) (n : Nat) (last : Int) : Prop :=
  (n = 0 ∧ last = -1 ∧ ∀ r, S r → X ≤ r.1) ∨
  (hu_Ch (fun r => S r ∧ r.1 < X) 64 (-1) c 0 n ∧ (∀ r, S r → (c 0).1 ≤ r.1 ∧ (r.1 = (c 0).1 → (c 0).2 ≤ r.2)) ∧ (c (n - 1)).1 = last ∧ (∀ r, S r → r.1 = last → (c (n - 1)).2 ≤ r.2) ∧ 0 ≤ last ∧ last < X ∧ ∀ r, S r → r.1 < X → r.1 ≤ last)
theorem hu_L0 {S : Int × Int → Prop} (hS : hu_Box S) (c : Nat → Int × Int) : hu_L S 0 c 0 (-1) := Or.inl ⟨rfl, rfl, fun r hr => (hS r hr).1⟩
theorem hu_Le {S : Int × Int → Prop} {X last : Int} {c : Nat → Int × Int} {n : Nat} (h : hu_L S X c n last) (he : ∀ r, S r → r.1 ≠ X) : hu_L S (X + 1) c n last := by
  rcases h with ⟨h1, h2, h3⟩ | ⟨h1, h2, h3, h4, h5, h6, h7⟩
  · refine Or.inl ⟨h1, h2, fun r hr => ?_⟩
    have := h3 r hr
    have := he r hr
    omega
  · refine Or.inr ⟨hu_Ch_congr h1 (fun r => ⟨fun ⟨a, b⟩ => ⟨a, by omega⟩, fun ⟨a, b⟩ => ⟨a, by have := he r a; omega⟩⟩), h2, h3, h4, h5, by omega, fun r hr hx => h7 r hr ?_⟩
    have := he r hr
    omega
theorem hu_tcol (s t p r : Int × Int) (h : r.1 = p.1) : hu_tn s t r = hu_tn s t p + (t.1 - s.1) * (r.2 - p.2) := by
  simp only [hu_tn, h]
  grind
theorem hu_tcol2 (t p r : Int × Int) (h : r.1 = p.1) : hu_tn t p r = (p.1 - t.1) * (r.2 - p.2) := by
  simp only [hu_tn, h]
  grind
theorem hu_tcol3 (t p r : Int × Int) (h : r.1 = t.1) : hu_tn t p r = (p.1 - t.1) * (r.2 - t.2) := by
  simp only [hu_tn, h]
  grind
theorem hu_m0 {a b : Int} (ha : 0 < a) (h : a * b = 0) : b = 0 := by
  rcases Int.mul_eq_zero.mp h with q | q
  · omega
  · exact q
theorem hu_Lp {S : Int × Int → Prop} (hS : hu_Box S) {X last : Int} {c c' : Nat → Int × Int} {n m : Nat} {p : Int × Int} (h : hu_L S X c n last) (hp : p.1 = X) (hpS : S p) (hlow : ∀ r, S r → r.1 = X → p.2 ≤ r.2) (hm : hu_Pop c 0 n m p) (e1 : c' m = p) (e2 : ∀ j, j < m → c' j = c j) : hu_L S (X + 1) c' (m + 1) X := by
  have hpb := hS p hpS
  rcases h with ⟨h1, h2, h3⟩ | ⟨h1, h2, h3, h4, h5, h6, h7⟩
  · have hm0 : m = 0 := by
      have := hm.2.1
      omega
    subst hm0
    refine Or.inr ⟨⟨by omega, fun i _ hi => by omega, fun i _ hi => by omega, fun i _ hi => by omega, ?_, ?_⟩, ?_, ?_, ?_, ?_, ?_, ?_⟩
    · intro i _ hi
      rw [show i = 0 by omega, e1]
      exact ⟨hpS, by omega⟩
    · intro r hr
      show hu_lf 64 (-1) r ≤ hu_lf 64 (-1) (c' 0)
      rw [e1]
      have k1 := h3 r hr.1
      have k2 := hr.2
      have k3 := hlow r hr.1 (by omega)
      simp only [hu_lf]
      omega
    · intro r hr
      rw [e1]
      have k1 := h3 r hr
      exact ⟨by omega, fun e => hlow r hr (by omega)⟩
    · show (c' 0).1 = X
      rw [e1]; exact hp
    · intro r hr hx
      show (c' 0).2 ≤ r.2
      rw [e1]; exact hlow r hr hx
    · omega
    · omega
    · intro r hr hx
      omega
  · have hnn : 0 < n := h1.1
    have hmm : 0 < m := hm.lt hnn
    have hlast := h1.2.2.2.2.1 (n - 1) (Nat.zero_le _) (by omega)
    have hlb := hS _ hlast.1
    have hstep : hu_Ch (fun r => (S r ∧ r.1 < X) ∨ (S r ∧ r.1 = X)) 64 (-1) c' 0 (m + 1) := by
      refine hu_step (N := fun r => S r ∧ r.1 = X) h1 hm e1 e2 ?_ ?_ ?_ ?_ ?_ ⟨hpS, hp⟩
      · simp only [hu_lf]
        omega
      · intro r hr
        have := hlow r hr.1 hr.2
        have := hr.2
        simp only [hu_lf]
        omega
      · intro r hr s t hs ht hst
        have k1 := hlow r hr.1 hr.2
        have k2 := hr.2
        have k3 := hS s hs.1
        have k4 := hS t ht.1
        simp only [hu_lf] at hst
        rw [hu_tcol s t p r (by omega)]
        have := Int.mul_nonneg (show 0 ≤ t.1 - s.1 by omega) (show 0 ≤ r.2 - p.2 by omega)
        omega
      · intro r hr t ht
        have k1 := hlow r hr.1 hr.2
        have k2 := hr.2
        have k3 := hS t ht.1
        have k4 := ht.2
        rw [hu_tcol2 t p r (by omega)]
        refine ⟨Int.mul_nonneg (by omega) (by omega), fun h0 => ?_⟩
        have := hu_m0 (by omega) h0
        simp only [hu_lf]
        omega
      · intro r hr hg
        have k1 := h2 r hr.1
        have k2 := hS r hr.1
        have k3 := h1.2.2.2.2.1 0 (Nat.le_refl _) hnn
        have k4 := hS _ k3.1
        have k5 := k3.2
        simp only [hu_lf] at hg
        have k6 : r.1 = (c 0).1 := by omega
        have k7 := k1.2 k6
        rw [hu_tcol3 (c 0) p r k6]
        refine ⟨Int.mul_nonneg (by omega) (by omega), fun h0 => ?_⟩
        have := hu_m0 (by omega) h0
        simp only [hu_lf]
        omega
    refine Or.inr ⟨hu_Ch_congr hstep (fun r => ⟨?_, ?_⟩), ?_, ?_, ?_, ?_, ?_, ?_⟩
    · rintro (⟨a, b⟩ | ⟨a, b⟩)
      · exact ⟨a, by omega⟩
      · exact ⟨a, by omega⟩
    · rintro ⟨a, b⟩
      rcases Int.lt_or_le r.1 X with q | q
      · exact Or.inl ⟨a, q⟩
      · exact Or.inr ⟨a, by omega⟩
    · rw [e2 0 hmm]
      exact h2
    · show (c' m).1 = X
      rw [e1]; exact hp
    · intro r hr hx
      show (c' m).2 ≤ r.2
      rw [e1]; exact hlow r hr hx
    · omega
    · omega
    · intro r hr hx
      omega
/-- what the lower chain leaves: b is its last corner, in the last column xl -/
def hu_B (S : Int × Int → Prop) (c : Nat → Int × Int) (b : Nat) (xl : Int) : Prop :=
  hu_Ch S 64 (-1) c 0 (b + 1) ∧ (∀ r, S r → (c 0).1 ≤ r.1 ∧ (r.1 = (c 0).1 → (c 0).2 ≤ r.2)) ∧ (c b).1 = xl ∧ (∀ r, S r → r.1 = xl → (c b).2 ≤ r.2) ∧ 0 ≤ xl ∧ xl ≤ 40 ∧ ∀ r, S r → r.1 ≤ xl
theorem hu_L_B {S : Int × Int → Prop} (hS : hu_Box S) {last : Int} {c : Nat → Int × Int} {n : Nat} (h : hu_L S 41 c n last) (hl : 0 ≤ last) : 0 < n ∧ hu_B S c (n - 1) last := by
  rcases h with ⟨h1, h2, h3⟩ | ⟨h1, h2, h3, h4, h5, h6, h7⟩
  · omega
  · have hn := h1.1
    refine ⟨hn, ?_, h2, h3, h4, h5, by omega, fun r hr => h7 r hr (by have := hS r hr; omega)⟩
    rw [show n - 1 + 1 = n by omega]
    exact hu_Ch_congr h1 (fun r => ⟨fun a => a.1, fun a => ⟨a, by have := hS r a; omega⟩⟩)
theorem hu_L_none {S : Int × Int → Prop} (hS : hu_Box S) {last : Int} {c : Nat → Int × Int} {n : Nat} (h : hu_L S 41 c n last) (hl : last < 0) : n = 0 ∧ ∀ r, ¬ S r := by
  rcases h with ⟨h1, h2, h3⟩ | ⟨h1, h2, h3, h4, h5, h6, h7⟩
  · refine ⟨h1, fun r hr => ?_⟩
    have := h3 r hr
    have := hS r hr
    omega
  · omega
theorem hu_B_ext {S : Int × Int → Prop} {c c' : Nat → Int × Int} {b : Nat} {xl : Int} (h : hu_B S c b xl) (e : ∀ i, i < b + 1 → c' i = c i) : hu_B S c' b xl := by
  obtain ⟨h1, h2, h3, h4, h5⟩ := h
  refine ⟨hu_Ch_ext h1 e, ?_, ?_, ?_, h5⟩
  · rw [e 0 (by omega)]; exact h2
  · rw [e b (by omega)]; exact h3
  · rw [e b (by omega)]; exact h4
/-- the tally of the upper chain: columns from X on are done -/
def hu_U (S : Int × Int → Prop) (X : Int) (c : Nat → Int × Int) (b n : Nat) (xl : Int) : Prop :=
  hu_B S c b xl ∧ hu_Ch (fun r => S r ∧ X ≤ r.1) (-64) 1 c b n ∧ (∀ i, b < i → i < n → ∀ r, S r → r.1 = (c i).1 → r.2 ≤ (c i).2) ∧ (∀ r, S r → r.1 = (c (n - 1)).1 → r.2 ≤ (c (n - 1)).2) ∧ ∀ r, S r → X ≤ r.1 → (c (n - 1)).1 ≤ r.1
theorem hu_U1 {S : Int × Int → Prop} {c : Nat → Int × Int} {b : Nat} {xl : Int} (h : hu_B S c b xl) (ht : ∀ r, S r → r.1 = xl → r.2 ≤ (c b).2) : hu_U S xl c b (b + 1) xl := by
  have h0 := h
  obtain ⟨h1, h2, h3, h4, h5, h6, h7⟩ := h
  have hb := h1.2.2.2.2.1 b (Nat.zero_le _) (by omega)
  refine ⟨h0, ⟨by omega, fun i _ hi => by omega, fun i _ hi => by omega, fun i _ hi => by omega, ?_, ?_⟩, fun i _ hi => by omega, ?_, ?_⟩
  · intro i hi hn
    rw [show i = b by omega]
    exact ⟨hb, by omega⟩
  · intro r hr
    show hu_lf (-64) 1 r ≤ hu_lf (-64) 1 (c b)
    have k1 := h7 r hr.1
    have k2 := hr.2
    have k3 := ht r hr.1 (by omega)
    simp only [hu_lf]
    omega
  · intro r hr he
    exact ht r hr (by rw [he]; exact h3)
  · intro r hr hx
    show (c b).1 ≤ r.1
    omega
theorem hu_U2 {S : Int × Int → Prop} (hS : hu_Box S) {c c' : Nat → Int × Int} {b m : Nat} {xl : Int} {p : Int × Int} (h : hu_B S c b xl) (hp : p.1 = xl) (hpS : S p) (hlt : (c b).2 < p.2) (ht : ∀ r, S r → r.1 = xl → r.2 ≤ p.2) (hm : hu_Pop c b (b + 1) m p) (e1 : c' m = p) (e2 : ∀ j, j < m → c' j = c j) : hu_U S xl c' b (m + 1) xl := by
  have hmb := hm.lt (by omega)
  have hme : m = b + 1 := by
    have := hm.2.1
    omega
  subst hme
  have h0 := hu_B_ext h (c' := c') e2
  obtain ⟨h1, h2, h3, h4, h5, h6, h7⟩ := h0
  have hcb := e2 b (by omega)
  have hb := h1.2.2.2.2.1 b (Nat.zero_le _) (by omega)
  rw [← hcb] at hlt
  refine ⟨hu_B_ext h e2, ⟨by omega, ?_, ?_, fun i _ hi => by omega, ?_, ?_⟩, ?_, ?_, ?_⟩
  · intro i hi hn
    rw [show i = b by omega, e1]
    simp only [hu_lf]
    omega
  · intro i hi hn r hr
    rw [show i = b by omega, e1]
    have k1 := h7 r hr.1
    have k2 := hr.2
    have k3 := ht r hr.1 (by omega)
    have k4 := h4 r hr.1 (by omega)
    have k5 : hu_tn (c' b) p r = 0 := by
      rw [hu_tcol3 (c' b) p r (by omega), show p.1 - (c' b).1 = 0 by omega, Int.zero_mul]
    refine ⟨by omega, fun _ => ?_⟩
    simp only [hu_lf]
    omega
  · intro i hi hn
    rcases Nat.lt_or_ge i (b + 1) with q | q
    · rw [show i = b by omega]
      exact ⟨hb, by omega⟩
    · rw [show i = b + 1 by omega, e1]
      exact ⟨hpS, by omega⟩
  · intro r hr
    show hu_lf (-64) 1 r ≤ hu_lf (-64) 1 (c' (b + 1))
    rw [e1]
    have k1 := h7 r hr.1
    have k2 := hr.2
    have k3 := ht r hr.1 (by omega)
    simp only [hu_lf]
    omega
  · intro i hi hn r hr he
    rw [show i = b + 1 by omega, e1] at he ⊢
    exact ht r hr (by omega)
  · intro r hr he
    rw [show b + 1 + 1 - 1 = b + 1 by omega, e1] at he ⊢
    exact ht r hr (by omega)
  · intro r hr hx
    rw [show b + 1 + 1 - 1 = b + 1 by omega, e1]
    omega
theorem hu_Ue {S : Int × Int → Prop} {X xl : Int} {c : Nat → Int × Int} {b n : Nat} (h : hu_U S (X + 1) c b n xl) (he : ∀ r, S r → r.1 ≠ X) : hu_U S X c b n xl := by
  obtain ⟨h1, h2, h3, h4, h5⟩ := h
  refine ⟨h1, hu_Ch_congr h2 (fun r => ⟨fun a => ⟨a.1, by have := a.2; omega⟩, fun a => ⟨a.1, by have := he r a.1; have := a.2; omega⟩⟩), h3, h4, fun r hr hx => h5 r hr (by have := he r hr; omega)⟩
theorem hu_Up {S : Int × Int → Prop} (hS : hu_Box S) {X xl : Int} {c c' : Nat → Int × Int} {b n m : Nat} {p : Int × Int} (h : hu_U S (X + 1) c b n xl) (hp : p.1 = X) (hpS : S p) (htop : ∀ r, S r → r.1 = X → r.2 ≤ p.2) (hm : hu_Pop c b n m p) (e1 : c' m = p) (e2 : ∀ j, j < m → c' j = c j) : hu_U S X c' b (m + 1) xl := by
  obtain ⟨hB, h1, h2, h3, h4⟩ := h
  have hpb := hS p hpS
  have hnn : b < n := h1.1
  have hmm : b < m := hm.lt hnn
  have hlast := h1.2.2.2.2.1 (n - 1) (by omega) (by omega)
  have hlb := hS _ hlast.1
  have hl2 := hlast.2
  have hstep : hu_Ch (fun r => (S r ∧ X + 1 ≤ r.1) ∨ (S r ∧ r.1 = X)) (-64) 1 c' b (m + 1) := by
    refine hu_step (N := fun r => S r ∧ r.1 = X) h1 hm e1 e2 ?_ ?_ ?_ ?_ ?_ ⟨hpS, hp⟩
    · simp only [hu_lf]
      omega
    · intro r hr
      have := htop r hr.1 hr.2
      have := hr.2
      simp only [hu_lf]
      omega
    · intro r hr s t hs ht hst
      have k1 := htop r hr.1 hr.2
      have k2 := hr.2
      have k3 := hS s hs.1
      have k4 := hS t ht.1
      simp only [hu_lf] at hst
      rw [hu_tcol s t p r (by omega)]
      have k5 := Int.mul_nonneg (show 0 ≤ s.1 - t.1 by omega) (show 0 ≤ p.2 - r.2 by omega)
      have k6 : (t.1 - s.1) * (r.2 - p.2) = (s.1 - t.1) * (p.2 - r.2) := by grind
      omega
    · intro r hr t ht
      have k1 := htop r hr.1 hr.2
      have k2 := hr.2
      have k3 := hS t ht.1
      have k4 := ht.2
      rw [hu_tcol2 t p r (by omega), show (p.1 - t.1) * (r.2 - p.2) = (t.1 - p.1) * (p.2 - r.2) by grind]
      refine ⟨Int.mul_nonneg (by omega) (by omega), fun h0 => ?_⟩
      have := hu_m0 (by omega) h0
      simp only [hu_lf]
      omega
    · intro r hr hg
      obtain ⟨-, -, b3, b4, b5, b6, b7⟩ := hB
      have k1 := b7 r hr.1
      have k2 := hS r hr.1
      have k3 := h1.2.2.2.2.1 b (Nat.le_refl _) hnn
      have k4 := hS _ k3.1
      simp only [hu_lf] at hg
      have k6 : r.1 = xl := by omega
      have k7 := b4 r hr.1 k6
      have k8 : r = c b := Prod.ext (by omega) (by omega)
      subst k8
      rw [hu_tcol3 (c b) p (c b) rfl, show (c b).2 - (c b).2 = 0 by omega, Int.mul_zero]
      exact ⟨Int.le_refl _, fun _ => Int.le_refl _⟩
  refine ⟨hu_B_ext hB (fun i hi => e2 i (by omega)), hu_Ch_congr hstep (fun r => ⟨?_, ?_⟩), ?_, ?_, ?_⟩
  · rintro (⟨a, b⟩ | ⟨a, b⟩)
    · exact ⟨a, by omega⟩
    · exact ⟨a, by omega⟩
  · rintro ⟨a, b⟩
    rcases Int.lt_or_le X r.1 with q | q
    · exact Or.inl ⟨a, by omega⟩
    · exact Or.inr ⟨a, by omega⟩
  · intro i hi hn r hr he
    rcases Nat.lt_or_ge i m with q | q
    · rw [e2 i q] at he ⊢
      exact h2 i hi (by have := hm.2.1; omega) r hr he
    · rw [show i = m by omega, e1] at he ⊢
      exact htop r hr (by omega)
  · intro r hr he
    rw [show m + 1 - 1 = m by omega, e1] at he ⊢
    exact htop r hr (by omega)
  · intro r hr hx
    rw [show m + 1 - 1 = m by omega, e1]
    omega
/-- a way of the hull -/
def hu_X (S : Int × Int → Prop) (p q : Int × Int) : Prop := ∃ u v : Int, hu_lf u v p < hu_lf u v q ∧ hu_E S u v p q
/-- the hull: n corners c -/
def hu_H (S : Int × Int → Prop) (n : Nat) (c : Nat → Int × Int) : Prop :=
  (n = 0 → ∀ r, ¬ S r) ∧ (∀ i, i < n → S (c i)) ∧ (2 ≤ n → ∀ i, i < n → hu_X S (c i) (c (hu_nx n i))) ∧ (∀ i, 0 < i → i < n → c i ≠ c 0) ∧ (0 < n → ∀ r, S r → (c 0).1 ≤ r.1 ∧ (r.1 = (c 0).1 → (c 0).2 ≤ r.2)) ∧ (n = 1 → ∀ r, S r → r = c 0)
theorem hu_H0 {S : Int × Int → Prop} (c : Nat → Int × Int) (h : ∀ r, ¬ S r) : hu_H S 0 c :=
  ⟨fun _ => h, fun i hi => absurd hi (Nat.not_lt_zero i), fun h2 => by omega, fun i _ hi => absurd hi (Nat.not_lt_zero i), fun h2 => by omega, fun h2 => by omega⟩
theorem hu_U_edge {S : Int × Int → Prop} (hS : hu_Box S) {c : Nat → Int × Int} {b n : Nat} {xl : Int} (h : hu_U S 0 c b n xl) : ∀ i, i + 1 < n → hu_X S (c i) (c (i + 1)) := by
  intro i hi
  obtain ⟨⟨h1, -⟩, h2, -⟩ := h
  rcases Nat.lt_or_ge i b with q | q
  · exact ⟨64, -1, h1.2.1 i (Nat.zero_le _) (by omega), h1.2.2.1 i (Nat.zero_le _) (by omega)⟩
  · exact ⟨-64, 1, h2.2.1 i q hi, fun r hr => h2.2.2.1 i q hi r ⟨hr, (hS r hr).1⟩⟩
theorem hu_U_in {S : Int × Int → Prop} {c : Nat → Int × Int} {b n : Nat} {xl : Int} (h : hu_U S 0 c b n xl) : ∀ i, i < n → S (c i) := by
  intro i hi
  obtain ⟨⟨h1, -⟩, h2, -⟩ := h
  rcases Nat.lt_or_ge i b with q | q
  · exact h1.2.2.2.2.1 i (Nat.zero_le _) (by omega)
  · exact (h2.2.2.2.2.1 i q hi).1
theorem hu_U_lo {S : Int × Int → Prop} {c : Nat → Int × Int} {b n : Nat} {xl : Int} (h : hu_U S 0 c b n xl) (i : Nat) (h0 : 0 < i) (hi : i ≤ b) : c i ≠ c 0 := by
  have := hu_Ch_mono h.1.1 (i - 1) 0 (Nat.le_refl _) (by omega)
  rw [show 0 + (i - 1) + 1 = i by omega] at this
  intro e
  rw [e] at this
  omega
theorem hu_close1 {S : Int × Int → Prop} (hS : hu_Box S) {c : Nat → Int × Int} {b n : Nat} {xl : Int} (h : hu_U S 0 c b n xl) (hn : 1 < n) (hq : c (n - 1) = c 0) : hu_H S (n - 1) c := by
  have he := hu_U_edge hS h
  have hi := hu_U_in h
  have hlo := hu_U_lo h
  have hb : b < n := h.2.1.1
  refine ⟨fun h0 => by omega, fun i hi2 => hi i (by omega), ?_, ?_, fun _ => h.1.2.1, ?_⟩
  · intro h2 i hi2
    unfold hu_nx
    split
    · exact he i (by omega)
    · rw [← hq, show n - 1 = i + 1 by omega]
      exact he i (by omega)
  · intro i h0 hi2
    rcases Nat.lt_or_ge b i with q | q
    · have := hu_Ch_mono h.2.1 (n - 1 - i - 1) i (by omega) (by omega)
      rw [show i + (n - 1 - i - 1) + 1 = n - 1 by omega, hq] at this
      intro e
      rw [e] at this
      omega
    · exact hlo i h0 q
  · intro h1
    exfalso
    have hn2 : n = 2 := by omega
    subst hn2
    rcases Nat.lt_or_ge b 1 with q | q
    · have := h.2.1.2.1 0 (by omega) (by omega)
      rw [show c (0 + 1) = c 0 from hq] at this
      omega
    · exact hlo 1 (by omega) q hq
theorem hu_close2 {S : Int × Int → Prop} (hS : hu_Box S) {c : Nat → Int × Int} {b n : Nat} {xl : Int} (h : hu_U S 0 c b n xl) (hq : n ≤ 1 ∨ c (n - 1) ≠ c 0) : hu_H S n c := by
  have he := hu_U_edge hS h
  have hi := hu_U_in h
  have hlo := hu_U_lo h
  have hb : b < n := h.2.1.1
  have hF := h.1.2.1
  have hT := h.2.2.2.1
  have hM := h.2.2.2.2
  have q1 := hi (n - 1) (by omega)
  have z1 := hi 0 (by omega)
  have ex : (c (n - 1)).1 = (c 0).1 := by
    have := hM (c 0) z1 (hS _ z1).1
    have := (hF (c (n - 1)) q1).1
    omega
  refine ⟨fun h0 => by omega, hi, ?_, ?_, fun _ => hF, ?_⟩
  · intro h2 i hi2
    unfold hu_nx
    split
    · exact he i (by omega)
    · have hne : c (n - 1) ≠ c 0 := by
        rcases hq with q | q
        · omega
        · exact q
      rw [show i = n - 1 by omega]
      have k1 := (hF (c (n - 1)) q1).2 ex
      have k2 : (c (n - 1)).2 ≠ (c 0).2 := fun e => hne (Prod.ext ex e)
      refine ⟨0, -1, ?_, ?_⟩
      · simp only [hu_lf]
        omega
      · intro r hr
        have k3 := (hF r hr).1
        have k4 : hu_tn (c (n - 1)) (c 0) r = ((c (n - 1)).2 - (c 0).2) * (r.1 - (c (n - 1)).1) := by
          simp only [hu_tn, ex]
          grind
        rw [k4]
        refine ⟨Int.mul_nonneg (by omega) (by omega), fun h0 => ?_⟩
        have k5 := hu_m0 (by omega) h0
        have k6 := (hF r hr).2 (by omega)
        have k7 := hT r hr (by omega)
        simp only [hu_lf]
        omega
  · intro i h0 hi2
    rcases Nat.lt_or_ge b i with q | q
    · intro e
      have k1 := h.2.2.1 i q hi2 _ q1 (by rw [e]; exact ex)
      rw [e] at k1
      have k2 := (hF (c (n - 1)) q1).2 ex
      rcases hq with w | w
      · omega
      · exact w (Prod.ext ex (by omega))
    · exact hlo i h0 q
  · intro h1 r hr
    subst h1
    have hb0 : b = 0 := by omega
    subst hb0
    have k1 : hu_lf 64 (-1) r ≤ hu_lf 64 (-1) (c 0) := h.1.1.2.2.2.2.2 r hr
    have k2 : hu_lf (-64) 1 r ≤ hu_lf (-64) 1 (c 0) := h.2.1.2.2.2.2.2 r ⟨hr, (hS r hr).1⟩
    have k3 := hS r hr
    have k4 := hS _ z1
    simp only [hu_lf] at k1 k2
    exact Prod.ext (by omega) (by omega)
end HuChain
end
section
/-! the region, its columns, what 'prepare' leaves -/
section HuState
def hu_pt (cx cy : Nat → Int32) (j : Nat) : Int × Int := ((cx j).toInt, (cy j).toInt)
def hu_S (K : Nat) (fa fb fc : Nat → Int32) (r : Int × Int) : Prop := (0 ≤ r.1 ∧ r.1 ≤ 40 ∧ 0 ≤ r.2 ∧ r.2 ≤ 40) ∧ ∀ i, i < K → (fa i).toInt * r.1 + (fb i).toInt * r.2 ≤ (fc i).toInt
theorem hu_S_box (K : Nat) (fa fb fc : Nat → Int32) : hu_Box (hu_S K fa fb fc) := fun _ h => h.1
def hu_ok1 (a b c : Int32) : Prop := (-9 ≤ a.toInt ∧ a.toInt ≤ 9) ∧ (-9 ≤ b.toInt ∧ b.toInt ≤ 9) ∧ (-1000 ≤ c.toInt ∧ c.toInt ≤ 1000)
def hu_OK (K : Nat) (fa fb fc : Nat → Int32) : Prop := ∀ i, i < K → hu_ok1 (fa i) (fb i) (fc i)
def hu_nar (a b c x : Int) (q : Int × Int) : Int × Int := if 0 < b then (if (c - a * x) / b < q.2 then (q.1, (c - a * x) / b) else q) else if b < 0 then (if q.1 < -((c - a * x) / (-b)) then (-((c - a * x) / (-b)), q.2) else q) else if c - a * x < 0 then (q.1, -1) else q
def hu_fl (fa fb fc : Nat → Int32) (x : Int) : Nat → Int × Int
  | 0 => (0, 40)
  | i + 1 => hu_nar (fa i).toInt (fb i).toInt (fc i).toInt x (hu_fl fa fb fc x i)
theorem hu_nar_ok {a b c x : Int} {q : Int × Int} (h1 : 0 ≤ q.1) (h2 : q.2 ≤ 40) : (0 ≤ (hu_nar a b c x q).1 ∧ (hu_nar a b c x q).2 ≤ 40) ∧ ∀ y : Int, 0 ≤ y → y ≤ 40 → (((hu_nar a b c x q).1 ≤ y ∧ y ≤ (hu_nar a b c x q).2) ↔ ((q.1 ≤ y ∧ y ≤ q.2) ∧ a * x + b * y ≤ c)) := by
  unfold hu_nar
  by_cases hb : 0 < b
  · rw [if_pos hb]
    have key : ∀ y : Int, y ≤ (c - a * x) / b ↔ a * x + b * y ≤ c := by
      intro y
      rw [Int.le_ediv_iff_mul_le hb, Int.mul_comm y b]
      omega
    by_cases hq : (c - a * x) / b < q.2
    · rw [if_pos hq]
      refine ⟨⟨h1, by show (c - a * x) / b ≤ 40; omega⟩, fun y hy0 hy1 => ?_⟩
      show (q.1 ≤ y ∧ y ≤ (c - a * x) / b) ↔ _
      rw [← key y]
      omega
    · rw [if_neg hq]
      refine ⟨⟨h1, h2⟩, fun y hy0 hy1 => ?_⟩
      rw [← key y]
      omega
  · rw [if_neg hb]
    by_cases hb2 : b < 0
    · rw [if_pos hb2]
      have key : ∀ y : Int, -((c - a * x) / (-b)) ≤ y ↔ a * x + b * y ≤ c := by
        intro y
        have k := Int.le_ediv_iff_mul_le (a := -y) (b := c - a * x) (c := -b) (by omega)
        have e : -y * -b = b * y := by grind
        rw [e] at k
        omega
      by_cases hq : q.1 < -((c - a * x) / (-b))
      · rw [if_pos hq]
        refine ⟨⟨by show 0 ≤ -((c - a * x) / (-b)); omega, h2⟩, fun y hy0 hy1 => ?_⟩
        show (-((c - a * x) / (-b)) ≤ y ∧ y ≤ q.2) ↔ _
        rw [← key y]
        omega
      · rw [if_neg hq]
        refine ⟨⟨h1, h2⟩, fun y hy0 hy1 => ?_⟩
        rw [← key y]
        omega
    · rw [if_neg hb2]
      have hb0 : b = 0 := by omega
      subst hb0
      by_cases hq : c - a * x < 0
      · rw [if_pos hq]
        refine ⟨⟨h1, by show (-1 : Int) ≤ 40; omega⟩, fun y hy0 hy1 => ?_⟩
        show (q.1 ≤ y ∧ y ≤ -1) ↔ _
        rw [Int.zero_mul]
        omega
      · rw [if_neg hq]
        refine ⟨⟨h1, h2⟩, fun y hy0 hy1 => ?_⟩
        rw [Int.zero_mul]
        omega
theorem hu_fl_ok (fa fb fc : Nat → Int32) (x : Int) : ∀ K, (0 ≤ (hu_fl fa fb fc x K).1 ∧ (hu_fl fa fb fc x K).2 ≤ 40) ∧ ∀ y : Int, 0 ≤ y → y ≤ 40 → (((hu_fl fa fb fc x K).1 ≤ y ∧ y ≤ (hu_fl fa fb fc x K).2) ↔ ∀ i, i < K → (fa i).toInt * x + (fb i).toInt * y ≤ (fc i).toInt) := by
  intro K
  induction K with
  | zero => exact ⟨⟨Int.le_refl _, Int.le_refl _⟩, fun y h0 h1 => ⟨fun _ i hi => absurd hi (Nat.not_lt_zero i), fun _ => ⟨h0, h1⟩⟩⟩
  | succ K ih =>
    obtain ⟨⟨i1, i2⟩, i3⟩ := ih
    obtain ⟨j1, j2⟩ := hu_nar_ok (a := (fa K).toInt) (b := (fb K).toInt) (c := (fc K).toInt) (x := x) i1 i2
    refine ⟨j1, fun y h0 h1 => ?_⟩
    show ((hu_nar _ _ _ _ _).1 ≤ y ∧ y ≤ (hu_nar _ _ _ _ _).2) ↔ _
    rw [j2 y h0 h1, i3 y h0 h1]
    constructor
    · rintro ⟨a, b⟩ i hi
      rcases Nat.lt_or_ge i K with q | q
      · exact a i q
      · rw [show i = K by omega]; exact b
    · intro a
      exact ⟨fun i hi => a i (by omega), a K (by omega)⟩
/-- column x of the region -/
theorem hu_col {K : Nat} {fa fb fc : Nat → Int32} {x : Nat} (hx : x < 41) (lo hi : Int) (h : (lo, hi) = hu_fl fa fb fc x K) : 0 ≤ lo ∧ hi ≤ 40 ∧ ∀ r : Int × Int, r.1 = x → (hu_S K fa fb fc r ↔ lo ≤ r.2 ∧ r.2 ≤ hi) := by
  obtain ⟨⟨h1, h2⟩, h3⟩ := hu_fl_ok fa fb fc (x : Int) K
  rw [← h] at h1 h2 h3
  refine ⟨h1, h2, fun r hr => ⟨fun q => ?_, fun q => ?_⟩⟩
  · refine (h3 r.2 q.1.2.2.1 q.1.2.2.2).mpr ?_
    rw [← hr]
    exact q.2
  · have q1 : lo ≤ r.2 := q.1
    have q2 : r.2 ≤ hi := q.2
    have h1' : 0 ≤ lo := h1
    have h2' : hi ≤ 40 := h2
    refine ⟨⟨by omega, by omega, by omega, by omega⟩, ?_⟩
    rw [hr]
    exact (h3 r.2 (by omega) (by omega)).mp q
def hu_Prep (K : Nat) (fa fb fc lo hi : Nat → Int32) (ct : Int32) (cx cy : Nat → Int32) : Prop :=
  (∀ x : Nat, x < 41 → ((lo x).toInt, (hi x).toInt) = hu_fl fa fb fc (x : Int) K) ∧ ∃ n, n ≤ 82 ∧ ct = nI n ∧ hu_H (hu_S K fa fb fc) n (hu_pt cx cy)
theorem hu_pt_s (cx cy : Nat → Int32) (m : Nat) (a b : Int32) : hu_pt (upd cx m a) (upd cy m b) m = (a.toInt, b.toInt) := by
  simp [hu_pt, upd]
theorem hu_pt_n (cx cy : Nat → Int32) (m : Nat) (a b : Int32) (j : Nat) (h : j < m) : hu_pt (upd cx m a) (upd cy m b) j = hu_pt cx cy j := by
  have : j ≠ m := by omega
  simp [hu_pt, upd, this]
/-- the chain's turn, as the class computes it -/
theorem hu_turn {cx cy : Nat → Int32} {i j : Nat} {a b r : Int32} (h1 : 0 ≤ (cx i).toInt ∧ (cx i).toInt ≤ 40 ∧ 0 ≤ (cy i).toInt ∧ (cy i).toInt ≤ 40) (h2 : 0 ≤ (cx j).toInt ∧ (cx j).toInt ≤ 40 ∧ 0 ≤ (cy j).toInt ∧ (cy j).toInt ≤ 40) (h3 : 0 ≤ a.toInt ∧ a.toInt ≤ 40 ∧ 0 ≤ b.toInt ∧ b.toInt ≤ 40) (hr : r = (cx j - cx i) * (b - cy i) - (cy j - cy i) * (a - cx i)) : r.toInt = hu_tn (hu_pt cx cy i) (hu_pt cx cy j) (a.toInt, b.toInt) := by
  have e : r = hu_iI (hu_tn (hu_pt cx cy i) (hu_pt cx cy j) (a.toInt, b.toInt)) := by
    rw [hr]
    simp only [hu_tn, hu_pt]
    rw [← hu_iI_sub, ← hu_iI_mul, ← hu_iI_mul, ← hu_iI_sub, ← hu_iI_sub, ← hu_iI_sub, ← hu_iI_sub]
    simp only [hu_iI_of]
  have k1 := hu_ab (a := (cx j).toInt - (cx i).toInt) (b := b.toInt - (cy i).toInt) (A := 40) (B := 40) (by omega) (by omega) (by omega) (by omega)
  have k2 := hu_ab (a := (cy j).toInt - (cy i).toInt) (b := a.toInt - (cx i).toInt) (A := 40) (B := 40) (by omega) (by omega) (by omega) (by omega)
  refine hu_ti e ?_ ?_
  · simp only [hu_tn, hu_pt]; omega
  · simp only [hu_tn, hu_pt]; omega
theorem hu_rest {a c v : Int32} {x : Nat} (hx : x < 41) (ha : -9 ≤ a.toInt ∧ a.toInt ≤ 9) (hc : -1000 ≤ c.toInt ∧ c.toInt ≤ 1000) (e : v = c - a * nI x) : v.toInt = c.toInt - a.toInt * (x : Int) ∧ -2000 ≤ v.toInt ∧ v.toInt ≤ 2000 := by
  have k := hu_ab (a := a.toInt) (b := (x : Int)) (A := 9) (B := 40) (by omega) (by omega) (by omega) (by omega)
  have e2 : v = hu_iI (c.toInt - a.toInt * (x : Int)) := by
    rw [← hu_iI_sub, ← hu_iI_mul, hu_iI_of, hu_iI_of, ← hu_iI_nat]
    exact e
  have := hu_ti e2 (by omega) (by omega)
  omega
theorem hu_dv {n d : Int} (hd : 0 < d) (hd2 : d ≤ 1000) (h1 : -100000 ≤ n) (h2 : n ≤ 100000) : -200000 ≤ n / d ∧ n / d ≤ 100000 := by
  have hq1 := Int.mul_ediv_add_emod n d
  have hq2 := Int.emod_nonneg n (show d ≠ 0 by omega)
  have hq3 := Int.emod_lt_of_pos n hd
  constructor
  · rcases Int.lt_or_le (n / d) (-200000) with q | q
    · have := Int.mul_nonneg (show 0 ≤ d - 1 by omega) (show 0 ≤ -(n / d) by omega)
      have e : (d - 1) * -(n / d) = -(d * (n / d)) + n / d := by grind
      omega
    · exact q
  · rcases Int.lt_or_le 100000 (n / d) with q | q
    · have := Int.mul_nonneg (show 0 ≤ d - 1 by omega) (show 0 ≤ n / d by omega)
      have e : (d - 1) * (n / d) = d * (n / d) - n / d := by grind
      omega
    · exact q
theorem hu_L_in {S : Int × Int → Prop} {X last : Int} {c : Nat → Int × Int} {n : Nat} (h : hu_L S X c n last) : ∀ j, j < n → S (c j) := by
  intro j hj
  rcases h with ⟨h1, h2, h3⟩ | ⟨h1, h2, h3, h4, h5, h6, h7⟩
  · omega
  · exact (h1.2.2.2.2.1 j (Nat.zero_le _) hj).1
theorem hu_P1e {K x n : Nat} {fa fb fc lo hi : Nat → Int32} {c : Nat → Int × Int} {last : Int} (hx : x < 41) (hc : ((lo x).toInt, (hi x).toInt) = hu_fl fa fb fc (x : Int) K) (hne : ¬ lo x ≤ hi x) (h : hu_L (hu_S K fa fb fc) (x : Int) c n last) : hu_L (hu_S K fa fb fc) ((x + 1 : Nat) : Int) c n last := by
  obtain ⟨k1, k2, k3⟩ := hu_col hx _ _ hc
  rw [hu_le] at hne
  have e : ((x + 1 : Nat) : Int) = (x : Int) + 1 := by omega
  rw [e]
  refine hu_Le h (fun r hr he => ?_)
  have := (k3 r he).mp hr
  omega
theorem hu_P1p {K x n m : Nat} {fa fb fc lo hi cx cy : Nat → Int32} {last : Int} (hx : x < 41) (hc : ((lo x).toInt, (hi x).toInt) = hu_fl fa fb fc (x : Int) K) (hle : lo x ≤ hi x) (h : hu_L (hu_S K fa fb fc) (x : Int) (hu_pt cx cy) n last) (hm : hu_Pop (hu_pt cx cy) 0 n m ((nI x).toInt, (lo x).toInt)) : hu_L (hu_S K fa fb fc) ((x + 1 : Nat) : Int) (hu_pt (upd cx m (nI x)) (upd cy m (lo x))) (m + 1) (nI x).toInt := by
  obtain ⟨k1, k2, k3⟩ := hu_col hx _ _ hc
  rw [hu_le] at hle
  have e : ((x + 1 : Nat) : Int) = (x : Int) + 1 := by omega
  have ex : (nI x).toInt = (x : Int) := hu_nI_t (by omega)
  rw [e]
  rw [ex] at hm ⊢
  refine hu_Lp (hu_S_box K fa fb fc) (p := ((x : Int), (lo x).toInt)) h rfl ((k3 _ rfl).mpr ⟨Int.le_refl _, hle⟩) (fun r hr he => ((k3 r he).mp hr).1) hm (by rw [hu_pt_s, ex]) (fun j hj => hu_pt_n _ _ _ _ _ j hj)
/-- the tally of the second loop, columns from y on done -/
def hu_V (S : Int × Int → Prop) (y : Nat) (c : Nat → Int × Int) (b n : Nat) (xl : Nat) : Prop := (y = xl + 1 ∧ n = b + 1 ∧ hu_B S c b (xl : Int)) ∨ (y ≤ xl ∧ hu_U S (y : Int) c b n (xl : Int))
theorem hu_V_in {S : Int × Int → Prop} {y b n xl : Nat} {c : Nat → Int × Int} (h : hu_V S y c b n xl) : b < n ∧ ∀ j, j < n → S (c j) := by
  rcases h with ⟨h1, h2, h3⟩ | ⟨h1, h2⟩
  · exact ⟨by omega, fun j hj => h3.1.2.2.2.2.1 j (Nat.zero_le _) (by omega)⟩
  · refine ⟨h2.2.1.1, fun j hj => ?_⟩
    rcases Nat.lt_or_ge j b with q | q
    · exact h2.1.1.2.2.2.2.1 j (Nat.zero_le _) (by omega)
    · exact (h2.2.1.2.2.2.2.1 j q hj).1
theorem hu_P2e {K x b n xl : Nat} {fa fb fc lo hi : Nat → Int32} {c : Nat → Int × Int} (hx : x < 41) (hc : ((lo x).toInt, (hi x).toInt) = hu_fl fa fb fc (x : Int) K) (hne : ¬ lo x ≤ hi x) (h : hu_V (hu_S K fa fb fc) (x + 1) c b n xl) : hu_V (hu_S K fa fb fc) x c b n xl := by
  obtain ⟨k1, k2, k3⟩ := hu_col hx _ _ hc
  rw [hu_le] at hne
  have e : ((x + 1 : Nat) : Int) = (x : Int) + 1 := by omega
  have he : ∀ r, hu_S K fa fb fc r → r.1 ≠ (x : Int) := fun r hr he => by
    have := (k3 r he).mp hr
    omega
  rcases h with ⟨h1, h2, h3⟩ | ⟨h1, h2⟩
  · exact absurd (show (c b).1 = (x : Int) by rw [h3.2.2.1]; omega) (he _ (h3.1.2.2.2.2.1 b (Nat.zero_le _) (by omega)))
  · rw [e] at h2
    exact Or.inr ⟨by omega, hu_Ue h2 he⟩
theorem hu_P2s {K x b n xl : Nat} {fa fb fc lo hi : Nat → Int32} {c : Nat → Int × Int} (hx : x < 41) (hc : ((lo x).toInt, (hi x).toInt) = hu_fl fa fb fc (x : Int) K) (hxl : x = xl) (heq : lo x = hi x) (h : hu_V (hu_S K fa fb fc) (x + 1) c b n xl) : hu_V (hu_S K fa fb fc) x c b n xl := by
  obtain ⟨k1, k2, k3⟩ := hu_col hx _ _ hc
  rcases h with ⟨h1, h2, h3⟩ | ⟨h1, h2⟩
  · subst h2; subst hxl
    refine Or.inr ⟨Nat.le_refl _, hu_U1 h3 (fun r hr he => ?_)⟩
    have q1 := (k3 r he).mp hr
    have q2 := (k3 (c b) h3.2.2.1).mp (h3.1.2.2.2.2.1 b (Nat.zero_le _) (by omega))
    rw [heq] at q1 q2
    omega
  · omega
theorem hu_P2p {K x b n m xl : Nat} {fa fb fc lo hi cx cy : Nat → Int32} (hx : x < 41) (hc : ((lo x).toInt, (hi x).toInt) = hu_fl fa fb fc (x : Int) K) (hle : lo x ≤ hi x) (hor : ¬ (x = xl ∧ lo x = hi x)) (h : hu_V (hu_S K fa fb fc) (x + 1) (hu_pt cx cy) b n xl) (hm : hu_Pop (hu_pt cx cy) b n m ((nI x).toInt, (hi x).toInt)) : hu_V (hu_S K fa fb fc) x (hu_pt (upd cx m (nI x)) (upd cy m (hi x))) b (m + 1) xl := by
  obtain ⟨k1, k2, k3⟩ := hu_col hx _ _ hc
  rw [hu_le] at hle
  have ex : (nI x).toInt = (x : Int) := hu_nI_t (by omega)
  have e : ((x + 1 : Nat) : Int) = (x : Int) + 1 := by omega
  rw [ex] at hm
  have hpS : hu_S K fa fb fc ((x : Int), (hi x).toInt) := (k3 _ rfl).mpr ⟨hle, Int.le_refl _⟩
  have htop : ∀ r, hu_S K fa fb fc r → r.1 = (x : Int) → r.2 ≤ (hi x).toInt := fun r hr he => ((k3 r he).mp hr).2
  rcases h with ⟨h1, h2, h3⟩ | ⟨h1, h2⟩
  · have hxl : x = xl := by omega
    subst h2; subst hxl
    have hne : lo x ≠ hi x := fun q => hor ⟨rfl, q⟩
    have hne2 : (lo x).toInt ≠ (hi x).toInt := fun q => hne (Int32.toInt_inj.mp q)
    refine Or.inr ⟨Nat.le_refl _, hu_U2 (hu_S_box K fa fb fc) (p := ((x : Int), (hi x).toInt)) h3 rfl hpS ?_ htop hm (by rw [hu_pt_s, ex]) (fun j hj => hu_pt_n _ _ _ _ _ j hj)⟩
    have q1 := h3.2.2.2.1 ((x : Int), (lo x).toInt) ((k3 _ rfl).mpr ⟨Int.le_refl _, hle⟩) rfl
    show (hu_pt cx cy b).2 < (hi x).toInt
    have q2 : (hu_pt cx cy b).2 ≤ (lo x).toInt := q1
    omega
  · rw [e] at h2
    exact Or.inr ⟨by omega, hu_Up (hu_S_box K fa fb fc) (p := ((x : Int), (hi x).toInt)) h2 rfl hpS htop hm (by rw [hu_pt_s, ex]) (fun j hj => hu_pt_n _ _ _ _ _ j hj)⟩
end HuState
end
section
/-! small rows for the walks that write -/
section HuSmall
theorem hu_le0 (z : Int32) : z ≤ 0 ↔ z.toInt ≤ 0 := hu_le z 0
theorem hu_lt0 (z : Int32) : z < 0 ↔ z.toInt < 0 := hu_lt z 0
theorem hu_0le (z : Int32) : 0 ≤ z ↔ 0 ≤ z.toInt := hu_le 0 z
theorem hu_0lt (z : Int32) : 0 < z ↔ 0 < z.toInt := hu_lt 0 z
theorem hu_dec (x : Nat) : nI x + Int32.ofInt (-1) = nI x - 1 := by
  rw [Int32.sub_eq_add_neg]
  rfl
theorem hu_cbox {K x : Nat} {fa fb fc lo hi : Nat → Int32} (hx : x < 41) (hc : ((lo x).toInt, (hi x).toInt) = hu_fl fa fb fc (x : Int) K) (hle : lo x ≤ hi x) : (0 ≤ (nI x).toInt ∧ (nI x).toInt ≤ 40 ∧ 0 ≤ (lo x).toInt ∧ (lo x).toInt ≤ 40) ∧ (0 ≤ (nI x).toInt ∧ (nI x).toInt ≤ 40 ∧ 0 ≤ (hi x).toInt ∧ (hi x).toInt ≤ 40) := by
  obtain ⟨k1, k2, k3⟩ := hu_col hx _ _ hc
  rw [hu_le] at hle
  have ex : (nI x).toInt = (x : Int) := hu_nI_t (by omega)
  omega
theorem hu_clo {K x : Nat} {fa fb fc lo hi lo' hi' : Nat → Int32} (hold : ∀ j : Nat, j < x → ((lo j).toInt, (hi j).toInt) = hu_fl fa fb fc (j : Int) K) (hj : ∀ j, j ≠ x → lo' j = lo j ∧ hi' j = hi j) (hv : ((lo' x).toInt, (hi' x).toInt) = hu_fl fa fb fc (x : Int) K) : ∀ j : Nat, j < x + 1 → ((lo' j).toInt, (hi' j).toInt) = hu_fl fa fb fc (j : Int) K := by
  intro j hjx
  rcases Nat.lt_or_ge j x with q | q
  · rw [(hj j (by omega)).1, (hj j (by omega)).2]
    exact hold j q
  · rw [show j = x by omega]
    exact hv
theorem hu_ptne {cx cy : Nat → Int32} {i j : Nat} (h : cx i ≠ cx j ∨ cy i ≠ cy j) : hu_pt cx cy i ≠ hu_pt cx cy j := by
  intro e
  have e1 := congrArg Prod.fst e
  have e2 := congrArg Prod.snd e
  rcases h with h | h
  · exact h (Int32.toInt_inj.mp e1)
  · exact h (Int32.toInt_inj.mp e2)
theorem hu_pteq {cx cy : Nat → Int32} {i j : Nat} (h1 : cx i = cx j) (h2 : cy i = cy j) : hu_pt cx cy i = hu_pt cx cy j := by
  simp only [hu_pt, h1, h2]
theorem hu_V_0 {S : Int × Int → Prop} {b n xl : Nat} {c : Nat → Int × Int} (h : hu_V S 0 c b n xl) : hu_U S 0 c b n (xl : Int) := by
  rcases h with ⟨h1, _⟩ | ⟨_, h⟩
  · omega
  · exact h
end HuSmall
end
section
/-! what a question leaves behind -/
section HuPN
def hu_PN (K : Nat) (fa fb fc lo hi : Nat → Int32) (n : Nat) (cx cy : Nat → Int32) : Prop :=
  (∀ x : Nat, x < 41 → ((lo x).toInt, (hi x).toInt) = hu_fl fa fb fc (x : Int) K) ∧ n ≤ 82 ∧ hu_H (hu_S K fa fb fc) n (hu_pt cx cy)
theorem hu_PN_prep {K n : Nat} {fa fb fc lo hi cx cy : Nat → Int32} (h : hu_PN K fa fb fc lo hi n cx cy) : hu_Prep K fa fb fc lo hi (nI n) cx cy := ⟨h.1, n, h.2.1, rfl, h.2.2⟩
theorem hu_PN_d {K n i j : Nat} {fa fb fc lo hi cx cy : Nat → Int32} (h : hu_PN K fa fb fc lo hi n cx cy) (hi0 : i < n) (hj0 : j < n) : ((cx j - cx i).toInt = (cx j).toInt - (cx i).toInt ∧ -40 ≤ (cx j - cx i).toInt ∧ (cx j - cx i).toInt ≤ 40) ∧ ((cy j - cy i).toInt = (cy j).toInt - (cy i).toInt ∧ -40 ≤ (cy j - cy i).toInt ∧ (cy j - cy i).toInt ≤ 40) := by
  have b1 : 0 ≤ (cx i).toInt ∧ (cx i).toInt ≤ 40 ∧ 0 ≤ (cy i).toInt ∧ (cy i).toInt ≤ 40 := (h.2.2.2.1 i hi0).1
  have b2 : 0 ≤ (cx j).toInt ∧ (cx j).toInt ≤ 40 ∧ 0 ≤ (cy j).toInt ∧ (cy j).toInt ≤ 40 := (h.2.2.2.1 j hj0).1
  have e1 : (cx j - cx i).toInt = (cx j).toInt - (cx i).toInt := hu_sub_t (by omega) (by omega)
  have e2 : (cy j - cy i).toInt = (cy j).toInt - (cy i).toInt := hu_sub_t (by omega) (by omega)
  rw [e1, e2]
  omega
/-- a refused condition -/
def hu_bad (a b c : Int32) : Prop := a < -9 ∨ 9 < a ∨ b < -9 ∨ 9 < b ∨ (a = 0 ∧ b = 0) ∨ (c < -1000 ∨ 1000 < c)
def hu_bp (g h : Int32) : Prop := g < -100 ∨ 100 < g ∨ h < -100 ∨ 100 < h
end HuPN
end
section
/-! the reference's list and walk -/
section HuList
theorem hu_cnt_lt {P : Nat → Prop} {j : Nat} (hp : P j) {i : Nat} (h : j < i) : hu_cnt P j < hu_cnt P i := by
  induction i with
  | zero => omega
  | succ i ih =>
    rcases Nat.lt_or_ge j i with q | q
    · have := ih q
      by_cases w : P i
      · rw [hu_cnt_y w]; omega
      · rw [hu_cnt_n w]; omega
    · have e : j = i := by omega
      subst e
      rw [hu_cnt_y hp]
      omega
def hu_gp (i : Nat) : Int × Int := (((i / 41 : Nat) : Int), ((i % 41 : Nat) : Int))
def hu_P (K : Nat) (as bs cs : Nat → Int32) (i : Nat) : Prop := hu_S K as bs cs (hu_gp i)
def hu_Ls (K : Nat) (as bs cs li : Nat → Int32) (L : Nat) : Prop := L = hu_cnt (hu_P K as bs cs) 1681 ∧ ∀ i, i < 1681 → hu_P K as bs cs i → li (hu_cnt (hu_P K as bs cs) i) = nI (i / 41 + 64 * (i % 41))
def hu_it (li : Nat → Int32) (L : Nat) : Nat → Int32
  | 0 => li 0
  | j + 1 => hu_nR li (hu_it li L j) L
def hu_Wk (li : Nat → Int32) (L : Nat) (hu : Nat → Int32) (h : Nat) : Prop := h ≤ 256 ∧ (L = 0 → h = 0) ∧ (0 < L → 0 < h ∧ (∀ j, j < h → hu j = hu_it li L j) ∧ (∀ j, 0 < j → j < h → hu_it li L j ≠ li 0) ∧ (h = 256 ∨ hu_it li L h = li 0))
theorem hu_64 (a b : Nat) : nI a + 64 * nI b = nI (a + 64 * b) := by
  show nI a + nI 64 * nI b = _
  rw [pk_mul, nI_add]
/-- the reference's test of a point -/
theorem hu_has {K : Nat} {as bs cs : Nat → Int32} (hok : hu_OK K as bs cs) {x z : Int32} (hx : 0 ≤ x.toInt ∧ x.toInt ≤ 40) (hz : 0 ≤ z.toInt ∧ z.toInt ≤ 40) (j : Nat) (hj : j < K) : as j * x + bs j * z ≤ cs j ↔ (as j).toInt * x.toInt + (bs j).toInt * z.toInt ≤ (cs j).toInt := by
  obtain ⟨⟨o1, o2⟩, ⟨o3, o4⟩, o5, o6⟩ := hok j hj
  have k1 := hu_ab (a := (as j).toInt) (b := x.toInt) (A := 9) (B := 40) (by omega) (by omega) (by omega) (by omega)
  have k2 := hu_ab (a := (bs j).toInt) (b := z.toInt) (A := 9) (B := 40) (by omega) (by omega) (by omega) (by omega)
  have e : as j * x + bs j * z = hu_iI ((as j).toInt * x.toInt + (bs j).toInt * z.toInt) := by
    rw [← hu_iI_add, ← hu_iI_mul, ← hu_iI_mul, hu_iI_of, hu_iI_of, hu_iI_of, hu_iI_of]
  rw [hu_le, hu_ti e (by omega) (by omega)]
theorem hu_hasP {K i : Nat} {as bs cs : Nat → Int32} (hok : hu_OK K as bs cs) (hi : i < 1681) : ((¬ nI (i / 41) < 0 ∧ ¬ 40 < nI (i / 41) ∧ ¬ nI (i % 41) < 0 ∧ nI (i % 41) ≤ 40) ∧ ∀ j, j < K → as j * nI (i / 41) + bs j * nI (i % 41) ≤ cs j) ↔ hu_P K as bs cs i := by
  have e1 : (nI (i / 41)).toInt = ((i / 41 : Nat) : Int) := hu_nI_t (by omega)
  have e2 : (nI (i % 41)).toInt = ((i % 41 : Nat) : Int) := hu_nI_t (by omega)
  have b1 : i / 41 < 41 := by omega
  have b2 : i % 41 < 41 := by omega
  have h1 : 0 ≤ (nI (i / 41)).toInt ∧ (nI (i / 41)).toInt ≤ 40 := by omega
  have h2 : 0 ≤ (nI (i % 41)).toInt ∧ (nI (i % 41)).toInt ≤ 40 := by omega
  constructor
  · rintro ⟨_, q⟩
    refine ⟨⟨by show (0 : Int) ≤ ((i / 41 : Nat) : Int); omega, by show ((i / 41 : Nat) : Int) ≤ 40; omega, by show (0 : Int) ≤ ((i % 41 : Nat) : Int); omega, by show ((i % 41 : Nat) : Int) ≤ 40; omega⟩, fun j hj => ?_⟩
    have := (hu_has hok h1 h2 j hj).mp (q j hj)
    rw [e1, e2] at this
    exact this
  · rintro ⟨_, q⟩
    refine ⟨⟨nI_pos (by omega), ?_, nI_pos (by omega), ?_⟩, fun j hj => (hu_has hok h1 h2 j hj).mpr ?_⟩
    · exact nI_nlt (a := 40) (b := i / 41) (by omega) (by omega)
    · exact nI_le (a := i % 41) (b := 40) (by omega) (by omega)
    · rw [e1, e2]
      exact q j hj
theorem hu_tf_iff {r : Int32} {P Q : Prop} (h : hu_tf r P) (e : P ↔ Q) : hu_tf r Q := by
  rcases h with ⟨a, b⟩ | ⟨a, b⟩
  · exact Or.inl ⟨a, e.mp b⟩
  · exact Or.inr ⟨a, fun q => b (e.mpr q)⟩
theorem hu_upd_s (f : Nat → Int32) (k : Nat) (z : Int32) : upd f k z k = z := pk_us
theorem hu_OK_add {K : Nat} {fa fb fc : Nat → Int32} {a b c : Int32} (hok : hu_OK K fa fb fc) (hnb : ¬ hu_bad a b c) : hu_OK (K + 1) (upd fa K a) (upd fb K b) (upd fc K c) := by
  intro i hi
  rcases Nat.lt_or_ge i K with q | q
  · have hne : i ≠ K := by omega
    rw [pk_un hne, pk_un hne, pk_un hne]
    exact hok i q
  · rw [show i = K by omega, pk_us, pk_us, pk_us]
    have k1 : ¬ a < -9 := fun h => hnb (Or.inl h)
    have k2 : ¬ 9 < a := fun h => hnb (Or.inr (Or.inl h))
    have k3 : ¬ b < -9 := fun h => hnb (Or.inr (Or.inr (Or.inl h)))
    have k4 : ¬ 9 < b := fun h => hnb (Or.inr (Or.inr (Or.inr (Or.inl h))))
    have k5 : ¬ c < -1000 := fun h => hnb (Or.inr (Or.inr (Or.inr (Or.inr (Or.inr (Or.inl h))))))
    have k6 : ¬ 1000 < c := fun h => hnb (Or.inr (Or.inr (Or.inr (Or.inr (Or.inr (Or.inr h))))))
    rw [hu_lt] at k1 k2 k3 k4 k5 k6
    have e1 : (-9 : Int32).toInt = -9 := by decide
    have e2 : (9 : Int32).toInt = 9 := by decide
    have e3 : (-1000 : Int32).toInt = -1000 := by decide
    have e4 : (1000 : Int32).toInt = 1000 := by decide
    rw [e1] at k1 k3
    rw [e2] at k2 k4
    rw [e3] at k5
    rw [e4] at k6
    exact ⟨⟨by omega, by omega⟩, ⟨by omega, by omega⟩, by omega, by omega⟩
theorem hu_OK_less {K : Nat} {fa fb fc : Nat → Int32} (hok : hu_OK K fa fb fc) : hu_OK (K - 1) fa fb fc := fun i hi => hok i (by omega)
theorem hu_OK_set {K i : Nat} {fa fb fc : Nat → Int32} {c : Int32} (hok : hu_OK K fa fb fc) (hnb : ¬ (c < -1000 ∨ 1000 < c)) : hu_OK K fa fb (upd fc i c) := by
  intro j hj
  by_cases q : j = i
  · rw [q, pk_us]
    have k5 : ¬ c < -1000 := fun h => hnb (Or.inl h)
    have k6 : ¬ 1000 < c := fun h => hnb (Or.inr h)
    rw [hu_lt] at k5 k6
    have e3 : (-1000 : Int32).toInt = -1000 := by decide
    have e4 : (1000 : Int32).toInt = 1000 := by decide
    rw [e3] at k5
    rw [e4] at k6
    rw [q] at hj
    exact ⟨(hok i hj).1, (hok i hj).2.1, by omega, by omega⟩
  · rw [pk_un q]
    exact hok j hj
end HuList
end
section
/-! contracts that only read (written by gen/m1.py) -/
set_option maxHeartbeats 4000000 in
set_option maxRecDepth 100000 in
/-- badBound -/
theorem mX0_badBound (l : Launch) (cc : Int32) : hu_ST l yX0_badBound cX0_badBound 1 (some .boolean) ({ frames := 0, cells := 0, slots := 0, locals := 0 }) [.int cc] (fun r => hu_tf r (cc < -1000 ∨ 1000 < cc)) := by
  refine hu_met (by decide) (Nat.le_of_ble_eq_true rfl) ?_
  intro p e s m below meth c ls C0 _ hB hl
  obtain ⟨hx, hb, hr, hml, hown, hts, hlocks⟩ := C0
  have hl : lv_has ls 1 [(0, .int cc)] := hl
  refine lv_iload_n hx hb dX0_badBound_0 rfl (lv_at hl 0 rfl) ?_
  refine lv_sipush (v := (-1000)) hx hb dX0_badBound_1 (by decide) ?_
  refine lv_icmp_lt (tgt := 14) hx hb dX0_badBound_4 (by decide) (fun c_4 => ?_) (fun c_4 => ?_)
  · skip
    refine lv_iconst (v := 1) hx hb dX0_badBound_14 (by decide) ?_
    refine lv_goto (tgt := 19) hx hb dX0_badBound_15 (by decide) ?_
    exact hu_retZ hx hb hr hlocks rfl (by first | exact hu_tf_t (Or.inl c_4) | exact hu_tf_t (Or.inr (Int32.not_le.mp c_11)) | exact hu_tf_f (fun h => h.elim c_4 (fun h2 => Int32.not_lt.mpr c_11 h2))) dX0_badBound_19
  · skip
    refine lv_iload_n hx hb dX0_badBound_7 rfl (lv_at hl 0 rfl) ?_
    refine lv_sipush (v := 1000) hx hb dX0_badBound_8 (by decide) ?_
    refine lv_icmp_le (tgt := 18) hx hb dX0_badBound_11 (by decide) (fun c_11 => ?_) (fun c_11 => ?_)
    · skip
      refine lv_iconst (v := 0) hx hb dX0_badBound_18 (by decide) ?_
      exact hu_retZ hx hb hr hlocks rfl (by first | exact hu_tf_t (Or.inl c_4) | exact hu_tf_t (Or.inr (Int32.not_le.mp c_11)) | exact hu_tf_f (fun h => h.elim c_4 (fun h2 => Int32.not_lt.mpr c_11 h2))) dX0_badBound_19
    · skip
      refine lv_iconst (v := 1) hx hb dX0_badBound_14 (by decide) ?_
      refine lv_goto (tgt := 19) hx hb dX0_badBound_15 (by decide) ?_
      exact hu_retZ hx hb hr hlocks rfl (by first | exact hu_tf_t (Or.inl c_4) | exact hu_tf_t (Or.inr (Int32.not_le.mp c_11)) | exact hu_tf_f (fun h => h.elim c_4 (fun h2 => Int32.not_lt.mpr c_11 h2))) dX0_badBound_19
set_option maxHeartbeats 4000000 in
set_option maxRecDepth 100000 in
/-- badDirection -/
theorem mX0_badDirection (l : Launch) (g h : Int32) : hu_ST l yX0_badDirection cX0_badDirection 2 (some .boolean) ({ frames := 0, cells := 0, slots := 0, locals := 0 }) [.int g, .int h] (fun r => hu_tf r (g < -100 ∨ 100 < g ∨ h < -100 ∨ 100 < h)) := by
  refine hu_met (by decide) (Nat.le_of_ble_eq_true rfl) ?_
  intro p e s m below meth c ls C0 _ hB hl
  obtain ⟨hx, hb, hr, hml, hown, hts, hlocks⟩ := C0
  have hl : lv_has ls 2 [(0, .int g), (1, .int h)] := hl
  refine lv_iload_n hx hb dX0_badDirection_0 rfl (lv_at hl 0 rfl) ?_
  refine lv_bipush (v := (-100)) hx hb dX0_badDirection_1 (by decide) ?_
  refine lv_icmp_lt (tgt := 24) hx hb dX0_badDirection_3 (by decide) (fun c_3 => ?_) (fun c_3 => ?_)
  · skip
    refine lv_iconst (v := 1) hx hb dX0_badDirection_24 (by decide) ?_
    refine lv_goto (tgt := 29) hx hb dX0_badDirection_25 (by decide) ?_
    exact hu_retZ hx hb hr hlocks rfl (by first | exact hu_tf_t (Or.inl c_3) | exact hu_tf_t (Or.inr (Or.inl c_9)) | exact hu_tf_t (Or.inr (Or.inr (Or.inl c_15))) | exact hu_tf_t (Or.inr (Or.inr (Or.inr (Int32.not_le.mp c_21)))) | exact hu_tf_f (fun q => q.elim c_3 (fun q => q.elim c_9 (fun q => q.elim c_15 (fun q => Int32.not_lt.mpr c_21 q))))) dX0_badDirection_29
  · skip
    refine lv_iload_n hx hb dX0_badDirection_6 rfl (lv_at hl 0 rfl) ?_
    refine lv_bipush (v := 100) hx hb dX0_badDirection_7 (by decide) ?_
    refine lv_icmp_gt (tgt := 24) hx hb dX0_badDirection_9 (by decide) (fun c_9 => ?_) (fun c_9 => ?_)
    · skip
      refine lv_iconst (v := 1) hx hb dX0_badDirection_24 (by decide) ?_
      refine lv_goto (tgt := 29) hx hb dX0_badDirection_25 (by decide) ?_
      exact hu_retZ hx hb hr hlocks rfl (by first | exact hu_tf_t (Or.inl c_3) | exact hu_tf_t (Or.inr (Or.inl c_9)) | exact hu_tf_t (Or.inr (Or.inr (Or.inl c_15))) | exact hu_tf_t (Or.inr (Or.inr (Or.inr (Int32.not_le.mp c_21)))) | exact hu_tf_f (fun q => q.elim c_3 (fun q => q.elim c_9 (fun q => q.elim c_15 (fun q => Int32.not_lt.mpr c_21 q))))) dX0_badDirection_29
    · skip
      refine lv_iload_n hx hb dX0_badDirection_12 rfl (lv_at hl 1 rfl) ?_
      refine lv_bipush (v := (-100)) hx hb dX0_badDirection_13 (by decide) ?_
      refine lv_icmp_lt (tgt := 24) hx hb dX0_badDirection_15 (by decide) (fun c_15 => ?_) (fun c_15 => ?_)
      · skip
        refine lv_iconst (v := 1) hx hb dX0_badDirection_24 (by decide) ?_
        refine lv_goto (tgt := 29) hx hb dX0_badDirection_25 (by decide) ?_
        exact hu_retZ hx hb hr hlocks rfl (by first | exact hu_tf_t (Or.inl c_3) | exact hu_tf_t (Or.inr (Or.inl c_9)) | exact hu_tf_t (Or.inr (Or.inr (Or.inl c_15))) | exact hu_tf_t (Or.inr (Or.inr (Or.inr (Int32.not_le.mp c_21)))) | exact hu_tf_f (fun q => q.elim c_3 (fun q => q.elim c_9 (fun q => q.elim c_15 (fun q => Int32.not_lt.mpr c_21 q))))) dX0_badDirection_29
      · skip
        refine lv_iload_n hx hb dX0_badDirection_18 rfl (lv_at hl 1 rfl) ?_
        refine lv_bipush (v := 100) hx hb dX0_badDirection_19 (by decide) ?_
        refine lv_icmp_le (tgt := 28) hx hb dX0_badDirection_21 (by decide) (fun c_21 => ?_) (fun c_21 => ?_)
        · skip
          refine lv_iconst (v := 0) hx hb dX0_badDirection_28 (by decide) ?_
          exact hu_retZ hx hb hr hlocks rfl (by first | exact hu_tf_t (Or.inl c_3) | exact hu_tf_t (Or.inr (Or.inl c_9)) | exact hu_tf_t (Or.inr (Or.inr (Or.inl c_15))) | exact hu_tf_t (Or.inr (Or.inr (Or.inr (Int32.not_le.mp c_21)))) | exact hu_tf_f (fun q => q.elim c_3 (fun q => q.elim c_9 (fun q => q.elim c_15 (fun q => Int32.not_lt.mpr c_21 q))))) dX0_badDirection_29
        · skip
          refine lv_iconst (v := 1) hx hb dX0_badDirection_24 (by decide) ?_
          refine lv_goto (tgt := 29) hx hb dX0_badDirection_25 (by decide) ?_
          exact hu_retZ hx hb hr hlocks rfl (by first | exact hu_tf_t (Or.inl c_3) | exact hu_tf_t (Or.inr (Or.inl c_9)) | exact hu_tf_t (Or.inr (Or.inr (Or.inl c_15))) | exact hu_tf_t (Or.inr (Or.inr (Or.inr (Int32.not_le.mp c_21)))) | exact hu_tf_f (fun q => q.elim c_3 (fun q => q.elim c_9 (fun q => q.elim c_15 (fun q => Int32.not_lt.mpr c_21 q))))) dX0_badDirection_29
set_option maxHeartbeats 4000000 in
set_option maxRecDepth 100000 in
/-- floorDiv -/
theorem mX0_floorDiv (l : Launch) (nn dd : Int32) (hd : 0 < dd.toInt) (hd2 : dd.toInt ≤ 1000) (hn1 : -100000 ≤ nn.toInt) (hn2 : nn.toInt ≤ 100000) : hu_ST l yX0_floorDiv cX0_floorDiv 3 (some .int) ({ frames := 0, cells := 0, slots := 0, locals := 0 }) [.int nn, .int dd] (fun r => r.toInt = nn.toInt / dd.toInt) := by
  refine hu_met (by decide) (Nat.le_of_ble_eq_true rfl) ?_
  intro p e s m below meth c ls C0 _ hB hl
  obtain ⟨hx, hb, hr, hml, hown, hts, hlocks⟩ := C0
  have hl : lv_has ls 3 [(0, .int nn), (1, .int dd)] := hl
  refine lv_iload_n hx hb dX0_floorDiv_0 rfl (lv_at hl 1 rfl) ?_
  refine lv_if_gt (tgt := 6) hx hb dX0_floorDiv_1 (by decide) (fun c_1 => ?_) (fun c_1 => ?_)
  · skip
    refine lv_iload_n hx hb dX0_floorDiv_6 rfl (lv_at hl 0 rfl) ?_
    refine lv_iload_n hx hb dX0_floorDiv_7 rfl (lv_at hl 1 rfl) ?_
    refine lv_idiv hx hb dX0_floorDiv_8 (fun h => absurd hd (by rw [h]; decide)) ?_
    refine lv_istore_n (lv' := [(2, .int (nn / dd)), (0, .int nn), (1, .int dd)]) hx hb dX0_floorDiv_9 rfl hl (by decide) rfl (fun ls hl => ?_)
    refine lv_iload_n hx hb dX0_floorDiv_10 rfl (lv_at hl 0 rfl) ?_
    refine lv_iload_n hx hb dX0_floorDiv_11 rfl (lv_at hl 2 rfl) ?_
    refine lv_imul hx hb dX0_floorDiv_12 ?_
    refine lv_iload_n hx hb dX0_floorDiv_13 rfl (lv_at hl 1 rfl) ?_
    refine lv_icmp_le (tgt := 23) hx hb dX0_floorDiv_14 (by decide) (fun c_14 => ?_) (fun c_14 => ?_)
    · skip
      refine lv_iload_n hx hb dX0_floorDiv_23 rfl (lv_at hl 0 rfl) ?_
      exact hu_retI hx hb hr hlocks ((hu_fd hd hn1 hn2 hd2).2 (Int32.not_lt.mpr c_14)) dX0_floorDiv_24
    · skip
      refine lv_iload_n hx hb dX0_floorDiv_17 rfl (lv_at hl 0 rfl) ?_
      refine lv_iconst (v := 1) hx hb dX0_floorDiv_18 (by decide) ?_
      refine lv_isub hx hb dX0_floorDiv_19 ?_
      refine lv_goto (tgt := 24) hx hb dX0_floorDiv_20 (by decide) ?_
      exact hu_retI hx hb hr hlocks ((hu_fd hd hn1 hn2 hd2).1 (Int32.not_le.mp c_14)) dX0_floorDiv_24
  · skip
    exact absurd ((hu_lt 0 dd).mpr hd) c_1
set_option maxHeartbeats 4000000 in
set_option maxRecDepth 100000 in
/-- gcd -/
theorem mX0_gcd (l : Launch) (ga gb : Int32) (ha1 : -40 ≤ ga.toInt) (ha2 : ga.toInt ≤ 40) (hb1 : -40 ≤ gb.toInt) (hb2 : gb.toInt ≤ 40) : hu_ST l yX0_gcd cX0_gcd 6 (some .int) ({ frames := 0, cells := 0, slots := 0, locals := 0 }) [.int ga, .int gb] (fun r => r = nI (hu_gab ga gb)) := by
  refine hu_met (by decide) (Nat.le_of_ble_eq_true rfl) ?_
  intro p e s m below meth c ls C0 _ hB hl
  obtain ⟨hx, hb, hr, hml, hown, hts, hlocks⟩ := C0
  have hl : lv_has ls 6 [(0, .int ga), (1, .int gb)] := hl
  have hg : hu_gI 20 ga.toInt.natAbs gb.toInt.natAbs = hu_gab ga gb := hu_gI_ok _ (by omega) _ (by omega)
  have loop : ∀ (n : Nat) (i : Nat) (w : Nat) (z : Nat), i ≤ 20 → 20 < i + n → w < 41 → z < 41 → hu_gI (20 - i) w z = hu_gab ga gb → ∀ ls : Array Slot, lv_has ls 6 [(4, .int (nI i)), (2, .int (nI w)), (3, .int (nI z))] → W p l e ({ frames := 0, cells := 0, slots := 0, locals := 0 }) s m ([.int ga, .int gb] : List Value).toArray below meth c s.heap [] 0 0 (MQ below (vp_Si (fun r => r = nI (hu_gab ga gb))) ([.int ga, .int gb] : List Value).toArray s 0 0 (fun _ => False)) (F0 m 25 ls []) := by
    intro n
    induction n with
    | zero =>
      intro i w z h1 h2
      exfalso
      omega
    | succ n ih =>
      intro i w z h1 h2 h3 h4 h5 ls hl
      refine lv_iload hx hb dX0_gcd_25 (lv_at hl 0 rfl) ?_
      refine lv_bipush (v := 20) hx hb dX0_gcd_27 (by decide) ?_
      refine lv_icmp_ge (tgt := 52) hx hb dX0_gcd_29 (by decide) (fun c_29 => ?_) (fun c_29 => ?_)
      · skip
        have hi_29 : i = 20 := by have := (nI_leI (a := 20) (b := i) (by omega) (by omega)).mp c_29; omega
        refine lv_iload_n hx hb dX0_gcd_52 rfl (lv_at hl 1 rfl) ?_
        exact hu_retI hx hb hr hlocks (by first | (rw [← h5, hi_29]; rfl) | (rw [← h5, hf, hi_33]; rfl)) dX0_gcd_53
      · skip
        have hi_29 : i < 20 := by have := mt (nI_leI (a := 20) (b := i) (by omega) (by omega)).mpr c_29; omega
        obtain ⟨f, hf⟩ : ∃ f, 20 - i = f + 1 := ⟨19 - i, by omega⟩
        refine lv_iload_n hx hb dX0_gcd_32 rfl (lv_at hl 2 rfl) ?_
        refine lv_if_le (tgt := 52) hx hb dX0_gcd_33 (by decide) (fun c_33 => ?_) (fun c_33 => ?_)
        · skip
          have hi_33 : z = 0 := by have := (nI_leI (a := z) (b := 0) (by omega) (by omega)).mp c_33; omega
          refine lv_iload_n hx hb dX0_gcd_52 rfl (lv_at hl 1 rfl) ?_
          exact hu_retI hx hb hr hlocks (by first | (rw [← h5, hi_29]; rfl) | (rw [← h5, hf, hi_33]; rfl)) dX0_gcd_53
        · skip
          have hi_33 : 0 < z := by have := mt (nI_leI (a := z) (b := 0) (by omega) (by omega)).mpr c_33; omega
          refine lv_iload_n hx hb dX0_gcd_36 rfl (lv_at hl 1 rfl) ?_
          refine lv_iload_n hx hb dX0_gcd_37 rfl (lv_at hl 2 rfl) ?_
          refine lv_irem hx hb dX0_gcd_38 (nI_ne0 hi_33 (by omega)) ?_
          refine hu_top (z := nI (w % z)) (pk_rem (by omega) hi_33 (by omega)) ?_
          refine lv_istore (lv' := [(5, .int (nI (w % z))), (4, .int (nI i)), (2, .int (nI w)), (3, .int (nI z))]) hx hb dX0_gcd_39 hl (by decide) rfl (fun ls hl => ?_)
          refine lv_iload_n hx hb dX0_gcd_41 rfl (lv_at hl 3 rfl) ?_
          refine lv_istore_n (lv' := [(2, .int (nI z)), (5, .int (nI (w % z))), (4, .int (nI i)), (3, .int (nI z))]) hx hb dX0_gcd_42 rfl hl (by decide) rfl (fun ls hl => ?_)
          refine lv_iload hx hb dX0_gcd_43 (lv_at hl 1 rfl) ?_
          refine lv_istore_n (lv' := [(3, .int (nI (w % z))), (2, .int (nI z)), (5, .int (nI (w % z))), (4, .int (nI i))]) hx hb dX0_gcd_45 rfl hl (by decide) rfl (fun ls hl => ?_)
          refine lv_iinc (v := nI (i + 1)) (lv' := [(4, .int (nI (i + 1))), (3, .int (nI (w % z))), (2, .int (nI z)), (5, .int (nI (w % z)))]) hx hb dX0_gcd_46 hl (k := 3) rfl (nI_1 _) (by decide) rfl (fun ls hl => ?_)
          refine lv_goto (tgt := 25) hx hb dX0_gcd_49 (by decide) ?_
          exact ih (i + 1) z (w % z) (by omega) (by omega) h4 (Nat.lt_trans (Nat.mod_lt w hi_33) h4) (by rw [show 20 - (i + 1) = f by omega, ← h5, hf]; show _ = (if z = 0 then w else _); rw [if_neg (by omega)]) ls (lv_sub hl [0, 2, 1] rfl)
  refine lv_iload_n hx hb dX0_gcd_0 rfl (lv_at hl 0 rfl) ?_
  refine lv_if_ge (tgt := 9) hx hb dX0_gcd_1 (by decide) (fun c_1 => ?_) (fun c_1 => ?_)
  · skip
    refine lv_iload_n hx hb dX0_gcd_9 rfl (lv_at hl 0 rfl) ?_
    refine hu_top (z := nI ga.toInt.natAbs) (hu_absF c_1) ?_
    refine lv_istore_n (lv' := [(2, .int (nI ga.toInt.natAbs)), (0, .int ga), (1, .int gb)]) hx hb dX0_gcd_10 rfl hl (by decide) rfl (fun ls hl => ?_)
    refine lv_iload_n hx hb dX0_gcd_11 rfl (lv_at hl 2 rfl) ?_
    refine lv_if_ge (tgt := 20) hx hb dX0_gcd_12 (by decide) (fun c_12 => ?_) (fun c_12 => ?_)
    · skip
      refine lv_iload_n hx hb dX0_gcd_20 rfl (lv_at hl 2 rfl) ?_
      refine hu_top (z := nI gb.toInt.natAbs) (hu_absF c_12) ?_
      refine lv_istore_n (lv' := [(3, .int (nI gb.toInt.natAbs)), (2, .int (nI ga.toInt.natAbs)), (0, .int ga), (1, .int gb)]) hx hb dX0_gcd_21 rfl hl (by decide) rfl (fun ls hl => ?_)
      refine lv_iconst (v := 0) hx hb dX0_gcd_22 (by decide) ?_
      refine lv_istore (lv' := [(4, .int 0), (3, .int (nI gb.toInt.natAbs)), (2, .int (nI ga.toInt.natAbs)), (0, .int ga), (1, .int gb)]) hx hb dX0_gcd_23 hl (by decide) rfl (fun ls hl => ?_)
      exact loop 21 0 _ _ (by omega) (by omega) (by omega) (by omega) hg ls (lv_sub hl [0, 2, 1] rfl)
    · skip
      refine lv_iload_n hx hb dX0_gcd_15 rfl (lv_at hl 2 rfl) ?_
      refine lv_ineg hx hb dX0_gcd_16 ?_
      refine lv_goto (tgt := 21) hx hb dX0_gcd_17 (by decide) ?_
      refine hu_top (z := nI gb.toInt.natAbs) (hu_absT c_12 (by omega)) ?_
      refine lv_istore_n (lv' := [(3, .int (nI gb.toInt.natAbs)), (2, .int (nI ga.toInt.natAbs)), (0, .int ga), (1, .int gb)]) hx hb dX0_gcd_21 rfl hl (by decide) rfl (fun ls hl => ?_)
      refine lv_iconst (v := 0) hx hb dX0_gcd_22 (by decide) ?_
      refine lv_istore (lv' := [(4, .int 0), (3, .int (nI gb.toInt.natAbs)), (2, .int (nI ga.toInt.natAbs)), (0, .int ga), (1, .int gb)]) hx hb dX0_gcd_23 hl (by decide) rfl (fun ls hl => ?_)
      exact loop 21 0 _ _ (by omega) (by omega) (by omega) (by omega) hg ls (lv_sub hl [0, 2, 1] rfl)
  · skip
    refine lv_iload_n hx hb dX0_gcd_4 rfl (lv_at hl 0 rfl) ?_
    refine lv_ineg hx hb dX0_gcd_5 ?_
    refine lv_goto (tgt := 10) hx hb dX0_gcd_6 (by decide) ?_
    refine hu_top (z := nI ga.toInt.natAbs) (hu_absT c_1 (by omega)) ?_
    refine lv_istore_n (lv' := [(2, .int (nI ga.toInt.natAbs)), (0, .int ga), (1, .int gb)]) hx hb dX0_gcd_10 rfl hl (by decide) rfl (fun ls hl => ?_)
    refine lv_iload_n hx hb dX0_gcd_11 rfl (lv_at hl 2 rfl) ?_
    refine lv_if_ge (tgt := 20) hx hb dX0_gcd_12 (by decide) (fun c_12 => ?_) (fun c_12 => ?_)
    · skip
      refine lv_iload_n hx hb dX0_gcd_20 rfl (lv_at hl 2 rfl) ?_
      refine hu_top (z := nI gb.toInt.natAbs) (hu_absF c_12) ?_
      refine lv_istore_n (lv' := [(3, .int (nI gb.toInt.natAbs)), (2, .int (nI ga.toInt.natAbs)), (0, .int ga), (1, .int gb)]) hx hb dX0_gcd_21 rfl hl (by decide) rfl (fun ls hl => ?_)
      refine lv_iconst (v := 0) hx hb dX0_gcd_22 (by decide) ?_
      refine lv_istore (lv' := [(4, .int 0), (3, .int (nI gb.toInt.natAbs)), (2, .int (nI ga.toInt.natAbs)), (0, .int ga), (1, .int gb)]) hx hb dX0_gcd_23 hl (by decide) rfl (fun ls hl => ?_)
      exact loop 21 0 _ _ (by omega) (by omega) (by omega) (by omega) hg ls (lv_sub hl [0, 2, 1] rfl)
    · skip
      refine lv_iload_n hx hb dX0_gcd_15 rfl (lv_at hl 2 rfl) ?_
      refine lv_ineg hx hb dX0_gcd_16 ?_
      refine lv_goto (tgt := 21) hx hb dX0_gcd_17 (by decide) ?_
      refine hu_top (z := nI gb.toInt.natAbs) (hu_absT c_12 (by omega)) ?_
      refine lv_istore_n (lv' := [(3, .int (nI gb.toInt.natAbs)), (2, .int (nI ga.toInt.natAbs)), (0, .int ga), (1, .int gb)]) hx hb dX0_gcd_21 rfl hl (by decide) rfl (fun ls hl => ?_)
      refine lv_iconst (v := 0) hx hb dX0_gcd_22 (by decide) ?_
      refine lv_istore (lv' := [(4, .int 0), (3, .int (nI gb.toInt.natAbs)), (2, .int (nI ga.toInt.natAbs)), (0, .int ga), (1, .int gb)]) hx hb dX0_gcd_23 hl (by decide) rfl (fun ls hl => ?_)
      exact loop 21 0 _ _ (by omega) (by omega) (by omega) (by omega) hg ls (lv_sub hl [0, 2, 1] rfl)
set_option maxHeartbeats 4000000 in
set_option maxRecDepth 100000 in
/-- some -/
theorem mX0_some (l : Launch) (dC : Nat → ClassId) (dI : Nat → Nat → Nat) (d : ClassId) (ad : Nat → Nat) (k : Int32) (rd : Int32) (ct : Int32) (fa : Nat → Int32) (fb : Nat → Int32) (fc : Nat → Int32) (lo : Nat → Int32) (hi : Nat → Int32) (cx : Nat → Int32) (cy : Nat → Int32) (x : Nat) (hx0 : x < 41) : hu_RO l dC dI d (hu_wH d ad (k, rd, ct, fa, fb, fc, lo, hi, cx, cy)) yX0_some cX0_some 2 (some .boolean) ({ frames := 0, cells := 0, slots := 0, locals := 0 }) [.ref (ad 0), .int (nI x)] (fun r => hu_tf r (lo x ≤ hi x)) := by
  refine hu_met (by decide) (Nat.le_of_ble_eq_true rfl) ?_
  intro p e s m below meth c ls C0 _ hB hl
  obtain ⟨hx, hb, hr, hml, hown, hts, hlocks⟩ := C0
  obtain ⟨hP, hK⟩ := hB
  have hl : lv_has ls 2 [(0, .ref (ad 0)), (1, .int (nI x))] := hl
  refine lv_aload_n hx hb dX0_some_0 rfl (lv_at hl 0 rfl) ?_
  refine va_get (D := (dC, dI)) (ci := 0) (v := .ref (ad 4)) (C := RX0) (T := TX0) (N := 10) hx hb hts in_X0 hown hK hP 0 rfl rfl 5 (by decide) (hts _ q32) (fun _ h9 => h9) rfl dX0_some_1 ?_
  refine lv_iload_n hx hb dX0_some_4 rfl (lv_at hl 1 rfl) ?_
  refine hu_ald hx hb hK hP 4 0 rfl rfl x rfl (by omega) (by decide) dX0_some_5 ?_
  refine lv_aload_n hx hb dX0_some_6 rfl (lv_at hl 0 rfl) ?_
  refine va_get (D := (dC, dI)) (ci := 0) (v := .ref (ad 5)) (C := RX0) (T := TX0) (N := 10) hx hb hts in_X0 hown hK hP 0 rfl rfl 6 (by decide) (hts _ q33) (fun _ h9 => h9) rfl dX0_some_7 ?_
  refine lv_iload_n hx hb dX0_some_10 rfl (lv_at hl 1 rfl) ?_
  refine hu_ald hx hb hK hP 5 0 rfl rfl x rfl (by omega) (by decide) dX0_some_11 ?_
  refine lv_icmp_gt (tgt := 19) hx hb dX0_some_12 (by decide) (fun c_12 => ?_) (fun c_12 => ?_)
  · skip
    refine lv_iconst (v := 0) hx hb dX0_some_19 (by decide) ?_
    exact hu_retZ hx hb hr hlocks rfl (hu_tf_f (Int32.not_le.mpr c_12)) dX0_some_20
  · skip
    refine lv_iconst (v := 1) hx hb dX0_some_15 (by decide) ?_
    refine lv_goto (tgt := 20) hx hb dX0_some_16 (by decide) ?_
    exact hu_retZ hx hb hr hlocks rfl (hu_tf_t (Int32.not_lt.mp c_12)) dX0_some_20
set_option maxHeartbeats 4000000 in
set_option maxRecDepth 100000 in
/-- turn -/
theorem mX0_turn (l : Launch) (dC : Nat → ClassId) (dI : Nat → Nat → Nat) (d : ClassId) (ad : Nat → Nat) (k : Int32) (rd : Int32) (ct : Int32) (fa : Nat → Int32) (fb : Nat → Int32) (fc : Nat → Int32) (lo : Nat → Int32) (hi : Nat → Int32) (cx : Nat → Int32) (cy : Nat → Int32) (i j : Nat) (x z : Int32) (hi0 : i < 84) (hj0 : j < 84) : hu_RO l dC dI d (hu_wH d ad (k, rd, ct, fa, fb, fc, lo, hi, cx, cy)) yX0_turn cX0_turn 5 (some .int) ({ frames := 0, cells := 0, slots := 0, locals := 0 }) [.ref (ad 0), .int (nI i), .int (nI j), .int x, .int z] (fun r => r = (cx j - cx i) * (z - cy i) - (cy j - cy i) * (x - cx i)) := by
  refine hu_met (by decide) (Nat.le_of_ble_eq_true rfl) ?_
  intro p e s m below meth c ls C0 _ hB hl
  obtain ⟨hx, hb, hr, hml, hown, hts, hlocks⟩ := C0
  obtain ⟨hP, hK⟩ := hB
  have hl : lv_has ls 5 [(0, .ref (ad 0)), (1, .int (nI i)), (2, .int (nI j)), (3, .int x), (4, .int z)] := hl
  refine lv_aload_n hx hb dX0_turn_0 rfl (lv_at hl 0 rfl) ?_
  refine va_get (D := (dC, dI)) (ci := 0) (v := .ref (ad 6)) (C := RX0) (T := TX0) (N := 10) hx hb hts in_X0 hown hK hP 0 rfl rfl 8 (by decide) (hts _ q35) (fun _ h9 => h9) rfl dX0_turn_1 ?_
  refine lv_iload_n hx hb dX0_turn_4 rfl (lv_at hl 2 rfl) ?_
  refine hu_ald hx hb hK hP 6 0 rfl rfl j rfl (by omega) (by decide) dX0_turn_5 ?_
  refine lv_aload_n hx hb dX0_turn_6 rfl (lv_at hl 0 rfl) ?_
  refine va_get (D := (dC, dI)) (ci := 0) (v := .ref (ad 6)) (C := RX0) (T := TX0) (N := 10) hx hb hts in_X0 hown hK hP 0 rfl rfl 8 (by decide) (hts _ q35) (fun _ h9 => h9) rfl dX0_turn_7 ?_
  refine lv_iload_n hx hb dX0_turn_10 rfl (lv_at hl 1 rfl) ?_
  refine hu_ald hx hb hK hP 6 0 rfl rfl i rfl (by omega) (by decide) dX0_turn_11 ?_
  refine lv_isub hx hb dX0_turn_12 ?_
  refine lv_iload hx hb dX0_turn_13 (lv_at hl 4 rfl) ?_
  refine lv_aload_n hx hb dX0_turn_15 rfl (lv_at hl 0 rfl) ?_
  refine va_get (D := (dC, dI)) (ci := 0) (v := .ref (ad 7)) (C := RX0) (T := TX0) (N := 10) hx hb hts in_X0 hown hK hP 0 rfl rfl 9 (by decide) (hts _ q36) (fun _ h9 => h9) rfl dX0_turn_16 ?_
  refine lv_iload_n hx hb dX0_turn_19 rfl (lv_at hl 1 rfl) ?_
  refine hu_ald hx hb hK hP 7 0 rfl rfl i rfl (by omega) (by decide) dX0_turn_20 ?_
  refine lv_isub hx hb dX0_turn_21 ?_
  refine lv_imul hx hb dX0_turn_22 ?_
  refine lv_aload_n hx hb dX0_turn_23 rfl (lv_at hl 0 rfl) ?_
  refine va_get (D := (dC, dI)) (ci := 0) (v := .ref (ad 7)) (C := RX0) (T := TX0) (N := 10) hx hb hts in_X0 hown hK hP 0 rfl rfl 9 (by decide) (hts _ q36) (fun _ h9 => h9) rfl dX0_turn_24 ?_
  refine lv_iload_n hx hb dX0_turn_27 rfl (lv_at hl 2 rfl) ?_
  refine hu_ald hx hb hK hP 7 0 rfl rfl j rfl (by omega) (by decide) dX0_turn_28 ?_
  refine lv_aload_n hx hb dX0_turn_29 rfl (lv_at hl 0 rfl) ?_
  refine va_get (D := (dC, dI)) (ci := 0) (v := .ref (ad 7)) (C := RX0) (T := TX0) (N := 10) hx hb hts in_X0 hown hK hP 0 rfl rfl 9 (by decide) (hts _ q36) (fun _ h9 => h9) rfl dX0_turn_30 ?_
  refine lv_iload_n hx hb dX0_turn_33 rfl (lv_at hl 1 rfl) ?_
  refine hu_ald hx hb hK hP 7 0 rfl rfl i rfl (by omega) (by decide) dX0_turn_34 ?_
  refine lv_isub hx hb dX0_turn_35 ?_
  refine lv_iload_n hx hb dX0_turn_36 rfl (lv_at hl 3 rfl) ?_
  refine lv_aload_n hx hb dX0_turn_37 rfl (lv_at hl 0 rfl) ?_
  refine va_get (D := (dC, dI)) (ci := 0) (v := .ref (ad 6)) (C := RX0) (T := TX0) (N := 10) hx hb hts in_X0 hown hK hP 0 rfl rfl 8 (by decide) (hts _ q35) (fun _ h9 => h9) rfl dX0_turn_38 ?_
  refine lv_iload_n hx hb dX0_turn_41 rfl (lv_at hl 1 rfl) ?_
  refine hu_ald hx hb hK hP 6 0 rfl rfl i rfl (by omega) (by decide) dX0_turn_42 ?_
  refine lv_isub hx hb dX0_turn_43 ?_
  refine lv_imul hx hb dX0_turn_44 ?_
  refine lv_isub hx hb dX0_turn_45 ?_
  exact hu_retI hx hb hr hlocks rfl dX0_turn_46
set_option maxHeartbeats 4000000 in
set_option maxRecDepth 100000 in
theorem mX1_xOf (l : Launch) (dC : Nat → ClassId) (dI : Nat → Nat → Nat) (d : ClassId) (ad : Nat → Nat) (as : Nat → Int32) (bs : Nat → Int32) (cs : Nat → Int32) (k : Int32) (li : Nat → Int32) (ld : Int32) (hu : Nat → Int32) (hs : Int32) (z : Int32) : hu_RO l dC dI d (hu_wM d ad (as, bs, cs, k, li, ld, hu, hs)) yX1_xOf cX1_xOf 2 (some .int) ({ frames := 0, cells := 0, slots := 0, locals := 0 }) [.ref (ad 0), .int z] (fun r => r = hu_xO z) := by
  refine hu_met (by decide) (Nat.le_of_ble_eq_true rfl) ?_
  intro p e s m below meth c ls C0 _ hB hl
  obtain ⟨hx, hb, hr, hml, hown, hts, hlocks⟩ := C0
  obtain ⟨hP, hK⟩ := hB
  have hl : lv_has ls 2 [(0, .ref (ad 0)), (1, .int z)] := hl
  refine lv_iload_n hx hb dX1_xOf_0 rfl (lv_at hl 1 rfl) ?_
  refine lv_bipush (v := 63) hx hb dX1_xOf_1 (by decide) ?_
  refine lv_iand hx hb dX1_xOf_3 ?_
  exact hu_retI hx hb hr hlocks rfl dX1_xOf_4
set_option maxHeartbeats 4000000 in
set_option maxRecDepth 100000 in
theorem mX1_yOf (l : Launch) (dC : Nat → ClassId) (dI : Nat → Nat → Nat) (d : ClassId) (ad : Nat → Nat) (as : Nat → Int32) (bs : Nat → Int32) (cs : Nat → Int32) (k : Int32) (li : Nat → Int32) (ld : Int32) (hu : Nat → Int32) (hs : Int32) (z : Int32) : hu_RO l dC dI d (hu_wM d ad (as, bs, cs, k, li, ld, hu, hs)) yX1_yOf cX1_yOf 2 (some .int) ({ frames := 0, cells := 0, slots := 0, locals := 0 }) [.ref (ad 0), .int z] (fun r => r = hu_yO z) := by
  refine hu_met (by decide) (Nat.le_of_ble_eq_true rfl) ?_
  intro p e s m below meth c ls C0 _ hB hl
  obtain ⟨hx, hb, hr, hml, hown, hts, hlocks⟩ := C0
  obtain ⟨hP, hK⟩ := hB
  have hl : lv_has ls 2 [(0, .ref (ad 0)), (1, .int z)] := hl
  refine lv_iload_n hx hb dX1_yOf_0 rfl (lv_at hl 1 rfl) ?_
  refine lv_bipush (v := 6) hx hb dX1_yOf_1 (by decide) ?_
  refine lv_ishr hx hb dX1_yOf_3 ?_
  exact hu_retI hx hb hr hlocks rfl dX1_yOf_4
set_option maxHeartbeats 4000000 in
set_option maxRecDepth 100000 in
theorem mX1_turn (l : Launch) (dC : Nat → ClassId) (dI : Nat → Nat → Nat) (d : ClassId) (ad : Nat → Nat) (as : Nat → Int32) (bs : Nat → Int32) (cs : Nat → Int32) (k : Int32) (li : Nat → Int32) (ld : Int32) (hu : Nat → Int32) (hs : Int32) (a b g : Int32) : hu_RO l dC dI d (hu_wM d ad (as, bs, cs, k, li, ld, hu, hs)) yX1_turn cX1_turn 4 (some .int) ({ frames := 1, cells := 0, slots := 0, locals := 21 }) [.ref (ad 0), .int a, .int b, .int g] (fun r => r = hu_tR a b g) := by
  refine hu_met (by decide) (Nat.le_of_ble_eq_true rfl) ?_
  intro p e s m below meth c ls C0 _ hB hl
  obtain ⟨hx, hb, hr, hml, hown, hts, hlocks⟩ := C0
  obtain ⟨hP, hK⟩ := hB
  have hl : lv_has ls 4 [(0, .ref (ad 0)), (1, .int a), (2, .int b), (3, .int g)] := hl
  refine lv_aload_n hx hb dX1_turn_0 rfl (lv_at hl 0 rfl) ?_
  refine lv_iload_n hx hb dX1_turn_1 rfl (lv_at hl 2 rfl) ?_
  refine hu_callR 1 (As := [.int b]) (rest := []) ⟨hx, hb, hml, hown, hts⟩ (mX1_xOf l dC dI d ad as bs cs k li ld hu hs b) (lw_V q171 q173 qs10 q18 q174) (by decide +kernel) rfl ⟨Nat.le_of_ble_eq_true rfl, Nat.le_of_ble_eq_true rfl⟩ ⟨rfl, rfl⟩ hK hP (va_recv hK hP (ci := 1) (q0 := 0) rfl rfl) hl.1 rfl (Nat.le_of_ble_eq_true rfl) ⟨Nat.zero_le _, Nat.zero_le _⟩ dX1_turn_2 (fun r_2 w_2 => ?_)
  refine hu_top (z := hu_xO b) w_2 ?_
  refine lv_aload_n hx hb dX1_turn_5 rfl (lv_at hl 0 rfl) ?_
  refine lv_iload_n hx hb dX1_turn_6 rfl (lv_at hl 1 rfl) ?_
  refine hu_callR 1 (As := [.int a]) (rest := [.int (hu_xO b)]) ⟨hx, hb, hml, hown, hts⟩ (mX1_xOf l dC dI d ad as bs cs k li ld hu hs a) (lw_V q171 q173 qs10 q18 q174) (by decide +kernel) rfl ⟨Nat.le_of_ble_eq_true rfl, Nat.le_of_ble_eq_true rfl⟩ ⟨rfl, rfl⟩ hK hP (va_recv hK hP (ci := 1) (q0 := 0) rfl rfl) hl.1 rfl (Nat.le_of_ble_eq_true rfl) ⟨Nat.zero_le _, Nat.zero_le _⟩ dX1_turn_7 (fun r_7 w_7 => ?_)
  refine hu_top (z := hu_xO a) w_7 ?_
  refine lv_isub hx hb dX1_turn_10 ?_
  refine lv_aload_n hx hb dX1_turn_11 rfl (lv_at hl 0 rfl) ?_
  refine lv_iload_n hx hb dX1_turn_12 rfl (lv_at hl 3 rfl) ?_
  refine hu_callR 1 (As := [.int g]) (rest := [.int ((hu_xO b) - (hu_xO a))]) ⟨hx, hb, hml, hown, hts⟩ (mX1_yOf l dC dI d ad as bs cs k li ld hu hs g) (lw_V q175 q177 qs11 q18 q178) (by decide +kernel) rfl ⟨Nat.le_of_ble_eq_true rfl, Nat.le_of_ble_eq_true rfl⟩ ⟨rfl, rfl⟩ hK hP (va_recv hK hP (ci := 1) (q0 := 0) rfl rfl) hl.1 rfl (Nat.le_of_ble_eq_true rfl) ⟨Nat.zero_le _, Nat.zero_le _⟩ dX1_turn_13 (fun r_13 w_13 => ?_)
  refine hu_top (z := hu_yO g) w_13 ?_
  refine lv_aload_n hx hb dX1_turn_16 rfl (lv_at hl 0 rfl) ?_
  refine lv_iload_n hx hb dX1_turn_17 rfl (lv_at hl 1 rfl) ?_
  refine hu_callR 1 (As := [.int a]) (rest := [.int (hu_yO g), .int ((hu_xO b) - (hu_xO a))]) ⟨hx, hb, hml, hown, hts⟩ (mX1_yOf l dC dI d ad as bs cs k li ld hu hs a) (lw_V q175 q177 qs11 q18 q178) (by decide +kernel) rfl ⟨Nat.le_of_ble_eq_true rfl, Nat.le_of_ble_eq_true rfl⟩ ⟨rfl, rfl⟩ hK hP (va_recv hK hP (ci := 1) (q0 := 0) rfl rfl) hl.1 rfl (Nat.le_of_ble_eq_true rfl) ⟨Nat.zero_le _, Nat.zero_le _⟩ dX1_turn_18 (fun r_18 w_18 => ?_)
  refine hu_top (z := hu_yO a) w_18 ?_
  refine lv_isub hx hb dX1_turn_21 ?_
  refine lv_imul hx hb dX1_turn_22 ?_
  refine lv_aload_n hx hb dX1_turn_23 rfl (lv_at hl 0 rfl) ?_
  refine lv_iload_n hx hb dX1_turn_24 rfl (lv_at hl 2 rfl) ?_
  refine hu_callR 1 (As := [.int b]) (rest := [.int (((hu_xO b) - (hu_xO a)) * ((hu_yO g) - (hu_yO a)))]) ⟨hx, hb, hml, hown, hts⟩ (mX1_yOf l dC dI d ad as bs cs k li ld hu hs b) (lw_V q175 q177 qs11 q18 q178) (by decide +kernel) rfl ⟨Nat.le_of_ble_eq_true rfl, Nat.le_of_ble_eq_true rfl⟩ ⟨rfl, rfl⟩ hK hP (va_recv hK hP (ci := 1) (q0 := 0) rfl rfl) hl.1 rfl (Nat.le_of_ble_eq_true rfl) ⟨Nat.zero_le _, Nat.zero_le _⟩ dX1_turn_25 (fun r_25 w_25 => ?_)
  refine hu_top (z := hu_yO b) w_25 ?_
  refine lv_aload_n hx hb dX1_turn_28 rfl (lv_at hl 0 rfl) ?_
  refine lv_iload_n hx hb dX1_turn_29 rfl (lv_at hl 1 rfl) ?_
  refine hu_callR 1 (As := [.int a]) (rest := [.int (hu_yO b), .int (((hu_xO b) - (hu_xO a)) * ((hu_yO g) - (hu_yO a)))]) ⟨hx, hb, hml, hown, hts⟩ (mX1_yOf l dC dI d ad as bs cs k li ld hu hs a) (lw_V q175 q177 qs11 q18 q178) (by decide +kernel) rfl ⟨Nat.le_of_ble_eq_true rfl, Nat.le_of_ble_eq_true rfl⟩ ⟨rfl, rfl⟩ hK hP (va_recv hK hP (ci := 1) (q0 := 0) rfl rfl) hl.1 rfl (Nat.le_of_ble_eq_true rfl) ⟨Nat.zero_le _, Nat.zero_le _⟩ dX1_turn_30 (fun r_30 w_30 => ?_)
  refine hu_top (z := hu_yO a) w_30 ?_
  refine lv_isub hx hb dX1_turn_33 ?_
  refine lv_aload_n hx hb dX1_turn_34 rfl (lv_at hl 0 rfl) ?_
  refine lv_iload_n hx hb dX1_turn_35 rfl (lv_at hl 3 rfl) ?_
  refine hu_callR 1 (As := [.int g]) (rest := [.int ((hu_yO b) - (hu_yO a)), .int (((hu_xO b) - (hu_xO a)) * ((hu_yO g) - (hu_yO a)))]) ⟨hx, hb, hml, hown, hts⟩ (mX1_xOf l dC dI d ad as bs cs k li ld hu hs g) (lw_V q171 q173 qs10 q18 q174) (by decide +kernel) rfl ⟨Nat.le_of_ble_eq_true rfl, Nat.le_of_ble_eq_true rfl⟩ ⟨rfl, rfl⟩ hK hP (va_recv hK hP (ci := 1) (q0 := 0) rfl rfl) hl.1 rfl (Nat.le_of_ble_eq_true rfl) ⟨Nat.zero_le _, Nat.zero_le _⟩ dX1_turn_36 (fun r_36 w_36 => ?_)
  refine hu_top (z := hu_xO g) w_36 ?_
  refine lv_aload_n hx hb dX1_turn_39 rfl (lv_at hl 0 rfl) ?_
  refine lv_iload_n hx hb dX1_turn_40 rfl (lv_at hl 1 rfl) ?_
  refine hu_callR 1 (As := [.int a]) (rest := [.int (hu_xO g), .int ((hu_yO b) - (hu_yO a)), .int (((hu_xO b) - (hu_xO a)) * ((hu_yO g) - (hu_yO a)))]) ⟨hx, hb, hml, hown, hts⟩ (mX1_xOf l dC dI d ad as bs cs k li ld hu hs a) (lw_V q171 q173 qs10 q18 q174) (by decide +kernel) rfl ⟨Nat.le_of_ble_eq_true rfl, Nat.le_of_ble_eq_true rfl⟩ ⟨rfl, rfl⟩ hK hP (va_recv hK hP (ci := 1) (q0 := 0) rfl rfl) hl.1 rfl (Nat.le_of_ble_eq_true rfl) ⟨Nat.zero_le _, Nat.zero_le _⟩ dX1_turn_41 (fun r_41 w_41 => ?_)
  refine hu_top (z := hu_xO a) w_41 ?_
  refine lv_isub hx hb dX1_turn_44 ?_
  refine lv_imul hx hb dX1_turn_45 ?_
  refine lv_isub hx hb dX1_turn_46 ?_
  exact hu_retI hx hb hr hlocks rfl dX1_turn_47
set_option maxHeartbeats 4000000 in
set_option maxRecDepth 100000 in
theorem mX1_distance (l : Launch) (dC : Nat → ClassId) (dI : Nat → Nat → Nat) (d : ClassId) (ad : Nat → Nat) (as : Nat → Int32) (bs : Nat → Int32) (cs : Nat → Int32) (k : Int32) (li : Nat → Int32) (ld : Int32) (hu : Nat → Int32) (hs : Int32) (a b : Int32) : hu_RO l dC dI d (hu_wM d ad (as, bs, cs, k, li, ld, hu, hs)) yX1_distance cX1_distance 5 (some .int) ({ frames := 1, cells := 0, slots := 0, locals := 21 }) [.ref (ad 0), .int a, .int b] (fun r => r = hu_dR a b) := by
  refine hu_met (by decide) (Nat.le_of_ble_eq_true rfl) ?_
  intro p e s m below meth c ls C0 _ hB hl
  obtain ⟨hx, hb, hr, hml, hown, hts, hlocks⟩ := C0
  obtain ⟨hP, hK⟩ := hB
  have hl : lv_has ls 5 [(0, .ref (ad 0)), (1, .int a), (2, .int b)] := hl
  refine lv_aload_n hx hb dX1_distance_0 rfl (lv_at hl 0 rfl) ?_
  refine lv_iload_n hx hb dX1_distance_1 rfl (lv_at hl 2 rfl) ?_
  refine hu_callR 1 (As := [.int b]) (rest := []) ⟨hx, hb, hml, hown, hts⟩ (mX1_xOf l dC dI d ad as bs cs k li ld hu hs b) (lw_V q171 q173 qs10 q18 q174) (by decide +kernel) rfl ⟨Nat.le_of_ble_eq_true rfl, Nat.le_of_ble_eq_true rfl⟩ ⟨rfl, rfl⟩ hK hP (va_recv hK hP (ci := 1) (q0 := 0) rfl rfl) hl.1 rfl (Nat.le_of_ble_eq_true rfl) ⟨Nat.zero_le _, Nat.zero_le _⟩ dX1_distance_2 (fun r_2 w_2 => ?_)
  refine hu_top (z := hu_xO b) w_2 ?_
  refine lv_aload_n hx hb dX1_distance_5 rfl (lv_at hl 0 rfl) ?_
  refine lv_iload_n hx hb dX1_distance_6 rfl (lv_at hl 1 rfl) ?_
  refine hu_callR 1 (As := [.int a]) (rest := [.int (hu_xO b)]) ⟨hx, hb, hml, hown, hts⟩ (mX1_xOf l dC dI d ad as bs cs k li ld hu hs a) (lw_V q171 q173 qs10 q18 q174) (by decide +kernel) rfl ⟨Nat.le_of_ble_eq_true rfl, Nat.le_of_ble_eq_true rfl⟩ ⟨rfl, rfl⟩ hK hP (va_recv hK hP (ci := 1) (q0 := 0) rfl rfl) hl.1 rfl (Nat.le_of_ble_eq_true rfl) ⟨Nat.zero_le _, Nat.zero_le _⟩ dX1_distance_7 (fun r_7 w_7 => ?_)
  refine hu_top (z := hu_xO a) w_7 ?_
  refine lv_isub hx hb dX1_distance_10 ?_
  refine lv_istore_n (lv' := [(3, .int ((hu_xO b) - (hu_xO a))), (0, .ref (ad 0)), (1, .int a), (2, .int b)]) hx hb dX1_distance_11 rfl hl (by decide) rfl (fun ls hl => ?_)
  refine lv_aload_n hx hb dX1_distance_12 rfl (lv_at hl 1 rfl) ?_
  refine lv_iload_n hx hb dX1_distance_13 rfl (lv_at hl 3 rfl) ?_
  refine hu_callR 1 (As := [.int b]) (rest := []) ⟨hx, hb, hml, hown, hts⟩ (mX1_yOf l dC dI d ad as bs cs k li ld hu hs b) (lw_V q175 q177 qs11 q18 q178) (by decide +kernel) rfl ⟨Nat.le_of_ble_eq_true rfl, Nat.le_of_ble_eq_true rfl⟩ ⟨rfl, rfl⟩ hK hP (va_recv hK hP (ci := 1) (q0 := 0) rfl rfl) hl.1 rfl (Nat.le_of_ble_eq_true rfl) ⟨Nat.zero_le _, Nat.zero_le _⟩ dX1_distance_14 (fun r_14 w_14 => ?_)
  refine hu_top (z := hu_yO b) w_14 ?_
  refine lv_aload_n hx hb dX1_distance_17 rfl (lv_at hl 1 rfl) ?_
  refine lv_iload_n hx hb dX1_distance_18 rfl (lv_at hl 2 rfl) ?_
  refine hu_callR 1 (As := [.int a]) (rest := [.int (hu_yO b)]) ⟨hx, hb, hml, hown, hts⟩ (mX1_yOf l dC dI d ad as bs cs k li ld hu hs a) (lw_V q175 q177 qs11 q18 q178) (by decide +kernel) rfl ⟨Nat.le_of_ble_eq_true rfl, Nat.le_of_ble_eq_true rfl⟩ ⟨rfl, rfl⟩ hK hP (va_recv hK hP (ci := 1) (q0 := 0) rfl rfl) hl.1 rfl (Nat.le_of_ble_eq_true rfl) ⟨Nat.zero_le _, Nat.zero_le _⟩ dX1_distance_19 (fun r_19 w_19 => ?_)
  refine hu_top (z := hu_yO a) w_19 ?_
  refine lv_isub hx hb dX1_distance_22 ?_
  refine lv_istore (lv' := [(4, .int ((hu_yO b) - (hu_yO a))), (3, .int ((hu_xO b) - (hu_xO a))), (0, .ref (ad 0)), (1, .int a), (2, .int b)]) hx hb dX1_distance_23 hl (by decide) rfl (fun ls hl => ?_)
  refine lv_iload_n hx hb dX1_distance_25 rfl (lv_at hl 1 rfl) ?_
  refine lv_iload_n hx hb dX1_distance_26 rfl (lv_at hl 1 rfl) ?_
  refine lv_imul hx hb dX1_distance_27 ?_
  refine lv_iload hx hb dX1_distance_28 (lv_at hl 0 rfl) ?_
  refine lv_iload hx hb dX1_distance_30 (lv_at hl 0 rfl) ?_
  refine lv_imul hx hb dX1_distance_32 ?_
  refine lv_iadd hx hb dX1_distance_33 ?_
  exact hu_retI hx hb hr hlocks rfl dX1_distance_34
set_option maxHeartbeats 4000000 in
set_option maxRecDepth 100000 in
theorem mX1_value (l : Launch) (dC : Nat → ClassId) (dI : Nat → Nat → Nat) (d : ClassId) (ad : Nat → Nat) (as : Nat → Int32) (bs : Nat → Int32) (cs : Nat → Int32) (k : Int32) (li : Nat → Int32) (ld : Int32) (hu : Nat → Int32) (hs : Int32) (g h z : Int32) : hu_RO l dC dI d (hu_wM d ad (as, bs, cs, k, li, ld, hu, hs)) yX1_value cX1_value 4 (some .int) ({ frames := 1, cells := 0, slots := 0, locals := 21 }) [.ref (ad 0), .int g, .int h, .int z] (fun r => r = hu_vR g h z) := by
  refine hu_met (by decide) (Nat.le_of_ble_eq_true rfl) ?_
  intro p e s m below meth c ls C0 _ hB hl
  obtain ⟨hx, hb, hr, hml, hown, hts, hlocks⟩ := C0
  obtain ⟨hP, hK⟩ := hB
  have hl : lv_has ls 4 [(0, .ref (ad 0)), (1, .int g), (2, .int h), (3, .int z)] := hl
  refine lv_iload_n hx hb dX1_value_0 rfl (lv_at hl 1 rfl) ?_
  refine lv_aload_n hx hb dX1_value_1 rfl (lv_at hl 0 rfl) ?_
  refine lv_iload_n hx hb dX1_value_2 rfl (lv_at hl 3 rfl) ?_
  refine hu_callR 1 (As := [.int z]) (rest := [.int g]) ⟨hx, hb, hml, hown, hts⟩ (mX1_xOf l dC dI d ad as bs cs k li ld hu hs z) (lw_V q171 q173 qs10 q18 q174) (by decide +kernel) rfl ⟨Nat.le_of_ble_eq_true rfl, Nat.le_of_ble_eq_true rfl⟩ ⟨rfl, rfl⟩ hK hP (va_recv hK hP (ci := 1) (q0 := 0) rfl rfl) hl.1 rfl (Nat.le_of_ble_eq_true rfl) ⟨Nat.zero_le _, Nat.zero_le _⟩ dX1_value_3 (fun r_3 w_3 => ?_)
  refine hu_top (z := hu_xO z) w_3 ?_
  refine lv_imul hx hb dX1_value_6 ?_
  refine lv_iload_n hx hb dX1_value_7 rfl (lv_at hl 2 rfl) ?_
  refine lv_aload_n hx hb dX1_value_8 rfl (lv_at hl 0 rfl) ?_
  refine lv_iload_n hx hb dX1_value_9 rfl (lv_at hl 3 rfl) ?_
  refine hu_callR 1 (As := [.int z]) (rest := [.int h, .int (g * (hu_xO z))]) ⟨hx, hb, hml, hown, hts⟩ (mX1_yOf l dC dI d ad as bs cs k li ld hu hs z) (lw_V q175 q177 qs11 q18 q178) (by decide +kernel) rfl ⟨Nat.le_of_ble_eq_true rfl, Nat.le_of_ble_eq_true rfl⟩ ⟨rfl, rfl⟩ hK hP (va_recv hK hP (ci := 1) (q0 := 0) rfl rfl) hl.1 rfl (Nat.le_of_ble_eq_true rfl) ⟨Nat.zero_le _, Nat.zero_le _⟩ dX1_value_10 (fun r_10 w_10 => ?_)
  refine hu_top (z := hu_yO z) w_10 ?_
  refine lv_imul hx hb dX1_value_13 ?_
  refine lv_iadd hx hb dX1_value_14 ?_
  exact hu_retI hx hb hr hlocks rfl dX1_value_15
set_option maxHeartbeats 4000000 in
set_option maxRecDepth 100000 in
theorem mX1_isFactor (l : Launch) (dC : Nat → ClassId) (dI : Nat → Nat → Nat) (d : ClassId) (ad : Nat → Nat) (as : Nat → Int32) (bs : Nat → Int32) (cs : Nat → Int32) (k : Int32) (li : Nat → Int32) (ld : Int32) (hu : Nat → Int32) (hs : Int32) (g : Int32) : hu_RO l dC dI d (hu_wM d ad (as, bs, cs, k, li, ld, hu, hs)) yX1_isFactor cX1_isFactor 2 (some .boolean) ({ frames := 0, cells := 0, slots := 0, locals := 0 }) [.ref (ad 0), .int g] (fun r => hu_tf r (¬ g < -100 ∧ ¬ 100 < g)) := by
  refine hu_met (by decide) (Nat.le_of_ble_eq_true rfl) ?_
  intro p e s m below meth c ls C0 _ hB hl
  obtain ⟨hx, hb, hr, hml, hown, hts, hlocks⟩ := C0
  obtain ⟨hP, hK⟩ := hB
  have hl : lv_has ls 2 [(0, .ref (ad 0)), (1, .int g)] := hl
  refine lv_iload_n hx hb dX1_isFactor_0 rfl (lv_at hl 1 rfl) ?_
  refine lv_bipush (v := (-100)) hx hb dX1_isFactor_1 (by decide) ?_
  refine lv_icmp_lt (tgt := 16) hx hb dX1_isFactor_3 (by decide) (fun c_3 => ?_) (fun c_3 => ?_)
  · skip
    refine lv_iconst (v := 0) hx hb dX1_isFactor_16 (by decide) ?_
    exact hu_retZ hx hb hr hlocks rfl (by first | exact hu_tf_t ⟨c_3, c_9⟩ | exact hu_tf_f (fun q => q.1 c_3) | exact hu_tf_f (fun q => q.2 c_9)) dX1_isFactor_17
  · skip
    refine lv_iload_n hx hb dX1_isFactor_6 rfl (lv_at hl 1 rfl) ?_
    refine lv_bipush (v := 100) hx hb dX1_isFactor_7 (by decide) ?_
    refine lv_icmp_gt (tgt := 16) hx hb dX1_isFactor_9 (by decide) (fun c_9 => ?_) (fun c_9 => ?_)
    · skip
      refine lv_iconst (v := 0) hx hb dX1_isFactor_16 (by decide) ?_
      exact hu_retZ hx hb hr hlocks rfl (by first | exact hu_tf_t ⟨c_3, c_9⟩ | exact hu_tf_f (fun q => q.1 c_3) | exact hu_tf_f (fun q => q.2 c_9)) dX1_isFactor_17
    · skip
      refine lv_iconst (v := 1) hx hb dX1_isFactor_12 (by decide) ?_
      refine lv_goto (tgt := 17) hx hb dX1_isFactor_13 (by decide) ?_
      exact hu_retZ hx hb hr hlocks rfl (by first | exact hu_tf_t ⟨c_3, c_9⟩ | exact hu_tf_f (fun q => q.1 c_3) | exact hu_tf_f (fun q => q.2 c_9)) dX1_isFactor_17
set_option maxHeartbeats 4000000 in
set_option maxRecDepth 100000 in
theorem mX1_has (l : Launch) (dC : Nat → ClassId) (dI : Nat → Nat → Nat) (d : ClassId) (ad : Nat → Nat) (as : Nat → Int32) (bs : Nat → Int32) (cs : Nat → Int32) (li : Nat → Int32) (ld : Int32) (hu : Nat → Int32) (hs : Int32) (K : Nat) (hk8 : K ≤ 8) (x z : Int32) : hu_RO l dC dI d (hu_wM d ad (as, bs, cs, nI K, li, ld, hu, hs)) yX1_has cX1_has 4 (some .boolean) ({ frames := 0, cells := 0, slots := 0, locals := 0 }) [.ref (ad 0), .int x, .int z] (fun r => hu_tf r ((¬ x < 0 ∧ ¬ 40 < x ∧ ¬ z < 0 ∧ z ≤ 40) ∧ ∀ j, j < K → as j * x + bs j * z ≤ cs j)) := by
  refine hu_met (by decide) (Nat.le_of_ble_eq_true rfl) ?_
  intro p e s m below meth c ls C0 _ hB hl
  obtain ⟨hx, hb, hr, hml, hown, hts, hlocks⟩ := C0
  obtain ⟨hP, hK⟩ := hB
  have hl : lv_has ls 4 [(0, .ref (ad 0)), (1, .int x), (2, .int z)] := hl
  have loop : ∀ (n : Nat) (i : Nat), i ≤ K → K < i + n → (¬ x < 0 ∧ ¬ 40 < x ∧ ¬ z < 0 ∧ z ≤ 40) → (∀ j, j < i → as j * x + bs j * z ≤ cs j) → ∀ ls : Array Slot, lv_has ls 4 [(3, .int (nI i)), (0, .ref (ad 0)), (1, .int x), (2, .int z)] → W p l e ({ frames := 0, cells := 0, slots := 0, locals := 0 }) s m ([.ref (ad 0), .int x, .int z] : List Value).toArray below meth c s.heap [] 0 0 (MQ below (vp_Si (fun r => hu_tf r ((¬ x < 0 ∧ ¬ 40 < x ∧ ¬ z < 0 ∧ z ≤ 40) ∧ ∀ j, j < K → as j * x + bs j * z ≤ cs j))) ([.ref (ad 0), .int x, .int z] : List Value).toArray s 0 0 (fun _ => False)) (F0 m 24 ls []) := by
    intro n
    induction n with
    | zero =>
      intro i h1 h2
      exfalso
      omega
    | succ n ih =>
      intro i h1 h2 h3 h4 ls hl
      refine lv_iload_n hx hb dX1_has_24 rfl (lv_at hl 0 rfl) ?_
      refine lv_aload_n hx hb dX1_has_25 rfl (lv_at hl 1 rfl) ?_
      refine va_get (D := (dC, dI)) (ci := 1) (v := .int (nI K)) (C := RX1) (T := TX1) (N := 8) hx hb hts in_X1 hown hK hP 0 rfl rfl 3 (by decide) (hts _ q186) (fun _ h9 => h9) rfl dX1_has_26 ?_
      refine lv_icmp_ge (tgt := 66) hx hb dX1_has_29 (by decide) (fun c_29 => ?_) (fun c_29 => ?_)
      · skip
        have hi_29 : i = K := by have := (nI_leI (by omega) (by omega)).mp c_29; omega
        refine lv_iconst (v := 1) hx hb dX1_has_66 (by decide) ?_
        exact hu_retZ hx hb hr hlocks rfl (hu_tf_t ⟨h3, fun j hj => h4 j (by omega)⟩) dX1_has_67
      · skip
        have hi_29 : i < K := by have := mt (nI_leI (by omega) (by omega)).mpr c_29; omega
        refine lv_aload_n hx hb dX1_has_32 rfl (lv_at hl 1 rfl) ?_
        refine va_get (D := (dC, dI)) (ci := 1) (v := .ref (ad 1)) (C := RX1) (T := TX1) (N := 8) hx hb hts in_X1 hown hK hP 0 rfl rfl 0 (by decide) (hts _ q183) (fun _ h9 => h9) rfl dX1_has_33 ?_
        refine lv_iload_n hx hb dX1_has_36 rfl (lv_at hl 0 rfl) ?_
        refine hu_ald hx hb hK hP 1 0 rfl rfl i rfl (by omega) (by decide) dX1_has_37 ?_
        refine lv_iload_n hx hb dX1_has_38 rfl (lv_at hl 2 rfl) ?_
        refine lv_imul hx hb dX1_has_39 ?_
        refine lv_aload_n hx hb dX1_has_40 rfl (lv_at hl 1 rfl) ?_
        refine va_get (D := (dC, dI)) (ci := 1) (v := .ref (ad 2)) (C := RX1) (T := TX1) (N := 8) hx hb hts in_X1 hown hK hP 0 rfl rfl 1 (by decide) (hts _ q184) (fun _ h9 => h9) rfl dX1_has_41 ?_
        refine lv_iload_n hx hb dX1_has_44 rfl (lv_at hl 0 rfl) ?_
        refine hu_ald hx hb hK hP 2 0 rfl rfl i rfl (by omega) (by decide) dX1_has_45 ?_
        refine lv_iload_n hx hb dX1_has_46 rfl (lv_at hl 3 rfl) ?_
        refine lv_imul hx hb dX1_has_47 ?_
        refine lv_iadd hx hb dX1_has_48 ?_
        refine lv_aload_n hx hb dX1_has_49 rfl (lv_at hl 1 rfl) ?_
        refine va_get (D := (dC, dI)) (ci := 1) (v := .ref (ad 3)) (C := RX1) (T := TX1) (N := 8) hx hb hts in_X1 hown hK hP 0 rfl rfl 2 (by decide) (hts _ q185) (fun _ h9 => h9) rfl dX1_has_50 ?_
        refine lv_iload_n hx hb dX1_has_53 rfl (lv_at hl 0 rfl) ?_
        refine hu_ald hx hb hK hP 3 0 rfl rfl i rfl (by omega) (by decide) dX1_has_54 ?_
        refine lv_icmp_le (tgt := 60) hx hb dX1_has_55 (by decide) (fun c_55 => ?_) (fun c_55 => ?_)
        · skip
          refine lv_iinc (v := nI (i + 1)) (lv' := [(3, .int (nI (i + 1))), (0, .ref (ad 0)), (1, .int x), (2, .int z)]) hx hb dX1_has_60 hl (k := 0) rfl (nI_1 _) (by decide) rfl (fun ls hl => ?_)
          refine lv_goto (tgt := 24) hx hb dX1_has_63 (by decide) ?_
          exact ih (i + 1) (by omega) (by omega) h3 (lt_s h4 c_55) ls (lv_sub hl [0, 1, 2, 3] rfl)
        · skip
          refine lv_iconst (v := 0) hx hb dX1_has_58 (by decide) ?_
          exact hu_retZ hx hb hr hlocks rfl (hu_tf_f (fun q => c_55 (q.2 i hi_29))) dX1_has_59
  refine lv_iload_n hx hb dX1_has_0 rfl (lv_at hl 1 rfl) ?_
  refine lv_if_lt (tgt := 20) hx hb dX1_has_1 (by decide) (fun c_1 => ?_) (fun c_1 => ?_)
  · skip
    refine lv_iconst (v := 0) hx hb dX1_has_20 (by decide) ?_
    exact hu_retZ hx hb hr hlocks rfl (hu_tf_f (fun q => by first | exact q.1.1 c_1 | exact q.1.2.1 c_7 | exact q.1.2.2.1 c_11 | exact c_17 q.1.2.2.2)) dX1_has_21
  · skip
    refine lv_iload_n hx hb dX1_has_4 rfl (lv_at hl 1 rfl) ?_
    refine lv_bipush (v := 40) hx hb dX1_has_5 (by decide) ?_
    refine lv_icmp_gt (tgt := 20) hx hb dX1_has_7 (by decide) (fun c_7 => ?_) (fun c_7 => ?_)
    · skip
      refine lv_iconst (v := 0) hx hb dX1_has_20 (by decide) ?_
      exact hu_retZ hx hb hr hlocks rfl (hu_tf_f (fun q => by first | exact q.1.1 c_1 | exact q.1.2.1 c_7 | exact q.1.2.2.1 c_11 | exact c_17 q.1.2.2.2)) dX1_has_21
    · skip
      refine lv_iload_n hx hb dX1_has_10 rfl (lv_at hl 2 rfl) ?_
      refine lv_if_lt (tgt := 20) hx hb dX1_has_11 (by decide) (fun c_11 => ?_) (fun c_11 => ?_)
      · skip
        refine lv_iconst (v := 0) hx hb dX1_has_20 (by decide) ?_
        exact hu_retZ hx hb hr hlocks rfl (hu_tf_f (fun q => by first | exact q.1.1 c_1 | exact q.1.2.1 c_7 | exact q.1.2.2.1 c_11 | exact c_17 q.1.2.2.2)) dX1_has_21
      · skip
        refine lv_iload_n hx hb dX1_has_14 rfl (lv_at hl 2 rfl) ?_
        refine lv_bipush (v := 40) hx hb dX1_has_15 (by decide) ?_
        refine lv_icmp_le (tgt := 22) hx hb dX1_has_17 (by decide) (fun c_17 => ?_) (fun c_17 => ?_)
        · skip
          refine lv_iconst (v := 0) hx hb dX1_has_22 (by decide) ?_
          refine lv_istore_n (lv' := [(3, .int 0), (0, .ref (ad 0)), (1, .int x), (2, .int z)]) hx hb dX1_has_23 rfl hl (by decide) rfl (fun ls hl => ?_)
          exact loop (K + 1) 0 (by omega) (by omega) ⟨c_1, c_7, c_11, c_17⟩ lt_0 ls (lv_sub hl [0, 1, 2, 3] rfl)
        · skip
          refine lv_iconst (v := 0) hx hb dX1_has_20 (by decide) ?_
          exact hu_retZ hx hb hr hlocks rfl (hu_tf_f (fun q => by first | exact q.1.1 c_1 | exact q.1.2.1 c_7 | exact q.1.2.2.1 c_11 | exact c_17 q.1.2.2.2)) dX1_has_21
end
section
/-! contracts that only read (written by gen/m1.py) -/
set_option maxHeartbeats 4000000 in
set_option maxRecDepth 100000 in
theorem mX1_next (l : Launch) (dC : Nat → ClassId) (dI : Nat → Nat → Nat) (d : ClassId) (ad : Nat → Nat) (as : Nat → Int32) (bs : Nat → Int32) (cs : Nat → Int32) (k : Int32) (li : Nat → Int32) (hu : Nat → Int32) (hs : Int32) (N : Nat) (hN : N ≤ 1681) (a : Int32) : hu_RO l dC dI d (hu_wM d ad (as, bs, cs, k, li, nI N, hu, hs)) yX1_next cX1_next 6 (some .int) ({ frames := 2, cells := 0, slots := 0, locals := 45 }) [.ref (ad 0), .int a] (fun r => r = hu_nR li a N) := by
  refine hu_met (by decide) (Nat.le_of_ble_eq_true rfl) ?_
  intro p e s m below meth c ls C0 _ hB hl
  obtain ⟨hx, hb, hr, hml, hown, hts, hlocks⟩ := C0
  obtain ⟨hP, hK⟩ := hB
  have hl : lv_has ls 6 [(0, .ref (ad 0)), (1, .int a)] := hl
  have loop : ∀ (n : Nat) (i : Nat) (b : Int32), i ≤ N → N < i + n → b = hu_nR li a i → ∀ ls : Array Slot, lv_has ls 6 [(3, .int (nI i)), (2, .int b), (0, .ref (ad 0)), (1, .int a)] → W p l e ({ frames := 2, cells := 0, slots := 0, locals := 45 }) s m ([.ref (ad 0), .int a] : List Value).toArray below meth c s.heap [] 0 0 (MQ below (vp_Si (fun r => r = hu_nR li a N)) ([.ref (ad 0), .int a] : List Value).toArray s 0 0 (fun _ => False)) (F0 m 4 ls []) := by
    intro n
    induction n with
    | zero =>
      intro i b h1 h2
      exfalso
      omega
    | succ n ih =>
      intro i b h1 h2 h3 ls hl
      refine lv_iload_n hx hb dX1_next_4 rfl (lv_at hl 0 rfl) ?_
      refine lv_aload_n hx hb dX1_next_5 rfl (lv_at hl 2 rfl) ?_
      refine va_get (D := (dC, dI)) (ci := 1) (v := .int (nI N)) (C := RX1) (T := TX1) (N := 8) hx hb hts in_X1 hown hK hP 0 rfl rfl 5 (by decide) (hts _ q188) (fun _ h9 => h9) rfl dX1_next_6 ?_
      refine lv_icmp_ge (tgt := 70) hx hb dX1_next_9 (by decide) (fun c_9 => ?_) (fun c_9 => ?_)
      · skip
        have hi_9 : i = N := by have := (nI_leI (by omega) (by omega)).mp c_9; omega
        refine lv_iload_n hx hb dX1_next_70 rfl (lv_at hl 1 rfl) ?_
        exact hu_retI hx hb hr hlocks (by rw [h3, hi_9]) dX1_next_71
      · skip
        have hi_9 : i < N := by have := mt (nI_leI (by omega) (by omega)).mpr c_9; omega
        refine lv_aload_n hx hb dX1_next_12 rfl (lv_at hl 2 rfl) ?_
        refine va_get (D := (dC, dI)) (ci := 1) (v := .ref (ad 4)) (C := RX1) (T := TX1) (N := 8) hx hb hts in_X1 hown hK hP 0 rfl rfl 4 (by decide) (hts _ q187) (fun _ h9 => h9) rfl dX1_next_13 ?_
        refine lv_iload_n hx hb dX1_next_16 rfl (lv_at hl 0 rfl) ?_
        refine hu_ald hx hb hK hP 4 0 rfl rfl i rfl (by omega) (by decide) dX1_next_17 ?_
        refine lv_istore (lv' := [(4, .int (li i)), (3, .int (nI i)), (2, .int b), (0, .ref (ad 0)), (1, .int a)]) hx hb dX1_next_18 hl (by decide) rfl (fun ls hl => ?_)
        refine lv_aload_n hx hb dX1_next_20 rfl (lv_at hl 3 rfl) ?_
        refine lv_iload_n hx hb dX1_next_21 rfl (lv_at hl 4 rfl) ?_
        refine lv_iload_n hx hb dX1_next_22 rfl (lv_at hl 2 rfl) ?_
        refine lv_iload hx hb dX1_next_23 (lv_at hl 0 rfl) ?_
        refine hu_callR 3 (As := [.int a, .int b, .int (li i)]) (rest := []) ⟨hx, hb, hml, hown, hts⟩ (mX1_turn l dC dI d ad as bs cs k li (nI N) hu hs a b (li i)) (lw_V q167 q169 qs9 q18 q170) (by decide +kernel) rfl ⟨Nat.le_of_ble_eq_true rfl, Nat.le_of_ble_eq_true rfl⟩ ⟨rfl, rfl⟩ hK hP (va_recv hK hP (ci := 1) (q0 := 0) rfl rfl) hl.1 rfl (Nat.le_of_ble_eq_true rfl) ⟨Nat.zero_le _, Nat.zero_le _⟩ dX1_next_25 (fun r_25 w_25 => ?_)
        refine lv_istore (lv' := [(5, .int r_25), (4, .int (li i)), (3, .int (nI i)), (2, .int b), (0, .ref (ad 0)), (1, .int a)]) hx hb dX1_next_28 hl (by decide) rfl (fun ls hl => ?_)
        refine lv_iload_n hx hb dX1_next_30 rfl (lv_at hl 3 rfl) ?_
        refine lv_iload_n hx hb dX1_next_31 rfl (lv_at hl 5 rfl) ?_
        refine lv_icmp_eq (tgt := 61) hx hb dX1_next_32 (by decide) (fun c_32 => ?_) (fun c_32 => ?_)
        · skip
          refine lv_iload hx hb dX1_next_61 (lv_at hl 1 rfl) ?_
          refine lv_istore_n (lv' := [(2, .int (li i)), (5, .int r_25), (4, .int (li i)), (3, .int (nI i)), (0, .ref (ad 0)), (1, .int a)]) hx hb dX1_next_63 rfl hl (by decide) rfl (fun ls hl => ?_)
          refine lv_iinc (v := nI (i + 1)) (lv' := [(3, .int (nI (i + 1))), (2, .int (li i)), (5, .int r_25), (4, .int (li i)), (0, .ref (ad 0)), (1, .int a)]) hx hb dX1_next_64 hl (k := 3) rfl (nI_1 _) (by decide) rfl (fun ls hl => ?_)
          refine lv_goto (tgt := 4) hx hb dX1_next_67 (by decide) ?_
          exact ih (i + 1) (li i) (by omega) (by omega) (hu_nR_y h3 (by first | exact Or.inl c_32 | exact Or.inr (Or.inl (by rw [← w_25]; exact c_37)) | exact Or.inr (Or.inr ⟨by rw [← w_25]; exact c_42, by rw [← w_49, ← w_55]; exact Int32.not_le.mp c_58⟩))) ls (lv_sub hl [0, 1, 4, 5] rfl)
        · skip
          refine lv_iload hx hb dX1_next_35 (lv_at hl 0 rfl) ?_
          refine lv_if_lt (tgt := 61) hx hb dX1_next_37 (by decide) (fun c_37 => ?_) (fun c_37 => ?_)
          · skip
            refine lv_iload hx hb dX1_next_61 (lv_at hl 1 rfl) ?_
            refine lv_istore_n (lv' := [(2, .int (li i)), (5, .int r_25), (4, .int (li i)), (3, .int (nI i)), (0, .ref (ad 0)), (1, .int a)]) hx hb dX1_next_63 rfl hl (by decide) rfl (fun ls hl => ?_)
            refine lv_iinc (v := nI (i + 1)) (lv' := [(3, .int (nI (i + 1))), (2, .int (li i)), (5, .int r_25), (4, .int (li i)), (0, .ref (ad 0)), (1, .int a)]) hx hb dX1_next_64 hl (k := 3) rfl (nI_1 _) (by decide) rfl (fun ls hl => ?_)
            refine lv_goto (tgt := 4) hx hb dX1_next_67 (by decide) ?_
            exact ih (i + 1) (li i) (by omega) (by omega) (hu_nR_y h3 (by first | exact Or.inl c_32 | exact Or.inr (Or.inl (by rw [← w_25]; exact c_37)) | exact Or.inr (Or.inr ⟨by rw [← w_25]; exact c_42, by rw [← w_49, ← w_55]; exact Int32.not_le.mp c_58⟩))) ls (lv_sub hl [0, 1, 4, 5] rfl)
          · skip
            refine lv_iload hx hb dX1_next_40 (lv_at hl 0 rfl) ?_
            refine lv_if_ne (tgt := 64) hx hb dX1_next_42 (by decide) (fun c_42 => ?_) (fun c_42 => ?_)
            · skip
              refine lv_iinc (v := nI (i + 1)) (lv' := [(3, .int (nI (i + 1))), (5, .int r_25), (4, .int (li i)), (2, .int b), (0, .ref (ad 0)), (1, .int a)]) hx hb dX1_next_64 hl (k := 2) rfl (nI_1 _) (by decide) rfl (fun ls hl => ?_)
              refine lv_goto (tgt := 4) hx hb dX1_next_67 (by decide) ?_
              exact ih (i + 1) b (by omega) (by omega) (hu_nR_n h3 (fun q => q.elim c_32 (fun q => q.elim (fun q => c_37 (by rw [w_25]; exact q)) (fun q => by first | exact c_42 (by rw [w_25]; exact q.1) | exact Int32.not_lt.mpr c_58 (by rw [w_49, w_55]; exact q.2))))) ls (lv_sub hl [0, 3, 4, 5] rfl)
            · skip
              refine lv_aload_n hx hb dX1_next_45 rfl (lv_at hl 4 rfl) ?_
              refine lv_iload_n hx hb dX1_next_46 rfl (lv_at hl 5 rfl) ?_
              refine lv_iload hx hb dX1_next_47 (lv_at hl 1 rfl) ?_
              refine hu_callR 2 (As := [.int a, .int (li i)]) (rest := []) ⟨hx, hb, hml, hown, hts⟩ (mX1_distance l dC dI d ad as bs cs k li (nI N) hu hs a (li i)) (lw_V q179 q181 qs12 q18 q182) (by decide +kernel) rfl ⟨Nat.le_of_ble_eq_true rfl, Nat.le_of_ble_eq_true rfl⟩ ⟨rfl, rfl⟩ hK hP (va_recv hK hP (ci := 1) (q0 := 0) rfl rfl) hl.1 rfl (Nat.le_of_ble_eq_true rfl) ⟨Nat.zero_le _, Nat.zero_le _⟩ dX1_next_49 (fun r_49 w_49 => ?_)
              refine lv_aload_n hx hb dX1_next_52 rfl (lv_at hl 4 rfl) ?_
              refine lv_iload_n hx hb dX1_next_53 rfl (lv_at hl 5 rfl) ?_
              refine lv_iload_n hx hb dX1_next_54 rfl (lv_at hl 3 rfl) ?_
              refine hu_callR 2 (As := [.int a, .int b]) (rest := [.int r_49]) ⟨hx, hb, hml, hown, hts⟩ (mX1_distance l dC dI d ad as bs cs k li (nI N) hu hs a b) (lw_V q179 q181 qs12 q18 q182) (by decide +kernel) rfl ⟨Nat.le_of_ble_eq_true rfl, Nat.le_of_ble_eq_true rfl⟩ ⟨rfl, rfl⟩ hK hP (va_recv hK hP (ci := 1) (q0 := 0) rfl rfl) hl.1 rfl (Nat.le_of_ble_eq_true rfl) ⟨Nat.zero_le _, Nat.zero_le _⟩ dX1_next_55 (fun r_55 w_55 => ?_)
              refine lv_icmp_le (tgt := 64) hx hb dX1_next_58 (by decide) (fun c_58 => ?_) (fun c_58 => ?_)
              · skip
                refine lv_iinc (v := nI (i + 1)) (lv' := [(3, .int (nI (i + 1))), (5, .int r_25), (4, .int (li i)), (2, .int b), (0, .ref (ad 0)), (1, .int a)]) hx hb dX1_next_64 hl (k := 2) rfl (nI_1 _) (by decide) rfl (fun ls hl => ?_)
                refine lv_goto (tgt := 4) hx hb dX1_next_67 (by decide) ?_
                exact ih (i + 1) b (by omega) (by omega) (hu_nR_n h3 (fun q => q.elim c_32 (fun q => q.elim (fun q => c_37 (by rw [w_25]; exact q)) (fun q => by first | exact c_42 (by rw [w_25]; exact q.1) | exact Int32.not_lt.mpr c_58 (by rw [w_49, w_55]; exact q.2))))) ls (lv_sub hl [0, 3, 4, 5] rfl)
              · skip
                refine lv_iload hx hb dX1_next_61 (lv_at hl 1 rfl) ?_
                refine lv_istore_n (lv' := [(2, .int (li i)), (5, .int r_25), (4, .int (li i)), (3, .int (nI i)), (0, .ref (ad 0)), (1, .int a)]) hx hb dX1_next_63 rfl hl (by decide) rfl (fun ls hl => ?_)
                refine lv_iinc (v := nI (i + 1)) (lv' := [(3, .int (nI (i + 1))), (2, .int (li i)), (5, .int r_25), (4, .int (li i)), (0, .ref (ad 0)), (1, .int a)]) hx hb dX1_next_64 hl (k := 3) rfl (nI_1 _) (by decide) rfl (fun ls hl => ?_)
                refine lv_goto (tgt := 4) hx hb dX1_next_67 (by decide) ?_
                exact ih (i + 1) (li i) (by omega) (by omega) (hu_nR_y h3 (by first | exact Or.inl c_32 | exact Or.inr (Or.inl (by rw [← w_25]; exact c_37)) | exact Or.inr (Or.inr ⟨by rw [← w_25]; exact c_42, by rw [← w_49, ← w_55]; exact Int32.not_le.mp c_58⟩))) ls (lv_sub hl [0, 1, 4, 5] rfl)
  refine lv_iload_n hx hb dX1_next_0 rfl (lv_at hl 1 rfl) ?_
  refine lv_istore_n (lv' := [(2, .int a), (0, .ref (ad 0)), (1, .int a)]) hx hb dX1_next_1 rfl hl (by decide) rfl (fun ls hl => ?_)
  refine lv_iconst (v := 0) hx hb dX1_next_2 (by decide) ?_
  refine lv_istore_n (lv' := [(3, .int 0), (2, .int a), (0, .ref (ad 0)), (1, .int a)]) hx hb dX1_next_3 rfl hl (by decide) rfl (fun ls hl => ?_)
  exact loop (N + 1) 0 a (by omega) (by omega) rfl ls (lv_sub hl [0, 1, 2, 3] rfl)
set_option maxHeartbeats 4000000 in
set_option maxRecDepth 100000 in
theorem mX1_points (l : Launch) (dC : Nat → ClassId) (dI : Nat → Nat → Nat) (d : ClassId) (ad : Nat → Nat) (as : Nat → Int32) (bs : Nat → Int32) (cs : Nat → Int32) (k : Int32) (li : Nat → Int32) (ld : Int32) (hu : Nat → Int32) (hs : Int32) : hu_RO l dC dI d (hu_wM d ad (as, bs, cs, k, li, ld, hu, hs)) yX1_points cX1_points 1 (some .int) ({ frames := 0, cells := 0, slots := 0, locals := 0 }) [.ref (ad 0)] (fun r => r = ld) := by
  refine hu_met (by decide) (Nat.le_of_ble_eq_true rfl) ?_
  intro p e s m below meth c ls C0 _ hB hl
  obtain ⟨hx, hb, hr, hml, hown, hts, hlocks⟩ := C0
  obtain ⟨hP, hK⟩ := hB
  have hl : lv_has ls 1 [(0, .ref (ad 0))] := hl
  refine lv_aload_n hx hb dX1_points_0 rfl (lv_at hl 0 rfl) ?_
  refine va_get (D := (dC, dI)) (ci := 1) (v := .int ld) (C := RX1) (T := TX1) (N := 8) hx hb hts in_X1 hown hK hP 0 rfl rfl 5 (by decide) (hts _ q188) (fun _ h9 => h9) rfl dX1_points_1 ?_
  exact hu_retI hx hb hr hlocks rfl dX1_points_4
set_option maxHeartbeats 4000000 in
set_option maxRecDepth 100000 in
theorem mX1_corners (l : Launch) (dC : Nat → ClassId) (dI : Nat → Nat → Nat) (d : ClassId) (ad : Nat → Nat) (as : Nat → Int32) (bs : Nat → Int32) (cs : Nat → Int32) (k : Int32) (li : Nat → Int32) (ld : Int32) (hu : Nat → Int32) (hs : Int32) : hu_RO l dC dI d (hu_wM d ad (as, bs, cs, k, li, ld, hu, hs)) yX1_corners cX1_corners 1 (some .int) ({ frames := 0, cells := 0, slots := 0, locals := 0 }) [.ref (ad 0)] (fun r => r = hs) := by
  refine hu_met (by decide) (Nat.le_of_ble_eq_true rfl) ?_
  intro p e s m below meth c ls C0 _ hB hl
  obtain ⟨hx, hb, hr, hml, hown, hts, hlocks⟩ := C0
  obtain ⟨hP, hK⟩ := hB
  have hl : lv_has ls 1 [(0, .ref (ad 0))] := hl
  refine lv_aload_n hx hb dX1_corners_0 rfl (lv_at hl 0 rfl) ?_
  refine va_get (D := (dC, dI)) (ci := 1) (v := .int hs) (C := RX1) (T := TX1) (N := 8) hx hb hts in_X1 hown hK hP 0 rfl rfl 7 (by decide) (hts _ q190) (fun _ h9 => h9) rfl dX1_corners_1 ?_
  exact hu_retI hx hb hr hlocks rfl dX1_corners_4
set_option maxHeartbeats 4000000 in
set_option maxRecDepth 100000 in
theorem mX1_corner (l : Launch) (dC : Nat → ClassId) (dI : Nat → Nat → Nat) (d : ClassId) (ad : Nat → Nat) (as : Nat → Int32) (bs : Nat → Int32) (cs : Nat → Int32) (k : Int32) (li : Nat → Int32) (ld : Int32) (hu : Nat → Int32) (N : Nat) (hN : N ≤ 256) (x : Int32) : hu_RO l dC dI d (hu_wM d ad (as, bs, cs, k, li, ld, hu, nI N)) yX1_corner cX1_corner 2 (some .int) ({ frames := 0, cells := 0, slots := 0, locals := 0 }) [.ref (ad 0), .int x] (fun r => (∃ i, i < N ∧ x = nI i ∧ r = hu i) ∨ ((x < 0 ∨ nI N ≤ x) ∧ r = -3)) := by
  refine hu_met (by decide) (Nat.le_of_ble_eq_true rfl) ?_
  intro p e s m below meth c ls C0 _ hB hl
  obtain ⟨hx, hb, hr, hml, hown, hts, hlocks⟩ := C0
  obtain ⟨hP, hK⟩ := hB
  have hl : lv_has ls 2 [(0, .ref (ad 0)), (1, .int x)] := hl
  refine lv_iload_n hx hb dX1_corner_0 rfl (lv_at hl 1 rfl) ?_
  refine lv_if_lt (tgt := 21) hx hb dX1_corner_1 (by decide) (fun c_1 => ?_) (fun c_1 => ?_)
  · skip
    refine lv_bipush (v := (-3)) hx hb dX1_corner_21 (by decide) ?_
    exact hu_retI hx hb hr hlocks (by first | exact Or.inl ⟨i, hi1, hi2, rfl⟩ | exact Or.inr ⟨Or.inl c_1, rfl⟩ | exact Or.inr ⟨Or.inr c_9, rfl⟩) dX1_corner_23
  · skip
    refine lv_iload_n hx hb dX1_corner_4 rfl (lv_at hl 1 rfl) ?_
    refine lv_aload_n hx hb dX1_corner_5 rfl (lv_at hl 0 rfl) ?_
    refine va_get (D := (dC, dI)) (ci := 1) (v := .int (nI N)) (C := RX1) (T := TX1) (N := 8) hx hb hts in_X1 hown hK hP 0 rfl rfl 7 (by decide) (hts _ q190) (fun _ h9 => h9) rfl dX1_corner_6 ?_
    refine lv_icmp_ge (tgt := 21) hx hb dX1_corner_9 (by decide) (fun c_9 => ?_) (fun c_9 => ?_)
    · skip
      refine lv_bipush (v := (-3)) hx hb dX1_corner_21 (by decide) ?_
      exact hu_retI hx hb hr hlocks (by first | exact Or.inl ⟨i, hi1, hi2, rfl⟩ | exact Or.inr ⟨Or.inl c_1, rfl⟩ | exact Or.inr ⟨Or.inr c_9, rfl⟩) dX1_corner_23
    · skip
      obtain ⟨i, hi1, hi2⟩ : ∃ i, i < N ∧ x = nI i := by
        rcases pk_ix x (n := N) (by omega) with q | q | q
        · exact absurd q c_1
        · exact absurd q c_9
        · exact q
      refine lv_aload_n hx hb dX1_corner_12 rfl (lv_at hl 0 rfl) ?_
      refine va_get (D := (dC, dI)) (ci := 1) (v := .ref (ad 5)) (C := RX1) (T := TX1) (N := 8) hx hb hts in_X1 hown hK hP 0 rfl rfl 6 (by decide) (hts _ q189) (fun _ h9 => h9) rfl dX1_corner_13 ?_
      refine lv_iload_n hx hb dX1_corner_16 rfl (lv_at hl 1 rfl) ?_
      refine hu_ald hx hb hK hP 5 0 rfl rfl i hi2 (by omega) (by decide) dX1_corner_17 ?_
      refine lv_goto (tgt := 23) hx hb dX1_corner_18 (by decide) ?_
      exact hu_retI hx hb hr hlocks (by first | exact Or.inl ⟨i, hi1, hi2, rfl⟩ | exact Or.inr ⟨Or.inl c_1, rfl⟩ | exact Or.inr ⟨Or.inr c_9, rfl⟩) dX1_corner_23
set_option maxHeartbeats 4000000 in
set_option maxRecDepth 100000 in
theorem mX1_area2 (l : Launch) (dC : Nat → ClassId) (dI : Nat → Nat → Nat) (d : ClassId) (ad : Nat → Nat) (as : Nat → Int32) (bs : Nat → Int32) (cs : Nat → Int32) (k : Int32) (li : Nat → Int32) (ld : Int32) (hu : Nat → Int32) (N : Nat) (hN : N ≤ 256) : hu_RO l dC dI d (hu_wM d ad (as, bs, cs, k, li, ld, hu, nI N)) yX1_area2 cX1_area2 3 (some .int) ({ frames := 2, cells := 0, slots := 0, locals := 44 }) [.ref (ad 0)] (fun r => r = hu_an hu (N - 2)) := by
  refine hu_met (by decide) (Nat.le_of_ble_eq_true rfl) ?_
  intro p e s m below meth c ls C0 _ hB hl
  obtain ⟨hx, hb, hr, hml, hown, hts, hlocks⟩ := C0
  obtain ⟨hP, hK⟩ := hB
  have hl : lv_has ls 3 [(0, .ref (ad 0))] := hl
  have loop : ∀ (n : Nat) (i : Nat) (b : Int32), i ≤ 300 → 300 < i + n → b = hu_an hu i → (i ≤ N - 2) → ∀ ls : Array Slot, lv_has ls 3 [(2, .int (nI (i + 1))), (1, .int b), (0, .ref (ad 0))] → W p l e ({ frames := 2, cells := 0, slots := 0, locals := 44 }) s m ([.ref (ad 0)] : List Value).toArray below meth c s.heap [] 0 0 (MQ below (vp_Si (fun r => r = hu_an hu (N - 2))) ([.ref (ad 0)] : List Value).toArray s 0 0 (fun _ => False)) (F0 m 4 ls []) := by
    intro n
    induction n with
    | zero =>
      intro i b h1 h2
      exfalso
      omega
    | succ n ih =>
      intro i b h1 h2 h3 h4 ls hl
      refine lv_iload_n hx hb dX1_area2_4 rfl (lv_at hl 0 rfl) ?_
      refine lv_iconst (v := 1) hx hb dX1_area2_5 (by decide) ?_
      refine lv_iadd hx hb dX1_area2_6 ?_
      refine hu_top (z := nI (i + 2)) (nI_1 (i + 1)) ?_
      refine lv_aload_n hx hb dX1_area2_7 rfl (lv_at hl 2 rfl) ?_
      refine va_get (D := (dC, dI)) (ci := 1) (v := .int (nI N)) (C := RX1) (T := TX1) (N := 8) hx hb hts in_X1 hown hK hP 0 rfl rfl 7 (by decide) (hts _ q190) (fun _ h9 => h9) rfl dX1_area2_8 ?_
      refine lv_icmp_ge (tgt := 47) hx hb dX1_area2_11 (by decide) (fun c_11 => ?_) (fun c_11 => ?_)
      · skip
        have hi_11 : N ≤ i + 2 := (nI_leI (by omega) (by omega)).mp c_11
        refine lv_iload_n hx hb dX1_area2_47 rfl (lv_at hl 1 rfl) ?_
        exact hu_retI hx hb hr hlocks (by rw [h3]; congr 1; omega) dX1_area2_48
      · skip
        have hi_11 : i + 2 < N := by have := mt (nI_leI (by omega) (by omega)).mpr c_11; omega
        refine lv_iload_n hx hb dX1_area2_14 rfl (lv_at hl 1 rfl) ?_
        refine lv_aload_n hx hb dX1_area2_15 rfl (lv_at hl 2 rfl) ?_
        refine lv_aload_n hx hb dX1_area2_16 rfl (lv_at hl 2 rfl) ?_
        refine va_get (D := (dC, dI)) (ci := 1) (v := .ref (ad 5)) (C := RX1) (T := TX1) (N := 8) hx hb hts in_X1 hown hK hP 0 rfl rfl 6 (by decide) (hts _ q189) (fun _ h9 => h9) rfl dX1_area2_17 ?_
        refine lv_iconst (v := 0) hx hb dX1_area2_20 (by decide) ?_
        refine hu_ald hx hb hK hP 5 0 rfl rfl 0 (by decide) (by omega) (by decide) dX1_area2_21 ?_
        refine lv_aload_n hx hb dX1_area2_22 rfl (lv_at hl 2 rfl) ?_
        refine va_get (D := (dC, dI)) (ci := 1) (v := .ref (ad 5)) (C := RX1) (T := TX1) (N := 8) hx hb hts in_X1 hown hK hP 0 rfl rfl 6 (by decide) (hts _ q189) (fun _ h9 => h9) rfl dX1_area2_23 ?_
        refine lv_iload_n hx hb dX1_area2_26 rfl (lv_at hl 0 rfl) ?_
        refine hu_ald hx hb hK hP 5 0 rfl rfl (i + 1) rfl (by omega) (by decide) dX1_area2_27 ?_
        refine lv_aload_n hx hb dX1_area2_28 rfl (lv_at hl 2 rfl) ?_
        refine va_get (D := (dC, dI)) (ci := 1) (v := .ref (ad 5)) (C := RX1) (T := TX1) (N := 8) hx hb hts in_X1 hown hK hP 0 rfl rfl 6 (by decide) (hts _ q189) (fun _ h9 => h9) rfl dX1_area2_29 ?_
        refine lv_iload_n hx hb dX1_area2_32 rfl (lv_at hl 0 rfl) ?_
        refine lv_iconst (v := 1) hx hb dX1_area2_33 (by decide) ?_
        refine lv_iadd hx hb dX1_area2_34 ?_
        refine hu_top (z := nI (i + 2)) (nI_1 (i + 1)) ?_
        refine hu_ald hx hb hK hP 5 0 rfl rfl (i + 2) rfl (by omega) (by decide) dX1_area2_35 ?_
        refine hu_callR 3 (As := [.int (hu 0), .int (hu (i + 1)), .int (hu (i + 2))]) (rest := [.int b]) ⟨hx, hb, hml, hown, hts⟩ (mX1_turn l dC dI d ad as bs cs k li ld hu (nI N) (hu 0) (hu (i + 1)) (hu (i + 2))) (lw_V q167 q169 qs9 q18 q170) (by decide +kernel) rfl ⟨Nat.le_of_ble_eq_true rfl, Nat.le_of_ble_eq_true rfl⟩ ⟨rfl, rfl⟩ hK hP (va_recv hK hP (ci := 1) (q0 := 0) rfl rfl) hl.1 rfl (Nat.le_of_ble_eq_true rfl) ⟨Nat.zero_le _, Nat.zero_le _⟩ dX1_area2_36 (fun r_36 w_36 => ?_)
        refine hu_top (z := hu_tR (hu 0) (hu (i + 1)) (hu (i + 2))) w_36 ?_
        refine lv_iadd hx hb dX1_area2_39 ?_
        refine lv_istore_n (lv' := [(1, .int (b + (hu_tR (hu 0) (hu (i + 1)) (hu (i + 2))))), (2, .int (nI (i + 1))), (0, .ref (ad 0))]) hx hb dX1_area2_40 rfl hl (by decide) rfl (fun ls hl => ?_)
        refine lv_iinc (v := nI ((i + 1) + 1)) (lv' := [(2, .int (nI ((i + 1) + 1))), (1, .int (b + (hu_tR (hu 0) (hu (i + 1)) (hu (i + 2))))), (0, .ref (ad 0))]) hx hb dX1_area2_41 hl (k := 1) rfl (nI_1 _) (by decide) rfl (fun ls hl => ?_)
        refine lv_goto (tgt := 4) hx hb dX1_area2_44 (by decide) ?_
        exact ih (i + 1) _ (by omega) (by omega) (by rw [h3]; rfl) (by omega) ls (lv_sub hl [0, 1, 2] rfl)
  refine lv_iconst (v := 0) hx hb dX1_area2_0 (by decide) ?_
  refine lv_istore_n (lv' := [(1, .int 0), (0, .ref (ad 0))]) hx hb dX1_area2_1 rfl hl (by decide) rfl (fun ls hl => ?_)
  refine lv_iconst (v := 1) hx hb dX1_area2_2 (by decide) ?_
  refine lv_istore_n (lv' := [(2, .int 1), (1, .int 0), (0, .ref (ad 0))]) hx hb dX1_area2_3 rfl hl (by decide) rfl (fun ls hl => ?_)
  exact loop 301 0 0 (by omega) (by omega) rfl (by omega) ls (lv_sub hl [0, 1, 2] rfl)
set_option maxHeartbeats 4000000 in
set_option maxRecDepth 100000 in
theorem mX1_onBorder (l : Launch) (dC : Nat → ClassId) (dI : Nat → Nat → Nat) (d : ClassId) (ad : Nat → Nat) (as : Nat → Int32) (bs : Nat → Int32) (cs : Nat → Int32) (k : Int32) (li : Nat → Int32) (ld : Int32) (hu : Nat → Int32) (N : Nat) (hN : N ≤ 256) (z : Int32) : hu_RO l dC dI d (hu_wM d ad (as, bs, cs, k, li, ld, hu, nI N)) yX1_onBorder cX1_onBorder 4 (some .boolean) ({ frames := 2, cells := 0, slots := 0, locals := 44 }) [.ref (ad 0), .int z] (fun r => hu_tf r (hu_oB hu N z)) := by
  refine hu_met (by decide) (Nat.le_of_ble_eq_true rfl) ?_
  intro p e s m below meth c ls C0 _ hB hl
  obtain ⟨hx, hb, hr, hml, hown, hts, hlocks⟩ := C0
  obtain ⟨hP, hK⟩ := hB
  have hl : lv_has ls 4 [(0, .ref (ad 0)), (1, .int z)] := hl
  have loop : ∀ (n : Nat) (i : Nat), i ≤ N → N < i + n → (∀ j, j < i → ¬ hu_tR (hu j) (hu (hu_nx N j)) z = 0) → ∀ ls : Array Slot, lv_has ls 4 [(2, .int (nI i)), (0, .ref (ad 0)), (1, .int z)] → W p l e ({ frames := 2, cells := 0, slots := 0, locals := 44 }) s m ([.ref (ad 0), .int z] : List Value).toArray below meth c s.heap [] 0 0 (MQ below (vp_Si (fun r => hu_tf r (hu_oB hu N z))) ([.ref (ad 0), .int z] : List Value).toArray s 0 0 (fun _ => False)) (F0 m 2 ls []) := by
    intro n
    induction n with
    | zero =>
      intro i h1 h2
      exfalso
      omega
    | succ n ih =>
      intro i h1 h2 h3 ls hl
      refine lv_iload_n hx hb dX1_onBorder_2 rfl (lv_at hl 0 rfl) ?_
      refine lv_aload_n hx hb dX1_onBorder_3 rfl (lv_at hl 1 rfl) ?_
      refine va_get (D := (dC, dI)) (ci := 1) (v := .int (nI N)) (C := RX1) (T := TX1) (N := 8) hx hb hts in_X1 hown hK hP 0 rfl rfl 7 (by decide) (hts _ q190) (fun _ h9 => h9) rfl dX1_onBorder_4 ?_
      refine lv_icmp_ge (tgt := 61) hx hb dX1_onBorder_7 (by decide) (fun c_7 => ?_) (fun c_7 => ?_)
      · skip
        have hi_7 : i = N := by have := (nI_leI (by omega) (by omega)).mp c_7; omega
        refine lv_iconst (v := 0) hx hb dX1_onBorder_61 (by decide) ?_
        exact hu_retZ hx hb hr hlocks rfl (hu_tf_f (fun ⟨j, hj, e⟩ => h3 j (by omega) e)) dX1_onBorder_62
      · skip
        have hi_7 : i < N := by have := mt (nI_leI (by omega) (by omega)).mpr c_7; omega
        refine lv_iload_n hx hb dX1_onBorder_10 rfl (lv_at hl 0 rfl) ?_
        refine lv_iconst (v := 1) hx hb dX1_onBorder_11 (by decide) ?_
        refine lv_iadd hx hb dX1_onBorder_12 ?_
        refine hu_top (z := nI (i + 1)) (nI_1 i) ?_
        refine lv_aload_n hx hb dX1_onBorder_13 rfl (lv_at hl 1 rfl) ?_
        refine va_get (D := (dC, dI)) (ci := 1) (v := .int (nI N)) (C := RX1) (T := TX1) (N := 8) hx hb hts in_X1 hown hK hP 0 rfl rfl 7 (by decide) (hts _ q190) (fun _ h9 => h9) rfl dX1_onBorder_14 ?_
        refine lv_icmp_ge (tgt := 31) hx hb dX1_onBorder_17 (by decide) (fun c_17 => ?_) (fun c_17 => ?_)
        · skip
          have hi_17 : ¬ i + 1 < N := by have := (nI_leI (by omega) (by omega)).mp c_17; omega
          refine lv_aload_n hx hb dX1_onBorder_31 rfl (lv_at hl 1 rfl) ?_
          refine va_get (D := (dC, dI)) (ci := 1) (v := .ref (ad 5)) (C := RX1) (T := TX1) (N := 8) hx hb hts in_X1 hown hK hP 0 rfl rfl 6 (by decide) (hts _ q189) (fun _ h9 => h9) rfl dX1_onBorder_32 ?_
          refine lv_iconst (v := 0) hx hb dX1_onBorder_35 (by decide) ?_
          refine hu_ald hx hb hK hP 5 0 rfl rfl 0 (by decide) (by omega) (by decide) dX1_onBorder_36 ?_
          refine hu_top (z := hu (hu_nx N i)) (by rw [hu_nx_n hi_17]) ?_
          refine lv_istore_n (lv' := [(3, .int (hu (hu_nx N i))), (2, .int (nI i)), (0, .ref (ad 0)), (1, .int z)]) hx hb dX1_onBorder_37 rfl hl (by decide) rfl (fun ls hl => ?_)
          refine lv_aload_n hx hb dX1_onBorder_38 rfl (lv_at hl 2 rfl) ?_
          refine lv_aload_n hx hb dX1_onBorder_39 rfl (lv_at hl 2 rfl) ?_
          refine va_get (D := (dC, dI)) (ci := 1) (v := .ref (ad 5)) (C := RX1) (T := TX1) (N := 8) hx hb hts in_X1 hown hK hP 0 rfl rfl 6 (by decide) (hts _ q189) (fun _ h9 => h9) rfl dX1_onBorder_40 ?_
          refine lv_iload_n hx hb dX1_onBorder_43 rfl (lv_at hl 1 rfl) ?_
          refine hu_ald hx hb hK hP 5 0 rfl rfl i rfl (by omega) (by decide) dX1_onBorder_44 ?_
          refine lv_iload_n hx hb dX1_onBorder_45 rfl (lv_at hl 0 rfl) ?_
          refine lv_iload_n hx hb dX1_onBorder_46 rfl (lv_at hl 3 rfl) ?_
          refine hu_callR 3 (As := [.int (hu i), .int (hu (hu_nx N i)), .int z]) (rest := []) ⟨hx, hb, hml, hown, hts⟩ (mX1_turn l dC dI d ad as bs cs k li ld hu (nI N) (hu i) (hu (hu_nx N i)) z) (lw_V q167 q169 qs9 q18 q170) (by decide +kernel) rfl ⟨Nat.le_of_ble_eq_true rfl, Nat.le_of_ble_eq_true rfl⟩ ⟨rfl, rfl⟩ hK hP (va_recv hK hP (ci := 1) (q0 := 0) rfl rfl) hl.1 rfl (Nat.le_of_ble_eq_true rfl) ⟨Nat.zero_le _, Nat.zero_le _⟩ dX1_onBorder_47 (fun r_47 w_47 => ?_)
          refine lv_if_ne (tgt := 55) hx hb dX1_onBorder_50 (by decide) (fun c_50 => ?_) (fun c_50 => ?_)
          · skip
            refine lv_iinc (v := nI (i + 1)) (lv' := [(2, .int (nI (i + 1))), (3, .int (hu (hu_nx N i))), (0, .ref (ad 0)), (1, .int z)]) hx hb dX1_onBorder_55 hl (k := 1) rfl (nI_1 _) (by decide) rfl (fun ls hl => ?_)
            refine lv_goto (tgt := 2) hx hb dX1_onBorder_58 (by decide) ?_
            exact ih (i + 1) (by omega) (by omega) (lt_s h3 (by rw [← w_47]; exact c_50)) ls (lv_sub hl [0, 2, 3] rfl)
          · skip
            refine lv_iconst (v := 1) hx hb dX1_onBorder_53 (by decide) ?_
            exact hu_retZ hx hb hr hlocks rfl (hu_tf_t ⟨i, hi_7, by rw [← w_47]; exact c_50⟩) dX1_onBorder_54
        · skip
          have hi_17 : i + 1 < N := by have := mt (nI_leI (by omega) (by omega)).mpr c_17; omega
          refine lv_aload_n hx hb dX1_onBorder_20 rfl (lv_at hl 1 rfl) ?_
          refine va_get (D := (dC, dI)) (ci := 1) (v := .ref (ad 5)) (C := RX1) (T := TX1) (N := 8) hx hb hts in_X1 hown hK hP 0 rfl rfl 6 (by decide) (hts _ q189) (fun _ h9 => h9) rfl dX1_onBorder_21 ?_
          refine lv_iload_n hx hb dX1_onBorder_24 rfl (lv_at hl 0 rfl) ?_
          refine lv_iconst (v := 1) hx hb dX1_onBorder_25 (by decide) ?_
          refine lv_iadd hx hb dX1_onBorder_26 ?_
          refine hu_top (z := nI (i + 1)) (nI_1 i) ?_
          refine hu_ald hx hb hK hP 5 0 rfl rfl (i + 1) rfl (by omega) (by decide) dX1_onBorder_27 ?_
          refine lv_goto (tgt := 37) hx hb dX1_onBorder_28 (by decide) ?_
          refine hu_top (z := hu (hu_nx N i)) (by rw [hu_nx_y hi_17]) ?_
          refine lv_istore_n (lv' := [(3, .int (hu (hu_nx N i))), (2, .int (nI i)), (0, .ref (ad 0)), (1, .int z)]) hx hb dX1_onBorder_37 rfl hl (by decide) rfl (fun ls hl => ?_)
          refine lv_aload_n hx hb dX1_onBorder_38 rfl (lv_at hl 2 rfl) ?_
          refine lv_aload_n hx hb dX1_onBorder_39 rfl (lv_at hl 2 rfl) ?_
          refine va_get (D := (dC, dI)) (ci := 1) (v := .ref (ad 5)) (C := RX1) (T := TX1) (N := 8) hx hb hts in_X1 hown hK hP 0 rfl rfl 6 (by decide) (hts _ q189) (fun _ h9 => h9) rfl dX1_onBorder_40 ?_
          refine lv_iload_n hx hb dX1_onBorder_43 rfl (lv_at hl 1 rfl) ?_
          refine hu_ald hx hb hK hP 5 0 rfl rfl i rfl (by omega) (by decide) dX1_onBorder_44 ?_
          refine lv_iload_n hx hb dX1_onBorder_45 rfl (lv_at hl 0 rfl) ?_
          refine lv_iload_n hx hb dX1_onBorder_46 rfl (lv_at hl 3 rfl) ?_
          refine hu_callR 3 (As := [.int (hu i), .int (hu (hu_nx N i)), .int z]) (rest := []) ⟨hx, hb, hml, hown, hts⟩ (mX1_turn l dC dI d ad as bs cs k li ld hu (nI N) (hu i) (hu (hu_nx N i)) z) (lw_V q167 q169 qs9 q18 q170) (by decide +kernel) rfl ⟨Nat.le_of_ble_eq_true rfl, Nat.le_of_ble_eq_true rfl⟩ ⟨rfl, rfl⟩ hK hP (va_recv hK hP (ci := 1) (q0 := 0) rfl rfl) hl.1 rfl (Nat.le_of_ble_eq_true rfl) ⟨Nat.zero_le _, Nat.zero_le _⟩ dX1_onBorder_47 (fun r_47 w_47 => ?_)
          refine lv_if_ne (tgt := 55) hx hb dX1_onBorder_50 (by decide) (fun c_50 => ?_) (fun c_50 => ?_)
          · skip
            refine lv_iinc (v := nI (i + 1)) (lv' := [(2, .int (nI (i + 1))), (3, .int (hu (hu_nx N i))), (0, .ref (ad 0)), (1, .int z)]) hx hb dX1_onBorder_55 hl (k := 1) rfl (nI_1 _) (by decide) rfl (fun ls hl => ?_)
            refine lv_goto (tgt := 2) hx hb dX1_onBorder_58 (by decide) ?_
            exact ih (i + 1) (by omega) (by omega) (lt_s h3 (by rw [← w_47]; exact c_50)) ls (lv_sub hl [0, 2, 3] rfl)
          · skip
            refine lv_iconst (v := 1) hx hb dX1_onBorder_53 (by decide) ?_
            exact hu_retZ hx hb hr hlocks rfl (hu_tf_t ⟨i, hi_7, by rw [← w_47]; exact c_50⟩) dX1_onBorder_54
  refine lv_iconst (v := 0) hx hb dX1_onBorder_0 (by decide) ?_
  refine lv_istore_n (lv' := [(2, .int 0), (0, .ref (ad 0)), (1, .int z)]) hx hb dX1_onBorder_1 rfl hl (by decide) rfl (fun ls hl => ?_)
  exact loop (N + 1) 0 (by omega) (by omega) lt_0 ls (lv_sub hl [0, 1, 2] rfl)
set_option maxHeartbeats 4000000 in
set_option maxRecDepth 100000 in
theorem mX1_border (l : Launch) (dC : Nat → ClassId) (dI : Nat → Nat → Nat) (d : ClassId) (ad : Nat → Nat) (as : Nat → Int32) (bs : Nat → Int32) (cs : Nat → Int32) (k : Int32) (li : Nat → Int32) (hu : Nat → Int32) (L N : Nat) (hL : L ≤ 1681) (hN : N ≤ 256) : hu_RO l dC dI d (hu_wM d ad (as, bs, cs, k, li, nI L, hu, nI N)) yX1_border cX1_border 3 (some .int) ({ frames := 3, cells := 0, slots := 0, locals := 67 }) [.ref (ad 0)] (fun r => r = nI (hu_cnt (fun k => nI N < 3 ∨ hu_oB hu N (li k)) L)) := by
  refine hu_met (by decide) (Nat.le_of_ble_eq_true rfl) ?_
  intro p e s m below meth c ls C0 _ hB hl
  obtain ⟨hx, hb, hr, hml, hown, hts, hlocks⟩ := C0
  obtain ⟨hP, hK⟩ := hB
  have hl : lv_has ls 3 [(0, .ref (ad 0))] := hl
  have loop : ∀ (n : Nat) (i : Nat), i ≤ L → L < i + n → ∀ ls : Array Slot, lv_has ls 3 [(2, .int (nI i)), (1, .int (nI (hu_cnt (fun k => nI N < 3 ∨ hu_oB hu N (li k)) i))), (0, .ref (ad 0))] → W p l e ({ frames := 3, cells := 0, slots := 0, locals := 67 }) s m ([.ref (ad 0)] : List Value).toArray below meth c s.heap [] 0 0 (MQ below (vp_Si (fun r => r = nI (hu_cnt (fun k => nI N < 3 ∨ hu_oB hu N (li k)) L))) ([.ref (ad 0)] : List Value).toArray s 0 0 (fun _ => False)) (F0 m 4 ls []) := by
    intro n
    induction n with
    | zero =>
      intro i h1 h2
      exfalso
      omega
    | succ n ih =>
      intro i h1 h2 ls hl
      refine lv_iload_n hx hb dX1_border_4 rfl (lv_at hl 0 rfl) ?_
      refine lv_aload_n hx hb dX1_border_5 rfl (lv_at hl 2 rfl) ?_
      refine va_get (D := (dC, dI)) (ci := 1) (v := .int (nI L)) (C := RX1) (T := TX1) (N := 8) hx hb hts in_X1 hown hK hP 0 rfl rfl 5 (by decide) (hts _ q188) (fun _ h9 => h9) rfl dX1_border_6 ?_
      refine lv_icmp_ge (tgt := 42) hx hb dX1_border_9 (by decide) (fun c_9 => ?_) (fun c_9 => ?_)
      · skip
        have hi_9 : i = L := by have := (nI_leI (by omega) (by omega)).mp c_9; omega
        refine lv_iload_n hx hb dX1_border_42 rfl (lv_at hl 1 rfl) ?_
        exact hu_retI hx hb hr hlocks (by rw [hi_9]) dX1_border_43
      · skip
        have hi_9 : i < L := by have := mt (nI_leI (by omega) (by omega)).mpr c_9; omega
        refine lv_aload_n hx hb dX1_border_12 rfl (lv_at hl 2 rfl) ?_
        refine va_get (D := (dC, dI)) (ci := 1) (v := .int (nI N)) (C := RX1) (T := TX1) (N := 8) hx hb hts in_X1 hown hK hP 0 rfl rfl 7 (by decide) (hts _ q190) (fun _ h9 => h9) rfl dX1_border_13 ?_
        refine lv_iconst (v := 3) hx hb dX1_border_16 (by decide) ?_
        refine lv_icmp_lt (tgt := 33) hx hb dX1_border_17 (by decide) (fun c_17 => ?_) (fun c_17 => ?_)
        · skip
          refine lv_iinc (v := nI ((hu_cnt (fun k => nI N < 3 ∨ hu_oB hu N (li k)) i) + 1)) (lv' := [(1, .int (nI ((hu_cnt (fun k => nI N < 3 ∨ hu_oB hu N (li k)) i) + 1))), (2, .int (nI i)), (0, .ref (ad 0))]) hx hb dX1_border_33 hl (k := 1) rfl (nI_1 _) (by decide) rfl (fun ls hl => ?_)
          refine lv_iinc (v := nI (i + 1)) (lv' := [(2, .int (nI (i + 1))), (1, .int (nI ((hu_cnt (fun k => nI N < 3 ∨ hu_oB hu N (li k)) i) + 1))), (0, .ref (ad 0))]) hx hb dX1_border_36 hl (k := 1) rfl (nI_1 _) (by decide) rfl (fun ls hl => ?_)
          refine lv_goto (tgt := 4) hx hb dX1_border_39 (by decide) ?_
          have hc : hu_cnt (fun k => nI N < 3 ∨ hu_oB hu N (li k)) (i + 1) = hu_cnt (fun k => nI N < 3 ∨ hu_oB hu N (li k)) i + 1 := hu_cnt_y (by first | exact Or.inl c_17 | exact Or.inr (hu_tf_ne w_27 c_30))
          rw [← hc] at hl
          exact ih (i + 1) (by omega) (by omega) ls (lv_sub hl [0, 1, 2] rfl)
        · skip
          refine lv_aload_n hx hb dX1_border_20 rfl (lv_at hl 2 rfl) ?_
          refine lv_aload_n hx hb dX1_border_21 rfl (lv_at hl 2 rfl) ?_
          refine va_get (D := (dC, dI)) (ci := 1) (v := .ref (ad 4)) (C := RX1) (T := TX1) (N := 8) hx hb hts in_X1 hown hK hP 0 rfl rfl 4 (by decide) (hts _ q187) (fun _ h9 => h9) rfl dX1_border_22 ?_
          refine lv_iload_n hx hb dX1_border_25 rfl (lv_at hl 0 rfl) ?_
          refine hu_ald hx hb hK hP 4 0 rfl rfl i rfl (by omega) (by decide) dX1_border_26 ?_
          refine hu_callR 1 (As := [.int (li i)]) (rest := []) ⟨hx, hb, hml, hown, hts⟩ (mX1_onBorder l dC dI d ad as bs cs k li (nI L) hu N hN (li i)) (lw_V q241 q243 qs13 q18 q244) (by decide +kernel) rfl ⟨Nat.le_of_ble_eq_true rfl, Nat.le_of_ble_eq_true rfl⟩ ⟨rfl, rfl⟩ hK hP (va_recv hK hP (ci := 1) (q0 := 0) rfl rfl) hl.1 rfl (Nat.le_of_ble_eq_true rfl) ⟨Nat.zero_le _, Nat.zero_le _⟩ dX1_border_27 (fun r_27 w_27 => ?_)
          refine lv_if_eq (tgt := 36) hx hb dX1_border_30 (by decide) (fun c_30 => ?_) (fun c_30 => ?_)
          · skip
            refine lv_iinc (v := nI (i + 1)) (lv' := [(2, .int (nI (i + 1))), (1, .int (nI (hu_cnt (fun k => nI N < 3 ∨ hu_oB hu N (li k)) i))), (0, .ref (ad 0))]) hx hb dX1_border_36 hl (k := 0) rfl (nI_1 _) (by decide) rfl (fun ls hl => ?_)
            refine lv_goto (tgt := 4) hx hb dX1_border_39 (by decide) ?_
            have hc : hu_cnt (fun k => nI N < 3 ∨ hu_oB hu N (li k)) (i + 1) = hu_cnt (fun k => nI N < 3 ∨ hu_oB hu N (li k)) i := hu_cnt_n (fun q => q.elim c_17 (hu_tf_0 w_27 c_30))
            rw [← hc] at hl
            exact ih (i + 1) (by omega) (by omega) ls (lv_sub hl [0, 1, 2] rfl)
          · skip
            refine lv_iinc (v := nI ((hu_cnt (fun k => nI N < 3 ∨ hu_oB hu N (li k)) i) + 1)) (lv' := [(1, .int (nI ((hu_cnt (fun k => nI N < 3 ∨ hu_oB hu N (li k)) i) + 1))), (2, .int (nI i)), (0, .ref (ad 0))]) hx hb dX1_border_33 hl (k := 1) rfl (nI_1 _) (by decide) rfl (fun ls hl => ?_)
            refine lv_iinc (v := nI (i + 1)) (lv' := [(2, .int (nI (i + 1))), (1, .int (nI ((hu_cnt (fun k => nI N < 3 ∨ hu_oB hu N (li k)) i) + 1))), (0, .ref (ad 0))]) hx hb dX1_border_36 hl (k := 1) rfl (nI_1 _) (by decide) rfl (fun ls hl => ?_)
            refine lv_goto (tgt := 4) hx hb dX1_border_39 (by decide) ?_
            have hc : hu_cnt (fun k => nI N < 3 ∨ hu_oB hu N (li k)) (i + 1) = hu_cnt (fun k => nI N < 3 ∨ hu_oB hu N (li k)) i + 1 := hu_cnt_y (by first | exact Or.inl c_17 | exact Or.inr (hu_tf_ne w_27 c_30))
            rw [← hc] at hl
            exact ih (i + 1) (by omega) (by omega) ls (lv_sub hl [0, 1, 2] rfl)
  refine lv_iconst (v := 0) hx hb dX1_border_0 (by decide) ?_
  refine lv_istore_n (lv' := [(1, .int 0), (0, .ref (ad 0))]) hx hb dX1_border_1 rfl hl (by decide) rfl (fun ls hl => ?_)
  refine lv_iconst (v := 0) hx hb dX1_border_2 (by decide) ?_
  refine lv_istore_n (lv' := [(2, .int 0), (1, .int 0), (0, .ref (ad 0))]) hx hb dX1_border_3 rfl hl (by decide) rfl (fun ls hl => ?_)
  exact loop (L + 1) 0 (by omega) (by omega) ls (lv_sub hl [0, 1, 2] rfl)
set_option maxHeartbeats 4000000 in
set_option maxRecDepth 100000 in
theorem mX1_best (l : Launch) (dC : Nat → ClassId) (dI : Nat → Nat → Nat) (d : ClassId) (ad : Nat → Nat) (as : Nat → Int32) (bs : Nat → Int32) (cs : Nat → Int32) (k : Int32) (li : Nat → Int32) (hu : Nat → Int32) (hs : Int32) (L : Nat) (hL : L ≤ 1681) (g h : Int32) : hu_RO l dC dI d (hu_wM d ad (as, bs, cs, k, li, nI L, hu, hs)) yX1_best cX1_best 6 (some .int) ({ frames := 2, cells := 0, slots := 0, locals := 44 }) [.ref (ad 0), .int g, .int h] (fun r => ((g < -100 ∨ 100 < g ∨ h < -100 ∨ 100 < h) ∧ r = -1) ∨ (¬ (g < -100 ∨ 100 < g ∨ h < -100 ∨ 100 < h) ∧ L = 0 ∧ r = -3) ∨ (¬ (g < -100 ∨ 100 < g ∨ h < -100 ∨ 100 < h) ∧ 0 < L ∧ r = hu_mx (fun k => hu_vR g h (li k)) L)) := by
  refine hu_met (by decide) (Nat.le_of_ble_eq_true rfl) ?_
  intro p e s m below meth c ls C0 _ hB hl
  obtain ⟨hx, hb, hr, hml, hown, hts, hlocks⟩ := C0
  obtain ⟨hP, hK⟩ := hB
  have hl : lv_has ls 6 [(0, .ref (ad 0)), (1, .int g), (2, .int h)] := hl
  have loop : ∀ (n : Nat) (i : Nat) (b : Int32), i ≤ L → L < i + n → b = hu_mx (fun k => hu_vR g h (li k)) i → (¬ (g < -100 ∨ 100 < g ∨ h < -100 ∨ 100 < h)) → 0 < L → ∀ ls : Array Slot, lv_has ls 6 [(4, .int (nI i)), (3, .int b), (0, .ref (ad 0)), (1, .int g), (2, .int h)] → W p l e ({ frames := 2, cells := 0, slots := 0, locals := 44 }) s m ([.ref (ad 0), .int g, .int h] : List Value).toArray below meth c s.heap [] 0 0 (MQ below (vp_Si (fun r => ((g < -100 ∨ 100 < g ∨ h < -100 ∨ 100 < h) ∧ r = -1) ∨ (¬ (g < -100 ∨ 100 < g ∨ h < -100 ∨ 100 < h) ∧ L = 0 ∧ r = -3) ∨ (¬ (g < -100 ∨ 100 < g ∨ h < -100 ∨ 100 < h) ∧ 0 < L ∧ r = hu_mx (fun k => hu_vR g h (li k)) L))) ([.ref (ad 0), .int g, .int h] : List Value).toArray s 0 0 (fun _ => False)) (F0 m 44 ls []) := by
    intro n
    induction n with
    | zero =>
      intro i b h1 h2
      exfalso
      omega
    | succ n ih =>
      intro i b h1 h2 h3 h4 h5 ls hl
      refine lv_iload hx hb dX1_best_44 (lv_at hl 0 rfl) ?_
      refine lv_aload_n hx hb dX1_best_46 rfl (lv_at hl 2 rfl) ?_
      refine va_get (D := (dC, dI)) (ci := 1) (v := .int (nI L)) (C := RX1) (T := TX1) (N := 8) hx hb hts in_X1 hown hK hP 0 rfl rfl 5 (by decide) (hts _ q188) (fun _ h9 => h9) rfl dX1_best_47 ?_
      refine lv_icmp_ge (tgt := 83) hx hb dX1_best_50 (by decide) (fun c_50 => ?_) (fun c_50 => ?_)
      · skip
        have hi_50 : i = L := by have := (nI_leI (by omega) (by omega)).mp c_50; omega
        refine lv_iload_n hx hb dX1_best_83 rfl (lv_at hl 1 rfl) ?_
        exact hu_retI hx hb hr hlocks (Or.inr (Or.inr ⟨h4, h5, by rw [h3, hi_50]⟩)) dX1_best_84
      · skip
        have hi_50 : i < L := by have := mt (nI_leI (by omega) (by omega)).mpr c_50; omega
        refine lv_aload_n hx hb dX1_best_53 rfl (lv_at hl 2 rfl) ?_
        refine lv_iload_n hx hb dX1_best_54 rfl (lv_at hl 3 rfl) ?_
        refine lv_iload_n hx hb dX1_best_55 rfl (lv_at hl 4 rfl) ?_
        refine lv_aload_n hx hb dX1_best_56 rfl (lv_at hl 2 rfl) ?_
        refine va_get (D := (dC, dI)) (ci := 1) (v := .ref (ad 4)) (C := RX1) (T := TX1) (N := 8) hx hb hts in_X1 hown hK hP 0 rfl rfl 4 (by decide) (hts _ q187) (fun _ h9 => h9) rfl dX1_best_57 ?_
        refine lv_iload hx hb dX1_best_60 (lv_at hl 0 rfl) ?_
        refine hu_ald hx hb hK hP 4 0 rfl rfl i rfl (by omega) (by decide) dX1_best_62 ?_
        refine hu_callR 3 (As := [.int g, .int h, .int (li i)]) (rest := []) ⟨hx, hb, hml, hown, hts⟩ (mX1_value l dC dI d ad as bs cs k li (nI L) hu hs g h (li i)) (lw_V q253 q255 qs15 q18 q256) (by decide +kernel) rfl ⟨Nat.le_of_ble_eq_true rfl, Nat.le_of_ble_eq_true rfl⟩ ⟨rfl, rfl⟩ hK hP (va_recv hK hP (ci := 1) (q0 := 0) rfl rfl) hl.1 rfl (Nat.le_of_ble_eq_true rfl) ⟨Nat.zero_le _, Nat.zero_le _⟩ dX1_best_63 (fun r_63 w_63 => ?_)
        refine hu_top (z := hu_vR g h (li i)) w_63 ?_
        refine lv_istore (lv' := [(5, .int (hu_vR g h (li i))), (4, .int (nI i)), (3, .int b), (0, .ref (ad 0)), (1, .int g), (2, .int h)]) hx hb dX1_best_66 hl (by decide) rfl (fun ls hl => ?_)
        refine lv_iload hx hb dX1_best_68 (lv_at hl 0 rfl) ?_
        refine lv_iload_n hx hb dX1_best_70 rfl (lv_at hl 2 rfl) ?_
        refine lv_icmp_le (tgt := 77) hx hb dX1_best_71 (by decide) (fun c_71 => ?_) (fun c_71 => ?_)
        · skip
          refine lv_iinc (v := nI (i + 1)) (lv' := [(4, .int (nI (i + 1))), (5, .int (hu_vR g h (li i))), (3, .int b), (0, .ref (ad 0)), (1, .int g), (2, .int h)]) hx hb dX1_best_77 hl (k := 1) rfl (nI_1 _) (by decide) rfl (fun ls hl => ?_)
          refine lv_goto (tgt := 44) hx hb dX1_best_80 (by decide) ?_
          exact ih (i + 1) b (by omega) (by omega) (hu_mx_n h3 (Int32.not_lt.mpr c_71)) h4 h5 ls (lv_sub hl [0, 2, 3, 4, 5] rfl)
        · skip
          refine lv_iload hx hb dX1_best_74 (lv_at hl 0 rfl) ?_
          refine lv_istore_n (lv' := [(3, .int (hu_vR g h (li i))), (5, .int (hu_vR g h (li i))), (4, .int (nI i)), (0, .ref (ad 0)), (1, .int g), (2, .int h)]) hx hb dX1_best_76 rfl hl (by decide) rfl (fun ls hl => ?_)
          refine lv_iinc (v := nI (i + 1)) (lv' := [(4, .int (nI (i + 1))), (3, .int (hu_vR g h (li i))), (5, .int (hu_vR g h (li i))), (0, .ref (ad 0)), (1, .int g), (2, .int h)]) hx hb dX1_best_77 hl (k := 2) rfl (nI_1 _) (by decide) rfl (fun ls hl => ?_)
          refine lv_goto (tgt := 44) hx hb dX1_best_80 (by decide) ?_
          exact ih (i + 1) _ (by omega) (by omega) (hu_mx_y (v := fun k => hu_vR g h (li k)) h3 (Int32.not_le.mp c_71)) h4 h5 ls (lv_sub hl [0, 1, 3, 4, 5] rfl)
  refine lv_aload_n hx hb dX1_best_0 rfl (lv_at hl 0 rfl) ?_
  refine lv_iload_n hx hb dX1_best_1 rfl (lv_at hl 1 rfl) ?_
  refine hu_callR 1 (As := [.int g]) (rest := []) ⟨hx, hb, hml, hown, hts⟩ (mX1_isFactor l dC dI d ad as bs cs k li (nI L) hu hs g) (lw_V q249 q251 qs14 q18 q252) (by decide +kernel) rfl ⟨Nat.le_of_ble_eq_true rfl, Nat.le_of_ble_eq_true rfl⟩ ⟨rfl, rfl⟩ hK hP (va_recv hK hP (ci := 1) (q0 := 0) rfl rfl) hl.1 rfl (Nat.le_of_ble_eq_true rfl) ⟨Nat.zero_le _, Nat.zero_le _⟩ dX1_best_2 (fun r_2 w_2 => ?_)
  refine lv_if_eq (tgt := 16) hx hb dX1_best_5 (by decide) (fun c_5 => ?_) (fun c_5 => ?_)
  · skip
    refine lv_iconst (v := (-1)) hx hb dX1_best_16 (by decide) ?_
    exact hu_retI hx hb hr hlocks (by first | exact Or.inl ⟨Classical.byContradiction fun q => hu_tf_0 w_2 c_5 ⟨fun z => q (Or.inl z), fun z => q (Or.inr (Or.inl z))⟩, rfl⟩ | exact Or.inl ⟨Classical.byContradiction fun q => hu_tf_0 w_10 c_13 ⟨fun z => q (Or.inr (Or.inr (Or.inl z))), fun z => q (Or.inr (Or.inr (Or.inr z)))⟩, rfl⟩) dX1_best_17
  · skip
    refine lv_aload_n hx hb dX1_best_8 rfl (lv_at hl 0 rfl) ?_
    refine lv_iload_n hx hb dX1_best_9 rfl (lv_at hl 2 rfl) ?_
    refine hu_callR 1 (As := [.int h]) (rest := []) ⟨hx, hb, hml, hown, hts⟩ (mX1_isFactor l dC dI d ad as bs cs k li (nI L) hu hs h) (lw_V q249 q251 qs14 q18 q252) (by decide +kernel) rfl ⟨Nat.le_of_ble_eq_true rfl, Nat.le_of_ble_eq_true rfl⟩ ⟨rfl, rfl⟩ hK hP (va_recv hK hP (ci := 1) (q0 := 0) rfl rfl) hl.1 rfl (Nat.le_of_ble_eq_true rfl) ⟨Nat.zero_le _, Nat.zero_le _⟩ dX1_best_10 (fun r_10 w_10 => ?_)
    refine lv_if_ne (tgt := 18) hx hb dX1_best_13 (by decide) (fun c_13 => ?_) (fun c_13 => ?_)
    · skip
      refine lv_aload_n hx hb dX1_best_18 rfl (lv_at hl 0 rfl) ?_
      refine va_get (D := (dC, dI)) (ci := 1) (v := .int (nI L)) (C := RX1) (T := TX1) (N := 8) hx hb hts in_X1 hown hK hP 0 rfl rfl 5 (by decide) (hts _ q188) (fun _ h9 => h9) rfl dX1_best_19 ?_
      refine lv_if_ne (tgt := 28) hx hb dX1_best_22 (by decide) (fun c_22 => ?_) (fun c_22 => ?_)
      · skip
        have hL0 : 0 < L := Nat.pos_of_ne_zero (fun q => c_22 (by rw [q]; rfl))
        refine lv_aload_n hx hb dX1_best_28 rfl (lv_at hl 0 rfl) ?_
        refine lv_iload_n hx hb dX1_best_29 rfl (lv_at hl 1 rfl) ?_
        refine lv_iload_n hx hb dX1_best_30 rfl (lv_at hl 2 rfl) ?_
        refine lv_aload_n hx hb dX1_best_31 rfl (lv_at hl 0 rfl) ?_
        refine va_get (D := (dC, dI)) (ci := 1) (v := .ref (ad 4)) (C := RX1) (T := TX1) (N := 8) hx hb hts in_X1 hown hK hP 0 rfl rfl 4 (by decide) (hts _ q187) (fun _ h9 => h9) rfl dX1_best_32 ?_
        refine lv_iconst (v := 0) hx hb dX1_best_35 (by decide) ?_
        refine hu_ald hx hb hK hP 4 0 rfl rfl 0 (by decide) (by omega) (by decide) dX1_best_36 ?_
        refine hu_callR 3 (As := [.int g, .int h, .int (li 0)]) (rest := []) ⟨hx, hb, hml, hown, hts⟩ (mX1_value l dC dI d ad as bs cs k li (nI L) hu hs g h (li 0)) (lw_V q253 q255 qs15 q18 q256) (by decide +kernel) rfl ⟨Nat.le_of_ble_eq_true rfl, Nat.le_of_ble_eq_true rfl⟩ ⟨rfl, rfl⟩ hK hP (va_recv hK hP (ci := 1) (q0 := 0) rfl rfl) hl.1 rfl (Nat.le_of_ble_eq_true rfl) ⟨Nat.zero_le _, Nat.zero_le _⟩ dX1_best_37 (fun r_37 w_37 => ?_)
        refine hu_top (z := hu_vR g h (li 0)) w_37 ?_
        refine lv_istore_n (lv' := [(3, .int (hu_vR g h (li 0))), (0, .ref (ad 0)), (1, .int g), (2, .int h)]) hx hb dX1_best_40 rfl hl (by decide) rfl (fun ls hl => ?_)
        refine lv_iconst (v := 1) hx hb dX1_best_41 (by decide) ?_
        refine lv_istore (lv' := [(4, .int 1), (3, .int (hu_vR g h (li 0))), (0, .ref (ad 0)), (1, .int g), (2, .int h)]) hx hb dX1_best_42 hl (by decide) rfl (fun ls hl => ?_)
        exact loop (L + 1) 1 _ (by omega) (by omega) (hu_mx_1 _).symm (fun q => q.elim (hu_tf_ne w_2 c_5).1 (fun q => q.elim (hu_tf_ne w_2 c_5).2 (fun q => q.elim (hu_tf_ne w_10 c_13).1 (hu_tf_ne w_10 c_13).2))) hL0 ls (lv_sub hl [0, 1, 2, 3, 4] rfl)
      · skip
        have hL0 : L = 0 := by
          have := (nI_eq (a := L) (b := 0) (by omega) (by omega)).mp c_22
          exact this
        refine lv_bipush (v := (-3)) hx hb dX1_best_25 (by decide) ?_
        exact hu_retI hx hb hr hlocks (Or.inr (Or.inl ⟨(fun q => q.elim (hu_tf_ne w_2 c_5).1 (fun q => q.elim (hu_tf_ne w_2 c_5).2 (fun q => q.elim (hu_tf_ne w_10 c_13).1 (hu_tf_ne w_10 c_13).2))), hL0, rfl⟩)) dX1_best_27
    · skip
      refine lv_iconst (v := (-1)) hx hb dX1_best_16 (by decide) ?_
      exact hu_retI hx hb hr hlocks (by first | exact Or.inl ⟨Classical.byContradiction fun q => hu_tf_0 w_2 c_5 ⟨fun z => q (Or.inl z), fun z => q (Or.inr (Or.inl z))⟩, rfl⟩ | exact Or.inl ⟨Classical.byContradiction fun q => hu_tf_0 w_10 c_13 ⟨fun z => q (Or.inr (Or.inr (Or.inl z))), fun z => q (Or.inr (Or.inr (Or.inr z)))⟩, rfl⟩) dX1_best_17
set_option maxHeartbeats 4000000 in
set_option maxRecDepth 100000 in
theorem mX1_bestCorner (l : Launch) (dC : Nat → ClassId) (dI : Nat → Nat → Nat) (d : ClassId) (ad : Nat → Nat) (as : Nat → Int32) (bs : Nat → Int32) (cs : Nat → Int32) (k : Int32) (li : Nat → Int32) (hu : Nat → Int32) (L N : Nat) (hL : L ≤ 1681) (hN : N ≤ 256) (g h : Int32) : hu_RO l dC dI d (hu_wM d ad (as, bs, cs, k, li, nI L, hu, nI N)) yX1_bestCorner cX1_bestCorner 5 (some .int) ({ frames := 3, cells := 0, slots := 0, locals := 69 }) [.ref (ad 0), .int g, .int h] (fun r => ((g < -100 ∨ 100 < g ∨ h < -100 ∨ 100 < h) ∧ r = -1) ∨ (¬ (g < -100 ∨ 100 < g ∨ h < -100 ∨ 100 < h) ∧ ∃ b : Int32, ((L = 0 ∧ b = -3) ∨ (0 < L ∧ b = hu_mx (fun k => hu_vR g h (li k)) L)) ∧ ((∃ k, k < N ∧ r = nI k ∧ hu_vR g h (hu k) = b ∧ ∀ j, j < k → ¬ hu_vR g h (hu j) = b) ∨ (r = -3 ∧ ∀ j, j < N → ¬ hu_vR g h (hu j) = b)))) := by
  refine hu_met (by decide) (Nat.le_of_ble_eq_true rfl) ?_
  intro p e s m below meth c ls C0 _ hB hl
  obtain ⟨hx, hb, hr, hml, hown, hts, hlocks⟩ := C0
  obtain ⟨hP, hK⟩ := hB
  have hl : lv_has ls 5 [(0, .ref (ad 0)), (1, .int g), (2, .int h)] := hl
  have loop : ∀ (n : Nat) (i : Nat) (b : Int32), i ≤ N → N < i + n → (¬ (g < -100 ∨ 100 < g ∨ h < -100 ∨ 100 < h)) → ((L = 0 ∧ b = -3) ∨ (0 < L ∧ b = hu_mx (fun k => hu_vR g h (li k)) L)) → (∀ j, j < i → ¬ hu_vR g h (hu j) = b) → ∀ ls : Array Slot, lv_has ls 5 [(4, .int (nI i)), (3, .int b), (0, .ref (ad 0)), (1, .int g), (2, .int h)] → W p l e ({ frames := 3, cells := 0, slots := 0, locals := 69 }) s m ([.ref (ad 0), .int g, .int h] : List Value).toArray below meth c s.heap [] 0 0 (MQ below (vp_Si (fun r => ((g < -100 ∨ 100 < g ∨ h < -100 ∨ 100 < h) ∧ r = -1) ∨ (¬ (g < -100 ∨ 100 < g ∨ h < -100 ∨ 100 < h) ∧ ∃ b : Int32, ((L = 0 ∧ b = -3) ∨ (0 < L ∧ b = hu_mx (fun k => hu_vR g h (li k)) L)) ∧ ((∃ k, k < N ∧ r = nI k ∧ hu_vR g h (hu k) = b ∧ ∀ j, j < k → ¬ hu_vR g h (hu j) = b) ∨ (r = -3 ∧ ∀ j, j < N → ¬ hu_vR g h (hu j) = b))))) ([.ref (ad 0), .int g, .int h] : List Value).toArray s 0 0 (fun _ => False)) (F0 m 28 ls []) := by
    intro n
    induction n with
    | zero =>
      intro i b h1 h2
      exfalso
      omega
    | succ n ih =>
      intro i b h1 h2 h3 h4 h5 ls hl
      refine lv_iload hx hb dX1_bestCorner_28 (lv_at hl 0 rfl) ?_
      refine lv_aload_n hx hb dX1_bestCorner_30 rfl (lv_at hl 2 rfl) ?_
      refine va_get (D := (dC, dI)) (ci := 1) (v := .int (nI N)) (C := RX1) (T := TX1) (N := 8) hx hb hts in_X1 hown hK hP 0 rfl rfl 7 (by decide) (hts _ q190) (fun _ h9 => h9) rfl dX1_bestCorner_31 ?_
      refine lv_icmp_ge (tgt := 63) hx hb dX1_bestCorner_34 (by decide) (fun c_34 => ?_) (fun c_34 => ?_)
      · skip
        have hi_34 : i = N := by have := (nI_leI (by omega) (by omega)).mp c_34; omega
        refine lv_bipush (v := (-3)) hx hb dX1_bestCorner_63 (by decide) ?_
        exact hu_retI hx hb hr hlocks (Or.inr ⟨h3, b, h4, Or.inr ⟨rfl, fun j hj => h5 j (by omega)⟩⟩) dX1_bestCorner_65
      · skip
        have hi_34 : i < N := by have := mt (nI_leI (by omega) (by omega)).mpr c_34; omega
        refine lv_aload_n hx hb dX1_bestCorner_37 rfl (lv_at hl 2 rfl) ?_
        refine lv_iload_n hx hb dX1_bestCorner_38 rfl (lv_at hl 3 rfl) ?_
        refine lv_iload_n hx hb dX1_bestCorner_39 rfl (lv_at hl 4 rfl) ?_
        refine lv_aload_n hx hb dX1_bestCorner_40 rfl (lv_at hl 2 rfl) ?_
        refine va_get (D := (dC, dI)) (ci := 1) (v := .ref (ad 5)) (C := RX1) (T := TX1) (N := 8) hx hb hts in_X1 hown hK hP 0 rfl rfl 6 (by decide) (hts _ q189) (fun _ h9 => h9) rfl dX1_bestCorner_41 ?_
        refine lv_iload hx hb dX1_bestCorner_44 (lv_at hl 0 rfl) ?_
        refine hu_ald hx hb hK hP 5 0 rfl rfl i rfl (by omega) (by decide) dX1_bestCorner_46 ?_
        refine hu_callR 3 (As := [.int g, .int h, .int (hu i)]) (rest := []) ⟨hx, hb, hml, hown, hts⟩ (mX1_value l dC dI d ad as bs cs k li (nI L) hu (nI N) g h (hu i)) (lw_V q253 q255 qs15 q18 q256) (by decide +kernel) rfl ⟨Nat.le_of_ble_eq_true rfl, Nat.le_of_ble_eq_true rfl⟩ ⟨rfl, rfl⟩ hK hP (va_recv hK hP (ci := 1) (q0 := 0) rfl rfl) hl.1 rfl (Nat.le_of_ble_eq_true rfl) ⟨Nat.zero_le _, Nat.zero_le _⟩ dX1_bestCorner_47 (fun r_47 w_47 => ?_)
        refine hu_top (z := hu_vR g h (hu i)) w_47 ?_
        refine lv_iload_n hx hb dX1_bestCorner_50 rfl (lv_at hl 1 rfl) ?_
        refine lv_icmp_ne (tgt := 57) hx hb dX1_bestCorner_51 (by decide) (fun c_51 => ?_) (fun c_51 => ?_)
        · skip
          refine lv_iinc (v := nI (i + 1)) (lv' := [(4, .int (nI (i + 1))), (3, .int b), (0, .ref (ad 0)), (1, .int g), (2, .int h)]) hx hb dX1_bestCorner_57 hl (k := 0) rfl (nI_1 _) (by decide) rfl (fun ls hl => ?_)
          refine lv_goto (tgt := 28) hx hb dX1_bestCorner_60 (by decide) ?_
          exact ih (i + 1) b (by omega) (by omega) h3 h4 (lt_s h5 c_51) ls (lv_sub hl [0, 1, 2, 3, 4] rfl)
        · skip
          refine lv_iload hx hb dX1_bestCorner_54 (lv_at hl 0 rfl) ?_
          exact hu_retI hx hb hr hlocks (Or.inr ⟨h3, b, h4, Or.inl ⟨i, hi_34, rfl, c_51, h5⟩⟩) dX1_bestCorner_56
  refine lv_aload_n hx hb dX1_bestCorner_0 rfl (lv_at hl 0 rfl) ?_
  refine lv_iload_n hx hb dX1_bestCorner_1 rfl (lv_at hl 1 rfl) ?_
  refine hu_callR 1 (As := [.int g]) (rest := []) ⟨hx, hb, hml, hown, hts⟩ (mX1_isFactor l dC dI d ad as bs cs k li (nI L) hu (nI N) g) (lw_V q249 q251 qs14 q18 q252) (by decide +kernel) rfl ⟨Nat.le_of_ble_eq_true rfl, Nat.le_of_ble_eq_true rfl⟩ ⟨rfl, rfl⟩ hK hP (va_recv hK hP (ci := 1) (q0 := 0) rfl rfl) hl.1 rfl (Nat.le_of_ble_eq_true rfl) ⟨Nat.zero_le _, Nat.zero_le _⟩ dX1_bestCorner_2 (fun r_2 w_2 => ?_)
  refine lv_if_eq (tgt := 16) hx hb dX1_bestCorner_5 (by decide) (fun c_5 => ?_) (fun c_5 => ?_)
  · skip
    refine lv_iconst (v := (-1)) hx hb dX1_bestCorner_16 (by decide) ?_
    exact hu_retI hx hb hr hlocks (by first | exact Or.inl ⟨Classical.byContradiction fun q => hu_tf_0 w_2 c_5 ⟨fun z => q (Or.inl z), fun z => q (Or.inr (Or.inl z))⟩, rfl⟩ | exact Or.inl ⟨Classical.byContradiction fun q => hu_tf_0 w_10 c_13 ⟨fun z => q (Or.inr (Or.inr (Or.inl z))), fun z => q (Or.inr (Or.inr (Or.inr z)))⟩, rfl⟩) dX1_bestCorner_17
  · skip
    refine lv_aload_n hx hb dX1_bestCorner_8 rfl (lv_at hl 0 rfl) ?_
    refine lv_iload_n hx hb dX1_bestCorner_9 rfl (lv_at hl 2 rfl) ?_
    refine hu_callR 1 (As := [.int h]) (rest := []) ⟨hx, hb, hml, hown, hts⟩ (mX1_isFactor l dC dI d ad as bs cs k li (nI L) hu (nI N) h) (lw_V q249 q251 qs14 q18 q252) (by decide +kernel) rfl ⟨Nat.le_of_ble_eq_true rfl, Nat.le_of_ble_eq_true rfl⟩ ⟨rfl, rfl⟩ hK hP (va_recv hK hP (ci := 1) (q0 := 0) rfl rfl) hl.1 rfl (Nat.le_of_ble_eq_true rfl) ⟨Nat.zero_le _, Nat.zero_le _⟩ dX1_bestCorner_10 (fun r_10 w_10 => ?_)
    refine lv_if_ne (tgt := 18) hx hb dX1_bestCorner_13 (by decide) (fun c_13 => ?_) (fun c_13 => ?_)
    · skip
      refine lv_aload_n hx hb dX1_bestCorner_18 rfl (lv_at hl 0 rfl) ?_
      refine lv_iload_n hx hb dX1_bestCorner_19 rfl (lv_at hl 1 rfl) ?_
      refine lv_iload_n hx hb dX1_bestCorner_20 rfl (lv_at hl 2 rfl) ?_
      refine hu_callR 2 (As := [.int g, .int h]) (rest := []) ⟨hx, hb, hml, hown, hts⟩ (mX1_best l dC dI d ad as bs cs k li hu (nI N) L hL g h) (lw_V q261 q246 q247 q18 q248) (by decide +kernel) rfl ⟨Nat.le_of_ble_eq_true rfl, Nat.le_of_ble_eq_true rfl⟩ ⟨rfl, rfl⟩ hK hP (va_recv hK hP (ci := 1) (q0 := 0) rfl rfl) hl.1 rfl (Nat.le_of_ble_eq_true rfl) ⟨Nat.zero_le _, Nat.zero_le _⟩ dX1_bestCorner_21 (fun r_21 w_21 => ?_)
      have hnb : ¬ (g < -100 ∨ 100 < g ∨ h < -100 ∨ 100 < h) := (fun q => q.elim (hu_tf_ne w_2 c_5).1 (fun q => q.elim (hu_tf_ne w_2 c_5).2 (fun q => q.elim (hu_tf_ne w_10 c_13).1 (hu_tf_ne w_10 c_13).2)))
      have hbb : (L = 0 ∧ r_21 = -3) ∨ (0 < L ∧ r_21 = hu_mx (fun k => hu_vR g h (li k)) L) := by
        rcases w_21 with q | q | q
        · exact absurd q.1 hnb
        · exact Or.inl q.2
        · exact Or.inr q.2
      refine lv_istore_n (lv' := [(3, .int r_21), (0, .ref (ad 0)), (1, .int g), (2, .int h)]) hx hb dX1_bestCorner_24 rfl hl (by decide) rfl (fun ls hl => ?_)
      refine lv_iconst (v := 0) hx hb dX1_bestCorner_25 (by decide) ?_
      refine lv_istore (lv' := [(4, .int 0), (3, .int r_21), (0, .ref (ad 0)), (1, .int g), (2, .int h)]) hx hb dX1_bestCorner_26 hl (by decide) rfl (fun ls hl => ?_)
      exact loop (N + 1) 0 _ (by omega) (by omega) hnb hbb lt_0 ls (lv_sub hl [0, 1, 2, 3, 4] rfl)
    · skip
      refine lv_iconst (v := (-1)) hx hb dX1_bestCorner_16 (by decide) ?_
      exact hu_retI hx hb hr hlocks (by first | exact Or.inl ⟨Classical.byContradiction fun q => hu_tf_0 w_2 c_5 ⟨fun z => q (Or.inl z), fun z => q (Or.inr (Or.inl z))⟩, rfl⟩ | exact Or.inl ⟨Classical.byContradiction fun q => hu_tf_0 w_10 c_13 ⟨fun z => q (Or.inr (Or.inr (Or.inl z))), fun z => q (Or.inr (Or.inr (Or.inr z)))⟩, rfl⟩) dX1_bestCorner_17
set_option maxHeartbeats 4000000 in
set_option maxRecDepth 100000 in
theorem mX1_column (l : Launch) (dC : Nat → ClassId) (dI : Nat → Nat → Nat) (d : ClassId) (ad : Nat → Nat) (as : Nat → Int32) (bs : Nat → Int32) (cs : Nat → Int32) (k : Int32) (li : Nat → Int32) (hu : Nat → Int32) (hs : Int32) (L : Nat) (hL : L ≤ 1681) (x : Int32) : hu_RO l dC dI d (hu_wM d ad (as, bs, cs, k, li, nI L, hu, hs)) yX1_column cX1_column 4 (some .int) ({ frames := 1, cells := 0, slots := 0, locals := 21 }) [.ref (ad 0), .int x] (fun r => r = nI (hu_cnt (fun k => hu_xO (li k) = x) L)) := by
  refine hu_met (by decide) (Nat.le_of_ble_eq_true rfl) ?_
  intro p e s m below meth c ls C0 _ hB hl
  obtain ⟨hx, hb, hr, hml, hown, hts, hlocks⟩ := C0
  obtain ⟨hP, hK⟩ := hB
  have hl : lv_has ls 4 [(0, .ref (ad 0)), (1, .int x)] := hl
  have loop : ∀ (n : Nat) (i : Nat), i ≤ L → L < i + n → ∀ ls : Array Slot, lv_has ls 4 [(3, .int (nI i)), (2, .int (nI (hu_cnt (fun k => hu_xO (li k) = x) i))), (0, .ref (ad 0)), (1, .int x)] → W p l e ({ frames := 1, cells := 0, slots := 0, locals := 21 }) s m ([.ref (ad 0), .int x] : List Value).toArray below meth c s.heap [] 0 0 (MQ below (vp_Si (fun r => r = nI (hu_cnt (fun k => hu_xO (li k) = x) L))) ([.ref (ad 0), .int x] : List Value).toArray s 0 0 (fun _ => False)) (F0 m 4 ls []) := by
    intro n
    induction n with
    | zero =>
      intro i h1 h2
      exfalso
      omega
    | succ n ih =>
      intro i h1 h2 ls hl
      refine lv_iload_n hx hb dX1_column_4 rfl (lv_at hl 0 rfl) ?_
      refine lv_aload_n hx hb dX1_column_5 rfl (lv_at hl 2 rfl) ?_
      refine va_get (D := (dC, dI)) (ci := 1) (v := .int (nI L)) (C := RX1) (T := TX1) (N := 8) hx hb hts in_X1 hown hK hP 0 rfl rfl 5 (by decide) (hts _ q188) (fun _ h9 => h9) rfl dX1_column_6 ?_
      refine lv_icmp_ge (tgt := 35) hx hb dX1_column_9 (by decide) (fun c_9 => ?_) (fun c_9 => ?_)
      · skip
        have hi_9 : i = L := by have := (nI_leI (by omega) (by omega)).mp c_9; omega
        refine lv_iload_n hx hb dX1_column_35 rfl (lv_at hl 1 rfl) ?_
        exact hu_retI hx hb hr hlocks (by rw [hi_9]) dX1_column_36
      · skip
        have hi_9 : i < L := by have := mt (nI_leI (by omega) (by omega)).mpr c_9; omega
        refine lv_aload_n hx hb dX1_column_12 rfl (lv_at hl 2 rfl) ?_
        refine lv_aload_n hx hb dX1_column_13 rfl (lv_at hl 2 rfl) ?_
        refine va_get (D := (dC, dI)) (ci := 1) (v := .ref (ad 4)) (C := RX1) (T := TX1) (N := 8) hx hb hts in_X1 hown hK hP 0 rfl rfl 4 (by decide) (hts _ q187) (fun _ h9 => h9) rfl dX1_column_14 ?_
        refine lv_iload_n hx hb dX1_column_17 rfl (lv_at hl 0 rfl) ?_
        refine hu_ald hx hb hK hP 4 0 rfl rfl i rfl (by omega) (by decide) dX1_column_18 ?_
        refine hu_callR 1 (As := [.int (li i)]) (rest := []) ⟨hx, hb, hml, hown, hts⟩ (mX1_xOf l dC dI d ad as bs cs k li (nI L) hu hs (li i)) (lw_V q171 q173 qs10 q18 q174) (by decide +kernel) rfl ⟨Nat.le_of_ble_eq_true rfl, Nat.le_of_ble_eq_true rfl⟩ ⟨rfl, rfl⟩ hK hP (va_recv hK hP (ci := 1) (q0 := 0) rfl rfl) hl.1 rfl (Nat.le_of_ble_eq_true rfl) ⟨Nat.zero_le _, Nat.zero_le _⟩ dX1_column_19 (fun r_19 w_19 => ?_)
        refine hu_top (z := hu_xO (li i)) w_19 ?_
        refine lv_iload_n hx hb dX1_column_22 rfl (lv_at hl 3 rfl) ?_
        refine lv_icmp_ne (tgt := 29) hx hb dX1_column_23 (by decide) (fun c_23 => ?_) (fun c_23 => ?_)
        · skip
          refine lv_iinc (v := nI (i + 1)) (lv' := [(3, .int (nI (i + 1))), (2, .int (nI (hu_cnt (fun k => hu_xO (li k) = x) i))), (0, .ref (ad 0)), (1, .int x)]) hx hb dX1_column_29 hl (k := 0) rfl (nI_1 _) (by decide) rfl (fun ls hl => ?_)
          refine lv_goto (tgt := 4) hx hb dX1_column_32 (by decide) ?_
          have hc : hu_cnt (fun k => hu_xO (li k) = x) (i + 1) = hu_cnt (fun k => hu_xO (li k) = x) i := hu_cnt_n c_23
          rw [← hc] at hl
          exact ih (i + 1) (by omega) (by omega) ls (lv_sub hl [0, 1, 2, 3] rfl)
        · skip
          refine lv_iinc (v := nI ((hu_cnt (fun k => hu_xO (li k) = x) i) + 1)) (lv' := [(2, .int (nI ((hu_cnt (fun k => hu_xO (li k) = x) i) + 1))), (3, .int (nI i)), (0, .ref (ad 0)), (1, .int x)]) hx hb dX1_column_26 hl (k := 1) rfl (nI_1 _) (by decide) rfl (fun ls hl => ?_)
          refine lv_iinc (v := nI (i + 1)) (lv' := [(3, .int (nI (i + 1))), (2, .int (nI ((hu_cnt (fun k => hu_xO (li k) = x) i) + 1))), (0, .ref (ad 0)), (1, .int x)]) hx hb dX1_column_29 hl (k := 1) rfl (nI_1 _) (by decide) rfl (fun ls hl => ?_)
          refine lv_goto (tgt := 4) hx hb dX1_column_32 (by decide) ?_
          have hc : hu_cnt (fun k => hu_xO (li k) = x) (i + 1) = hu_cnt (fun k => hu_xO (li k) = x) i + 1 := hu_cnt_y c_23
          rw [← hc] at hl
          exact ih (i + 1) (by omega) (by omega) ls (lv_sub hl [0, 1, 2, 3] rfl)
  refine lv_iconst (v := 0) hx hb dX1_column_0 (by decide) ?_
  refine lv_istore_n (lv' := [(2, .int 0), (0, .ref (ad 0)), (1, .int x)]) hx hb dX1_column_1 rfl hl (by decide) rfl (fun ls hl => ?_)
  refine lv_iconst (v := 0) hx hb dX1_column_2 (by decide) ?_
  refine lv_istore_n (lv' := [(3, .int 0), (2, .int 0), (0, .ref (ad 0)), (1, .int x)]) hx hb dX1_column_3 rfl hl (by decide) rfl (fun ls hl => ?_)
  exact loop (L + 1) 0 (by omega) (by omega) ls (lv_sub hl [0, 1, 2, 3] rfl)
end
section
/-! contracts of IntegerHull that write: columns and hull (written by gen/m2.py) -/
set_option maxHeartbeats 4000000 in
set_option maxRecDepth 100000 in
/-- narrow -/
theorem mX0_narrow (l : Launch) (dC : Nat → ClassId) (dI : Nat → Nat → Nat) (d : ClassId) (ad : Nat → Nat) (sz : Nat) (k : Int32) (rd : Int32) (ct : Int32) (fa : Nat → Int32) (fb : Nat → Int32) (fc : Nat → Int32) (lo : Nat → Int32) (hi : Nat → Int32) (cx : Nat → Int32) (cy : Nat → Int32) (x i : Nat) (hx0 : x < 41) (hi0 : i < 8) (hok : hu_ok1 (fa i) (fb i) (fc i)) : hu_CV l dC dI d (hu_wH d ad) (k, rd, ct, fa, fb, fc, lo, hi, cx, cy) sz yX0_narrow cX0_narrow 5 ({ frames := 1, cells := 0, slots := 0, locals := 22 }) [.ref (ad 0), .int (nI x), .int (nI i)] (fun u => ∃ lo' hi' : Nat → Int32, u = (k, rd, ct, fa, fb, fc, lo', hi', cx, cy) ∧ (∀ j, j ≠ x → lo' j = lo j ∧ hi' j = hi j) ∧ ((lo' x).toInt, (hi' x).toInt) = hu_nar (fa i).toInt (fb i).toInt (fc i).toInt (x : Int) ((lo x).toInt, (hi x).toInt)) := by
  refine hu_metC_v (by decide) (Nat.le_of_ble_eq_true rfl) sz ?_
  intro p e s m below meth c ls A C0 hP hK hD hS hA hl
  obtain ⟨hx, hb, hr, hml, hown, hts, hlocks⟩ := C0
  have hl : lv_has ls 5 [(0, .ref (ad 0)), (1, .int (nI x)), (2, .int (nI i))] := hl
  obtain ⟨⟨ok1, ok2⟩, ⟨ok3, ok4⟩, ok5, ok6⟩ := id hok
  refine lv_aload_n hx hb dX0_narrow_0 rfl (lv_at hl 0 rfl) ?_
  refine va_get (D := (dC, dI)) (ci := 0) (v := .ref (ad 3)) (C := RX0) (T := TX0) (N := 10) hx hb hts in_X0 hown hK hP 0 rfl rfl 3 (by decide) (hts _ q30) (fun _ h9 => h9) rfl dX0_narrow_1 ?_
  refine lv_iload_n hx hb dX0_narrow_4 rfl (lv_at hl 2 rfl) ?_
  refine hu_ald hx hb hK hP 3 0 rfl rfl i rfl (by omega) (by decide) dX0_narrow_5 ?_
  refine lv_aload_n hx hb dX0_narrow_6 rfl (lv_at hl 0 rfl) ?_
  refine va_get (D := (dC, dI)) (ci := 0) (v := .ref (ad 1)) (C := RX0) (T := TX0) (N := 10) hx hb hts in_X0 hown hK hP 0 rfl rfl 1 (by decide) (hts _ q28) (fun _ h9 => h9) rfl dX0_narrow_7 ?_
  refine lv_iload_n hx hb dX0_narrow_10 rfl (lv_at hl 2 rfl) ?_
  refine hu_ald hx hb hK hP 1 0 rfl rfl i rfl (by omega) (by decide) dX0_narrow_11 ?_
  refine lv_iload_n hx hb dX0_narrow_12 rfl (lv_at hl 1 rfl) ?_
  refine lv_imul hx hb dX0_narrow_13 ?_
  refine lv_isub hx hb dX0_narrow_14 ?_
  refine lv_topi (fun v15 ev15 => ?_)
  refine lv_istore_n (lv' := [(3, .int v15), (0, .ref (ad 0)), (1, .int (nI x)), (2, .int (nI i))]) hx hb dX0_narrow_15 rfl hl (by decide) rfl (fun ls hl => ?_)
  obtain ⟨hr1, hr2, hr3⟩ := hu_rest hx0 hok.1 hok.2.2 ev15
  refine lv_aload_n hx hb dX0_narrow_16 rfl (lv_at hl 1 rfl) ?_
  refine va_get (D := (dC, dI)) (ci := 0) (v := .ref (ad 2)) (C := RX0) (T := TX0) (N := 10) hx hb hts in_X0 hown hK hP 0 rfl rfl 2 (by decide) (hts _ q29) (fun _ h9 => h9) rfl dX0_narrow_17 ?_
  refine lv_iload_n hx hb dX0_narrow_20 rfl (lv_at hl 3 rfl) ?_
  refine hu_ald hx hb hK hP 2 0 rfl rfl i rfl (by omega) (by decide) dX0_narrow_21 ?_
  refine lv_if_le (tgt := 59) hx hb dX0_narrow_22 (by decide) (fun c_22 => ?_) (fun c_22 => ?_)
  · skip
    have hb_22 : (fb i).toInt ≤ 0 := (hu_le0 _).mp c_22
    refine lv_aload_n hx hb dX0_narrow_59 rfl (lv_at hl 1 rfl) ?_
    refine va_get (D := (dC, dI)) (ci := 0) (v := .ref (ad 2)) (C := RX0) (T := TX0) (N := 10) hx hb hts in_X0 hown hK hP 0 rfl rfl 2 (by decide) (hts _ q29) (fun _ h9 => h9) rfl dX0_narrow_60 ?_
    refine lv_iload_n hx hb dX0_narrow_63 rfl (lv_at hl 3 rfl) ?_
    refine hu_ald hx hb hK hP 2 0 rfl rfl i rfl (by omega) (by decide) dX0_narrow_64 ?_
    refine lv_if_ge (tgt := 104) hx hb dX0_narrow_65 (by decide) (fun c_65 => ?_) (fun c_65 => ?_)
    · skip
      have hb_65 : (fb i).toInt = 0 := by have q : 0 ≤ (fb i).toInt := (hu_0le _).mp c_65; omega
      refine lv_iload_n hx hb dX0_narrow_104 rfl (lv_at hl 0 rfl) ?_
      refine lv_if_ge (tgt := 115) hx hb dX0_narrow_105 (by decide) (fun c_105 => ?_) (fun c_105 => ?_)
      · skip
        have hq : ¬ ((fc i).toInt - (fa i).toInt * (x : Int)) < 0 := by rw [← hr1]; exact Int.not_lt.mpr ((hu_0le _).mp c_105)
        exact hu_retCV (k, rd, ct, fa, fb, fc, lo, hi, cx, cy) hx hb hr hlocks hK hP hD hS ⟨lo, hi, rfl, fun j hj => ⟨rfl, rfl⟩, by first | rw [hu_nar, if_pos hb_22, if_neg hq] | rw [hu_nar, if_neg (by omega), if_pos hb_65, if_neg hq] | rw [hu_nar, if_neg (by omega), if_neg (by omega), if_neg hq]⟩ dX0_narrow_115
      · skip
        have hq : ((fc i).toInt - (fa i).toInt * (x : Int)) < 0 := by rw [← hr1]; exact Int.not_le.mp (mt (hu_0le _).mpr c_105)
        refine lv_aload_n hx hb dX0_narrow_108 rfl (lv_at hl 1 rfl) ?_
        refine va_get (D := (dC, dI)) (ci := 0) (v := .ref (ad 5)) (C := RX0) (T := TX0) (N := 10) hx hb hts in_X0 hown hK hP 0 rfl rfl 6 (by decide) (hts _ q33) (fun _ h9 => h9) rfl dX0_narrow_109 ?_
        refine lv_iload_n hx hb dX0_narrow_112 rfl (lv_at hl 2 rfl) ?_
        refine lv_iconst (v := (-1)) hx hb dX0_narrow_113 (by decide) ?_
        refine hu_ast hx hb hK hP hD hS 5 0 rfl rfl x rfl (by omega) (by decide) dX0_narrow_114 (fun H locs hP hD hS => ?_)
        have hP : va_P (dC, dI) hu_Cl (hu_wH d ad (k, rd, ct, fa, fb, fc, lo, upd hi x (-1), cx, cy)) H := hP
        have hD : va_D A (hu_wH d ad (k, rd, ct, fa, fb, fc, lo, upd hi x (-1), cx, cy)) := hD
        exact hu_retCV (k, rd, ct, fa, fb, fc, lo, upd hi x (-1), cx, cy) hx hb hr hlocks hK hP hD hS ⟨_, _, rfl, fun j hj => ⟨rfl, pk_un hj⟩, by rw [hu_nar, if_neg (by omega), if_neg (by omega), if_pos hq, pk_us] <;> rfl⟩ dX0_narrow_115
    · skip
      have hb_65 : (fb i).toInt < 0 := Int.not_le.mp (mt (hu_0le _).mpr c_65)
      have hneg : (-(fb i)).toInt = -(fb i).toInt := hu_neg_t (by omega) (by omega)
      refine lv_iload_n hx hb dX0_narrow_68 rfl (lv_at hl 0 rfl) ?_
      refine lv_aload_n hx hb dX0_narrow_69 rfl (lv_at hl 1 rfl) ?_
      refine va_get (D := (dC, dI)) (ci := 0) (v := .ref (ad 2)) (C := RX0) (T := TX0) (N := 10) hx hb hts in_X0 hown hK hP 0 rfl rfl 2 (by decide) (hts _ q29) (fun _ h9 => h9) rfl dX0_narrow_70 ?_
      refine lv_iload_n hx hb dX0_narrow_73 rfl (lv_at hl 3 rfl) ?_
      refine hu_ald hx hb hK hP 2 0 rfl rfl i rfl (by omega) (by decide) dX0_narrow_74 ?_
      refine lv_ineg hx hb dX0_narrow_75 ?_
      refine hu_callS 2 (As := [.int v15, .int (-(fb i))]) (rest := []) ⟨hx, hb, hml, hown, hts⟩ (mX0_floorDiv l v15 (-(fb i)) (by rw [hneg]; omega) (by rw [hneg]; omega) (by omega) (by omega)) (lw_S q90 q91 q17 q92) (by decide +kernel) rfl ⟨Nat.le_of_ble_eq_true rfl, Nat.le_of_ble_eq_true rfl⟩ ⟨rfl, rfl⟩ hl.1 rfl (Nat.le_of_ble_eq_true rfl) ⟨Nat.zero_le _, Nat.zero_le _⟩ dX0_narrow_76 (fun r_76 w_76 => ?_)
      rw [hr1, hneg] at w_76
      have hdv := hu_dv (n := ((fc i).toInt - (fa i).toInt * (x : Int))) (d := -(fb i).toInt) (by omega) (by omega) (by omega) (by omega)
      rw [← w_76] at hdv
      have hn2 : (-r_76).toInt = -r_76.toInt := hu_neg_t (by omega) (by omega)
      refine lv_ineg hx hb dX0_narrow_79 ?_
      refine lv_istore (lv' := [(4, .int (-r_76)), (3, .int v15), (0, .ref (ad 0)), (1, .int (nI x)), (2, .int (nI i))]) hx hb dX0_narrow_80 hl (by decide) rfl (fun ls hl => ?_)
      refine lv_iload hx hb dX0_narrow_82 (lv_at hl 0 rfl) ?_
      refine lv_aload_n hx hb dX0_narrow_84 rfl (lv_at hl 2 rfl) ?_
      refine va_get (D := (dC, dI)) (ci := 0) (v := .ref (ad 4)) (C := RX0) (T := TX0) (N := 10) hx hb hts in_X0 hown hK hP 0 rfl rfl 5 (by decide) (hts _ q32) (fun _ h9 => h9) rfl dX0_narrow_85 ?_
      refine lv_iload_n hx hb dX0_narrow_88 rfl (lv_at hl 3 rfl) ?_
      refine hu_ald hx hb hK hP 4 0 rfl rfl x rfl (by omega) (by decide) dX0_narrow_89 ?_
      refine lv_icmp_le (tgt := 101) hx hb dX0_narrow_90 (by decide) (fun c_90 => ?_) (fun c_90 => ?_)
      · skip
        have hq : ¬ (lo x).toInt < -(((fc i).toInt - (fa i).toInt * (x : Int)) / (-(fb i).toInt)) := by rw [← w_76, ← hn2]; exact Int.not_lt.mpr ((hu_le _ _).mp c_90)
        refine lv_goto (tgt := 115) hx hb dX0_narrow_101 (by decide) ?_
        exact hu_retCV (k, rd, ct, fa, fb, fc, lo, hi, cx, cy) hx hb hr hlocks hK hP hD hS ⟨lo, hi, rfl, fun j hj => ⟨rfl, rfl⟩, by first | rw [hu_nar, if_pos hb_22, if_neg hq] | rw [hu_nar, if_neg (by omega), if_pos hb_65, if_neg hq] | rw [hu_nar, if_neg (by omega), if_neg (by omega), if_neg hq]⟩ dX0_narrow_115
      · skip
        have hq : (lo x).toInt < -(((fc i).toInt - (fa i).toInt * (x : Int)) / (-(fb i).toInt)) := by rw [← w_76, ← hn2]; exact Int.not_le.mp (mt (hu_le _ _).mpr c_90)
        refine lv_aload_n hx hb dX0_narrow_93 rfl (lv_at hl 2 rfl) ?_
        refine va_get (D := (dC, dI)) (ci := 0) (v := .ref (ad 4)) (C := RX0) (T := TX0) (N := 10) hx hb hts in_X0 hown hK hP 0 rfl rfl 5 (by decide) (hts _ q32) (fun _ h9 => h9) rfl dX0_narrow_94 ?_
        refine lv_iload_n hx hb dX0_narrow_97 rfl (lv_at hl 3 rfl) ?_
        refine lv_iload hx hb dX0_narrow_98 (lv_at hl 0 rfl) ?_
        refine hu_ast hx hb hK hP hD hS 4 0 rfl rfl x rfl (by omega) (by decide) dX0_narrow_100 (fun H locs hP hD hS => ?_)
        have hP : va_P (dC, dI) hu_Cl (hu_wH d ad (k, rd, ct, fa, fb, fc, upd lo x (-r_76), hi, cx, cy)) H := hP
        have hD : va_D A (hu_wH d ad (k, rd, ct, fa, fb, fc, upd lo x (-r_76), hi, cx, cy)) := hD
        refine lv_goto (tgt := 115) hx hb dX0_narrow_101 (by decide) ?_
        exact hu_retCV (k, rd, ct, fa, fb, fc, upd lo x (-r_76), hi, cx, cy) hx hb hr hlocks hK hP hD hS ⟨_, _, rfl, fun j hj => ⟨pk_un hj, rfl⟩, by rw [hu_nar, if_neg (by omega), if_pos hb_65, if_pos hq, pk_us, hn2, w_76]⟩ dX0_narrow_115
  · skip
    have hb_22 : 0 < (fb i).toInt := Int.not_le.mp (mt (hu_le0 _).mpr c_22)
    refine lv_iload_n hx hb dX0_narrow_25 rfl (lv_at hl 0 rfl) ?_
    refine lv_aload_n hx hb dX0_narrow_26 rfl (lv_at hl 1 rfl) ?_
    refine va_get (D := (dC, dI)) (ci := 0) (v := .ref (ad 2)) (C := RX0) (T := TX0) (N := 10) hx hb hts in_X0 hown hK hP 0 rfl rfl 2 (by decide) (hts _ q29) (fun _ h9 => h9) rfl dX0_narrow_27 ?_
    refine lv_iload_n hx hb dX0_narrow_30 rfl (lv_at hl 3 rfl) ?_
    refine hu_ald hx hb hK hP 2 0 rfl rfl i rfl (by omega) (by decide) dX0_narrow_31 ?_
    refine hu_callS 2 (As := [.int v15, .int (fb i)]) (rest := []) ⟨hx, hb, hml, hown, hts⟩ (mX0_floorDiv l v15 (fb i) hb_22 (by omega) (by omega) (by omega)) (lw_S q90 q91 q17 q92) (by decide +kernel) rfl ⟨Nat.le_of_ble_eq_true rfl, Nat.le_of_ble_eq_true rfl⟩ ⟨rfl, rfl⟩ hl.1 rfl (Nat.le_of_ble_eq_true rfl) ⟨Nat.zero_le _, Nat.zero_le _⟩ dX0_narrow_32 (fun r_32 w_32 => ?_)
    rw [hr1] at w_32
    refine lv_istore (lv' := [(4, .int r_32), (3, .int v15), (0, .ref (ad 0)), (1, .int (nI x)), (2, .int (nI i))]) hx hb dX0_narrow_35 hl (by decide) rfl (fun ls hl => ?_)
    refine lv_iload hx hb dX0_narrow_37 (lv_at hl 0 rfl) ?_
    refine lv_aload_n hx hb dX0_narrow_39 rfl (lv_at hl 2 rfl) ?_
    refine va_get (D := (dC, dI)) (ci := 0) (v := .ref (ad 5)) (C := RX0) (T := TX0) (N := 10) hx hb hts in_X0 hown hK hP 0 rfl rfl 6 (by decide) (hts _ q33) (fun _ h9 => h9) rfl dX0_narrow_40 ?_
    refine lv_iload_n hx hb dX0_narrow_43 rfl (lv_at hl 3 rfl) ?_
    refine hu_ald hx hb hK hP 5 0 rfl rfl x rfl (by omega) (by decide) dX0_narrow_44 ?_
    refine lv_icmp_ge (tgt := 56) hx hb dX0_narrow_45 (by decide) (fun c_45 => ?_) (fun c_45 => ?_)
    · skip
      have hq : ¬ ((fc i).toInt - (fa i).toInt * (x : Int)) / (fb i).toInt < (hi x).toInt := by rw [← w_32]; exact Int.not_lt.mpr ((hu_le _ _).mp c_45)
      refine lv_goto (tgt := 115) hx hb dX0_narrow_56 (by decide) ?_
      exact hu_retCV (k, rd, ct, fa, fb, fc, lo, hi, cx, cy) hx hb hr hlocks hK hP hD hS ⟨lo, hi, rfl, fun j hj => ⟨rfl, rfl⟩, by first | rw [hu_nar, if_pos hb_22, if_neg hq] | rw [hu_nar, if_neg (by omega), if_pos hb_65, if_neg hq] | rw [hu_nar, if_neg (by omega), if_neg (by omega), if_neg hq]⟩ dX0_narrow_115
    · skip
      have hq : ((fc i).toInt - (fa i).toInt * (x : Int)) / (fb i).toInt < (hi x).toInt := by rw [← w_32]; exact Int.not_le.mp (mt (hu_le _ _).mpr c_45)
      refine lv_aload_n hx hb dX0_narrow_48 rfl (lv_at hl 2 rfl) ?_
      refine va_get (D := (dC, dI)) (ci := 0) (v := .ref (ad 5)) (C := RX0) (T := TX0) (N := 10) hx hb hts in_X0 hown hK hP 0 rfl rfl 6 (by decide) (hts _ q33) (fun _ h9 => h9) rfl dX0_narrow_49 ?_
      refine lv_iload_n hx hb dX0_narrow_52 rfl (lv_at hl 3 rfl) ?_
      refine lv_iload hx hb dX0_narrow_53 (lv_at hl 0 rfl) ?_
      refine hu_ast hx hb hK hP hD hS 5 0 rfl rfl x rfl (by omega) (by decide) dX0_narrow_55 (fun H locs hP hD hS => ?_)
      have hP : va_P (dC, dI) hu_Cl (hu_wH d ad (k, rd, ct, fa, fb, fc, lo, upd hi x r_32, cx, cy)) H := hP
      have hD : va_D A (hu_wH d ad (k, rd, ct, fa, fb, fc, lo, upd hi x r_32, cx, cy)) := hD
      refine lv_goto (tgt := 115) hx hb dX0_narrow_56 (by decide) ?_
      exact hu_retCV (k, rd, ct, fa, fb, fc, lo, upd hi x r_32, cx, cy) hx hb hr hlocks hK hP hD hS ⟨_, _, rfl, fun j hj => ⟨rfl, pk_un hj⟩, by rw [hu_nar, if_pos hb_22, if_pos hq, pk_us, w_32]⟩ dX0_narrow_115
set_option maxHeartbeats 4000000 in
set_option maxRecDepth 100000 in
/-- fillColumn -/
theorem mX0_fillColumn (l : Launch) (dC : Nat → ClassId) (dI : Nat → Nat → Nat) (d : ClassId) (ad : Nat → Nat) (sz : Nat) (rd : Int32) (ct : Int32) (fa : Nat → Int32) (fb : Nat → Int32) (fc : Nat → Int32) (lo : Nat → Int32) (hi : Nat → Int32) (cx : Nat → Int32) (cy : Nat → Int32) (K x : Nat) (hk8 : K ≤ 8) (hx0 : x < 41) (hok : hu_OK K fa fb fc) : hu_CV l dC dI d (hu_wH d ad) (nI K, rd, ct, fa, fb, fc, lo, hi, cx, cy) sz yX0_fillColumn cX0_fillColumn 3 ({ frames := 2, cells := 0, slots := 0, locals := 46 }) [.ref (ad 0), .int (nI x)] (fun u => ∃ lo' hi' : Nat → Int32, u = (nI K, rd, ct, fa, fb, fc, lo', hi', cx, cy) ∧ (∀ j, j ≠ x → lo' j = lo j ∧ hi' j = hi j) ∧ ((lo' x).toInt, (hi' x).toInt) = hu_fl fa fb fc (x : Int) K) := by
  refine hu_metC_v (by decide) (Nat.le_of_ble_eq_true rfl) sz ?_
  intro p e s m below meth c ls A C0 hP hK hD hS hA hl
  obtain ⟨hx, hb, hr, hml, hown, hts, hlocks⟩ := C0
  have hl : lv_has ls 3 [(0, .ref (ad 0)), (1, .int (nI x))] := hl
  have loop : ∀ (n : Nat) (i : Nat) (lo1 : Nat → Int32) (hi1 : Nat → Int32), i ≤ K → K < i + n → (∀ j, j ≠ x → lo1 j = lo j ∧ hi1 j = hi j) → ((lo1 x).toInt, (hi1 x).toInt) = hu_fl fa fb fc (x : Int) i → ∀ (H : Heap) (locs : List Loc), va_P (dC, dI) hu_Cl (hu_wH d ad (nI K, rd, ct, fa, fb, fc, lo1, hi1, cx, cy)) H → va_D A (hu_wH d ad (nI K, rd, ct, fa, fb, fc, lo1, hi1, cx, cy)) → va_S A s.heap H locs → ∀ ls : Array Slot, lv_has ls 3 [(2, .int (nI i)), (0, .ref (ad 0)), (1, .int (nI x))] → W p l e ({ frames := 2, cells := 0, slots := 0, locals := 46 }) s m ([.ref (ad 0), .int (nI x)] : List Value).toArray below meth c H locs 0 0 (MQ below (va_Qv (fun u => ∃ lo' hi' : Nat → Int32, u = (nI K, rd, ct, fa, fb, fc, lo', hi', cx, cy) ∧ (∀ j, j ≠ x → lo' j = lo j ∧ hi' j = hi j) ∧ ((lo' x).toInt, (hi' x).toInt) = hu_fl fa fb fc (x : Int) K) (hu_W dC dI d (hu_wH d ad) A) A) ([.ref (ad 0), .int (nI x)] : List Value).toArray s 0 0 A) (F0 m 17 ls []) := by
    intro n
    induction n with
    | zero =>
      intro i lo1 hi1 h1 h2
      exfalso
      omega
    | succ n ih =>
      intro i lo1 hi1 h1 h2 h3 h4 H locs hP hD hS ls hl
      refine lv_iload_n hx hb dX0_fillColumn_17 rfl (lv_at hl 0 rfl) ?_
      refine lv_aload_n hx hb dX0_fillColumn_18 rfl (lv_at hl 1 rfl) ?_
      refine va_get (D := (dC, dI)) (ci := 0) (v := .int (nI K)) (C := RX0) (T := TX0) (N := 10) hx hb hts in_X0 hown hK hP 0 rfl rfl 0 (by decide) (hts _ q27) (fun _ h9 => h9) rfl dX0_fillColumn_19 ?_
      refine lv_icmp_ge (tgt := 37) hx hb dX0_fillColumn_22 (by decide) (fun c_22 => ?_) (fun c_22 => ?_)
      · skip
        have hi_22 : i = K := by have := (nI_leI (by omega) (by omega)).mp c_22; omega
        exact hu_retCV (nI K, rd, ct, fa, fb, fc, lo1, hi1, cx, cy) hx hb hr hlocks hK hP hD hS ⟨lo1, hi1, rfl, h3, by rw [h4, hi_22]⟩ dX0_fillColumn_37
      · skip
        have hi_22 : i < K := by have := mt (nI_leI (by omega) (by omega)).mpr c_22; omega
        refine lv_aload_n hx hb dX0_fillColumn_25 rfl (lv_at hl 1 rfl) ?_
        refine lv_iload_n hx hb dX0_fillColumn_26 rfl (lv_at hl 2 rfl) ?_
        refine lv_iload_n hx hb dX0_fillColumn_27 rfl (lv_at hl 0 rfl) ?_
        refine hu_callCV 2 (As := [.int (nI x), .int (nI i)]) (rest := []) (wf := hu_wH d ad) (wr := []) ⟨hx, hb, hml, hown, hts⟩ (mX0_narrow l dC dI d ad _ (nI K) rd ct fa fb fc lo1 hi1 cx cy x i hx0 (by omega) (hok i hi_22)) (lw_V q86 q88 qs2 q17 q89) (by decide +kernel) rfl ⟨Nat.le_of_ble_eq_true rfl, Nat.le_of_ble_eq_true rfl⟩ ⟨rfl, rfl⟩ hK hP hD hS hA [0, 1, 2, 3, 4, 5, 6, 7] [] rfl rfl ⟨rfl, rfl⟩ (by decide) rfl (va_recv hK hP (ci := 0) (q0 := 0) rfl rfl) hl.1 rfl (Nat.le_of_ble_eq_true rfl) ⟨Nat.zero_le _, Nat.zero_le _⟩ dX0_fillColumn_28 (fun u_28 H locs w_28 hP hD hS => ?_)
        obtain ⟨lo2, hi2, rfl, hj2, hv2⟩ := w_28
        have hP : va_P (dC, dI) hu_Cl (hu_wH d ad (nI K, rd, ct, fa, fb, fc, lo2, hi2, cx, cy)) H := hP
        have hD : va_D A (hu_wH d ad (nI K, rd, ct, fa, fb, fc, lo2, hi2, cx, cy)) := hD
        refine lv_iinc (v := nI (i + 1)) (lv' := [(2, .int (nI (i + 1))), (0, .ref (ad 0)), (1, .int (nI x))]) hx hb dX0_fillColumn_31 hl (k := 0) rfl (nI_1 _) (by decide) rfl (fun ls hl => ?_)
        refine lv_goto (tgt := 17) hx hb dX0_fillColumn_34 (by decide) ?_
        exact ih (i + 1) lo2 hi2 (by omega) (by omega) (fun j hj => ⟨(hj2 j hj).1.trans (h3 j hj).1, (hj2 j hj).2.trans (h3 j hj).2⟩) (by rw [hv2, h4]; rfl) _ _ hP hD hS ls (lv_sub hl [0, 1, 2] rfl)
  refine lv_aload_n hx hb dX0_fillColumn_0 rfl (lv_at hl 0 rfl) ?_
  refine va_get (D := (dC, dI)) (ci := 0) (v := .ref (ad 4)) (C := RX0) (T := TX0) (N := 10) hx hb hts in_X0 hown hK hP 0 rfl rfl 5 (by decide) (hts _ q32) (fun _ h9 => h9) rfl dX0_fillColumn_1 ?_
  refine lv_iload_n hx hb dX0_fillColumn_4 rfl (lv_at hl 1 rfl) ?_
  refine lv_iconst (v := 0) hx hb dX0_fillColumn_5 (by decide) ?_
  refine hu_ast hx hb hK hP hD hS 4 0 rfl rfl x rfl (by omega) (by decide) dX0_fillColumn_6 (fun H locs hP hD hS => ?_)
  have hP : va_P (dC, dI) hu_Cl (hu_wH d ad (nI K, rd, ct, fa, fb, fc, upd lo x 0, hi, cx, cy)) H := hP
  have hD : va_D A (hu_wH d ad (nI K, rd, ct, fa, fb, fc, upd lo x 0, hi, cx, cy)) := hD
  refine lv_aload_n hx hb dX0_fillColumn_7 rfl (lv_at hl 0 rfl) ?_
  refine va_get (D := (dC, dI)) (ci := 0) (v := .ref (ad 5)) (C := RX0) (T := TX0) (N := 10) hx hb hts in_X0 hown hK hP 0 rfl rfl 6 (by decide) (hts _ q33) (fun _ h9 => h9) rfl dX0_fillColumn_8 ?_
  refine lv_iload_n hx hb dX0_fillColumn_11 rfl (lv_at hl 1 rfl) ?_
  refine lv_bipush (v := 40) hx hb dX0_fillColumn_12 (by decide) ?_
  refine hu_ast hx hb hK hP hD hS 5 0 rfl rfl x rfl (by omega) (by decide) dX0_fillColumn_14 (fun H locs hP hD hS => ?_)
  have hP : va_P (dC, dI) hu_Cl (hu_wH d ad (nI K, rd, ct, fa, fb, fc, upd lo x 0, upd hi x 40, cx, cy)) H := hP
  have hD : va_D A (hu_wH d ad (nI K, rd, ct, fa, fb, fc, upd lo x 0, upd hi x 40, cx, cy)) := hD
  refine lv_iconst (v := 0) hx hb dX0_fillColumn_15 (by decide) ?_
  refine lv_istore_n (lv' := [(2, .int 0), (0, .ref (ad 0)), (1, .int (nI x))]) hx hb dX0_fillColumn_16 rfl hl (by decide) rfl (fun ls hl => ?_)
  exact loop (K + 1) 0 _ _ (by omega) (by omega) (fun j hj => ⟨pk_un hj, pk_un hj⟩) (by rw [pk_us, pk_us]; rfl) _ _ hP hD hS ls (lv_sub hl [0, 1, 2] rfl)
set_option maxHeartbeats 4000000 in
set_option maxRecDepth 100000 in
/-- addPoint -/
theorem mX0_addPoint (l : Launch) (dC : Nat → ClassId) (dI : Nat → Nat → Nat) (d : ClassId) (ad : Nat → Nat) (sz : Nat) (k : Int32) (rd : Int32) (fa : Nat → Int32) (fb : Nat → Int32) (fc : Nat → Int32) (lo : Nat → Int32) (hi : Nat → Int32) (cx : Nat → Int32) (cy : Nat → Int32) (c0 b : Nat) (hc0 : c0 ≤ 83) (hbc : b ≤ c0) (X Z : Int32) (hbox : ∀ j, j < c0 → 0 ≤ (cx j).toInt ∧ (cx j).toInt ≤ 40 ∧ 0 ≤ (cy j).toInt ∧ (cy j).toInt ≤ 40) (hXZ : 0 ≤ X.toInt ∧ X.toInt ≤ 40 ∧ 0 ≤ Z.toInt ∧ Z.toInt ≤ 40) : hu_CV l dC dI d (hu_wH d ad) (k, rd, nI c0, fa, fb, fc, lo, hi, cx, cy) sz yX0_addPoint cX0_addPoint 4 ({ frames := 1, cells := 0, slots := 0, locals := 24 }) [.ref (ad 0), .int (nI b), .int X, .int Z] (fun u => ∃ m : Nat, u = (k, rd, nI (m + 1), fa, fb, fc, lo, hi, upd cx m X, upd cy m Z) ∧ hu_Pop (hu_pt cx cy) b c0 m (X.toInt, Z.toInt)) := by
  refine hu_metC_v (by decide) (Nat.le_of_ble_eq_true rfl) sz ?_
  intro p e s m below meth c ls A C0 hP hK hD hS hA hl
  obtain ⟨hx, hb, hr, hml, hown, hts, hlocks⟩ := C0
  have hl : lv_has ls 4 [(0, .ref (ad 0)), (1, .int (nI b)), (2, .int X), (3, .int Z)] := hl
  have loop : ∀ (n : Nat) (j : Nat), b ≤ j → j < b + n → j ≤ c0 → (∀ q, j < q → q ≤ c0 → b + 2 ≤ q ∧ hu_tn (hu_pt cx cy (q - 2)) (hu_pt cx cy (q - 1)) (X.toInt, Z.toInt) ≤ 0) → ∀ (H : Heap) (locs : List Loc), va_P (dC, dI) hu_Cl (hu_wH d ad (k, rd, nI j, fa, fb, fc, lo, hi, cx, cy)) H → va_D A (hu_wH d ad (k, rd, nI j, fa, fb, fc, lo, hi, cx, cy)) → va_S A s.heap H locs → ∀ ls : Array Slot, lv_has ls 4 [(0, .ref (ad 0)), (1, .int (nI b)), (2, .int X), (3, .int Z)] → W p l e ({ frames := 1, cells := 0, slots := 0, locals := 24 }) s m ([.ref (ad 0), .int (nI b), .int X, .int Z] : List Value).toArray below meth c H locs 0 0 (MQ below (va_Qv (fun u => ∃ m : Nat, u = (k, rd, nI (m + 1), fa, fb, fc, lo, hi, upd cx m X, upd cy m Z) ∧ hu_Pop (hu_pt cx cy) b c0 m (X.toInt, Z.toInt)) (hu_W dC dI d (hu_wH d ad) A) A) ([.ref (ad 0), .int (nI b), .int X, .int Z] : List Value).toArray s 0 0 A) (F0 m 0 ls []) := by
    intro n
    induction n with
    | zero =>
      intro j h1 h2
      exfalso
      omega
    | succ n ih =>
      intro j h1 h2 h3 h4 H locs hP hD hS ls hl
      refine lv_aload_n hx hb dX0_addPoint_0 rfl (lv_at hl 0 rfl) ?_
      refine va_get (D := (dC, dI)) (ci := 0) (v := .int (nI j)) (C := RX0) (T := TX0) (N := 10) hx hb hts in_X0 hown hK hP 0 rfl rfl 7 (by decide) (hts _ q34) (fun _ h9 => h9) rfl dX0_addPoint_1 ?_
      refine lv_iload_n hx hb dX0_addPoint_4 rfl (lv_at hl 1 rfl) ?_
      refine lv_isub hx hb dX0_addPoint_5 ?_
      refine hu_top (z := nI (j - b)) (pk_sub h1) ?_
      refine lv_iconst (v := 2) hx hb dX0_addPoint_6 (by decide) ?_
      refine lv_icmp_lt (tgt := 44) hx hb dX0_addPoint_7 (by decide) (fun c_7 => ?_) (fun c_7 => ?_)
      · skip
        have hi_7 : j - b < 2 := (nI_ltI (a := j - b) (b := 2) (by omega) (by omega)).mp c_7
        have hst : j < b + 2 ∨ 0 < hu_tn (hu_pt cx cy (j - 2)) (hu_pt cx cy (j - 1)) (X.toInt, Z.toInt) := Or.inl (by omega)
        refine lv_aload_n hx hb dX0_addPoint_44 rfl (lv_at hl 0 rfl) ?_
        refine va_get (D := (dC, dI)) (ci := 0) (v := .ref (ad 6)) (C := RX0) (T := TX0) (N := 10) hx hb hts in_X0 hown hK hP 0 rfl rfl 8 (by decide) (hts _ q35) (fun _ h9 => h9) rfl dX0_addPoint_45 ?_
        refine lv_aload_n hx hb dX0_addPoint_48 rfl (lv_at hl 0 rfl) ?_
        refine va_get (D := (dC, dI)) (ci := 0) (v := .int (nI j)) (C := RX0) (T := TX0) (N := 10) hx hb hts in_X0 hown hK hP 0 rfl rfl 7 (by decide) (hts _ q34) (fun _ h9 => h9) rfl dX0_addPoint_49 ?_
        refine lv_iload_n hx hb dX0_addPoint_52 rfl (lv_at hl 2 rfl) ?_
        refine hu_ast hx hb hK hP hD hS 6 0 rfl rfl j rfl (by omega) (by decide) dX0_addPoint_53 (fun H locs hP hD hS => ?_)
        have hP : va_P (dC, dI) hu_Cl (hu_wH d ad (k, rd, nI j, fa, fb, fc, lo, hi, upd cx j X, cy)) H := hP
        have hD : va_D A (hu_wH d ad (k, rd, nI j, fa, fb, fc, lo, hi, upd cx j X, cy)) := hD
        refine lv_aload_n hx hb dX0_addPoint_54 rfl (lv_at hl 0 rfl) ?_
        refine va_get (D := (dC, dI)) (ci := 0) (v := .ref (ad 7)) (C := RX0) (T := TX0) (N := 10) hx hb hts in_X0 hown hK hP 0 rfl rfl 9 (by decide) (hts _ q36) (fun _ h9 => h9) rfl dX0_addPoint_55 ?_
        refine lv_aload_n hx hb dX0_addPoint_58 rfl (lv_at hl 0 rfl) ?_
        refine va_get (D := (dC, dI)) (ci := 0) (v := .int (nI j)) (C := RX0) (T := TX0) (N := 10) hx hb hts in_X0 hown hK hP 0 rfl rfl 7 (by decide) (hts _ q34) (fun _ h9 => h9) rfl dX0_addPoint_59 ?_
        refine lv_iload_n hx hb dX0_addPoint_62 rfl (lv_at hl 3 rfl) ?_
        refine hu_ast hx hb hK hP hD hS 7 0 rfl rfl j rfl (by omega) (by decide) dX0_addPoint_63 (fun H locs hP hD hS => ?_)
        have hP : va_P (dC, dI) hu_Cl (hu_wH d ad (k, rd, nI j, fa, fb, fc, lo, hi, upd cx j X, upd cy j Z)) H := hP
        have hD : va_D A (hu_wH d ad (k, rd, nI j, fa, fb, fc, lo, hi, upd cx j X, upd cy j Z)) := hD
        refine lv_aload_n hx hb dX0_addPoint_64 rfl (lv_at hl 0 rfl) ?_
        refine lv_dup hx hb dX0_addPoint_65 rfl ?_
        refine va_get (D := (dC, dI)) (ci := 0) (v := .int (nI j)) (C := RX0) (T := TX0) (N := 10) hx hb hts in_X0 hown hK hP 0 rfl rfl 7 (by decide) (hts _ q34) (fun _ h9 => h9) rfl dX0_addPoint_66 ?_
        refine lv_iconst (v := 1) hx hb dX0_addPoint_69 (by decide) ?_
        refine lv_iadd hx hb dX0_addPoint_70 ?_
        refine hu_top (z := nI (j + 1)) (nI_1 j) ?_
        refine va_put (D := (dC, dI)) (ci := 0) (v := .int (nI (j + 1))) (ty := .int) (C := RX0) (T := TX0) (N := 10) hx hb hts in_X0 tyX0 tyX0_ok nmX0 hown hK hP hD hS 0 rfl rfl 7 (by decide) (hts _ q34) (fun _ h9 => h9) rfl (by decide +kernel) rfl rfl (Nat.le_of_ble_eq_true rfl) dX0_addPoint_71 (fun H locs hP hD hS => ?_)
        have hP : va_P (dC, dI) hu_Cl (hu_wH d ad (k, rd, nI (j + 1), fa, fb, fc, lo, hi, upd cx j X, upd cy j Z)) H := hP
        have hD : va_D A (hu_wH d ad (k, rd, nI (j + 1), fa, fb, fc, lo, hi, upd cx j X, upd cy j Z)) := hD
        exact hu_retCV (k, rd, nI (j + 1), fa, fb, fc, lo, hi, upd cx j X, upd cy j Z) hx hb hr hlocks hK hP hD hS ⟨j, rfl, h1, h3, hst, h4⟩ dX0_addPoint_74
      · skip
        have hi_7 : 2 ≤ j - b := by have := mt (nI_ltI (a := j - b) (b := 2) (by omega) (by omega)).mpr c_7; omega
        refine lv_aload_n hx hb dX0_addPoint_10 rfl (lv_at hl 0 rfl) ?_
        refine lv_aload_n hx hb dX0_addPoint_11 rfl (lv_at hl 0 rfl) ?_
        refine va_get (D := (dC, dI)) (ci := 0) (v := .int (nI j)) (C := RX0) (T := TX0) (N := 10) hx hb hts in_X0 hown hK hP 0 rfl rfl 7 (by decide) (hts _ q34) (fun _ h9 => h9) rfl dX0_addPoint_12 ?_
        refine lv_iconst (v := 2) hx hb dX0_addPoint_15 (by decide) ?_
        refine lv_isub hx hb dX0_addPoint_16 ?_
        refine hu_top (z := nI (j - 2)) (pk_sub (a := j) (b := 2) (by omega)) ?_
        refine lv_aload_n hx hb dX0_addPoint_17 rfl (lv_at hl 0 rfl) ?_
        refine va_get (D := (dC, dI)) (ci := 0) (v := .int (nI j)) (C := RX0) (T := TX0) (N := 10) hx hb hts in_X0 hown hK hP 0 rfl rfl 7 (by decide) (hts _ q34) (fun _ h9 => h9) rfl dX0_addPoint_18 ?_
        refine lv_iconst (v := 1) hx hb dX0_addPoint_21 (by decide) ?_
        refine lv_isub hx hb dX0_addPoint_22 ?_
        refine hu_top (z := nI (j - 1)) (pk_sub (a := j) (b := 1) (by omega)) ?_
        refine lv_iload_n hx hb dX0_addPoint_23 rfl (lv_at hl 2 rfl) ?_
        refine lv_iload_n hx hb dX0_addPoint_24 rfl (lv_at hl 3 rfl) ?_
        refine hu_callR 4 (As := [.int (nI (j - 2)), .int (nI (j - 1)), .int X, .int Z]) (rest := []) ⟨hx, hb, hml, hown, hts⟩ (mX0_turn l dC dI d ad k rd (nI j) fa fb fc lo hi cx cy (j - 2) (j - 1) X Z (by omega) (by omega)) (lw_V q101 q103 qs5 q17 q104) (by decide +kernel) rfl ⟨Nat.le_of_ble_eq_true rfl, Nat.le_of_ble_eq_true rfl⟩ ⟨rfl, rfl⟩ hK hP (va_recv hK hP (ci := 0) (q0 := 0) rfl rfl) hl.1 rfl (Nat.le_of_ble_eq_true rfl) ⟨Nat.zero_le _, Nat.zero_le _⟩ dX0_addPoint_25 (fun r_25 w_25 => ?_)
        have ht := hu_turn (hbox (j - 2) (by omega)) (hbox (j - 1) (by omega)) hXZ w_25
        refine lv_if_gt (tgt := 44) hx hb dX0_addPoint_28 (by decide) (fun c_28 => ?_) (fun c_28 => ?_)
        · skip
          have hst : j < b + 2 ∨ 0 < hu_tn (hu_pt cx cy (j - 2)) (hu_pt cx cy (j - 1)) (X.toInt, Z.toInt) := Or.inr (by rw [← ht]; exact (hu_0lt _).mp c_28)
          refine lv_aload_n hx hb dX0_addPoint_44 rfl (lv_at hl 0 rfl) ?_
          refine va_get (D := (dC, dI)) (ci := 0) (v := .ref (ad 6)) (C := RX0) (T := TX0) (N := 10) hx hb hts in_X0 hown hK hP 0 rfl rfl 8 (by decide) (hts _ q35) (fun _ h9 => h9) rfl dX0_addPoint_45 ?_
          refine lv_aload_n hx hb dX0_addPoint_48 rfl (lv_at hl 0 rfl) ?_
          refine va_get (D := (dC, dI)) (ci := 0) (v := .int (nI j)) (C := RX0) (T := TX0) (N := 10) hx hb hts in_X0 hown hK hP 0 rfl rfl 7 (by decide) (hts _ q34) (fun _ h9 => h9) rfl dX0_addPoint_49 ?_
          refine lv_iload_n hx hb dX0_addPoint_52 rfl (lv_at hl 2 rfl) ?_
          refine hu_ast hx hb hK hP hD hS 6 0 rfl rfl j rfl (by omega) (by decide) dX0_addPoint_53 (fun H locs hP hD hS => ?_)
          have hP : va_P (dC, dI) hu_Cl (hu_wH d ad (k, rd, nI j, fa, fb, fc, lo, hi, upd cx j X, cy)) H := hP
          have hD : va_D A (hu_wH d ad (k, rd, nI j, fa, fb, fc, lo, hi, upd cx j X, cy)) := hD
          refine lv_aload_n hx hb dX0_addPoint_54 rfl (lv_at hl 0 rfl) ?_
          refine va_get (D := (dC, dI)) (ci := 0) (v := .ref (ad 7)) (C := RX0) (T := TX0) (N := 10) hx hb hts in_X0 hown hK hP 0 rfl rfl 9 (by decide) (hts _ q36) (fun _ h9 => h9) rfl dX0_addPoint_55 ?_
          refine lv_aload_n hx hb dX0_addPoint_58 rfl (lv_at hl 0 rfl) ?_
          refine va_get (D := (dC, dI)) (ci := 0) (v := .int (nI j)) (C := RX0) (T := TX0) (N := 10) hx hb hts in_X0 hown hK hP 0 rfl rfl 7 (by decide) (hts _ q34) (fun _ h9 => h9) rfl dX0_addPoint_59 ?_
          refine lv_iload_n hx hb dX0_addPoint_62 rfl (lv_at hl 3 rfl) ?_
          refine hu_ast hx hb hK hP hD hS 7 0 rfl rfl j rfl (by omega) (by decide) dX0_addPoint_63 (fun H locs hP hD hS => ?_)
          have hP : va_P (dC, dI) hu_Cl (hu_wH d ad (k, rd, nI j, fa, fb, fc, lo, hi, upd cx j X, upd cy j Z)) H := hP
          have hD : va_D A (hu_wH d ad (k, rd, nI j, fa, fb, fc, lo, hi, upd cx j X, upd cy j Z)) := hD
          refine lv_aload_n hx hb dX0_addPoint_64 rfl (lv_at hl 0 rfl) ?_
          refine lv_dup hx hb dX0_addPoint_65 rfl ?_
          refine va_get (D := (dC, dI)) (ci := 0) (v := .int (nI j)) (C := RX0) (T := TX0) (N := 10) hx hb hts in_X0 hown hK hP 0 rfl rfl 7 (by decide) (hts _ q34) (fun _ h9 => h9) rfl dX0_addPoint_66 ?_
          refine lv_iconst (v := 1) hx hb dX0_addPoint_69 (by decide) ?_
          refine lv_iadd hx hb dX0_addPoint_70 ?_
          refine hu_top (z := nI (j + 1)) (nI_1 j) ?_
          refine va_put (D := (dC, dI)) (ci := 0) (v := .int (nI (j + 1))) (ty := .int) (C := RX0) (T := TX0) (N := 10) hx hb hts in_X0 tyX0 tyX0_ok nmX0 hown hK hP hD hS 0 rfl rfl 7 (by decide) (hts _ q34) (fun _ h9 => h9) rfl (by decide +kernel) rfl rfl (Nat.le_of_ble_eq_true rfl) dX0_addPoint_71 (fun H locs hP hD hS => ?_)
          have hP : va_P (dC, dI) hu_Cl (hu_wH d ad (k, rd, nI (j + 1), fa, fb, fc, lo, hi, upd cx j X, upd cy j Z)) H := hP
          have hD : va_D A (hu_wH d ad (k, rd, nI (j + 1), fa, fb, fc, lo, hi, upd cx j X, upd cy j Z)) := hD
          exact hu_retCV (k, rd, nI (j + 1), fa, fb, fc, lo, hi, upd cx j X, upd cy j Z) hx hb hr hlocks hK hP hD hS ⟨j, rfl, h1, h3, hst, h4⟩ dX0_addPoint_74
        · skip
          have hst : hu_tn (hu_pt cx cy (j - 2)) (hu_pt cx cy (j - 1)) (X.toInt, Z.toInt) ≤ 0 := by rw [← ht]; exact Int.not_lt.mp (mt (hu_0lt _).mpr c_28)
          refine lv_aload_n hx hb dX0_addPoint_31 rfl (lv_at hl 0 rfl) ?_
          refine lv_dup hx hb dX0_addPoint_32 rfl ?_
          refine va_get (D := (dC, dI)) (ci := 0) (v := .int (nI j)) (C := RX0) (T := TX0) (N := 10) hx hb hts in_X0 hown hK hP 0 rfl rfl 7 (by decide) (hts _ q34) (fun _ h9 => h9) rfl dX0_addPoint_33 ?_
          refine lv_iconst (v := 1) hx hb dX0_addPoint_36 (by decide) ?_
          refine lv_isub hx hb dX0_addPoint_37 ?_
          refine hu_top (z := nI (j - 1)) (pk_sub (a := j) (b := 1) (by omega)) ?_
          refine va_put (D := (dC, dI)) (ci := 0) (v := .int (nI (j - 1))) (ty := .int) (C := RX0) (T := TX0) (N := 10) hx hb hts in_X0 tyX0 tyX0_ok nmX0 hown hK hP hD hS 0 rfl rfl 7 (by decide) (hts _ q34) (fun _ h9 => h9) rfl (by decide +kernel) rfl rfl (Nat.le_of_ble_eq_true rfl) dX0_addPoint_38 (fun H locs hP hD hS => ?_)
          have hP : va_P (dC, dI) hu_Cl (hu_wH d ad (k, rd, nI (j - 1), fa, fb, fc, lo, hi, cx, cy)) H := hP
          have hD : va_D A (hu_wH d ad (k, rd, nI (j - 1), fa, fb, fc, lo, hi, cx, cy)) := hD
          refine lv_goto (tgt := 0) hx hb dX0_addPoint_41 (by decide) ?_
          exact ih (j - 1) (by omega) (by omega) (by omega) (fun q hq1 hq2 => by rcases Nat.lt_or_ge j q with w | w; exact h4 q w hq2; rw [show q = j by omega]; exact ⟨by omega, hst⟩) _ _ hP hD hS ls (lv_sub hl [0, 1, 2, 3] rfl)
  exact loop (c0 + 1) c0 hbc (by omega) (Nat.le_refl _) (fun q hq1 hq2 => by omega) _ _ hP hD hS ls (lv_sub hl [0, 1, 2, 3] rfl)
set_option maxHeartbeats 4000000 in
set_option maxRecDepth 100000 in
/-- prepare -/
theorem mX0_prepare (l : Launch) (dC : Nat → ClassId) (dI : Nat → Nat → Nat) (d : ClassId) (ad : Nat → Nat) (sz : Nat) (rd : Int32) (ct : Int32) (fa : Nat → Int32) (fb : Nat → Int32) (fc : Nat → Int32) (lo : Nat → Int32) (hi : Nat → Int32) (cx : Nat → Int32) (cy : Nat → Int32) (K : Nat) (hk8 : K ≤ 8) (hok : hu_OK K fa fb fc) (hrd : rd = 0 ∨ (rd = 1 ∧ hu_Prep K fa fb fc lo hi ct cx cy)) : hu_CV l dC dI d (hu_wH d ad) (nI K, rd, ct, fa, fb, fc, lo, hi, cx, cy) sz yX0_prepare cX0_prepare 4 ({ frames := 3, cells := 0, slots := 0, locals := 68 }) [.ref (ad 0)] (fun u => ∃ (lo' hi' : Nat → Int32) (ct' : Int32) (cx' cy' : Nat → Int32), u = (nI K, 1, ct', fa, fb, fc, lo', hi', cx', cy') ∧ hu_Prep K fa fb fc lo' hi' ct' cx' cy') := by
  refine hu_metC_v (by decide) (Nat.le_of_ble_eq_true rfl) sz ?_
  intro p e s m below meth c ls A C0 hP hK hD hS hA hl
  obtain ⟨hx, hb, hr, hml, hown, hts, hlocks⟩ := C0
  have hl : lv_has ls 4 [(0, .ref (ad 0))] := hl
  have loop2 : ∀ (n : Nat) (y : Nat) (c1 : Nat) (b : Nat) (xl : Nat) (lo1 : Nat → Int32) (hi1 : Nat → Int32) (cx1 : Nat → Int32) (cy1 : Nat → Int32), y ≤ 41 → y < n → (∀ j : Nat, j < 41 → ((lo1 j).toInt, (hi1 j).toInt) = hu_fl fa fb fc (j : Int) K) → hu_V (hu_S K fa fb fc) y (hu_pt cx1 cy1) b c1 xl → c1 + y ≤ 82 → xl < 41 → ∀ (H : Heap) (locs : List Loc), va_P (dC, dI) hu_Cl (hu_wH d ad (nI K, 1, nI c1, fa, fb, fc, lo1, hi1, cx1, cy1)) H → va_D A (hu_wH d ad (nI K, 1, nI c1, fa, fb, fc, lo1, hi1, cx1, cy1)) → va_S A s.heap H locs → ∀ ls : Array Slot, lv_has ls 4 [(3, .int (nI y - 1)), (2, .int (nI b)), (1, .int (nI xl)), (0, .ref (ad 0))] → W p l e ({ frames := 3, cells := 0, slots := 0, locals := 68 }) s m ([.ref (ad 0)] : List Value).toArray below meth c H locs 0 0 (MQ below (va_Qv (fun u => ∃ (lo' hi' : Nat → Int32) (ct' : Int32) (cx' cy' : Nat → Int32), u = (nI K, 1, ct', fa, fb, fc, lo', hi', cx', cy') ∧ hu_Prep K fa fb fc lo' hi' ct' cx' cy') (hu_W dC dI d (hu_wH d ad) A) A) ([.ref (ad 0)] : List Value).toArray s 0 0 A) (F0 m 75 ls []) := by
    intro n
    induction n with
    | zero =>
      intro y c1 b xl lo1 hi1 cx1 cy1 h1 h2
      exfalso
      omega
    | succ n ih =>
      intro y c1 b xl lo1 hi1 cx1 cy1 h1 h2 h3 h4 h5 h6 H locs hP hD hS ls hl
      refine lv_iload_n hx hb dX0_prepare_75 rfl (lv_at hl 0 rfl) ?_
      refine lv_if_lt (tgt := 125) hx hb dX0_prepare_76 (by decide) (fun c_76 => ?_) (fun c_76 => ?_)
      · skip
        have hy0 : y = 0 := by
          rcases Nat.eq_zero_or_pos y with q | q
          · exact q
          · obtain ⟨z, rfl⟩ : ∃ z, y = z + 1 := ⟨y - 1, by omega⟩
            rw [nI_pred] at c_76
            exact absurd c_76 (nI_pos (by omega))
        subst hy0
        have hU := hu_V_0 h4
        have hb1 : b < c1 := (hu_V_in h4).1
        refine lv_aload_n hx hb dX0_prepare_125 rfl (lv_at hl 3 rfl) ?_
        refine va_get (D := (dC, dI)) (ci := 0) (v := .int (nI c1)) (C := RX0) (T := TX0) (N := 10) hx hb hts in_X0 hown hK hP 0 rfl rfl 7 (by decide) (hts _ q34) (fun _ h9 => h9) rfl dX0_prepare_126 ?_
        refine lv_iconst (v := 1) hx hb dX0_prepare_129 (by decide) ?_
        refine lv_icmp_le (tgt := 183) hx hb dX0_prepare_130 (by decide) (fun c_130 => ?_) (fun c_130 => ?_)
        · skip
          have hle1 : c1 ≤ 1 := (nI_leI (b := 1) (by omega) (by omega)).mp c_130
          exact hu_retCV (nI K, 1, nI c1, fa, fb, fc, lo1, hi1, cx1, cy1) hx hb hr hlocks hK hP hD hS ⟨_, _, _, _, _, rfl, h3, c1, by omega, rfl, hu_close2 (hu_S_box K fa fb fc) hU (by first | exact Or.inl hle1 | exact Or.inr (hu_ptne (Or.inl c_150)) | exact Or.inr (hu_ptne (Or.inr c_170)))⟩ dX0_prepare_183
        · skip
          have hgt1 : 1 < c1 := by have := mt (nI_leI (a := c1) (b := 1) (by omega) (by omega)).mpr c_130; omega
          refine lv_aload_n hx hb dX0_prepare_133 rfl (lv_at hl 3 rfl) ?_
          refine va_get (D := (dC, dI)) (ci := 0) (v := .ref (ad 6)) (C := RX0) (T := TX0) (N := 10) hx hb hts in_X0 hown hK hP 0 rfl rfl 8 (by decide) (hts _ q35) (fun _ h9 => h9) rfl dX0_prepare_134 ?_
          refine lv_aload_n hx hb dX0_prepare_137 rfl (lv_at hl 3 rfl) ?_
          refine va_get (D := (dC, dI)) (ci := 0) (v := .int (nI c1)) (C := RX0) (T := TX0) (N := 10) hx hb hts in_X0 hown hK hP 0 rfl rfl 7 (by decide) (hts _ q34) (fun _ h9 => h9) rfl dX0_prepare_138 ?_
          refine lv_iconst (v := 1) hx hb dX0_prepare_141 (by decide) ?_
          refine lv_isub hx hb dX0_prepare_142 ?_
          refine hu_top (z := nI (c1 - 1)) (pk_sub (a := c1) (b := 1) (by omega)) ?_
          refine hu_ald hx hb hK hP 6 0 rfl rfl (c1 - 1) rfl (by omega) (by decide) dX0_prepare_143 ?_
          refine lv_aload_n hx hb dX0_prepare_144 rfl (lv_at hl 3 rfl) ?_
          refine va_get (D := (dC, dI)) (ci := 0) (v := .ref (ad 6)) (C := RX0) (T := TX0) (N := 10) hx hb hts in_X0 hown hK hP 0 rfl rfl 8 (by decide) (hts _ q35) (fun _ h9 => h9) rfl dX0_prepare_145 ?_
          refine lv_iconst (v := 0) hx hb dX0_prepare_148 (by decide) ?_
          refine hu_ald hx hb hK hP 6 0 rfl rfl 0 (by decide) (by omega) (by decide) dX0_prepare_149 ?_
          refine lv_icmp_ne (tgt := 183) hx hb dX0_prepare_150 (by decide) (fun c_150 => ?_) (fun c_150 => ?_)
          · skip
            exact hu_retCV (nI K, 1, nI c1, fa, fb, fc, lo1, hi1, cx1, cy1) hx hb hr hlocks hK hP hD hS ⟨_, _, _, _, _, rfl, h3, c1, by omega, rfl, hu_close2 (hu_S_box K fa fb fc) hU (by first | exact Or.inl hle1 | exact Or.inr (hu_ptne (Or.inl c_150)) | exact Or.inr (hu_ptne (Or.inr c_170)))⟩ dX0_prepare_183
          · skip
            refine lv_aload_n hx hb dX0_prepare_153 rfl (lv_at hl 3 rfl) ?_
            refine va_get (D := (dC, dI)) (ci := 0) (v := .ref (ad 7)) (C := RX0) (T := TX0) (N := 10) hx hb hts in_X0 hown hK hP 0 rfl rfl 9 (by decide) (hts _ q36) (fun _ h9 => h9) rfl dX0_prepare_154 ?_
            refine lv_aload_n hx hb dX0_prepare_157 rfl (lv_at hl 3 rfl) ?_
            refine va_get (D := (dC, dI)) (ci := 0) (v := .int (nI c1)) (C := RX0) (T := TX0) (N := 10) hx hb hts in_X0 hown hK hP 0 rfl rfl 7 (by decide) (hts _ q34) (fun _ h9 => h9) rfl dX0_prepare_158 ?_
            refine lv_iconst (v := 1) hx hb dX0_prepare_161 (by decide) ?_
            refine lv_isub hx hb dX0_prepare_162 ?_
            refine hu_top (z := nI (c1 - 1)) (pk_sub (a := c1) (b := 1) (by omega)) ?_
            refine hu_ald hx hb hK hP 7 0 rfl rfl (c1 - 1) rfl (by omega) (by decide) dX0_prepare_163 ?_
            refine lv_aload_n hx hb dX0_prepare_164 rfl (lv_at hl 3 rfl) ?_
            refine va_get (D := (dC, dI)) (ci := 0) (v := .ref (ad 7)) (C := RX0) (T := TX0) (N := 10) hx hb hts in_X0 hown hK hP 0 rfl rfl 9 (by decide) (hts _ q36) (fun _ h9 => h9) rfl dX0_prepare_165 ?_
            refine lv_iconst (v := 0) hx hb dX0_prepare_168 (by decide) ?_
            refine hu_ald hx hb hK hP 7 0 rfl rfl 0 (by decide) (by omega) (by decide) dX0_prepare_169 ?_
            refine lv_icmp_ne (tgt := 183) hx hb dX0_prepare_170 (by decide) (fun c_170 => ?_) (fun c_170 => ?_)
            · skip
              exact hu_retCV (nI K, 1, nI c1, fa, fb, fc, lo1, hi1, cx1, cy1) hx hb hr hlocks hK hP hD hS ⟨_, _, _, _, _, rfl, h3, c1, by omega, rfl, hu_close2 (hu_S_box K fa fb fc) hU (by first | exact Or.inl hle1 | exact Or.inr (hu_ptne (Or.inl c_150)) | exact Or.inr (hu_ptne (Or.inr c_170)))⟩ dX0_prepare_183
            · skip
              refine lv_aload_n hx hb dX0_prepare_173 rfl (lv_at hl 3 rfl) ?_
              refine lv_dup hx hb dX0_prepare_174 rfl ?_
              refine va_get (D := (dC, dI)) (ci := 0) (v := .int (nI c1)) (C := RX0) (T := TX0) (N := 10) hx hb hts in_X0 hown hK hP 0 rfl rfl 7 (by decide) (hts _ q34) (fun _ h9 => h9) rfl dX0_prepare_175 ?_
              refine lv_iconst (v := 1) hx hb dX0_prepare_178 (by decide) ?_
              refine lv_isub hx hb dX0_prepare_179 ?_
              refine hu_top (z := nI (c1 - 1)) (pk_sub (a := c1) (b := 1) (by omega)) ?_
              refine va_put (D := (dC, dI)) (ci := 0) (v := .int (nI (c1 - 1))) (ty := .int) (C := RX0) (T := TX0) (N := 10) hx hb hts in_X0 tyX0 tyX0_ok nmX0 hown hK hP hD hS 0 rfl rfl 7 (by decide) (hts _ q34) (fun _ h9 => h9) rfl (by decide +kernel) rfl rfl (Nat.le_of_ble_eq_true rfl) dX0_prepare_180 (fun H locs hP hD hS => ?_)
              have hP : va_P (dC, dI) hu_Cl (hu_wH d ad (nI K, 1, nI (c1 - 1), fa, fb, fc, lo1, hi1, cx1, cy1)) H := hP
              have hD : va_D A (hu_wH d ad (nI K, 1, nI (c1 - 1), fa, fb, fc, lo1, hi1, cx1, cy1)) := hD
              exact hu_retCV (nI K, 1, nI (c1 - 1), fa, fb, fc, lo1, hi1, cx1, cy1) hx hb hr hlocks hK hP hD hS ⟨_, _, _, _, _, rfl, h3, c1 - 1, by omega, rfl, hu_close1 (hu_S_box K fa fb fc) hU hgt1 (hu_pteq c_150 c_170)⟩ dX0_prepare_183
      · skip
        have hy0 : 0 < y := by
          rcases Nat.eq_zero_or_pos y with q | q
          · exact absurd (show nI y - 1 < 0 by rw [q]; decide) c_76
          · exact q
        obtain ⟨x, rfl⟩ : ∃ x, y = x + 1 := ⟨y - 1, by omega⟩
        rw [nI_pred] at hl
        have hx0 : x < 41 := by omega
        have hcol := h3 x hx0
        have hbn := hu_V_in h4
        refine lv_aload_n hx hb dX0_prepare_79 rfl (lv_at hl 3 rfl) ?_
        refine lv_iload_n hx hb dX0_prepare_80 rfl (lv_at hl 0 rfl) ?_
        refine hu_callR 1 (As := [.int (nI x)]) (rest := []) ⟨hx, hb, hml, hown, hts⟩ (mX0_some l dC dI d ad (nI K) 1 (nI c1) fa fb fc lo1 hi1 cx1 cy1 x hx0) (lw_V q93 q95 qs3 q17 q96) (by decide +kernel) rfl ⟨Nat.le_of_ble_eq_true rfl, Nat.le_of_ble_eq_true rfl⟩ ⟨rfl, rfl⟩ hK hP (va_recv hK hP (ci := 0) (q0 := 0) rfl rfl) hl.1 rfl (Nat.le_of_ble_eq_true rfl) ⟨Nat.zero_le _, Nat.zero_le _⟩ dX0_prepare_81 (fun r_81 w_81 => ?_)
        refine lv_if_eq (tgt := 119) hx hb dX0_prepare_84 (by decide) (fun c_84 => ?_) (fun c_84 => ?_)
        · skip
          have hemp : ¬ lo1 x ≤ hi1 x := hu_tf_0 w_81 c_84
          have hV := hu_P2e hx0 hcol hemp h4
          refine lv_iinc (v := nI x - 1) (lv' := [(3, .int (nI x - 1)), (2, .int (nI b)), (1, .int (nI xl)), (0, .ref (ad 0))]) hx hb dX0_prepare_119 hl (k := 0) rfl (hu_dec x) (by decide) rfl (fun ls hl => ?_)
          refine lv_goto (tgt := 75) hx hb dX0_prepare_122 (by decide) ?_
          exact ih x c1 b xl lo1 hi1 cx1 cy1 (by omega) (by omega) h3 hV (by omega) h6 _ _ hP hD hS ls (lv_sub hl [0, 1, 2, 3] rfl)
        · skip
          have hne : lo1 x ≤ hi1 x := hu_tf_ne w_81 c_84
          have hcb := (hu_cbox hx0 hcol hne).2
          refine lv_iload_n hx hb dX0_prepare_87 rfl (lv_at hl 0 rfl) ?_
          refine lv_iload_n hx hb dX0_prepare_88 rfl (lv_at hl 2 rfl) ?_
          refine lv_icmp_ne (tgt := 107) hx hb dX0_prepare_89 (by decide) (fun c_89 => ?_) (fun c_89 => ?_)
          · skip
            have hor : ¬ (x = xl ∧ lo1 x = hi1 x) := fun q => c_89 (by rw [q.1])
            refine lv_aload_n hx hb dX0_prepare_107 rfl (lv_at hl 3 rfl) ?_
            refine lv_iload_n hx hb dX0_prepare_108 rfl (lv_at hl 1 rfl) ?_
            refine lv_iload_n hx hb dX0_prepare_109 rfl (lv_at hl 0 rfl) ?_
            refine lv_aload_n hx hb dX0_prepare_110 rfl (lv_at hl 3 rfl) ?_
            refine va_get (D := (dC, dI)) (ci := 0) (v := .ref (ad 5)) (C := RX0) (T := TX0) (N := 10) hx hb hts in_X0 hown hK hP 0 rfl rfl 6 (by decide) (hts _ q33) (fun _ h9 => h9) rfl dX0_prepare_111 ?_
            refine lv_iload_n hx hb dX0_prepare_114 rfl (lv_at hl 0 rfl) ?_
            refine hu_ald hx hb hK hP 5 0 rfl rfl x rfl (by omega) (by decide) dX0_prepare_115 ?_
            refine hu_callCV 3 (As := [.int (nI b), .int (nI x), .int (hi1 x)]) (rest := []) (wf := hu_wH d ad) (wr := []) ⟨hx, hb, hml, hown, hts⟩ (mX0_addPoint l dC dI d ad _ (nI K) 1 fa fb fc lo1 hi1 cx1 cy1 c1 b (by omega) (by omega) (nI x) (hi1 x) (fun j hj => (hbn.2 j hj).1) hcb) (lw_V q97 q99 qs4 q17 q100) (by decide +kernel) rfl ⟨Nat.le_of_ble_eq_true rfl, Nat.le_of_ble_eq_true rfl⟩ ⟨rfl, rfl⟩ hK hP hD hS hA [0, 1, 2, 3, 4, 5, 6, 7] [] rfl rfl ⟨rfl, rfl⟩ (by decide) rfl (va_recv hK hP (ci := 0) (q0 := 0) rfl rfl) hl.1 rfl (Nat.le_of_ble_eq_true rfl) ⟨Nat.zero_le _, Nat.zero_le _⟩ dX0_prepare_116 (fun u_116 H locs w_116 hP hD hS => ?_)
            obtain ⟨m1, rfl, hpop⟩ := w_116
            have hP : va_P (dC, dI) hu_Cl (hu_wH d ad (nI K, 1, nI (m1 + 1), fa, fb, fc, lo1, hi1, upd cx1 m1 (nI x), upd cy1 m1 (hi1 x))) H := hP
            have hD : va_D A (hu_wH d ad (nI K, 1, nI (m1 + 1), fa, fb, fc, lo1, hi1, upd cx1 m1 (nI x), upd cy1 m1 (hi1 x))) := hD
            have hV := hu_P2p hx0 hcol hne hor h4 hpop
            have hm1 := hpop.2.1
            refine lv_iinc (v := nI x - 1) (lv' := [(3, .int (nI x - 1)), (2, .int (nI b)), (1, .int (nI xl)), (0, .ref (ad 0))]) hx hb dX0_prepare_119 hl (k := 0) rfl (hu_dec x) (by decide) rfl (fun ls hl => ?_)
            refine lv_goto (tgt := 75) hx hb dX0_prepare_122 (by decide) ?_
            exact ih x (m1 + 1) b xl lo1 hi1 _ _ (by omega) (by omega) h3 hV (by omega) h6 _ _ hP hD hS ls (lv_sub hl [0, 1, 2, 3] rfl)
          · skip
            have hxl : x = xl := (nI_eq (by omega) (by omega)).mp c_89
            refine lv_aload_n hx hb dX0_prepare_92 rfl (lv_at hl 3 rfl) ?_
            refine va_get (D := (dC, dI)) (ci := 0) (v := .ref (ad 4)) (C := RX0) (T := TX0) (N := 10) hx hb hts in_X0 hown hK hP 0 rfl rfl 5 (by decide) (hts _ q32) (fun _ h9 => h9) rfl dX0_prepare_93 ?_
            refine lv_iload_n hx hb dX0_prepare_96 rfl (lv_at hl 0 rfl) ?_
            refine hu_ald hx hb hK hP 4 0 rfl rfl x rfl (by omega) (by decide) dX0_prepare_97 ?_
            refine lv_aload_n hx hb dX0_prepare_98 rfl (lv_at hl 3 rfl) ?_
            refine va_get (D := (dC, dI)) (ci := 0) (v := .ref (ad 5)) (C := RX0) (T := TX0) (N := 10) hx hb hts in_X0 hown hK hP 0 rfl rfl 6 (by decide) (hts _ q33) (fun _ h9 => h9) rfl dX0_prepare_99 ?_
            refine lv_iload_n hx hb dX0_prepare_102 rfl (lv_at hl 0 rfl) ?_
            refine hu_ald hx hb hK hP 5 0 rfl rfl x rfl (by omega) (by decide) dX0_prepare_103 ?_
            refine lv_icmp_eq (tgt := 119) hx hb dX0_prepare_104 (by decide) (fun c_104 => ?_) (fun c_104 => ?_)
            · skip
              have hV := hu_P2s hx0 hcol hxl c_104 h4
              refine lv_iinc (v := nI x - 1) (lv' := [(3, .int (nI x - 1)), (2, .int (nI b)), (1, .int (nI xl)), (0, .ref (ad 0))]) hx hb dX0_prepare_119 hl (k := 0) rfl (hu_dec x) (by decide) rfl (fun ls hl => ?_)
              refine lv_goto (tgt := 75) hx hb dX0_prepare_122 (by decide) ?_
              exact ih x c1 b xl lo1 hi1 cx1 cy1 (by omega) (by omega) h3 hV (by omega) h6 _ _ hP hD hS ls (lv_sub hl [0, 1, 2, 3] rfl)
            · skip
              have hor : ¬ (x = xl ∧ lo1 x = hi1 x) := fun q => c_104 q.2
              refine lv_aload_n hx hb dX0_prepare_107 rfl (lv_at hl 3 rfl) ?_
              refine lv_iload_n hx hb dX0_prepare_108 rfl (lv_at hl 1 rfl) ?_
              refine lv_iload_n hx hb dX0_prepare_109 rfl (lv_at hl 0 rfl) ?_
              refine lv_aload_n hx hb dX0_prepare_110 rfl (lv_at hl 3 rfl) ?_
              refine va_get (D := (dC, dI)) (ci := 0) (v := .ref (ad 5)) (C := RX0) (T := TX0) (N := 10) hx hb hts in_X0 hown hK hP 0 rfl rfl 6 (by decide) (hts _ q33) (fun _ h9 => h9) rfl dX0_prepare_111 ?_
              refine lv_iload_n hx hb dX0_prepare_114 rfl (lv_at hl 0 rfl) ?_
              refine hu_ald hx hb hK hP 5 0 rfl rfl x rfl (by omega) (by decide) dX0_prepare_115 ?_
              refine hu_callCV 3 (As := [.int (nI b), .int (nI x), .int (hi1 x)]) (rest := []) (wf := hu_wH d ad) (wr := []) ⟨hx, hb, hml, hown, hts⟩ (mX0_addPoint l dC dI d ad _ (nI K) 1 fa fb fc lo1 hi1 cx1 cy1 c1 b (by omega) (by omega) (nI x) (hi1 x) (fun j hj => (hbn.2 j hj).1) hcb) (lw_V q97 q99 qs4 q17 q100) (by decide +kernel) rfl ⟨Nat.le_of_ble_eq_true rfl, Nat.le_of_ble_eq_true rfl⟩ ⟨rfl, rfl⟩ hK hP hD hS hA [0, 1, 2, 3, 4, 5, 6, 7] [] rfl rfl ⟨rfl, rfl⟩ (by decide) rfl (va_recv hK hP (ci := 0) (q0 := 0) rfl rfl) hl.1 rfl (Nat.le_of_ble_eq_true rfl) ⟨Nat.zero_le _, Nat.zero_le _⟩ dX0_prepare_116 (fun u_116 H locs w_116 hP hD hS => ?_)
              obtain ⟨m1, rfl, hpop⟩ := w_116
              have hP : va_P (dC, dI) hu_Cl (hu_wH d ad (nI K, 1, nI (m1 + 1), fa, fb, fc, lo1, hi1, upd cx1 m1 (nI x), upd cy1 m1 (hi1 x))) H := hP
              have hD : va_D A (hu_wH d ad (nI K, 1, nI (m1 + 1), fa, fb, fc, lo1, hi1, upd cx1 m1 (nI x), upd cy1 m1 (hi1 x))) := hD
              have hV := hu_P2p hx0 hcol hne hor h4 hpop
              have hm1 := hpop.2.1
              refine lv_iinc (v := nI x - 1) (lv' := [(3, .int (nI x - 1)), (2, .int (nI b)), (1, .int (nI xl)), (0, .ref (ad 0))]) hx hb dX0_prepare_119 hl (k := 0) rfl (hu_dec x) (by decide) rfl (fun ls hl => ?_)
              refine lv_goto (tgt := 75) hx hb dX0_prepare_122 (by decide) ?_
              exact ih x (m1 + 1) b xl lo1 hi1 _ _ (by omega) (by omega) h3 hV (by omega) h6 _ _ hP hD hS ls (lv_sub hl [0, 1, 2, 3] rfl)
  have loop1 : ∀ (n : Nat) (x : Nat) (la : Int32) (c0 : Nat) (lo1 : Nat → Int32) (hi1 : Nat → Int32) (cx1 : Nat → Int32) (cy1 : Nat → Int32), x ≤ 41 → 41 < x + n → (∀ j : Nat, j < x → ((lo1 j).toInt, (hi1 j).toInt) = hu_fl fa fb fc (j : Int) K) → c0 ≤ x → hu_L (hu_S K fa fb fc) (x : Int) (hu_pt cx1 cy1) c0 la.toInt → ∀ (H : Heap) (locs : List Loc), va_P (dC, dI) hu_Cl (hu_wH d ad (nI K, 1, nI c0, fa, fb, fc, lo1, hi1, cx1, cy1)) H → va_D A (hu_wH d ad (nI K, 1, nI c0, fa, fb, fc, lo1, hi1, cx1, cy1)) → va_S A s.heap H locs → ∀ ls : Array Slot, lv_has ls 4 [(2, .int (nI x)), (1, .int la), (0, .ref (ad 0))] → W p l e ({ frames := 3, cells := 0, slots := 0, locals := 68 }) s m ([.ref (ad 0)] : List Value).toArray below meth c H locs 0 0 (MQ below (va_Qv (fun u => ∃ (lo' hi' : Nat → Int32) (ct' : Int32) (cx' cy' : Nat → Int32), u = (nI K, 1, ct', fa, fb, fc, lo', hi', cx', cy') ∧ hu_Prep K fa fb fc lo' hi' ct' cx' cy') (hu_W dC dI d (hu_wH d ad) A) A) ([.ref (ad 0)] : List Value).toArray s 0 0 A) (F0 m 22 ls []) := by
    intro n
    induction n with
    | zero =>
      intro x la c0 lo1 hi1 cx1 cy1 h1 h2
      exfalso
      omega
    | succ n ih =>
      intro x la c0 lo1 hi1 cx1 cy1 h1 h2 h3 h4 h5 H locs hP hD hS ls hl
      refine lv_iload_n hx hb dX0_prepare_22 rfl (lv_at hl 0 rfl) ?_
      refine lv_bipush (v := 41) hx hb dX0_prepare_23 (by decide) ?_
      refine lv_icmp_ge (tgt := 61) hx hb dX0_prepare_25 (by decide) (fun c_25 => ?_) (fun c_25 => ?_)
      · skip
        have hx41 : x = 41 := by have := (nI_leI (a := 41) (by omega) (by omega)).mp c_25; omega
        subst hx41
        refine lv_iload_n hx hb dX0_prepare_61 rfl (lv_at hl 1 rfl) ?_
        refine lv_if_ge (tgt := 66) hx hb dX0_prepare_62 (by decide) (fun c_62 => ?_) (fun c_62 => ?_)
        · skip
          obtain ⟨xl, hxl, rfl⟩ := nI_of (Int32.not_lt.mpr c_62)
          have hLB := hu_L_B (hu_S_box K fa fb fc) h5 ((hu_0le _).mp c_62)
          have hxl40 : xl ≤ 40 := by
            have q1 := hLB.2.2.2.2.2.2.1
            rw [hu_nI_t hxl] at q1
            omega
          rw [hu_nI_t hxl] at hLB
          refine lv_aload_n hx hb dX0_prepare_66 rfl (lv_at hl 2 rfl) ?_
          refine va_get (D := (dC, dI)) (ci := 0) (v := .int (nI c0)) (C := RX0) (T := TX0) (N := 10) hx hb hts in_X0 hown hK hP 0 rfl rfl 7 (by decide) (hts _ q34) (fun _ h9 => h9) rfl dX0_prepare_67 ?_
          refine lv_iconst (v := 1) hx hb dX0_prepare_70 (by decide) ?_
          refine lv_isub hx hb dX0_prepare_71 ?_
          refine hu_top (z := nI (c0 - 1)) (pk_sub (a := c0) (b := 1) hLB.1) ?_
          refine lv_istore_n (lv' := [(2, .int (nI (c0 - 1))), (1, .int (nI xl)), (0, .ref (ad 0))]) hx hb dX0_prepare_72 rfl hl (by decide) rfl (fun ls hl => ?_)
          refine lv_iload_n hx hb dX0_prepare_73 rfl (lv_at hl 1 rfl) ?_
          refine hu_top (z := nI (xl + 1) - 1) (nI_pred xl).symm ?_
          refine lv_istore_n (lv' := [(3, .int (nI (xl + 1) - 1)), (2, .int (nI (c0 - 1))), (1, .int (nI xl)), (0, .ref (ad 0))]) hx hb dX0_prepare_74 rfl hl (by decide) rfl (fun ls hl => ?_)
          exact loop2 42 (xl + 1) c0 (c0 - 1) xl lo1 hi1 cx1 cy1 (by omega) (by omega) h3 (Or.inl ⟨rfl, by omega, hLB.2⟩) (by omega) (by omega) _ _ hP hD hS ls (lv_sub hl [0, 1, 2, 3] rfl)
        · skip
          have hno := hu_L_none (hu_S_box K fa fb fc) h5 (Int.not_le.mp (mt (hu_0le _).mpr c_62))
          exact hu_retCV (nI K, 1, nI c0, fa, fb, fc, lo1, hi1, cx1, cy1) hx hb hr hlocks hK hP hD hS ⟨_, _, _, _, _, rfl, h3, 0, by omega, by rw [hno.1], hu_H0 _ hno.2⟩ dX0_prepare_65
      · skip
        have hx0 : x < 41 := by have := mt (nI_leI (a := 41) (b := x) (by omega) (by omega)).mpr c_25; omega
        refine lv_aload_n hx hb dX0_prepare_28 rfl (lv_at hl 2 rfl) ?_
        refine lv_iload_n hx hb dX0_prepare_29 rfl (lv_at hl 0 rfl) ?_
        refine hu_callCV 1 (As := [.int (nI x)]) (rest := []) (wf := hu_wH d ad) (wr := []) ⟨hx, hb, hml, hown, hts⟩ (mX0_fillColumn l dC dI d ad _ 1 (nI c0) fa fb fc lo1 hi1 cx1 cy1 K x hk8 hx0 hok) (lw_V q82 q84 qs1 q17 q85) (by decide +kernel) rfl ⟨Nat.le_of_ble_eq_true rfl, Nat.le_of_ble_eq_true rfl⟩ ⟨rfl, rfl⟩ hK hP hD hS hA [0, 1, 2, 3, 4, 5, 6, 7] [] rfl rfl ⟨rfl, rfl⟩ (by decide) rfl (va_recv hK hP (ci := 0) (q0 := 0) rfl rfl) hl.1 rfl (Nat.le_of_ble_eq_true rfl) ⟨Nat.zero_le _, Nat.zero_le _⟩ dX0_prepare_30 (fun u_30 H locs w_30 hP hD hS => ?_)
        obtain ⟨lo2, hi2, rfl, hj2, hv2⟩ := w_30
        have hP : va_P (dC, dI) hu_Cl (hu_wH d ad (nI K, 1, nI c0, fa, fb, fc, lo2, hi2, cx1, cy1)) H := hP
        have hD : va_D A (hu_wH d ad (nI K, 1, nI c0, fa, fb, fc, lo2, hi2, cx1, cy1)) := hD
        have h3b := hu_clo h3 hj2 hv2
        refine lv_aload_n hx hb dX0_prepare_33 rfl (lv_at hl 2 rfl) ?_
        refine lv_iload_n hx hb dX0_prepare_34 rfl (lv_at hl 0 rfl) ?_
        refine hu_callR 1 (As := [.int (nI x)]) (rest := []) ⟨hx, hb, hml, hown, hts⟩ (mX0_some l dC dI d ad (nI K) 1 (nI c0) fa fb fc lo2 hi2 cx1 cy1 x hx0) (lw_V q93 q95 qs3 q17 q96) (by decide +kernel) rfl ⟨Nat.le_of_ble_eq_true rfl, Nat.le_of_ble_eq_true rfl⟩ ⟨rfl, rfl⟩ hK hP (va_recv hK hP (ci := 0) (q0 := 0) rfl rfl) hl.1 rfl (Nat.le_of_ble_eq_true rfl) ⟨Nat.zero_le _, Nat.zero_le _⟩ dX0_prepare_35 (fun r_35 w_35 => ?_)
        refine lv_if_eq (tgt := 55) hx hb dX0_prepare_38 (by decide) (fun c_38 => ?_) (fun c_38 => ?_)
        · skip
          have hemp : ¬ lo2 x ≤ hi2 x := hu_tf_0 w_35 c_38
          have hL := hu_P1e hx0 hv2 hemp h5
          refine lv_iinc (v := nI (x + 1)) (lv' := [(2, .int (nI (x + 1))), (1, .int la), (0, .ref (ad 0))]) hx hb dX0_prepare_55 hl (k := 0) rfl (nI_1 _) (by decide) rfl (fun ls hl => ?_)
          refine lv_goto (tgt := 22) hx hb dX0_prepare_58 (by decide) ?_
          exact ih (x + 1) la c0 lo2 hi2 cx1 cy1 (by omega) (by omega) h3b (by omega) hL _ _ hP hD hS ls (lv_sub hl [0, 1, 2] rfl)
        · skip
          have hne : lo2 x ≤ hi2 x := hu_tf_ne w_35 c_38
          have hcb := (hu_cbox hx0 hv2 hne).1
          refine lv_aload_n hx hb dX0_prepare_41 rfl (lv_at hl 2 rfl) ?_
          refine lv_iconst (v := 0) hx hb dX0_prepare_42 (by decide) ?_
          refine hu_top (z := nI 0) rfl ?_
          refine lv_iload_n hx hb dX0_prepare_43 rfl (lv_at hl 0 rfl) ?_
          refine lv_aload_n hx hb dX0_prepare_44 rfl (lv_at hl 2 rfl) ?_
          refine va_get (D := (dC, dI)) (ci := 0) (v := .ref (ad 4)) (C := RX0) (T := TX0) (N := 10) hx hb hts in_X0 hown hK hP 0 rfl rfl 5 (by decide) (hts _ q32) (fun _ h9 => h9) rfl dX0_prepare_45 ?_
          refine lv_iload_n hx hb dX0_prepare_48 rfl (lv_at hl 0 rfl) ?_
          refine hu_ald hx hb hK hP 4 0 rfl rfl x rfl (by omega) (by decide) dX0_prepare_49 ?_
          refine hu_callCV 3 (As := [.int (nI 0), .int (nI x), .int (lo2 x)]) (rest := []) (wf := hu_wH d ad) (wr := []) ⟨hx, hb, hml, hown, hts⟩ (mX0_addPoint l dC dI d ad _ (nI K) 1 fa fb fc lo2 hi2 cx1 cy1 c0 0 (by omega) (Nat.zero_le _) (nI x) (lo2 x) (fun j hj => (hu_L_in h5 j hj).1) hcb) (lw_V q97 q99 qs4 q17 q100) (by decide +kernel) rfl ⟨Nat.le_of_ble_eq_true rfl, Nat.le_of_ble_eq_true rfl⟩ ⟨rfl, rfl⟩ hK hP hD hS hA [0, 1, 2, 3, 4, 5, 6, 7] [] rfl rfl ⟨rfl, rfl⟩ (by decide) rfl (va_recv hK hP (ci := 0) (q0 := 0) rfl rfl) hl.1 rfl (Nat.le_of_ble_eq_true rfl) ⟨Nat.zero_le _, Nat.zero_le _⟩ dX0_prepare_50 (fun u_50 H locs w_50 hP hD hS => ?_)
          obtain ⟨m1, rfl, hpop⟩ := w_50
          have hP : va_P (dC, dI) hu_Cl (hu_wH d ad (nI K, 1, nI (m1 + 1), fa, fb, fc, lo2, hi2, upd cx1 m1 (nI x), upd cy1 m1 (lo2 x))) H := hP
          have hD : va_D A (hu_wH d ad (nI K, 1, nI (m1 + 1), fa, fb, fc, lo2, hi2, upd cx1 m1 (nI x), upd cy1 m1 (lo2 x))) := hD
          have hL := hu_P1p hx0 hv2 hne h5 hpop
          have hm1 := hpop.2.1
          refine lv_iload_n hx hb dX0_prepare_53 rfl (lv_at hl 0 rfl) ?_
          refine lv_istore_n (lv' := [(1, .int (nI x)), (2, .int (nI x)), (0, .ref (ad 0))]) hx hb dX0_prepare_54 rfl hl (by decide) rfl (fun ls hl => ?_)
          refine lv_iinc (v := nI (x + 1)) (lv' := [(2, .int (nI (x + 1))), (1, .int (nI x)), (0, .ref (ad 0))]) hx hb dX0_prepare_55 hl (k := 1) rfl (nI_1 _) (by decide) rfl (fun ls hl => ?_)
          refine lv_goto (tgt := 22) hx hb dX0_prepare_58 (by decide) ?_
          exact ih (x + 1) (nI x) (m1 + 1) lo2 hi2 _ _ (by omega) (by omega) h3b (by omega) hL _ _ hP hD hS ls (lv_sub hl [0, 1, 2] rfl)
  refine lv_aload_n hx hb dX0_prepare_0 rfl (lv_at hl 0 rfl) ?_
  refine va_get (D := (dC, dI)) (ci := 0) (v := .int rd) (C := RX0) (T := TX0) (N := 10) hx hb hts in_X0 hown hK hP 0 rfl rfl 4 (by decide) (hts _ q31) (fun _ h9 => h9) rfl dX0_prepare_1 ?_
  refine lv_if_eq (tgt := 8) hx hb dX0_prepare_4 (by decide) (fun c_4 => ?_) (fun c_4 => ?_)
  · skip
    refine lv_aload_n hx hb dX0_prepare_8 rfl (lv_at hl 0 rfl) ?_
    refine lv_iconst (v := 1) hx hb dX0_prepare_9 (by decide) ?_
    refine va_put (D := (dC, dI)) (ci := 0) (v := .int 1) (ty := .boolean) (C := RX0) (T := TX0) (N := 10) hx hb hts in_X0 tyX0 tyX0_ok nmX0 hown hK hP hD hS 0 rfl rfl 4 (by decide) (hts _ q31) (fun _ h9 => h9) rfl (by decide +kernel) rfl rfl (Nat.le_of_ble_eq_true rfl) dX0_prepare_10 (fun H locs hP hD hS => ?_)
    have hP : va_P (dC, dI) hu_Cl (hu_wH d ad (nI K, 1, ct, fa, fb, fc, lo, hi, cx, cy)) H := hP
    have hD : va_D A (hu_wH d ad (nI K, 1, ct, fa, fb, fc, lo, hi, cx, cy)) := hD
    refine lv_aload_n hx hb dX0_prepare_13 rfl (lv_at hl 0 rfl) ?_
    refine lv_iconst (v := 0) hx hb dX0_prepare_14 (by decide) ?_
    refine va_put (D := (dC, dI)) (ci := 0) (v := .int 0) (ty := .int) (C := RX0) (T := TX0) (N := 10) hx hb hts in_X0 tyX0 tyX0_ok nmX0 hown hK hP hD hS 0 rfl rfl 7 (by decide) (hts _ q34) (fun _ h9 => h9) rfl (by decide +kernel) rfl rfl (Nat.le_of_ble_eq_true rfl) dX0_prepare_15 (fun H locs hP hD hS => ?_)
    have hP : va_P (dC, dI) hu_Cl (hu_wH d ad (nI K, 1, 0, fa, fb, fc, lo, hi, cx, cy)) H := hP
    have hD : va_D A (hu_wH d ad (nI K, 1, 0, fa, fb, fc, lo, hi, cx, cy)) := hD
    refine lv_iconst (v := (-1)) hx hb dX0_prepare_18 (by decide) ?_
    refine lv_istore_n (lv' := [(1, .int (-1)), (0, .ref (ad 0))]) hx hb dX0_prepare_19 rfl hl (by decide) rfl (fun ls hl => ?_)
    refine lv_iconst (v := 0) hx hb dX0_prepare_20 (by decide) ?_
    refine lv_istore_n (lv' := [(2, .int 0), (1, .int (-1)), (0, .ref (ad 0))]) hx hb dX0_prepare_21 rfl hl (by decide) rfl (fun ls hl => ?_)
    exact loop1 42 0 (-1) 0 lo hi cx cy (by omega) (by omega) (fun j hj => absurd hj (Nat.not_lt_zero j)) (Nat.le_refl _) (hu_L0 (hu_S_box K fa fb fc) _) _ _ hP hD hS ls (lv_sub hl [0, 1, 2] rfl)
  · skip
    exact hu_retCV (nI K, rd, ct, fa, fb, fc, lo, hi, cx, cy) hx hb hr hlocks hK hP hD hS ⟨lo, hi, ct, cx, cy, by rw [(hrd.resolve_left c_4).1], (hrd.resolve_left c_4).2⟩ dX0_prepare_7
end
section
/-! the public methods of IntegerHull (written by gen/m3.py) -/
set_option maxHeartbeats 4000000 in
set_option maxRecDepth 100000 in
/-- condition -/
theorem mX0_condition (l : Launch) (dC : Nat → ClassId) (dI : Nat → Nat → Nat) (d : ClassId) (ad : Nat → Nat) (sz : Nat) (rd : Int32) (ct : Int32) (fa : Nat → Int32) (fb : Nat → Int32) (fc : Nat → Int32) (lo : Nat → Int32) (hi : Nat → Int32) (cx : Nat → Int32) (cy : Nat → Int32) (K : Nat) (hk8 : K ≤ 8) (hok : hu_OK K fa fb fc) (hrd : rd = 0 ∨ (rd = 1 ∧ hu_Prep K fa fb fc lo hi ct cx cy)) (va vb vc : Int32) : hu_CI l dC dI d (hu_wH d ad) (nI K, rd, ct, fa, fb, fc, lo, hi, cx, cy) sz yX0_condition cX0_condition 4 (some .int) ({ frames := 1, cells := 0, slots := 0, locals := 20 }) [.ref (ad 0), .int va, .int vb, .int vc] (fun r u => (hu_bad va vb vc ∧ r = -1 ∧ u = (nI K, rd, ct, fa, fb, fc, lo, hi, cx, cy)) ∨ (¬ hu_bad va vb vc ∧ K = 8 ∧ r = -2 ∧ u = (nI K, rd, ct, fa, fb, fc, lo, hi, cx, cy)) ∨ (¬ hu_bad va vb vc ∧ K < 8 ∧ r = nI (K + 1) ∧ u = (nI (K + 1), 0, ct, upd fa K va, upd fb K vb, upd fc K vc, lo, hi, cx, cy))) := by
  refine hu_metC_i (by decide) (Nat.le_of_ble_eq_true rfl) sz ?_
  intro p e s m below meth c ls A C0 hP hK hD hS hA hl
  obtain ⟨hx, hb, hr, hml, hown, hts, hlocks⟩ := C0
  have hl : lv_has ls 4 [(0, .ref (ad 0)), (1, .int va), (2, .int vb), (3, .int vc)] := hl
  refine lv_iload_n hx hb dX0_condition_0 rfl (lv_at hl 1 rfl) ?_
  refine lv_bipush (v := (-9)) hx hb dX0_condition_1 (by decide) ?_
  refine lv_icmp_lt (tgt := 39) hx hb dX0_condition_3 (by decide) (fun c_3 => ?_) (fun c_3 => ?_)
  · skip
    refine lv_iconst (v := (-1)) hx hb dX0_condition_39 (by decide) ?_
    exact hu_retCI (nI K, rd, ct, fa, fb, fc, lo, hi, cx, cy) hx hb hr hlocks hK hP hD hS (Or.inl ⟨by first | exact Or.inl c_3 | exact Or.inr (Or.inl c_9) | exact Or.inr (Or.inr (Or.inl c_15)) | exact Or.inr (Or.inr (Or.inr (Or.inl c_21))) | exact Or.inr (Or.inr (Or.inr (Or.inr (Or.inl ⟨c_25, c_29⟩)))) | exact Or.inr (Or.inr (Or.inr (Or.inr (Or.inr (hu_tf_ne w_33 c_36))))), rfl, rfl⟩) dX0_condition_40
  · skip
    refine lv_iload_n hx hb dX0_condition_6 rfl (lv_at hl 1 rfl) ?_
    refine lv_bipush (v := 9) hx hb dX0_condition_7 (by decide) ?_
    refine lv_icmp_gt (tgt := 39) hx hb dX0_condition_9 (by decide) (fun c_9 => ?_) (fun c_9 => ?_)
    · skip
      refine lv_iconst (v := (-1)) hx hb dX0_condition_39 (by decide) ?_
      exact hu_retCI (nI K, rd, ct, fa, fb, fc, lo, hi, cx, cy) hx hb hr hlocks hK hP hD hS (Or.inl ⟨by first | exact Or.inl c_3 | exact Or.inr (Or.inl c_9) | exact Or.inr (Or.inr (Or.inl c_15)) | exact Or.inr (Or.inr (Or.inr (Or.inl c_21))) | exact Or.inr (Or.inr (Or.inr (Or.inr (Or.inl ⟨c_25, c_29⟩)))) | exact Or.inr (Or.inr (Or.inr (Or.inr (Or.inr (hu_tf_ne w_33 c_36))))), rfl, rfl⟩) dX0_condition_40
    · skip
      refine lv_iload_n hx hb dX0_condition_12 rfl (lv_at hl 2 rfl) ?_
      refine lv_bipush (v := (-9)) hx hb dX0_condition_13 (by decide) ?_
      refine lv_icmp_lt (tgt := 39) hx hb dX0_condition_15 (by decide) (fun c_15 => ?_) (fun c_15 => ?_)
      · skip
        refine lv_iconst (v := (-1)) hx hb dX0_condition_39 (by decide) ?_
        exact hu_retCI (nI K, rd, ct, fa, fb, fc, lo, hi, cx, cy) hx hb hr hlocks hK hP hD hS (Or.inl ⟨by first | exact Or.inl c_3 | exact Or.inr (Or.inl c_9) | exact Or.inr (Or.inr (Or.inl c_15)) | exact Or.inr (Or.inr (Or.inr (Or.inl c_21))) | exact Or.inr (Or.inr (Or.inr (Or.inr (Or.inl ⟨c_25, c_29⟩)))) | exact Or.inr (Or.inr (Or.inr (Or.inr (Or.inr (hu_tf_ne w_33 c_36))))), rfl, rfl⟩) dX0_condition_40
      · skip
        refine lv_iload_n hx hb dX0_condition_18 rfl (lv_at hl 2 rfl) ?_
        refine lv_bipush (v := 9) hx hb dX0_condition_19 (by decide) ?_
        refine lv_icmp_gt (tgt := 39) hx hb dX0_condition_21 (by decide) (fun c_21 => ?_) (fun c_21 => ?_)
        · skip
          refine lv_iconst (v := (-1)) hx hb dX0_condition_39 (by decide) ?_
          exact hu_retCI (nI K, rd, ct, fa, fb, fc, lo, hi, cx, cy) hx hb hr hlocks hK hP hD hS (Or.inl ⟨by first | exact Or.inl c_3 | exact Or.inr (Or.inl c_9) | exact Or.inr (Or.inr (Or.inl c_15)) | exact Or.inr (Or.inr (Or.inr (Or.inl c_21))) | exact Or.inr (Or.inr (Or.inr (Or.inr (Or.inl ⟨c_25, c_29⟩)))) | exact Or.inr (Or.inr (Or.inr (Or.inr (Or.inr (hu_tf_ne w_33 c_36))))), rfl, rfl⟩) dX0_condition_40
        · skip
          refine lv_iload_n hx hb dX0_condition_24 rfl (lv_at hl 1 rfl) ?_
          refine lv_if_ne (tgt := 32) hx hb dX0_condition_25 (by decide) (fun c_25 => ?_) (fun c_25 => ?_)
          · skip
            refine lv_iload_n hx hb dX0_condition_32 rfl (lv_at hl 3 rfl) ?_
            refine hu_callS 1 (As := [.int vc]) (rest := []) ⟨hx, hb, hml, hown, hts⟩ (mX0_badBound l vc) (lw_S q63 q64 q17 q65) (by decide +kernel) rfl ⟨Nat.le_of_ble_eq_true rfl, Nat.le_of_ble_eq_true rfl⟩ ⟨rfl, rfl⟩ hl.1 rfl (Nat.le_of_ble_eq_true rfl) ⟨Nat.zero_le _, Nat.zero_le _⟩ dX0_condition_33 (fun r_33 w_33 => ?_)
            refine lv_if_eq (tgt := 41) hx hb dX0_condition_36 (by decide) (fun c_36 => ?_) (fun c_36 => ?_)
            · skip
              have hnb : ¬ hu_bad va vb vc := by
                rintro (q | q | q | q | q | q)
                · exact c_3 q
                · exact c_9 q
                · exact c_15 q
                · exact c_21 q
                · first | exact c_25 q.1 | exact c_29 q.2
                · exact hu_tf_0 w_33 c_36 q
              refine lv_aload_n hx hb dX0_condition_41 rfl (lv_at hl 0 rfl) ?_
              refine va_get (D := (dC, dI)) (ci := 0) (v := .int (nI K)) (C := RX0) (T := TX0) (N := 10) hx hb hts in_X0 hown hK hP 0 rfl rfl 0 (by decide) (hts _ q27) (fun _ h9 => h9) rfl dX0_condition_42 ?_
              refine lv_bipush (v := 8) hx hb dX0_condition_45 (by decide) ?_
              refine lv_icmp_lt (tgt := 53) hx hb dX0_condition_47 (by decide) (fun c_47 => ?_) (fun c_47 => ?_)
              · skip
                have hi_47 : K < 8 := (nI_ltI (b := 8) (by omega) (by omega)).mp c_47
                refine lv_aload_n hx hb dX0_condition_53 rfl (lv_at hl 0 rfl) ?_
                refine va_get (D := (dC, dI)) (ci := 0) (v := .ref (ad 1)) (C := RX0) (T := TX0) (N := 10) hx hb hts in_X0 hown hK hP 0 rfl rfl 1 (by decide) (hts _ q28) (fun _ h9 => h9) rfl dX0_condition_54 ?_
                refine lv_aload_n hx hb dX0_condition_57 rfl (lv_at hl 0 rfl) ?_
                refine va_get (D := (dC, dI)) (ci := 0) (v := .int (nI K)) (C := RX0) (T := TX0) (N := 10) hx hb hts in_X0 hown hK hP 0 rfl rfl 0 (by decide) (hts _ q27) (fun _ h9 => h9) rfl dX0_condition_58 ?_
                refine lv_iload_n hx hb dX0_condition_61 rfl (lv_at hl 1 rfl) ?_
                refine hu_ast hx hb hK hP hD hS 1 0 rfl rfl K rfl (by omega) (by decide) dX0_condition_62 (fun H locs hP hD hS => ?_)
                have hP : va_P (dC, dI) hu_Cl (hu_wH d ad (nI K, rd, ct, upd fa K va, fb, fc, lo, hi, cx, cy)) H := hP
                have hD : va_D A (hu_wH d ad (nI K, rd, ct, upd fa K va, fb, fc, lo, hi, cx, cy)) := hD
                refine lv_aload_n hx hb dX0_condition_63 rfl (lv_at hl 0 rfl) ?_
                refine va_get (D := (dC, dI)) (ci := 0) (v := .ref (ad 2)) (C := RX0) (T := TX0) (N := 10) hx hb hts in_X0 hown hK hP 0 rfl rfl 2 (by decide) (hts _ q29) (fun _ h9 => h9) rfl dX0_condition_64 ?_
                refine lv_aload_n hx hb dX0_condition_67 rfl (lv_at hl 0 rfl) ?_
                refine va_get (D := (dC, dI)) (ci := 0) (v := .int (nI K)) (C := RX0) (T := TX0) (N := 10) hx hb hts in_X0 hown hK hP 0 rfl rfl 0 (by decide) (hts _ q27) (fun _ h9 => h9) rfl dX0_condition_68 ?_
                refine lv_iload_n hx hb dX0_condition_71 rfl (lv_at hl 2 rfl) ?_
                refine hu_ast hx hb hK hP hD hS 2 0 rfl rfl K rfl (by omega) (by decide) dX0_condition_72 (fun H locs hP hD hS => ?_)
                have hP : va_P (dC, dI) hu_Cl (hu_wH d ad (nI K, rd, ct, upd fa K va, upd fb K vb, fc, lo, hi, cx, cy)) H := hP
                have hD : va_D A (hu_wH d ad (nI K, rd, ct, upd fa K va, upd fb K vb, fc, lo, hi, cx, cy)) := hD
                refine lv_aload_n hx hb dX0_condition_73 rfl (lv_at hl 0 rfl) ?_
                refine va_get (D := (dC, dI)) (ci := 0) (v := .ref (ad 3)) (C := RX0) (T := TX0) (N := 10) hx hb hts in_X0 hown hK hP 0 rfl rfl 3 (by decide) (hts _ q30) (fun _ h9 => h9) rfl dX0_condition_74 ?_
                refine lv_aload_n hx hb dX0_condition_77 rfl (lv_at hl 0 rfl) ?_
                refine va_get (D := (dC, dI)) (ci := 0) (v := .int (nI K)) (C := RX0) (T := TX0) (N := 10) hx hb hts in_X0 hown hK hP 0 rfl rfl 0 (by decide) (hts _ q27) (fun _ h9 => h9) rfl dX0_condition_78 ?_
                refine lv_iload_n hx hb dX0_condition_81 rfl (lv_at hl 3 rfl) ?_
                refine hu_ast hx hb hK hP hD hS 3 0 rfl rfl K rfl (by omega) (by decide) dX0_condition_82 (fun H locs hP hD hS => ?_)
                have hP : va_P (dC, dI) hu_Cl (hu_wH d ad (nI K, rd, ct, upd fa K va, upd fb K vb, upd fc K vc, lo, hi, cx, cy)) H := hP
                have hD : va_D A (hu_wH d ad (nI K, rd, ct, upd fa K va, upd fb K vb, upd fc K vc, lo, hi, cx, cy)) := hD
                refine lv_aload_n hx hb dX0_condition_83 rfl (lv_at hl 0 rfl) ?_
                refine lv_dup hx hb dX0_condition_84 rfl ?_
                refine va_get (D := (dC, dI)) (ci := 0) (v := .int (nI K)) (C := RX0) (T := TX0) (N := 10) hx hb hts in_X0 hown hK hP 0 rfl rfl 0 (by decide) (hts _ q27) (fun _ h9 => h9) rfl dX0_condition_85 ?_
                refine lv_iconst (v := 1) hx hb dX0_condition_88 (by decide) ?_
                refine lv_iadd hx hb dX0_condition_89 ?_
                refine hu_top (z := nI (K + 1)) (nI_1 K) ?_
                refine va_put (D := (dC, dI)) (ci := 0) (v := .int (nI (K + 1))) (ty := .int) (C := RX0) (T := TX0) (N := 10) hx hb hts in_X0 tyX0 tyX0_ok nmX0 hown hK hP hD hS 0 rfl rfl 0 (by decide) (hts _ q27) (fun _ h9 => h9) rfl (by decide +kernel) rfl rfl (Nat.le_of_ble_eq_true rfl) dX0_condition_90 (fun H locs hP hD hS => ?_)
                have hP : va_P (dC, dI) hu_Cl (hu_wH d ad (nI (K + 1), rd, ct, upd fa K va, upd fb K vb, upd fc K vc, lo, hi, cx, cy)) H := hP
                have hD : va_D A (hu_wH d ad (nI (K + 1), rd, ct, upd fa K va, upd fb K vb, upd fc K vc, lo, hi, cx, cy)) := hD
                refine lv_aload_n hx hb dX0_condition_93 rfl (lv_at hl 0 rfl) ?_
                refine lv_iconst (v := 0) hx hb dX0_condition_94 (by decide) ?_
                refine va_put (D := (dC, dI)) (ci := 0) (v := .int 0) (ty := .boolean) (C := RX0) (T := TX0) (N := 10) hx hb hts in_X0 tyX0 tyX0_ok nmX0 hown hK hP hD hS 0 rfl rfl 4 (by decide) (hts _ q31) (fun _ h9 => h9) rfl (by decide +kernel) rfl rfl (Nat.le_of_ble_eq_true rfl) dX0_condition_95 (fun H locs hP hD hS => ?_)
                have hP : va_P (dC, dI) hu_Cl (hu_wH d ad (nI (K + 1), 0, ct, upd fa K va, upd fb K vb, upd fc K vc, lo, hi, cx, cy)) H := hP
                have hD : va_D A (hu_wH d ad (nI (K + 1), 0, ct, upd fa K va, upd fb K vb, upd fc K vc, lo, hi, cx, cy)) := hD
                refine lv_aload_n hx hb dX0_condition_98 rfl (lv_at hl 0 rfl) ?_
                refine va_get (D := (dC, dI)) (ci := 0) (v := .int (nI (K + 1))) (C := RX0) (T := TX0) (N := 10) hx hb hts in_X0 hown hK hP 0 rfl rfl 0 (by decide) (hts _ q27) (fun _ h9 => h9) rfl dX0_condition_99 ?_
                exact hu_retCI (nI (K + 1), 0, ct, upd fa K va, upd fb K vb, upd fc K vc, lo, hi, cx, cy) hx hb hr hlocks hK hP hD hS (Or.inr (Or.inr ⟨hnb, hi_47, rfl, rfl⟩)) dX0_condition_102
              · skip
                have hi_47 : K = 8 := by have := mt (nI_ltI (a := K) (b := 8) (by omega) (by omega)).mpr c_47; omega
                refine lv_bipush (v := (-2)) hx hb dX0_condition_50 (by decide) ?_
                exact hu_retCI (nI K, rd, ct, fa, fb, fc, lo, hi, cx, cy) hx hb hr hlocks hK hP hD hS (Or.inr (Or.inl ⟨hnb, hi_47, rfl, rfl⟩)) dX0_condition_52
            · skip
              refine lv_iconst (v := (-1)) hx hb dX0_condition_39 (by decide) ?_
              exact hu_retCI (nI K, rd, ct, fa, fb, fc, lo, hi, cx, cy) hx hb hr hlocks hK hP hD hS (Or.inl ⟨by first | exact Or.inl c_3 | exact Or.inr (Or.inl c_9) | exact Or.inr (Or.inr (Or.inl c_15)) | exact Or.inr (Or.inr (Or.inr (Or.inl c_21))) | exact Or.inr (Or.inr (Or.inr (Or.inr (Or.inl ⟨c_25, c_29⟩)))) | exact Or.inr (Or.inr (Or.inr (Or.inr (Or.inr (hu_tf_ne w_33 c_36))))), rfl, rfl⟩) dX0_condition_40
          · skip
            refine lv_iload_n hx hb dX0_condition_28 rfl (lv_at hl 2 rfl) ?_
            refine lv_if_eq (tgt := 39) hx hb dX0_condition_29 (by decide) (fun c_29 => ?_) (fun c_29 => ?_)
            · skip
              refine lv_iconst (v := (-1)) hx hb dX0_condition_39 (by decide) ?_
              exact hu_retCI (nI K, rd, ct, fa, fb, fc, lo, hi, cx, cy) hx hb hr hlocks hK hP hD hS (Or.inl ⟨by first | exact Or.inl c_3 | exact Or.inr (Or.inl c_9) | exact Or.inr (Or.inr (Or.inl c_15)) | exact Or.inr (Or.inr (Or.inr (Or.inl c_21))) | exact Or.inr (Or.inr (Or.inr (Or.inr (Or.inl ⟨c_25, c_29⟩)))) | exact Or.inr (Or.inr (Or.inr (Or.inr (Or.inr (hu_tf_ne w_33 c_36))))), rfl, rfl⟩) dX0_condition_40
            · skip
              refine lv_iload_n hx hb dX0_condition_32 rfl (lv_at hl 3 rfl) ?_
              refine hu_callS 1 (As := [.int vc]) (rest := []) ⟨hx, hb, hml, hown, hts⟩ (mX0_badBound l vc) (lw_S q63 q64 q17 q65) (by decide +kernel) rfl ⟨Nat.le_of_ble_eq_true rfl, Nat.le_of_ble_eq_true rfl⟩ ⟨rfl, rfl⟩ hl.1 rfl (Nat.le_of_ble_eq_true rfl) ⟨Nat.zero_le _, Nat.zero_le _⟩ dX0_condition_33 (fun r_33 w_33 => ?_)
              refine lv_if_eq (tgt := 41) hx hb dX0_condition_36 (by decide) (fun c_36 => ?_) (fun c_36 => ?_)
              · skip
                have hnb : ¬ hu_bad va vb vc := by
                  rintro (q | q | q | q | q | q)
                  · exact c_3 q
                  · exact c_9 q
                  · exact c_15 q
                  · exact c_21 q
                  · first | exact c_25 q.1 | exact c_29 q.2
                  · exact hu_tf_0 w_33 c_36 q
                refine lv_aload_n hx hb dX0_condition_41 rfl (lv_at hl 0 rfl) ?_
                refine va_get (D := (dC, dI)) (ci := 0) (v := .int (nI K)) (C := RX0) (T := TX0) (N := 10) hx hb hts in_X0 hown hK hP 0 rfl rfl 0 (by decide) (hts _ q27) (fun _ h9 => h9) rfl dX0_condition_42 ?_
                refine lv_bipush (v := 8) hx hb dX0_condition_45 (by decide) ?_
                refine lv_icmp_lt (tgt := 53) hx hb dX0_condition_47 (by decide) (fun c_47 => ?_) (fun c_47 => ?_)
                · skip
                  have hi_47 : K < 8 := (nI_ltI (b := 8) (by omega) (by omega)).mp c_47
                  refine lv_aload_n hx hb dX0_condition_53 rfl (lv_at hl 0 rfl) ?_
                  refine va_get (D := (dC, dI)) (ci := 0) (v := .ref (ad 1)) (C := RX0) (T := TX0) (N := 10) hx hb hts in_X0 hown hK hP 0 rfl rfl 1 (by decide) (hts _ q28) (fun _ h9 => h9) rfl dX0_condition_54 ?_
                  refine lv_aload_n hx hb dX0_condition_57 rfl (lv_at hl 0 rfl) ?_
                  refine va_get (D := (dC, dI)) (ci := 0) (v := .int (nI K)) (C := RX0) (T := TX0) (N := 10) hx hb hts in_X0 hown hK hP 0 rfl rfl 0 (by decide) (hts _ q27) (fun _ h9 => h9) rfl dX0_condition_58 ?_
                  refine lv_iload_n hx hb dX0_condition_61 rfl (lv_at hl 1 rfl) ?_
                  refine hu_ast hx hb hK hP hD hS 1 0 rfl rfl K rfl (by omega) (by decide) dX0_condition_62 (fun H locs hP hD hS => ?_)
                  have hP : va_P (dC, dI) hu_Cl (hu_wH d ad (nI K, rd, ct, upd fa K va, fb, fc, lo, hi, cx, cy)) H := hP
                  have hD : va_D A (hu_wH d ad (nI K, rd, ct, upd fa K va, fb, fc, lo, hi, cx, cy)) := hD
                  refine lv_aload_n hx hb dX0_condition_63 rfl (lv_at hl 0 rfl) ?_
                  refine va_get (D := (dC, dI)) (ci := 0) (v := .ref (ad 2)) (C := RX0) (T := TX0) (N := 10) hx hb hts in_X0 hown hK hP 0 rfl rfl 2 (by decide) (hts _ q29) (fun _ h9 => h9) rfl dX0_condition_64 ?_
                  refine lv_aload_n hx hb dX0_condition_67 rfl (lv_at hl 0 rfl) ?_
                  refine va_get (D := (dC, dI)) (ci := 0) (v := .int (nI K)) (C := RX0) (T := TX0) (N := 10) hx hb hts in_X0 hown hK hP 0 rfl rfl 0 (by decide) (hts _ q27) (fun _ h9 => h9) rfl dX0_condition_68 ?_
                  refine lv_iload_n hx hb dX0_condition_71 rfl (lv_at hl 2 rfl) ?_
                  refine hu_ast hx hb hK hP hD hS 2 0 rfl rfl K rfl (by omega) (by decide) dX0_condition_72 (fun H locs hP hD hS => ?_)
                  have hP : va_P (dC, dI) hu_Cl (hu_wH d ad (nI K, rd, ct, upd fa K va, upd fb K vb, fc, lo, hi, cx, cy)) H := hP
                  have hD : va_D A (hu_wH d ad (nI K, rd, ct, upd fa K va, upd fb K vb, fc, lo, hi, cx, cy)) := hD
                  refine lv_aload_n hx hb dX0_condition_73 rfl (lv_at hl 0 rfl) ?_
                  refine va_get (D := (dC, dI)) (ci := 0) (v := .ref (ad 3)) (C := RX0) (T := TX0) (N := 10) hx hb hts in_X0 hown hK hP 0 rfl rfl 3 (by decide) (hts _ q30) (fun _ h9 => h9) rfl dX0_condition_74 ?_
                  refine lv_aload_n hx hb dX0_condition_77 rfl (lv_at hl 0 rfl) ?_
                  refine va_get (D := (dC, dI)) (ci := 0) (v := .int (nI K)) (C := RX0) (T := TX0) (N := 10) hx hb hts in_X0 hown hK hP 0 rfl rfl 0 (by decide) (hts _ q27) (fun _ h9 => h9) rfl dX0_condition_78 ?_
                  refine lv_iload_n hx hb dX0_condition_81 rfl (lv_at hl 3 rfl) ?_
                  refine hu_ast hx hb hK hP hD hS 3 0 rfl rfl K rfl (by omega) (by decide) dX0_condition_82 (fun H locs hP hD hS => ?_)
                  have hP : va_P (dC, dI) hu_Cl (hu_wH d ad (nI K, rd, ct, upd fa K va, upd fb K vb, upd fc K vc, lo, hi, cx, cy)) H := hP
                  have hD : va_D A (hu_wH d ad (nI K, rd, ct, upd fa K va, upd fb K vb, upd fc K vc, lo, hi, cx, cy)) := hD
                  refine lv_aload_n hx hb dX0_condition_83 rfl (lv_at hl 0 rfl) ?_
                  refine lv_dup hx hb dX0_condition_84 rfl ?_
                  refine va_get (D := (dC, dI)) (ci := 0) (v := .int (nI K)) (C := RX0) (T := TX0) (N := 10) hx hb hts in_X0 hown hK hP 0 rfl rfl 0 (by decide) (hts _ q27) (fun _ h9 => h9) rfl dX0_condition_85 ?_
                  refine lv_iconst (v := 1) hx hb dX0_condition_88 (by decide) ?_
                  refine lv_iadd hx hb dX0_condition_89 ?_
                  refine hu_top (z := nI (K + 1)) (nI_1 K) ?_
                  refine va_put (D := (dC, dI)) (ci := 0) (v := .int (nI (K + 1))) (ty := .int) (C := RX0) (T := TX0) (N := 10) hx hb hts in_X0 tyX0 tyX0_ok nmX0 hown hK hP hD hS 0 rfl rfl 0 (by decide) (hts _ q27) (fun _ h9 => h9) rfl (by decide +kernel) rfl rfl (Nat.le_of_ble_eq_true rfl) dX0_condition_90 (fun H locs hP hD hS => ?_)
                  have hP : va_P (dC, dI) hu_Cl (hu_wH d ad (nI (K + 1), rd, ct, upd fa K va, upd fb K vb, upd fc K vc, lo, hi, cx, cy)) H := hP
                  have hD : va_D A (hu_wH d ad (nI (K + 1), rd, ct, upd fa K va, upd fb K vb, upd fc K vc, lo, hi, cx, cy)) := hD
                  refine lv_aload_n hx hb dX0_condition_93 rfl (lv_at hl 0 rfl) ?_
                  refine lv_iconst (v := 0) hx hb dX0_condition_94 (by decide) ?_
                  refine va_put (D := (dC, dI)) (ci := 0) (v := .int 0) (ty := .boolean) (C := RX0) (T := TX0) (N := 10) hx hb hts in_X0 tyX0 tyX0_ok nmX0 hown hK hP hD hS 0 rfl rfl 4 (by decide) (hts _ q31) (fun _ h9 => h9) rfl (by decide +kernel) rfl rfl (Nat.le_of_ble_eq_true rfl) dX0_condition_95 (fun H locs hP hD hS => ?_)
                  have hP : va_P (dC, dI) hu_Cl (hu_wH d ad (nI (K + 1), 0, ct, upd fa K va, upd fb K vb, upd fc K vc, lo, hi, cx, cy)) H := hP
                  have hD : va_D A (hu_wH d ad (nI (K + 1), 0, ct, upd fa K va, upd fb K vb, upd fc K vc, lo, hi, cx, cy)) := hD
                  refine lv_aload_n hx hb dX0_condition_98 rfl (lv_at hl 0 rfl) ?_
                  refine va_get (D := (dC, dI)) (ci := 0) (v := .int (nI (K + 1))) (C := RX0) (T := TX0) (N := 10) hx hb hts in_X0 hown hK hP 0 rfl rfl 0 (by decide) (hts _ q27) (fun _ h9 => h9) rfl dX0_condition_99 ?_
                  exact hu_retCI (nI (K + 1), 0, ct, upd fa K va, upd fb K vb, upd fc K vc, lo, hi, cx, cy) hx hb hr hlocks hK hP hD hS (Or.inr (Or.inr ⟨hnb, hi_47, rfl, rfl⟩)) dX0_condition_102
                · skip
                  have hi_47 : K = 8 := by have := mt (nI_ltI (a := K) (b := 8) (by omega) (by omega)).mpr c_47; omega
                  refine lv_bipush (v := (-2)) hx hb dX0_condition_50 (by decide) ?_
                  exact hu_retCI (nI K, rd, ct, fa, fb, fc, lo, hi, cx, cy) hx hb hr hlocks hK hP hD hS (Or.inr (Or.inl ⟨hnb, hi_47, rfl, rfl⟩)) dX0_condition_52
              · skip
                refine lv_iconst (v := (-1)) hx hb dX0_condition_39 (by decide) ?_
                exact hu_retCI (nI K, rd, ct, fa, fb, fc, lo, hi, cx, cy) hx hb hr hlocks hK hP hD hS (Or.inl ⟨by first | exact Or.inl c_3 | exact Or.inr (Or.inl c_9) | exact Or.inr (Or.inr (Or.inl c_15)) | exact Or.inr (Or.inr (Or.inr (Or.inl c_21))) | exact Or.inr (Or.inr (Or.inr (Or.inr (Or.inl ⟨c_25, c_29⟩)))) | exact Or.inr (Or.inr (Or.inr (Or.inr (Or.inr (hu_tf_ne w_33 c_36))))), rfl, rfl⟩) dX0_condition_40
set_option maxHeartbeats 4000000 in
set_option maxRecDepth 100000 in
/-- drop -/
theorem mX0_drop (l : Launch) (dC : Nat → ClassId) (dI : Nat → Nat → Nat) (d : ClassId) (ad : Nat → Nat) (sz : Nat) (rd : Int32) (ct : Int32) (fa : Nat → Int32) (fb : Nat → Int32) (fc : Nat → Int32) (lo : Nat → Int32) (hi : Nat → Int32) (cx : Nat → Int32) (cy : Nat → Int32) (K : Nat) (hk8 : K ≤ 8) (hok : hu_OK K fa fb fc) (hrd : rd = 0 ∨ (rd = 1 ∧ hu_Prep K fa fb fc lo hi ct cx cy)) : hu_CI l dC dI d (hu_wH d ad) (nI K, rd, ct, fa, fb, fc, lo, hi, cx, cy) sz yX0_drop cX0_drop 1 (some .int) ({ frames := 0, cells := 0, slots := 0, locals := 0 }) [.ref (ad 0)] (fun r u => (K = 0 ∧ r = -3 ∧ u = (nI K, rd, ct, fa, fb, fc, lo, hi, cx, cy)) ∨ (0 < K ∧ r = nI (K - 1) ∧ u = (nI (K - 1), 0, ct, fa, fb, fc, lo, hi, cx, cy))) := by
  refine hu_metC_i (by decide) (Nat.le_of_ble_eq_true rfl) sz ?_
  intro p e s m below meth c ls A C0 hP hK hD hS hA hl
  obtain ⟨hx, hb, hr, hml, hown, hts, hlocks⟩ := C0
  have hl : lv_has ls 1 [(0, .ref (ad 0))] := hl
  refine lv_aload_n hx hb dX0_drop_0 rfl (lv_at hl 0 rfl) ?_
  refine va_get (D := (dC, dI)) (ci := 0) (v := .int (nI K)) (C := RX0) (T := TX0) (N := 10) hx hb hts in_X0 hown hK hP 0 rfl rfl 0 (by decide) (hts _ q27) (fun _ h9 => h9) rfl dX0_drop_1 ?_
  refine lv_if_ne (tgt := 10) hx hb dX0_drop_4 (by decide) (fun c_4 => ?_) (fun c_4 => ?_)
  · skip
    have hK0 : 0 < K := Nat.pos_of_ne_zero (fun q => c_4 (by rw [q]; rfl))
    refine lv_aload_n hx hb dX0_drop_10 rfl (lv_at hl 0 rfl) ?_
    refine lv_dup hx hb dX0_drop_11 rfl ?_
    refine va_get (D := (dC, dI)) (ci := 0) (v := .int (nI K)) (C := RX0) (T := TX0) (N := 10) hx hb hts in_X0 hown hK hP 0 rfl rfl 0 (by decide) (hts _ q27) (fun _ h9 => h9) rfl dX0_drop_12 ?_
    refine lv_iconst (v := 1) hx hb dX0_drop_15 (by decide) ?_
    refine lv_isub hx hb dX0_drop_16 ?_
    refine hu_top (z := nI (K - 1)) (pk_sub (a := K) (b := 1) hK0) ?_
    refine va_put (D := (dC, dI)) (ci := 0) (v := .int (nI (K - 1))) (ty := .int) (C := RX0) (T := TX0) (N := 10) hx hb hts in_X0 tyX0 tyX0_ok nmX0 hown hK hP hD hS 0 rfl rfl 0 (by decide) (hts _ q27) (fun _ h9 => h9) rfl (by decide +kernel) rfl rfl (Nat.le_of_ble_eq_true rfl) dX0_drop_17 (fun H locs hP hD hS => ?_)
    have hP : va_P (dC, dI) hu_Cl (hu_wH d ad (nI (K - 1), rd, ct, fa, fb, fc, lo, hi, cx, cy)) H := hP
    have hD : va_D A (hu_wH d ad (nI (K - 1), rd, ct, fa, fb, fc, lo, hi, cx, cy)) := hD
    refine lv_aload_n hx hb dX0_drop_20 rfl (lv_at hl 0 rfl) ?_
    refine lv_iconst (v := 0) hx hb dX0_drop_21 (by decide) ?_
    refine va_put (D := (dC, dI)) (ci := 0) (v := .int 0) (ty := .boolean) (C := RX0) (T := TX0) (N := 10) hx hb hts in_X0 tyX0 tyX0_ok nmX0 hown hK hP hD hS 0 rfl rfl 4 (by decide) (hts _ q31) (fun _ h9 => h9) rfl (by decide +kernel) rfl rfl (Nat.le_of_ble_eq_true rfl) dX0_drop_22 (fun H locs hP hD hS => ?_)
    have hP : va_P (dC, dI) hu_Cl (hu_wH d ad (nI (K - 1), 0, ct, fa, fb, fc, lo, hi, cx, cy)) H := hP
    have hD : va_D A (hu_wH d ad (nI (K - 1), 0, ct, fa, fb, fc, lo, hi, cx, cy)) := hD
    refine lv_aload_n hx hb dX0_drop_25 rfl (lv_at hl 0 rfl) ?_
    refine va_get (D := (dC, dI)) (ci := 0) (v := .int (nI (K - 1))) (C := RX0) (T := TX0) (N := 10) hx hb hts in_X0 hown hK hP 0 rfl rfl 0 (by decide) (hts _ q27) (fun _ h9 => h9) rfl dX0_drop_26 ?_
    exact hu_retCI (nI (K - 1), 0, ct, fa, fb, fc, lo, hi, cx, cy) hx hb hr hlocks hK hP hD hS (Or.inr ⟨hK0, rfl, rfl⟩) dX0_drop_29
  · skip
    have hK0 : K = 0 := (nI_eq (b := 0) (by omega) (by omega)).mp c_4
    refine lv_bipush (v := (-3)) hx hb dX0_drop_7 (by decide) ?_
    exact hu_retCI (nI K, rd, ct, fa, fb, fc, lo, hi, cx, cy) hx hb hr hlocks hK hP hD hS (Or.inl ⟨hK0, rfl, rfl⟩) dX0_drop_9
set_option maxHeartbeats 4000000 in
set_option maxRecDepth 100000 in
/-- shift -/
theorem mX0_shift (l : Launch) (dC : Nat → ClassId) (dI : Nat → Nat → Nat) (d : ClassId) (ad : Nat → Nat) (sz : Nat) (rd : Int32) (ct : Int32) (fa : Nat → Int32) (fb : Nat → Int32) (fc : Nat → Int32) (lo : Nat → Int32) (hi : Nat → Int32) (cx : Nat → Int32) (cy : Nat → Int32) (K : Nat) (hk8 : K ≤ 8) (hok : hu_OK K fa fb fc) (hrd : rd = 0 ∨ (rd = 1 ∧ hu_Prep K fa fb fc lo hi ct cx cy)) (x vc : Int32) : hu_CI l dC dI d (hu_wH d ad) (nI K, rd, ct, fa, fb, fc, lo, hi, cx, cy) sz yX0_shift cX0_shift 4 (some .int) ({ frames := 1, cells := 0, slots := 0, locals := 20 }) [.ref (ad 0), .int x, .int vc] (fun r u => ((x < 0 ∨ nI K ≤ x) ∧ r = -3 ∧ u = (nI K, rd, ct, fa, fb, fc, lo, hi, cx, cy)) ∨ (∃ i, i < K ∧ x = nI i ∧ (((vc < -1000 ∨ 1000 < vc) ∧ r = -1 ∧ u = (nI K, rd, ct, fa, fb, fc, lo, hi, cx, cy)) ∨ (¬ (vc < -1000 ∨ 1000 < vc) ∧ r = fc i ∧ u = (nI K, 0, ct, fa, fb, upd fc i vc, lo, hi, cx, cy))))) := by
  refine hu_metC_i (by decide) (Nat.le_of_ble_eq_true rfl) sz ?_
  intro p e s m below meth c ls A C0 hP hK hD hS hA hl
  obtain ⟨hx, hb, hr, hml, hown, hts, hlocks⟩ := C0
  have hl : lv_has ls 4 [(0, .ref (ad 0)), (1, .int x), (2, .int vc)] := hl
  refine lv_iload_n hx hb dX0_shift_0 rfl (lv_at hl 1 rfl) ?_
  refine lv_if_lt (tgt := 12) hx hb dX0_shift_1 (by decide) (fun c_1 => ?_) (fun c_1 => ?_)
  · skip
    refine lv_bipush (v := (-3)) hx hb dX0_shift_12 (by decide) ?_
    exact hu_retCI (nI K, rd, ct, fa, fb, fc, lo, hi, cx, cy) hx hb hr hlocks hK hP hD hS (Or.inl ⟨by first | exact Or.inl c_1 | exact Or.inr (Int32.not_lt.mp c_9), rfl, rfl⟩) dX0_shift_14
  · skip
    refine lv_iload_n hx hb dX0_shift_4 rfl (lv_at hl 1 rfl) ?_
    refine lv_aload_n hx hb dX0_shift_5 rfl (lv_at hl 0 rfl) ?_
    refine va_get (D := (dC, dI)) (ci := 0) (v := .int (nI K)) (C := RX0) (T := TX0) (N := 10) hx hb hts in_X0 hown hK hP 0 rfl rfl 0 (by decide) (hts _ q27) (fun _ h9 => h9) rfl dX0_shift_6 ?_
    refine lv_icmp_lt (tgt := 15) hx hb dX0_shift_9 (by decide) (fun c_9 => ?_) (fun c_9 => ?_)
    · skip
      obtain ⟨i, hi1, hix⟩ : ∃ i, i < K ∧ x = nI i := by
        rcases pk_ix x (n := K) (by omega) with q | q | q
        · exact absurd q c_1
        · exact absurd c_9 (Int32.not_lt.mpr q)
        · exact q
      refine lv_iload_n hx hb dX0_shift_15 rfl (lv_at hl 2 rfl) ?_
      refine hu_callS 1 (As := [.int vc]) (rest := []) ⟨hx, hb, hml, hown, hts⟩ (mX0_badBound l vc) (lw_S q63 q64 q17 q65) (by decide +kernel) rfl ⟨Nat.le_of_ble_eq_true rfl, Nat.le_of_ble_eq_true rfl⟩ ⟨rfl, rfl⟩ hl.1 rfl (Nat.le_of_ble_eq_true rfl) ⟨Nat.zero_le _, Nat.zero_le _⟩ dX0_shift_16 (fun r_16 w_16 => ?_)
      refine lv_if_eq (tgt := 24) hx hb dX0_shift_19 (by decide) (fun c_19 => ?_) (fun c_19 => ?_)
      · skip
        refine lv_aload_n hx hb dX0_shift_24 rfl (lv_at hl 0 rfl) ?_
        refine va_get (D := (dC, dI)) (ci := 0) (v := .ref (ad 3)) (C := RX0) (T := TX0) (N := 10) hx hb hts in_X0 hown hK hP 0 rfl rfl 3 (by decide) (hts _ q30) (fun _ h9 => h9) rfl dX0_shift_25 ?_
        refine lv_iload_n hx hb dX0_shift_28 rfl (lv_at hl 1 rfl) ?_
        refine hu_ald hx hb hK hP 3 0 rfl rfl i hix (by omega) (by decide) dX0_shift_29 ?_
        refine lv_istore_n (lv' := [(3, .int (fc i)), (0, .ref (ad 0)), (1, .int x), (2, .int vc)]) hx hb dX0_shift_30 rfl hl (by decide) rfl (fun ls hl => ?_)
        refine lv_aload_n hx hb dX0_shift_31 rfl (lv_at hl 1 rfl) ?_
        refine va_get (D := (dC, dI)) (ci := 0) (v := .ref (ad 3)) (C := RX0) (T := TX0) (N := 10) hx hb hts in_X0 hown hK hP 0 rfl rfl 3 (by decide) (hts _ q30) (fun _ h9 => h9) rfl dX0_shift_32 ?_
        refine lv_iload_n hx hb dX0_shift_35 rfl (lv_at hl 2 rfl) ?_
        refine lv_iload_n hx hb dX0_shift_36 rfl (lv_at hl 3 rfl) ?_
        refine hu_ast hx hb hK hP hD hS 3 0 rfl rfl i hix (by omega) (by decide) dX0_shift_37 (fun H locs hP hD hS => ?_)
        have hP : va_P (dC, dI) hu_Cl (hu_wH d ad (nI K, rd, ct, fa, fb, upd fc i vc, lo, hi, cx, cy)) H := hP
        have hD : va_D A (hu_wH d ad (nI K, rd, ct, fa, fb, upd fc i vc, lo, hi, cx, cy)) := hD
        refine lv_aload_n hx hb dX0_shift_38 rfl (lv_at hl 1 rfl) ?_
        refine lv_iconst (v := 0) hx hb dX0_shift_39 (by decide) ?_
        refine va_put (D := (dC, dI)) (ci := 0) (v := .int 0) (ty := .boolean) (C := RX0) (T := TX0) (N := 10) hx hb hts in_X0 tyX0 tyX0_ok nmX0 hown hK hP hD hS 0 rfl rfl 4 (by decide) (hts _ q31) (fun _ h9 => h9) rfl (by decide +kernel) rfl rfl (Nat.le_of_ble_eq_true rfl) dX0_shift_40 (fun H locs hP hD hS => ?_)
        have hP : va_P (dC, dI) hu_Cl (hu_wH d ad (nI K, 0, ct, fa, fb, upd fc i vc, lo, hi, cx, cy)) H := hP
        have hD : va_D A (hu_wH d ad (nI K, 0, ct, fa, fb, upd fc i vc, lo, hi, cx, cy)) := hD
        refine lv_iload_n hx hb dX0_shift_43 rfl (lv_at hl 0 rfl) ?_
        exact hu_retCI (nI K, 0, ct, fa, fb, upd fc i vc, lo, hi, cx, cy) hx hb hr hlocks hK hP hD hS (Or.inr ⟨i, hi1, hix, Or.inr ⟨hu_tf_0 w_16 c_19, rfl, rfl⟩⟩) dX0_shift_44
      · skip
        refine lv_iconst (v := (-1)) hx hb dX0_shift_22 (by decide) ?_
        exact hu_retCI (nI K, rd, ct, fa, fb, fc, lo, hi, cx, cy) hx hb hr hlocks hK hP hD hS (Or.inr ⟨i, hi1, hix, Or.inl ⟨hu_tf_ne w_16 c_19, rfl, rfl⟩⟩) dX0_shift_23
    · skip
      refine lv_bipush (v := (-3)) hx hb dX0_shift_12 (by decide) ?_
      exact hu_retCI (nI K, rd, ct, fa, fb, fc, lo, hi, cx, cy) hx hb hr hlocks hK hP hD hS (Or.inl ⟨by first | exact Or.inl c_1 | exact Or.inr (Int32.not_lt.mp c_9), rfl, rfl⟩) dX0_shift_14
set_option maxHeartbeats 4000000 in
set_option maxRecDepth 100000 in
/-- points -/
theorem mX0_points (l : Launch) (dC : Nat → ClassId) (dI : Nat → Nat → Nat) (d : ClassId) (ad : Nat → Nat) (sz : Nat) (rd : Int32) (ct : Int32) (fa : Nat → Int32) (fb : Nat → Int32) (fc : Nat → Int32) (lo : Nat → Int32) (hi : Nat → Int32) (cx : Nat → Int32) (cy : Nat → Int32) (K : Nat) (hk8 : K ≤ 8) (hok : hu_OK K fa fb fc) (hrd : rd = 0 ∨ (rd = 1 ∧ hu_Prep K fa fb fc lo hi ct cx cy)) : hu_CI l dC dI d (hu_wH d ad) (nI K, rd, ct, fa, fb, fc, lo, hi, cx, cy) sz yX0_points cX0_points 3 (some .int) ({ frames := 4, cells := 0, slots := 0, locals := 91 }) [.ref (ad 0)] (fun r u => ∃ (lo' hi' : Nat → Int32) (n : Nat) (cx' cy' : Nat → Int32), u = (nI K, 1, nI n, fa, fb, fc, lo', hi', cx', cy') ∧ hu_PN K fa fb fc lo' hi' n cx' cy' ∧ r = hu_pts lo' hi' 41) := by
  refine hu_metC_i (by decide) (Nat.le_of_ble_eq_true rfl) sz ?_
  intro p e s m below meth c ls A C0 hP hK hD hS hA hl
  obtain ⟨hx, hb, hr, hml, hown, hts, hlocks⟩ := C0
  have hl : lv_has ls 3 [(0, .ref (ad 0))] := hl
  have loop : ∀ (n : Nat) (x : Nat) (b : Int32) (lo2 : Nat → Int32) (hi2 : Nat → Int32) (n2 : Nat) (cx2 : Nat → Int32) (cy2 : Nat → Int32), x ≤ 41 → 41 < x + n → b = hu_pts lo2 hi2 x → hu_PN K fa fb fc lo2 hi2 n2 cx2 cy2 → ∀ (H : Heap) (locs : List Loc), va_P (dC, dI) hu_Cl (hu_wH d ad (nI K, 1, nI n2, fa, fb, fc, lo2, hi2, cx2, cy2)) H → va_D A (hu_wH d ad (nI K, 1, nI n2, fa, fb, fc, lo2, hi2, cx2, cy2)) → va_S A s.heap H locs → ∀ ls : Array Slot, lv_has ls 3 [(2, .int (nI x)), (1, .int b), (0, .ref (ad 0))] → W p l e ({ frames := 4, cells := 0, slots := 0, locals := 91 }) s m ([.ref (ad 0)] : List Value).toArray below meth c H locs 0 0 (MQ below (va_Qi (fun r u => ∃ (lo' hi' : Nat → Int32) (n : Nat) (cx' cy' : Nat → Int32), u = (nI K, 1, nI n, fa, fb, fc, lo', hi', cx', cy') ∧ hu_PN K fa fb fc lo' hi' n cx' cy' ∧ r = hu_pts lo' hi' 41) (hu_W dC dI d (hu_wH d ad) A) A) ([.ref (ad 0)] : List Value).toArray s 0 0 A) (F0 m 8 ls []) := by
    intro n
    induction n with
    | zero =>
      intro x b lo2 hi2 n2 cx2 cy2 h1 h2
      exfalso
      omega
    | succ n ih =>
      intro x b lo2 hi2 n2 cx2 cy2 h1 h2 h3 hPN H locs hP hD hS ls hl
      refine lv_iload_n hx hb dX0_points_8 rfl (lv_at hl 0 rfl) ?_
      refine lv_bipush (v := 41) hx hb dX0_points_9 (by decide) ?_
      refine lv_icmp_ge (tgt := 46) hx hb dX0_points_11 (by decide) (fun c_11 => ?_) (fun c_11 => ?_)
      · skip
        have hi_11 : x = 41 := by have := (nI_leI (a := 41) (by omega) (by omega)).mp c_11; omega
        refine lv_iload_n hx hb dX0_points_46 rfl (lv_at hl 1 rfl) ?_
        exact hu_retCI (nI K, 1, nI n2, fa, fb, fc, lo2, hi2, cx2, cy2) hx hb hr hlocks hK hP hD hS ⟨lo2, hi2, n2, cx2, cy2, rfl, hPN, by rw [h3, hi_11]⟩ dX0_points_47
      · skip
        have hi_11 : x < 41 := by have := mt (nI_leI (a := 41) (b := x) (by omega) (by omega)).mpr c_11; omega
        refine lv_aload_n hx hb dX0_points_14 rfl (lv_at hl 2 rfl) ?_
        refine lv_iload_n hx hb dX0_points_15 rfl (lv_at hl 0 rfl) ?_
        refine hu_callR 1 (As := [.int (nI x)]) (rest := []) ⟨hx, hb, hml, hown, hts⟩ (mX0_some l dC dI d ad (nI K) 1 (nI n2) fa fb fc lo2 hi2 cx2 cy2 x hi_11) (lw_V q93 q95 qs3 q17 q96) (by decide +kernel) rfl ⟨Nat.le_of_ble_eq_true rfl, Nat.le_of_ble_eq_true rfl⟩ ⟨rfl, rfl⟩ hK hP (va_recv hK hP (ci := 0) (q0 := 0) rfl rfl) hl.1 rfl (Nat.le_of_ble_eq_true rfl) ⟨Nat.zero_le _, Nat.zero_le _⟩ dX0_points_16 (fun r_16 w_16 => ?_)
        refine lv_if_eq (tgt := 40) hx hb dX0_points_19 (by decide) (fun c_19 => ?_) (fun c_19 => ?_)
        · skip
          refine lv_iinc (v := nI (x + 1)) (lv' := [(2, .int (nI (x + 1))), (1, .int b), (0, .ref (ad 0))]) hx hb dX0_points_40 hl (k := 0) rfl (nI_1 _) (by decide) rfl (fun ls hl => ?_)
          refine lv_goto (tgt := 8) hx hb dX0_points_43 (by decide) ?_
          exact ih (x + 1) b lo2 hi2 n2 cx2 cy2 (by omega) (by omega) (hu_pts_n h3 (hu_tf_0 w_16 c_19)) hPN _ _ hP hD hS ls (lv_sub hl [0, 1, 2] rfl)
        · skip
          refine lv_iload_n hx hb dX0_points_22 rfl (lv_at hl 1 rfl) ?_
          refine lv_aload_n hx hb dX0_points_23 rfl (lv_at hl 2 rfl) ?_
          refine va_get (D := (dC, dI)) (ci := 0) (v := .ref (ad 5)) (C := RX0) (T := TX0) (N := 10) hx hb hts in_X0 hown hK hP 0 rfl rfl 6 (by decide) (hts _ q33) (fun _ h9 => h9) rfl dX0_points_24 ?_
          refine lv_iload_n hx hb dX0_points_27 rfl (lv_at hl 0 rfl) ?_
          refine hu_ald hx hb hK hP 5 0 rfl rfl x rfl (by omega) (by decide) dX0_points_28 ?_
          refine lv_aload_n hx hb dX0_points_29 rfl (lv_at hl 2 rfl) ?_
          refine va_get (D := (dC, dI)) (ci := 0) (v := .ref (ad 4)) (C := RX0) (T := TX0) (N := 10) hx hb hts in_X0 hown hK hP 0 rfl rfl 5 (by decide) (hts _ q32) (fun _ h9 => h9) rfl dX0_points_30 ?_
          refine lv_iload_n hx hb dX0_points_33 rfl (lv_at hl 0 rfl) ?_
          refine hu_ald hx hb hK hP 4 0 rfl rfl x rfl (by omega) (by decide) dX0_points_34 ?_
          refine lv_isub hx hb dX0_points_35 ?_
          refine lv_iconst (v := 1) hx hb dX0_points_36 (by decide) ?_
          refine lv_iadd hx hb dX0_points_37 ?_
          refine lv_iadd hx hb dX0_points_38 ?_
          refine lv_istore_n (lv' := [(1, .int (b + (((hi2 x) - (lo2 x)) + 1))), (2, .int (nI x)), (0, .ref (ad 0))]) hx hb dX0_points_39 rfl hl (by decide) rfl (fun ls hl => ?_)
          refine lv_iinc (v := nI (x + 1)) (lv' := [(2, .int (nI (x + 1))), (1, .int (b + (((hi2 x) - (lo2 x)) + 1))), (0, .ref (ad 0))]) hx hb dX0_points_40 hl (k := 1) rfl (nI_1 _) (by decide) rfl (fun ls hl => ?_)
          refine lv_goto (tgt := 8) hx hb dX0_points_43 (by decide) ?_
          exact ih (x + 1) _ lo2 hi2 n2 cx2 cy2 (by omega) (by omega) (hu_pts_y h3 (hu_tf_ne w_16 c_19)) hPN _ _ hP hD hS ls (lv_sub hl [0, 1, 2] rfl)
  refine lv_aload_n hx hb dX0_points_0 rfl (lv_at hl 0 rfl) ?_
  refine hu_callCV 0 (As := []) (rest := []) (wf := hu_wH d ad) (wr := []) ⟨hx, hb, hml, hown, hts⟩ (mX0_prepare l dC dI d ad _ rd ct fa fb fc lo hi cx cy K hk8 hok hrd) (lw_V q78 q80 qs0 q17 q81) (by decide +kernel) rfl ⟨Nat.le_of_ble_eq_true rfl, Nat.le_of_ble_eq_true rfl⟩ ⟨rfl, rfl⟩ hK hP hD hS hA [0, 1, 2, 3, 4, 5, 6, 7] [] rfl rfl ⟨rfl, rfl⟩ (by decide) rfl (va_recv hK hP (ci := 0) (q0 := 0) rfl rfl) hl.1 rfl (Nat.le_of_ble_eq_true rfl) ⟨Nat.zero_le _, Nat.zero_le _⟩ dX0_points_1 (fun u_1 H locs w_1 hP hD hS => ?_)
  obtain ⟨lo2, hi2, ct2, cx2, cy2, rfl, hcol2, n2, hn2, rfl, hH2⟩ := w_1
  have hP : va_P (dC, dI) hu_Cl (hu_wH d ad (nI K, 1, nI n2, fa, fb, fc, lo2, hi2, cx2, cy2)) H := hP
  have hD : va_D A (hu_wH d ad (nI K, 1, nI n2, fa, fb, fc, lo2, hi2, cx2, cy2)) := hD
  have hPN : hu_PN K fa fb fc lo2 hi2 n2 cx2 cy2 := ⟨hcol2, hn2, hH2⟩
  refine lv_iconst (v := 0) hx hb dX0_points_4 (by decide) ?_
  refine lv_istore_n (lv' := [(1, .int 0), (0, .ref (ad 0))]) hx hb dX0_points_5 rfl hl (by decide) rfl (fun ls hl => ?_)
  refine lv_iconst (v := 0) hx hb dX0_points_6 (by decide) ?_
  refine lv_istore_n (lv' := [(2, .int 0), (1, .int 0), (0, .ref (ad 0))]) hx hb dX0_points_7 rfl hl (by decide) rfl (fun ls hl => ?_)
  exact loop 42 0 0 lo2 hi2 n2 cx2 cy2 (by omega) (by omega) rfl hPN _ _ hP hD hS ls (lv_sub hl [0, 1, 2] rfl)
set_option maxHeartbeats 4000000 in
set_option maxRecDepth 100000 in
/-- has -/
theorem mX0_has (l : Launch) (dC : Nat → ClassId) (dI : Nat → Nat → Nat) (d : ClassId) (ad : Nat → Nat) (sz : Nat) (rd : Int32) (ct : Int32) (fa : Nat → Int32) (fb : Nat → Int32) (fc : Nat → Int32) (lo : Nat → Int32) (hi : Nat → Int32) (cx : Nat → Int32) (cy : Nat → Int32) (K : Nat) (hk8 : K ≤ 8) (hok : hu_OK K fa fb fc) (hrd : rd = 0 ∨ (rd = 1 ∧ hu_Prep K fa fb fc lo hi ct cx cy)) (x z : Int32) : hu_CI l dC dI d (hu_wH d ad) (nI K, rd, ct, fa, fb, fc, lo, hi, cx, cy) sz yX0_has cX0_has 3 (some .boolean) ({ frames := 4, cells := 0, slots := 0, locals := 91 }) [.ref (ad 0), .int x, .int z] (fun r u => (¬ (¬ x < 0 ∧ ¬ 41 ≤ x ∧ ¬ z < 0 ∧ z < 41) ∧ r = 0 ∧ u = (nI K, rd, ct, fa, fb, fc, lo, hi, cx, cy)) ∨ ((¬ x < 0 ∧ ¬ 41 ≤ x ∧ ¬ z < 0 ∧ z < 41) ∧ ∃ (lo' hi' : Nat → Int32) (n : Nat) (cx' cy' : Nat → Int32), u = (nI K, 1, nI n, fa, fb, fc, lo', hi', cx', cy') ∧ hu_PN K fa fb fc lo' hi' n cx' cy' ∧ ∃ i, i < 41 ∧ x = nI i ∧ hu_tf r (lo' i ≤ z ∧ z ≤ hi' i))) := by
  refine hu_metC_i (by decide) (Nat.le_of_ble_eq_true rfl) sz ?_
  intro p e s m below meth c ls A C0 hP hK hD hS hA hl
  obtain ⟨hx, hb, hr, hml, hown, hts, hlocks⟩ := C0
  have hl : lv_has ls 3 [(0, .ref (ad 0)), (1, .int x), (2, .int z)] := hl
  refine lv_iload_n hx hb dX0_has_0 rfl (lv_at hl 1 rfl) ?_
  refine lv_if_lt (tgt := 20) hx hb dX0_has_1 (by decide) (fun c_1 => ?_) (fun c_1 => ?_)
  · skip
    refine lv_iconst (v := 0) hx hb dX0_has_20 (by decide) ?_
    exact hu_retCZ (nI K, rd, ct, fa, fb, fc, lo, hi, cx, cy) hx hb hr hlocks rfl hK hP hD hS (Or.inl ⟨fun q => by first | exact q.1 c_1 | exact q.2.1 c_7 | exact q.2.2.1 c_11 | exact c_17 q.2.2.2, rfl, rfl⟩) dX0_has_21
  · skip
    refine lv_iload_n hx hb dX0_has_4 rfl (lv_at hl 1 rfl) ?_
    refine lv_bipush (v := 41) hx hb dX0_has_5 (by decide) ?_
    refine lv_icmp_ge (tgt := 20) hx hb dX0_has_7 (by decide) (fun c_7 => ?_) (fun c_7 => ?_)
    · skip
      refine lv_iconst (v := 0) hx hb dX0_has_20 (by decide) ?_
      exact hu_retCZ (nI K, rd, ct, fa, fb, fc, lo, hi, cx, cy) hx hb hr hlocks rfl hK hP hD hS (Or.inl ⟨fun q => by first | exact q.1 c_1 | exact q.2.1 c_7 | exact q.2.2.1 c_11 | exact c_17 q.2.2.2, rfl, rfl⟩) dX0_has_21
    · skip
      refine lv_iload_n hx hb dX0_has_10 rfl (lv_at hl 2 rfl) ?_
      refine lv_if_lt (tgt := 20) hx hb dX0_has_11 (by decide) (fun c_11 => ?_) (fun c_11 => ?_)
      · skip
        refine lv_iconst (v := 0) hx hb dX0_has_20 (by decide) ?_
        exact hu_retCZ (nI K, rd, ct, fa, fb, fc, lo, hi, cx, cy) hx hb hr hlocks rfl hK hP hD hS (Or.inl ⟨fun q => by first | exact q.1 c_1 | exact q.2.1 c_7 | exact q.2.2.1 c_11 | exact c_17 q.2.2.2, rfl, rfl⟩) dX0_has_21
      · skip
        refine lv_iload_n hx hb dX0_has_14 rfl (lv_at hl 2 rfl) ?_
        refine lv_bipush (v := 41) hx hb dX0_has_15 (by decide) ?_
        refine lv_icmp_lt (tgt := 22) hx hb dX0_has_17 (by decide) (fun c_17 => ?_) (fun c_17 => ?_)
        · skip
          have hin : (¬ x < 0 ∧ ¬ 41 ≤ x ∧ ¬ z < 0 ∧ z < 41) := ⟨c_1, c_7, c_11, c_17⟩
          obtain ⟨i, hi1, hix⟩ : ∃ i, i < 41 ∧ x = nI i := by
            rcases pk_ix x (n := 41) (by omega) with q | q | q
            · exact absurd q c_1
            · exact absurd q c_7
            · exact q
          refine lv_aload_n hx hb dX0_has_22 rfl (lv_at hl 0 rfl) ?_
          refine hu_callCV 0 (As := []) (rest := []) (wf := hu_wH d ad) (wr := []) ⟨hx, hb, hml, hown, hts⟩ (mX0_prepare l dC dI d ad _ rd ct fa fb fc lo hi cx cy K hk8 hok hrd) (lw_V q78 q80 qs0 q17 q81) (by decide +kernel) rfl ⟨Nat.le_of_ble_eq_true rfl, Nat.le_of_ble_eq_true rfl⟩ ⟨rfl, rfl⟩ hK hP hD hS hA [0, 1, 2, 3, 4, 5, 6, 7] [] rfl rfl ⟨rfl, rfl⟩ (by decide) rfl (va_recv hK hP (ci := 0) (q0 := 0) rfl rfl) hl.1 rfl (Nat.le_of_ble_eq_true rfl) ⟨Nat.zero_le _, Nat.zero_le _⟩ dX0_has_23 (fun u_23 H locs w_23 hP hD hS => ?_)
          obtain ⟨lo2, hi2, ct2, cx2, cy2, rfl, hcol2, n2, hn2, rfl, hH2⟩ := w_23
          have hP : va_P (dC, dI) hu_Cl (hu_wH d ad (nI K, 1, nI n2, fa, fb, fc, lo2, hi2, cx2, cy2)) H := hP
          have hD : va_D A (hu_wH d ad (nI K, 1, nI n2, fa, fb, fc, lo2, hi2, cx2, cy2)) := hD
          have hPN : hu_PN K fa fb fc lo2 hi2 n2 cx2 cy2 := ⟨hcol2, hn2, hH2⟩
          refine lv_aload_n hx hb dX0_has_26 rfl (lv_at hl 0 rfl) ?_
          refine va_get (D := (dC, dI)) (ci := 0) (v := .ref (ad 4)) (C := RX0) (T := TX0) (N := 10) hx hb hts in_X0 hown hK hP 0 rfl rfl 5 (by decide) (hts _ q32) (fun _ h9 => h9) rfl dX0_has_27 ?_
          refine lv_iload_n hx hb dX0_has_30 rfl (lv_at hl 1 rfl) ?_
          refine hu_ald hx hb hK hP 4 0 rfl rfl i hix hi1 (by decide) dX0_has_31 ?_
          refine lv_iload_n hx hb dX0_has_32 rfl (lv_at hl 2 rfl) ?_
          refine lv_icmp_gt (tgt := 50) hx hb dX0_has_33 (by decide) (fun c_33 => ?_) (fun c_33 => ?_)
          · skip
            refine lv_iconst (v := 0) hx hb dX0_has_50 (by decide) ?_
            exact hu_retCZ (nI K, 1, nI n2, fa, fb, fc, lo2, hi2, cx2, cy2) hx hb hr hlocks rfl hK hP hD hS (Or.inr ⟨hin, ⟨lo2, hi2, n2, cx2, cy2, rfl, hPN, i, hi1, hix, by first | exact hu_tf_t ⟨Int32.not_lt.mp c_33, Int32.not_lt.mp c_43⟩ | exact hu_tf_f (fun q => Int32.not_le.mpr c_33 q.1) | exact hu_tf_f (fun q => Int32.not_le.mpr c_43 q.2)⟩⟩) dX0_has_51
          · skip
            refine lv_iload_n hx hb dX0_has_36 rfl (lv_at hl 2 rfl) ?_
            refine lv_aload_n hx hb dX0_has_37 rfl (lv_at hl 0 rfl) ?_
            refine va_get (D := (dC, dI)) (ci := 0) (v := .ref (ad 5)) (C := RX0) (T := TX0) (N := 10) hx hb hts in_X0 hown hK hP 0 rfl rfl 6 (by decide) (hts _ q33) (fun _ h9 => h9) rfl dX0_has_38 ?_
            refine lv_iload_n hx hb dX0_has_41 rfl (lv_at hl 1 rfl) ?_
            refine hu_ald hx hb hK hP 5 0 rfl rfl i hix hi1 (by decide) dX0_has_42 ?_
            refine lv_icmp_gt (tgt := 50) hx hb dX0_has_43 (by decide) (fun c_43 => ?_) (fun c_43 => ?_)
            · skip
              refine lv_iconst (v := 0) hx hb dX0_has_50 (by decide) ?_
              exact hu_retCZ (nI K, 1, nI n2, fa, fb, fc, lo2, hi2, cx2, cy2) hx hb hr hlocks rfl hK hP hD hS (Or.inr ⟨hin, ⟨lo2, hi2, n2, cx2, cy2, rfl, hPN, i, hi1, hix, by first | exact hu_tf_t ⟨Int32.not_lt.mp c_33, Int32.not_lt.mp c_43⟩ | exact hu_tf_f (fun q => Int32.not_le.mpr c_33 q.1) | exact hu_tf_f (fun q => Int32.not_le.mpr c_43 q.2)⟩⟩) dX0_has_51
            · skip
              refine lv_iconst (v := 1) hx hb dX0_has_46 (by decide) ?_
              refine lv_goto (tgt := 51) hx hb dX0_has_47 (by decide) ?_
              exact hu_retCZ (nI K, 1, nI n2, fa, fb, fc, lo2, hi2, cx2, cy2) hx hb hr hlocks rfl hK hP hD hS (Or.inr ⟨hin, ⟨lo2, hi2, n2, cx2, cy2, rfl, hPN, i, hi1, hix, by first | exact hu_tf_t ⟨Int32.not_lt.mp c_33, Int32.not_lt.mp c_43⟩ | exact hu_tf_f (fun q => Int32.not_le.mpr c_33 q.1) | exact hu_tf_f (fun q => Int32.not_le.mpr c_43 q.2)⟩⟩) dX0_has_51
        · skip
          refine lv_iconst (v := 0) hx hb dX0_has_20 (by decide) ?_
          exact hu_retCZ (nI K, rd, ct, fa, fb, fc, lo, hi, cx, cy) hx hb hr hlocks rfl hK hP hD hS (Or.inl ⟨fun q => by first | exact q.1 c_1 | exact q.2.1 c_7 | exact q.2.2.1 c_11 | exact c_17 q.2.2.2, rfl, rfl⟩) dX0_has_21
set_option maxHeartbeats 4000000 in
set_option maxRecDepth 100000 in
/-- corners -/
theorem mX0_corners (l : Launch) (dC : Nat → ClassId) (dI : Nat → Nat → Nat) (d : ClassId) (ad : Nat → Nat) (sz : Nat) (rd : Int32) (ct : Int32) (fa : Nat → Int32) (fb : Nat → Int32) (fc : Nat → Int32) (lo : Nat → Int32) (hi : Nat → Int32) (cx : Nat → Int32) (cy : Nat → Int32) (K : Nat) (hk8 : K ≤ 8) (hok : hu_OK K fa fb fc) (hrd : rd = 0 ∨ (rd = 1 ∧ hu_Prep K fa fb fc lo hi ct cx cy)) : hu_CI l dC dI d (hu_wH d ad) (nI K, rd, ct, fa, fb, fc, lo, hi, cx, cy) sz yX0_corners cX0_corners 1 (some .int) ({ frames := 4, cells := 0, slots := 0, locals := 91 }) [.ref (ad 0)] (fun r u => ∃ (lo' hi' : Nat → Int32) (n : Nat) (cx' cy' : Nat → Int32), u = (nI K, 1, nI n, fa, fb, fc, lo', hi', cx', cy') ∧ hu_PN K fa fb fc lo' hi' n cx' cy' ∧ r = nI n) := by
  refine hu_metC_i (by decide) (Nat.le_of_ble_eq_true rfl) sz ?_
  intro p e s m below meth c ls A C0 hP hK hD hS hA hl
  obtain ⟨hx, hb, hr, hml, hown, hts, hlocks⟩ := C0
  have hl : lv_has ls 1 [(0, .ref (ad 0))] := hl
  refine lv_aload_n hx hb dX0_corners_0 rfl (lv_at hl 0 rfl) ?_
  refine hu_callCV 0 (As := []) (rest := []) (wf := hu_wH d ad) (wr := []) ⟨hx, hb, hml, hown, hts⟩ (mX0_prepare l dC dI d ad _ rd ct fa fb fc lo hi cx cy K hk8 hok hrd) (lw_V q78 q80 qs0 q17 q81) (by decide +kernel) rfl ⟨Nat.le_of_ble_eq_true rfl, Nat.le_of_ble_eq_true rfl⟩ ⟨rfl, rfl⟩ hK hP hD hS hA [0, 1, 2, 3, 4, 5, 6, 7] [] rfl rfl ⟨rfl, rfl⟩ (by decide) rfl (va_recv hK hP (ci := 0) (q0 := 0) rfl rfl) hl.1 rfl (Nat.le_of_ble_eq_true rfl) ⟨Nat.zero_le _, Nat.zero_le _⟩ dX0_corners_1 (fun u_1 H locs w_1 hP hD hS => ?_)
  obtain ⟨lo2, hi2, ct2, cx2, cy2, rfl, hcol2, n2, hn2, rfl, hH2⟩ := w_1
  have hP : va_P (dC, dI) hu_Cl (hu_wH d ad (nI K, 1, nI n2, fa, fb, fc, lo2, hi2, cx2, cy2)) H := hP
  have hD : va_D A (hu_wH d ad (nI K, 1, nI n2, fa, fb, fc, lo2, hi2, cx2, cy2)) := hD
  have hPN : hu_PN K fa fb fc lo2 hi2 n2 cx2 cy2 := ⟨hcol2, hn2, hH2⟩
  refine lv_aload_n hx hb dX0_corners_4 rfl (lv_at hl 0 rfl) ?_
  refine va_get (D := (dC, dI)) (ci := 0) (v := .int (nI n2)) (C := RX0) (T := TX0) (N := 10) hx hb hts in_X0 hown hK hP 0 rfl rfl 7 (by decide) (hts _ q34) (fun _ h9 => h9) rfl dX0_corners_5 ?_
  exact hu_retCI (nI K, 1, nI n2, fa, fb, fc, lo2, hi2, cx2, cy2) hx hb hr hlocks hK hP hD hS ⟨lo2, hi2, n2, cx2, cy2, rfl, hPN, rfl⟩ dX0_corners_8
set_option maxHeartbeats 4000000 in
set_option maxRecDepth 100000 in
/-- corner -/
theorem mX0_corner (l : Launch) (dC : Nat → ClassId) (dI : Nat → Nat → Nat) (d : ClassId) (ad : Nat → Nat) (sz : Nat) (rd : Int32) (ct : Int32) (fa : Nat → Int32) (fb : Nat → Int32) (fc : Nat → Int32) (lo : Nat → Int32) (hi : Nat → Int32) (cx : Nat → Int32) (cy : Nat → Int32) (K : Nat) (hk8 : K ≤ 8) (hok : hu_OK K fa fb fc) (hrd : rd = 0 ∨ (rd = 1 ∧ hu_Prep K fa fb fc lo hi ct cx cy)) (x : Int32) : hu_CI l dC dI d (hu_wH d ad) (nI K, rd, ct, fa, fb, fc, lo, hi, cx, cy) sz yX0_corner cX0_corner 2 (some .int) ({ frames := 4, cells := 0, slots := 0, locals := 91 }) [.ref (ad 0), .int x] (fun r u => ∃ (lo' hi' : Nat → Int32) (n : Nat) (cx' cy' : Nat → Int32), u = (nI K, 1, nI n, fa, fb, fc, lo', hi', cx', cy') ∧ hu_PN K fa fb fc lo' hi' n cx' cy' ∧ ((∃ i, i < n ∧ x = nI i ∧ r = cx' i + 64 * cy' i) ∨ ((x < 0 ∨ nI n ≤ x) ∧ r = -3))) := by
  refine hu_metC_i (by decide) (Nat.le_of_ble_eq_true rfl) sz ?_
  intro p e s m below meth c ls A C0 hP hK hD hS hA hl
  obtain ⟨hx, hb, hr, hml, hown, hts, hlocks⟩ := C0
  have hl : lv_has ls 2 [(0, .ref (ad 0)), (1, .int x)] := hl
  refine lv_aload_n hx hb dX0_corner_0 rfl (lv_at hl 0 rfl) ?_
  refine hu_callCV 0 (As := []) (rest := []) (wf := hu_wH d ad) (wr := []) ⟨hx, hb, hml, hown, hts⟩ (mX0_prepare l dC dI d ad _ rd ct fa fb fc lo hi cx cy K hk8 hok hrd) (lw_V q78 q80 qs0 q17 q81) (by decide +kernel) rfl ⟨Nat.le_of_ble_eq_true rfl, Nat.le_of_ble_eq_true rfl⟩ ⟨rfl, rfl⟩ hK hP hD hS hA [0, 1, 2, 3, 4, 5, 6, 7] [] rfl rfl ⟨rfl, rfl⟩ (by decide) rfl (va_recv hK hP (ci := 0) (q0 := 0) rfl rfl) hl.1 rfl (Nat.le_of_ble_eq_true rfl) ⟨Nat.zero_le _, Nat.zero_le _⟩ dX0_corner_1 (fun u_1 H locs w_1 hP hD hS => ?_)
  obtain ⟨lo2, hi2, ct2, cx2, cy2, rfl, hcol2, n2, hn2, rfl, hH2⟩ := w_1
  have hP : va_P (dC, dI) hu_Cl (hu_wH d ad (nI K, 1, nI n2, fa, fb, fc, lo2, hi2, cx2, cy2)) H := hP
  have hD : va_D A (hu_wH d ad (nI K, 1, nI n2, fa, fb, fc, lo2, hi2, cx2, cy2)) := hD
  have hPN : hu_PN K fa fb fc lo2 hi2 n2 cx2 cy2 := ⟨hcol2, hn2, hH2⟩
  refine lv_iload_n hx hb dX0_corner_4 rfl (lv_at hl 1 rfl) ?_
  refine lv_if_lt (tgt := 16) hx hb dX0_corner_5 (by decide) (fun c_5 => ?_) (fun c_5 => ?_)
  · skip
    refine lv_bipush (v := (-3)) hx hb dX0_corner_16 (by decide) ?_
    exact hu_retCI (nI K, 1, nI n2, fa, fb, fc, lo2, hi2, cx2, cy2) hx hb hr hlocks hK hP hD hS ⟨lo2, hi2, n2, cx2, cy2, rfl, hPN, Or.inr ⟨by first | exact Or.inl c_5 | exact Or.inr (Int32.not_lt.mp c_13), rfl⟩⟩ dX0_corner_18
  · skip
    refine lv_iload_n hx hb dX0_corner_8 rfl (lv_at hl 1 rfl) ?_
    refine lv_aload_n hx hb dX0_corner_9 rfl (lv_at hl 0 rfl) ?_
    refine va_get (D := (dC, dI)) (ci := 0) (v := .int (nI n2)) (C := RX0) (T := TX0) (N := 10) hx hb hts in_X0 hown hK hP 0 rfl rfl 7 (by decide) (hts _ q34) (fun _ h9 => h9) rfl dX0_corner_10 ?_
    refine lv_icmp_lt (tgt := 19) hx hb dX0_corner_13 (by decide) (fun c_13 => ?_) (fun c_13 => ?_)
    · skip
      obtain ⟨i, hi1, hix⟩ : ∃ i, i < n2 ∧ x = nI i := by
        rcases pk_ix x (n := n2) (by omega) with q | q | q
        · exact absurd q c_5
        · exact absurd c_13 (Int32.not_lt.mpr q)
        · exact q
      refine lv_aload_n hx hb dX0_corner_19 rfl (lv_at hl 0 rfl) ?_
      refine va_get (D := (dC, dI)) (ci := 0) (v := .ref (ad 6)) (C := RX0) (T := TX0) (N := 10) hx hb hts in_X0 hown hK hP 0 rfl rfl 8 (by decide) (hts _ q35) (fun _ h9 => h9) rfl dX0_corner_20 ?_
      refine lv_iload_n hx hb dX0_corner_23 rfl (lv_at hl 1 rfl) ?_
      refine hu_ald hx hb hK hP 6 0 rfl rfl i hix (by omega) (by decide) dX0_corner_24 ?_
      refine lv_bipush (v := 64) hx hb dX0_corner_25 (by decide) ?_
      refine lv_aload_n hx hb dX0_corner_27 rfl (lv_at hl 0 rfl) ?_
      refine va_get (D := (dC, dI)) (ci := 0) (v := .ref (ad 7)) (C := RX0) (T := TX0) (N := 10) hx hb hts in_X0 hown hK hP 0 rfl rfl 9 (by decide) (hts _ q36) (fun _ h9 => h9) rfl dX0_corner_28 ?_
      refine lv_iload_n hx hb dX0_corner_31 rfl (lv_at hl 1 rfl) ?_
      refine hu_ald hx hb hK hP 7 0 rfl rfl i hix (by omega) (by decide) dX0_corner_32 ?_
      refine lv_imul hx hb dX0_corner_33 ?_
      refine lv_iadd hx hb dX0_corner_34 ?_
      exact hu_retCI (nI K, 1, nI n2, fa, fb, fc, lo2, hi2, cx2, cy2) hx hb hr hlocks hK hP hD hS ⟨lo2, hi2, n2, cx2, cy2, rfl, hPN, Or.inl ⟨i, hi1, hix, rfl⟩⟩ dX0_corner_35
    · skip
      refine lv_bipush (v := (-3)) hx hb dX0_corner_16 (by decide) ?_
      exact hu_retCI (nI K, 1, nI n2, fa, fb, fc, lo2, hi2, cx2, cy2) hx hb hr hlocks hK hP hD hS ⟨lo2, hi2, n2, cx2, cy2, rfl, hPN, Or.inr ⟨by first | exact Or.inl c_5 | exact Or.inr (Int32.not_lt.mp c_13), rfl⟩⟩ dX0_corner_18
set_option maxHeartbeats 4000000 in
set_option maxRecDepth 100000 in
/-- area2 -/
theorem mX0_area2 (l : Launch) (dC : Nat → ClassId) (dI : Nat → Nat → Nat) (d : ClassId) (ad : Nat → Nat) (sz : Nat) (rd : Int32) (ct : Int32) (fa : Nat → Int32) (fb : Nat → Int32) (fc : Nat → Int32) (lo : Nat → Int32) (hi : Nat → Int32) (cx : Nat → Int32) (cy : Nat → Int32) (K : Nat) (hk8 : K ≤ 8) (hok : hu_OK K fa fb fc) (hrd : rd = 0 ∨ (rd = 1 ∧ hu_Prep K fa fb fc lo hi ct cx cy)) : hu_CI l dC dI d (hu_wH d ad) (nI K, rd, ct, fa, fb, fc, lo, hi, cx, cy) sz yX0_area2 cX0_area2 4 (some .int) ({ frames := 4, cells := 0, slots := 0, locals := 91 }) [.ref (ad 0)] (fun r u => ∃ (lo' hi' : Nat → Int32) (n : Nat) (cx' cy' : Nat → Int32), u = (nI K, 1, nI n, fa, fb, fc, lo', hi', cx', cy') ∧ hu_PN K fa fb fc lo' hi' n cx' cy' ∧ r = hu_ar cx' cy' n n) := by
  refine hu_metC_i (by decide) (Nat.le_of_ble_eq_true rfl) sz ?_
  intro p e s m below meth c ls A C0 hP hK hD hS hA hl
  obtain ⟨hx, hb, hr, hml, hown, hts, hlocks⟩ := C0
  have hl : lv_has ls 4 [(0, .ref (ad 0))] := hl
  have loop : ∀ (n : Nat) (i : Nat) (b : Int32) (lo2 : Nat → Int32) (hi2 : Nat → Int32) (n2 : Nat) (cx2 : Nat → Int32) (cy2 : Nat → Int32), i ≤ n2 → n2 < i + n → hu_PN K fa fb fc lo2 hi2 n2 cx2 cy2 → b = hu_ar cx2 cy2 n2 i → ∀ (H : Heap) (locs : List Loc), va_P (dC, dI) hu_Cl (hu_wH d ad (nI K, 1, nI n2, fa, fb, fc, lo2, hi2, cx2, cy2)) H → va_D A (hu_wH d ad (nI K, 1, nI n2, fa, fb, fc, lo2, hi2, cx2, cy2)) → va_S A s.heap H locs → ∀ ls : Array Slot, lv_has ls 4 [(2, .int (nI i)), (1, .int b), (0, .ref (ad 0))] → W p l e ({ frames := 4, cells := 0, slots := 0, locals := 91 }) s m ([.ref (ad 0)] : List Value).toArray below meth c H locs 0 0 (MQ below (va_Qi (fun r u => ∃ (lo' hi' : Nat → Int32) (n : Nat) (cx' cy' : Nat → Int32), u = (nI K, 1, nI n, fa, fb, fc, lo', hi', cx', cy') ∧ hu_PN K fa fb fc lo' hi' n cx' cy' ∧ r = hu_ar cx' cy' n n) (hu_W dC dI d (hu_wH d ad) A) A) ([.ref (ad 0)] : List Value).toArray s 0 0 A) (F0 m 8 ls []) := by
    intro n
    induction n with
    | zero =>
      intro i b lo2 hi2 n2 cx2 cy2 h1 h2
      exfalso
      omega
    | succ n ih =>
      intro i b lo2 hi2 n2 cx2 cy2 h1 h2 hPN h3 H locs hP hD hS ls hl
      have hn2 := hPN.2.1
      refine lv_iload_n hx hb dX0_area2_8 rfl (lv_at hl 0 rfl) ?_
      refine lv_aload_n hx hb dX0_area2_9 rfl (lv_at hl 2 rfl) ?_
      refine va_get (D := (dC, dI)) (ci := 0) (v := .int (nI n2)) (C := RX0) (T := TX0) (N := 10) hx hb hts in_X0 hown hK hP 0 rfl rfl 7 (by decide) (hts _ q34) (fun _ h9 => h9) rfl dX0_area2_10 ?_
      refine lv_icmp_ge (tgt := 70) hx hb dX0_area2_13 (by decide) (fun c_13 => ?_) (fun c_13 => ?_)
      · skip
        have hlt : i = n2 := by have := (nI_leI (by omega) (by omega)).mp c_13; omega
        refine lv_iload_n hx hb dX0_area2_70 rfl (lv_at hl 1 rfl) ?_
        exact hu_retCI (nI K, 1, nI n2, fa, fb, fc, lo2, hi2, cx2, cy2) hx hb hr hlocks hK hP hD hS ⟨lo2, hi2, n2, cx2, cy2, rfl, hPN, by rw [h3, hlt]⟩ dX0_area2_71
      · skip
        have hlt : i < n2 := by have := mt (nI_leI (by omega) (by omega)).mpr c_13; omega
        refine lv_iload_n hx hb dX0_area2_16 rfl (lv_at hl 0 rfl) ?_
        refine lv_iconst (v := 1) hx hb dX0_area2_17 (by decide) ?_
        refine lv_iadd hx hb dX0_area2_18 ?_
        refine hu_top (z := nI (i + 1)) (nI_1 i) ?_
        refine lv_aload_n hx hb dX0_area2_19 rfl (lv_at hl 2 rfl) ?_
        refine va_get (D := (dC, dI)) (ci := 0) (v := .int (nI n2)) (C := RX0) (T := TX0) (N := 10) hx hb hts in_X0 hown hK hP 0 rfl rfl 7 (by decide) (hts _ q34) (fun _ h9 => h9) rfl dX0_area2_20 ?_
        refine lv_icmp_ge (tgt := 32) hx hb dX0_area2_23 (by decide) (fun c_23 => ?_) (fun c_23 => ?_)
        · skip
          have hnx : ¬ i + 1 < n2 := by have := (nI_leI (by omega) (by omega)).mp c_23; omega
          refine lv_iconst (v := 0) hx hb dX0_area2_32 (by decide) ?_
          refine hu_top (z := nI (hu_nx n2 i)) (by rw [hu_nx_n hnx]; rfl) ?_
          have hnl : hu_nx n2 i < n2 := hu_nx_lt hlt
          refine lv_istore_n (lv' := [(3, .int (nI (hu_nx n2 i))), (2, .int (nI i)), (1, .int b), (0, .ref (ad 0))]) hx hb dX0_area2_33 rfl hl (by decide) rfl (fun ls hl => ?_)
          refine lv_iload_n hx hb dX0_area2_34 rfl (lv_at hl 2 rfl) ?_
          refine lv_aload_n hx hb dX0_area2_35 rfl (lv_at hl 3 rfl) ?_
          refine va_get (D := (dC, dI)) (ci := 0) (v := .ref (ad 6)) (C := RX0) (T := TX0) (N := 10) hx hb hts in_X0 hown hK hP 0 rfl rfl 8 (by decide) (hts _ q35) (fun _ h9 => h9) rfl dX0_area2_36 ?_
          refine lv_iload_n hx hb dX0_area2_39 rfl (lv_at hl 1 rfl) ?_
          refine hu_ald hx hb hK hP 6 0 rfl rfl i rfl (by omega) (by decide) dX0_area2_40 ?_
          refine lv_aload_n hx hb dX0_area2_41 rfl (lv_at hl 3 rfl) ?_
          refine va_get (D := (dC, dI)) (ci := 0) (v := .ref (ad 7)) (C := RX0) (T := TX0) (N := 10) hx hb hts in_X0 hown hK hP 0 rfl rfl 9 (by decide) (hts _ q36) (fun _ h9 => h9) rfl dX0_area2_42 ?_
          refine lv_iload_n hx hb dX0_area2_45 rfl (lv_at hl 0 rfl) ?_
          refine hu_ald hx hb hK hP 7 0 rfl rfl (hu_nx n2 i) rfl (by omega) (by decide) dX0_area2_46 ?_
          refine lv_imul hx hb dX0_area2_47 ?_
          refine lv_aload_n hx hb dX0_area2_48 rfl (lv_at hl 3 rfl) ?_
          refine va_get (D := (dC, dI)) (ci := 0) (v := .ref (ad 6)) (C := RX0) (T := TX0) (N := 10) hx hb hts in_X0 hown hK hP 0 rfl rfl 8 (by decide) (hts _ q35) (fun _ h9 => h9) rfl dX0_area2_49 ?_
          refine lv_iload_n hx hb dX0_area2_52 rfl (lv_at hl 0 rfl) ?_
          refine hu_ald hx hb hK hP 6 0 rfl rfl (hu_nx n2 i) rfl (by omega) (by decide) dX0_area2_53 ?_
          refine lv_aload_n hx hb dX0_area2_54 rfl (lv_at hl 3 rfl) ?_
          refine va_get (D := (dC, dI)) (ci := 0) (v := .ref (ad 7)) (C := RX0) (T := TX0) (N := 10) hx hb hts in_X0 hown hK hP 0 rfl rfl 9 (by decide) (hts _ q36) (fun _ h9 => h9) rfl dX0_area2_55 ?_
          refine lv_iload_n hx hb dX0_area2_58 rfl (lv_at hl 1 rfl) ?_
          refine hu_ald hx hb hK hP 7 0 rfl rfl i rfl (by omega) (by decide) dX0_area2_59 ?_
          refine lv_imul hx hb dX0_area2_60 ?_
          refine lv_isub hx hb dX0_area2_61 ?_
          refine lv_iadd hx hb dX0_area2_62 ?_
          refine lv_istore_n (lv' := [(1, .int (b + (((cx2 i) * (cy2 (hu_nx n2 i))) - ((cx2 (hu_nx n2 i)) * (cy2 i))))), (3, .int (nI (hu_nx n2 i))), (2, .int (nI i)), (0, .ref (ad 0))]) hx hb dX0_area2_63 rfl hl (by decide) rfl (fun ls hl => ?_)
          refine lv_iinc (v := nI (i + 1)) (lv' := [(2, .int (nI (i + 1))), (1, .int (b + (((cx2 i) * (cy2 (hu_nx n2 i))) - ((cx2 (hu_nx n2 i)) * (cy2 i))))), (3, .int (nI (hu_nx n2 i))), (0, .ref (ad 0))]) hx hb dX0_area2_64 hl (k := 2) rfl (nI_1 _) (by decide) rfl (fun ls hl => ?_)
          refine lv_goto (tgt := 8) hx hb dX0_area2_67 (by decide) ?_
          exact ih (i + 1) _ lo2 hi2 n2 cx2 cy2 (by omega) (by omega) hPN (by rw [h3]; rfl) _ _ hP hD hS ls (lv_sub hl [0, 1, 3] rfl)
        · skip
          have hnx : i + 1 < n2 := by have := mt (nI_leI (by omega) (by omega)).mpr c_23; omega
          refine lv_iload_n hx hb dX0_area2_26 rfl (lv_at hl 0 rfl) ?_
          refine lv_iconst (v := 1) hx hb dX0_area2_27 (by decide) ?_
          refine lv_iadd hx hb dX0_area2_28 ?_
          refine hu_top (z := nI (i + 1)) (nI_1 i) ?_
          refine lv_goto (tgt := 33) hx hb dX0_area2_29 (by decide) ?_
          refine hu_top (z := nI (hu_nx n2 i)) (by rw [hu_nx_y hnx]) ?_
          have hnl : hu_nx n2 i < n2 := hu_nx_lt hlt
          refine lv_istore_n (lv' := [(3, .int (nI (hu_nx n2 i))), (2, .int (nI i)), (1, .int b), (0, .ref (ad 0))]) hx hb dX0_area2_33 rfl hl (by decide) rfl (fun ls hl => ?_)
          refine lv_iload_n hx hb dX0_area2_34 rfl (lv_at hl 2 rfl) ?_
          refine lv_aload_n hx hb dX0_area2_35 rfl (lv_at hl 3 rfl) ?_
          refine va_get (D := (dC, dI)) (ci := 0) (v := .ref (ad 6)) (C := RX0) (T := TX0) (N := 10) hx hb hts in_X0 hown hK hP 0 rfl rfl 8 (by decide) (hts _ q35) (fun _ h9 => h9) rfl dX0_area2_36 ?_
          refine lv_iload_n hx hb dX0_area2_39 rfl (lv_at hl 1 rfl) ?_
          refine hu_ald hx hb hK hP 6 0 rfl rfl i rfl (by omega) (by decide) dX0_area2_40 ?_
          refine lv_aload_n hx hb dX0_area2_41 rfl (lv_at hl 3 rfl) ?_
          refine va_get (D := (dC, dI)) (ci := 0) (v := .ref (ad 7)) (C := RX0) (T := TX0) (N := 10) hx hb hts in_X0 hown hK hP 0 rfl rfl 9 (by decide) (hts _ q36) (fun _ h9 => h9) rfl dX0_area2_42 ?_
          refine lv_iload_n hx hb dX0_area2_45 rfl (lv_at hl 0 rfl) ?_
          refine hu_ald hx hb hK hP 7 0 rfl rfl (hu_nx n2 i) rfl (by omega) (by decide) dX0_area2_46 ?_
          refine lv_imul hx hb dX0_area2_47 ?_
          refine lv_aload_n hx hb dX0_area2_48 rfl (lv_at hl 3 rfl) ?_
          refine va_get (D := (dC, dI)) (ci := 0) (v := .ref (ad 6)) (C := RX0) (T := TX0) (N := 10) hx hb hts in_X0 hown hK hP 0 rfl rfl 8 (by decide) (hts _ q35) (fun _ h9 => h9) rfl dX0_area2_49 ?_
          refine lv_iload_n hx hb dX0_area2_52 rfl (lv_at hl 0 rfl) ?_
          refine hu_ald hx hb hK hP 6 0 rfl rfl (hu_nx n2 i) rfl (by omega) (by decide) dX0_area2_53 ?_
          refine lv_aload_n hx hb dX0_area2_54 rfl (lv_at hl 3 rfl) ?_
          refine va_get (D := (dC, dI)) (ci := 0) (v := .ref (ad 7)) (C := RX0) (T := TX0) (N := 10) hx hb hts in_X0 hown hK hP 0 rfl rfl 9 (by decide) (hts _ q36) (fun _ h9 => h9) rfl dX0_area2_55 ?_
          refine lv_iload_n hx hb dX0_area2_58 rfl (lv_at hl 1 rfl) ?_
          refine hu_ald hx hb hK hP 7 0 rfl rfl i rfl (by omega) (by decide) dX0_area2_59 ?_
          refine lv_imul hx hb dX0_area2_60 ?_
          refine lv_isub hx hb dX0_area2_61 ?_
          refine lv_iadd hx hb dX0_area2_62 ?_
          refine lv_istore_n (lv' := [(1, .int (b + (((cx2 i) * (cy2 (hu_nx n2 i))) - ((cx2 (hu_nx n2 i)) * (cy2 i))))), (3, .int (nI (hu_nx n2 i))), (2, .int (nI i)), (0, .ref (ad 0))]) hx hb dX0_area2_63 rfl hl (by decide) rfl (fun ls hl => ?_)
          refine lv_iinc (v := nI (i + 1)) (lv' := [(2, .int (nI (i + 1))), (1, .int (b + (((cx2 i) * (cy2 (hu_nx n2 i))) - ((cx2 (hu_nx n2 i)) * (cy2 i))))), (3, .int (nI (hu_nx n2 i))), (0, .ref (ad 0))]) hx hb dX0_area2_64 hl (k := 2) rfl (nI_1 _) (by decide) rfl (fun ls hl => ?_)
          refine lv_goto (tgt := 8) hx hb dX0_area2_67 (by decide) ?_
          exact ih (i + 1) _ lo2 hi2 n2 cx2 cy2 (by omega) (by omega) hPN (by rw [h3]; rfl) _ _ hP hD hS ls (lv_sub hl [0, 1, 3] rfl)
  refine lv_aload_n hx hb dX0_area2_0 rfl (lv_at hl 0 rfl) ?_
  refine hu_callCV 0 (As := []) (rest := []) (wf := hu_wH d ad) (wr := []) ⟨hx, hb, hml, hown, hts⟩ (mX0_prepare l dC dI d ad _ rd ct fa fb fc lo hi cx cy K hk8 hok hrd) (lw_V q78 q80 qs0 q17 q81) (by decide +kernel) rfl ⟨Nat.le_of_ble_eq_true rfl, Nat.le_of_ble_eq_true rfl⟩ ⟨rfl, rfl⟩ hK hP hD hS hA [0, 1, 2, 3, 4, 5, 6, 7] [] rfl rfl ⟨rfl, rfl⟩ (by decide) rfl (va_recv hK hP (ci := 0) (q0 := 0) rfl rfl) hl.1 rfl (Nat.le_of_ble_eq_true rfl) ⟨Nat.zero_le _, Nat.zero_le _⟩ dX0_area2_1 (fun u_1 H locs w_1 hP hD hS => ?_)
  obtain ⟨lo2, hi2, ct2, cx2, cy2, rfl, hcol2, n2, hn2, rfl, hH2⟩ := w_1
  have hP : va_P (dC, dI) hu_Cl (hu_wH d ad (nI K, 1, nI n2, fa, fb, fc, lo2, hi2, cx2, cy2)) H := hP
  have hD : va_D A (hu_wH d ad (nI K, 1, nI n2, fa, fb, fc, lo2, hi2, cx2, cy2)) := hD
  have hPN : hu_PN K fa fb fc lo2 hi2 n2 cx2 cy2 := ⟨hcol2, hn2, hH2⟩
  refine lv_iconst (v := 0) hx hb dX0_area2_4 (by decide) ?_
  refine lv_istore_n (lv' := [(1, .int 0), (0, .ref (ad 0))]) hx hb dX0_area2_5 rfl hl (by decide) rfl (fun ls hl => ?_)
  refine lv_iconst (v := 0) hx hb dX0_area2_6 (by decide) ?_
  refine lv_istore_n (lv' := [(2, .int 0), (1, .int 0), (0, .ref (ad 0))]) hx hb dX0_area2_7 rfl hl (by decide) rfl (fun ls hl => ?_)
  exact loop (n2 + 1) 0 0 lo2 hi2 n2 cx2 cy2 (by omega) (by omega) hPN rfl _ _ hP hD hS ls (lv_sub hl [0, 1, 2] rfl)
set_option maxHeartbeats 4000000 in
set_option maxRecDepth 100000 in
/-- border -/
theorem mX0_border (l : Launch) (dC : Nat → ClassId) (dI : Nat → Nat → Nat) (d : ClassId) (ad : Nat → Nat) (sz : Nat) (rd : Int32) (ct : Int32) (fa : Nat → Int32) (fb : Nat → Int32) (fc : Nat → Int32) (lo : Nat → Int32) (hi : Nat → Int32) (cx : Nat → Int32) (cy : Nat → Int32) (K : Nat) (hk8 : K ≤ 8) (hok : hu_OK K fa fb fc) (hrd : rd = 0 ∨ (rd = 1 ∧ hu_Prep K fa fb fc lo hi ct cx cy)) : hu_CI l dC dI d (hu_wH d ad) (nI K, rd, ct, fa, fb, fc, lo, hi, cx, cy) sz yX0_border cX0_border 4 (some .int) ({ frames := 5, cells := 0, slots := 0, locals := 113 }) [.ref (ad 0)] (fun r u => ∃ (lo' hi' : Nat → Int32) (n : Nat) (cx' cy' : Nat → Int32), u = (nI K, 1, nI n, fa, fb, fc, lo', hi', cx', cy') ∧ hu_PN K fa fb fc lo' hi' n cx' cy' ∧ (((∃ (n0 : Nat) (c0 : Nat → Int × Int), n0 < 3 ∧ n0 ≤ 82 ∧ hu_H (hu_S K fa fb fc) n0 c0) ∧ r = hu_pts lo' hi' 41) ∨ (3 ≤ n ∧ r = hu_bd cx' cy' n n))) := by
  refine hu_metC_i (by decide) (Nat.le_of_ble_eq_true rfl) sz ?_
  intro p e s m below meth c ls A C0 hP hK hD hS hA hl
  obtain ⟨hx, hb, hr, hml, hown, hts, hlocks⟩ := C0
  have hl : lv_has ls 4 [(0, .ref (ad 0))] := hl
  have loop : ∀ (n : Nat) (i : Nat) (b : Int32) (lo2 : Nat → Int32) (hi2 : Nat → Int32) (n2 : Nat) (cx2 : Nat → Int32) (cy2 : Nat → Int32), i ≤ n2 → n2 < i + n → hu_PN K fa fb fc lo2 hi2 n2 cx2 cy2 → b = hu_bd cx2 cy2 n2 i → 3 ≤ n2 → ∀ (H : Heap) (locs : List Loc), va_P (dC, dI) hu_Cl (hu_wH d ad (nI K, 1, nI n2, fa, fb, fc, lo2, hi2, cx2, cy2)) H → va_D A (hu_wH d ad (nI K, 1, nI n2, fa, fb, fc, lo2, hi2, cx2, cy2)) → va_S A s.heap H locs → ∀ ls : Array Slot, lv_has ls 4 [(2, .int (nI i)), (1, .int b), (0, .ref (ad 0))] → W p l e ({ frames := 5, cells := 0, slots := 0, locals := 113 }) s m ([.ref (ad 0)] : List Value).toArray below meth c H locs 0 0 (MQ below (va_Qi (fun r u => ∃ (lo' hi' : Nat → Int32) (n : Nat) (cx' cy' : Nat → Int32), u = (nI K, 1, nI n, fa, fb, fc, lo', hi', cx', cy') ∧ hu_PN K fa fb fc lo' hi' n cx' cy' ∧ (((∃ (n0 : Nat) (c0 : Nat → Int × Int), n0 < 3 ∧ n0 ≤ 82 ∧ hu_H (hu_S K fa fb fc) n0 c0) ∧ r = hu_pts lo' hi' 41) ∨ (3 ≤ n ∧ r = hu_bd cx' cy' n n))) (hu_W dC dI d (hu_wH d ad) A) A) ([.ref (ad 0)] : List Value).toArray s 0 0 A) (F0 m 21 ls []) := by
    intro n
    induction n with
    | zero =>
      intro i b lo2 hi2 n2 cx2 cy2 h1 h2
      exfalso
      omega
    | succ n ih =>
      intro i b lo2 hi2 n2 cx2 cy2 h1 h2 hPN h3 h3n H locs hP hD hS ls hl
      have hn2 := hPN.2.1
      refine lv_iload_n hx hb dX0_border_21 rfl (lv_at hl 0 rfl) ?_
      refine lv_aload_n hx hb dX0_border_22 rfl (lv_at hl 2 rfl) ?_
      refine va_get (D := (dC, dI)) (ci := 0) (v := .int (nI n2)) (C := RX0) (T := TX0) (N := 10) hx hb hts in_X0 hown hK hP 0 rfl rfl 7 (by decide) (hts _ q34) (fun _ h9 => h9) rfl dX0_border_23 ?_
      refine lv_icmp_ge (tgt := 85) hx hb dX0_border_26 (by decide) (fun c_26 => ?_) (fun c_26 => ?_)
      · skip
        have hlt : i = n2 := by have := (nI_leI (by omega) (by omega)).mp c_26; omega
        refine lv_iload_n hx hb dX0_border_85 rfl (lv_at hl 1 rfl) ?_
        exact hu_retCI (nI K, 1, nI n2, fa, fb, fc, lo2, hi2, cx2, cy2) hx hb hr hlocks hK hP hD hS ⟨lo2, hi2, n2, cx2, cy2, rfl, hPN, Or.inr ⟨h3n, by rw [h3, hlt]⟩⟩ dX0_border_86
      · skip
        have hlt : i < n2 := by have := mt (nI_leI (by omega) (by omega)).mpr c_26; omega
        refine lv_iload_n hx hb dX0_border_29 rfl (lv_at hl 0 rfl) ?_
        refine lv_iconst (v := 1) hx hb dX0_border_30 (by decide) ?_
        refine lv_iadd hx hb dX0_border_31 ?_
        refine hu_top (z := nI (i + 1)) (nI_1 i) ?_
        refine lv_aload_n hx hb dX0_border_32 rfl (lv_at hl 2 rfl) ?_
        refine va_get (D := (dC, dI)) (ci := 0) (v := .int (nI n2)) (C := RX0) (T := TX0) (N := 10) hx hb hts in_X0 hown hK hP 0 rfl rfl 7 (by decide) (hts _ q34) (fun _ h9 => h9) rfl dX0_border_33 ?_
        refine lv_icmp_ge (tgt := 45) hx hb dX0_border_36 (by decide) (fun c_36 => ?_) (fun c_36 => ?_)
        · skip
          have hnx : ¬ i + 1 < n2 := by have := (nI_leI (by omega) (by omega)).mp c_36; omega
          refine lv_iconst (v := 0) hx hb dX0_border_45 (by decide) ?_
          refine hu_top (z := nI (hu_nx n2 i)) (by rw [hu_nx_n hnx]; rfl) ?_
          have hnl : hu_nx n2 i < n2 := hu_nx_lt hlt
          refine lv_istore_n (lv' := [(3, .int (nI (hu_nx n2 i))), (2, .int (nI i)), (1, .int b), (0, .ref (ad 0))]) hx hb dX0_border_46 rfl hl (by decide) rfl (fun ls hl => ?_)
          refine lv_iload_n hx hb dX0_border_47 rfl (lv_at hl 2 rfl) ?_
          refine lv_aload_n hx hb dX0_border_48 rfl (lv_at hl 3 rfl) ?_
          refine va_get (D := (dC, dI)) (ci := 0) (v := .ref (ad 6)) (C := RX0) (T := TX0) (N := 10) hx hb hts in_X0 hown hK hP 0 rfl rfl 8 (by decide) (hts _ q35) (fun _ h9 => h9) rfl dX0_border_49 ?_
          refine lv_iload_n hx hb dX0_border_52 rfl (lv_at hl 0 rfl) ?_
          refine hu_ald hx hb hK hP 6 0 rfl rfl (hu_nx n2 i) rfl (by omega) (by decide) dX0_border_53 ?_
          refine lv_aload_n hx hb dX0_border_54 rfl (lv_at hl 3 rfl) ?_
          refine va_get (D := (dC, dI)) (ci := 0) (v := .ref (ad 6)) (C := RX0) (T := TX0) (N := 10) hx hb hts in_X0 hown hK hP 0 rfl rfl 8 (by decide) (hts _ q35) (fun _ h9 => h9) rfl dX0_border_55 ?_
          refine lv_iload_n hx hb dX0_border_58 rfl (lv_at hl 1 rfl) ?_
          refine hu_ald hx hb hK hP 6 0 rfl rfl i rfl (by omega) (by decide) dX0_border_59 ?_
          refine lv_isub hx hb dX0_border_60 ?_
          refine lv_aload_n hx hb dX0_border_61 rfl (lv_at hl 3 rfl) ?_
          refine va_get (D := (dC, dI)) (ci := 0) (v := .ref (ad 7)) (C := RX0) (T := TX0) (N := 10) hx hb hts in_X0 hown hK hP 0 rfl rfl 9 (by decide) (hts _ q36) (fun _ h9 => h9) rfl dX0_border_62 ?_
          refine lv_iload_n hx hb dX0_border_65 rfl (lv_at hl 0 rfl) ?_
          refine hu_ald hx hb hK hP 7 0 rfl rfl (hu_nx n2 i) rfl (by omega) (by decide) dX0_border_66 ?_
          refine lv_aload_n hx hb dX0_border_67 rfl (lv_at hl 3 rfl) ?_
          refine va_get (D := (dC, dI)) (ci := 0) (v := .ref (ad 7)) (C := RX0) (T := TX0) (N := 10) hx hb hts in_X0 hown hK hP 0 rfl rfl 9 (by decide) (hts _ q36) (fun _ h9 => h9) rfl dX0_border_68 ?_
          refine lv_iload_n hx hb dX0_border_71 rfl (lv_at hl 1 rfl) ?_
          refine hu_ald hx hb hK hP 7 0 rfl rfl i rfl (by omega) (by decide) dX0_border_72 ?_
          refine lv_isub hx hb dX0_border_73 ?_
          have hdd := hu_PN_d hPN hlt hnl
          refine hu_callS 2 (As := [.int ((cx2 (hu_nx n2 i)) - (cx2 i)), .int ((cy2 (hu_nx n2 i)) - (cy2 i))]) (rest := [.int b]) ⟨hx, hb, hml, hown, hts⟩ (mX0_gcd l _ _ hdd.1.2.1 hdd.1.2.2 hdd.2.2.1 hdd.2.2.2) (lw_S q126 q127 q17 q128) (by decide +kernel) rfl ⟨Nat.le_of_ble_eq_true rfl, Nat.le_of_ble_eq_true rfl⟩ ⟨rfl, rfl⟩ hl.1 rfl (Nat.le_of_ble_eq_true rfl) ⟨Nat.zero_le _, Nat.zero_le _⟩ dX0_border_74 (fun r_74 w_74 => ?_)
          refine hu_top (z := nI (hu_gab (cx2 (hu_nx n2 i) - cx2 i) (cy2 (hu_nx n2 i) - cy2 i))) w_74 ?_
          refine lv_iadd hx hb dX0_border_77 ?_
          refine lv_istore_n (lv' := [(1, .int (b + (nI (hu_gab (cx2 (hu_nx n2 i) - cx2 i) (cy2 (hu_nx n2 i) - cy2 i))))), (3, .int (nI (hu_nx n2 i))), (2, .int (nI i)), (0, .ref (ad 0))]) hx hb dX0_border_78 rfl hl (by decide) rfl (fun ls hl => ?_)
          refine lv_iinc (v := nI (i + 1)) (lv' := [(2, .int (nI (i + 1))), (1, .int (b + (nI (hu_gab (cx2 (hu_nx n2 i) - cx2 i) (cy2 (hu_nx n2 i) - cy2 i))))), (3, .int (nI (hu_nx n2 i))), (0, .ref (ad 0))]) hx hb dX0_border_79 hl (k := 2) rfl (nI_1 _) (by decide) rfl (fun ls hl => ?_)
          refine lv_goto (tgt := 21) hx hb dX0_border_82 (by decide) ?_
          exact ih (i + 1) _ lo2 hi2 n2 cx2 cy2 (by omega) (by omega) hPN (by rw [h3]; rfl) h3n _ _ hP hD hS ls (lv_sub hl [0, 1, 3] rfl)
        · skip
          have hnx : i + 1 < n2 := by have := mt (nI_leI (by omega) (by omega)).mpr c_36; omega
          refine lv_iload_n hx hb dX0_border_39 rfl (lv_at hl 0 rfl) ?_
          refine lv_iconst (v := 1) hx hb dX0_border_40 (by decide) ?_
          refine lv_iadd hx hb dX0_border_41 ?_
          refine hu_top (z := nI (i + 1)) (nI_1 i) ?_
          refine lv_goto (tgt := 46) hx hb dX0_border_42 (by decide) ?_
          refine hu_top (z := nI (hu_nx n2 i)) (by rw [hu_nx_y hnx]) ?_
          have hnl : hu_nx n2 i < n2 := hu_nx_lt hlt
          refine lv_istore_n (lv' := [(3, .int (nI (hu_nx n2 i))), (2, .int (nI i)), (1, .int b), (0, .ref (ad 0))]) hx hb dX0_border_46 rfl hl (by decide) rfl (fun ls hl => ?_)
          refine lv_iload_n hx hb dX0_border_47 rfl (lv_at hl 2 rfl) ?_
          refine lv_aload_n hx hb dX0_border_48 rfl (lv_at hl 3 rfl) ?_
          refine va_get (D := (dC, dI)) (ci := 0) (v := .ref (ad 6)) (C := RX0) (T := TX0) (N := 10) hx hb hts in_X0 hown hK hP 0 rfl rfl 8 (by decide) (hts _ q35) (fun _ h9 => h9) rfl dX0_border_49 ?_
          refine lv_iload_n hx hb dX0_border_52 rfl (lv_at hl 0 rfl) ?_
          refine hu_ald hx hb hK hP 6 0 rfl rfl (hu_nx n2 i) rfl (by omega) (by decide) dX0_border_53 ?_
          refine lv_aload_n hx hb dX0_border_54 rfl (lv_at hl 3 rfl) ?_
          refine va_get (D := (dC, dI)) (ci := 0) (v := .ref (ad 6)) (C := RX0) (T := TX0) (N := 10) hx hb hts in_X0 hown hK hP 0 rfl rfl 8 (by decide) (hts _ q35) (fun _ h9 => h9) rfl dX0_border_55 ?_
          refine lv_iload_n hx hb dX0_border_58 rfl (lv_at hl 1 rfl) ?_
          refine hu_ald hx hb hK hP 6 0 rfl rfl i rfl (by omega) (by decide) dX0_border_59 ?_
          refine lv_isub hx hb dX0_border_60 ?_
          refine lv_aload_n hx hb dX0_border_61 rfl (lv_at hl 3 rfl) ?_
          refine va_get (D := (dC, dI)) (ci := 0) (v := .ref (ad 7)) (C := RX0) (T := TX0) (N := 10) hx hb hts in_X0 hown hK hP 0 rfl rfl 9 (by decide) (hts _ q36) (fun _ h9 => h9) rfl dX0_border_62 ?_
          refine lv_iload_n hx hb dX0_border_65 rfl (lv_at hl 0 rfl) ?_
          refine hu_ald hx hb hK hP 7 0 rfl rfl (hu_nx n2 i) rfl (by omega) (by decide) dX0_border_66 ?_
          refine lv_aload_n hx hb dX0_border_67 rfl (lv_at hl 3 rfl) ?_
          refine va_get (D := (dC, dI)) (ci := 0) (v := .ref (ad 7)) (C := RX0) (T := TX0) (N := 10) hx hb hts in_X0 hown hK hP 0 rfl rfl 9 (by decide) (hts _ q36) (fun _ h9 => h9) rfl dX0_border_68 ?_
          refine lv_iload_n hx hb dX0_border_71 rfl (lv_at hl 1 rfl) ?_
          refine hu_ald hx hb hK hP 7 0 rfl rfl i rfl (by omega) (by decide) dX0_border_72 ?_
          refine lv_isub hx hb dX0_border_73 ?_
          have hdd := hu_PN_d hPN hlt hnl
          refine hu_callS 2 (As := [.int ((cx2 (hu_nx n2 i)) - (cx2 i)), .int ((cy2 (hu_nx n2 i)) - (cy2 i))]) (rest := [.int b]) ⟨hx, hb, hml, hown, hts⟩ (mX0_gcd l _ _ hdd.1.2.1 hdd.1.2.2 hdd.2.2.1 hdd.2.2.2) (lw_S q126 q127 q17 q128) (by decide +kernel) rfl ⟨Nat.le_of_ble_eq_true rfl, Nat.le_of_ble_eq_true rfl⟩ ⟨rfl, rfl⟩ hl.1 rfl (Nat.le_of_ble_eq_true rfl) ⟨Nat.zero_le _, Nat.zero_le _⟩ dX0_border_74 (fun r_74 w_74 => ?_)
          refine hu_top (z := nI (hu_gab (cx2 (hu_nx n2 i) - cx2 i) (cy2 (hu_nx n2 i) - cy2 i))) w_74 ?_
          refine lv_iadd hx hb dX0_border_77 ?_
          refine lv_istore_n (lv' := [(1, .int (b + (nI (hu_gab (cx2 (hu_nx n2 i) - cx2 i) (cy2 (hu_nx n2 i) - cy2 i))))), (3, .int (nI (hu_nx n2 i))), (2, .int (nI i)), (0, .ref (ad 0))]) hx hb dX0_border_78 rfl hl (by decide) rfl (fun ls hl => ?_)
          refine lv_iinc (v := nI (i + 1)) (lv' := [(2, .int (nI (i + 1))), (1, .int (b + (nI (hu_gab (cx2 (hu_nx n2 i) - cx2 i) (cy2 (hu_nx n2 i) - cy2 i))))), (3, .int (nI (hu_nx n2 i))), (0, .ref (ad 0))]) hx hb dX0_border_79 hl (k := 2) rfl (nI_1 _) (by decide) rfl (fun ls hl => ?_)
          refine lv_goto (tgt := 21) hx hb dX0_border_82 (by decide) ?_
          exact ih (i + 1) _ lo2 hi2 n2 cx2 cy2 (by omega) (by omega) hPN (by rw [h3]; rfl) h3n _ _ hP hD hS ls (lv_sub hl [0, 1, 3] rfl)
  refine lv_aload_n hx hb dX0_border_0 rfl (lv_at hl 0 rfl) ?_
  refine hu_callCV 0 (As := []) (rest := []) (wf := hu_wH d ad) (wr := []) ⟨hx, hb, hml, hown, hts⟩ (mX0_prepare l dC dI d ad _ rd ct fa fb fc lo hi cx cy K hk8 hok hrd) (lw_V q78 q80 qs0 q17 q81) (by decide +kernel) rfl ⟨Nat.le_of_ble_eq_true rfl, Nat.le_of_ble_eq_true rfl⟩ ⟨rfl, rfl⟩ hK hP hD hS hA [0, 1, 2, 3, 4, 5, 6, 7] [] rfl rfl ⟨rfl, rfl⟩ (by decide) rfl (va_recv hK hP (ci := 0) (q0 := 0) rfl rfl) hl.1 rfl (Nat.le_of_ble_eq_true rfl) ⟨Nat.zero_le _, Nat.zero_le _⟩ dX0_border_1 (fun u_1 H locs w_1 hP hD hS => ?_)
  obtain ⟨lo2, hi2, ct2, cx2, cy2, rfl, hcol2, n2, hn2, rfl, hH2⟩ := w_1
  have hP : va_P (dC, dI) hu_Cl (hu_wH d ad (nI K, 1, nI n2, fa, fb, fc, lo2, hi2, cx2, cy2)) H := hP
  have hD : va_D A (hu_wH d ad (nI K, 1, nI n2, fa, fb, fc, lo2, hi2, cx2, cy2)) := hD
  have hPN : hu_PN K fa fb fc lo2 hi2 n2 cx2 cy2 := ⟨hcol2, hn2, hH2⟩
  refine lv_aload_n hx hb dX0_border_4 rfl (lv_at hl 0 rfl) ?_
  refine va_get (D := (dC, dI)) (ci := 0) (v := .int (nI n2)) (C := RX0) (T := TX0) (N := 10) hx hb hts in_X0 hown hK hP 0 rfl rfl 7 (by decide) (hts _ q34) (fun _ h9 => h9) rfl dX0_border_5 ?_
  refine lv_iconst (v := 3) hx hb dX0_border_8 (by decide) ?_
  refine lv_icmp_ge (tgt := 17) hx hb dX0_border_9 (by decide) (fun c_9 => ?_) (fun c_9 => ?_)
  · skip
    have h3n : 3 ≤ n2 := (nI_leI (a := 3) (by omega) (by omega)).mp c_9
    refine lv_iconst (v := 0) hx hb dX0_border_17 (by decide) ?_
    refine lv_istore_n (lv' := [(1, .int 0), (0, .ref (ad 0))]) hx hb dX0_border_18 rfl hl (by decide) rfl (fun ls hl => ?_)
    refine lv_iconst (v := 0) hx hb dX0_border_19 (by decide) ?_
    refine lv_istore_n (lv' := [(2, .int 0), (1, .int 0), (0, .ref (ad 0))]) hx hb dX0_border_20 rfl hl (by decide) rfl (fun ls hl => ?_)
    exact loop (n2 + 1) 0 0 lo2 hi2 n2 cx2 cy2 (by omega) (by omega) hPN rfl h3n _ _ hP hD hS ls (lv_sub hl [0, 1, 2] rfl)
  · skip
    have h3n : n2 < 3 := by have := mt (nI_leI (a := 3) (b := n2) (by omega) (by omega)).mpr c_9; omega
    refine lv_aload_n hx hb dX0_border_12 rfl (lv_at hl 0 rfl) ?_
    refine hu_callCI 0 (As := []) (rest := []) (wf := hu_wH d ad) (wr := []) ⟨hx, hb, hml, hown, hts⟩ (mX0_points l dC dI d ad _ 1 (nI n2) fa fb fc lo2 hi2 cx2 cy2 K hk8 hok (Or.inr ⟨rfl, hu_PN_prep hPN⟩)) (lw_V q125 q75 q76 q17 q77) (by decide +kernel) rfl ⟨Nat.le_of_ble_eq_true rfl, Nat.le_of_ble_eq_true rfl⟩ ⟨rfl, rfl⟩ hK hP hD hS hA [0, 1, 2, 3, 4, 5, 6, 7] [] rfl rfl ⟨rfl, rfl⟩ (by decide) rfl (va_recv hK hP (ci := 0) (q0 := 0) rfl rfl) hl.1 rfl (Nat.le_of_ble_eq_true rfl) ⟨Nat.zero_le _, Nat.zero_le _⟩ dX0_border_13 (fun r_13 u_13 H locs w_13 hP hD hS => ?_)
    obtain ⟨lo3, hi3, n3, cx3, cy3, rfl, hPN3, hr3⟩ := w_13
    have hP : va_P (dC, dI) hu_Cl (hu_wH d ad (nI K, 1, nI n3, fa, fb, fc, lo3, hi3, cx3, cy3)) H := hP
    have hD : va_D A (hu_wH d ad (nI K, 1, nI n3, fa, fb, fc, lo3, hi3, cx3, cy3)) := hD
    exact hu_retCI (nI K, 1, nI n3, fa, fb, fc, lo3, hi3, cx3, cy3) hx hb hr hlocks hK hP hD hS ⟨lo3, hi3, n3, cx3, cy3, rfl, hPN3, Or.inl ⟨⟨n2, _, h3n, hn2, hH2⟩, hr3⟩⟩ dX0_border_16
set_option maxHeartbeats 4000000 in
set_option maxRecDepth 100000 in
/-- bestCorner -/
theorem mX0_bestCorner (l : Launch) (dC : Nat → ClassId) (dI : Nat → Nat → Nat) (d : ClassId) (ad : Nat → Nat) (sz : Nat) (rd : Int32) (ct : Int32) (fa : Nat → Int32) (fb : Nat → Int32) (fc : Nat → Int32) (lo : Nat → Int32) (hi : Nat → Int32) (cx : Nat → Int32) (cy : Nat → Int32) (K : Nat) (hk8 : K ≤ 8) (hok : hu_OK K fa fb fc) (hrd : rd = 0 ∨ (rd = 1 ∧ hu_Prep K fa fb fc lo hi ct cx cy)) (g h : Int32) : hu_CI l dC dI d (hu_wH d ad) (nI K, rd, ct, fa, fb, fc, lo, hi, cx, cy) sz yX0_bestCorner cX0_bestCorner 5 (some .int) ({ frames := 4, cells := 0, slots := 0, locals := 91 }) [.ref (ad 0), .int g, .int h] (fun r u => (hu_bp g h ∧ r = -1 ∧ u = (nI K, rd, ct, fa, fb, fc, lo, hi, cx, cy)) ∨ (¬ hu_bp g h ∧ ∃ (lo' hi' : Nat → Int32) (n : Nat) (cx' cy' : Nat → Int32), u = (nI K, 1, nI n, fa, fb, fc, lo', hi', cx', cy') ∧ hu_PN K fa fb fc lo' hi' n cx' cy' ∧ ((n = 0 ∧ r = -3) ∨ (0 < n ∧ r = nI (hu_at (fun j => g * cx' j + h * cy' j) n))))) := by
  refine hu_metC_i (by decide) (Nat.le_of_ble_eq_true rfl) sz ?_
  intro p e s m below meth c ls A C0 hP hK hD hS hA hl
  obtain ⟨hx, hb, hr, hml, hown, hts, hlocks⟩ := C0
  have hl : lv_has ls 5 [(0, .ref (ad 0)), (1, .int g), (2, .int h)] := hl
  have loop : ∀ (n : Nat) (i : Nat) (a : Nat) (lo2 : Nat → Int32) (hi2 : Nat → Int32) (n2 : Nat) (cx2 : Nat → Int32) (cy2 : Nat → Int32), i ≤ n2 → n2 < i + n → hu_PN K fa fb fc lo2 hi2 n2 cx2 cy2 → (¬ hu_bp g h) → 0 < n2 → a = hu_at (fun j => g * cx2 j + h * cy2 j) i → a < i → ∀ (H : Heap) (locs : List Loc), va_P (dC, dI) hu_Cl (hu_wH d ad (nI K, 1, nI n2, fa, fb, fc, lo2, hi2, cx2, cy2)) H → va_D A (hu_wH d ad (nI K, 1, nI n2, fa, fb, fc, lo2, hi2, cx2, cy2)) → va_S A s.heap H locs → ∀ ls : Array Slot, lv_has ls 5 [(4, .int (nI i)), (3, .int (nI a)), (0, .ref (ad 0)), (1, .int g), (2, .int h)] → W p l e ({ frames := 4, cells := 0, slots := 0, locals := 91 }) s m ([.ref (ad 0), .int g, .int h] : List Value).toArray below meth c H locs 0 0 (MQ below (va_Qi (fun r u => (hu_bp g h ∧ r = -1 ∧ u = (nI K, rd, ct, fa, fb, fc, lo, hi, cx, cy)) ∨ (¬ hu_bp g h ∧ ∃ (lo' hi' : Nat → Int32) (n : Nat) (cx' cy' : Nat → Int32), u = (nI K, 1, nI n, fa, fb, fc, lo', hi', cx', cy') ∧ hu_PN K fa fb fc lo' hi' n cx' cy' ∧ ((n = 0 ∧ r = -3) ∨ (0 < n ∧ r = nI (hu_at (fun j => g * cx' j + h * cy' j) n))))) (hu_W dC dI d (hu_wH d ad) A) A) ([.ref (ad 0), .int g, .int h] : List Value).toArray s 0 0 A) (F0 m 29 ls []) := by
    intro n
    induction n with
    | zero =>
      intro i a lo2 hi2 n2 cx2 cy2 h1 h2
      exfalso
      omega
    | succ n ih =>
      intro i a lo2 hi2 n2 cx2 cy2 h1 h2 hPN hnb hn0 h3 h4 H locs hP hD hS ls hl
      have hn2 := hPN.2.1
      refine lv_iload hx hb dX0_bestCorner_29 (lv_at hl 0 rfl) ?_
      refine lv_aload_n hx hb dX0_bestCorner_31 rfl (lv_at hl 2 rfl) ?_
      refine va_get (D := (dC, dI)) (ci := 0) (v := .int (nI n2)) (C := RX0) (T := TX0) (N := 10) hx hb hts in_X0 hown hK hP 0 rfl rfl 7 (by decide) (hts _ q34) (fun _ h9 => h9) rfl dX0_bestCorner_32 ?_
      refine lv_icmp_ge (tgt := 86) hx hb dX0_bestCorner_35 (by decide) (fun c_35 => ?_) (fun c_35 => ?_)
      · skip
        have hlt : i = n2 := by have := (nI_leI (by omega) (by omega)).mp c_35; omega
        refine lv_iload_n hx hb dX0_bestCorner_86 rfl (lv_at hl 1 rfl) ?_
        exact hu_retCI (nI K, 1, nI n2, fa, fb, fc, lo2, hi2, cx2, cy2) hx hb hr hlocks hK hP hD hS (Or.inr ⟨hnb, ⟨lo2, hi2, n2, cx2, cy2, rfl, hPN, Or.inr ⟨hn0, by rw [h3, hlt]⟩⟩⟩) dX0_bestCorner_87
      · skip
        have hlt : i < n2 := by have := mt (nI_leI (by omega) (by omega)).mpr c_35; omega
        refine lv_iload_n hx hb dX0_bestCorner_38 rfl (lv_at hl 3 rfl) ?_
        refine lv_aload_n hx hb dX0_bestCorner_39 rfl (lv_at hl 2 rfl) ?_
        refine va_get (D := (dC, dI)) (ci := 0) (v := .ref (ad 6)) (C := RX0) (T := TX0) (N := 10) hx hb hts in_X0 hown hK hP 0 rfl rfl 8 (by decide) (hts _ q35) (fun _ h9 => h9) rfl dX0_bestCorner_40 ?_
        refine lv_iload hx hb dX0_bestCorner_43 (lv_at hl 0 rfl) ?_
        refine hu_ald hx hb hK hP 6 0 rfl rfl i rfl (by omega) (by decide) dX0_bestCorner_45 ?_
        refine lv_imul hx hb dX0_bestCorner_46 ?_
        refine lv_iload_n hx hb dX0_bestCorner_47 rfl (lv_at hl 4 rfl) ?_
        refine lv_aload_n hx hb dX0_bestCorner_48 rfl (lv_at hl 2 rfl) ?_
        refine va_get (D := (dC, dI)) (ci := 0) (v := .ref (ad 7)) (C := RX0) (T := TX0) (N := 10) hx hb hts in_X0 hown hK hP 0 rfl rfl 9 (by decide) (hts _ q36) (fun _ h9 => h9) rfl dX0_bestCorner_49 ?_
        refine lv_iload hx hb dX0_bestCorner_52 (lv_at hl 0 rfl) ?_
        refine hu_ald hx hb hK hP 7 0 rfl rfl i rfl (by omega) (by decide) dX0_bestCorner_54 ?_
        refine lv_imul hx hb dX0_bestCorner_55 ?_
        refine lv_iadd hx hb dX0_bestCorner_56 ?_
        refine lv_iload_n hx hb dX0_bestCorner_57 rfl (lv_at hl 3 rfl) ?_
        refine lv_aload_n hx hb dX0_bestCorner_58 rfl (lv_at hl 2 rfl) ?_
        refine va_get (D := (dC, dI)) (ci := 0) (v := .ref (ad 6)) (C := RX0) (T := TX0) (N := 10) hx hb hts in_X0 hown hK hP 0 rfl rfl 8 (by decide) (hts _ q35) (fun _ h9 => h9) rfl dX0_bestCorner_59 ?_
        refine lv_iload_n hx hb dX0_bestCorner_62 rfl (lv_at hl 1 rfl) ?_
        refine hu_ald hx hb hK hP 6 0 rfl rfl a rfl (by omega) (by decide) dX0_bestCorner_63 ?_
        refine lv_imul hx hb dX0_bestCorner_64 ?_
        refine lv_iload_n hx hb dX0_bestCorner_65 rfl (lv_at hl 4 rfl) ?_
        refine lv_aload_n hx hb dX0_bestCorner_66 rfl (lv_at hl 2 rfl) ?_
        refine va_get (D := (dC, dI)) (ci := 0) (v := .ref (ad 7)) (C := RX0) (T := TX0) (N := 10) hx hb hts in_X0 hown hK hP 0 rfl rfl 9 (by decide) (hts _ q36) (fun _ h9 => h9) rfl dX0_bestCorner_67 ?_
        refine lv_iload_n hx hb dX0_bestCorner_70 rfl (lv_at hl 1 rfl) ?_
        refine hu_ald hx hb hK hP 7 0 rfl rfl a rfl (by omega) (by decide) dX0_bestCorner_71 ?_
        refine lv_imul hx hb dX0_bestCorner_72 ?_
        refine lv_iadd hx hb dX0_bestCorner_73 ?_
        refine lv_icmp_le (tgt := 80) hx hb dX0_bestCorner_74 (by decide) (fun c_74 => ?_) (fun c_74 => ?_)
        · skip
          refine lv_iinc (v := nI (i + 1)) (lv' := [(4, .int (nI (i + 1))), (3, .int (nI a)), (0, .ref (ad 0)), (1, .int g), (2, .int h)]) hx hb dX0_bestCorner_80 hl (k := 0) rfl (nI_1 _) (by decide) rfl (fun ls hl => ?_)
          refine lv_goto (tgt := 29) hx hb dX0_bestCorner_83 (by decide) ?_
          exact ih (i + 1) a lo2 hi2 n2 cx2 cy2 (by omega) (by omega) hPN hnb hn0 (hu_at_n (v := (fun j => g * cx2 j + h * cy2 j)) h3 (Int32.not_lt.mpr c_74)) (by omega) _ _ hP hD hS ls (lv_sub hl [0, 1, 2, 3, 4] rfl)
        · skip
          refine lv_iload hx hb dX0_bestCorner_77 (lv_at hl 0 rfl) ?_
          refine lv_istore_n (lv' := [(3, .int (nI i)), (4, .int (nI i)), (0, .ref (ad 0)), (1, .int g), (2, .int h)]) hx hb dX0_bestCorner_79 rfl hl (by decide) rfl (fun ls hl => ?_)
          refine lv_iinc (v := nI (i + 1)) (lv' := [(4, .int (nI (i + 1))), (3, .int (nI i)), (0, .ref (ad 0)), (1, .int g), (2, .int h)]) hx hb dX0_bestCorner_80 hl (k := 1) rfl (nI_1 _) (by decide) rfl (fun ls hl => ?_)
          refine lv_goto (tgt := 29) hx hb dX0_bestCorner_83 (by decide) ?_
          exact ih (i + 1) i lo2 hi2 n2 cx2 cy2 (by omega) (by omega) hPN hnb hn0 (hu_at_y (v := (fun j => g * cx2 j + h * cy2 j)) h3 (Int32.not_le.mp c_74)) (by omega) _ _ hP hD hS ls (lv_sub hl [0, 1, 2, 3, 4] rfl)
  refine lv_iload_n hx hb dX0_bestCorner_0 rfl (lv_at hl 1 rfl) ?_
  refine lv_iload_n hx hb dX0_bestCorner_1 rfl (lv_at hl 2 rfl) ?_
  refine hu_callS 2 (As := [.int g, .int h]) (rest := []) ⟨hx, hb, hml, hown, hts⟩ (mX0_badDirection l g h) (lw_S q137 q138 q17 q139) (by decide +kernel) rfl ⟨Nat.le_of_ble_eq_true rfl, Nat.le_of_ble_eq_true rfl⟩ ⟨rfl, rfl⟩ hl.1 rfl (Nat.le_of_ble_eq_true rfl) ⟨Nat.zero_le _, Nat.zero_le _⟩ dX0_bestCorner_2 (fun r_2 w_2 => ?_)
  refine lv_if_eq (tgt := 10) hx hb dX0_bestCorner_5 (by decide) (fun c_5 => ?_) (fun c_5 => ?_)
  · skip
    have hnb : ¬ hu_bp g h := hu_tf_0 w_2 c_5
    refine lv_aload_n hx hb dX0_bestCorner_10 rfl (lv_at hl 0 rfl) ?_
    refine hu_callCV 0 (As := []) (rest := []) (wf := hu_wH d ad) (wr := []) ⟨hx, hb, hml, hown, hts⟩ (mX0_prepare l dC dI d ad _ rd ct fa fb fc lo hi cx cy K hk8 hok hrd) (lw_V q78 q80 qs0 q17 q81) (by decide +kernel) rfl ⟨Nat.le_of_ble_eq_true rfl, Nat.le_of_ble_eq_true rfl⟩ ⟨rfl, rfl⟩ hK hP hD hS hA [0, 1, 2, 3, 4, 5, 6, 7] [] rfl rfl ⟨rfl, rfl⟩ (by decide) rfl (va_recv hK hP (ci := 0) (q0 := 0) rfl rfl) hl.1 rfl (Nat.le_of_ble_eq_true rfl) ⟨Nat.zero_le _, Nat.zero_le _⟩ dX0_bestCorner_11 (fun u_11 H locs w_11 hP hD hS => ?_)
    obtain ⟨lo2, hi2, ct2, cx2, cy2, rfl, hcol2, n2, hn2, rfl, hH2⟩ := w_11
    have hP : va_P (dC, dI) hu_Cl (hu_wH d ad (nI K, 1, nI n2, fa, fb, fc, lo2, hi2, cx2, cy2)) H := hP
    have hD : va_D A (hu_wH d ad (nI K, 1, nI n2, fa, fb, fc, lo2, hi2, cx2, cy2)) := hD
    have hPN : hu_PN K fa fb fc lo2 hi2 n2 cx2 cy2 := ⟨hcol2, hn2, hH2⟩
    refine lv_aload_n hx hb dX0_bestCorner_14 rfl (lv_at hl 0 rfl) ?_
    refine va_get (D := (dC, dI)) (ci := 0) (v := .int (nI n2)) (C := RX0) (T := TX0) (N := 10) hx hb hts in_X0 hown hK hP 0 rfl rfl 7 (by decide) (hts _ q34) (fun _ h9 => h9) rfl dX0_bestCorner_15 ?_
    refine lv_if_ne (tgt := 24) hx hb dX0_bestCorner_18 (by decide) (fun c_18 => ?_) (fun c_18 => ?_)
    · skip
      have hn0 : 0 < n2 := Nat.pos_of_ne_zero (fun q => c_18 (by rw [q]; rfl))
      refine lv_iconst (v := 0) hx hb dX0_bestCorner_24 (by decide) ?_
      refine hu_top (z := nI 0) rfl ?_
      refine lv_istore_n (lv' := [(3, .int (nI 0)), (0, .ref (ad 0)), (1, .int g), (2, .int h)]) hx hb dX0_bestCorner_25 rfl hl (by decide) rfl (fun ls hl => ?_)
      refine lv_iconst (v := 1) hx hb dX0_bestCorner_26 (by decide) ?_
      refine hu_top (z := nI 1) rfl ?_
      refine lv_istore (lv' := [(4, .int (nI 1)), (3, .int (nI 0)), (0, .ref (ad 0)), (1, .int g), (2, .int h)]) hx hb dX0_bestCorner_27 hl (by decide) rfl (fun ls hl => ?_)
      exact loop (n2 + 1) 1 0 lo2 hi2 n2 cx2 cy2 (by omega) (by omega) hPN hnb hn0 (hu_at_1 _).symm (by omega) _ _ hP hD hS ls (lv_sub hl [0, 1, 2, 3, 4] rfl)
    · skip
      have hn0 : n2 = 0 := (nI_eq (b := 0) (by omega) (by omega)).mp c_18
      refine lv_bipush (v := (-3)) hx hb dX0_bestCorner_21 (by decide) ?_
      exact hu_retCI (nI K, 1, nI n2, fa, fb, fc, lo2, hi2, cx2, cy2) hx hb hr hlocks hK hP hD hS (Or.inr ⟨hnb, ⟨lo2, hi2, n2, cx2, cy2, rfl, hPN, Or.inl ⟨hn0, rfl⟩⟩⟩) dX0_bestCorner_23
  · skip
    have hbb : hu_bp g h := hu_tf_ne w_2 c_5
    refine lv_iconst (v := (-1)) hx hb dX0_bestCorner_8 (by decide) ?_
    exact hu_retCI (nI K, rd, ct, fa, fb, fc, lo, hi, cx, cy) hx hb hr hlocks hK hP hD hS (Or.inl ⟨hbb, rfl, rfl⟩) dX0_bestCorner_9
set_option maxHeartbeats 4000000 in
set_option maxRecDepth 100000 in
/-- best -/
theorem mX0_best (l : Launch) (dC : Nat → ClassId) (dI : Nat → Nat → Nat) (d : ClassId) (ad : Nat → Nat) (sz : Nat) (rd : Int32) (ct : Int32) (fa : Nat → Int32) (fb : Nat → Int32) (fc : Nat → Int32) (lo : Nat → Int32) (hi : Nat → Int32) (cx : Nat → Int32) (cy : Nat → Int32) (K : Nat) (hk8 : K ≤ 8) (hok : hu_OK K fa fb fc) (hrd : rd = 0 ∨ (rd = 1 ∧ hu_Prep K fa fb fc lo hi ct cx cy)) (g h : Int32) : hu_CI l dC dI d (hu_wH d ad) (nI K, rd, ct, fa, fb, fc, lo, hi, cx, cy) sz yX0_best cX0_best 4 (some .int) ({ frames := 5, cells := 0, slots := 0, locals := 115 }) [.ref (ad 0), .int g, .int h] (fun r u => (hu_bp g h ∧ r = -1 ∧ u = (nI K, rd, ct, fa, fb, fc, lo, hi, cx, cy)) ∨ (¬ hu_bp g h ∧ ∃ (lo' hi' : Nat → Int32) (n : Nat) (cx' cy' : Nat → Int32), u = (nI K, 1, nI n, fa, fb, fc, lo', hi', cx', cy') ∧ hu_PN K fa fb fc lo' hi' n cx' cy' ∧ ((n = 0 ∧ r = -3) ∨ (0 < n ∧ r = g * cx' (hu_at (fun j => g * cx' j + h * cy' j) n) + h * cy' (hu_at (fun j => g * cx' j + h * cy' j) n))))) := by
  refine hu_metC_i (by decide) (Nat.le_of_ble_eq_true rfl) sz ?_
  intro p e s m below meth c ls A C0 hP hK hD hS hA hl
  obtain ⟨hx, hb, hr, hml, hown, hts, hlocks⟩ := C0
  have hl : lv_has ls 4 [(0, .ref (ad 0)), (1, .int g), (2, .int h)] := hl
  refine lv_aload_n hx hb dX0_best_0 rfl (lv_at hl 0 rfl) ?_
  refine lv_iload_n hx hb dX0_best_1 rfl (lv_at hl 1 rfl) ?_
  refine lv_iload_n hx hb dX0_best_2 rfl (lv_at hl 2 rfl) ?_
  refine hu_callCI 2 (As := [.int g, .int h]) (rest := []) (wf := hu_wH d ad) (wr := []) ⟨hx, hb, hml, hown, hts⟩ (mX0_bestCorner l dC dI d ad _ rd ct fa fb fc lo hi cx cy K hk8 hok hrd g h) (lw_V q133 q134 q135 q17 q136) (by decide +kernel) rfl ⟨Nat.le_of_ble_eq_true rfl, Nat.le_of_ble_eq_true rfl⟩ ⟨rfl, rfl⟩ hK hP hD hS hA [0, 1, 2, 3, 4, 5, 6, 7] [] rfl rfl ⟨rfl, rfl⟩ (by decide) rfl (va_recv hK hP (ci := 0) (q0 := 0) rfl rfl) hl.1 rfl (Nat.le_of_ble_eq_true rfl) ⟨Nat.zero_le _, Nat.zero_le _⟩ dX0_best_3 (fun r_3 u_3 H locs w_3 hP hD hS => ?_)
  rcases w_3 with ⟨hbb, rfl, rfl⟩ | ⟨hnb, lo2, hi2, n2, cx2, cy2, rfl, hPN, ⟨hn0, rfl⟩ | ⟨hn0, rfl⟩⟩
  · skip
    have hP : va_P (dC, dI) hu_Cl (hu_wH d ad (nI K, rd, ct, fa, fb, fc, lo, hi, cx, cy)) H := hP
    have hD : va_D A (hu_wH d ad (nI K, rd, ct, fa, fb, fc, lo, hi, cx, cy)) := hD
    refine lv_istore_n (lv' := [(3, .int (-1)), (0, .ref (ad 0)), (1, .int g), (2, .int h)]) hx hb dX0_best_6 rfl hl (by decide) rfl (fun ls hl => ?_)
    refine lv_iload_n hx hb dX0_best_7 rfl (lv_at hl 0 rfl) ?_
    refine lv_if_ge (tgt := 15) hx hb dX0_best_8 (by decide) (fun c_8 => ?_) (fun c_8 => ?_)
    · skip
      exact absurd c_8 (by decide)
    · skip
      refine lv_iload_n hx hb dX0_best_11 rfl (lv_at hl 0 rfl) ?_
      refine lv_goto (tgt := 32) hx hb dX0_best_12 (by decide) ?_
      exact hu_retCI (nI K, rd, ct, fa, fb, fc, lo, hi, cx, cy) hx hb hr hlocks hK hP hD hS (Or.inl ⟨hbb, rfl, rfl⟩) dX0_best_32
  · skip
    have hP : va_P (dC, dI) hu_Cl (hu_wH d ad (nI K, 1, nI n2, fa, fb, fc, lo2, hi2, cx2, cy2)) H := hP
    have hD : va_D A (hu_wH d ad (nI K, 1, nI n2, fa, fb, fc, lo2, hi2, cx2, cy2)) := hD
    refine lv_istore_n (lv' := [(3, .int (-3)), (0, .ref (ad 0)), (1, .int g), (2, .int h)]) hx hb dX0_best_6 rfl hl (by decide) rfl (fun ls hl => ?_)
    refine lv_iload_n hx hb dX0_best_7 rfl (lv_at hl 0 rfl) ?_
    refine lv_if_ge (tgt := 15) hx hb dX0_best_8 (by decide) (fun c_8 => ?_) (fun c_8 => ?_)
    · skip
      exact absurd c_8 (by decide)
    · skip
      refine lv_iload_n hx hb dX0_best_11 rfl (lv_at hl 0 rfl) ?_
      refine lv_goto (tgt := 32) hx hb dX0_best_12 (by decide) ?_
      exact hu_retCI (nI K, 1, nI n2, fa, fb, fc, lo2, hi2, cx2, cy2) hx hb hr hlocks hK hP hD hS (Or.inr ⟨hnb, ⟨lo2, hi2, n2, cx2, cy2, rfl, hPN, Or.inl ⟨hn0, rfl⟩⟩⟩) dX0_best_32
  · skip
    have hP : va_P (dC, dI) hu_Cl (hu_wH d ad (nI K, 1, nI n2, fa, fb, fc, lo2, hi2, cx2, cy2)) H := hP
    have hD : va_D A (hu_wH d ad (nI K, 1, nI n2, fa, fb, fc, lo2, hi2, cx2, cy2)) := hD
    have hn2 := hPN.2.1
    have hal : hu_at (fun j => g * cx2 j + h * cy2 j) n2 < n2 := by
      obtain ⟨z, rfl⟩ : ∃ z, n2 = z + 1 := ⟨n2 - 1, by omega⟩
      show (if _ then z else _) < z + 1
      have := hu_at_lt (fun j => g * cx2 j + h * cy2 j) z
      split <;> omega
    refine lv_istore_n (lv' := [(3, .int (nI (hu_at (fun j => g * cx2 j + h * cy2 j) n2))), (0, .ref (ad 0)), (1, .int g), (2, .int h)]) hx hb dX0_best_6 rfl hl (by decide) rfl (fun ls hl => ?_)
    refine lv_iload_n hx hb dX0_best_7 rfl (lv_at hl 0 rfl) ?_
    refine lv_if_ge (tgt := 15) hx hb dX0_best_8 (by decide) (fun c_8 => ?_) (fun c_8 => ?_)
    · skip
      refine lv_iload_n hx hb dX0_best_15 rfl (lv_at hl 2 rfl) ?_
      refine lv_aload_n hx hb dX0_best_16 rfl (lv_at hl 1 rfl) ?_
      refine va_get (D := (dC, dI)) (ci := 0) (v := .ref (ad 6)) (C := RX0) (T := TX0) (N := 10) hx hb hts in_X0 hown hK hP 0 rfl rfl 8 (by decide) (hts _ q35) (fun _ h9 => h9) rfl dX0_best_17 ?_
      refine lv_iload_n hx hb dX0_best_20 rfl (lv_at hl 0 rfl) ?_
      refine hu_ald hx hb hK hP 6 0 rfl rfl (hu_at (fun j => g * cx2 j + h * cy2 j) n2) rfl (by omega) (by decide) dX0_best_21 ?_
      refine lv_imul hx hb dX0_best_22 ?_
      refine lv_iload_n hx hb dX0_best_23 rfl (lv_at hl 3 rfl) ?_
      refine lv_aload_n hx hb dX0_best_24 rfl (lv_at hl 1 rfl) ?_
      refine va_get (D := (dC, dI)) (ci := 0) (v := .ref (ad 7)) (C := RX0) (T := TX0) (N := 10) hx hb hts in_X0 hown hK hP 0 rfl rfl 9 (by decide) (hts _ q36) (fun _ h9 => h9) rfl dX0_best_25 ?_
      refine lv_iload_n hx hb dX0_best_28 rfl (lv_at hl 0 rfl) ?_
      refine hu_ald hx hb hK hP 7 0 rfl rfl (hu_at (fun j => g * cx2 j + h * cy2 j) n2) rfl (by omega) (by decide) dX0_best_29 ?_
      refine lv_imul hx hb dX0_best_30 ?_
      refine lv_iadd hx hb dX0_best_31 ?_
      exact hu_retCI (nI K, 1, nI n2, fa, fb, fc, lo2, hi2, cx2, cy2) hx hb hr hlocks hK hP hD hS (Or.inr ⟨hnb, ⟨lo2, hi2, n2, cx2, cy2, rfl, hPN, Or.inr ⟨hn0, rfl⟩⟩⟩) dX0_best_32
    · skip
      exact absurd (nI_pos' (by omega)) c_8
set_option maxHeartbeats 4000000 in
set_option maxRecDepth 100000 in
/-- column -/
theorem mX0_column (l : Launch) (dC : Nat → ClassId) (dI : Nat → Nat → Nat) (d : ClassId) (ad : Nat → Nat) (sz : Nat) (rd : Int32) (ct : Int32) (fa : Nat → Int32) (fb : Nat → Int32) (fc : Nat → Int32) (lo : Nat → Int32) (hi : Nat → Int32) (cx : Nat → Int32) (cy : Nat → Int32) (K : Nat) (hk8 : K ≤ 8) (hok : hu_OK K fa fb fc) (hrd : rd = 0 ∨ (rd = 1 ∧ hu_Prep K fa fb fc lo hi ct cx cy)) (x : Int32) : hu_CI l dC dI d (hu_wH d ad) (nI K, rd, ct, fa, fb, fc, lo, hi, cx, cy) sz yX0_column cX0_column 2 (some .int) ({ frames := 4, cells := 0, slots := 0, locals := 91 }) [.ref (ad 0), .int x] (fun r u => ((x < 0 ∨ 41 ≤ x) ∧ r = 0 ∧ u = (nI K, rd, ct, fa, fb, fc, lo, hi, cx, cy)) ∨ (∃ (lo' hi' : Nat → Int32) (n : Nat) (cx' cy' : Nat → Int32), u = (nI K, 1, nI n, fa, fb, fc, lo', hi', cx', cy') ∧ hu_PN K fa fb fc lo' hi' n cx' cy' ∧ ∃ i, i < 41 ∧ x = nI i ∧ ((lo' i ≤ hi' i ∧ r = hi' i - lo' i + 1) ∨ (¬ lo' i ≤ hi' i ∧ r = 0)))) := by
  refine hu_metC_i (by decide) (Nat.le_of_ble_eq_true rfl) sz ?_
  intro p e s m below meth c ls A C0 hP hK hD hS hA hl
  obtain ⟨hx, hb, hr, hml, hown, hts, hlocks⟩ := C0
  have hl : lv_has ls 2 [(0, .ref (ad 0)), (1, .int x)] := hl
  refine lv_iload_n hx hb dX0_column_0 rfl (lv_at hl 1 rfl) ?_
  refine lv_if_lt (tgt := 10) hx hb dX0_column_1 (by decide) (fun c_1 => ?_) (fun c_1 => ?_)
  · skip
    refine lv_iconst (v := 0) hx hb dX0_column_10 (by decide) ?_
    exact hu_retCI (nI K, rd, ct, fa, fb, fc, lo, hi, cx, cy) hx hb hr hlocks hK hP hD hS (Or.inl ⟨by first | exact Or.inl c_1 | exact Or.inr (Int32.not_lt.mp c_7), rfl, rfl⟩) dX0_column_11
  · skip
    refine lv_iload_n hx hb dX0_column_4 rfl (lv_at hl 1 rfl) ?_
    refine lv_bipush (v := 41) hx hb dX0_column_5 (by decide) ?_
    refine lv_icmp_lt (tgt := 12) hx hb dX0_column_7 (by decide) (fun c_7 => ?_) (fun c_7 => ?_)
    · skip
      obtain ⟨i, hi1, rfl⟩ : ∃ i, i < 41 ∧ x = nI i := by
        rcases pk_ix x (n := 41) (by omega) with q | q | q
        · exact absurd q c_1
        · exact absurd c_7 (Int32.not_lt.mpr q)
        · exact q
      refine lv_aload_n hx hb dX0_column_12 rfl (lv_at hl 0 rfl) ?_
      refine hu_callCV 0 (As := []) (rest := []) (wf := hu_wH d ad) (wr := []) ⟨hx, hb, hml, hown, hts⟩ (mX0_prepare l dC dI d ad _ rd ct fa fb fc lo hi cx cy K hk8 hok hrd) (lw_V q78 q80 qs0 q17 q81) (by decide +kernel) rfl ⟨Nat.le_of_ble_eq_true rfl, Nat.le_of_ble_eq_true rfl⟩ ⟨rfl, rfl⟩ hK hP hD hS hA [0, 1, 2, 3, 4, 5, 6, 7] [] rfl rfl ⟨rfl, rfl⟩ (by decide) rfl (va_recv hK hP (ci := 0) (q0 := 0) rfl rfl) hl.1 rfl (Nat.le_of_ble_eq_true rfl) ⟨Nat.zero_le _, Nat.zero_le _⟩ dX0_column_13 (fun u_13 H locs w_13 hP hD hS => ?_)
      obtain ⟨lo2, hi2, ct2, cx2, cy2, rfl, hcol2, n2, hn2, rfl, hH2⟩ := w_13
      have hP : va_P (dC, dI) hu_Cl (hu_wH d ad (nI K, 1, nI n2, fa, fb, fc, lo2, hi2, cx2, cy2)) H := hP
      have hD : va_D A (hu_wH d ad (nI K, 1, nI n2, fa, fb, fc, lo2, hi2, cx2, cy2)) := hD
      have hPN : hu_PN K fa fb fc lo2 hi2 n2 cx2 cy2 := ⟨hcol2, hn2, hH2⟩
      refine lv_aload_n hx hb dX0_column_16 rfl (lv_at hl 0 rfl) ?_
      refine lv_iload_n hx hb dX0_column_17 rfl (lv_at hl 1 rfl) ?_
      refine hu_callR 1 (As := [.int (nI i)]) (rest := []) ⟨hx, hb, hml, hown, hts⟩ (mX0_some l dC dI d ad (nI K) 1 (nI n2) fa fb fc lo2 hi2 cx2 cy2 i hi1) (lw_V q93 q95 qs3 q17 q96) (by decide +kernel) rfl ⟨Nat.le_of_ble_eq_true rfl, Nat.le_of_ble_eq_true rfl⟩ ⟨rfl, rfl⟩ hK hP (va_recv hK hP (ci := 0) (q0 := 0) rfl rfl) hl.1 rfl (Nat.le_of_ble_eq_true rfl) ⟨Nat.zero_le _, Nat.zero_le _⟩ dX0_column_18 (fun r_18 w_18 => ?_)
      refine lv_if_eq (tgt := 42) hx hb dX0_column_21 (by decide) (fun c_21 => ?_) (fun c_21 => ?_)
      · skip
        refine lv_iconst (v := 0) hx hb dX0_column_42 (by decide) ?_
        exact hu_retCI (nI K, 1, nI n2, fa, fb, fc, lo2, hi2, cx2, cy2) hx hb hr hlocks hK hP hD hS (Or.inr ⟨lo2, hi2, n2, cx2, cy2, rfl, hPN, i, hi1, rfl, Or.inr ⟨hu_tf_0 w_18 c_21, rfl⟩⟩) dX0_column_43
      · skip
        refine lv_aload_n hx hb dX0_column_24 rfl (lv_at hl 0 rfl) ?_
        refine va_get (D := (dC, dI)) (ci := 0) (v := .ref (ad 5)) (C := RX0) (T := TX0) (N := 10) hx hb hts in_X0 hown hK hP 0 rfl rfl 6 (by decide) (hts _ q33) (fun _ h9 => h9) rfl dX0_column_25 ?_
        refine lv_iload_n hx hb dX0_column_28 rfl (lv_at hl 1 rfl) ?_
        refine hu_ald hx hb hK hP 5 0 rfl rfl i rfl (by omega) (by decide) dX0_column_29 ?_
        refine lv_aload_n hx hb dX0_column_30 rfl (lv_at hl 0 rfl) ?_
        refine va_get (D := (dC, dI)) (ci := 0) (v := .ref (ad 4)) (C := RX0) (T := TX0) (N := 10) hx hb hts in_X0 hown hK hP 0 rfl rfl 5 (by decide) (hts _ q32) (fun _ h9 => h9) rfl dX0_column_31 ?_
        refine lv_iload_n hx hb dX0_column_34 rfl (lv_at hl 1 rfl) ?_
        refine hu_ald hx hb hK hP 4 0 rfl rfl i rfl (by omega) (by decide) dX0_column_35 ?_
        refine lv_isub hx hb dX0_column_36 ?_
        refine lv_iconst (v := 1) hx hb dX0_column_37 (by decide) ?_
        refine lv_iadd hx hb dX0_column_38 ?_
        refine lv_goto (tgt := 43) hx hb dX0_column_39 (by decide) ?_
        exact hu_retCI (nI K, 1, nI n2, fa, fb, fc, lo2, hi2, cx2, cy2) hx hb hr hlocks hK hP hD hS (Or.inr ⟨lo2, hi2, n2, cx2, cy2, rfl, hPN, i, hi1, rfl, Or.inl ⟨hu_tf_ne w_18 c_21, rfl⟩⟩) dX0_column_43
    · skip
      refine lv_iconst (v := 0) hx hb dX0_column_10 (by decide) ?_
      exact hu_retCI (nI K, rd, ct, fa, fb, fc, lo, hi, cx, cy) hx hb hr hlocks hK hP hD hS (Or.inl ⟨by first | exact Or.inl c_1 | exact Or.inr (Int32.not_lt.mp c_7), rfl, rfl⟩) dX0_column_11
end
section
/-! the methods of IntegerHullModel that write (written by gen/m4.py) -/
set_option maxHeartbeats 4000000 in
set_option maxRecDepth 100000 in
/-- walk -/
theorem mX1_walk (l : Launch) (dC : Nat → ClassId) (dI : Nat → Nat → Nat) (d : ClassId) (ad : Nat → Nat) (sz : Nat) (as : Nat → Int32) (bs : Nat → Int32) (cs : Nat → Int32) (k : Int32) (li : Nat → Int32) (hu : Nat → Int32) (hs : Int32) (L : Nat) (hL : L ≤ 1681) : hu_CV l dC dI d (hu_wM d ad) (as, bs, cs, k, li, nI L, hu, hs) sz yX1_walk cX1_walk 3 ({ frames := 3, cells := 0, slots := 0, locals := 70 }) [.ref (ad 0)] (fun u => ∃ (hu' : Nat → Int32) (h : Nat), u = (as, bs, cs, k, li, nI L, hu', nI h) ∧ hu_Wk li L hu' h) := by
  refine hu_metC_v (by decide) (Nat.le_of_ble_eq_true rfl) sz ?_
  intro p e s m below meth c ls A C0 hP hK hD hS hA hl
  obtain ⟨hx, hb, hr, hml, hown, hts, hlocks⟩ := C0
  have hl : lv_has ls 3 [(0, .ref (ad 0))] := hl
  have loop : ∀ (n : Nat) (i : Nat) (hu1 : Nat → Int32), i ≤ 256 → 256 < i + n → 0 < L → (∀ j, j < i → hu1 j = hu_it li L j) → (∀ j, 0 < j → j < i → hu_it li L j ≠ li 0) → ∀ (H : Heap) (locs : List Loc), va_P (dC, dI) hu_Cl (hu_wM d ad (as, bs, cs, k, li, nI L, hu1, nI i)) H → va_D A (hu_wM d ad (as, bs, cs, k, li, nI L, hu1, nI i)) → va_S A s.heap H locs → ∀ ls : Array Slot, lv_has ls 3 [(2, .int (nI i)), (1, .int (hu_it li L i)), (0, .ref (ad 0))] → W p l e ({ frames := 3, cells := 0, slots := 0, locals := 70 }) s m ([.ref (ad 0)] : List Value).toArray below meth c H locs 0 0 (MQ below (va_Qv (fun u => ∃ (hu' : Nat → Int32) (h : Nat), u = (as, bs, cs, k, li, nI L, hu', nI h) ∧ hu_Wk li L hu' h) (hu_W dC dI d (hu_wM d ad) A) A) ([.ref (ad 0)] : List Value).toArray s 0 0 A) (F0 m 22 ls []) := by
    intro n
    induction n with
    | zero =>
      intro i hu1 h1 h2
      exfalso
      omega
    | succ n ih =>
      intro i hu1 h1 h2 hL0 h3 h4 H locs hP hD hS ls hl
      refine lv_iload_n hx hb dX1_walk_22 rfl (lv_at hl 0 rfl) ?_
      refine lv_sipush (v := 256) hx hb dX1_walk_23 (by decide) ?_
      refine lv_icmp_ge (tgt := 79) hx hb dX1_walk_26 (by decide) (fun c_26 => ?_) (fun c_26 => ?_)
      · skip
        have hi_26 : i = 256 := by have := (nI_leI (a := 256) (by omega) (by omega)).mp c_26; omega
        exact hu_retCV (as, bs, cs, k, li, nI L, hu1, nI i) hx hb hr hlocks hK hP hD hS ⟨hu1, i, rfl, h1, fun q => by omega, fun _ => ⟨by omega, h3, h4, Or.inl hi_26⟩⟩ dX1_walk_79
      · skip
        have hi_26 : i < 256 := by have := mt (nI_leI (a := 256) (b := i) (by omega) (by omega)).mpr c_26; omega
        refine lv_iload_n hx hb dX1_walk_29 rfl (lv_at hl 0 rfl) ?_
        refine lv_if_eq (tgt := 43) hx hb dX1_walk_30 (by decide) (fun c_30 => ?_) (fun c_30 => ?_)
        · skip
          have hi0 : i = 0 := (nI_eq (b := 0) (by omega) (by omega)).mp c_30
          refine lv_aload_n hx hb dX1_walk_43 rfl (lv_at hl 2 rfl) ?_
          refine va_get (D := (dC, dI)) (ci := 1) (v := .ref (ad 5)) (C := RX1) (T := TX1) (N := 8) hx hb hts in_X1 hown hK hP 0 rfl rfl 6 (by decide) (hts _ q189) (fun _ h9 => h9) rfl dX1_walk_44 ?_
          refine lv_aload_n hx hb dX1_walk_47 rfl (lv_at hl 2 rfl) ?_
          refine va_get (D := (dC, dI)) (ci := 1) (v := .int (nI i)) (C := RX1) (T := TX1) (N := 8) hx hb hts in_X1 hown hK hP 0 rfl rfl 7 (by decide) (hts _ q190) (fun _ h9 => h9) rfl dX1_walk_48 ?_
          refine lv_iload_n hx hb dX1_walk_51 rfl (lv_at hl 1 rfl) ?_
          refine hu_ast hx hb hK hP hD hS 5 0 rfl rfl i rfl (by omega) (by decide) dX1_walk_52 (fun H locs hP hD hS => ?_)
          have hP : va_P (dC, dI) hu_Cl (hu_wM d ad (as, bs, cs, k, li, nI L, upd hu1 i (hu_it li L i), nI i)) H := hP
          have hD : va_D A (hu_wM d ad (as, bs, cs, k, li, nI L, upd hu1 i (hu_it li L i), nI i)) := hD
          refine lv_aload_n hx hb dX1_walk_53 rfl (lv_at hl 2 rfl) ?_
          refine lv_dup hx hb dX1_walk_54 rfl ?_
          refine va_get (D := (dC, dI)) (ci := 1) (v := .int (nI i)) (C := RX1) (T := TX1) (N := 8) hx hb hts in_X1 hown hK hP 0 rfl rfl 7 (by decide) (hts _ q190) (fun _ h9 => h9) rfl dX1_walk_55 ?_
          refine lv_iconst (v := 1) hx hb dX1_walk_58 (by decide) ?_
          refine lv_iadd hx hb dX1_walk_59 ?_
          refine hu_top (z := nI (i + 1)) (nI_1 i) ?_
          refine va_put (D := (dC, dI)) (ci := 1) (v := .int (nI (i + 1))) (ty := .int) (C := RX1) (T := TX1) (N := 8) hx hb hts in_X1 tyX1 tyX1_ok nmX1 hown hK hP hD hS 0 rfl rfl 7 (by decide) (hts _ q190) (fun _ h9 => h9) rfl (by decide +kernel) rfl rfl (Nat.le_of_ble_eq_true rfl) dX1_walk_60 (fun H locs hP hD hS => ?_)
          have hP : va_P (dC, dI) hu_Cl (hu_wM d ad (as, bs, cs, k, li, nI L, upd hu1 i (hu_it li L i), nI (i + 1))) H := hP
          have hD : va_D A (hu_wM d ad (as, bs, cs, k, li, nI L, upd hu1 i (hu_it li L i), nI (i + 1))) := hD
          refine lv_aload_n hx hb dX1_walk_63 rfl (lv_at hl 2 rfl) ?_
          refine lv_iload_n hx hb dX1_walk_64 rfl (lv_at hl 1 rfl) ?_
          refine hu_callR 1 (As := [.int (hu_it li L i)]) (rest := []) ⟨hx, hb, hml, hown, hts⟩ (mX1_next l dC dI d ad as bs cs k li (upd hu1 i (hu_it li L i)) (nI (i + 1)) L hL (hu_it li L i)) (lw_V q163 q165 qs8 q18 q166) (by decide +kernel) rfl ⟨Nat.le_of_ble_eq_true rfl, Nat.le_of_ble_eq_true rfl⟩ ⟨rfl, rfl⟩ hK hP (va_recv hK hP (ci := 1) (q0 := 0) rfl rfl) hl.1 rfl (Nat.le_of_ble_eq_true rfl) ⟨Nat.zero_le _, Nat.zero_le _⟩ dX1_walk_65 (fun r_65 w_65 => ?_)
          refine hu_top (z := hu_it li L (i + 1)) w_65 ?_
          refine lv_istore_n (lv' := [(1, .int (hu_it li L (i + 1))), (2, .int (nI i)), (0, .ref (ad 0))]) hx hb dX1_walk_68 rfl hl (by decide) rfl (fun ls hl => ?_)
          refine lv_goto (tgt := 73) hx hb dX1_walk_69 (by decide) ?_
          refine lv_iinc (v := nI (i + 1)) (lv' := [(2, .int (nI (i + 1))), (1, .int (hu_it li L (i + 1))), (0, .ref (ad 0))]) hx hb dX1_walk_73 hl (k := 1) rfl (nI_1 _) (by decide) rfl (fun ls hl => ?_)
          refine lv_goto (tgt := 22) hx hb dX1_walk_76 (by decide) ?_
          exact ih (i + 1) (upd hu1 i (hu_it li L i)) (by omega) (by omega) hL0 (lt_s (fun j hj => (pk_un (by omega)).trans (h3 j hj)) pk_us) (fun j h0 hj => by rcases Nat.lt_or_ge j i with q | q; exact h4 j h0 q; (rw [show j = i by omega]; first | exact c_40 | (exfalso; omega))) _ _ hP hD hS ls (lv_sub hl [0, 1, 2] rfl)
        · skip
          have hi0 : 0 < i := Nat.pos_of_ne_zero (fun q => c_30 (by rw [q]; rfl))
          refine lv_iload_n hx hb dX1_walk_33 rfl (lv_at hl 1 rfl) ?_
          refine lv_aload_n hx hb dX1_walk_34 rfl (lv_at hl 2 rfl) ?_
          refine va_get (D := (dC, dI)) (ci := 1) (v := .ref (ad 4)) (C := RX1) (T := TX1) (N := 8) hx hb hts in_X1 hown hK hP 0 rfl rfl 4 (by decide) (hts _ q187) (fun _ h9 => h9) rfl dX1_walk_35 ?_
          refine lv_iconst (v := 0) hx hb dX1_walk_38 (by decide) ?_
          refine hu_ald hx hb hK hP 4 0 rfl rfl 0 (by decide) (by omega) (by decide) dX1_walk_39 ?_
          refine lv_icmp_eq (tgt := 72) hx hb dX1_walk_40 (by decide) (fun c_40 => ?_) (fun c_40 => ?_)
          · skip
            exact hu_retCV (as, bs, cs, k, li, nI L, hu1, nI i) hx hb hr hlocks hK hP hD hS ⟨hu1, i, rfl, h1, fun q => by omega, fun _ => ⟨hi0, h3, h4, Or.inr c_40⟩⟩ dX1_walk_72
          · skip
            refine lv_aload_n hx hb dX1_walk_43 rfl (lv_at hl 2 rfl) ?_
            refine va_get (D := (dC, dI)) (ci := 1) (v := .ref (ad 5)) (C := RX1) (T := TX1) (N := 8) hx hb hts in_X1 hown hK hP 0 rfl rfl 6 (by decide) (hts _ q189) (fun _ h9 => h9) rfl dX1_walk_44 ?_
            refine lv_aload_n hx hb dX1_walk_47 rfl (lv_at hl 2 rfl) ?_
            refine va_get (D := (dC, dI)) (ci := 1) (v := .int (nI i)) (C := RX1) (T := TX1) (N := 8) hx hb hts in_X1 hown hK hP 0 rfl rfl 7 (by decide) (hts _ q190) (fun _ h9 => h9) rfl dX1_walk_48 ?_
            refine lv_iload_n hx hb dX1_walk_51 rfl (lv_at hl 1 rfl) ?_
            refine hu_ast hx hb hK hP hD hS 5 0 rfl rfl i rfl (by omega) (by decide) dX1_walk_52 (fun H locs hP hD hS => ?_)
            have hP : va_P (dC, dI) hu_Cl (hu_wM d ad (as, bs, cs, k, li, nI L, upd hu1 i (hu_it li L i), nI i)) H := hP
            have hD : va_D A (hu_wM d ad (as, bs, cs, k, li, nI L, upd hu1 i (hu_it li L i), nI i)) := hD
            refine lv_aload_n hx hb dX1_walk_53 rfl (lv_at hl 2 rfl) ?_
            refine lv_dup hx hb dX1_walk_54 rfl ?_
            refine va_get (D := (dC, dI)) (ci := 1) (v := .int (nI i)) (C := RX1) (T := TX1) (N := 8) hx hb hts in_X1 hown hK hP 0 rfl rfl 7 (by decide) (hts _ q190) (fun _ h9 => h9) rfl dX1_walk_55 ?_
            refine lv_iconst (v := 1) hx hb dX1_walk_58 (by decide) ?_
            refine lv_iadd hx hb dX1_walk_59 ?_
            refine hu_top (z := nI (i + 1)) (nI_1 i) ?_
            refine va_put (D := (dC, dI)) (ci := 1) (v := .int (nI (i + 1))) (ty := .int) (C := RX1) (T := TX1) (N := 8) hx hb hts in_X1 tyX1 tyX1_ok nmX1 hown hK hP hD hS 0 rfl rfl 7 (by decide) (hts _ q190) (fun _ h9 => h9) rfl (by decide +kernel) rfl rfl (Nat.le_of_ble_eq_true rfl) dX1_walk_60 (fun H locs hP hD hS => ?_)
            have hP : va_P (dC, dI) hu_Cl (hu_wM d ad (as, bs, cs, k, li, nI L, upd hu1 i (hu_it li L i), nI (i + 1))) H := hP
            have hD : va_D A (hu_wM d ad (as, bs, cs, k, li, nI L, upd hu1 i (hu_it li L i), nI (i + 1))) := hD
            refine lv_aload_n hx hb dX1_walk_63 rfl (lv_at hl 2 rfl) ?_
            refine lv_iload_n hx hb dX1_walk_64 rfl (lv_at hl 1 rfl) ?_
            refine hu_callR 1 (As := [.int (hu_it li L i)]) (rest := []) ⟨hx, hb, hml, hown, hts⟩ (mX1_next l dC dI d ad as bs cs k li (upd hu1 i (hu_it li L i)) (nI (i + 1)) L hL (hu_it li L i)) (lw_V q163 q165 qs8 q18 q166) (by decide +kernel) rfl ⟨Nat.le_of_ble_eq_true rfl, Nat.le_of_ble_eq_true rfl⟩ ⟨rfl, rfl⟩ hK hP (va_recv hK hP (ci := 1) (q0 := 0) rfl rfl) hl.1 rfl (Nat.le_of_ble_eq_true rfl) ⟨Nat.zero_le _, Nat.zero_le _⟩ dX1_walk_65 (fun r_65 w_65 => ?_)
            refine hu_top (z := hu_it li L (i + 1)) w_65 ?_
            refine lv_istore_n (lv' := [(1, .int (hu_it li L (i + 1))), (2, .int (nI i)), (0, .ref (ad 0))]) hx hb dX1_walk_68 rfl hl (by decide) rfl (fun ls hl => ?_)
            refine lv_goto (tgt := 73) hx hb dX1_walk_69 (by decide) ?_
            refine lv_iinc (v := nI (i + 1)) (lv' := [(2, .int (nI (i + 1))), (1, .int (hu_it li L (i + 1))), (0, .ref (ad 0))]) hx hb dX1_walk_73 hl (k := 1) rfl (nI_1 _) (by decide) rfl (fun ls hl => ?_)
            refine lv_goto (tgt := 22) hx hb dX1_walk_76 (by decide) ?_
            exact ih (i + 1) (upd hu1 i (hu_it li L i)) (by omega) (by omega) hL0 (lt_s (fun j hj => (pk_un (by omega)).trans (h3 j hj)) pk_us) (fun j h0 hj => by rcases Nat.lt_or_ge j i with q | q; exact h4 j h0 q; (rw [show j = i by omega]; first | exact c_40 | (exfalso; omega))) _ _ hP hD hS ls (lv_sub hl [0, 1, 2] rfl)
  refine lv_aload_n hx hb dX1_walk_0 rfl (lv_at hl 0 rfl) ?_
  refine lv_iconst (v := 0) hx hb dX1_walk_1 (by decide) ?_
  refine va_put (D := (dC, dI)) (ci := 1) (v := .int 0) (ty := .int) (C := RX1) (T := TX1) (N := 8) hx hb hts in_X1 tyX1 tyX1_ok nmX1 hown hK hP hD hS 0 rfl rfl 7 (by decide) (hts _ q190) (fun _ h9 => h9) rfl (by decide +kernel) rfl rfl (Nat.le_of_ble_eq_true rfl) dX1_walk_2 (fun H locs hP hD hS => ?_)
  have hP : va_P (dC, dI) hu_Cl (hu_wM d ad (as, bs, cs, k, li, nI L, hu, 0)) H := hP
  have hD : va_D A (hu_wM d ad (as, bs, cs, k, li, nI L, hu, 0)) := hD
  refine lv_aload_n hx hb dX1_walk_5 rfl (lv_at hl 0 rfl) ?_
  refine va_get (D := (dC, dI)) (ci := 1) (v := .int (nI L)) (C := RX1) (T := TX1) (N := 8) hx hb hts in_X1 hown hK hP 0 rfl rfl 5 (by decide) (hts _ q188) (fun _ h9 => h9) rfl dX1_walk_6 ?_
  refine lv_if_ne (tgt := 13) hx hb dX1_walk_9 (by decide) (fun c_9 => ?_) (fun c_9 => ?_)
  · skip
    have hL0 : 0 < L := Nat.pos_of_ne_zero (fun q => c_9 (by rw [q]; rfl))
    refine lv_aload_n hx hb dX1_walk_13 rfl (lv_at hl 0 rfl) ?_
    refine va_get (D := (dC, dI)) (ci := 1) (v := .ref (ad 4)) (C := RX1) (T := TX1) (N := 8) hx hb hts in_X1 hown hK hP 0 rfl rfl 4 (by decide) (hts _ q187) (fun _ h9 => h9) rfl dX1_walk_14 ?_
    refine lv_iconst (v := 0) hx hb dX1_walk_17 (by decide) ?_
    refine hu_ald hx hb hK hP 4 0 rfl rfl 0 (by decide) (by omega) (by decide) dX1_walk_18 ?_
    refine lv_istore_n (lv' := [(1, .int (li 0)), (0, .ref (ad 0))]) hx hb dX1_walk_19 rfl hl (by decide) rfl (fun ls hl => ?_)
    refine lv_iconst (v := 0) hx hb dX1_walk_20 (by decide) ?_
    refine lv_istore_n (lv' := [(2, .int 0), (1, .int (li 0)), (0, .ref (ad 0))]) hx hb dX1_walk_21 rfl hl (by decide) rfl (fun ls hl => ?_)
    exact loop 257 0 hu (by omega) (by omega) hL0 lt_0 (fun j _ hj => absurd hj (Nat.not_lt_zero j)) _ _ hP hD hS ls (lv_sub hl [0, 1, 2] rfl)
  · skip
    have hL0 : L = 0 := (nI_eq (b := 0) (by omega) (by omega)).mp c_9
    exact hu_retCV (as, bs, cs, k, li, nI L, hu, 0) hx hb hr hlocks hK hP hD hS ⟨hu, 0, rfl, by omega, fun _ => rfl, fun q => by omega⟩ dX1_walk_12
set_option maxHeartbeats 4000000 in
set_option maxRecDepth 100000 in
/-- refresh -/
theorem mX1_refresh (l : Launch) (dC : Nat → ClassId) (dI : Nat → Nat → Nat) (d : ClassId) (ad : Nat → Nat) (sz : Nat) (as : Nat → Int32) (bs : Nat → Int32) (cs : Nat → Int32) (li : Nat → Int32) (ld : Int32) (hu : Nat → Int32) (hs : Int32) (K : Nat) (hk8 : K ≤ 8) (hok : hu_OK K as bs cs) : hu_CV l dC dI d (hu_wM d ad) (as, bs, cs, nI K, li, ld, hu, hs) sz yX1_refresh cX1_refresh 2 ({ frames := 4, cells := 0, slots := 0, locals := 92 }) [.ref (ad 0)] (fun u => ∃ (li' : Nat → Int32) (L : Nat) (hu' : Nat → Int32) (h : Nat), u = (as, bs, cs, nI K, li', nI L, hu', nI h) ∧ hu_Ls K as bs cs li' L ∧ hu_Wk li' L hu' h) := by
  refine hu_metC_v (by decide) (Nat.le_of_ble_eq_true rfl) sz ?_
  intro p e s m below meth c ls A C0 hP hK hD hS hA hl
  obtain ⟨hx, hb, hr, hml, hown, hts, hlocks⟩ := C0
  have hl : lv_has ls 2 [(0, .ref (ad 0))] := hl
  have loop : ∀ (n : Nat) (i : Nat) (c0 : Nat) (li1 : Nat → Int32), i ≤ 1681 → 1681 < i + n → c0 = hu_cnt (hu_P K as bs cs) i → (∀ j, j < i → hu_P K as bs cs j → li1 (hu_cnt (hu_P K as bs cs) j) = nI (j / 41 + 64 * (j % 41))) → ∀ (H : Heap) (locs : List Loc), va_P (dC, dI) hu_Cl (hu_wM d ad (as, bs, cs, nI K, li1, nI c0, hu, hs)) H → va_D A (hu_wM d ad (as, bs, cs, nI K, li1, nI c0, hu, hs)) → va_S A s.heap H locs → ∀ ls : Array Slot, lv_has ls 2 [(1, .int (nI i)), (0, .ref (ad 0))] → W p l e ({ frames := 4, cells := 0, slots := 0, locals := 92 }) s m ([.ref (ad 0)] : List Value).toArray below meth c H locs 0 0 (MQ below (va_Qv (fun u => ∃ (li' : Nat → Int32) (L : Nat) (hu' : Nat → Int32) (h : Nat), u = (as, bs, cs, nI K, li', nI L, hu', nI h) ∧ hu_Ls K as bs cs li' L ∧ hu_Wk li' L hu' h) (hu_W dC dI d (hu_wM d ad) A) A) ([.ref (ad 0)] : List Value).toArray s 0 0 A) (F0 m 7 ls []) := by
    intro n
    induction n with
    | zero =>
      intro i c0 li1 h1 h2
      exfalso
      omega
    | succ n ih =>
      intro i c0 li1 h1 h2 h3 h4 H locs hP hD hS ls hl
      have hcl := hu_cnt_le (hu_P K as bs cs) i
      refine lv_iload_n hx hb dX1_refresh_7 rfl (lv_at hl 0 rfl) ?_
      refine lv_sipush (v := 1681) hx hb dX1_refresh_8 (by decide) ?_
      refine lv_icmp_ge (tgt := 66) hx hb dX1_refresh_11 (by decide) (fun c_11 => ?_) (fun c_11 => ?_)
      · skip
        have hi_11 : i = 1681 := by have := (nI_leI (a := 1681) (by omega) (by omega)).mp c_11; omega
        refine lv_aload_n hx hb dX1_refresh_66 rfl (lv_at hl 1 rfl) ?_
        refine hu_callCV 0 (As := []) (rest := []) (wf := hu_wM d ad) (wr := []) ⟨hx, hb, hml, hown, hts⟩ (mX1_walk l dC dI d ad _ as bs cs (nI K) li1 hu hs c0 (by omega)) (lw_V q159 q161 qs7 q18 q162) (by decide +kernel) rfl ⟨Nat.le_of_ble_eq_true rfl, Nat.le_of_ble_eq_true rfl⟩ ⟨rfl, rfl⟩ hK hP hD hS hA [0, 1, 2, 3, 4, 5] [] rfl rfl ⟨rfl, rfl⟩ (by decide) rfl (va_recv hK hP (ci := 1) (q0 := 0) rfl rfl) hl.1 rfl (Nat.le_of_ble_eq_true rfl) ⟨Nat.zero_le _, Nat.zero_le _⟩ dX1_refresh_67 (fun u_67 H locs w_67 hP hD hS => ?_)
        obtain ⟨hu2, h2, rfl, hwk⟩ := w_67
        have hP : va_P (dC, dI) hu_Cl (hu_wM d ad (as, bs, cs, nI K, li1, nI c0, hu2, nI h2)) H := hP
        have hD : va_D A (hu_wM d ad (as, bs, cs, nI K, li1, nI c0, hu2, nI h2)) := hD
        exact hu_retCV (as, bs, cs, nI K, li1, nI c0, hu2, nI h2) hx hb hr hlocks hK hP hD hS ⟨li1, c0, hu2, h2, rfl, ⟨by rw [h3, hi_11], by rw [← hi_11]; exact h4⟩, hwk⟩ dX1_refresh_70
      · skip
        have hi_11 : i < 1681 := by have := mt (nI_leI (a := 1681) (b := i) (by omega) (by omega)).mpr c_11; omega
        refine lv_aload_n hx hb dX1_refresh_14 rfl (lv_at hl 1 rfl) ?_
        refine lv_iload_n hx hb dX1_refresh_15 rfl (lv_at hl 0 rfl) ?_
        refine lv_bipush (v := 41) hx hb dX1_refresh_16 (by decide) ?_
        refine lv_idiv hx hb dX1_refresh_18 (by decide) ?_
        refine hu_top (z := nI (i / 41)) (pk_div (d := 41) (by omega) (by omega) (by omega)) ?_
        refine lv_iload_n hx hb dX1_refresh_19 rfl (lv_at hl 0 rfl) ?_
        refine lv_bipush (v := 41) hx hb dX1_refresh_20 (by decide) ?_
        refine lv_irem hx hb dX1_refresh_22 (by decide) ?_
        refine hu_top (z := nI (i % 41)) (pk_rem (d := 41) (by omega) (by omega) (by omega)) ?_
        refine hu_callR 2 (As := [.int (nI (i / 41)), .int (nI (i % 41))]) (rest := []) ⟨hx, hb, hml, hown, hts⟩ (mX1_has l dC dI d ad as bs cs li1 (nI c0) hu hs K hk8 (nI (i / 41)) (nI (i % 41))) (lw_V q155 q156 q157 q18 q158) (by decide +kernel) rfl ⟨Nat.le_of_ble_eq_true rfl, Nat.le_of_ble_eq_true rfl⟩ ⟨rfl, rfl⟩ hK hP (va_recv hK hP (ci := 1) (q0 := 0) rfl rfl) hl.1 rfl (Nat.le_of_ble_eq_true rfl) ⟨Nat.zero_le _, Nat.zero_le _⟩ dX1_refresh_23 (fun r_23 w_23 => ?_)
        have w_23 := hu_tf_iff w_23 (hu_hasP hok hi_11)
        refine lv_if_eq (tgt := 60) hx hb dX1_refresh_26 (by decide) (fun c_26 => ?_) (fun c_26 => ?_)
        · skip
          have hc : hu_cnt (hu_P K as bs cs) (i + 1) = hu_cnt (hu_P K as bs cs) i := hu_cnt_n (hu_tf_0 w_23 c_26)
          have hnp := hu_tf_0 w_23 c_26
          refine lv_iinc (v := nI (i + 1)) (lv' := [(1, .int (nI (i + 1))), (0, .ref (ad 0))]) hx hb dX1_refresh_60 hl (k := 0) rfl (nI_1 _) (by decide) rfl (fun ls hl => ?_)
          refine lv_goto (tgt := 7) hx hb dX1_refresh_63 (by decide) ?_
          exact ih (i + 1) c0 li1 (by omega) (by omega) (by rw [hc, h3]) (lt_s h4 (fun hp => absurd hp hnp)) _ _ hP hD hS ls (lv_sub hl [0, 1] rfl)
        · skip
          have hc : hu_cnt (hu_P K as bs cs) (i + 1) = hu_cnt (hu_P K as bs cs) i + 1 := hu_cnt_y (hu_tf_ne w_23 c_26)
          refine lv_aload_n hx hb dX1_refresh_29 rfl (lv_at hl 1 rfl) ?_
          refine va_get (D := (dC, dI)) (ci := 1) (v := .ref (ad 4)) (C := RX1) (T := TX1) (N := 8) hx hb hts in_X1 hown hK hP 0 rfl rfl 4 (by decide) (hts _ q187) (fun _ h9 => h9) rfl dX1_refresh_30 ?_
          refine lv_aload_n hx hb dX1_refresh_33 rfl (lv_at hl 1 rfl) ?_
          refine va_get (D := (dC, dI)) (ci := 1) (v := .int (nI c0)) (C := RX1) (T := TX1) (N := 8) hx hb hts in_X1 hown hK hP 0 rfl rfl 5 (by decide) (hts _ q188) (fun _ h9 => h9) rfl dX1_refresh_34 ?_
          refine lv_iload_n hx hb dX1_refresh_37 rfl (lv_at hl 0 rfl) ?_
          refine lv_bipush (v := 41) hx hb dX1_refresh_38 (by decide) ?_
          refine lv_idiv hx hb dX1_refresh_40 (by decide) ?_
          refine hu_top (z := nI (i / 41)) (pk_div (d := 41) (by omega) (by omega) (by omega)) ?_
          refine lv_bipush (v := 64) hx hb dX1_refresh_41 (by decide) ?_
          refine lv_iload_n hx hb dX1_refresh_43 rfl (lv_at hl 0 rfl) ?_
          refine lv_bipush (v := 41) hx hb dX1_refresh_44 (by decide) ?_
          refine lv_irem hx hb dX1_refresh_46 (by decide) ?_
          refine hu_top (z := nI (i % 41)) (pk_rem (d := 41) (by omega) (by omega) (by omega)) ?_
          refine lv_imul hx hb dX1_refresh_47 ?_
          refine lv_iadd hx hb dX1_refresh_48 ?_
          refine hu_top (z := nI (i / 41 + 64 * (i % 41))) (hu_64 _ _) ?_
          refine hu_ast hx hb hK hP hD hS 4 0 rfl rfl c0 rfl (by omega) (by decide) dX1_refresh_49 (fun H locs hP hD hS => ?_)
          have hP : va_P (dC, dI) hu_Cl (hu_wM d ad (as, bs, cs, nI K, upd li1 c0 (nI (i / 41 + 64 * (i % 41))), nI c0, hu, hs)) H := hP
          have hD : va_D A (hu_wM d ad (as, bs, cs, nI K, upd li1 c0 (nI (i / 41 + 64 * (i % 41))), nI c0, hu, hs)) := hD
          refine lv_aload_n hx hb dX1_refresh_50 rfl (lv_at hl 1 rfl) ?_
          refine lv_dup hx hb dX1_refresh_51 rfl ?_
          refine va_get (D := (dC, dI)) (ci := 1) (v := .int (nI c0)) (C := RX1) (T := TX1) (N := 8) hx hb hts in_X1 hown hK hP 0 rfl rfl 5 (by decide) (hts _ q188) (fun _ h9 => h9) rfl dX1_refresh_52 ?_
          refine lv_iconst (v := 1) hx hb dX1_refresh_55 (by decide) ?_
          refine lv_iadd hx hb dX1_refresh_56 ?_
          refine hu_top (z := nI (c0 + 1)) (nI_1 c0) ?_
          refine va_put (D := (dC, dI)) (ci := 1) (v := .int (nI (c0 + 1))) (ty := .int) (C := RX1) (T := TX1) (N := 8) hx hb hts in_X1 tyX1 tyX1_ok nmX1 hown hK hP hD hS 0 rfl rfl 5 (by decide) (hts _ q188) (fun _ h9 => h9) rfl (by decide +kernel) rfl rfl (Nat.le_of_ble_eq_true rfl) dX1_refresh_57 (fun H locs hP hD hS => ?_)
          have hP : va_P (dC, dI) hu_Cl (hu_wM d ad (as, bs, cs, nI K, upd li1 c0 (nI (i / 41 + 64 * (i % 41))), nI (c0 + 1), hu, hs)) H := hP
          have hD : va_D A (hu_wM d ad (as, bs, cs, nI K, upd li1 c0 (nI (i / 41 + 64 * (i % 41))), nI (c0 + 1), hu, hs)) := hD
          refine lv_iinc (v := nI (i + 1)) (lv' := [(1, .int (nI (i + 1))), (0, .ref (ad 0))]) hx hb dX1_refresh_60 hl (k := 0) rfl (nI_1 _) (by decide) rfl (fun ls hl => ?_)
          refine lv_goto (tgt := 7) hx hb dX1_refresh_63 (by decide) ?_
          exact ih (i + 1) (c0 + 1) _ (by omega) (by omega) (by rw [hc, h3]) (lt_s (fun j hj hp => (pk_un (by have := hu_cnt_lt hp hj; omega)).trans (h4 j hj hp)) (fun _ => by rw [← h3]; exact pk_us)) _ _ hP hD hS ls (lv_sub hl [0, 1] rfl)
  refine lv_aload_n hx hb dX1_refresh_0 rfl (lv_at hl 0 rfl) ?_
  refine lv_iconst (v := 0) hx hb dX1_refresh_1 (by decide) ?_
  refine va_put (D := (dC, dI)) (ci := 1) (v := .int 0) (ty := .int) (C := RX1) (T := TX1) (N := 8) hx hb hts in_X1 tyX1 tyX1_ok nmX1 hown hK hP hD hS 0 rfl rfl 5 (by decide) (hts _ q188) (fun _ h9 => h9) rfl (by decide +kernel) rfl rfl (Nat.le_of_ble_eq_true rfl) dX1_refresh_2 (fun H locs hP hD hS => ?_)
  have hP : va_P (dC, dI) hu_Cl (hu_wM d ad (as, bs, cs, nI K, li, 0, hu, hs)) H := hP
  have hD : va_D A (hu_wM d ad (as, bs, cs, nI K, li, 0, hu, hs)) := hD
  refine lv_iconst (v := 0) hx hb dX1_refresh_5 (by decide) ?_
  refine lv_istore_n (lv' := [(1, .int 0), (0, .ref (ad 0))]) hx hb dX1_refresh_6 rfl hl (by decide) rfl (fun ls hl => ?_)
  exact loop 1682 0 0 li (by omega) (by omega) rfl lt_0 _ _ hP hD hS ls (lv_sub hl [0, 1] rfl)
set_option maxHeartbeats 4000000 in
set_option maxRecDepth 100000 in
/-- condition -/
theorem mX1_condition (l : Launch) (dC : Nat → ClassId) (dI : Nat → Nat → Nat) (d : ClassId) (ad : Nat → Nat) (sz : Nat) (as : Nat → Int32) (bs : Nat → Int32) (cs : Nat → Int32) (li : Nat → Int32) (ld : Int32) (hu : Nat → Int32) (hs : Int32) (K : Nat) (hk8 : K ≤ 8) (hok : hu_OK K as bs cs) (va vb vc : Int32) : hu_CI l dC dI d (hu_wM d ad) (as, bs, cs, nI K, li, ld, hu, hs) sz yX1_condition cX1_condition 5 (some .int) ({ frames := 5, cells := 0, slots := 0, locals := 113 }) [.ref (ad 0), .int va, .int vb, .int vc] (fun r u => (hu_bad va vb vc ∧ r = -1 ∧ u = (as, bs, cs, nI K, li, ld, hu, hs)) ∨ (¬ hu_bad va vb vc ∧ K = 8 ∧ r = -2 ∧ u = (as, bs, cs, nI K, li, ld, hu, hs)) ∨ (¬ hu_bad va vb vc ∧ K < 8 ∧ r = nI (K + 1) ∧ ∃ (li' : Nat → Int32) (L : Nat) (hu' : Nat → Int32) (h : Nat), u = (upd as K va, upd bs K vb, upd cs K vc, nI (K + 1), li', nI L, hu', nI h) ∧ hu_Ls (K + 1) (upd as K va) (upd bs K vb) (upd cs K vc) li' L ∧ hu_Wk li' L hu' h)) := by
  refine hu_metC_i (by decide) (Nat.le_of_ble_eq_true rfl) sz ?_
  intro p e s m below meth c ls A C0 hP hK hD hS hA hl
  obtain ⟨hx, hb, hr, hml, hown, hts, hlocks⟩ := C0
  have hl : lv_has ls 5 [(0, .ref (ad 0)), (1, .int va), (2, .int vb), (3, .int vc)] := hl
  refine lv_iload_n hx hb dX1_condition_0 rfl (lv_at hl 1 rfl) ?_
  refine lv_bipush (v := (-9)) hx hb dX1_condition_1 (by decide) ?_
  refine lv_icmp_lt (tgt := 42) hx hb dX1_condition_3 (by decide) (fun c_3 => ?_) (fun c_3 => ?_)
  · skip
    refine lv_iconst (v := 0) hx hb dX1_condition_42 (by decide) ?_
    refine lv_istore (lv' := [(4, .int 0), (0, .ref (ad 0)), (1, .int va), (2, .int vb), (3, .int vc)]) hx hb dX1_condition_43 hl (by decide) rfl (fun ls hl => ?_)
    refine lv_iload hx hb dX1_condition_45 (lv_at hl 0 rfl) ?_
    refine lv_if_eq (tgt := 58) hx hb dX1_condition_47 (by decide) (fun c_47 => ?_) (fun c_47 => ?_)
    · skip
      refine lv_iconst (v := (-1)) hx hb dX1_condition_58 (by decide) ?_
      exact hu_retCI (as, bs, cs, nI K, li, ld, hu, hs) hx hb hr hlocks hK hP hD hS (Or.inl ⟨(by first | exact Or.inl c_3 | exact Or.inr (Or.inl c_9) | exact Or.inr (Or.inr (Or.inl c_15)) | exact Or.inr (Or.inr (Or.inr (Or.inl c_21))) | exact Or.inr (Or.inr (Or.inr (Or.inr (Or.inr (Or.inl c_28))))) | exact Or.inr (Or.inr (Or.inr (Or.inr (Or.inr (Or.inr c_35))))) | exact Or.inr (Or.inr (Or.inr (Or.inr (Or.inl ⟨c_51, c_55⟩))))), rfl, rfl⟩) dX1_condition_59
    · skip
      exact absurd rfl c_47
  · skip
    refine lv_iload_n hx hb dX1_condition_6 rfl (lv_at hl 1 rfl) ?_
    refine lv_bipush (v := 9) hx hb dX1_condition_7 (by decide) ?_
    refine lv_icmp_gt (tgt := 42) hx hb dX1_condition_9 (by decide) (fun c_9 => ?_) (fun c_9 => ?_)
    · skip
      refine lv_iconst (v := 0) hx hb dX1_condition_42 (by decide) ?_
      refine lv_istore (lv' := [(4, .int 0), (0, .ref (ad 0)), (1, .int va), (2, .int vb), (3, .int vc)]) hx hb dX1_condition_43 hl (by decide) rfl (fun ls hl => ?_)
      refine lv_iload hx hb dX1_condition_45 (lv_at hl 0 rfl) ?_
      refine lv_if_eq (tgt := 58) hx hb dX1_condition_47 (by decide) (fun c_47 => ?_) (fun c_47 => ?_)
      · skip
        refine lv_iconst (v := (-1)) hx hb dX1_condition_58 (by decide) ?_
        exact hu_retCI (as, bs, cs, nI K, li, ld, hu, hs) hx hb hr hlocks hK hP hD hS (Or.inl ⟨(by first | exact Or.inl c_3 | exact Or.inr (Or.inl c_9) | exact Or.inr (Or.inr (Or.inl c_15)) | exact Or.inr (Or.inr (Or.inr (Or.inl c_21))) | exact Or.inr (Or.inr (Or.inr (Or.inr (Or.inr (Or.inl c_28))))) | exact Or.inr (Or.inr (Or.inr (Or.inr (Or.inr (Or.inr c_35))))) | exact Or.inr (Or.inr (Or.inr (Or.inr (Or.inl ⟨c_51, c_55⟩))))), rfl, rfl⟩) dX1_condition_59
      · skip
        exact absurd rfl c_47
    · skip
      refine lv_iload_n hx hb dX1_condition_12 rfl (lv_at hl 2 rfl) ?_
      refine lv_bipush (v := (-9)) hx hb dX1_condition_13 (by decide) ?_
      refine lv_icmp_lt (tgt := 42) hx hb dX1_condition_15 (by decide) (fun c_15 => ?_) (fun c_15 => ?_)
      · skip
        refine lv_iconst (v := 0) hx hb dX1_condition_42 (by decide) ?_
        refine lv_istore (lv' := [(4, .int 0), (0, .ref (ad 0)), (1, .int va), (2, .int vb), (3, .int vc)]) hx hb dX1_condition_43 hl (by decide) rfl (fun ls hl => ?_)
        refine lv_iload hx hb dX1_condition_45 (lv_at hl 0 rfl) ?_
        refine lv_if_eq (tgt := 58) hx hb dX1_condition_47 (by decide) (fun c_47 => ?_) (fun c_47 => ?_)
        · skip
          refine lv_iconst (v := (-1)) hx hb dX1_condition_58 (by decide) ?_
          exact hu_retCI (as, bs, cs, nI K, li, ld, hu, hs) hx hb hr hlocks hK hP hD hS (Or.inl ⟨(by first | exact Or.inl c_3 | exact Or.inr (Or.inl c_9) | exact Or.inr (Or.inr (Or.inl c_15)) | exact Or.inr (Or.inr (Or.inr (Or.inl c_21))) | exact Or.inr (Or.inr (Or.inr (Or.inr (Or.inr (Or.inl c_28))))) | exact Or.inr (Or.inr (Or.inr (Or.inr (Or.inr (Or.inr c_35))))) | exact Or.inr (Or.inr (Or.inr (Or.inr (Or.inl ⟨c_51, c_55⟩))))), rfl, rfl⟩) dX1_condition_59
        · skip
          exact absurd rfl c_47
      · skip
        refine lv_iload_n hx hb dX1_condition_18 rfl (lv_at hl 2 rfl) ?_
        refine lv_bipush (v := 9) hx hb dX1_condition_19 (by decide) ?_
        refine lv_icmp_gt (tgt := 42) hx hb dX1_condition_21 (by decide) (fun c_21 => ?_) (fun c_21 => ?_)
        · skip
          refine lv_iconst (v := 0) hx hb dX1_condition_42 (by decide) ?_
          refine lv_istore (lv' := [(4, .int 0), (0, .ref (ad 0)), (1, .int va), (2, .int vb), (3, .int vc)]) hx hb dX1_condition_43 hl (by decide) rfl (fun ls hl => ?_)
          refine lv_iload hx hb dX1_condition_45 (lv_at hl 0 rfl) ?_
          refine lv_if_eq (tgt := 58) hx hb dX1_condition_47 (by decide) (fun c_47 => ?_) (fun c_47 => ?_)
          · skip
            refine lv_iconst (v := (-1)) hx hb dX1_condition_58 (by decide) ?_
            exact hu_retCI (as, bs, cs, nI K, li, ld, hu, hs) hx hb hr hlocks hK hP hD hS (Or.inl ⟨(by first | exact Or.inl c_3 | exact Or.inr (Or.inl c_9) | exact Or.inr (Or.inr (Or.inl c_15)) | exact Or.inr (Or.inr (Or.inr (Or.inl c_21))) | exact Or.inr (Or.inr (Or.inr (Or.inr (Or.inr (Or.inl c_28))))) | exact Or.inr (Or.inr (Or.inr (Or.inr (Or.inr (Or.inr c_35))))) | exact Or.inr (Or.inr (Or.inr (Or.inr (Or.inl ⟨c_51, c_55⟩))))), rfl, rfl⟩) dX1_condition_59
          · skip
            exact absurd rfl c_47
        · skip
          refine lv_iload_n hx hb dX1_condition_24 rfl (lv_at hl 3 rfl) ?_
          refine lv_sipush (v := (-1000)) hx hb dX1_condition_25 (by decide) ?_
          refine lv_icmp_lt (tgt := 42) hx hb dX1_condition_28 (by decide) (fun c_28 => ?_) (fun c_28 => ?_)
          · skip
            refine lv_iconst (v := 0) hx hb dX1_condition_42 (by decide) ?_
            refine lv_istore (lv' := [(4, .int 0), (0, .ref (ad 0)), (1, .int va), (2, .int vb), (3, .int vc)]) hx hb dX1_condition_43 hl (by decide) rfl (fun ls hl => ?_)
            refine lv_iload hx hb dX1_condition_45 (lv_at hl 0 rfl) ?_
            refine lv_if_eq (tgt := 58) hx hb dX1_condition_47 (by decide) (fun c_47 => ?_) (fun c_47 => ?_)
            · skip
              refine lv_iconst (v := (-1)) hx hb dX1_condition_58 (by decide) ?_
              exact hu_retCI (as, bs, cs, nI K, li, ld, hu, hs) hx hb hr hlocks hK hP hD hS (Or.inl ⟨(by first | exact Or.inl c_3 | exact Or.inr (Or.inl c_9) | exact Or.inr (Or.inr (Or.inl c_15)) | exact Or.inr (Or.inr (Or.inr (Or.inl c_21))) | exact Or.inr (Or.inr (Or.inr (Or.inr (Or.inr (Or.inl c_28))))) | exact Or.inr (Or.inr (Or.inr (Or.inr (Or.inr (Or.inr c_35))))) | exact Or.inr (Or.inr (Or.inr (Or.inr (Or.inl ⟨c_51, c_55⟩))))), rfl, rfl⟩) dX1_condition_59
            · skip
              exact absurd rfl c_47
          · skip
            refine lv_iload_n hx hb dX1_condition_31 rfl (lv_at hl 3 rfl) ?_
            refine lv_sipush (v := 1000) hx hb dX1_condition_32 (by decide) ?_
            refine lv_icmp_gt (tgt := 42) hx hb dX1_condition_35 (by decide) (fun c_35 => ?_) (fun c_35 => ?_)
            · skip
              refine lv_iconst (v := 0) hx hb dX1_condition_42 (by decide) ?_
              refine lv_istore (lv' := [(4, .int 0), (0, .ref (ad 0)), (1, .int va), (2, .int vb), (3, .int vc)]) hx hb dX1_condition_43 hl (by decide) rfl (fun ls hl => ?_)
              refine lv_iload hx hb dX1_condition_45 (lv_at hl 0 rfl) ?_
              refine lv_if_eq (tgt := 58) hx hb dX1_condition_47 (by decide) (fun c_47 => ?_) (fun c_47 => ?_)
              · skip
                refine lv_iconst (v := (-1)) hx hb dX1_condition_58 (by decide) ?_
                exact hu_retCI (as, bs, cs, nI K, li, ld, hu, hs) hx hb hr hlocks hK hP hD hS (Or.inl ⟨(by first | exact Or.inl c_3 | exact Or.inr (Or.inl c_9) | exact Or.inr (Or.inr (Or.inl c_15)) | exact Or.inr (Or.inr (Or.inr (Or.inl c_21))) | exact Or.inr (Or.inr (Or.inr (Or.inr (Or.inr (Or.inl c_28))))) | exact Or.inr (Or.inr (Or.inr (Or.inr (Or.inr (Or.inr c_35))))) | exact Or.inr (Or.inr (Or.inr (Or.inr (Or.inl ⟨c_51, c_55⟩))))), rfl, rfl⟩) dX1_condition_59
              · skip
                exact absurd rfl c_47
            · skip
              refine lv_iconst (v := 1) hx hb dX1_condition_38 (by decide) ?_
              refine lv_goto (tgt := 43) hx hb dX1_condition_39 (by decide) ?_
              refine lv_istore (lv' := [(4, .int 1), (0, .ref (ad 0)), (1, .int va), (2, .int vb), (3, .int vc)]) hx hb dX1_condition_43 hl (by decide) rfl (fun ls hl => ?_)
              refine lv_iload hx hb dX1_condition_45 (lv_at hl 0 rfl) ?_
              refine lv_if_eq (tgt := 58) hx hb dX1_condition_47 (by decide) (fun c_47 => ?_) (fun c_47 => ?_)
              · skip
                exact absurd c_47 (by decide)
              · skip
                refine lv_iload_n hx hb dX1_condition_50 rfl (lv_at hl 2 rfl) ?_
                refine lv_if_ne (tgt := 60) hx hb dX1_condition_51 (by decide) (fun c_51 => ?_) (fun c_51 => ?_)
                · skip
                  have hnb : ¬ hu_bad va vb vc := by
                    rintro (q | q | q | q | q | q | q)
                    · exact c_3 q
                    · exact c_9 q
                    · exact c_15 q
                    · exact c_21 q
                    · first | exact c_51 q.1 | exact c_55 q.2
                    · exact c_28 q
                    · exact c_35 q
                  refine lv_aload_n hx hb dX1_condition_60 rfl (lv_at hl 1 rfl) ?_
                  refine va_get (D := (dC, dI)) (ci := 1) (v := .int (nI K)) (C := RX1) (T := TX1) (N := 8) hx hb hts in_X1 hown hK hP 0 rfl rfl 3 (by decide) (hts _ q186) (fun _ h9 => h9) rfl dX1_condition_61 ?_
                  refine lv_bipush (v := 8) hx hb dX1_condition_64 (by decide) ?_
                  refine lv_icmp_ne (tgt := 72) hx hb dX1_condition_66 (by decide) (fun c_66 => ?_) (fun c_66 => ?_)
                  · skip
                    have hi_66 : K < 8 := by have : K ≠ 8 := (fun q => c_66 (by rw [q]; rfl)); omega
                    refine lv_aload_n hx hb dX1_condition_72 rfl (lv_at hl 1 rfl) ?_
                    refine va_get (D := (dC, dI)) (ci := 1) (v := .ref (ad 1)) (C := RX1) (T := TX1) (N := 8) hx hb hts in_X1 hown hK hP 0 rfl rfl 0 (by decide) (hts _ q183) (fun _ h9 => h9) rfl dX1_condition_73 ?_
                    refine lv_aload_n hx hb dX1_condition_76 rfl (lv_at hl 1 rfl) ?_
                    refine va_get (D := (dC, dI)) (ci := 1) (v := .int (nI K)) (C := RX1) (T := TX1) (N := 8) hx hb hts in_X1 hown hK hP 0 rfl rfl 3 (by decide) (hts _ q186) (fun _ h9 => h9) rfl dX1_condition_77 ?_
                    refine lv_iload_n hx hb dX1_condition_80 rfl (lv_at hl 2 rfl) ?_
                    refine hu_ast hx hb hK hP hD hS 1 0 rfl rfl K rfl (by omega) (by decide) dX1_condition_81 (fun H locs hP hD hS => ?_)
                    have hP : va_P (dC, dI) hu_Cl (hu_wM d ad (upd as K va, bs, cs, nI K, li, ld, hu, hs)) H := hP
                    have hD : va_D A (hu_wM d ad (upd as K va, bs, cs, nI K, li, ld, hu, hs)) := hD
                    refine lv_aload_n hx hb dX1_condition_82 rfl (lv_at hl 1 rfl) ?_
                    refine va_get (D := (dC, dI)) (ci := 1) (v := .ref (ad 2)) (C := RX1) (T := TX1) (N := 8) hx hb hts in_X1 hown hK hP 0 rfl rfl 1 (by decide) (hts _ q184) (fun _ h9 => h9) rfl dX1_condition_83 ?_
                    refine lv_aload_n hx hb dX1_condition_86 rfl (lv_at hl 1 rfl) ?_
                    refine va_get (D := (dC, dI)) (ci := 1) (v := .int (nI K)) (C := RX1) (T := TX1) (N := 8) hx hb hts in_X1 hown hK hP 0 rfl rfl 3 (by decide) (hts _ q186) (fun _ h9 => h9) rfl dX1_condition_87 ?_
                    refine lv_iload_n hx hb dX1_condition_90 rfl (lv_at hl 3 rfl) ?_
                    refine hu_ast hx hb hK hP hD hS 2 0 rfl rfl K rfl (by omega) (by decide) dX1_condition_91 (fun H locs hP hD hS => ?_)
                    have hP : va_P (dC, dI) hu_Cl (hu_wM d ad (upd as K va, upd bs K vb, cs, nI K, li, ld, hu, hs)) H := hP
                    have hD : va_D A (hu_wM d ad (upd as K va, upd bs K vb, cs, nI K, li, ld, hu, hs)) := hD
                    refine lv_aload_n hx hb dX1_condition_92 rfl (lv_at hl 1 rfl) ?_
                    refine va_get (D := (dC, dI)) (ci := 1) (v := .ref (ad 3)) (C := RX1) (T := TX1) (N := 8) hx hb hts in_X1 hown hK hP 0 rfl rfl 2 (by decide) (hts _ q185) (fun _ h9 => h9) rfl dX1_condition_93 ?_
                    refine lv_aload_n hx hb dX1_condition_96 rfl (lv_at hl 1 rfl) ?_
                    refine va_get (D := (dC, dI)) (ci := 1) (v := .int (nI K)) (C := RX1) (T := TX1) (N := 8) hx hb hts in_X1 hown hK hP 0 rfl rfl 3 (by decide) (hts _ q186) (fun _ h9 => h9) rfl dX1_condition_97 ?_
                    refine lv_iload_n hx hb dX1_condition_100 rfl (lv_at hl 4 rfl) ?_
                    refine hu_ast hx hb hK hP hD hS 3 0 rfl rfl K rfl (by omega) (by decide) dX1_condition_101 (fun H locs hP hD hS => ?_)
                    have hP : va_P (dC, dI) hu_Cl (hu_wM d ad (upd as K va, upd bs K vb, upd cs K vc, nI K, li, ld, hu, hs)) H := hP
                    have hD : va_D A (hu_wM d ad (upd as K va, upd bs K vb, upd cs K vc, nI K, li, ld, hu, hs)) := hD
                    refine lv_aload_n hx hb dX1_condition_102 rfl (lv_at hl 1 rfl) ?_
                    refine lv_dup hx hb dX1_condition_103 rfl ?_
                    refine va_get (D := (dC, dI)) (ci := 1) (v := .int (nI K)) (C := RX1) (T := TX1) (N := 8) hx hb hts in_X1 hown hK hP 0 rfl rfl 3 (by decide) (hts _ q186) (fun _ h9 => h9) rfl dX1_condition_104 ?_
                    refine lv_iconst (v := 1) hx hb dX1_condition_107 (by decide) ?_
                    refine lv_iadd hx hb dX1_condition_108 ?_
                    refine hu_top (z := nI (K + 1)) (nI_1 K) ?_
                    refine va_put (D := (dC, dI)) (ci := 1) (v := .int (nI (K + 1))) (ty := .int) (C := RX1) (T := TX1) (N := 8) hx hb hts in_X1 tyX1 tyX1_ok nmX1 hown hK hP hD hS 0 rfl rfl 3 (by decide) (hts _ q186) (fun _ h9 => h9) rfl (by decide +kernel) rfl rfl (Nat.le_of_ble_eq_true rfl) dX1_condition_109 (fun H locs hP hD hS => ?_)
                    have hP : va_P (dC, dI) hu_Cl (hu_wM d ad (upd as K va, upd bs K vb, upd cs K vc, nI (K + 1), li, ld, hu, hs)) H := hP
                    have hD : va_D A (hu_wM d ad (upd as K va, upd bs K vb, upd cs K vc, nI (K + 1), li, ld, hu, hs)) := hD
                    refine lv_aload_n hx hb dX1_condition_112 rfl (lv_at hl 1 rfl) ?_
                    refine hu_callCV 0 (As := []) (rest := []) (wf := hu_wM d ad) (wr := []) ⟨hx, hb, hml, hown, hts⟩ (mX1_refresh l dC dI d ad _ (upd as K va) (upd bs K vb) (upd cs K vc) li ld hu hs (K + 1) (by omega) (hu_OK_add hok hnb)) (lw_V q151 q153 qs6 q18 q154) (by decide +kernel) rfl ⟨Nat.le_of_ble_eq_true rfl, Nat.le_of_ble_eq_true rfl⟩ ⟨rfl, rfl⟩ hK hP hD hS hA [0, 1, 2, 3, 4, 5] [] rfl rfl ⟨rfl, rfl⟩ (by decide) rfl (va_recv hK hP (ci := 1) (q0 := 0) rfl rfl) hl.1 rfl (Nat.le_of_ble_eq_true rfl) ⟨Nat.zero_le _, Nat.zero_le _⟩ dX1_condition_113 (fun u_113 H locs w_113 hP hD hS => ?_)
                    obtain ⟨li2, L2, hu2, h2, rfl, hls, hwk⟩ := w_113
                    have hP : va_P (dC, dI) hu_Cl (hu_wM d ad (upd as K va, upd bs K vb, upd cs K vc, nI (K + 1), li2, nI L2, hu2, nI h2)) H := hP
                    have hD : va_D A (hu_wM d ad (upd as K va, upd bs K vb, upd cs K vc, nI (K + 1), li2, nI L2, hu2, nI h2)) := hD
                    refine lv_aload_n hx hb dX1_condition_116 rfl (lv_at hl 1 rfl) ?_
                    refine va_get (D := (dC, dI)) (ci := 1) (v := .int (nI (K + 1))) (C := RX1) (T := TX1) (N := 8) hx hb hts in_X1 hown hK hP 0 rfl rfl 3 (by decide) (hts _ q186) (fun _ h9 => h9) rfl dX1_condition_117 ?_
                    exact hu_retCI (upd as K va, upd bs K vb, upd cs K vc, nI (K + 1), li2, nI L2, hu2, nI h2) hx hb hr hlocks hK hP hD hS (Or.inr (Or.inr ⟨hnb, hi_66, rfl, ⟨li2, L2, hu2, h2, rfl, hls, hwk⟩⟩)) dX1_condition_120
                  · skip
                    have hi_66 : K = 8 := (nI_eq (b := 8) (by omega) (by omega)).mp c_66
                    refine lv_bipush (v := (-2)) hx hb dX1_condition_69 (by decide) ?_
                    exact hu_retCI (as, bs, cs, nI K, li, ld, hu, hs) hx hb hr hlocks hK hP hD hS (Or.inr (Or.inl ⟨hnb, hi_66, rfl, rfl⟩)) dX1_condition_71
                · skip
                  refine lv_iload_n hx hb dX1_condition_54 rfl (lv_at hl 3 rfl) ?_
                  refine lv_if_ne (tgt := 60) hx hb dX1_condition_55 (by decide) (fun c_55 => ?_) (fun c_55 => ?_)
                  · skip
                    have hnb : ¬ hu_bad va vb vc := by
                      rintro (q | q | q | q | q | q | q)
                      · exact c_3 q
                      · exact c_9 q
                      · exact c_15 q
                      · exact c_21 q
                      · first | exact c_51 q.1 | exact c_55 q.2
                      · exact c_28 q
                      · exact c_35 q
                    refine lv_aload_n hx hb dX1_condition_60 rfl (lv_at hl 1 rfl) ?_
                    refine va_get (D := (dC, dI)) (ci := 1) (v := .int (nI K)) (C := RX1) (T := TX1) (N := 8) hx hb hts in_X1 hown hK hP 0 rfl rfl 3 (by decide) (hts _ q186) (fun _ h9 => h9) rfl dX1_condition_61 ?_
                    refine lv_bipush (v := 8) hx hb dX1_condition_64 (by decide) ?_
                    refine lv_icmp_ne (tgt := 72) hx hb dX1_condition_66 (by decide) (fun c_66 => ?_) (fun c_66 => ?_)
                    · skip
                      have hi_66 : K < 8 := by have : K ≠ 8 := (fun q => c_66 (by rw [q]; rfl)); omega
                      refine lv_aload_n hx hb dX1_condition_72 rfl (lv_at hl 1 rfl) ?_
                      refine va_get (D := (dC, dI)) (ci := 1) (v := .ref (ad 1)) (C := RX1) (T := TX1) (N := 8) hx hb hts in_X1 hown hK hP 0 rfl rfl 0 (by decide) (hts _ q183) (fun _ h9 => h9) rfl dX1_condition_73 ?_
                      refine lv_aload_n hx hb dX1_condition_76 rfl (lv_at hl 1 rfl) ?_
                      refine va_get (D := (dC, dI)) (ci := 1) (v := .int (nI K)) (C := RX1) (T := TX1) (N := 8) hx hb hts in_X1 hown hK hP 0 rfl rfl 3 (by decide) (hts _ q186) (fun _ h9 => h9) rfl dX1_condition_77 ?_
                      refine lv_iload_n hx hb dX1_condition_80 rfl (lv_at hl 2 rfl) ?_
                      refine hu_ast hx hb hK hP hD hS 1 0 rfl rfl K rfl (by omega) (by decide) dX1_condition_81 (fun H locs hP hD hS => ?_)
                      have hP : va_P (dC, dI) hu_Cl (hu_wM d ad (upd as K va, bs, cs, nI K, li, ld, hu, hs)) H := hP
                      have hD : va_D A (hu_wM d ad (upd as K va, bs, cs, nI K, li, ld, hu, hs)) := hD
                      refine lv_aload_n hx hb dX1_condition_82 rfl (lv_at hl 1 rfl) ?_
                      refine va_get (D := (dC, dI)) (ci := 1) (v := .ref (ad 2)) (C := RX1) (T := TX1) (N := 8) hx hb hts in_X1 hown hK hP 0 rfl rfl 1 (by decide) (hts _ q184) (fun _ h9 => h9) rfl dX1_condition_83 ?_
                      refine lv_aload_n hx hb dX1_condition_86 rfl (lv_at hl 1 rfl) ?_
                      refine va_get (D := (dC, dI)) (ci := 1) (v := .int (nI K)) (C := RX1) (T := TX1) (N := 8) hx hb hts in_X1 hown hK hP 0 rfl rfl 3 (by decide) (hts _ q186) (fun _ h9 => h9) rfl dX1_condition_87 ?_
                      refine lv_iload_n hx hb dX1_condition_90 rfl (lv_at hl 3 rfl) ?_
                      refine hu_ast hx hb hK hP hD hS 2 0 rfl rfl K rfl (by omega) (by decide) dX1_condition_91 (fun H locs hP hD hS => ?_)
                      have hP : va_P (dC, dI) hu_Cl (hu_wM d ad (upd as K va, upd bs K vb, cs, nI K, li, ld, hu, hs)) H := hP
                      have hD : va_D A (hu_wM d ad (upd as K va, upd bs K vb, cs, nI K, li, ld, hu, hs)) := hD
                      refine lv_aload_n hx hb dX1_condition_92 rfl (lv_at hl 1 rfl) ?_
                      refine va_get (D := (dC, dI)) (ci := 1) (v := .ref (ad 3)) (C := RX1) (T := TX1) (N := 8) hx hb hts in_X1 hown hK hP 0 rfl rfl 2 (by decide) (hts _ q185) (fun _ h9 => h9) rfl dX1_condition_93 ?_
                      refine lv_aload_n hx hb dX1_condition_96 rfl (lv_at hl 1 rfl) ?_
                      refine va_get (D := (dC, dI)) (ci := 1) (v := .int (nI K)) (C := RX1) (T := TX1) (N := 8) hx hb hts in_X1 hown hK hP 0 rfl rfl 3 (by decide) (hts _ q186) (fun _ h9 => h9) rfl dX1_condition_97 ?_
                      refine lv_iload_n hx hb dX1_condition_100 rfl (lv_at hl 4 rfl) ?_
                      refine hu_ast hx hb hK hP hD hS 3 0 rfl rfl K rfl (by omega) (by decide) dX1_condition_101 (fun H locs hP hD hS => ?_)
                      have hP : va_P (dC, dI) hu_Cl (hu_wM d ad (upd as K va, upd bs K vb, upd cs K vc, nI K, li, ld, hu, hs)) H := hP
                      have hD : va_D A (hu_wM d ad (upd as K va, upd bs K vb, upd cs K vc, nI K, li, ld, hu, hs)) := hD
                      refine lv_aload_n hx hb dX1_condition_102 rfl (lv_at hl 1 rfl) ?_
                      refine lv_dup hx hb dX1_condition_103 rfl ?_
                      refine va_get (D := (dC, dI)) (ci := 1) (v := .int (nI K)) (C := RX1) (T := TX1) (N := 8) hx hb hts in_X1 hown hK hP 0 rfl rfl 3 (by decide) (hts _ q186) (fun _ h9 => h9) rfl dX1_condition_104 ?_
                      refine lv_iconst (v := 1) hx hb dX1_condition_107 (by decide) ?_
                      refine lv_iadd hx hb dX1_condition_108 ?_
                      refine hu_top (z := nI (K + 1)) (nI_1 K) ?_
                      refine va_put (D := (dC, dI)) (ci := 1) (v := .int (nI (K + 1))) (ty := .int) (C := RX1) (T := TX1) (N := 8) hx hb hts in_X1 tyX1 tyX1_ok nmX1 hown hK hP hD hS 0 rfl rfl 3 (by decide) (hts _ q186) (fun _ h9 => h9) rfl (by decide +kernel) rfl rfl (Nat.le_of_ble_eq_true rfl) dX1_condition_109 (fun H locs hP hD hS => ?_)
                      have hP : va_P (dC, dI) hu_Cl (hu_wM d ad (upd as K va, upd bs K vb, upd cs K vc, nI (K + 1), li, ld, hu, hs)) H := hP
                      have hD : va_D A (hu_wM d ad (upd as K va, upd bs K vb, upd cs K vc, nI (K + 1), li, ld, hu, hs)) := hD
                      refine lv_aload_n hx hb dX1_condition_112 rfl (lv_at hl 1 rfl) ?_
                      refine hu_callCV 0 (As := []) (rest := []) (wf := hu_wM d ad) (wr := []) ⟨hx, hb, hml, hown, hts⟩ (mX1_refresh l dC dI d ad _ (upd as K va) (upd bs K vb) (upd cs K vc) li ld hu hs (K + 1) (by omega) (hu_OK_add hok hnb)) (lw_V q151 q153 qs6 q18 q154) (by decide +kernel) rfl ⟨Nat.le_of_ble_eq_true rfl, Nat.le_of_ble_eq_true rfl⟩ ⟨rfl, rfl⟩ hK hP hD hS hA [0, 1, 2, 3, 4, 5] [] rfl rfl ⟨rfl, rfl⟩ (by decide) rfl (va_recv hK hP (ci := 1) (q0 := 0) rfl rfl) hl.1 rfl (Nat.le_of_ble_eq_true rfl) ⟨Nat.zero_le _, Nat.zero_le _⟩ dX1_condition_113 (fun u_113 H locs w_113 hP hD hS => ?_)
                      obtain ⟨li2, L2, hu2, h2, rfl, hls, hwk⟩ := w_113
                      have hP : va_P (dC, dI) hu_Cl (hu_wM d ad (upd as K va, upd bs K vb, upd cs K vc, nI (K + 1), li2, nI L2, hu2, nI h2)) H := hP
                      have hD : va_D A (hu_wM d ad (upd as K va, upd bs K vb, upd cs K vc, nI (K + 1), li2, nI L2, hu2, nI h2)) := hD
                      refine lv_aload_n hx hb dX1_condition_116 rfl (lv_at hl 1 rfl) ?_
                      refine va_get (D := (dC, dI)) (ci := 1) (v := .int (nI (K + 1))) (C := RX1) (T := TX1) (N := 8) hx hb hts in_X1 hown hK hP 0 rfl rfl 3 (by decide) (hts _ q186) (fun _ h9 => h9) rfl dX1_condition_117 ?_
                      exact hu_retCI (upd as K va, upd bs K vb, upd cs K vc, nI (K + 1), li2, nI L2, hu2, nI h2) hx hb hr hlocks hK hP hD hS (Or.inr (Or.inr ⟨hnb, hi_66, rfl, ⟨li2, L2, hu2, h2, rfl, hls, hwk⟩⟩)) dX1_condition_120
                    · skip
                      have hi_66 : K = 8 := (nI_eq (b := 8) (by omega) (by omega)).mp c_66
                      refine lv_bipush (v := (-2)) hx hb dX1_condition_69 (by decide) ?_
                      exact hu_retCI (as, bs, cs, nI K, li, ld, hu, hs) hx hb hr hlocks hK hP hD hS (Or.inr (Or.inl ⟨hnb, hi_66, rfl, rfl⟩)) dX1_condition_71
                  · skip
                    refine lv_iconst (v := (-1)) hx hb dX1_condition_58 (by decide) ?_
                    exact hu_retCI (as, bs, cs, nI K, li, ld, hu, hs) hx hb hr hlocks hK hP hD hS (Or.inl ⟨(by first | exact Or.inl c_3 | exact Or.inr (Or.inl c_9) | exact Or.inr (Or.inr (Or.inl c_15)) | exact Or.inr (Or.inr (Or.inr (Or.inl c_21))) | exact Or.inr (Or.inr (Or.inr (Or.inr (Or.inr (Or.inl c_28))))) | exact Or.inr (Or.inr (Or.inr (Or.inr (Or.inr (Or.inr c_35))))) | exact Or.inr (Or.inr (Or.inr (Or.inr (Or.inl ⟨c_51, c_55⟩))))), rfl, rfl⟩) dX1_condition_59
set_option maxHeartbeats 4000000 in
set_option maxRecDepth 100000 in
/-- drop -/
theorem mX1_drop (l : Launch) (dC : Nat → ClassId) (dI : Nat → Nat → Nat) (d : ClassId) (ad : Nat → Nat) (sz : Nat) (as : Nat → Int32) (bs : Nat → Int32) (cs : Nat → Int32) (li : Nat → Int32) (ld : Int32) (hu : Nat → Int32) (hs : Int32) (K : Nat) (hk8 : K ≤ 8) (hok : hu_OK K as bs cs) : hu_CI l dC dI d (hu_wM d ad) (as, bs, cs, nI K, li, ld, hu, hs) sz yX1_drop cX1_drop 1 (some .int) ({ frames := 5, cells := 0, slots := 0, locals := 113 }) [.ref (ad 0)] (fun r u => (K = 0 ∧ r = -3 ∧ u = (as, bs, cs, nI K, li, ld, hu, hs)) ∨ (0 < K ∧ r = nI (K - 1) ∧ ∃ (li' : Nat → Int32) (L : Nat) (hu' : Nat → Int32) (h : Nat), u = (as, bs, cs, nI (K - 1), li', nI L, hu', nI h) ∧ hu_Ls (K - 1) as bs cs li' L ∧ hu_Wk li' L hu' h)) := by
  refine hu_metC_i (by decide) (Nat.le_of_ble_eq_true rfl) sz ?_
  intro p e s m below meth c ls A C0 hP hK hD hS hA hl
  obtain ⟨hx, hb, hr, hml, hown, hts, hlocks⟩ := C0
  have hl : lv_has ls 1 [(0, .ref (ad 0))] := hl
  refine lv_aload_n hx hb dX1_drop_0 rfl (lv_at hl 0 rfl) ?_
  refine va_get (D := (dC, dI)) (ci := 1) (v := .int (nI K)) (C := RX1) (T := TX1) (N := 8) hx hb hts in_X1 hown hK hP 0 rfl rfl 3 (by decide) (hts _ q186) (fun _ h9 => h9) rfl dX1_drop_1 ?_
  refine lv_if_ne (tgt := 10) hx hb dX1_drop_4 (by decide) (fun c_4 => ?_) (fun c_4 => ?_)
  · skip
    have hK0 : 0 < K := Nat.pos_of_ne_zero (fun q => c_4 (by rw [q]; rfl))
    refine lv_aload_n hx hb dX1_drop_10 rfl (lv_at hl 0 rfl) ?_
    refine lv_dup hx hb dX1_drop_11 rfl ?_
    refine va_get (D := (dC, dI)) (ci := 1) (v := .int (nI K)) (C := RX1) (T := TX1) (N := 8) hx hb hts in_X1 hown hK hP 0 rfl rfl 3 (by decide) (hts _ q186) (fun _ h9 => h9) rfl dX1_drop_12 ?_
    refine lv_iconst (v := 1) hx hb dX1_drop_15 (by decide) ?_
    refine lv_isub hx hb dX1_drop_16 ?_
    refine hu_top (z := nI (K - 1)) (pk_sub (a := K) (b := 1) hK0) ?_
    refine va_put (D := (dC, dI)) (ci := 1) (v := .int (nI (K - 1))) (ty := .int) (C := RX1) (T := TX1) (N := 8) hx hb hts in_X1 tyX1 tyX1_ok nmX1 hown hK hP hD hS 0 rfl rfl 3 (by decide) (hts _ q186) (fun _ h9 => h9) rfl (by decide +kernel) rfl rfl (Nat.le_of_ble_eq_true rfl) dX1_drop_17 (fun H locs hP hD hS => ?_)
    have hP : va_P (dC, dI) hu_Cl (hu_wM d ad (as, bs, cs, nI (K - 1), li, ld, hu, hs)) H := hP
    have hD : va_D A (hu_wM d ad (as, bs, cs, nI (K - 1), li, ld, hu, hs)) := hD
    refine lv_aload_n hx hb dX1_drop_20 rfl (lv_at hl 0 rfl) ?_
    refine hu_callCV 0 (As := []) (rest := []) (wf := hu_wM d ad) (wr := []) ⟨hx, hb, hml, hown, hts⟩ (mX1_refresh l dC dI d ad _ as bs cs li ld hu hs (K - 1) (by omega) (hu_OK_less hok)) (lw_V q151 q153 qs6 q18 q154) (by decide +kernel) rfl ⟨Nat.le_of_ble_eq_true rfl, Nat.le_of_ble_eq_true rfl⟩ ⟨rfl, rfl⟩ hK hP hD hS hA [0, 1, 2, 3, 4, 5] [] rfl rfl ⟨rfl, rfl⟩ (by decide) rfl (va_recv hK hP (ci := 1) (q0 := 0) rfl rfl) hl.1 rfl (Nat.le_of_ble_eq_true rfl) ⟨Nat.zero_le _, Nat.zero_le _⟩ dX1_drop_21 (fun u_21 H locs w_21 hP hD hS => ?_)
    obtain ⟨li2, L2, hu2, h2, rfl, hls, hwk⟩ := w_21
    have hP : va_P (dC, dI) hu_Cl (hu_wM d ad (as, bs, cs, nI (K - 1), li2, nI L2, hu2, nI h2)) H := hP
    have hD : va_D A (hu_wM d ad (as, bs, cs, nI (K - 1), li2, nI L2, hu2, nI h2)) := hD
    refine lv_aload_n hx hb dX1_drop_24 rfl (lv_at hl 0 rfl) ?_
    refine va_get (D := (dC, dI)) (ci := 1) (v := .int (nI (K - 1))) (C := RX1) (T := TX1) (N := 8) hx hb hts in_X1 hown hK hP 0 rfl rfl 3 (by decide) (hts _ q186) (fun _ h9 => h9) rfl dX1_drop_25 ?_
    exact hu_retCI (as, bs, cs, nI (K - 1), li2, nI L2, hu2, nI h2) hx hb hr hlocks hK hP hD hS (Or.inr ⟨hK0, rfl, ⟨li2, L2, hu2, h2, rfl, hls, hwk⟩⟩) dX1_drop_28
  · skip
    have hK0 : K = 0 := (nI_eq (b := 0) (by omega) (by omega)).mp c_4
    refine lv_bipush (v := (-3)) hx hb dX1_drop_7 (by decide) ?_
    exact hu_retCI (as, bs, cs, nI K, li, ld, hu, hs) hx hb hr hlocks hK hP hD hS (Or.inl ⟨hK0, rfl, rfl⟩) dX1_drop_9
set_option maxHeartbeats 4000000 in
set_option maxRecDepth 100000 in
/-- shift -/
theorem mX1_shift (l : Launch) (dC : Nat → ClassId) (dI : Nat → Nat → Nat) (d : ClassId) (ad : Nat → Nat) (sz : Nat) (as : Nat → Int32) (bs : Nat → Int32) (cs : Nat → Int32) (li : Nat → Int32) (ld : Int32) (hu : Nat → Int32) (hs : Int32) (K : Nat) (hk8 : K ≤ 8) (hok : hu_OK K as bs cs) (x vc : Int32) : hu_CI l dC dI d (hu_wM d ad) (as, bs, cs, nI K, li, ld, hu, hs) sz yX1_shift cX1_shift 4 (some .int) ({ frames := 5, cells := 0, slots := 0, locals := 113 }) [.ref (ad 0), .int x, .int vc] (fun r u => ((x < 0 ∨ nI K ≤ x) ∧ r = -3 ∧ u = (as, bs, cs, nI K, li, ld, hu, hs)) ∨ (∃ i, i < K ∧ x = nI i ∧ (((vc < -1000 ∨ 1000 < vc) ∧ r = -1 ∧ u = (as, bs, cs, nI K, li, ld, hu, hs)) ∨ (¬ (vc < -1000 ∨ 1000 < vc) ∧ r = cs i ∧ ∃ (li' : Nat → Int32) (L : Nat) (hu' : Nat → Int32) (h : Nat), u = (as, bs, upd cs i vc, nI K, li', nI L, hu', nI h) ∧ hu_Ls K as bs (upd cs i vc) li' L ∧ hu_Wk li' L hu' h)))) := by
  refine hu_metC_i (by decide) (Nat.le_of_ble_eq_true rfl) sz ?_
  intro p e s m below meth c ls A C0 hP hK hD hS hA hl
  obtain ⟨hx, hb, hr, hml, hown, hts, hlocks⟩ := C0
  have hl : lv_has ls 4 [(0, .ref (ad 0)), (1, .int x), (2, .int vc)] := hl
  refine lv_iload_n hx hb dX1_shift_0 rfl (lv_at hl 1 rfl) ?_
  refine lv_if_lt (tgt := 12) hx hb dX1_shift_1 (by decide) (fun c_1 => ?_) (fun c_1 => ?_)
  · skip
    refine lv_bipush (v := (-3)) hx hb dX1_shift_12 (by decide) ?_
    exact hu_retCI (as, bs, cs, nI K, li, ld, hu, hs) hx hb hr hlocks hK hP hD hS (Or.inl ⟨by first | exact Or.inl c_1 | exact Or.inr (Int32.not_lt.mp c_9), rfl, rfl⟩) dX1_shift_14
  · skip
    refine lv_iload_n hx hb dX1_shift_4 rfl (lv_at hl 1 rfl) ?_
    refine lv_aload_n hx hb dX1_shift_5 rfl (lv_at hl 0 rfl) ?_
    refine va_get (D := (dC, dI)) (ci := 1) (v := .int (nI K)) (C := RX1) (T := TX1) (N := 8) hx hb hts in_X1 hown hK hP 0 rfl rfl 3 (by decide) (hts _ q186) (fun _ h9 => h9) rfl dX1_shift_6 ?_
    refine lv_icmp_lt (tgt := 15) hx hb dX1_shift_9 (by decide) (fun c_9 => ?_) (fun c_9 => ?_)
    · skip
      obtain ⟨i, hi1, hix⟩ : ∃ i, i < K ∧ x = nI i := by
        rcases pk_ix x (n := K) (by omega) with q | q | q
        · exact absurd q c_1
        · exact absurd c_9 (Int32.not_lt.mpr q)
        · exact q
      refine lv_iload_n hx hb dX1_shift_15 rfl (lv_at hl 2 rfl) ?_
      refine lv_sipush (v := (-1000)) hx hb dX1_shift_16 (by decide) ?_
      refine lv_icmp_lt (tgt := 29) hx hb dX1_shift_19 (by decide) (fun c_19 => ?_) (fun c_19 => ?_)
      · skip
        refine lv_iconst (v := (-1)) hx hb dX1_shift_29 (by decide) ?_
        exact hu_retCI (as, bs, cs, nI K, li, ld, hu, hs) hx hb hr hlocks hK hP hD hS (Or.inr ⟨i, hi1, hix, Or.inl ⟨by first | exact Or.inl c_19 | exact Or.inr (Int32.not_le.mp c_26), rfl, rfl⟩⟩) dX1_shift_30
      · skip
        refine lv_iload_n hx hb dX1_shift_22 rfl (lv_at hl 2 rfl) ?_
        refine lv_sipush (v := 1000) hx hb dX1_shift_23 (by decide) ?_
        refine lv_icmp_le (tgt := 31) hx hb dX1_shift_26 (by decide) (fun c_26 => ?_) (fun c_26 => ?_)
        · skip
          have hnb : ¬ (vc < -1000 ∨ 1000 < vc) := fun q => q.elim c_19 (Int32.not_lt.mpr c_26)
          refine lv_aload_n hx hb dX1_shift_31 rfl (lv_at hl 0 rfl) ?_
          refine va_get (D := (dC, dI)) (ci := 1) (v := .ref (ad 3)) (C := RX1) (T := TX1) (N := 8) hx hb hts in_X1 hown hK hP 0 rfl rfl 2 (by decide) (hts _ q185) (fun _ h9 => h9) rfl dX1_shift_32 ?_
          refine lv_iload_n hx hb dX1_shift_35 rfl (lv_at hl 1 rfl) ?_
          refine hu_ald hx hb hK hP 3 0 rfl rfl i hix (by omega) (by decide) dX1_shift_36 ?_
          refine lv_istore_n (lv' := [(3, .int (cs i)), (0, .ref (ad 0)), (1, .int x), (2, .int vc)]) hx hb dX1_shift_37 rfl hl (by decide) rfl (fun ls hl => ?_)
          refine lv_aload_n hx hb dX1_shift_38 rfl (lv_at hl 1 rfl) ?_
          refine va_get (D := (dC, dI)) (ci := 1) (v := .ref (ad 3)) (C := RX1) (T := TX1) (N := 8) hx hb hts in_X1 hown hK hP 0 rfl rfl 2 (by decide) (hts _ q185) (fun _ h9 => h9) rfl dX1_shift_39 ?_
          refine lv_iload_n hx hb dX1_shift_42 rfl (lv_at hl 2 rfl) ?_
          refine lv_iload_n hx hb dX1_shift_43 rfl (lv_at hl 3 rfl) ?_
          refine hu_ast hx hb hK hP hD hS 3 0 rfl rfl i hix (by omega) (by decide) dX1_shift_44 (fun H locs hP hD hS => ?_)
          have hP : va_P (dC, dI) hu_Cl (hu_wM d ad (as, bs, upd cs i vc, nI K, li, ld, hu, hs)) H := hP
          have hD : va_D A (hu_wM d ad (as, bs, upd cs i vc, nI K, li, ld, hu, hs)) := hD
          refine lv_aload_n hx hb dX1_shift_45 rfl (lv_at hl 1 rfl) ?_
          refine hu_callCV 0 (As := []) (rest := []) (wf := hu_wM d ad) (wr := []) ⟨hx, hb, hml, hown, hts⟩ (mX1_refresh l dC dI d ad _ as bs (upd cs i vc) li ld hu hs K hk8 (hu_OK_set hok hnb)) (lw_V q151 q153 qs6 q18 q154) (by decide +kernel) rfl ⟨Nat.le_of_ble_eq_true rfl, Nat.le_of_ble_eq_true rfl⟩ ⟨rfl, rfl⟩ hK hP hD hS hA [0, 1, 2, 3, 4, 5] [] rfl rfl ⟨rfl, rfl⟩ (by decide) rfl (va_recv hK hP (ci := 1) (q0 := 0) rfl rfl) hl.1 rfl (Nat.le_of_ble_eq_true rfl) ⟨Nat.zero_le _, Nat.zero_le _⟩ dX1_shift_46 (fun u_46 H locs w_46 hP hD hS => ?_)
          obtain ⟨li2, L2, hu2, h2, rfl, hls, hwk⟩ := w_46
          have hP : va_P (dC, dI) hu_Cl (hu_wM d ad (as, bs, upd cs i vc, nI K, li2, nI L2, hu2, nI h2)) H := hP
          have hD : va_D A (hu_wM d ad (as, bs, upd cs i vc, nI K, li2, nI L2, hu2, nI h2)) := hD
          refine lv_iload_n hx hb dX1_shift_49 rfl (lv_at hl 0 rfl) ?_
          exact hu_retCI (as, bs, upd cs i vc, nI K, li2, nI L2, hu2, nI h2) hx hb hr hlocks hK hP hD hS (Or.inr ⟨i, hi1, hix, Or.inr ⟨hnb, rfl, ⟨li2, L2, hu2, h2, rfl, hls, hwk⟩⟩⟩) dX1_shift_50
        · skip
          refine lv_iconst (v := (-1)) hx hb dX1_shift_29 (by decide) ?_
          exact hu_retCI (as, bs, cs, nI K, li, ld, hu, hs) hx hb hr hlocks hK hP hD hS (Or.inr ⟨i, hi1, hix, Or.inl ⟨by first | exact Or.inl c_19 | exact Or.inr (Int32.not_le.mp c_26), rfl, rfl⟩⟩) dX1_shift_30
    · skip
      refine lv_bipush (v := (-3)) hx hb dX1_shift_12 (by decide) ?_
      exact hu_retCI (as, bs, cs, nI K, li, ld, hu, hs) hx hb hr hlocks hK hP hD hS (Or.inl ⟨by first | exact Or.inl c_1 | exact Or.inr (Int32.not_lt.mp c_9), rfl, rfl⟩) dX1_shift_14
end
section
/-! the constructors (written by gen/m5.py) -/
theorem hu_same {D : va_G} {cl : List vw_C} {c1 c2 : ClassId} {U : State} (h : va_K D cl [(c1, .int), (c2, .int)] U) : c2 = c1 := by
  have a1 : U.vm.findClass _ = some c1 := (h.2 0 _ rfl).2
  have a2 : U.vm.findClass _ = some c2 := (h.2 1 _ rfl).2
  exact Option.some.inj (a2.symm.trans a1)
set_option maxHeartbeats 4000000 in
set_option maxRecDepth 100000 in
theorem mX0_init (l : Launch) (dC : Nat → ClassId) (dI : Nat → Nat → Nat) (h0 sz : Nat) : Met l yX0_init (ws_ yX0_init cX0_init 1 none) ({ frames := 1, cells := 7, slots := 274, locals := 12 }) (va_Pc [.ref h0] (fun U => U.heap.size = sz ∧ va_P (dC, dI) hu_Cl [(h0, .inr (0, [.int 0, .null, .null, .null, .int 0, .null, .null, .int 0, .null, .null]))] U.heap ∧ va_K (dC, dI) hu_Cl [] U ∧ va_D (fun _ => True) [(h0, .inr (0, [.int 0, .null, .null, .null, .int 0, .null, .null, .int 0, .null, .null]))])) (va_Qv (fun u => u.2 0 = h0) (fun (u : ClassId × (Nat → Nat)) (t : State) => va_P (dC, dI) hu_Cl (hu_wH u.1 u.2 (0, 0, 0, (fun _ => 0), (fun _ => 0), (fun _ => 0), (fun _ => 0), (fun _ => 0), (fun _ => 0), (fun _ => 0))) t.heap ∧ va_K (dC, dI) hu_Cl [(u.1, .int)] t ∧ va_D (va_A [(h0, .inr (0, [.int 0, .null, .null, .null, .int 0, .null, .null, .int 0, .null, .null]))] sz) (hu_wH u.1 u.2 (0, 0, 0, (fun _ => 0), (fun _ => 0), (fun _ => 0), (fun _ => 0), (fun _ => 0), (fun _ => 0), (fun _ => 0)))) (va_A [(h0, .inr (0, [.int 0, .null, .null, .null, .int 0, .null, .null, .int 0, .null, .null]))] sz)) 7 274 (va_A [(h0, .inr (0, [.int 0, .null, .null, .null, .int 0, .null, .null, .int 0, .null, .null]))] sz) := by
  refine hu_met (by decide) (Nat.le_of_ble_eq_true rfl) ?_
  intro p e s m below meth c ls C0 hin hB hl
  obtain ⟨hx, hb, hr, hml, hown, hts, hlocks⟩ := C0
  obtain ⟨hsz, hP, hK, hD0⟩ := hB
  subst hsz
  have hD := hD0.self (sz := s.heap.size)
  generalize hAe : va_A [(h0, .inr (0, [.int 0, .null, .null, .null, .int 0, .null, .null, .int 0, .null, .null]))] s.heap.size = A at hD ⊢
  have hA : ∀ q : Nat, s.heap.size ≤ q → A q := fun q h => by rw [← hAe]; exact Or.inr h
  have hS : va_S A s.heap s.heap [] := va_S.rf
  have hl : lv_has ls 1 [(0, .ref h0)] := hl
  refine lv_aload_n hx hb dX0_init_0 rfl (lv_at hl 0 rfl) ?_
  refine W.objInit hx hb hown (hts _ q24) (hts _ q25) (hts _ q26) rfl (by rw [hml]; exact hl.1) rfl dX0_init_1 (Nat.le_of_ble_eq_true rfl) (Nat.le_of_ble_eq_true rfl) ?_
  refine W.eq (g2 := F0 m 4 ls []) rfl ?_
  refine lv_aload_n hx hb dX0_init_4 rfl (lv_at hl 0 rfl) ?_
  refine lv_bipush (v := 8) hx hb dX0_init_5 (by decide) ?_
  refine va_newa (ty := .int) (atype := .int) (N' := 8) (a0 := (8, .inl (fun _ => 0))) hx hb (hts _ q58) rfl hK hP hD hS hA (fun _ => rfl) (by decide) rfl (by decide) (Nat.le_of_ble_eq_true rfl) (Nat.le_of_ble_eq_true rfl) dX0_init_7 (fun q1 c1 H hK hP hD hS => ?_)
  have hK : va_K (dC, dI) hu_Cl [(c1, .int)] s := hK
  have hP : va_P (dC, dI) hu_Cl [(h0, .inr (0, [.int 0, .null, .null, .null, .int 0, .null, .null, .int 0, .null, .null])), (q1, .inl (c1, 8, .inl (fun _ => 0)))] H := hP
  have hD : va_D A [(h0, .inr (0, [.int 0, .null, .null, .null, .int 0, .null, .null, .int 0, .null, .null])), (q1, .inl (c1, 8, .inl (fun _ => 0)))] := hD
  refine W.widen (k := 1) (n := 8) (by omega) (by omega) ?_
  refine va_putF (D := (dC, dI)) (ci := 0) (v := .ref q1) (ty := .array .int) (C := RX0) (T := TX0) (N := 10) hx hb hts in_X0 tyX0 tyX0_ok nmX0 hown hK hP hD hS 0 rfl rfl 1 (by decide) (hts _ q28) (fun _ h9 => h9) rfl hin rfl (by decide +kernel) rfl rfl (Nat.le_of_ble_eq_true rfl) dX0_init_9 (fun H locs hP hD hS => ?_)
  have hP : va_P (dC, dI) hu_Cl [(h0, .inr (0, [.int 0, .ref q1, .null, .null, .int 0, .null, .null, .int 0, .null, .null])), (q1, .inl (c1, 8, .inl (fun _ => 0)))] H := hP
  have hD : va_D A [(h0, .inr (0, [.int 0, .ref q1, .null, .null, .int 0, .null, .null, .int 0, .null, .null])), (q1, .inl (c1, 8, .inl (fun _ => 0)))] := hD
  refine lv_aload_n hx hb dX0_init_12 rfl (lv_at hl 0 rfl) ?_
  refine lv_bipush (v := 8) hx hb dX0_init_13 (by decide) ?_
  refine va_newa (ty := .int) (atype := .int) (N' := 8) (a0 := (8, .inl (fun _ => 0))) hx hb (hts _ q58) rfl hK hP hD hS hA (fun _ => rfl) (by decide) rfl (by decide) (Nat.le_of_ble_eq_true rfl) (Nat.le_of_ble_eq_true rfl) dX0_init_15 (fun q2 c2 H hK hP hD hS => ?_)
  have ec2 : c2 = c1 := hu_same hK
  rw [ec2] at hK hP hD
  have hK := hK.sub (tys' := [(c1, .int)]) [0] rfl
  have hP : va_P (dC, dI) hu_Cl [(h0, .inr (0, [.int 0, .ref q1, .null, .null, .int 0, .null, .null, .int 0, .null, .null])), (q1, .inl (c1, 8, .inl (fun _ => 0))), (q2, .inl (c1, 8, .inl (fun _ => 0)))] H := hP
  have hD : va_D A [(h0, .inr (0, [.int 0, .ref q1, .null, .null, .int 0, .null, .null, .int 0, .null, .null])), (q1, .inl (c1, 8, .inl (fun _ => 0))), (q2, .inl (c1, 8, .inl (fun _ => 0)))] := hD
  refine W.widen (k := 2) (n := 16) (by omega) (by omega) ?_
  refine va_putF (D := (dC, dI)) (ci := 0) (v := .ref q2) (ty := .array .int) (C := RX0) (T := TX0) (N := 10) hx hb hts in_X0 tyX0 tyX0_ok nmX0 hown hK hP hD hS 0 rfl rfl 2 (by decide) (hts _ q29) (fun _ h9 => h9) rfl hin rfl (by decide +kernel) rfl rfl (Nat.le_of_ble_eq_true rfl) dX0_init_17 (fun H locs hP hD hS => ?_)
  have hP : va_P (dC, dI) hu_Cl [(h0, .inr (0, [.int 0, .ref q1, .ref q2, .null, .int 0, .null, .null, .int 0, .null, .null])), (q1, .inl (c1, 8, .inl (fun _ => 0))), (q2, .inl (c1, 8, .inl (fun _ => 0)))] H := hP
  have hD : va_D A [(h0, .inr (0, [.int 0, .ref q1, .ref q2, .null, .int 0, .null, .null, .int 0, .null, .null])), (q1, .inl (c1, 8, .inl (fun _ => 0))), (q2, .inl (c1, 8, .inl (fun _ => 0)))] := hD
  refine lv_aload_n hx hb dX0_init_20 rfl (lv_at hl 0 rfl) ?_
  refine lv_bipush (v := 8) hx hb dX0_init_21 (by decide) ?_
  refine va_newa (ty := .int) (atype := .int) (N' := 8) (a0 := (8, .inl (fun _ => 0))) hx hb (hts _ q58) rfl hK hP hD hS hA (fun _ => rfl) (by decide) rfl (by decide) (Nat.le_of_ble_eq_true rfl) (Nat.le_of_ble_eq_true rfl) dX0_init_23 (fun q3 c3 H hK hP hD hS => ?_)
  have ec3 : c3 = c1 := hu_same hK
  rw [ec3] at hK hP hD
  have hK := hK.sub (tys' := [(c1, .int)]) [0] rfl
  have hP : va_P (dC, dI) hu_Cl [(h0, .inr (0, [.int 0, .ref q1, .ref q2, .null, .int 0, .null, .null, .int 0, .null, .null])), (q1, .inl (c1, 8, .inl (fun _ => 0))), (q2, .inl (c1, 8, .inl (fun _ => 0))), (q3, .inl (c1, 8, .inl (fun _ => 0)))] H := hP
  have hD : va_D A [(h0, .inr (0, [.int 0, .ref q1, .ref q2, .null, .int 0, .null, .null, .int 0, .null, .null])), (q1, .inl (c1, 8, .inl (fun _ => 0))), (q2, .inl (c1, 8, .inl (fun _ => 0))), (q3, .inl (c1, 8, .inl (fun _ => 0)))] := hD
  refine W.widen (k := 3) (n := 24) (by omega) (by omega) ?_
  refine va_putF (D := (dC, dI)) (ci := 0) (v := .ref q3) (ty := .array .int) (C := RX0) (T := TX0) (N := 10) hx hb hts in_X0 tyX0 tyX0_ok nmX0 hown hK hP hD hS 0 rfl rfl 3 (by decide) (hts _ q30) (fun _ h9 => h9) rfl hin rfl (by decide +kernel) rfl rfl (Nat.le_of_ble_eq_true rfl) dX0_init_25 (fun H locs hP hD hS => ?_)
  have hP : va_P (dC, dI) hu_Cl [(h0, .inr (0, [.int 0, .ref q1, .ref q2, .ref q3, .int 0, .null, .null, .int 0, .null, .null])), (q1, .inl (c1, 8, .inl (fun _ => 0))), (q2, .inl (c1, 8, .inl (fun _ => 0))), (q3, .inl (c1, 8, .inl (fun _ => 0)))] H := hP
  have hD : va_D A [(h0, .inr (0, [.int 0, .ref q1, .ref q2, .ref q3, .int 0, .null, .null, .int 0, .null, .null])), (q1, .inl (c1, 8, .inl (fun _ => 0))), (q2, .inl (c1, 8, .inl (fun _ => 0))), (q3, .inl (c1, 8, .inl (fun _ => 0)))] := hD
  refine lv_aload_n hx hb dX0_init_28 rfl (lv_at hl 0 rfl) ?_
  refine lv_bipush (v := 41) hx hb dX0_init_29 (by decide) ?_
  refine va_newa (ty := .int) (atype := .int) (N' := 41) (a0 := (41, .inl (fun _ => 0))) hx hb (hts _ q58) rfl hK hP hD hS hA (fun _ => rfl) (by decide) rfl (by decide) (Nat.le_of_ble_eq_true rfl) (Nat.le_of_ble_eq_true rfl) dX0_init_31 (fun q4 c4 H hK hP hD hS => ?_)
  have ec4 : c4 = c1 := hu_same hK
  rw [ec4] at hK hP hD
  have hK := hK.sub (tys' := [(c1, .int)]) [0] rfl
  have hP : va_P (dC, dI) hu_Cl [(h0, .inr (0, [.int 0, .ref q1, .ref q2, .ref q3, .int 0, .null, .null, .int 0, .null, .null])), (q1, .inl (c1, 8, .inl (fun _ => 0))), (q2, .inl (c1, 8, .inl (fun _ => 0))), (q3, .inl (c1, 8, .inl (fun _ => 0))), (q4, .inl (c1, 41, .inl (fun _ => 0)))] H := hP
  have hD : va_D A [(h0, .inr (0, [.int 0, .ref q1, .ref q2, .ref q3, .int 0, .null, .null, .int 0, .null, .null])), (q1, .inl (c1, 8, .inl (fun _ => 0))), (q2, .inl (c1, 8, .inl (fun _ => 0))), (q3, .inl (c1, 8, .inl (fun _ => 0))), (q4, .inl (c1, 41, .inl (fun _ => 0)))] := hD
  refine W.widen (k := 4) (n := 65) (by omega) (by omega) ?_
  refine va_putF (D := (dC, dI)) (ci := 0) (v := .ref q4) (ty := .array .int) (C := RX0) (T := TX0) (N := 10) hx hb hts in_X0 tyX0 tyX0_ok nmX0 hown hK hP hD hS 0 rfl rfl 5 (by decide) (hts _ q32) (fun _ h9 => h9) rfl hin rfl (by decide +kernel) rfl rfl (Nat.le_of_ble_eq_true rfl) dX0_init_33 (fun H locs hP hD hS => ?_)
  have hP : va_P (dC, dI) hu_Cl [(h0, .inr (0, [.int 0, .ref q1, .ref q2, .ref q3, .int 0, .ref q4, .null, .int 0, .null, .null])), (q1, .inl (c1, 8, .inl (fun _ => 0))), (q2, .inl (c1, 8, .inl (fun _ => 0))), (q3, .inl (c1, 8, .inl (fun _ => 0))), (q4, .inl (c1, 41, .inl (fun _ => 0)))] H := hP
  have hD : va_D A [(h0, .inr (0, [.int 0, .ref q1, .ref q2, .ref q3, .int 0, .ref q4, .null, .int 0, .null, .null])), (q1, .inl (c1, 8, .inl (fun _ => 0))), (q2, .inl (c1, 8, .inl (fun _ => 0))), (q3, .inl (c1, 8, .inl (fun _ => 0))), (q4, .inl (c1, 41, .inl (fun _ => 0)))] := hD
  refine lv_aload_n hx hb dX0_init_36 rfl (lv_at hl 0 rfl) ?_
  refine lv_bipush (v := 41) hx hb dX0_init_37 (by decide) ?_
  refine va_newa (ty := .int) (atype := .int) (N' := 41) (a0 := (41, .inl (fun _ => 0))) hx hb (hts _ q58) rfl hK hP hD hS hA (fun _ => rfl) (by decide) rfl (by decide) (Nat.le_of_ble_eq_true rfl) (Nat.le_of_ble_eq_true rfl) dX0_init_39 (fun q5 c5 H hK hP hD hS => ?_)
  have ec5 : c5 = c1 := hu_same hK
  rw [ec5] at hK hP hD
  have hK := hK.sub (tys' := [(c1, .int)]) [0] rfl
  have hP : va_P (dC, dI) hu_Cl [(h0, .inr (0, [.int 0, .ref q1, .ref q2, .ref q3, .int 0, .ref q4, .null, .int 0, .null, .null])), (q1, .inl (c1, 8, .inl (fun _ => 0))), (q2, .inl (c1, 8, .inl (fun _ => 0))), (q3, .inl (c1, 8, .inl (fun _ => 0))), (q4, .inl (c1, 41, .inl (fun _ => 0))), (q5, .inl (c1, 41, .inl (fun _ => 0)))] H := hP
  have hD : va_D A [(h0, .inr (0, [.int 0, .ref q1, .ref q2, .ref q3, .int 0, .ref q4, .null, .int 0, .null, .null])), (q1, .inl (c1, 8, .inl (fun _ => 0))), (q2, .inl (c1, 8, .inl (fun _ => 0))), (q3, .inl (c1, 8, .inl (fun _ => 0))), (q4, .inl (c1, 41, .inl (fun _ => 0))), (q5, .inl (c1, 41, .inl (fun _ => 0)))] := hD
  refine W.widen (k := 5) (n := 106) (by omega) (by omega) ?_
  refine va_putF (D := (dC, dI)) (ci := 0) (v := .ref q5) (ty := .array .int) (C := RX0) (T := TX0) (N := 10) hx hb hts in_X0 tyX0 tyX0_ok nmX0 hown hK hP hD hS 0 rfl rfl 6 (by decide) (hts _ q33) (fun _ h9 => h9) rfl hin rfl (by decide +kernel) rfl rfl (Nat.le_of_ble_eq_true rfl) dX0_init_41 (fun H locs hP hD hS => ?_)
  have hP : va_P (dC, dI) hu_Cl [(h0, .inr (0, [.int 0, .ref q1, .ref q2, .ref q3, .int 0, .ref q4, .ref q5, .int 0, .null, .null])), (q1, .inl (c1, 8, .inl (fun _ => 0))), (q2, .inl (c1, 8, .inl (fun _ => 0))), (q3, .inl (c1, 8, .inl (fun _ => 0))), (q4, .inl (c1, 41, .inl (fun _ => 0))), (q5, .inl (c1, 41, .inl (fun _ => 0)))] H := hP
  have hD : va_D A [(h0, .inr (0, [.int 0, .ref q1, .ref q2, .ref q3, .int 0, .ref q4, .ref q5, .int 0, .null, .null])), (q1, .inl (c1, 8, .inl (fun _ => 0))), (q2, .inl (c1, 8, .inl (fun _ => 0))), (q3, .inl (c1, 8, .inl (fun _ => 0))), (q4, .inl (c1, 41, .inl (fun _ => 0))), (q5, .inl (c1, 41, .inl (fun _ => 0)))] := hD
  refine lv_aload_n hx hb dX0_init_44 rfl (lv_at hl 0 rfl) ?_
  refine lv_bipush (v := 84) hx hb dX0_init_45 (by decide) ?_
  refine va_newa (ty := .int) (atype := .int) (N' := 84) (a0 := (84, .inl (fun _ => 0))) hx hb (hts _ q58) rfl hK hP hD hS hA (fun _ => rfl) (by decide) rfl (by decide) (Nat.le_of_ble_eq_true rfl) (Nat.le_of_ble_eq_true rfl) dX0_init_47 (fun q6 c6 H hK hP hD hS => ?_)
  have ec6 : c6 = c1 := hu_same hK
  rw [ec6] at hK hP hD
  have hK := hK.sub (tys' := [(c1, .int)]) [0] rfl
  have hP : va_P (dC, dI) hu_Cl [(h0, .inr (0, [.int 0, .ref q1, .ref q2, .ref q3, .int 0, .ref q4, .ref q5, .int 0, .null, .null])), (q1, .inl (c1, 8, .inl (fun _ => 0))), (q2, .inl (c1, 8, .inl (fun _ => 0))), (q3, .inl (c1, 8, .inl (fun _ => 0))), (q4, .inl (c1, 41, .inl (fun _ => 0))), (q5, .inl (c1, 41, .inl (fun _ => 0))), (q6, .inl (c1, 84, .inl (fun _ => 0)))] H := hP
  have hD : va_D A [(h0, .inr (0, [.int 0, .ref q1, .ref q2, .ref q3, .int 0, .ref q4, .ref q5, .int 0, .null, .null])), (q1, .inl (c1, 8, .inl (fun _ => 0))), (q2, .inl (c1, 8, .inl (fun _ => 0))), (q3, .inl (c1, 8, .inl (fun _ => 0))), (q4, .inl (c1, 41, .inl (fun _ => 0))), (q5, .inl (c1, 41, .inl (fun _ => 0))), (q6, .inl (c1, 84, .inl (fun _ => 0)))] := hD
  refine W.widen (k := 6) (n := 190) (by omega) (by omega) ?_
  refine va_putF (D := (dC, dI)) (ci := 0) (v := .ref q6) (ty := .array .int) (C := RX0) (T := TX0) (N := 10) hx hb hts in_X0 tyX0 tyX0_ok nmX0 hown hK hP hD hS 0 rfl rfl 8 (by decide) (hts _ q35) (fun _ h9 => h9) rfl hin rfl (by decide +kernel) rfl rfl (Nat.le_of_ble_eq_true rfl) dX0_init_49 (fun H locs hP hD hS => ?_)
  have hP : va_P (dC, dI) hu_Cl [(h0, .inr (0, [.int 0, .ref q1, .ref q2, .ref q3, .int 0, .ref q4, .ref q5, .int 0, .ref q6, .null])), (q1, .inl (c1, 8, .inl (fun _ => 0))), (q2, .inl (c1, 8, .inl (fun _ => 0))), (q3, .inl (c1, 8, .inl (fun _ => 0))), (q4, .inl (c1, 41, .inl (fun _ => 0))), (q5, .inl (c1, 41, .inl (fun _ => 0))), (q6, .inl (c1, 84, .inl (fun _ => 0)))] H := hP
  have hD : va_D A [(h0, .inr (0, [.int 0, .ref q1, .ref q2, .ref q3, .int 0, .ref q4, .ref q5, .int 0, .ref q6, .null])), (q1, .inl (c1, 8, .inl (fun _ => 0))), (q2, .inl (c1, 8, .inl (fun _ => 0))), (q3, .inl (c1, 8, .inl (fun _ => 0))), (q4, .inl (c1, 41, .inl (fun _ => 0))), (q5, .inl (c1, 41, .inl (fun _ => 0))), (q6, .inl (c1, 84, .inl (fun _ => 0)))] := hD
  refine lv_aload_n hx hb dX0_init_52 rfl (lv_at hl 0 rfl) ?_
  refine lv_bipush (v := 84) hx hb dX0_init_53 (by decide) ?_
  refine va_newa (ty := .int) (atype := .int) (N' := 84) (a0 := (84, .inl (fun _ => 0))) hx hb (hts _ q58) rfl hK hP hD hS hA (fun _ => rfl) (by decide) rfl (by decide) (Nat.le_of_ble_eq_true rfl) (Nat.le_of_ble_eq_true rfl) dX0_init_55 (fun q7 c7 H hK hP hD hS => ?_)
  have ec7 : c7 = c1 := hu_same hK
  rw [ec7] at hK hP hD
  have hK := hK.sub (tys' := [(c1, .int)]) [0] rfl
  have hP : va_P (dC, dI) hu_Cl [(h0, .inr (0, [.int 0, .ref q1, .ref q2, .ref q3, .int 0, .ref q4, .ref q5, .int 0, .ref q6, .null])), (q1, .inl (c1, 8, .inl (fun _ => 0))), (q2, .inl (c1, 8, .inl (fun _ => 0))), (q3, .inl (c1, 8, .inl (fun _ => 0))), (q4, .inl (c1, 41, .inl (fun _ => 0))), (q5, .inl (c1, 41, .inl (fun _ => 0))), (q6, .inl (c1, 84, .inl (fun _ => 0))), (q7, .inl (c1, 84, .inl (fun _ => 0)))] H := hP
  have hD : va_D A [(h0, .inr (0, [.int 0, .ref q1, .ref q2, .ref q3, .int 0, .ref q4, .ref q5, .int 0, .ref q6, .null])), (q1, .inl (c1, 8, .inl (fun _ => 0))), (q2, .inl (c1, 8, .inl (fun _ => 0))), (q3, .inl (c1, 8, .inl (fun _ => 0))), (q4, .inl (c1, 41, .inl (fun _ => 0))), (q5, .inl (c1, 41, .inl (fun _ => 0))), (q6, .inl (c1, 84, .inl (fun _ => 0))), (q7, .inl (c1, 84, .inl (fun _ => 0)))] := hD
  refine W.widen (k := 7) (n := 274) (by omega) (by omega) ?_
  refine va_putF (D := (dC, dI)) (ci := 0) (v := .ref q7) (ty := .array .int) (C := RX0) (T := TX0) (N := 10) hx hb hts in_X0 tyX0 tyX0_ok nmX0 hown hK hP hD hS 0 rfl rfl 9 (by decide) (hts _ q36) (fun _ h9 => h9) rfl hin rfl (by decide +kernel) rfl rfl (Nat.le_of_ble_eq_true rfl) dX0_init_57 (fun H locs hP hD hS => ?_)
  have hP : va_P (dC, dI) hu_Cl [(h0, .inr (0, [.int 0, .ref q1, .ref q2, .ref q3, .int 0, .ref q4, .ref q5, .int 0, .ref q6, .ref q7])), (q1, .inl (c1, 8, .inl (fun _ => 0))), (q2, .inl (c1, 8, .inl (fun _ => 0))), (q3, .inl (c1, 8, .inl (fun _ => 0))), (q4, .inl (c1, 41, .inl (fun _ => 0))), (q5, .inl (c1, 41, .inl (fun _ => 0))), (q6, .inl (c1, 84, .inl (fun _ => 0))), (q7, .inl (c1, 84, .inl (fun _ => 0)))] H := hP
  have hD : va_D A [(h0, .inr (0, [.int 0, .ref q1, .ref q2, .ref q3, .int 0, .ref q4, .ref q5, .int 0, .ref q6, .ref q7])), (q1, .inl (c1, 8, .inl (fun _ => 0))), (q2, .inl (c1, 8, .inl (fun _ => 0))), (q3, .inl (c1, 8, .inl (fun _ => 0))), (q4, .inl (c1, 41, .inl (fun _ => 0))), (q5, .inl (c1, 41, .inl (fun _ => 0))), (q6, .inl (c1, 84, .inl (fun _ => 0))), (q7, .inl (c1, 84, .inl (fun _ => 0)))] := hD
  refine lv_aload_n hx hb dX0_init_60 rfl (lv_at hl 0 rfl) ?_
  refine lv_iconst (v := 0) hx hb dX0_init_61 (by decide) ?_
  refine va_put (D := (dC, dI)) (ci := 0) (v := .int 0) (ty := .int) (C := RX0) (T := TX0) (N := 10) hx hb hts in_X0 tyX0 tyX0_ok nmX0 hown hK hP hD hS 0 rfl rfl 0 (by decide) (hts _ q27) (fun _ h9 => h9) rfl (by decide +kernel) rfl rfl (Nat.le_of_ble_eq_true rfl) dX0_init_62 (fun H locs hP hD hS => ?_)
  have hP : va_P (dC, dI) hu_Cl (hu_wH c1 (fun j => ([h0, q1, q2, q3, q4, q5, q6, q7] : List Nat).getD j 0) (0, 0, 0, (fun _ => 0), (fun _ => 0), (fun _ => 0), (fun _ => 0), (fun _ => 0), (fun _ => 0), (fun _ => 0))) H := hP
  have hD : va_D A (hu_wH c1 (fun j => ([h0, q1, q2, q3, q4, q5, q6, q7] : List Nat).getD j 0) (0, 0, 0, (fun _ => 0), (fun _ => 0), (fun _ => 0), (fun _ => 0), (fun _ => 0), (fun _ => 0), (fun _ => 0))) := hD
  exact W.vret hx hb hr (fun t ht hW => ⟨⟨(c1, (fun j => ([h0, q1, q2, q3, q4, q5, q6, q7] : List Nat).getD j 0)), rfl, rfl, by rw [ht]; exact hP, va_K.moved hW.alike hK, hD⟩, hS.F ht⟩) hS.2.2 dX0_init_65 hlocks
set_option maxHeartbeats 4000000 in
set_option maxRecDepth 100000 in
theorem mX1_init (l : Launch) (dC : Nat → ClassId) (dI : Nat → Nat → Nat) (h0 sz : Nat) : Met l yX1_init (ws_ yX1_init cX1_init 1 none) ({ frames := 5, cells := 5, slots := 1961, locals := 113 }) (va_Pc [.ref h0] (fun U => U.heap.size = sz ∧ va_P (dC, dI) hu_Cl [(h0, .inr (1, [.null, .null, .null, .int 0, .null, .int 0, .null, .int 0]))] U.heap ∧ va_K (dC, dI) hu_Cl [] U ∧ va_D (fun _ => True) [(h0, .inr (1, [.null, .null, .null, .int 0, .null, .int 0, .null, .int 0]))])) (va_Qv (fun u => u.2.1 0 = h0 ∧ ∃ (li : Nat → Int32) (L : Nat) (hu : Nat → Int32) (h : Nat), u.2.2 = ((fun _ => 0), (fun _ => 0), (fun _ => 0), nI 0, li, nI L, hu, nI h) ∧ hu_Ls 0 (fun _ => 0) (fun _ => 0) (fun _ => 0) li L ∧ hu_Wk li L hu h) (fun (u : ClassId × (Nat → Nat) × hu_MS) (t : State) => va_P (dC, dI) hu_Cl (hu_wM u.1 u.2.1 u.2.2) t.heap ∧ va_K (dC, dI) hu_Cl [(u.1, .int)] t ∧ va_D (va_A [(h0, .inr (1, [.null, .null, .null, .int 0, .null, .int 0, .null, .int 0]))] sz) (hu_wM u.1 u.2.1 u.2.2)) (va_A [(h0, .inr (1, [.null, .null, .null, .int 0, .null, .int 0, .null, .int 0]))] sz)) 5 1961 (va_A [(h0, .inr (1, [.null, .null, .null, .int 0, .null, .int 0, .null, .int 0]))] sz) := by
  refine hu_met (by decide) (Nat.le_of_ble_eq_true rfl) ?_
  intro p e s m below meth c ls C0 hin hB hl
  obtain ⟨hx, hb, hr, hml, hown, hts, hlocks⟩ := C0
  obtain ⟨hsz, hP, hK, hD0⟩ := hB
  subst hsz
  have hD := hD0.self (sz := s.heap.size)
  generalize hAe : va_A [(h0, .inr (1, [.null, .null, .null, .int 0, .null, .int 0, .null, .int 0]))] s.heap.size = A at hD ⊢
  have hA : ∀ q : Nat, s.heap.size ≤ q → A q := fun q h => by rw [← hAe]; exact Or.inr h
  have hS : va_S A s.heap s.heap [] := va_S.rf
  have hl : lv_has ls 1 [(0, .ref h0)] := hl
  refine lv_aload_n hx hb dX1_init_0 rfl (lv_at hl 0 rfl) ?_
  refine W.objInit hx hb hown (hts _ q150) (hts _ q25) (hts _ q26) rfl (by rw [hml]; exact hl.1) rfl dX1_init_1 (Nat.le_of_ble_eq_true rfl) (Nat.le_of_ble_eq_true rfl) ?_
  refine W.eq (g2 := F0 m 4 ls []) rfl ?_
  refine lv_aload_n hx hb dX1_init_4 rfl (lv_at hl 0 rfl) ?_
  refine lv_bipush (v := 8) hx hb dX1_init_5 (by decide) ?_
  refine va_newa (ty := .int) (atype := .int) (N' := 8) (a0 := (8, .inl (fun _ => 0))) hx hb (hts _ q58) rfl hK hP hD hS hA (fun _ => rfl) (by decide) rfl (by decide) (Nat.le_of_ble_eq_true rfl) (Nat.le_of_ble_eq_true rfl) dX1_init_7 (fun q1 c1 H hK hP hD hS => ?_)
  have hK : va_K (dC, dI) hu_Cl [(c1, .int)] s := hK
  have hP : va_P (dC, dI) hu_Cl [(h0, .inr (1, [.null, .null, .null, .int 0, .null, .int 0, .null, .int 0])), (q1, .inl (c1, 8, .inl (fun _ => 0)))] H := hP
  have hD : va_D A [(h0, .inr (1, [.null, .null, .null, .int 0, .null, .int 0, .null, .int 0])), (q1, .inl (c1, 8, .inl (fun _ => 0)))] := hD
  refine W.widen (k := 1) (n := 8) (by omega) (by omega) ?_
  refine va_putF (D := (dC, dI)) (ci := 1) (v := .ref q1) (ty := .array .int) (C := RX1) (T := TX1) (N := 8) hx hb hts in_X1 tyX1 tyX1_ok nmX1 hown hK hP hD hS 0 rfl rfl 0 (by decide) (hts _ q183) (fun _ h9 => h9) rfl hin rfl (by decide +kernel) rfl rfl (Nat.le_of_ble_eq_true rfl) dX1_init_9 (fun H locs hP hD hS => ?_)
  have hP : va_P (dC, dI) hu_Cl [(h0, .inr (1, [.ref q1, .null, .null, .int 0, .null, .int 0, .null, .int 0])), (q1, .inl (c1, 8, .inl (fun _ => 0)))] H := hP
  have hD : va_D A [(h0, .inr (1, [.ref q1, .null, .null, .int 0, .null, .int 0, .null, .int 0])), (q1, .inl (c1, 8, .inl (fun _ => 0)))] := hD
  refine lv_aload_n hx hb dX1_init_12 rfl (lv_at hl 0 rfl) ?_
  refine lv_bipush (v := 8) hx hb dX1_init_13 (by decide) ?_
  refine va_newa (ty := .int) (atype := .int) (N' := 8) (a0 := (8, .inl (fun _ => 0))) hx hb (hts _ q58) rfl hK hP hD hS hA (fun _ => rfl) (by decide) rfl (by decide) (Nat.le_of_ble_eq_true rfl) (Nat.le_of_ble_eq_true rfl) dX1_init_15 (fun q2 c2 H hK hP hD hS => ?_)
  have ec2 : c2 = c1 := hu_same hK
  rw [ec2] at hK hP hD
  have hK := hK.sub (tys' := [(c1, .int)]) [0] rfl
  have hP : va_P (dC, dI) hu_Cl [(h0, .inr (1, [.ref q1, .null, .null, .int 0, .null, .int 0, .null, .int 0])), (q1, .inl (c1, 8, .inl (fun _ => 0))), (q2, .inl (c1, 8, .inl (fun _ => 0)))] H := hP
  have hD : va_D A [(h0, .inr (1, [.ref q1, .null, .null, .int 0, .null, .int 0, .null, .int 0])), (q1, .inl (c1, 8, .inl (fun _ => 0))), (q2, .inl (c1, 8, .inl (fun _ => 0)))] := hD
  refine W.widen (k := 2) (n := 16) (by omega) (by omega) ?_
  refine va_putF (D := (dC, dI)) (ci := 1) (v := .ref q2) (ty := .array .int) (C := RX1) (T := TX1) (N := 8) hx hb hts in_X1 tyX1 tyX1_ok nmX1 hown hK hP hD hS 0 rfl rfl 1 (by decide) (hts _ q184) (fun _ h9 => h9) rfl hin rfl (by decide +kernel) rfl rfl (Nat.le_of_ble_eq_true rfl) dX1_init_17 (fun H locs hP hD hS => ?_)
  have hP : va_P (dC, dI) hu_Cl [(h0, .inr (1, [.ref q1, .ref q2, .null, .int 0, .null, .int 0, .null, .int 0])), (q1, .inl (c1, 8, .inl (fun _ => 0))), (q2, .inl (c1, 8, .inl (fun _ => 0)))] H := hP
  have hD : va_D A [(h0, .inr (1, [.ref q1, .ref q2, .null, .int 0, .null, .int 0, .null, .int 0])), (q1, .inl (c1, 8, .inl (fun _ => 0))), (q2, .inl (c1, 8, .inl (fun _ => 0)))] := hD
  refine lv_aload_n hx hb dX1_init_20 rfl (lv_at hl 0 rfl) ?_
  refine lv_bipush (v := 8) hx hb dX1_init_21 (by decide) ?_
  refine va_newa (ty := .int) (atype := .int) (N' := 8) (a0 := (8, .inl (fun _ => 0))) hx hb (hts _ q58) rfl hK hP hD hS hA (fun _ => rfl) (by decide) rfl (by decide) (Nat.le_of_ble_eq_true rfl) (Nat.le_of_ble_eq_true rfl) dX1_init_23 (fun q3 c3 H hK hP hD hS => ?_)
  have ec3 : c3 = c1 := hu_same hK
  rw [ec3] at hK hP hD
  have hK := hK.sub (tys' := [(c1, .int)]) [0] rfl
  have hP : va_P (dC, dI) hu_Cl [(h0, .inr (1, [.ref q1, .ref q2, .null, .int 0, .null, .int 0, .null, .int 0])), (q1, .inl (c1, 8, .inl (fun _ => 0))), (q2, .inl (c1, 8, .inl (fun _ => 0))), (q3, .inl (c1, 8, .inl (fun _ => 0)))] H := hP
  have hD : va_D A [(h0, .inr (1, [.ref q1, .ref q2, .null, .int 0, .null, .int 0, .null, .int 0])), (q1, .inl (c1, 8, .inl (fun _ => 0))), (q2, .inl (c1, 8, .inl (fun _ => 0))), (q3, .inl (c1, 8, .inl (fun _ => 0)))] := hD
  refine W.widen (k := 3) (n := 24) (by omega) (by omega) ?_
  refine va_putF (D := (dC, dI)) (ci := 1) (v := .ref q3) (ty := .array .int) (C := RX1) (T := TX1) (N := 8) hx hb hts in_X1 tyX1 tyX1_ok nmX1 hown hK hP hD hS 0 rfl rfl 2 (by decide) (hts _ q185) (fun _ h9 => h9) rfl hin rfl (by decide +kernel) rfl rfl (Nat.le_of_ble_eq_true rfl) dX1_init_25 (fun H locs hP hD hS => ?_)
  have hP : va_P (dC, dI) hu_Cl [(h0, .inr (1, [.ref q1, .ref q2, .ref q3, .int 0, .null, .int 0, .null, .int 0])), (q1, .inl (c1, 8, .inl (fun _ => 0))), (q2, .inl (c1, 8, .inl (fun _ => 0))), (q3, .inl (c1, 8, .inl (fun _ => 0)))] H := hP
  have hD : va_D A [(h0, .inr (1, [.ref q1, .ref q2, .ref q3, .int 0, .null, .int 0, .null, .int 0])), (q1, .inl (c1, 8, .inl (fun _ => 0))), (q2, .inl (c1, 8, .inl (fun _ => 0))), (q3, .inl (c1, 8, .inl (fun _ => 0)))] := hD
  refine lv_aload_n hx hb dX1_init_28 rfl (lv_at hl 0 rfl) ?_
  refine lv_sipush (v := 1681) hx hb dX1_init_29 (by decide) ?_
  refine va_newa (ty := .int) (atype := .int) (N' := 1681) (a0 := (1681, .inl (fun _ => 0))) hx hb (hts _ q58) rfl hK hP hD hS hA (fun _ => rfl) (by decide) rfl (by decide) (Nat.le_of_ble_eq_true rfl) (Nat.le_of_ble_eq_true rfl) dX1_init_32 (fun q4 c4 H hK hP hD hS => ?_)
  have ec4 : c4 = c1 := hu_same hK
  rw [ec4] at hK hP hD
  have hK := hK.sub (tys' := [(c1, .int)]) [0] rfl
  have hP : va_P (dC, dI) hu_Cl [(h0, .inr (1, [.ref q1, .ref q2, .ref q3, .int 0, .null, .int 0, .null, .int 0])), (q1, .inl (c1, 8, .inl (fun _ => 0))), (q2, .inl (c1, 8, .inl (fun _ => 0))), (q3, .inl (c1, 8, .inl (fun _ => 0))), (q4, .inl (c1, 1681, .inl (fun _ => 0)))] H := hP
  have hD : va_D A [(h0, .inr (1, [.ref q1, .ref q2, .ref q3, .int 0, .null, .int 0, .null, .int 0])), (q1, .inl (c1, 8, .inl (fun _ => 0))), (q2, .inl (c1, 8, .inl (fun _ => 0))), (q3, .inl (c1, 8, .inl (fun _ => 0))), (q4, .inl (c1, 1681, .inl (fun _ => 0)))] := hD
  refine W.widen (k := 4) (n := 1705) (by omega) (by omega) ?_
  refine va_putF (D := (dC, dI)) (ci := 1) (v := .ref q4) (ty := .array .int) (C := RX1) (T := TX1) (N := 8) hx hb hts in_X1 tyX1 tyX1_ok nmX1 hown hK hP hD hS 0 rfl rfl 4 (by decide) (hts _ q187) (fun _ h9 => h9) rfl hin rfl (by decide +kernel) rfl rfl (Nat.le_of_ble_eq_true rfl) dX1_init_34 (fun H locs hP hD hS => ?_)
  have hP : va_P (dC, dI) hu_Cl [(h0, .inr (1, [.ref q1, .ref q2, .ref q3, .int 0, .ref q4, .int 0, .null, .int 0])), (q1, .inl (c1, 8, .inl (fun _ => 0))), (q2, .inl (c1, 8, .inl (fun _ => 0))), (q3, .inl (c1, 8, .inl (fun _ => 0))), (q4, .inl (c1, 1681, .inl (fun _ => 0)))] H := hP
  have hD : va_D A [(h0, .inr (1, [.ref q1, .ref q2, .ref q3, .int 0, .ref q4, .int 0, .null, .int 0])), (q1, .inl (c1, 8, .inl (fun _ => 0))), (q2, .inl (c1, 8, .inl (fun _ => 0))), (q3, .inl (c1, 8, .inl (fun _ => 0))), (q4, .inl (c1, 1681, .inl (fun _ => 0)))] := hD
  refine lv_aload_n hx hb dX1_init_37 rfl (lv_at hl 0 rfl) ?_
  refine lv_sipush (v := 256) hx hb dX1_init_38 (by decide) ?_
  refine va_newa (ty := .int) (atype := .int) (N' := 256) (a0 := (256, .inl (fun _ => 0))) hx hb (hts _ q58) rfl hK hP hD hS hA (fun _ => rfl) (by decide) rfl (by decide) (Nat.le_of_ble_eq_true rfl) (Nat.le_of_ble_eq_true rfl) dX1_init_41 (fun q5 c5 H hK hP hD hS => ?_)
  have ec5 : c5 = c1 := hu_same hK
  rw [ec5] at hK hP hD
  have hK := hK.sub (tys' := [(c1, .int)]) [0] rfl
  have hP : va_P (dC, dI) hu_Cl [(h0, .inr (1, [.ref q1, .ref q2, .ref q3, .int 0, .ref q4, .int 0, .null, .int 0])), (q1, .inl (c1, 8, .inl (fun _ => 0))), (q2, .inl (c1, 8, .inl (fun _ => 0))), (q3, .inl (c1, 8, .inl (fun _ => 0))), (q4, .inl (c1, 1681, .inl (fun _ => 0))), (q5, .inl (c1, 256, .inl (fun _ => 0)))] H := hP
  have hD : va_D A [(h0, .inr (1, [.ref q1, .ref q2, .ref q3, .int 0, .ref q4, .int 0, .null, .int 0])), (q1, .inl (c1, 8, .inl (fun _ => 0))), (q2, .inl (c1, 8, .inl (fun _ => 0))), (q3, .inl (c1, 8, .inl (fun _ => 0))), (q4, .inl (c1, 1681, .inl (fun _ => 0))), (q5, .inl (c1, 256, .inl (fun _ => 0)))] := hD
  refine W.widen (k := 5) (n := 1961) (by omega) (by omega) ?_
  refine va_putF (D := (dC, dI)) (ci := 1) (v := .ref q5) (ty := .array .int) (C := RX1) (T := TX1) (N := 8) hx hb hts in_X1 tyX1 tyX1_ok nmX1 hown hK hP hD hS 0 rfl rfl 6 (by decide) (hts _ q189) (fun _ h9 => h9) rfl hin rfl (by decide +kernel) rfl rfl (Nat.le_of_ble_eq_true rfl) dX1_init_43 (fun H locs hP hD hS => ?_)
  have hP : va_P (dC, dI) hu_Cl [(h0, .inr (1, [.ref q1, .ref q2, .ref q3, .int 0, .ref q4, .int 0, .ref q5, .int 0])), (q1, .inl (c1, 8, .inl (fun _ => 0))), (q2, .inl (c1, 8, .inl (fun _ => 0))), (q3, .inl (c1, 8, .inl (fun _ => 0))), (q4, .inl (c1, 1681, .inl (fun _ => 0))), (q5, .inl (c1, 256, .inl (fun _ => 0)))] H := hP
  have hD : va_D A [(h0, .inr (1, [.ref q1, .ref q2, .ref q3, .int 0, .ref q4, .int 0, .ref q5, .int 0])), (q1, .inl (c1, 8, .inl (fun _ => 0))), (q2, .inl (c1, 8, .inl (fun _ => 0))), (q3, .inl (c1, 8, .inl (fun _ => 0))), (q4, .inl (c1, 1681, .inl (fun _ => 0))), (q5, .inl (c1, 256, .inl (fun _ => 0)))] := hD
  obtain ⟨ad, had⟩ : ∃ ad : Nat → Nat, ad = (fun j => ([h0, q1, q2, q3, q4, q5] : List Nat).getD j 0) := ⟨_, rfl⟩
  have hP : va_P (dC, dI) hu_Cl (hu_wM c1 ad ((fun _ => 0), (fun _ => 0), (fun _ => 0), nI 0, (fun _ => 0), 0, (fun _ => 0), 0)) H := by rw [had]; exact hP
  have hD : va_D A (hu_wM c1 ad ((fun _ => 0), (fun _ => 0), (fun _ => 0), nI 0, (fun _ => 0), 0, (fun _ => 0), 0)) := by rw [had]; exact hD
  have hl : lv_has ls 1 [(0, .ref (ad 0))] := by rw [had]; exact hl
  refine lv_aload_n hx hb dX1_init_46 rfl (lv_at hl 0 rfl) ?_
  refine hu_callCV 0 (As := []) (rest := []) (wf := hu_wM c1 ad) (wr := []) ⟨hx, hb, hml, hown, hts⟩ (mX1_refresh l dC dI c1 ad _ (fun _ => 0) (fun _ => 0) (fun _ => 0) (fun _ => 0) 0 (fun _ => 0) 0 0 (by omega) (fun i hi => absurd hi (Nat.not_lt_zero i))) (lw_V q151 q153 qs6 q18 q154) (by decide +kernel) rfl ⟨Nat.le_of_ble_eq_true rfl, Nat.le_of_ble_eq_true rfl⟩ ⟨rfl, rfl⟩ hK hP hD hS hA [0, 1, 2, 3, 4, 5] [] rfl rfl ⟨rfl, rfl⟩ (by decide) rfl (va_recv hK hP (ci := 1) (q0 := 0) rfl rfl) hl.1 rfl (Nat.le_of_ble_eq_true rfl) ⟨Nat.le_of_ble_eq_true rfl, Nat.le_of_ble_eq_true rfl⟩ dX1_init_47 (fun u_47 H locs w_47 hP hD hS => ?_)
  obtain ⟨li2, L2, hu2, h2, rfl, hls, hwk⟩ := w_47
  exact W.vret hx hb hr (fun t ht hW => ⟨⟨(c1, ad, _), rfl, ⟨by rw [had]; rfl, li2, L2, hu2, h2, rfl, hls, hwk⟩, by rw [ht]; exact hP, va_K.moved hW.alike hK, hD⟩, hS.F ht⟩) hS.2.2 dX1_init_50 hlocks
end
section
/-! gift wrapping finds the hull's ways: no program in sight -/
section HuGift
def hu_ds (p q : Int × Int) : Int := (q.1 - p.1) * (q.1 - p.1) + (q.2 - p.2) * (q.2 - p.2)
/-- r lies on the way from p to q -/
def hu_Bt (p q r : Int × Int) (G a : Int) : Prop := 0 < G ∧ 0 ≤ a ∧ a ≤ G ∧ G * (r.1 - p.1) = a * (q.1 - p.1) ∧ G * (r.2 - p.2) = a * (q.2 - p.2)
theorem hu_bt {u v : Int} {p q r : Int × Int} (h : hu_lf u v p < hu_lf u v q) (h0 : hu_tn p q r = 0) (h1 : hu_lf u v p ≤ hu_lf u v r) (h2 : hu_lf u v r ≤ hu_lf u v q) : hu_Bt p q r (hu_lf u v q - hu_lf u v p) (hu_lf u v r - hu_lf u v p) := by
  refine ⟨by omega, by omega, by omega, ?_, ?_⟩
  · have e : (hu_lf u v q - hu_lf u v p) * (r.1 - p.1) - (hu_lf u v r - hu_lf u v p) * (q.1 - p.1) = -v * hu_tn p q r := by
      simp only [hu_lf, hu_tn]; grind
    rw [h0, Int.mul_zero] at e
    omega
  · have e : (hu_lf u v q - hu_lf u v p) * (r.2 - p.2) - (hu_lf u v r - hu_lf u v p) * (q.2 - p.2) = u * hu_tn p q r := by
      simp only [hu_lf, hu_tn]; grind
    rw [h0, Int.mul_zero] at e
    omega
theorem hu_mc {G x y : Int} (hG : 0 < G) (h : G * x = G * y) : x = y := Int.eq_of_mul_eq_mul_left (by omega) h
theorem hu_bt_end {p q r : Int × Int} {G a : Int} (h : hu_Bt p q r G a) (e : a = G) : r = q := by
  obtain ⟨h1, h2, h3, h4, h5⟩ := h
  rw [e] at h4 h5
  have k1 := hu_mc h1 h4
  have k2 := hu_mc h1 h5
  exact Prod.ext (by omega) (by omega)
theorem hu_bt_start {p q r : Int × Int} {G a : Int} (h : hu_Bt p q r G a) (e : a = 0) : r = p := by
  obtain ⟨h1, h2, h3, h4, h5⟩ := h
  rw [e, Int.zero_mul] at h4 h5
  have k1 := hu_m0 h1 h4
  have k2 := hu_m0 h1 h5
  exact Prod.ext (by omega) (by omega)
theorem hu_sq (a : Int) : 0 ≤ a * a := by
  rcases Int.lt_or_le a 0 with q | q
  · have := Int.mul_nonneg (show 0 ≤ -a by omega) (show 0 ≤ -a by omega)
    rw [Int.neg_mul_neg] at this
    exact this
  · exact Int.mul_nonneg q q
theorem hu_ds_pos {p q : Int × Int} (h : p ≠ q) : 0 < hu_ds p q := by
  have k1 := hu_sq (q.1 - p.1)
  have k2 := hu_sq (q.2 - p.2)
  unfold hu_ds
  rcases Int.lt_or_le 0 ((q.1 - p.1) * (q.1 - p.1) + (q.2 - p.2) * (q.2 - p.2)) with w | w
  · exact w
  · exfalso
    have e1 : (q.1 - p.1) * (q.1 - p.1) = 0 := by omega
    have e2 : (q.2 - p.2) * (q.2 - p.2) = 0 := by omega
    have f1 : q.1 - p.1 = 0 := by
      rcases Int.mul_eq_zero.mp e1 with z | z <;> exact z
    have f2 : q.2 - p.2 = 0 := by
      rcases Int.mul_eq_zero.mp e2 with z | z <;> exact z
    exact h (Prod.ext (by omega) (by omega))
theorem hu_bt_ds {p q r : Int × Int} {G a : Int} (h : hu_Bt p q r G a) (hpq : p ≠ q) : r = q ∨ hu_ds p r < hu_ds p q := by
  rcases Int.lt_or_le a G with w | w
  · right
    have h0 := hu_ds_pos hpq
    obtain ⟨h1, h2, h3, h4, h5⟩ := h
    have e : hu_ds p r * (G * G) = a * a * hu_ds p q := by
      have e1 : hu_ds p r * (G * G) = (G * (r.1 - p.1)) * (G * (r.1 - p.1)) + (G * (r.2 - p.2)) * (G * (r.2 - p.2)) := by
        unfold hu_ds; grind
      rw [e1, h4, h5]
      unfold hu_ds; grind
    have e2 : (hu_ds p q - hu_ds p r) * (G * G) = (G - a) * (G + a) * hu_ds p q := by
      have : (hu_ds p q - hu_ds p r) * (G * G) = hu_ds p q * (G * G) - hu_ds p r * (G * G) := by grind
      rw [this, e]
      grind
    have k1 : 0 < (G - a) * (G + a) := Int.mul_pos (by omega) (by omega)
    have k2 := Int.mul_pos k1 h0
    have k3 := hu_pp (Int.mul_pos h1 h1) (by rw [e2]; exact k2)
    omega
  · left
    exact hu_bt_end h (by have := h.2.2.1; omega)
theorem hu_tn_sw (p q r : Int × Int) : hu_tn p r q = -hu_tn p q r := by
  simp only [hu_tn]; grind
theorem hu_tn_cy (p q r : Int × Int) : hu_tn q r p = hu_tn p q r := by
  simp only [hu_tn]; grind
theorem hu_tn_e (p q : Int × Int) : hu_tn p q q = 0 ∧ hu_tn p q p = 0 := by
  simp only [hu_tn]; constructor <;> grind
theorem hu_X_ne {S : Int × Int → Prop} {p q : Int × Int} (h : hu_X S p q) : p ≠ q := by
  obtain ⟨u, v, h1, h2⟩ := h
  intro e
  rw [e] at h1
  omega
theorem hu_X_bt {S : Int × Int → Prop} {p q r : Int × Int} (h : hu_X S p q) (hr : S r) (h0 : hu_tn p q r = 0) : ∃ G a, hu_Bt p q r G a := by
  obtain ⟨u, v, h1, h2⟩ := h
  obtain ⟨_, k⟩ := h2 r hr
  obtain ⟨k1, k2⟩ := k h0
  exact ⟨_, _, hu_bt h1 h0 k1 k2⟩
theorem hu_X_ge {S : Int × Int → Prop} {p q r : Int × Int} (h : hu_X S p q) (hr : S r) : 0 ≤ hu_tn p q r := by
  obtain ⟨u, v, h1, h2⟩ := h
  exact (h2 r hr).1
/-- the next corner is the only one -/
theorem hu_X_uq {S : Int × Int → Prop} {p q r : Int × Int} (h : hu_X S p q) (h' : hu_X S p r) (hq : S q) (hr : S r) : r = q := by
  have k1 := hu_X_ge h hr
  have k2 := hu_X_ge h' hq
  have k3 := hu_tn_sw p q r
  have z1 : hu_tn p q r = 0 := by omega
  have z2 : hu_tn p r q = 0 := by omega
  obtain ⟨G, a, b1⟩ := hu_X_bt h hr z1
  obtain ⟨G', a', b2⟩ := hu_X_bt h' hq z2
  rcases hu_bt_ds b1 (hu_X_ne h) with w | w
  · exact w
  · rcases hu_bt_ds b2 (hu_X_ne h') with w2 | w2
    · exact w2.symm
    · omega
theorem hu_H_ne {S : Int × Int → Prop} {n : Nat} {c : Nat → Int × Int} (h : hu_H S n c) (hn : 2 ≤ n) : ∀ d i j, i < j → j + d + 1 = n → c i ≠ c j := by
  obtain ⟨h0, h1, h2, h3, h4, h5⟩ := h
  have h2 := h2 hn
  intro d
  induction d with
  | zero =>
    intro i j hij hj e
    have k1 := h2 i (by omega)
    have k2 := h2 j (by omega)
    rw [hu_nx_y (by omega)] at k1
    rw [hu_nx_n (by omega), ← e] at k2
    exact h3 (i + 1) (by omega) (by omega) (hu_X_uq k2 k1 (h1 0 (by omega)) (h1 _ (by omega)))
  | succ d ih =>
    intro i j hij hj e
    have k1 := h2 i (by omega)
    have k2 := h2 j (by omega)
    rw [hu_nx_y (by omega)] at k1
    rw [hu_nx_y (by omega), ← e] at k2
    exact ih (i + 1) (j + 1) (by omega) (by omega) (hu_X_uq k2 k1 (h1 _ (by omega)) (h1 _ (by omega)))
theorem hu_H_inj {S : Int × Int → Prop} {n : Nat} {c : Nat → Int × Int} (h : hu_H S n c) {i j : Nat} (hi : i < n) (hj : j < n) (e : c i = c j) : i = j := by
  rcases Nat.lt_or_ge i j with q | q
  · exact absurd e (hu_H_ne h (by omega) (n - j - 1) i j q (by omega))
  · rcases Nat.lt_or_ge j i with w | w
    · exact absurd e.symm (hu_H_ne h (by omega) (n - i - 1) j i w (by omega))
    · omega
/-- three corners in a row turn -/
theorem hu_H_fat {S : Int × Int → Prop} {n : Nat} {c : Nat → Int × Int} (h : hu_H S n c) (hn : 3 ≤ n) {k : Nat} (hk : k < n) : 0 < hu_tn (c k) (c (hu_nx n k)) (c (hu_nx n (hu_nx n k))) := by
  have a1 : hu_nx n k < n := hu_nx_lt hk
  have a2 : hu_nx n (hu_nx n k) < n := hu_nx_lt a1
  have x1 := h.2.2.1 (by omega) k hk
  have x2 := h.2.2.1 (by omega) (hu_nx n k) a1
  have k1 := hu_X_ge x1 (h.2.1 _ a2)
  rcases Int.lt_or_le 0 (hu_tn (c k) (c (hu_nx n k)) (c (hu_nx n (hu_nx n k)))) with w | w
  · exact w
  · exfalso
    have z1 : hu_tn (c k) (c (hu_nx n k)) (c (hu_nx n (hu_nx n k))) = 0 := by omega
    have z2 : hu_tn (c (hu_nx n k)) (c (hu_nx n (hu_nx n k))) (c k) = 0 := by rw [hu_tn_cy]; exact z1
    obtain ⟨G, a, b1⟩ := hu_X_bt x1 (h.2.1 _ a2) z1
    obtain ⟨G', a', b2⟩ := hu_X_bt x2 (h.2.1 _ hk) z2
    have hne := hu_X_ne x1
    have ek : c (hu_nx n (hu_nx n k)) = c k := by
      generalize c k = p at *
      generalize c (hu_nx n k) = q at *
      generalize c (hu_nx n (hu_nx n k)) = z at *
      rcases Int.lt_or_le 0 a with wa | wa
      · exfalso
        obtain ⟨g1, g2, g3, g4, g5⟩ := b1
        obtain ⟨f1, f2, f3, f4, f5⟩ := b2
        have m1 : (G * G' - a' * (G - a)) * (p.1 - q.1) = 0 := by
          have e1 : G * (z.1 - q.1) = (a - G) * (q.1 - p.1) := by grind
          have e2 : G * (G' * (p.1 - q.1)) = a' * (G * (z.1 - q.1)) := by rw [f4]; grind
          rw [e1] at e2
          grind
        have m2 : (G * G' - a' * (G - a)) * (p.2 - q.2) = 0 := by
          have e1 : G * (z.2 - q.2) = (a - G) * (q.2 - p.2) := by grind
          have e2 : G * (G' * (p.2 - q.2)) = a' * (G * (z.2 - q.2)) := by rw [f5]; grind
          rw [e1] at e2
          grind
        have m3 : 0 < G * G' - a' * (G - a) := by
          have t1 := Int.mul_nonneg (show 0 ≤ G' - a' by omega) (show 0 ≤ G - a by omega)
          have t2 := Int.mul_pos f1 wa
          have t3 : (G' - a') * (G - a) + G' * a = G * G' - a' * (G - a) := by grind
          omega
        have m4 := hu_m0 m3 m1
        have m5 := hu_m0 m3 m2
        exact hne (Prod.ext (by omega) (by omega))
      · exact hu_bt_start b1 (by have := b1.2.1; omega)
    have := hu_H_inj h a2 hk ek
    unfold hu_nx at this
    split at this <;> split at this <;> omega
def hu_pr (n i : Nat) : Nat := if i = 0 then n - 1 else i - 1
theorem hu_pr_lt {n i : Nat} (h : i < n) : hu_pr n i < n := by
  unfold hu_pr
  split <;> omega
theorem hu_pr_nx {n i : Nat} (h : i < n) : hu_nx n (hu_pr n i) = i := by
  unfold hu_pr hu_nx
  split
  · split <;> omega
  · split <;> omega
/-- a linear form is greatest at a corner -/
theorem hu_H_max {S : Int × Int → Prop} {n : Nat} {c : Nat → Int × Int} (h : hu_H S n c) (g k : Int) {m : Nat} (hm : m < n) (hmax : ∀ j, j < n → hu_lf g k (c j) ≤ hu_lf g k (c m)) {r : Int × Int} (hr : S r) : hu_lf g k r ≤ hu_lf g k (c m) := by
  rcases Nat.lt_or_ge n 2 with q | q
  · have : n = 1 := by omega
    rw [h.2.2.2.2.2 this r hr, show m = 0 by omega]
    exact Int.le_refl _
  · rcases Nat.lt_or_ge n 3 with w | w
    · have hn2 : n = 2 := by omega
      subst hn2
      have x1 := h.2.2.1 (by omega) 0 (by omega)
      have x2 := h.2.2.1 (by omega) 1 (by omega)
      rw [hu_nx_y (by omega)] at x1
      rw [hu_nx_n (by omega)] at x2
      have k1 : 0 ≤ hu_tn (c 0) (c 1) r := hu_X_ge x1 hr
      have k2 := hu_X_ge x2 hr
      have k3 : hu_tn (c 1) (c 0) r = -hu_tn (c 0) (c 1) r := by simp only [hu_tn]; grind
      obtain ⟨G, a, b1, b2, b3, b4, b5⟩ := hu_X_bt x1 hr (show hu_tn (c 0) (c (0 + 1)) r = 0 by show hu_tn (c 0) (c 1) r = 0; omega)
      have m0 := hmax 0 (by omega)
      have m1 : hu_lf g k (c (0 + 1)) ≤ hu_lf g k (c m) := hmax 1 (by omega)
      have e : G * (hu_lf g k r - hu_lf g k (c 0)) = a * (hu_lf g k (c (0 + 1)) - hu_lf g k (c 0)) := by
        have : G * (hu_lf g k r - hu_lf g k (c 0)) = g * (G * (r.1 - (c 0).1)) + k * (G * (r.2 - (c 0).2)) := by simp only [hu_lf]; grind
        rw [this, b4, b5]
        simp only [hu_lf]; grind
      have t1 := Int.mul_nonneg (show 0 ≤ G - a by omega) (show 0 ≤ hu_lf g k (c m) - hu_lf g k (c 0) by omega)
      have t2 := Int.mul_nonneg b2 (show 0 ≤ hu_lf g k (c m) - hu_lf g k (c (0 + 1)) by omega)
      have t3 : (hu_lf g k (c m) - hu_lf g k r) * G = (G - a) * (hu_lf g k (c m) - hu_lf g k (c 0)) + a * (hu_lf g k (c m) - hu_lf g k (c (0 + 1))) := by grind
      have t4 := hu_nn b1 (show 0 ≤ (hu_lf g k (c m) - hu_lf g k r) * G by omega)
      omega
    · have pl := hu_pr_lt hm
      have nl : hu_nx n m < n := hu_nx_lt hm
      have f := hu_H_fat h w pl
      have x1 := h.2.2.1 (by omega) _ pl
      have x2 := h.2.2.1 (by omega) m hm
      rw [hu_pr_nx hm] at f x1
      have k1 := hu_X_ge x1 hr
      have k2 := hu_X_ge x2 hr
      have m1 := hmax _ pl
      have m2 := hmax _ nl
      generalize c (hu_pr n m) = a at *
      generalize c (hu_nx n m) = b at *
      generalize c m = z at *
      have e : (hu_lf g k z - hu_lf g k r) * hu_tn a z b = hu_tn a z r * (hu_lf g k z - hu_lf g k b) + hu_tn z b r * (hu_lf g k z - hu_lf g k a) := by
        simp only [hu_lf, hu_tn]; grind
      have t1 := Int.mul_nonneg k1 (show 0 ≤ hu_lf g k z - hu_lf g k b by omega)
      have t2 := Int.mul_nonneg k2 (show 0 ≤ hu_lf g k z - hu_lf g k a by omega)
      have := hu_nn f (by rw [e]; omega)
      omega
end HuGift
end
section
/-! points as numbers; the reference's walk goes round the hull -/
section HuCode
def hu_bx (p : Int × Int) : Prop := 0 ≤ p.1 ∧ p.1 ≤ 40 ∧ 0 ≤ p.2 ∧ p.2 ≤ 40
def hu_cd (p : Int × Int) : Int32 := nI (p.1.toNat + 64 * p.2.toNat)
theorem hu_nz {z : Int} (h : 0 ≤ z) : nI z.toNat = hu_iI z := by
  rw [hu_iI_nat, Int.toNat_of_nonneg h]
theorem hu_xcd {p : Int × Int} (h : hu_bx p) : hu_xO (hu_cd p) = hu_iI p.1 := by
  obtain ⟨h1, h2, h3, h4⟩ := h
  unfold hu_xO hu_cd
  rw [pk_andN (by omega) 6 (by decide), show (p.1.toNat + 64 * p.2.toNat) % 2 ^ 6 = p.1.toNat by omega, hu_nz h1]
theorem hu_ycd {p : Int × Int} (h : hu_bx p) : hu_yO (hu_cd p) = hu_iI p.2 := by
  obtain ⟨h1, h2, h3, h4⟩ := h
  unfold hu_yO hu_cd
  rw [pk_shrN (by omega) _ 6 (by decide), show (p.1.toNat + 64 * p.2.toNat) / 2 ^ 6 = p.2.toNat by omega, hu_nz h3]
theorem hu_tRc {p q r : Int × Int} (hp : hu_bx p) (hq : hu_bx q) (hr : hu_bx r) : hu_tR (hu_cd p) (hu_cd q) (hu_cd r) = hu_iI (hu_tn p q r) := by
  unfold hu_tR hu_tn
  rw [hu_xcd hp, hu_xcd hq, hu_xcd hr, hu_ycd hp, hu_ycd hq, hu_ycd hr, hu_iI_sub, hu_iI_sub, hu_iI_sub, hu_iI_sub, hu_iI_mul, hu_iI_mul, hu_iI_sub]
theorem hu_dRc {p q : Int × Int} (hp : hu_bx p) (hq : hu_bx q) : hu_dR (hu_cd p) (hu_cd q) = hu_iI (hu_ds p q) := by
  unfold hu_dR hu_ds
  rw [hu_xcd hp, hu_xcd hq, hu_ycd hp, hu_ycd hq, hu_iI_sub, hu_iI_sub, hu_iI_mul, hu_iI_mul, hu_iI_add]
theorem hu_vRc {p : Int × Int} (g h : Int32) (hp : hu_bx p) : hu_vR g h (hu_cd p) = g * hu_iI p.1 + h * hu_iI p.2 := by
  unfold hu_vR
  rw [hu_xcd hp, hu_ycd hp]
theorem hu_cd_inj {p q : Int × Int} (hp : hu_bx p) (hq : hu_bx q) (e : hu_cd p = hu_cd q) : p = q := by
  have e1 := congrArg hu_xO e
  have e2 := congrArg hu_yO e
  rw [hu_xcd hp, hu_xcd hq] at e1
  rw [hu_ycd hp, hu_ycd hq] at e2
  obtain ⟨h1, h2, h3, h4⟩ := hp
  obtain ⟨k1, k2, k3, k4⟩ := hq
  exact Prod.ext ((hu_iI_eq (by omega) (by omega) (by omega) (by omega)).mp e1) ((hu_iI_eq (by omega) (by omega) (by omega) (by omega)).mp e2)
theorem hu_tn_b {p q r : Int × Int} (hp : hu_bx p) (hq : hu_bx q) (hr : hu_bx r) : -3200 ≤ hu_tn p q r ∧ hu_tn p q r ≤ 3200 := by
  obtain ⟨h1, h2, h3, h4⟩ := hp
  obtain ⟨k1, k2, k3, k4⟩ := hq
  obtain ⟨l1, l2, l3, l4⟩ := hr
  have m1 := hu_ab (a := q.1 - p.1) (b := r.2 - p.2) (A := 40) (B := 40) (by omega) (by omega) (by omega) (by omega)
  have m2 := hu_ab (a := q.2 - p.2) (b := r.1 - p.1) (A := 40) (B := 40) (by omega) (by omega) (by omega) (by omega)
  unfold hu_tn
  omega
theorem hu_ds_b {p q : Int × Int} (hp : hu_bx p) (hq : hu_bx q) : -3200 ≤ hu_ds p q ∧ hu_ds p q ≤ 3200 := by
  obtain ⟨h1, h2, h3, h4⟩ := hp
  obtain ⟨k1, k2, k3, k4⟩ := hq
  have m1 := hu_ab (a := q.1 - p.1) (b := q.1 - p.1) (A := 40) (B := 40) (by omega) (by omega) (by omega) (by omega)
  have m2 := hu_ab (a := q.2 - p.2) (b := q.2 - p.2) (A := 40) (B := 40) (by omega) (by omega) (by omega) (by omega)
  unfold hu_ds
  omega
theorem hu_nCc {p b r : Int × Int} (hp : hu_bx p) (hb : hu_bx b) (hr : hu_bx r) : hu_nC (hu_cd p) (hu_cd b) (hu_cd r) ↔ (b = p ∨ hu_tn p b r < 0 ∨ (hu_tn p b r = 0 ∧ hu_ds p b < hu_ds p r)) := by
  unfold hu_nC
  rw [hu_tRc hp hb hr, hu_dRc hp hb, hu_dRc hp hr]
  have t := hu_tn_b hp hb hr
  have d1 := hu_ds_b hp hb
  have d2 := hu_ds_b hp hr
  have e1 : hu_iI (hu_tn p b r) < 0 ↔ hu_tn p b r < 0 := hu_iI_lt (b := 0) (by omega) (by omega) (by omega) (by omega)
  have e2 : hu_iI (hu_tn p b r) = 0 ↔ hu_tn p b r = 0 := hu_iI_eq (b := 0) (by omega) (by omega) (by omega) (by omega)
  rw [e1, e2, hu_iI_lt (by omega) (by omega) (by omega) (by omega)]
  constructor
  · rintro (q | q)
    · exact Or.inl (hu_cd_inj hb hp q)
    · exact Or.inr q
  · rintro (q | q)
    · exact Or.inl (by rw [q])
    · exact Or.inr q
theorem hu_cnt_inv {P : Nat → Prop} {j : Nat} : ∀ {N : Nat}, j < hu_cnt P N → ∃ i, i < N ∧ P i ∧ hu_cnt P i = j := by
  intro N
  induction N with
  | zero => intro h; exact absurd h (Nat.not_lt_zero _)
  | succ N ih =>
    intro h
    by_cases w : P N
    · rw [hu_cnt_y w] at h
      rcases Nat.lt_or_ge j (hu_cnt P N) with q | q
      · obtain ⟨i, a, b, c⟩ := ih q
        exact ⟨i, by omega, b, c⟩
      · exact ⟨N, by omega, w, by omega⟩
    · rw [hu_cnt_n w] at h
      obtain ⟨i, a, b, c⟩ := ih h
      exact ⟨i, by omega, b, c⟩
def hu_ix (r : Int × Int) : Nat := 41 * r.1.toNat + r.2.toNat
theorem hu_ix_lt {r : Int × Int} (h : hu_bx r) : hu_ix r < 1681 := by
  obtain ⟨h1, h2, h3, h4⟩ := h
  unfold hu_ix
  omega
theorem hu_ix_gp {r : Int × Int} (h : hu_bx r) : hu_gp (hu_ix r) = r := by
  obtain ⟨h1, h2, h3, h4⟩ := h
  unfold hu_gp hu_ix
  exact Prod.ext (by show (((41 * r.1.toNat + r.2.toNat) / 41 : Nat) : Int) = r.1; omega) (by show (((41 * r.1.toNat + r.2.toNat) % 41 : Nat) : Int) = r.2; omega)
theorem hu_gp_ix {i : Nat} : hu_ix (hu_gp i) = i := by
  show 41 * (((i / 41 : Nat) : Int)).toNat + (((i % 41 : Nat) : Int)).toNat = i
  omega
theorem hu_gp_cd (i : Nat) : nI (i / 41 + 64 * (i % 41)) = hu_cd (hu_gp i) := by
  unfold hu_cd hu_gp
  congr 1
theorem hu_Ls_at {K : Nat} {as bs cs li : Nat → Int32} {L : Nat} (h : hu_Ls K as bs cs li L) {j : Nat} (hj : j < L) : ∃ r, hu_S K as bs cs r ∧ li j = hu_cd r := by
  rw [h.1] at hj
  obtain ⟨i, a, b, c⟩ := hu_cnt_inv hj
  exact ⟨hu_gp i, b, by rw [← c, h.2 i a b, hu_gp_cd]⟩
theorem hu_Ls_has {K : Nat} {as bs cs li : Nat → Int32} {L : Nat} (h : hu_Ls K as bs cs li L) {r : Int × Int} (hr : hu_S K as bs cs r) : ∃ j, j < L ∧ li j = hu_cd r := by
  have hp : hu_P K as bs cs (hu_ix r) := by
    show hu_S K as bs cs (hu_gp (hu_ix r))
    rw [hu_ix_gp hr.1]
    exact hr
  refine ⟨hu_cnt (hu_P K as bs cs) (hu_ix r), ?_, ?_⟩
  · rw [h.1]
    exact hu_cnt_lt hp (hu_ix_lt hr.1)
  · rw [h.2 _ (hu_ix_lt hr.1) hp, hu_gp_cd, hu_ix_gp hr.1]
theorem hu_next {K : Nat} {as bs cs li : Nat → Int32} {L : Nat} (h : hu_Ls K as bs cs li L) {p q : Int × Int} (hp : hu_S K as bs cs p) (hq : hu_S K as bs cs q) (hX : hu_X (hu_S K as bs cs) p q) : hu_nR li (hu_cd p) L = hu_cd q := by
  obtain ⟨j0, hj0, ej0⟩ := hu_Ls_has h hq
  have key : ∀ j, j ≤ L → ∃ b, hu_S K as bs cs b ∧ hu_nR li (hu_cd p) j = hu_cd b ∧ (j0 < j → b = q) := by
    intro j
    induction j with
    | zero => intro _; exact ⟨p, hp, rfl, fun z => absurd z (Nat.not_lt_zero _)⟩
    | succ j ih =>
      intro hj
      obtain ⟨b, hb, eb, hlast⟩ := ih (by omega)
      obtain ⟨r, hr, er⟩ := hu_Ls_at h (show j < L by omega)
      have cc := hu_nCc hp.1 hb.1 hr.1
      by_cases w : hu_nC (hu_cd p) (hu_cd b) (li j)
      · have e2 := hu_nR_y eb.symm w
        refine ⟨r, hr, by rw [← e2]; exact er, fun z => ?_⟩
        rw [er] at w
        rcases Nat.lt_or_ge j0 j with y | y
        · have hbq := hlast y
          subst hbq
          exfalso
          rcases cc.mp w with w | w | w
          · exact hu_X_ne hX w.symm
          · have := hu_X_ge hX hr
            omega
          · obtain ⟨G, a, bt⟩ := hu_X_bt hX hr w.1
            rcases hu_bt_ds bt (hu_X_ne hX) with z2 | z2
            · rw [z2] at w
              omega
            · omega
        · have : j0 = j := by omega
          subst this
          exact hu_cd_inj hr.1 hq.1 (by rw [← er]; exact ej0)
      · have e2 := hu_nR_n eb.symm w
        refine ⟨b, hb, e2.symm, fun z => ?_⟩
        rcases Nat.lt_or_ge j0 j with y | y
        · exact hlast y
        · have : j0 = j := by omega
          subst this
          have erq : r = q := hu_cd_inj hr.1 hq.1 (by rw [← er]; exact ej0)
          subst erq
          rw [er] at w
          have w2 := mt cc.mpr w
          have k1 := hu_X_ge hX hb
          have k2 := hu_tn_sw p r b
          have k3 : ¬ hu_tn p b r < 0 := fun z => w2 (Or.inr (Or.inl z))
          have k4 : hu_tn p r b = 0 := by omega
          have k5 : hu_tn p b r = 0 := by omega
          obtain ⟨G, a, bt⟩ := hu_X_bt hX hb k4
          rcases hu_bt_ds bt (hu_X_ne hX) with z2 | z2
          · exact z2
          · exact absurd (Or.inr (Or.inr ⟨k5, z2⟩)) w2
  obtain ⟨b, _, eb, hb⟩ := key L (Nat.le_refl L)
  rw [eb, hb hj0]
theorem hu_next1 {K : Nat} {as bs cs li : Nat → Int32} {L : Nat} (h : hu_Ls K as bs cs li L) {p : Int × Int} (hp : hu_S K as bs cs p) (h1 : ∀ r, hu_S K as bs cs r → r = p) : hu_nR li (hu_cd p) L = hu_cd p := by
  have key : ∀ j, j ≤ L → hu_nR li (hu_cd p) j = hu_cd p := by
    intro j
    induction j with
    | zero => intro _; rfl
    | succ j ih =>
      intro hj
      obtain ⟨r, hr, er⟩ := hu_Ls_at h (show j < L by omega)
      have e2 := hu_nR_y (f := li) (b := hu_cd p) (k := j) (ih (by omega)).symm (Or.inl rfl)
      rw [← e2, er, h1 r hr]
  exact key L (Nat.le_refl L)
theorem hu_cnt_0 {P : Nat → Prop} : ∀ {i : Nat}, (∀ j, j < i → ¬ P j) → hu_cnt P i = 0 := by
  intro i
  induction i with
  | zero => intro _; rfl
  | succ i ih =>
    intro h
    rw [hu_cnt_n (h i (by omega))]
    exact ih (fun j hj => h j (by omega))
theorem hu_first {K : Nat} {as bs cs li : Nat → Int32} {L : Nat} (h : hu_Ls K as bs cs li L) {p : Int × Int} (hp : hu_S K as bs cs p) (hmin : ∀ r, hu_S K as bs cs r → p.1 ≤ r.1 ∧ (r.1 = p.1 → p.2 ≤ r.2)) : 0 < L ∧ li 0 = hu_cd p := by
  have hpP : hu_P K as bs cs (hu_ix p) := by
    show hu_S K as bs cs (hu_gp (hu_ix p))
    rw [hu_ix_gp hp.1]
    exact hp
  have h0 : hu_cnt (hu_P K as bs cs) (hu_ix p) = 0 := by
    refine hu_cnt_0 (fun j hj hP => ?_)
    have k := hmin _ hP
    have k1 : p.1 ≤ ((j / 41 : Nat) : Int) := k.1
    have k2 : ((j / 41 : Nat) : Int) = p.1 → p.2 ≤ ((j % 41 : Nat) : Int) := k.2
    obtain ⟨b1, b2, b3, b4⟩ := hp.1
    unfold hu_ix at hj
    by_cases e : ((j / 41 : Nat) : Int) = p.1
    · have := k2 e
      omega
    · omega
  have k := h.2 _ (hu_ix_lt hp.1) hpP
  rw [h0, hu_gp_cd, hu_ix_gp hp.1] at k
  refine ⟨?_, k⟩
  have := hu_cnt_lt hpP (hu_ix_lt hp.1)
  rw [h.1]
  omega
/-- the reference's hull is the hull -/
theorem hu_walkH {K : Nat} {as bs cs li hu : Nat → Int32} {L h n : Nat} {c : Nat → Int × Int} (hl : hu_Ls K as bs cs li L) (hw : hu_Wk li L hu h) (hH : hu_H (hu_S K as bs cs) n c) (hn : n ≤ 82) : h = n ∧ (L = 0 ↔ n = 0) ∧ ∀ j, j < n → hu j = hu_cd (c j) := by
  obtain ⟨w1, w2, w3⟩ := hw
  rcases Nat.eq_zero_or_pos n with z | z
  · have hL : L = 0 := by
      rcases Nat.eq_zero_or_pos L with y | y
      · exact y
      · obtain ⟨r, hr, _⟩ := hu_Ls_at hl y
        exact absurd hr (hH.1 z r)
    exact ⟨by rw [w2 hL, z], ⟨fun _ => z, fun _ => hL⟩, fun j hj => by omega⟩
  · have c0 := hH.2.1 0 z
    obtain ⟨hL, e0⟩ := hu_first hl c0 (hH.2.2.2.2.1 z)
    obtain ⟨v1, v2, v3, v4⟩ := w3 hL
    have hit : ∀ j, j < n → hu_it li L j = hu_cd (c j) := by
      intro j
      induction j with
      | zero => intro _; exact e0
      | succ j ih =>
        intro hj
        show hu_nR li (hu_it li L j) L = _
        rw [ih (by omega)]
        have X := hH.2.2.1 (by omega) j (by omega)
        rw [hu_nx_y hj] at X
        exact hu_next hl (hH.2.1 j (by omega)) (hH.2.1 _ hj) X
    have hend : hu_it li L n = hu_cd (c 0) := by
      obtain ⟨m, rfl⟩ : ∃ m, n = m + 1 := ⟨n - 1, by omega⟩
      show hu_nR li (hu_it li L m) L = _
      rw [hit m (by omega)]
      rcases Nat.eq_zero_or_pos m with y | y
      · subst y
        exact hu_next1 hl c0 (hH.2.2.2.2.2 rfl)
      · have X := hH.2.2.1 (by omega) m (by omega)
        rw [hu_nx_n (by omega)] at X
        exact hu_next hl (hH.2.1 m (by omega)) c0 X
    have hh : h = n := by
      rcases Nat.lt_or_ge h n with q | q
      · exfalso
        rcases v4 with v | v
        · omega
        · rw [hit h q, e0] at v
          exact hH.2.2.2.1 h v1 q (hu_cd_inj (hH.2.1 h q).1 c0.1 v)
      · rcases Nat.lt_or_ge n h with y | y
        · exact absurd (by rw [hend, e0]) (v3 n z y)
        · omega
    subst hh
    exact ⟨rfl, ⟨fun y => by omega, fun y => by omega⟩, fun j hj => by rw [v2 j hj, hit j hj]⟩
end HuCode
end
section
/-! counting: points, columns, the border -/
section HuCount
theorem hu_cnt_cg {P Q : Nat → Prop} : ∀ {N : Nat}, (∀ i, i < N → (P i ↔ Q i)) → hu_cnt P N = hu_cnt Q N := by
  intro N
  induction N with
  | zero => intro _; rfl
  | succ N ih =>
    intro h
    have k := ih (fun i hi => h i (by omega))
    by_cases w : P N
    · rw [hu_cnt_y w, hu_cnt_y ((h N (by omega)).mp w), k]
    · rw [hu_cnt_n w, hu_cnt_n (fun z => w ((h N (by omega)).mpr z)), k]
theorem hu_cnt_sp (P : Nat → Prop) (a : Nat) : ∀ n, hu_cnt P (a + n) = hu_cnt P a + hu_cnt (fun t => P (a + t)) n := by
  intro n
  induction n with
  | zero => rfl
  | succ n ih =>
    show hu_cnt P (a + n + 1) = _
    by_cases w : P (a + n)
    · rw [hu_cnt_y w, hu_cnt_y (P := fun t => P (a + t)) w, ih]; omega
    · rw [hu_cnt_n w, hu_cnt_n (P := fun t => P (a + t)) w, ih]
theorem hu_cnt_or {A B : Nat → Prop} : ∀ {N : Nat}, (∀ i, i < N → ¬ (A i ∧ B i)) → hu_cnt (fun i => A i ∨ B i) N = hu_cnt A N + hu_cnt B N := by
  intro N
  induction N with
  | zero => intro _; rfl
  | succ N ih =>
    intro h
    have k := ih (fun i hi => h i (by omega))
    have d := h N (by omega)
    by_cases w : A N
    · have w2 : ¬ B N := fun z => d ⟨w, z⟩
      rw [hu_cnt_y (P := fun i => A i ∨ B i) (Or.inl w), hu_cnt_y w, hu_cnt_n w2, k]; omega
    · by_cases w2 : B N
      · rw [hu_cnt_y (P := fun i => A i ∨ B i) (Or.inr w2), hu_cnt_n w, hu_cnt_y w2, k]; omega
      · rw [hu_cnt_n (P := fun i => A i ∨ B i) (fun z => z.elim w w2), hu_cnt_n w, hu_cnt_n w2, k]
theorem hu_cnt_1 {f : Nat} : ∀ {N : Nat}, f < N → hu_cnt (fun i => i = f) N = 1 := by
  intro N h
  obtain ⟨d, rfl⟩ : ∃ d, N = f + (1 + d) := ⟨N - f - 1, by omega⟩
  rw [hu_cnt_sp, hu_cnt_sp, hu_cnt_0 (fun j hj => by omega), hu_cnt_0 (i := d) (fun j hj => by omega), hu_cnt_y (P := fun t => f + t = f) (k := 0) rfl]
  rfl
theorem hu_cnt_ex {f : Nat → Nat} {N : Nat} : ∀ {m : Nat}, (∀ s t, s < m → t < m → f s = f t → s = t) → (∀ t, t < m → f t < N) → hu_cnt (fun i => ∃ t, t < m ∧ i = f t) N = m := by
  intro m
  induction m with
  | zero => intro _ _; exact hu_cnt_0 (fun j _ ⟨t, ht, _⟩ => absurd ht (Nat.not_lt_zero t))
  | succ m ih =>
    intro h1 h2
    have k := ih (fun s t hs ht e => h1 s t (by omega) (by omega) e) (fun t ht => h2 t (by omega))
    have e : hu_cnt (fun i => ∃ t, t < m + 1 ∧ i = f t) N = hu_cnt (fun i => (∃ t, t < m ∧ i = f t) ∨ i = f m) N := by
      refine hu_cnt_cg (fun i hi => ⟨?_, ?_⟩)
      · rintro ⟨t, ht, e⟩
        rcases Nat.lt_or_ge t m with q | q
        · exact Or.inl ⟨t, q, e⟩
        · exact Or.inr (by rw [e, show t = m by omega])
      · rintro (⟨t, ht, e⟩ | e)
        · exact ⟨t, by omega, e⟩
        · exact ⟨m, by omega, e⟩
    have hdis : ∀ i, i < N → ¬ ((∃ t, t < m ∧ i = f t) ∧ i = f m) := by
      rintro i _ ⟨⟨t, ht, e1⟩, e2⟩
      have := h1 t m (by omega) (by omega) (by rw [← e1, ← e2])
      omega
    rw [e, hu_cnt_or hdis, k, hu_cnt_1 (h2 m (by omega))]
theorem hu_cnt_iv {lo hi : Int} (h0 : 0 ≤ lo) : ∀ T : Nat, hu_cnt (fun t => lo ≤ (t : Int) ∧ (t : Int) ≤ hi) T = ((if (T : Int) ≤ hi then (T : Int) else hi + 1) - lo).toNat := by
  intro T
  induction T with
  | zero =>
    show 0 = _
    split <;> omega
  | succ T ih =>
    by_cases w : lo ≤ (T : Int) ∧ (T : Int) ≤ hi
    · rw [hu_cnt_y (P := fun t : Nat => lo ≤ (t : Int) ∧ (t : Int) ≤ hi) w, ih]
      split <;> split <;> omega
    · rw [hu_cnt_n (P := fun t : Nat => lo ≤ (t : Int) ∧ (t : Int) ≤ hi) w, ih]
      split <;> split <;> omega
theorem hu_cnt_li {K : Nat} {as bs cs li : Nat → Int32} {L : Nat} (h : hu_Ls K as bs cs li L) (Q : Int32 → Prop) : hu_cnt (fun k => Q (li k)) L = hu_cnt (fun i => hu_P K as bs cs i ∧ Q (hu_cd (hu_gp i))) 1681 := by
  have key : ∀ N, N ≤ 1681 → hu_cnt (fun k => Q (li k)) (hu_cnt (hu_P K as bs cs) N) = hu_cnt (fun i => hu_P K as bs cs i ∧ Q (hu_cd (hu_gp i))) N := by
    intro N
    induction N with
    | zero => intro _; rfl
    | succ N ih =>
      intro hN
      by_cases w : hu_P K as bs cs N
      · have e := h.2 N (by omega) w
        rw [hu_gp_cd] at e
        rw [hu_cnt_y w]
        by_cases z : Q (hu_cd (hu_gp N))
        · rw [hu_cnt_y (P := fun k => Q (li k)) (by rw [e]; exact z), hu_cnt_y (P := fun i => hu_P K as bs cs i ∧ Q (hu_cd (hu_gp i))) ⟨w, z⟩, ih (by omega)]
        · rw [hu_cnt_n (P := fun k => Q (li k)) (by rw [e]; exact z), hu_cnt_n (P := fun i => hu_P K as bs cs i ∧ Q (hu_cd (hu_gp i))) (fun q => z q.2), ih (by omega)]
      · rw [hu_cnt_n w, hu_cnt_n (P := fun i => hu_P K as bs cs i ∧ Q (hu_cd (hu_gp i))) (fun q => w q.1), ih (by omega)]
  have := key 1681 (Nat.le_refl _)
  rw [← h.1] at this
  exact this
theorem hu_gp_bx {i : Nat} (h : i < 1681) : hu_bx (hu_gp i) := by
  show 0 ≤ ((i / 41 : Nat) : Int) ∧ ((i / 41 : Nat) : Int) ≤ 40 ∧ 0 ≤ ((i % 41 : Nat) : Int) ∧ ((i % 41 : Nat) : Int) ≤ 40
  omega
/-- column x -/
theorem hu_colP {K x t : Nat} {fa fb fc : Nat → Int32} {lo hi : Int} (hx : x < 41) (ht : t < 41) (h : (lo, hi) = hu_fl fa fb fc x K) : hu_P K fa fb fc (41 * x + t) ↔ lo ≤ (t : Int) ∧ (t : Int) ≤ hi := by
  obtain ⟨k1, k2, k3⟩ := hu_col hx lo hi h
  have e1 : (41 * x + t) / 41 = x := by omega
  have e2 : (41 * x + t) % 41 = t := by omega
  have k := k3 (hu_gp (41 * x + t)) (by show (((41 * x + t) / 41 : Nat) : Int) = (x : Int); rw [e1])
  have e3 : (hu_gp (41 * x + t)).2 = (t : Int) := by show (((41 * x + t) % 41 : Nat) : Int) = (t : Int); rw [e2]
  rw [e3] at k
  exact k
theorem hu_colC {K x : Nat} {fa fb fc : Nat → Int32} {lo hi : Int} (hx : x < 41) (h : (lo, hi) = hu_fl fa fb fc x K) : hu_cnt (fun t => hu_P K fa fb fc (41 * x + t)) 41 = (hi + 1 - lo).toNat := by
  obtain ⟨k1, k2, _⟩ := hu_col hx lo hi h
  rw [hu_cnt_cg (fun t ht => hu_colP hx ht h), hu_cnt_iv k1 41, if_neg (by omega)]
theorem hu_cc32 {a b : Int32} (h : a ≤ b) (h1 : 0 ≤ a.toInt) (h2 : b.toInt ≤ 40) : b - a + 1 = nI (b.toInt + 1 - a.toInt).toNat := by
  rw [hu_le] at h
  rw [hu_iI_nat, Int.toNat_of_nonneg (by omega), hu_iI_1, ← hu_iI_of a, ← hu_iI_of b, hu_iI_sub, hu_iI_add, hu_iI_of, hu_iI_of]
  congr 1
  omega
theorem hu_ptsN {K : Nat} {fa fb fc lo hi : Nat → Int32} (h : ∀ x : Nat, x < 41 → ((lo x).toInt, (hi x).toInt) = hu_fl fa fb fc (x : Int) K) : ∀ x, x ≤ 41 → hu_pts lo hi x = nI (hu_cnt (hu_P K fa fb fc) (41 * x)) := by
  intro x
  induction x with
  | zero => intro _; rfl
  | succ x ih =>
    intro hx
    have hc := h x (by omega)
    obtain ⟨k1, k2, _⟩ := hu_col (by omega) _ _ hc
    rw [show 41 * (x + 1) = 41 * x + 41 by omega, hu_cnt_sp, hu_colC (by omega) hc]
    by_cases w : lo x ≤ hi x
    · rw [← hu_pts_y (ih (by omega)).symm w, hu_cc32 w k1 k2, nI_add]
    · rw [← hu_pts_n (ih (by omega)).symm w]
      rw [hu_le] at w
      rw [show ((hi x).toInt + 1 - (lo x).toInt).toNat = 0 by omega]
      rfl
/-- points() -/
theorem hu_Qpts {K L : Nat} {fa fb fc lo hi li : Nat → Int32} (h : ∀ x : Nat, x < 41 → ((lo x).toInt, (hi x).toInt) = hu_fl fa fb fc (x : Int) K) (hl : hu_Ls K fa fb fc li L) : hu_pts lo hi 41 = nI L := by
  rw [hu_ptsN h 41 (Nat.le_refl _), hl.1]
/-- column() -/
theorem hu_Qcol {K L x : Nat} {fa fb fc lo hi li : Nat → Int32} (h : ∀ x : Nat, x < 41 → ((lo x).toInt, (hi x).toInt) = hu_fl fa fb fc (x : Int) K) (hl : hu_Ls K fa fb fc li L) (hx : x < 41) : hu_cnt (fun k => hu_xO (li k) = nI x) L = ((hi x).toInt + 1 - (lo x).toInt).toNat := by
  have hxo : ∀ i, i < 1681 → hu_xO (hu_cd (hu_gp i)) = nI (i / 41) := fun i hi => by
    rw [hu_xcd (hu_gp_bx hi), hu_iI_nat]
    rfl
  rw [hu_cnt_li hl (fun z => hu_xO z = nI x)]
  have e : (1681 : Nat) = 41 * x + (41 + (1640 - 41 * x)) := by omega
  have e2 : hu_cnt (fun i => hu_P K fa fb fc i ∧ hu_xO (hu_cd (hu_gp i)) = nI x) 1681 = hu_cnt (fun i => hu_P K fa fb fc i ∧ i / 41 = x) 1681 := by
    refine hu_cnt_cg (fun i hi => ?_)
    rw [hxo i hi, nI_eq (by omega) (by omega)]
  rw [e2, e, hu_cnt_sp, hu_cnt_sp, hu_cnt_0 (fun j hj q => by omega), hu_cnt_0 (i := 1640 - 41 * x) (fun j hj q => by omega), ← hu_colC hx (h x hx)]
  rw [Nat.zero_add, Nat.add_zero]
  exact hu_cnt_cg (fun t ht => ⟨fun q => q.1, fun q => ⟨q, by omega⟩⟩)
theorem hu_QcolO {K L : Nat} {fa fb fc li : Nat → Int32} {x : Int32} (hl : hu_Ls K fa fb fc li L) (hx : x < 0 ∨ 41 ≤ x) : hu_cnt (fun k => hu_xO (li k) = x) L = 0 := by
  rw [hu_cnt_li hl (fun z => hu_xO z = x)]
  refine hu_cnt_0 (fun i hi q => ?_)
  have q2 := q.2
  rw [hu_xcd (hu_gp_bx hi)] at q2
  rw [← q2] at hx
  have b := hu_gp_bx hi
  have t := hu_iI_t (z := (hu_gp i).1) (by have := b.1; omega) (by have := b.2.1; omega)
  rcases hx with w | w
  · rw [hu_lt0, t] at w
    have := b.1
    omega
  · rw [hu_le, t] at w
    have e41 : (41 : Int32).toInt = 41 := by decide
    rw [e41] at w
    have := b.2.1
    omega
/-- Bezout -/
theorem hu_bez : ∀ a b : Nat, ∃ u v : Int, u * (a : Int) + v * (b : Int) = (Nat.gcd a b : Int) := by
  intro a b
  refine Nat.gcd.induction (P := fun a b => ∃ u v : Int, u * (a : Int) + v * (b : Int) = (Nat.gcd a b : Int)) a b ?_ ?_
  · intro n
    refine ⟨0, 1, ?_⟩
    rw [Nat.gcd_zero_left]
    omega
  · intro m n hm ⟨u, v, h⟩
    refine ⟨v - u * ((n / m : Nat) : Int), u, ?_⟩
    rw [Nat.gcd_rec m n, ← h]
    have e : (n : Int) = (m : Int) * ((n / m : Nat) : Int) + ((n % m : Nat) : Int) := by
      have := Nat.div_add_mod n m
      have e2 : ((m * (n / m) + n % m : Nat) : Int) = (n : Int) := by rw [this]
      rw [← e2]
      simp
    rw [e]
    grind
theorem hu_bezZ (x y : Int) : ∃ u v : Int, u * x + v * y = (Nat.gcd x.natAbs y.natAbs : Int) := by
  obtain ⟨u, v, h⟩ := hu_bez x.natAbs y.natAbs
  rcases Int.natAbs_eq x with e1 | e1 <;> rcases Int.natAbs_eq y with e2 | e2
  · exact ⟨u, v, by rw [← h, ← e1, ← e2]⟩
  · exact ⟨u, -v, by rw [← h]; generalize (x.natAbs : Int) = p at *; generalize (y.natAbs : Int) = q at *; rw [e1, e2]; grind⟩
  · exact ⟨-u, v, by rw [← h]; generalize (x.natAbs : Int) = p at *; generalize (y.natAbs : Int) = q at *; rw [e1, e2]; grind⟩
  · exact ⟨-u, -v, by rw [← h]; generalize (x.natAbs : Int) = p at *; generalize (y.natAbs : Int) = q at *; rw [e1, e2]; grind⟩
theorem hu_conv {p q : Int × Int} {g a b t α β γ : Int} (hg : 0 < g) (ht0 : 0 ≤ t) (htg : t ≤ g) (ha : q.1 - p.1 = g * a) (hb : q.2 - p.2 = g * b) (hp : α * p.1 + β * p.2 ≤ γ) (hq : α * q.1 + β * q.2 ≤ γ) : α * (p.1 + t * a) + β * (p.2 + t * b) ≤ γ := by
  have t1 := Int.mul_nonneg (show 0 ≤ g - t by omega) (show 0 ≤ γ - (α * p.1 + β * p.2) by omega)
  have t2 := Int.mul_nonneg ht0 (show 0 ≤ γ - (α * q.1 + β * q.2) by omega)
  have e : (γ - (α * (p.1 + t * a) + β * (p.2 + t * b))) * g = (g - t) * (γ - (α * p.1 + β * p.2)) + t * (γ - (α * q.1 + β * q.2)) := by
    have e1 : q.1 = p.1 + g * a := by omega
    have e2 : q.2 = p.2 + g * b := by omega
    rw [e1, e2]
    grind
  have := hu_nn hg (by rw [e]; omega)
  omega
theorem hu_Sconv {K : Nat} {fa fb fc : Nat → Int32} {p q : Int × Int} {g a b t : Int} (hg : 0 < g) (ht0 : 0 ≤ t) (htg : t ≤ g) (ha : q.1 - p.1 = g * a) (hb : q.2 - p.2 = g * b) (hp : hu_S K fa fb fc p) (hq : hu_S K fa fb fc q) : hu_S K fa fb fc (p.1 + t * a, p.2 + t * b) := by
  obtain ⟨⟨p1, p2, p3, p4⟩, p5⟩ := hp
  obtain ⟨⟨q1, q2, q3, q4⟩, q5⟩ := hq
  have c1 := hu_conv (α := -1) (β := 0) (γ := 0) hg ht0 htg ha hb (by omega) (by omega)
  have c2 := hu_conv (α := 1) (β := 0) (γ := 40) hg ht0 htg ha hb (by omega) (by omega)
  have c3 := hu_conv (α := 0) (β := -1) (γ := 0) hg ht0 htg ha hb (by omega) (by omega)
  have c4 := hu_conv (α := 0) (β := 1) (γ := 40) hg ht0 htg ha hb (by omega) (by omega)
  refine ⟨⟨?_, ?_, ?_, ?_⟩, fun i hi => hu_conv hg ht0 htg ha hb (p5 i hi) (q5 i hi)⟩
  · show 0 ≤ p.1 + t * a
    omega
  · show p.1 + t * a ≤ 40
    omega
  · show 0 ≤ p.2 + t * b
    omega
  · show p.2 + t * b ≤ 40
    omega
def hu_gd (p q : Int × Int) : Nat := Nat.gcd (q.1 - p.1).natAbs (q.2 - p.2).natAbs
/-- a way without its first point -/
def hu_Ed (S : Int × Int → Prop) (p q r : Int × Int) : Prop := S r ∧ hu_tn p q r = 0 ∧ r ≠ p
theorem hu_edge {K : Nat} {fa fb fc : Nat → Int32} {p q : Int × Int} (hp : hu_S K fa fb fc p) (hq : hu_S K fa fb fc q) (hX : hu_X (hu_S K fa fb fc) p q) : hu_cnt (fun i => hu_Ed (hu_S K fa fb fc) p q (hu_gp i)) 1681 = hu_gd p q := by
  have hne := hu_X_ne hX
  obtain ⟨u0, v0, hbz⟩ := hu_bezZ (q.1 - p.1) (q.2 - p.2)
  have hg0 : 0 < Nat.gcd (q.1 - p.1).natAbs (q.2 - p.2).natAbs := by
    rcases Nat.eq_zero_or_pos (Nat.gcd (q.1 - p.1).natAbs (q.2 - p.2).natAbs) with z | z
    · exfalso
      have z1 := Nat.eq_zero_of_gcd_eq_zero_left z
      have z2 := Nat.eq_zero_of_gcd_eq_zero_right z
      exact hne (Prod.ext (by omega) (by omega))
    · exact z
  obtain ⟨a, ha⟩ : ((Nat.gcd (q.1 - p.1).natAbs (q.2 - p.2).natAbs : Nat) : Int) ∣ (q.1 - p.1) := Int.ofNat_dvd_left.mpr (Nat.gcd_dvd_left _ _)
  obtain ⟨b, hb⟩ : ((Nat.gcd (q.1 - p.1).natAbs (q.2 - p.2).natAbs : Nat) : Int) ∣ (q.2 - p.2) := Int.ofNat_dvd_left.mpr (Nat.gcd_dvd_right _ _)
  show _ = Nat.gcd (q.1 - p.1).natAbs (q.2 - p.2).natAbs
  generalize hgd : Nat.gcd (q.1 - p.1).natAbs (q.2 - p.2).natAbs = g at *
  have hgz : 0 < (g : Int) := by omega
  have hone : u0 * a + v0 * b = 1 := by
    refine hu_mc hgz ?_
    rw [Int.mul_one]
    rw [ha, hb] at hbz
    grind
  have hpt : ∀ t : Nat, t < g → hu_S K fa fb fc (p.1 + ((t + 1 : Nat) : Int) * a, p.2 + ((t + 1 : Nat) : Int) * b) := fun t ht => hu_Sconv hgz (by omega) (by omega) ha hb hp hq
  have e : hu_cnt (fun i => hu_Ed (hu_S K fa fb fc) p q (hu_gp i)) 1681 = hu_cnt (fun i => ∃ t, t < g ∧ i = hu_ix (p.1 + ((t + 1 : Nat) : Int) * a, p.2 + ((t + 1 : Nat) : Int) * b)) 1681 := by
    refine hu_cnt_cg (fun i hi => ⟨?_, ?_⟩)
    · rintro ⟨s1, s2, s3⟩
      obtain ⟨G, A, b1, b2, b3, b4, b5⟩ := hu_X_bt hX s1 s2
      generalize hr : hu_gp i = r at *
      have c1 : a * (r.2 - p.2) = b * (r.1 - p.1) := by
        refine hu_mc hgz ?_
        have z : hu_tn p q r = (q.1 - p.1) * (r.2 - p.2) - (q.2 - p.2) * (r.1 - p.1) := rfl
        rw [ha, hb, s2] at z
        grind
      have r1 : r.1 - p.1 = (u0 * (r.1 - p.1) + v0 * (r.2 - p.2)) * a := by grind
      have r2 : r.2 - p.2 = (u0 * (r.1 - p.1) + v0 * (r.2 - p.2)) * b := by grind
      generalize u0 * (r.1 - p.1) + v0 * (r.2 - p.2) = t at r1 r2
      have hGt : G * t = A * (g : Int) := by
        rw [r1, ha] at b4
        rw [r2, hb] at b5
        have f1 : G * t = u0 * (G * (t * a)) + v0 * (G * (t * b)) := by grind
        rw [f1, b4, b5]
        grind
      have t0 : 0 ≤ t := hu_nn b1 (by rw [Int.mul_comm, hGt]; exact Int.mul_nonneg b2 (by omega))
      have t1 : t ≤ (g : Int) := by
        have f := hu_nn (X := (g : Int) - t) b1 (by
          have f2 : ((g : Int) - t) * G = (G - A) * (g : Int) := by grind
          rw [f2]
          exact Int.mul_nonneg (by omega) (by omega))
        omega
      have t2 : t ≠ 0 := fun z => by
        rw [z, Int.zero_mul] at r1 r2
        exact s3 (Prod.ext (by omega) (by omega))
      refine ⟨t.toNat - 1, by omega, ?_⟩
      have e3 : ((t.toNat - 1 + 1 : Nat) : Int) = t := by omega
      rw [e3, ← hu_gp_ix (i := i), hr]
      congr 1
      exact Prod.ext (by show r.1 = p.1 + t * a; omega) (by show r.2 = p.2 + t * b; omega)
    · rintro ⟨t, ht, e1⟩
      have hs := hpt t ht
      rw [e1, hu_ix_gp hs.1]
      refine ⟨hs, ?_, ?_⟩
      · show (q.1 - p.1) * (p.2 + ((t + 1 : Nat) : Int) * b - p.2) - (q.2 - p.2) * (p.1 + ((t + 1 : Nat) : Int) * a - p.1) = 0
        rw [ha, hb]
        grind
      · intro z
        have z1 : p.1 + ((t + 1 : Nat) : Int) * a = p.1 := congrArg Prod.fst z
        have z2 : p.2 + ((t + 1 : Nat) : Int) * b = p.2 := congrArg Prod.snd z
        have y1 := hu_m0 (show (0 : Int) < ((t + 1 : Nat) : Int) by omega) (show ((t + 1 : Nat) : Int) * a = 0 by omega)
        have y2 := hu_m0 (show (0 : Int) < ((t + 1 : Nat) : Int) by omega) (show ((t + 1 : Nat) : Int) * b = 0 by omega)
        rw [y1, y2] at hone
        omega
  rw [e]
  refine hu_cnt_ex (f := fun t => hu_ix (p.1 + ((t + 1 : Nat) : Int) * a, p.2 + ((t + 1 : Nat) : Int) * b)) ?_ (fun t ht => hu_ix_lt (hpt t ht).1)
  intro s t hs ht est
  have e2 := congrArg hu_gp est
  rw [hu_ix_gp (hpt s hs).1, hu_ix_gp (hpt t ht).1] at e2
  have z1 : p.1 + ((s + 1 : Nat) : Int) * a = p.1 + ((t + 1 : Nat) : Int) * a := congrArg Prod.fst e2
  have z2 : p.2 + ((s + 1 : Nat) : Int) * b = p.2 + ((t + 1 : Nat) : Int) * b := congrArg Prod.snd e2
  have z3 : ((s + 1 : Nat) : Int) = ((t + 1 : Nat) : Int) := by
    have f1 : ((s + 1 : Nat) : Int) = u0 * (((s + 1 : Nat) : Int) * a) + v0 * (((s + 1 : Nat) : Int) * b) := by grind
    have f2 : ((t + 1 : Nat) : Int) = u0 * (((t + 1 : Nat) : Int) * a) + v0 * (((t + 1 : Nat) : Int) * b) := by grind
    rw [f1, f2, show ((s + 1 : Nat) : Int) * a = ((t + 1 : Nat) : Int) * a by omega, show ((s + 1 : Nat) : Int) * b = ((t + 1 : Nat) : Int) * b by omega]
  omega
end HuCount
end
section
/-! the questions answer alike -/
section HuQuest
theorem hu_f1 (A x y s t : Int) : -(A * x) * s - -(A * y) * t = -(A * (x * s - y * t)) := by grind
theorem hu_disj {S : Int × Int → Prop} {n : Nat} {c : Nat → Int × Int} (h : hu_H S n c) (hn : 3 ≤ n) {k j : Nat} (hk : k < n) (hj : j < n) {r : Int × Int} (e1 : hu_Ed S (c k) (c (hu_nx n k)) r) (e2 : hu_Ed S (c j) (c (hu_nx n j)) r) : k = j := by
  refine hu_H_inj h hk hj ?_
  have x1 := h.2.2.1 (by omega) k hk
  have x2 := h.2.2.1 (by omega) j hj
  have sk := h.2.1 k hk
  have sj := h.2.1 j hj
  have sz := h.2.1 _ (hu_nx_lt (hu_nx_lt hk))
  have fat := hu_H_fat h hn hk
  obtain ⟨r1, r2, r3⟩ := e1
  obtain ⟨r4, r5, r6⟩ := e2
  obtain ⟨G, a, g1, g2, g3, g4, g5⟩ := hu_X_bt x1 r1 r2
  obtain ⟨G', a', f1, f2, f3, f4, f5⟩ := hu_X_bt x2 r1 r5
  have ha : 0 < a := by
    rcases Int.lt_or_le 0 a with q | q
    · exact q
    · exact absurd (hu_bt_start ⟨g1, g2, g3, g4, g5⟩ (by omega)) r3
  have ha' : 0 < a' := by
    rcases Int.lt_or_le 0 a' with q | q
    · exact q
    · exact absurd (hu_bt_start ⟨f1, f2, f3, f4, f5⟩ (by omega)) r6
  have t1 := hu_X_ge x1 sj
  have t2 := hu_X_ge x2 sk
  have t3 := hu_X_ge x2 sz
  have b1 : hu_tn (c k) (c (hu_nx n k)) (c j) = 0 → ∃ G a, hu_Bt (c k) (c (hu_nx n k)) (c j) G a := fun z => hu_X_bt x1 sj z
  have b2 : hu_tn (c j) (c (hu_nx n j)) (c k) = 0 → ∃ G a, hu_Bt (c j) (c (hu_nx n j)) (c k) G a := fun z => hu_X_bt x2 sk z
  generalize c (hu_nx n (hu_nx n k)) = z at *
  generalize c (hu_nx n k) = q at *
  generalize c (hu_nx n j) = q' at *
  generalize c k = p at *
  generalize c j = p' at *
  have m1 : G * hu_tn p r p' = a * hu_tn p q p' := by
    have : G * hu_tn p r p' = (G * (r.1 - p.1)) * (p'.2 - p.2) - (G * (r.2 - p.2)) * (p'.1 - p.1) := by simp only [hu_tn]; grind
    rw [this, g4, g5]; simp only [hu_tn]; grind
  have m2 : G' * hu_tn p' r p = a' * hu_tn p' q' p := by
    have : G' * hu_tn p' r p = (G' * (r.1 - p'.1)) * (p.2 - p'.2) - (G' * (r.2 - p'.2)) * (p.1 - p'.1) := by simp only [hu_tn]; grind
    rw [this, f4, f5]; simp only [hu_tn]; grind
  have m3 : hu_tn p' r p = -hu_tn p r p' := by simp only [hu_tn]; grind
  have m4 := Int.mul_nonneg g2 t1
  have m5 := Int.mul_nonneg f2 t2
  have m6 : 0 ≤ hu_tn p r p' := hu_nn g1 (by rw [Int.mul_comm, m1]; exact m4)
  have m7 : 0 ≤ hu_tn p' r p := hu_nn f1 (by rw [Int.mul_comm, m2]; exact m5)
  have m8 : hu_tn p r p' = 0 := by omega
  have m9 : hu_tn p' r p = 0 := by omega
  rw [m8, Int.mul_zero] at m1
  rw [m9, Int.mul_zero] at m2
  have z1 := hu_m0 ha m1.symm
  have z2 := hu_m0 ha' m2.symm
  obtain ⟨G1, a1, c1⟩ := b1 z1
  obtain ⟨G2, a2, c2⟩ := b2 z2
  rcases Int.lt_or_le 0 a1 with w1 | w1
  · rcases Int.lt_or_le 0 a2 with w2 | w2
    · exfalso
      obtain ⟨i1, i2, i3, i4, i5⟩ := c1
      obtain ⟨j1, j2, j3, j4, j5⟩ := c2
      have d1 : G1 * a2 * (q'.1 - p'.1) = -(G2 * a1 * (q.1 - p.1)) := by grind
      have d2 : G1 * a2 * (q'.2 - p'.2) = -(G2 * a1 * (q.2 - p.2)) := by grind
      have d3 : G1 * a2 * hu_tn p' q' z = -(G2 * a1 * hu_tn p q z) := by
        have y1 : G1 * a2 * hu_tn p' q' z = (G1 * a2 * (q'.1 - p'.1)) * (z.2 - p'.2) - (G1 * a2 * (q'.2 - p'.2)) * (z.1 - p'.1) := by simp only [hu_tn]; grind
        rw [y1, d1, d2]
        have y2 : (q.1 - p.1) * (z.2 - p'.2) - (q.2 - p.2) * (z.1 - p'.1) = hu_tn p q z - hu_tn p q p' := by simp only [hu_tn]; grind
        rw [z1, Int.sub_zero] at y2
        rw [hu_f1, y2]
      have d4 := Int.mul_pos (Int.mul_pos j1 w1) fat
      have d5 := Int.mul_nonneg (Int.le_of_lt (Int.mul_pos i1 w2)) t3
      omega
    · exact hu_bt_start c2 (by have := c2.2.1; omega)
  · exact (hu_bt_start c1 (by have := c1.2.1; omega)).symm
def hu_sg (c : Nat → Int × Int) (n : Nat) : Nat → Nat
  | 0 => 0
  | k + 1 => hu_sg c n k + hu_gd (c k) (c (hu_nx n k))
theorem hu_bsum {K n : Nat} {fa fb fc : Nat → Int32} {c : Nat → Int × Int} (h : hu_H (hu_S K fa fb fc) n c) (hn : 3 ≤ n) : ∀ m, m ≤ n → hu_cnt (fun i => ∃ k, k < m ∧ hu_Ed (hu_S K fa fb fc) (c k) (c (hu_nx n k)) (hu_gp i)) 1681 = hu_sg c n m := by
  intro m
  induction m with
  | zero =>
    intro _
    refine hu_cnt_0 (fun j _ q => ?_)
    obtain ⟨k, hk, _⟩ := q
    exact absurd hk (Nat.not_lt_zero k)
  | succ m ih =>
    intro hm
    have e : hu_cnt (fun i => ∃ k, k < m + 1 ∧ hu_Ed (hu_S K fa fb fc) (c k) (c (hu_nx n k)) (hu_gp i)) 1681 = hu_cnt (fun i => (∃ k, k < m ∧ hu_Ed (hu_S K fa fb fc) (c k) (c (hu_nx n k)) (hu_gp i)) ∨ hu_Ed (hu_S K fa fb fc) (c m) (c (hu_nx n m)) (hu_gp i)) 1681 := by
      refine hu_cnt_cg (fun i hi => ⟨?_, ?_⟩)
      · rintro ⟨t, ht, e⟩
        rcases Nat.lt_or_ge t m with q | q
        · exact Or.inl ⟨t, q, e⟩
        · rw [show t = m by omega] at e
          exact Or.inr e
      · rintro (⟨t, ht, e⟩ | e)
        · exact ⟨t, by omega, e⟩
        · exact ⟨m, by omega, e⟩
    have hdis : ∀ i, i < 1681 → ¬ ((∃ k, k < m ∧ hu_Ed (hu_S K fa fb fc) (c k) (c (hu_nx n k)) (hu_gp i)) ∧ hu_Ed (hu_S K fa fb fc) (c m) (c (hu_nx n m)) (hu_gp i)) := by
      rintro i _ ⟨⟨t, ht, e1⟩, e2⟩
      have := hu_disj h hn (by omega) (by omega) e1 e2
      omega
    rw [e, hu_cnt_or hdis, ih (by omega), hu_edge (h.2.1 m (by omega)) (h.2.1 _ (hu_nx_lt (by omega))) (h.2.2.1 (by omega) m (by omega))]
    rfl
theorem hu_cnt_all {P : Nat → Prop} : ∀ {N : Nat}, (∀ i, i < N → P i) → hu_cnt P N = N := by
  intro N
  induction N with
  | zero => intro _; rfl
  | succ N ih =>
    intro h
    rw [hu_cnt_y (h N (by omega)), ih (fun i hi => h i (by omega))]
theorem hu_bdN {K n : Nat} {fa fb fc lo hi cx cy : Nat → Int32} (h : hu_PN K fa fb fc lo hi n cx cy) : ∀ i, i ≤ n → hu_bd cx cy n i = nI (hu_sg (hu_pt cx cy) n i) := by
  intro i
  induction i with
  | zero => intro _; rfl
  | succ i ih =>
    intro hi
    obtain ⟨d1, d2⟩ := hu_PN_d h (show i < n by omega) (hu_nx_lt (show i < n by omega))
    show hu_bd cx cy n i + nI (hu_gab _ _) = nI (hu_sg (hu_pt cx cy) n i + hu_gd _ _)
    rw [ih (by omega), nI_add]
    unfold hu_gab
    rw [d1.1, d2.1]
    rfl
/-- border() of three corners and more -/
theorem hu_Qbd {K L h n : Nat} {fa fb fc lo hi cx cy li hu : Nat → Int32} (hp : hu_PN K fa fb fc lo hi n cx cy) (hn : 3 ≤ n) (hl : hu_Ls K fa fb fc li L) (hw : hu_Wk li L hu h) : hu_bd cx cy n n = nI (hu_cnt (fun k => nI h < 3 ∨ hu_oB hu h (li k)) L) := by
  obtain ⟨e1, -, e2⟩ := hu_walkH hl hw hp.2.2 hp.2.1
  have hH := hp.2.2
  subst e1
  rw [hu_bdN hp h (Nat.le_refl _), ← hu_bsum hH hn h (Nat.le_refl _), hu_cnt_li hl (fun z => nI h < 3 ∨ hu_oB hu h z)]
  refine congrArg nI ?_
  refine hu_cnt_cg (fun i hi => ?_)
  have h3 : ¬ nI h < 3 := nI_nlt (a := h) (b := 3) hn (by have := hp.2.1; omega)
  have gb := hu_gp_bx hi
  have tz : ∀ k, k < h → (hu_tR (hu k) (hu (hu_nx h k)) (hu_cd (hu_gp i)) = 0 ↔ hu_tn (hu_pt cx cy k) (hu_pt cx cy (hu_nx h k)) (hu_gp i) = 0) := by
    intro k hk
    have b1 := (hH.2.1 k hk).1
    have b2 := (hH.2.1 _ (hu_nx_lt hk)).1
    rw [e2 k hk, e2 _ (hu_nx_lt hk), hu_tRc b1 b2 gb]
    have t := hu_tn_b b1 b2 gb
    exact hu_iI_eq (b := 0) (by omega) (by omega) (by omega) (by omega)
  constructor
  · rintro ⟨k, hk, s1, s2, s3⟩
    exact ⟨s1, Or.inr ⟨k, hk, (tz k hk).mpr s2⟩⟩
  · rintro ⟨s1, s2 | ⟨k, hk, s2⟩⟩
    · exact absurd s2 h3
    · have s3 := (tz k hk).mp s2
      by_cases w : hu_gp i = hu_pt cx cy k
      · refine ⟨hu_pr h k, hu_pr_lt hk, s1, ?_, ?_⟩
        · rw [hu_pr_nx hk, w]
          exact (hu_tn_e _ _).1
        · have X := hH.2.2.1 (by omega) _ (hu_pr_lt hk)
          rw [hu_pr_nx hk] at X
          rw [w]
          exact fun z => hu_X_ne X z.symm
      · exact ⟨k, hk, s1, s3, w⟩
/-- border() of fewer -/
theorem hu_Qbd0 {K L h : Nat} {fa fb fc lo hi li hu : Nat → Int32} (hc : ∀ x : Nat, x < 41 → ((lo x).toInt, (hi x).toInt) = hu_fl fa fb fc (x : Int) K) (hl : hu_Ls K fa fb fc li L) (hh : h < 3) : hu_pts lo hi 41 = nI (hu_cnt (fun k => nI h < 3 ∨ hu_oB hu h (li k)) L) := by
  rw [hu_cnt_all (P := fun k => nI h < 3 ∨ hu_oB hu h (li k)) (fun i _ => Or.inl (nI_lt (a := h) (b := 3) hh (by omega))), hu_Qpts hc hl]
theorem hu_mx_ge (v : Nat → Int32) : ∀ L, ∀ k, k < L → v k ≤ hu_mx v L := by
  intro L
  induction L with
  | zero => intro k hk; exact absurd hk (Nat.not_lt_zero k)
  | succ L ih =>
    intro k hk
    show v k ≤ (if hu_mx v L < v L then v L else hu_mx v L)
    split
    · rename_i w
      rcases Nat.lt_or_ge k L with q | q
      · exact Int32.le_trans (ih k q) (Int32.le_of_lt w)
      · rw [show k = L by omega]; exact Int32.le_refl _
    · rename_i w
      rcases Nat.lt_or_ge k L with q | q
      · exact ih k q
      · rw [show k = L by omega]; exact Int32.not_lt.mp w
theorem hu_mx_ex (v : Nat → Int32) : ∀ L, 0 < L → ∃ k, k < L ∧ hu_mx v L = v k := by
  intro L
  induction L with
  | zero => intro h; omega
  | succ L ih =>
    intro _
    show ∃ k, k < L + 1 ∧ (if hu_mx v L < v L then v L else hu_mx v L) = v k
    split
    · exact ⟨L, by omega, rfl⟩
    · rcases Nat.eq_zero_or_pos L with q | q
      · subst q
        exact ⟨0, by omega, rfl⟩
      · obtain ⟨k, a, b⟩ := ih q
        exact ⟨k, by omega, b⟩
theorem hu_at_ge (v : Nat → Int32) : ∀ n, (∀ j, j < n → v j ≤ v (hu_at v n)) ∧ (∀ j, j < hu_at v n → v j < v (hu_at v n)) ∧ (0 < n → hu_at v n < n) := by
  intro n
  induction n with
  | zero => exact ⟨fun j hj => absurd hj (Nat.not_lt_zero j), fun j hj => absurd hj (Nat.not_lt_zero j), fun h => by omega⟩
  | succ n ih =>
    obtain ⟨h1, h2, h3⟩ := ih
    by_cases w : v (hu_at v n) < v n
    · rw [← hu_at_y rfl w]
      refine ⟨fun j hj => ?_, fun j hj => ?_, fun _ => by omega⟩
      · rcases Nat.lt_or_ge j n with q | q
        · exact Int32.le_trans (h1 j q) (Int32.le_of_lt w)
        · rw [show j = n by omega]; exact Int32.le_refl _
      · exact Int32.lt_of_le_of_lt (h1 j hj) w
    · rw [← hu_at_n rfl w]
      refine ⟨fun j hj => ?_, h2, fun _ => ?_⟩
      · rcases Nat.lt_or_ge j n with q | q
        · exact h1 j q
        · rw [show j = n by omega]; exact Int32.not_lt.mp w
      · have := hu_at_lt v n
        omega
theorem hu_val {g h : Int32} (hb : ¬ hu_bp g h) {r : Int × Int} (hr : hu_bx r) : (g * hu_iI r.1 + h * hu_iI r.2).toInt = hu_lf g.toInt h.toInt r := by
  have k1 : ¬ g < -100 := fun q => hb (Or.inl q)
  have k2 : ¬ 100 < g := fun q => hb (Or.inr (Or.inl q))
  have k3 : ¬ h < -100 := fun q => hb (Or.inr (Or.inr (Or.inl q)))
  have k4 : ¬ 100 < h := fun q => hb (Or.inr (Or.inr (Or.inr q)))
  rw [hu_lt] at k1 k2 k3 k4
  have e1 : (-100 : Int32).toInt = -100 := by decide
  have e2 : (100 : Int32).toInt = 100 := by decide
  rw [e1] at k1 k3
  rw [e2] at k2 k4
  obtain ⟨h1, h2, h3, h4⟩ := hr
  have m1 := hu_ab (a := g.toInt) (b := r.1) (A := 100) (B := 40) (by omega) (by omega) (by omega) (by omega)
  have m2 := hu_ab (a := h.toInt) (b := r.2) (A := 100) (B := 40) (by omega) (by omega) (by omega) (by omega)
  refine hu_ti (z := hu_lf g.toInt h.toInt r) ?_ ?_ ?_
  · unfold hu_lf
    rw [← hu_iI_add, ← hu_iI_mul, ← hu_iI_mul, hu_iI_of, hu_iI_of]
  · unfold hu_lf; omega
  · unfold hu_lf; omega
theorem hu_val_pt (g h : Int32) (cx cy : Nat → Int32) (j : Nat) : g * cx j + h * cy j = g * hu_iI (hu_pt cx cy j).1 + h * hu_iI (hu_pt cx cy j).2 := by
  simp only [hu_pt, hu_iI_of]
/-- best() -/
theorem hu_Qbest {K L n : Nat} {fa fb fc lo hi cx cy li : Nat → Int32} {g h : Int32} (hb : ¬ hu_bp g h) (hp : hu_PN K fa fb fc lo hi n cx cy) (hn : 0 < n) (hl : hu_Ls K fa fb fc li L) (hL : 0 < L) : hu_mx (fun k => hu_vR g h (li k)) L = g * cx (hu_at (fun j => g * cx j + h * cy j) n) + h * cy (hu_at (fun j => g * cx j + h * cy j) n) := by
  obtain ⟨a1, a2, a3⟩ := hu_at_ge (fun j => g * cx j + h * cy j) n
  have a3 := a3 hn
  have hH := hp.2.2
  generalize hu_at (fun j => g * cx j + h * cy j) n = m at *
  have ev : ∀ j, j < n → (g * cx j + h * cy j).toInt = hu_lf g.toInt h.toInt (hu_pt cx cy j) := fun j hj => by
    rw [hu_val_pt]
    exact hu_val hb (hH.2.1 j hj).1
  refine Int32.le_antisymm ?_ ?_
  · obtain ⟨k, hk, ek⟩ := hu_mx_ex (fun k => hu_vR g h (li k)) L hL
    obtain ⟨r, hr, er⟩ := hu_Ls_at hl hk
    rw [ek, hu_le, ev m a3]
    show (hu_vR g h (li k)).toInt ≤ _
    rw [er, hu_vRc g h hr.1, hu_val hb hr.1]
    refine hu_H_max hH g.toInt h.toInt a3 (fun j hj => ?_) hr
    have := a1 j hj
    rw [hu_le] at this
    rw [← ev j hj, ← ev m a3]
    exact this
  · obtain ⟨k, hk, ek⟩ := hu_Ls_has hl (hH.2.1 m a3)
    have := hu_mx_ge (fun k => hu_vR g h (li k)) L k hk
    have e2 : hu_vR g h (li k) = g * cx m + h * cy m := by
      rw [ek, hu_vRc g h (hH.2.1 m a3).1, ← hu_val_pt]
    rw [← e2]
    exact this
/-- corner(): a point's number -/
theorem hu_Qcor {K n i : Nat} {fa fb fc lo hi cx cy : Nat → Int32} (hp : hu_PN K fa fb fc lo hi n cx cy) (hi0 : i < n) : cx i + 64 * cy i = hu_cd (hu_pt cx cy i) := by
  have b : hu_bx (hu_pt cx cy i) := (hp.2.2.2.1 i hi0).1
  unfold hu_cd
  rw [← hu_64, hu_nz b.1, hu_nz b.2.2.1]
  simp only [hu_pt, hu_iI_of]
/-- area2() -/
theorem hu_anS {hu cx cy : Nat → Int32} {n : Nat} (hh : ∀ a b c, a < n → b < n → c < n → hu_tR (hu a) (hu b) (hu c) = (cx b - cx a) * (cy c - cy a) - (cy b - cy a) * (cx c - cx a)) : ∀ k, k + 1 < n → hu_an hu k = hu_ar cx cy n (k + 1) + (cx (k + 1) * cy 0 - cx 0 * cy (k + 1)) := by
  intro k
  induction k with
  | zero =>
    intro hk
    show (0 : Int32) = (0 + (cx 0 * cy (hu_nx n 0) - cx (hu_nx n 0) * cy 0)) + (cx (0 + 1) * cy 0 - cx 0 * cy (0 + 1))
    rw [hu_nx_y hk]
    grind
  | succ k ih =>
    intro hk
    show hu_an hu k + hu_tR (hu 0) (hu (k + 1)) (hu (k + 2)) = (hu_ar cx cy n (k + 1) + (cx (k + 1) * cy (hu_nx n (k + 1)) - cx (hu_nx n (k + 1)) * cy (k + 1))) + (cx (k + 1 + 1) * cy 0 - cx 0 * cy (k + 1 + 1))
    rw [hu_nx_y hk, ih (by omega), hh 0 (k + 1) (k + 2) (by omega) (by omega) hk]
    show _ = hu_ar cx cy n (k + 1) + (cx (k + 1) * cy (k + 2) - cx (k + 2) * cy (k + 1)) + (cx (k + 2) * cy 0 - cx 0 * cy (k + 2))
    generalize hu_ar cx cy n (k + 1) = A
    generalize cx (k + 1) = x1
    generalize cx (k + 2) = x2
    generalize cy (k + 1) = y1
    generalize cy (k + 2) = y2
    generalize cx 0 = x0
    generalize cy 0 = y0
    grind
theorem hu_Qar {K L h n : Nat} {fa fb fc lo hi cx cy li hu : Nat → Int32} (hp : hu_PN K fa fb fc lo hi n cx cy) (hl : hu_Ls K fa fb fc li L) (hw : hu_Wk li L hu h) : hu_ar cx cy n n = hu_an hu (h - 2) := by
  obtain ⟨e1, -, e2⟩ := hu_walkH hl hw hp.2.2 hp.2.1
  have hH := hp.2.2
  subst e1
  have hh : ∀ a b c, a < h → b < h → c < h → hu_tR (hu a) (hu b) (hu c) = (cx b - cx a) * (cy c - cy a) - (cy b - cy a) * (cx c - cx a) := by
    intro a b c ha hb hc
    unfold hu_tR
    rw [e2 a ha, e2 b hb, e2 c hc, hu_xcd (hH.2.1 a ha).1, hu_xcd (hH.2.1 b hb).1, hu_xcd (hH.2.1 c hc).1, hu_ycd (hH.2.1 a ha).1, hu_ycd (hH.2.1 b hb).1, hu_ycd (hH.2.1 c hc).1]
    simp only [hu_pt, hu_iI_of]
  rcases Nat.lt_or_ge h 2 with q | q
  · rcases Nat.eq_zero_or_pos h with w | w
    · subst w; rfl
    · have : h = 1 := by omega
      subst this
      show (0 : Int32) + (cx 0 * cy (hu_nx 1 0) - cx (hu_nx 1 0) * cy 0) = 0
      rw [hu_nx_n (by omega)]
      generalize cx 0 = x0
      generalize cy 0 = y0
      grind
  · obtain ⟨m, rfl⟩ : ∃ m, h = m + 2 := ⟨h - 2, by omega⟩
    rw [show m + 2 - 2 = m by omega, hu_anS hh m (by omega)]
    show hu_ar cx cy (m + 2) (m + 1) + (cx (m + 1) * cy (hu_nx (m + 2) (m + 1)) - cx (hu_nx (m + 2) (m + 1)) * cy (m + 1)) = _
    rw [hu_nx_n (by omega)]
/-- has() -/
theorem hu_Qhas {K i : Nat} {fa fb fc lo hi : Nat → Int32} {z : Int32} (hok : hu_OK K fa fb fc) (hc : ∀ x : Nat, x < 41 → ((lo x).toInt, (hi x).toInt) = hu_fl fa fb fc (x : Int) K) (hi0 : i < 41) (hz1 : ¬ z < 0) (hz2 : z ≤ 40) : (lo i ≤ z ∧ z ≤ hi i) ↔ ∀ j, j < K → fa j * nI i + fb j * z ≤ fc j := by
  obtain ⟨k1, k2, k3⟩ := hu_col hi0 _ _ (hc i hi0)
  have ex : (nI i).toInt = (i : Int) := hu_nI_t (by omega)
  rw [hu_lt0] at hz1
  rw [hu_le] at hz2
  have e40 : (40 : Int32).toInt = 40 := by decide
  rw [e40] at hz2
  have k := k3 ((i : Int), z.toInt) rfl
  rw [hu_le, hu_le]
  constructor
  · intro q j hj
    refine (hu_has hok (by omega) (by omega) j hj).mpr ?_
    rw [ex]
    exact (k.mpr q).2 j hj
  · intro q
    refine k.mp ⟨⟨by show (0 : Int) ≤ (i : Int); omega, by show (i : Int) ≤ 40; omega, by show (0 : Int) ≤ z.toInt; omega, by show z.toInt ≤ 40; omega⟩, fun j hj => ?_⟩
    have := (hu_has hok (x := nI i) (z := z) (by omega) (by omega) j hj).mp (q j hj)
    rw [ex] at this
    exact this
end HuQuest
end
section
/-! the two objects tied; each pair of answers agrees (statements written by gen/m6.py) -/
section HuJoint
def hu_Inv (u : hu_HS) (v : hu_MS) : Prop := ∃ (K : Nat) (fa fb fc : Nat → Int32) (rd ct : Int32) (lo hi cx cy li : Nat → Int32) (L0 : Nat) (hu : Nat → Int32) (h0 : Nat), u = (nI K, rd, ct, fa, fb, fc, lo, hi, cx, cy) ∧ v = (fa, fb, fc, nI K, li, nI L0, hu, nI h0) ∧ K ≤ 8 ∧ hu_OK K fa fb fc ∧ (rd = 0 ∨ (rd = 1 ∧ hu_Prep K fa fb fc lo hi ct cx cy)) ∧ hu_Ls K fa fb fc li L0 ∧ hu_Wk li L0 hu h0
variable {K L0 h0 : Nat} {fa fb fc lo hi cx cy li hu : Nat → Int32} {rd ct : Int32}
theorem hu_InvQ {lo' hi' cx' cy' : Nat → Int32} {n : Nat} (hk8 : K ≤ 8) (hok : hu_OK K fa fb fc) (hls : hu_Ls K fa fb fc li L0) (hwk : hu_Wk li L0 hu h0) (hPN : hu_PN K fa fb fc lo' hi' n cx' cy') : hu_Inv (nI K, 1, nI n, fa, fb, fc, lo', hi', cx', cy') (fa, fb, fc, nI K, li, nI L0, hu, nI h0) :=
  ⟨K, fa, fb, fc, 1, nI n, lo', hi', cx', cy', li, L0, hu, h0, rfl, rfl, hk8, hok, Or.inr ⟨rfl, hu_PN_prep hPN⟩, hls, hwk⟩
theorem hu_J_condition (hk8 : K ≤ 8) (hok : hu_OK K fa fb fc) (hrd : rd = 0 ∨ (rd = 1 ∧ hu_Prep K fa fb fc lo hi ct cx cy)) (hls : hu_Ls K fa fb fc li L0) (hwk : hu_Wk li L0 hu h0) {va vb vc : Int32} {r1 r2 : Int32} {u1 : hu_HS} {v1 : hu_MS} (w1 : (fun r u => (hu_bad va vb vc ∧ r = -1 ∧ u = (nI K, rd, ct, fa, fb, fc, lo, hi, cx, cy)) ∨ (¬ hu_bad va vb vc ∧ K = 8 ∧ r = -2 ∧ u = (nI K, rd, ct, fa, fb, fc, lo, hi, cx, cy)) ∨ (¬ hu_bad va vb vc ∧ K < 8 ∧ r = nI (K + 1) ∧ u = (nI (K + 1), 0, ct, upd fa K va, upd fb K vb, upd fc K vc, lo, hi, cx, cy))) r1 u1) (w2 : (fun r u => (hu_bad va vb vc ∧ r = -1 ∧ u = (fa, fb, fc, nI K, li, (nI L0), hu, (nI h0))) ∨ (¬ hu_bad va vb vc ∧ K = 8 ∧ r = -2 ∧ u = (fa, fb, fc, nI K, li, (nI L0), hu, (nI h0))) ∨ (¬ hu_bad va vb vc ∧ K < 8 ∧ r = nI (K + 1) ∧ ∃ (li' : Nat → Int32) (L0 : Nat) (hu' : Nat → Int32) (h : Nat), u = (upd fa K va, upd fb K vb, upd fc K vc, nI (K + 1), li', nI L0, hu', nI h) ∧ hu_Ls (K + 1) (upd fa K va) (upd fb K vb) (upd fc K vc) li' L0 ∧ hu_Wk li' L0 hu' h)) r2 v1) : r1 = r2 ∧ hu_Inv u1 v1 := by
  rcases w1 with ⟨a1, rfl, rfl⟩ | ⟨a1, a2, rfl, rfl⟩ | ⟨a1, a2, rfl, rfl⟩ <;> rcases w2 with ⟨b1, rfl, rfl⟩ | ⟨b1, b2, rfl, rfl⟩ | ⟨b1, b2, rfl, li2, L2, hu2, h2, rfl, k1, k2⟩
  · exact ⟨rfl, ⟨K, fa, fb, fc, rd, ct, lo, hi, cx, cy, li, L0, hu, h0, rfl, rfl, hk8, hok, hrd, hls, hwk⟩⟩
  · exact absurd a1 b1
  · exact absurd a1 b1
  · exact absurd b1 a1
  · exact ⟨rfl, ⟨K, fa, fb, fc, rd, ct, lo, hi, cx, cy, li, L0, hu, h0, rfl, rfl, hk8, hok, hrd, hls, hwk⟩⟩
  · exact absurd a2 (by omega)
  · exact absurd b1 a1
  · exact absurd b2 (by omega)
  · exact ⟨rfl, K + 1, _, _, _, 0, ct, lo, hi, cx, cy, li2, L2, hu2, h2, rfl, rfl, by omega, hu_OK_add hok a1, Or.inl rfl, k1, k2⟩
theorem hu_J_drop (hk8 : K ≤ 8) (hok : hu_OK K fa fb fc) (hrd : rd = 0 ∨ (rd = 1 ∧ hu_Prep K fa fb fc lo hi ct cx cy)) (hls : hu_Ls K fa fb fc li L0) (hwk : hu_Wk li L0 hu h0) {r1 r2 : Int32} {u1 : hu_HS} {v1 : hu_MS} (w1 : (fun r u => (K = 0 ∧ r = -3 ∧ u = (nI K, rd, ct, fa, fb, fc, lo, hi, cx, cy)) ∨ (0 < K ∧ r = nI (K - 1) ∧ u = (nI (K - 1), 0, ct, fa, fb, fc, lo, hi, cx, cy))) r1 u1) (w2 : (fun r u => (K = 0 ∧ r = -3 ∧ u = (fa, fb, fc, nI K, li, (nI L0), hu, (nI h0))) ∨ (0 < K ∧ r = nI (K - 1) ∧ ∃ (li' : Nat → Int32) (L0 : Nat) (hu' : Nat → Int32) (h : Nat), u = (fa, fb, fc, nI (K - 1), li', nI L0, hu', nI h) ∧ hu_Ls (K - 1) fa fb fc li' L0 ∧ hu_Wk li' L0 hu' h)) r2 v1) : r1 = r2 ∧ hu_Inv u1 v1 := by
  rcases w1 with ⟨a1, rfl, rfl⟩ | ⟨a1, rfl, rfl⟩ <;> rcases w2 with ⟨b1, rfl, rfl⟩ | ⟨b1, rfl, li2, L2, hu2, h2, rfl, k1, k2⟩
  · exact ⟨rfl, ⟨K, fa, fb, fc, rd, ct, lo, hi, cx, cy, li, L0, hu, h0, rfl, rfl, hk8, hok, hrd, hls, hwk⟩⟩
  · exact absurd a1 (by omega)
  · exact absurd b1 (by omega)
  · exact ⟨rfl, K - 1, _, _, _, 0, ct, lo, hi, cx, cy, li2, L2, hu2, h2, rfl, rfl, by omega, hu_OK_less hok, Or.inl rfl, k1, k2⟩
theorem hu_J_shift (hk8 : K ≤ 8) (hok : hu_OK K fa fb fc) (hrd : rd = 0 ∨ (rd = 1 ∧ hu_Prep K fa fb fc lo hi ct cx cy)) (hls : hu_Ls K fa fb fc li L0) (hwk : hu_Wk li L0 hu h0) {x vc : Int32} {r1 r2 : Int32} {u1 : hu_HS} {v1 : hu_MS} (w1 : (fun r u => ((x < 0 ∨ nI K ≤ x) ∧ r = -3 ∧ u = (nI K, rd, ct, fa, fb, fc, lo, hi, cx, cy)) ∨ (∃ i, i < K ∧ x = nI i ∧ (((vc < -1000 ∨ 1000 < vc) ∧ r = -1 ∧ u = (nI K, rd, ct, fa, fb, fc, lo, hi, cx, cy)) ∨ (¬ (vc < -1000 ∨ 1000 < vc) ∧ r = fc i ∧ u = (nI K, 0, ct, fa, fb, upd fc i vc, lo, hi, cx, cy))))) r1 u1) (w2 : (fun r u => ((x < 0 ∨ nI K ≤ x) ∧ r = -3 ∧ u = (fa, fb, fc, nI K, li, (nI L0), hu, (nI h0))) ∨ (∃ i, i < K ∧ x = nI i ∧ (((vc < -1000 ∨ 1000 < vc) ∧ r = -1 ∧ u = (fa, fb, fc, nI K, li, (nI L0), hu, (nI h0))) ∨ (¬ (vc < -1000 ∨ 1000 < vc) ∧ r = fc i ∧ ∃ (li' : Nat → Int32) (L0 : Nat) (hu' : Nat → Int32) (h : Nat), u = (fa, fb, upd fc i vc, nI K, li', nI L0, hu', nI h) ∧ hu_Ls K fa fb (upd fc i vc) li' L0 ∧ hu_Wk li' L0 hu' h)))) r2 v1) : r1 = r2 ∧ hu_Inv u1 v1 := by
  have key : ∀ {i : Nat}, i < K → x = nI i → ¬ (x < 0 ∨ nI K ≤ x) := by
    intro i hi e q
    rw [e] at q
    rcases q with q | q
    · exact nI_pos (by omega) q
    · have := (nI_leI (by omega) (by omega)).mp q
      omega
  rcases w1 with ⟨a1, rfl, rfl⟩ | ⟨i, a1, a2, ⟨a3, rfl, rfl⟩ | ⟨a3, rfl, rfl⟩⟩ <;> rcases w2 with ⟨b1, rfl, rfl⟩ | ⟨j, b1, b2, ⟨b3, rfl, rfl⟩ | ⟨b3, rfl, li2, L2, hu2, h2, rfl, k1, k2⟩⟩
  · exact ⟨rfl, ⟨K, fa, fb, fc, rd, ct, lo, hi, cx, cy, li, L0, hu, h0, rfl, rfl, hk8, hok, hrd, hls, hwk⟩⟩
  · exact absurd a1 (key b1 b2)
  · exact absurd a1 (key b1 b2)
  · exact absurd b1 (key a1 a2)
  · exact ⟨rfl, ⟨K, fa, fb, fc, rd, ct, lo, hi, cx, cy, li, L0, hu, h0, rfl, rfl, hk8, hok, hrd, hls, hwk⟩⟩
  · exact absurd a3 b3
  · exact absurd b1 (key a1 a2)
  · exact absurd b3 a3
  · have e : i = j := (nI_eq (by omega) (by omega)).mp (a2.symm.trans b2)
    subst e
    exact ⟨rfl, K, _, _, _, 0, ct, lo, hi, cx, cy, li2, L2, hu2, h2, rfl, rfl, hk8, hu_OK_set hok a3, Or.inl rfl, k1, k2⟩
theorem hu_J_points (hk8 : K ≤ 8) (hok : hu_OK K fa fb fc) (hrd : rd = 0 ∨ (rd = 1 ∧ hu_Prep K fa fb fc lo hi ct cx cy)) (hls : hu_Ls K fa fb fc li L0) (hwk : hu_Wk li L0 hu h0) {r1 r2 : Int32} {u1 : hu_HS} (w1 : (fun r u => ∃ (lo' hi' : Nat → Int32) (n : Nat) (cx' cy' : Nat → Int32), u = (nI K, 1, nI n, fa, fb, fc, lo', hi', cx', cy') ∧ hu_PN K fa fb fc lo' hi' n cx' cy' ∧ r = hu_pts lo' hi' 41) r1 u1) (w2 : (fun r => r = (nI L0)) r2) : r1 = r2 ∧ hu_Inv u1 (fa, fb, fc, nI K, li, nI L0, hu, nI h0) := by
  obtain ⟨lo', hi', n, cx', cy', rfl, hPN, hr⟩ := w1
  exact ⟨by rw [hr, w2]; exact hu_Qpts hPN.1 hls, hu_InvQ hk8 hok hls hwk hPN⟩
theorem hu_J_has (hk8 : K ≤ 8) (hok : hu_OK K fa fb fc) (hrd : rd = 0 ∨ (rd = 1 ∧ hu_Prep K fa fb fc lo hi ct cx cy)) (hls : hu_Ls K fa fb fc li L0) (hwk : hu_Wk li L0 hu h0) {x z : Int32} {r1 r2 : Int32} {u1 : hu_HS} (w1 : (fun r u => (¬ (¬ x < 0 ∧ ¬ 41 ≤ x ∧ ¬ z < 0 ∧ z < 41) ∧ r = 0 ∧ u = (nI K, rd, ct, fa, fb, fc, lo, hi, cx, cy)) ∨ ((¬ x < 0 ∧ ¬ 41 ≤ x ∧ ¬ z < 0 ∧ z < 41) ∧ ∃ (lo' hi' : Nat → Int32) (n : Nat) (cx' cy' : Nat → Int32), u = (nI K, 1, nI n, fa, fb, fc, lo', hi', cx', cy') ∧ hu_PN K fa fb fc lo' hi' n cx' cy' ∧ ∃ i, i < 41 ∧ x = nI i ∧ hu_tf r (lo' i ≤ z ∧ z ≤ hi' i))) r1 u1) (w2 : (fun r => hu_tf r ((¬ x < 0 ∧ ¬ 40 < x ∧ ¬ z < 0 ∧ z ≤ 40) ∧ ∀ j, j < K → fa j * x + fb j * z ≤ fc j)) r2) : r1 = r2 ∧ hu_Inv u1 (fa, fb, fc, nI K, li, nI L0, hu, nI h0) := by
  have e1 : (¬ x < 0 ∧ ¬ 41 ≤ x ∧ ¬ z < 0 ∧ z < 41) ↔ (¬ x < 0 ∧ ¬ 40 < x ∧ ¬ z < 0 ∧ z ≤ 40) := by
    have f1 : (41 : Int32).toInt = 41 := by decide
    have f2 : (40 : Int32).toInt = 40 := by decide
    rw [hu_le 41 x, hu_lt z 41, hu_lt 40 x, hu_le z 40, hu_lt0 x, hu_lt0 z, f1, f2]
    omega
  rcases w1 with ⟨a1, rfl, rfl⟩ | ⟨a1, lo', hi', n, cx', cy', rfl, hPN, i, hi0, rfl, hr⟩
  · refine ⟨?_, ⟨K, fa, fb, fc, rd, ct, lo, hi, cx, cy, li, L0, hu, h0, rfl, rfl, hk8, hok, hrd, hls, hwk⟩⟩
    rcases w2 with ⟨b1, b2⟩ | ⟨b1, b2⟩
    · exact absurd (e1.mpr b2.1) a1
    · exact b1.symm
  · have a2 := e1.mp a1
    refine ⟨hu_tf_eq hr w2 ?_, hu_InvQ hk8 hok hls hwk hPN⟩
    rw [hu_Qhas hok hPN.1 hi0 a2.2.2.1 a2.2.2.2]
    exact ⟨fun q => ⟨a2, q⟩, fun q => q.2⟩
theorem hu_J_corners (hk8 : K ≤ 8) (hok : hu_OK K fa fb fc) (hrd : rd = 0 ∨ (rd = 1 ∧ hu_Prep K fa fb fc lo hi ct cx cy)) (hls : hu_Ls K fa fb fc li L0) (hwk : hu_Wk li L0 hu h0) {r1 r2 : Int32} {u1 : hu_HS} (w1 : (fun r u => ∃ (lo' hi' : Nat → Int32) (n : Nat) (cx' cy' : Nat → Int32), u = (nI K, 1, nI n, fa, fb, fc, lo', hi', cx', cy') ∧ hu_PN K fa fb fc lo' hi' n cx' cy' ∧ r = nI n) r1 u1) (w2 : (fun r => r = (nI h0)) r2) : r1 = r2 ∧ hu_Inv u1 (fa, fb, fc, nI K, li, nI L0, hu, nI h0) := by
  obtain ⟨lo', hi', n, cx', cy', rfl, hPN, hr⟩ := w1
  exact ⟨by rw [hr, w2, (hu_walkH hls hwk hPN.2.2 hPN.2.1).1], hu_InvQ hk8 hok hls hwk hPN⟩
theorem hu_J_corner (hk8 : K ≤ 8) (hok : hu_OK K fa fb fc) (hrd : rd = 0 ∨ (rd = 1 ∧ hu_Prep K fa fb fc lo hi ct cx cy)) (hls : hu_Ls K fa fb fc li L0) (hwk : hu_Wk li L0 hu h0) {x : Int32} {r1 r2 : Int32} {u1 : hu_HS} (w1 : (fun r u => ∃ (lo' hi' : Nat → Int32) (n : Nat) (cx' cy' : Nat → Int32), u = (nI K, 1, nI n, fa, fb, fc, lo', hi', cx', cy') ∧ hu_PN K fa fb fc lo' hi' n cx' cy' ∧ ((∃ i, i < n ∧ x = nI i ∧ r = cx' i + 64 * cy' i) ∨ ((x < 0 ∨ nI n ≤ x) ∧ r = -3))) r1 u1) (w2 : (fun r => (∃ i, i < h0 ∧ x = nI i ∧ r = hu i) ∨ ((x < 0 ∨ nI h0 ≤ x) ∧ r = -3)) r2) : r1 = r2 ∧ hu_Inv u1 (fa, fb, fc, nI K, li, nI L0, hu, nI h0) := by
  obtain ⟨lo', hi', n, cx', cy', rfl, hPN, hr⟩ := w1
  obtain ⟨e1, -, e2⟩ := hu_walkH hls hwk hPN.2.2 hPN.2.1
  subst e1
  refine ⟨?_, hu_InvQ hk8 hok hls hwk hPN⟩
  have key : ∀ {i : Nat}, i < h0 → x = nI i → ¬ (x < 0 ∨ nI h0 ≤ x) := by
    intro i hi e q
    have := hwk.1
    rw [e] at q
    rcases q with q | q
    · exact nI_pos (by omega) q
    · have := (nI_leI (by omega) (by omega)).mp q
      omega
  rcases hr with ⟨i, a1, a2, rfl⟩ | ⟨a1, rfl⟩ <;> rcases w2 with ⟨j, b1, b2, rfl⟩ | ⟨b1, rfl⟩
  · have := hwk.1
    have e : i = j := (nI_eq (by omega) (by omega)).mp (a2.symm.trans b2)
    subst e
    rw [e2 i a1]
    exact hu_Qcor hPN a1
  · exact absurd b1 (key a1 a2)
  · exact absurd a1 (key b1 b2)
  · rfl
theorem hu_J_area2 (hk8 : K ≤ 8) (hok : hu_OK K fa fb fc) (hrd : rd = 0 ∨ (rd = 1 ∧ hu_Prep K fa fb fc lo hi ct cx cy)) (hls : hu_Ls K fa fb fc li L0) (hwk : hu_Wk li L0 hu h0) {r1 r2 : Int32} {u1 : hu_HS} (w1 : (fun r u => ∃ (lo' hi' : Nat → Int32) (n : Nat) (cx' cy' : Nat → Int32), u = (nI K, 1, nI n, fa, fb, fc, lo', hi', cx', cy') ∧ hu_PN K fa fb fc lo' hi' n cx' cy' ∧ r = hu_ar cx' cy' n n) r1 u1) (w2 : (fun r => r = hu_an hu (h0 - 2)) r2) : r1 = r2 ∧ hu_Inv u1 (fa, fb, fc, nI K, li, nI L0, hu, nI h0) := by
  obtain ⟨lo', hi', n, cx', cy', rfl, hPN, hr⟩ := w1
  exact ⟨by rw [hr, w2]; exact hu_Qar hPN hls hwk, hu_InvQ hk8 hok hls hwk hPN⟩
theorem hu_J_border (hk8 : K ≤ 8) (hok : hu_OK K fa fb fc) (hrd : rd = 0 ∨ (rd = 1 ∧ hu_Prep K fa fb fc lo hi ct cx cy)) (hls : hu_Ls K fa fb fc li L0) (hwk : hu_Wk li L0 hu h0) {r1 r2 : Int32} {u1 : hu_HS} (w1 : (fun r u => ∃ (lo' hi' : Nat → Int32) (n : Nat) (cx' cy' : Nat → Int32), u = (nI K, 1, nI n, fa, fb, fc, lo', hi', cx', cy') ∧ hu_PN K fa fb fc lo' hi' n cx' cy' ∧ (((∃ (n0 : Nat) (c0 : Nat → Int × Int), n0 < 3 ∧ n0 ≤ 82 ∧ hu_H (hu_S K fa fb fc) n0 c0) ∧ r = hu_pts lo' hi' 41) ∨ (3 ≤ n ∧ r = hu_bd cx' cy' n n))) r1 u1) (w2 : (fun r => r = nI (hu_cnt (fun k => nI h0 < 3 ∨ hu_oB hu h0 (li k)) L0)) r2) : r1 = r2 ∧ hu_Inv u1 (fa, fb, fc, nI K, li, nI L0, hu, nI h0) := by
  obtain ⟨lo', hi', n, cx', cy', rfl, hPN, hr⟩ := w1
  refine ⟨?_, hu_InvQ hk8 hok hls hwk hPN⟩
  rw [w2]
  rcases hr with ⟨⟨n0, c0, q1, q2, q3⟩, rfl⟩ | ⟨q1, rfl⟩
  · obtain ⟨e1, -, -⟩ := hu_walkH hls hwk q3 q2
    exact hu_Qbd0 hPN.1 hls (by omega)
  · exact hu_Qbd hPN q1 hls hwk
theorem hu_J_best (hk8 : K ≤ 8) (hok : hu_OK K fa fb fc) (hrd : rd = 0 ∨ (rd = 1 ∧ hu_Prep K fa fb fc lo hi ct cx cy)) (hls : hu_Ls K fa fb fc li L0) (hwk : hu_Wk li L0 hu h0) {g h : Int32} {r1 r2 : Int32} {u1 : hu_HS} (w1 : (fun r u => (hu_bp g h ∧ r = -1 ∧ u = (nI K, rd, ct, fa, fb, fc, lo, hi, cx, cy)) ∨ (¬ hu_bp g h ∧ ∃ (lo' hi' : Nat → Int32) (n : Nat) (cx' cy' : Nat → Int32), u = (nI K, 1, nI n, fa, fb, fc, lo', hi', cx', cy') ∧ hu_PN K fa fb fc lo' hi' n cx' cy' ∧ ((n = 0 ∧ r = -3) ∨ (0 < n ∧ r = g * cx' (hu_at (fun j => g * cx' j + h * cy' j) n) + h * cy' (hu_at (fun j => g * cx' j + h * cy' j) n))))) r1 u1) (w2 : (fun r => ((g < -100 ∨ 100 < g ∨ h < -100 ∨ 100 < h) ∧ r = -1) ∨ (¬ (g < -100 ∨ 100 < g ∨ h < -100 ∨ 100 < h) ∧ L0 = 0 ∧ r = -3) ∨ (¬ (g < -100 ∨ 100 < g ∨ h < -100 ∨ 100 < h) ∧ 0 < L0 ∧ r = hu_mx (fun k => hu_vR g h (li k)) L0)) r2) : r1 = r2 ∧ hu_Inv u1 (fa, fb, fc, nI K, li, nI L0, hu, nI h0) := by
  rcases w1 with ⟨a1, rfl, rfl⟩ | ⟨a1, lo', hi', n, cx', cy', rfl, hPN, hr⟩
  · refine ⟨?_, ⟨K, fa, fb, fc, rd, ct, lo, hi, cx, cy, li, L0, hu, h0, rfl, rfl, hk8, hok, hrd, hls, hwk⟩⟩
    rcases w2 with q | q | q
    · exact q.2.symm
    · exact absurd a1 q.1
    · exact absurd a1 q.1
  · refine ⟨?_, hu_InvQ hk8 hok hls hwk hPN⟩
    obtain ⟨-, e2, -⟩ := hu_walkH hls hwk hPN.2.2 hPN.2.1
    rcases w2 with q | q | q
    · exact absurd q.1 a1
    · rcases hr with ⟨z, rfl⟩ | ⟨z, rfl⟩
      · exact q.2.2.symm
      · have := e2.mp q.2.1
        omega
    · rcases hr with ⟨z, rfl⟩ | ⟨z, rfl⟩
      · have := e2.mpr z
        omega
      · rw [q.2.2]
        exact (hu_Qbest a1 hPN z hls q.2.1).symm
theorem hu_J_bestCorner (hk8 : K ≤ 8) (hok : hu_OK K fa fb fc) (hrd : rd = 0 ∨ (rd = 1 ∧ hu_Prep K fa fb fc lo hi ct cx cy)) (hls : hu_Ls K fa fb fc li L0) (hwk : hu_Wk li L0 hu h0) {g h : Int32} {r1 r2 : Int32} {u1 : hu_HS} (w1 : (fun r u => (hu_bp g h ∧ r = -1 ∧ u = (nI K, rd, ct, fa, fb, fc, lo, hi, cx, cy)) ∨ (¬ hu_bp g h ∧ ∃ (lo' hi' : Nat → Int32) (n : Nat) (cx' cy' : Nat → Int32), u = (nI K, 1, nI n, fa, fb, fc, lo', hi', cx', cy') ∧ hu_PN K fa fb fc lo' hi' n cx' cy' ∧ ((n = 0 ∧ r = -3) ∨ (0 < n ∧ r = nI (hu_at (fun j => g * cx' j + h * cy' j) n))))) r1 u1) (w2 : (fun r => ((g < -100 ∨ 100 < g ∨ h < -100 ∨ 100 < h) ∧ r = -1) ∨ (¬ (g < -100 ∨ 100 < g ∨ h < -100 ∨ 100 < h) ∧ ∃ b : Int32, ((L0 = 0 ∧ b = -3) ∨ (0 < L0 ∧ b = hu_mx (fun k => hu_vR g h (li k)) L0)) ∧ ((∃ k, k < h0 ∧ r = nI k ∧ hu_vR g h (hu k) = b ∧ ∀ j, j < k → ¬ hu_vR g h (hu j) = b) ∨ (r = -3 ∧ ∀ j, j < h0 → ¬ hu_vR g h (hu j) = b)))) r2) : r1 = r2 ∧ hu_Inv u1 (fa, fb, fc, nI K, li, nI L0, hu, nI h0) := by
  rcases w1 with ⟨a1, rfl, rfl⟩ | ⟨a1, lo', hi', n, cx', cy', rfl, hPN, hr⟩
  · refine ⟨?_, ⟨K, fa, fb, fc, rd, ct, lo, hi, cx, cy, li, L0, hu, h0, rfl, rfl, hk8, hok, hrd, hls, hwk⟩⟩
    rcases w2 with q | q
    · exact q.2.symm
    · exact absurd a1 q.1
  · refine ⟨?_, hu_InvQ hk8 hok hls hwk hPN⟩
    obtain ⟨e1, e2, e3⟩ := hu_walkH hls hwk hPN.2.2 hPN.2.1
    subst e1
    rcases w2 with q | ⟨-, b, hb, hk⟩
    · exact absurd q.1 a1
    · rcases hr with ⟨z, rfl⟩ | ⟨z, rfl⟩
      · rcases hk with ⟨k, k1, k2, k3, k4⟩ | ⟨k1, k2⟩
        · omega
        · exact k1.symm
      · have hL : 0 < L0 := Nat.pos_of_ne_zero (fun y => by have := e2.mp y; omega)
        have hb2 : b = hu_mx (fun k => hu_vR g h (li k)) L0 := by
          rcases hb with y | y
          · omega
          · exact y.2
        rw [hu_Qbest a1 hPN z hls hL] at hb2
        obtain ⟨t1, t2, t3⟩ := hu_at_ge (fun j => g * cx' j + h * cy' j) h0
        have t3 := t3 z
        have ev : ∀ j, j < h0 → hu_vR g h (hu j) = g * cx' j + h * cy' j := fun j hj => by
          rw [e3 j hj, hu_vRc g h (hPN.2.2.2.1 j hj).1, ← hu_val_pt]
        generalize hu_at (fun j => g * cx' j + h * cy' j) h0 = m at *
        rcases hk with ⟨k, k1, k2, k3, k4⟩ | ⟨k1, k2⟩
        · rw [k2]
          congr 1
          rw [ev k k1] at k3
          rcases Nat.lt_or_ge k m with y | y
          · have := t2 k y
            exact absurd (k3.trans hb2) (fun e => by
              have t : g * cx' k + h * cy' k < g * cx' m + h * cy' m := this
              rw [e] at t
              exact Int32.lt_irrefl t)
          · rcases Nat.lt_or_ge m k with x | x
            · exact absurd (by rw [ev m t3, hb2]) (k4 m x)
            · omega
        · exact absurd (by rw [ev m t3, hb2]) (k2 m t3)
theorem hu_J_column (hk8 : K ≤ 8) (hok : hu_OK K fa fb fc) (hrd : rd = 0 ∨ (rd = 1 ∧ hu_Prep K fa fb fc lo hi ct cx cy)) (hls : hu_Ls K fa fb fc li L0) (hwk : hu_Wk li L0 hu h0) {x : Int32} {r1 r2 : Int32} {u1 : hu_HS} (w1 : (fun r u => ((x < 0 ∨ 41 ≤ x) ∧ r = 0 ∧ u = (nI K, rd, ct, fa, fb, fc, lo, hi, cx, cy)) ∨ (∃ (lo' hi' : Nat → Int32) (n : Nat) (cx' cy' : Nat → Int32), u = (nI K, 1, nI n, fa, fb, fc, lo', hi', cx', cy') ∧ hu_PN K fa fb fc lo' hi' n cx' cy' ∧ ∃ i, i < 41 ∧ x = nI i ∧ ((lo' i ≤ hi' i ∧ r = hi' i - lo' i + 1) ∨ (¬ lo' i ≤ hi' i ∧ r = 0)))) r1 u1) (w2 : (fun r => r = nI (hu_cnt (fun k => hu_xO (li k) = x) L0)) r2) : r1 = r2 ∧ hu_Inv u1 (fa, fb, fc, nI K, li, nI L0, hu, nI h0) := by
  rcases w1 with ⟨a1, rfl, rfl⟩ | ⟨lo', hi', n, cx', cy', rfl, hPN, i, hi0, rfl, hr⟩
  · refine ⟨?_, ⟨K, fa, fb, fc, rd, ct, lo, hi, cx, cy, li, L0, hu, h0, rfl, rfl, hk8, hok, hrd, hls, hwk⟩⟩
    rw [w2, hu_QcolO hls a1]
    rfl
  · refine ⟨?_, hu_InvQ hk8 hok hls hwk hPN⟩
    rw [w2, hu_Qcol hPN.1 hls hi0]
    obtain ⟨k1, k2, _⟩ := hu_col hi0 _ _ (hPN.1 i hi0)
    rcases hr with ⟨z, rfl⟩ | ⟨z, rfl⟩
    · exact hu_cc32 z k1 k2
    · rw [hu_le] at z
      rw [show ((hi' i).toInt + 1 - (lo' i).toInt).toNat = 0 by omega]
      rfl
end HuJoint
end
section
/-! the law: its own rows (starting text), then its cases (written by gen/m7.py) -/
/-! THE CLAIM OUT OF ONE WALK OF THE LAW'S BODY. Your part is whole_start (and what it stands on); all else here is the same for every law, but numbers. -/
def R_law : String := "IntegerHullLaw"
def lw_P (b : Addr) (xs : List Int32) (args : Array Value) (s : State) : Prop := args = #[.ref b] ∧ s.IntsAt b xs ∧ xs.length ≤ 256 ∧ (Jvm.Cond.and given_1 narrow_1).before args s = true
def lw_Q (_ : Array Value) (s : State) (o : Outcome) (t : State) : Prop := o = .returned (some (.int 1)) ∧ Framed s o t [] 600000 7290000
def lw_Z (below : List Frame) (a : Array Value) (s : State) : State → Prop := fun t => ∃ o, t.status = .running ∧ Ended t below o ∧ lw_Q a s o t
/-- the law's own end, with 1 on the stack, nothing written that was there before, its room as the claim has it -/
theorem lw_ret {p : Program} {l : Launch} {e : Env} {s : State} {m : MethodId} {below : List Frame} {meth : Method} {c : Code} {b : Nat} (hx : p.tables.exec = Jvm.exec) (hb : c.code = code) (hr : meth.sig.returnType = ret) (hlocks : meth.locks = false) {pc : Nat} {H : Heap} {ls : Array Slot} (hdg : decode code pc = .ok (.ireturn, 1)) : W p l e room_1 s m #[Value.ref b] below meth c H [] 600000 7290000 (lw_Z below #[Value.ref b] s) (F0 m pc ls [.int 1]) := by
  intro T hT X
  obtain ⟨fs, hret, hrun, hended, hW, hframe⟩ := X.leave (v := some (.int 1)) (hlocks := hlocks) (fun h => by rw [hr] at h; cases h)
  have hmeth' : T.vm.method? m = some meth := X.method'
  refine ⟨T.setFrames fs, ?_, .returned (some (.int 1)), hrun, hended, rfl, ⟨_, rfl⟩, hW, hframe⟩
  jvm_step X.here [X.here.top, hx, hb, hdg, hmeth', hr, ret, narrow_b1]
  (try refine ⟨rfl, ?_⟩); (try refine ⟨rfl, ?_⟩)
  first | (intro acts; rw [hret _ acts rfl rfl rfl]) | rw [hret _ _ rfl rfl rfl]
  exact Steps.refl _
/-- what holds at the law's entry: the machine, the code, the tables' words (any of lw_tbl by 'hts w (by decide +kernel)'), the script of L ints xs at the cell b, what the Statement gives of the start (any of its parts by flat_of_before) -/
def lw_At (p : Program) (s : State) (m : MethodId) (meth : Method) (c : Code) (b L : Nat) (xs : Nat → Int32) : Prop :=
  p.tables.exec = Jvm.exec ∧ c.code = code ∧ meth.sig.returnType = ret ∧ c.maxLocals = 4 ∧ s.vm.findClass R_law = some m.cls ∧ (∀ w ∈ lw_tbl, w.before #[Value.ref b] s = true) ∧ va_X b L xs s s.heap ∧ b < s.heap.size ∧ meth.locks = false ∧ (Jvm.Cond.and given_1 narrow_1).before #[Value.ref b] s = true
/-- the law's state at pc, the two objects tied -/
abbrev hu_LA (p : Program) (l : Launch) (e : Env) (s : State) (m : MethodId) (below : List Frame) (meth : Method) (c : Code) (dC : Nat → ClassId) (dI : Nat → Nat → Nat) (d : ClassId) (ad am : Nat → Nat) (b i pc : Nat) : Prop := ∀ (u : hu_HS) (v : hu_MS) (H : Heap) (locs : List Loc) (ls : Array Slot), hu_Inv u v → va_P (dC, dI) hu_Cl (hu_wH d ad u ++ hu_wM d am v) H → va_D (fun q : Nat => s.heap.size ≤ q) (hu_wH d ad u ++ hu_wM d am v) → va_S (fun q : Nat => s.heap.size ≤ q) s.heap H locs → lv_has ls 4 [(0, .ref b), (1, .ref (ad 0)), (2, .ref (am 0)), (3, .int (nI i))] → W p l e room_1 s m #[Value.ref b] below meth c H locs 14 2253 (lw_Z below #[Value.ref b] s) (F0 m pc ls [])
set_option maxHeartbeats 4000000 in
set_option maxRecDepth 100000 in
theorem hu_case_condition {p : Program} {l : Launch} {e : Env} {s : State} {m : MethodId} {below : List Frame} {meth : Method} {c : Code} {dC : Nat → ClassId} {dI : Nat → Nat → Nat} {b L : Nat} {xs : Nat → Int32} (hL : L ≤ 256) (C0 : lw_At p s m meth c b L xs) {d : ClassId} {ad am : Nat → Nat} (hK : va_K (dC, dI) hu_Cl [(d, .int)] s) {i : Nat} (hiL : i + 4 ≤ L) (hk : hu_LA p l e s m below meth c dC dI d ad am b i 382) : hu_LA p l e s m below meth c dC dI d ad am b i 96 := by
  obtain ⟨hx, hb, hr, hml, hown, hts0, hX, hbl, hlocks, hgv⟩ := C0
  have hts : ∀ w ∈ lw_all, w.before #[Value.ref b] s = true := fun w h => hts0 w (lw_all_tbl h)
  have hA : ∀ q : Nat, s.heap.size ≤ q → (fun q : Nat => s.heap.size ≤ q) q := fun _ h => h
  have hbA : ¬ (fun q : Nat => s.heap.size ≤ q) b := Nat.not_le.mpr hbl
  intro u v H locs ls hI hP hD hS hl
  obtain ⟨K, fa, fb, fc, rd, ct, lo, hi, cx, cy, li, L0, hu, h0, rfl, rfl, hk8, hok, hrd, hls, hwk⟩ := hI
  have hL0 : L0 ≤ 1681 := by rw [hls.1]; exact hu_cnt_le _ _
  refine lv_aload_n hx hb dL_law_96 rfl (lv_at hl 1 rfl) ?_
  refine lv_aload_n hx hb dL_law_97 rfl (lv_at hl 0 rfl) ?_
  refine lv_iload_n hx hb dL_law_98 rfl (lv_at hl 3 rfl) ?_
  refine lv_iconst (v := 1) hx hb dL_law_99 (by decide) ?_
  refine lv_iadd hx hb dL_law_100 ?_
  refine hu_top (z := nI (i + 1)) (nI_add i 1) ?_
  refine va_sld hx hb hX hbl hbA hS (vp_in_nI (show i + 1 < L by omega) (by omega)) dL_law_101 ?_
  refine lv_aload_n hx hb dL_law_102 rfl (lv_at hl 0 rfl) ?_
  refine lv_iload_n hx hb dL_law_103 rfl (lv_at hl 3 rfl) ?_
  refine lv_iconst (v := 2) hx hb dL_law_104 (by decide) ?_
  refine lv_iadd hx hb dL_law_105 ?_
  refine hu_top (z := nI (i + 2)) (nI_add i 2) ?_
  refine va_sld hx hb hX hbl hbA hS (vp_in_nI (show i + 2 < L by omega) (by omega)) dL_law_106 ?_
  refine lv_aload_n hx hb dL_law_107 rfl (lv_at hl 0 rfl) ?_
  refine lv_iload_n hx hb dL_law_108 rfl (lv_at hl 3 rfl) ?_
  refine lv_iconst (v := 3) hx hb dL_law_109 (by decide) ?_
  refine lv_iadd hx hb dL_law_110 ?_
  refine hu_top (z := nI (i + 3)) (nI_add i 3) ?_
  refine va_sld hx hb hX hbl hbA hS (vp_in_nI (show i + 3 < L by omega) (by omega)) dL_law_111 ?_
  refine hu_callCI 3 (As := [.int (xs (nI (i + 1)).toNatClampNeg), .int (xs (nI (i + 2)).toNatClampNeg), .int (xs (nI (i + 3)).toNatClampNeg)]) (rest := []) (wf := hu_wH d ad) (wr := hu_wM d am (fa, fb, fc, nI K, li, nI L0, hu, nI h0)) ⟨hx, hb, hml, hown, hts⟩ (mX0_condition l dC dI d ad _ rd ct fa fb fc lo hi cx cy K hk8 hok hrd (xs (nI (i + 1)).toNatClampNeg) (xs (nI (i + 2)).toNatClampNeg) (xs (nI (i + 3)).toNatClampNeg)) (lw_V q59 q60 q61 q17 q62) (by decide +kernel) rfl ⟨Nat.le_of_ble_eq_true rfl, Nat.le_of_ble_eq_true rfl⟩ ⟨rfl, rfl⟩ hK hP hD hS hA [0, 1, 2, 3, 4, 5, 6, 7] [8, 9, 10, 11, 12, 13] rfl rfl ⟨rfl, rfl⟩ (by decide) rfl (va_recv hK hP (ci := 0) (q0 := 0) rfl rfl) hl.1 rfl (Nat.le_of_ble_eq_true rfl) ⟨Nat.le_of_ble_eq_true rfl, Nat.le_of_ble_eq_true rfl⟩ dL_law_112 (fun r1 u1 H locs w1 hP hD hS => ?_)
  have hP := hP.sub (ws' := hu_wH d ad u1 ++ hu_wM d am (fa, fb, fc, nI K, li, nI L0, hu, nI h0)) [6, 7, 8, 9, 10, 11, 12, 13, 0, 1, 2, 3, 4, 5] rfl
  have hD := hD.sub (ws' := hu_wH d ad u1 ++ hu_wM d am (fa, fb, fc, nI K, li, nI L0, hu, nI h0)) [6, 7, 8, 9, 10, 11, 12, 13, 0, 1, 2, 3, 4, 5] (by decide) rfl
  refine lv_aload_n hx hb dL_law_115 rfl (lv_at hl 2 rfl) ?_
  refine lv_aload_n hx hb dL_law_116 rfl (lv_at hl 0 rfl) ?_
  refine lv_iload_n hx hb dL_law_117 rfl (lv_at hl 3 rfl) ?_
  refine lv_iconst (v := 1) hx hb dL_law_118 (by decide) ?_
  refine lv_iadd hx hb dL_law_119 ?_
  refine hu_top (z := nI (i + 1)) (nI_add i 1) ?_
  refine va_sld hx hb hX hbl hbA hS (vp_in_nI (show i + 1 < L by omega) (by omega)) dL_law_120 ?_
  refine lv_aload_n hx hb dL_law_121 rfl (lv_at hl 0 rfl) ?_
  refine lv_iload_n hx hb dL_law_122 rfl (lv_at hl 3 rfl) ?_
  refine lv_iconst (v := 2) hx hb dL_law_123 (by decide) ?_
  refine lv_iadd hx hb dL_law_124 ?_
  refine hu_top (z := nI (i + 2)) (nI_add i 2) ?_
  refine va_sld hx hb hX hbl hbA hS (vp_in_nI (show i + 2 < L by omega) (by omega)) dL_law_125 ?_
  refine lv_aload_n hx hb dL_law_126 rfl (lv_at hl 0 rfl) ?_
  refine lv_iload_n hx hb dL_law_127 rfl (lv_at hl 3 rfl) ?_
  refine lv_iconst (v := 3) hx hb dL_law_128 (by decide) ?_
  refine lv_iadd hx hb dL_law_129 ?_
  refine hu_top (z := nI (i + 3)) (nI_add i 3) ?_
  refine va_sld hx hb hX hbl hbA hS (vp_in_nI (show i + 3 < L by omega) (by omega)) dL_law_130 ?_
  refine hu_callCI 3 (As := [.int (xs (nI (i + 1)).toNatClampNeg), .int (xs (nI (i + 2)).toNatClampNeg), .int (xs (nI (i + 3)).toNatClampNeg)]) (rest := [.int r1]) (wf := hu_wM d am) (wr := hu_wH d ad u1) ⟨hx, hb, hml, hown, hts⟩ (mX1_condition l dC dI d am _ fa fb fc li (nI L0) hu (nI h0) K hk8 hok (xs (nI (i + 1)).toNatClampNeg) (xs (nI (i + 2)).toNatClampNeg) (xs (nI (i + 3)).toNatClampNeg)) (lw_V q208 q209 q210 q18 q211) (by decide +kernel) rfl ⟨Nat.le_of_ble_eq_true rfl, Nat.le_of_ble_eq_true rfl⟩ ⟨rfl, rfl⟩ hK hP hD hS hA [8, 9, 10, 11, 12, 13] [0, 1, 2, 3, 4, 5, 6, 7] rfl rfl ⟨rfl, rfl⟩ (by decide) rfl (va_recv hK hP (ci := 1) (q0 := 8) rfl rfl) hl.1 rfl (Nat.le_of_ble_eq_true rfl) ⟨Nat.le_of_ble_eq_true rfl, Nat.le_of_ble_eq_true rfl⟩ dL_law_131 (fun r2 v1 H locs w2 hP hD hS => ?_)
  have hJ := hu_J_condition hk8 hok hrd hls hwk w1 w2
  refine lv_icmp_eq (tgt := 382) hx hb dL_law_134 (by decide) (fun c1 => ?_) (fun c1 => absurd hJ.1 c1)
  exact hk _ _ _ _ _ hJ.2 hP hD hS hl
set_option maxHeartbeats 4000000 in
set_option maxRecDepth 100000 in
theorem hu_case_drop {p : Program} {l : Launch} {e : Env} {s : State} {m : MethodId} {below : List Frame} {meth : Method} {c : Code} {dC : Nat → ClassId} {dI : Nat → Nat → Nat} {b L : Nat} {xs : Nat → Int32} (hL : L ≤ 256) (C0 : lw_At p s m meth c b L xs) {d : ClassId} {ad am : Nat → Nat} (hK : va_K (dC, dI) hu_Cl [(d, .int)] s) {i : Nat} (hiL : i + 4 ≤ L) (hk : hu_LA p l e s m below meth c dC dI d ad am b i 382) : hu_LA p l e s m below meth c dC dI d ad am b i 139 := by
  obtain ⟨hx, hb, hr, hml, hown, hts0, hX, hbl, hlocks, hgv⟩ := C0
  have hts : ∀ w ∈ lw_all, w.before #[Value.ref b] s = true := fun w h => hts0 w (lw_all_tbl h)
  have hA : ∀ q : Nat, s.heap.size ≤ q → (fun q : Nat => s.heap.size ≤ q) q := fun _ h => h
  have hbA : ¬ (fun q : Nat => s.heap.size ≤ q) b := Nat.not_le.mpr hbl
  intro u v H locs ls hI hP hD hS hl
  obtain ⟨K, fa, fb, fc, rd, ct, lo, hi, cx, cy, li, L0, hu, h0, rfl, rfl, hk8, hok, hrd, hls, hwk⟩ := hI
  have hL0 : L0 ≤ 1681 := by rw [hls.1]; exact hu_cnt_le _ _
  refine lv_aload_n hx hb dL_law_139 rfl (lv_at hl 1 rfl) ?_
  refine hu_callCI 0 (As := []) (rest := []) (wf := hu_wH d ad) (wr := hu_wM d am (fa, fb, fc, nI K, li, nI L0, hu, nI h0)) ⟨hx, hb, hml, hown, hts⟩ (mX0_drop l dC dI d ad _ rd ct fa fb fc lo hi cx cy K hk8 hok hrd ) (lw_V q66 q67 q68 q17 q69) (by decide +kernel) rfl ⟨Nat.le_of_ble_eq_true rfl, Nat.le_of_ble_eq_true rfl⟩ ⟨rfl, rfl⟩ hK hP hD hS hA [0, 1, 2, 3, 4, 5, 6, 7] [8, 9, 10, 11, 12, 13] rfl rfl ⟨rfl, rfl⟩ (by decide) rfl (va_recv hK hP (ci := 0) (q0 := 0) rfl rfl) hl.1 rfl (Nat.le_of_ble_eq_true rfl) ⟨Nat.le_of_ble_eq_true rfl, Nat.le_of_ble_eq_true rfl⟩ dL_law_140 (fun r1 u1 H locs w1 hP hD hS => ?_)
  have hP := hP.sub (ws' := hu_wH d ad u1 ++ hu_wM d am (fa, fb, fc, nI K, li, nI L0, hu, nI h0)) [6, 7, 8, 9, 10, 11, 12, 13, 0, 1, 2, 3, 4, 5] rfl
  have hD := hD.sub (ws' := hu_wH d ad u1 ++ hu_wM d am (fa, fb, fc, nI K, li, nI L0, hu, nI h0)) [6, 7, 8, 9, 10, 11, 12, 13, 0, 1, 2, 3, 4, 5] (by decide) rfl
  refine lv_aload_n hx hb dL_law_143 rfl (lv_at hl 2 rfl) ?_
  refine hu_callCI 0 (As := []) (rest := [.int r1]) (wf := hu_wM d am) (wr := hu_wH d ad u1) ⟨hx, hb, hml, hown, hts⟩ (mX1_drop l dC dI d am _ fa fb fc li (nI L0) hu (nI h0) K hk8 hok ) (lw_V q212 q213 q214 q18 q215) (by decide +kernel) rfl ⟨Nat.le_of_ble_eq_true rfl, Nat.le_of_ble_eq_true rfl⟩ ⟨rfl, rfl⟩ hK hP hD hS hA [8, 9, 10, 11, 12, 13] [0, 1, 2, 3, 4, 5, 6, 7] rfl rfl ⟨rfl, rfl⟩ (by decide) rfl (va_recv hK hP (ci := 1) (q0 := 8) rfl rfl) hl.1 rfl (Nat.le_of_ble_eq_true rfl) ⟨Nat.le_of_ble_eq_true rfl, Nat.le_of_ble_eq_true rfl⟩ dL_law_144 (fun r2 v1 H locs w2 hP hD hS => ?_)
  have hJ := hu_J_drop hk8 hok hrd hls hwk w1 w2
  refine lv_icmp_eq (tgt := 382) hx hb dL_law_147 (by decide) (fun c1 => ?_) (fun c1 => absurd hJ.1 c1)
  exact hk _ _ _ _ _ hJ.2 hP hD hS hl
set_option maxHeartbeats 4000000 in
set_option maxRecDepth 100000 in
theorem hu_case_shift {p : Program} {l : Launch} {e : Env} {s : State} {m : MethodId} {below : List Frame} {meth : Method} {c : Code} {dC : Nat → ClassId} {dI : Nat → Nat → Nat} {b L : Nat} {xs : Nat → Int32} (hL : L ≤ 256) (C0 : lw_At p s m meth c b L xs) {d : ClassId} {ad am : Nat → Nat} (hK : va_K (dC, dI) hu_Cl [(d, .int)] s) {i : Nat} (hiL : i + 4 ≤ L) (hk : hu_LA p l e s m below meth c dC dI d ad am b i 382) : hu_LA p l e s m below meth c dC dI d ad am b i 152 := by
  obtain ⟨hx, hb, hr, hml, hown, hts0, hX, hbl, hlocks, hgv⟩ := C0
  have hts : ∀ w ∈ lw_all, w.before #[Value.ref b] s = true := fun w h => hts0 w (lw_all_tbl h)
  have hA : ∀ q : Nat, s.heap.size ≤ q → (fun q : Nat => s.heap.size ≤ q) q := fun _ h => h
  have hbA : ¬ (fun q : Nat => s.heap.size ≤ q) b := Nat.not_le.mpr hbl
  intro u v H locs ls hI hP hD hS hl
  obtain ⟨K, fa, fb, fc, rd, ct, lo, hi, cx, cy, li, L0, hu, h0, rfl, rfl, hk8, hok, hrd, hls, hwk⟩ := hI
  have hL0 : L0 ≤ 1681 := by rw [hls.1]; exact hu_cnt_le _ _
  refine lv_aload_n hx hb dL_law_152 rfl (lv_at hl 1 rfl) ?_
  refine lv_aload_n hx hb dL_law_153 rfl (lv_at hl 0 rfl) ?_
  refine lv_iload_n hx hb dL_law_154 rfl (lv_at hl 3 rfl) ?_
  refine lv_iconst (v := 1) hx hb dL_law_155 (by decide) ?_
  refine lv_iadd hx hb dL_law_156 ?_
  refine hu_top (z := nI (i + 1)) (nI_add i 1) ?_
  refine va_sld hx hb hX hbl hbA hS (vp_in_nI (show i + 1 < L by omega) (by omega)) dL_law_157 ?_
  refine lv_aload_n hx hb dL_law_158 rfl (lv_at hl 0 rfl) ?_
  refine lv_iload_n hx hb dL_law_159 rfl (lv_at hl 3 rfl) ?_
  refine lv_iconst (v := 2) hx hb dL_law_160 (by decide) ?_
  refine lv_iadd hx hb dL_law_161 ?_
  refine hu_top (z := nI (i + 2)) (nI_add i 2) ?_
  refine va_sld hx hb hX hbl hbA hS (vp_in_nI (show i + 2 < L by omega) (by omega)) dL_law_162 ?_
  refine hu_callCI 2 (As := [.int (xs (nI (i + 1)).toNatClampNeg), .int (xs (nI (i + 2)).toNatClampNeg)]) (rest := []) (wf := hu_wH d ad) (wr := hu_wM d am (fa, fb, fc, nI K, li, nI L0, hu, nI h0)) ⟨hx, hb, hml, hown, hts⟩ (mX0_shift l dC dI d ad _ rd ct fa fb fc lo hi cx cy K hk8 hok hrd (xs (nI (i + 1)).toNatClampNeg) (xs (nI (i + 2)).toNatClampNeg)) (lw_V q70 q71 q72 q17 q73) (by decide +kernel) rfl ⟨Nat.le_of_ble_eq_true rfl, Nat.le_of_ble_eq_true rfl⟩ ⟨rfl, rfl⟩ hK hP hD hS hA [0, 1, 2, 3, 4, 5, 6, 7] [8, 9, 10, 11, 12, 13] rfl rfl ⟨rfl, rfl⟩ (by decide) rfl (va_recv hK hP (ci := 0) (q0 := 0) rfl rfl) hl.1 rfl (Nat.le_of_ble_eq_true rfl) ⟨Nat.le_of_ble_eq_true rfl, Nat.le_of_ble_eq_true rfl⟩ dL_law_163 (fun r1 u1 H locs w1 hP hD hS => ?_)
  have hP := hP.sub (ws' := hu_wH d ad u1 ++ hu_wM d am (fa, fb, fc, nI K, li, nI L0, hu, nI h0)) [6, 7, 8, 9, 10, 11, 12, 13, 0, 1, 2, 3, 4, 5] rfl
  have hD := hD.sub (ws' := hu_wH d ad u1 ++ hu_wM d am (fa, fb, fc, nI K, li, nI L0, hu, nI h0)) [6, 7, 8, 9, 10, 11, 12, 13, 0, 1, 2, 3, 4, 5] (by decide) rfl
  refine lv_aload_n hx hb dL_law_166 rfl (lv_at hl 2 rfl) ?_
  refine lv_aload_n hx hb dL_law_167 rfl (lv_at hl 0 rfl) ?_
  refine lv_iload_n hx hb dL_law_168 rfl (lv_at hl 3 rfl) ?_
  refine lv_iconst (v := 1) hx hb dL_law_169 (by decide) ?_
  refine lv_iadd hx hb dL_law_170 ?_
  refine hu_top (z := nI (i + 1)) (nI_add i 1) ?_
  refine va_sld hx hb hX hbl hbA hS (vp_in_nI (show i + 1 < L by omega) (by omega)) dL_law_171 ?_
  refine lv_aload_n hx hb dL_law_172 rfl (lv_at hl 0 rfl) ?_
  refine lv_iload_n hx hb dL_law_173 rfl (lv_at hl 3 rfl) ?_
  refine lv_iconst (v := 2) hx hb dL_law_174 (by decide) ?_
  refine lv_iadd hx hb dL_law_175 ?_
  refine hu_top (z := nI (i + 2)) (nI_add i 2) ?_
  refine va_sld hx hb hX hbl hbA hS (vp_in_nI (show i + 2 < L by omega) (by omega)) dL_law_176 ?_
  refine hu_callCI 2 (As := [.int (xs (nI (i + 1)).toNatClampNeg), .int (xs (nI (i + 2)).toNatClampNeg)]) (rest := [.int r1]) (wf := hu_wM d am) (wr := hu_wH d ad u1) ⟨hx, hb, hml, hown, hts⟩ (mX1_shift l dC dI d am _ fa fb fc li (nI L0) hu (nI h0) K hk8 hok (xs (nI (i + 1)).toNatClampNeg) (xs (nI (i + 2)).toNatClampNeg)) (lw_V q216 q217 q218 q18 q219) (by decide +kernel) rfl ⟨Nat.le_of_ble_eq_true rfl, Nat.le_of_ble_eq_true rfl⟩ ⟨rfl, rfl⟩ hK hP hD hS hA [8, 9, 10, 11, 12, 13] [0, 1, 2, 3, 4, 5, 6, 7] rfl rfl ⟨rfl, rfl⟩ (by decide) rfl (va_recv hK hP (ci := 1) (q0 := 8) rfl rfl) hl.1 rfl (Nat.le_of_ble_eq_true rfl) ⟨Nat.le_of_ble_eq_true rfl, Nat.le_of_ble_eq_true rfl⟩ dL_law_177 (fun r2 v1 H locs w2 hP hD hS => ?_)
  have hJ := hu_J_shift hk8 hok hrd hls hwk w1 w2
  refine lv_icmp_eq (tgt := 382) hx hb dL_law_180 (by decide) (fun c1 => ?_) (fun c1 => absurd hJ.1 c1)
  exact hk _ _ _ _ _ hJ.2 hP hD hS hl
set_option maxHeartbeats 4000000 in
set_option maxRecDepth 100000 in
theorem hu_case_points {p : Program} {l : Launch} {e : Env} {s : State} {m : MethodId} {below : List Frame} {meth : Method} {c : Code} {dC : Nat → ClassId} {dI : Nat → Nat → Nat} {b L : Nat} {xs : Nat → Int32} (hL : L ≤ 256) (C0 : lw_At p s m meth c b L xs) {d : ClassId} {ad am : Nat → Nat} (hK : va_K (dC, dI) hu_Cl [(d, .int)] s) {i : Nat} (hiL : i + 4 ≤ L) (hk : hu_LA p l e s m below meth c dC dI d ad am b i 382) : hu_LA p l e s m below meth c dC dI d ad am b i 185 := by
  obtain ⟨hx, hb, hr, hml, hown, hts0, hX, hbl, hlocks, hgv⟩ := C0
  have hts : ∀ w ∈ lw_all, w.before #[Value.ref b] s = true := fun w h => hts0 w (lw_all_tbl h)
  have hA : ∀ q : Nat, s.heap.size ≤ q → (fun q : Nat => s.heap.size ≤ q) q := fun _ h => h
  have hbA : ¬ (fun q : Nat => s.heap.size ≤ q) b := Nat.not_le.mpr hbl
  intro u v H locs ls hI hP hD hS hl
  obtain ⟨K, fa, fb, fc, rd, ct, lo, hi, cx, cy, li, L0, hu, h0, rfl, rfl, hk8, hok, hrd, hls, hwk⟩ := hI
  have hL0 : L0 ≤ 1681 := by rw [hls.1]; exact hu_cnt_le _ _
  refine lv_aload_n hx hb dL_law_185 rfl (lv_at hl 1 rfl) ?_
  refine hu_callCI 0 (As := []) (rest := []) (wf := hu_wH d ad) (wr := hu_wM d am (fa, fb, fc, nI K, li, nI L0, hu, nI h0)) ⟨hx, hb, hml, hown, hts⟩ (mX0_points l dC dI d ad _ rd ct fa fb fc lo hi cx cy K hk8 hok hrd ) (lw_V q74 q75 q76 q17 q77) (by decide +kernel) rfl ⟨Nat.le_of_ble_eq_true rfl, Nat.le_of_ble_eq_true rfl⟩ ⟨rfl, rfl⟩ hK hP hD hS hA [0, 1, 2, 3, 4, 5, 6, 7] [8, 9, 10, 11, 12, 13] rfl rfl ⟨rfl, rfl⟩ (by decide) rfl (va_recv hK hP (ci := 0) (q0 := 0) rfl rfl) hl.1 rfl (Nat.le_of_ble_eq_true rfl) ⟨Nat.le_of_ble_eq_true rfl, Nat.le_of_ble_eq_true rfl⟩ dL_law_186 (fun r1 u1 H locs w1 hP hD hS => ?_)
  have hP := hP.sub (ws' := hu_wH d ad u1 ++ hu_wM d am (fa, fb, fc, nI K, li, nI L0, hu, nI h0)) [6, 7, 8, 9, 10, 11, 12, 13, 0, 1, 2, 3, 4, 5] rfl
  have hD := hD.sub (ws' := hu_wH d ad u1 ++ hu_wM d am (fa, fb, fc, nI K, li, nI L0, hu, nI h0)) [6, 7, 8, 9, 10, 11, 12, 13, 0, 1, 2, 3, 4, 5] (by decide) rfl
  refine lv_aload_n hx hb dL_law_189 rfl (lv_at hl 2 rfl) ?_
  refine hu_callR 0 (As := []) (rest := [.int r1]) ⟨hx, hb, hml, hown, hts⟩ (mX1_points l dC dI d am fa fb fc (nI K) li (nI L0) hu (nI h0)  ) (lw_V q220 q221 q222 q18 q223) (by decide +kernel) rfl ⟨Nat.le_of_ble_eq_true rfl, Nat.le_of_ble_eq_true rfl⟩ ⟨rfl, rfl⟩ hK (hP.sub (ws' := hu_wM d am (fa, fb, fc, nI K, li, nI L0, hu, nI h0)) [8, 9, 10, 11, 12, 13] rfl) (va_recv hK hP (ci := 1) (q0 := 8) rfl rfl) hl.1 rfl (Nat.le_of_ble_eq_true rfl) ⟨Nat.le_of_ble_eq_true rfl, Nat.le_of_ble_eq_true rfl⟩ dL_law_190 (fun r2 w2 => ?_)
  have hJ := hu_J_points hk8 hok hrd hls hwk w1 w2
  refine lv_icmp_eq (tgt := 382) hx hb dL_law_193 (by decide) (fun c1 => ?_) (fun c1 => absurd hJ.1 c1)
  exact hk _ _ _ _ _ hJ.2 hP hD hS hl
set_option maxHeartbeats 4000000 in
set_option maxRecDepth 100000 in
theorem hu_case_has {p : Program} {l : Launch} {e : Env} {s : State} {m : MethodId} {below : List Frame} {meth : Method} {c : Code} {dC : Nat → ClassId} {dI : Nat → Nat → Nat} {b L : Nat} {xs : Nat → Int32} (hL : L ≤ 256) (C0 : lw_At p s m meth c b L xs) {d : ClassId} {ad am : Nat → Nat} (hK : va_K (dC, dI) hu_Cl [(d, .int)] s) {i : Nat} (hiL : i + 4 ≤ L) (hk : hu_LA p l e s m below meth c dC dI d ad am b i 382) : hu_LA p l e s m below meth c dC dI d ad am b i 198 := by
  obtain ⟨hx, hb, hr, hml, hown, hts0, hX, hbl, hlocks, hgv⟩ := C0
  have hts : ∀ w ∈ lw_all, w.before #[Value.ref b] s = true := fun w h => hts0 w (lw_all_tbl h)
  have hA : ∀ q : Nat, s.heap.size ≤ q → (fun q : Nat => s.heap.size ≤ q) q := fun _ h => h
  have hbA : ¬ (fun q : Nat => s.heap.size ≤ q) b := Nat.not_le.mpr hbl
  intro u v H locs ls hI hP hD hS hl
  obtain ⟨K, fa, fb, fc, rd, ct, lo, hi, cx, cy, li, L0, hu, h0, rfl, rfl, hk8, hok, hrd, hls, hwk⟩ := hI
  have hL0 : L0 ≤ 1681 := by rw [hls.1]; exact hu_cnt_le _ _
  refine lv_aload_n hx hb dL_law_198 rfl (lv_at hl 1 rfl) ?_
  refine lv_aload_n hx hb dL_law_199 rfl (lv_at hl 0 rfl) ?_
  refine lv_iload_n hx hb dL_law_200 rfl (lv_at hl 3 rfl) ?_
  refine lv_iconst (v := 1) hx hb dL_law_201 (by decide) ?_
  refine lv_iadd hx hb dL_law_202 ?_
  refine hu_top (z := nI (i + 1)) (nI_add i 1) ?_
  refine va_sld hx hb hX hbl hbA hS (vp_in_nI (show i + 1 < L by omega) (by omega)) dL_law_203 ?_
  refine lv_aload_n hx hb dL_law_204 rfl (lv_at hl 0 rfl) ?_
  refine lv_iload_n hx hb dL_law_205 rfl (lv_at hl 3 rfl) ?_
  refine lv_iconst (v := 2) hx hb dL_law_206 (by decide) ?_
  refine lv_iadd hx hb dL_law_207 ?_
  refine hu_top (z := nI (i + 2)) (nI_add i 2) ?_
  refine va_sld hx hb hX hbl hbA hS (vp_in_nI (show i + 2 < L by omega) (by omega)) dL_law_208 ?_
  refine hu_callCI 2 (As := [.int (xs (nI (i + 1)).toNatClampNeg), .int (xs (nI (i + 2)).toNatClampNeg)]) (rest := []) (wf := hu_wH d ad) (wr := hu_wM d am (fa, fb, fc, nI K, li, nI L0, hu, nI h0)) ⟨hx, hb, hml, hown, hts⟩ (mX0_has l dC dI d ad _ rd ct fa fb fc lo hi cx cy K hk8 hok hrd (xs (nI (i + 1)).toNatClampNeg) (xs (nI (i + 2)).toNatClampNeg)) (lw_V q105 q106 q107 q17 q108) (by decide +kernel) rfl ⟨Nat.le_of_ble_eq_true rfl, Nat.le_of_ble_eq_true rfl⟩ ⟨rfl, rfl⟩ hK hP hD hS hA [0, 1, 2, 3, 4, 5, 6, 7] [8, 9, 10, 11, 12, 13] rfl rfl ⟨rfl, rfl⟩ (by decide) rfl (va_recv hK hP (ci := 0) (q0 := 0) rfl rfl) hl.1 rfl (Nat.le_of_ble_eq_true rfl) ⟨Nat.le_of_ble_eq_true rfl, Nat.le_of_ble_eq_true rfl⟩ dL_law_209 (fun r1 u1 H locs w1 hP hD hS => ?_)
  have hP := hP.sub (ws' := hu_wH d ad u1 ++ hu_wM d am (fa, fb, fc, nI K, li, nI L0, hu, nI h0)) [6, 7, 8, 9, 10, 11, 12, 13, 0, 1, 2, 3, 4, 5] rfl
  have hD := hD.sub (ws' := hu_wH d ad u1 ++ hu_wM d am (fa, fb, fc, nI K, li, nI L0, hu, nI h0)) [6, 7, 8, 9, 10, 11, 12, 13, 0, 1, 2, 3, 4, 5] (by decide) rfl
  refine lv_aload_n hx hb dL_law_212 rfl (lv_at hl 2 rfl) ?_
  refine lv_aload_n hx hb dL_law_213 rfl (lv_at hl 0 rfl) ?_
  refine lv_iload_n hx hb dL_law_214 rfl (lv_at hl 3 rfl) ?_
  refine lv_iconst (v := 1) hx hb dL_law_215 (by decide) ?_
  refine lv_iadd hx hb dL_law_216 ?_
  refine hu_top (z := nI (i + 1)) (nI_add i 1) ?_
  refine va_sld hx hb hX hbl hbA hS (vp_in_nI (show i + 1 < L by omega) (by omega)) dL_law_217 ?_
  refine lv_aload_n hx hb dL_law_218 rfl (lv_at hl 0 rfl) ?_
  refine lv_iload_n hx hb dL_law_219 rfl (lv_at hl 3 rfl) ?_
  refine lv_iconst (v := 2) hx hb dL_law_220 (by decide) ?_
  refine lv_iadd hx hb dL_law_221 ?_
  refine hu_top (z := nI (i + 2)) (nI_add i 2) ?_
  refine va_sld hx hb hX hbl hbA hS (vp_in_nI (show i + 2 < L by omega) (by omega)) dL_law_222 ?_
  refine hu_callR 2 (As := [.int (xs (nI (i + 1)).toNatClampNeg), .int (xs (nI (i + 2)).toNatClampNeg)]) (rest := [.int r1]) ⟨hx, hb, hml, hown, hts⟩ (mX1_has l dC dI d am fa fb fc li (nI L0) hu (nI h0) K hk8 (xs (nI (i + 1)).toNatClampNeg) (xs (nI (i + 2)).toNatClampNeg)) (lw_V q224 q156 q157 q18 q158) (by decide +kernel) rfl ⟨Nat.le_of_ble_eq_true rfl, Nat.le_of_ble_eq_true rfl⟩ ⟨rfl, rfl⟩ hK (hP.sub (ws' := hu_wM d am (fa, fb, fc, nI K, li, nI L0, hu, nI h0)) [8, 9, 10, 11, 12, 13] rfl) (va_recv hK hP (ci := 1) (q0 := 8) rfl rfl) hl.1 rfl (Nat.le_of_ble_eq_true rfl) ⟨Nat.le_of_ble_eq_true rfl, Nat.le_of_ble_eq_true rfl⟩ dL_law_223 (fun r2 w2 => ?_)
  have hJ := hu_J_has hk8 hok hrd hls hwk w1 w2
  refine lv_icmp_eq (tgt := 382) hx hb dL_law_226 (by decide) (fun c1 => ?_) (fun c1 => absurd hJ.1 c1)
  exact hk _ _ _ _ _ hJ.2 hP hD hS hl
set_option maxHeartbeats 4000000 in
set_option maxRecDepth 100000 in
theorem hu_case_corners {p : Program} {l : Launch} {e : Env} {s : State} {m : MethodId} {below : List Frame} {meth : Method} {c : Code} {dC : Nat → ClassId} {dI : Nat → Nat → Nat} {b L : Nat} {xs : Nat → Int32} (hL : L ≤ 256) (C0 : lw_At p s m meth c b L xs) {d : ClassId} {ad am : Nat → Nat} (hK : va_K (dC, dI) hu_Cl [(d, .int)] s) {i : Nat} (hiL : i + 4 ≤ L) (hk : hu_LA p l e s m below meth c dC dI d ad am b i 382) : hu_LA p l e s m below meth c dC dI d ad am b i 231 := by
  obtain ⟨hx, hb, hr, hml, hown, hts0, hX, hbl, hlocks, hgv⟩ := C0
  have hts : ∀ w ∈ lw_all, w.before #[Value.ref b] s = true := fun w h => hts0 w (lw_all_tbl h)
  have hA : ∀ q : Nat, s.heap.size ≤ q → (fun q : Nat => s.heap.size ≤ q) q := fun _ h => h
  have hbA : ¬ (fun q : Nat => s.heap.size ≤ q) b := Nat.not_le.mpr hbl
  intro u v H locs ls hI hP hD hS hl
  obtain ⟨K, fa, fb, fc, rd, ct, lo, hi, cx, cy, li, L0, hu, h0, rfl, rfl, hk8, hok, hrd, hls, hwk⟩ := hI
  have hL0 : L0 ≤ 1681 := by rw [hls.1]; exact hu_cnt_le _ _
  refine lv_aload_n hx hb dL_law_231 rfl (lv_at hl 1 rfl) ?_
  refine hu_callCI 0 (As := []) (rest := []) (wf := hu_wH d ad) (wr := hu_wM d am (fa, fb, fc, nI K, li, nI L0, hu, nI h0)) ⟨hx, hb, hml, hown, hts⟩ (mX0_corners l dC dI d ad _ rd ct fa fb fc lo hi cx cy K hk8 hok hrd ) (lw_V q109 q110 q111 q17 q112) (by decide +kernel) rfl ⟨Nat.le_of_ble_eq_true rfl, Nat.le_of_ble_eq_true rfl⟩ ⟨rfl, rfl⟩ hK hP hD hS hA [0, 1, 2, 3, 4, 5, 6, 7] [8, 9, 10, 11, 12, 13] rfl rfl ⟨rfl, rfl⟩ (by decide) rfl (va_recv hK hP (ci := 0) (q0 := 0) rfl rfl) hl.1 rfl (Nat.le_of_ble_eq_true rfl) ⟨Nat.le_of_ble_eq_true rfl, Nat.le_of_ble_eq_true rfl⟩ dL_law_232 (fun r1 u1 H locs w1 hP hD hS => ?_)
  have hP := hP.sub (ws' := hu_wH d ad u1 ++ hu_wM d am (fa, fb, fc, nI K, li, nI L0, hu, nI h0)) [6, 7, 8, 9, 10, 11, 12, 13, 0, 1, 2, 3, 4, 5] rfl
  have hD := hD.sub (ws' := hu_wH d ad u1 ++ hu_wM d am (fa, fb, fc, nI K, li, nI L0, hu, nI h0)) [6, 7, 8, 9, 10, 11, 12, 13, 0, 1, 2, 3, 4, 5] (by decide) rfl
  refine lv_aload_n hx hb dL_law_235 rfl (lv_at hl 2 rfl) ?_
  refine hu_callR 0 (As := []) (rest := [.int r1]) ⟨hx, hb, hml, hown, hts⟩ (mX1_corners l dC dI d am fa fb fc (nI K) li (nI L0) hu (nI h0)  ) (lw_V q225 q226 q227 q18 q228) (by decide +kernel) rfl ⟨Nat.le_of_ble_eq_true rfl, Nat.le_of_ble_eq_true rfl⟩ ⟨rfl, rfl⟩ hK (hP.sub (ws' := hu_wM d am (fa, fb, fc, nI K, li, nI L0, hu, nI h0)) [8, 9, 10, 11, 12, 13] rfl) (va_recv hK hP (ci := 1) (q0 := 8) rfl rfl) hl.1 rfl (Nat.le_of_ble_eq_true rfl) ⟨Nat.le_of_ble_eq_true rfl, Nat.le_of_ble_eq_true rfl⟩ dL_law_236 (fun r2 w2 => ?_)
  have hJ := hu_J_corners hk8 hok hrd hls hwk w1 w2
  refine lv_icmp_eq (tgt := 382) hx hb dL_law_239 (by decide) (fun c1 => ?_) (fun c1 => absurd hJ.1 c1)
  exact hk _ _ _ _ _ hJ.2 hP hD hS hl
set_option maxHeartbeats 4000000 in
set_option maxRecDepth 100000 in
theorem hu_case_corner {p : Program} {l : Launch} {e : Env} {s : State} {m : MethodId} {below : List Frame} {meth : Method} {c : Code} {dC : Nat → ClassId} {dI : Nat → Nat → Nat} {b L : Nat} {xs : Nat → Int32} (hL : L ≤ 256) (C0 : lw_At p s m meth c b L xs) {d : ClassId} {ad am : Nat → Nat} (hK : va_K (dC, dI) hu_Cl [(d, .int)] s) {i : Nat} (hiL : i + 4 ≤ L) (hk : hu_LA p l e s m below meth c dC dI d ad am b i 382) : hu_LA p l e s m below meth c dC dI d ad am b i 244 := by
  obtain ⟨hx, hb, hr, hml, hown, hts0, hX, hbl, hlocks, hgv⟩ := C0
  have hts : ∀ w ∈ lw_all, w.before #[Value.ref b] s = true := fun w h => hts0 w (lw_all_tbl h)
  have hA : ∀ q : Nat, s.heap.size ≤ q → (fun q : Nat => s.heap.size ≤ q) q := fun _ h => h
  have hbA : ¬ (fun q : Nat => s.heap.size ≤ q) b := Nat.not_le.mpr hbl
  intro u v H locs ls hI hP hD hS hl
  obtain ⟨K, fa, fb, fc, rd, ct, lo, hi, cx, cy, li, L0, hu, h0, rfl, rfl, hk8, hok, hrd, hls, hwk⟩ := hI
  have hL0 : L0 ≤ 1681 := by rw [hls.1]; exact hu_cnt_le _ _
  refine lv_aload_n hx hb dL_law_244 rfl (lv_at hl 1 rfl) ?_
  refine lv_aload_n hx hb dL_law_245 rfl (lv_at hl 0 rfl) ?_
  refine lv_iload_n hx hb dL_law_246 rfl (lv_at hl 3 rfl) ?_
  refine lv_iconst (v := 1) hx hb dL_law_247 (by decide) ?_
  refine lv_iadd hx hb dL_law_248 ?_
  refine hu_top (z := nI (i + 1)) (nI_add i 1) ?_
  refine va_sld hx hb hX hbl hbA hS (vp_in_nI (show i + 1 < L by omega) (by omega)) dL_law_249 ?_
  refine hu_callCI 1 (As := [.int (xs (nI (i + 1)).toNatClampNeg)]) (rest := []) (wf := hu_wH d ad) (wr := hu_wM d am (fa, fb, fc, nI K, li, nI L0, hu, nI h0)) ⟨hx, hb, hml, hown, hts⟩ (mX0_corner l dC dI d ad _ rd ct fa fb fc lo hi cx cy K hk8 hok hrd (xs (nI (i + 1)).toNatClampNeg)) (lw_V q113 q114 q115 q17 q116) (by decide +kernel) rfl ⟨Nat.le_of_ble_eq_true rfl, Nat.le_of_ble_eq_true rfl⟩ ⟨rfl, rfl⟩ hK hP hD hS hA [0, 1, 2, 3, 4, 5, 6, 7] [8, 9, 10, 11, 12, 13] rfl rfl ⟨rfl, rfl⟩ (by decide) rfl (va_recv hK hP (ci := 0) (q0 := 0) rfl rfl) hl.1 rfl (Nat.le_of_ble_eq_true rfl) ⟨Nat.le_of_ble_eq_true rfl, Nat.le_of_ble_eq_true rfl⟩ dL_law_250 (fun r1 u1 H locs w1 hP hD hS => ?_)
  have hP := hP.sub (ws' := hu_wH d ad u1 ++ hu_wM d am (fa, fb, fc, nI K, li, nI L0, hu, nI h0)) [6, 7, 8, 9, 10, 11, 12, 13, 0, 1, 2, 3, 4, 5] rfl
  have hD := hD.sub (ws' := hu_wH d ad u1 ++ hu_wM d am (fa, fb, fc, nI K, li, nI L0, hu, nI h0)) [6, 7, 8, 9, 10, 11, 12, 13, 0, 1, 2, 3, 4, 5] (by decide) rfl
  refine lv_aload_n hx hb dL_law_253 rfl (lv_at hl 2 rfl) ?_
  refine lv_aload_n hx hb dL_law_254 rfl (lv_at hl 0 rfl) ?_
  refine lv_iload_n hx hb dL_law_255 rfl (lv_at hl 3 rfl) ?_
  refine lv_iconst (v := 1) hx hb dL_law_256 (by decide) ?_
  refine lv_iadd hx hb dL_law_257 ?_
  refine hu_top (z := nI (i + 1)) (nI_add i 1) ?_
  refine va_sld hx hb hX hbl hbA hS (vp_in_nI (show i + 1 < L by omega) (by omega)) dL_law_258 ?_
  refine hu_callR 1 (As := [.int (xs (nI (i + 1)).toNatClampNeg)]) (rest := [.int r1]) ⟨hx, hb, hml, hown, hts⟩ (mX1_corner l dC dI d am fa fb fc (nI K) li (nI L0) hu h0 hwk.1 (xs (nI (i + 1)).toNatClampNeg)) (lw_V q229 q230 q231 q18 q232) (by decide +kernel) rfl ⟨Nat.le_of_ble_eq_true rfl, Nat.le_of_ble_eq_true rfl⟩ ⟨rfl, rfl⟩ hK (hP.sub (ws' := hu_wM d am (fa, fb, fc, nI K, li, nI L0, hu, nI h0)) [8, 9, 10, 11, 12, 13] rfl) (va_recv hK hP (ci := 1) (q0 := 8) rfl rfl) hl.1 rfl (Nat.le_of_ble_eq_true rfl) ⟨Nat.le_of_ble_eq_true rfl, Nat.le_of_ble_eq_true rfl⟩ dL_law_259 (fun r2 w2 => ?_)
  have hJ := hu_J_corner hk8 hok hrd hls hwk w1 w2
  refine lv_icmp_eq (tgt := 382) hx hb dL_law_262 (by decide) (fun c1 => ?_) (fun c1 => absurd hJ.1 c1)
  exact hk _ _ _ _ _ hJ.2 hP hD hS hl
set_option maxHeartbeats 4000000 in
set_option maxRecDepth 100000 in
theorem hu_case_area2 {p : Program} {l : Launch} {e : Env} {s : State} {m : MethodId} {below : List Frame} {meth : Method} {c : Code} {dC : Nat → ClassId} {dI : Nat → Nat → Nat} {b L : Nat} {xs : Nat → Int32} (hL : L ≤ 256) (C0 : lw_At p s m meth c b L xs) {d : ClassId} {ad am : Nat → Nat} (hK : va_K (dC, dI) hu_Cl [(d, .int)] s) {i : Nat} (hiL : i + 4 ≤ L) (hk : hu_LA p l e s m below meth c dC dI d ad am b i 382) : hu_LA p l e s m below meth c dC dI d ad am b i 267 := by
  obtain ⟨hx, hb, hr, hml, hown, hts0, hX, hbl, hlocks, hgv⟩ := C0
  have hts : ∀ w ∈ lw_all, w.before #[Value.ref b] s = true := fun w h => hts0 w (lw_all_tbl h)
  have hA : ∀ q : Nat, s.heap.size ≤ q → (fun q : Nat => s.heap.size ≤ q) q := fun _ h => h
  have hbA : ¬ (fun q : Nat => s.heap.size ≤ q) b := Nat.not_le.mpr hbl
  intro u v H locs ls hI hP hD hS hl
  obtain ⟨K, fa, fb, fc, rd, ct, lo, hi, cx, cy, li, L0, hu, h0, rfl, rfl, hk8, hok, hrd, hls, hwk⟩ := hI
  have hL0 : L0 ≤ 1681 := by rw [hls.1]; exact hu_cnt_le _ _
  refine lv_aload_n hx hb dL_law_267 rfl (lv_at hl 1 rfl) ?_
  refine hu_callCI 0 (As := []) (rest := []) (wf := hu_wH d ad) (wr := hu_wM d am (fa, fb, fc, nI K, li, nI L0, hu, nI h0)) ⟨hx, hb, hml, hown, hts⟩ (mX0_area2 l dC dI d ad _ rd ct fa fb fc lo hi cx cy K hk8 hok hrd ) (lw_V q117 q118 q119 q17 q120) (by decide +kernel) rfl ⟨Nat.le_of_ble_eq_true rfl, Nat.le_of_ble_eq_true rfl⟩ ⟨rfl, rfl⟩ hK hP hD hS hA [0, 1, 2, 3, 4, 5, 6, 7] [8, 9, 10, 11, 12, 13] rfl rfl ⟨rfl, rfl⟩ (by decide) rfl (va_recv hK hP (ci := 0) (q0 := 0) rfl rfl) hl.1 rfl (Nat.le_of_ble_eq_true rfl) ⟨Nat.le_of_ble_eq_true rfl, Nat.le_of_ble_eq_true rfl⟩ dL_law_268 (fun r1 u1 H locs w1 hP hD hS => ?_)
  have hP := hP.sub (ws' := hu_wH d ad u1 ++ hu_wM d am (fa, fb, fc, nI K, li, nI L0, hu, nI h0)) [6, 7, 8, 9, 10, 11, 12, 13, 0, 1, 2, 3, 4, 5] rfl
  have hD := hD.sub (ws' := hu_wH d ad u1 ++ hu_wM d am (fa, fb, fc, nI K, li, nI L0, hu, nI h0)) [6, 7, 8, 9, 10, 11, 12, 13, 0, 1, 2, 3, 4, 5] (by decide) rfl
  refine lv_aload_n hx hb dL_law_271 rfl (lv_at hl 2 rfl) ?_
  refine hu_callR 0 (As := []) (rest := [.int r1]) ⟨hx, hb, hml, hown, hts⟩ (mX1_area2 l dC dI d am fa fb fc (nI K) li (nI L0) hu h0 hwk.1 ) (lw_V q233 q234 q235 q18 q236) (by decide +kernel) rfl ⟨Nat.le_of_ble_eq_true rfl, Nat.le_of_ble_eq_true rfl⟩ ⟨rfl, rfl⟩ hK (hP.sub (ws' := hu_wM d am (fa, fb, fc, nI K, li, nI L0, hu, nI h0)) [8, 9, 10, 11, 12, 13] rfl) (va_recv hK hP (ci := 1) (q0 := 8) rfl rfl) hl.1 rfl (Nat.le_of_ble_eq_true rfl) ⟨Nat.le_of_ble_eq_true rfl, Nat.le_of_ble_eq_true rfl⟩ dL_law_272 (fun r2 w2 => ?_)
  have hJ := hu_J_area2 hk8 hok hrd hls hwk w1 w2
  refine lv_icmp_eq (tgt := 382) hx hb dL_law_275 (by decide) (fun c1 => ?_) (fun c1 => absurd hJ.1 c1)
  exact hk _ _ _ _ _ hJ.2 hP hD hS hl
set_option maxHeartbeats 4000000 in
set_option maxRecDepth 100000 in
theorem hu_case_border {p : Program} {l : Launch} {e : Env} {s : State} {m : MethodId} {below : List Frame} {meth : Method} {c : Code} {dC : Nat → ClassId} {dI : Nat → Nat → Nat} {b L : Nat} {xs : Nat → Int32} (hL : L ≤ 256) (C0 : lw_At p s m meth c b L xs) {d : ClassId} {ad am : Nat → Nat} (hK : va_K (dC, dI) hu_Cl [(d, .int)] s) {i : Nat} (hiL : i + 4 ≤ L) (hk : hu_LA p l e s m below meth c dC dI d ad am b i 382) : hu_LA p l e s m below meth c dC dI d ad am b i 280 := by
  obtain ⟨hx, hb, hr, hml, hown, hts0, hX, hbl, hlocks, hgv⟩ := C0
  have hts : ∀ w ∈ lw_all, w.before #[Value.ref b] s = true := fun w h => hts0 w (lw_all_tbl h)
  have hA : ∀ q : Nat, s.heap.size ≤ q → (fun q : Nat => s.heap.size ≤ q) q := fun _ h => h
  have hbA : ¬ (fun q : Nat => s.heap.size ≤ q) b := Nat.not_le.mpr hbl
  intro u v H locs ls hI hP hD hS hl
  obtain ⟨K, fa, fb, fc, rd, ct, lo, hi, cx, cy, li, L0, hu, h0, rfl, rfl, hk8, hok, hrd, hls, hwk⟩ := hI
  have hL0 : L0 ≤ 1681 := by rw [hls.1]; exact hu_cnt_le _ _
  refine lv_aload_n hx hb dL_law_280 rfl (lv_at hl 1 rfl) ?_
  refine hu_callCI 0 (As := []) (rest := []) (wf := hu_wH d ad) (wr := hu_wM d am (fa, fb, fc, nI K, li, nI L0, hu, nI h0)) ⟨hx, hb, hml, hown, hts⟩ (mX0_border l dC dI d ad _ rd ct fa fb fc lo hi cx cy K hk8 hok hrd ) (lw_V q121 q122 q123 q17 q124) (by decide +kernel) rfl ⟨Nat.le_of_ble_eq_true rfl, Nat.le_of_ble_eq_true rfl⟩ ⟨rfl, rfl⟩ hK hP hD hS hA [0, 1, 2, 3, 4, 5, 6, 7] [8, 9, 10, 11, 12, 13] rfl rfl ⟨rfl, rfl⟩ (by decide) rfl (va_recv hK hP (ci := 0) (q0 := 0) rfl rfl) hl.1 rfl (Nat.le_of_ble_eq_true rfl) ⟨Nat.le_of_ble_eq_true rfl, Nat.le_of_ble_eq_true rfl⟩ dL_law_281 (fun r1 u1 H locs w1 hP hD hS => ?_)
  have hP := hP.sub (ws' := hu_wH d ad u1 ++ hu_wM d am (fa, fb, fc, nI K, li, nI L0, hu, nI h0)) [6, 7, 8, 9, 10, 11, 12, 13, 0, 1, 2, 3, 4, 5] rfl
  have hD := hD.sub (ws' := hu_wH d ad u1 ++ hu_wM d am (fa, fb, fc, nI K, li, nI L0, hu, nI h0)) [6, 7, 8, 9, 10, 11, 12, 13, 0, 1, 2, 3, 4, 5] (by decide) rfl
  refine lv_aload_n hx hb dL_law_284 rfl (lv_at hl 2 rfl) ?_
  refine hu_callR 0 (As := []) (rest := [.int r1]) ⟨hx, hb, hml, hown, hts⟩ (mX1_border l dC dI d am fa fb fc (nI K) li hu L0 h0 hL0 hwk.1 ) (lw_V q237 q238 q239 q18 q240) (by decide +kernel) rfl ⟨Nat.le_of_ble_eq_true rfl, Nat.le_of_ble_eq_true rfl⟩ ⟨rfl, rfl⟩ hK (hP.sub (ws' := hu_wM d am (fa, fb, fc, nI K, li, nI L0, hu, nI h0)) [8, 9, 10, 11, 12, 13] rfl) (va_recv hK hP (ci := 1) (q0 := 8) rfl rfl) hl.1 rfl (Nat.le_of_ble_eq_true rfl) ⟨Nat.le_of_ble_eq_true rfl, Nat.le_of_ble_eq_true rfl⟩ dL_law_285 (fun r2 w2 => ?_)
  have hJ := hu_J_border hk8 hok hrd hls hwk w1 w2
  refine lv_icmp_eq (tgt := 382) hx hb dL_law_288 (by decide) (fun c1 => ?_) (fun c1 => absurd hJ.1 c1)
  exact hk _ _ _ _ _ hJ.2 hP hD hS hl
set_option maxHeartbeats 4000000 in
set_option maxRecDepth 100000 in
theorem hu_case_best {p : Program} {l : Launch} {e : Env} {s : State} {m : MethodId} {below : List Frame} {meth : Method} {c : Code} {dC : Nat → ClassId} {dI : Nat → Nat → Nat} {b L : Nat} {xs : Nat → Int32} (hL : L ≤ 256) (C0 : lw_At p s m meth c b L xs) {d : ClassId} {ad am : Nat → Nat} (hK : va_K (dC, dI) hu_Cl [(d, .int)] s) {i : Nat} (hiL : i + 4 ≤ L) (hk : hu_LA p l e s m below meth c dC dI d ad am b i 382) : hu_LA p l e s m below meth c dC dI d ad am b i 293 := by
  obtain ⟨hx, hb, hr, hml, hown, hts0, hX, hbl, hlocks, hgv⟩ := C0
  have hts : ∀ w ∈ lw_all, w.before #[Value.ref b] s = true := fun w h => hts0 w (lw_all_tbl h)
  have hA : ∀ q : Nat, s.heap.size ≤ q → (fun q : Nat => s.heap.size ≤ q) q := fun _ h => h
  have hbA : ¬ (fun q : Nat => s.heap.size ≤ q) b := Nat.not_le.mpr hbl
  intro u v H locs ls hI hP hD hS hl
  obtain ⟨K, fa, fb, fc, rd, ct, lo, hi, cx, cy, li, L0, hu, h0, rfl, rfl, hk8, hok, hrd, hls, hwk⟩ := hI
  have hL0 : L0 ≤ 1681 := by rw [hls.1]; exact hu_cnt_le _ _
  refine lv_aload_n hx hb dL_law_293 rfl (lv_at hl 1 rfl) ?_
  refine lv_aload_n hx hb dL_law_294 rfl (lv_at hl 0 rfl) ?_
  refine lv_iload_n hx hb dL_law_295 rfl (lv_at hl 3 rfl) ?_
  refine lv_iconst (v := 1) hx hb dL_law_296 (by decide) ?_
  refine lv_iadd hx hb dL_law_297 ?_
  refine hu_top (z := nI (i + 1)) (nI_add i 1) ?_
  refine va_sld hx hb hX hbl hbA hS (vp_in_nI (show i + 1 < L by omega) (by omega)) dL_law_298 ?_
  refine lv_aload_n hx hb dL_law_299 rfl (lv_at hl 0 rfl) ?_
  refine lv_iload_n hx hb dL_law_300 rfl (lv_at hl 3 rfl) ?_
  refine lv_iconst (v := 2) hx hb dL_law_301 (by decide) ?_
  refine lv_iadd hx hb dL_law_302 ?_
  refine hu_top (z := nI (i + 2)) (nI_add i 2) ?_
  refine va_sld hx hb hX hbl hbA hS (vp_in_nI (show i + 2 < L by omega) (by omega)) dL_law_303 ?_
  refine hu_callCI 2 (As := [.int (xs (nI (i + 1)).toNatClampNeg), .int (xs (nI (i + 2)).toNatClampNeg)]) (rest := []) (wf := hu_wH d ad) (wr := hu_wM d am (fa, fb, fc, nI K, li, nI L0, hu, nI h0)) ⟨hx, hb, hml, hown, hts⟩ (mX0_best l dC dI d ad _ rd ct fa fb fc lo hi cx cy K hk8 hok hrd (xs (nI (i + 1)).toNatClampNeg) (xs (nI (i + 2)).toNatClampNeg)) (lw_V q129 q130 q131 q17 q132) (by decide +kernel) rfl ⟨Nat.le_of_ble_eq_true rfl, Nat.le_of_ble_eq_true rfl⟩ ⟨rfl, rfl⟩ hK hP hD hS hA [0, 1, 2, 3, 4, 5, 6, 7] [8, 9, 10, 11, 12, 13] rfl rfl ⟨rfl, rfl⟩ (by decide) rfl (va_recv hK hP (ci := 0) (q0 := 0) rfl rfl) hl.1 rfl (Nat.le_of_ble_eq_true rfl) ⟨Nat.le_of_ble_eq_true rfl, Nat.le_of_ble_eq_true rfl⟩ dL_law_304 (fun r1 u1 H locs w1 hP hD hS => ?_)
  have hP := hP.sub (ws' := hu_wH d ad u1 ++ hu_wM d am (fa, fb, fc, nI K, li, nI L0, hu, nI h0)) [6, 7, 8, 9, 10, 11, 12, 13, 0, 1, 2, 3, 4, 5] rfl
  have hD := hD.sub (ws' := hu_wH d ad u1 ++ hu_wM d am (fa, fb, fc, nI K, li, nI L0, hu, nI h0)) [6, 7, 8, 9, 10, 11, 12, 13, 0, 1, 2, 3, 4, 5] (by decide) rfl
  refine lv_aload_n hx hb dL_law_307 rfl (lv_at hl 2 rfl) ?_
  refine lv_aload_n hx hb dL_law_308 rfl (lv_at hl 0 rfl) ?_
  refine lv_iload_n hx hb dL_law_309 rfl (lv_at hl 3 rfl) ?_
  refine lv_iconst (v := 1) hx hb dL_law_310 (by decide) ?_
  refine lv_iadd hx hb dL_law_311 ?_
  refine hu_top (z := nI (i + 1)) (nI_add i 1) ?_
  refine va_sld hx hb hX hbl hbA hS (vp_in_nI (show i + 1 < L by omega) (by omega)) dL_law_312 ?_
  refine lv_aload_n hx hb dL_law_313 rfl (lv_at hl 0 rfl) ?_
  refine lv_iload_n hx hb dL_law_314 rfl (lv_at hl 3 rfl) ?_
  refine lv_iconst (v := 2) hx hb dL_law_315 (by decide) ?_
  refine lv_iadd hx hb dL_law_316 ?_
  refine hu_top (z := nI (i + 2)) (nI_add i 2) ?_
  refine va_sld hx hb hX hbl hbA hS (vp_in_nI (show i + 2 < L by omega) (by omega)) dL_law_317 ?_
  refine hu_callR 2 (As := [.int (xs (nI (i + 1)).toNatClampNeg), .int (xs (nI (i + 2)).toNatClampNeg)]) (rest := [.int r1]) ⟨hx, hb, hml, hown, hts⟩ (mX1_best l dC dI d am fa fb fc (nI K) li hu (nI h0) L0 hL0 (xs (nI (i + 1)).toNatClampNeg) (xs (nI (i + 2)).toNatClampNeg)) (lw_V q245 q246 q247 q18 q248) (by decide +kernel) rfl ⟨Nat.le_of_ble_eq_true rfl, Nat.le_of_ble_eq_true rfl⟩ ⟨rfl, rfl⟩ hK (hP.sub (ws' := hu_wM d am (fa, fb, fc, nI K, li, nI L0, hu, nI h0)) [8, 9, 10, 11, 12, 13] rfl) (va_recv hK hP (ci := 1) (q0 := 8) rfl rfl) hl.1 rfl (Nat.le_of_ble_eq_true rfl) ⟨Nat.le_of_ble_eq_true rfl, Nat.le_of_ble_eq_true rfl⟩ dL_law_318 (fun r2 w2 => ?_)
  have hJ := hu_J_best hk8 hok hrd hls hwk w1 w2
  refine lv_icmp_eq (tgt := 382) hx hb dL_law_321 (by decide) (fun c1 => ?_) (fun c1 => absurd hJ.1 c1)
  exact hk _ _ _ _ _ hJ.2 hP hD hS hl
set_option maxHeartbeats 4000000 in
set_option maxRecDepth 100000 in
theorem hu_case_bestCorner {p : Program} {l : Launch} {e : Env} {s : State} {m : MethodId} {below : List Frame} {meth : Method} {c : Code} {dC : Nat → ClassId} {dI : Nat → Nat → Nat} {b L : Nat} {xs : Nat → Int32} (hL : L ≤ 256) (C0 : lw_At p s m meth c b L xs) {d : ClassId} {ad am : Nat → Nat} (hK : va_K (dC, dI) hu_Cl [(d, .int)] s) {i : Nat} (hiL : i + 4 ≤ L) (hk : hu_LA p l e s m below meth c dC dI d ad am b i 382) : hu_LA p l e s m below meth c dC dI d ad am b i 326 := by
  obtain ⟨hx, hb, hr, hml, hown, hts0, hX, hbl, hlocks, hgv⟩ := C0
  have hts : ∀ w ∈ lw_all, w.before #[Value.ref b] s = true := fun w h => hts0 w (lw_all_tbl h)
  have hA : ∀ q : Nat, s.heap.size ≤ q → (fun q : Nat => s.heap.size ≤ q) q := fun _ h => h
  have hbA : ¬ (fun q : Nat => s.heap.size ≤ q) b := Nat.not_le.mpr hbl
  intro u v H locs ls hI hP hD hS hl
  obtain ⟨K, fa, fb, fc, rd, ct, lo, hi, cx, cy, li, L0, hu, h0, rfl, rfl, hk8, hok, hrd, hls, hwk⟩ := hI
  have hL0 : L0 ≤ 1681 := by rw [hls.1]; exact hu_cnt_le _ _
  refine lv_aload_n hx hb dL_law_326 rfl (lv_at hl 1 rfl) ?_
  refine lv_aload_n hx hb dL_law_327 rfl (lv_at hl 0 rfl) ?_
  refine lv_iload_n hx hb dL_law_328 rfl (lv_at hl 3 rfl) ?_
  refine lv_iconst (v := 1) hx hb dL_law_329 (by decide) ?_
  refine lv_iadd hx hb dL_law_330 ?_
  refine hu_top (z := nI (i + 1)) (nI_add i 1) ?_
  refine va_sld hx hb hX hbl hbA hS (vp_in_nI (show i + 1 < L by omega) (by omega)) dL_law_331 ?_
  refine lv_aload_n hx hb dL_law_332 rfl (lv_at hl 0 rfl) ?_
  refine lv_iload_n hx hb dL_law_333 rfl (lv_at hl 3 rfl) ?_
  refine lv_iconst (v := 2) hx hb dL_law_334 (by decide) ?_
  refine lv_iadd hx hb dL_law_335 ?_
  refine hu_top (z := nI (i + 2)) (nI_add i 2) ?_
  refine va_sld hx hb hX hbl hbA hS (vp_in_nI (show i + 2 < L by omega) (by omega)) dL_law_336 ?_
  refine hu_callCI 2 (As := [.int (xs (nI (i + 1)).toNatClampNeg), .int (xs (nI (i + 2)).toNatClampNeg)]) (rest := []) (wf := hu_wH d ad) (wr := hu_wM d am (fa, fb, fc, nI K, li, nI L0, hu, nI h0)) ⟨hx, hb, hml, hown, hts⟩ (mX0_bestCorner l dC dI d ad _ rd ct fa fb fc lo hi cx cy K hk8 hok hrd (xs (nI (i + 1)).toNatClampNeg) (xs (nI (i + 2)).toNatClampNeg)) (lw_V q140 q134 q135 q17 q136) (by decide +kernel) rfl ⟨Nat.le_of_ble_eq_true rfl, Nat.le_of_ble_eq_true rfl⟩ ⟨rfl, rfl⟩ hK hP hD hS hA [0, 1, 2, 3, 4, 5, 6, 7] [8, 9, 10, 11, 12, 13] rfl rfl ⟨rfl, rfl⟩ (by decide) rfl (va_recv hK hP (ci := 0) (q0 := 0) rfl rfl) hl.1 rfl (Nat.le_of_ble_eq_true rfl) ⟨Nat.le_of_ble_eq_true rfl, Nat.le_of_ble_eq_true rfl⟩ dL_law_337 (fun r1 u1 H locs w1 hP hD hS => ?_)
  have hP := hP.sub (ws' := hu_wH d ad u1 ++ hu_wM d am (fa, fb, fc, nI K, li, nI L0, hu, nI h0)) [6, 7, 8, 9, 10, 11, 12, 13, 0, 1, 2, 3, 4, 5] rfl
  have hD := hD.sub (ws' := hu_wH d ad u1 ++ hu_wM d am (fa, fb, fc, nI K, li, nI L0, hu, nI h0)) [6, 7, 8, 9, 10, 11, 12, 13, 0, 1, 2, 3, 4, 5] (by decide) rfl
  refine lv_aload_n hx hb dL_law_340 rfl (lv_at hl 2 rfl) ?_
  refine lv_aload_n hx hb dL_law_341 rfl (lv_at hl 0 rfl) ?_
  refine lv_iload_n hx hb dL_law_342 rfl (lv_at hl 3 rfl) ?_
  refine lv_iconst (v := 1) hx hb dL_law_343 (by decide) ?_
  refine lv_iadd hx hb dL_law_344 ?_
  refine hu_top (z := nI (i + 1)) (nI_add i 1) ?_
  refine va_sld hx hb hX hbl hbA hS (vp_in_nI (show i + 1 < L by omega) (by omega)) dL_law_345 ?_
  refine lv_aload_n hx hb dL_law_346 rfl (lv_at hl 0 rfl) ?_
  refine lv_iload_n hx hb dL_law_347 rfl (lv_at hl 3 rfl) ?_
  refine lv_iconst (v := 2) hx hb dL_law_348 (by decide) ?_
  refine lv_iadd hx hb dL_law_349 ?_
  refine hu_top (z := nI (i + 2)) (nI_add i 2) ?_
  refine va_sld hx hb hX hbl hbA hS (vp_in_nI (show i + 2 < L by omega) (by omega)) dL_law_350 ?_
  refine hu_callR 2 (As := [.int (xs (nI (i + 1)).toNatClampNeg), .int (xs (nI (i + 2)).toNatClampNeg)]) (rest := [.int r1]) ⟨hx, hb, hml, hown, hts⟩ (mX1_bestCorner l dC dI d am fa fb fc (nI K) li hu L0 h0 hL0 hwk.1 (xs (nI (i + 1)).toNatClampNeg) (xs (nI (i + 2)).toNatClampNeg)) (lw_V q257 q258 q259 q18 q260) (by decide +kernel) rfl ⟨Nat.le_of_ble_eq_true rfl, Nat.le_of_ble_eq_true rfl⟩ ⟨rfl, rfl⟩ hK (hP.sub (ws' := hu_wM d am (fa, fb, fc, nI K, li, nI L0, hu, nI h0)) [8, 9, 10, 11, 12, 13] rfl) (va_recv hK hP (ci := 1) (q0 := 8) rfl rfl) hl.1 rfl (Nat.le_of_ble_eq_true rfl) ⟨Nat.le_of_ble_eq_true rfl, Nat.le_of_ble_eq_true rfl⟩ dL_law_351 (fun r2 w2 => ?_)
  have hJ := hu_J_bestCorner hk8 hok hrd hls hwk w1 w2
  refine lv_icmp_eq (tgt := 382) hx hb dL_law_354 (by decide) (fun c1 => ?_) (fun c1 => absurd hJ.1 c1)
  exact hk _ _ _ _ _ hJ.2 hP hD hS hl
set_option maxHeartbeats 4000000 in
set_option maxRecDepth 100000 in
theorem hu_case_column {p : Program} {l : Launch} {e : Env} {s : State} {m : MethodId} {below : List Frame} {meth : Method} {c : Code} {dC : Nat → ClassId} {dI : Nat → Nat → Nat} {b L : Nat} {xs : Nat → Int32} (hL : L ≤ 256) (C0 : lw_At p s m meth c b L xs) {d : ClassId} {ad am : Nat → Nat} (hK : va_K (dC, dI) hu_Cl [(d, .int)] s) {i : Nat} (hiL : i + 4 ≤ L) (hk : hu_LA p l e s m below meth c dC dI d ad am b i 382) : hu_LA p l e s m below meth c dC dI d ad am b i 359 := by
  obtain ⟨hx, hb, hr, hml, hown, hts0, hX, hbl, hlocks, hgv⟩ := C0
  have hts : ∀ w ∈ lw_all, w.before #[Value.ref b] s = true := fun w h => hts0 w (lw_all_tbl h)
  have hA : ∀ q : Nat, s.heap.size ≤ q → (fun q : Nat => s.heap.size ≤ q) q := fun _ h => h
  have hbA : ¬ (fun q : Nat => s.heap.size ≤ q) b := Nat.not_le.mpr hbl
  intro u v H locs ls hI hP hD hS hl
  obtain ⟨K, fa, fb, fc, rd, ct, lo, hi, cx, cy, li, L0, hu, h0, rfl, rfl, hk8, hok, hrd, hls, hwk⟩ := hI
  have hL0 : L0 ≤ 1681 := by rw [hls.1]; exact hu_cnt_le _ _
  refine lv_aload_n hx hb dL_law_359 rfl (lv_at hl 1 rfl) ?_
  refine lv_aload_n hx hb dL_law_360 rfl (lv_at hl 0 rfl) ?_
  refine lv_iload_n hx hb dL_law_361 rfl (lv_at hl 3 rfl) ?_
  refine lv_iconst (v := 1) hx hb dL_law_362 (by decide) ?_
  refine lv_iadd hx hb dL_law_363 ?_
  refine hu_top (z := nI (i + 1)) (nI_add i 1) ?_
  refine va_sld hx hb hX hbl hbA hS (vp_in_nI (show i + 1 < L by omega) (by omega)) dL_law_364 ?_
  refine hu_callCI 1 (As := [.int (xs (nI (i + 1)).toNatClampNeg)]) (rest := []) (wf := hu_wH d ad) (wr := hu_wM d am (fa, fb, fc, nI K, li, nI L0, hu, nI h0)) ⟨hx, hb, hml, hown, hts⟩ (mX0_column l dC dI d ad _ rd ct fa fb fc lo hi cx cy K hk8 hok hrd (xs (nI (i + 1)).toNatClampNeg)) (lw_V q141 q142 q143 q17 q144) (by decide +kernel) rfl ⟨Nat.le_of_ble_eq_true rfl, Nat.le_of_ble_eq_true rfl⟩ ⟨rfl, rfl⟩ hK hP hD hS hA [0, 1, 2, 3, 4, 5, 6, 7] [8, 9, 10, 11, 12, 13] rfl rfl ⟨rfl, rfl⟩ (by decide) rfl (va_recv hK hP (ci := 0) (q0 := 0) rfl rfl) hl.1 rfl (Nat.le_of_ble_eq_true rfl) ⟨Nat.le_of_ble_eq_true rfl, Nat.le_of_ble_eq_true rfl⟩ dL_law_365 (fun r1 u1 H locs w1 hP hD hS => ?_)
  have hP := hP.sub (ws' := hu_wH d ad u1 ++ hu_wM d am (fa, fb, fc, nI K, li, nI L0, hu, nI h0)) [6, 7, 8, 9, 10, 11, 12, 13, 0, 1, 2, 3, 4, 5] rfl
  have hD := hD.sub (ws' := hu_wH d ad u1 ++ hu_wM d am (fa, fb, fc, nI K, li, nI L0, hu, nI h0)) [6, 7, 8, 9, 10, 11, 12, 13, 0, 1, 2, 3, 4, 5] (by decide) rfl
  refine lv_aload_n hx hb dL_law_368 rfl (lv_at hl 2 rfl) ?_
  refine lv_aload_n hx hb dL_law_369 rfl (lv_at hl 0 rfl) ?_
  refine lv_iload_n hx hb dL_law_370 rfl (lv_at hl 3 rfl) ?_
  refine lv_iconst (v := 1) hx hb dL_law_371 (by decide) ?_
  refine lv_iadd hx hb dL_law_372 ?_
  refine hu_top (z := nI (i + 1)) (nI_add i 1) ?_
  refine va_sld hx hb hX hbl hbA hS (vp_in_nI (show i + 1 < L by omega) (by omega)) dL_law_373 ?_
  refine hu_callR 1 (As := [.int (xs (nI (i + 1)).toNatClampNeg)]) (rest := [.int r1]) ⟨hx, hb, hml, hown, hts⟩ (mX1_column l dC dI d am fa fb fc (nI K) li hu (nI h0) L0 hL0 (xs (nI (i + 1)).toNatClampNeg)) (lw_V q262 q263 q264 q18 q265) (by decide +kernel) rfl ⟨Nat.le_of_ble_eq_true rfl, Nat.le_of_ble_eq_true rfl⟩ ⟨rfl, rfl⟩ hK (hP.sub (ws' := hu_wM d am (fa, fb, fc, nI K, li, nI L0, hu, nI h0)) [8, 9, 10, 11, 12, 13] rfl) (va_recv hK hP (ci := 1) (q0 := 8) rfl rfl) hl.1 rfl (Nat.le_of_ble_eq_true rfl) ⟨Nat.le_of_ble_eq_true rfl, Nat.le_of_ble_eq_true rfl⟩ dL_law_374 (fun r2 w2 => ?_)
  have hJ := hu_J_column hk8 hok hrd hls hwk w1 w2
  refine lv_icmp_eq (tgt := 382) hx hb dL_law_377 (by decide) (fun c1 => ?_) (fun c1 => absurd hJ.1 c1)
  exact hk _ _ _ _ _ hJ.2 hP hD hS hl
end
section
/-! the law's loop and start (written by gen/m7.py) -/
theorem hu_lt4 {L i : Nat} (hL : L ≤ 256) (hi : i ≤ 300) (h : ¬ Int32.ofNat L - 4 < nI i) : i + 4 ≤ L := by
  have e4 : (4 : Int32).toInt = 4 := by decide
  have eL : (Int32.ofNat L).toInt = (L : Int) := hu_nI_t (by omega)
  have ei : (nI i).toInt = (i : Int) := hu_nI_t (by omega)
  have es : (Int32.ofNat L - 4).toInt = (L : Int) - 4 := by
    rw [hu_sub_t (by rw [eL, e4]; omega) (by rw [eL, e4]; omega), eL, e4]
  rw [hu_lt, es, ei] at h
  omega
set_option maxHeartbeats 4000000 in
set_option maxRecDepth 100000 in
/-- the law's loop -/
theorem hu_loop {p : Program} {l : Launch} {e : Env} {s : State} {m : MethodId} {below : List Frame} {meth : Method} {c : Code} {dC : Nat → ClassId} {dI : Nat → Nat → Nat} {b L : Nat} {xs : Nat → Int32} (hL : L ≤ 256) (C0 : lw_At p s m meth c b L xs) {d : ClassId} {ad am : Nat → Nat} (hK : va_K (dC, dI) hu_Cl [(d, .int)] s) : ∀ (n i : Nat), i ≤ 300 → 300 < i + n → hu_LA p l e s m below meth c dC dI d ad am b i 18 := by
  obtain ⟨hx, hb, hr, hml, hown, hts0, hX, hbl, hlocks, hgv⟩ := id C0
  have hbA : ¬ (fun q : Nat => s.heap.size ≤ q) b := Nat.not_le.mpr hbl
  intro n
  induction n with
  | zero =>
    intro i h1 h2
    exfalso
    omega
  | succ n ih =>
    intro i h1 h2 u v H locs ls hI hP hD hS hl
    refine lv_iload_n hx hb dL_law_18 rfl (lv_at hl 3 rfl) ?_
    refine lv_aload_n hx hb dL_law_19 rfl (lv_at hl 0 rfl) ?_
    refine va_slen hx hb hX hbl hbA hS dL_law_20 ?_
    refine lv_iconst (v := 4) hx hb dL_law_21 (by decide) ?_
    refine lv_isub hx hb dL_law_22 ?_
    refine lv_icmp_gt (tgt := 388) hx hb dL_law_23 (by decide) (fun c_23 => ?_) (fun c_23 => ?_)
    · skip
      refine lv_iconst (v := 1) hx hb dL_law_388 (by decide) ?_
      refine va_forget (fun q hq => hS.2.2 q hq) ?_
      refine W.widen (k := 600000) (n := 7290000) (by omega) (by omega) ?_
      exact lw_ret hx hb hr hlocks dL_law_389
    · skip
      have hiL : i + 4 ≤ L := hu_lt4 hL h1 c_23
      have hk : hu_LA p l e s m below meth c dC dI d ad am b i 382 := by
        intro u v H locs ls hI hP hD hS hl
        refine lv_iinc (v := nI (i + 4)) (lv' := [(3, .int (nI (i + 4))), (0, .ref b), (1, .ref (ad 0)), (2, .ref (am 0))]) hx hb dL_law_382 hl (k := 3) rfl (nI_add i 4) (by decide) rfl (fun ls hl => ?_)
        refine lv_goto (tgt := 18) hx hb dL_law_385 (by decide) ?_
        exact ih (i + 4) (by omega) (by omega) u v H locs ls hI hP hD hS (lv_sub hl [1, 2, 3, 0] rfl)
      refine lv_aload_n hx hb dL_law_26 rfl (lv_at hl 0 rfl) ?_
      refine lv_iload_n hx hb dL_law_27 rfl (lv_at hl 3 rfl) ?_
      refine va_sld hx hb hX hbl hbA hS (vp_in_nI (show i < L by omega) (by omega)) dL_law_28 ?_
      refine lv_bipush (v := 15) hx hb dL_law_29 (by decide) ?_
      refine lv_iand hx hb dL_law_31 ?_
      obtain ⟨j, hj, ej⟩ := pk_andE (xs (nI i).toNatClampNeg) (m := 15) 4 (by decide)
      refine hu_top ej ?_
      have hj16 : j < 16 := hj
      have hjc : j = 0 ∨ j = 1 ∨ j = 2 ∨ j = 3 ∨ j = 4 ∨ j = 5 ∨ j = 6 ∨ j = 7 ∨ j = 8 ∨ j = 9 ∨ j = 10 ∨ j = 11 ∨ j = 12 ∨ j = 13 ∨ j = 14 ∨ j = 15 := by omega
      rcases hjc with rfl | rfl | rfl | rfl | rfl | rfl | rfl | rfl | rfl | rfl | rfl | rfl | rfl | rfl | rfl | rfl
      · refine lv_tableIn (off := 64) (tgt := 96) hx hb dL_law_32 (by decide +kernel) (by decide +kernel) (by decide +kernel) (by decide) ?_
        exact hu_case_condition hL C0 hK hiL hk u v H locs ls hI hP hD hS hl
      · refine lv_tableIn (off := 107) (tgt := 139) hx hb dL_law_32 (by decide +kernel) (by decide +kernel) (by decide +kernel) (by decide) ?_
        exact hu_case_drop hL C0 hK hiL hk u v H locs ls hI hP hD hS hl
      · refine lv_tableIn (off := 120) (tgt := 152) hx hb dL_law_32 (by decide +kernel) (by decide +kernel) (by decide +kernel) (by decide) ?_
        exact hu_case_shift hL C0 hK hiL hk u v H locs ls hI hP hD hS hl
      · refine lv_tableIn (off := 153) (tgt := 185) hx hb dL_law_32 (by decide +kernel) (by decide +kernel) (by decide +kernel) (by decide) ?_
        exact hu_case_points hL C0 hK hiL hk u v H locs ls hI hP hD hS hl
      · refine lv_tableIn (off := 166) (tgt := 198) hx hb dL_law_32 (by decide +kernel) (by decide +kernel) (by decide +kernel) (by decide) ?_
        exact hu_case_has hL C0 hK hiL hk u v H locs ls hI hP hD hS hl
      · refine lv_tableIn (off := 199) (tgt := 231) hx hb dL_law_32 (by decide +kernel) (by decide +kernel) (by decide +kernel) (by decide) ?_
        exact hu_case_corners hL C0 hK hiL hk u v H locs ls hI hP hD hS hl
      · refine lv_tableIn (off := 212) (tgt := 244) hx hb dL_law_32 (by decide +kernel) (by decide +kernel) (by decide +kernel) (by decide) ?_
        exact hu_case_corner hL C0 hK hiL hk u v H locs ls hI hP hD hS hl
      · refine lv_tableIn (off := 235) (tgt := 267) hx hb dL_law_32 (by decide +kernel) (by decide +kernel) (by decide +kernel) (by decide) ?_
        exact hu_case_area2 hL C0 hK hiL hk u v H locs ls hI hP hD hS hl
      · refine lv_tableIn (off := 248) (tgt := 280) hx hb dL_law_32 (by decide +kernel) (by decide +kernel) (by decide +kernel) (by decide) ?_
        exact hu_case_border hL C0 hK hiL hk u v H locs ls hI hP hD hS hl
      · refine lv_tableIn (off := 261) (tgt := 293) hx hb dL_law_32 (by decide +kernel) (by decide +kernel) (by decide +kernel) (by decide) ?_
        exact hu_case_best hL C0 hK hiL hk u v H locs ls hI hP hD hS hl
      · refine lv_tableIn (off := 294) (tgt := 326) hx hb dL_law_32 (by decide +kernel) (by decide +kernel) (by decide +kernel) (by decide) ?_
        exact hu_case_bestCorner hL C0 hK hiL hk u v H locs ls hI hP hD hS hl
      · refine lv_tableIn (off := 327) (tgt := 359) hx hb dL_law_32 (by decide +kernel) (by decide +kernel) (by decide +kernel) (by decide) ?_
        exact hu_case_column hL C0 hK hiL hk u v H locs ls hI hP hD hS hl
      · refine lv_tableOut (tgt := 382) hx hb dL_law_32 (Or.inr (by decide +kernel)) (by decide) ?_
        exact hk u v H locs ls hI hP hD hS hl
      · refine lv_tableOut (tgt := 382) hx hb dL_law_32 (Or.inr (by decide +kernel)) (by decide) ?_
        exact hk u v H locs ls hI hP hD hS hl
      · refine lv_tableOut (tgt := 382) hx hb dL_law_32 (Or.inr (by decide +kernel)) (by decide) ?_
        exact hk u v H locs ls hI hP hD hS hl
      · refine lv_tableOut (tgt := 382) hx hb dL_law_32 (Or.inr (by decide +kernel)) (by decide) ?_
        exact hk u v H locs ls hI hP hD hS hl
set_option maxHeartbeats 4000000 in
set_option maxRecDepth 100000 in
/-- the law, from its entry -/
theorem whole_start {p : Program} {e : Env} {s : State} {m : MethodId} {below : List Frame} {meth : Method} {c : Code} (l : Launch) {b L : Nat} {xs : Nat → Int32} (hL : L ≤ 256) (C0 : lw_At p s m meth c b L xs) : W p l e room_1 s m #[Value.ref b] below meth c s.heap [] 0 0 (lw_Z below #[Value.ref b] s) (entryFrame m ([Value.ref b] : List Value).toArray 4) := by
  obtain ⟨hx, hb, hr, hml, hown, hts0, hX, hbl, hlocks, hgv⟩ := id C0
  have hts : ∀ w ∈ lw_all, w.before #[Value.ref b] s = true := fun w h => hts0 w (lw_all_tbl h)
  have hA : ∀ q : Nat, s.heap.size ≤ q → (fun q : Nat => s.heap.size ≤ q) q := fun _ h => h
  obtain ⟨c0_, iS0, hKn0⟩ := u_known (C := RX0) (T := TX0) (N := 10) (n := 10) hts in_X0 (hts _ q20)
  obtain ⟨c1_, iS1, hKn1⟩ := u_known (C := RX1) (T := TX1) (N := 8) (n := 8) hts in_X1 (hts _ q146)
  obtain ⟨dC, dI, hKc⟩ : ∃ (dC : Nat → ClassId) (dI : Nat → Nat → Nat), ∀ (k : Nat) (q : vw_C), hu_Cl[k]? = some q → u_Kn s q.1 q.2.1 q.2.2 (dC k) (dI k) := by
    refine ⟨fun k => if k = 0 then c0_ else c1_, fun k => if k = 0 then iS0 else iS1, ?_⟩
    intro k q hq
    match k, hq with
    | 0, hq => cases hq; exact hKn0
    | 1, hq => cases hq; exact hKn1
    | k + 2, hq => simp [hu_Cl] at hq
  have hS : va_S (fun q : Nat => s.heap.size ≤ q) s.heap s.heap [] := va_S.rf
  have hK : va_K (dC, dI) hu_Cl [] s := ⟨hKc, fun k q h => by simp at h⟩
  have hP : va_P (dC, dI) hu_Cl [] s.heap := fun k q h => by simp at h
  have hD : va_D (fun q : Nat => s.heap.size ≤ q) [] := ⟨fun i j p q h => by simp at h, fun k q h => by simp at h⟩
  have hl := lv_entry ([.ref b]) (n := 4) (Nat.le_of_ble_eq_true rfl)
  rw [lg_entry_eq]
  generalize (lg_sl ([.ref b]) ++ List.replicate (4 - (lg_sl ([.ref b])).length) Slot.unset).toArray = ls at hl ⊢
  have hl : lv_has ls 4 [(0, .ref b)] := hl
  refine va_new (ci := 0) (fs := [.int 0, .null, .null, .null, .int 0, .null, .null, .int 0, .null, .null]) (C := RX0) (T := TX0) (N := 10) hx hb hts in_X0 tyX0 tyX0_ok hown (hts _ q19) (hts _ q20) (hts _ q17) hK hP hD hS hA rfl (fun j hj => by rcases (show j = 0 ∨ j = 1 ∨ j = 2 ∨ j = 3 ∨ j = 4 ∨ j = 5 ∨ j = 6 ∨ j = 7 ∨ j = 8 ∨ j = 9 by omega) with rfl | rfl | rfl | rfl | rfl | rfl | rfl | rfl | rfl | rfl <;> rfl) (Nat.le_of_ble_eq_true rfl) (Nat.le_of_ble_eq_true rfl) dL_law_0 (fun q0 H hP hD hS => ?_)
  have hP : va_P (dC, dI) hu_Cl ([(q0, .inr (0, [.int 0, .null, .null, .null, .int 0, .null, .null, .int 0, .null, .null]))]) H := hP
  have hD : va_D (fun q : Nat => s.heap.size ≤ q) ([(q0, .inr (0, [.int 0, .null, .null, .null, .int 0, .null, .null, .int 0, .null, .null]))]) := hD
  refine W.widen (k := 1) (n := 10) (by omega) (by omega) ?_
  refine lv_dup hx hb dL_law_3 rfl ?_
  have hPc := hP.sub (ws' := [(q0, .inr (0, [.int 0, .null, .null, .null, .int 0, .null, .null, .int 0, .null, .null]))]) [0] rfl
  have hDc := hD.sub (ws' := [(q0, .inr (0, [.int 0, .null, .null, .null, .int 0, .null, .null, .int 0, .null, .null]))]) [0] (by decide) rfl
  have hKc := hK.sub (tys' := []) [] rfl
  have hFc := va_free (wc := [(q0, .inr (0, [.int 0, .null, .null, .null, .int 0, .null, .null, .int 0, .null, .null]))]) hD hS hA [0] rfl
  refine va_callv (va_runI (As := []) (rest := [.ref q0]) ⟨hx, hb, hml, hown, hts⟩ (mX0_init l dC dI q0 H.size) (cwI 0 hts (lw_meth q23) rfl rfl rfl (hts _ q17) (hts _ q21) (hts _ q22) rfl (by decide +kernel) ⟨Nat.le_of_ble_eq_true rfl, Nat.le_of_ble_eq_true rfl⟩) ⟨fun a U g mk q => by obtain ⟨q0, q1, qP, qK, qD⟩ := q; exact ⟨q0, q1, qP, va_K.moved (u := U) (U := U.calling g mk a) (Vm.Alike.refl U.vm) qK, qD⟩, fun U hU hW => ⟨rfl, by rw [hU], by rw [hU]; exact hPc, va_K.moved hW.alike hKc, hDc.weaken (fun _ _ _ _ => trivial)⟩⟩ rfl rfl hl.1 rfl (lv_room (Nat.le_of_ble_eq_true rfl)) dL_law_4 ⟨Nat.le_of_ble_eq_true rfl, Nat.le_of_ble_eq_true rfl⟩) hS (fun q _ h => hFc q h) hFc (fun u t H1 locs ht hvm hw hB hz1 hk1 hS => ?_)
  obtain ⟨d, ad⟩ := u
  have hw : ad 0 = q0 := hw
  obtain ⟨hP1, hK1, hD1⟩ := hB
  rw [ht] at hP1
  obtain ⟨hP, hD⟩ := va_join (wr := []) (w1 := hu_wH d ad (0, 0, 0, (fun _ => 0), (fun _ => 0), (fun _ => 0), (fun _ => 0), (fun _ => 0), (fun _ => 0), (fun _ => 0))) hP hD [0] [] rfl rfl (by decide) (by decide) hk1 hFc hP1 hD1
  have hK : va_K (dC, dI) hu_Cl [(d, .int)] s := va_K.moved hvm.symm hK1
  generalize H1 = H at hP hS ⊢
  have hP : va_P (dC, dI) hu_Cl (hu_wH d ad (0, 0, 0, (fun _ => 0), (fun _ => 0), (fun _ => 0), (fun _ => 0), (fun _ => 0), (fun _ => 0), (fun _ => 0))) H := hP
  have hD : va_D (fun q : Nat => s.heap.size ≤ q) (hu_wH d ad (0, 0, 0, (fun _ => 0), (fun _ => 0), (fun _ => 0), (fun _ => 0), (fun _ => 0), (fun _ => 0), (fun _ => 0))) := hD
  clear hP1 hD1 hFc hPc hDc hk1
  refine W.widen (k := 8) (n := 284) (by omega) (by omega) ?_
  refine lv_astore_n (lv' := [(1, .ref q0), (0, .ref b)]) hx hb dL_law_7 rfl hl (by decide) rfl (fun ls hl => ?_)
  have hl : lv_has ls 4 [(1, .ref (ad 0)), (0, .ref b)] := by rw [hw]; exact hl
  refine va_new (ci := 1) (fs := [.null, .null, .null, .int 0, .null, .int 0, .null, .int 0]) (C := RX1) (T := TX1) (N := 8) hx hb hts in_X1 tyX1 tyX1_ok hown (hts _ q145) (hts _ q146) (hts _ q18) hK hP hD hS hA rfl (fun j hj => by rcases (show j = 0 ∨ j = 1 ∨ j = 2 ∨ j = 3 ∨ j = 4 ∨ j = 5 ∨ j = 6 ∨ j = 7 by omega) with rfl | rfl | rfl | rfl | rfl | rfl | rfl | rfl <;> rfl) (Nat.le_of_ble_eq_true rfl) (Nat.le_of_ble_eq_true rfl) dL_law_8 (fun q1 H hP hD hS => ?_)
  have hP : va_P (dC, dI) hu_Cl (hu_wH d ad (0, 0, 0, (fun _ => 0), (fun _ => 0), (fun _ => 0), (fun _ => 0), (fun _ => 0), (fun _ => 0), (fun _ => 0)) ++ [(q1, .inr (1, [.null, .null, .null, .int 0, .null, .int 0, .null, .int 0]))]) H := hP
  have hD : va_D (fun q : Nat => s.heap.size ≤ q) (hu_wH d ad (0, 0, 0, (fun _ => 0), (fun _ => 0), (fun _ => 0), (fun _ => 0), (fun _ => 0), (fun _ => 0), (fun _ => 0)) ++ [(q1, .inr (1, [.null, .null, .null, .int 0, .null, .int 0, .null, .int 0]))]) := hD
  refine W.widen (k := 9) (n := 292) (by omega) (by omega) ?_
  refine lv_dup hx hb dL_law_11 rfl ?_
  have hPc := hP.sub (ws' := [(q1, .inr (1, [.null, .null, .null, .int 0, .null, .int 0, .null, .int 0]))]) [8] rfl
  have hDc := hD.sub (ws' := [(q1, .inr (1, [.null, .null, .null, .int 0, .null, .int 0, .null, .int 0]))]) [8] (by decide) rfl
  have hKc := hK.sub (tys' := []) [] rfl
  have hFc := va_free (wc := [(q1, .inr (1, [.null, .null, .null, .int 0, .null, .int 0, .null, .int 0]))]) hD hS hA [8] rfl
  refine va_callv (va_runI (As := []) (rest := [.ref q1]) ⟨hx, hb, hml, hown, hts⟩ (mX1_init l dC dI q1 H.size) (cwI 0 hts (lw_meth q149) rfl rfl rfl (hts _ q18) (hts _ q147) (hts _ q148) rfl (by decide +kernel) ⟨Nat.le_of_ble_eq_true rfl, Nat.le_of_ble_eq_true rfl⟩) ⟨fun a U g mk q => by obtain ⟨q0, q1, qP, qK, qD⟩ := q; exact ⟨q0, q1, qP, va_K.moved (u := U) (U := U.calling g mk a) (Vm.Alike.refl U.vm) qK, qD⟩, fun U hU hW => ⟨rfl, by rw [hU], by rw [hU]; exact hPc, va_K.moved hW.alike hKc, hDc.weaken (fun _ _ _ _ => trivial)⟩⟩ rfl rfl hl.1 rfl (lv_room (Nat.le_of_ble_eq_true rfl)) dL_law_12 ⟨Nat.le_of_ble_eq_true rfl, Nat.le_of_ble_eq_true rfl⟩) hS (fun q _ h => hFc q h) hFc (fun u t H1 locs ht hvm hw hB hz1 hk1 hS => ?_)
  obtain ⟨d2, am, v⟩ := u
  obtain ⟨hw2, li, L0, hu, h0, hv, hls, hwk⟩ := hw
  have hw3 : am 0 = q1 := hw2
  have hv : v = ((fun _ => 0), (fun _ => 0), (fun _ => 0), nI 0, li, nI L0, hu, nI h0) := hv
  subst hv
  obtain ⟨hP1, hK1, hD1⟩ := hB
  rw [ht] at hP1
  obtain ⟨hP, hD⟩ := va_join (wr := hu_wH d ad (0, 0, 0, (fun _ => 0), (fun _ => 0), (fun _ => 0), (fun _ => 0), (fun _ => 0), (fun _ => 0), (fun _ => 0))) (w1 := hu_wM d2 am ((fun _ => 0), (fun _ => 0), (fun _ => 0), nI 0, li, nI L0, hu, nI h0)) hP hD [8] [0, 1, 2, 3, 4, 5, 6, 7] rfl rfl (by decide) (by decide) hk1 hFc hP1 hD1
  have hd2 : d2 = d := hu_same (hK.app (va_K.moved hvm.symm hK1))
  generalize H1 = H at hP hS ⊢
  clear hP1 hD1 hFc hPc hDc hk1
  rw [hd2] at hP hD
  refine W.widen (k := 14) (n := 2253) (by omega) (by omega) ?_
  refine lv_astore_n (lv' := [(2, .ref q1), (1, .ref (ad 0)), (0, .ref b)]) hx hb dL_law_15 rfl hl (by decide) rfl (fun ls hl => ?_)
  have hl : lv_has ls 4 [(2, .ref (am 0)), (1, .ref (ad 0)), (0, .ref b)] := by rw [hw3]; exact hl
  refine lv_iconst (v := 0) hx hb dL_law_16 (by decide) ?_
  refine lv_istore_n (lv' := [(3, .int 0), (2, .ref (am 0)), (1, .ref (ad 0)), (0, .ref b)]) hx hb dL_law_17 rfl hl (by decide) rfl (fun ls hl => ?_)
  exact hu_loop hL C0 hK 301 0 (by omega) (by omega) (0, 0, 0, (fun _ => 0), (fun _ => 0), (fun _ => 0), (fun _ => 0), (fun _ => 0), (fun _ => 0), (fun _ => 0)) ((fun _ => 0), (fun _ => 0), (fun _ => 0), nI 0, li, nI L0, hu, nI h0) H _ ls ⟨0, _, _, _, 0, 0, _, _, _, _, li, L0, hu, h0, rfl, rfl, by omega, fun i hi => absurd hi (Nat.not_lt_zero i), Or.inl rfl, hls, hwk⟩ hP hD hS (lv_sub hl [3, 2, 1, 0] rfl)
end
section
/-! the claim out of the walk (starting text) -/
set_option maxHeartbeats 4000000 in
theorem lw_walk (l : Launch) (b : Addr) (xs : List Int32) : MetFree l x (headSpec (Jvm.Cond.code x code maxLocals ret :: tables_1) room_1) (lw_P b xs) (fun _ _ _ _ _ => True) lw_Q := by
  refine MetFree.of_bodyS (code := code) (maxLocals := maxLocals) (ret := ret) (by decide) ?_ ?_
  · intro args s m h hn
    obtain ⟨meth, c, h1, h2, h3, h4, h5, h6, -, -⟩ := Cond.code_spec hn (atoms_spec (ws := Jvm.Cond.code x code maxLocals ret :: tables_1) h _ List.mem_cons_self)
    exact ⟨meth, c, h1, h2, h3, h4, h5, h6⟩
  · intro p e s m args below meth c s₁ B hml0 hP _
    obtain ⟨rfl, hx, hbd, hgv⟩ := hP
    obtain ⟨scr, harrAt, hlist, hof, hsmall⟩ := hx
    obtain ⟨hcb, hkn, -, -⟩ := State.arrayAt?_spec harrAt
    have hown : s.vm.findClass R_law = some m.cls := findClass_of_methodNamed B.named
    have hts0 : ∀ c ∈ (Jvm.Cond.code x code maxLocals ret :: tables_1), c.before #[Value.ref b] s = true := atoms_spec (ws := Jvm.Cond.code x code maxLocals ret :: tables_1) B.pre
    have hts : ∀ w ∈ lw_tbl, w.before #[Value.ref b] s = true := k2_hts_sels lw_privs (fun w hw => hts0 w (List.mem_cons_of_mem _ hw)) lw_privs_ok
    have hml : c.maxLocals = 4 := B.maxLocals_eq (hts0 _ List.mem_cons_self)
    have X₀ : Stand p l e room_1 s m #[Value.ref b] below meth c s₁ [] 0 0 := Stand.of_body B
    have hh0 : s₁.heap = s.heap := by rw [B.state]; rfl
    have hsz : scr.slots.size = xs.length := by rw [← Array.length_toList, hlist, List.length_map]
    have hval : ∀ j : Nat, j < xs.length → scr.slots[j]? = some (.int (xs.getD j 0)) := fun j hj => by
      rw [← Array.getElem?_toList, hlist]
      simp [hj]
    have hbl : b < s.heap.size := (Array.getElem?_eq_some_iff.mp hcb).1
    have hX : va_X b xs.length (fun j => xs.getD j 0) s s.heap := ⟨scr, hcb, hof, hkn, hsz, hval⟩
    have K : W p l e room_1 s m #[Value.ref b] below meth c s₁.heap [] 0 0 (lw_Z below #[Value.ref b] s) (entryFrame m ([Value.ref b] : List Value).toArray 4) := by
      rw [hh0]
      exact whole_start l hbd ⟨B.exec, B.bytes, B.returns, hml, hown, hts, hX, hbl, B.notSynchronized, hgv⟩
    obtain ⟨t, a1, o, b1, b2, b3⟩ := K s₁ rfl X₀
    exact ⟨t, o, a1, b1, b2, b3⟩
theorem lw_pre_spec {args : Array Value} {s : State} (h : (Jvm.Cond.and given_1 narrow_1).before args s = true) (hr : rest_1_c.before args s = true) : ∃ (b : Addr) (xs : List Int32), lw_P b xs args s := by
  have hs := flat_of_before _ h
  have hq := flat_of_before _ hr
  have hc : (Cond.count 1).before args s = true := hs _ (by decide +kernel)
  have harr : (Cond.arrayOf (.arg 0) .int).before args s = true := hs _ (by decide +kernel)
  have hle : (Cond.le (.length (.arg 0)) (.int 256)).before args s = true := hs _ (by decide +kernel)
  have hlen : (Cond.isInt (.length (.arg 0))).before args s = true := hq _ (by decide +kernel)
  have hall : (Cond.all (.arg 0) (.isInt (.elem (.arg 0) (.index 0)))).before args s = true := hq _ (by decide +kernel)
  obtain ⟨b, xs, hb, hx⟩ := State.ints_of_pre rfl harr hlen hall
  have hsm : xs.length < 2 ^ 31 := hx.choose_spec.2.2.2
  have hev : (Term.length (.arg 0)).eval args s none [] s = some (.int xs.length.toInt32) := hx.length_eval hb
  have hv := Cond.le_ints hev (show (Term.int 256).eval args s none [] s = some (.int 256) from rfl)
  have hd : xs.length.toInt32 ≤ 256 := by
    simpa [Cond.before, Cond.holds, hv] using hle
  have hN : xs.length ≤ 256 := (Int32.ofNat_le_ofNat hsm (by decide)).mp (show Int32.ofNat xs.length ≤ Int32.ofNat 256 from hd)
  exact ⟨b, xs, Cond.one_arg hc (show args[0]? = some (.ref b) from hb), hx, hN, h⟩
theorem lw_comes (l : Launch) : Comes l x (Jvm.Cond.code x code maxLocals ret :: tables_1) room_1 (fun tb e args s => Calls_1 tb e args s ∧ rest_1 tb e args s ∧ Pre_1 tb e args s)
    (fun _ _ args s o t => lw_Q args s o t) := by
  intro p e ha hc hk s m args below hf hfit hheap happ hpre
  obtain ⟨b, xs, hP⟩ := lw_pre_spec hpre.2.2 hpre.2.1
  obtain ⟨k, o, h1, h2, h3, hQ⟩ := lw_walk l b xs p e ha hc hk s m args below hf ((Spec.applies_iff_loose hf).mp happ).1 hP trivial
  exact ⟨k, o, h1, h2, h3, hQ⟩
theorem lw_frame {s t : State} {o : Outcome} {args : Array Value} (h : Framed s o t [] 600000 7290000) :
    Framed s o t (fieldLocs frame_1_writes args s ++ arrayLocs frame_1_arrays args s ++ staticLocs frame_1_statics s) 600000 7290000 := h
theorem lw_limb (L : Cond) (hL : ∀ (args : Array Value) (s t : State), L.after args s (.returned (some (.int 1))) t = true) :
    ArmFor flags0 classFile x code maxLocals ret World_1 tables_1 room_1 Calls_1 rest_1 Pre_1
      (fun tb e a s o t => postC L tb e a s o t ∧ Framed s o t (fieldLocs frame_1_writes a s ++ arrayLocs frame_1_arrays a s ++ staticLocs frame_1_statics s) 600000 7290000) := by
  intro l _ _ _ p e ha hc hk s m args below hf hfit hheap happ hpre
  obtain ⟨k, o, h1, h2, h3, rfl, hF⟩ := lw_comes l p e ha hc hk s m args below hf hfit hheap happ hpre
  exact ⟨k, _, h1, h2, h3, hL args s _, lw_frame hF⟩
theorem i_vc : Claimed_1_1 ∧ Claimed_1_2 := ⟨lw_limb limb_1_1 (fun args s t => by simp [limb_1_1, Cond.after, Cond.holds, Cond.value]), lw_limb limb_1_2 (fun args s t => Cond.after_iff.mpr (by
  first | (rw [show limb_1_2 = Cond.eq .result (.int 1) from rfl, Cond.eq_ints (x := 1) (y := 1) rfl rfl]; simp; done) | (simp [limb_1_2, Cond.value, Term.eval]; done)))⟩
end
