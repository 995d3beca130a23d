section
-- ===== PART A: goes FIRST, ahead of the names: the tables' words, and 'selects' of the private methods out of them =====
/-- a private method of a class that the tables say can be made, by its rows of tables_1 -/
def lw_okq (q : MethodName × Nat) : Prop := (q.1.cls ≠ "java/lang/invoke/MethodHandle" ∧ q.1.cls ≠ "java/lang/invoke/VarHandle") ∧ Cond.instantiable q.1.cls q.2 ∈ tables_1 ∧ Cond.privateMethod q.1 ∈ tables_1 ∧ Cond.instanceMethod q.1 ∈ tables_1
set_option maxRecDepth 100000
theorem lw_t1 {w : Cond} (h : w ∈ tables_1_1) : w ∈ tables_1 := List.mem_append_left _ h
theorem lw_t2 {w : Cond} (h : w ∈ tables_1_2) : w ∈ tables_1 := List.mem_append_right _ h
theorem lw_p0 : lw_okq (⟨"PointInTime", "bad", "(I)Z"⟩, 22) := ⟨⟨by decide +kernel, by decide +kernel⟩, lw_t1 (List.mem_of_getElem? (i := 4) rfl), lw_t1 (List.mem_of_getElem? (i := 85) rfl), lw_t1 (List.mem_of_getElem? (i := 86) rfl)⟩
theorem lw_p1 : lw_okq (⟨"PointInTime", "change", "(IIII)I"⟩, 22) := ⟨⟨by decide +kernel, by decide +kernel⟩, lw_t1 (List.mem_of_getElem? (i := 4) rfl), lw_t1 (List.mem_of_getElem? (i := 89) rfl), lw_t1 (List.mem_of_getElem? (i := 90) rfl)⟩
theorem lw_p2 : lw_okq (⟨"PointInTime", "apply", "(III)V"⟩, 22) := ⟨⟨by decide +kernel, by decide +kernel⟩, lw_t1 (List.mem_of_getElem? (i := 4) rfl), lw_t1 (List.mem_of_getElem? (i := 93) rfl), lw_t1 (List.mem_of_getElem? (i := 94) rfl)⟩
theorem lw_p3 : lw_okq (⟨"PointInTime", "noPoint", "(II)Z"⟩, 22) := ⟨⟨by decide +kernel, by decide +kernel⟩, lw_t1 (List.mem_of_getElem? (i := 4) rfl), lw_t1 (List.mem_of_getElem? (i := 121) rfl), lw_t1 (List.mem_of_getElem? (i := 122) rfl)⟩
theorem lw_p4 : lw_okq (⟨"PointInTime", "usable", "(II)I"⟩, 22) := ⟨⟨by decide +kernel, by decide +kernel⟩, lw_t1 (List.mem_of_getElem? (i := 4) rfl), lw_t1 (List.mem_of_getElem? (i := 125) rfl), lw_t1 (List.mem_of_getElem? (i := 126) rfl)⟩
theorem lw_p5 : lw_okq (⟨"PointInTime", "onTheWay", "(IIII)Z"⟩, 22) := ⟨⟨by decide +kernel, by decide +kernel⟩, lw_t1 (List.mem_of_getElem? (i := 4) rfl), lw_t1 (List.mem_of_getElem? (i := 129) rfl), lw_t1 (List.mem_of_getElem? (i := 130) rfl)⟩
theorem lw_p6 : lw_okq (⟨"PointInTime", "redo", "(II)V"⟩, 22) := ⟨⟨by decide +kernel, by decide +kernel⟩, lw_t1 (List.mem_of_getElem? (i := 4) rfl), lw_t1 (List.mem_of_getElem? (i := 133) rfl), lw_t1 (List.mem_of_getElem? (i := 134) rfl)⟩
theorem lw_p7 : lw_okq (⟨"PointInTime", "entry", "(II)I"⟩, 22) := ⟨⟨by decide +kernel, by decide +kernel⟩, lw_t1 (List.mem_of_getElem? (i := 4) rfl), lw_t1 (List.mem_of_getElem? (i := 137) rfl), lw_t1 (List.mem_of_getElem? (i := 138) rfl)⟩
theorem lw_p8 : lw_okq (⟨"PointInTime", "valueThen", "(III)I"⟩, 22) := ⟨⟨by decide +kernel, by decide +kernel⟩, lw_t1 (List.mem_of_getElem? (i := 4) rfl), lw_t1 (List.mem_of_getElem? (i := 145) rfl), lw_t1 (List.mem_of_getElem? (i := 146) rfl)⟩
theorem lw_p9 : lw_okq (⟨"PointInTime", "beginBackup", "()V"⟩, 22) := ⟨⟨by decide +kernel, by decide +kernel⟩, lw_t1 (List.mem_of_getElem? (i := 4) rfl), lw_t1 (List.mem_of_getElem? (i := 169) rfl), lw_t1 (List.mem_of_getElem? (i := 170) rfl)⟩
theorem lw_p10 : lw_okq (⟨"PointInTime", "writeOut", "(I)I"⟩, 22) := ⟨⟨by decide +kernel, by decide +kernel⟩, lw_t1 (List.mem_of_getElem? (i := 4) rfl), lw_t1 (List.mem_of_getElem? (i := 173) rfl), lw_t1 (List.mem_of_getElem? (i := 174) rfl)⟩
theorem lw_p11 : lw_okq (⟨"PointInTimeModel", "isKey", "(I)Z"⟩, 3) := ⟨⟨by decide +kernel, by decide +kernel⟩, lw_t1 (List.mem_of_getElem? (i := 185) rfl), lw_t1 (List.mem_of_getElem? (i := 205) rfl), lw_t1 (List.mem_of_getElem? (i := 206) rfl)⟩
theorem lw_p12 : lw_okq (⟨"PointInTimeModel", "goOn", "()V"⟩, 3) := ⟨⟨by decide +kernel, by decide +kernel⟩, lw_t1 (List.mem_of_getElem? (i := 185) rfl), lw_t1 (List.mem_of_getElem? (i := 213) rfl), lw_t1 (List.mem_of_getElem? (i := 214) rfl)⟩
theorem lw_p13 : lw_okq (⟨"PointInTimeModel", "now", "()I"⟩, 3) := ⟨⟨by decide +kernel, by decide +kernel⟩, lw_t1 (List.mem_of_getElem? (i := 185) rfl), lw_t1 (List.mem_of_getElem? (i := 217) rfl), lw_t1 (List.mem_of_getElem? (i := 218) rfl)⟩
theorem lw_p14 : lw_okq (⟨"PointInTimeModel", "isPoint", "(II)Z"⟩, 3) := ⟨⟨by decide +kernel, by decide +kernel⟩, lw_t1 (List.mem_of_getElem? (i := 185) rfl), lw_t2 (List.mem_of_getElem? (i := 4) rfl), lw_t2 (List.mem_of_getElem? (i := 5) rfl)⟩
def lw_privs_1 : List (MethodName × Nat) := [(⟨"PointInTime", "bad", "(I)Z"⟩, 22), (⟨"PointInTime", "change", "(IIII)I"⟩, 22), (⟨"PointInTime", "apply", "(III)V"⟩, 22), (⟨"PointInTime", "noPoint", "(II)Z"⟩, 22), (⟨"PointInTime", "usable", "(II)I"⟩, 22), (⟨"PointInTime", "onTheWay", "(IIII)Z"⟩, 22), (⟨"PointInTime", "redo", "(II)V"⟩, 22), (⟨"PointInTime", "entry", "(II)I"⟩, 22), (⟨"PointInTime", "valueThen", "(III)I"⟩, 22), (⟨"PointInTime", "beginBackup", "()V"⟩, 22), (⟨"PointInTime", "writeOut", "(I)I"⟩, 22), (⟨"PointInTimeModel", "isKey", "(I)Z"⟩, 3), (⟨"PointInTimeModel", "goOn", "()V"⟩, 3), (⟨"PointInTimeModel", "now", "()I"⟩, 3), (⟨"PointInTimeModel", "isPoint", "(II)Z"⟩, 3)]
theorem lw_r1 : ∀ q ∈ lw_privs_1, lw_okq q := List.forall_mem_cons.mpr ⟨lw_p0, List.forall_mem_cons.mpr ⟨lw_p1, List.forall_mem_cons.mpr ⟨lw_p2, List.forall_mem_cons.mpr ⟨lw_p3, List.forall_mem_cons.mpr ⟨lw_p4, List.forall_mem_cons.mpr ⟨lw_p5, List.forall_mem_cons.mpr ⟨lw_p6, List.forall_mem_cons.mpr ⟨lw_p7, List.forall_mem_cons.mpr ⟨lw_p8, List.forall_mem_cons.mpr ⟨lw_p9, List.forall_mem_cons.mpr ⟨lw_p10, List.forall_mem_cons.mpr ⟨lw_p11, List.forall_mem_cons.mpr ⟨lw_p12, List.forall_mem_cons.mpr ⟨lw_p13, List.forall_mem_cons.mpr ⟨lw_p14, fun _ h => absurd h List.not_mem_nil⟩⟩⟩⟩⟩⟩⟩⟩⟩⟩⟩⟩⟩⟩⟩
def lw_privs : List (MethodName × Nat) := lw_privs_1
def lw_tbl : List Cond := k2_sels lw_privs ++ tables_1
theorem lw_privs_ok : ∀ q ∈ lw_privs, lw_okq q := lw_r1
-- ===== ONE list of words for every method: the tables' words that hold all through a run =====
def lw_all : List Cond := lw_tbl.filter goodWord
/-- a word of the tables by its place: claim/WORDS.tsv -/
theorem lw_w {w : Cond} (i : Nat) (h : lw_tbl[i]? = some w) (g : goodWord w = true) : w ∈ lw_all := List.mem_filter.mpr ⟨List.mem_of_getElem? h, g⟩
theorem lw_all_tbl {w : Cond} (h : w ∈ lw_all) : w ∈ lw_tbl := (List.mem_filter.mp h).1
theorem lw_self : GoodIn lw_all lw_all := fun w h => ⟨h, good_of_word (List.mem_filter.mp h).2⟩
/-- a class's field words, by their places -/
theorem lw_in (ws : List Cond) (ps : List Nat) (hp : ws = ps.filterMap (fun i => lw_tbl[i]?)) (hg : ws.all goodWord = true) : ∀ w ∈ ws, w ∈ lw_all := by
  intro w h
  have h1 := List.all_eq_true.mp hg w h
  rw [hp] at h
  obtain ⟨i, -, hi⟩ := List.mem_filterMap.mp h
  exact lw_w i hi h1
/-- the words of a contract for the method y with code b, L locals, answer r -/
abbrev ws_ (y : MethodName) (b : ByteArray) (L : Nat) (r : Option FieldType) : List Cond := Cond.code y b L r :: lw_all
theorem lw_meth {y : MethodName} {b : ByteArray} {L : Nat} {r : Option FieldType} (h : Cond.code y b L r ∈ lw_all) : GoodIn lw_all (ws_ y b L r) := by
  intro w hw
  rcases List.mem_cons.mp hw with e | e
  · rw [e]
    exact lw_self _ h
  · exact lw_self _ e
theorem lw_app {a c : List Cond} (ha : ∀ w ∈ a, w ∈ lw_all) (hc : GoodIn lw_all c) : GoodIn lw_all (a ++ c) := by
  intro w hw
  rcases List.mem_append.mp hw with e | e
  · exact lw_self w (ha w e)
  · exact hc w e
/-- what a call through an object asks: cwV n hts (lw_V ..) -/
theorem lw_V {own : String} {idx : Nat} {C : String} {y : MethodName} {b : ByteArray} {L : Nat} {r : Option FieldType} (h1 : Cond.methodLink own idx y ∈ lw_all) (h2 : Cond.instanceMethod y ∈ lw_all) (h3 : Cond.selects C y y ∈ lw_all) (h4 : Cond.initialized C ∈ lw_all) (h5 : Cond.code y b L r ∈ lw_all) : GoodIn lw_all (wsV own idx C y (ws_ y b L r)) := by
  refine lw_app ?_ (lw_meth h5)
  intro w hw
  simp only [List.mem_cons, List.not_mem_nil, or_false] at hw
  rcases hw with e | e | e | e
  · rw [e]; exact h1
  · rw [e]; exact h2
  · rw [e]; exact h3
  · rw [e]; exact h4
/-- what a static call asks: va_cwS n hts (lw_S ..) -/
theorem lw_S {own : String} {idx : Nat} {y : MethodName} {b : ByteArray} {L : Nat} {r : Option FieldType} (h1 : Cond.methodLink own idx y ∈ lw_all) (h2 : Cond.static y ∈ lw_all) (h3 : Cond.initialized y.cls ∈ lw_all) (h4 : Cond.code y b L r ∈ lw_all) : GoodIn lw_all (va_wsS own idx y (ws_ y b L r)) := by
  refine lw_app ?_ (lw_meth h4)
  intro w hw
  simp only [List.mem_cons, List.not_mem_nil, or_false] at hw
  rcases hw with e | e | e
  · rw [e]; exact h1
  · rw [e]; exact h2
  · rw [e]; exact h3
/-- the words of a contract for a method WITH HANDLERS (hh: its table) -/
abbrev wsW_ (y : MethodName) (b : ByteArray) (L : Nat) (r : Option FieldType) (hh : List (Nat × Nat × Nat × Nat)) : List Cond := Cond.codeWith y b L r hh :: lw_all
theorem lw_methW {y : MethodName} {b : ByteArray} {L : Nat} {r : Option FieldType} {hh : List (Nat × Nat × Nat × Nat)} (h : Cond.codeWith y b L r hh ∈ lw_all) : GoodIn lw_all (wsW_ y b L r hh) := by
  intro w hw
  rcases List.mem_cons.mp hw with e | e
  · rw [e]
    exact lw_self _ h
  · exact lw_self _ e
/-- any list of words by their places (lw_in), good -/
theorem lw_good {ws : List Cond} (h : ∀ w ∈ ws, w ∈ lw_all) : GoodIn lw_all ws := fun w hw => lw_self w (h w hw)
/-- what a call of a method with handlers asks: vx_cwVW n hts (lw_VW ..), vx_cwSW n hts (lw_SW ..) -/
theorem lw_VW {own : String} {idx : Nat} {C : String} {y : MethodName} {b : ByteArray} {L : Nat} {r : Option FieldType} {hh : List (Nat × Nat × Nat × Nat)} (h1 : Cond.methodLink own idx y ∈ lw_all) (h2 : Cond.instanceMethod y ∈ lw_all) (h3 : Cond.selects C y y ∈ lw_all) (h4 : Cond.initialized C ∈ lw_all) (h5 : Cond.codeWith y b L r hh ∈ lw_all) : GoodIn lw_all (wsV own idx C y (wsW_ y b L r hh)) := by
  refine lw_app ?_ (lw_methW h5)
  intro w hw
  simp only [List.mem_cons, List.not_mem_nil, or_false] at hw
  rcases hw with e | e | e | e
  · rw [e]; exact h1
  · rw [e]; exact h2
  · rw [e]; exact h3
  · rw [e]; exact h4
theorem lw_SW {own : String} {idx : Nat} {y : MethodName} {b : ByteArray} {L : Nat} {r : Option FieldType} {hh : List (Nat × Nat × Nat × Nat)} (h1 : Cond.methodLink own idx y ∈ lw_all) (h2 : Cond.static y ∈ lw_all) (h3 : Cond.initialized y.cls ∈ lw_all) (h4 : Cond.codeWith y b L r hh ∈ lw_all) : GoodIn lw_all (va_wsS own idx y (wsW_ y b L r hh)) := by
  refine lw_app ?_ (lw_methW h4)
  intro w hw
  simp only [List.mem_cons, List.not_mem_nil, or_false] at hw
  rcases hw with e | e | e
  · rw [e]; exact h1
  · rw [e]; exact h2
  · rw [e]; exact h3
/-- a word by its place in its run of the tables -/
theorem lw_at {r : List Cond} (hr : ∀ w ∈ r, w ∈ lw_tbl) {w : Cond} (i : Nat) (h : r[i]? = some w) : w ∈ lw_tbl := hr w (List.mem_of_getElem? h)
theorem lw_g {w : Cond} (h : w ∈ lw_tbl) (g : goodWord w = true) : w ∈ lw_all := List.mem_filter.mpr ⟨h, g⟩
theorem lw_ms : ∀ w ∈ k2_sels lw_privs, w ∈ lw_tbl := fun w h => show w ∈ k2_sels lw_privs ++ tables_1 from List.mem_append_left _ h
theorem lw_m1 : ∀ w ∈ tables_1_1, w ∈ lw_tbl := fun w h => show w ∈ k2_sels lw_privs ++ tables_1 from List.mem_append_right (k2_sels lw_privs) (show w ∈ tables_1 from List.mem_append_left _ h)
theorem lw_m2 : ∀ w ∈ tables_1_2, w ∈ lw_tbl := fun w h => show w ∈ k2_sels lw_privs ++ tables_1 from List.mem_append_right (k2_sels lw_privs) (show w ∈ tables_1 from List.mem_append_right _ h)
theorem qs0 : (Cond.selects "PointInTime" ⟨"PointInTime", "bad", "(I)Z"⟩ ⟨"PointInTime", "bad", "(I)Z"⟩) ∈ lw_all := lw_g (lw_at lw_ms 0 rfl) rfl
theorem qs1 : (Cond.selects "PointInTime" ⟨"PointInTime", "change", "(IIII)I"⟩ ⟨"PointInTime", "change", "(IIII)I"⟩) ∈ lw_all := lw_g (lw_at lw_ms 1 rfl) rfl
theorem qs2 : (Cond.selects "PointInTime" ⟨"PointInTime", "apply", "(III)V"⟩ ⟨"PointInTime", "apply", "(III)V"⟩) ∈ lw_all := lw_g (lw_at lw_ms 2 rfl) rfl
theorem qs3 : (Cond.selects "PointInTime" ⟨"PointInTime", "noPoint", "(II)Z"⟩ ⟨"PointInTime", "noPoint", "(II)Z"⟩) ∈ lw_all := lw_g (lw_at lw_ms 3 rfl) rfl
theorem qs4 : (Cond.selects "PointInTime" ⟨"PointInTime", "usable", "(II)I"⟩ ⟨"PointInTime", "usable", "(II)I"⟩) ∈ lw_all := lw_g (lw_at lw_ms 4 rfl) rfl
theorem qs5 : (Cond.selects "PointInTime" ⟨"PointInTime", "onTheWay", "(IIII)Z"⟩ ⟨"PointInTime", "onTheWay", "(IIII)Z"⟩) ∈ lw_all := lw_g (lw_at lw_ms 5 rfl) rfl
theorem qs6 : (Cond.selects "PointInTime" ⟨"PointInTime", "redo", "(II)V"⟩ ⟨"PointInTime", "redo", "(II)V"⟩) ∈ lw_all := lw_g (lw_at lw_ms 6 rfl) rfl
theorem qs7 : (Cond.selects "PointInTime" ⟨"PointInTime", "entry", "(II)I"⟩ ⟨"PointInTime", "entry", "(II)I"⟩) ∈ lw_all := lw_g (lw_at lw_ms 7 rfl) rfl
theorem qs8 : (Cond.selects "PointInTime" ⟨"PointInTime", "valueThen", "(III)I"⟩ ⟨"PointInTime", "valueThen", "(III)I"⟩) ∈ lw_all := lw_g (lw_at lw_ms 8 rfl) rfl
theorem qs9 : (Cond.selects "PointInTime" ⟨"PointInTime", "beginBackup", "()V"⟩ ⟨"PointInTime", "beginBackup", "()V"⟩) ∈ lw_all := lw_g (lw_at lw_ms 9 rfl) rfl
theorem qs10 : (Cond.selects "PointInTime" ⟨"PointInTime", "writeOut", "(I)I"⟩ ⟨"PointInTime", "writeOut", "(I)I"⟩) ∈ lw_all := lw_g (lw_at lw_ms 10 rfl) rfl
theorem qs11 : (Cond.selects "PointInTimeModel" ⟨"PointInTimeModel", "isKey", "(I)Z"⟩ ⟨"PointInTimeModel", "isKey", "(I)Z"⟩) ∈ lw_all := lw_g (lw_at lw_ms 11 rfl) rfl
theorem qs12 : (Cond.selects "PointInTimeModel" ⟨"PointInTimeModel", "goOn", "()V"⟩ ⟨"PointInTimeModel", "goOn", "()V"⟩) ∈ lw_all := lw_g (lw_at lw_ms 12 rfl) rfl
theorem qs13 : (Cond.selects "PointInTimeModel" ⟨"PointInTimeModel", "now", "()I"⟩ ⟨"PointInTimeModel", "now", "()I"⟩) ∈ lw_all := lw_g (lw_at lw_ms 13 rfl) rfl
theorem qs14 : (Cond.selects "PointInTimeModel" ⟨"PointInTimeModel", "isPoint", "(II)Z"⟩ ⟨"PointInTimeModel", "isPoint", "(II)Z"⟩) ∈ lw_all := lw_g (lw_at lw_ms 14 rfl) rfl
end
section
set_option maxRecDepth 100000
/-! PointInTime -/
def RX0 : String := "PointInTime"
def TX0 : u_T := fun k => match k with
  | 0 => ("PointInTime", "keyA", "[I", true)
  | 1 => ("PointInTime", "valueA", "[I", true)
  | 2 => ("PointInTime", "keyB", "[I", true)
  | 3 => ("PointInTime", "valueB", "[I", true)
  | 4 => ("PointInTime", "timelines", "I", false)
  | 5 => ("PointInTime", "parent", "[I", true)
  | 6 => ("PointInTime", "fork", "[I", true)
  | 7 => ("PointInTime", "end", "[I", true)
  | 8 => ("PointInTime", "now", "I", false)
  | 9 => ("PointInTime", "memory", "[I", true)
  | 10 => ("PointInTime", "memoryPoint", "[I", true)
  | 11 => ("PointInTime", "disk", "[I", true)
  | 12 => ("PointInTime", "diskPoint", "[I", true)
  | 13 => ("PointInTime", "nextBackup", "I", false)
  | 14 => ("PointInTime", "underWay", "Z", false)
  | 15 => ("PointInTime", "finished", "[Z", true)
  | 16 => ("PointInTime", "backupLine", "[I", true)
  | 17 => ("PointInTime", "backupBegin", "[I", true)
  | 18 => ("PointInTime", "backupEnd", "[I", true)
  | 19 => ("PointInTime", "copied", "I", false)
  | 20 => ("PointInTime", "saved", "[I", true)
  | _ => ("PointInTime", "savedPoint", "[I", true)
def tyX0 : Nat → FieldType := fun k => match k with
  | 0 => .array .int
  | 1 => .array .int
  | 2 => .array .int
  | 3 => .array .int
  | 4 => .int
  | 5 => .array .int
  | 6 => .array .int
  | 7 => .array .int
  | 8 => .int
  | 9 => .array .int
  | 10 => .array .int
  | 11 => .array .int
  | 12 => .array .int
  | 13 => .int
  | 14 => .boolean
  | 15 => .array .boolean
  | 16 => .array .int
  | 17 => .array .int
  | 18 => .array .int
  | 19 => .int
  | 20 => .array .int
  | _ => .array .int
abbrev wsX00 : List Cond := u_ws RX0 TX0 22
set_option maxRecDepth 100000 in
theorem nmX0 : ∀ a, a < 22 → ∀ b, b < 22 → a ≠ b → (TX0 a).2.1 ≠ (TX0 b).2.1 := by decide +kernel
set_option maxRecDepth 100000 in
theorem tyX0_ok : ∀ k, k < 22 → parseFieldDescriptor (TX0 k).2.2.1 = some (tyX0 k) := by decide +kernel
abbrev cX0_init : ByteArray := prog_1_method_1_code
def yX0_init : MethodName := ⟨RX0, "<init>", "()V"⟩
abbrev cX0_set : ByteArray := prog_1_method_8_code
def yX0_set : MethodName := ⟨RX0, "set", "(II)I"⟩
abbrev cX0_bad : ByteArray := prog_1_method_2_code
def yX0_bad : MethodName := ⟨RX0, "bad", "(I)Z"⟩
abbrev cX0_change : ByteArray := prog_1_method_7_code
def yX0_change : MethodName := ⟨RX0, "change", "(IIII)I"⟩
abbrev cX0_apply : ByteArray := prog_1_method_6_code
def yX0_apply : MethodName := ⟨RX0, "apply", "(III)V"⟩
abbrev cX0_exchange : ByteArray := prog_1_method_9_code
def yX0_exchange : MethodName := ⟨RX0, "exchange", "(II)I"⟩
abbrev cX0_add : ByteArray := prog_1_method_10_code
def yX0_add : MethodName := ⟨RX0, "add", "(II)I"⟩
abbrev cX0_get : ByteArray := prog_1_method_11_code
def yX0_get : MethodName := ⟨RX0, "get", "(I)I"⟩
abbrev cX0_timeline : ByteArray := prog_1_method_12_code
def yX0_timeline : MethodName := ⟨RX0, "timeline", "()I"⟩
abbrev cX0_point : ByteArray := prog_1_method_13_code
def yX0_point : MethodName := ⟨RX0, "point", "()I"⟩
abbrev cX0_restore : ByteArray := prog_1_method_17_code
def yX0_restore : MethodName := ⟨RX0, "restore", "(II)I"⟩
abbrev cX0_noPoint : ByteArray := prog_1_method_3_code
def yX0_noPoint : MethodName := ⟨RX0, "noPoint", "(II)Z"⟩
abbrev cX0_usable : ByteArray := prog_1_method_16_code
def yX0_usable : MethodName := ⟨RX0, "usable", "(II)I"⟩
abbrev cX0_onTheWay : ByteArray := prog_1_method_15_code
def yX0_onTheWay : MethodName := ⟨RX0, "onTheWay", "(IIII)Z"⟩
abbrev cX0_redo : ByteArray := prog_1_method_14_code
def yX0_redo : MethodName := ⟨RX0, "redo", "(II)V"⟩
abbrev cX0_entry : ByteArray := prog_1_method_4_code
def yX0_entry : MethodName := ⟨RX0, "entry", "(II)I"⟩
abbrev cX0_valueAt : ByteArray := prog_1_method_18_code
def yX0_valueAt : MethodName := ⟨RX0, "valueAt", "(III)I"⟩
abbrev cX0_valueThen : ByteArray := prog_1_method_5_code
def yX0_valueThen : MethodName := ⟨RX0, "valueThen", "(III)I"⟩
abbrev cX0_lastPoint : ByteArray := prog_1_method_19_code
def yX0_lastPoint : MethodName := ⟨RX0, "lastPoint", "(I)I"⟩
abbrev cX0_lastChange : ByteArray := prog_1_method_20_code
def yX0_lastChange : MethodName := ⟨RX0, "lastChange", "(III)I"⟩
abbrev cX0_differs : ByteArray := prog_1_method_21_code
def yX0_differs : MethodName := ⟨RX0, "differs", "(II)I"⟩
abbrev cX0_crash : ByteArray := prog_1_method_22_code
def yX0_crash : MethodName := ⟨RX0, "crash", "()I"⟩
abbrev cX0_backup : ByteArray := prog_1_method_25_code
def yX0_backup : MethodName := ⟨RX0, "backup", "(I)I"⟩
abbrev cX0_beginBackup : ByteArray := prog_1_method_24_code
def yX0_beginBackup : MethodName := ⟨RX0, "beginBackup", "()V"⟩
abbrev cX0_writeOut : ByteArray := prog_1_method_23_code
def yX0_writeOut : MethodName := ⟨RX0, "writeOut", "(I)I"⟩
abbrev cX0_flush : ByteArray := prog_1_method_26_code
def yX0_flush : MethodName := ⟨RX0, "flush", "(I)I"⟩
abbrev cX0_digest : ByteArray := prog_1_method_27_code
def yX0_digest : MethodName := ⟨RX0, "digest", "()I"⟩
theorem q16 : (Jvm.Cond.initialized "PointInTime") ∈ lw_all := lw_g (lw_at lw_m1 1 rfl) rfl
theorem q19 : (Jvm.Cond.instantiable "PointInTime" (22 : Nat)) ∈ lw_all := lw_g (lw_at lw_m1 4 rfl) rfl
theorem q21 : (Jvm.Cond.instanceMethod ({ cls := "PointInTime", name := "<init>", desc := "()V" } : Jvm.MethodName)) ∈ lw_all := lw_g (lw_at lw_m1 6 rfl) rfl
theorem q22 : (Jvm.Cond.code ({ cls := "PointInTime", name := "<init>", desc := "()V" } : Jvm.MethodName) prog_1_method_1_code (1 : Nat) (Option.none : Option Jvm.ClassFile.FieldType)) ∈ lw_all := lw_g (lw_at lw_m1 7 rfl) rfl
theorem q23 : (Jvm.Cond.methodLink "PointInTime" (1 : Nat) ({ cls := "java/lang/Object", name := "<init>", desc := "()V" } : Jvm.MethodName)) ∈ lw_all := lw_g (lw_at lw_m1 8 rfl) rfl
theorem q26 : (Jvm.Cond.fieldLink "PointInTime" (7 : Nat) "PointInTime" "keyA" "[I") ∈ lw_all := lw_g (lw_at lw_m1 11 rfl) rfl
theorem q27 : (Jvm.Cond.fieldLink "PointInTime" (13 : Nat) "PointInTime" "valueA" "[I") ∈ lw_all := lw_g (lw_at lw_m1 12 rfl) rfl
theorem q28 : (Jvm.Cond.fieldLink "PointInTime" (16 : Nat) "PointInTime" "keyB" "[I") ∈ lw_all := lw_g (lw_at lw_m1 13 rfl) rfl
theorem q29 : (Jvm.Cond.fieldLink "PointInTime" (19 : Nat) "PointInTime" "valueB" "[I") ∈ lw_all := lw_g (lw_at lw_m1 14 rfl) rfl
theorem q30 : (Jvm.Cond.fieldLink "PointInTime" (62 : Nat) "PointInTime" "timelines" "I") ∈ lw_all := lw_g (lw_at lw_m1 15 rfl) rfl
theorem q31 : (Jvm.Cond.fieldLink "PointInTime" (22 : Nat) "PointInTime" "parent" "[I") ∈ lw_all := lw_g (lw_at lw_m1 16 rfl) rfl
theorem q32 : (Jvm.Cond.fieldLink "PointInTime" (25 : Nat) "PointInTime" "fork" "[I") ∈ lw_all := lw_g (lw_at lw_m1 17 rfl) rfl
theorem q33 : (Jvm.Cond.fieldLink "PointInTime" (28 : Nat) "PointInTime" "end" "[I") ∈ lw_all := lw_g (lw_at lw_m1 18 rfl) rfl
theorem q34 : (Jvm.Cond.fieldLink "PointInTime" (70 : Nat) "PointInTime" "now" "I") ∈ lw_all := lw_g (lw_at lw_m1 19 rfl) rfl
theorem q35 : (Jvm.Cond.fieldLink "PointInTime" (31 : Nat) "PointInTime" "memory" "[I") ∈ lw_all := lw_g (lw_at lw_m1 20 rfl) rfl
theorem q36 : (Jvm.Cond.fieldLink "PointInTime" (34 : Nat) "PointInTime" "memoryPoint" "[I") ∈ lw_all := lw_g (lw_at lw_m1 21 rfl) rfl
theorem q37 : (Jvm.Cond.fieldLink "PointInTime" (37 : Nat) "PointInTime" "disk" "[I") ∈ lw_all := lw_g (lw_at lw_m1 22 rfl) rfl
theorem q38 : (Jvm.Cond.fieldLink "PointInTime" (40 : Nat) "PointInTime" "diskPoint" "[I") ∈ lw_all := lw_g (lw_at lw_m1 23 rfl) rfl
theorem q39 : (Jvm.Cond.fieldLink "PointInTime" (112 : Nat) "PointInTime" "nextBackup" "I") ∈ lw_all := lw_g (lw_at lw_m1 24 rfl) rfl
theorem q40 : (Jvm.Cond.fieldLink "PointInTime" (100 : Nat) "PointInTime" "underWay" "Z") ∈ lw_all := lw_g (lw_at lw_m1 25 rfl) rfl
theorem q41 : (Jvm.Cond.fieldLink "PointInTime" (43 : Nat) "PointInTime" "finished" "[Z") ∈ lw_all := lw_g (lw_at lw_m1 26 rfl) rfl
theorem q42 : (Jvm.Cond.fieldLink "PointInTime" (47 : Nat) "PointInTime" "backupLine" "[I") ∈ lw_all := lw_g (lw_at lw_m1 27 rfl) rfl
theorem q43 : (Jvm.Cond.fieldLink "PointInTime" (50 : Nat) "PointInTime" "backupBegin" "[I") ∈ lw_all := lw_g (lw_at lw_m1 28 rfl) rfl
theorem q44 : (Jvm.Cond.fieldLink "PointInTime" (53 : Nat) "PointInTime" "backupEnd" "[I") ∈ lw_all := lw_g (lw_at lw_m1 29 rfl) rfl
theorem q45 : (Jvm.Cond.fieldLink "PointInTime" (115 : Nat) "PointInTime" "copied" "I") ∈ lw_all := lw_g (lw_at lw_m1 30 rfl) rfl
theorem q46 : (Jvm.Cond.fieldLink "PointInTime" (56 : Nat) "PointInTime" "saved" "[I") ∈ lw_all := lw_g (lw_at lw_m1 31 rfl) rfl
theorem q47 : (Jvm.Cond.fieldLink "PointInTime" (59 : Nat) "PointInTime" "savedPoint" "[I") ∈ lw_all := lw_g (lw_at lw_m1 32 rfl) rfl
theorem q48 : (Jvm.Cond.laysFinal "PointInTime" "PointInTime" "keyA" "[I") ∈ lw_all := lw_g (lw_at lw_m1 33 rfl) rfl
theorem q49 : (Jvm.Cond.soleField "PointInTime" "keyA") ∈ lw_all := lw_g (lw_at lw_m1 34 rfl) rfl
theorem q50 : (Jvm.Cond.laysFinal "PointInTime" "PointInTime" "valueA" "[I") ∈ lw_all := lw_g (lw_at lw_m1 35 rfl) rfl
theorem q51 : (Jvm.Cond.soleField "PointInTime" "valueA") ∈ lw_all := lw_g (lw_at lw_m1 36 rfl) rfl
theorem q52 : (Jvm.Cond.laysFinal "PointInTime" "PointInTime" "keyB" "[I") ∈ lw_all := lw_g (lw_at lw_m1 37 rfl) rfl
theorem q53 : (Jvm.Cond.soleField "PointInTime" "keyB") ∈ lw_all := lw_g (lw_at lw_m1 38 rfl) rfl
theorem q54 : (Jvm.Cond.laysFinal "PointInTime" "PointInTime" "valueB" "[I") ∈ lw_all := lw_g (lw_at lw_m1 39 rfl) rfl
theorem q55 : (Jvm.Cond.soleField "PointInTime" "valueB") ∈ lw_all := lw_g (lw_at lw_m1 40 rfl) rfl
theorem q56 : (Jvm.Cond.lays "PointInTime" "PointInTime" "timelines" "I") ∈ lw_all := lw_g (lw_at lw_m1 41 rfl) rfl
theorem q57 : (Jvm.Cond.soleField "PointInTime" "timelines") ∈ lw_all := lw_g (lw_at lw_m1 42 rfl) rfl
theorem q58 : (Jvm.Cond.laysFinal "PointInTime" "PointInTime" "parent" "[I") ∈ lw_all := lw_g (lw_at lw_m1 43 rfl) rfl
theorem q59 : (Jvm.Cond.soleField "PointInTime" "parent") ∈ lw_all := lw_g (lw_at lw_m1 44 rfl) rfl
theorem q60 : (Jvm.Cond.laysFinal "PointInTime" "PointInTime" "fork" "[I") ∈ lw_all := lw_g (lw_at lw_m1 45 rfl) rfl
theorem q61 : (Jvm.Cond.soleField "PointInTime" "fork") ∈ lw_all := lw_g (lw_at lw_m1 46 rfl) rfl
theorem q62 : (Jvm.Cond.laysFinal "PointInTime" "PointInTime" "end" "[I") ∈ lw_all := lw_g (lw_at lw_m1 47 rfl) rfl
theorem q63 : (Jvm.Cond.soleField "PointInTime" "end") ∈ lw_all := lw_g (lw_at lw_m1 48 rfl) rfl
theorem q64 : (Jvm.Cond.lays "PointInTime" "PointInTime" "now" "I") ∈ lw_all := lw_g (lw_at lw_m1 49 rfl) rfl
theorem q65 : (Jvm.Cond.soleField "PointInTime" "now") ∈ lw_all := lw_g (lw_at lw_m1 50 rfl) rfl
theorem q66 : (Jvm.Cond.laysFinal "PointInTime" "PointInTime" "memory" "[I") ∈ lw_all := lw_g (lw_at lw_m1 51 rfl) rfl
theorem q67 : (Jvm.Cond.soleField "PointInTime" "memory") ∈ lw_all := lw_g (lw_at lw_m1 52 rfl) rfl
theorem q68 : (Jvm.Cond.laysFinal "PointInTime" "PointInTime" "memoryPoint" "[I") ∈ lw_all := lw_g (lw_at lw_m1 53 rfl) rfl
theorem q69 : (Jvm.Cond.soleField "PointInTime" "memoryPoint") ∈ lw_all := lw_g (lw_at lw_m1 54 rfl) rfl
theorem q70 : (Jvm.Cond.laysFinal "PointInTime" "PointInTime" "disk" "[I") ∈ lw_all := lw_g (lw_at lw_m1 55 rfl) rfl
theorem q71 : (Jvm.Cond.soleField "PointInTime" "disk") ∈ lw_all := lw_g (lw_at lw_m1 56 rfl) rfl
theorem q72 : (Jvm.Cond.laysFinal "PointInTime" "PointInTime" "diskPoint" "[I") ∈ lw_all := lw_g (lw_at lw_m1 57 rfl) rfl
theorem q73 : (Jvm.Cond.soleField "PointInTime" "diskPoint") ∈ lw_all := lw_g (lw_at lw_m1 58 rfl) rfl
theorem q74 : (Jvm.Cond.lays "PointInTime" "PointInTime" "nextBackup" "I") ∈ lw_all := lw_g (lw_at lw_m1 59 rfl) rfl
theorem q75 : (Jvm.Cond.soleField "PointInTime" "nextBackup") ∈ lw_all := lw_g (lw_at lw_m1 60 rfl) rfl
theorem q76 : (Jvm.Cond.lays "PointInTime" "PointInTime" "underWay" "Z") ∈ lw_all := lw_g (lw_at lw_m1 61 rfl) rfl
theorem q77 : (Jvm.Cond.soleField "PointInTime" "underWay") ∈ lw_all := lw_g (lw_at lw_m1 62 rfl) rfl
theorem q78 : (Jvm.Cond.laysFinal "PointInTime" "PointInTime" "finished" "[Z") ∈ lw_all := lw_g (lw_at lw_m1 63 rfl) rfl
theorem q79 : (Jvm.Cond.soleField "PointInTime" "finished") ∈ lw_all := lw_g (lw_at lw_m1 64 rfl) rfl
theorem q80 : (Jvm.Cond.laysFinal "PointInTime" "PointInTime" "backupLine" "[I") ∈ lw_all := lw_g (lw_at lw_m1 65 rfl) rfl
theorem q81 : (Jvm.Cond.soleField "PointInTime" "backupLine") ∈ lw_all := lw_g (lw_at lw_m1 66 rfl) rfl
theorem q82 : (Jvm.Cond.laysFinal "PointInTime" "PointInTime" "backupBegin" "[I") ∈ lw_all := lw_g (lw_at lw_m1 67 rfl) rfl
theorem q83 : (Jvm.Cond.soleField "PointInTime" "backupBegin") ∈ lw_all := lw_g (lw_at lw_m1 68 rfl) rfl
theorem q84 : (Jvm.Cond.laysFinal "PointInTime" "PointInTime" "backupEnd" "[I") ∈ lw_all := lw_g (lw_at lw_m1 69 rfl) rfl
theorem q85 : (Jvm.Cond.soleField "PointInTime" "backupEnd") ∈ lw_all := lw_g (lw_at lw_m1 70 rfl) rfl
theorem q86 : (Jvm.Cond.lays "PointInTime" "PointInTime" "copied" "I") ∈ lw_all := lw_g (lw_at lw_m1 71 rfl) rfl
theorem q87 : (Jvm.Cond.soleField "PointInTime" "copied") ∈ lw_all := lw_g (lw_at lw_m1 72 rfl) rfl
theorem q88 : (Jvm.Cond.laysFinal "PointInTime" "PointInTime" "saved" "[I") ∈ lw_all := lw_g (lw_at lw_m1 73 rfl) rfl
theorem q89 : (Jvm.Cond.soleField "PointInTime" "saved") ∈ lw_all := lw_g (lw_at lw_m1 74 rfl) rfl
theorem q90 : (Jvm.Cond.laysFinal "PointInTime" "PointInTime" "savedPoint" "[I") ∈ lw_all := lw_g (lw_at lw_m1 75 rfl) rfl
theorem q91 : (Jvm.Cond.soleField "PointInTime" "savedPoint") ∈ lw_all := lw_g (lw_at lw_m1 76 rfl) rfl
theorem q92 : (Jvm.Cond.superclass "PointInTime" "java/lang/Object") ∈ lw_all := lw_g (lw_at lw_m1 77 rfl) rfl
theorem q96 : (Jvm.Cond.instanceMethod ({ cls := "PointInTime", name := "set", desc := "(II)I" } : Jvm.MethodName)) ∈ lw_all := lw_g (lw_at lw_m1 81 rfl) rfl
theorem q97 : (Jvm.Cond.selects "PointInTime" ({ cls := "PointInTime", name := "set", desc := "(II)I" } : Jvm.MethodName) ({ cls := "PointInTime", name := "set", desc := "(II)I" } : Jvm.MethodName)) ∈ lw_all := lw_g (lw_at lw_m1 82 rfl) rfl
theorem q98 : (Jvm.Cond.code ({ cls := "PointInTime", name := "set", desc := "(II)I" } : Jvm.MethodName) prog_1_method_8_code (3 : Nat) (Option.some Jvm.ClassFile.FieldType.int)) ∈ lw_all := lw_g (lw_at lw_m1 83 rfl) rfl
theorem q99 : (Jvm.Cond.methodLink "PointInTime" (77 : Nat) ({ cls := "PointInTime", name := "bad", desc := "(I)Z" } : Jvm.MethodName)) ∈ lw_all := lw_g (lw_at lw_m1 84 rfl) rfl
theorem q100 : (Jvm.Cond.privateMethod ({ cls := "PointInTime", name := "bad", desc := "(I)Z" } : Jvm.MethodName)) ∈ lw_tbl := lw_at lw_m1 85 rfl
theorem q101 : (Jvm.Cond.instanceMethod ({ cls := "PointInTime", name := "bad", desc := "(I)Z" } : Jvm.MethodName)) ∈ lw_all := lw_g (lw_at lw_m1 86 rfl) rfl
theorem q102 : (Jvm.Cond.code ({ cls := "PointInTime", name := "bad", desc := "(I)Z" } : Jvm.MethodName) prog_1_method_2_code (2 : Nat) (Option.some Jvm.ClassFile.FieldType.boolean)) ∈ lw_all := lw_g (lw_at lw_m1 87 rfl) rfl
theorem q103 : (Jvm.Cond.methodLink "PointInTime" (81 : Nat) ({ cls := "PointInTime", name := "change", desc := "(IIII)I" } : Jvm.MethodName)) ∈ lw_all := lw_g (lw_at lw_m1 88 rfl) rfl
theorem q104 : (Jvm.Cond.privateMethod ({ cls := "PointInTime", name := "change", desc := "(IIII)I" } : Jvm.MethodName)) ∈ lw_tbl := lw_at lw_m1 89 rfl
theorem q105 : (Jvm.Cond.instanceMethod ({ cls := "PointInTime", name := "change", desc := "(IIII)I" } : Jvm.MethodName)) ∈ lw_all := lw_g (lw_at lw_m1 90 rfl) rfl
theorem q106 : (Jvm.Cond.code ({ cls := "PointInTime", name := "change", desc := "(IIII)I" } : Jvm.MethodName) prog_1_method_7_code (7 : Nat) (Option.some Jvm.ClassFile.FieldType.int)) ∈ lw_all := lw_g (lw_at lw_m1 91 rfl) rfl
theorem q107 : (Jvm.Cond.methodLink "PointInTime" (73 : Nat) ({ cls := "PointInTime", name := "apply", desc := "(III)V" } : Jvm.MethodName)) ∈ lw_all := lw_g (lw_at lw_m1 92 rfl) rfl
theorem q108 : (Jvm.Cond.privateMethod ({ cls := "PointInTime", name := "apply", desc := "(III)V" } : Jvm.MethodName)) ∈ lw_tbl := lw_at lw_m1 93 rfl
theorem q109 : (Jvm.Cond.instanceMethod ({ cls := "PointInTime", name := "apply", desc := "(III)V" } : Jvm.MethodName)) ∈ lw_all := lw_g (lw_at lw_m1 94 rfl) rfl
theorem q110 : (Jvm.Cond.code ({ cls := "PointInTime", name := "apply", desc := "(III)V" } : Jvm.MethodName) prog_1_method_6_code (4 : Nat) (Option.none : Option Jvm.ClassFile.FieldType)) ∈ lw_all := lw_g (lw_at lw_m1 95 rfl) rfl
theorem q112 : (Jvm.Cond.instanceMethod ({ cls := "PointInTime", name := "exchange", desc := "(II)I" } : Jvm.MethodName)) ∈ lw_all := lw_g (lw_at lw_m1 97 rfl) rfl
theorem q113 : (Jvm.Cond.selects "PointInTime" ({ cls := "PointInTime", name := "exchange", desc := "(II)I" } : Jvm.MethodName) ({ cls := "PointInTime", name := "exchange", desc := "(II)I" } : Jvm.MethodName)) ∈ lw_all := lw_g (lw_at lw_m1 98 rfl) rfl
theorem q114 : (Jvm.Cond.code ({ cls := "PointInTime", name := "exchange", desc := "(II)I" } : Jvm.MethodName) prog_1_method_9_code (3 : Nat) (Option.some Jvm.ClassFile.FieldType.int)) ∈ lw_all := lw_g (lw_at lw_m1 99 rfl) rfl
theorem q116 : (Jvm.Cond.instanceMethod ({ cls := "PointInTime", name := "add", desc := "(II)I" } : Jvm.MethodName)) ∈ lw_all := lw_g (lw_at lw_m1 101 rfl) rfl
theorem q117 : (Jvm.Cond.selects "PointInTime" ({ cls := "PointInTime", name := "add", desc := "(II)I" } : Jvm.MethodName) ({ cls := "PointInTime", name := "add", desc := "(II)I" } : Jvm.MethodName)) ∈ lw_all := lw_g (lw_at lw_m1 102 rfl) rfl
theorem q118 : (Jvm.Cond.code ({ cls := "PointInTime", name := "add", desc := "(II)I" } : Jvm.MethodName) prog_1_method_10_code (3 : Nat) (Option.some Jvm.ClassFile.FieldType.int)) ∈ lw_all := lw_g (lw_at lw_m1 103 rfl) rfl
theorem q120 : (Jvm.Cond.instanceMethod ({ cls := "PointInTime", name := "get", desc := "(I)I" } : Jvm.MethodName)) ∈ lw_all := lw_g (lw_at lw_m1 105 rfl) rfl
theorem q121 : (Jvm.Cond.selects "PointInTime" ({ cls := "PointInTime", name := "get", desc := "(I)I" } : Jvm.MethodName) ({ cls := "PointInTime", name := "get", desc := "(I)I" } : Jvm.MethodName)) ∈ lw_all := lw_g (lw_at lw_m1 106 rfl) rfl
theorem q122 : (Jvm.Cond.code ({ cls := "PointInTime", name := "get", desc := "(I)I" } : Jvm.MethodName) prog_1_method_11_code (2 : Nat) (Option.some Jvm.ClassFile.FieldType.int)) ∈ lw_all := lw_g (lw_at lw_m1 107 rfl) rfl
theorem q124 : (Jvm.Cond.instanceMethod ({ cls := "PointInTime", name := "timeline", desc := "()I" } : Jvm.MethodName)) ∈ lw_all := lw_g (lw_at lw_m1 109 rfl) rfl
theorem q125 : (Jvm.Cond.selects "PointInTime" ({ cls := "PointInTime", name := "timeline", desc := "()I" } : Jvm.MethodName) ({ cls := "PointInTime", name := "timeline", desc := "()I" } : Jvm.MethodName)) ∈ lw_all := lw_g (lw_at lw_m1 110 rfl) rfl
theorem q126 : (Jvm.Cond.code ({ cls := "PointInTime", name := "timeline", desc := "()I" } : Jvm.MethodName) prog_1_method_12_code (1 : Nat) (Option.some Jvm.ClassFile.FieldType.int)) ∈ lw_all := lw_g (lw_at lw_m1 111 rfl) rfl
theorem q128 : (Jvm.Cond.instanceMethod ({ cls := "PointInTime", name := "point", desc := "()I" } : Jvm.MethodName)) ∈ lw_all := lw_g (lw_at lw_m1 113 rfl) rfl
theorem q129 : (Jvm.Cond.selects "PointInTime" ({ cls := "PointInTime", name := "point", desc := "()I" } : Jvm.MethodName) ({ cls := "PointInTime", name := "point", desc := "()I" } : Jvm.MethodName)) ∈ lw_all := lw_g (lw_at lw_m1 114 rfl) rfl
theorem q130 : (Jvm.Cond.code ({ cls := "PointInTime", name := "point", desc := "()I" } : Jvm.MethodName) prog_1_method_13_code (1 : Nat) (Option.some Jvm.ClassFile.FieldType.int)) ∈ lw_all := lw_g (lw_at lw_m1 115 rfl) rfl
theorem q132 : (Jvm.Cond.instanceMethod ({ cls := "PointInTime", name := "restore", desc := "(II)I" } : Jvm.MethodName)) ∈ lw_all := lw_g (lw_at lw_m1 117 rfl) rfl
theorem q133 : (Jvm.Cond.selects "PointInTime" ({ cls := "PointInTime", name := "restore", desc := "(II)I" } : Jvm.MethodName) ({ cls := "PointInTime", name := "restore", desc := "(II)I" } : Jvm.MethodName)) ∈ lw_all := lw_g (lw_at lw_m1 118 rfl) rfl
theorem q134 : (Jvm.Cond.code ({ cls := "PointInTime", name := "restore", desc := "(II)I" } : Jvm.MethodName) prog_1_method_17_code (5 : Nat) (Option.some Jvm.ClassFile.FieldType.int)) ∈ lw_all := lw_g (lw_at lw_m1 119 rfl) rfl
theorem q135 : (Jvm.Cond.methodLink "PointInTime" (89 : Nat) ({ cls := "PointInTime", name := "noPoint", desc := "(II)Z" } : Jvm.MethodName)) ∈ lw_all := lw_g (lw_at lw_m1 120 rfl) rfl
theorem q136 : (Jvm.Cond.privateMethod ({ cls := "PointInTime", name := "noPoint", desc := "(II)Z" } : Jvm.MethodName)) ∈ lw_tbl := lw_at lw_m1 121 rfl
theorem q137 : (Jvm.Cond.instanceMethod ({ cls := "PointInTime", name := "noPoint", desc := "(II)Z" } : Jvm.MethodName)) ∈ lw_all := lw_g (lw_at lw_m1 122 rfl) rfl
theorem q138 : (Jvm.Cond.code ({ cls := "PointInTime", name := "noPoint", desc := "(II)Z" } : Jvm.MethodName) prog_1_method_3_code (3 : Nat) (Option.some Jvm.ClassFile.FieldType.boolean)) ∈ lw_all := lw_g (lw_at lw_m1 123 rfl) rfl
theorem q139 : (Jvm.Cond.methodLink "PointInTime" (93 : Nat) ({ cls := "PointInTime", name := "usable", desc := "(II)I" } : Jvm.MethodName)) ∈ lw_all := lw_g (lw_at lw_m1 124 rfl) rfl
theorem q140 : (Jvm.Cond.privateMethod ({ cls := "PointInTime", name := "usable", desc := "(II)I" } : Jvm.MethodName)) ∈ lw_tbl := lw_at lw_m1 125 rfl
theorem q141 : (Jvm.Cond.instanceMethod ({ cls := "PointInTime", name := "usable", desc := "(II)I" } : Jvm.MethodName)) ∈ lw_all := lw_g (lw_at lw_m1 126 rfl) rfl
theorem q142 : (Jvm.Cond.code ({ cls := "PointInTime", name := "usable", desc := "(II)I" } : Jvm.MethodName) prog_1_method_16_code (5 : Nat) (Option.some Jvm.ClassFile.FieldType.int)) ∈ lw_all := lw_g (lw_at lw_m1 127 rfl) rfl
theorem q143 : (Jvm.Cond.methodLink "PointInTime" (85 : Nat) ({ cls := "PointInTime", name := "onTheWay", desc := "(IIII)Z" } : Jvm.MethodName)) ∈ lw_all := lw_g (lw_at lw_m1 128 rfl) rfl
theorem q144 : (Jvm.Cond.privateMethod ({ cls := "PointInTime", name := "onTheWay", desc := "(IIII)Z" } : Jvm.MethodName)) ∈ lw_tbl := lw_at lw_m1 129 rfl
theorem q145 : (Jvm.Cond.instanceMethod ({ cls := "PointInTime", name := "onTheWay", desc := "(IIII)Z" } : Jvm.MethodName)) ∈ lw_all := lw_g (lw_at lw_m1 130 rfl) rfl
theorem q146 : (Jvm.Cond.code ({ cls := "PointInTime", name := "onTheWay", desc := "(IIII)Z" } : Jvm.MethodName) prog_1_method_15_code (8 : Nat) (Option.some Jvm.ClassFile.FieldType.boolean)) ∈ lw_all := lw_g (lw_at lw_m1 131 rfl) rfl
theorem q147 : (Jvm.Cond.methodLink "PointInTime" (96 : Nat) ({ cls := "PointInTime", name := "redo", desc := "(II)V" } : Jvm.MethodName)) ∈ lw_all := lw_g (lw_at lw_m1 132 rfl) rfl
theorem q148 : (Jvm.Cond.privateMethod ({ cls := "PointInTime", name := "redo", desc := "(II)V" } : Jvm.MethodName)) ∈ lw_tbl := lw_at lw_m1 133 rfl
theorem q149 : (Jvm.Cond.instanceMethod ({ cls := "PointInTime", name := "redo", desc := "(II)V" } : Jvm.MethodName)) ∈ lw_all := lw_g (lw_at lw_m1 134 rfl) rfl
theorem q150 : (Jvm.Cond.code ({ cls := "PointInTime", name := "redo", desc := "(II)V" } : Jvm.MethodName) prog_1_method_14_code (5 : Nat) (Option.none : Option Jvm.ClassFile.FieldType)) ∈ lw_all := lw_g (lw_at lw_m1 135 rfl) rfl
theorem q151 : (Jvm.Cond.methodLink "PointInTime" (66 : Nat) ({ cls := "PointInTime", name := "entry", desc := "(II)I" } : Jvm.MethodName)) ∈ lw_all := lw_g (lw_at lw_m1 136 rfl) rfl
theorem q152 : (Jvm.Cond.privateMethod ({ cls := "PointInTime", name := "entry", desc := "(II)I" } : Jvm.MethodName)) ∈ lw_tbl := lw_at lw_m1 137 rfl
theorem q153 : (Jvm.Cond.instanceMethod ({ cls := "PointInTime", name := "entry", desc := "(II)I" } : Jvm.MethodName)) ∈ lw_all := lw_g (lw_at lw_m1 138 rfl) rfl
theorem q154 : (Jvm.Cond.code ({ cls := "PointInTime", name := "entry", desc := "(II)I" } : Jvm.MethodName) prog_1_method_4_code (5 : Nat) (Option.some Jvm.ClassFile.FieldType.int)) ∈ lw_all := lw_g (lw_at lw_m1 139 rfl) rfl
theorem q156 : (Jvm.Cond.instanceMethod ({ cls := "PointInTime", name := "valueAt", desc := "(III)I" } : Jvm.MethodName)) ∈ lw_all := lw_g (lw_at lw_m1 141 rfl) rfl
theorem q157 : (Jvm.Cond.selects "PointInTime" ({ cls := "PointInTime", name := "valueAt", desc := "(III)I" } : Jvm.MethodName) ({ cls := "PointInTime", name := "valueAt", desc := "(III)I" } : Jvm.MethodName)) ∈ lw_all := lw_g (lw_at lw_m1 142 rfl) rfl
theorem q158 : (Jvm.Cond.code ({ cls := "PointInTime", name := "valueAt", desc := "(III)I" } : Jvm.MethodName) prog_1_method_18_code (4 : Nat) (Option.some Jvm.ClassFile.FieldType.int)) ∈ lw_all := lw_g (lw_at lw_m1 143 rfl) rfl
theorem q159 : (Jvm.Cond.methodLink "PointInTime" (104 : Nat) ({ cls := "PointInTime", name := "valueThen", desc := "(III)I" } : Jvm.MethodName)) ∈ lw_all := lw_g (lw_at lw_m1 144 rfl) rfl
theorem q160 : (Jvm.Cond.privateMethod ({ cls := "PointInTime", name := "valueThen", desc := "(III)I" } : Jvm.MethodName)) ∈ lw_tbl := lw_at lw_m1 145 rfl
theorem q161 : (Jvm.Cond.instanceMethod ({ cls := "PointInTime", name := "valueThen", desc := "(III)I" } : Jvm.MethodName)) ∈ lw_all := lw_g (lw_at lw_m1 146 rfl) rfl
theorem q162 : (Jvm.Cond.code ({ cls := "PointInTime", name := "valueThen", desc := "(III)I" } : Jvm.MethodName) prog_1_method_5_code (6 : Nat) (Option.some Jvm.ClassFile.FieldType.int)) ∈ lw_all := lw_g (lw_at lw_m1 147 rfl) rfl
theorem q164 : (Jvm.Cond.instanceMethod ({ cls := "PointInTime", name := "lastPoint", desc := "(I)I" } : Jvm.MethodName)) ∈ lw_all := lw_g (lw_at lw_m1 149 rfl) rfl
theorem q165 : (Jvm.Cond.selects "PointInTime" ({ cls := "PointInTime", name := "lastPoint", desc := "(I)I" } : Jvm.MethodName) ({ cls := "PointInTime", name := "lastPoint", desc := "(I)I" } : Jvm.MethodName)) ∈ lw_all := lw_g (lw_at lw_m1 150 rfl) rfl
theorem q166 : (Jvm.Cond.code ({ cls := "PointInTime", name := "lastPoint", desc := "(I)I" } : Jvm.MethodName) prog_1_method_19_code (2 : Nat) (Option.some Jvm.ClassFile.FieldType.int)) ∈ lw_all := lw_g (lw_at lw_m1 151 rfl) rfl
theorem q168 : (Jvm.Cond.instanceMethod ({ cls := "PointInTime", name := "lastChange", desc := "(III)I" } : Jvm.MethodName)) ∈ lw_all := lw_g (lw_at lw_m1 153 rfl) rfl
theorem q169 : (Jvm.Cond.selects "PointInTime" ({ cls := "PointInTime", name := "lastChange", desc := "(III)I" } : Jvm.MethodName) ({ cls := "PointInTime", name := "lastChange", desc := "(III)I" } : Jvm.MethodName)) ∈ lw_all := lw_g (lw_at lw_m1 154 rfl) rfl
theorem q170 : (Jvm.Cond.code ({ cls := "PointInTime", name := "lastChange", desc := "(III)I" } : Jvm.MethodName) prog_1_method_20_code (7 : Nat) (Option.some Jvm.ClassFile.FieldType.int)) ∈ lw_all := lw_g (lw_at lw_m1 155 rfl) rfl
theorem q172 : (Jvm.Cond.instanceMethod ({ cls := "PointInTime", name := "differs", desc := "(II)I" } : Jvm.MethodName)) ∈ lw_all := lw_g (lw_at lw_m1 157 rfl) rfl
theorem q173 : (Jvm.Cond.selects "PointInTime" ({ cls := "PointInTime", name := "differs", desc := "(II)I" } : Jvm.MethodName) ({ cls := "PointInTime", name := "differs", desc := "(II)I" } : Jvm.MethodName)) ∈ lw_all := lw_g (lw_at lw_m1 158 rfl) rfl
theorem q174 : (Jvm.Cond.code ({ cls := "PointInTime", name := "differs", desc := "(II)I" } : Jvm.MethodName) prog_1_method_21_code (6 : Nat) (Option.some Jvm.ClassFile.FieldType.int)) ∈ lw_all := lw_g (lw_at lw_m1 159 rfl) rfl
theorem q176 : (Jvm.Cond.instanceMethod ({ cls := "PointInTime", name := "crash", desc := "()I" } : Jvm.MethodName)) ∈ lw_all := lw_g (lw_at lw_m1 161 rfl) rfl
theorem q177 : (Jvm.Cond.selects "PointInTime" ({ cls := "PointInTime", name := "crash", desc := "()I" } : Jvm.MethodName) ({ cls := "PointInTime", name := "crash", desc := "()I" } : Jvm.MethodName)) ∈ lw_all := lw_g (lw_at lw_m1 162 rfl) rfl
theorem q178 : (Jvm.Cond.code ({ cls := "PointInTime", name := "crash", desc := "()I" } : Jvm.MethodName) prog_1_method_22_code (2 : Nat) (Option.some Jvm.ClassFile.FieldType.int)) ∈ lw_all := lw_g (lw_at lw_m1 163 rfl) rfl
theorem q180 : (Jvm.Cond.instanceMethod ({ cls := "PointInTime", name := "backup", desc := "(I)I" } : Jvm.MethodName)) ∈ lw_all := lw_g (lw_at lw_m1 165 rfl) rfl
theorem q181 : (Jvm.Cond.selects "PointInTime" ({ cls := "PointInTime", name := "backup", desc := "(I)I" } : Jvm.MethodName) ({ cls := "PointInTime", name := "backup", desc := "(I)I" } : Jvm.MethodName)) ∈ lw_all := lw_g (lw_at lw_m1 166 rfl) rfl
theorem q182 : (Jvm.Cond.code ({ cls := "PointInTime", name := "backup", desc := "(I)I" } : Jvm.MethodName) prog_1_method_25_code (3 : Nat) (Option.some Jvm.ClassFile.FieldType.int)) ∈ lw_all := lw_g (lw_at lw_m1 167 rfl) rfl
theorem q183 : (Jvm.Cond.methodLink "PointInTime" (118 : Nat) ({ cls := "PointInTime", name := "beginBackup", desc := "()V" } : Jvm.MethodName)) ∈ lw_all := lw_g (lw_at lw_m1 168 rfl) rfl
theorem q184 : (Jvm.Cond.privateMethod ({ cls := "PointInTime", name := "beginBackup", desc := "()V" } : Jvm.MethodName)) ∈ lw_tbl := lw_at lw_m1 169 rfl
theorem q185 : (Jvm.Cond.instanceMethod ({ cls := "PointInTime", name := "beginBackup", desc := "()V" } : Jvm.MethodName)) ∈ lw_all := lw_g (lw_at lw_m1 170 rfl) rfl
theorem q186 : (Jvm.Cond.code ({ cls := "PointInTime", name := "beginBackup", desc := "()V" } : Jvm.MethodName) prog_1_method_24_code (1 : Nat) (Option.none : Option Jvm.ClassFile.FieldType)) ∈ lw_all := lw_g (lw_at lw_m1 171 rfl) rfl
theorem q187 : (Jvm.Cond.methodLink "PointInTime" (108 : Nat) ({ cls := "PointInTime", name := "writeOut", desc := "(I)I" } : Jvm.MethodName)) ∈ lw_all := lw_g (lw_at lw_m1 172 rfl) rfl
theorem q188 : (Jvm.Cond.privateMethod ({ cls := "PointInTime", name := "writeOut", desc := "(I)I" } : Jvm.MethodName)) ∈ lw_tbl := lw_at lw_m1 173 rfl
theorem q189 : (Jvm.Cond.instanceMethod ({ cls := "PointInTime", name := "writeOut", desc := "(I)I" } : Jvm.MethodName)) ∈ lw_all := lw_g (lw_at lw_m1 174 rfl) rfl
theorem q190 : (Jvm.Cond.code ({ cls := "PointInTime", name := "writeOut", desc := "(I)I" } : Jvm.MethodName) prog_1_method_23_code (4 : Nat) (Option.some Jvm.ClassFile.FieldType.int)) ∈ lw_all := lw_g (lw_at lw_m1 175 rfl) rfl
theorem q192 : (Jvm.Cond.instanceMethod ({ cls := "PointInTime", name := "flush", desc := "(I)I" } : Jvm.MethodName)) ∈ lw_all := lw_g (lw_at lw_m1 177 rfl) rfl
theorem q193 : (Jvm.Cond.selects "PointInTime" ({ cls := "PointInTime", name := "flush", desc := "(I)I" } : Jvm.MethodName) ({ cls := "PointInTime", name := "flush", desc := "(I)I" } : Jvm.MethodName)) ∈ lw_all := lw_g (lw_at lw_m1 178 rfl) rfl
theorem q194 : (Jvm.Cond.code ({ cls := "PointInTime", name := "flush", desc := "(I)I" } : Jvm.MethodName) prog_1_method_26_code (2 : Nat) (Option.some Jvm.ClassFile.FieldType.int)) ∈ lw_all := lw_g (lw_at lw_m1 179 rfl) rfl
theorem q196 : (Jvm.Cond.instanceMethod ({ cls := "PointInTime", name := "digest", desc := "()I" } : Jvm.MethodName)) ∈ lw_all := lw_g (lw_at lw_m1 181 rfl) rfl
theorem q197 : (Jvm.Cond.selects "PointInTime" ({ cls := "PointInTime", name := "digest", desc := "()I" } : Jvm.MethodName) ({ cls := "PointInTime", name := "digest", desc := "()I" } : Jvm.MethodName)) ∈ lw_all := lw_g (lw_at lw_m1 182 rfl) rfl
theorem q198 : (Jvm.Cond.code ({ cls := "PointInTime", name := "digest", desc := "()I" } : Jvm.MethodName) prog_1_method_27_code (3 : Nat) (Option.some Jvm.ClassFile.FieldType.int)) ∈ lw_all := lw_g (lw_at lw_m1 183 rfl) rfl
theorem in_X0 : ∀ w ∈ wsX00, w ∈ lw_all := lw_in wsX00 [48, 50, 52, 54, 56, 58, 60, 62, 64, 66, 68, 70, 72, 74, 76, 78, 80, 82, 84, 86, 88, 90] (by decide +kernel) (by decide +kernel)
/-! PointInTimeModel -/
def RX1 : String := "PointInTimeModel"
def TX1 : u_T := fun k => match k with
  | 0 => ("PointInTimeModel", "values", "[I", true)
  | 1 => ("PointInTimeModel", "lasts", "[I", true)
  | _ => ("PointInTimeModel", "timelines", "I", false)
def tyX1 : Nat → FieldType := fun k => match k with
  | 0 => .array .int
  | 1 => .array .int
  | _ => .int
abbrev wsX10 : List Cond := u_ws RX1 TX1 3
theorem nmX1 : ∀ a, a < 3 → ∀ b, b < 3 → a ≠ b → (TX1 a).2.1 ≠ (TX1 b).2.1 := by decide +kernel
theorem tyX1_ok : ∀ k, k < 3 → parseFieldDescriptor (TX1 k).2.2.1 = some (tyX1 k) := by decide +kernel
abbrev cX1_init : ByteArray := prog_3_method_1_code
def yX1_init : MethodName := ⟨RX1, "<init>", "()V"⟩
abbrev cX1_set : ByteArray := prog_3_method_6_code
def yX1_set : MethodName := ⟨RX1, "set", "(II)I"⟩
abbrev cX1_isKey : ByteArray := prog_3_method_2_code
def yX1_isKey : MethodName := ⟨RX1, "isKey", "(I)Z"⟩
abbrev cX1_point : ByteArray := prog_3_method_11_code
def yX1_point : MethodName := ⟨RX1, "point", "()I"⟩
abbrev cX1_goOn : ByteArray := prog_3_method_5_code
def yX1_goOn : MethodName := ⟨RX1, "goOn", "()V"⟩
abbrev cX1_now : ByteArray := prog_3_method_4_code
def yX1_now : MethodName := ⟨RX1, "now", "()I"⟩
abbrev cX1_exchange : ByteArray := prog_3_method_7_code
def yX1_exchange : MethodName := ⟨RX1, "exchange", "(II)I"⟩
abbrev cX1_add : ByteArray := prog_3_method_8_code
def yX1_add : MethodName := ⟨RX1, "add", "(II)I"⟩
abbrev cX1_get : ByteArray := prog_3_method_9_code
def yX1_get : MethodName := ⟨RX1, "get", "(I)I"⟩
abbrev cX1_timeline : ByteArray := prog_3_method_10_code
def yX1_timeline : MethodName := ⟨RX1, "timeline", "()I"⟩
abbrev cX1_restore : ByteArray := prog_3_method_12_code
def yX1_restore : MethodName := ⟨RX1, "restore", "(II)I"⟩
abbrev cX1_isPoint : ByteArray := prog_3_method_3_code
def yX1_isPoint : MethodName := ⟨RX1, "isPoint", "(II)Z"⟩
abbrev cX1_valueAt : ByteArray := prog_3_method_13_code
def yX1_valueAt : MethodName := ⟨RX1, "valueAt", "(III)I"⟩
abbrev cX1_lastPoint : ByteArray := prog_3_method_14_code
def yX1_lastPoint : MethodName := ⟨RX1, "lastPoint", "(I)I"⟩
abbrev cX1_lastChange : ByteArray := prog_3_method_15_code
def yX1_lastChange : MethodName := ⟨RX1, "lastChange", "(III)I"⟩
abbrev cX1_differs : ByteArray := prog_3_method_16_code
def yX1_differs : MethodName := ⟨RX1, "differs", "(II)I"⟩
abbrev cX1_crash : ByteArray := prog_3_method_17_code
def yX1_crash : MethodName := ⟨RX1, "crash", "()I"⟩
abbrev cX1_backup : ByteArray := prog_3_method_18_code
def yX1_backup : MethodName := ⟨RX1, "backup", "(I)I"⟩
abbrev cX1_flush : ByteArray := prog_3_method_19_code
def yX1_flush : MethodName := ⟨RX1, "flush", "(I)I"⟩
abbrev cX1_digest : ByteArray := prog_3_method_20_code
def yX1_digest : MethodName := ⟨RX1, "digest", "()I"⟩
theorem q17 : (Jvm.Cond.initialized "PointInTimeModel") ∈ lw_all := lw_g (lw_at lw_m1 2 rfl) rfl
theorem q200 : (Jvm.Cond.instantiable "PointInTimeModel" (3 : Nat)) ∈ lw_all := lw_g (lw_at lw_m1 185 rfl) rfl
theorem q202 : (Jvm.Cond.instanceMethod ({ cls := "PointInTimeModel", name := "<init>", desc := "()V" } : Jvm.MethodName)) ∈ lw_all := lw_g (lw_at lw_m1 187 rfl) rfl
theorem q203 : (Jvm.Cond.code ({ cls := "PointInTimeModel", name := "<init>", desc := "()V" } : Jvm.MethodName) prog_3_method_1_code (1 : Nat) (Option.none : Option Jvm.ClassFile.FieldType)) ∈ lw_all := lw_g (lw_at lw_m1 188 rfl) rfl
theorem q204 : (Jvm.Cond.methodLink "PointInTimeModel" (1 : Nat) ({ cls := "java/lang/Object", name := "<init>", desc := "()V" } : Jvm.MethodName)) ∈ lw_all := lw_g (lw_at lw_m1 189 rfl) rfl
theorem q205 : (Jvm.Cond.fieldLink "PointInTimeModel" (7 : Nat) "PointInTimeModel" "values" "[I") ∈ lw_all := lw_g (lw_at lw_m1 190 rfl) rfl
theorem q206 : (Jvm.Cond.fieldLink "PointInTimeModel" (13 : Nat) "PointInTimeModel" "lasts" "[I") ∈ lw_all := lw_g (lw_at lw_m1 191 rfl) rfl
theorem q207 : (Jvm.Cond.fieldLink "PointInTimeModel" (16 : Nat) "PointInTimeModel" "timelines" "I") ∈ lw_all := lw_g (lw_at lw_m1 192 rfl) rfl
theorem q208 : (Jvm.Cond.laysFinal "PointInTimeModel" "PointInTimeModel" "values" "[I") ∈ lw_all := lw_g (lw_at lw_m1 193 rfl) rfl
theorem q209 : (Jvm.Cond.soleField "PointInTimeModel" "values") ∈ lw_all := lw_g (lw_at lw_m1 194 rfl) rfl
theorem q210 : (Jvm.Cond.laysFinal "PointInTimeModel" "PointInTimeModel" "lasts" "[I") ∈ lw_all := lw_g (lw_at lw_m1 195 rfl) rfl
theorem q211 : (Jvm.Cond.soleField "PointInTimeModel" "lasts") ∈ lw_all := lw_g (lw_at lw_m1 196 rfl) rfl
theorem q212 : (Jvm.Cond.lays "PointInTimeModel" "PointInTimeModel" "timelines" "I") ∈ lw_all := lw_g (lw_at lw_m1 197 rfl) rfl
theorem q213 : (Jvm.Cond.soleField "PointInTimeModel" "timelines") ∈ lw_all := lw_g (lw_at lw_m1 198 rfl) rfl
theorem q214 : (Jvm.Cond.superclass "PointInTimeModel" "java/lang/Object") ∈ lw_all := lw_g (lw_at lw_m1 199 rfl) rfl
theorem q216 : (Jvm.Cond.instanceMethod ({ cls := "PointInTimeModel", name := "set", desc := "(II)I" } : Jvm.MethodName)) ∈ lw_all := lw_g (lw_at lw_m1 201 rfl) rfl
theorem q217 : (Jvm.Cond.selects "PointInTimeModel" ({ cls := "PointInTimeModel", name := "set", desc := "(II)I" } : Jvm.MethodName) ({ cls := "PointInTimeModel", name := "set", desc := "(II)I" } : Jvm.MethodName)) ∈ lw_all := lw_g (lw_at lw_m1 202 rfl) rfl
theorem q218 : (Jvm.Cond.code ({ cls := "PointInTimeModel", name := "set", desc := "(II)I" } : Jvm.MethodName) prog_3_method_6_code (4 : Nat) (Option.some Jvm.ClassFile.FieldType.int)) ∈ lw_all := lw_g (lw_at lw_m1 203 rfl) rfl
theorem q219 : (Jvm.Cond.methodLink "PointInTimeModel" (24 : Nat) ({ cls := "PointInTimeModel", name := "isKey", desc := "(I)Z" } : Jvm.MethodName)) ∈ lw_all := lw_g (lw_at lw_m1 204 rfl) rfl
theorem q220 : (Jvm.Cond.privateMethod ({ cls := "PointInTimeModel", name := "isKey", desc := "(I)Z" } : Jvm.MethodName)) ∈ lw_tbl := lw_at lw_m1 205 rfl
theorem q221 : (Jvm.Cond.instanceMethod ({ cls := "PointInTimeModel", name := "isKey", desc := "(I)Z" } : Jvm.MethodName)) ∈ lw_all := lw_g (lw_at lw_m1 206 rfl) rfl
theorem q222 : (Jvm.Cond.code ({ cls := "PointInTimeModel", name := "isKey", desc := "(I)Z" } : Jvm.MethodName) prog_3_method_2_code (2 : Nat) (Option.some Jvm.ClassFile.FieldType.boolean)) ∈ lw_all := lw_g (lw_at lw_m1 207 rfl) rfl
theorem q223 : (Jvm.Cond.methodLink "PointInTimeModel" (28 : Nat) ({ cls := "PointInTimeModel", name := "point", desc := "()I" } : Jvm.MethodName)) ∈ lw_all := lw_g (lw_at lw_m1 208 rfl) rfl
theorem q224 : (Jvm.Cond.instanceMethod ({ cls := "PointInTimeModel", name := "point", desc := "()I" } : Jvm.MethodName)) ∈ lw_all := lw_g (lw_at lw_m1 209 rfl) rfl
theorem q225 : (Jvm.Cond.selects "PointInTimeModel" ({ cls := "PointInTimeModel", name := "point", desc := "()I" } : Jvm.MethodName) ({ cls := "PointInTimeModel", name := "point", desc := "()I" } : Jvm.MethodName)) ∈ lw_all := lw_g (lw_at lw_m1 210 rfl) rfl
theorem q226 : (Jvm.Cond.code ({ cls := "PointInTimeModel", name := "point", desc := "()I" } : Jvm.MethodName) prog_3_method_11_code (1 : Nat) (Option.some Jvm.ClassFile.FieldType.int)) ∈ lw_all := lw_g (lw_at lw_m1 211 rfl) rfl
theorem q227 : (Jvm.Cond.methodLink "PointInTimeModel" (31 : Nat) ({ cls := "PointInTimeModel", name := "goOn", desc := "()V" } : Jvm.MethodName)) ∈ lw_all := lw_g (lw_at lw_m1 212 rfl) rfl
theorem q228 : (Jvm.Cond.privateMethod ({ cls := "PointInTimeModel", name := "goOn", desc := "()V" } : Jvm.MethodName)) ∈ lw_tbl := lw_at lw_m1 213 rfl
theorem q229 : (Jvm.Cond.instanceMethod ({ cls := "PointInTimeModel", name := "goOn", desc := "()V" } : Jvm.MethodName)) ∈ lw_all := lw_g (lw_at lw_m1 214 rfl) rfl
theorem q230 : (Jvm.Cond.code ({ cls := "PointInTimeModel", name := "goOn", desc := "()V" } : Jvm.MethodName) prog_3_method_5_code (3 : Nat) (Option.none : Option Jvm.ClassFile.FieldType)) ∈ lw_all := lw_g (lw_at lw_m1 215 rfl) rfl
theorem q231 : (Jvm.Cond.methodLink "PointInTimeModel" (20 : Nat) ({ cls := "PointInTimeModel", name := "now", desc := "()I" } : Jvm.MethodName)) ∈ lw_all := lw_g (lw_at lw_m1 216 rfl) rfl
theorem q232 : (Jvm.Cond.privateMethod ({ cls := "PointInTimeModel", name := "now", desc := "()I" } : Jvm.MethodName)) ∈ lw_tbl := lw_at lw_m1 217 rfl
theorem q233 : (Jvm.Cond.instanceMethod ({ cls := "PointInTimeModel", name := "now", desc := "()I" } : Jvm.MethodName)) ∈ lw_all := lw_g (lw_at lw_m1 218 rfl) rfl
theorem q234 : (Jvm.Cond.code ({ cls := "PointInTimeModel", name := "now", desc := "()I" } : Jvm.MethodName) prog_3_method_4_code (2 : Nat) (Option.some Jvm.ClassFile.FieldType.int)) ∈ lw_all := lw_g (lw_at lw_m1 219 rfl) rfl
theorem q236 : (Jvm.Cond.instanceMethod ({ cls := "PointInTimeModel", name := "exchange", desc := "(II)I" } : Jvm.MethodName)) ∈ lw_all := lw_g (lw_at lw_m1 221 rfl) rfl
theorem q237 : (Jvm.Cond.selects "PointInTimeModel" ({ cls := "PointInTimeModel", name := "exchange", desc := "(II)I" } : Jvm.MethodName) ({ cls := "PointInTimeModel", name := "exchange", desc := "(II)I" } : Jvm.MethodName)) ∈ lw_all := lw_g (lw_at lw_m1 222 rfl) rfl
theorem q238 : (Jvm.Cond.code ({ cls := "PointInTimeModel", name := "exchange", desc := "(II)I" } : Jvm.MethodName) prog_3_method_7_code (5 : Nat) (Option.some Jvm.ClassFile.FieldType.int)) ∈ lw_all := lw_g (lw_at lw_m1 223 rfl) rfl
theorem q240 : (Jvm.Cond.instanceMethod ({ cls := "PointInTimeModel", name := "add", desc := "(II)I" } : Jvm.MethodName)) ∈ lw_all := lw_g (lw_at lw_m1 225 rfl) rfl
theorem q241 : (Jvm.Cond.selects "PointInTimeModel" ({ cls := "PointInTimeModel", name := "add", desc := "(II)I" } : Jvm.MethodName) ({ cls := "PointInTimeModel", name := "add", desc := "(II)I" } : Jvm.MethodName)) ∈ lw_all := lw_g (lw_at lw_m1 226 rfl) rfl
theorem q242 : (Jvm.Cond.code ({ cls := "PointInTimeModel", name := "add", desc := "(II)I" } : Jvm.MethodName) prog_3_method_8_code (4 : Nat) (Option.some Jvm.ClassFile.FieldType.int)) ∈ lw_all := lw_g (lw_at lw_m1 227 rfl) rfl
theorem q243 : (Jvm.Cond.methodLink "PointInTimeModel" (34 : Nat) ({ cls := "PointInTimeModel", name := "get", desc := "(I)I" } : Jvm.MethodName)) ∈ lw_all := lw_g (lw_at lw_m1 228 rfl) rfl
theorem q244 : (Jvm.Cond.instanceMethod ({ cls := "PointInTimeModel", name := "get", desc := "(I)I" } : Jvm.MethodName)) ∈ lw_all := lw_g (lw_at lw_m1 229 rfl) rfl
theorem q245 : (Jvm.Cond.selects "PointInTimeModel" ({ cls := "PointInTimeModel", name := "get", desc := "(I)I" } : Jvm.MethodName) ({ cls := "PointInTimeModel", name := "get", desc := "(I)I" } : Jvm.MethodName)) ∈ lw_all := lw_g (lw_at lw_m1 230 rfl) rfl
theorem q246 : (Jvm.Cond.code ({ cls := "PointInTimeModel", name := "get", desc := "(I)I" } : Jvm.MethodName) prog_3_method_9_code (3 : Nat) (Option.some Jvm.ClassFile.FieldType.int)) ∈ lw_all := lw_g (lw_at lw_m1 231 rfl) rfl
theorem q247 : (Jvm.Cond.methodLink "PointInTimeModel" (38 : Nat) ({ cls := "PointInTimeModel", name := "set", desc := "(II)I" } : Jvm.MethodName)) ∈ lw_all := lw_g (lw_at lw_m1 232 rfl) rfl
theorem q250 : (Jvm.Cond.instanceMethod ({ cls := "PointInTimeModel", name := "timeline", desc := "()I" } : Jvm.MethodName)) ∈ lw_all := lw_g (lw_at lw_m1 235 rfl) rfl
theorem q251 : (Jvm.Cond.selects "PointInTimeModel" ({ cls := "PointInTimeModel", name := "timeline", desc := "()I" } : Jvm.MethodName) ({ cls := "PointInTimeModel", name := "timeline", desc := "()I" } : Jvm.MethodName)) ∈ lw_all := lw_g (lw_at lw_m1 236 rfl) rfl
theorem q252 : (Jvm.Cond.code ({ cls := "PointInTimeModel", name := "timeline", desc := "()I" } : Jvm.MethodName) prog_3_method_10_code (1 : Nat) (Option.some Jvm.ClassFile.FieldType.int)) ∈ lw_all := lw_g (lw_at lw_m1 237 rfl) rfl
theorem q255 : (Jvm.Cond.instanceMethod ({ cls := "PointInTimeModel", name := "restore", desc := "(II)I" } : Jvm.MethodName)) ∈ lw_all := lw_g (lw_at lw_m2 0 rfl) rfl
theorem q256 : (Jvm.Cond.selects "PointInTimeModel" ({ cls := "PointInTimeModel", name := "restore", desc := "(II)I" } : Jvm.MethodName) ({ cls := "PointInTimeModel", name := "restore", desc := "(II)I" } : Jvm.MethodName)) ∈ lw_all := lw_g (lw_at lw_m2 1 rfl) rfl
theorem q257 : (Jvm.Cond.code ({ cls := "PointInTimeModel", name := "restore", desc := "(II)I" } : Jvm.MethodName) prog_3_method_12_code (4 : Nat) (Option.some Jvm.ClassFile.FieldType.int)) ∈ lw_all := lw_g (lw_at lw_m2 2 rfl) rfl
theorem q258 : (Jvm.Cond.methodLink "PointInTimeModel" (42 : Nat) ({ cls := "PointInTimeModel", name := "isPoint", desc := "(II)Z" } : Jvm.MethodName)) ∈ lw_all := lw_g (lw_at lw_m2 3 rfl) rfl
theorem q259 : (Jvm.Cond.privateMethod ({ cls := "PointInTimeModel", name := "isPoint", desc := "(II)Z" } : Jvm.MethodName)) ∈ lw_tbl := lw_at lw_m2 4 rfl
theorem q260 : (Jvm.Cond.instanceMethod ({ cls := "PointInTimeModel", name := "isPoint", desc := "(II)Z" } : Jvm.MethodName)) ∈ lw_all := lw_g (lw_at lw_m2 5 rfl) rfl
theorem q261 : (Jvm.Cond.code ({ cls := "PointInTimeModel", name := "isPoint", desc := "(II)Z" } : Jvm.MethodName) prog_3_method_3_code (3 : Nat) (Option.some Jvm.ClassFile.FieldType.boolean)) ∈ lw_all := lw_g (lw_at lw_m2 6 rfl) rfl
theorem q263 : (Jvm.Cond.instanceMethod ({ cls := "PointInTimeModel", name := "valueAt", desc := "(III)I" } : Jvm.MethodName)) ∈ lw_all := lw_g (lw_at lw_m2 8 rfl) rfl
theorem q264 : (Jvm.Cond.selects "PointInTimeModel" ({ cls := "PointInTimeModel", name := "valueAt", desc := "(III)I" } : Jvm.MethodName) ({ cls := "PointInTimeModel", name := "valueAt", desc := "(III)I" } : Jvm.MethodName)) ∈ lw_all := lw_g (lw_at lw_m2 9 rfl) rfl
theorem q265 : (Jvm.Cond.code ({ cls := "PointInTimeModel", name := "valueAt", desc := "(III)I" } : Jvm.MethodName) prog_3_method_13_code (4 : Nat) (Option.some Jvm.ClassFile.FieldType.int)) ∈ lw_all := lw_g (lw_at lw_m2 10 rfl) rfl
theorem q267 : (Jvm.Cond.instanceMethod ({ cls := "PointInTimeModel", name := "lastPoint", desc := "(I)I" } : Jvm.MethodName)) ∈ lw_all := lw_g (lw_at lw_m2 12 rfl) rfl
theorem q268 : (Jvm.Cond.selects "PointInTimeModel" ({ cls := "PointInTimeModel", name := "lastPoint", desc := "(I)I" } : Jvm.MethodName) ({ cls := "PointInTimeModel", name := "lastPoint", desc := "(I)I" } : Jvm.MethodName)) ∈ lw_all := lw_g (lw_at lw_m2 13 rfl) rfl
theorem q269 : (Jvm.Cond.code ({ cls := "PointInTimeModel", name := "lastPoint", desc := "(I)I" } : Jvm.MethodName) prog_3_method_14_code (2 : Nat) (Option.some Jvm.ClassFile.FieldType.int)) ∈ lw_all := lw_g (lw_at lw_m2 14 rfl) rfl
theorem q271 : (Jvm.Cond.instanceMethod ({ cls := "PointInTimeModel", name := "lastChange", desc := "(III)I" } : Jvm.MethodName)) ∈ lw_all := lw_g (lw_at lw_m2 16 rfl) rfl
theorem q272 : (Jvm.Cond.selects "PointInTimeModel" ({ cls := "PointInTimeModel", name := "lastChange", desc := "(III)I" } : Jvm.MethodName) ({ cls := "PointInTimeModel", name := "lastChange", desc := "(III)I" } : Jvm.MethodName)) ∈ lw_all := lw_g (lw_at lw_m2 17 rfl) rfl
theorem q273 : (Jvm.Cond.code ({ cls := "PointInTimeModel", name := "lastChange", desc := "(III)I" } : Jvm.MethodName) prog_3_method_15_code (5 : Nat) (Option.some Jvm.ClassFile.FieldType.int)) ∈ lw_all := lw_g (lw_at lw_m2 18 rfl) rfl
theorem q275 : (Jvm.Cond.instanceMethod ({ cls := "PointInTimeModel", name := "differs", desc := "(II)I" } : Jvm.MethodName)) ∈ lw_all := lw_g (lw_at lw_m2 20 rfl) rfl
theorem q276 : (Jvm.Cond.selects "PointInTimeModel" ({ cls := "PointInTimeModel", name := "differs", desc := "(II)I" } : Jvm.MethodName) ({ cls := "PointInTimeModel", name := "differs", desc := "(II)I" } : Jvm.MethodName)) ∈ lw_all := lw_g (lw_at lw_m2 21 rfl) rfl
theorem q277 : (Jvm.Cond.code ({ cls := "PointInTimeModel", name := "differs", desc := "(II)I" } : Jvm.MethodName) prog_3_method_16_code (6 : Nat) (Option.some Jvm.ClassFile.FieldType.int)) ∈ lw_all := lw_g (lw_at lw_m2 22 rfl) rfl
theorem q279 : (Jvm.Cond.instanceMethod ({ cls := "PointInTimeModel", name := "crash", desc := "()I" } : Jvm.MethodName)) ∈ lw_all := lw_g (lw_at lw_m2 24 rfl) rfl
theorem q280 : (Jvm.Cond.selects "PointInTimeModel" ({ cls := "PointInTimeModel", name := "crash", desc := "()I" } : Jvm.MethodName) ({ cls := "PointInTimeModel", name := "crash", desc := "()I" } : Jvm.MethodName)) ∈ lw_all := lw_g (lw_at lw_m2 25 rfl) rfl
theorem q281 : (Jvm.Cond.code ({ cls := "PointInTimeModel", name := "crash", desc := "()I" } : Jvm.MethodName) prog_3_method_17_code (1 : Nat) (Option.some Jvm.ClassFile.FieldType.int)) ∈ lw_all := lw_g (lw_at lw_m2 26 rfl) rfl
theorem q283 : (Jvm.Cond.instanceMethod ({ cls := "PointInTimeModel", name := "backup", desc := "(I)I" } : Jvm.MethodName)) ∈ lw_all := lw_g (lw_at lw_m2 28 rfl) rfl
theorem q284 : (Jvm.Cond.selects "PointInTimeModel" ({ cls := "PointInTimeModel", name := "backup", desc := "(I)I" } : Jvm.MethodName) ({ cls := "PointInTimeModel", name := "backup", desc := "(I)I" } : Jvm.MethodName)) ∈ lw_all := lw_g (lw_at lw_m2 29 rfl) rfl
theorem q285 : (Jvm.Cond.code ({ cls := "PointInTimeModel", name := "backup", desc := "(I)I" } : Jvm.MethodName) prog_3_method_18_code (2 : Nat) (Option.some Jvm.ClassFile.FieldType.int)) ∈ lw_all := lw_g (lw_at lw_m2 30 rfl) rfl
theorem q287 : (Jvm.Cond.instanceMethod ({ cls := "PointInTimeModel", name := "flush", desc := "(I)I" } : Jvm.MethodName)) ∈ lw_all := lw_g (lw_at lw_m2 32 rfl) rfl
theorem q288 : (Jvm.Cond.selects "PointInTimeModel" ({ cls := "PointInTimeModel", name := "flush", desc := "(I)I" } : Jvm.MethodName) ({ cls := "PointInTimeModel", name := "flush", desc := "(I)I" } : Jvm.MethodName)) ∈ lw_all := lw_g (lw_at lw_m2 33 rfl) rfl
theorem q289 : (Jvm.Cond.code ({ cls := "PointInTimeModel", name := "flush", desc := "(I)I" } : Jvm.MethodName) prog_3_method_19_code (2 : Nat) (Option.some Jvm.ClassFile.FieldType.int)) ∈ lw_all := lw_g (lw_at lw_m2 34 rfl) rfl
theorem q291 : (Jvm.Cond.instanceMethod ({ cls := "PointInTimeModel", name := "digest", desc := "()I" } : Jvm.MethodName)) ∈ lw_all := lw_g (lw_at lw_m2 36 rfl) rfl
theorem q292 : (Jvm.Cond.selects "PointInTimeModel" ({ cls := "PointInTimeModel", name := "digest", desc := "()I" } : Jvm.MethodName) ({ cls := "PointInTimeModel", name := "digest", desc := "()I" } : Jvm.MethodName)) ∈ lw_all := lw_g (lw_at lw_m2 37 rfl) rfl
theorem q293 : (Jvm.Cond.code ({ cls := "PointInTimeModel", name := "digest", desc := "()I" } : Jvm.MethodName) prog_3_method_20_code (4 : Nat) (Option.some Jvm.ClassFile.FieldType.int)) ∈ lw_all := lw_g (lw_at lw_m2 38 rfl) rfl
theorem in_X1 : ∀ w ∈ wsX10, w ∈ lw_all := lw_in wsX10 [208, 210, 212] (by decide +kernel) (by decide +kernel)
/-! java/lang/Object -/
def RJ0 : String := "java/lang/Object"
abbrev cJ0_init : ByteArray := object_method_1_code
def yJ0_init : MethodName := ⟨RJ0, "<init>", "()V"⟩
theorem q24 : (Jvm.Cond.instanceMethod ({ cls := "java/lang/Object", name := "<init>", desc := "()V" } : Jvm.MethodName)) ∈ lw_all := lw_g (lw_at lw_m1 9 rfl) rfl
theorem q25 : (Jvm.Cond.code ({ cls := "java/lang/Object", name := "<init>", desc := "()V" } : Jvm.MethodName) object_method_1_code (1 : Nat) (Option.none : Option Jvm.ClassFile.FieldType)) ∈ lw_all := lw_g (lw_at lw_m1 10 rfl) rfl
theorem q15 : (Jvm.Cond.initialized "PointInTimeLaw") ∈ lw_all := lw_g (lw_at lw_m1 0 rfl) rfl
theorem q18 : (Jvm.Cond.classLink "PointInTimeLaw" (7 : Nat) "PointInTime") ∈ lw_all := lw_g (lw_at lw_m1 3 rfl) rfl
theorem q20 : (Jvm.Cond.methodLink "PointInTimeLaw" (9 : Nat) ({ cls := "PointInTime", name := "<init>", desc := "()V" } : Jvm.MethodName)) ∈ lw_all := lw_g (lw_at lw_m1 5 rfl) rfl
theorem q95 : (Jvm.Cond.methodLink "PointInTimeLaw" (13 : Nat) ({ cls := "PointInTime", name := "set", desc := "(II)I" } : Jvm.MethodName)) ∈ lw_all := lw_g (lw_at lw_m1 80 rfl) rfl
theorem q111 : (Jvm.Cond.methodLink "PointInTimeLaw" (18 : Nat) ({ cls := "PointInTime", name := "exchange", desc := "(II)I" } : Jvm.MethodName)) ∈ lw_all := lw_g (lw_at lw_m1 96 rfl) rfl
theorem q115 : (Jvm.Cond.methodLink "PointInTimeLaw" (22 : Nat) ({ cls := "PointInTime", name := "add", desc := "(II)I" } : Jvm.MethodName)) ∈ lw_all := lw_g (lw_at lw_m1 100 rfl) rfl
theorem q119 : (Jvm.Cond.methodLink "PointInTimeLaw" (26 : Nat) ({ cls := "PointInTime", name := "get", desc := "(I)I" } : Jvm.MethodName)) ∈ lw_all := lw_g (lw_at lw_m1 104 rfl) rfl
theorem q123 : (Jvm.Cond.methodLink "PointInTimeLaw" (31 : Nat) ({ cls := "PointInTime", name := "timeline", desc := "()I" } : Jvm.MethodName)) ∈ lw_all := lw_g (lw_at lw_m1 108 rfl) rfl
theorem q127 : (Jvm.Cond.methodLink "PointInTimeLaw" (36 : Nat) ({ cls := "PointInTime", name := "point", desc := "()I" } : Jvm.MethodName)) ∈ lw_all := lw_g (lw_at lw_m1 112 rfl) rfl
theorem q131 : (Jvm.Cond.methodLink "PointInTimeLaw" (40 : Nat) ({ cls := "PointInTime", name := "restore", desc := "(II)I" } : Jvm.MethodName)) ∈ lw_all := lw_g (lw_at lw_m1 116 rfl) rfl
theorem q155 : (Jvm.Cond.methodLink "PointInTimeLaw" (44 : Nat) ({ cls := "PointInTime", name := "valueAt", desc := "(III)I" } : Jvm.MethodName)) ∈ lw_all := lw_g (lw_at lw_m1 140 rfl) rfl
theorem q163 : (Jvm.Cond.methodLink "PointInTimeLaw" (49 : Nat) ({ cls := "PointInTime", name := "lastPoint", desc := "(I)I" } : Jvm.MethodName)) ∈ lw_all := lw_g (lw_at lw_m1 148 rfl) rfl
theorem q167 : (Jvm.Cond.methodLink "PointInTimeLaw" (53 : Nat) ({ cls := "PointInTime", name := "lastChange", desc := "(III)I" } : Jvm.MethodName)) ∈ lw_all := lw_g (lw_at lw_m1 152 rfl) rfl
theorem q171 : (Jvm.Cond.methodLink "PointInTimeLaw" (57 : Nat) ({ cls := "PointInTime", name := "differs", desc := "(II)I" } : Jvm.MethodName)) ∈ lw_all := lw_g (lw_at lw_m1 156 rfl) rfl
theorem q175 : (Jvm.Cond.methodLink "PointInTimeLaw" (61 : Nat) ({ cls := "PointInTime", name := "crash", desc := "()I" } : Jvm.MethodName)) ∈ lw_all := lw_g (lw_at lw_m1 160 rfl) rfl
theorem q179 : (Jvm.Cond.methodLink "PointInTimeLaw" (65 : Nat) ({ cls := "PointInTime", name := "backup", desc := "(I)I" } : Jvm.MethodName)) ∈ lw_all := lw_g (lw_at lw_m1 164 rfl) rfl
theorem q191 : (Jvm.Cond.methodLink "PointInTimeLaw" (69 : Nat) ({ cls := "PointInTime", name := "flush", desc := "(I)I" } : Jvm.MethodName)) ∈ lw_all := lw_g (lw_at lw_m1 176 rfl) rfl
theorem q195 : (Jvm.Cond.methodLink "PointInTimeLaw" (73 : Nat) ({ cls := "PointInTime", name := "digest", desc := "()I" } : Jvm.MethodName)) ∈ lw_all := lw_g (lw_at lw_m1 180 rfl) rfl
theorem q199 : (Jvm.Cond.classLink "PointInTimeLaw" (10 : Nat) "PointInTimeModel") ∈ lw_all := lw_g (lw_at lw_m1 184 rfl) rfl
theorem q201 : (Jvm.Cond.methodLink "PointInTimeLaw" (12 : Nat) ({ cls := "PointInTimeModel", name := "<init>", desc := "()V" } : Jvm.MethodName)) ∈ lw_all := lw_g (lw_at lw_m1 186 rfl) rfl
theorem q215 : (Jvm.Cond.methodLink "PointInTimeLaw" (17 : Nat) ({ cls := "PointInTimeModel", name := "set", desc := "(II)I" } : Jvm.MethodName)) ∈ lw_all := lw_g (lw_at lw_m1 200 rfl) rfl
theorem q235 : (Jvm.Cond.methodLink "PointInTimeLaw" (21 : Nat) ({ cls := "PointInTimeModel", name := "exchange", desc := "(II)I" } : Jvm.MethodName)) ∈ lw_all := lw_g (lw_at lw_m1 220 rfl) rfl
theorem q239 : (Jvm.Cond.methodLink "PointInTimeLaw" (25 : Nat) ({ cls := "PointInTimeModel", name := "add", desc := "(II)I" } : Jvm.MethodName)) ∈ lw_all := lw_g (lw_at lw_m1 224 rfl) rfl
theorem q248 : (Jvm.Cond.methodLink "PointInTimeLaw" (30 : Nat) ({ cls := "PointInTimeModel", name := "get", desc := "(I)I" } : Jvm.MethodName)) ∈ lw_all := lw_g (lw_at lw_m1 233 rfl) rfl
theorem q249 : (Jvm.Cond.methodLink "PointInTimeLaw" (35 : Nat) ({ cls := "PointInTimeModel", name := "timeline", desc := "()I" } : Jvm.MethodName)) ∈ lw_all := lw_g (lw_at lw_m1 234 rfl) rfl
theorem q253 : (Jvm.Cond.methodLink "PointInTimeLaw" (39 : Nat) ({ cls := "PointInTimeModel", name := "point", desc := "()I" } : Jvm.MethodName)) ∈ lw_all := lw_g (lw_at lw_m1 238 rfl) rfl
theorem q254 : (Jvm.Cond.methodLink "PointInTimeLaw" (43 : Nat) ({ cls := "PointInTimeModel", name := "restore", desc := "(II)I" } : Jvm.MethodName)) ∈ lw_all := lw_g (lw_at lw_m1 239 rfl) rfl
theorem q262 : (Jvm.Cond.methodLink "PointInTimeLaw" (48 : Nat) ({ cls := "PointInTimeModel", name := "valueAt", desc := "(III)I" } : Jvm.MethodName)) ∈ lw_all := lw_g (lw_at lw_m2 7 rfl) rfl
theorem q266 : (Jvm.Cond.methodLink "PointInTimeLaw" (52 : Nat) ({ cls := "PointInTimeModel", name := "lastPoint", desc := "(I)I" } : Jvm.MethodName)) ∈ lw_all := lw_g (lw_at lw_m2 11 rfl) rfl
theorem q270 : (Jvm.Cond.methodLink "PointInTimeLaw" (56 : Nat) ({ cls := "PointInTimeModel", name := "lastChange", desc := "(III)I" } : Jvm.MethodName)) ∈ lw_all := lw_g (lw_at lw_m2 15 rfl) rfl
theorem q274 : (Jvm.Cond.methodLink "PointInTimeLaw" (60 : Nat) ({ cls := "PointInTimeModel", name := "differs", desc := "(II)I" } : Jvm.MethodName)) ∈ lw_all := lw_g (lw_at lw_m2 19 rfl) rfl
theorem q278 : (Jvm.Cond.methodLink "PointInTimeLaw" (64 : Nat) ({ cls := "PointInTimeModel", name := "crash", desc := "()I" } : Jvm.MethodName)) ∈ lw_all := lw_g (lw_at lw_m2 23 rfl) rfl
theorem q282 : (Jvm.Cond.methodLink "PointInTimeLaw" (68 : Nat) ({ cls := "PointInTimeModel", name := "backup", desc := "(I)I" } : Jvm.MethodName)) ∈ lw_all := lw_g (lw_at lw_m2 27 rfl) rfl
theorem q286 : (Jvm.Cond.methodLink "PointInTimeLaw" (72 : Nat) ({ cls := "PointInTimeModel", name := "flush", desc := "(I)I" } : Jvm.MethodName)) ∈ lw_all := lw_g (lw_at lw_m2 31 rfl) rfl
theorem q290 : (Jvm.Cond.methodLink "PointInTimeLaw" (76 : Nat) ({ cls := "PointInTimeModel", name := "digest", desc := "()I" } : Jvm.MethodName)) ∈ lw_all := lw_g (lw_at lw_m2 35 rfl) rfl
theorem q93 : (Jvm.Cond.arrayClass Jvm.ClassFile.FieldType.int) ∈ lw_all := lw_g (lw_at lw_m1 78 rfl) rfl
theorem q94 : (Jvm.Cond.arrayClass Jvm.ClassFile.FieldType.boolean) ∈ lw_all := lw_g (lw_at lw_m1 79 rfl) rfl
/-! the law's own entry -/
abbrev cL_law : ByteArray := code
end
section
set_option maxRecDepth 100000
theorem dX0_init_0 : decode cX0_init 0 = .ok (.aload_n 0, 1) := by decide +kernel
theorem dX0_init_1 : decode cX0_init 1 = .ok (.invokespecial 1, 3) := by decide +kernel
theorem dX0_init_4 : decode cX0_init 4 = .ok (.aload_n 0, 1) := by decide +kernel
theorem dX0_init_5 : decode cX0_init 5 = .ok (.sipush 186, 3) := by decide +kernel
theorem dX0_init_8 : decode cX0_init 8 = .ok (.newarray .int, 2) := by decide +kernel
theorem dX0_init_10 : decode cX0_init 10 = .ok (.putfield 7, 3) := by decide +kernel
theorem dX0_init_13 : decode cX0_init 13 = .ok (.aload_n 0, 1) := by decide +kernel
theorem dX0_init_14 : decode cX0_init 14 = .ok (.sipush 186, 3) := by decide +kernel
theorem dX0_init_17 : decode cX0_init 17 = .ok (.newarray .int, 2) := by decide +kernel
theorem dX0_init_19 : decode cX0_init 19 = .ok (.putfield 13, 3) := by decide +kernel
theorem dX0_init_22 : decode cX0_init 22 = .ok (.aload_n 0, 1) := by decide +kernel
theorem dX0_init_23 : decode cX0_init 23 = .ok (.sipush 186, 3) := by decide +kernel
theorem dX0_init_26 : decode cX0_init 26 = .ok (.newarray .int, 2) := by decide +kernel
theorem dX0_init_28 : decode cX0_init 28 = .ok (.putfield 16, 3) := by decide +kernel
theorem dX0_init_31 : decode cX0_init 31 = .ok (.aload_n 0, 1) := by decide +kernel
theorem dX0_init_32 : decode cX0_init 32 = .ok (.sipush 186, 3) := by decide +kernel
theorem dX0_init_35 : decode cX0_init 35 = .ok (.newarray .int, 2) := by decide +kernel
theorem dX0_init_37 : decode cX0_init 37 = .ok (.putfield 19, 3) := by decide +kernel
theorem dX0_init_40 : decode cX0_init 40 = .ok (.aload_n 0, 1) := by decide +kernel
theorem dX0_init_41 : decode cX0_init 41 = .ok (.bipush 6, 2) := by decide +kernel
theorem dX0_init_43 : decode cX0_init 43 = .ok (.newarray .int, 2) := by decide +kernel
theorem dX0_init_45 : decode cX0_init 45 = .ok (.putfield 22, 3) := by decide +kernel
theorem dX0_init_48 : decode cX0_init 48 = .ok (.aload_n 0, 1) := by decide +kernel
theorem dX0_init_49 : decode cX0_init 49 = .ok (.bipush 6, 2) := by decide +kernel
theorem dX0_init_51 : decode cX0_init 51 = .ok (.newarray .int, 2) := by decide +kernel
theorem dX0_init_53 : decode cX0_init 53 = .ok (.putfield 25, 3) := by decide +kernel
theorem dX0_init_56 : decode cX0_init 56 = .ok (.aload_n 0, 1) := by decide +kernel
theorem dX0_init_57 : decode cX0_init 57 = .ok (.bipush 6, 2) := by decide +kernel
theorem dX0_init_59 : decode cX0_init 59 = .ok (.newarray .int, 2) := by decide +kernel
theorem dX0_init_61 : decode cX0_init 61 = .ok (.putfield 28, 3) := by decide +kernel
theorem dX0_init_64 : decode cX0_init 64 = .ok (.aload_n 0, 1) := by decide +kernel
theorem dX0_init_65 : decode cX0_init 65 = .ok (.bipush 8, 2) := by decide +kernel
theorem dX0_init_67 : decode cX0_init 67 = .ok (.newarray .int, 2) := by decide +kernel
theorem dX0_init_69 : decode cX0_init 69 = .ok (.putfield 31, 3) := by decide +kernel
theorem dX0_init_72 : decode cX0_init 72 = .ok (.aload_n 0, 1) := by decide +kernel
theorem dX0_init_73 : decode cX0_init 73 = .ok (.bipush 8, 2) := by decide +kernel
theorem dX0_init_75 : decode cX0_init 75 = .ok (.newarray .int, 2) := by decide +kernel
theorem dX0_init_77 : decode cX0_init 77 = .ok (.putfield 34, 3) := by decide +kernel
theorem dX0_init_80 : decode cX0_init 80 = .ok (.aload_n 0, 1) := by decide +kernel
theorem dX0_init_81 : decode cX0_init 81 = .ok (.bipush 8, 2) := by decide +kernel
theorem dX0_init_83 : decode cX0_init 83 = .ok (.newarray .int, 2) := by decide +kernel
theorem dX0_init_85 : decode cX0_init 85 = .ok (.putfield 37, 3) := by decide +kernel
theorem dX0_init_88 : decode cX0_init 88 = .ok (.aload_n 0, 1) := by decide +kernel
theorem dX0_init_89 : decode cX0_init 89 = .ok (.bipush 8, 2) := by decide +kernel
theorem dX0_init_91 : decode cX0_init 91 = .ok (.newarray .int, 2) := by decide +kernel
theorem dX0_init_93 : decode cX0_init 93 = .ok (.putfield 40, 3) := by decide +kernel
theorem dX0_init_96 : decode cX0_init 96 = .ok (.aload_n 0, 1) := by decide +kernel
theorem dX0_init_97 : decode cX0_init 97 = .ok (.iconst 4, 1) := by decide +kernel
theorem dX0_init_98 : decode cX0_init 98 = .ok (.newarray .boolean, 2) := by decide +kernel
theorem dX0_init_100 : decode cX0_init 100 = .ok (.putfield 43, 3) := by decide +kernel
theorem dX0_init_103 : decode cX0_init 103 = .ok (.aload_n 0, 1) := by decide +kernel
theorem dX0_init_104 : decode cX0_init 104 = .ok (.iconst 4, 1) := by decide +kernel
theorem dX0_init_105 : decode cX0_init 105 = .ok (.newarray .int, 2) := by decide +kernel
theorem dX0_init_107 : decode cX0_init 107 = .ok (.putfield 47, 3) := by decide +kernel
theorem dX0_init_110 : decode cX0_init 110 = .ok (.aload_n 0, 1) := by decide +kernel
theorem dX0_init_111 : decode cX0_init 111 = .ok (.iconst 4, 1) := by decide +kernel
theorem dX0_init_112 : decode cX0_init 112 = .ok (.newarray .int, 2) := by decide +kernel
theorem dX0_init_114 : decode cX0_init 114 = .ok (.putfield 50, 3) := by decide +kernel
theorem dX0_init_117 : decode cX0_init 117 = .ok (.aload_n 0, 1) := by decide +kernel
theorem dX0_init_118 : decode cX0_init 118 = .ok (.iconst 4, 1) := by decide +kernel
theorem dX0_init_119 : decode cX0_init 119 = .ok (.newarray .int, 2) := by decide +kernel
theorem dX0_init_121 : decode cX0_init 121 = .ok (.putfield 53, 3) := by decide +kernel
theorem dX0_init_124 : decode cX0_init 124 = .ok (.aload_n 0, 1) := by decide +kernel
theorem dX0_init_125 : decode cX0_init 125 = .ok (.bipush 32, 2) := by decide +kernel
theorem dX0_init_127 : decode cX0_init 127 = .ok (.newarray .int, 2) := by decide +kernel
theorem dX0_init_129 : decode cX0_init 129 = .ok (.putfield 56, 3) := by decide +kernel
theorem dX0_init_132 : decode cX0_init 132 = .ok (.aload_n 0, 1) := by decide +kernel
theorem dX0_init_133 : decode cX0_init 133 = .ok (.bipush 32, 2) := by decide +kernel
theorem dX0_init_135 : decode cX0_init 135 = .ok (.newarray .int, 2) := by decide +kernel
theorem dX0_init_137 : decode cX0_init 137 = .ok (.putfield 59, 3) := by decide +kernel
theorem dX0_init_140 : decode cX0_init 140 = .ok (.aload_n 0, 1) := by decide +kernel
theorem dX0_init_141 : decode cX0_init 141 = .ok (.iconst 1, 1) := by decide +kernel
theorem dX0_init_142 : decode cX0_init 142 = .ok (.putfield 62, 3) := by decide +kernel
theorem dX0_init_145 : decode cX0_init 145 = .ok (.aload_n 0, 1) := by decide +kernel
theorem dX0_init_146 : decode cX0_init 146 = .ok (.getfield 22, 3) := by decide +kernel
theorem dX0_init_149 : decode cX0_init 149 = .ok (.iconst 0, 1) := by decide +kernel
theorem dX0_init_150 : decode cX0_init 150 = .ok (.iconst (-1), 1) := by decide +kernel
theorem dX0_init_151 : decode cX0_init 151 = .ok (.iastore, 1) := by decide +kernel
theorem dX0_init_152 : decode cX0_init 152 = .ok (.return_, 1) := by decide +kernel
theorem dX0_set_0 : decode cX0_set 0 = .ok (.aload_n 0, 1) := by decide +kernel
theorem dX0_set_1 : decode cX0_set 1 = .ok (.iload_n 1, 1) := by decide +kernel
theorem dX0_set_2 : decode cX0_set 2 = .ok (.invokevirtual 77, 3) := by decide +kernel
theorem dX0_set_5 : decode cX0_set 5 = .ok (.ifCond .eq 5, 3) := by decide +kernel
theorem dX0_set_8 : decode cX0_set 8 = .ok (.iconst (-1), 1) := by decide +kernel
theorem dX0_set_9 : decode cX0_set 9 = .ok (.ireturn, 1) := by decide +kernel
theorem dX0_set_10 : decode cX0_set 10 = .ok (.aload_n 0, 1) := by decide +kernel
theorem dX0_set_11 : decode cX0_set 11 = .ok (.iload_n 1, 1) := by decide +kernel
theorem dX0_set_12 : decode cX0_set 12 = .ok (.iload_n 2, 1) := by decide +kernel
theorem dX0_set_13 : decode cX0_set 13 = .ok (.iconst (-1), 1) := by decide +kernel
theorem dX0_set_14 : decode cX0_set 14 = .ok (.iconst 0, 1) := by decide +kernel
theorem dX0_set_15 : decode cX0_set 15 = .ok (.invokevirtual 81, 3) := by decide +kernel
theorem dX0_set_18 : decode cX0_set 18 = .ok (.ireturn, 1) := by decide +kernel
theorem dX0_bad_0 : decode cX0_bad 0 = .ok (.iload_n 1, 1) := by decide +kernel
theorem dX0_bad_1 : decode cX0_bad 1 = .ok (.ifCond .lt 9, 3) := by decide +kernel
theorem dX0_bad_4 : decode cX0_bad 4 = .ok (.iload_n 1, 1) := by decide +kernel
theorem dX0_bad_5 : decode cX0_bad 5 = .ok (.bipush 8, 2) := by decide +kernel
theorem dX0_bad_7 : decode cX0_bad 7 = .ok (.if_icmp .lt 7, 3) := by decide +kernel
theorem dX0_bad_10 : decode cX0_bad 10 = .ok (.iconst 1, 1) := by decide +kernel
theorem dX0_bad_11 : decode cX0_bad 11 = .ok (.goto 4, 3) := by decide +kernel
theorem dX0_bad_14 : decode cX0_bad 14 = .ok (.iconst 0, 1) := by decide +kernel
theorem dX0_bad_15 : decode cX0_bad 15 = .ok (.ireturn, 1) := by decide +kernel
theorem dX0_change_0 : decode cX0_change 0 = .ok (.aload_n 0, 1) := by decide +kernel
theorem dX0_change_1 : decode cX0_change 1 = .ok (.getfield 28, 3) := by decide +kernel
theorem dX0_change_4 : decode cX0_change 4 = .ok (.aload_n 0, 1) := by decide +kernel
theorem dX0_change_5 : decode cX0_change 5 = .ok (.getfield 70, 3) := by decide +kernel
theorem dX0_change_8 : decode cX0_change 8 = .ok (.iaload, 1) := by decide +kernel
theorem dX0_change_9 : decode cX0_change 9 = .ok (.bipush 30, 2) := by decide +kernel
theorem dX0_change_11 : decode cX0_change 11 = .ok (.if_icmp .ne 6, 3) := by decide +kernel
theorem dX0_change_14 : decode cX0_change 14 = .ok (.bipush (-2), 2) := by decide +kernel
theorem dX0_change_16 : decode cX0_change 16 = .ok (.ireturn, 1) := by decide +kernel
theorem dX0_change_17 : decode cX0_change 17 = .ok (.aload_n 0, 1) := by decide +kernel
theorem dX0_change_18 : decode cX0_change 18 = .ok (.getfield 28, 3) := by decide +kernel
theorem dX0_change_21 : decode cX0_change 21 = .ok (.aload_n 0, 1) := by decide +kernel
theorem dX0_change_22 : decode cX0_change 22 = .ok (.getfield 70, 3) := by decide +kernel
theorem dX0_change_25 : decode cX0_change 25 = .ok (.aload_n 0, 1) := by decide +kernel
theorem dX0_change_26 : decode cX0_change 26 = .ok (.getfield 28, 3) := by decide +kernel
theorem dX0_change_29 : decode cX0_change 29 = .ok (.aload_n 0, 1) := by decide +kernel
theorem dX0_change_30 : decode cX0_change 30 = .ok (.getfield 70, 3) := by decide +kernel
theorem dX0_change_33 : decode cX0_change 33 = .ok (.iaload, 1) := by decide +kernel
theorem dX0_change_34 : decode cX0_change 34 = .ok (.iconst 1, 1) := by decide +kernel
theorem dX0_change_35 : decode cX0_change 35 = .ok (.iadd, 1) := by decide +kernel
theorem dX0_change_36 : decode cX0_change 36 = .ok (.iastore, 1) := by decide +kernel
theorem dX0_change_37 : decode cX0_change 37 = .ok (.aload_n 0, 1) := by decide +kernel
theorem dX0_change_38 : decode cX0_change 38 = .ok (.getfield 28, 3) := by decide +kernel
theorem dX0_change_41 : decode cX0_change 41 = .ok (.aload_n 0, 1) := by decide +kernel
theorem dX0_change_42 : decode cX0_change 42 = .ok (.getfield 70, 3) := by decide +kernel
theorem dX0_change_45 : decode cX0_change 45 = .ok (.iaload, 1) := by decide +kernel
theorem dX0_change_46 : decode cX0_change 46 = .ok (.istore 5, 2) := by decide +kernel
theorem dX0_change_48 : decode cX0_change 48 = .ok (.aload_n 0, 1) := by decide +kernel
theorem dX0_change_49 : decode cX0_change 49 = .ok (.getfield 70, 3) := by decide +kernel
theorem dX0_change_52 : decode cX0_change 52 = .ok (.bipush 31, 2) := by decide +kernel
theorem dX0_change_54 : decode cX0_change 54 = .ok (.imul, 1) := by decide +kernel
theorem dX0_change_55 : decode cX0_change 55 = .ok (.iload 5, 2) := by decide +kernel
theorem dX0_change_57 : decode cX0_change 57 = .ok (.iadd, 1) := by decide +kernel
theorem dX0_change_58 : decode cX0_change 58 = .ok (.istore 6, 2) := by decide +kernel
theorem dX0_change_60 : decode cX0_change 60 = .ok (.aload_n 0, 1) := by decide +kernel
theorem dX0_change_61 : decode cX0_change 61 = .ok (.getfield 7, 3) := by decide +kernel
theorem dX0_change_64 : decode cX0_change 64 = .ok (.iload 6, 2) := by decide +kernel
theorem dX0_change_66 : decode cX0_change 66 = .ok (.iload_n 1, 1) := by decide +kernel
theorem dX0_change_67 : decode cX0_change 67 = .ok (.iastore, 1) := by decide +kernel
theorem dX0_change_68 : decode cX0_change 68 = .ok (.aload_n 0, 1) := by decide +kernel
theorem dX0_change_69 : decode cX0_change 69 = .ok (.getfield 13, 3) := by decide +kernel
theorem dX0_change_72 : decode cX0_change 72 = .ok (.iload 6, 2) := by decide +kernel
theorem dX0_change_74 : decode cX0_change 74 = .ok (.iload_n 2, 1) := by decide +kernel
theorem dX0_change_75 : decode cX0_change 75 = .ok (.iastore, 1) := by decide +kernel
theorem dX0_change_76 : decode cX0_change 76 = .ok (.aload_n 0, 1) := by decide +kernel
theorem dX0_change_77 : decode cX0_change 77 = .ok (.getfield 16, 3) := by decide +kernel
theorem dX0_change_80 : decode cX0_change 80 = .ok (.iload 6, 2) := by decide +kernel
theorem dX0_change_82 : decode cX0_change 82 = .ok (.iload_n 3, 1) := by decide +kernel
theorem dX0_change_83 : decode cX0_change 83 = .ok (.iastore, 1) := by decide +kernel
theorem dX0_change_84 : decode cX0_change 84 = .ok (.aload_n 0, 1) := by decide +kernel
theorem dX0_change_85 : decode cX0_change 85 = .ok (.getfield 19, 3) := by decide +kernel
theorem dX0_change_88 : decode cX0_change 88 = .ok (.iload 6, 2) := by decide +kernel
theorem dX0_change_90 : decode cX0_change 90 = .ok (.iload 4, 2) := by decide +kernel
theorem dX0_change_92 : decode cX0_change 92 = .ok (.iastore, 1) := by decide +kernel
theorem dX0_change_93 : decode cX0_change 93 = .ok (.aload_n 0, 1) := by decide +kernel
theorem dX0_change_94 : decode cX0_change 94 = .ok (.iload_n 1, 1) := by decide +kernel
theorem dX0_change_95 : decode cX0_change 95 = .ok (.iload_n 2, 1) := by decide +kernel
theorem dX0_change_96 : decode cX0_change 96 = .ok (.iload 5, 2) := by decide +kernel
theorem dX0_change_98 : decode cX0_change 98 = .ok (.invokevirtual 73, 3) := by decide +kernel
theorem dX0_change_101 : decode cX0_change 101 = .ok (.iload_n 3, 1) := by decide +kernel
theorem dX0_change_102 : decode cX0_change 102 = .ok (.ifCond .lt 12, 3) := by decide +kernel
theorem dX0_change_105 : decode cX0_change 105 = .ok (.aload_n 0, 1) := by decide +kernel
theorem dX0_change_106 : decode cX0_change 106 = .ok (.iload_n 3, 1) := by decide +kernel
theorem dX0_change_107 : decode cX0_change 107 = .ok (.iload 4, 2) := by decide +kernel
theorem dX0_change_109 : decode cX0_change 109 = .ok (.iload 5, 2) := by decide +kernel
theorem dX0_change_111 : decode cX0_change 111 = .ok (.invokevirtual 73, 3) := by decide +kernel
theorem dX0_change_114 : decode cX0_change 114 = .ok (.iload 5, 2) := by decide +kernel
theorem dX0_change_116 : decode cX0_change 116 = .ok (.ireturn, 1) := by decide +kernel
theorem dX0_apply_0 : decode cX0_apply 0 = .ok (.aload_n 0, 1) := by decide +kernel
theorem dX0_apply_1 : decode cX0_apply 1 = .ok (.getfield 31, 3) := by decide +kernel
theorem dX0_apply_4 : decode cX0_apply 4 = .ok (.iload_n 1, 1) := by decide +kernel
theorem dX0_apply_5 : decode cX0_apply 5 = .ok (.iload_n 2, 1) := by decide +kernel
theorem dX0_apply_6 : decode cX0_apply 6 = .ok (.iastore, 1) := by decide +kernel
theorem dX0_apply_7 : decode cX0_apply 7 = .ok (.aload_n 0, 1) := by decide +kernel
theorem dX0_apply_8 : decode cX0_apply 8 = .ok (.getfield 34, 3) := by decide +kernel
theorem dX0_apply_11 : decode cX0_apply 11 = .ok (.iload_n 1, 1) := by decide +kernel
theorem dX0_apply_12 : decode cX0_apply 12 = .ok (.iload_n 3, 1) := by decide +kernel
theorem dX0_apply_13 : decode cX0_apply 13 = .ok (.iastore, 1) := by decide +kernel
theorem dX0_apply_14 : decode cX0_apply 14 = .ok (.return_, 1) := by decide +kernel
theorem dX0_exchange_0 : decode cX0_exchange 0 = .ok (.aload_n 0, 1) := by decide +kernel
theorem dX0_exchange_1 : decode cX0_exchange 1 = .ok (.iload_n 1, 1) := by decide +kernel
theorem dX0_exchange_2 : decode cX0_exchange 2 = .ok (.invokevirtual 77, 3) := by decide +kernel
theorem dX0_exchange_5 : decode cX0_exchange 5 = .ok (.ifCond .ne 11, 3) := by decide +kernel
theorem dX0_exchange_8 : decode cX0_exchange 8 = .ok (.aload_n 0, 1) := by decide +kernel
theorem dX0_exchange_9 : decode cX0_exchange 9 = .ok (.iload_n 2, 1) := by decide +kernel
theorem dX0_exchange_10 : decode cX0_exchange 10 = .ok (.invokevirtual 77, 3) := by decide +kernel
theorem dX0_exchange_13 : decode cX0_exchange 13 = .ok (.ifCond .eq 5, 3) := by decide +kernel
theorem dX0_exchange_16 : decode cX0_exchange 16 = .ok (.iconst (-1), 1) := by decide +kernel
theorem dX0_exchange_17 : decode cX0_exchange 17 = .ok (.ireturn, 1) := by decide +kernel
theorem dX0_exchange_18 : decode cX0_exchange 18 = .ok (.aload_n 0, 1) := by decide +kernel
theorem dX0_exchange_19 : decode cX0_exchange 19 = .ok (.iload_n 1, 1) := by decide +kernel
theorem dX0_exchange_20 : decode cX0_exchange 20 = .ok (.aload_n 0, 1) := by decide +kernel
theorem dX0_exchange_21 : decode cX0_exchange 21 = .ok (.getfield 31, 3) := by decide +kernel
theorem dX0_exchange_24 : decode cX0_exchange 24 = .ok (.iload_n 2, 1) := by decide +kernel
theorem dX0_exchange_25 : decode cX0_exchange 25 = .ok (.iaload, 1) := by decide +kernel
theorem dX0_exchange_26 : decode cX0_exchange 26 = .ok (.iload_n 2, 1) := by decide +kernel
theorem dX0_exchange_27 : decode cX0_exchange 27 = .ok (.aload_n 0, 1) := by decide +kernel
theorem dX0_exchange_28 : decode cX0_exchange 28 = .ok (.getfield 31, 3) := by decide +kernel
theorem dX0_exchange_31 : decode cX0_exchange 31 = .ok (.iload_n 1, 1) := by decide +kernel
theorem dX0_exchange_32 : decode cX0_exchange 32 = .ok (.iaload, 1) := by decide +kernel
theorem dX0_exchange_33 : decode cX0_exchange 33 = .ok (.invokevirtual 81, 3) := by decide +kernel
theorem dX0_exchange_36 : decode cX0_exchange 36 = .ok (.ireturn, 1) := by decide +kernel
theorem dX0_add_0 : decode cX0_add 0 = .ok (.aload_n 0, 1) := by decide +kernel
theorem dX0_add_1 : decode cX0_add 1 = .ok (.iload_n 1, 1) := by decide +kernel
theorem dX0_add_2 : decode cX0_add 2 = .ok (.invokevirtual 77, 3) := by decide +kernel
theorem dX0_add_5 : decode cX0_add 5 = .ok (.ifCond .eq 5, 3) := by decide +kernel
theorem dX0_add_8 : decode cX0_add 8 = .ok (.iconst (-1), 1) := by decide +kernel
theorem dX0_add_9 : decode cX0_add 9 = .ok (.ireturn, 1) := by decide +kernel
theorem dX0_add_10 : decode cX0_add 10 = .ok (.aload_n 0, 1) := by decide +kernel
theorem dX0_add_11 : decode cX0_add 11 = .ok (.iload_n 1, 1) := by decide +kernel
theorem dX0_add_12 : decode cX0_add 12 = .ok (.aload_n 0, 1) := by decide +kernel
theorem dX0_add_13 : decode cX0_add 13 = .ok (.getfield 31, 3) := by decide +kernel
theorem dX0_add_16 : decode cX0_add 16 = .ok (.iload_n 1, 1) := by decide +kernel
theorem dX0_add_17 : decode cX0_add 17 = .ok (.iaload, 1) := by decide +kernel
theorem dX0_add_18 : decode cX0_add 18 = .ok (.iload_n 2, 1) := by decide +kernel
theorem dX0_add_19 : decode cX0_add 19 = .ok (.iadd, 1) := by decide +kernel
theorem dX0_add_20 : decode cX0_add 20 = .ok (.iconst (-1), 1) := by decide +kernel
theorem dX0_add_21 : decode cX0_add 21 = .ok (.iconst 0, 1) := by decide +kernel
theorem dX0_add_22 : decode cX0_add 22 = .ok (.invokevirtual 81, 3) := by decide +kernel
theorem dX0_add_25 : decode cX0_add 25 = .ok (.ireturn, 1) := by decide +kernel
theorem dX0_get_0 : decode cX0_get 0 = .ok (.aload_n 0, 1) := by decide +kernel
theorem dX0_get_1 : decode cX0_get 1 = .ok (.iload_n 1, 1) := by decide +kernel
theorem dX0_get_2 : decode cX0_get 2 = .ok (.invokevirtual 77, 3) := by decide +kernel
theorem dX0_get_5 : decode cX0_get 5 = .ok (.ifCond .eq 7, 3) := by decide +kernel
theorem dX0_get_8 : decode cX0_get 8 = .ok (.iconst 0, 1) := by decide +kernel
theorem dX0_get_9 : decode cX0_get 9 = .ok (.goto 9, 3) := by decide +kernel
theorem dX0_get_12 : decode cX0_get 12 = .ok (.aload_n 0, 1) := by decide +kernel
theorem dX0_get_13 : decode cX0_get 13 = .ok (.getfield 31, 3) := by decide +kernel
theorem dX0_get_16 : decode cX0_get 16 = .ok (.iload_n 1, 1) := by decide +kernel
theorem dX0_get_17 : decode cX0_get 17 = .ok (.iaload, 1) := by decide +kernel
theorem dX0_get_18 : decode cX0_get 18 = .ok (.ireturn, 1) := by decide +kernel
theorem dX0_timeline_0 : decode cX0_timeline 0 = .ok (.aload_n 0, 1) := by decide +kernel
theorem dX0_timeline_1 : decode cX0_timeline 1 = .ok (.getfield 70, 3) := by decide +kernel
theorem dX0_timeline_4 : decode cX0_timeline 4 = .ok (.ireturn, 1) := by decide +kernel
theorem dX0_point_0 : decode cX0_point 0 = .ok (.aload_n 0, 1) := by decide +kernel
theorem dX0_point_1 : decode cX0_point 1 = .ok (.getfield 28, 3) := by decide +kernel
theorem dX0_point_4 : decode cX0_point 4 = .ok (.aload_n 0, 1) := by decide +kernel
theorem dX0_point_5 : decode cX0_point 5 = .ok (.getfield 70, 3) := by decide +kernel
theorem dX0_point_8 : decode cX0_point 8 = .ok (.iaload, 1) := by decide +kernel
theorem dX0_point_9 : decode cX0_point 9 = .ok (.ireturn, 1) := by decide +kernel
theorem dX0_restore_0 : decode cX0_restore 0 = .ok (.aload_n 0, 1) := by decide +kernel
theorem dX0_restore_1 : decode cX0_restore 1 = .ok (.iload_n 1, 1) := by decide +kernel
theorem dX0_restore_2 : decode cX0_restore 2 = .ok (.iload_n 2, 1) := by decide +kernel
theorem dX0_restore_3 : decode cX0_restore 3 = .ok (.invokevirtual 89, 3) := by decide +kernel
theorem dX0_restore_6 : decode cX0_restore 6 = .ok (.ifCond .eq 6, 3) := by decide +kernel
theorem dX0_restore_9 : decode cX0_restore 9 = .ok (.bipush (-4), 2) := by decide +kernel
theorem dX0_restore_11 : decode cX0_restore 11 = .ok (.ireturn, 1) := by decide +kernel
theorem dX0_restore_12 : decode cX0_restore 12 = .ok (.aload_n 0, 1) := by decide +kernel
theorem dX0_restore_13 : decode cX0_restore 13 = .ok (.getfield 62, 3) := by decide +kernel
theorem dX0_restore_16 : decode cX0_restore 16 = .ok (.bipush 6, 2) := by decide +kernel
theorem dX0_restore_18 : decode cX0_restore 18 = .ok (.if_icmp .ne 6, 3) := by decide +kernel
theorem dX0_restore_21 : decode cX0_restore 21 = .ok (.bipush (-2), 2) := by decide +kernel
theorem dX0_restore_23 : decode cX0_restore 23 = .ok (.ireturn, 1) := by decide +kernel
theorem dX0_restore_24 : decode cX0_restore 24 = .ok (.aload_n 0, 1) := by decide +kernel
theorem dX0_restore_25 : decode cX0_restore 25 = .ok (.iload_n 1, 1) := by decide +kernel
theorem dX0_restore_26 : decode cX0_restore 26 = .ok (.iload_n 2, 1) := by decide +kernel
theorem dX0_restore_27 : decode cX0_restore 27 = .ok (.invokevirtual 93, 3) := by decide +kernel
theorem dX0_restore_30 : decode cX0_restore 30 = .ok (.istore_n 3, 1) := by decide +kernel
theorem dX0_restore_31 : decode cX0_restore 31 = .ok (.iconst 0, 1) := by decide +kernel
theorem dX0_restore_32 : decode cX0_restore 32 = .ok (.istore 4, 2) := by decide +kernel
theorem dX0_restore_34 : decode cX0_restore 34 = .ok (.iload 4, 2) := by decide +kernel
theorem dX0_restore_36 : decode cX0_restore 36 = .ok (.bipush 8, 2) := by decide +kernel
theorem dX0_restore_38 : decode cX0_restore 38 = .ok (.if_icmp .ge 63, 3) := by decide +kernel
theorem dX0_restore_41 : decode cX0_restore 41 = .ok (.aload_n 0, 1) := by decide +kernel
theorem dX0_restore_42 : decode cX0_restore 42 = .ok (.getfield 31, 3) := by decide +kernel
theorem dX0_restore_45 : decode cX0_restore 45 = .ok (.iload 4, 2) := by decide +kernel
theorem dX0_restore_47 : decode cX0_restore 47 = .ok (.iload_n 3, 1) := by decide +kernel
theorem dX0_restore_48 : decode cX0_restore 48 = .ok (.ifCond .ge 7, 3) := by decide +kernel
theorem dX0_restore_51 : decode cX0_restore 51 = .ok (.iconst 0, 1) := by decide +kernel
theorem dX0_restore_52 : decode cX0_restore 52 = .ok (.goto 15, 3) := by decide +kernel
theorem dX0_restore_55 : decode cX0_restore 55 = .ok (.aload_n 0, 1) := by decide +kernel
theorem dX0_restore_56 : decode cX0_restore 56 = .ok (.getfield 56, 3) := by decide +kernel
theorem dX0_restore_59 : decode cX0_restore 59 = .ok (.iload_n 3, 1) := by decide +kernel
theorem dX0_restore_60 : decode cX0_restore 60 = .ok (.bipush 8, 2) := by decide +kernel
theorem dX0_restore_62 : decode cX0_restore 62 = .ok (.imul, 1) := by decide +kernel
theorem dX0_restore_63 : decode cX0_restore 63 = .ok (.iload 4, 2) := by decide +kernel
theorem dX0_restore_65 : decode cX0_restore 65 = .ok (.iadd, 1) := by decide +kernel
theorem dX0_restore_66 : decode cX0_restore 66 = .ok (.iaload, 1) := by decide +kernel
theorem dX0_restore_67 : decode cX0_restore 67 = .ok (.iastore, 1) := by decide +kernel
theorem dX0_restore_68 : decode cX0_restore 68 = .ok (.aload_n 0, 1) := by decide +kernel
theorem dX0_restore_69 : decode cX0_restore 69 = .ok (.getfield 34, 3) := by decide +kernel
theorem dX0_restore_72 : decode cX0_restore 72 = .ok (.iload 4, 2) := by decide +kernel
theorem dX0_restore_74 : decode cX0_restore 74 = .ok (.iload_n 3, 1) := by decide +kernel
theorem dX0_restore_75 : decode cX0_restore 75 = .ok (.ifCond .ge 7, 3) := by decide +kernel
theorem dX0_restore_78 : decode cX0_restore 78 = .ok (.iconst 0, 1) := by decide +kernel
theorem dX0_restore_79 : decode cX0_restore 79 = .ok (.goto 15, 3) := by decide +kernel
theorem dX0_restore_82 : decode cX0_restore 82 = .ok (.aload_n 0, 1) := by decide +kernel
theorem dX0_restore_83 : decode cX0_restore 83 = .ok (.getfield 59, 3) := by decide +kernel
theorem dX0_restore_86 : decode cX0_restore 86 = .ok (.iload_n 3, 1) := by decide +kernel
theorem dX0_restore_87 : decode cX0_restore 87 = .ok (.bipush 8, 2) := by decide +kernel
theorem dX0_restore_89 : decode cX0_restore 89 = .ok (.imul, 1) := by decide +kernel
theorem dX0_restore_90 : decode cX0_restore 90 = .ok (.iload 4, 2) := by decide +kernel
theorem dX0_restore_92 : decode cX0_restore 92 = .ok (.iadd, 1) := by decide +kernel
theorem dX0_restore_93 : decode cX0_restore 93 = .ok (.iaload, 1) := by decide +kernel
theorem dX0_restore_94 : decode cX0_restore 94 = .ok (.iastore, 1) := by decide +kernel
theorem dX0_restore_95 : decode cX0_restore 95 = .ok (.iinc 4 1, 3) := by decide +kernel
theorem dX0_restore_98 : decode cX0_restore 98 = .ok (.goto (-64), 3) := by decide +kernel
theorem dX0_restore_101 : decode cX0_restore 101 = .ok (.aload_n 0, 1) := by decide +kernel
theorem dX0_restore_102 : decode cX0_restore 102 = .ok (.iload_n 1, 1) := by decide +kernel
theorem dX0_restore_103 : decode cX0_restore 103 = .ok (.iload_n 2, 1) := by decide +kernel
theorem dX0_restore_104 : decode cX0_restore 104 = .ok (.invokevirtual 96, 3) := by decide +kernel
theorem dX0_restore_107 : decode cX0_restore 107 = .ok (.iconst 0, 1) := by decide +kernel
theorem dX0_restore_108 : decode cX0_restore 108 = .ok (.istore 4, 2) := by decide +kernel
theorem dX0_restore_110 : decode cX0_restore 110 = .ok (.iload 4, 2) := by decide +kernel
theorem dX0_restore_112 : decode cX0_restore 112 = .ok (.bipush 8, 2) := by decide +kernel
theorem dX0_restore_114 : decode cX0_restore 114 = .ok (.if_icmp .ge 37, 3) := by decide +kernel
theorem dX0_restore_117 : decode cX0_restore 117 = .ok (.aload_n 0, 1) := by decide +kernel
theorem dX0_restore_118 : decode cX0_restore 118 = .ok (.getfield 37, 3) := by decide +kernel
theorem dX0_restore_121 : decode cX0_restore 121 = .ok (.iload 4, 2) := by decide +kernel
theorem dX0_restore_123 : decode cX0_restore 123 = .ok (.aload_n 0, 1) := by decide +kernel
theorem dX0_restore_124 : decode cX0_restore 124 = .ok (.getfield 31, 3) := by decide +kernel
theorem dX0_restore_127 : decode cX0_restore 127 = .ok (.iload 4, 2) := by decide +kernel
theorem dX0_restore_129 : decode cX0_restore 129 = .ok (.iaload, 1) := by decide +kernel
theorem dX0_restore_130 : decode cX0_restore 130 = .ok (.iastore, 1) := by decide +kernel
theorem dX0_restore_131 : decode cX0_restore 131 = .ok (.aload_n 0, 1) := by decide +kernel
theorem dX0_restore_132 : decode cX0_restore 132 = .ok (.getfield 40, 3) := by decide +kernel
theorem dX0_restore_135 : decode cX0_restore 135 = .ok (.iload 4, 2) := by decide +kernel
theorem dX0_restore_137 : decode cX0_restore 137 = .ok (.aload_n 0, 1) := by decide +kernel
theorem dX0_restore_138 : decode cX0_restore 138 = .ok (.getfield 34, 3) := by decide +kernel
end
section
set_option maxRecDepth 100000
theorem dX0_restore_141 : decode cX0_restore 141 = .ok (.iload 4, 2) := by decide +kernel
theorem dX0_restore_143 : decode cX0_restore 143 = .ok (.iaload, 1) := by decide +kernel
theorem dX0_restore_144 : decode cX0_restore 144 = .ok (.iastore, 1) := by decide +kernel
theorem dX0_restore_145 : decode cX0_restore 145 = .ok (.iinc 4 1, 3) := by decide +kernel
theorem dX0_restore_148 : decode cX0_restore 148 = .ok (.goto (-38), 3) := by decide +kernel
theorem dX0_restore_151 : decode cX0_restore 151 = .ok (.aload_n 0, 1) := by decide +kernel
theorem dX0_restore_152 : decode cX0_restore 152 = .ok (.iconst 0, 1) := by decide +kernel
theorem dX0_restore_153 : decode cX0_restore 153 = .ok (.putfield 100, 3) := by decide +kernel
theorem dX0_restore_156 : decode cX0_restore 156 = .ok (.aload_n 0, 1) := by decide +kernel
theorem dX0_restore_157 : decode cX0_restore 157 = .ok (.getfield 22, 3) := by decide +kernel
theorem dX0_restore_160 : decode cX0_restore 160 = .ok (.aload_n 0, 1) := by decide +kernel
theorem dX0_restore_161 : decode cX0_restore 161 = .ok (.getfield 62, 3) := by decide +kernel
theorem dX0_restore_164 : decode cX0_restore 164 = .ok (.iload_n 1, 1) := by decide +kernel
theorem dX0_restore_165 : decode cX0_restore 165 = .ok (.iastore, 1) := by decide +kernel
theorem dX0_restore_166 : decode cX0_restore 166 = .ok (.aload_n 0, 1) := by decide +kernel
theorem dX0_restore_167 : decode cX0_restore 167 = .ok (.getfield 25, 3) := by decide +kernel
theorem dX0_restore_170 : decode cX0_restore 170 = .ok (.aload_n 0, 1) := by decide +kernel
theorem dX0_restore_171 : decode cX0_restore 171 = .ok (.getfield 62, 3) := by decide +kernel
theorem dX0_restore_174 : decode cX0_restore 174 = .ok (.iload_n 2, 1) := by decide +kernel
theorem dX0_restore_175 : decode cX0_restore 175 = .ok (.iastore, 1) := by decide +kernel
theorem dX0_restore_176 : decode cX0_restore 176 = .ok (.aload_n 0, 1) := by decide +kernel
theorem dX0_restore_177 : decode cX0_restore 177 = .ok (.getfield 28, 3) := by decide +kernel
theorem dX0_restore_180 : decode cX0_restore 180 = .ok (.aload_n 0, 1) := by decide +kernel
theorem dX0_restore_181 : decode cX0_restore 181 = .ok (.getfield 62, 3) := by decide +kernel
theorem dX0_restore_184 : decode cX0_restore 184 = .ok (.iload_n 2, 1) := by decide +kernel
theorem dX0_restore_185 : decode cX0_restore 185 = .ok (.iastore, 1) := by decide +kernel
theorem dX0_restore_186 : decode cX0_restore 186 = .ok (.aload_n 0, 1) := by decide +kernel
theorem dX0_restore_187 : decode cX0_restore 187 = .ok (.aload_n 0, 1) := by decide +kernel
theorem dX0_restore_188 : decode cX0_restore 188 = .ok (.getfield 62, 3) := by decide +kernel
theorem dX0_restore_191 : decode cX0_restore 191 = .ok (.putfield 70, 3) := by decide +kernel
theorem dX0_restore_194 : decode cX0_restore 194 = .ok (.aload_n 0, 1) := by decide +kernel
theorem dX0_restore_195 : decode cX0_restore 195 = .ok (.dup, 1) := by decide +kernel
theorem dX0_restore_196 : decode cX0_restore 196 = .ok (.getfield 62, 3) := by decide +kernel
theorem dX0_restore_199 : decode cX0_restore 199 = .ok (.iconst 1, 1) := by decide +kernel
theorem dX0_restore_200 : decode cX0_restore 200 = .ok (.iadd, 1) := by decide +kernel
theorem dX0_restore_201 : decode cX0_restore 201 = .ok (.putfield 62, 3) := by decide +kernel
theorem dX0_restore_204 : decode cX0_restore 204 = .ok (.aload_n 0, 1) := by decide +kernel
theorem dX0_restore_205 : decode cX0_restore 205 = .ok (.getfield 70, 3) := by decide +kernel
theorem dX0_restore_208 : decode cX0_restore 208 = .ok (.ireturn, 1) := by decide +kernel
theorem dX0_noPoint_0 : decode cX0_noPoint 0 = .ok (.iload_n 1, 1) := by decide +kernel
theorem dX0_noPoint_1 : decode cX0_noPoint 1 = .ok (.ifCond .lt 25, 3) := by decide +kernel
theorem dX0_noPoint_4 : decode cX0_noPoint 4 = .ok (.iload_n 1, 1) := by decide +kernel
theorem dX0_noPoint_5 : decode cX0_noPoint 5 = .ok (.aload_n 0, 1) := by decide +kernel
theorem dX0_noPoint_6 : decode cX0_noPoint 6 = .ok (.getfield 62, 3) := by decide +kernel
theorem dX0_noPoint_9 : decode cX0_noPoint 9 = .ok (.if_icmp .ge 17, 3) := by decide +kernel
theorem dX0_noPoint_12 : decode cX0_noPoint 12 = .ok (.iload_n 2, 1) := by decide +kernel
theorem dX0_noPoint_13 : decode cX0_noPoint 13 = .ok (.ifCond .lt 13, 3) := by decide +kernel
theorem dX0_noPoint_16 : decode cX0_noPoint 16 = .ok (.iload_n 2, 1) := by decide +kernel
theorem dX0_noPoint_17 : decode cX0_noPoint 17 = .ok (.aload_n 0, 1) := by decide +kernel
theorem dX0_noPoint_18 : decode cX0_noPoint 18 = .ok (.getfield 28, 3) := by decide +kernel
theorem dX0_noPoint_21 : decode cX0_noPoint 21 = .ok (.iload_n 1, 1) := by decide +kernel
theorem dX0_noPoint_22 : decode cX0_noPoint 22 = .ok (.iaload, 1) := by decide +kernel
theorem dX0_noPoint_23 : decode cX0_noPoint 23 = .ok (.if_icmp .le 7, 3) := by decide +kernel
theorem dX0_noPoint_26 : decode cX0_noPoint 26 = .ok (.iconst 1, 1) := by decide +kernel
theorem dX0_noPoint_27 : decode cX0_noPoint 27 = .ok (.goto 4, 3) := by decide +kernel
theorem dX0_noPoint_30 : decode cX0_noPoint 30 = .ok (.iconst 0, 1) := by decide +kernel
theorem dX0_noPoint_31 : decode cX0_noPoint 31 = .ok (.ireturn, 1) := by decide +kernel
theorem dX0_usable_0 : decode cX0_usable 0 = .ok (.iconst (-1), 1) := by decide +kernel
theorem dX0_usable_1 : decode cX0_usable 1 = .ok (.istore_n 3, 1) := by decide +kernel
theorem dX0_usable_2 : decode cX0_usable 2 = .ok (.iconst 0, 1) := by decide +kernel
theorem dX0_usable_3 : decode cX0_usable 3 = .ok (.istore 4, 2) := by decide +kernel
theorem dX0_usable_5 : decode cX0_usable 5 = .ok (.iload 4, 2) := by decide +kernel
theorem dX0_usable_7 : decode cX0_usable 7 = .ok (.iconst 4, 1) := by decide +kernel
theorem dX0_usable_8 : decode cX0_usable 8 = .ok (.if_icmp .ge 65, 3) := by decide +kernel
theorem dX0_usable_11 : decode cX0_usable 11 = .ok (.aload_n 0, 1) := by decide +kernel
theorem dX0_usable_12 : decode cX0_usable 12 = .ok (.getfield 43, 3) := by decide +kernel
theorem dX0_usable_15 : decode cX0_usable 15 = .ok (.iload 4, 2) := by decide +kernel
theorem dX0_usable_17 : decode cX0_usable 17 = .ok (.baload, 1) := by decide +kernel
theorem dX0_usable_18 : decode cX0_usable 18 = .ok (.ifCond .eq 49, 3) := by decide +kernel
theorem dX0_usable_21 : decode cX0_usable 21 = .ok (.aload_n 0, 1) := by decide +kernel
theorem dX0_usable_22 : decode cX0_usable 22 = .ok (.aload_n 0, 1) := by decide +kernel
theorem dX0_usable_23 : decode cX0_usable 23 = .ok (.getfield 47, 3) := by decide +kernel
theorem dX0_usable_26 : decode cX0_usable 26 = .ok (.iload 4, 2) := by decide +kernel
theorem dX0_usable_28 : decode cX0_usable 28 = .ok (.iaload, 1) := by decide +kernel
theorem dX0_usable_29 : decode cX0_usable 29 = .ok (.aload_n 0, 1) := by decide +kernel
theorem dX0_usable_30 : decode cX0_usable 30 = .ok (.getfield 53, 3) := by decide +kernel
theorem dX0_usable_33 : decode cX0_usable 33 = .ok (.iload 4, 2) := by decide +kernel
theorem dX0_usable_35 : decode cX0_usable 35 = .ok (.iaload, 1) := by decide +kernel
theorem dX0_usable_36 : decode cX0_usable 36 = .ok (.iload_n 1, 1) := by decide +kernel
theorem dX0_usable_37 : decode cX0_usable 37 = .ok (.iload_n 2, 1) := by decide +kernel
theorem dX0_usable_38 : decode cX0_usable 38 = .ok (.invokevirtual 85, 3) := by decide +kernel
theorem dX0_usable_41 : decode cX0_usable 41 = .ok (.ifCond .eq 26, 3) := by decide +kernel
theorem dX0_usable_44 : decode cX0_usable 44 = .ok (.iload_n 3, 1) := by decide +kernel
theorem dX0_usable_45 : decode cX0_usable 45 = .ok (.ifCond .lt 19, 3) := by decide +kernel
theorem dX0_usable_48 : decode cX0_usable 48 = .ok (.aload_n 0, 1) := by decide +kernel
theorem dX0_usable_49 : decode cX0_usable 49 = .ok (.getfield 53, 3) := by decide +kernel
theorem dX0_usable_52 : decode cX0_usable 52 = .ok (.iload 4, 2) := by decide +kernel
theorem dX0_usable_54 : decode cX0_usable 54 = .ok (.iaload, 1) := by decide +kernel
theorem dX0_usable_55 : decode cX0_usable 55 = .ok (.aload_n 0, 1) := by decide +kernel
theorem dX0_usable_56 : decode cX0_usable 56 = .ok (.getfield 53, 3) := by decide +kernel
theorem dX0_usable_59 : decode cX0_usable 59 = .ok (.iload_n 3, 1) := by decide +kernel
theorem dX0_usable_60 : decode cX0_usable 60 = .ok (.iaload, 1) := by decide +kernel
theorem dX0_usable_61 : decode cX0_usable 61 = .ok (.if_icmp .le 6, 3) := by decide +kernel
theorem dX0_usable_64 : decode cX0_usable 64 = .ok (.iload 4, 2) := by decide +kernel
theorem dX0_usable_66 : decode cX0_usable 66 = .ok (.istore_n 3, 1) := by decide +kernel
theorem dX0_usable_67 : decode cX0_usable 67 = .ok (.iinc 4 1, 3) := by decide +kernel
theorem dX0_usable_70 : decode cX0_usable 70 = .ok (.goto (-65), 3) := by decide +kernel
theorem dX0_usable_73 : decode cX0_usable 73 = .ok (.iload_n 3, 1) := by decide +kernel
theorem dX0_usable_74 : decode cX0_usable 74 = .ok (.ireturn, 1) := by decide +kernel
theorem dX0_onTheWay_0 : decode cX0_onTheWay 0 = .ok (.iload_n 3, 1) := by decide +kernel
theorem dX0_onTheWay_1 : decode cX0_onTheWay 1 = .ok (.istore 5, 2) := by decide +kernel
theorem dX0_onTheWay_3 : decode cX0_onTheWay 3 = .ok (.iload 4, 2) := by decide +kernel
theorem dX0_onTheWay_5 : decode cX0_onTheWay 5 = .ok (.istore 6, 2) := by decide +kernel
theorem dX0_onTheWay_7 : decode cX0_onTheWay 7 = .ok (.iconst 0, 1) := by decide +kernel
theorem dX0_onTheWay_8 : decode cX0_onTheWay 8 = .ok (.istore 7, 2) := by decide +kernel
theorem dX0_onTheWay_10 : decode cX0_onTheWay 10 = .ok (.iload 7, 2) := by decide +kernel
theorem dX0_onTheWay_12 : decode cX0_onTheWay 12 = .ok (.bipush 6, 2) := by decide +kernel
theorem dX0_onTheWay_14 : decode cX0_onTheWay 14 = .ok (.if_icmp .ge 55, 3) := by decide +kernel
theorem dX0_onTheWay_17 : decode cX0_onTheWay 17 = .ok (.iload 5, 2) := by decide +kernel
theorem dX0_onTheWay_19 : decode cX0_onTheWay 19 = .ok (.iload_n 1, 1) := by decide +kernel
theorem dX0_onTheWay_20 : decode cX0_onTheWay 20 = .ok (.if_icmp .eq 49, 3) := by decide +kernel
theorem dX0_onTheWay_23 : decode cX0_onTheWay 23 = .ok (.iload 5, 2) := by decide +kernel
theorem dX0_onTheWay_25 : decode cX0_onTheWay 25 = .ok (.ifCond .lt 44, 3) := by decide +kernel
theorem dX0_onTheWay_28 : decode cX0_onTheWay 28 = .ok (.aload_n 0, 1) := by decide +kernel
theorem dX0_onTheWay_29 : decode cX0_onTheWay 29 = .ok (.getfield 25, 3) := by decide +kernel
theorem dX0_onTheWay_32 : decode cX0_onTheWay 32 = .ok (.iload 5, 2) := by decide +kernel
theorem dX0_onTheWay_34 : decode cX0_onTheWay 34 = .ok (.iaload, 1) := by decide +kernel
theorem dX0_onTheWay_35 : decode cX0_onTheWay 35 = .ok (.iload 6, 2) := by decide +kernel
theorem dX0_onTheWay_37 : decode cX0_onTheWay 37 = .ok (.if_icmp .ge 13, 3) := by decide +kernel
theorem dX0_onTheWay_40 : decode cX0_onTheWay 40 = .ok (.aload_n 0, 1) := by decide +kernel
theorem dX0_onTheWay_41 : decode cX0_onTheWay 41 = .ok (.getfield 25, 3) := by decide +kernel
theorem dX0_onTheWay_44 : decode cX0_onTheWay 44 = .ok (.iload 5, 2) := by decide +kernel
theorem dX0_onTheWay_46 : decode cX0_onTheWay 46 = .ok (.iaload, 1) := by decide +kernel
theorem dX0_onTheWay_47 : decode cX0_onTheWay 47 = .ok (.goto 5, 3) := by decide +kernel
theorem dX0_onTheWay_50 : decode cX0_onTheWay 50 = .ok (.iload 6, 2) := by decide +kernel
theorem dX0_onTheWay_52 : decode cX0_onTheWay 52 = .ok (.istore 6, 2) := by decide +kernel
theorem dX0_onTheWay_54 : decode cX0_onTheWay 54 = .ok (.aload_n 0, 1) := by decide +kernel
theorem dX0_onTheWay_55 : decode cX0_onTheWay 55 = .ok (.getfield 22, 3) := by decide +kernel
theorem dX0_onTheWay_58 : decode cX0_onTheWay 58 = .ok (.iload 5, 2) := by decide +kernel
theorem dX0_onTheWay_60 : decode cX0_onTheWay 60 = .ok (.iaload, 1) := by decide +kernel
theorem dX0_onTheWay_61 : decode cX0_onTheWay 61 = .ok (.istore 5, 2) := by decide +kernel
theorem dX0_onTheWay_63 : decode cX0_onTheWay 63 = .ok (.iinc 7 1, 3) := by decide +kernel
theorem dX0_onTheWay_66 : decode cX0_onTheWay 66 = .ok (.goto (-56), 3) := by decide +kernel
theorem dX0_onTheWay_69 : decode cX0_onTheWay 69 = .ok (.iload 5, 2) := by decide +kernel
theorem dX0_onTheWay_71 : decode cX0_onTheWay 71 = .ok (.iload_n 1, 1) := by decide +kernel
theorem dX0_onTheWay_72 : decode cX0_onTheWay 72 = .ok (.if_icmp .ne 13, 3) := by decide +kernel
theorem dX0_onTheWay_75 : decode cX0_onTheWay 75 = .ok (.iload_n 2, 1) := by decide +kernel
theorem dX0_onTheWay_76 : decode cX0_onTheWay 76 = .ok (.iload 6, 2) := by decide +kernel
theorem dX0_onTheWay_78 : decode cX0_onTheWay 78 = .ok (.if_icmp .gt 7, 3) := by decide +kernel
theorem dX0_onTheWay_81 : decode cX0_onTheWay 81 = .ok (.iconst 1, 1) := by decide +kernel
theorem dX0_onTheWay_82 : decode cX0_onTheWay 82 = .ok (.goto 4, 3) := by decide +kernel
theorem dX0_onTheWay_85 : decode cX0_onTheWay 85 = .ok (.iconst 0, 1) := by decide +kernel
theorem dX0_onTheWay_86 : decode cX0_onTheWay 86 = .ok (.ireturn, 1) := by decide +kernel
theorem dX0_redo_0 : decode cX0_redo 0 = .ok (.iconst 1, 1) := by decide +kernel
theorem dX0_redo_1 : decode cX0_redo 1 = .ok (.istore_n 3, 1) := by decide +kernel
theorem dX0_redo_2 : decode cX0_redo 2 = .ok (.iload_n 3, 1) := by decide +kernel
theorem dX0_redo_3 : decode cX0_redo 3 = .ok (.iload_n 2, 1) := by decide +kernel
theorem dX0_redo_4 : decode cX0_redo 4 = .ok (.if_icmp .gt 133, 3) := by decide +kernel
theorem dX0_redo_7 : decode cX0_redo 7 = .ok (.aload_n 0, 1) := by decide +kernel
theorem dX0_redo_8 : decode cX0_redo 8 = .ok (.iload_n 1, 1) := by decide +kernel
theorem dX0_redo_9 : decode cX0_redo 9 = .ok (.iload_n 3, 1) := by decide +kernel
theorem dX0_redo_10 : decode cX0_redo 10 = .ok (.invokevirtual 66, 3) := by decide +kernel
theorem dX0_redo_13 : decode cX0_redo 13 = .ok (.istore 4, 2) := by decide +kernel
theorem dX0_redo_15 : decode cX0_redo 15 = .ok (.iload_n 3, 1) := by decide +kernel
theorem dX0_redo_16 : decode cX0_redo 16 = .ok (.aload_n 0, 1) := by decide +kernel
theorem dX0_redo_17 : decode cX0_redo 17 = .ok (.getfield 34, 3) := by decide +kernel
theorem dX0_redo_20 : decode cX0_redo 20 = .ok (.aload_n 0, 1) := by decide +kernel
theorem dX0_redo_21 : decode cX0_redo 21 = .ok (.getfield 7, 3) := by decide +kernel
theorem dX0_redo_24 : decode cX0_redo 24 = .ok (.iload 4, 2) := by decide +kernel
theorem dX0_redo_26 : decode cX0_redo 26 = .ok (.iaload, 1) := by decide +kernel
theorem dX0_redo_27 : decode cX0_redo 27 = .ok (.iaload, 1) := by decide +kernel
theorem dX0_redo_28 : decode cX0_redo 28 = .ok (.if_icmp .le 58, 3) := by decide +kernel
theorem dX0_redo_31 : decode cX0_redo 31 = .ok (.aload_n 0, 1) := by decide +kernel
theorem dX0_redo_32 : decode cX0_redo 32 = .ok (.aload_n 0, 1) := by decide +kernel
theorem dX0_redo_33 : decode cX0_redo 33 = .ok (.getfield 7, 3) := by decide +kernel
theorem dX0_redo_36 : decode cX0_redo 36 = .ok (.iload 4, 2) := by decide +kernel
theorem dX0_redo_38 : decode cX0_redo 38 = .ok (.iaload, 1) := by decide +kernel
theorem dX0_redo_39 : decode cX0_redo 39 = .ok (.aload_n 0, 1) := by decide +kernel
theorem dX0_redo_40 : decode cX0_redo 40 = .ok (.getfield 13, 3) := by decide +kernel
theorem dX0_redo_43 : decode cX0_redo 43 = .ok (.iload 4, 2) := by decide +kernel
theorem dX0_redo_45 : decode cX0_redo 45 = .ok (.iaload, 1) := by decide +kernel
theorem dX0_redo_46 : decode cX0_redo 46 = .ok (.iload_n 3, 1) := by decide +kernel
theorem dX0_redo_47 : decode cX0_redo 47 = .ok (.invokevirtual 73, 3) := by decide +kernel
theorem dX0_redo_50 : decode cX0_redo 50 = .ok (.aload_n 0, 1) := by decide +kernel
theorem dX0_redo_51 : decode cX0_redo 51 = .ok (.getfield 16, 3) := by decide +kernel
theorem dX0_redo_54 : decode cX0_redo 54 = .ok (.iload 4, 2) := by decide +kernel
theorem dX0_redo_56 : decode cX0_redo 56 = .ok (.iaload, 1) := by decide +kernel
theorem dX0_redo_57 : decode cX0_redo 57 = .ok (.aload_n 0, 1) := by decide +kernel
theorem dX0_redo_58 : decode cX0_redo 58 = .ok (.getfield 7, 3) := by decide +kernel
theorem dX0_redo_61 : decode cX0_redo 61 = .ok (.iload 4, 2) := by decide +kernel
theorem dX0_redo_63 : decode cX0_redo 63 = .ok (.iaload, 1) := by decide +kernel
theorem dX0_redo_64 : decode cX0_redo 64 = .ok (.if_icmp .ne 22, 3) := by decide +kernel
theorem dX0_redo_67 : decode cX0_redo 67 = .ok (.aload_n 0, 1) := by decide +kernel
theorem dX0_redo_68 : decode cX0_redo 68 = .ok (.aload_n 0, 1) := by decide +kernel
theorem dX0_redo_69 : decode cX0_redo 69 = .ok (.getfield 16, 3) := by decide +kernel
theorem dX0_redo_72 : decode cX0_redo 72 = .ok (.iload 4, 2) := by decide +kernel
theorem dX0_redo_74 : decode cX0_redo 74 = .ok (.iaload, 1) := by decide +kernel
theorem dX0_redo_75 : decode cX0_redo 75 = .ok (.aload_n 0, 1) := by decide +kernel
theorem dX0_redo_76 : decode cX0_redo 76 = .ok (.getfield 19, 3) := by decide +kernel
theorem dX0_redo_79 : decode cX0_redo 79 = .ok (.iload 4, 2) := by decide +kernel
theorem dX0_redo_81 : decode cX0_redo 81 = .ok (.iaload, 1) := by decide +kernel
theorem dX0_redo_82 : decode cX0_redo 82 = .ok (.iload_n 3, 1) := by decide +kernel
theorem dX0_redo_83 : decode cX0_redo 83 = .ok (.invokevirtual 73, 3) := by decide +kernel
theorem dX0_redo_86 : decode cX0_redo 86 = .ok (.aload_n 0, 1) := by decide +kernel
theorem dX0_redo_87 : decode cX0_redo 87 = .ok (.getfield 16, 3) := by decide +kernel
theorem dX0_redo_90 : decode cX0_redo 90 = .ok (.iload 4, 2) := by decide +kernel
theorem dX0_redo_92 : decode cX0_redo 92 = .ok (.iaload, 1) := by decide +kernel
theorem dX0_redo_93 : decode cX0_redo 93 = .ok (.ifCond .lt 38, 3) := by decide +kernel
theorem dX0_redo_96 : decode cX0_redo 96 = .ok (.iload_n 3, 1) := by decide +kernel
theorem dX0_redo_97 : decode cX0_redo 97 = .ok (.aload_n 0, 1) := by decide +kernel
theorem dX0_redo_98 : decode cX0_redo 98 = .ok (.getfield 34, 3) := by decide +kernel
theorem dX0_redo_101 : decode cX0_redo 101 = .ok (.aload_n 0, 1) := by decide +kernel
theorem dX0_redo_102 : decode cX0_redo 102 = .ok (.getfield 16, 3) := by decide +kernel
theorem dX0_redo_105 : decode cX0_redo 105 = .ok (.iload 4, 2) := by decide +kernel
theorem dX0_redo_107 : decode cX0_redo 107 = .ok (.iaload, 1) := by decide +kernel
theorem dX0_redo_108 : decode cX0_redo 108 = .ok (.iaload, 1) := by decide +kernel
theorem dX0_redo_109 : decode cX0_redo 109 = .ok (.if_icmp .le 22, 3) := by decide +kernel
theorem dX0_redo_112 : decode cX0_redo 112 = .ok (.aload_n 0, 1) := by decide +kernel
theorem dX0_redo_113 : decode cX0_redo 113 = .ok (.aload_n 0, 1) := by decide +kernel
theorem dX0_redo_114 : decode cX0_redo 114 = .ok (.getfield 16, 3) := by decide +kernel
theorem dX0_redo_117 : decode cX0_redo 117 = .ok (.iload 4, 2) := by decide +kernel
theorem dX0_redo_119 : decode cX0_redo 119 = .ok (.iaload, 1) := by decide +kernel
theorem dX0_redo_120 : decode cX0_redo 120 = .ok (.aload_n 0, 1) := by decide +kernel
theorem dX0_redo_121 : decode cX0_redo 121 = .ok (.getfield 19, 3) := by decide +kernel
theorem dX0_redo_124 : decode cX0_redo 124 = .ok (.iload 4, 2) := by decide +kernel
theorem dX0_redo_126 : decode cX0_redo 126 = .ok (.iaload, 1) := by decide +kernel
theorem dX0_redo_127 : decode cX0_redo 127 = .ok (.iload_n 3, 1) := by decide +kernel
theorem dX0_redo_128 : decode cX0_redo 128 = .ok (.invokevirtual 73, 3) := by decide +kernel
theorem dX0_redo_131 : decode cX0_redo 131 = .ok (.iinc 3 1, 3) := by decide +kernel
theorem dX0_redo_134 : decode cX0_redo 134 = .ok (.goto (-132), 3) := by decide +kernel
theorem dX0_redo_137 : decode cX0_redo 137 = .ok (.return_, 1) := by decide +kernel
theorem dX0_entry_0 : decode cX0_entry 0 = .ok (.iload_n 1, 1) := by decide +kernel
theorem dX0_entry_1 : decode cX0_entry 1 = .ok (.istore_n 3, 1) := by decide +kernel
theorem dX0_entry_2 : decode cX0_entry 2 = .ok (.iconst 0, 1) := by decide +kernel
theorem dX0_entry_3 : decode cX0_entry 3 = .ok (.istore 4, 2) := by decide +kernel
theorem dX0_entry_5 : decode cX0_entry 5 = .ok (.iload 4, 2) := by decide +kernel
theorem dX0_entry_7 : decode cX0_entry 7 = .ok (.bipush 6, 2) := by decide +kernel
theorem dX0_entry_9 : decode cX0_entry 9 = .ok (.if_icmp .ge 35, 3) := by decide +kernel
theorem dX0_entry_12 : decode cX0_entry 12 = .ok (.iload_n 2, 1) := by decide +kernel
theorem dX0_entry_13 : decode cX0_entry 13 = .ok (.aload_n 0, 1) := by decide +kernel
theorem dX0_entry_14 : decode cX0_entry 14 = .ok (.getfield 25, 3) := by decide +kernel
theorem dX0_entry_17 : decode cX0_entry 17 = .ok (.iload_n 3, 1) := by decide +kernel
theorem dX0_entry_18 : decode cX0_entry 18 = .ok (.iaload, 1) := by decide +kernel
theorem dX0_entry_19 : decode cX0_entry 19 = .ok (.if_icmp .gt 25, 3) := by decide +kernel
theorem dX0_entry_22 : decode cX0_entry 22 = .ok (.aload_n 0, 1) := by decide +kernel
theorem dX0_entry_23 : decode cX0_entry 23 = .ok (.getfield 22, 3) := by decide +kernel
theorem dX0_entry_26 : decode cX0_entry 26 = .ok (.iload_n 3, 1) := by decide +kernel
theorem dX0_entry_27 : decode cX0_entry 27 = .ok (.iaload, 1) := by decide +kernel
theorem dX0_entry_28 : decode cX0_entry 28 = .ok (.ifCond .lt 16, 3) := by decide +kernel
theorem dX0_entry_31 : decode cX0_entry 31 = .ok (.aload_n 0, 1) := by decide +kernel
theorem dX0_entry_32 : decode cX0_entry 32 = .ok (.getfield 22, 3) := by decide +kernel
theorem dX0_entry_35 : decode cX0_entry 35 = .ok (.iload_n 3, 1) := by decide +kernel
theorem dX0_entry_36 : decode cX0_entry 36 = .ok (.iaload, 1) := by decide +kernel
theorem dX0_entry_37 : decode cX0_entry 37 = .ok (.istore_n 3, 1) := by decide +kernel
theorem dX0_entry_38 : decode cX0_entry 38 = .ok (.iinc 4 1, 3) := by decide +kernel
theorem dX0_entry_41 : decode cX0_entry 41 = .ok (.goto (-36), 3) := by decide +kernel
theorem dX0_entry_44 : decode cX0_entry 44 = .ok (.iload_n 3, 1) := by decide +kernel
theorem dX0_entry_45 : decode cX0_entry 45 = .ok (.bipush 31, 2) := by decide +kernel
theorem dX0_entry_47 : decode cX0_entry 47 = .ok (.imul, 1) := by decide +kernel
theorem dX0_entry_48 : decode cX0_entry 48 = .ok (.iload_n 2, 1) := by decide +kernel
theorem dX0_entry_49 : decode cX0_entry 49 = .ok (.iadd, 1) := by decide +kernel
theorem dX0_entry_50 : decode cX0_entry 50 = .ok (.ireturn, 1) := by decide +kernel
theorem dX0_valueAt_0 : decode cX0_valueAt 0 = .ok (.aload_n 0, 1) := by decide +kernel
theorem dX0_valueAt_1 : decode cX0_valueAt 1 = .ok (.iload_n 1, 1) := by decide +kernel
theorem dX0_valueAt_2 : decode cX0_valueAt 2 = .ok (.iload_n 2, 1) := by decide +kernel
theorem dX0_valueAt_3 : decode cX0_valueAt 3 = .ok (.invokevirtual 89, 3) := by decide +kernel
theorem dX0_valueAt_6 : decode cX0_valueAt 6 = .ok (.ifCond .ne 11, 3) := by decide +kernel
theorem dX0_valueAt_9 : decode cX0_valueAt 9 = .ok (.aload_n 0, 1) := by decide +kernel
theorem dX0_valueAt_10 : decode cX0_valueAt 10 = .ok (.iload_n 3, 1) := by decide +kernel
theorem dX0_valueAt_11 : decode cX0_valueAt 11 = .ok (.invokevirtual 77, 3) := by decide +kernel
theorem dX0_valueAt_14 : decode cX0_valueAt 14 = .ok (.ifCond .eq 5, 3) := by decide +kernel
theorem dX0_valueAt_17 : decode cX0_valueAt 17 = .ok (.iconst 0, 1) := by decide +kernel
theorem dX0_valueAt_18 : decode cX0_valueAt 18 = .ok (.ireturn, 1) := by decide +kernel
theorem dX0_valueAt_19 : decode cX0_valueAt 19 = .ok (.aload_n 0, 1) := by decide +kernel
theorem dX0_valueAt_20 : decode cX0_valueAt 20 = .ok (.iload_n 1, 1) := by decide +kernel
theorem dX0_valueAt_21 : decode cX0_valueAt 21 = .ok (.iload_n 2, 1) := by decide +kernel
theorem dX0_valueAt_22 : decode cX0_valueAt 22 = .ok (.iload_n 3, 1) := by decide +kernel
theorem dX0_valueAt_23 : decode cX0_valueAt 23 = .ok (.invokevirtual 104, 3) := by decide +kernel
theorem dX0_valueAt_26 : decode cX0_valueAt 26 = .ok (.ireturn, 1) := by decide +kernel
theorem dX0_valueThen_0 : decode cX0_valueThen 0 = .ok (.iload_n 2, 1) := by decide +kernel
theorem dX0_valueThen_1 : decode cX0_valueThen 1 = .ok (.istore 4, 2) := by decide +kernel
theorem dX0_valueThen_3 : decode cX0_valueThen 3 = .ok (.iload 4, 2) := by decide +kernel
theorem dX0_valueThen_5 : decode cX0_valueThen 5 = .ok (.ifCond .le 56, 3) := by decide +kernel
theorem dX0_valueThen_8 : decode cX0_valueThen 8 = .ok (.aload_n 0, 1) := by decide +kernel
theorem dX0_valueThen_9 : decode cX0_valueThen 9 = .ok (.iload_n 1, 1) := by decide +kernel
theorem dX0_valueThen_10 : decode cX0_valueThen 10 = .ok (.iload 4, 2) := by decide +kernel
theorem dX0_valueThen_12 : decode cX0_valueThen 12 = .ok (.invokevirtual 66, 3) := by decide +kernel
theorem dX0_valueThen_15 : decode cX0_valueThen 15 = .ok (.istore 5, 2) := by decide +kernel
theorem dX0_valueThen_17 : decode cX0_valueThen 17 = .ok (.aload_n 0, 1) := by decide +kernel
theorem dX0_valueThen_18 : decode cX0_valueThen 18 = .ok (.getfield 16, 3) := by decide +kernel
theorem dX0_valueThen_21 : decode cX0_valueThen 21 = .ok (.iload 5, 2) := by decide +kernel
theorem dX0_valueThen_23 : decode cX0_valueThen 23 = .ok (.iaload, 1) := by decide +kernel
theorem dX0_valueThen_24 : decode cX0_valueThen 24 = .ok (.iload_n 3, 1) := by decide +kernel
theorem dX0_valueThen_25 : decode cX0_valueThen 25 = .ok (.if_icmp .ne 11, 3) := by decide +kernel
theorem dX0_valueThen_28 : decode cX0_valueThen 28 = .ok (.aload_n 0, 1) := by decide +kernel
theorem dX0_valueThen_29 : decode cX0_valueThen 29 = .ok (.getfield 19, 3) := by decide +kernel
theorem dX0_valueThen_32 : decode cX0_valueThen 32 = .ok (.iload 5, 2) := by decide +kernel
theorem dX0_valueThen_34 : decode cX0_valueThen 34 = .ok (.iaload, 1) := by decide +kernel
theorem dX0_valueThen_35 : decode cX0_valueThen 35 = .ok (.ireturn, 1) := by decide +kernel
theorem dX0_valueThen_36 : decode cX0_valueThen 36 = .ok (.aload_n 0, 1) := by decide +kernel
theorem dX0_valueThen_37 : decode cX0_valueThen 37 = .ok (.getfield 7, 3) := by decide +kernel
theorem dX0_valueThen_40 : decode cX0_valueThen 40 = .ok (.iload 5, 2) := by decide +kernel
theorem dX0_valueThen_42 : decode cX0_valueThen 42 = .ok (.iaload, 1) := by decide +kernel
theorem dX0_valueThen_43 : decode cX0_valueThen 43 = .ok (.iload_n 3, 1) := by decide +kernel
theorem dX0_valueThen_44 : decode cX0_valueThen 44 = .ok (.if_icmp .ne 11, 3) := by decide +kernel
theorem dX0_valueThen_47 : decode cX0_valueThen 47 = .ok (.aload_n 0, 1) := by decide +kernel
theorem dX0_valueThen_48 : decode cX0_valueThen 48 = .ok (.getfield 13, 3) := by decide +kernel
theorem dX0_valueThen_51 : decode cX0_valueThen 51 = .ok (.iload 5, 2) := by decide +kernel
theorem dX0_valueThen_53 : decode cX0_valueThen 53 = .ok (.iaload, 1) := by decide +kernel
theorem dX0_valueThen_54 : decode cX0_valueThen 54 = .ok (.ireturn, 1) := by decide +kernel
theorem dX0_valueThen_55 : decode cX0_valueThen 55 = .ok (.iinc 4 (-1), 3) := by decide +kernel
theorem dX0_valueThen_58 : decode cX0_valueThen 58 = .ok (.goto (-55), 3) := by decide +kernel
theorem dX0_valueThen_61 : decode cX0_valueThen 61 = .ok (.iconst 0, 1) := by decide +kernel
theorem dX0_valueThen_62 : decode cX0_valueThen 62 = .ok (.ireturn, 1) := by decide +kernel
theorem dX0_lastPoint_0 : decode cX0_lastPoint 0 = .ok (.iload_n 1, 1) := by decide +kernel
theorem dX0_lastPoint_1 : decode cX0_lastPoint 1 = .ok (.ifCond .lt 11, 3) := by decide +kernel
theorem dX0_lastPoint_4 : decode cX0_lastPoint 4 = .ok (.iload_n 1, 1) := by decide +kernel
theorem dX0_lastPoint_5 : decode cX0_lastPoint 5 = .ok (.aload_n 0, 1) := by decide +kernel
theorem dX0_lastPoint_6 : decode cX0_lastPoint 6 = .ok (.getfield 62, 3) := by decide +kernel
theorem dX0_lastPoint_9 : decode cX0_lastPoint 9 = .ok (.if_icmp .lt 8, 3) := by decide +kernel
theorem dX0_lastPoint_12 : decode cX0_lastPoint 12 = .ok (.bipush (-4), 2) := by decide +kernel
theorem dX0_lastPoint_14 : decode cX0_lastPoint 14 = .ok (.goto 9, 3) := by decide +kernel
theorem dX0_lastPoint_17 : decode cX0_lastPoint 17 = .ok (.aload_n 0, 1) := by decide +kernel
theorem dX0_lastPoint_18 : decode cX0_lastPoint 18 = .ok (.getfield 28, 3) := by decide +kernel
theorem dX0_lastPoint_21 : decode cX0_lastPoint 21 = .ok (.iload_n 1, 1) := by decide +kernel
theorem dX0_lastPoint_22 : decode cX0_lastPoint 22 = .ok (.iaload, 1) := by decide +kernel
theorem dX0_lastPoint_23 : decode cX0_lastPoint 23 = .ok (.ireturn, 1) := by decide +kernel
theorem dX0_lastChange_0 : decode cX0_lastChange 0 = .ok (.aload_n 0, 1) := by decide +kernel
theorem dX0_lastChange_1 : decode cX0_lastChange 1 = .ok (.iload_n 3, 1) := by decide +kernel
theorem dX0_lastChange_2 : decode cX0_lastChange 2 = .ok (.invokevirtual 77, 3) := by decide +kernel
end
section
set_option maxRecDepth 100000
theorem dX0_lastChange_5 : decode cX0_lastChange 5 = .ok (.ifCond .eq 5, 3) := by decide +kernel
theorem dX0_lastChange_8 : decode cX0_lastChange 8 = .ok (.iconst (-1), 1) := by decide +kernel
theorem dX0_lastChange_9 : decode cX0_lastChange 9 = .ok (.ireturn, 1) := by decide +kernel
theorem dX0_lastChange_10 : decode cX0_lastChange 10 = .ok (.aload_n 0, 1) := by decide +kernel
theorem dX0_lastChange_11 : decode cX0_lastChange 11 = .ok (.iload_n 1, 1) := by decide +kernel
theorem dX0_lastChange_12 : decode cX0_lastChange 12 = .ok (.iload_n 2, 1) := by decide +kernel
theorem dX0_lastChange_13 : decode cX0_lastChange 13 = .ok (.invokevirtual 89, 3) := by decide +kernel
theorem dX0_lastChange_16 : decode cX0_lastChange 16 = .ok (.ifCond .eq 6, 3) := by decide +kernel
theorem dX0_lastChange_19 : decode cX0_lastChange 19 = .ok (.bipush (-4), 2) := by decide +kernel
theorem dX0_lastChange_21 : decode cX0_lastChange 21 = .ok (.ireturn, 1) := by decide +kernel
theorem dX0_lastChange_22 : decode cX0_lastChange 22 = .ok (.aload_n 0, 1) := by decide +kernel
theorem dX0_lastChange_23 : decode cX0_lastChange 23 = .ok (.iload_n 1, 1) := by decide +kernel
theorem dX0_lastChange_24 : decode cX0_lastChange 24 = .ok (.iload_n 2, 1) := by decide +kernel
theorem dX0_lastChange_25 : decode cX0_lastChange 25 = .ok (.iload_n 3, 1) := by decide +kernel
theorem dX0_lastChange_26 : decode cX0_lastChange 26 = .ok (.invokevirtual 104, 3) := by decide +kernel
theorem dX0_lastChange_29 : decode cX0_lastChange 29 = .ok (.istore 4, 2) := by decide +kernel
theorem dX0_lastChange_31 : decode cX0_lastChange 31 = .ok (.iload_n 2, 1) := by decide +kernel
theorem dX0_lastChange_32 : decode cX0_lastChange 32 = .ok (.istore 5, 2) := by decide +kernel
theorem dX0_lastChange_34 : decode cX0_lastChange 34 = .ok (.iload 5, 2) := by decide +kernel
theorem dX0_lastChange_36 : decode cX0_lastChange 36 = .ok (.ifCond .le 31, 3) := by decide +kernel
theorem dX0_lastChange_39 : decode cX0_lastChange 39 = .ok (.aload_n 0, 1) := by decide +kernel
theorem dX0_lastChange_40 : decode cX0_lastChange 40 = .ok (.iload_n 1, 1) := by decide +kernel
theorem dX0_lastChange_41 : decode cX0_lastChange 41 = .ok (.iload 5, 2) := by decide +kernel
theorem dX0_lastChange_43 : decode cX0_lastChange 43 = .ok (.iconst 1, 1) := by decide +kernel
theorem dX0_lastChange_44 : decode cX0_lastChange 44 = .ok (.isub, 1) := by decide +kernel
theorem dX0_lastChange_45 : decode cX0_lastChange 45 = .ok (.iload_n 3, 1) := by decide +kernel
theorem dX0_lastChange_46 : decode cX0_lastChange 46 = .ok (.invokevirtual 104, 3) := by decide +kernel
theorem dX0_lastChange_49 : decode cX0_lastChange 49 = .ok (.istore 6, 2) := by decide +kernel
theorem dX0_lastChange_51 : decode cX0_lastChange 51 = .ok (.iload 6, 2) := by decide +kernel
theorem dX0_lastChange_53 : decode cX0_lastChange 53 = .ok (.iload 4, 2) := by decide +kernel
theorem dX0_lastChange_55 : decode cX0_lastChange 55 = .ok (.if_icmp .eq 6, 3) := by decide +kernel
theorem dX0_lastChange_58 : decode cX0_lastChange 58 = .ok (.iload 5, 2) := by decide +kernel
theorem dX0_lastChange_60 : decode cX0_lastChange 60 = .ok (.ireturn, 1) := by decide +kernel
theorem dX0_lastChange_61 : decode cX0_lastChange 61 = .ok (.iinc 5 (-1), 3) := by decide +kernel
theorem dX0_lastChange_64 : decode cX0_lastChange 64 = .ok (.goto (-30), 3) := by decide +kernel
theorem dX0_lastChange_67 : decode cX0_lastChange 67 = .ok (.iconst 0, 1) := by decide +kernel
theorem dX0_lastChange_68 : decode cX0_lastChange 68 = .ok (.ireturn, 1) := by decide +kernel
theorem dX0_differs_0 : decode cX0_differs 0 = .ok (.aload_n 0, 1) := by decide +kernel
theorem dX0_differs_1 : decode cX0_differs 1 = .ok (.iload_n 1, 1) := by decide +kernel
theorem dX0_differs_2 : decode cX0_differs 2 = .ok (.iload_n 2, 1) := by decide +kernel
theorem dX0_differs_3 : decode cX0_differs 3 = .ok (.invokevirtual 89, 3) := by decide +kernel
theorem dX0_differs_6 : decode cX0_differs 6 = .ok (.ifCond .eq 6, 3) := by decide +kernel
theorem dX0_differs_9 : decode cX0_differs 9 = .ok (.bipush (-4), 2) := by decide +kernel
theorem dX0_differs_11 : decode cX0_differs 11 = .ok (.ireturn, 1) := by decide +kernel
theorem dX0_differs_12 : decode cX0_differs 12 = .ok (.iconst 0, 1) := by decide +kernel
theorem dX0_differs_13 : decode cX0_differs 13 = .ok (.istore_n 3, 1) := by decide +kernel
theorem dX0_differs_14 : decode cX0_differs 14 = .ok (.iconst 0, 1) := by decide +kernel
theorem dX0_differs_15 : decode cX0_differs 15 = .ok (.istore 4, 2) := by decide +kernel
theorem dX0_differs_17 : decode cX0_differs 17 = .ok (.iload 4, 2) := by decide +kernel
theorem dX0_differs_19 : decode cX0_differs 19 = .ok (.bipush 8, 2) := by decide +kernel
theorem dX0_differs_21 : decode cX0_differs 21 = .ok (.if_icmp .ge 34, 3) := by decide +kernel
theorem dX0_differs_24 : decode cX0_differs 24 = .ok (.aload_n 0, 1) := by decide +kernel
theorem dX0_differs_25 : decode cX0_differs 25 = .ok (.iload_n 1, 1) := by decide +kernel
theorem dX0_differs_26 : decode cX0_differs 26 = .ok (.iload_n 2, 1) := by decide +kernel
theorem dX0_differs_27 : decode cX0_differs 27 = .ok (.iload 4, 2) := by decide +kernel
theorem dX0_differs_29 : decode cX0_differs 29 = .ok (.invokevirtual 104, 3) := by decide +kernel
theorem dX0_differs_32 : decode cX0_differs 32 = .ok (.istore 5, 2) := by decide +kernel
theorem dX0_differs_34 : decode cX0_differs 34 = .ok (.iload 5, 2) := by decide +kernel
theorem dX0_differs_36 : decode cX0_differs 36 = .ok (.aload_n 0, 1) := by decide +kernel
theorem dX0_differs_37 : decode cX0_differs 37 = .ok (.getfield 31, 3) := by decide +kernel
theorem dX0_differs_40 : decode cX0_differs 40 = .ok (.iload 4, 2) := by decide +kernel
theorem dX0_differs_42 : decode cX0_differs 42 = .ok (.iaload, 1) := by decide +kernel
theorem dX0_differs_43 : decode cX0_differs 43 = .ok (.if_icmp .eq 6, 3) := by decide +kernel
theorem dX0_differs_46 : decode cX0_differs 46 = .ok (.iinc 3 1, 3) := by decide +kernel
theorem dX0_differs_49 : decode cX0_differs 49 = .ok (.iinc 4 1, 3) := by decide +kernel
theorem dX0_differs_52 : decode cX0_differs 52 = .ok (.goto (-35), 3) := by decide +kernel
theorem dX0_differs_55 : decode cX0_differs 55 = .ok (.iload_n 3, 1) := by decide +kernel
theorem dX0_differs_56 : decode cX0_differs 56 = .ok (.ireturn, 1) := by decide +kernel
theorem dX0_crash_0 : decode cX0_crash 0 = .ok (.iconst 0, 1) := by decide +kernel
theorem dX0_crash_1 : decode cX0_crash 1 = .ok (.istore_n 1, 1) := by decide +kernel
theorem dX0_crash_2 : decode cX0_crash 2 = .ok (.iload_n 1, 1) := by decide +kernel
theorem dX0_crash_3 : decode cX0_crash 3 = .ok (.bipush 8, 2) := by decide +kernel
theorem dX0_crash_5 : decode cX0_crash 5 = .ok (.if_icmp .ge 33, 3) := by decide +kernel
theorem dX0_crash_8 : decode cX0_crash 8 = .ok (.aload_n 0, 1) := by decide +kernel
theorem dX0_crash_9 : decode cX0_crash 9 = .ok (.getfield 31, 3) := by decide +kernel
theorem dX0_crash_12 : decode cX0_crash 12 = .ok (.iload_n 1, 1) := by decide +kernel
theorem dX0_crash_13 : decode cX0_crash 13 = .ok (.aload_n 0, 1) := by decide +kernel
theorem dX0_crash_14 : decode cX0_crash 14 = .ok (.getfield 37, 3) := by decide +kernel
theorem dX0_crash_17 : decode cX0_crash 17 = .ok (.iload_n 1, 1) := by decide +kernel
theorem dX0_crash_18 : decode cX0_crash 18 = .ok (.iaload, 1) := by decide +kernel
theorem dX0_crash_19 : decode cX0_crash 19 = .ok (.iastore, 1) := by decide +kernel
theorem dX0_crash_20 : decode cX0_crash 20 = .ok (.aload_n 0, 1) := by decide +kernel
theorem dX0_crash_21 : decode cX0_crash 21 = .ok (.getfield 34, 3) := by decide +kernel
theorem dX0_crash_24 : decode cX0_crash 24 = .ok (.iload_n 1, 1) := by decide +kernel
theorem dX0_crash_25 : decode cX0_crash 25 = .ok (.aload_n 0, 1) := by decide +kernel
theorem dX0_crash_26 : decode cX0_crash 26 = .ok (.getfield 40, 3) := by decide +kernel
theorem dX0_crash_29 : decode cX0_crash 29 = .ok (.iload_n 1, 1) := by decide +kernel
theorem dX0_crash_30 : decode cX0_crash 30 = .ok (.iaload, 1) := by decide +kernel
theorem dX0_crash_31 : decode cX0_crash 31 = .ok (.iastore, 1) := by decide +kernel
theorem dX0_crash_32 : decode cX0_crash 32 = .ok (.iinc 1 1, 3) := by decide +kernel
theorem dX0_crash_35 : decode cX0_crash 35 = .ok (.goto (-33), 3) := by decide +kernel
theorem dX0_crash_38 : decode cX0_crash 38 = .ok (.aload_n 0, 1) := by decide +kernel
theorem dX0_crash_39 : decode cX0_crash 39 = .ok (.aload_n 0, 1) := by decide +kernel
theorem dX0_crash_40 : decode cX0_crash 40 = .ok (.getfield 70, 3) := by decide +kernel
theorem dX0_crash_43 : decode cX0_crash 43 = .ok (.aload_n 0, 1) := by decide +kernel
theorem dX0_crash_44 : decode cX0_crash 44 = .ok (.getfield 28, 3) := by decide +kernel
theorem dX0_crash_47 : decode cX0_crash 47 = .ok (.aload_n 0, 1) := by decide +kernel
theorem dX0_crash_48 : decode cX0_crash 48 = .ok (.getfield 70, 3) := by decide +kernel
theorem dX0_crash_51 : decode cX0_crash 51 = .ok (.iaload, 1) := by decide +kernel
theorem dX0_crash_52 : decode cX0_crash 52 = .ok (.invokevirtual 96, 3) := by decide +kernel
theorem dX0_crash_55 : decode cX0_crash 55 = .ok (.aload_n 0, 1) := by decide +kernel
theorem dX0_crash_56 : decode cX0_crash 56 = .ok (.iconst 0, 1) := by decide +kernel
theorem dX0_crash_57 : decode cX0_crash 57 = .ok (.putfield 100, 3) := by decide +kernel
theorem dX0_crash_60 : decode cX0_crash 60 = .ok (.iconst 0, 1) := by decide +kernel
theorem dX0_crash_61 : decode cX0_crash 61 = .ok (.ireturn, 1) := by decide +kernel
theorem dX0_backup_0 : decode cX0_backup 0 = .ok (.iload_n 1, 1) := by decide +kernel
theorem dX0_backup_1 : decode cX0_backup 1 = .ok (.ifCond .lt 9, 3) := by decide +kernel
theorem dX0_backup_4 : decode cX0_backup 4 = .ok (.iload_n 1, 1) := by decide +kernel
theorem dX0_backup_5 : decode cX0_backup 5 = .ok (.bipush 8, 2) := by decide +kernel
theorem dX0_backup_7 : decode cX0_backup 7 = .ok (.if_icmp .le 5, 3) := by decide +kernel
theorem dX0_backup_10 : decode cX0_backup 10 = .ok (.iconst (-1), 1) := by decide +kernel
theorem dX0_backup_11 : decode cX0_backup 11 = .ok (.ireturn, 1) := by decide +kernel
theorem dX0_backup_12 : decode cX0_backup 12 = .ok (.aload_n 0, 1) := by decide +kernel
theorem dX0_backup_13 : decode cX0_backup 13 = .ok (.getfield 100, 3) := by decide +kernel
theorem dX0_backup_16 : decode cX0_backup 16 = .ok (.ifCond .ne 7, 3) := by decide +kernel
theorem dX0_backup_19 : decode cX0_backup 19 = .ok (.aload_n 0, 1) := by decide +kernel
theorem dX0_backup_20 : decode cX0_backup 20 = .ok (.invokevirtual 118, 3) := by decide +kernel
theorem dX0_backup_23 : decode cX0_backup 23 = .ok (.iconst 0, 1) := by decide +kernel
theorem dX0_backup_24 : decode cX0_backup 24 = .ok (.istore_n 2, 1) := by decide +kernel
theorem dX0_backup_25 : decode cX0_backup 25 = .ok (.iload_n 2, 1) := by decide +kernel
theorem dX0_backup_26 : decode cX0_backup 26 = .ok (.iload_n 1, 1) := by decide +kernel
theorem dX0_backup_27 : decode cX0_backup 27 = .ok (.if_icmp .ge 80, 3) := by decide +kernel
theorem dX0_backup_30 : decode cX0_backup 30 = .ok (.aload_n 0, 1) := by decide +kernel
theorem dX0_backup_31 : decode cX0_backup 31 = .ok (.getfield 115, 3) := by decide +kernel
theorem dX0_backup_34 : decode cX0_backup 34 = .ok (.bipush 8, 2) := by decide +kernel
theorem dX0_backup_36 : decode cX0_backup 36 = .ok (.if_icmp .ge 71, 3) := by decide +kernel
theorem dX0_backup_39 : decode cX0_backup 39 = .ok (.aload_n 0, 1) := by decide +kernel
theorem dX0_backup_40 : decode cX0_backup 40 = .ok (.getfield 56, 3) := by decide +kernel
theorem dX0_backup_43 : decode cX0_backup 43 = .ok (.aload_n 0, 1) := by decide +kernel
theorem dX0_backup_44 : decode cX0_backup 44 = .ok (.getfield 112, 3) := by decide +kernel
theorem dX0_backup_47 : decode cX0_backup 47 = .ok (.bipush 8, 2) := by decide +kernel
theorem dX0_backup_49 : decode cX0_backup 49 = .ok (.imul, 1) := by decide +kernel
theorem dX0_backup_50 : decode cX0_backup 50 = .ok (.aload_n 0, 1) := by decide +kernel
theorem dX0_backup_51 : decode cX0_backup 51 = .ok (.getfield 115, 3) := by decide +kernel
theorem dX0_backup_54 : decode cX0_backup 54 = .ok (.iadd, 1) := by decide +kernel
theorem dX0_backup_55 : decode cX0_backup 55 = .ok (.aload_n 0, 1) := by decide +kernel
theorem dX0_backup_56 : decode cX0_backup 56 = .ok (.getfield 37, 3) := by decide +kernel
theorem dX0_backup_59 : decode cX0_backup 59 = .ok (.aload_n 0, 1) := by decide +kernel
theorem dX0_backup_60 : decode cX0_backup 60 = .ok (.getfield 115, 3) := by decide +kernel
theorem dX0_backup_63 : decode cX0_backup 63 = .ok (.iaload, 1) := by decide +kernel
theorem dX0_backup_64 : decode cX0_backup 64 = .ok (.iastore, 1) := by decide +kernel
theorem dX0_backup_65 : decode cX0_backup 65 = .ok (.aload_n 0, 1) := by decide +kernel
theorem dX0_backup_66 : decode cX0_backup 66 = .ok (.getfield 59, 3) := by decide +kernel
theorem dX0_backup_69 : decode cX0_backup 69 = .ok (.aload_n 0, 1) := by decide +kernel
theorem dX0_backup_70 : decode cX0_backup 70 = .ok (.getfield 112, 3) := by decide +kernel
theorem dX0_backup_73 : decode cX0_backup 73 = .ok (.bipush 8, 2) := by decide +kernel
theorem dX0_backup_75 : decode cX0_backup 75 = .ok (.imul, 1) := by decide +kernel
theorem dX0_backup_76 : decode cX0_backup 76 = .ok (.aload_n 0, 1) := by decide +kernel
theorem dX0_backup_77 : decode cX0_backup 77 = .ok (.getfield 115, 3) := by decide +kernel
theorem dX0_backup_80 : decode cX0_backup 80 = .ok (.iadd, 1) := by decide +kernel
theorem dX0_backup_81 : decode cX0_backup 81 = .ok (.aload_n 0, 1) := by decide +kernel
theorem dX0_backup_82 : decode cX0_backup 82 = .ok (.getfield 40, 3) := by decide +kernel
theorem dX0_backup_85 : decode cX0_backup 85 = .ok (.aload_n 0, 1) := by decide +kernel
theorem dX0_backup_86 : decode cX0_backup 86 = .ok (.getfield 115, 3) := by decide +kernel
theorem dX0_backup_89 : decode cX0_backup 89 = .ok (.iaload, 1) := by decide +kernel
theorem dX0_backup_90 : decode cX0_backup 90 = .ok (.iastore, 1) := by decide +kernel
theorem dX0_backup_91 : decode cX0_backup 91 = .ok (.aload_n 0, 1) := by decide +kernel
theorem dX0_backup_92 : decode cX0_backup 92 = .ok (.dup, 1) := by decide +kernel
theorem dX0_backup_93 : decode cX0_backup 93 = .ok (.getfield 115, 3) := by decide +kernel
theorem dX0_backup_96 : decode cX0_backup 96 = .ok (.iconst 1, 1) := by decide +kernel
theorem dX0_backup_97 : decode cX0_backup 97 = .ok (.iadd, 1) := by decide +kernel
theorem dX0_backup_98 : decode cX0_backup 98 = .ok (.putfield 115, 3) := by decide +kernel
theorem dX0_backup_101 : decode cX0_backup 101 = .ok (.iinc 2 1, 3) := by decide +kernel
theorem dX0_backup_104 : decode cX0_backup 104 = .ok (.goto (-79), 3) := by decide +kernel
theorem dX0_backup_107 : decode cX0_backup 107 = .ok (.aload_n 0, 1) := by decide +kernel
theorem dX0_backup_108 : decode cX0_backup 108 = .ok (.getfield 115, 3) := by decide +kernel
theorem dX0_backup_111 : decode cX0_backup 111 = .ok (.bipush 8, 2) := by decide +kernel
theorem dX0_backup_113 : decode cX0_backup 113 = .ok (.if_icmp .ne 48, 3) := by decide +kernel
theorem dX0_backup_116 : decode cX0_backup 116 = .ok (.aload_n 0, 1) := by decide +kernel
theorem dX0_backup_117 : decode cX0_backup 117 = .ok (.getfield 43, 3) := by decide +kernel
theorem dX0_backup_120 : decode cX0_backup 120 = .ok (.aload_n 0, 1) := by decide +kernel
theorem dX0_backup_121 : decode cX0_backup 121 = .ok (.getfield 112, 3) := by decide +kernel
theorem dX0_backup_124 : decode cX0_backup 124 = .ok (.iconst 1, 1) := by decide +kernel
theorem dX0_backup_125 : decode cX0_backup 125 = .ok (.bastore, 1) := by decide +kernel
theorem dX0_backup_126 : decode cX0_backup 126 = .ok (.aload_n 0, 1) := by decide +kernel
theorem dX0_backup_127 : decode cX0_backup 127 = .ok (.getfield 53, 3) := by decide +kernel
theorem dX0_backup_130 : decode cX0_backup 130 = .ok (.aload_n 0, 1) := by decide +kernel
theorem dX0_backup_131 : decode cX0_backup 131 = .ok (.getfield 112, 3) := by decide +kernel
theorem dX0_backup_134 : decode cX0_backup 134 = .ok (.aload_n 0, 1) := by decide +kernel
theorem dX0_backup_135 : decode cX0_backup 135 = .ok (.getfield 28, 3) := by decide +kernel
theorem dX0_backup_138 : decode cX0_backup 138 = .ok (.aload_n 0, 1) := by decide +kernel
theorem dX0_backup_139 : decode cX0_backup 139 = .ok (.getfield 70, 3) := by decide +kernel
theorem dX0_backup_142 : decode cX0_backup 142 = .ok (.iaload, 1) := by decide +kernel
theorem dX0_backup_143 : decode cX0_backup 143 = .ok (.iastore, 1) := by decide +kernel
theorem dX0_backup_144 : decode cX0_backup 144 = .ok (.aload_n 0, 1) := by decide +kernel
theorem dX0_backup_145 : decode cX0_backup 145 = .ok (.aload_n 0, 1) := by decide +kernel
theorem dX0_backup_146 : decode cX0_backup 146 = .ok (.getfield 112, 3) := by decide +kernel
theorem dX0_backup_149 : decode cX0_backup 149 = .ok (.iconst 1, 1) := by decide +kernel
theorem dX0_backup_150 : decode cX0_backup 150 = .ok (.iadd, 1) := by decide +kernel
theorem dX0_backup_151 : decode cX0_backup 151 = .ok (.iconst 3, 1) := by decide +kernel
theorem dX0_backup_152 : decode cX0_backup 152 = .ok (.iand, 1) := by decide +kernel
theorem dX0_backup_153 : decode cX0_backup 153 = .ok (.putfield 112, 3) := by decide +kernel
theorem dX0_backup_156 : decode cX0_backup 156 = .ok (.aload_n 0, 1) := by decide +kernel
theorem dX0_backup_157 : decode cX0_backup 157 = .ok (.iconst 0, 1) := by decide +kernel
theorem dX0_backup_158 : decode cX0_backup 158 = .ok (.putfield 100, 3) := by decide +kernel
theorem dX0_backup_161 : decode cX0_backup 161 = .ok (.iconst 0, 1) := by decide +kernel
theorem dX0_backup_162 : decode cX0_backup 162 = .ok (.ireturn, 1) := by decide +kernel
theorem dX0_beginBackup_0 : decode cX0_beginBackup 0 = .ok (.aload_n 0, 1) := by decide +kernel
theorem dX0_beginBackup_1 : decode cX0_beginBackup 1 = .ok (.bipush 8, 2) := by decide +kernel
theorem dX0_beginBackup_3 : decode cX0_beginBackup 3 = .ok (.invokevirtual 108, 3) := by decide +kernel
theorem dX0_beginBackup_6 : decode cX0_beginBackup 6 = .ok (.pop, 1) := by decide +kernel
theorem dX0_beginBackup_7 : decode cX0_beginBackup 7 = .ok (.aload_n 0, 1) := by decide +kernel
theorem dX0_beginBackup_8 : decode cX0_beginBackup 8 = .ok (.getfield 43, 3) := by decide +kernel
theorem dX0_beginBackup_11 : decode cX0_beginBackup 11 = .ok (.aload_n 0, 1) := by decide +kernel
theorem dX0_beginBackup_12 : decode cX0_beginBackup 12 = .ok (.getfield 112, 3) := by decide +kernel
theorem dX0_beginBackup_15 : decode cX0_beginBackup 15 = .ok (.iconst 0, 1) := by decide +kernel
theorem dX0_beginBackup_16 : decode cX0_beginBackup 16 = .ok (.bastore, 1) := by decide +kernel
theorem dX0_beginBackup_17 : decode cX0_beginBackup 17 = .ok (.aload_n 0, 1) := by decide +kernel
theorem dX0_beginBackup_18 : decode cX0_beginBackup 18 = .ok (.getfield 47, 3) := by decide +kernel
theorem dX0_beginBackup_21 : decode cX0_beginBackup 21 = .ok (.aload_n 0, 1) := by decide +kernel
theorem dX0_beginBackup_22 : decode cX0_beginBackup 22 = .ok (.getfield 112, 3) := by decide +kernel
theorem dX0_beginBackup_25 : decode cX0_beginBackup 25 = .ok (.aload_n 0, 1) := by decide +kernel
theorem dX0_beginBackup_26 : decode cX0_beginBackup 26 = .ok (.getfield 70, 3) := by decide +kernel
theorem dX0_beginBackup_29 : decode cX0_beginBackup 29 = .ok (.iastore, 1) := by decide +kernel
theorem dX0_beginBackup_30 : decode cX0_beginBackup 30 = .ok (.aload_n 0, 1) := by decide +kernel
theorem dX0_beginBackup_31 : decode cX0_beginBackup 31 = .ok (.getfield 50, 3) := by decide +kernel
theorem dX0_beginBackup_34 : decode cX0_beginBackup 34 = .ok (.aload_n 0, 1) := by decide +kernel
theorem dX0_beginBackup_35 : decode cX0_beginBackup 35 = .ok (.getfield 112, 3) := by decide +kernel
theorem dX0_beginBackup_38 : decode cX0_beginBackup 38 = .ok (.aload_n 0, 1) := by decide +kernel
theorem dX0_beginBackup_39 : decode cX0_beginBackup 39 = .ok (.getfield 28, 3) := by decide +kernel
theorem dX0_beginBackup_42 : decode cX0_beginBackup 42 = .ok (.aload_n 0, 1) := by decide +kernel
theorem dX0_beginBackup_43 : decode cX0_beginBackup 43 = .ok (.getfield 70, 3) := by decide +kernel
theorem dX0_beginBackup_46 : decode cX0_beginBackup 46 = .ok (.iaload, 1) := by decide +kernel
theorem dX0_beginBackup_47 : decode cX0_beginBackup 47 = .ok (.iastore, 1) := by decide +kernel
theorem dX0_beginBackup_48 : decode cX0_beginBackup 48 = .ok (.aload_n 0, 1) := by decide +kernel
theorem dX0_beginBackup_49 : decode cX0_beginBackup 49 = .ok (.iconst 0, 1) := by decide +kernel
theorem dX0_beginBackup_50 : decode cX0_beginBackup 50 = .ok (.putfield 115, 3) := by decide +kernel
theorem dX0_beginBackup_53 : decode cX0_beginBackup 53 = .ok (.aload_n 0, 1) := by decide +kernel
theorem dX0_beginBackup_54 : decode cX0_beginBackup 54 = .ok (.iconst 1, 1) := by decide +kernel
theorem dX0_beginBackup_55 : decode cX0_beginBackup 55 = .ok (.putfield 100, 3) := by decide +kernel
theorem dX0_beginBackup_58 : decode cX0_beginBackup 58 = .ok (.return_, 1) := by decide +kernel
theorem dX0_writeOut_0 : decode cX0_writeOut 0 = .ok (.iload_n 1, 1) := by decide +kernel
theorem dX0_writeOut_1 : decode cX0_writeOut 1 = .ok (.istore_n 2, 1) := by decide +kernel
theorem dX0_writeOut_2 : decode cX0_writeOut 2 = .ok (.iconst 0, 1) := by decide +kernel
theorem dX0_writeOut_3 : decode cX0_writeOut 3 = .ok (.istore_n 3, 1) := by decide +kernel
theorem dX0_writeOut_4 : decode cX0_writeOut 4 = .ok (.iload_n 3, 1) := by decide +kernel
theorem dX0_writeOut_5 : decode cX0_writeOut 5 = .ok (.bipush 8, 2) := by decide +kernel
theorem dX0_writeOut_7 : decode cX0_writeOut 7 = .ok (.if_icmp .ge 55, 3) := by decide +kernel
theorem dX0_writeOut_10 : decode cX0_writeOut 10 = .ok (.iload_n 2, 1) := by decide +kernel
theorem dX0_writeOut_11 : decode cX0_writeOut 11 = .ok (.ifCond .le 51, 3) := by decide +kernel
theorem dX0_writeOut_14 : decode cX0_writeOut 14 = .ok (.aload_n 0, 1) := by decide +kernel
theorem dX0_writeOut_15 : decode cX0_writeOut 15 = .ok (.getfield 34, 3) := by decide +kernel
theorem dX0_writeOut_18 : decode cX0_writeOut 18 = .ok (.iload_n 3, 1) := by decide +kernel
theorem dX0_writeOut_19 : decode cX0_writeOut 19 = .ok (.iaload, 1) := by decide +kernel
theorem dX0_writeOut_20 : decode cX0_writeOut 20 = .ok (.aload_n 0, 1) := by decide +kernel
theorem dX0_writeOut_21 : decode cX0_writeOut 21 = .ok (.getfield 40, 3) := by decide +kernel
theorem dX0_writeOut_24 : decode cX0_writeOut 24 = .ok (.iload_n 3, 1) := by decide +kernel
theorem dX0_writeOut_25 : decode cX0_writeOut 25 = .ok (.iaload, 1) := by decide +kernel
theorem dX0_writeOut_26 : decode cX0_writeOut 26 = .ok (.if_icmp .le 30, 3) := by decide +kernel
theorem dX0_writeOut_29 : decode cX0_writeOut 29 = .ok (.aload_n 0, 1) := by decide +kernel
theorem dX0_writeOut_30 : decode cX0_writeOut 30 = .ok (.getfield 37, 3) := by decide +kernel
theorem dX0_writeOut_33 : decode cX0_writeOut 33 = .ok (.iload_n 3, 1) := by decide +kernel
theorem dX0_writeOut_34 : decode cX0_writeOut 34 = .ok (.aload_n 0, 1) := by decide +kernel
theorem dX0_writeOut_35 : decode cX0_writeOut 35 = .ok (.getfield 31, 3) := by decide +kernel
theorem dX0_writeOut_38 : decode cX0_writeOut 38 = .ok (.iload_n 3, 1) := by decide +kernel
theorem dX0_writeOut_39 : decode cX0_writeOut 39 = .ok (.iaload, 1) := by decide +kernel
theorem dX0_writeOut_40 : decode cX0_writeOut 40 = .ok (.iastore, 1) := by decide +kernel
theorem dX0_writeOut_41 : decode cX0_writeOut 41 = .ok (.aload_n 0, 1) := by decide +kernel
theorem dX0_writeOut_42 : decode cX0_writeOut 42 = .ok (.getfield 40, 3) := by decide +kernel
theorem dX0_writeOut_45 : decode cX0_writeOut 45 = .ok (.iload_n 3, 1) := by decide +kernel
theorem dX0_writeOut_46 : decode cX0_writeOut 46 = .ok (.aload_n 0, 1) := by decide +kernel
theorem dX0_writeOut_47 : decode cX0_writeOut 47 = .ok (.getfield 34, 3) := by decide +kernel
theorem dX0_writeOut_50 : decode cX0_writeOut 50 = .ok (.iload_n 3, 1) := by decide +kernel
theorem dX0_writeOut_51 : decode cX0_writeOut 51 = .ok (.iaload, 1) := by decide +kernel
theorem dX0_writeOut_52 : decode cX0_writeOut 52 = .ok (.iastore, 1) := by decide +kernel
theorem dX0_writeOut_53 : decode cX0_writeOut 53 = .ok (.iinc 2 (-1), 3) := by decide +kernel
theorem dX0_writeOut_56 : decode cX0_writeOut 56 = .ok (.iinc 3 1, 3) := by decide +kernel
theorem dX0_writeOut_59 : decode cX0_writeOut 59 = .ok (.goto (-55), 3) := by decide +kernel
theorem dX0_writeOut_62 : decode cX0_writeOut 62 = .ok (.iload_n 2, 1) := by decide +kernel
theorem dX0_writeOut_63 : decode cX0_writeOut 63 = .ok (.ireturn, 1) := by decide +kernel
theorem dX0_flush_0 : decode cX0_flush 0 = .ok (.iload_n 1, 1) := by decide +kernel
theorem dX0_flush_1 : decode cX0_flush 1 = .ok (.ifCond .lt 9, 3) := by decide +kernel
theorem dX0_flush_4 : decode cX0_flush 4 = .ok (.iload_n 1, 1) := by decide +kernel
theorem dX0_flush_5 : decode cX0_flush 5 = .ok (.bipush 8, 2) := by decide +kernel
theorem dX0_flush_7 : decode cX0_flush 7 = .ok (.if_icmp .le 5, 3) := by decide +kernel
theorem dX0_flush_10 : decode cX0_flush 10 = .ok (.iconst (-1), 1) := by decide +kernel
theorem dX0_flush_11 : decode cX0_flush 11 = .ok (.ireturn, 1) := by decide +kernel
theorem dX0_flush_12 : decode cX0_flush 12 = .ok (.aload_n 0, 1) := by decide +kernel
theorem dX0_flush_13 : decode cX0_flush 13 = .ok (.iload_n 1, 1) := by decide +kernel
theorem dX0_flush_14 : decode cX0_flush 14 = .ok (.invokevirtual 108, 3) := by decide +kernel
theorem dX0_flush_17 : decode cX0_flush 17 = .ok (.pop, 1) := by decide +kernel
theorem dX0_flush_18 : decode cX0_flush 18 = .ok (.iconst 0, 1) := by decide +kernel
theorem dX0_flush_19 : decode cX0_flush 19 = .ok (.ireturn, 1) := by decide +kernel
theorem dX0_digest_0 : decode cX0_digest 0 = .ok (.iconst 0, 1) := by decide +kernel
theorem dX0_digest_1 : decode cX0_digest 1 = .ok (.istore_n 1, 1) := by decide +kernel
theorem dX0_digest_2 : decode cX0_digest 2 = .ok (.iconst 0, 1) := by decide +kernel
theorem dX0_digest_3 : decode cX0_digest 3 = .ok (.istore_n 2, 1) := by decide +kernel
theorem dX0_digest_4 : decode cX0_digest 4 = .ok (.iload_n 2, 1) := by decide +kernel
theorem dX0_digest_5 : decode cX0_digest 5 = .ok (.bipush 8, 2) := by decide +kernel
theorem dX0_digest_7 : decode cX0_digest 7 = .ok (.if_icmp .ge 22, 3) := by decide +kernel
theorem dX0_digest_10 : decode cX0_digest 10 = .ok (.iload_n 1, 1) := by decide +kernel
theorem dX0_digest_11 : decode cX0_digest 11 = .ok (.iload_n 2, 1) := by decide +kernel
theorem dX0_digest_12 : decode cX0_digest 12 = .ok (.iconst 1, 1) := by decide +kernel
theorem dX0_digest_13 : decode cX0_digest 13 = .ok (.iadd, 1) := by decide +kernel
theorem dX0_digest_14 : decode cX0_digest 14 = .ok (.aload_n 0, 1) := by decide +kernel
theorem dX0_digest_15 : decode cX0_digest 15 = .ok (.getfield 31, 3) := by decide +kernel
theorem dX0_digest_18 : decode cX0_digest 18 = .ok (.iload_n 2, 1) := by decide +kernel
theorem dX0_digest_19 : decode cX0_digest 19 = .ok (.iaload, 1) := by decide +kernel
theorem dX0_digest_20 : decode cX0_digest 20 = .ok (.imul, 1) := by decide +kernel
theorem dX0_digest_21 : decode cX0_digest 21 = .ok (.iadd, 1) := by decide +kernel
theorem dX0_digest_22 : decode cX0_digest 22 = .ok (.istore_n 1, 1) := by decide +kernel
theorem dX0_digest_23 : decode cX0_digest 23 = .ok (.iinc 2 1, 3) := by decide +kernel
theorem dX0_digest_26 : decode cX0_digest 26 = .ok (.goto (-22), 3) := by decide +kernel
theorem dX0_digest_29 : decode cX0_digest 29 = .ok (.iload_n 1, 1) := by decide +kernel
theorem dX0_digest_30 : decode cX0_digest 30 = .ok (.ireturn, 1) := by decide +kernel
end
section
set_option maxRecDepth 100000
theorem dX1_init_0 : decode cX1_init 0 = .ok (.aload_n 0, 1) := by decide +kernel
theorem dX1_init_1 : decode cX1_init 1 = .ok (.invokespecial 1, 3) := by decide +kernel
theorem dX1_init_4 : decode cX1_init 4 = .ok (.aload_n 0, 1) := by decide +kernel
theorem dX1_init_5 : decode cX1_init 5 = .ok (.sipush 1488, 3) := by decide +kernel
theorem dX1_init_8 : decode cX1_init 8 = .ok (.newarray .int, 2) := by decide +kernel
theorem dX1_init_10 : decode cX1_init 10 = .ok (.putfield 7, 3) := by decide +kernel
theorem dX1_init_13 : decode cX1_init 13 = .ok (.aload_n 0, 1) := by decide +kernel
theorem dX1_init_14 : decode cX1_init 14 = .ok (.bipush 6, 2) := by decide +kernel
theorem dX1_init_16 : decode cX1_init 16 = .ok (.newarray .int, 2) := by decide +kernel
theorem dX1_init_18 : decode cX1_init 18 = .ok (.putfield 13, 3) := by decide +kernel
theorem dX1_init_21 : decode cX1_init 21 = .ok (.aload_n 0, 1) := by decide +kernel
theorem dX1_init_22 : decode cX1_init 22 = .ok (.iconst 1, 1) := by decide +kernel
theorem dX1_init_23 : decode cX1_init 23 = .ok (.putfield 16, 3) := by decide +kernel
theorem dX1_init_26 : decode cX1_init 26 = .ok (.return_, 1) := by decide +kernel
theorem dX1_set_0 : decode cX1_set 0 = .ok (.aload_n 0, 1) := by decide +kernel
theorem dX1_set_1 : decode cX1_set 1 = .ok (.iload_n 1, 1) := by decide +kernel
theorem dX1_set_2 : decode cX1_set 2 = .ok (.invokevirtual 24, 3) := by decide +kernel
theorem dX1_set_5 : decode cX1_set 5 = .ok (.ifCond .ne 5, 3) := by decide +kernel
theorem dX1_set_8 : decode cX1_set 8 = .ok (.iconst (-1), 1) := by decide +kernel
theorem dX1_set_9 : decode cX1_set 9 = .ok (.ireturn, 1) := by decide +kernel
theorem dX1_set_10 : decode cX1_set 10 = .ok (.aload_n 0, 1) := by decide +kernel
theorem dX1_set_11 : decode cX1_set 11 = .ok (.invokevirtual 28, 3) := by decide +kernel
theorem dX1_set_14 : decode cX1_set 14 = .ok (.bipush 30, 2) := by decide +kernel
theorem dX1_set_16 : decode cX1_set 16 = .ok (.if_icmp .ne 6, 3) := by decide +kernel
theorem dX1_set_19 : decode cX1_set 19 = .ok (.bipush (-2), 2) := by decide +kernel
theorem dX1_set_21 : decode cX1_set 21 = .ok (.ireturn, 1) := by decide +kernel
theorem dX1_set_22 : decode cX1_set 22 = .ok (.aload_n 0, 1) := by decide +kernel
theorem dX1_set_23 : decode cX1_set 23 = .ok (.invokevirtual 31, 3) := by decide +kernel
theorem dX1_set_26 : decode cX1_set 26 = .ok (.aload_n 0, 1) := by decide +kernel
theorem dX1_set_27 : decode cX1_set 27 = .ok (.invokevirtual 20, 3) := by decide +kernel
theorem dX1_set_30 : decode cX1_set 30 = .ok (.istore_n 3, 1) := by decide +kernel
theorem dX1_set_31 : decode cX1_set 31 = .ok (.aload_n 0, 1) := by decide +kernel
theorem dX1_set_32 : decode cX1_set 32 = .ok (.getfield 7, 3) := by decide +kernel
theorem dX1_set_35 : decode cX1_set 35 = .ok (.iload_n 3, 1) := by decide +kernel
theorem dX1_set_36 : decode cX1_set 36 = .ok (.iload_n 1, 1) := by decide +kernel
theorem dX1_set_37 : decode cX1_set 37 = .ok (.iadd, 1) := by decide +kernel
theorem dX1_set_38 : decode cX1_set 38 = .ok (.iload_n 2, 1) := by decide +kernel
theorem dX1_set_39 : decode cX1_set 39 = .ok (.iastore, 1) := by decide +kernel
theorem dX1_set_40 : decode cX1_set 40 = .ok (.aload_n 0, 1) := by decide +kernel
theorem dX1_set_41 : decode cX1_set 41 = .ok (.invokevirtual 28, 3) := by decide +kernel
theorem dX1_set_44 : decode cX1_set 44 = .ok (.ireturn, 1) := by decide +kernel
theorem dX1_isKey_0 : decode cX1_isKey 0 = .ok (.iload_n 1, 1) := by decide +kernel
theorem dX1_isKey_1 : decode cX1_isKey 1 = .ok (.ifCond .lt 13, 3) := by decide +kernel
theorem dX1_isKey_4 : decode cX1_isKey 4 = .ok (.iload_n 1, 1) := by decide +kernel
theorem dX1_isKey_5 : decode cX1_isKey 5 = .ok (.bipush 7, 2) := by decide +kernel
theorem dX1_isKey_7 : decode cX1_isKey 7 = .ok (.if_icmp .gt 7, 3) := by decide +kernel
theorem dX1_isKey_10 : decode cX1_isKey 10 = .ok (.iconst 1, 1) := by decide +kernel
theorem dX1_isKey_11 : decode cX1_isKey 11 = .ok (.goto 4, 3) := by decide +kernel
theorem dX1_isKey_14 : decode cX1_isKey 14 = .ok (.iconst 0, 1) := by decide +kernel
theorem dX1_isKey_15 : decode cX1_isKey 15 = .ok (.ireturn, 1) := by decide +kernel
theorem dX1_point_0 : decode cX1_point 0 = .ok (.aload_n 0, 1) := by decide +kernel
theorem dX1_point_1 : decode cX1_point 1 = .ok (.getfield 13, 3) := by decide +kernel
theorem dX1_point_4 : decode cX1_point 4 = .ok (.aload_n 0, 1) := by decide +kernel
theorem dX1_point_5 : decode cX1_point 5 = .ok (.getfield 16, 3) := by decide +kernel
theorem dX1_point_8 : decode cX1_point 8 = .ok (.iconst 1, 1) := by decide +kernel
theorem dX1_point_9 : decode cX1_point 9 = .ok (.isub, 1) := by decide +kernel
theorem dX1_point_10 : decode cX1_point 10 = .ok (.iaload, 1) := by decide +kernel
theorem dX1_point_11 : decode cX1_point 11 = .ok (.ireturn, 1) := by decide +kernel
theorem dX1_goOn_0 : decode cX1_goOn 0 = .ok (.aload_n 0, 1) := by decide +kernel
theorem dX1_goOn_1 : decode cX1_goOn 1 = .ok (.invokevirtual 20, 3) := by decide +kernel
theorem dX1_goOn_4 : decode cX1_goOn 4 = .ok (.istore_n 1, 1) := by decide +kernel
theorem dX1_goOn_5 : decode cX1_goOn 5 = .ok (.iconst 0, 1) := by decide +kernel
theorem dX1_goOn_6 : decode cX1_goOn 6 = .ok (.istore_n 2, 1) := by decide +kernel
theorem dX1_goOn_7 : decode cX1_goOn 7 = .ok (.iload_n 2, 1) := by decide +kernel
theorem dX1_goOn_8 : decode cX1_goOn 8 = .ok (.bipush 8, 2) := by decide +kernel
theorem dX1_goOn_10 : decode cX1_goOn 10 = .ok (.if_icmp .ge 28, 3) := by decide +kernel
theorem dX1_goOn_13 : decode cX1_goOn 13 = .ok (.aload_n 0, 1) := by decide +kernel
theorem dX1_goOn_14 : decode cX1_goOn 14 = .ok (.getfield 7, 3) := by decide +kernel
theorem dX1_goOn_17 : decode cX1_goOn 17 = .ok (.iload_n 1, 1) := by decide +kernel
theorem dX1_goOn_18 : decode cX1_goOn 18 = .ok (.bipush 8, 2) := by decide +kernel
theorem dX1_goOn_20 : decode cX1_goOn 20 = .ok (.iadd, 1) := by decide +kernel
theorem dX1_goOn_21 : decode cX1_goOn 21 = .ok (.iload_n 2, 1) := by decide +kernel
theorem dX1_goOn_22 : decode cX1_goOn 22 = .ok (.iadd, 1) := by decide +kernel
theorem dX1_goOn_23 : decode cX1_goOn 23 = .ok (.aload_n 0, 1) := by decide +kernel
theorem dX1_goOn_24 : decode cX1_goOn 24 = .ok (.getfield 7, 3) := by decide +kernel
theorem dX1_goOn_27 : decode cX1_goOn 27 = .ok (.iload_n 1, 1) := by decide +kernel
theorem dX1_goOn_28 : decode cX1_goOn 28 = .ok (.iload_n 2, 1) := by decide +kernel
theorem dX1_goOn_29 : decode cX1_goOn 29 = .ok (.iadd, 1) := by decide +kernel
theorem dX1_goOn_30 : decode cX1_goOn 30 = .ok (.iaload, 1) := by decide +kernel
theorem dX1_goOn_31 : decode cX1_goOn 31 = .ok (.iastore, 1) := by decide +kernel
theorem dX1_goOn_32 : decode cX1_goOn 32 = .ok (.iinc 2 1, 3) := by decide +kernel
theorem dX1_goOn_35 : decode cX1_goOn 35 = .ok (.goto (-28), 3) := by decide +kernel
theorem dX1_goOn_38 : decode cX1_goOn 38 = .ok (.aload_n 0, 1) := by decide +kernel
theorem dX1_goOn_39 : decode cX1_goOn 39 = .ok (.getfield 13, 3) := by decide +kernel
theorem dX1_goOn_42 : decode cX1_goOn 42 = .ok (.aload_n 0, 1) := by decide +kernel
theorem dX1_goOn_43 : decode cX1_goOn 43 = .ok (.getfield 16, 3) := by decide +kernel
theorem dX1_goOn_46 : decode cX1_goOn 46 = .ok (.iconst 1, 1) := by decide +kernel
theorem dX1_goOn_47 : decode cX1_goOn 47 = .ok (.isub, 1) := by decide +kernel
theorem dX1_goOn_48 : decode cX1_goOn 48 = .ok (.dup2, 1) := by decide +kernel
theorem dX1_goOn_49 : decode cX1_goOn 49 = .ok (.iaload, 1) := by decide +kernel
theorem dX1_goOn_50 : decode cX1_goOn 50 = .ok (.iconst 1, 1) := by decide +kernel
theorem dX1_goOn_51 : decode cX1_goOn 51 = .ok (.iadd, 1) := by decide +kernel
theorem dX1_goOn_52 : decode cX1_goOn 52 = .ok (.iastore, 1) := by decide +kernel
theorem dX1_goOn_53 : decode cX1_goOn 53 = .ok (.return_, 1) := by decide +kernel
theorem dX1_now_0 : decode cX1_now 0 = .ok (.aload_n 0, 1) := by decide +kernel
theorem dX1_now_1 : decode cX1_now 1 = .ok (.getfield 16, 3) := by decide +kernel
theorem dX1_now_4 : decode cX1_now 4 = .ok (.iconst 1, 1) := by decide +kernel
theorem dX1_now_5 : decode cX1_now 5 = .ok (.isub, 1) := by decide +kernel
theorem dX1_now_6 : decode cX1_now 6 = .ok (.istore_n 1, 1) := by decide +kernel
theorem dX1_now_7 : decode cX1_now 7 = .ok (.sipush 248, 3) := by decide +kernel
theorem dX1_now_10 : decode cX1_now 10 = .ok (.iload_n 1, 1) := by decide +kernel
theorem dX1_now_11 : decode cX1_now 11 = .ok (.imul, 1) := by decide +kernel
theorem dX1_now_12 : decode cX1_now 12 = .ok (.bipush 8, 2) := by decide +kernel
theorem dX1_now_14 : decode cX1_now 14 = .ok (.aload_n 0, 1) := by decide +kernel
theorem dX1_now_15 : decode cX1_now 15 = .ok (.getfield 13, 3) := by decide +kernel
theorem dX1_now_18 : decode cX1_now 18 = .ok (.iload_n 1, 1) := by decide +kernel
theorem dX1_now_19 : decode cX1_now 19 = .ok (.iaload, 1) := by decide +kernel
theorem dX1_now_20 : decode cX1_now 20 = .ok (.imul, 1) := by decide +kernel
theorem dX1_now_21 : decode cX1_now 21 = .ok (.iadd, 1) := by decide +kernel
theorem dX1_now_22 : decode cX1_now 22 = .ok (.ireturn, 1) := by decide +kernel
theorem dX1_exchange_0 : decode cX1_exchange 0 = .ok (.aload_n 0, 1) := by decide +kernel
theorem dX1_exchange_1 : decode cX1_exchange 1 = .ok (.iload_n 1, 1) := by decide +kernel
theorem dX1_exchange_2 : decode cX1_exchange 2 = .ok (.invokevirtual 24, 3) := by decide +kernel
theorem dX1_exchange_5 : decode cX1_exchange 5 = .ok (.ifCond .eq 11, 3) := by decide +kernel
theorem dX1_exchange_8 : decode cX1_exchange 8 = .ok (.aload_n 0, 1) := by decide +kernel
theorem dX1_exchange_9 : decode cX1_exchange 9 = .ok (.iload_n 2, 1) := by decide +kernel
theorem dX1_exchange_10 : decode cX1_exchange 10 = .ok (.invokevirtual 24, 3) := by decide +kernel
theorem dX1_exchange_13 : decode cX1_exchange 13 = .ok (.ifCond .ne 5, 3) := by decide +kernel
theorem dX1_exchange_16 : decode cX1_exchange 16 = .ok (.iconst (-1), 1) := by decide +kernel
theorem dX1_exchange_17 : decode cX1_exchange 17 = .ok (.ireturn, 1) := by decide +kernel
theorem dX1_exchange_18 : decode cX1_exchange 18 = .ok (.aload_n 0, 1) := by decide +kernel
theorem dX1_exchange_19 : decode cX1_exchange 19 = .ok (.invokevirtual 28, 3) := by decide +kernel
theorem dX1_exchange_22 : decode cX1_exchange 22 = .ok (.bipush 30, 2) := by decide +kernel
theorem dX1_exchange_24 : decode cX1_exchange 24 = .ok (.if_icmp .ne 6, 3) := by decide +kernel
theorem dX1_exchange_27 : decode cX1_exchange 27 = .ok (.bipush (-2), 2) := by decide +kernel
theorem dX1_exchange_29 : decode cX1_exchange 29 = .ok (.ireturn, 1) := by decide +kernel
theorem dX1_exchange_30 : decode cX1_exchange 30 = .ok (.aload_n 0, 1) := by decide +kernel
theorem dX1_exchange_31 : decode cX1_exchange 31 = .ok (.invokevirtual 31, 3) := by decide +kernel
theorem dX1_exchange_34 : decode cX1_exchange 34 = .ok (.aload_n 0, 1) := by decide +kernel
theorem dX1_exchange_35 : decode cX1_exchange 35 = .ok (.invokevirtual 20, 3) := by decide +kernel
theorem dX1_exchange_38 : decode cX1_exchange 38 = .ok (.istore_n 3, 1) := by decide +kernel
theorem dX1_exchange_39 : decode cX1_exchange 39 = .ok (.aload_n 0, 1) := by decide +kernel
theorem dX1_exchange_40 : decode cX1_exchange 40 = .ok (.getfield 7, 3) := by decide +kernel
theorem dX1_exchange_43 : decode cX1_exchange 43 = .ok (.iload_n 3, 1) := by decide +kernel
theorem dX1_exchange_44 : decode cX1_exchange 44 = .ok (.iload_n 1, 1) := by decide +kernel
theorem dX1_exchange_45 : decode cX1_exchange 45 = .ok (.iadd, 1) := by decide +kernel
theorem dX1_exchange_46 : decode cX1_exchange 46 = .ok (.iaload, 1) := by decide +kernel
theorem dX1_exchange_47 : decode cX1_exchange 47 = .ok (.istore 4, 2) := by decide +kernel
theorem dX1_exchange_49 : decode cX1_exchange 49 = .ok (.aload_n 0, 1) := by decide +kernel
theorem dX1_exchange_50 : decode cX1_exchange 50 = .ok (.getfield 7, 3) := by decide +kernel
theorem dX1_exchange_53 : decode cX1_exchange 53 = .ok (.iload_n 3, 1) := by decide +kernel
theorem dX1_exchange_54 : decode cX1_exchange 54 = .ok (.iload_n 1, 1) := by decide +kernel
theorem dX1_exchange_55 : decode cX1_exchange 55 = .ok (.iadd, 1) := by decide +kernel
theorem dX1_exchange_56 : decode cX1_exchange 56 = .ok (.aload_n 0, 1) := by decide +kernel
theorem dX1_exchange_57 : decode cX1_exchange 57 = .ok (.getfield 7, 3) := by decide +kernel
theorem dX1_exchange_60 : decode cX1_exchange 60 = .ok (.iload_n 3, 1) := by decide +kernel
theorem dX1_exchange_61 : decode cX1_exchange 61 = .ok (.iload_n 2, 1) := by decide +kernel
theorem dX1_exchange_62 : decode cX1_exchange 62 = .ok (.iadd, 1) := by decide +kernel
theorem dX1_exchange_63 : decode cX1_exchange 63 = .ok (.iaload, 1) := by decide +kernel
theorem dX1_exchange_64 : decode cX1_exchange 64 = .ok (.iastore, 1) := by decide +kernel
theorem dX1_exchange_65 : decode cX1_exchange 65 = .ok (.aload_n 0, 1) := by decide +kernel
theorem dX1_exchange_66 : decode cX1_exchange 66 = .ok (.getfield 7, 3) := by decide +kernel
theorem dX1_exchange_69 : decode cX1_exchange 69 = .ok (.iload_n 3, 1) := by decide +kernel
theorem dX1_exchange_70 : decode cX1_exchange 70 = .ok (.iload_n 2, 1) := by decide +kernel
theorem dX1_exchange_71 : decode cX1_exchange 71 = .ok (.iadd, 1) := by decide +kernel
theorem dX1_exchange_72 : decode cX1_exchange 72 = .ok (.iload 4, 2) := by decide +kernel
theorem dX1_exchange_74 : decode cX1_exchange 74 = .ok (.iastore, 1) := by decide +kernel
theorem dX1_exchange_75 : decode cX1_exchange 75 = .ok (.aload_n 0, 1) := by decide +kernel
theorem dX1_exchange_76 : decode cX1_exchange 76 = .ok (.invokevirtual 28, 3) := by decide +kernel
theorem dX1_exchange_79 : decode cX1_exchange 79 = .ok (.ireturn, 1) := by decide +kernel
theorem dX1_add_0 : decode cX1_add 0 = .ok (.aload_n 0, 1) := by decide +kernel
theorem dX1_add_1 : decode cX1_add 1 = .ok (.iload_n 1, 1) := by decide +kernel
theorem dX1_add_2 : decode cX1_add 2 = .ok (.invokevirtual 34, 3) := by decide +kernel
theorem dX1_add_5 : decode cX1_add 5 = .ok (.istore_n 3, 1) := by decide +kernel
theorem dX1_add_6 : decode cX1_add 6 = .ok (.aload_n 0, 1) := by decide +kernel
theorem dX1_add_7 : decode cX1_add 7 = .ok (.iload_n 1, 1) := by decide +kernel
theorem dX1_add_8 : decode cX1_add 8 = .ok (.iload_n 3, 1) := by decide +kernel
theorem dX1_add_9 : decode cX1_add 9 = .ok (.iload_n 2, 1) := by decide +kernel
theorem dX1_add_10 : decode cX1_add 10 = .ok (.iadd, 1) := by decide +kernel
theorem dX1_add_11 : decode cX1_add 11 = .ok (.invokevirtual 38, 3) := by decide +kernel
theorem dX1_add_14 : decode cX1_add 14 = .ok (.ireturn, 1) := by decide +kernel
theorem dX1_get_0 : decode cX1_get 0 = .ok (.aload_n 0, 1) := by decide +kernel
theorem dX1_get_1 : decode cX1_get 1 = .ok (.invokevirtual 20, 3) := by decide +kernel
theorem dX1_get_4 : decode cX1_get 4 = .ok (.istore_n 2, 1) := by decide +kernel
theorem dX1_get_5 : decode cX1_get 5 = .ok (.aload_n 0, 1) := by decide +kernel
theorem dX1_get_6 : decode cX1_get 6 = .ok (.iload_n 1, 1) := by decide +kernel
theorem dX1_get_7 : decode cX1_get 7 = .ok (.invokevirtual 24, 3) := by decide +kernel
theorem dX1_get_10 : decode cX1_get 10 = .ok (.ifCond .eq 14, 3) := by decide +kernel
theorem dX1_get_13 : decode cX1_get 13 = .ok (.aload_n 0, 1) := by decide +kernel
theorem dX1_get_14 : decode cX1_get 14 = .ok (.getfield 7, 3) := by decide +kernel
theorem dX1_get_17 : decode cX1_get 17 = .ok (.iload_n 2, 1) := by decide +kernel
theorem dX1_get_18 : decode cX1_get 18 = .ok (.iload_n 1, 1) := by decide +kernel
theorem dX1_get_19 : decode cX1_get 19 = .ok (.iadd, 1) := by decide +kernel
theorem dX1_get_20 : decode cX1_get 20 = .ok (.iaload, 1) := by decide +kernel
theorem dX1_get_21 : decode cX1_get 21 = .ok (.goto 4, 3) := by decide +kernel
theorem dX1_get_24 : decode cX1_get 24 = .ok (.iconst 0, 1) := by decide +kernel
theorem dX1_get_25 : decode cX1_get 25 = .ok (.ireturn, 1) := by decide +kernel
theorem dX1_timeline_0 : decode cX1_timeline 0 = .ok (.aload_n 0, 1) := by decide +kernel
theorem dX1_timeline_1 : decode cX1_timeline 1 = .ok (.getfield 16, 3) := by decide +kernel
theorem dX1_timeline_4 : decode cX1_timeline 4 = .ok (.iconst 1, 1) := by decide +kernel
theorem dX1_timeline_5 : decode cX1_timeline 5 = .ok (.isub, 1) := by decide +kernel
theorem dX1_timeline_6 : decode cX1_timeline 6 = .ok (.ireturn, 1) := by decide +kernel
theorem dX1_restore_0 : decode cX1_restore 0 = .ok (.aload_n 0, 1) := by decide +kernel
theorem dX1_restore_1 : decode cX1_restore 1 = .ok (.iload_n 1, 1) := by decide +kernel
theorem dX1_restore_2 : decode cX1_restore 2 = .ok (.iload_n 2, 1) := by decide +kernel
theorem dX1_restore_3 : decode cX1_restore 3 = .ok (.invokevirtual 42, 3) := by decide +kernel
theorem dX1_restore_6 : decode cX1_restore 6 = .ok (.ifCond .ne 6, 3) := by decide +kernel
theorem dX1_restore_9 : decode cX1_restore 9 = .ok (.bipush (-4), 2) := by decide +kernel
theorem dX1_restore_11 : decode cX1_restore 11 = .ok (.ireturn, 1) := by decide +kernel
theorem dX1_restore_12 : decode cX1_restore 12 = .ok (.aload_n 0, 1) := by decide +kernel
theorem dX1_restore_13 : decode cX1_restore 13 = .ok (.getfield 16, 3) := by decide +kernel
theorem dX1_restore_16 : decode cX1_restore 16 = .ok (.bipush 6, 2) := by decide +kernel
theorem dX1_restore_18 : decode cX1_restore 18 = .ok (.if_icmp .ne 6, 3) := by decide +kernel
theorem dX1_restore_21 : decode cX1_restore 21 = .ok (.bipush (-2), 2) := by decide +kernel
theorem dX1_restore_23 : decode cX1_restore 23 = .ok (.ireturn, 1) := by decide +kernel
theorem dX1_restore_24 : decode cX1_restore 24 = .ok (.iconst 0, 1) := by decide +kernel
theorem dX1_restore_25 : decode cX1_restore 25 = .ok (.istore_n 3, 1) := by decide +kernel
theorem dX1_restore_26 : decode cX1_restore 26 = .ok (.iload_n 3, 1) := by decide +kernel
theorem dX1_restore_27 : decode cX1_restore 27 = .ok (.bipush 8, 2) := by decide +kernel
theorem dX1_restore_29 : decode cX1_restore 29 = .ok (.iload_n 2, 1) := by decide +kernel
theorem dX1_restore_30 : decode cX1_restore 30 = .ok (.imul, 1) := by decide +kernel
theorem dX1_restore_31 : decode cX1_restore 31 = .ok (.bipush 8, 2) := by decide +kernel
theorem dX1_restore_33 : decode cX1_restore 33 = .ok (.iadd, 1) := by decide +kernel
theorem dX1_restore_34 : decode cX1_restore 34 = .ok (.if_icmp .ge 36, 3) := by decide +kernel
theorem dX1_restore_37 : decode cX1_restore 37 = .ok (.aload_n 0, 1) := by decide +kernel
theorem dX1_restore_38 : decode cX1_restore 38 = .ok (.getfield 7, 3) := by decide +kernel
theorem dX1_restore_41 : decode cX1_restore 41 = .ok (.sipush 248, 3) := by decide +kernel
theorem dX1_restore_44 : decode cX1_restore 44 = .ok (.aload_n 0, 1) := by decide +kernel
theorem dX1_restore_45 : decode cX1_restore 45 = .ok (.getfield 16, 3) := by decide +kernel
theorem dX1_restore_48 : decode cX1_restore 48 = .ok (.imul, 1) := by decide +kernel
theorem dX1_restore_49 : decode cX1_restore 49 = .ok (.iload_n 3, 1) := by decide +kernel
theorem dX1_restore_50 : decode cX1_restore 50 = .ok (.iadd, 1) := by decide +kernel
theorem dX1_restore_51 : decode cX1_restore 51 = .ok (.aload_n 0, 1) := by decide +kernel
theorem dX1_restore_52 : decode cX1_restore 52 = .ok (.getfield 7, 3) := by decide +kernel
theorem dX1_restore_55 : decode cX1_restore 55 = .ok (.sipush 248, 3) := by decide +kernel
theorem dX1_restore_58 : decode cX1_restore 58 = .ok (.iload_n 1, 1) := by decide +kernel
theorem dX1_restore_59 : decode cX1_restore 59 = .ok (.imul, 1) := by decide +kernel
theorem dX1_restore_60 : decode cX1_restore 60 = .ok (.iload_n 3, 1) := by decide +kernel
theorem dX1_restore_61 : decode cX1_restore 61 = .ok (.iadd, 1) := by decide +kernel
theorem dX1_restore_62 : decode cX1_restore 62 = .ok (.iaload, 1) := by decide +kernel
theorem dX1_restore_63 : decode cX1_restore 63 = .ok (.iastore, 1) := by decide +kernel
theorem dX1_restore_64 : decode cX1_restore 64 = .ok (.iinc 3 1, 3) := by decide +kernel
theorem dX1_restore_67 : decode cX1_restore 67 = .ok (.goto (-41), 3) := by decide +kernel
theorem dX1_restore_70 : decode cX1_restore 70 = .ok (.aload_n 0, 1) := by decide +kernel
theorem dX1_restore_71 : decode cX1_restore 71 = .ok (.getfield 13, 3) := by decide +kernel
theorem dX1_restore_74 : decode cX1_restore 74 = .ok (.aload_n 0, 1) := by decide +kernel
theorem dX1_restore_75 : decode cX1_restore 75 = .ok (.getfield 16, 3) := by decide +kernel
theorem dX1_restore_78 : decode cX1_restore 78 = .ok (.iload_n 2, 1) := by decide +kernel
theorem dX1_restore_79 : decode cX1_restore 79 = .ok (.iastore, 1) := by decide +kernel
theorem dX1_restore_80 : decode cX1_restore 80 = .ok (.aload_n 0, 1) := by decide +kernel
theorem dX1_restore_81 : decode cX1_restore 81 = .ok (.dup, 1) := by decide +kernel
theorem dX1_restore_82 : decode cX1_restore 82 = .ok (.getfield 16, 3) := by decide +kernel
theorem dX1_restore_85 : decode cX1_restore 85 = .ok (.iconst 1, 1) := by decide +kernel
theorem dX1_restore_86 : decode cX1_restore 86 = .ok (.iadd, 1) := by decide +kernel
theorem dX1_restore_87 : decode cX1_restore 87 = .ok (.putfield 16, 3) := by decide +kernel
theorem dX1_restore_90 : decode cX1_restore 90 = .ok (.aload_n 0, 1) := by decide +kernel
theorem dX1_restore_91 : decode cX1_restore 91 = .ok (.getfield 16, 3) := by decide +kernel
theorem dX1_restore_94 : decode cX1_restore 94 = .ok (.iconst 1, 1) := by decide +kernel
theorem dX1_restore_95 : decode cX1_restore 95 = .ok (.isub, 1) := by decide +kernel
theorem dX1_restore_96 : decode cX1_restore 96 = .ok (.ireturn, 1) := by decide +kernel
theorem dX1_isPoint_0 : decode cX1_isPoint 0 = .ok (.iload_n 1, 1) := by decide +kernel
theorem dX1_isPoint_1 : decode cX1_isPoint 1 = .ok (.ifCond .lt 29, 3) := by decide +kernel
theorem dX1_isPoint_4 : decode cX1_isPoint 4 = .ok (.iload_n 1, 1) := by decide +kernel
theorem dX1_isPoint_5 : decode cX1_isPoint 5 = .ok (.aload_n 0, 1) := by decide +kernel
theorem dX1_isPoint_6 : decode cX1_isPoint 6 = .ok (.getfield 16, 3) := by decide +kernel
theorem dX1_isPoint_9 : decode cX1_isPoint 9 = .ok (.if_icmp .ge 21, 3) := by decide +kernel
theorem dX1_isPoint_12 : decode cX1_isPoint 12 = .ok (.iload_n 2, 1) := by decide +kernel
theorem dX1_isPoint_13 : decode cX1_isPoint 13 = .ok (.ifCond .lt 17, 3) := by decide +kernel
theorem dX1_isPoint_16 : decode cX1_isPoint 16 = .ok (.iload_n 2, 1) := by decide +kernel
theorem dX1_isPoint_17 : decode cX1_isPoint 17 = .ok (.aload_n 0, 1) := by decide +kernel
theorem dX1_isPoint_18 : decode cX1_isPoint 18 = .ok (.getfield 13, 3) := by decide +kernel
theorem dX1_isPoint_21 : decode cX1_isPoint 21 = .ok (.iload_n 1, 1) := by decide +kernel
theorem dX1_isPoint_22 : decode cX1_isPoint 22 = .ok (.iaload, 1) := by decide +kernel
theorem dX1_isPoint_23 : decode cX1_isPoint 23 = .ok (.if_icmp .gt 7, 3) := by decide +kernel
theorem dX1_isPoint_26 : decode cX1_isPoint 26 = .ok (.iconst 1, 1) := by decide +kernel
theorem dX1_isPoint_27 : decode cX1_isPoint 27 = .ok (.goto 4, 3) := by decide +kernel
theorem dX1_isPoint_30 : decode cX1_isPoint 30 = .ok (.iconst 0, 1) := by decide +kernel
theorem dX1_isPoint_31 : decode cX1_isPoint 31 = .ok (.ireturn, 1) := by decide +kernel
theorem dX1_valueAt_0 : decode cX1_valueAt 0 = .ok (.aload_n 0, 1) := by decide +kernel
theorem dX1_valueAt_1 : decode cX1_valueAt 1 = .ok (.iload_n 1, 1) := by decide +kernel
theorem dX1_valueAt_2 : decode cX1_valueAt 2 = .ok (.iload_n 2, 1) := by decide +kernel
theorem dX1_valueAt_3 : decode cX1_valueAt 3 = .ok (.invokevirtual 42, 3) := by decide +kernel
theorem dX1_valueAt_6 : decode cX1_valueAt 6 = .ok (.ifCond .eq 31, 3) := by decide +kernel
theorem dX1_valueAt_9 : decode cX1_valueAt 9 = .ok (.aload_n 0, 1) := by decide +kernel
theorem dX1_valueAt_10 : decode cX1_valueAt 10 = .ok (.iload_n 3, 1) := by decide +kernel
theorem dX1_valueAt_11 : decode cX1_valueAt 11 = .ok (.invokevirtual 24, 3) := by decide +kernel
theorem dX1_valueAt_14 : decode cX1_valueAt 14 = .ok (.ifCond .eq 23, 3) := by decide +kernel
theorem dX1_valueAt_17 : decode cX1_valueAt 17 = .ok (.aload_n 0, 1) := by decide +kernel
theorem dX1_valueAt_18 : decode cX1_valueAt 18 = .ok (.getfield 7, 3) := by decide +kernel
theorem dX1_valueAt_21 : decode cX1_valueAt 21 = .ok (.sipush 248, 3) := by decide +kernel
theorem dX1_valueAt_24 : decode cX1_valueAt 24 = .ok (.iload_n 1, 1) := by decide +kernel
theorem dX1_valueAt_25 : decode cX1_valueAt 25 = .ok (.imul, 1) := by decide +kernel
theorem dX1_valueAt_26 : decode cX1_valueAt 26 = .ok (.bipush 8, 2) := by decide +kernel
theorem dX1_valueAt_28 : decode cX1_valueAt 28 = .ok (.iload_n 2, 1) := by decide +kernel
theorem dX1_valueAt_29 : decode cX1_valueAt 29 = .ok (.imul, 1) := by decide +kernel
theorem dX1_valueAt_30 : decode cX1_valueAt 30 = .ok (.iadd, 1) := by decide +kernel
theorem dX1_valueAt_31 : decode cX1_valueAt 31 = .ok (.iload_n 3, 1) := by decide +kernel
theorem dX1_valueAt_32 : decode cX1_valueAt 32 = .ok (.iadd, 1) := by decide +kernel
theorem dX1_valueAt_33 : decode cX1_valueAt 33 = .ok (.iaload, 1) := by decide +kernel
theorem dX1_valueAt_34 : decode cX1_valueAt 34 = .ok (.goto 4, 3) := by decide +kernel
theorem dX1_valueAt_37 : decode cX1_valueAt 37 = .ok (.iconst 0, 1) := by decide +kernel
theorem dX1_valueAt_38 : decode cX1_valueAt 38 = .ok (.ireturn, 1) := by decide +kernel
theorem dX1_lastPoint_0 : decode cX1_lastPoint 0 = .ok (.aload_n 0, 1) := by decide +kernel
theorem dX1_lastPoint_1 : decode cX1_lastPoint 1 = .ok (.iload_n 1, 1) := by decide +kernel
theorem dX1_lastPoint_2 : decode cX1_lastPoint 2 = .ok (.iconst 0, 1) := by decide +kernel
theorem dX1_lastPoint_3 : decode cX1_lastPoint 3 = .ok (.invokevirtual 42, 3) := by decide +kernel
theorem dX1_lastPoint_6 : decode cX1_lastPoint 6 = .ok (.ifCond .eq 12, 3) := by decide +kernel
theorem dX1_lastPoint_9 : decode cX1_lastPoint 9 = .ok (.aload_n 0, 1) := by decide +kernel
theorem dX1_lastPoint_10 : decode cX1_lastPoint 10 = .ok (.getfield 13, 3) := by decide +kernel
theorem dX1_lastPoint_13 : decode cX1_lastPoint 13 = .ok (.iload_n 1, 1) := by decide +kernel
theorem dX1_lastPoint_14 : decode cX1_lastPoint 14 = .ok (.iaload, 1) := by decide +kernel
theorem dX1_lastPoint_15 : decode cX1_lastPoint 15 = .ok (.goto 5, 3) := by decide +kernel
theorem dX1_lastPoint_18 : decode cX1_lastPoint 18 = .ok (.bipush (-4), 2) := by decide +kernel
theorem dX1_lastPoint_20 : decode cX1_lastPoint 20 = .ok (.ireturn, 1) := by decide +kernel
theorem dX1_lastChange_0 : decode cX1_lastChange 0 = .ok (.aload_n 0, 1) := by decide +kernel
theorem dX1_lastChange_1 : decode cX1_lastChange 1 = .ok (.iload_n 3, 1) := by decide +kernel
theorem dX1_lastChange_2 : decode cX1_lastChange 2 = .ok (.invokevirtual 24, 3) := by decide +kernel
theorem dX1_lastChange_5 : decode cX1_lastChange 5 = .ok (.ifCond .ne 5, 3) := by decide +kernel
theorem dX1_lastChange_8 : decode cX1_lastChange 8 = .ok (.iconst (-1), 1) := by decide +kernel
theorem dX1_lastChange_9 : decode cX1_lastChange 9 = .ok (.ireturn, 1) := by decide +kernel
theorem dX1_lastChange_10 : decode cX1_lastChange 10 = .ok (.aload_n 0, 1) := by decide +kernel
theorem dX1_lastChange_11 : decode cX1_lastChange 11 = .ok (.iload_n 1, 1) := by decide +kernel
theorem dX1_lastChange_12 : decode cX1_lastChange 12 = .ok (.iload_n 2, 1) := by decide +kernel
theorem dX1_lastChange_13 : decode cX1_lastChange 13 = .ok (.invokevirtual 42, 3) := by decide +kernel
theorem dX1_lastChange_16 : decode cX1_lastChange 16 = .ok (.ifCond .ne 6, 3) := by decide +kernel
theorem dX1_lastChange_19 : decode cX1_lastChange 19 = .ok (.bipush (-4), 2) := by decide +kernel
theorem dX1_lastChange_21 : decode cX1_lastChange 21 = .ok (.ireturn, 1) := by decide +kernel
theorem dX1_lastChange_22 : decode cX1_lastChange 22 = .ok (.iload_n 2, 1) := by decide +kernel
theorem dX1_lastChange_23 : decode cX1_lastChange 23 = .ok (.istore 4, 2) := by decide +kernel
theorem dX1_lastChange_25 : decode cX1_lastChange 25 = .ok (.iload 4, 2) := by decide +kernel
theorem dX1_lastChange_27 : decode cX1_lastChange 27 = .ok (.ifCond .le 54, 3) := by decide +kernel
theorem dX1_lastChange_30 : decode cX1_lastChange 30 = .ok (.aload_n 0, 1) := by decide +kernel
theorem dX1_lastChange_31 : decode cX1_lastChange 31 = .ok (.getfield 7, 3) := by decide +kernel
theorem dX1_lastChange_34 : decode cX1_lastChange 34 = .ok (.sipush 248, 3) := by decide +kernel
theorem dX1_lastChange_37 : decode cX1_lastChange 37 = .ok (.iload_n 1, 1) := by decide +kernel
theorem dX1_lastChange_38 : decode cX1_lastChange 38 = .ok (.imul, 1) := by decide +kernel
theorem dX1_lastChange_39 : decode cX1_lastChange 39 = .ok (.bipush 8, 2) := by decide +kernel
theorem dX1_lastChange_41 : decode cX1_lastChange 41 = .ok (.iload 4, 2) := by decide +kernel
theorem dX1_lastChange_43 : decode cX1_lastChange 43 = .ok (.imul, 1) := by decide +kernel
theorem dX1_lastChange_44 : decode cX1_lastChange 44 = .ok (.iadd, 1) := by decide +kernel
theorem dX1_lastChange_45 : decode cX1_lastChange 45 = .ok (.iload_n 3, 1) := by decide +kernel
theorem dX1_lastChange_46 : decode cX1_lastChange 46 = .ok (.iadd, 1) := by decide +kernel
theorem dX1_lastChange_47 : decode cX1_lastChange 47 = .ok (.iaload, 1) := by decide +kernel
theorem dX1_lastChange_48 : decode cX1_lastChange 48 = .ok (.aload_n 0, 1) := by decide +kernel
theorem dX1_lastChange_49 : decode cX1_lastChange 49 = .ok (.getfield 7, 3) := by decide +kernel
theorem dX1_lastChange_52 : decode cX1_lastChange 52 = .ok (.sipush 248, 3) := by decide +kernel
theorem dX1_lastChange_55 : decode cX1_lastChange 55 = .ok (.iload_n 1, 1) := by decide +kernel
theorem dX1_lastChange_56 : decode cX1_lastChange 56 = .ok (.imul, 1) := by decide +kernel
theorem dX1_lastChange_57 : decode cX1_lastChange 57 = .ok (.bipush 8, 2) := by decide +kernel
theorem dX1_lastChange_59 : decode cX1_lastChange 59 = .ok (.iload 4, 2) := by decide +kernel
theorem dX1_lastChange_61 : decode cX1_lastChange 61 = .ok (.imul, 1) := by decide +kernel
theorem dX1_lastChange_62 : decode cX1_lastChange 62 = .ok (.iadd, 1) := by decide +kernel
theorem dX1_lastChange_63 : decode cX1_lastChange 63 = .ok (.bipush 8, 2) := by decide +kernel
theorem dX1_lastChange_65 : decode cX1_lastChange 65 = .ok (.isub, 1) := by decide +kernel
theorem dX1_lastChange_66 : decode cX1_lastChange 66 = .ok (.iload_n 3, 1) := by decide +kernel
theorem dX1_lastChange_67 : decode cX1_lastChange 67 = .ok (.iadd, 1) := by decide +kernel
theorem dX1_lastChange_68 : decode cX1_lastChange 68 = .ok (.iaload, 1) := by decide +kernel
theorem dX1_lastChange_69 : decode cX1_lastChange 69 = .ok (.if_icmp .eq 6, 3) := by decide +kernel
theorem dX1_lastChange_72 : decode cX1_lastChange 72 = .ok (.iload 4, 2) := by decide +kernel
theorem dX1_lastChange_74 : decode cX1_lastChange 74 = .ok (.ireturn, 1) := by decide +kernel
theorem dX1_lastChange_75 : decode cX1_lastChange 75 = .ok (.iinc 4 (-1), 3) := by decide +kernel
theorem dX1_lastChange_78 : decode cX1_lastChange 78 = .ok (.goto (-53), 3) := by decide +kernel
theorem dX1_lastChange_81 : decode cX1_lastChange 81 = .ok (.iconst 0, 1) := by decide +kernel
theorem dX1_lastChange_82 : decode cX1_lastChange 82 = .ok (.ireturn, 1) := by decide +kernel
theorem dX1_differs_0 : decode cX1_differs 0 = .ok (.aload_n 0, 1) := by decide +kernel
theorem dX1_differs_1 : decode cX1_differs 1 = .ok (.iload_n 1, 1) := by decide +kernel
theorem dX1_differs_2 : decode cX1_differs 2 = .ok (.iload_n 2, 1) := by decide +kernel
theorem dX1_differs_3 : decode cX1_differs 3 = .ok (.invokevirtual 42, 3) := by decide +kernel
theorem dX1_differs_6 : decode cX1_differs 6 = .ok (.ifCond .ne 6, 3) := by decide +kernel
theorem dX1_differs_9 : decode cX1_differs 9 = .ok (.bipush (-4), 2) := by decide +kernel
theorem dX1_differs_11 : decode cX1_differs 11 = .ok (.ireturn, 1) := by decide +kernel
theorem dX1_differs_12 : decode cX1_differs 12 = .ok (.aload_n 0, 1) := by decide +kernel
theorem dX1_differs_13 : decode cX1_differs 13 = .ok (.invokevirtual 20, 3) := by decide +kernel
theorem dX1_differs_16 : decode cX1_differs 16 = .ok (.istore_n 3, 1) := by decide +kernel
theorem dX1_differs_17 : decode cX1_differs 17 = .ok (.iconst 0, 1) := by decide +kernel
theorem dX1_differs_18 : decode cX1_differs 18 = .ok (.istore 4, 2) := by decide +kernel
theorem dX1_differs_20 : decode cX1_differs 20 = .ok (.iconst 0, 1) := by decide +kernel
theorem dX1_differs_21 : decode cX1_differs 21 = .ok (.istore 5, 2) := by decide +kernel
theorem dX1_differs_23 : decode cX1_differs 23 = .ok (.iload 5, 2) := by decide +kernel
theorem dX1_differs_25 : decode cX1_differs 25 = .ok (.bipush 8, 2) := by decide +kernel
theorem dX1_differs_27 : decode cX1_differs 27 = .ok (.if_icmp .ge 50, 3) := by decide +kernel
theorem dX1_differs_30 : decode cX1_differs 30 = .ok (.aload_n 0, 1) := by decide +kernel
theorem dX1_differs_31 : decode cX1_differs 31 = .ok (.getfield 7, 3) := by decide +kernel
theorem dX1_differs_34 : decode cX1_differs 34 = .ok (.sipush 248, 3) := by decide +kernel
theorem dX1_differs_37 : decode cX1_differs 37 = .ok (.iload_n 1, 1) := by decide +kernel
theorem dX1_differs_38 : decode cX1_differs 38 = .ok (.imul, 1) := by decide +kernel
theorem dX1_differs_39 : decode cX1_differs 39 = .ok (.bipush 8, 2) := by decide +kernel
theorem dX1_differs_41 : decode cX1_differs 41 = .ok (.iload_n 2, 1) := by decide +kernel
theorem dX1_differs_42 : decode cX1_differs 42 = .ok (.imul, 1) := by decide +kernel
theorem dX1_differs_43 : decode cX1_differs 43 = .ok (.iadd, 1) := by decide +kernel
theorem dX1_differs_44 : decode cX1_differs 44 = .ok (.iload 5, 2) := by decide +kernel
theorem dX1_differs_46 : decode cX1_differs 46 = .ok (.iadd, 1) := by decide +kernel
theorem dX1_differs_47 : decode cX1_differs 47 = .ok (.iaload, 1) := by decide +kernel
theorem dX1_differs_48 : decode cX1_differs 48 = .ok (.aload_n 0, 1) := by decide +kernel
theorem dX1_differs_49 : decode cX1_differs 49 = .ok (.getfield 7, 3) := by decide +kernel
theorem dX1_differs_52 : decode cX1_differs 52 = .ok (.iload_n 3, 1) := by decide +kernel
theorem dX1_differs_53 : decode cX1_differs 53 = .ok (.iload 5, 2) := by decide +kernel
theorem dX1_differs_55 : decode cX1_differs 55 = .ok (.iadd, 1) := by decide +kernel
theorem dX1_differs_56 : decode cX1_differs 56 = .ok (.iaload, 1) := by decide +kernel
theorem dX1_differs_57 : decode cX1_differs 57 = .ok (.if_icmp .eq 10, 3) := by decide +kernel
theorem dX1_differs_60 : decode cX1_differs 60 = .ok (.iload 4, 2) := by decide +kernel
theorem dX1_differs_62 : decode cX1_differs 62 = .ok (.iconst 1, 1) := by decide +kernel
theorem dX1_differs_63 : decode cX1_differs 63 = .ok (.iadd, 1) := by decide +kernel
theorem dX1_differs_64 : decode cX1_differs 64 = .ok (.goto 5, 3) := by decide +kernel
theorem dX1_differs_67 : decode cX1_differs 67 = .ok (.iload 4, 2) := by decide +kernel
theorem dX1_differs_69 : decode cX1_differs 69 = .ok (.istore 4, 2) := by decide +kernel
theorem dX1_differs_71 : decode cX1_differs 71 = .ok (.iinc 5 1, 3) := by decide +kernel
theorem dX1_differs_74 : decode cX1_differs 74 = .ok (.goto (-51), 3) := by decide +kernel
theorem dX1_differs_77 : decode cX1_differs 77 = .ok (.iload 4, 2) := by decide +kernel
theorem dX1_differs_79 : decode cX1_differs 79 = .ok (.ireturn, 1) := by decide +kernel
theorem dX1_crash_0 : decode cX1_crash 0 = .ok (.iconst 0, 1) := by decide +kernel
theorem dX1_crash_1 : decode cX1_crash 1 = .ok (.ireturn, 1) := by decide +kernel
theorem dX1_backup_0 : decode cX1_backup 0 = .ok (.iload_n 1, 1) := by decide +kernel
theorem dX1_backup_1 : decode cX1_backup 1 = .ok (.ifCond .lt 9, 3) := by decide +kernel
theorem dX1_backup_4 : decode cX1_backup 4 = .ok (.iload_n 1, 1) := by decide +kernel
theorem dX1_backup_5 : decode cX1_backup 5 = .ok (.bipush 8, 2) := by decide +kernel
theorem dX1_backup_7 : decode cX1_backup 7 = .ok (.if_icmp .le 7, 3) := by decide +kernel
theorem dX1_backup_10 : decode cX1_backup 10 = .ok (.iconst (-1), 1) := by decide +kernel
theorem dX1_backup_11 : decode cX1_backup 11 = .ok (.goto 4, 3) := by decide +kernel
theorem dX1_backup_14 : decode cX1_backup 14 = .ok (.iconst 0, 1) := by decide +kernel
theorem dX1_backup_15 : decode cX1_backup 15 = .ok (.ireturn, 1) := by decide +kernel
theorem dX1_flush_0 : decode cX1_flush 0 = .ok (.iload_n 1, 1) := by decide +kernel
theorem dX1_flush_1 : decode cX1_flush 1 = .ok (.ifCond .lt 9, 3) := by decide +kernel
theorem dX1_flush_4 : decode cX1_flush 4 = .ok (.iload_n 1, 1) := by decide +kernel
theorem dX1_flush_5 : decode cX1_flush 5 = .ok (.bipush 8, 2) := by decide +kernel
theorem dX1_flush_7 : decode cX1_flush 7 = .ok (.if_icmp .le 7, 3) := by decide +kernel
theorem dX1_flush_10 : decode cX1_flush 10 = .ok (.iconst (-1), 1) := by decide +kernel
theorem dX1_flush_11 : decode cX1_flush 11 = .ok (.goto 4, 3) := by decide +kernel
theorem dX1_flush_14 : decode cX1_flush 14 = .ok (.iconst 0, 1) := by decide +kernel
theorem dX1_flush_15 : decode cX1_flush 15 = .ok (.ireturn, 1) := by decide +kernel
theorem dX1_digest_0 : decode cX1_digest 0 = .ok (.aload_n 0, 1) := by decide +kernel
theorem dX1_digest_1 : decode cX1_digest 1 = .ok (.invokevirtual 20, 3) := by decide +kernel
theorem dX1_digest_4 : decode cX1_digest 4 = .ok (.istore_n 1, 1) := by decide +kernel
theorem dX1_digest_5 : decode cX1_digest 5 = .ok (.iconst 0, 1) := by decide +kernel
theorem dX1_digest_6 : decode cX1_digest 6 = .ok (.istore_n 2, 1) := by decide +kernel
theorem dX1_digest_7 : decode cX1_digest 7 = .ok (.iconst 0, 1) := by decide +kernel
theorem dX1_digest_8 : decode cX1_digest 8 = .ok (.istore_n 3, 1) := by decide +kernel
theorem dX1_digest_9 : decode cX1_digest 9 = .ok (.iload_n 3, 1) := by decide +kernel
theorem dX1_digest_10 : decode cX1_digest 10 = .ok (.bipush 8, 2) := by decide +kernel
theorem dX1_digest_12 : decode cX1_digest 12 = .ok (.if_icmp .ge 24, 3) := by decide +kernel
theorem dX1_digest_15 : decode cX1_digest 15 = .ok (.iload_n 2, 1) := by decide +kernel
theorem dX1_digest_16 : decode cX1_digest 16 = .ok (.iload_n 3, 1) := by decide +kernel
theorem dX1_digest_17 : decode cX1_digest 17 = .ok (.iconst 1, 1) := by decide +kernel
theorem dX1_digest_18 : decode cX1_digest 18 = .ok (.iadd, 1) := by decide +kernel
theorem dX1_digest_19 : decode cX1_digest 19 = .ok (.aload_n 0, 1) := by decide +kernel
theorem dX1_digest_20 : decode cX1_digest 20 = .ok (.getfield 7, 3) := by decide +kernel
theorem dX1_digest_23 : decode cX1_digest 23 = .ok (.iload_n 1, 1) := by decide +kernel
theorem dX1_digest_24 : decode cX1_digest 24 = .ok (.iload_n 3, 1) := by decide +kernel
theorem dX1_digest_25 : decode cX1_digest 25 = .ok (.iadd, 1) := by decide +kernel
theorem dX1_digest_26 : decode cX1_digest 26 = .ok (.iaload, 1) := by decide +kernel
theorem dX1_digest_27 : decode cX1_digest 27 = .ok (.imul, 1) := by decide +kernel
theorem dX1_digest_28 : decode cX1_digest 28 = .ok (.iadd, 1) := by decide +kernel
theorem dX1_digest_29 : decode cX1_digest 29 = .ok (.istore_n 2, 1) := by decide +kernel
theorem dX1_digest_30 : decode cX1_digest 30 = .ok (.iinc 3 1, 3) := by decide +kernel
theorem dX1_digest_33 : decode cX1_digest 33 = .ok (.goto (-24), 3) := by decide +kernel
theorem dX1_digest_36 : decode cX1_digest 36 = .ok (.iload_n 2, 1) := by decide +kernel
theorem dX1_digest_37 : decode cX1_digest 37 = .ok (.ireturn, 1) := by decide +kernel
end
section
set_option maxRecDepth 100000
theorem dL_law_0 : decode cL_law 0 = .ok (.new 7, 3) := by decide +kernel
theorem dL_law_3 : decode cL_law 3 = .ok (.dup, 1) := by decide +kernel
theorem dL_law_4 : decode cL_law 4 = .ok (.invokespecial 9, 3) := by decide +kernel
theorem dL_law_7 : decode cL_law 7 = .ok (.astore_n 1, 1) := by decide +kernel
theorem dL_law_8 : decode cL_law 8 = .ok (.new 10, 3) := by decide +kernel
theorem dL_law_11 : decode cL_law 11 = .ok (.dup, 1) := by decide +kernel
theorem dL_law_12 : decode cL_law 12 = .ok (.invokespecial 12, 3) := by decide +kernel
theorem dL_law_15 : decode cL_law 15 = .ok (.astore_n 2, 1) := by decide +kernel
theorem dL_law_16 : decode cL_law 16 = .ok (.iconst 0, 1) := by decide +kernel
theorem dL_law_17 : decode cL_law 17 = .ok (.istore_n 3, 1) := by decide +kernel
theorem dL_law_18 : decode cL_law 18 = .ok (.iload_n 3, 1) := by decide +kernel
theorem dL_law_19 : decode cL_law 19 = .ok (.aload_n 0, 1) := by decide +kernel
theorem dL_law_20 : decode cL_law 20 = .ok (.arraylength, 1) := by decide +kernel
theorem dL_law_21 : decode cL_law 21 = .ok (.iconst 4, 1) := by decide +kernel
theorem dL_law_22 : decode cL_law 22 = .ok (.isub, 1) := by decide +kernel
theorem dL_law_23 : decode cL_law 23 = .ok (.if_icmp .gt 486, 3) := by decide +kernel
theorem dL_law_26 : decode cL_law 26 = .ok (.aload_n 0, 1) := by decide +kernel
theorem dL_law_27 : decode cL_law 27 = .ok (.iload_n 3, 1) := by decide +kernel
theorem dL_law_28 : decode cL_law 28 = .ok (.iaload, 1) := by decide +kernel
theorem dL_law_29 : decode cL_law 29 = .ok (.bipush 15, 2) := by decide +kernel
theorem dL_law_31 : decode cL_law 31 = .ok (.iand, 1) := by decide +kernel
theorem dL_law_32 : decode cL_law 32 = .ok (.tableswitch 471 0 14 #[76, 109, 142, 175, 198, 211, 224, 257, 300, 323, 366, 399, 412, 435, 458], 76) := by decide +kernel
theorem dL_law_108 : decode cL_law 108 = .ok (.aload_n 1, 1) := by decide +kernel
theorem dL_law_109 : decode cL_law 109 = .ok (.aload_n 0, 1) := by decide +kernel
theorem dL_law_110 : decode cL_law 110 = .ok (.iload_n 3, 1) := by decide +kernel
theorem dL_law_111 : decode cL_law 111 = .ok (.iconst 1, 1) := by decide +kernel
theorem dL_law_112 : decode cL_law 112 = .ok (.iadd, 1) := by decide +kernel
theorem dL_law_113 : decode cL_law 113 = .ok (.iaload, 1) := by decide +kernel
theorem dL_law_114 : decode cL_law 114 = .ok (.aload_n 0, 1) := by decide +kernel
theorem dL_law_115 : decode cL_law 115 = .ok (.iload_n 3, 1) := by decide +kernel
theorem dL_law_116 : decode cL_law 116 = .ok (.iconst 2, 1) := by decide +kernel
theorem dL_law_117 : decode cL_law 117 = .ok (.iadd, 1) := by decide +kernel
theorem dL_law_118 : decode cL_law 118 = .ok (.iaload, 1) := by decide +kernel
theorem dL_law_119 : decode cL_law 119 = .ok (.invokevirtual 13, 3) := by decide +kernel
theorem dL_law_122 : decode cL_law 122 = .ok (.aload_n 2, 1) := by decide +kernel
theorem dL_law_123 : decode cL_law 123 = .ok (.aload_n 0, 1) := by decide +kernel
theorem dL_law_124 : decode cL_law 124 = .ok (.iload_n 3, 1) := by decide +kernel
theorem dL_law_125 : decode cL_law 125 = .ok (.iconst 1, 1) := by decide +kernel
theorem dL_law_126 : decode cL_law 126 = .ok (.iadd, 1) := by decide +kernel
theorem dL_law_127 : decode cL_law 127 = .ok (.iaload, 1) := by decide +kernel
theorem dL_law_128 : decode cL_law 128 = .ok (.aload_n 0, 1) := by decide +kernel
theorem dL_law_129 : decode cL_law 129 = .ok (.iload_n 3, 1) := by decide +kernel
theorem dL_law_130 : decode cL_law 130 = .ok (.iconst 2, 1) := by decide +kernel
theorem dL_law_131 : decode cL_law 131 = .ok (.iadd, 1) := by decide +kernel
theorem dL_law_132 : decode cL_law 132 = .ok (.iaload, 1) := by decide +kernel
theorem dL_law_133 : decode cL_law 133 = .ok (.invokevirtual 17, 3) := by decide +kernel
theorem dL_law_136 : decode cL_law 136 = .ok (.if_icmp .eq 367, 3) := by decide +kernel
theorem dL_law_139 : decode cL_law 139 = .ok (.iconst 0, 1) := by decide +kernel
theorem dL_law_140 : decode cL_law 140 = .ok (.ireturn, 1) := by decide +kernel
theorem dL_law_141 : decode cL_law 141 = .ok (.aload_n 1, 1) := by decide +kernel
theorem dL_law_142 : decode cL_law 142 = .ok (.aload_n 0, 1) := by decide +kernel
theorem dL_law_143 : decode cL_law 143 = .ok (.iload_n 3, 1) := by decide +kernel
theorem dL_law_144 : decode cL_law 144 = .ok (.iconst 1, 1) := by decide +kernel
theorem dL_law_145 : decode cL_law 145 = .ok (.iadd, 1) := by decide +kernel
theorem dL_law_146 : decode cL_law 146 = .ok (.iaload, 1) := by decide +kernel
theorem dL_law_147 : decode cL_law 147 = .ok (.aload_n 0, 1) := by decide +kernel
theorem dL_law_148 : decode cL_law 148 = .ok (.iload_n 3, 1) := by decide +kernel
theorem dL_law_149 : decode cL_law 149 = .ok (.iconst 2, 1) := by decide +kernel
theorem dL_law_150 : decode cL_law 150 = .ok (.iadd, 1) := by decide +kernel
theorem dL_law_151 : decode cL_law 151 = .ok (.iaload, 1) := by decide +kernel
theorem dL_law_152 : decode cL_law 152 = .ok (.invokevirtual 18, 3) := by decide +kernel
theorem dL_law_155 : decode cL_law 155 = .ok (.aload_n 2, 1) := by decide +kernel
theorem dL_law_156 : decode cL_law 156 = .ok (.aload_n 0, 1) := by decide +kernel
theorem dL_law_157 : decode cL_law 157 = .ok (.iload_n 3, 1) := by decide +kernel
theorem dL_law_158 : decode cL_law 158 = .ok (.iconst 1, 1) := by decide +kernel
theorem dL_law_159 : decode cL_law 159 = .ok (.iadd, 1) := by decide +kernel
theorem dL_law_160 : decode cL_law 160 = .ok (.iaload, 1) := by decide +kernel
theorem dL_law_161 : decode cL_law 161 = .ok (.aload_n 0, 1) := by decide +kernel
theorem dL_law_162 : decode cL_law 162 = .ok (.iload_n 3, 1) := by decide +kernel
theorem dL_law_163 : decode cL_law 163 = .ok (.iconst 2, 1) := by decide +kernel
theorem dL_law_164 : decode cL_law 164 = .ok (.iadd, 1) := by decide +kernel
theorem dL_law_165 : decode cL_law 165 = .ok (.iaload, 1) := by decide +kernel
theorem dL_law_166 : decode cL_law 166 = .ok (.invokevirtual 21, 3) := by decide +kernel
theorem dL_law_169 : decode cL_law 169 = .ok (.if_icmp .eq 334, 3) := by decide +kernel
theorem dL_law_172 : decode cL_law 172 = .ok (.iconst 0, 1) := by decide +kernel
theorem dL_law_173 : decode cL_law 173 = .ok (.ireturn, 1) := by decide +kernel
theorem dL_law_174 : decode cL_law 174 = .ok (.aload_n 1, 1) := by decide +kernel
theorem dL_law_175 : decode cL_law 175 = .ok (.aload_n 0, 1) := by decide +kernel
theorem dL_law_176 : decode cL_law 176 = .ok (.iload_n 3, 1) := by decide +kernel
theorem dL_law_177 : decode cL_law 177 = .ok (.iconst 1, 1) := by decide +kernel
theorem dL_law_178 : decode cL_law 178 = .ok (.iadd, 1) := by decide +kernel
theorem dL_law_179 : decode cL_law 179 = .ok (.iaload, 1) := by decide +kernel
theorem dL_law_180 : decode cL_law 180 = .ok (.aload_n 0, 1) := by decide +kernel
theorem dL_law_181 : decode cL_law 181 = .ok (.iload_n 3, 1) := by decide +kernel
theorem dL_law_182 : decode cL_law 182 = .ok (.iconst 2, 1) := by decide +kernel
theorem dL_law_183 : decode cL_law 183 = .ok (.iadd, 1) := by decide +kernel
theorem dL_law_184 : decode cL_law 184 = .ok (.iaload, 1) := by decide +kernel
theorem dL_law_185 : decode cL_law 185 = .ok (.invokevirtual 22, 3) := by decide +kernel
theorem dL_law_188 : decode cL_law 188 = .ok (.aload_n 2, 1) := by decide +kernel
theorem dL_law_189 : decode cL_law 189 = .ok (.aload_n 0, 1) := by decide +kernel
theorem dL_law_190 : decode cL_law 190 = .ok (.iload_n 3, 1) := by decide +kernel
theorem dL_law_191 : decode cL_law 191 = .ok (.iconst 1, 1) := by decide +kernel
theorem dL_law_192 : decode cL_law 192 = .ok (.iadd, 1) := by decide +kernel
theorem dL_law_193 : decode cL_law 193 = .ok (.iaload, 1) := by decide +kernel
theorem dL_law_194 : decode cL_law 194 = .ok (.aload_n 0, 1) := by decide +kernel
theorem dL_law_195 : decode cL_law 195 = .ok (.iload_n 3, 1) := by decide +kernel
theorem dL_law_196 : decode cL_law 196 = .ok (.iconst 2, 1) := by decide +kernel
theorem dL_law_197 : decode cL_law 197 = .ok (.iadd, 1) := by decide +kernel
theorem dL_law_198 : decode cL_law 198 = .ok (.iaload, 1) := by decide +kernel
theorem dL_law_199 : decode cL_law 199 = .ok (.invokevirtual 25, 3) := by decide +kernel
theorem dL_law_202 : decode cL_law 202 = .ok (.if_icmp .eq 301, 3) := by decide +kernel
theorem dL_law_205 : decode cL_law 205 = .ok (.iconst 0, 1) := by decide +kernel
theorem dL_law_206 : decode cL_law 206 = .ok (.ireturn, 1) := by decide +kernel
theorem dL_law_207 : decode cL_law 207 = .ok (.aload_n 1, 1) := by decide +kernel
theorem dL_law_208 : decode cL_law 208 = .ok (.aload_n 0, 1) := by decide +kernel
theorem dL_law_209 : decode cL_law 209 = .ok (.iload_n 3, 1) := by decide +kernel
theorem dL_law_210 : decode cL_law 210 = .ok (.iconst 1, 1) := by decide +kernel
theorem dL_law_211 : decode cL_law 211 = .ok (.iadd, 1) := by decide +kernel
theorem dL_law_212 : decode cL_law 212 = .ok (.iaload, 1) := by decide +kernel
theorem dL_law_213 : decode cL_law 213 = .ok (.invokevirtual 26, 3) := by decide +kernel
theorem dL_law_216 : decode cL_law 216 = .ok (.aload_n 2, 1) := by decide +kernel
theorem dL_law_217 : decode cL_law 217 = .ok (.aload_n 0, 1) := by decide +kernel
theorem dL_law_218 : decode cL_law 218 = .ok (.iload_n 3, 1) := by decide +kernel
theorem dL_law_219 : decode cL_law 219 = .ok (.iconst 1, 1) := by decide +kernel
theorem dL_law_220 : decode cL_law 220 = .ok (.iadd, 1) := by decide +kernel
theorem dL_law_221 : decode cL_law 221 = .ok (.iaload, 1) := by decide +kernel
theorem dL_law_222 : decode cL_law 222 = .ok (.invokevirtual 30, 3) := by decide +kernel
theorem dL_law_225 : decode cL_law 225 = .ok (.if_icmp .eq 278, 3) := by decide +kernel
theorem dL_law_228 : decode cL_law 228 = .ok (.iconst 0, 1) := by decide +kernel
theorem dL_law_229 : decode cL_law 229 = .ok (.ireturn, 1) := by decide +kernel
end
section
set_option maxRecDepth 100000
theorem dL_law_230 : decode cL_law 230 = .ok (.aload_n 1, 1) := by decide +kernel
theorem dL_law_231 : decode cL_law 231 = .ok (.invokevirtual 31, 3) := by decide +kernel
theorem dL_law_234 : decode cL_law 234 = .ok (.aload_n 2, 1) := by decide +kernel
theorem dL_law_235 : decode cL_law 235 = .ok (.invokevirtual 35, 3) := by decide +kernel
theorem dL_law_238 : decode cL_law 238 = .ok (.if_icmp .eq 265, 3) := by decide +kernel
theorem dL_law_241 : decode cL_law 241 = .ok (.iconst 0, 1) := by decide +kernel
theorem dL_law_242 : decode cL_law 242 = .ok (.ireturn, 1) := by decide +kernel
theorem dL_law_243 : decode cL_law 243 = .ok (.aload_n 1, 1) := by decide +kernel
theorem dL_law_244 : decode cL_law 244 = .ok (.invokevirtual 36, 3) := by decide +kernel
theorem dL_law_247 : decode cL_law 247 = .ok (.aload_n 2, 1) := by decide +kernel
theorem dL_law_248 : decode cL_law 248 = .ok (.invokevirtual 39, 3) := by decide +kernel
theorem dL_law_251 : decode cL_law 251 = .ok (.if_icmp .eq 252, 3) := by decide +kernel
theorem dL_law_254 : decode cL_law 254 = .ok (.iconst 0, 1) := by decide +kernel
theorem dL_law_255 : decode cL_law 255 = .ok (.ireturn, 1) := by decide +kernel
theorem dL_law_256 : decode cL_law 256 = .ok (.aload_n 1, 1) := by decide +kernel
theorem dL_law_257 : decode cL_law 257 = .ok (.aload_n 0, 1) := by decide +kernel
theorem dL_law_258 : decode cL_law 258 = .ok (.iload_n 3, 1) := by decide +kernel
theorem dL_law_259 : decode cL_law 259 = .ok (.iconst 1, 1) := by decide +kernel
theorem dL_law_260 : decode cL_law 260 = .ok (.iadd, 1) := by decide +kernel
theorem dL_law_261 : decode cL_law 261 = .ok (.iaload, 1) := by decide +kernel
theorem dL_law_262 : decode cL_law 262 = .ok (.aload_n 0, 1) := by decide +kernel
theorem dL_law_263 : decode cL_law 263 = .ok (.iload_n 3, 1) := by decide +kernel
theorem dL_law_264 : decode cL_law 264 = .ok (.iconst 2, 1) := by decide +kernel
theorem dL_law_265 : decode cL_law 265 = .ok (.iadd, 1) := by decide +kernel
theorem dL_law_266 : decode cL_law 266 = .ok (.iaload, 1) := by decide +kernel
theorem dL_law_267 : decode cL_law 267 = .ok (.invokevirtual 40, 3) := by decide +kernel
theorem dL_law_270 : decode cL_law 270 = .ok (.aload_n 2, 1) := by decide +kernel
theorem dL_law_271 : decode cL_law 271 = .ok (.aload_n 0, 1) := by decide +kernel
theorem dL_law_272 : decode cL_law 272 = .ok (.iload_n 3, 1) := by decide +kernel
theorem dL_law_273 : decode cL_law 273 = .ok (.iconst 1, 1) := by decide +kernel
theorem dL_law_274 : decode cL_law 274 = .ok (.iadd, 1) := by decide +kernel
theorem dL_law_275 : decode cL_law 275 = .ok (.iaload, 1) := by decide +kernel
theorem dL_law_276 : decode cL_law 276 = .ok (.aload_n 0, 1) := by decide +kernel
theorem dL_law_277 : decode cL_law 277 = .ok (.iload_n 3, 1) := by decide +kernel
theorem dL_law_278 : decode cL_law 278 = .ok (.iconst 2, 1) := by decide +kernel
theorem dL_law_279 : decode cL_law 279 = .ok (.iadd, 1) := by decide +kernel
theorem dL_law_280 : decode cL_law 280 = .ok (.iaload, 1) := by decide +kernel
theorem dL_law_281 : decode cL_law 281 = .ok (.invokevirtual 43, 3) := by decide +kernel
theorem dL_law_284 : decode cL_law 284 = .ok (.if_icmp .eq 219, 3) := by decide +kernel
theorem dL_law_287 : decode cL_law 287 = .ok (.iconst 0, 1) := by decide +kernel
theorem dL_law_288 : decode cL_law 288 = .ok (.ireturn, 1) := by decide +kernel
theorem dL_law_289 : decode cL_law 289 = .ok (.aload_n 1, 1) := by decide +kernel
theorem dL_law_290 : decode cL_law 290 = .ok (.aload_n 0, 1) := by decide +kernel
theorem dL_law_291 : decode cL_law 291 = .ok (.iload_n 3, 1) := by decide +kernel
theorem dL_law_292 : decode cL_law 292 = .ok (.iconst 1, 1) := by decide +kernel
theorem dL_law_293 : decode cL_law 293 = .ok (.iadd, 1) := by decide +kernel
theorem dL_law_294 : decode cL_law 294 = .ok (.iaload, 1) := by decide +kernel
theorem dL_law_295 : decode cL_law 295 = .ok (.aload_n 0, 1) := by decide +kernel
theorem dL_law_296 : decode cL_law 296 = .ok (.iload_n 3, 1) := by decide +kernel
theorem dL_law_297 : decode cL_law 297 = .ok (.iconst 2, 1) := by decide +kernel
theorem dL_law_298 : decode cL_law 298 = .ok (.iadd, 1) := by decide +kernel
theorem dL_law_299 : decode cL_law 299 = .ok (.iaload, 1) := by decide +kernel
theorem dL_law_300 : decode cL_law 300 = .ok (.aload_n 0, 1) := by decide +kernel
theorem dL_law_301 : decode cL_law 301 = .ok (.iload_n 3, 1) := by decide +kernel
theorem dL_law_302 : decode cL_law 302 = .ok (.iconst 3, 1) := by decide +kernel
theorem dL_law_303 : decode cL_law 303 = .ok (.iadd, 1) := by decide +kernel
theorem dL_law_304 : decode cL_law 304 = .ok (.iaload, 1) := by decide +kernel
theorem dL_law_305 : decode cL_law 305 = .ok (.invokevirtual 44, 3) := by decide +kernel
theorem dL_law_308 : decode cL_law 308 = .ok (.aload_n 2, 1) := by decide +kernel
theorem dL_law_309 : decode cL_law 309 = .ok (.aload_n 0, 1) := by decide +kernel
theorem dL_law_310 : decode cL_law 310 = .ok (.iload_n 3, 1) := by decide +kernel
theorem dL_law_311 : decode cL_law 311 = .ok (.iconst 1, 1) := by decide +kernel
theorem dL_law_312 : decode cL_law 312 = .ok (.iadd, 1) := by decide +kernel
theorem dL_law_313 : decode cL_law 313 = .ok (.iaload, 1) := by decide +kernel
theorem dL_law_314 : decode cL_law 314 = .ok (.aload_n 0, 1) := by decide +kernel
theorem dL_law_315 : decode cL_law 315 = .ok (.iload_n 3, 1) := by decide +kernel
theorem dL_law_316 : decode cL_law 316 = .ok (.iconst 2, 1) := by decide +kernel
theorem dL_law_317 : decode cL_law 317 = .ok (.iadd, 1) := by decide +kernel
theorem dL_law_318 : decode cL_law 318 = .ok (.iaload, 1) := by decide +kernel
theorem dL_law_319 : decode cL_law 319 = .ok (.aload_n 0, 1) := by decide +kernel
theorem dL_law_320 : decode cL_law 320 = .ok (.iload_n 3, 1) := by decide +kernel
theorem dL_law_321 : decode cL_law 321 = .ok (.iconst 3, 1) := by decide +kernel
theorem dL_law_322 : decode cL_law 322 = .ok (.iadd, 1) := by decide +kernel
theorem dL_law_323 : decode cL_law 323 = .ok (.iaload, 1) := by decide +kernel
theorem dL_law_324 : decode cL_law 324 = .ok (.invokevirtual 48, 3) := by decide +kernel
theorem dL_law_327 : decode cL_law 327 = .ok (.if_icmp .eq 176, 3) := by decide +kernel
theorem dL_law_330 : decode cL_law 330 = .ok (.iconst 0, 1) := by decide +kernel
theorem dL_law_331 : decode cL_law 331 = .ok (.ireturn, 1) := by decide +kernel
theorem dL_law_332 : decode cL_law 332 = .ok (.aload_n 1, 1) := by decide +kernel
theorem dL_law_333 : decode cL_law 333 = .ok (.aload_n 0, 1) := by decide +kernel
theorem dL_law_334 : decode cL_law 334 = .ok (.iload_n 3, 1) := by decide +kernel
theorem dL_law_335 : decode cL_law 335 = .ok (.iconst 1, 1) := by decide +kernel
theorem dL_law_336 : decode cL_law 336 = .ok (.iadd, 1) := by decide +kernel
theorem dL_law_337 : decode cL_law 337 = .ok (.iaload, 1) := by decide +kernel
theorem dL_law_338 : decode cL_law 338 = .ok (.invokevirtual 49, 3) := by decide +kernel
theorem dL_law_341 : decode cL_law 341 = .ok (.aload_n 2, 1) := by decide +kernel
theorem dL_law_342 : decode cL_law 342 = .ok (.aload_n 0, 1) := by decide +kernel
theorem dL_law_343 : decode cL_law 343 = .ok (.iload_n 3, 1) := by decide +kernel
theorem dL_law_344 : decode cL_law 344 = .ok (.iconst 1, 1) := by decide +kernel
theorem dL_law_345 : decode cL_law 345 = .ok (.iadd, 1) := by decide +kernel
theorem dL_law_346 : decode cL_law 346 = .ok (.iaload, 1) := by decide +kernel
theorem dL_law_347 : decode cL_law 347 = .ok (.invokevirtual 52, 3) := by decide +kernel
theorem dL_law_350 : decode cL_law 350 = .ok (.if_icmp .eq 153, 3) := by decide +kernel
theorem dL_law_353 : decode cL_law 353 = .ok (.iconst 0, 1) := by decide +kernel
theorem dL_law_354 : decode cL_law 354 = .ok (.ireturn, 1) := by decide +kernel
theorem dL_law_355 : decode cL_law 355 = .ok (.aload_n 1, 1) := by decide +kernel
theorem dL_law_356 : decode cL_law 356 = .ok (.aload_n 0, 1) := by decide +kernel
theorem dL_law_357 : decode cL_law 357 = .ok (.iload_n 3, 1) := by decide +kernel
theorem dL_law_358 : decode cL_law 358 = .ok (.iconst 1, 1) := by decide +kernel
theorem dL_law_359 : decode cL_law 359 = .ok (.iadd, 1) := by decide +kernel
theorem dL_law_360 : decode cL_law 360 = .ok (.iaload, 1) := by decide +kernel
theorem dL_law_361 : decode cL_law 361 = .ok (.aload_n 0, 1) := by decide +kernel
theorem dL_law_362 : decode cL_law 362 = .ok (.iload_n 3, 1) := by decide +kernel
theorem dL_law_363 : decode cL_law 363 = .ok (.iconst 2, 1) := by decide +kernel
theorem dL_law_364 : decode cL_law 364 = .ok (.iadd, 1) := by decide +kernel
theorem dL_law_365 : decode cL_law 365 = .ok (.iaload, 1) := by decide +kernel
theorem dL_law_366 : decode cL_law 366 = .ok (.aload_n 0, 1) := by decide +kernel
theorem dL_law_367 : decode cL_law 367 = .ok (.iload_n 3, 1) := by decide +kernel
theorem dL_law_368 : decode cL_law 368 = .ok (.iconst 3, 1) := by decide +kernel
theorem dL_law_369 : decode cL_law 369 = .ok (.iadd, 1) := by decide +kernel
theorem dL_law_370 : decode cL_law 370 = .ok (.iaload, 1) := by decide +kernel
theorem dL_law_371 : decode cL_law 371 = .ok (.invokevirtual 53, 3) := by decide +kernel
theorem dL_law_374 : decode cL_law 374 = .ok (.aload_n 2, 1) := by decide +kernel
theorem dL_law_375 : decode cL_law 375 = .ok (.aload_n 0, 1) := by decide +kernel
theorem dL_law_376 : decode cL_law 376 = .ok (.iload_n 3, 1) := by decide +kernel
theorem dL_law_377 : decode cL_law 377 = .ok (.iconst 1, 1) := by decide +kernel
theorem dL_law_378 : decode cL_law 378 = .ok (.iadd, 1) := by decide +kernel
theorem dL_law_379 : decode cL_law 379 = .ok (.iaload, 1) := by decide +kernel
theorem dL_law_380 : decode cL_law 380 = .ok (.aload_n 0, 1) := by decide +kernel
theorem dL_law_381 : decode cL_law 381 = .ok (.iload_n 3, 1) := by decide +kernel
end
section
set_option maxRecDepth 100000
theorem dL_law_382 : decode cL_law 382 = .ok (.iconst 2, 1) := by decide +kernel
theorem dL_law_383 : decode cL_law 383 = .ok (.iadd, 1) := by decide +kernel
theorem dL_law_384 : decode cL_law 384 = .ok (.iaload, 1) := by decide +kernel
theorem dL_law_385 : decode cL_law 385 = .ok (.aload_n 0, 1) := by decide +kernel
theorem dL_law_386 : decode cL_law 386 = .ok (.iload_n 3, 1) := by decide +kernel
theorem dL_law_387 : decode cL_law 387 = .ok (.iconst 3, 1) := by decide +kernel
theorem dL_law_388 : decode cL_law 388 = .ok (.iadd, 1) := by decide +kernel
theorem dL_law_389 : decode cL_law 389 = .ok (.iaload, 1) := by decide +kernel
theorem dL_law_390 : decode cL_law 390 = .ok (.invokevirtual 56, 3) := by decide +kernel
theorem dL_law_393 : decode cL_law 393 = .ok (.if_icmp .eq 110, 3) := by decide +kernel
theorem dL_law_396 : decode cL_law 396 = .ok (.iconst 0, 1) := by decide +kernel
theorem dL_law_397 : decode cL_law 397 = .ok (.ireturn, 1) := by decide +kernel
theorem dL_law_398 : decode cL_law 398 = .ok (.aload_n 1, 1) := by decide +kernel
theorem dL_law_399 : decode cL_law 399 = .ok (.aload_n 0, 1) := by decide +kernel
theorem dL_law_400 : decode cL_law 400 = .ok (.iload_n 3, 1) := by decide +kernel
theorem dL_law_401 : decode cL_law 401 = .ok (.iconst 1, 1) := by decide +kernel
theorem dL_law_402 : decode cL_law 402 = .ok (.iadd, 1) := by decide +kernel
theorem dL_law_403 : decode cL_law 403 = .ok (.iaload, 1) := by decide +kernel
theorem dL_law_404 : decode cL_law 404 = .ok (.aload_n 0, 1) := by decide +kernel
theorem dL_law_405 : decode cL_law 405 = .ok (.iload_n 3, 1) := by decide +kernel
theorem dL_law_406 : decode cL_law 406 = .ok (.iconst 2, 1) := by decide +kernel
theorem dL_law_407 : decode cL_law 407 = .ok (.iadd, 1) := by decide +kernel
theorem dL_law_408 : decode cL_law 408 = .ok (.iaload, 1) := by decide +kernel
theorem dL_law_409 : decode cL_law 409 = .ok (.invokevirtual 57, 3) := by decide +kernel
theorem dL_law_412 : decode cL_law 412 = .ok (.aload_n 2, 1) := by decide +kernel
theorem dL_law_413 : decode cL_law 413 = .ok (.aload_n 0, 1) := by decide +kernel
theorem dL_law_414 : decode cL_law 414 = .ok (.iload_n 3, 1) := by decide +kernel
theorem dL_law_415 : decode cL_law 415 = .ok (.iconst 1, 1) := by decide +kernel
theorem dL_law_416 : decode cL_law 416 = .ok (.iadd, 1) := by decide +kernel
theorem dL_law_417 : decode cL_law 417 = .ok (.iaload, 1) := by decide +kernel
theorem dL_law_418 : decode cL_law 418 = .ok (.aload_n 0, 1) := by decide +kernel
theorem dL_law_419 : decode cL_law 419 = .ok (.iload_n 3, 1) := by decide +kernel
theorem dL_law_420 : decode cL_law 420 = .ok (.iconst 2, 1) := by decide +kernel
theorem dL_law_421 : decode cL_law 421 = .ok (.iadd, 1) := by decide +kernel
theorem dL_law_422 : decode cL_law 422 = .ok (.iaload, 1) := by decide +kernel
theorem dL_law_423 : decode cL_law 423 = .ok (.invokevirtual 60, 3) := by decide +kernel
theorem dL_law_426 : decode cL_law 426 = .ok (.if_icmp .eq 77, 3) := by decide +kernel
theorem dL_law_429 : decode cL_law 429 = .ok (.iconst 0, 1) := by decide +kernel
theorem dL_law_430 : decode cL_law 430 = .ok (.ireturn, 1) := by decide +kernel
theorem dL_law_431 : decode cL_law 431 = .ok (.aload_n 1, 1) := by decide +kernel
theorem dL_law_432 : decode cL_law 432 = .ok (.invokevirtual 61, 3) := by decide +kernel
theorem dL_law_435 : decode cL_law 435 = .ok (.aload_n 2, 1) := by decide +kernel
theorem dL_law_436 : decode cL_law 436 = .ok (.invokevirtual 64, 3) := by decide +kernel
theorem dL_law_439 : decode cL_law 439 = .ok (.if_icmp .eq 64, 3) := by decide +kernel
theorem dL_law_442 : decode cL_law 442 = .ok (.iconst 0, 1) := by decide +kernel
theorem dL_law_443 : decode cL_law 443 = .ok (.ireturn, 1) := by decide +kernel
theorem dL_law_444 : decode cL_law 444 = .ok (.aload_n 1, 1) := by decide +kernel
theorem dL_law_445 : decode cL_law 445 = .ok (.aload_n 0, 1) := by decide +kernel
theorem dL_law_446 : decode cL_law 446 = .ok (.iload_n 3, 1) := by decide +kernel
theorem dL_law_447 : decode cL_law 447 = .ok (.iconst 1, 1) := by decide +kernel
theorem dL_law_448 : decode cL_law 448 = .ok (.iadd, 1) := by decide +kernel
theorem dL_law_449 : decode cL_law 449 = .ok (.iaload, 1) := by decide +kernel
theorem dL_law_450 : decode cL_law 450 = .ok (.invokevirtual 65, 3) := by decide +kernel
theorem dL_law_453 : decode cL_law 453 = .ok (.aload_n 2, 1) := by decide +kernel
theorem dL_law_454 : decode cL_law 454 = .ok (.aload_n 0, 1) := by decide +kernel
theorem dL_law_455 : decode cL_law 455 = .ok (.iload_n 3, 1) := by decide +kernel
theorem dL_law_456 : decode cL_law 456 = .ok (.iconst 1, 1) := by decide +kernel
theorem dL_law_457 : decode cL_law 457 = .ok (.iadd, 1) := by decide +kernel
theorem dL_law_458 : decode cL_law 458 = .ok (.iaload, 1) := by decide +kernel
theorem dL_law_459 : decode cL_law 459 = .ok (.invokevirtual 68, 3) := by decide +kernel
theorem dL_law_462 : decode cL_law 462 = .ok (.if_icmp .eq 41, 3) := by decide +kernel
theorem dL_law_465 : decode cL_law 465 = .ok (.iconst 0, 1) := by decide +kernel
theorem dL_law_466 : decode cL_law 466 = .ok (.ireturn, 1) := by decide +kernel
theorem dL_law_467 : decode cL_law 467 = .ok (.aload_n 1, 1) := by decide +kernel
theorem dL_law_468 : decode cL_law 468 = .ok (.aload_n 0, 1) := by decide +kernel
theorem dL_law_469 : decode cL_law 469 = .ok (.iload_n 3, 1) := by decide +kernel
theorem dL_law_470 : decode cL_law 470 = .ok (.iconst 1, 1) := by decide +kernel
theorem dL_law_471 : decode cL_law 471 = .ok (.iadd, 1) := by decide +kernel
theorem dL_law_472 : decode cL_law 472 = .ok (.iaload, 1) := by decide +kernel
theorem dL_law_473 : decode cL_law 473 = .ok (.invokevirtual 69, 3) := by decide +kernel
theorem dL_law_476 : decode cL_law 476 = .ok (.aload_n 2, 1) := by decide +kernel
theorem dL_law_477 : decode cL_law 477 = .ok (.aload_n 0, 1) := by decide +kernel
theorem dL_law_478 : decode cL_law 478 = .ok (.iload_n 3, 1) := by decide +kernel
theorem dL_law_479 : decode cL_law 479 = .ok (.iconst 1, 1) := by decide +kernel
theorem dL_law_480 : decode cL_law 480 = .ok (.iadd, 1) := by decide +kernel
theorem dL_law_481 : decode cL_law 481 = .ok (.iaload, 1) := by decide +kernel
theorem dL_law_482 : decode cL_law 482 = .ok (.invokevirtual 72, 3) := by decide +kernel
theorem dL_law_485 : decode cL_law 485 = .ok (.if_icmp .eq 18, 3) := by decide +kernel
theorem dL_law_488 : decode cL_law 488 = .ok (.iconst 0, 1) := by decide +kernel
theorem dL_law_489 : decode cL_law 489 = .ok (.ireturn, 1) := by decide +kernel
theorem dL_law_490 : decode cL_law 490 = .ok (.aload_n 1, 1) := by decide +kernel
theorem dL_law_491 : decode cL_law 491 = .ok (.invokevirtual 73, 3) := by decide +kernel
theorem dL_law_494 : decode cL_law 494 = .ok (.aload_n 2, 1) := by decide +kernel
theorem dL_law_495 : decode cL_law 495 = .ok (.invokevirtual 76, 3) := by decide +kernel
theorem dL_law_498 : decode cL_law 498 = .ok (.if_icmp .eq 5, 3) := by decide +kernel
theorem dL_law_501 : decode cL_law 501 = .ok (.iconst 0, 1) := by decide +kernel
theorem dL_law_502 : decode cL_law 502 = .ok (.ireturn, 1) := by decide +kernel
theorem dL_law_503 : decode cL_law 503 = .ok (.iinc 3 4, 3) := by decide +kernel
theorem dL_law_506 : decode cL_law 506 = .ok (.goto (-488), 3) := by decide +kernel
theorem dL_law_509 : decode cL_law 509 = .ok (.iconst 1, 1) := by decide +kernel
theorem dL_law_510 : decode cL_law 510 = .ok (.ireturn, 1) := by decide +kernel
end
section
/-! BASE: a world predicate, contracts of one object's methods, entry rows, return rows, call rows -/
abbrev vwCl : List vw_C := [(RX0, TX0, 22), (RX1, TX1, 3)]
abbrev ptr0 : Room := { frames := 0, cells := 0, slots := 0, locals := 0 }
abbrev ptr1 : Room := { frames := 1, cells := 0, slots := 0, locals := 30 }
abbrev ptr2 : Room := { frames := 2, cells := 0, slots := 0, locals := 60 }
abbrev ptr3 : Room := { frames := 3, cells := 0, slots := 0, locals := 90 }
/-- the cells ws are held by H, apart, in A; nothing outside A has changed since H0 -/
def Wd (D : va_G) (A : Nat → Prop) (H0 : Heap) (ws : va_W) (H : Heap) (locs : List Loc) : Prop := va_P D vwCl ws H ∧ va_D A ws ∧ va_S A H0 H locs
def EX (p : Program) (s : State) (m : MethodId) (args : Array Value) (c : Code) (D : va_G) (tys : List (ClassId × FieldType)) (own : String) (cc : ByteArray) (nL : Nat) : Prop := CallFix p m c cc nL s args lw_all own ∧ va_K D vwCl tys s
/-- a contract of a method of one object whose world is wf S -/
def Ct (l : Launch) (y : MethodName) (cc : ByteArray) (nL : Nat) (ret : Option FieldType) (rm : Room) (D : va_G) (tys : List (ClassId × FieldType)) {σ : Type} (wf : σ → va_W) (h : Nat) (S : σ) (As : List Value) (Qk : (σ → State → Prop) → (Nat → Prop) → Array Value → State → Outcome → State → Prop) : Prop :=
  ∀ sz : Nat, Met l y (ws_ y cc nL ret) rm (va_Pc (.ref h :: As) (fun U => U.heap.size = sz ∧ va_P D vwCl (wf S) U.heap ∧ va_K D vwCl tys U ∧ va_D (fun _ => True) (wf S))) (Qk (fun S' t => va_P D vwCl (wf S') t.heap ∧ va_D (va_A (wf S) sz) (wf S')) (va_A (wf S) sz)) 0 0 (va_A (wf S) sz)
section Base
variable {p : Program} {l : Launch} {e : Env} {R : Room} {s : State} {m : MethodId} {args : Array Value} {below : List Frame} {meth : Method} {c : Code} {H : Heap} {locs : List Loc} {cells slots : Nat} {Q : State → Prop}
variable {cc : ByteArray} {pc nL : Nat} {ls : Array Slot} {rest : List Value} {D : va_G} {A : Nat → Prop} {H0 : Heap} {tys : List (ClassId × FieldType)} {own : String} {σ : Type} {wf : σ → va_W} {h : Nat} {S : σ} {As : List Value}
theorem Ct_i {y : MethodName} {ret : Option FieldType} {rm : Room} {post : Int32 → σ → Prop} (hy : plainName y.cls = true) (hlen : (lg_sl (.ref h :: As)).length ≤ nL) (ty : FieldType) (hret : ret = some ty)
    (body : ∀ (p : Program) (e : Env) (s : State) (m : MethodId) (args : Array Value) (below : List Frame) (meth : Method) (c : Code) (A : Nat → Prop) (Q : State → Prop), EX p s m args c D tys y.cls cc nL → (∀ q : Nat, s.heap.size ≤ q → A q) → Wd D A s.heap (wf S) s.heap [] → (∀ (v : Int32) (S' : σ) (H : Heap) (locs : List Loc) (ls : Array Slot) (pc : Nat), narrow ty (.int v) = .int v → post v S' → Wd D A s.heap (wf S') H locs → decode cc pc = .ok (.ireturn, 1) → W p l e rm s m args below meth c H locs 0 0 Q (F0 m pc ls [.int v])) → ∀ ls : Array Slot, lv_has ls nL (lv_args 0 (.ref h :: As)) → W p l e rm s m args below meth c s.heap [] 0 0 Q (F0 m 0 ls [])) :
    Ct l y cc nL ret rm D tys wf h S As (va_Qi post) := by
  intro sz
  refine Met.ofW (cc := cc) (maxL := nL) (ret := ret) hy rfl ?_
  intro p e s m args below meth c s₁ B hml hv
  obtain ⟨rfl, hsz, hP, hK, hD0⟩ := hv
  subst hsz
  have hts := atoms_spec (ws := ws_ y cc nL ret) B.pre
  have hts : ∀ w ∈ lw_all, w.before _ s = true := fun w h => hts w (List.mem_cons_of_mem _ h)
  have hown : s.vm.findClass y.cls = some m.cls := findClass_of_methodNamed B.named
  have hlk : meth.locks = false := B.notSynchronized
  have hl := lv_entry (.ref h :: As) (n := nL) hlen
  rw [lg_entry_eq]
  have hr : meth.sig.returnType = some ty := B.returns.trans hret
  refine body p e s m _ below meth c (va_A (wf S) s.heap.size) _ ⟨⟨B.exec, B.bytes, hml, hown, hts⟩, hK⟩ (fun q h => Or.inr h) ⟨hP, hD0.self, va_S.rf⟩ ?_ _ hl
  intro v S' H locs ls pc hn hq w hdg
  exact W.zret B.exec B.bytes hr hn (fun t ht hW => ⟨⟨v, S', rfl, hq, by rw [ht]; exact w.1, w.2.1⟩, w.2.2.F ht⟩) w.2.2.2.2 hdg hlk
theorem Ct_v {y : MethodName} {rm : Room} {post : σ → Prop} (hy : plainName y.cls = true) (hlen : (lg_sl (.ref h :: As)).length ≤ nL)
    (body : ∀ (p : Program) (e : Env) (s : State) (m : MethodId) (args : Array Value) (below : List Frame) (meth : Method) (c : Code) (A : Nat → Prop) (Q : State → Prop), EX p s m args c D tys y.cls cc nL → (∀ q : Nat, s.heap.size ≤ q → A q) → Wd D A s.heap (wf S) s.heap [] → (∀ (S' : σ) (H : Heap) (locs : List Loc) (ls : Array Slot) (pc : Nat), post S' → Wd D A s.heap (wf S') H locs → decode cc pc = .ok (.return_, 1) → W p l e rm s m args below meth c H locs 0 0 Q (F0 m pc ls [])) → ∀ ls : Array Slot, lv_has ls nL (lv_args 0 (.ref h :: As)) → W p l e rm s m args below meth c s.heap [] 0 0 Q (F0 m 0 ls [])) :
    Ct l y cc nL none rm D tys wf h S As (va_Qv post) := by
  intro sz
  refine Met.ofW (cc := cc) (maxL := nL) (ret := none) hy rfl ?_
  intro p e s m args below meth c s₁ B hml hv
  obtain ⟨rfl, hsz, hP, hK, hD0⟩ := hv
  subst hsz
  have hts := atoms_spec (ws := ws_ y cc nL none) B.pre
  have hts : ∀ w ∈ lw_all, w.before _ s = true := fun w h => hts w (List.mem_cons_of_mem _ h)
  have hown : s.vm.findClass y.cls = some m.cls := findClass_of_methodNamed B.named
  have hlk : meth.locks = false := B.notSynchronized
  have hl := lv_entry (.ref h :: As) (n := nL) hlen
  rw [lg_entry_eq]
  refine body p e s m _ below meth c (va_A (wf S) s.heap.size) _ ⟨⟨B.exec, B.bytes, hml, hown, hts⟩, hK⟩ (fun q h => Or.inr h) ⟨hP, hD0.self, va_S.rf⟩ ?_ _ hl
  intro S' H locs ls pc hq w hdg
  exact W.vret B.exec B.bytes B.returns (fun t ht hW => ⟨⟨S', rfl, hq, by rw [ht]; exact w.1, w.2.1⟩, w.2.2.F ht⟩) w.2.2.2.2 hdg hlk
theorem wd_getL {ws wr : va_W} {k : Nat} {q : Nat × va_E} (hk : (ws ++ wr)[k]? = some q) : (k < ws.length ∧ ws[k]? = some q) ∨ (ws.length ≤ k ∧ wr[k - ws.length]? = some q) := by
  by_cases hl : k < ws.length
  · rw [List.getElem?_append_left hl] at hk
    exact Or.inl ⟨hl, hk⟩
  · rw [List.getElem?_append_right (by omega)] at hk
    exact Or.inr ⟨by omega, hk⟩
theorem wd_L {ws wr : va_W} {k : Nat} {q : Nat × va_E} (hk : ws[k]? = some q) : (ws ++ wr)[k]? = some q := by
  rw [List.getElem?_append_left (List.getElem?_eq_some_iff.mp hk).1]; exact hk
theorem wd_R {ws wr : va_W} {k : Nat} {q : Nat × va_E} (hk : wr[k]? = some q) : (ws ++ wr)[ws.length + k]? = some q := by
  rw [List.getElem?_append_right (by omega), Nat.add_sub_cancel_left]; exact hk
/-- two parts of a world change places -/
theorem Wd.swap {w1 w2 : va_W} (w : Wd D A H0 (w1 ++ w2) H locs) : Wd D A H0 (w2 ++ w1) H locs := by
  obtain ⟨hP, hD, hS⟩ := w
  have h1 : va_P D vwCl w1 H := fun k q hk => hP k q (wd_L hk)
  have h2 : va_P D vwCl w2 H := fun k q hk => hP _ q (wd_R hk)
  refine ⟨h2.app h1, va_D.app (A := A) ⟨fun i j x y hi hj he => ?_, fun k q hk => hD.2 _ q (wd_R hk)⟩ ⟨fun i j x y hi hj he => ?_, fun k q hk => hD.2 _ q (wd_L hk)⟩ (fun i j x y hi hj he => ?_), hS⟩
  · have := hD.1 _ _ x y (wd_R hi) (wd_R hj) he
    omega
  · exact hD.1 _ _ x y (wd_L hi) (wd_L hj) he
  · have := hD.1 _ _ x y (wd_R hi) (wd_L hj) he
    have h3 := (List.getElem?_eq_some_iff.mp hj).1
    omega
theorem wd_join {wc wr w1 : va_W} {H1 : Heap} (hP : va_P D vwCl (wc ++ wr) H) (hD : va_D A (wc ++ wr)) (hk : ∀ q : Nat, q < H.size → ¬ va_A wc H.size q → H1[q]? = H[q]?) (hF : ∀ q, va_A wc H.size q → A q) (hP1 : va_P D vwCl w1 H1) (hD1 : va_D (va_A wc H.size) w1) : va_P D vwCl (w1 ++ wr) H1 ∧ va_D A (w1 ++ wr) := by
  have apart : ∀ (k : Nat) (q : Nat × va_E), wr[k]? = some q → q.1 < H.size ∧ ¬ va_A wc H.size q.1 := by
    intro k q hq
    have hl := (hP _ q (wd_R hq)).lt
    refine ⟨hl, fun h => ?_⟩
    rcases h with ⟨k2, e, h⟩ | h
    · have := hD.1 _ _ q (q.1, e) (wd_R hq) (wd_L h) rfl
      have h3 := (List.getElem?_eq_some_iff.mp h).1
      omega
    · omega
  refine ⟨hP1.app (fun k q hq => ?_), va_D.app (hD1.weaken (fun k q _ h => hF q.1 h)) ⟨fun i j x y hi hj he => ?_, fun k q hk => hD.2 _ q (wd_R hk)⟩ (fun i j x y hx hy hxy => ?_)⟩
  · obtain ⟨g1, g2⟩ := apart k q hq
    exact (hP _ q (wd_R hq)).kept (hk q.1 g1 g2)
  · have := hD.1 _ _ x y (wd_R hi) (wd_R hj) he
    omega
  · exact (apart j y hy).2 (by rw [← hxy]; exact hD1.2 i x hx)
/-- a call of a method of the object at h, other cells wr beside it -/
theorem cF_i {y : MethodName} {cy : ByteArray} {ny index n : Nat} {ry : Option FieldType} {rm : Room} {post : Int32 → σ → Prop} {C : String} {wr : va_W} {tysc : List (ClassId × FieldType)} {st : List Value} (E : EX p s m args c D tys own cc nL) (hM : Ct l y cy ny ry rm D tysc wf h S As (va_Qi post)) (cw : CallW R s args own C index y cy ny ry (ws_ y cy ny ry) rm 0 0 n) (w : Wd D A H0 (wf S ++ wr) H locs) (hA : ∀ q : Nat, H0.size ≤ q → A q) (hKc : va_K D vwCl tysc s) {ci : Nat} {q : vw_C} {fs : List Value} (hc : vwCl[ci]? = some q) (he : (wf S)[0]? = some (h, .inr (ci, fs))) (hC : q.1 = C)
    (hn : As.length = n) (hl : ls.size = nL) (hst : st = As.reverse ++ .ref h :: rest) (hW : (rest.map fun v => v.category).sum ≤ 8) (hdg : decode cc pc = .ok (.invokevirtual index, 3)) (hf : cells ≤ R.cells ∧ slots ≤ R.slots)
    (kk : ∀ (r : Int32) (S' : σ) (H : Heap) (locs : List Loc), post r S' → Wd D A H0 (wf S' ++ wr) H locs → W p l e R s m args below meth c H locs cells slots Q (F0 m (pc + 3) ls (.int r :: rest))) : W p l e R s m args below meth c H locs cells slots Q (F0 m pc ls st) := by
  obtain ⟨hP, hD, hS⟩ := w
  have hPc : va_P D vwCl (wf S) H := fun k q hk => hP k q (wd_L hk)
  have hDc : va_D A (wf S) := ⟨fun i j x y hi hj he => hD.1 _ _ x y (wd_L hi) (wd_L hj) he, fun k q hk => hD.2 _ q (wd_L hk)⟩
  have hFc : ∀ q, va_A (wf S) H.size q → A q := by
    intro q hq
    rcases hq with ⟨k, e, hk⟩ | hq
    · exact hDc.2 k (q, e) hk
    · exact hA q (Nat.le_trans hS.1 hq)
  subst hC
  subst hst
  refine va_calli (va_runV (As := As) (rest := rest) E.1 (hM H.size) cw ⟨fun a U g mk q => ?_, va_recv hKc hPc (ci := ci) (q0 := 0) hc he, fun U hU hW => ?_⟩ rfl hn hl rfl (lv_room hW) hdg hf) hS (fun q _ h => hFc q h) hFc (fun r u t H1 locs1 ht hvm hw hB hz1 hk1 hS1 => ?_)
  · obtain ⟨q0, q1, qP, qK, qD⟩ := q
    exact ⟨q0, q1, qP, va_K.moved (u := U) (U := U.calling g mk a) (Vm.Alike.refl U.vm) qK, qD⟩
  · exact ⟨rfl, by rw [hU], by rw [hU]; exact hPc, va_K.moved hW.alike hKc, hDc.weaken (fun _ _ _ _ => trivial)⟩
  · obtain ⟨hP1, hD1⟩ := hB
    rw [ht] at hP1
    obtain ⟨hP2, hD2⟩ := wd_join hP hD hk1 hFc hP1 hD1
    exact kk r u H1 locs1 hw ⟨hP2, hD2, hS1⟩
theorem cF_v {y : MethodName} {cy : ByteArray} {ny index n : Nat} {ry : Option FieldType} {rm : Room} {post : σ → Prop} {C : String} {wr : va_W} {tysc : List (ClassId × FieldType)} {st : List Value} (E : EX p s m args c D tys own cc nL) (hM : Ct l y cy ny ry rm D tysc wf h S As (va_Qv post)) (cw : CallW R s args own C index y cy ny ry (ws_ y cy ny ry) rm 0 0 n) (w : Wd D A H0 (wf S ++ wr) H locs) (hA : ∀ q : Nat, H0.size ≤ q → A q) (hKc : va_K D vwCl tysc s) {ci : Nat} {q : vw_C} {fs : List Value} (hc : vwCl[ci]? = some q) (he : (wf S)[0]? = some (h, .inr (ci, fs))) (hC : q.1 = C)
    (hn : As.length = n) (hl : ls.size = nL) (hst : st = As.reverse ++ .ref h :: rest) (hW : (rest.map fun v => v.category).sum ≤ 8) (hdg : decode cc pc = .ok (.invokevirtual index, 3)) (hf : cells ≤ R.cells ∧ slots ≤ R.slots)
    (kk : ∀ (S' : σ) (H : Heap) (locs : List Loc), post S' → Wd D A H0 (wf S' ++ wr) H locs → W p l e R s m args below meth c H locs cells slots Q (F0 m (pc + 3) ls rest)) : W p l e R s m args below meth c H locs cells slots Q (F0 m pc ls st) := by
  obtain ⟨hP, hD, hS⟩ := w
  have hPc : va_P D vwCl (wf S) H := fun k q hk => hP k q (wd_L hk)
  have hDc : va_D A (wf S) := ⟨fun i j x y hi hj he => hD.1 _ _ x y (wd_L hi) (wd_L hj) he, fun k q hk => hD.2 _ q (wd_L hk)⟩
  have hFc : ∀ q, va_A (wf S) H.size q → A q := by
    intro q hq
    rcases hq with ⟨k, e, hk⟩ | hq
    · exact hDc.2 k (q, e) hk
    · exact hA q (Nat.le_trans hS.1 hq)
  subst hC
  subst hst
  refine va_callv (va_runV (As := As) (rest := rest) E.1 (hM H.size) cw ⟨fun a U g mk q => ?_, va_recv hKc hPc (ci := ci) (q0 := 0) hc he, fun U hU hW => ?_⟩ rfl hn hl rfl (lv_room hW) hdg hf) hS (fun q _ h => hFc q h) hFc (fun u t H1 locs1 ht hvm hw hB hz1 hk1 hS1 => ?_)
  · obtain ⟨q0, q1, qP, qK, qD⟩ := q
    exact ⟨q0, q1, qP, va_K.moved (u := U) (U := U.calling g mk a) (Vm.Alike.refl U.vm) qK, qD⟩
  · exact ⟨rfl, by rw [hU], by rw [hU]; exact hPc, va_K.moved hW.alike hKc, hDc.weaken (fun _ _ _ _ => trivial)⟩
  · obtain ⟨hP1, hD1⟩ := hB
    rw [ht] at hP1
    obtain ⟨hP2, hD2⟩ := wd_join hP hD hk1 hFc hP1 hD1
    exact kk u H1 locs1 hw ⟨hP2, hD2, hS1⟩
/-- the words of a call by their places -/
theorem cw_of {own : String} {C : String} {index : Nat} {y : MethodName} {cy : ByteArray} {ny : Nat} {ry : Option FieldType} {rm : Room} (E : EX p s m args c D tys own cc nL) (n : Nat) (h1 : Cond.methodLink own index y ∈ lw_all) (h2 : Cond.instanceMethod y ∈ lw_all) (h3 : Cond.selects C y y ∈ lw_all) (h4 : Cond.initialized C ∈ lw_all) (h5 : Cond.code y cy ny ry ∈ lw_all) (hrc : rm.cells = 0) (hrs : rm.slots = 0)
    (hd : y.cls = C ∧ y.cls ≠ "java/lang/invoke/MethodHandle" ∧ y.cls ≠ "java/lang/invoke/VarHandle" ∧ (parseMethodDescriptor y.desc).map (fun d => d.parameters.length) = some n) (hR : rm.frames + 1 ≤ R.frames ∧ 8 + (ny + 11) + rm.locals ≤ R.locals) : CallW R s args own C index y cy ny ry (ws_ y cy ny ry) rm 0 0 n :=
  cwV n E.1.2.2.2.2 (lw_V h1 h2 h3 h4 h5) rfl hrc hrs hd hR
/-- the top of the stack under another name -/
theorem top_eq {x y : Int32} (h : x = y) (k : W p l e R s m args below meth c H locs cells slots Q (F0 m pc ls (.int y :: rest))) : W p l e R s m args below meth c H locs cells slots Q (F0 m pc ls (.int x :: rest)) := by rw [h]; exact k
end Base
end
section
/-! THE WORLDS of PointInTime (wX, over S : PS) and of PointInTimeModel (wM, over O : MO) -/
set_option maxRecDepth 100000
abbrev PS : Type := (Nat → Nat → Int32) × (Nat → Int32)
def sa (S : PS) (j : Nat) (f : Nat → Int32) : PS := (fun k => bif Nat.beq k j then f else S.1 k, S.2)
def ss (S : PS) (i : Nat) (v : Int32) : PS := (S.1, fun k => bif Nat.beq k i then v else S.2 k)
def xlen : Nat → Nat := fun j => match j with
  | 0 => 186
  | 1 => 186
  | 2 => 186
  | 3 => 186
  | 4 => 6
  | 5 => 6
  | 6 => 6
  | 7 => 8
  | 8 => 8
  | 9 => 8
  | 10 => 8
  | 11 => 4
  | 12 => 4
  | 13 => 4
  | 14 => 4
  | 15 => 32
  | _ => 32
abbrev xfs (ad : Nat → Nat) (S : PS) : List Value := [.ref (ad 0), .ref (ad 1), .ref (ad 2), .ref (ad 3), .int (S.2 0), .ref (ad 4), .ref (ad 5), .ref (ad 6), .int (S.2 1), .ref (ad 7), .ref (ad 8), .ref (ad 9), .ref (ad 10), .int (S.2 2), .int (S.2 3), .ref (ad 11), .ref (ad 12), .ref (ad 13), .ref (ad 14), .int (S.2 4), .ref (ad 15), .ref (ad 16)]
def wX (h : Nat) (ad : Nat → Nat) (d dz : ClassId) (S : PS) : va_W := [(h, .inr (0, xfs ad S)), (ad 0, .inl (d, 186, .inl (S.1 0))), (ad 1, .inl (d, 186, .inl (S.1 1))), (ad 2, .inl (d, 186, .inl (S.1 2))), (ad 3, .inl (d, 186, .inl (S.1 3))), (ad 4, .inl (d, 6, .inl (S.1 4))), (ad 5, .inl (d, 6, .inl (S.1 5))), (ad 6, .inl (d, 6, .inl (S.1 6))), (ad 7, .inl (d, 8, .inl (S.1 7))), (ad 8, .inl (d, 8, .inl (S.1 8))), (ad 9, .inl (d, 8, .inl (S.1 9))), (ad 10, .inl (d, 8, .inl (S.1 10))), (ad 11, .inl (dz, 4, .inl (S.1 11))), (ad 12, .inl (d, 4, .inl (S.1 12))), (ad 13, .inl (d, 4, .inl (S.1 13))), (ad 14, .inl (d, 4, .inl (S.1 14))), (ad 15, .inl (d, 32, .inl (S.1 15))), (ad 16, .inl (d, 32, .inl (S.1 16)))]
theorem wX_at {h : Nat} {ad : Nat → Nat} {d dz : ClassId} {S : PS} : ∀ j : Nat, j < 17 → j ≠ 11 → (wX h ad d dz S)[j + 1]? = some (ad j, .inl (d, xlen j, .inl (S.1 j)))
  | 0, _, _ => rfl
  | 1, _, _ => rfl
  | 2, _, _ => rfl
  | 3, _, _ => rfl
  | 4, _, _ => rfl
  | 5, _, _ => rfl
  | 6, _, _ => rfl
  | 7, _, _ => rfl
  | 8, _, _ => rfl
  | 9, _, _ => rfl
  | 10, _, _ => rfl
  | 11, _, hh => absurd rfl hh
  | 12, _, _ => rfl
  | 13, _, _ => rfl
  | 14, _, _ => rfl
  | 15, _, _ => rfl
  | 16, _, _ => rfl
  | j + 17, hh, _ => absurd hh (by omega)
theorem wX_set {h : Nat} {ad : Nat → Nat} {d dz : ClassId} {S : PS} {f : Nat → Int32} : ∀ j : Nat, j < 17 → j ≠ 11 → (wX h ad d dz S).set (j + 1) (ad j, .inl (d, xlen j, .inl f)) = wX h ad d dz (sa S j f)
  | 0, _, _ => rfl
  | 1, _, _ => rfl
  | 2, _, _ => rfl
  | 3, _, _ => rfl
  | 4, _, _ => rfl
  | 5, _, _ => rfl
  | 6, _, _ => rfl
  | 7, _, _ => rfl
  | 8, _, _ => rfl
  | 9, _, _ => rfl
  | 10, _, _ => rfl
  | 11, _, hh => absurd rfl hh
  | 12, _, _ => rfl
  | 13, _, _ => rfl
  | 14, _, _ => rfl
  | 15, _, _ => rfl
  | 16, _, _ => rfl
  | j + 17, hh, _ => absurd hh (by omega)
theorem xlen_le : ∀ j : Nat, xlen j ≤ 186 := by
  intro j
  unfold xlen
  split <;> decide
theorem vp_inx {i n : Nat} (h : i < n) (hn : n ≤ 2000) : vp_in (nI i) n := vp_in_nI h (by omega)
section WorldX
variable {p : Program} {l : Launch} {e : Env} {R : Room} {s : State} {m : MethodId} {args : Array Value} {below : List Frame} {meth : Method} {c : Code} {H : Heap} {locs : List Loc} {cells slots : Nat} {Q : State → Prop}
variable {cc : ByteArray} {pc nL : Nat} {ls : Array Slot} {rest : List Value} {D : va_G} {A : Nat → Prop} {H0 : Heap} {own : String}
variable {h : Nat} {ad : Nat → Nat} {d dz : ClassId} {S : PS}
/-- an element of an int array is read -/
theorem x_ld (E : EX p s m args c D [(d, .int), (dz, .boolean)] own cc nL) (w : Wd D A H0 (wX h ad d dz S) H locs) (j : Nat) {i : Nat} {x v : Int32} (ex : x = nI i) (hi : i < xlen j) (hv : S.1 j i = v) (hdg : decode cc pc = .ok (.iaload, 1)) (kk : W p l e R s m args below meth c H locs cells slots Q (F0 m (pc + 1) ls (.int v :: rest))) (hj : j < 17 := by decide) (h11 : j ≠ 11 := by decide) : W p l e R s m args below meth c H locs cells slots Q (F0 m pc ls (.int x :: .ref (ad j) :: rest)) := by
  subst ex
  subst hv
  have h1 := xlen_le j
  refine va_iald E.1.1 E.1.2.1 E.2 w.1 (j + 1) 0 (wX_at j hj h11) rfl (vp_inx hi (by omega)) hdg ?_
  rw [nI_clamp (by omega)]
  exact kk
/-- an element of an int array is written -/
theorem x_st (E : EX p s m args c D [(d, .int), (dz, .boolean)] own cc nL) (w : Wd D A H0 (wX h ad d dz S) H locs) (j : Nat) {i : Nat} {x y : Int32} {S2 : PS} (ex : x = nI i) (hi : i < xlen j) (hS : sa S j (upd (S.1 j) i y) = S2) (hdg : decode cc pc = .ok (.iastore, 1)) (kk : ∀ (H : Heap) (locs : List Loc), Wd D A H0 (wX h ad d dz S2) H locs → W p l e R s m args below meth c H locs cells slots Q (F0 m (pc + 1) ls rest)) (hj : j < 17 := by decide) (h11 : j ≠ 11 := by decide) : W p l e R s m args below meth c H locs cells slots Q (F0 m pc ls (.int y :: .int x :: .ref (ad j) :: rest)) := by
  subst ex
  subst hS
  have h1 := xlen_le j
  refine va_iast E.1.1 E.1.2.1 E.2 w.1 w.2.1 w.2.2 (j + 1) 0 (wX_at j hj h11) rfl (vp_inx hi (by omega)) hdg (fun H2 locs2 hP hD hS => ?_)
  rw [nI_clamp (by omega), wX_set j hj h11] at hP hD
  exact kk H2 locs2 ⟨hP, hD, hS⟩
theorem x_zld (E : EX p s m args c D [(d, .int), (dz, .boolean)] own cc nL) (w : Wd D A H0 (wX h ad d dz S) H locs) {i : Nat} {x v : Int32} (ex : x = nI i) (hi : i < 4) (hv : S.1 11 i = v) (hdg : decode cc pc = .ok (.baload, 1)) (kk : W p l e R s m args below meth c H locs cells slots Q (F0 m (pc + 1) ls (.int v :: rest))) : W p l e R s m args below meth c H locs cells slots Q (F0 m pc ls (.int x :: .ref (ad 11) :: rest)) := by
  subst ex
  subst hv
  refine va_zald E.1.1 E.1.2.1 E.2 w.1 12 1 (n := 4) (f := S.1 11) rfl rfl (vp_inx hi (by omega)) hdg ?_
  rw [nI_clamp (by omega)]
  exact kk
theorem x_zst (E : EX p s m args c D [(d, .int), (dz, .boolean)] own cc nL) (w : Wd D A H0 (wX h ad d dz S) H locs) {i : Nat} {x y : Int32} {S2 : PS} (ex : x = nI i) (hi : i < 4) (hy : vp_nar .boolean y = y) (hS : sa S 11 (upd (S.1 11) i y) = S2) (hdg : decode cc pc = .ok (.bastore, 1)) (kk : ∀ (H : Heap) (locs : List Loc), Wd D A H0 (wX h ad d dz S2) H locs → W p l e R s m args below meth c H locs cells slots Q (F0 m (pc + 1) ls rest)) : W p l e R s m args below meth c H locs cells slots Q (F0 m pc ls (.int y :: .int x :: .ref (ad 11) :: rest)) := by
  subst ex
  subst hS
  refine va_zast E.1.1 E.1.2.1 E.2 w.1 w.2.1 w.2.2 12 1 (n := 4) (f := S.1 11) rfl rfl (vp_inx hi (by omega)) hdg (fun H2 locs2 hP hD hS => ?_)
  rw [nI_clamp (by omega), hy] at hP hD
  exact kk H2 locs2 ⟨hP, hD, hS⟩
/-! a row a field: aload_0 and getfield (gx_), getfield alone (hx_), putfield (px_) -/
theorem hx_keyA (E : EX p s m args c D [(d, .int), (dz, .boolean)] RX0 cc nL) (w : Wd D A H0 (wX h ad d dz S) H locs) (hd2 : decode cc pc = .ok (.getfield 7, 3)) (kk : W p l e R s m args below meth c H locs cells slots Q (F0 m (pc + 3) ls (.ref (ad 0) :: rest))) : W p l e R s m args below meth c H locs cells slots Q (F0 m pc ls (.ref h :: rest)) := va_get (D := D) (ci := 0) (v := .ref (ad 0)) (C := RX0) (T := TX0) (N := 22) E.1.1 E.1.2.1 E.1.2.2.2.2 in_X0 E.1.2.2.2.1 E.2 w.1 0 rfl rfl 0 (by decide) (E.1.2.2.2.2 _ q26) (fun _ h9 => h9) rfl hd2 kk
theorem gx_keyA (E : EX p s m args c D [(d, .int), (dz, .boolean)] RX0 cc nL) (w : Wd D A H0 (wX h ad d dz S) H locs) (hl : ls[0]? = some (.val (.ref h))) (hd1 : decode cc pc = .ok (.aload_n 0, 1)) (hd2 : decode cc (pc + 1) = .ok (.getfield 7, 3)) (kk : W p l e R s m args below meth c H locs cells slots Q (F0 m (pc + 4) ls (.ref (ad 0) :: rest))) : W p l e R s m args below meth c H locs cells slots Q (F0 m pc ls rest) := lv_aload_n E.1.1 E.1.2.1 hd1 rfl hl (hx_keyA E w hd2 kk)
theorem hx_valueA (E : EX p s m args c D [(d, .int), (dz, .boolean)] RX0 cc nL) (w : Wd D A H0 (wX h ad d dz S) H locs) (hd2 : decode cc pc = .ok (.getfield 13, 3)) (kk : W p l e R s m args below meth c H locs cells slots Q (F0 m (pc + 3) ls (.ref (ad 1) :: rest))) : W p l e R s m args below meth c H locs cells slots Q (F0 m pc ls (.ref h :: rest)) := va_get (D := D) (ci := 0) (v := .ref (ad 1)) (C := RX0) (T := TX0) (N := 22) E.1.1 E.1.2.1 E.1.2.2.2.2 in_X0 E.1.2.2.2.1 E.2 w.1 0 rfl rfl 1 (by decide) (E.1.2.2.2.2 _ q27) (fun _ h9 => h9) rfl hd2 kk
theorem gx_valueA (E : EX p s m args c D [(d, .int), (dz, .boolean)] RX0 cc nL) (w : Wd D A H0 (wX h ad d dz S) H locs) (hl : ls[0]? = some (.val (.ref h))) (hd1 : decode cc pc = .ok (.aload_n 0, 1)) (hd2 : decode cc (pc + 1) = .ok (.getfield 13, 3)) (kk : W p l e R s m args below meth c H locs cells slots Q (F0 m (pc + 4) ls (.ref (ad 1) :: rest))) : W p l e R s m args below meth c H locs cells slots Q (F0 m pc ls rest) := lv_aload_n E.1.1 E.1.2.1 hd1 rfl hl (hx_valueA E w hd2 kk)
theorem hx_keyB (E : EX p s m args c D [(d, .int), (dz, .boolean)] RX0 cc nL) (w : Wd D A H0 (wX h ad d dz S) H locs) (hd2 : decode cc pc = .ok (.getfield 16, 3)) (kk : W p l e R s m args below meth c H locs cells slots Q (F0 m (pc + 3) ls (.ref (ad 2) :: rest))) : W p l e R s m args below meth c H locs cells slots Q (F0 m pc ls (.ref h :: rest)) := va_get (D := D) (ci := 0) (v := .ref (ad 2)) (C := RX0) (T := TX0) (N := 22) E.1.1 E.1.2.1 E.1.2.2.2.2 in_X0 E.1.2.2.2.1 E.2 w.1 0 rfl rfl 2 (by decide) (E.1.2.2.2.2 _ q28) (fun _ h9 => h9) rfl hd2 kk
theorem gx_keyB (E : EX p s m args c D [(d, .int), (dz, .boolean)] RX0 cc nL) (w : Wd D A H0 (wX h ad d dz S) H locs) (hl : ls[0]? = some (.val (.ref h))) (hd1 : decode cc pc = .ok (.aload_n 0, 1)) (hd2 : decode cc (pc + 1) = .ok (.getfield 16, 3)) (kk : W p l e R s m args below meth c H locs cells slots Q (F0 m (pc + 4) ls (.ref (ad 2) :: rest))) : W p l e R s m args below meth c H locs cells slots Q (F0 m pc ls rest) := lv_aload_n E.1.1 E.1.2.1 hd1 rfl hl (hx_keyB E w hd2 kk)
theorem hx_valueB (E : EX p s m args c D [(d, .int), (dz, .boolean)] RX0 cc nL) (w : Wd D A H0 (wX h ad d dz S) H locs) (hd2 : decode cc pc = .ok (.getfield 19, 3)) (kk : W p l e R s m args below meth c H locs cells slots Q (F0 m (pc + 3) ls (.ref (ad 3) :: rest))) : W p l e R s m args below meth c H locs cells slots Q (F0 m pc ls (.ref h :: rest)) := va_get (D := D) (ci := 0) (v := .ref (ad 3)) (C := RX0) (T := TX0) (N := 22) E.1.1 E.1.2.1 E.1.2.2.2.2 in_X0 E.1.2.2.2.1 E.2 w.1 0 rfl rfl 3 (by decide) (E.1.2.2.2.2 _ q29) (fun _ h9 => h9) rfl hd2 kk
theorem gx_valueB (E : EX p s m args c D [(d, .int), (dz, .boolean)] RX0 cc nL) (w : Wd D A H0 (wX h ad d dz S) H locs) (hl : ls[0]? = some (.val (.ref h))) (hd1 : decode cc pc = .ok (.aload_n 0, 1)) (hd2 : decode cc (pc + 1) = .ok (.getfield 19, 3)) (kk : W p l e R s m args below meth c H locs cells slots Q (F0 m (pc + 4) ls (.ref (ad 3) :: rest))) : W p l e R s m args below meth c H locs cells slots Q (F0 m pc ls rest) := lv_aload_n E.1.1 E.1.2.1 hd1 rfl hl (hx_valueB E w hd2 kk)
theorem hx_timelines (E : EX p s m args c D [(d, .int), (dz, .boolean)] RX0 cc nL) (w : Wd D A H0 (wX h ad d dz S) H locs) (hd2 : decode cc pc = .ok (.getfield 62, 3)) (kk : W p l e R s m args below meth c H locs cells slots Q (F0 m (pc + 3) ls (.int (S.2 0) :: rest))) : W p l e R s m args below meth c H locs cells slots Q (F0 m pc ls (.ref h :: rest)) := va_get (D := D) (ci := 0) (v := .int (S.2 0)) (C := RX0) (T := TX0) (N := 22) E.1.1 E.1.2.1 E.1.2.2.2.2 in_X0 E.1.2.2.2.1 E.2 w.1 0 rfl rfl 4 (by decide) (E.1.2.2.2.2 _ q30) (fun _ h9 => h9) rfl hd2 kk
theorem gx_timelines (E : EX p s m args c D [(d, .int), (dz, .boolean)] RX0 cc nL) (w : Wd D A H0 (wX h ad d dz S) H locs) (hl : ls[0]? = some (.val (.ref h))) (hd1 : decode cc pc = .ok (.aload_n 0, 1)) (hd2 : decode cc (pc + 1) = .ok (.getfield 62, 3)) (kk : W p l e R s m args below meth c H locs cells slots Q (F0 m (pc + 4) ls (.int (S.2 0) :: rest))) : W p l e R s m args below meth c H locs cells slots Q (F0 m pc ls rest) := lv_aload_n E.1.1 E.1.2.1 hd1 rfl hl (hx_timelines E w hd2 kk)
theorem px_timelines (E : EX p s m args c D [(d, .int), (dz, .boolean)] RX0 cc nL) (w : Wd D A H0 (wX h ad d dz S) H locs) {y : Int32} {S2 : PS} (hS : ss S 0 y = S2) (hdg : decode cc pc = .ok (.putfield 62, 3)) (kk : ∀ (H : Heap) (locs : List Loc), Wd D A H0 (wX h ad d dz S2) H locs → W p l e R s m args below meth c H locs cells slots Q (F0 m (pc + 3) ls rest)) : W p l e R s m args below meth c H locs cells slots Q (F0 m pc ls (.int y :: .ref h :: rest)) := by
  subst hS
  exact va_put (D := D) (ci := 0) (v := .int y) (ty := .int) (C := RX0) (T := TX0) (N := 22) E.1.1 E.1.2.1 E.1.2.2.2.2 in_X0 tyX0 tyX0_ok nmX0 E.1.2.2.2.1 E.2 w.1 w.2.1 w.2.2 0 rfl rfl 4 (by decide) (E.1.2.2.2.2 _ q30) (fun _ h9 => h9) rfl (by decide +kernel) rfl rfl (Nat.le_of_ble_eq_true rfl) hdg (fun H2 locs2 hP hD hS => kk H2 locs2 ⟨hP, hD, hS⟩)
theorem hx_parent (E : EX p s m args c D [(d, .int), (dz, .boolean)] RX0 cc nL) (w : Wd D A H0 (wX h ad d dz S) H locs) (hd2 : decode cc pc = .ok (.getfield 22, 3)) (kk : W p l e R s m args below meth c H locs cells slots Q (F0 m (pc + 3) ls (.ref (ad 4) :: rest))) : W p l e R s m args below meth c H locs cells slots Q (F0 m pc ls (.ref h :: rest)) := va_get (D := D) (ci := 0) (v := .ref (ad 4)) (C := RX0) (T := TX0) (N := 22) E.1.1 E.1.2.1 E.1.2.2.2.2 in_X0 E.1.2.2.2.1 E.2 w.1 0 rfl rfl 5 (by decide) (E.1.2.2.2.2 _ q31) (fun _ h9 => h9) rfl hd2 kk
theorem gx_parent (E : EX p s m args c D [(d, .int), (dz, .boolean)] RX0 cc nL) (w : Wd D A H0 (wX h ad d dz S) H locs) (hl : ls[0]? = some (.val (.ref h))) (hd1 : decode cc pc = .ok (.aload_n 0, 1)) (hd2 : decode cc (pc + 1) = .ok (.getfield 22, 3)) (kk : W p l e R s m args below meth c H locs cells slots Q (F0 m (pc + 4) ls (.ref (ad 4) :: rest))) : W p l e R s m args below meth c H locs cells slots Q (F0 m pc ls rest) := lv_aload_n E.1.1 E.1.2.1 hd1 rfl hl (hx_parent E w hd2 kk)
theorem hx_fork (E : EX p s m args c D [(d, .int), (dz, .boolean)] RX0 cc nL) (w : Wd D A H0 (wX h ad d dz S) H locs) (hd2 : decode cc pc = .ok (.getfield 25, 3)) (kk : W p l e R s m args below meth c H locs cells slots Q (F0 m (pc + 3) ls (.ref (ad 5) :: rest))) : W p l e R s m args below meth c H locs cells slots Q (F0 m pc ls (.ref h :: rest)) := va_get (D := D) (ci := 0) (v := .ref (ad 5)) (C := RX0) (T := TX0) (N := 22) E.1.1 E.1.2.1 E.1.2.2.2.2 in_X0 E.1.2.2.2.1 E.2 w.1 0 rfl rfl 6 (by decide) (E.1.2.2.2.2 _ q32) (fun _ h9 => h9) rfl hd2 kk
theorem gx_fork (E : EX p s m args c D [(d, .int), (dz, .boolean)] RX0 cc nL) (w : Wd D A H0 (wX h ad d dz S) H locs) (hl : ls[0]? = some (.val (.ref h))) (hd1 : decode cc pc = .ok (.aload_n 0, 1)) (hd2 : decode cc (pc + 1) = .ok (.getfield 25, 3)) (kk : W p l e R s m args below meth c H locs cells slots Q (F0 m (pc + 4) ls (.ref (ad 5) :: rest))) : W p l e R s m args below meth c H locs cells slots Q (F0 m pc ls rest) := lv_aload_n E.1.1 E.1.2.1 hd1 rfl hl (hx_fork E w hd2 kk)
theorem hx_end (E : EX p s m args c D [(d, .int), (dz, .boolean)] RX0 cc nL) (w : Wd D A H0 (wX h ad d dz S) H locs) (hd2 : decode cc pc = .ok (.getfield 28, 3)) (kk : W p l e R s m args below meth c H locs cells slots Q (F0 m (pc + 3) ls (.ref (ad 6) :: rest))) : W p l e R s m args below meth c H locs cells slots Q (F0 m pc ls (.ref h :: rest)) := va_get (D := D) (ci := 0) (v := .ref (ad 6)) (C := RX0) (T := TX0) (N := 22) E.1.1 E.1.2.1 E.1.2.2.2.2 in_X0 E.1.2.2.2.1 E.2 w.1 0 rfl rfl 7 (by decide) (E.1.2.2.2.2 _ q33) (fun _ h9 => h9) rfl hd2 kk
theorem gx_end (E : EX p s m args c D [(d, .int), (dz, .boolean)] RX0 cc nL) (w : Wd D A H0 (wX h ad d dz S) H locs) (hl : ls[0]? = some (.val (.ref h))) (hd1 : decode cc pc = .ok (.aload_n 0, 1)) (hd2 : decode cc (pc + 1) = .ok (.getfield 28, 3)) (kk : W p l e R s m args below meth c H locs cells slots Q (F0 m (pc + 4) ls (.ref (ad 6) :: rest))) : W p l e R s m args below meth c H locs cells slots Q (F0 m pc ls rest) := lv_aload_n E.1.1 E.1.2.1 hd1 rfl hl (hx_end E w hd2 kk)
theorem hx_now (E : EX p s m args c D [(d, .int), (dz, .boolean)] RX0 cc nL) (w : Wd D A H0 (wX h ad d dz S) H locs) (hd2 : decode cc pc = .ok (.getfield 70, 3)) (kk : W p l e R s m args below meth c H locs cells slots Q (F0 m (pc + 3) ls (.int (S.2 1) :: rest))) : W p l e R s m args below meth c H locs cells slots Q (F0 m pc ls (.ref h :: rest)) := va_get (D := D) (ci := 0) (v := .int (S.2 1)) (C := RX0) (T := TX0) (N := 22) E.1.1 E.1.2.1 E.1.2.2.2.2 in_X0 E.1.2.2.2.1 E.2 w.1 0 rfl rfl 8 (by decide) (E.1.2.2.2.2 _ q34) (fun _ h9 => h9) rfl hd2 kk
theorem gx_now (E : EX p s m args c D [(d, .int), (dz, .boolean)] RX0 cc nL) (w : Wd D A H0 (wX h ad d dz S) H locs) (hl : ls[0]? = some (.val (.ref h))) (hd1 : decode cc pc = .ok (.aload_n 0, 1)) (hd2 : decode cc (pc + 1) = .ok (.getfield 70, 3)) (kk : W p l e R s m args below meth c H locs cells slots Q (F0 m (pc + 4) ls (.int (S.2 1) :: rest))) : W p l e R s m args below meth c H locs cells slots Q (F0 m pc ls rest) := lv_aload_n E.1.1 E.1.2.1 hd1 rfl hl (hx_now E w hd2 kk)
theorem px_now (E : EX p s m args c D [(d, .int), (dz, .boolean)] RX0 cc nL) (w : Wd D A H0 (wX h ad d dz S) H locs) {y : Int32} {S2 : PS} (hS : ss S 1 y = S2) (hdg : decode cc pc = .ok (.putfield 70, 3)) (kk : ∀ (H : Heap) (locs : List Loc), Wd D A H0 (wX h ad d dz S2) H locs → W p l e R s m args below meth c H locs cells slots Q (F0 m (pc + 3) ls rest)) : W p l e R s m args below meth c H locs cells slots Q (F0 m pc ls (.int y :: .ref h :: rest)) := by
  subst hS
  exact va_put (D := D) (ci := 0) (v := .int y) (ty := .int) (C := RX0) (T := TX0) (N := 22) E.1.1 E.1.2.1 E.1.2.2.2.2 in_X0 tyX0 tyX0_ok nmX0 E.1.2.2.2.1 E.2 w.1 w.2.1 w.2.2 0 rfl rfl 8 (by decide) (E.1.2.2.2.2 _ q34) (fun _ h9 => h9) rfl (by decide +kernel) rfl rfl (Nat.le_of_ble_eq_true rfl) hdg (fun H2 locs2 hP hD hS => kk H2 locs2 ⟨hP, hD, hS⟩)
theorem hx_memory (E : EX p s m args c D [(d, .int), (dz, .boolean)] RX0 cc nL) (w : Wd D A H0 (wX h ad d dz S) H locs) (hd2 : decode cc pc = .ok (.getfield 31, 3)) (kk : W p l e R s m args below meth c H locs cells slots Q (F0 m (pc + 3) ls (.ref (ad 7) :: rest))) : W p l e R s m args below meth c H locs cells slots Q (F0 m pc ls (.ref h :: rest)) := va_get (D := D) (ci := 0) (v := .ref (ad 7)) (C := RX0) (T := TX0) (N := 22) E.1.1 E.1.2.1 E.1.2.2.2.2 in_X0 E.1.2.2.2.1 E.2 w.1 0 rfl rfl 9 (by decide) (E.1.2.2.2.2 _ q35) (fun _ h9 => h9) rfl hd2 kk
theorem gx_memory (E : EX p s m args c D [(d, .int), (dz, .boolean)] RX0 cc nL) (w : Wd D A H0 (wX h ad d dz S) H locs) (hl : ls[0]? = some (.val (.ref h))) (hd1 : decode cc pc = .ok (.aload_n 0, 1)) (hd2 : decode cc (pc + 1) = .ok (.getfield 31, 3)) (kk : W p l e R s m args below meth c H locs cells slots Q (F0 m (pc + 4) ls (.ref (ad 7) :: rest))) : W p l e R s m args below meth c H locs cells slots Q (F0 m pc ls rest) := lv_aload_n E.1.1 E.1.2.1 hd1 rfl hl (hx_memory E w hd2 kk)
theorem hx_memoryPoint (E : EX p s m args c D [(d, .int), (dz, .boolean)] RX0 cc nL) (w : Wd D A H0 (wX h ad d dz S) H locs) (hd2 : decode cc pc = .ok (.getfield 34, 3)) (kk : W p l e R s m args below meth c H locs cells slots Q (F0 m (pc + 3) ls (.ref (ad 8) :: rest))) : W p l e R s m args below meth c H locs cells slots Q (F0 m pc ls (.ref h :: rest)) := va_get (D := D) (ci := 0) (v := .ref (ad 8)) (C := RX0) (T := TX0) (N := 22) E.1.1 E.1.2.1 E.1.2.2.2.2 in_X0 E.1.2.2.2.1 E.2 w.1 0 rfl rfl 10 (by decide) (E.1.2.2.2.2 _ q36) (fun _ h9 => h9) rfl hd2 kk
theorem gx_memoryPoint (E : EX p s m args c D [(d, .int), (dz, .boolean)] RX0 cc nL) (w : Wd D A H0 (wX h ad d dz S) H locs) (hl : ls[0]? = some (.val (.ref h))) (hd1 : decode cc pc = .ok (.aload_n 0, 1)) (hd2 : decode cc (pc + 1) = .ok (.getfield 34, 3)) (kk : W p l e R s m args below meth c H locs cells slots Q (F0 m (pc + 4) ls (.ref (ad 8) :: rest))) : W p l e R s m args below meth c H locs cells slots Q (F0 m pc ls rest) := lv_aload_n E.1.1 E.1.2.1 hd1 rfl hl (hx_memoryPoint E w hd2 kk)
theorem hx_disk (E : EX p s m args c D [(d, .int), (dz, .boolean)] RX0 cc nL) (w : Wd D A H0 (wX h ad d dz S) H locs) (hd2 : decode cc pc = .ok (.getfield 37, 3)) (kk : W p l e R s m args below meth c H locs cells slots Q (F0 m (pc + 3) ls (.ref (ad 9) :: rest))) : W p l e R s m args below meth c H locs cells slots Q (F0 m pc ls (.ref h :: rest)) := va_get (D := D) (ci := 0) (v := .ref (ad 9)) (C := RX0) (T := TX0) (N := 22) E.1.1 E.1.2.1 E.1.2.2.2.2 in_X0 E.1.2.2.2.1 E.2 w.1 0 rfl rfl 11 (by decide) (E.1.2.2.2.2 _ q37) (fun _ h9 => h9) rfl hd2 kk
theorem gx_disk (E : EX p s m args c D [(d, .int), (dz, .boolean)] RX0 cc nL) (w : Wd D A H0 (wX h ad d dz S) H locs) (hl : ls[0]? = some (.val (.ref h))) (hd1 : decode cc pc = .ok (.aload_n 0, 1)) (hd2 : decode cc (pc + 1) = .ok (.getfield 37, 3)) (kk : W p l e R s m args below meth c H locs cells slots Q (F0 m (pc + 4) ls (.ref (ad 9) :: rest))) : W p l e R s m args below meth c H locs cells slots Q (F0 m pc ls rest) := lv_aload_n E.1.1 E.1.2.1 hd1 rfl hl (hx_disk E w hd2 kk)
theorem hx_diskPoint (E : EX p s m args c D [(d, .int), (dz, .boolean)] RX0 cc nL) (w : Wd D A H0 (wX h ad d dz S) H locs) (hd2 : decode cc pc = .ok (.getfield 40, 3)) (kk : W p l e R s m args below meth c H locs cells slots Q (F0 m (pc + 3) ls (.ref (ad 10) :: rest))) : W p l e R s m args below meth c H locs cells slots Q (F0 m pc ls (.ref h :: rest)) := va_get (D := D) (ci := 0) (v := .ref (ad 10)) (C := RX0) (T := TX0) (N := 22) E.1.1 E.1.2.1 E.1.2.2.2.2 in_X0 E.1.2.2.2.1 E.2 w.1 0 rfl rfl 12 (by decide) (E.1.2.2.2.2 _ q38) (fun _ h9 => h9) rfl hd2 kk
theorem gx_diskPoint (E : EX p s m args c D [(d, .int), (dz, .boolean)] RX0 cc nL) (w : Wd D A H0 (wX h ad d dz S) H locs) (hl : ls[0]? = some (.val (.ref h))) (hd1 : decode cc pc = .ok (.aload_n 0, 1)) (hd2 : decode cc (pc + 1) = .ok (.getfield 40, 3)) (kk : W p l e R s m args below meth c H locs cells slots Q (F0 m (pc + 4) ls (.ref (ad 10) :: rest))) : W p l e R s m args below meth c H locs cells slots Q (F0 m pc ls rest) := lv_aload_n E.1.1 E.1.2.1 hd1 rfl hl (hx_diskPoint E w hd2 kk)
theorem hx_nextBackup (E : EX p s m args c D [(d, .int), (dz, .boolean)] RX0 cc nL) (w : Wd D A H0 (wX h ad d dz S) H locs) (hd2 : decode cc pc = .ok (.getfield 112, 3)) (kk : W p l e R s m args below meth c H locs cells slots Q (F0 m (pc + 3) ls (.int (S.2 2) :: rest))) : W p l e R s m args below meth c H locs cells slots Q (F0 m pc ls (.ref h :: rest)) := va_get (D := D) (ci := 0) (v := .int (S.2 2)) (C := RX0) (T := TX0) (N := 22) E.1.1 E.1.2.1 E.1.2.2.2.2 in_X0 E.1.2.2.2.1 E.2 w.1 0 rfl rfl 13 (by decide) (E.1.2.2.2.2 _ q39) (fun _ h9 => h9) rfl hd2 kk
theorem gx_nextBackup (E : EX p s m args c D [(d, .int), (dz, .boolean)] RX0 cc nL) (w : Wd D A H0 (wX h ad d dz S) H locs) (hl : ls[0]? = some (.val (.ref h))) (hd1 : decode cc pc = .ok (.aload_n 0, 1)) (hd2 : decode cc (pc + 1) = .ok (.getfield 112, 3)) (kk : W p l e R s m args below meth c H locs cells slots Q (F0 m (pc + 4) ls (.int (S.2 2) :: rest))) : W p l e R s m args below meth c H locs cells slots Q (F0 m pc ls rest) := lv_aload_n E.1.1 E.1.2.1 hd1 rfl hl (hx_nextBackup E w hd2 kk)
theorem px_nextBackup (E : EX p s m args c D [(d, .int), (dz, .boolean)] RX0 cc nL) (w : Wd D A H0 (wX h ad d dz S) H locs) {y : Int32} {S2 : PS} (hS : ss S 2 y = S2) (hdg : decode cc pc = .ok (.putfield 112, 3)) (kk : ∀ (H : Heap) (locs : List Loc), Wd D A H0 (wX h ad d dz S2) H locs → W p l e R s m args below meth c H locs cells slots Q (F0 m (pc + 3) ls rest)) : W p l e R s m args below meth c H locs cells slots Q (F0 m pc ls (.int y :: .ref h :: rest)) := by
  subst hS
  exact va_put (D := D) (ci := 0) (v := .int y) (ty := .int) (C := RX0) (T := TX0) (N := 22) E.1.1 E.1.2.1 E.1.2.2.2.2 in_X0 tyX0 tyX0_ok nmX0 E.1.2.2.2.1 E.2 w.1 w.2.1 w.2.2 0 rfl rfl 13 (by decide) (E.1.2.2.2.2 _ q39) (fun _ h9 => h9) rfl (by decide +kernel) rfl rfl (Nat.le_of_ble_eq_true rfl) hdg (fun H2 locs2 hP hD hS => kk H2 locs2 ⟨hP, hD, hS⟩)
theorem hx_underWay (E : EX p s m args c D [(d, .int), (dz, .boolean)] RX0 cc nL) (w : Wd D A H0 (wX h ad d dz S) H locs) (hd2 : decode cc pc = .ok (.getfield 100, 3)) (kk : W p l e R s m args below meth c H locs cells slots Q (F0 m (pc + 3) ls (.int (S.2 3) :: rest))) : W p l e R s m args below meth c H locs cells slots Q (F0 m pc ls (.ref h :: rest)) := va_get (D := D) (ci := 0) (v := .int (S.2 3)) (C := RX0) (T := TX0) (N := 22) E.1.1 E.1.2.1 E.1.2.2.2.2 in_X0 E.1.2.2.2.1 E.2 w.1 0 rfl rfl 14 (by decide) (E.1.2.2.2.2 _ q40) (fun _ h9 => h9) rfl hd2 kk
theorem gx_underWay (E : EX p s m args c D [(d, .int), (dz, .boolean)] RX0 cc nL) (w : Wd D A H0 (wX h ad d dz S) H locs) (hl : ls[0]? = some (.val (.ref h))) (hd1 : decode cc pc = .ok (.aload_n 0, 1)) (hd2 : decode cc (pc + 1) = .ok (.getfield 100, 3)) (kk : W p l e R s m args below meth c H locs cells slots Q (F0 m (pc + 4) ls (.int (S.2 3) :: rest))) : W p l e R s m args below meth c H locs cells slots Q (F0 m pc ls rest) := lv_aload_n E.1.1 E.1.2.1 hd1 rfl hl (hx_underWay E w hd2 kk)
theorem px_underWay (E : EX p s m args c D [(d, .int), (dz, .boolean)] RX0 cc nL) (w : Wd D A H0 (wX h ad d dz S) H locs) {y : Int32} {S2 : PS} (hn : narrow .boolean (.int y) = .int y) (hf : fits .boolean (.int y) = true) (hS : ss S 3 y = S2) (hdg : decode cc pc = .ok (.putfield 100, 3)) (kk : ∀ (H : Heap) (locs : List Loc), Wd D A H0 (wX h ad d dz S2) H locs → W p l e R s m args below meth c H locs cells slots Q (F0 m (pc + 3) ls rest)) : W p l e R s m args below meth c H locs cells slots Q (F0 m pc ls (.int y :: .ref h :: rest)) := by
  subst hS
  exact va_put (D := D) (ci := 0) (v := .int y) (ty := .boolean) (C := RX0) (T := TX0) (N := 22) E.1.1 E.1.2.1 E.1.2.2.2.2 in_X0 tyX0 tyX0_ok nmX0 E.1.2.2.2.1 E.2 w.1 w.2.1 w.2.2 0 rfl rfl 14 (by decide) (E.1.2.2.2.2 _ q40) (fun _ h9 => h9) rfl (by decide +kernel) hn hf (Nat.le_of_ble_eq_true rfl) hdg (fun H2 locs2 hP hD hS => kk H2 locs2 ⟨hP, hD, hS⟩)
theorem hx_finished (E : EX p s m args c D [(d, .int), (dz, .boolean)] RX0 cc nL) (w : Wd D A H0 (wX h ad d dz S) H locs) (hd2 : decode cc pc = .ok (.getfield 43, 3)) (kk : W p l e R s m args below meth c H locs cells slots Q (F0 m (pc + 3) ls (.ref (ad 11) :: rest))) : W p l e R s m args below meth c H locs cells slots Q (F0 m pc ls (.ref h :: rest)) := va_get (D := D) (ci := 0) (v := .ref (ad 11)) (C := RX0) (T := TX0) (N := 22) E.1.1 E.1.2.1 E.1.2.2.2.2 in_X0 E.1.2.2.2.1 E.2 w.1 0 rfl rfl 15 (by decide) (E.1.2.2.2.2 _ q41) (fun _ h9 => h9) rfl hd2 kk
theorem gx_finished (E : EX p s m args c D [(d, .int), (dz, .boolean)] RX0 cc nL) (w : Wd D A H0 (wX h ad d dz S) H locs) (hl : ls[0]? = some (.val (.ref h))) (hd1 : decode cc pc = .ok (.aload_n 0, 1)) (hd2 : decode cc (pc + 1) = .ok (.getfield 43, 3)) (kk : W p l e R s m args below meth c H locs cells slots Q (F0 m (pc + 4) ls (.ref (ad 11) :: rest))) : W p l e R s m args below meth c H locs cells slots Q (F0 m pc ls rest) := lv_aload_n E.1.1 E.1.2.1 hd1 rfl hl (hx_finished E w hd2 kk)
theorem hx_backupLine (E : EX p s m args c D [(d, .int), (dz, .boolean)] RX0 cc nL) (w : Wd D A H0 (wX h ad d dz S) H locs) (hd2 : decode cc pc = .ok (.getfield 47, 3)) (kk : W p l e R s m args below meth c H locs cells slots Q (F0 m (pc + 3) ls (.ref (ad 12) :: rest))) : W p l e R s m args below meth c H locs cells slots Q (F0 m pc ls (.ref h :: rest)) := va_get (D := D) (ci := 0) (v := .ref (ad 12)) (C := RX0) (T := TX0) (N := 22) E.1.1 E.1.2.1 E.1.2.2.2.2 in_X0 E.1.2.2.2.1 E.2 w.1 0 rfl rfl 16 (by decide) (E.1.2.2.2.2 _ q42) (fun _ h9 => h9) rfl hd2 kk
theorem gx_backupLine (E : EX p s m args c D [(d, .int), (dz, .boolean)] RX0 cc nL) (w : Wd D A H0 (wX h ad d dz S) H locs) (hl : ls[0]? = some (.val (.ref h))) (hd1 : decode cc pc = .ok (.aload_n 0, 1)) (hd2 : decode cc (pc + 1) = .ok (.getfield 47, 3)) (kk : W p l e R s m args below meth c H locs cells slots Q (F0 m (pc + 4) ls (.ref (ad 12) :: rest))) : W p l e R s m args below meth c H locs cells slots Q (F0 m pc ls rest) := lv_aload_n E.1.1 E.1.2.1 hd1 rfl hl (hx_backupLine E w hd2 kk)
theorem hx_backupBegin (E : EX p s m args c D [(d, .int), (dz, .boolean)] RX0 cc nL) (w : Wd D A H0 (wX h ad d dz S) H locs) (hd2 : decode cc pc = .ok (.getfield 50, 3)) (kk : W p l e R s m args below meth c H locs cells slots Q (F0 m (pc + 3) ls (.ref (ad 13) :: rest))) : W p l e R s m args below meth c H locs cells slots Q (F0 m pc ls (.ref h :: rest)) := va_get (D := D) (ci := 0) (v := .ref (ad 13)) (C := RX0) (T := TX0) (N := 22) E.1.1 E.1.2.1 E.1.2.2.2.2 in_X0 E.1.2.2.2.1 E.2 w.1 0 rfl rfl 17 (by decide) (E.1.2.2.2.2 _ q43) (fun _ h9 => h9) rfl hd2 kk
theorem gx_backupBegin (E : EX p s m args c D [(d, .int), (dz, .boolean)] RX0 cc nL) (w : Wd D A H0 (wX h ad d dz S) H locs) (hl : ls[0]? = some (.val (.ref h))) (hd1 : decode cc pc = .ok (.aload_n 0, 1)) (hd2 : decode cc (pc + 1) = .ok (.getfield 50, 3)) (kk : W p l e R s m args below meth c H locs cells slots Q (F0 m (pc + 4) ls (.ref (ad 13) :: rest))) : W p l e R s m args below meth c H locs cells slots Q (F0 m pc ls rest) := lv_aload_n E.1.1 E.1.2.1 hd1 rfl hl (hx_backupBegin E w hd2 kk)
theorem hx_backupEnd (E : EX p s m args c D [(d, .int), (dz, .boolean)] RX0 cc nL) (w : Wd D A H0 (wX h ad d dz S) H locs) (hd2 : decode cc pc = .ok (.getfield 53, 3)) (kk : W p l e R s m args below meth c H locs cells slots Q (F0 m (pc + 3) ls (.ref (ad 14) :: rest))) : W p l e R s m args below meth c H locs cells slots Q (F0 m pc ls (.ref h :: rest)) := va_get (D := D) (ci := 0) (v := .ref (ad 14)) (C := RX0) (T := TX0) (N := 22) E.1.1 E.1.2.1 E.1.2.2.2.2 in_X0 E.1.2.2.2.1 E.2 w.1 0 rfl rfl 18 (by decide) (E.1.2.2.2.2 _ q44) (fun _ h9 => h9) rfl hd2 kk
theorem gx_backupEnd (E : EX p s m args c D [(d, .int), (dz, .boolean)] RX0 cc nL) (w : Wd D A H0 (wX h ad d dz S) H locs) (hl : ls[0]? = some (.val (.ref h))) (hd1 : decode cc pc = .ok (.aload_n 0, 1)) (hd2 : decode cc (pc + 1) = .ok (.getfield 53, 3)) (kk : W p l e R s m args below meth c H locs cells slots Q (F0 m (pc + 4) ls (.ref (ad 14) :: rest))) : W p l e R s m args below meth c H locs cells slots Q (F0 m pc ls rest) := lv_aload_n E.1.1 E.1.2.1 hd1 rfl hl (hx_backupEnd E w hd2 kk)
theorem hx_copied (E : EX p s m args c D [(d, .int), (dz, .boolean)] RX0 cc nL) (w : Wd D A H0 (wX h ad d dz S) H locs) (hd2 : decode cc pc = .ok (.getfield 115, 3)) (kk : W p l e R s m args below meth c H locs cells slots Q (F0 m (pc + 3) ls (.int (S.2 4) :: rest))) : W p l e R s m args below meth c H locs cells slots Q (F0 m pc ls (.ref h :: rest)) := va_get (D := D) (ci := 0) (v := .int (S.2 4)) (C := RX0) (T := TX0) (N := 22) E.1.1 E.1.2.1 E.1.2.2.2.2 in_X0 E.1.2.2.2.1 E.2 w.1 0 rfl rfl 19 (by decide) (E.1.2.2.2.2 _ q45) (fun _ h9 => h9) rfl hd2 kk
theorem gx_copied (E : EX p s m args c D [(d, .int), (dz, .boolean)] RX0 cc nL) (w : Wd D A H0 (wX h ad d dz S) H locs) (hl : ls[0]? = some (.val (.ref h))) (hd1 : decode cc pc = .ok (.aload_n 0, 1)) (hd2 : decode cc (pc + 1) = .ok (.getfield 115, 3)) (kk : W p l e R s m args below meth c H locs cells slots Q (F0 m (pc + 4) ls (.int (S.2 4) :: rest))) : W p l e R s m args below meth c H locs cells slots Q (F0 m pc ls rest) := lv_aload_n E.1.1 E.1.2.1 hd1 rfl hl (hx_copied E w hd2 kk)
theorem px_copied (E : EX p s m args c D [(d, .int), (dz, .boolean)] RX0 cc nL) (w : Wd D A H0 (wX h ad d dz S) H locs) {y : Int32} {S2 : PS} (hS : ss S 4 y = S2) (hdg : decode cc pc = .ok (.putfield 115, 3)) (kk : ∀ (H : Heap) (locs : List Loc), Wd D A H0 (wX h ad d dz S2) H locs → W p l e R s m args below meth c H locs cells slots Q (F0 m (pc + 3) ls rest)) : W p l e R s m args below meth c H locs cells slots Q (F0 m pc ls (.int y :: .ref h :: rest)) := by
  subst hS
  exact va_put (D := D) (ci := 0) (v := .int y) (ty := .int) (C := RX0) (T := TX0) (N := 22) E.1.1 E.1.2.1 E.1.2.2.2.2 in_X0 tyX0 tyX0_ok nmX0 E.1.2.2.2.1 E.2 w.1 w.2.1 w.2.2 0 rfl rfl 19 (by decide) (E.1.2.2.2.2 _ q45) (fun _ h9 => h9) rfl (by decide +kernel) rfl rfl (Nat.le_of_ble_eq_true rfl) hdg (fun H2 locs2 hP hD hS => kk H2 locs2 ⟨hP, hD, hS⟩)
theorem hx_saved (E : EX p s m args c D [(d, .int), (dz, .boolean)] RX0 cc nL) (w : Wd D A H0 (wX h ad d dz S) H locs) (hd2 : decode cc pc = .ok (.getfield 56, 3)) (kk : W p l e R s m args below meth c H locs cells slots Q (F0 m (pc + 3) ls (.ref (ad 15) :: rest))) : W p l e R s m args below meth c H locs cells slots Q (F0 m pc ls (.ref h :: rest)) := va_get (D := D) (ci := 0) (v := .ref (ad 15)) (C := RX0) (T := TX0) (N := 22) E.1.1 E.1.2.1 E.1.2.2.2.2 in_X0 E.1.2.2.2.1 E.2 w.1 0 rfl rfl 20 (by decide) (E.1.2.2.2.2 _ q46) (fun _ h9 => h9) rfl hd2 kk
theorem gx_saved (E : EX p s m args c D [(d, .int), (dz, .boolean)] RX0 cc nL) (w : Wd D A H0 (wX h ad d dz S) H locs) (hl : ls[0]? = some (.val (.ref h))) (hd1 : decode cc pc = .ok (.aload_n 0, 1)) (hd2 : decode cc (pc + 1) = .ok (.getfield 56, 3)) (kk : W p l e R s m args below meth c H locs cells slots Q (F0 m (pc + 4) ls (.ref (ad 15) :: rest))) : W p l e R s m args below meth c H locs cells slots Q (F0 m pc ls rest) := lv_aload_n E.1.1 E.1.2.1 hd1 rfl hl (hx_saved E w hd2 kk)
theorem hx_savedPoint (E : EX p s m args c D [(d, .int), (dz, .boolean)] RX0 cc nL) (w : Wd D A H0 (wX h ad d dz S) H locs) (hd2 : decode cc pc = .ok (.getfield 59, 3)) (kk : W p l e R s m args below meth c H locs cells slots Q (F0 m (pc + 3) ls (.ref (ad 16) :: rest))) : W p l e R s m args below meth c H locs cells slots Q (F0 m pc ls (.ref h :: rest)) := va_get (D := D) (ci := 0) (v := .ref (ad 16)) (C := RX0) (T := TX0) (N := 22) E.1.1 E.1.2.1 E.1.2.2.2.2 in_X0 E.1.2.2.2.1 E.2 w.1 0 rfl rfl 21 (by decide) (E.1.2.2.2.2 _ q47) (fun _ h9 => h9) rfl hd2 kk
theorem gx_savedPoint (E : EX p s m args c D [(d, .int), (dz, .boolean)] RX0 cc nL) (w : Wd D A H0 (wX h ad d dz S) H locs) (hl : ls[0]? = some (.val (.ref h))) (hd1 : decode cc pc = .ok (.aload_n 0, 1)) (hd2 : decode cc (pc + 1) = .ok (.getfield 59, 3)) (kk : W p l e R s m args below meth c H locs cells slots Q (F0 m (pc + 4) ls (.ref (ad 16) :: rest))) : W p l e R s m args below meth c H locs cells slots Q (F0 m pc ls rest) := lv_aload_n E.1.1 E.1.2.1 hd1 rfl hl (hx_savedPoint E w hd2 kk)
end WorldX
abbrev MO : Type := (Nat → Int32) × (Nat → Nat) × Nat
def updN (f : Nat → Nat) (k v : Nat) : Nat → Nat := fun j => if j = k then v else f j
theorem updN_nI (f : Nat → Nat) (k v : Nat) : upd (fun t => nI (f t)) k (nI v) = fun t => nI (updN f k v t) := by
  funext j
  unfold upd updN
  by_cases hj : j = k
  · rw [if_pos hj, if_pos hj]
  · rw [if_neg hj, if_neg hj]
def wM (g b0 b1 : Nat) (d : ClassId) (O : MO) : va_W := [(g, .inr (1, [.ref b0, .ref b1, .int (nI O.2.2)])), (b0, .inl (d, 1488, .inl O.1)), (b1, .inl (d, 6, .inl (fun t => nI (O.2.1 t))))]
section WorldM
variable {p : Program} {l : Launch} {e : Env} {R : Room} {s : State} {m : MethodId} {args : Array Value} {below : List Frame} {meth : Method} {c : Code} {H : Heap} {locs : List Loc} {cells slots : Nat} {Q : State → Prop}
variable {cc : ByteArray} {pc nL : Nat} {ls : Array Slot} {rest : List Value} {D : va_G} {A : Nat → Prop} {H0 : Heap} {own : String}
variable {g b0 b1 : Nat} {d : ClassId} {O : MO}
theorem m_ldv (E : EX p s m args c D [(d, .int)] own cc nL) (w : Wd D A H0 (wM g b0 b1 d O) H locs) {i : Nat} {x v : Int32} (ex : x = nI i) (hi : i < 1488) (hv : O.1 i = v) (hdg : decode cc pc = .ok (.iaload, 1)) (kk : W p l e R s m args below meth c H locs cells slots Q (F0 m (pc + 1) ls (.int v :: rest))) : W p l e R s m args below meth c H locs cells slots Q (F0 m pc ls (.int x :: .ref b0 :: rest)) := by
  subst ex
  subst hv
  refine va_iald E.1.1 E.1.2.1 E.2 w.1 1 0 (n := 1488) (f := O.1) rfl rfl (vp_inx hi (by omega)) hdg ?_
  rw [nI_clamp (by omega)]
  exact kk
theorem m_stv (E : EX p s m args c D [(d, .int)] own cc nL) (w : Wd D A H0 (wM g b0 b1 d O) H locs) {i : Nat} {x y : Int32} {O2 : MO} (ex : x = nI i) (hi : i < 1488) (hO : (upd O.1 i y, O.2) = O2) (hdg : decode cc pc = .ok (.iastore, 1)) (kk : ∀ (H : Heap) (locs : List Loc), Wd D A H0 (wM g b0 b1 d O2) H locs → W p l e R s m args below meth c H locs cells slots Q (F0 m (pc + 1) ls rest)) : W p l e R s m args below meth c H locs cells slots Q (F0 m pc ls (.int y :: .int x :: .ref b0 :: rest)) := by
  subst ex
  subst hO
  refine va_iast E.1.1 E.1.2.1 E.2 w.1 w.2.1 w.2.2 1 0 (n := 1488) (f := O.1) rfl rfl (vp_inx hi (by omega)) hdg (fun H2 locs2 hP hD hS => ?_)
  rw [nI_clamp (by omega)] at hP hD
  exact kk H2 locs2 ⟨hP, hD, hS⟩
theorem m_ldl (E : EX p s m args c D [(d, .int)] own cc nL) (w : Wd D A H0 (wM g b0 b1 d O) H locs) {i : Nat} {x v : Int32} (ex : x = nI i) (hi : i < 6) (hv : nI (O.2.1 i) = v) (hdg : decode cc pc = .ok (.iaload, 1)) (kk : W p l e R s m args below meth c H locs cells slots Q (F0 m (pc + 1) ls (.int v :: rest))) : W p l e R s m args below meth c H locs cells slots Q (F0 m pc ls (.int x :: .ref b1 :: rest)) := by
  subst ex
  subst hv
  refine va_iald E.1.1 E.1.2.1 E.2 w.1 2 0 (n := 6) (f := fun t => nI (O.2.1 t)) rfl rfl (vp_inx hi (by omega)) hdg ?_
  rw [nI_clamp (by omega)]
  exact kk
theorem m_stl (E : EX p s m args c D [(d, .int)] own cc nL) (w : Wd D A H0 (wM g b0 b1 d O) H locs) {i q : Nat} {x y : Int32} {O2 : MO} (ex : x = nI i) (ey : y = nI q) (hi : i < 6) (hO : (O.1, updN O.2.1 i q, O.2.2) = O2) (hdg : decode cc pc = .ok (.iastore, 1)) (kk : ∀ (H : Heap) (locs : List Loc), Wd D A H0 (wM g b0 b1 d O2) H locs → W p l e R s m args below meth c H locs cells slots Q (F0 m (pc + 1) ls rest)) : W p l e R s m args below meth c H locs cells slots Q (F0 m pc ls (.int y :: .int x :: .ref b1 :: rest)) := by
  subst ex
  subst ey
  subst hO
  refine va_iast E.1.1 E.1.2.1 E.2 w.1 w.2.1 w.2.2 2 0 (n := 6) (f := fun t => nI (O.2.1 t)) rfl rfl (vp_inx hi (by omega)) hdg (fun H2 locs2 hP hD hS => ?_)
  rw [nI_clamp (by omega), updN_nI] at hP hD
  exact kk H2 locs2 ⟨hP, hD, hS⟩
theorem hm_values (E : EX p s m args c D [(d, .int)] RX1 cc nL) (w : Wd D A H0 (wM g b0 b1 d O) H locs) (hd2 : decode cc pc = .ok (.getfield 7, 3)) (kk : W p l e R s m args below meth c H locs cells slots Q (F0 m (pc + 3) ls (.ref b0 :: rest))) : W p l e R s m args below meth c H locs cells slots Q (F0 m pc ls (.ref g :: rest)) := va_get (D := D) (ci := 1) (v := .ref b0) (C := RX1) (T := TX1) (N := 3) E.1.1 E.1.2.1 E.1.2.2.2.2 in_X1 E.1.2.2.2.1 E.2 w.1 0 rfl rfl 0 (by decide) (E.1.2.2.2.2 _ q205) (fun _ h9 => h9) rfl hd2 kk
theorem gm_values (E : EX p s m args c D [(d, .int)] RX1 cc nL) (w : Wd D A H0 (wM g b0 b1 d O) H locs) (hl : ls[0]? = some (.val (.ref g))) (hd1 : decode cc pc = .ok (.aload_n 0, 1)) (hd2 : decode cc (pc + 1) = .ok (.getfield 7, 3)) (kk : W p l e R s m args below meth c H locs cells slots Q (F0 m (pc + 4) ls (.ref b0 :: rest))) : W p l e R s m args below meth c H locs cells slots Q (F0 m pc ls rest) := lv_aload_n E.1.1 E.1.2.1 hd1 rfl hl (hm_values E w hd2 kk)
theorem hm_lasts (E : EX p s m args c D [(d, .int)] RX1 cc nL) (w : Wd D A H0 (wM g b0 b1 d O) H locs) (hd2 : decode cc pc = .ok (.getfield 13, 3)) (kk : W p l e R s m args below meth c H locs cells slots Q (F0 m (pc + 3) ls (.ref b1 :: rest))) : W p l e R s m args below meth c H locs cells slots Q (F0 m pc ls (.ref g :: rest)) := va_get (D := D) (ci := 1) (v := .ref b1) (C := RX1) (T := TX1) (N := 3) E.1.1 E.1.2.1 E.1.2.2.2.2 in_X1 E.1.2.2.2.1 E.2 w.1 0 rfl rfl 1 (by decide) (E.1.2.2.2.2 _ q206) (fun _ h9 => h9) rfl hd2 kk
theorem gm_lasts (E : EX p s m args c D [(d, .int)] RX1 cc nL) (w : Wd D A H0 (wM g b0 b1 d O) H locs) (hl : ls[0]? = some (.val (.ref g))) (hd1 : decode cc pc = .ok (.aload_n 0, 1)) (hd2 : decode cc (pc + 1) = .ok (.getfield 13, 3)) (kk : W p l e R s m args below meth c H locs cells slots Q (F0 m (pc + 4) ls (.ref b1 :: rest))) : W p l e R s m args below meth c H locs cells slots Q (F0 m pc ls rest) := lv_aload_n E.1.1 E.1.2.1 hd1 rfl hl (hm_lasts E w hd2 kk)
theorem hm_timelines (E : EX p s m args c D [(d, .int)] RX1 cc nL) (w : Wd D A H0 (wM g b0 b1 d O) H locs) (hd2 : decode cc pc = .ok (.getfield 16, 3)) (kk : W p l e R s m args below meth c H locs cells slots Q (F0 m (pc + 3) ls (.int (nI O.2.2) :: rest))) : W p l e R s m args below meth c H locs cells slots Q (F0 m pc ls (.ref g :: rest)) := va_get (D := D) (ci := 1) (v := .int (nI O.2.2)) (C := RX1) (T := TX1) (N := 3) E.1.1 E.1.2.1 E.1.2.2.2.2 in_X1 E.1.2.2.2.1 E.2 w.1 0 rfl rfl 2 (by decide) (E.1.2.2.2.2 _ q207) (fun _ h9 => h9) rfl hd2 kk
theorem gm_timelines (E : EX p s m args c D [(d, .int)] RX1 cc nL) (w : Wd D A H0 (wM g b0 b1 d O) H locs) (hl : ls[0]? = some (.val (.ref g))) (hd1 : decode cc pc = .ok (.aload_n 0, 1)) (hd2 : decode cc (pc + 1) = .ok (.getfield 16, 3)) (kk : W p l e R s m args below meth c H locs cells slots Q (F0 m (pc + 4) ls (.int (nI O.2.2) :: rest))) : W p l e R s m args below meth c H locs cells slots Q (F0 m pc ls rest) := lv_aload_n E.1.1 E.1.2.1 hd1 rfl hl (hm_timelines E w hd2 kk)
theorem pm_timelines (E : EX p s m args c D [(d, .int)] RX1 cc nL) (w : Wd D A H0 (wM g b0 b1 d O) H locs) {y : Int32} {q : Nat} {O2 : MO} (ey : y = nI q) (hO : (O.1, O.2.1, q) = O2) (hdg : decode cc pc = .ok (.putfield 16, 3)) (kk : ∀ (H : Heap) (locs : List Loc), Wd D A H0 (wM g b0 b1 d O2) H locs → W p l e R s m args below meth c H locs cells slots Q (F0 m (pc + 3) ls rest)) : W p l e R s m args below meth c H locs cells slots Q (F0 m pc ls (.int y :: .ref g :: rest)) := by
  subst hO
  subst ey
  exact va_put (D := D) (ci := 1) (v := .int (nI q)) (ty := .int) (C := RX1) (T := TX1) (N := 3) E.1.1 E.1.2.1 E.1.2.2.2.2 in_X1 tyX1 tyX1_ok nmX1 E.1.2.2.2.1 E.2 w.1 w.2.1 w.2.2 0 rfl rfl 2 (by decide) (E.1.2.2.2.2 _ q207) (fun _ h9 => h9) rfl (by decide +kernel) rfl rfl (Nat.le_of_ble_eq_true rfl) hdg (fun H2 locs2 hP hD hS => kk H2 locs2 ⟨hP, hD, hS⟩)
end WorldM
end
section
def R_law : String := "PointInTimeLaw"
/-! THE WORDS OF THE CALLS: in PointInTime (cwx_), in PointInTimeModel (cwm_), of the law (clx_, clm_) -/
set_option maxRecDepth 100000
section Words
variable {p : Program} {l : Launch} {e : Env} {R : Room} {s : State} {m : MethodId} {args : Array Value} {below : List Frame} {meth : Method} {c : Code} {H : Heap} {locs : List Loc} {cells slots : Nat} {Q : State → Prop}
variable {cc : ByteArray} {pc nL : Nat} {ls : Array Slot} {rest : List Value} {D : va_G} {A : Nat → Prop} {H0 : Heap}
variable {tys : List (ClassId × FieldType)}
theorem cwx_bad (E : EX p s m args c D tys RX0 cc nL) (hR : 1 ≤ R.frames ∧ 21 ≤ R.locals) : CallW R s args RX0 RX0 77 yX0_bad cX0_bad 2 (some .boolean) (ws_ yX0_bad cX0_bad 2 (some .boolean)) ptr0 0 0 1 := cw_of E 1 q99 q101 qs0 q16 q102 rfl rfl (by decide +kernel) ⟨hR.1, hR.2⟩
theorem cwx_noPoint (E : EX p s m args c D tys RX0 cc nL) (hR : 1 ≤ R.frames ∧ 22 ≤ R.locals) : CallW R s args RX0 RX0 89 yX0_noPoint cX0_noPoint 3 (some .boolean) (ws_ yX0_noPoint cX0_noPoint 3 (some .boolean)) ptr0 0 0 2 := cw_of E 2 q135 q137 qs3 q16 q138 rfl rfl (by decide +kernel) ⟨hR.1, hR.2⟩
theorem cwx_entry (E : EX p s m args c D tys RX0 cc nL) (hR : 1 ≤ R.frames ∧ 24 ≤ R.locals) : CallW R s args RX0 RX0 66 yX0_entry cX0_entry 5 (some .int) (ws_ yX0_entry cX0_entry 5 (some .int)) ptr0 0 0 2 := cw_of E 2 q151 q153 qs7 q16 q154 rfl rfl (by decide +kernel) ⟨hR.1, hR.2⟩
theorem cwx_apply (E : EX p s m args c D tys RX0 cc nL) (hR : 1 ≤ R.frames ∧ 23 ≤ R.locals) : CallW R s args RX0 RX0 73 yX0_apply cX0_apply 4 none (ws_ yX0_apply cX0_apply 4 none) ptr0 0 0 3 := cw_of E 3 q107 q109 qs2 q16 q110 rfl rfl (by decide +kernel) ⟨hR.1, hR.2⟩
theorem cwx_onTheWay (E : EX p s m args c D tys RX0 cc nL) (hR : 1 ≤ R.frames ∧ 27 ≤ R.locals) : CallW R s args RX0 RX0 85 yX0_onTheWay cX0_onTheWay 8 (some .boolean) (ws_ yX0_onTheWay cX0_onTheWay 8 (some .boolean)) ptr0 0 0 4 := cw_of E 4 q143 q145 qs5 q16 q146 rfl rfl (by decide +kernel) ⟨hR.1, hR.2⟩
theorem cwx_writeOut (E : EX p s m args c D tys RX0 cc nL) (hR : 1 ≤ R.frames ∧ 23 ≤ R.locals) : CallW R s args RX0 RX0 108 yX0_writeOut cX0_writeOut 4 (some .int) (ws_ yX0_writeOut cX0_writeOut 4 (some .int)) ptr0 0 0 1 := cw_of E 1 q187 q189 qs10 q16 q190 rfl rfl (by decide +kernel) ⟨hR.1, hR.2⟩
theorem clx_timeline (E : EX p s m args c D tys R_law cc nL) (hR : 1 ≤ R.frames ∧ 20 ≤ R.locals) : CallW R s args R_law RX0 31 yX0_timeline cX0_timeline 1 (some .int) (ws_ yX0_timeline cX0_timeline 1 (some .int)) ptr0 0 0 0 := cw_of E 0 q123 q124 q125 q16 q126 rfl rfl (by decide +kernel) ⟨hR.1, hR.2⟩
theorem clx_point (E : EX p s m args c D tys R_law cc nL) (hR : 1 ≤ R.frames ∧ 20 ≤ R.locals) : CallW R s args R_law RX0 36 yX0_point cX0_point 1 (some .int) (ws_ yX0_point cX0_point 1 (some .int)) ptr0 0 0 0 := cw_of E 0 q127 q128 q129 q16 q130 rfl rfl (by decide +kernel) ⟨hR.1, hR.2⟩
theorem clx_lastPoint (E : EX p s m args c D tys R_law cc nL) (hR : 1 ≤ R.frames ∧ 21 ≤ R.locals) : CallW R s args R_law RX0 49 yX0_lastPoint cX0_lastPoint 2 (some .int) (ws_ yX0_lastPoint cX0_lastPoint 2 (some .int)) ptr0 0 0 1 := cw_of E 1 q163 q164 q165 q16 q166 rfl rfl (by decide +kernel) ⟨hR.1, hR.2⟩
theorem clx_digest (E : EX p s m args c D tys R_law cc nL) (hR : 1 ≤ R.frames ∧ 22 ≤ R.locals) : CallW R s args R_law RX0 73 yX0_digest cX0_digest 3 (some .int) (ws_ yX0_digest cX0_digest 3 (some .int)) ptr0 0 0 0 := cw_of E 0 q195 q196 q197 q16 q198 rfl rfl (by decide +kernel) ⟨hR.1, hR.2⟩
theorem cwx_valueThen (E : EX p s m args c D tys RX0 cc nL) (hR : 2 ≤ R.frames ∧ 55 ≤ R.locals) : CallW R s args RX0 RX0 104 yX0_valueThen cX0_valueThen 6 (some .int) (ws_ yX0_valueThen cX0_valueThen 6 (some .int)) ptr1 0 0 3 := cw_of E 3 q159 q161 qs8 q16 q162 rfl rfl (by decide +kernel) ⟨hR.1, hR.2⟩
theorem cwx_change (E : EX p s m args c D tys RX0 cc nL) (hR : 2 ≤ R.frames ∧ 56 ≤ R.locals) : CallW R s args RX0 RX0 81 yX0_change cX0_change 7 (some .int) (ws_ yX0_change cX0_change 7 (some .int)) ptr1 0 0 4 := cw_of E 4 q103 q105 qs1 q16 q106 rfl rfl (by decide +kernel) ⟨hR.1, hR.2⟩
theorem clx_get (E : EX p s m args c D tys R_law cc nL) (hR : 2 ≤ R.frames ∧ 51 ≤ R.locals) : CallW R s args R_law RX0 26 yX0_get cX0_get 2 (some .int) (ws_ yX0_get cX0_get 2 (some .int)) ptr1 0 0 1 := cw_of E 1 q119 q120 q121 q16 q122 rfl rfl (by decide +kernel) ⟨hR.1, hR.2⟩
theorem cwx_redo (E : EX p s m args c D tys RX0 cc nL) (hR : 2 ≤ R.frames ∧ 54 ≤ R.locals) : CallW R s args RX0 RX0 96 yX0_redo cX0_redo 5 none (ws_ yX0_redo cX0_redo 5 none) ptr1 0 0 2 := cw_of E 2 q147 q149 qs6 q16 q150 rfl rfl (by decide +kernel) ⟨hR.1, hR.2⟩
theorem cwx_usable (E : EX p s m args c D tys RX0 cc nL) (hR : 2 ≤ R.frames ∧ 54 ≤ R.locals) : CallW R s args RX0 RX0 93 yX0_usable cX0_usable 5 (some .int) (ws_ yX0_usable cX0_usable 5 (some .int)) ptr1 0 0 2 := cw_of E 2 q139 q141 qs4 q16 q142 rfl rfl (by decide +kernel) ⟨hR.1, hR.2⟩
theorem cwx_beginBackup (E : EX p s m args c D tys RX0 cc nL) (hR : 2 ≤ R.frames ∧ 50 ≤ R.locals) : CallW R s args RX0 RX0 118 yX0_beginBackup cX0_beginBackup 1 none (ws_ yX0_beginBackup cX0_beginBackup 1 none) ptr1 0 0 0 := cw_of E 0 q183 q185 qs9 q16 q186 rfl rfl (by decide +kernel) ⟨hR.1, hR.2⟩
theorem clx_flush (E : EX p s m args c D tys R_law cc nL) (hR : 2 ≤ R.frames ∧ 51 ≤ R.locals) : CallW R s args R_law RX0 69 yX0_flush cX0_flush 2 (some .int) (ws_ yX0_flush cX0_flush 2 (some .int)) ptr1 0 0 1 := cw_of E 1 q191 q192 q193 q16 q194 rfl rfl (by decide +kernel) ⟨hR.1, hR.2⟩
theorem clx_set (E : EX p s m args c D tys R_law cc nL) (hR : 3 ≤ R.frames ∧ 82 ≤ R.locals) : CallW R s args R_law RX0 13 yX0_set cX0_set 3 (some .int) (ws_ yX0_set cX0_set 3 (some .int)) ptr2 0 0 2 := cw_of E 2 q95 q96 q97 q16 q98 rfl rfl (by decide +kernel) ⟨hR.1, hR.2⟩
theorem clx_exchange (E : EX p s m args c D tys R_law cc nL) (hR : 3 ≤ R.frames ∧ 82 ≤ R.locals) : CallW R s args R_law RX0 18 yX0_exchange cX0_exchange 3 (some .int) (ws_ yX0_exchange cX0_exchange 3 (some .int)) ptr2 0 0 2 := cw_of E 2 q111 q112 q113 q16 q114 rfl rfl (by decide +kernel) ⟨hR.1, hR.2⟩
theorem clx_add (E : EX p s m args c D tys R_law cc nL) (hR : 3 ≤ R.frames ∧ 82 ≤ R.locals) : CallW R s args R_law RX0 22 yX0_add cX0_add 3 (some .int) (ws_ yX0_add cX0_add 3 (some .int)) ptr2 0 0 2 := cw_of E 2 q115 q116 q117 q16 q118 rfl rfl (by decide +kernel) ⟨hR.1, hR.2⟩
theorem clx_restore (E : EX p s m args c D tys R_law cc nL) (hR : 3 ≤ R.frames ∧ 84 ≤ R.locals) : CallW R s args R_law RX0 40 yX0_restore cX0_restore 5 (some .int) (ws_ yX0_restore cX0_restore 5 (some .int)) ptr2 0 0 2 := cw_of E 2 q131 q132 q133 q16 q134 rfl rfl (by decide +kernel) ⟨hR.1, hR.2⟩
theorem clx_valueAt (E : EX p s m args c D tys R_law cc nL) (hR : 3 ≤ R.frames ∧ 83 ≤ R.locals) : CallW R s args R_law RX0 44 yX0_valueAt cX0_valueAt 4 (some .int) (ws_ yX0_valueAt cX0_valueAt 4 (some .int)) ptr2 0 0 3 := cw_of E 3 q155 q156 q157 q16 q158 rfl rfl (by decide +kernel) ⟨hR.1, hR.2⟩
theorem clx_lastChange (E : EX p s m args c D tys R_law cc nL) (hR : 3 ≤ R.frames ∧ 86 ≤ R.locals) : CallW R s args R_law RX0 53 yX0_lastChange cX0_lastChange 7 (some .int) (ws_ yX0_lastChange cX0_lastChange 7 (some .int)) ptr2 0 0 3 := cw_of E 3 q167 q168 q169 q16 q170 rfl rfl (by decide +kernel) ⟨hR.1, hR.2⟩
theorem clx_differs (E : EX p s m args c D tys R_law cc nL) (hR : 3 ≤ R.frames ∧ 85 ≤ R.locals) : CallW R s args R_law RX0 57 yX0_differs cX0_differs 6 (some .int) (ws_ yX0_differs cX0_differs 6 (some .int)) ptr2 0 0 2 := cw_of E 2 q171 q172 q173 q16 q174 rfl rfl (by decide +kernel) ⟨hR.1, hR.2⟩
theorem clx_crash (E : EX p s m args c D tys R_law cc nL) (hR : 3 ≤ R.frames ∧ 81 ≤ R.locals) : CallW R s args R_law RX0 61 yX0_crash cX0_crash 2 (some .int) (ws_ yX0_crash cX0_crash 2 (some .int)) ptr2 0 0 0 := cw_of E 0 q175 q176 q177 q16 q178 rfl rfl (by decide +kernel) ⟨hR.1, hR.2⟩
theorem clx_backup (E : EX p s m args c D tys R_law cc nL) (hR : 3 ≤ R.frames ∧ 82 ≤ R.locals) : CallW R s args R_law RX0 65 yX0_backup cX0_backup 3 (some .int) (ws_ yX0_backup cX0_backup 3 (some .int)) ptr2 0 0 1 := cw_of E 1 q179 q180 q181 q16 q182 rfl rfl (by decide +kernel) ⟨hR.1, hR.2⟩
theorem cwm_isKey (E : EX p s m args c D tys RX1 cc nL) (hR : 1 ≤ R.frames ∧ 21 ≤ R.locals) : CallW R s args RX1 RX1 24 yX1_isKey cX1_isKey 2 (some .boolean) (ws_ yX1_isKey cX1_isKey 2 (some .boolean)) ptr0 0 0 1 := cw_of E 1 q219 q221 qs11 q17 q222 rfl rfl (by decide +kernel) ⟨hR.1, hR.2⟩
theorem cwm_isPoint (E : EX p s m args c D tys RX1 cc nL) (hR : 1 ≤ R.frames ∧ 22 ≤ R.locals) : CallW R s args RX1 RX1 42 yX1_isPoint cX1_isPoint 3 (some .boolean) (ws_ yX1_isPoint cX1_isPoint 3 (some .boolean)) ptr0 0 0 2 := cw_of E 2 q258 q260 qs14 q17 q261 rfl rfl (by decide +kernel) ⟨hR.1, hR.2⟩
theorem cwm_now (E : EX p s m args c D tys RX1 cc nL) (hR : 1 ≤ R.frames ∧ 21 ≤ R.locals) : CallW R s args RX1 RX1 20 yX1_now cX1_now 2 (some .int) (ws_ yX1_now cX1_now 2 (some .int)) ptr0 0 0 0 := cw_of E 0 q231 q233 qs13 q17 q234 rfl rfl (by decide +kernel) ⟨hR.1, hR.2⟩
theorem clm_timeline (E : EX p s m args c D tys R_law cc nL) (hR : 1 ≤ R.frames ∧ 20 ≤ R.locals) : CallW R s args R_law RX1 35 yX1_timeline cX1_timeline 1 (some .int) (ws_ yX1_timeline cX1_timeline 1 (some .int)) ptr0 0 0 0 := cw_of E 0 q249 q250 q251 q17 q252 rfl rfl (by decide +kernel) ⟨hR.1, hR.2⟩
theorem cwm_point (E : EX p s m args c D tys RX1 cc nL) (hR : 1 ≤ R.frames ∧ 20 ≤ R.locals) : CallW R s args RX1 RX1 28 yX1_point cX1_point 1 (some .int) (ws_ yX1_point cX1_point 1 (some .int)) ptr0 0 0 0 := cw_of E 0 q223 q224 q225 q17 q226 rfl rfl (by decide +kernel) ⟨hR.1, hR.2⟩
theorem clm_point (E : EX p s m args c D tys R_law cc nL) (hR : 1 ≤ R.frames ∧ 20 ≤ R.locals) : CallW R s args R_law RX1 39 yX1_point cX1_point 1 (some .int) (ws_ yX1_point cX1_point 1 (some .int)) ptr0 0 0 0 := cw_of E 0 q253 q224 q225 q17 q226 rfl rfl (by decide +kernel) ⟨hR.1, hR.2⟩
theorem clm_crash (E : EX p s m args c D tys R_law cc nL) (hR : 1 ≤ R.frames ∧ 20 ≤ R.locals) : CallW R s args R_law RX1 64 yX1_crash cX1_crash 1 (some .int) (ws_ yX1_crash cX1_crash 1 (some .int)) ptr0 0 0 0 := cw_of E 0 q278 q279 q280 q17 q281 rfl rfl (by decide +kernel) ⟨hR.1, hR.2⟩
theorem clm_backup (E : EX p s m args c D tys R_law cc nL) (hR : 1 ≤ R.frames ∧ 21 ≤ R.locals) : CallW R s args R_law RX1 68 yX1_backup cX1_backup 2 (some .int) (ws_ yX1_backup cX1_backup 2 (some .int)) ptr0 0 0 1 := cw_of E 1 q282 q283 q284 q17 q285 rfl rfl (by decide +kernel) ⟨hR.1, hR.2⟩
theorem clm_flush (E : EX p s m args c D tys R_law cc nL) (hR : 1 ≤ R.frames ∧ 21 ≤ R.locals) : CallW R s args R_law RX1 72 yX1_flush cX1_flush 2 (some .int) (ws_ yX1_flush cX1_flush 2 (some .int)) ptr0 0 0 1 := cw_of E 1 q286 q287 q288 q17 q289 rfl rfl (by decide +kernel) ⟨hR.1, hR.2⟩
theorem cwm_goOn (E : EX p s m args c D tys RX1 cc nL) (hR : 2 ≤ R.frames ∧ 52 ≤ R.locals) : CallW R s args RX1 RX1 31 yX1_goOn cX1_goOn 3 none (ws_ yX1_goOn cX1_goOn 3 none) ptr1 0 0 0 := cw_of E 0 q227 q229 qs12 q17 q230 rfl rfl (by decide +kernel) ⟨hR.1, hR.2⟩
theorem cwm_get (E : EX p s m args c D tys RX1 cc nL) (hR : 2 ≤ R.frames ∧ 52 ≤ R.locals) : CallW R s args RX1 RX1 34 yX1_get cX1_get 3 (some .int) (ws_ yX1_get cX1_get 3 (some .int)) ptr1 0 0 1 := cw_of E 1 q243 q244 q245 q17 q246 rfl rfl (by decide +kernel) ⟨hR.1, hR.2⟩
theorem clm_get (E : EX p s m args c D tys R_law cc nL) (hR : 2 ≤ R.frames ∧ 52 ≤ R.locals) : CallW R s args R_law RX1 30 yX1_get cX1_get 3 (some .int) (ws_ yX1_get cX1_get 3 (some .int)) ptr1 0 0 1 := cw_of E 1 q248 q244 q245 q17 q246 rfl rfl (by decide +kernel) ⟨hR.1, hR.2⟩
theorem clm_restore (E : EX p s m args c D tys R_law cc nL) (hR : 2 ≤ R.frames ∧ 53 ≤ R.locals) : CallW R s args R_law RX1 43 yX1_restore cX1_restore 4 (some .int) (ws_ yX1_restore cX1_restore 4 (some .int)) ptr1 0 0 2 := cw_of E 2 q254 q255 q256 q17 q257 rfl rfl (by decide +kernel) ⟨hR.1, hR.2⟩
theorem clm_valueAt (E : EX p s m args c D tys R_law cc nL) (hR : 2 ≤ R.frames ∧ 53 ≤ R.locals) : CallW R s args R_law RX1 48 yX1_valueAt cX1_valueAt 4 (some .int) (ws_ yX1_valueAt cX1_valueAt 4 (some .int)) ptr1 0 0 3 := cw_of E 3 q262 q263 q264 q17 q265 rfl rfl (by decide +kernel) ⟨hR.1, hR.2⟩
theorem clm_lastPoint (E : EX p s m args c D tys R_law cc nL) (hR : 2 ≤ R.frames ∧ 51 ≤ R.locals) : CallW R s args R_law RX1 52 yX1_lastPoint cX1_lastPoint 2 (some .int) (ws_ yX1_lastPoint cX1_lastPoint 2 (some .int)) ptr1 0 0 1 := cw_of E 1 q266 q267 q268 q17 q269 rfl rfl (by decide +kernel) ⟨hR.1, hR.2⟩
theorem clm_lastChange (E : EX p s m args c D tys R_law cc nL) (hR : 2 ≤ R.frames ∧ 54 ≤ R.locals) : CallW R s args R_law RX1 56 yX1_lastChange cX1_lastChange 5 (some .int) (ws_ yX1_lastChange cX1_lastChange 5 (some .int)) ptr1 0 0 3 := cw_of E 3 q270 q271 q272 q17 q273 rfl rfl (by decide +kernel) ⟨hR.1, hR.2⟩
theorem clm_differs (E : EX p s m args c D tys R_law cc nL) (hR : 2 ≤ R.frames ∧ 55 ≤ R.locals) : CallW R s args R_law RX1 60 yX1_differs cX1_differs 6 (some .int) (ws_ yX1_differs cX1_differs 6 (some .int)) ptr1 0 0 2 := cw_of E 2 q274 q275 q276 q17 q277 rfl rfl (by decide +kernel) ⟨hR.1, hR.2⟩
theorem clm_digest (E : EX p s m args c D tys R_law cc nL) (hR : 2 ≤ R.frames ∧ 53 ≤ R.locals) : CallW R s args R_law RX1 76 yX1_digest cX1_digest 4 (some .int) (ws_ yX1_digest cX1_digest 4 (some .int)) ptr1 0 0 0 := cw_of E 0 q290 q291 q292 q17 q293 rfl rfl (by decide +kernel) ⟨hR.1, hR.2⟩
theorem cwm_set (E : EX p s m args c D tys RX1 cc nL) (hR : 3 ≤ R.frames ∧ 83 ≤ R.locals) : CallW R s args RX1 RX1 38 yX1_set cX1_set 4 (some .int) (ws_ yX1_set cX1_set 4 (some .int)) ptr2 0 0 2 := cw_of E 2 q247 q216 q217 q17 q218 rfl rfl (by decide +kernel) ⟨hR.1, hR.2⟩
theorem clm_set (E : EX p s m args c D tys R_law cc nL) (hR : 3 ≤ R.frames ∧ 83 ≤ R.locals) : CallW R s args R_law RX1 17 yX1_set cX1_set 4 (some .int) (ws_ yX1_set cX1_set 4 (some .int)) ptr2 0 0 2 := cw_of E 2 q215 q216 q217 q17 q218 rfl rfl (by decide +kernel) ⟨hR.1, hR.2⟩
theorem clm_exchange (E : EX p s m args c D tys R_law cc nL) (hR : 3 ≤ R.frames ∧ 84 ≤ R.locals) : CallW R s args R_law RX1 21 yX1_exchange cX1_exchange 5 (some .int) (ws_ yX1_exchange cX1_exchange 5 (some .int)) ptr2 0 0 2 := cw_of E 2 q235 q236 q237 q17 q238 rfl rfl (by decide +kernel) ⟨hR.1, hR.2⟩
theorem clm_add (E : EX p s m args c D tys R_law cc nL) (hR : 4 ≤ R.frames ∧ 113 ≤ R.locals) : CallW R s args R_law RX1 25 yX1_add cX1_add 4 (some .int) (ws_ yX1_add cX1_add 4 (some .int)) ptr3 0 0 2 := cw_of E 2 q239 q240 q241 q17 q242 rfl rfl (by decide +kernel) ⟨hR.1, hR.2⟩
end Words
/-! CALLS inside an object (cx_, cm_) and contracts' short names (CX, CXv, CM, CMv) -/
abbrev CX (l : Launch) (y : MethodName) (cy : ByteArray) (ny : Nat) (ry : Option FieldType) (rm : Room) (D : va_G) (h : Nat) (ad : Nat → Nat) (d dz : ClassId) (S : PS) (As : List Value) (post : Int32 → PS → Prop) : Prop := Ct l y cy ny ry rm D [(d, .int), (dz, .boolean)] (wX h ad d dz) h S As (va_Qi post)
abbrev CXv (l : Launch) (y : MethodName) (cy : ByteArray) (ny : Nat) (rm : Room) (D : va_G) (h : Nat) (ad : Nat → Nat) (d dz : ClassId) (S : PS) (As : List Value) (post : PS → Prop) : Prop := Ct l y cy ny none rm D [(d, .int), (dz, .boolean)] (wX h ad d dz) h S As (va_Qv post)
abbrev CM (l : Launch) (y : MethodName) (cy : ByteArray) (ny : Nat) (ry : Option FieldType) (rm : Room) (D : va_G) (g b0 b1 : Nat) (d : ClassId) (O : MO) (As : List Value) (post : Int32 → MO → Prop) : Prop := Ct l y cy ny ry rm D [(d, .int)] (wM g b0 b1 d) g O As (va_Qi post)
abbrev CMv (l : Launch) (y : MethodName) (cy : ByteArray) (ny : Nat) (rm : Room) (D : va_G) (g b0 b1 : Nat) (d : ClassId) (O : MO) (As : List Value) (post : MO → Prop) : Prop := Ct l y cy ny none rm D [(d, .int)] (wM g b0 b1 d) g O As (va_Qv post)
section Calls
variable {p : Program} {l : Launch} {e : Env} {R : Room} {s : State} {m : MethodId} {args : Array Value} {below : List Frame} {meth : Method} {c : Code} {H : Heap} {locs : List Loc} {cells slots : Nat} {Q : State → Prop}
variable {cc : ByteArray} {pc nL : Nat} {ls : Array Slot} {rest : List Value} {D : va_G} {A : Nat → Prop} {H0 : Heap}
variable {y : MethodName} {cy : ByteArray} {ny index n : Nat} {ry : Option FieldType} {rm : Room} {As st : List Value}
theorem cx_i {h : Nat} {ad : Nat → Nat} {d dz : ClassId} {S : PS} {post : Int32 → PS → Prop} (E : EX p s m args c D [(d, .int), (dz, .boolean)] RX0 cc nL) (hM : Ct l y cy ny ry rm D [(d, .int), (dz, .boolean)] (wX h ad d dz) h S As (va_Qi post)) (cw : CallW R s args RX0 RX0 index y cy ny ry (ws_ y cy ny ry) rm 0 0 n) (w : Wd D A H0 (wX h ad d dz S) H locs) (hA : ∀ q : Nat, H0.size ≤ q → A q) (hl : ls.size = nL) (hn : As.length = n) (hst : st = As.reverse ++ .ref h :: rest) (hW : (rest.map fun v => v.category).sum ≤ 8) (hdg : decode cc pc = .ok (.invokevirtual index, 3)) (hf : cells ≤ R.cells ∧ slots ≤ R.slots)
    (kk : ∀ (r : Int32) (S2 : PS) (H : Heap) (locs : List Loc), post r S2 → Wd D A H0 (wX h ad d dz S2) H locs → W p l e R s m args below meth c H locs cells slots Q (F0 m (pc + 3) ls (.int r :: rest))) : W p l e R s m args below meth c H locs cells slots Q (F0 m pc ls st) := by
  refine cF_i (wr := []) E hM cw (by rw [List.append_nil]; exact w) hA E.2 (ci := 0) rfl rfl rfl hn hl hst hW hdg hf ?_
  intro r S2 H locs hp w2
  rw [List.append_nil] at w2
  exact kk r S2 H locs hp w2
theorem cx_v {h : Nat} {ad : Nat → Nat} {d dz : ClassId} {S : PS} {post : PS → Prop} (E : EX p s m args c D [(d, .int), (dz, .boolean)] RX0 cc nL) (hM : Ct l y cy ny none rm D [(d, .int), (dz, .boolean)] (wX h ad d dz) h S As (va_Qv post)) (cw : CallW R s args RX0 RX0 index y cy ny none (ws_ y cy ny none) rm 0 0 n) (w : Wd D A H0 (wX h ad d dz S) H locs) (hA : ∀ q : Nat, H0.size ≤ q → A q) (hl : ls.size = nL) (hn : As.length = n) (hst : st = As.reverse ++ .ref h :: rest) (hW : (rest.map fun v => v.category).sum ≤ 8) (hdg : decode cc pc = .ok (.invokevirtual index, 3)) (hf : cells ≤ R.cells ∧ slots ≤ R.slots)
    (kk : ∀ (S2 : PS) (H : Heap) (locs : List Loc), post S2 → Wd D A H0 (wX h ad d dz S2) H locs → W p l e R s m args below meth c H locs cells slots Q (F0 m (pc + 3) ls rest)) : W p l e R s m args below meth c H locs cells slots Q (F0 m pc ls st) := by
  refine cF_v (wr := []) E hM cw (by rw [List.append_nil]; exact w) hA E.2 (ci := 0) rfl rfl rfl hn hl hst hW hdg hf ?_
  intro S2 H locs hp w2
  rw [List.append_nil] at w2
  exact kk S2 H locs hp w2
theorem cm_i {g b0 b1 : Nat} {d : ClassId} {O : MO} {post : Int32 → MO → Prop} (E : EX p s m args c D [(d, .int)] RX1 cc nL) (hM : Ct l y cy ny ry rm D [(d, .int)] (wM g b0 b1 d) g O As (va_Qi post)) (cw : CallW R s args RX1 RX1 index y cy ny ry (ws_ y cy ny ry) rm 0 0 n) (w : Wd D A H0 (wM g b0 b1 d O) H locs) (hA : ∀ q : Nat, H0.size ≤ q → A q) (hl : ls.size = nL) (hn : As.length = n) (hst : st = As.reverse ++ .ref g :: rest) (hW : (rest.map fun v => v.category).sum ≤ 8) (hdg : decode cc pc = .ok (.invokevirtual index, 3)) (hf : cells ≤ R.cells ∧ slots ≤ R.slots)
    (kk : ∀ (r : Int32) (S2 : MO) (H : Heap) (locs : List Loc), post r S2 → Wd D A H0 (wM g b0 b1 d S2) H locs → W p l e R s m args below meth c H locs cells slots Q (F0 m (pc + 3) ls (.int r :: rest))) : W p l e R s m args below meth c H locs cells slots Q (F0 m pc ls st) := by
  refine cF_i (wr := []) E hM cw (by rw [List.append_nil]; exact w) hA E.2 (ci := 1) rfl rfl rfl hn hl hst hW hdg hf ?_
  intro r S2 H locs hp w2
  rw [List.append_nil] at w2
  exact kk r S2 H locs hp w2
theorem cm_v {g b0 b1 : Nat} {d : ClassId} {O : MO} {post : MO → Prop} (E : EX p s m args c D [(d, .int)] RX1 cc nL) (hM : Ct l y cy ny none rm D [(d, .int)] (wM g b0 b1 d) g O As (va_Qv post)) (cw : CallW R s args RX1 RX1 index y cy ny none (ws_ y cy ny none) rm 0 0 n) (w : Wd D A H0 (wM g b0 b1 d O) H locs) (hA : ∀ q : Nat, H0.size ≤ q → A q) (hl : ls.size = nL) (hn : As.length = n) (hst : st = As.reverse ++ .ref g :: rest) (hW : (rest.map fun v => v.category).sum ≤ 8) (hdg : decode cc pc = .ok (.invokevirtual index, 3)) (hf : cells ≤ R.cells ∧ slots ≤ R.slots)
    (kk : ∀ (S2 : MO) (H : Heap) (locs : List Loc), post S2 → Wd D A H0 (wM g b0 b1 d S2) H locs → W p l e R s m args below meth c H locs cells slots Q (F0 m (pc + 3) ls rest)) : W p l e R s m args below meth c H locs cells slots Q (F0 m pc ls st) := by
  refine cF_v (wr := []) E hM cw (by rw [List.append_nil]; exact w) hA E.2 (ci := 1) rfl rfl rfl hn hl hst hW hdg hf ?_
  intro S2 H locs hp w2
  rw [List.append_nil] at w2
  exact kk S2 H locs hp w2
end Calls
end
section
/-! PURE: what the model computes, over O : MO = (values, lasts, timelines) -/
def vM (O : MO) (t n k : Nat) : Int32 := O.1 (248 * t + 8 * n + k)
def ln (O : MO) : Nat := O.2.1 (O.2.2 - 1)
def fr (O : MO) : Nat := 248 * (O.2.2 - 1) + 8 * ln O
def aGo (O : MO) : MO := (fun j => if fr O + 8 ≤ j ∧ j < fr O + 16 then O.1 (j - 8) else O.1 j, updN O.2.1 (O.2.2 - 1) (ln O + 1), O.2.2)
def aPut (O : MO) (i : Nat) (v : Int32) : MO := (upd O.1 i v, O.2)
def aCp (O : MO) (t n : Nat) : MO := (fun j => if 248 * O.2.2 ≤ j ∧ j < 248 * O.2.2 + (8 * n + 8) then O.1 (248 * t + (j - 248 * O.2.2)) else O.1 j, updN O.2.1 O.2.2 n, O.2.2 + 1)
abbrev kOk (x : Int32) : Prop := 0 ≤ x ∧ x < 8
abbrev pOk (O : MO) (x y : Int32) : Prop := 0 ≤ x ∧ x < nI O.2.2 ∧ 0 ≤ y ∧ y ≤ nI (O.2.1 x.toNatClampNeg)
def aGet (O : MO) (x : Int32) : Int32 := if kOk x then O.1 (fr O + x.toNatClampNeg) else 0
def aSet (O : MO) (x v : Int32) : Int32 × MO := if kOk x then (if ln O = 30 then (-2, O) else (nI (ln O + 1), aPut (aGo O) (fr O + 8 + x.toNatClampNeg) v)) else (-1, O)
def aExch (O : MO) (x y : Int32) : Int32 × MO := if kOk x ∧ kOk y then (if ln O = 30 then (-2, O) else (nI (ln O + 1), aPut (aPut (aGo O) (fr O + 8 + x.toNatClampNeg) (O.1 (fr O + y.toNatClampNeg))) (fr O + 8 + y.toNatClampNeg) (O.1 (fr O + x.toNatClampNeg)))) else (-1, O)
def aAdd (O : MO) (x d : Int32) : Int32 × MO := aSet O x (aGet O x + d)
def aRst (O : MO) (x y : Int32) : Int32 × MO := if pOk O x y then (if O.2.2 = 6 then (-2, O) else (nI O.2.2, aCp O x.toNatClampNeg y.toNatClampNeg)) else (-4, O)
def aVal (O : MO) (x y z : Int32) : Int32 := if pOk O x y ∧ kOk z then vM O x.toNatClampNeg y.toNatClampNeg z.toNatClampNeg else 0
def aLp (O : MO) (x : Int32) : Int32 := if 0 ≤ x ∧ x < nI O.2.2 then nI (O.2.1 x.toNatClampNeg) else -4
def lastC (O : MO) (t k : Nat) : Nat → Nat
  | 0 => 0
  | n + 1 => if vM O t (n + 1) k = vM O t n k then lastC O t k n else n + 1
def aLc (O : MO) (x y z : Int32) : Int32 := if kOk z then (if pOk O x y then nI (lastC O x.toNatClampNeg z.toNatClampNeg y.toNatClampNeg) else -4) else -1
def dfC (O : MO) (t n : Nat) : Nat → Nat
  | 0 => 0
  | k + 1 => if vM O t n k = O.1 (fr O + k) then dfC O t n k else dfC O t n k + 1
def aDf (O : MO) (x y : Int32) : Int32 := if pOk O x y then nI (dfC O x.toNatClampNeg y.toNatClampNeg 8) else -4
def dgC (O : MO) : Nat → Int32
  | 0 => 0
  | k + 1 => dgC O k + (nI k + 1) * O.1 (fr O + k)
def aMany (x : Int32) : Int32 := if 0 ≤ x ∧ x ≤ 8 then 0 else -1
/-- what holds of the model's state at every call -/
def MI (O : MO) : Prop := 1 ≤ O.2.2 ∧ O.2.2 ≤ 6 ∧ ∀ t, t < O.2.2 → O.2.1 t ≤ 30
theorem i32_nlt {x y : Int32} (h : ¬ x < y) : y ≤ x := by
  rw [Int32.le_iff_toInt_le]
  rw [Int32.lt_iff_toInt_lt] at h
  omega
theorem i32_nle {x y : Int32} (h : ¬ x ≤ y) : y < x := by
  rw [Int32.lt_iff_toInt_lt]
  rw [Int32.le_iff_toInt_le] at h
  omega
theorem i32_ltn {x y : Int32} (h : x < y) : ¬ y ≤ x := by
  rw [Int32.le_iff_toInt_le]
  rw [Int32.lt_iff_toInt_lt] at h
  omega
theorem i32_len {x y : Int32} (h : x ≤ y) : ¬ y < x := by
  rw [Int32.lt_iff_toInt_lt]
  rw [Int32.le_iff_toInt_le] at h
  omega
theorem e8 : (8 : Int32) = nI 8 := by decide
theorem e0 : (0 : Int32) = nI 0 := by decide
theorem e30 : (30 : Int32) = nI 30 := by decide
theorem e6 : (6 : Int32) = nI 6 := by decide
theorem e7 : (7 : Int32) = nI 7 := by decide
theorem e4 : (4 : Int32) = nI 4 := by decide
theorem e1 : (1 : Int32) = nI 1 := by decide
theorem e31 : (31 : Int32) = nI 31 := by decide
theorem e248 : (248 : Int32) = nI 248 := by decide
theorem kOk_nI {k : Nat} (h : k < 8) : kOk (nI k) := ⟨nI_pos' (by omega), by rw [e8]; exact nI_lt h (by decide)⟩
theorem kOk_of {x : Int32} (h : kOk x) : ∃ k : Nat, k < 8 ∧ x = nI k := by
  obtain ⟨j, hj, e⟩ := nI_of (i32_len h.1)
  refine ⟨j, ?_, e⟩
  have h2 := h.2
  rw [e, e8, nI_ltI hj (by decide)] at h2
  exact h2
theorem pOk_nI {O : MO} (hO : MI O) {t n : Nat} (ht : t < O.2.2) (hn : n ≤ O.2.1 t) : pOk O (nI t) (nI n) := by
  have h1 := hO.2.1
  have h2 := hO.2.2 t ht
  refine ⟨nI_pos' (by omega), nI_lt ht (by omega), nI_pos' (by omega), ?_⟩
  rw [nI_clamp (by omega)]
  exact nI_le hn (by omega)
theorem pOk_of {O : MO} (hO : MI O) {x y : Int32} (h : pOk O x y) : ∃ t n : Nat, t < O.2.2 ∧ n ≤ O.2.1 t ∧ x = nI t ∧ y = nI n := by
  obtain ⟨h1, h2, h3, h4⟩ := h
  obtain ⟨t, ht, e⟩ := nI_of (i32_len h1)
  obtain ⟨n, hn, e2⟩ := nI_of (i32_len h3)
  have hN := hO.2.1
  subst e
  subst e2
  rw [nI_ltI ht (by omega)] at h2
  have h5 := hO.2.2 t h2
  rw [nI_clamp ht, nI_leI hn (by omega)] at h4
  exact ⟨t, n, h2, h4, rfl, rfl⟩
theorem MI_ln {O : MO} (h : MI O) : ln O ≤ 30 := h.2.2 _ (by have := h.1; omega)
theorem MI_fr {O : MO} (h : MI O) : fr O + 8 ≤ 1488 := by
  have h1 := MI_ln h
  have h2 := h.2.1
  unfold fr
  omega
theorem aGo_fr {O : MO} : fr (aGo O) = fr O + 8 := by
  unfold fr aGo ln updN
  simp
  omega
theorem aGo_ln {O : MO} : ln (aGo O) = ln O + 1 := by
  unfold ln aGo ln updN
  simp
theorem aGo_at {O : MO} {k : Nat} (h : k < 8) : (aGo O).1 (fr O + 8 + k) = O.1 (fr O + k) := by
  unfold aGo
  show (if fr O + 8 ≤ fr O + 8 + k ∧ fr O + 8 + k < fr O + 16 then O.1 (fr O + 8 + k - 8) else O.1 (fr O + 8 + k)) = _
  rw [if_pos (by omega)]
  exact congrArg O.1 (by omega)
theorem aSet_bad {O : MO} {x v : Int32} (h : ¬ kOk x) : aSet O x v = (-1, O) := if_neg h
theorem aSet_full {O : MO} {k : Nat} {v : Int32} (hk : k < 8) (h : ln O = 30) : aSet O (nI k) v = (-2, O) := by
  unfold aSet
  rw [if_pos (kOk_nI hk), if_pos h]
theorem aSet_ok {O : MO} {k : Nat} {v : Int32} (hk : k < 8) (h : ln O ≠ 30) : aSet O (nI k) v = (nI (ln O + 1), aPut (aGo O) (fr O + 8 + k) v) := by
  unfold aSet
  rw [if_pos (kOk_nI hk), if_neg h, nI_clamp (by omega)]
theorem aExch_bad {O : MO} {x y : Int32} (h : ¬ (kOk x ∧ kOk y)) : aExch O x y = (-1, O) := if_neg h
theorem aExch_full {O : MO} {k j : Nat} (hk : k < 8) (hj : j < 8) (h : ln O = 30) : aExch O (nI k) (nI j) = (-2, O) := by
  unfold aExch
  rw [if_pos ⟨kOk_nI hk, kOk_nI hj⟩, if_pos h]
theorem aExch_ok {O : MO} {k j : Nat} (hk : k < 8) (hj : j < 8) (h : ln O ≠ 30) : aExch O (nI k) (nI j) = (nI (ln O + 1), aPut (aPut (aGo O) (fr O + 8 + k) (O.1 (fr O + j))) (fr O + 8 + j) (O.1 (fr O + k))) := by
  unfold aExch
  rw [if_pos ⟨kOk_nI hk, kOk_nI hj⟩, if_neg h, nI_clamp (by omega), nI_clamp (by omega)]
theorem aGet_bad {O : MO} {x : Int32} (h : ¬ kOk x) : aGet O x = 0 := if_neg h
theorem aGet_ok {O : MO} {k : Nat} (hk : k < 8) : aGet O (nI k) = O.1 (fr O + k) := by
  unfold aGet
  rw [if_pos (kOk_nI hk), nI_clamp (by omega)]
theorem aRst_bad {O : MO} {x y : Int32} (h : ¬ pOk O x y) : aRst O x y = (-4, O) := if_neg h
theorem aRst_full {O : MO} (hO : MI O) {t n : Nat} (ht : t < O.2.2) (hn : n ≤ O.2.1 t) (h : O.2.2 = 6) : aRst O (nI t) (nI n) = (-2, O) := by
  unfold aRst
  rw [if_pos (pOk_nI hO ht hn), if_pos h]
theorem aRst_ok {O : MO} (hO : MI O) {t n : Nat} (ht : t < O.2.2) (hn : n ≤ O.2.1 t) (h : O.2.2 ≠ 6) : aRst O (nI t) (nI n) = (nI O.2.2, aCp O t n) := by
  have h1 := hO.2.1
  have h2 := hO.2.2 t ht
  unfold aRst
  rw [if_pos (pOk_nI hO ht hn), if_neg h, nI_clamp (by omega), nI_clamp (by omega)]
theorem aVal_bad {O : MO} {x y z : Int32} (h : ¬ (pOk O x y ∧ kOk z)) : aVal O x y z = 0 := if_neg h
theorem aVal_ok {O : MO} (hO : MI O) {t n k : Nat} (ht : t < O.2.2) (hn : n ≤ O.2.1 t) (hk : k < 8) : aVal O (nI t) (nI n) (nI k) = vM O t n k := by
  have h1 := hO.2.1
  have h2 := hO.2.2 t ht
  unfold aVal
  rw [if_pos ⟨pOk_nI hO ht hn, kOk_nI hk⟩, nI_clamp (by omega), nI_clamp (by omega), nI_clamp (by omega)]
theorem aLp_bad {O : MO} {x : Int32} (h : ¬ (0 ≤ x ∧ x < nI O.2.2)) : aLp O x = -4 := if_neg h
theorem aLp_ok {O : MO} (hO : MI O) {t : Nat} (ht : t < O.2.2) : aLp O (nI t) = nI (O.2.1 t) := by
  have h1 := hO.2.1
  unfold aLp
  rw [if_pos ⟨nI_pos' (by omega), nI_lt ht (by omega)⟩, nI_clamp (by omega)]
theorem aLc_bad {O : MO} {x y z : Int32} (h : ¬ kOk z) : aLc O x y z = -1 := if_neg h
theorem aLc_none {O : MO} {x y : Int32} {k : Nat} (hk : k < 8) (h : ¬ pOk O x y) : aLc O x y (nI k) = -4 := by
  unfold aLc
  rw [if_pos (kOk_nI hk), if_neg h]
theorem aLc_ok {O : MO} (hO : MI O) {t n k : Nat} (ht : t < O.2.2) (hn : n ≤ O.2.1 t) (hk : k < 8) : aLc O (nI t) (nI n) (nI k) = nI (lastC O t k n) := by
  have h1 := hO.2.1
  have h2 := hO.2.2 t ht
  unfold aLc
  rw [if_pos (kOk_nI hk), if_pos (pOk_nI hO ht hn), nI_clamp (by omega), nI_clamp (by omega), nI_clamp (by omega)]
theorem aDf_bad {O : MO} {x y : Int32} (h : ¬ pOk O x y) : aDf O x y = -4 := if_neg h
theorem aDf_ok {O : MO} (hO : MI O) {t n : Nat} (ht : t < O.2.2) (hn : n ≤ O.2.1 t) : aDf O (nI t) (nI n) = nI (dfC O t n 8) := by
  have h1 := hO.2.1
  have h2 := hO.2.2 t ht
  unfold aDf
  rw [if_pos (pOk_nI hO ht hn), nI_clamp (by omega), nI_clamp (by omega)]
theorem aMany_bad {x : Int32} (h : ¬ (0 ≤ x ∧ x ≤ 8)) : aMany x = -1 := if_neg h
theorem aMany_ok {x : Int32} (h : 0 ≤ x ∧ x ≤ 8) : aMany x = 0 := if_pos h
theorem dfC_le (O : MO) (t n : Nat) : ∀ k, dfC O t n k ≤ k := by
  intro k
  induction k with
  | zero => exact Nat.le_refl 0
  | succ k ih =>
    unfold dfC
    split <;> omega
/-- numbers: x and y are nI of naturals -/
theorem cm_lt {x y : Int32} {a b : Nat} (hx : x = nI a) (hy : y = nI b) (ha : a < 2 ^ 31) (hb : b < 2 ^ 31) : x < y ↔ a < b := by
  rw [hx, hy]; exact nI_ltI ha hb
theorem cm_le {x y : Int32} {a b : Nat} (hx : x = nI a) (hy : y = nI b) (ha : a < 2 ^ 31) (hb : b < 2 ^ 31) : x ≤ y ↔ a ≤ b := by
  rw [hx, hy]; exact nI_leI ha hb
theorem cm_eqn {x y : Int32} {a b : Nat} (hx : x = nI a) (hy : y = nI b) (ha : a < 2 ^ 31) (hb : b < 2 ^ 31) : x = y ↔ a = b := by
  rw [hx, hy]; exact nI_eq ha hb
theorem nm1 : ¬ (0 : Int32) ≤ -1 := by decide
theorem nI_nm1 {a : Nat} (ha : a < 2 ^ 31) : ¬ nI a = -1 := by
  intro h
  have h1 := nI_pos' ha
  rw [h] at h1
  exact nm1 h1
theorem i32_7 {x : Int32} : ¬ (7 : Int32) < x ↔ x < 8 := by
  rw [Int32.lt_iff_toInt_lt, Int32.lt_iff_toInt_lt]
  have a : (7 : Int32).toInt = 7 := by decide
  have b : (8 : Int32).toInt = 8 := by decide
  omega
theorem tl_of {x : Int32} {N : Nat} (hN : N ≤ 6) (h1 : ¬ x < 0) (h2 : ¬ nI N ≤ x) : ∃ t : Nat, t < N ∧ x = nI t := by
  obtain ⟨t, ht, e⟩ := nI_of h1
  refine ⟨t, ?_, e⟩
  rw [e, nI_leI (by omega) ht] at h2
  omega
theorem nI_sub1 {n : Nat} (h : 1 ≤ n) : nI n - 1 = nI (n - 1) := by
  rw [e1]; exact pk_sub h
theorem fr_val (O : MO) : 248 * nI (O.2.2 - 1) + 8 * nI (ln O) = nI (fr O) := by
  rw [e248, e8, pk_mul, pk_mul, nI_add]; rfl
theorem vM_val (t n k : Nat) : 248 * nI t + 8 * nI n + nI k = nI (248 * t + 8 * n + k) := by
  rw [e248, e8, pk_mul, pk_mul, nI_add, nI_add]
theorem vM_val' (t p k : Nat) : 248 * nI t + 8 * nI (p + 1) - 8 + nI k = nI (248 * t + 8 * p + k) := by
  rw [e248, e8, pk_mul, pk_mul, nI_add, pk_sub (by omega), nI_add]
  exact congrArg nI (by omega)
/-- one more key of a point is copied -/
theorem go_step {O O1 O2 : MO} {i : Nat} (hi : i < 8) (h1 : O1 = (fun j => if fr O + 8 ≤ j ∧ j < fr O + 8 + i then O.1 (j - 8) else O.1 j, O.2)) (h2 : O2 = (upd O1.1 (fr O + 8 + i) (O.1 (fr O + i)), O1.2)) : O2 = (fun j => if fr O + 8 ≤ j ∧ j < fr O + 8 + (i + 1) then O.1 (j - 8) else O.1 j, O.2) := by
  rw [h2, h1]
  refine Prod.ext ?_ rfl
  funext j
  show upd _ _ _ j = _
  unfold upd
  show (if j = fr O + 8 + i then O.1 (fr O + i) else if fr O + 8 ≤ j ∧ j < fr O + 8 + i then O.1 (j - 8) else O.1 j) = if fr O + 8 ≤ j ∧ j < fr O + 8 + (i + 1) then O.1 (j - 8) else O.1 j
  by_cases hj : j = fr O + 8 + i
  · rw [if_pos hj, if_pos (by omega)]
    exact congrArg O.1 (by omega)
  · rw [if_neg hj]
    by_cases hk : fr O + 8 ≤ j ∧ j < fr O + 8 + i
    · rw [if_pos hk, if_pos (by omega)]
    · rw [if_neg hk, if_neg (by omega)]
theorem cp_step {O O1 O2 : MO} {t i : Nat} (ht : t < O.2.2) (hi : i < 248) (h1 : O1 = (fun j => if 248 * O.2.2 ≤ j ∧ j < 248 * O.2.2 + i then O.1 (248 * t + (j - 248 * O.2.2)) else O.1 j, O.2)) (h2 : O2 = (upd O1.1 (248 * O.2.2 + i) (O.1 (248 * t + i)), O1.2)) : O2 = (fun j => if 248 * O.2.2 ≤ j ∧ j < 248 * O.2.2 + (i + 1) then O.1 (248 * t + (j - 248 * O.2.2)) else O.1 j, O.2) := by
  rw [h2, h1]
  refine Prod.ext ?_ rfl
  funext j
  show upd _ _ _ j = _
  unfold upd
  show (if j = 248 * O.2.2 + i then O.1 (248 * t + i) else if 248 * O.2.2 ≤ j ∧ j < 248 * O.2.2 + i then O.1 (248 * t + (j - 248 * O.2.2)) else O.1 j) = if 248 * O.2.2 ≤ j ∧ j < 248 * O.2.2 + (i + 1) then O.1 (248 * t + (j - 248 * O.2.2)) else O.1 j
  by_cases hj : j = 248 * O.2.2 + i
  · rw [if_pos hj, if_pos (by omega)]
    exact congrArg O.1 (by omega)
  · rw [if_neg hj]
    by_cases hk : 248 * O.2.2 ≤ j ∧ j < 248 * O.2.2 + i
    · rw [if_pos hk, if_pos (by omega)]
    · rw [if_neg hk, if_neg (by omega)]
theorem cp_at {O O1 : MO} {t i : Nat} (ht : t < O.2.2) (hi : i < 248) (h1 : O1 = (fun j => if 248 * O.2.2 ≤ j ∧ j < 248 * O.2.2 + i then O.1 (248 * t + (j - 248 * O.2.2)) else O.1 j, O.2)) : O1.1 (248 * t + i) = O.1 (248 * t + i) := by
  rw [h1]
  show (if 248 * O.2.2 ≤ 248 * t + i ∧ 248 * t + i < 248 * O.2.2 + i then O.1 (248 * t + (248 * t + i - 248 * O.2.2)) else O.1 (248 * t + i)) = _
  rw [if_neg (by omega)]
theorem go_at {O O1 : MO} {i : Nat} (hi : i < 8) (h1 : O1 = (fun j => if fr O + 8 ≤ j ∧ j < fr O + 8 + i then O.1 (j - 8) else O.1 j, O.2)) : O1.1 (fr O + i) = O.1 (fr O + i) := by
  rw [h1]
  show (if fr O + 8 ≤ fr O + i ∧ fr O + i < fr O + 8 + i then O.1 (fr O + i - 8) else O.1 (fr O + i)) = _
  rw [if_neg (by omega)]
theorem MI_go {O : MO} (h : MI O) (hl : ln O ≠ 30) : MI (aGo O) := by
  refine ⟨h.1, h.2.1, fun t ht => ?_⟩
  have h3 := MI_ln h
  show updN O.2.1 (O.2.2 - 1) (ln O + 1) t ≤ 30
  unfold updN
  split
  · omega
  · exact h.2.2 t ht
theorem MI_put {O : MO} (h : MI O) (i : Nat) (v : Int32) : MI (aPut O i v) := h
theorem MI_cp {O : MO} (h : MI O) {t n : Nat} (ht : t < O.2.2) (hn : n ≤ O.2.1 t) (h6 : O.2.2 ≠ 6) : MI (aCp O t n) := by
  have h1 := h.1
  have h2 := h.2.1
  refine ⟨by show 1 ≤ O.2.2 + 1; omega, by show O.2.2 + 1 ≤ 6; omega, fun u hu => ?_⟩
  have hu : u < O.2.2 + 1 := hu
  show updN O.2.1 O.2.2 n u ≤ 30
  have h3 := h.2.2 t ht
  unfold updN
  split
  · omega
  · exact h.2.2 u (by omega)
theorem MI_set {O : MO} (h : MI O) (x v : Int32) : MI (aSet O x v).2 := by
  unfold aSet
  split
  · split
    · exact h
    · exact MI_put (MI_go h (by assumption)) _ _
  · exact h
theorem MI_exch {O : MO} (h : MI O) (x v : Int32) : MI (aExch O x v).2 := by
  unfold aExch
  split
  · split
    · exact h
    · exact MI_put (MI_put (MI_go h (by assumption)) _ _) _ _
  · exact h
theorem MI_rst {O : MO} (h : MI O) (x y : Int32) : MI (aRst O x y).2 := by
  by_cases hp : pOk O x y
  · obtain ⟨t, n, ht, hn, rfl, rfl⟩ := pOk_of h hp
    by_cases h6 : O.2.2 = 6
    · rw [aRst_full h ht hn h6]; exact h
    · rw [aRst_ok h ht hn h6]; exact MI_cp h ht hn h6
  · rw [aRst_bad hp]; exact h
end
section
/-! THE INVARIANT between PointInTime's state S and the model's state O.
arrays: 0 keyA 1 valueA 2 keyB 3 valueB 4 parent 5 fork 6 end 7 memory 8 memoryPoint 9 disk 10 diskPoint 11 finished 12 backupLine 13 backupBegin 14 backupEnd 15 saved 16 savedPoint; numbers: 0 timelines 1 now 2 nextBackup 3 underWay 4 copied -/
/-- the log's place q holds the change that made point n of timeline t -/
def Lg (S : PS) (O : MO) (t n q : Nat) : Prop := (∃ a : Nat, a < 8 ∧ S.1 0 q = nI a) ∧ (S.1 2 q = -1 ∨ ∃ b : Nat, b < 8 ∧ S.1 2 q = nI b) ∧ ∀ k : Nat, k < 8 → vM O t n k = if S.1 2 q = nI k then S.1 3 q else if S.1 0 q = nI k then S.1 1 q else vM O t (n - 1) k
def iL (S : PS) (O : MO) (t : Nat) : Prop := ∃ f : Nat, S.1 5 t = nI f ∧ f ≤ O.2.1 t ∧ (t = 0 ∧ S.1 4 t = -1 ∨ ∃ q : Nat, q < t ∧ S.1 4 t = nI q ∧ f ≤ O.2.1 q ∧ ∀ n k : Nat, n ≤ f → k < 8 → vM O t n k = vM O q n k) ∧ ∀ n : Nat, 1 ≤ n → n ≤ O.2.1 t → (t = 0 ∨ f < n) → Lg S O t n (31 * t + n)
def iT (S : PS) (O : MO) : Prop := S.2 0 = nI O.2.2 ∧ S.2 1 = nI (O.2.2 - 1) ∧ (∀ t : Nat, t < O.2.2 → S.1 6 t = nI (O.2.1 t)) ∧ (∀ t : Nat, t < O.2.2 → iL S O t) ∧ ∀ t k : Nat, t < O.2.2 → k < 8 → vM O t 0 k = 0
/-- x is the value of key k at the point y of timeline t, and that point is at most w -/
def vp (O : MO) (t w k : Nat) (x y : Int32) : Prop := ∃ q : Nat, y = nI q ∧ q ≤ w ∧ x = vM O t q k
def iM (S : PS) (O : MO) : Prop := ∀ k : Nat, k < 8 → S.1 7 k = vM O (O.2.2 - 1) (ln O) k ∧ vp O (O.2.2 - 1) (ln O) k (S.1 7 k) (S.1 8 k)
def iD (S : PS) (O : MO) : Prop := ∀ k : Nat, k < 8 → vp O (O.2.2 - 1) (ln O) k (S.1 9 k) (S.1 10 k)
def iF (S : PS) (O : MO) : Prop := ∀ b : Nat, b < 4 → S.1 11 b ≠ 0 → ∃ t w : Nat, t < O.2.2 ∧ w ≤ O.2.1 t ∧ S.1 12 b = nI t ∧ S.1 14 b = nI w ∧ ∀ k : Nat, k < 8 → vp O t w k (S.1 15 (8 * b + k)) (S.1 16 (8 * b + k))
def iU (S : PS) (O : MO) : Prop := ∃ b c : Nat, b < 4 ∧ c ≤ 8 ∧ S.2 2 = nI b ∧ S.2 4 = nI c ∧ (S.2 3 ≠ 0 → S.1 11 b = 0 ∧ S.1 12 b = nI (O.2.2 - 1) ∧ ∀ k : Nat, k < c → vp O (O.2.2 - 1) (ln O) k (S.1 15 (8 * b + k)) (S.1 16 (8 * b + k)))
def Inv (S : PS) (O : MO) : Prop := MI O ∧ iT S O ∧ iM S O ∧ iD S O ∧ iF S O ∧ iU S O
/-- all but memory (7, 8) is the same -/
def kp (S S1 : PS) : Prop := S1.2 = S.2 ∧ ∀ j : Nat, j ≠ 7 → j ≠ 8 → S1.1 j = S.1 j
/-- all but the disk (9, 10) is the same -/
def kd (S S1 : PS) : Prop := S1.2 = S.2 ∧ ∀ j : Nat, j ≠ 9 → j ≠ 10 → S1.1 j = S.1 j
theorem sa_same (S : PS) (j : Nat) (f : Nat → Int32) : (sa S j f).1 j = f := by
  show (bif Nat.beq j j then f else S.1 j) = f
  rw [Nat.beq_refl]; rfl
theorem sa_ne {S : PS} {j k : Nat} {f : Nat → Int32} (h : k ≠ j) : (sa S j f).1 k = S.1 k := by
  show (bif Nat.beq k j then f else S.1 k) = S.1 k
  rw [show Nat.beq k j = false from by cases hb : Nat.beq k j with | false => rfl | true => exact absurd (Nat.eq_of_beq_eq_true hb) h]
  rfl
theorem ss_same (S : PS) (j : Nat) (v : Int32) : (ss S j v).2 j = v := by
  show (bif Nat.beq j j then v else S.2 j) = v
  rw [Nat.beq_refl]; rfl
theorem ss_ne {S : PS} {j k : Nat} {v : Int32} (h : k ≠ j) : (ss S j v).2 k = S.2 k := by
  show (bif Nat.beq k j then v else S.2 k) = S.2 k
  rw [show Nat.beq k j = false from by cases hb : Nat.beq k j with | false => rfl | true => exact absurd (Nat.eq_of_beq_eq_true hb) h]
  rfl
theorem upd_same (f : Nat → Int32) (k : Nat) (v : Int32) : upd f k v k = v := if_pos rfl
theorem upd_ne {f : Nat → Int32} {k j : Nat} {v : Int32} (h : j ≠ k) : upd f k v j = f j := if_neg h
theorem kp_rf (S : PS) : kp S S := ⟨rfl, fun _ _ _ => rfl⟩
theorem kp_tr {S S1 S2 : PS} (h1 : kp S S1) (h2 : kp S1 S2) : kp S S2 := ⟨h2.1.trans h1.1, fun j a b => (h2.2 j a b).trans (h1.2 j a b)⟩
theorem kp_sa7 {S S1 : PS} (h : kp S S1) (f : Nat → Int32) : kp S (sa S1 7 f) := ⟨h.1, fun j a b => (sa_ne a).trans (h.2 j a b)⟩
theorem kp_sa8 {S S1 : PS} (h : kp S S1) (f : Nat → Int32) : kp S (sa S1 8 f) := ⟨h.1, fun j a b => (sa_ne b).trans (h.2 j a b)⟩
theorem kd_rf (S : PS) : kd S S := ⟨rfl, fun _ _ _ => rfl⟩
theorem kd_sa9 {S S1 : PS} (h : kd S S1) (f : Nat → Int32) : kd S (sa S1 9 f) := ⟨h.1, fun j a b => (sa_ne a).trans (h.2 j a b)⟩
theorem kd_sa10 {S S1 : PS} (h : kd S S1) (f : Nat → Int32) : kd S (sa S1 10 f) := ⟨h.1, fun j a b => (sa_ne b).trans (h.2 j a b)⟩
theorem Lg_of {S S1 : PS} {O : MO} {t n q : Nat} (h0 : S1.1 0 = S.1 0) (h1 : S1.1 1 = S.1 1) (h2 : S1.1 2 = S.1 2) (h3 : S1.1 3 = S.1 3) (h : Lg S O t n q) : Lg S1 O t n q := by
  unfold Lg
  rw [h0, h1, h2, h3]
  exact h
theorem iT_of {S S1 : PS} {O : MO} (h0 : S1.1 0 = S.1 0) (h1 : S1.1 1 = S.1 1) (h2 : S1.1 2 = S.1 2) (h3 : S1.1 3 = S.1 3) (h4 : S1.1 4 = S.1 4) (h5 : S1.1 5 = S.1 5) (h6 : S1.1 6 = S.1 6) (g0 : S1.2 0 = S.2 0) (g1 : S1.2 1 = S.2 1) (h : iT S O) : iT S1 O := by
  obtain ⟨a1, a2, a3, a4, a5⟩ := h
  refine ⟨by rw [g0]; exact a1, by rw [g1]; exact a2, fun t ht => by rw [h6]; exact a3 t ht, fun t ht => ?_, a5⟩
  obtain ⟨f, b1, b2, b3, b4⟩ := a4 t ht
  exact ⟨f, by rw [h5]; exact b1, b2, by rw [h4]; exact b3, fun n c1 c2 c3 => Lg_of h0 h1 h2 h3 (b4 n c1 c2 c3)⟩
theorem iT_kp {S S1 : PS} {O : MO} (h : kp S S1) (hT : iT S O) : iT S1 O := iT_of (h.2 0 (by decide) (by decide)) (h.2 1 (by decide) (by decide)) (h.2 2 (by decide) (by decide)) (h.2 3 (by decide) (by decide)) (h.2 4 (by decide) (by decide)) (h.2 5 (by decide) (by decide)) (h.2 6 (by decide) (by decide)) (by rw [h.1]) (by rw [h.1]) hT
theorem iF_of {S S1 : PS} {O : MO} (h1 : S1.1 11 = S.1 11) (h2 : S1.1 12 = S.1 12) (h3 : S1.1 14 = S.1 14) (h4 : S1.1 15 = S.1 15) (h5 : S1.1 16 = S.1 16) (h : iF S O) : iF S1 O := by
  unfold iF
  rw [h1, h2, h3, h4, h5]
  exact h
theorem iU_of {S S1 : PS} {O : MO} (h1 : S1.1 11 = S.1 11) (h2 : S1.1 12 = S.1 12) (h4 : S1.1 15 = S.1 15) (h5 : S1.1 16 = S.1 16) (g : S1.2 = S.2) (h : iU S O) : iU S1 O := by
  unfold iU
  rw [h1, h2, h4, h5, g]
  exact h
theorem kd_inv {S S1 : PS} {O : MO} (hI : Inv S O) (h : kd S S1) (hd : iD S1 O) : Inv S1 O := by
  obtain ⟨a1, a2, a3, a4, a5, a6⟩ := hI
  have e : ∀ j : Nat, j ≠ 9 → j ≠ 10 → S1.1 j = S.1 j := h.2
  refine ⟨a1, iT_of (e 0 (by decide) (by decide)) (e 1 (by decide) (by decide)) (e 2 (by decide) (by decide)) (e 3 (by decide) (by decide)) (e 4 (by decide) (by decide)) (e 5 (by decide) (by decide)) (e 6 (by decide) (by decide)) (by rw [h.1]) (by rw [h.1]) a2, ?_, hd, iF_of (e 11 (by decide) (by decide)) (e 12 (by decide) (by decide)) (e 14 (by decide) (by decide)) (e 15 (by decide) (by decide)) (e 16 (by decide) (by decide)) a5, iU_of (e 11 (by decide) (by decide)) (e 12 (by decide) (by decide)) (e 15 (by decide) (by decide)) (e 16 (by decide) (by decide)) h.1 a6⟩
  intro k hk
  rw [e 7 (by decide) (by decide), e 8 (by decide) (by decide)]
  exact a3 k hk
/-- a value with its point, in step with the first p points of the log -/
def vq (O : MO) (t w p k : Nat) (x y : Int32) : Prop := ∃ q : Nat, y = nI q ∧ q ≤ w ∧ x = vM O t q k ∧ (q ≤ p → x = vM O t p k)
theorem vq_0 {O : MO} {t w k : Nat} {x y : Int32} (h : vp O t w k x y) : vq O t w 0 k x y := by
  obtain ⟨q, h1, h2, h3⟩ := h
  refine ⟨q, h1, h2, h3, fun h => ?_⟩
  have h4 : q = 0 := by omega
  rw [h3, h4]
theorem vq_end {O : MO} {t w k : Nat} {x y : Int32} (h : vq O t w w k x y) : x = vM O t w k ∧ vp O t w k x y := by
  obtain ⟨q, h1, h2, h3, h4⟩ := h
  exact ⟨h4 h2, q, h1, h2, h3⟩
/-- a key that the change at point p + 1 doesn't touch -/
theorem vq_skip {O : MO} {t w p k : Nat} {x y : Int32} (he : vM O t (p + 1) k = vM O t p k) (h : vq O t w p k x y) : vq O t w (p + 1) k x y := by
  obtain ⟨q, h1, h2, h3, h4⟩ := h
  refine ⟨q, h1, h2, h3, fun h5 => ?_⟩
  by_cases h6 : q ≤ p
  · rw [he]; exact h4 h6
  · have h7 : q = p + 1 := by omega
    rw [h3, h7]
/-- a key that has that change already -/
theorem vq_late {O : MO} {t w p q k : Nat} {x y : Int32} (hy : y = nI q) (hq : q < 2 ^ 31) (hp : p + 1 ≤ q) (h : vq O t w p k x y) (hw : w < 2 ^ 31) : vq O t w (p + 1) k x y := by
  obtain ⟨q2, h1, h2, h3, h4⟩ := h
  have e : q2 = q := by
    rw [hy, nI_eq hq (by omega)] at h1
    omega
  subst e
  refine ⟨q2, h1, h2, h3, fun h5 => ?_⟩
  have h7 : q2 = p + 1 := by omega
  rw [h3, h7]
/-- a key to which that change was done -/
theorem vq_new {O : MO} {t w p k : Nat} {x : Int32} (hx : vM O t (p + 1) k = x) (hp : p + 1 ≤ w) : vq O t w (p + 1) k x (nI (p + 1)) := ⟨p + 1, rfl, hp, hx.symm, fun _ => hx.symm⟩
/-- between the two halves of a step of redo -/
def Mid (S : PS) (O : MO) (t w p q : Nat) (S1 : PS) : Prop := ∀ k : Nat, k < 8 → (S.1 2 q = nI k ∧ vq O t w p k (S1.1 7 k) (S1.1 8 k)) ∨ vq O t w (p + 1) k (S1.1 7 k) (S1.1 8 k)
def RI (O : MO) (t w p : Nat) (S1 : PS) : Prop := ∀ k : Nat, k < 8 → vq O t w p k (S1.1 7 k) (S1.1 8 k)
/-- what apply does -/
def ap (S : PS) (k : Nat) (v y : Int32) : PS := sa (sa S 7 (upd (S.1 7) k v)) 8 (upd (S.1 8) k y)
theorem ap_kp {S S1 : PS} (h : kp S S1) (k : Nat) (v y : Int32) : kp S (ap S1 k v y) := kp_sa8 (kp_sa7 h _) _
theorem ap_7 (S : PS) (k : Nat) (v y : Int32) : (ap S k v y).1 7 = upd (S.1 7) k v := rfl
theorem ap_8 (S : PS) (k : Nat) (v y : Int32) : (ap S k v y).1 8 = upd (S.1 8) k y := rfl
theorem nI_inj {a b : Nat} (ha : a < 2 ^ 31) (hb : b < 2 ^ 31) (h : nI a = nI b) : a = b := (nI_eq ha hb).mp h
/-- redo's first half, nothing done: key a has the change already -/
theorem mid_1 {S S1 : PS} {O : MO} {t w p q a qa : Nat} (hL : Lg S O t (p + 1) q) (ha : a < 8) (ea : S.1 0 q = nI a) (hR : RI O t w p S1) (eq : S1.1 8 a = nI qa) (hqa : qa < 2 ^ 31) (hp : p + 1 ≤ qa) (hw : w < 2 ^ 31) : Mid S O t w p q S1 := by
  intro k hk
  by_cases hB : S.1 2 q = nI k
  · exact Or.inl ⟨hB, hR k hk⟩
  · refine Or.inr ?_
    by_cases hka : k = a
    · subst hka
      exact vq_late eq hqa hp (hR k hk) hw
    · refine vq_skip ?_ (hR k hk)
      rw [hL.2.2 k hk, if_neg hB, if_neg (by rw [ea]; intro h; exact hka (nI_inj (by omega) (by omega) h).symm)]
      rfl
/-- redo's first half, the first key's value done -/
theorem mid_2 {S S1 : PS} {O : MO} {t w p q a : Nat} (hL : Lg S O t (p + 1) q) (ha : a < 8) (ea : S.1 0 q = nI a) (hR : RI O t w p S1) (hne : ¬ S.1 2 q = nI a) (hp : p + 1 ≤ w) : Mid S O t w p q (ap S1 a (S.1 1 q) (nI (p + 1))) := by
  intro k hk
  rw [ap_7, ap_8]
  by_cases hka : k = a
  · subst hka
    refine Or.inr ?_
    rw [upd_same, upd_same]
    refine vq_new ?_ hp
    rw [hL.2.2 k hk, if_neg hne, if_pos ea]
  · rw [upd_ne hka, upd_ne hka]
    by_cases hB : S.1 2 q = nI k
    · exact Or.inl ⟨hB, hR k hk⟩
    · refine Or.inr (vq_skip ?_ (hR k hk))
      rw [hL.2.2 k hk, if_neg hB, if_neg (by rw [ea]; intro h; exact hka (nI_inj (by omega) (by omega) h).symm)]
      rfl
/-- redo's first half, both values done to the same key -/
theorem mid_3 {S S1 : PS} {O : MO} {t w p q a : Nat} (hL : Lg S O t (p + 1) q) (ha : a < 8) (ea : S.1 0 q = nI a) (hR : RI O t w p S1) (hne : S.1 2 q = nI a) (hp : p + 1 ≤ w) : Mid S O t w p q (ap (ap S1 a (S.1 1 q) (nI (p + 1))) a (S.1 3 q) (nI (p + 1))) := by
  intro k hk
  rw [ap_7, ap_8, ap_7, ap_8]
  by_cases hka : k = a
  · subst hka
    refine Or.inr ?_
    rw [upd_same, upd_same]
    refine vq_new ?_ hp
    rw [hL.2.2 k hk, if_pos hne]
  · rw [upd_ne hka, upd_ne hka, upd_ne hka, upd_ne hka]
    have hB : ¬ S.1 2 q = nI k := by
      rw [hne]; intro h; exact hka (nI_inj (by omega) (by omega) h).symm
    refine Or.inr (vq_skip ?_ (hR k hk))
    rw [hL.2.2 k hk, if_neg hB, if_neg (by rw [ea]; intro h; exact hka (nI_inj (by omega) (by omega) h).symm)]
    rfl
/-- redo's second half: no second key -/
theorem end_1 {S S1 : PS} {O : MO} {t w p q : Nat} (hM : Mid S O t w p q S1) (h : S.1 2 q = -1) : RI O t w (p + 1) S1 := by
  intro k hk
  rcases hM k hk with ⟨e, _⟩ | e
  · rw [h] at e
    exact absurd e.symm (nI_nm1 (by omega))
  · exact e
/-- redo's second half: the second key has it already -/
theorem end_2 {S S1 : PS} {O : MO} {t w p q b qb : Nat} (hM : Mid S O t w p q S1) (hb : b < 8) (h : S.1 2 q = nI b) (eq : S1.1 8 b = nI qb) (hqb : qb < 2 ^ 31) (hp : p + 1 ≤ qb) (hw : w < 2 ^ 31) : RI O t w (p + 1) S1 := by
  intro k hk
  rcases hM k hk with ⟨e, e2⟩ | e
  · rw [h] at e
    have hkb := nI_inj (by omega) (by omega) e
    subst hkb
    exact vq_late eq hqb hp e2 hw
  · exact e
/-- redo's second half: the second key's value done -/
theorem end_3 {S S1 : PS} {O : MO} {t w p q b : Nat} (hL : Lg S O t (p + 1) q) (hM : Mid S O t w p q S1) (hb : b < 8) (h : S.1 2 q = nI b) (hp : p + 1 ≤ w) : RI O t w (p + 1) (ap S1 b (S.1 3 q) (nI (p + 1))) := by
  intro k hk
  rw [ap_7, ap_8]
  by_cases hkb : k = b
  · subst hkb
    rw [upd_same, upd_same]
    refine vq_new ?_ hp
    rw [hL.2.2 k hk, if_pos h]
  · rw [upd_ne hkb, upd_ne hkb]
    rcases hM k hk with ⟨e, e2⟩ | e
    · rw [h] at e
      exact absurd (nI_inj (by omega) (by omega) e).symm hkb
    · exact e
/-- a point that is on the way keeps its value -/
theorem vp_way {O : MO} {t u w n k : Nat} {x y : Int32} (h : vp O u w k x y) (hw : w ≤ n) (he : ∀ n' k : Nat, n' ≤ w → k < 8 → vM O t n' k = vM O u n' k) (hk : k < 8) : vp O t n k x y := by
  obtain ⟨q, h1, h2, h3⟩ := h
  exact ⟨q, h1, by omega, by rw [h3, he q k h2 hk]⟩
end
section
/-! PURE, second part -/
theorem Lg_way {S : PS} {O : MO} {t u w q : Nat} (h : Lg S O u w q) (he : ∀ n' k : Nat, n' ≤ w → k < 8 → vM O t n' k = vM O u n' k) : Lg S O t w q := by
  refine ⟨h.1, h.2.1, fun k hk => ?_⟩
  rw [he w k (Nat.le_refl w) hk, he (w - 1) k (Nat.sub_le w 1) hk]
  exact h.2.2 k hk
theorem ent_val (u w : Nat) : nI u * 31 + nI w = nI (31 * u + w) := by
  rw [e31, pk_mul, nI_add]
  exact congrArg nI (by omega)
theorem b8_val (b k : Nat) : nI b * 8 + nI k = nI (8 * b + k) := by
  rw [e8, pk_mul, nI_add]
  exact congrArg nI (by omega)
theorem nI_nneg {a : Nat} (ha : a < 2 ^ 31) : ¬ nI a < 0 := nI_pos ha
theorem m1_neg : (-1 : Int32) < 0 := by decide
theorem iT_now {S : PS} {O : MO} (hO : MI O) (h : iT S O) : S.2 1 = nI (O.2.2 - 1) := h.2.1
theorem iT_end {S : PS} {O : MO} (hO : MI O) (h : iT S O) : S.1 6 (O.2.2 - 1) = nI (ln O) := h.2.2.1 _ (by have := hO.1; omega)
theorem lastC_le (O : MO) (t k : Nat) : ∀ n, lastC O t k n ≤ n := by
  intro n
  induction n with
  | zero => exact Nat.le_refl 0
  | succ n ih =>
    unfold lastC
    split <;> omega
/-- the last change, as PointInTime looks for it -/
theorem lastC_step {O : MO} {t k n q : Nat} (hv : vM O t (q + 1) k = vM O t n k) (hn : vM O t q k = vM O t n k) : lastC O t k (q + 1) = lastC O t k q := if_pos (hv.trans hn.symm)
theorem lastC_hit {O : MO} {t k n q : Nat} (hv : vM O t (q + 1) k = vM O t n k) (hn : ¬ vM O t q k = vM O t n k) : lastC O t k (q + 1) = q + 1 := if_neg (fun h => hn (h.symm.trans hv))
/-- z is a line (or none) on which the points up to w are those of t -/
def Wy (O : MO) (t : Nat) (z : Int32) (w : Nat) : Prop := z = -1 ∨ ∃ u : Nat, u < O.2.2 ∧ z = nI u ∧ ∀ n' k : Nat, n' ≤ w → k < 8 → vM O t n' k = vM O u n' k
theorem Wy_of {O : MO} {t w : Nat} {z : Int32} (h : Wy O t z w) (hz : ¬ z < 0) : ∃ u : Nat, u < O.2.2 ∧ z = nI u ∧ ∀ n' k : Nat, n' ≤ w → k < 8 → vM O t n' k = vM O u n' k := by
  rcases h with e | e
  · rw [e] at hz; exact absurd m1_neg hz
  · exact e
/-- a backup from which point n of timeline t can be reached -/
def Us (S : PS) (O : MO) (t n b : Nat) : Prop := ∀ k : Nat, k < 8 → vp O t n k (S.1 15 (8 * b + k)) (S.1 16 (8 * b + k))
theorem iM_mem {S : PS} {O : MO} (h : iM S O) {k : Nat} (hk : k < 8) : S.1 7 k = O.1 (fr O + k) := (h k hk).1
theorem wo_step {S S1 S2 S3 : PS} {O : MO} {i : Nat} (hM : iM S O) (hi : i < 8) (hD : iD S1 O) (e2 : S2 = sa S1 9 (upd (S1.1 9) i (S.1 7 i))) (e3 : S3 = sa S2 10 (upd (S2.1 10) i (S.1 8 i))) : iD S3 O := by
  intro k hk
  have a : S3.1 9 = upd (S1.1 9) i (S.1 7 i) := by rw [e3, e2]; rfl
  have b : S3.1 10 = upd (S1.1 10) i (S.1 8 i) := by rw [e3, e2]; rfl
  rw [a, b]
  by_cases h : k = i
  · subst h
    rw [upd_same, upd_same]
    exact (hM k hk).2
  · rw [upd_ne h, upd_ne h]
    exact hD k hk
theorem dfC_eq {O : MO} {t n k : Nat} (h : vM O t n k = O.1 (fr O + k)) : dfC O t n (k + 1) = dfC O t n k := if_pos h
theorem many_of {x : Int32} (h0 : ¬ x < 0) (h8 : x ≤ 8) : ∃ k : Nat, k ≤ 8 ∧ x = nI k := by
  obtain ⟨j, hj, e⟩ := nI_of h0
  refine ⟨j, ?_, e⟩
  rw [e, e8, nI_leI hj (by decide)] at h8
  exact h8
end
section
/-! THE MODEL: contracts of its methods -/
set_option maxHeartbeats 4000000 in
set_option maxRecDepth 100000 in
/-- isKey -/
theorem mM_isKey (l : Launch) (D : va_G) (g b0 b1 : Nat) (d : ClassId) (O : MO) (x : Int32)  : CM l yX1_isKey cX1_isKey 2 (some .boolean) ptr0 D g b0 b1 d O [.int x] (fun r O2 => O = O2 ∧ (r = 1 ∧ (∃ k : Nat, k < 8 ∧ x = nI k) ∨ r = 0 ∧ ¬ kOk x)) := by
  refine Ct_i (by decide) (Nat.le_of_ble_eq_true rfl) .boolean rfl ?_
  intro p e s m args below meth c A Q E hA w ret ls hl
  have hx := E.1.1
  have hb := E.1.2.1
  have hl : lv_has ls 2 [(0, .ref g), (1, .int x)] := hl
  refine lv_iload_n hx hb dX1_isKey_0 rfl (lv_at hl 1 rfl) ?_
  refine lv_if_lt (tgt := 14) hx hb dX1_isKey_1 (by decide) (fun c1 => ?_) (fun c1 => ?_)
  · refine lv_iconst (v := 0) hx hb dX1_isKey_14 (by decide) ?_
    exact ret 0 O _ _ _ _ (by first | rfl | decide) (⟨rfl, Or.inr ⟨rfl, fun q => i32_len q.1 c1⟩⟩) w dX1_isKey_15
  · refine lv_iload_n hx hb dX1_isKey_4 rfl (lv_at hl 1 rfl) ?_
    refine lv_bipush (v := 7) hx hb dX1_isKey_5 (by decide) ?_
    refine lv_icmp_gt (tgt := 14) hx hb dX1_isKey_7 (by decide) (fun c2 => ?_) (fun c2 => ?_)
    · refine lv_iconst (v := 0) hx hb dX1_isKey_14 (by decide) ?_
      exact ret 0 O _ _ _ _ (by first | rfl | decide) (⟨rfl, Or.inr ⟨rfl, fun q => i32_7.mpr q.2 c2⟩⟩) w dX1_isKey_15
    · refine lv_iconst (v := 1) hx hb dX1_isKey_10 (by decide) ?_
      refine lv_goto (tgt := 15) hx hb dX1_isKey_11 (by decide) ?_
      exact ret 1 O _ _ _ _ (by first | rfl | decide) (⟨rfl, Or.inl ⟨rfl, kOk_of ⟨i32_nlt c1, i32_7.mp c2⟩⟩⟩) w dX1_isKey_15
set_option maxHeartbeats 4000000 in
set_option maxRecDepth 100000 in
/-- isPoint -/
theorem mM_isPoint (l : Launch) (D : va_G) (g b0 b1 : Nat) (d : ClassId) (O : MO) (x y : Int32) (hO : MI O) : CM l yX1_isPoint cX1_isPoint 3 (some .boolean) ptr0 D g b0 b1 d O [.int x, .int y] (fun r O2 => O = O2 ∧ (r = 1 ∧ (∃ t n : Nat, t < O.2.2 ∧ n ≤ O.2.1 t ∧ x = nI t ∧ y = nI n) ∨ r = 0 ∧ ¬ pOk O x y)) := by
  refine Ct_i (by decide) (Nat.le_of_ble_eq_true rfl) .boolean rfl ?_
  intro p e s m args below meth c A Q E hA w ret ls hl
  have hx := E.1.1
  have hb := E.1.2.1
  have hl : lv_has ls 3 [(0, .ref g), (1, .int x), (2, .int y)] := hl
  refine lv_iload_n hx hb dX1_isPoint_0 rfl (lv_at hl 1 rfl) ?_
  refine lv_if_lt (tgt := 30) hx hb dX1_isPoint_1 (by decide) (fun c1 => ?_) (fun c1 => ?_)
  · refine lv_iconst (v := 0) hx hb dX1_isPoint_30 (by decide) ?_
    exact ret 0 O _ _ _ _ (by first | rfl | decide) (⟨rfl, Or.inr ⟨rfl, fun q => i32_len q.1 c1⟩⟩) w dX1_isPoint_31
  · refine lv_iload_n hx hb dX1_isPoint_4 rfl (lv_at hl 1 rfl) ?_
    refine gm_timelines E w (lv_at hl 0 rfl) dX1_isPoint_5 dX1_isPoint_6 ?_
    refine lv_icmp_ge (tgt := 30) hx hb dX1_isPoint_9 (by decide) (fun c2 => ?_) (fun c2 => ?_)
    · refine lv_iconst (v := 0) hx hb dX1_isPoint_30 (by decide) ?_
      exact ret 0 O _ _ _ _ (by first | rfl | decide) (⟨rfl, Or.inr ⟨rfl, fun q => i32_ltn q.2.1 c2⟩⟩) w dX1_isPoint_31
    · obtain ⟨t, ht, rfl⟩ := tl_of hO.2.1 c1 c2
      refine lv_iload_n hx hb dX1_isPoint_12 rfl (lv_at hl 2 rfl) ?_
      refine lv_if_lt (tgt := 30) hx hb dX1_isPoint_13 (by decide) (fun c3 => ?_) (fun c3 => ?_)
      · refine lv_iconst (v := 0) hx hb dX1_isPoint_30 (by decide) ?_
        exact ret 0 O _ _ _ _ (by first | rfl | decide) (⟨rfl, Or.inr ⟨rfl, fun q => i32_len q.2.2.1 c3⟩⟩) w dX1_isPoint_31
      · obtain ⟨n, hn, rfl⟩ := nI_of c3
        have h6 := hO.2.1
        have h30 := hO.2.2 t ht
        refine lv_iload_n hx hb dX1_isPoint_16 rfl (lv_at hl 2 rfl) ?_
        refine gm_lasts E w (lv_at hl 0 rfl) dX1_isPoint_17 dX1_isPoint_18 ?_
        refine lv_iload_n hx hb dX1_isPoint_21 rfl (lv_at hl 1 rfl) ?_
        refine m_ldl E w (i := t) rfl (by omega) (rfl) dX1_isPoint_22 ?_
        refine lv_icmp_gt (tgt := 30) hx hb dX1_isPoint_23 (by decide) (fun c4 => ?_) (fun c4 => ?_)
        · refine lv_iconst (v := 0) hx hb dX1_isPoint_30 (by decide) ?_
          exact ret 0 O _ _ _ _ (by first | rfl | decide) (⟨rfl, Or.inr ⟨rfl, fun q => by have q2 := q.2.2.2; rw [nI_clamp (by omega)] at q2; exact i32_len q2 c4⟩⟩) w dX1_isPoint_31
        · rw [nI_ltI (by omega) hn] at c4
          refine lv_iconst (v := 1) hx hb dX1_isPoint_26 (by decide) ?_
          refine lv_goto (tgt := 31) hx hb dX1_isPoint_27 (by decide) ?_
          exact ret 1 O _ _ _ _ (by first | rfl | decide) (⟨rfl, Or.inl ⟨rfl, t, n, ht, by omega, rfl, rfl⟩⟩) w dX1_isPoint_31
set_option maxHeartbeats 4000000 in
set_option maxRecDepth 100000 in
/-- now -/
theorem mM_now (l : Launch) (D : va_G) (g b0 b1 : Nat) (d : ClassId) (O : MO)  (hO : MI O) : CM l yX1_now cX1_now 2 (some .int) ptr0 D g b0 b1 d O [] (fun r O2 => O = O2 ∧ r = nI (fr O)) := by
  refine Ct_i (by decide) (Nat.le_of_ble_eq_true rfl) .int rfl ?_
  intro p e s m args below meth c A Q E hA w ret ls hl
  have hx := E.1.1
  have hb := E.1.2.1
  have hl : lv_has ls 2 [(0, .ref g)] := hl
  have h1 := hO.1
  have h2 := hO.2.1
  refine gm_timelines E w (lv_at hl 0 rfl) dX1_now_0 dX1_now_1 ?_
  refine lv_iconst (v := 1) hx hb dX1_now_4 (by decide) ?_
  refine lv_isub hx hb dX1_now_5 ?_
  refine top_eq (y := nI (O.2.2 - 1)) (nI_sub1 h1) ?_
  refine lv_istore_n (lv' := [(1, .int (nI (O.2.2 - 1))), (0, .ref g)]) hx hb dX1_now_6 rfl hl (by decide) rfl (fun ls hl => ?_)
  refine lv_sipush (v := 248) hx hb dX1_now_7 (by decide) ?_
  refine lv_iload_n hx hb dX1_now_10 rfl (lv_at hl 0 rfl) ?_
  refine lv_imul hx hb dX1_now_11 ?_
  refine lv_bipush (v := 8) hx hb dX1_now_12 (by decide) ?_
  refine gm_lasts E w (lv_at hl 1 rfl) dX1_now_14 dX1_now_15 ?_
  refine lv_iload_n hx hb dX1_now_18 rfl (lv_at hl 0 rfl) ?_
  refine m_ldl E w (i := O.2.2 - 1) (v := nI (ln O)) rfl (by omega) (rfl) dX1_now_19 ?_
  refine lv_imul hx hb dX1_now_20 ?_
  refine lv_iadd hx hb dX1_now_21 ?_
  refine top_eq (y := nI (fr O)) (fr_val O) ?_
  exact ret (nI (fr O)) O _ _ _ _ (by first | rfl | decide) (⟨rfl, rfl⟩) w dX1_now_22
set_option maxHeartbeats 4000000 in
set_option maxRecDepth 100000 in
/-- point -/
theorem mM_point (l : Launch) (D : va_G) (g b0 b1 : Nat) (d : ClassId) (O : MO)  (hO : MI O) : CM l yX1_point cX1_point 1 (some .int) ptr0 D g b0 b1 d O [] (fun r O2 => O = O2 ∧ r = nI (ln O)) := by
  refine Ct_i (by decide) (Nat.le_of_ble_eq_true rfl) .int rfl ?_
  intro p e s m args below meth c A Q E hA w ret ls hl
  have hx := E.1.1
  have hb := E.1.2.1
  have hl : lv_has ls 1 [(0, .ref g)] := hl
  have h1 := hO.1
  have h2 := hO.2.1
  refine gm_lasts E w (lv_at hl 0 rfl) dX1_point_0 dX1_point_1 ?_
  refine gm_timelines E w (lv_at hl 0 rfl) dX1_point_4 dX1_point_5 ?_
  refine lv_iconst (v := 1) hx hb dX1_point_8 (by decide) ?_
  refine lv_isub hx hb dX1_point_9 ?_
  refine top_eq (y := nI (O.2.2 - 1)) (nI_sub1 h1) ?_
  refine m_ldl E w (i := O.2.2 - 1) (v := nI (ln O)) rfl (by omega) (rfl) dX1_point_10 ?_
  exact ret (nI (ln O)) O _ _ _ _ (by first | rfl | decide) (⟨rfl, rfl⟩) w dX1_point_11
set_option maxHeartbeats 4000000 in
set_option maxRecDepth 100000 in
/-- timeline -/
theorem mM_timeline (l : Launch) (D : va_G) (g b0 b1 : Nat) (d : ClassId) (O : MO)  (hO : MI O) : CM l yX1_timeline cX1_timeline 1 (some .int) ptr0 D g b0 b1 d O [] (fun r O2 => O = O2 ∧ r = nI (O.2.2 - 1)) := by
  refine Ct_i (by decide) (Nat.le_of_ble_eq_true rfl) .int rfl ?_
  intro p e s m args below meth c A Q E hA w ret ls hl
  have hx := E.1.1
  have hb := E.1.2.1
  have hl : lv_has ls 1 [(0, .ref g)] := hl
  refine gm_timelines E w (lv_at hl 0 rfl) dX1_timeline_0 dX1_timeline_1 ?_
  refine lv_iconst (v := 1) hx hb dX1_timeline_4 (by decide) ?_
  refine lv_isub hx hb dX1_timeline_5 ?_
  refine top_eq (y := nI (O.2.2 - 1)) (nI_sub1 hO.1) ?_
  exact ret (nI (O.2.2 - 1)) O _ _ _ _ (by first | rfl | decide) (⟨rfl, rfl⟩) w dX1_timeline_6
set_option maxHeartbeats 4000000 in
set_option maxRecDepth 100000 in
/-- crash -/
theorem mM_crash (l : Launch) (D : va_G) (g b0 b1 : Nat) (d : ClassId) (O : MO)   : CM l yX1_crash cX1_crash 1 (some .int) ptr0 D g b0 b1 d O [] (fun r O2 => O = O2 ∧ r = 0) := by
  refine Ct_i (by decide) (Nat.le_of_ble_eq_true rfl) .int rfl ?_
  intro p e s m args below meth c A Q E hA w ret ls hl
  have hx := E.1.1
  have hb := E.1.2.1
  have hl : lv_has ls 1 [(0, .ref g)] := hl
  refine lv_iconst (v := 0) hx hb dX1_crash_0 (by decide) ?_
  exact ret 0 O _ _ _ _ (by first | rfl | decide) (⟨rfl, rfl⟩) w dX1_crash_1
set_option maxHeartbeats 4000000 in
set_option maxRecDepth 100000 in
/-- backup -/
theorem mM_backup (l : Launch) (D : va_G) (g b0 b1 : Nat) (d : ClassId) (O : MO) (x : Int32)  : CM l yX1_backup cX1_backup 2 (some .int) ptr0 D g b0 b1 d O [.int x] (fun r O2 => O = O2 ∧ r = aMany x) := by
  refine Ct_i (by decide) (Nat.le_of_ble_eq_true rfl) .int rfl ?_
  intro p e s m args below meth c A Q E hA w ret ls hl
  have hx := E.1.1
  have hb := E.1.2.1
  have hl : lv_has ls 2 [(0, .ref g), (1, .int x)] := hl
  refine lv_iload_n hx hb dX1_backup_0 rfl (lv_at hl 1 rfl) ?_
  refine lv_if_lt (tgt := 10) hx hb dX1_backup_1 (by decide) (fun c1 => ?_) (fun c1 => ?_)
  · refine lv_iconst (v := -1) hx hb dX1_backup_10 (by decide) ?_
    refine lv_goto (tgt := 15) hx hb dX1_backup_11 (by decide) ?_
    exact ret (-1) O _ _ _ _ (by first | rfl | decide) (⟨rfl, (aMany_bad (fun q => i32_len q.1 c1)).symm⟩) w dX1_backup_15
  · refine lv_iload_n hx hb dX1_backup_4 rfl (lv_at hl 1 rfl) ?_
    refine lv_bipush (v := 8) hx hb dX1_backup_5 (by decide) ?_
    refine lv_icmp_le (tgt := 14) hx hb dX1_backup_7 (by decide) (fun c2 => ?_) (fun c2 => ?_)
    · refine lv_iconst (v := 0) hx hb dX1_backup_14 (by decide) ?_
      exact ret 0 O _ _ _ _ (by first | rfl | decide) (⟨rfl, (aMany_ok ⟨i32_nlt c1, c2⟩).symm⟩) w dX1_backup_15
    · refine lv_iconst (v := -1) hx hb dX1_backup_10 (by decide) ?_
      refine lv_goto (tgt := 15) hx hb dX1_backup_11 (by decide) ?_
      exact ret (-1) O _ _ _ _ (by first | rfl | decide) (⟨rfl, (aMany_bad (fun q => c2 q.2)).symm⟩) w dX1_backup_15
set_option maxHeartbeats 4000000 in
set_option maxRecDepth 100000 in
/-- flush -/
theorem mM_flush (l : Launch) (D : va_G) (g b0 b1 : Nat) (d : ClassId) (O : MO) (x : Int32)  : CM l yX1_flush cX1_flush 2 (some .int) ptr0 D g b0 b1 d O [.int x] (fun r O2 => O = O2 ∧ r = aMany x) := by
  refine Ct_i (by decide) (Nat.le_of_ble_eq_true rfl) .int rfl ?_
  intro p e s m args below meth c A Q E hA w ret ls hl
  have hx := E.1.1
  have hb := E.1.2.1
  have hl : lv_has ls 2 [(0, .ref g), (1, .int x)] := hl
  refine lv_iload_n hx hb dX1_flush_0 rfl (lv_at hl 1 rfl) ?_
  refine lv_if_lt (tgt := 10) hx hb dX1_flush_1 (by decide) (fun c1 => ?_) (fun c1 => ?_)
  · refine lv_iconst (v := -1) hx hb dX1_flush_10 (by decide) ?_
    refine lv_goto (tgt := 15) hx hb dX1_flush_11 (by decide) ?_
    exact ret (-1) O _ _ _ _ (by first | rfl | decide) (⟨rfl, (aMany_bad (fun q => i32_len q.1 c1)).symm⟩) w dX1_flush_15
  · refine lv_iload_n hx hb dX1_flush_4 rfl (lv_at hl 1 rfl) ?_
    refine lv_bipush (v := 8) hx hb dX1_flush_5 (by decide) ?_
    refine lv_icmp_le (tgt := 14) hx hb dX1_flush_7 (by decide) (fun c2 => ?_) (fun c2 => ?_)
    · refine lv_iconst (v := 0) hx hb dX1_flush_14 (by decide) ?_
      exact ret 0 O _ _ _ _ (by first | rfl | decide) (⟨rfl, (aMany_ok ⟨i32_nlt c1, c2⟩).symm⟩) w dX1_flush_15
    · refine lv_iconst (v := -1) hx hb dX1_flush_10 (by decide) ?_
      refine lv_goto (tgt := 15) hx hb dX1_flush_11 (by decide) ?_
      exact ret (-1) O _ _ _ _ (by first | rfl | decide) (⟨rfl, (aMany_bad (fun q => c2 q.2)).symm⟩) w dX1_flush_15
set_option maxHeartbeats 4000000 in
set_option maxRecDepth 100000 in
/-- goOn -/
theorem mM_goOn (l : Launch) (D : va_G) (g b0 b1 : Nat) (d : ClassId) (O : MO)  (hO : MI O) (hn : ln O ≠ 30) : CMv l yX1_goOn cX1_goOn 3 ptr1 D g b0 b1 d O [] (fun O2 => O2 = aGo O) := by
  refine Ct_v (by decide) (Nat.le_of_ble_eq_true rfl) ?_
  intro p e s m args below meth c A Q E hA w ret ls hl
  have hx := E.1.1
  have hb := E.1.2.1
  have hl : lv_has ls 3 [(0, .ref g)] := hl
  have h1 := hO.1
  have h2 := hO.2.1
  have h3 := MI_ln hO
  have h4 := MI_fr hO
  have h5 : fr O + 16 ≤ 1488 := by unfold fr; omega
  refine lv_aload_n hx hb dX1_goOn_0 rfl (lv_at hl 0 rfl) ?_
  refine cm_i (rest := []) E (mM_now l D g b0 b1 d O hO) (cwm_now E ⟨by decide, by decide⟩) w hA hl.1 rfl rfl (by decide) dX1_goOn_1 ⟨Nat.zero_le _, Nat.zero_le _⟩ (fun r O2 H locs hq w => ?_)
  obtain ⟨hq1, rfl⟩ := hq
  subst hq1
  refine lv_istore_n (lv' := [(1, .int (nI (fr O))), (0, .ref g)]) hx hb dX1_goOn_4 rfl hl (by decide) rfl (fun ls hl => ?_)
  refine lv_iconst (v := nI 0) hx hb dX1_goOn_5 (by decide) ?_
  refine lv_istore_n (lv' := [(2, .int (nI 0)), (1, .int (nI (fr O))), (0, .ref g)]) hx hb dX1_goOn_6 rfl hl (by decide) rfl (fun ls hl => ?_)
  have loop7 : ∀ (n : Nat) (i : Nat) (O1 : MO) (H : Heap) (locs : List Loc) (ls : Array Slot), i ≤ 8 → 9 ≤ i + n → O1 = (fun j => if fr O + 8 ≤ j ∧ j < fr O + 8 + i then O.1 (j - 8) else O.1 j, O.2) → Wd D A s.heap (wM g b0 b1 d O1) H locs → lv_has ls 3 [(0, .ref g), (1, .int (nI (fr O))), (2, .int (nI i))] → W p l e ptr1 s m args below meth c H locs 0 0 Q (F0 m 7 ls []) := by
    intro n
    induction n with
    | zero =>
      intro i O1 H locs ls h1 h2
      exact absurd h2 (by omega)
    | succ n ih =>
      intro i O1 H locs ls hi hin inv w hl
      have hO2 : O1.2 = O.2 := by rw [inv]
      refine lv_iload_n hx hb dX1_goOn_7 rfl (lv_at hl 2 rfl) ?_
      refine lv_bipush (v := 8) hx hb dX1_goOn_8 (by decide) ?_
      refine lv_icmp_ge (tgt := 38) hx hb dX1_goOn_10 (by decide) (fun c1 => ?_) (fun c1 => ?_)
      · rw [e8, nI_leI (by decide) (by omega)] at c1
        obtain rfl : i = 8 := by omega
        refine gm_lasts E w (lv_at hl 0 rfl) dX1_goOn_38 dX1_goOn_39 ?_
        refine gm_timelines E w (lv_at hl 0 rfl) dX1_goOn_42 dX1_goOn_43 ?_
        refine top_eq (y := nI O.2.2) (by rw [hO2]) ?_
        refine lv_iconst (v := 1) hx hb dX1_goOn_46 (by decide) ?_
        refine lv_isub hx hb dX1_goOn_47 ?_
        refine top_eq (y := nI (O.2.2 - 1)) (nI_sub1 h1) ?_
        refine lv_dup2_11 hx hb dX1_goOn_48 rfl rfl ?_
        refine m_ldl E w (i := O.2.2 - 1) (v := nI (ln O)) rfl (by omega) (by rw [hO2]; rfl) dX1_goOn_49 ?_
        refine lv_iconst (v := 1) hx hb dX1_goOn_50 (by decide) ?_
        refine lv_iadd hx hb dX1_goOn_51 ?_
        obtain ⟨O3, eO3⟩ : ∃ z_ : MO, z_ = (O1.1, updN O1.2.1 (O.2.2 - 1) (ln O + 1), O1.2.2) := ⟨_, rfl⟩
        refine m_stl E w (i := O.2.2 - 1) (q := ln O + 1) rfl (nI_1 _) (by omega) eO3.symm dX1_goOn_52 (fun H locs w => ?_)
        exact ret O3 _ _ _ _ (by rw [eO3, inv]; rfl) w dX1_goOn_53
      · rw [e8, nI_leI (by decide) (by omega)] at c1
        refine gm_values E w (lv_at hl 0 rfl) dX1_goOn_13 dX1_goOn_14 ?_
        refine lv_iload_n hx hb dX1_goOn_17 rfl (lv_at hl 1 rfl) ?_
        refine lv_bipush (v := 8) hx hb dX1_goOn_18 (by decide) ?_
        refine lv_iadd hx hb dX1_goOn_20 ?_
        refine lv_iload_n hx hb dX1_goOn_21 rfl (lv_at hl 2 rfl) ?_
        refine lv_iadd hx hb dX1_goOn_22 ?_
        refine gm_values E w (lv_at hl 0 rfl) dX1_goOn_23 dX1_goOn_24 ?_
        refine lv_iload_n hx hb dX1_goOn_27 rfl (lv_at hl 1 rfl) ?_
        refine lv_iload_n hx hb dX1_goOn_28 rfl (lv_at hl 2 rfl) ?_
        refine lv_iadd hx hb dX1_goOn_29 ?_
        refine m_ldv E w (i := fr O + i) (v := O.1 (fr O + i)) (nI_add _ _) (by omega) (go_at (by omega) inv) dX1_goOn_30 ?_
        obtain ⟨O2, eO2⟩ : ∃ z_ : MO, z_ = (upd O1.1 (fr O + 8 + i) (O.1 (fr O + i)), O1.2) := ⟨_, rfl⟩
        refine m_stv E w (i := fr O + 8 + i) (by rw [e8, nI_add, nI_add]) (by omega) eO2.symm dX1_goOn_31 (fun H locs w => ?_)
        refine lv_iinc (v := nI (i + 1)) (lv' := [(2, .int (nI (i + 1))), (0, .ref g), (1, .int (nI (fr O)))]) hx hb dX1_goOn_32 hl (k := 2) rfl (nI_1 i) (by decide) rfl (fun ls hl => ?_)
        refine lv_goto (tgt := 7) hx hb dX1_goOn_35 (by decide) ?_
        exact ih (i + 1) O2 _ _ _ (by omega) (by omega) (go_step (by omega) inv eO2) w (lv_sub hl [1, 2, 0] rfl)
  refine loop7 9 0 O _ _ _ (by omega) (by omega) ?_ w (lv_sub hl [2, 1, 0] rfl)
  refine Prod.ext ?_ rfl
  funext j
  show O.1 j = if fr O + 8 ≤ j ∧ j < fr O + 8 + 0 then O.1 (j - 8) else O.1 j
  rw [if_neg (by omega)]
set_option maxHeartbeats 4000000 in
set_option maxRecDepth 100000 in
/-- set -/
theorem mM_set (l : Launch) (D : va_G) (g b0 b1 : Nat) (d : ClassId) (O : MO) (x v : Int32) (hO : MI O) : CM l yX1_set cX1_set 4 (some .int) ptr2 D g b0 b1 d O [.int x, .int v] (fun r O2 => r = (aSet O x v).1 ∧ O2 = (aSet O x v).2) := by
  refine Ct_i (by decide) (Nat.le_of_ble_eq_true rfl) .int rfl ?_
  intro p e s m args below meth c A Q E hA w ret ls hl
  have hx := E.1.1
  have hb := E.1.2.1
  have hl : lv_has ls 4 [(0, .ref g), (1, .int x), (2, .int v)] := hl
  refine lv_aload_n hx hb dX1_set_0 rfl (lv_at hl 0 rfl) ?_
  refine lv_iload_n hx hb dX1_set_1 rfl (lv_at hl 1 rfl) ?_
  refine cm_i (rest := []) E (mM_isKey l D g b0 b1 d O x) (cwm_isKey E ⟨by decide, by decide⟩) w hA hl.1 rfl rfl (by decide) dX1_set_2 ⟨Nat.zero_le _, Nat.zero_le _⟩ (fun r O2 H locs hq w => ?_)
  obtain ⟨rfl, hq⟩ := hq
  refine lv_if_ne (tgt := 10) hx hb dX1_set_5 (by decide) (fun c1 => ?_) (fun c1 => ?_)
  · obtain ⟨k, hk, rfl⟩ : ∃ k : Nat, k < 8 ∧ x = nI k := by
      rcases hq with ⟨_, q⟩ | ⟨q, _⟩
      · exact q
      · exact absurd q c1
    refine lv_aload_n hx hb dX1_set_10 rfl (lv_at hl 0 rfl) ?_
    refine cm_i (rest := []) E (mM_point l D g b0 b1 d O hO) (cwm_point E ⟨by decide, by decide⟩) w hA hl.1 rfl rfl (by decide) dX1_set_11 ⟨Nat.zero_le _, Nat.zero_le _⟩ (fun r O2 H locs hq w => ?_)
    obtain ⟨hq0, hq1⟩ := hq
    subst hq0
    subst hq1
    refine lv_bipush (v := 30) hx hb dX1_set_14 (by decide) ?_
    have h3 := MI_ln hO
    refine lv_icmp_ne (tgt := 22) hx hb dX1_set_16 (by decide) (fun cf => ?_) (fun cf => ?_)
    · have hf : ln O ≠ 30 := fun q => cf (by rw [q]; decide)
      have h4 := MI_fr (MI_go hO hf)
      refine lv_aload_n hx hb dX1_set_22 rfl (lv_at hl 0 rfl) ?_
      refine cm_v (rest := []) E (mM_goOn l D g b0 b1 d O hO hf) (cwm_goOn E ⟨by decide, by decide⟩) w hA hl.1 rfl rfl (by decide) dX1_set_23 ⟨Nat.zero_le _, Nat.zero_le _⟩ (fun O2 H locs hq w => ?_)
      subst hq
      refine lv_aload_n hx hb dX1_set_26 rfl (lv_at hl 0 rfl) ?_
      refine cm_i (rest := []) E (mM_now l D g b0 b1 d (aGo O) (MI_go hO hf)) (cwm_now E ⟨by decide, by decide⟩) w hA hl.1 rfl rfl (by decide) dX1_set_27 ⟨Nat.zero_le _, Nat.zero_le _⟩ (fun r O2 H locs hq w => ?_)
      obtain ⟨hq0, hq1⟩ := hq
      subst hq0
      subst hq1
      refine lv_istore_n (lv' := [(3, .int (nI (fr (aGo O)))), (0, .ref g), (1, .int (nI k)), (2, .int v)]) hx hb dX1_set_30 rfl hl (by decide) rfl (fun ls hl => ?_)
      refine gm_values E w (lv_at hl 1 rfl) dX1_set_31 dX1_set_32 ?_
      refine lv_iload_n hx hb dX1_set_35 rfl (lv_at hl 0 rfl) ?_
      refine lv_iload_n hx hb dX1_set_36 rfl (lv_at hl 2 rfl) ?_
      refine lv_iadd hx hb dX1_set_37 ?_
      refine lv_iload_n hx hb dX1_set_38 rfl (lv_at hl 3 rfl) ?_
      have h5 : fr (aGo O) = fr O + 8 := aGo_fr
      obtain ⟨O3, eO3⟩ : ∃ z_ : MO, z_ = (upd (aGo O).1 (fr O + 8 + k) v, (aGo O).2) := ⟨_, rfl⟩
      refine m_stv E w (i := fr O + 8 + k) (by rw [h5, nI_add]) (by omega) eO3.symm dX1_set_39 (fun H locs w => ?_)
      have h6 : O3 = aPut (aGo O) (fr O + 8 + k) v := eO3
      subst h6
      refine lv_aload_n hx hb dX1_set_40 rfl (lv_at hl 1 rfl) ?_
      refine cm_i (rest := []) E (mM_point l D g b0 b1 d (aPut (aGo O) (fr O + 8 + k) v) (MI_put (MI_go hO hf) _ _)) (cwm_point E ⟨by decide, by decide⟩) w hA hl.1 rfl rfl (by decide) dX1_set_41 ⟨Nat.zero_le _, Nat.zero_le _⟩ (fun r O2 H locs hq w => ?_)
      obtain ⟨hq0, hq1⟩ := hq
      subst hq0
      subst hq1
      exact ret (nI (ln (aPut (aGo O) (fr O + 8 + k) v))) (aPut (aGo O) (fr O + 8 + k) v) _ _ _ _ (by first | rfl | decide) (by rw [aSet_ok hk hf]; exact ⟨congrArg nI aGo_ln, rfl⟩) w dX1_set_44
    · have hf : ln O = 30 := by rw [e30, nI_eq (by omega) (by decide)] at cf; exact cf
      refine lv_bipush (v := -2) hx hb dX1_set_19 (by decide) ?_
      exact ret (-2) O _ _ _ _ (by first | rfl | decide) (by rw [aSet_full hk hf]; exact ⟨rfl, rfl⟩) w dX1_set_21
  · have hk : ¬ kOk x := by
      rcases hq with ⟨q, _⟩ | ⟨_, q⟩
      · rw [q] at c1; exact absurd c1 (by decide)
      · exact q
    refine lv_iconst (v := -1) hx hb dX1_set_8 (by decide) ?_
    exact ret (-1) O _ _ _ _ (by first | rfl | decide) (by rw [aSet_bad hk]; exact ⟨rfl, rfl⟩) w dX1_set_9
set_option maxHeartbeats 4000000 in
set_option maxRecDepth 100000 in
/-- exchange -/
theorem mM_exchange (l : Launch) (D : va_G) (g b0 b1 : Nat) (d : ClassId) (O : MO) (x y : Int32) (hO : MI O) : CM l yX1_exchange cX1_exchange 5 (some .int) ptr2 D g b0 b1 d O [.int x, .int y] (fun r O2 => r = (aExch O x y).1 ∧ O2 = (aExch O x y).2) := by
  refine Ct_i (by decide) (Nat.le_of_ble_eq_true rfl) .int rfl ?_
  intro p e s m args below meth c A Q E hA w ret ls hl
  have hx := E.1.1
  have hb := E.1.2.1
  have hl : lv_has ls 5 [(0, .ref g), (1, .int x), (2, .int y)] := hl
  refine lv_aload_n hx hb dX1_exchange_0 rfl (lv_at hl 0 rfl) ?_
  refine lv_iload_n hx hb dX1_exchange_1 rfl (lv_at hl 1 rfl) ?_
  refine cm_i (rest := []) E (mM_isKey l D g b0 b1 d O x) (cwm_isKey E ⟨by decide, by decide⟩) w hA hl.1 rfl rfl (by decide) dX1_exchange_2 ⟨Nat.zero_le _, Nat.zero_le _⟩ (fun r O2 H locs hq w => ?_)
  obtain ⟨rfl, hq⟩ := hq
  refine lv_if_eq (tgt := 16) hx hb dX1_exchange_5 (by decide) (fun c1 => ?_) (fun c1 => ?_)
  · have hk : ¬ kOk x := by
      rcases hq with ⟨q, _⟩ | ⟨_, q⟩
      · rw [q] at c1; exact absurd c1 (by decide)
      · exact q
    refine lv_iconst (v := -1) hx hb dX1_exchange_16 (by decide) ?_
    exact ret (-1) O _ _ _ _ (by first | rfl | decide) (by rw [aExch_bad (fun q => hk q.1)]; exact ⟨rfl, rfl⟩) w dX1_exchange_17
  · obtain ⟨k, hk, rfl⟩ : ∃ k : Nat, k < 8 ∧ x = nI k := by
      rcases hq with ⟨_, q⟩ | ⟨q, _⟩
      · exact q
      · exact absurd q c1
    refine lv_aload_n hx hb dX1_exchange_8 rfl (lv_at hl 0 rfl) ?_
    refine lv_iload_n hx hb dX1_exchange_9 rfl (lv_at hl 2 rfl) ?_
    refine cm_i (rest := []) E (mM_isKey l D g b0 b1 d O y) (cwm_isKey E ⟨by decide, by decide⟩) w hA hl.1 rfl rfl (by decide) dX1_exchange_10 ⟨Nat.zero_le _, Nat.zero_le _⟩ (fun r O2 H locs hq w => ?_)
    obtain ⟨rfl, hq⟩ := hq
    refine lv_if_ne (tgt := 18) hx hb dX1_exchange_13 (by decide) (fun c2 => ?_) (fun c2 => ?_)
    · obtain ⟨j, hj, rfl⟩ : ∃ k : Nat, k < 8 ∧ y = nI k := by
        rcases hq with ⟨_, q⟩ | ⟨q, _⟩
        · exact q
        · exact absurd q c2
      refine lv_aload_n hx hb dX1_exchange_18 rfl (lv_at hl 0 rfl) ?_
      refine cm_i (rest := []) E (mM_point l D g b0 b1 d O hO) (cwm_point E ⟨by decide, by decide⟩) w hA hl.1 rfl rfl (by decide) dX1_exchange_19 ⟨Nat.zero_le _, Nat.zero_le _⟩ (fun r O2 H locs hq w => ?_)
      obtain ⟨hq0, hq1⟩ := hq
      subst hq0
      subst hq1
      refine lv_bipush (v := 30) hx hb dX1_exchange_22 (by decide) ?_
      have h3 := MI_ln hO
      refine lv_icmp_ne (tgt := 30) hx hb dX1_exchange_24 (by decide) (fun cf => ?_) (fun cf => ?_)
      · have hf : ln O ≠ 30 := fun q => cf (by rw [q]; decide)
        have h4 := MI_fr (MI_go hO hf)
        refine lv_aload_n hx hb dX1_exchange_30 rfl (lv_at hl 0 rfl) ?_
        refine cm_v (rest := []) E (mM_goOn l D g b0 b1 d O hO hf) (cwm_goOn E ⟨by decide, by decide⟩) w hA hl.1 rfl rfl (by decide) dX1_exchange_31 ⟨Nat.zero_le _, Nat.zero_le _⟩ (fun O2 H locs hq w => ?_)
        subst hq
        refine lv_aload_n hx hb dX1_exchange_34 rfl (lv_at hl 0 rfl) ?_
        refine cm_i (rest := []) E (mM_now l D g b0 b1 d (aGo O) (MI_go hO hf)) (cwm_now E ⟨by decide, by decide⟩) w hA hl.1 rfl rfl (by decide) dX1_exchange_35 ⟨Nat.zero_le _, Nat.zero_le _⟩ (fun r O2 H locs hq w => ?_)
        obtain ⟨hq0, hq1⟩ := hq
        subst hq0
        subst hq1
        refine lv_istore_n (lv' := [(3, .int (nI (fr (aGo O)))), (0, .ref g), (1, .int (nI k)), (2, .int (nI j))]) hx hb dX1_exchange_38 rfl hl (by decide) rfl (fun ls hl => ?_)
        refine gm_values E w (lv_at hl 1 rfl) dX1_exchange_39 dX1_exchange_40 ?_
        refine lv_iload_n hx hb dX1_exchange_43 rfl (lv_at hl 0 rfl) ?_
        refine lv_iload_n hx hb dX1_exchange_44 rfl (lv_at hl 2 rfl) ?_
        refine lv_iadd hx hb dX1_exchange_45 ?_
        have h5 : fr (aGo O) = fr O + 8 := aGo_fr
        refine m_ldv E w (i := fr O + 8 + k) (v := O.1 (fr O + k)) (by rw [h5, nI_add]) (by omega) (aGo_at hk) dX1_exchange_46 ?_
        refine lv_istore (lv' := [(4, .int (O.1 (fr O + k))), (3, .int (nI (fr (aGo O)))), (0, .ref g), (1, .int (nI k)), (2, .int (nI j))]) hx hb dX1_exchange_47 hl (by decide) rfl (fun ls hl => ?_)
        refine gm_values E w (lv_at hl 2 rfl) dX1_exchange_49 dX1_exchange_50 ?_
        refine lv_iload_n hx hb dX1_exchange_53 rfl (lv_at hl 1 rfl) ?_
        refine lv_iload_n hx hb dX1_exchange_54 rfl (lv_at hl 3 rfl) ?_
        refine lv_iadd hx hb dX1_exchange_55 ?_
        refine gm_values E w (lv_at hl 2 rfl) dX1_exchange_56 dX1_exchange_57 ?_
        refine lv_iload_n hx hb dX1_exchange_60 rfl (lv_at hl 1 rfl) ?_
        refine lv_iload_n hx hb dX1_exchange_61 rfl (lv_at hl 4 rfl) ?_
        refine lv_iadd hx hb dX1_exchange_62 ?_
        refine m_ldv E w (i := fr O + 8 + j) (v := O.1 (fr O + j)) (by rw [h5, nI_add]) (by omega) (aGo_at hj) dX1_exchange_63 ?_
        obtain ⟨O3, eO3⟩ : ∃ z_ : MO, z_ = (upd (aGo O).1 (fr O + 8 + k) (O.1 (fr O + j)), (aGo O).2) := ⟨_, rfl⟩
        refine m_stv E w (i := fr O + 8 + k) (by rw [h5, nI_add]) (by omega) eO3.symm dX1_exchange_64 (fun H locs w => ?_)
        refine gm_values E w (lv_at hl 2 rfl) dX1_exchange_65 dX1_exchange_66 ?_
        refine lv_iload_n hx hb dX1_exchange_69 rfl (lv_at hl 1 rfl) ?_
        refine lv_iload_n hx hb dX1_exchange_70 rfl (lv_at hl 4 rfl) ?_
        refine lv_iadd hx hb dX1_exchange_71 ?_
        refine lv_iload hx hb dX1_exchange_72 (lv_at hl 0 rfl) ?_
        obtain ⟨O4, eO4⟩ : ∃ z_ : MO, z_ = (upd O3.1 (fr O + 8 + j) (O.1 (fr O + k)), O3.2) := ⟨_, rfl⟩
        refine m_stv E w (i := fr O + 8 + j) (by rw [h5, nI_add]) (by omega) eO4.symm dX1_exchange_74 (fun H locs w => ?_)
        have h6 : O4 = aPut (aPut (aGo O) (fr O + 8 + k) (O.1 (fr O + j))) (fr O + 8 + j) (O.1 (fr O + k)) := by rw [eO4, eO3]; rfl
        clear eO4
        subst h6
        refine lv_aload_n hx hb dX1_exchange_75 rfl (lv_at hl 2 rfl) ?_
        refine cm_i (rest := []) E (mM_point l D g b0 b1 d (aPut (aPut (aGo O) (fr O + 8 + k) (O.1 (fr O + j))) (fr O + 8 + j) (O.1 (fr O + k))) (MI_put (MI_put (MI_go hO hf) _ _) _ _)) (cwm_point E ⟨by decide, by decide⟩) w hA hl.1 rfl rfl (by decide) dX1_exchange_76 ⟨Nat.zero_le _, Nat.zero_le _⟩ (fun r O2 H locs hq w => ?_)
        obtain ⟨hq0, hq1⟩ := hq
        subst hq0
        subst hq1
        exact ret (nI (ln (aPut (aPut (aGo O) (fr O + 8 + k) (O.1 (fr O + j))) (fr O + 8 + j) (O.1 (fr O + k))))) (aPut (aPut (aGo O) (fr O + 8 + k) (O.1 (fr O + j))) (fr O + 8 + j) (O.1 (fr O + k))) _ _ _ _ (by first | rfl | decide) (by rw [aExch_ok hk hj hf]; exact ⟨congrArg nI aGo_ln, rfl⟩) w dX1_exchange_79
      · have hf : ln O = 30 := by rw [e30, nI_eq (by omega) (by decide)] at cf; exact cf
        refine lv_bipush (v := -2) hx hb dX1_exchange_27 (by decide) ?_
        exact ret (-2) O _ _ _ _ (by first | rfl | decide) (by rw [aExch_full hk hj hf]; exact ⟨rfl, rfl⟩) w dX1_exchange_29
    · have hk2 : ¬ kOk y := by
        rcases hq with ⟨q, _⟩ | ⟨_, q⟩
        · rw [q] at c2; exact absurd c2 (by decide)
        · exact q
      refine lv_iconst (v := -1) hx hb dX1_exchange_16 (by decide) ?_
      exact ret (-1) O _ _ _ _ (by first | rfl | decide) (by rw [aExch_bad (fun q => hk2 q.2)]; exact ⟨rfl, rfl⟩) w dX1_exchange_17
set_option maxHeartbeats 4000000 in
set_option maxRecDepth 100000 in
/-- get -/
theorem mM_get (l : Launch) (D : va_G) (g b0 b1 : Nat) (d : ClassId) (O : MO) (x : Int32) (hO : MI O) : CM l yX1_get cX1_get 3 (some .int) ptr1 D g b0 b1 d O [.int x] (fun r O2 => O = O2 ∧ r = aGet O x) := by
  refine Ct_i (by decide) (Nat.le_of_ble_eq_true rfl) .int rfl ?_
  intro p e s m args below meth c A Q E hA w ret ls hl
  have hx := E.1.1
  have hb := E.1.2.1
  have hl : lv_has ls 3 [(0, .ref g), (1, .int x)] := hl
  have h4 := MI_fr hO
  refine lv_aload_n hx hb dX1_get_0 rfl (lv_at hl 0 rfl) ?_
  refine cm_i (rest := []) E (mM_now l D g b0 b1 d O hO) (cwm_now E ⟨by decide, by decide⟩) w hA hl.1 rfl rfl (by decide) dX1_get_1 ⟨Nat.zero_le _, Nat.zero_le _⟩ (fun r O2 H locs hq w => ?_)
  obtain ⟨hq0, hq1⟩ := hq
  subst hq0
  subst hq1
  refine lv_istore_n (lv' := [(2, .int (nI (fr O))), (0, .ref g), (1, .int x)]) hx hb dX1_get_4 rfl hl (by decide) rfl (fun ls hl => ?_)
  refine lv_aload_n hx hb dX1_get_5 rfl (lv_at hl 1 rfl) ?_
  refine lv_iload_n hx hb dX1_get_6 rfl (lv_at hl 2 rfl) ?_
  refine cm_i (rest := []) E (mM_isKey l D g b0 b1 d O x) (cwm_isKey E ⟨by decide, by decide⟩) w hA hl.1 rfl rfl (by decide) dX1_get_7 ⟨Nat.zero_le _, Nat.zero_le _⟩ (fun r O2 H locs hq w => ?_)
  obtain ⟨rfl, hq⟩ := hq
  refine lv_if_eq (tgt := 24) hx hb dX1_get_10 (by decide) (fun c1 => ?_) (fun c1 => ?_)
  · have hk : ¬ kOk x := by
      rcases hq with ⟨q, _⟩ | ⟨_, q⟩
      · rw [q] at c1; exact absurd c1 (by decide)
      · exact q
    refine lv_iconst (v := 0) hx hb dX1_get_24 (by decide) ?_
    exact ret 0 O _ _ _ _ (by first | rfl | decide) (⟨rfl, (aGet_bad hk).symm⟩) w dX1_get_25
  · obtain ⟨k, hk, rfl⟩ : ∃ k : Nat, k < 8 ∧ x = nI k := by
      rcases hq with ⟨_, q⟩ | ⟨q, _⟩
      · exact q
      · exact absurd q c1
    refine gm_values E w (lv_at hl 1 rfl) dX1_get_13 dX1_get_14 ?_
    refine lv_iload_n hx hb dX1_get_17 rfl (lv_at hl 0 rfl) ?_
    refine lv_iload_n hx hb dX1_get_18 rfl (lv_at hl 2 rfl) ?_
    refine lv_iadd hx hb dX1_get_19 ?_
    refine m_ldv E w (i := fr O + k) (nI_add _ _) (by omega) (rfl) dX1_get_20 ?_
    refine lv_goto (tgt := 25) hx hb dX1_get_21 (by decide) ?_
    exact ret (O.1 (fr O + k)) O _ _ _ _ (by first | rfl | decide) (⟨rfl, (aGet_ok hk).symm⟩) w dX1_get_25
set_option maxHeartbeats 4000000 in
set_option maxRecDepth 100000 in
/-- add -/
theorem mM_add (l : Launch) (D : va_G) (g b0 b1 : Nat) (d : ClassId) (O : MO) (x v : Int32) (hO : MI O) : CM l yX1_add cX1_add 4 (some .int) ptr3 D g b0 b1 d O [.int x, .int v] (fun r O2 => r = (aAdd O x v).1 ∧ O2 = (aAdd O x v).2) := by
  refine Ct_i (by decide) (Nat.le_of_ble_eq_true rfl) .int rfl ?_
  intro p e s m args below meth c A Q E hA w ret ls hl
  have hx := E.1.1
  have hb := E.1.2.1
  have hl : lv_has ls 4 [(0, .ref g), (1, .int x), (2, .int v)] := hl
  refine lv_aload_n hx hb dX1_add_0 rfl (lv_at hl 0 rfl) ?_
  refine lv_iload_n hx hb dX1_add_1 rfl (lv_at hl 1 rfl) ?_
  refine cm_i (rest := []) E (mM_get l D g b0 b1 d O x hO) (cwm_get E ⟨by decide, by decide⟩) w hA hl.1 rfl rfl (by decide) dX1_add_2 ⟨Nat.zero_le _, Nat.zero_le _⟩ (fun r O2 H locs hq w => ?_)
  obtain ⟨hq0, hq1⟩ := hq
  subst hq0
  subst hq1
  refine lv_istore_n (lv' := [(3, .int (aGet O x)), (0, .ref g), (1, .int x), (2, .int v)]) hx hb dX1_add_5 rfl hl (by decide) rfl (fun ls hl => ?_)
  refine lv_aload_n hx hb dX1_add_6 rfl (lv_at hl 1 rfl) ?_
  refine lv_iload_n hx hb dX1_add_7 rfl (lv_at hl 2 rfl) ?_
  refine lv_iload_n hx hb dX1_add_8 rfl (lv_at hl 0 rfl) ?_
  refine lv_iload_n hx hb dX1_add_9 rfl (lv_at hl 3 rfl) ?_
  refine lv_iadd hx hb dX1_add_10 ?_
  refine cm_i (rest := []) E (mM_set l D g b0 b1 d O x (aGet O x + v) hO) (cwm_set E ⟨by decide, by decide⟩) w hA hl.1 rfl rfl (by decide) dX1_add_11 ⟨Nat.zero_le _, Nat.zero_le _⟩ (fun r O2 H locs hq w => ?_)
  exact ret r O2 _ _ _ _ (by first | rfl | decide) (hq) w dX1_add_14
set_option maxHeartbeats 4000000 in
set_option maxRecDepth 100000 in
/-- restore -/
theorem mM_restore (l : Launch) (D : va_G) (g b0 b1 : Nat) (d : ClassId) (O : MO) (x y : Int32) (hO : MI O) : CM l yX1_restore cX1_restore 4 (some .int) ptr1 D g b0 b1 d O [.int x, .int y] (fun r O2 => r = (aRst O x y).1 ∧ O2 = (aRst O x y).2) := by
  refine Ct_i (by decide) (Nat.le_of_ble_eq_true rfl) .int rfl ?_
  intro p e s m args below meth c A Q E hA w ret ls hl
  have hx := E.1.1
  have hb := E.1.2.1
  have hl : lv_has ls 4 [(0, .ref g), (1, .int x), (2, .int y)] := hl
  refine lv_aload_n hx hb dX1_restore_0 rfl (lv_at hl 0 rfl) ?_
  refine lv_iload_n hx hb dX1_restore_1 rfl (lv_at hl 1 rfl) ?_
  refine lv_iload_n hx hb dX1_restore_2 rfl (lv_at hl 2 rfl) ?_
  refine cm_i (rest := []) E (mM_isPoint l D g b0 b1 d O x y hO) (cwm_isPoint E ⟨by decide, by decide⟩) w hA hl.1 rfl rfl (by decide) dX1_restore_3 ⟨Nat.zero_le _, Nat.zero_le _⟩ (fun r O2 H locs hq w => ?_)
  obtain ⟨rfl, hq⟩ := hq
  refine lv_if_ne (tgt := 12) hx hb dX1_restore_6 (by decide) (fun c1 => ?_) (fun c1 => ?_)
  · obtain ⟨t, n0, ht, hn, rfl, rfl⟩ : ∃ t n : Nat, t < O.2.2 ∧ n ≤ O.2.1 t ∧ x = nI t ∧ y = nI n := by
      rcases hq with ⟨_, q⟩ | ⟨q, _⟩
      · exact q
      · exact absurd q c1
    have h6 := hO.2.1
    have h30 := hO.2.2 t ht
    refine gm_timelines E w (lv_at hl 0 rfl) dX1_restore_12 dX1_restore_13 ?_
    refine lv_bipush (v := 6) hx hb dX1_restore_16 (by decide) ?_
    refine lv_icmp_ne (tgt := 24) hx hb dX1_restore_18 (by decide) (fun c2 => ?_) (fun c2 => ?_)
    · have hf : O.2.2 ≠ 6 := fun q => c2 (by rw [q]; decide)
      refine lv_iconst (v := nI 0) hx hb dX1_restore_24 (by decide) ?_
      refine lv_istore_n (lv' := [(3, .int (nI 0)), (0, .ref g), (1, .int (nI t)), (2, .int (nI n0))]) hx hb dX1_restore_25 rfl hl (by decide) rfl (fun ls hl => ?_)
      have loop26 : ∀ (n : Nat) (i : Nat) (O1 : MO) (H : Heap) (locs : List Loc) (ls : Array Slot), i ≤ 8 * n0 + 8 → 8 * n0 + 9 ≤ i + n → O1 = (fun j => if 248 * O.2.2 ≤ j ∧ j < 248 * O.2.2 + i then O.1 (248 * t + (j - 248 * O.2.2)) else O.1 j, O.2) → Wd D A s.heap (wM g b0 b1 d O1) H locs → lv_has ls 4 [(0, .ref g), (1, .int (nI t)), (2, .int (nI n0)), (3, .int (nI i))] → W p l e ptr1 s m args below meth c H locs 0 0 Q (F0 m 26 ls []) := by
        intro n
        induction n with
        | zero =>
          intro i O1 H locs ls h1 h2
          exact absurd h2 (by omega)
        | succ n ih =>
          intro i O1 H locs ls hi hin inv w hl
          have hO2 : O1.2 = O.2 := by rw [inv]
          refine lv_iload_n hx hb dX1_restore_26 rfl (lv_at hl 3 rfl) ?_
          refine lv_bipush (v := 8) hx hb dX1_restore_27 (by decide) ?_
          refine lv_iload_n hx hb dX1_restore_29 rfl (lv_at hl 2 rfl) ?_
          refine lv_imul hx hb dX1_restore_30 ?_
          refine lv_bipush (v := 8) hx hb dX1_restore_31 (by decide) ?_
          refine lv_iadd hx hb dX1_restore_33 ?_
          refine top_eq (y := nI (8 * n0 + 8)) (by rw [e8, pk_mul, nI_add]) ?_
          refine lv_icmp_ge (tgt := 70) hx hb dX1_restore_34 (by decide) (fun c3 => ?_) (fun c3 => ?_)
          · rw [nI_leI (by omega) (by omega)] at c3
            obtain rfl : i = 8 * n0 + 8 := by omega
            refine gm_lasts E w (lv_at hl 0 rfl) dX1_restore_70 dX1_restore_71 ?_
            refine gm_timelines E w (lv_at hl 0 rfl) dX1_restore_74 dX1_restore_75 ?_
            refine top_eq (y := nI O.2.2) (by rw [hO2]) ?_
            refine lv_iload_n hx hb dX1_restore_78 rfl (lv_at hl 2 rfl) ?_
            obtain ⟨O3, eO3⟩ : ∃ z_ : MO, z_ = (O1.1, updN O1.2.1 O.2.2 n0, O1.2.2) := ⟨_, rfl⟩
            refine m_stl E w (i := O.2.2) (q := n0) rfl rfl (by omega) eO3.symm dX1_restore_79 (fun H locs w => ?_)
            have hO3 : O3.2.2 = O.2.2 := by rw [eO3]; show O1.2.2 = O.2.2; rw [hO2]
            refine lv_aload_n hx hb dX1_restore_80 rfl (lv_at hl 0 rfl) ?_
            refine lv_dup hx hb dX1_restore_81 rfl ?_
            refine hm_timelines E w dX1_restore_82 ?_
            refine lv_iconst (v := 1) hx hb dX1_restore_85 (by decide) ?_
            refine lv_iadd hx hb dX1_restore_86 ?_
            obtain ⟨O4, eO4⟩ : ∃ z_ : MO, z_ = (O3.1, O3.2.1, (O.2.2 + 1)) := ⟨_, rfl⟩
            refine pm_timelines E w (q := O.2.2 + 1) (by rw [hO3]; exact nI_1 _) eO4.symm dX1_restore_87 (fun H locs w => ?_)
            refine gm_timelines E w (lv_at hl 0 rfl) dX1_restore_90 dX1_restore_91 ?_
            refine lv_iconst (v := 1) hx hb dX1_restore_94 (by decide) ?_
            refine lv_isub hx hb dX1_restore_95 ?_
            have h7 : O4 = aCp O t n0 := by rw [eO4, eO3, inv]; rfl
            clear eO4
            subst h7
            refine top_eq (y := nI O.2.2) (nI_sub1 (n := O.2.2 + 1) (by omega)) ?_
            exact ret (nI O.2.2) (aCp O t n0) _ _ _ _ (by first | rfl | decide) (by rw [aRst_ok hO ht hn hf]; exact ⟨rfl, rfl⟩) w dX1_restore_96
          · rw [nI_leI (by omega) (by omega)] at c3
            refine gm_values E w (lv_at hl 0 rfl) dX1_restore_37 dX1_restore_38 ?_
            refine lv_sipush (v := 248) hx hb dX1_restore_41 (by decide) ?_
            refine gm_timelines E w (lv_at hl 0 rfl) dX1_restore_44 dX1_restore_45 ?_
            refine top_eq (y := nI O.2.2) (by rw [hO2]) ?_
            refine lv_imul hx hb dX1_restore_48 ?_
            refine lv_iload_n hx hb dX1_restore_49 rfl (lv_at hl 3 rfl) ?_
            refine lv_iadd hx hb dX1_restore_50 ?_
            refine gm_values E w (lv_at hl 0 rfl) dX1_restore_51 dX1_restore_52 ?_
            refine lv_sipush (v := 248) hx hb dX1_restore_55 (by decide) ?_
            refine lv_iload_n hx hb dX1_restore_58 rfl (lv_at hl 1 rfl) ?_
            refine lv_imul hx hb dX1_restore_59 ?_
            refine lv_iload_n hx hb dX1_restore_60 rfl (lv_at hl 3 rfl) ?_
            refine lv_iadd hx hb dX1_restore_61 ?_
            refine m_ldv E w (i := 248 * t + i) (v := O.1 (248 * t + i)) (by rw [e248, pk_mul, nI_add]) (by omega) (cp_at ht (by omega) inv) dX1_restore_62 ?_
            obtain ⟨O2, eO2⟩ : ∃ z_ : MO, z_ = (upd O1.1 (248 * O.2.2 + i) (O.1 (248 * t + i)), O1.2) := ⟨_, rfl⟩
            refine m_stv E w (i := 248 * O.2.2 + i) (by rw [e248, pk_mul, nI_add]) (by omega) eO2.symm dX1_restore_63 (fun H locs w => ?_)
            refine lv_iinc (v := nI (i + 1)) (lv' := [(3, .int (nI (i + 1))), (0, .ref g), (1, .int (nI t)), (2, .int (nI n0))]) hx hb dX1_restore_64 hl (k := 3) rfl (nI_1 i) (by decide) rfl (fun ls hl => ?_)
            refine lv_goto (tgt := 26) hx hb dX1_restore_67 (by decide) ?_
            exact ih (i + 1) O2 _ _ _ (by omega) (by omega) (cp_step ht (by omega) inv eO2) w (lv_sub hl [1, 2, 3, 0] rfl)
      refine loop26 (8 * n0 + 9) 0 O _ _ _ (by omega) (by omega) ?_ w (lv_sub hl [1, 2, 3, 0] rfl)
      refine Prod.ext ?_ rfl
      funext j
      show O.1 j = if 248 * O.2.2 ≤ j ∧ j < 248 * O.2.2 + 0 then O.1 (248 * t + (j - 248 * O.2.2)) else O.1 j
      rw [if_neg (by omega)]
    · have hf : O.2.2 = 6 := by rw [e6, nI_eq (by omega) (by decide)] at c2; exact c2
      refine lv_bipush (v := -2) hx hb dX1_restore_21 (by decide) ?_
      exact ret (-2) O _ _ _ _ (by first | rfl | decide) (by rw [aRst_full hO ht hn hf]; exact ⟨rfl, rfl⟩) w dX1_restore_23
  · have hp : ¬ pOk O x y := by
      rcases hq with ⟨q, _⟩ | ⟨_, q⟩
      · rw [q] at c1; exact absurd c1 (by decide)
      · exact q
    refine lv_bipush (v := -4) hx hb dX1_restore_9 (by decide) ?_
    exact ret (-4) O _ _ _ _ (by first | rfl | decide) (by rw [aRst_bad hp]; exact ⟨rfl, rfl⟩) w dX1_restore_11
set_option maxHeartbeats 4000000 in
set_option maxRecDepth 100000 in
/-- valueAt -/
theorem mM_valueAt (l : Launch) (D : va_G) (g b0 b1 : Nat) (d : ClassId) (O : MO) (x y z : Int32) (hO : MI O) : CM l yX1_valueAt cX1_valueAt 4 (some .int) ptr1 D g b0 b1 d O [.int x, .int y, .int z] (fun r O2 => O = O2 ∧ r = aVal O x y z) := by
  refine Ct_i (by decide) (Nat.le_of_ble_eq_true rfl) .int rfl ?_
  intro p e s m args below meth c A Q E hA w ret ls hl
  have hx := E.1.1
  have hb := E.1.2.1
  have hl : lv_has ls 4 [(0, .ref g), (1, .int x), (2, .int y), (3, .int z)] := hl
  refine lv_aload_n hx hb dX1_valueAt_0 rfl (lv_at hl 0 rfl) ?_
  refine lv_iload_n hx hb dX1_valueAt_1 rfl (lv_at hl 1 rfl) ?_
  refine lv_iload_n hx hb dX1_valueAt_2 rfl (lv_at hl 2 rfl) ?_
  refine cm_i (rest := []) E (mM_isPoint l D g b0 b1 d O x y hO) (cwm_isPoint E ⟨by decide, by decide⟩) w hA hl.1 rfl rfl (by decide) dX1_valueAt_3 ⟨Nat.zero_le _, Nat.zero_le _⟩ (fun r O2 H locs hq w => ?_)
  obtain ⟨rfl, hq⟩ := hq
  refine lv_if_eq (tgt := 37) hx hb dX1_valueAt_6 (by decide) (fun c1 => ?_) (fun c1 => ?_)
  · have hp : ¬ pOk O x y := by
      rcases hq with ⟨q, _⟩ | ⟨_, q⟩
      · rw [q] at c1; exact absurd c1 (by decide)
      · exact q
    refine lv_iconst (v := 0) hx hb dX1_valueAt_37 (by decide) ?_
    exact ret 0 O _ _ _ _ (by first | rfl | decide) (⟨rfl, (aVal_bad (fun q => hp q.1)).symm⟩) w dX1_valueAt_38
  · obtain ⟨t, n, ht, hn, rfl, rfl⟩ : ∃ t n : Nat, t < O.2.2 ∧ n ≤ O.2.1 t ∧ x = nI t ∧ y = nI n := by
      rcases hq with ⟨_, q⟩ | ⟨q, _⟩
      · exact q
      · exact absurd q c1
    have h6 := hO.2.1
    have h30 := hO.2.2 t ht
    refine lv_aload_n hx hb dX1_valueAt_9 rfl (lv_at hl 0 rfl) ?_
    refine lv_iload_n hx hb dX1_valueAt_10 rfl (lv_at hl 3 rfl) ?_
    refine cm_i (rest := []) E (mM_isKey l D g b0 b1 d O z) (cwm_isKey E ⟨by decide, by decide⟩) w hA hl.1 rfl rfl (by decide) dX1_valueAt_11 ⟨Nat.zero_le _, Nat.zero_le _⟩ (fun r O2 H locs hq w => ?_)
    obtain ⟨rfl, hq⟩ := hq
    refine lv_if_eq (tgt := 37) hx hb dX1_valueAt_14 (by decide) (fun c2 => ?_) (fun c2 => ?_)
    · have hk : ¬ kOk z := by
        rcases hq with ⟨q, _⟩ | ⟨_, q⟩
        · rw [q] at c2; exact absurd c2 (by decide)
        · exact q
      refine lv_iconst (v := 0) hx hb dX1_valueAt_37 (by decide) ?_
      exact ret 0 O _ _ _ _ (by first | rfl | decide) (⟨rfl, (aVal_bad (fun q => hk q.2)).symm⟩) w dX1_valueAt_38
    · obtain ⟨k, hk, rfl⟩ : ∃ k : Nat, k < 8 ∧ z = nI k := by
        rcases hq with ⟨_, q⟩ | ⟨q, _⟩
        · exact q
        · exact absurd q c2
      refine gm_values E w (lv_at hl 0 rfl) dX1_valueAt_17 dX1_valueAt_18 ?_
      refine lv_sipush (v := 248) hx hb dX1_valueAt_21 (by decide) ?_
      refine lv_iload_n hx hb dX1_valueAt_24 rfl (lv_at hl 1 rfl) ?_
      refine lv_imul hx hb dX1_valueAt_25 ?_
      refine lv_bipush (v := 8) hx hb dX1_valueAt_26 (by decide) ?_
      refine lv_iload_n hx hb dX1_valueAt_28 rfl (lv_at hl 2 rfl) ?_
      refine lv_imul hx hb dX1_valueAt_29 ?_
      refine lv_iadd hx hb dX1_valueAt_30 ?_
      refine lv_iload_n hx hb dX1_valueAt_31 rfl (lv_at hl 3 rfl) ?_
      refine lv_iadd hx hb dX1_valueAt_32 ?_
      refine m_ldv E w (i := 248 * t + 8 * n + k) (vM_val t n k) (by omega) (rfl) dX1_valueAt_33 ?_
      refine lv_goto (tgt := 38) hx hb dX1_valueAt_34 (by decide) ?_
      exact ret (O.1 (248 * t + 8 * n + k)) O _ _ _ _ (by first | rfl | decide) (⟨rfl, (aVal_ok hO ht hn hk).symm⟩) w dX1_valueAt_38
set_option maxHeartbeats 4000000 in
set_option maxRecDepth 100000 in
/-- lastPoint -/
theorem mM_lastPoint (l : Launch) (D : va_G) (g b0 b1 : Nat) (d : ClassId) (O : MO) (x : Int32) (hO : MI O) : CM l yX1_lastPoint cX1_lastPoint 2 (some .int) ptr1 D g b0 b1 d O [.int x] (fun r O2 => O = O2 ∧ r = aLp O x) := by
  refine Ct_i (by decide) (Nat.le_of_ble_eq_true rfl) .int rfl ?_
  intro p e s m args below meth c A Q E hA w ret ls hl
  have hx := E.1.1
  have hb := E.1.2.1
  have hl : lv_has ls 2 [(0, .ref g), (1, .int x)] := hl
  refine lv_aload_n hx hb dX1_lastPoint_0 rfl (lv_at hl 0 rfl) ?_
  refine lv_iload_n hx hb dX1_lastPoint_1 rfl (lv_at hl 1 rfl) ?_
  refine lv_iconst (v := 0) hx hb dX1_lastPoint_2 (by decide) ?_
  refine cm_i (rest := []) E (mM_isPoint l D g b0 b1 d O x 0 hO) (cwm_isPoint E ⟨by decide, by decide⟩) w hA hl.1 rfl rfl (by decide) dX1_lastPoint_3 ⟨Nat.zero_le _, Nat.zero_le _⟩ (fun r O2 H locs hq w => ?_)
  obtain ⟨rfl, hq⟩ := hq
  refine lv_if_eq (tgt := 18) hx hb dX1_lastPoint_6 (by decide) (fun c1 => ?_) (fun c1 => ?_)
  · have hp : ¬ pOk O x 0 := by
      rcases hq with ⟨q, _⟩ | ⟨_, q⟩
      · rw [q] at c1; exact absurd c1 (by decide)
      · exact q
    have hp2 : ¬ (0 ≤ x ∧ x < nI O.2.2) := by
      intro q
      obtain ⟨t, ht, rfl⟩ := tl_of hO.2.1 (i32_len q.1) (i32_ltn q.2)
      exact hp (pOk_nI (n := 0) hO ht (Nat.zero_le _))
    refine lv_bipush (v := -4) hx hb dX1_lastPoint_18 (by decide) ?_
    exact ret (-4) O _ _ _ _ (by first | rfl | decide) (⟨rfl, (aLp_bad hp2).symm⟩) w dX1_lastPoint_20
  · obtain ⟨t, ht, rfl⟩ : ∃ t : Nat, t < O.2.2 ∧ x = nI t := by
      rcases hq with ⟨_, t, n, h1, h2, h3, h4⟩ | ⟨q, _⟩
      · exact ⟨t, h1, h3⟩
      · exact absurd q c1
    have h6 := hO.2.1
    refine gm_lasts E w (lv_at hl 0 rfl) dX1_lastPoint_9 dX1_lastPoint_10 ?_
    refine lv_iload_n hx hb dX1_lastPoint_13 rfl (lv_at hl 1 rfl) ?_
    refine m_ldl E w (i := t) rfl (by omega) (rfl) dX1_lastPoint_14 ?_
    refine lv_goto (tgt := 20) hx hb dX1_lastPoint_15 (by decide) ?_
    exact ret (nI (O.2.1 t)) O _ _ _ _ (by first | rfl | decide) (⟨rfl, (aLp_ok hO ht).symm⟩) w dX1_lastPoint_20
set_option maxHeartbeats 4000000 in
set_option maxRecDepth 100000 in
/-- lastChange -/
theorem mM_lastChange (l : Launch) (D : va_G) (g b0 b1 : Nat) (d : ClassId) (O : MO) (x y z : Int32) (hO : MI O) : CM l yX1_lastChange cX1_lastChange 5 (some .int) ptr1 D g b0 b1 d O [.int x, .int y, .int z] (fun r O2 => O = O2 ∧ r = aLc O x y z) := by
  refine Ct_i (by decide) (Nat.le_of_ble_eq_true rfl) .int rfl ?_
  intro p e s m args below meth c A Q E hA w ret ls hl
  have hx := E.1.1
  have hb := E.1.2.1
  have hl : lv_has ls 5 [(0, .ref g), (1, .int x), (2, .int y), (3, .int z)] := hl
  refine lv_aload_n hx hb dX1_lastChange_0 rfl (lv_at hl 0 rfl) ?_
  refine lv_iload_n hx hb dX1_lastChange_1 rfl (lv_at hl 3 rfl) ?_
  refine cm_i (rest := []) E (mM_isKey l D g b0 b1 d O z) (cwm_isKey E ⟨by decide, by decide⟩) w hA hl.1 rfl rfl (by decide) dX1_lastChange_2 ⟨Nat.zero_le _, Nat.zero_le _⟩ (fun r O2 H locs hq w => ?_)
  obtain ⟨rfl, hq⟩ := hq
  refine lv_if_ne (tgt := 10) hx hb dX1_lastChange_5 (by decide) (fun c1 => ?_) (fun c1 => ?_)
  · obtain ⟨k, hk, rfl⟩ : ∃ k : Nat, k < 8 ∧ z = nI k := by
      rcases hq with ⟨_, q⟩ | ⟨q, _⟩
      · exact q
      · exact absurd q c1
    refine lv_aload_n hx hb dX1_lastChange_10 rfl (lv_at hl 0 rfl) ?_
    refine lv_iload_n hx hb dX1_lastChange_11 rfl (lv_at hl 1 rfl) ?_
    refine lv_iload_n hx hb dX1_lastChange_12 rfl (lv_at hl 2 rfl) ?_
    refine cm_i (rest := []) E (mM_isPoint l D g b0 b1 d O x y hO) (cwm_isPoint E ⟨by decide, by decide⟩) w hA hl.1 rfl rfl (by decide) dX1_lastChange_13 ⟨Nat.zero_le _, Nat.zero_le _⟩ (fun r O2 H locs hq w => ?_)
    obtain ⟨rfl, hq⟩ := hq
    refine lv_if_ne (tgt := 22) hx hb dX1_lastChange_16 (by decide) (fun c2 => ?_) (fun c2 => ?_)
    · obtain ⟨t, n, ht, hn, rfl, rfl⟩ : ∃ t n : Nat, t < O.2.2 ∧ n ≤ O.2.1 t ∧ x = nI t ∧ y = nI n := by
        rcases hq with ⟨_, q⟩ | ⟨q, _⟩
        · exact q
        · exact absurd q c2
      have h6 := hO.2.1
      have h30 := hO.2.2 t ht
      refine lv_iload_n hx hb dX1_lastChange_22 rfl (lv_at hl 2 rfl) ?_
      refine lv_istore (lv' := [(4, .int (nI n)), (0, .ref g), (1, .int (nI t)), (2, .int (nI n)), (3, .int (nI k))]) hx hb dX1_lastChange_23 hl (by decide) rfl (fun ls hl => ?_)
      have loop25 : ∀ (q : Nat) (H : Heap) (locs : List Loc) (ls : Array Slot), q ≤ n → lastC O t k n = lastC O t k q → Wd D A s.heap (wM g b0 b1 d O) H locs → lv_has ls 5 [(0, .ref g), (1, .int (nI t)), (2, .int (nI n)), (3, .int (nI k)), (4, .int (nI q))] → W p l e ptr1 s m args below meth c H locs 0 0 Q (F0 m 25 ls []) := by
        intro q
        induction q with
        | zero =>
          intro H locs ls hq hc w hl
          have hl : lv_has ls 5 [(0, .ref g), (1, .int (nI t)), (2, .int (nI n)), (3, .int (nI k)), (4, .int (nI 0))] := hl
          refine lv_iload hx hb dX1_lastChange_25 (lv_at hl 4 rfl) ?_
          refine lv_if_le (tgt := 81) hx hb dX1_lastChange_27 (by decide) (fun c3 => ?_) (fun c3 => ?_)
          · refine lv_iconst (v := 0) hx hb dX1_lastChange_81 (by decide) ?_
            exact ret 0 O _ _ _ _ (by first | rfl | decide) (⟨rfl, by rw [aLc_ok hO ht hn hk, hc]; rfl⟩) w dX1_lastChange_82
          · exact absurd (by decide) c3
        | succ q ih =>
          intro H locs ls hq hc w hl
          have hl : lv_has ls 5 [(0, .ref g), (1, .int (nI t)), (2, .int (nI n)), (3, .int (nI k)), (4, .int (nI (q + 1)))] := hl
          refine lv_iload hx hb dX1_lastChange_25 (lv_at hl 4 rfl) ?_
          refine lv_if_le (tgt := 81) hx hb dX1_lastChange_27 (by decide) (fun c3 => ?_) (fun c3 => ?_)
          · exact absurd c3 (nI_nle (by omega) (by omega))
          · refine gm_values E w (lv_at hl 0 rfl) dX1_lastChange_30 dX1_lastChange_31 ?_
            refine lv_sipush (v := 248) hx hb dX1_lastChange_34 (by decide) ?_
            refine lv_iload_n hx hb dX1_lastChange_37 rfl (lv_at hl 1 rfl) ?_
            refine lv_imul hx hb dX1_lastChange_38 ?_
            refine lv_bipush (v := 8) hx hb dX1_lastChange_39 (by decide) ?_
            refine lv_iload hx hb dX1_lastChange_41 (lv_at hl 4 rfl) ?_
            refine lv_imul hx hb dX1_lastChange_43 ?_
            refine lv_iadd hx hb dX1_lastChange_44 ?_
            refine lv_iload_n hx hb dX1_lastChange_45 rfl (lv_at hl 3 rfl) ?_
            refine lv_iadd hx hb dX1_lastChange_46 ?_
            refine m_ldv E w (i := 248 * t + 8 * (q + 1) + k) (v := vM O t (q + 1) k) (vM_val t (q + 1) k) (by omega) (rfl) dX1_lastChange_47 ?_
            refine gm_values E w (lv_at hl 0 rfl) dX1_lastChange_48 dX1_lastChange_49 ?_
            refine lv_sipush (v := 248) hx hb dX1_lastChange_52 (by decide) ?_
            refine lv_iload_n hx hb dX1_lastChange_55 rfl (lv_at hl 1 rfl) ?_
            refine lv_imul hx hb dX1_lastChange_56 ?_
            refine lv_bipush (v := 8) hx hb dX1_lastChange_57 (by decide) ?_
            refine lv_iload hx hb dX1_lastChange_59 (lv_at hl 4 rfl) ?_
            refine lv_imul hx hb dX1_lastChange_61 ?_
            refine lv_iadd hx hb dX1_lastChange_62 ?_
            refine lv_bipush (v := 8) hx hb dX1_lastChange_63 (by decide) ?_
            refine lv_isub hx hb dX1_lastChange_65 ?_
            refine lv_iload_n hx hb dX1_lastChange_66 rfl (lv_at hl 3 rfl) ?_
            refine lv_iadd hx hb dX1_lastChange_67 ?_
            refine m_ldv E w (i := 248 * t + 8 * q + k) (v := vM O t q k) (vM_val' t q k) (by omega) (rfl) dX1_lastChange_68 ?_
            refine lv_icmp_eq (tgt := 75) hx hb dX1_lastChange_69 (by decide) (fun c4 => ?_) (fun c4 => ?_)
            · refine lv_iinc (v := nI q) (lv' := [(4, .int (nI q)), (0, .ref g), (1, .int (nI t)), (2, .int (nI n)), (3, .int (nI k))]) hx hb dX1_lastChange_75 hl (k := 4) rfl (pk_m1 q) (by decide) rfl (fun ls hl => ?_)
              refine lv_goto (tgt := 25) hx hb dX1_lastChange_78 (by decide) ?_
              exact ih _ _ _ (by omega) (by rw [hc]; exact if_pos c4) w (lv_sub hl [1, 2, 3, 4, 0] rfl)
            · refine lv_iload hx hb dX1_lastChange_72 (lv_at hl 4 rfl) ?_
              exact ret (nI (q + 1)) O _ _ _ _ (by first | rfl | decide) (⟨rfl, by rw [aLc_ok hO ht hn hk, hc]; exact (congrArg nI (if_neg c4)).symm⟩) w dX1_lastChange_74
      exact loop25 n _ _ _ (Nat.le_refl n) rfl w (lv_sub hl [1, 2, 3, 4, 0] rfl)
    · have hp : ¬ pOk O x y := by
        rcases hq with ⟨q, _⟩ | ⟨_, q⟩
        · rw [q] at c2; exact absurd c2 (by decide)
        · exact q
      refine lv_bipush (v := -4) hx hb dX1_lastChange_19 (by decide) ?_
      exact ret (-4) O _ _ _ _ (by first | rfl | decide) (⟨rfl, (aLc_none hk hp).symm⟩) w dX1_lastChange_21
  · have hk : ¬ kOk z := by
      rcases hq with ⟨q, _⟩ | ⟨_, q⟩
      · rw [q] at c1; exact absurd c1 (by decide)
      · exact q
    refine lv_iconst (v := -1) hx hb dX1_lastChange_8 (by decide) ?_
    exact ret (-1) O _ _ _ _ (by first | rfl | decide) (⟨rfl, (aLc_bad hk).symm⟩) w dX1_lastChange_9
set_option maxHeartbeats 4000000 in
set_option maxRecDepth 100000 in
/-- differs -/
theorem mM_differs (l : Launch) (D : va_G) (g b0 b1 : Nat) (d : ClassId) (O : MO) (x y : Int32) (hO : MI O) : CM l yX1_differs cX1_differs 6 (some .int) ptr1 D g b0 b1 d O [.int x, .int y] (fun r O2 => O = O2 ∧ r = aDf O x y) := by
  refine Ct_i (by decide) (Nat.le_of_ble_eq_true rfl) .int rfl ?_
  intro p e s m args below meth c A Q E hA w ret ls hl
  have hx := E.1.1
  have hb := E.1.2.1
  have hl : lv_has ls 6 [(0, .ref g), (1, .int x), (2, .int y)] := hl
  have h4 := MI_fr hO
  refine lv_aload_n hx hb dX1_differs_0 rfl (lv_at hl 0 rfl) ?_
  refine lv_iload_n hx hb dX1_differs_1 rfl (lv_at hl 1 rfl) ?_
  refine lv_iload_n hx hb dX1_differs_2 rfl (lv_at hl 2 rfl) ?_
  refine cm_i (rest := []) E (mM_isPoint l D g b0 b1 d O x y hO) (cwm_isPoint E ⟨by decide, by decide⟩) w hA hl.1 rfl rfl (by decide) dX1_differs_3 ⟨Nat.zero_le _, Nat.zero_le _⟩ (fun r O2 H locs hq w => ?_)
  obtain ⟨rfl, hq⟩ := hq
  refine lv_if_ne (tgt := 12) hx hb dX1_differs_6 (by decide) (fun c1 => ?_) (fun c1 => ?_)
  · obtain ⟨t, n0, ht, hn, rfl, rfl⟩ : ∃ t n : Nat, t < O.2.2 ∧ n ≤ O.2.1 t ∧ x = nI t ∧ y = nI n := by
      rcases hq with ⟨_, q⟩ | ⟨q, _⟩
      · exact q
      · exact absurd q c1
    have h6 := hO.2.1
    have h30 := hO.2.2 t ht
    refine lv_aload_n hx hb dX1_differs_12 rfl (lv_at hl 0 rfl) ?_
    refine cm_i (rest := []) E (mM_now l D g b0 b1 d O hO) (cwm_now E ⟨by decide, by decide⟩) w hA hl.1 rfl rfl (by decide) dX1_differs_13 ⟨Nat.zero_le _, Nat.zero_le _⟩ (fun r O2 H locs hq w => ?_)
    obtain ⟨hq0, hq1⟩ := hq
    subst hq0
    subst hq1
    refine lv_istore_n (lv' := [(3, .int (nI (fr O))), (0, .ref g), (1, .int (nI t)), (2, .int (nI n0))]) hx hb dX1_differs_16 rfl hl (by decide) rfl (fun ls hl => ?_)
    refine lv_iconst (v := nI 0) hx hb dX1_differs_17 (by decide) ?_
    refine lv_istore (lv' := [(4, .int (nI 0)), (3, .int (nI (fr O))), (0, .ref g), (1, .int (nI t)), (2, .int (nI n0))]) hx hb dX1_differs_18 hl (by decide) rfl (fun ls hl => ?_)
    refine lv_iconst (v := nI 0) hx hb dX1_differs_20 (by decide) ?_
    refine lv_istore (lv' := [(5, .int (nI 0)), (4, .int (nI 0)), (3, .int (nI (fr O))), (0, .ref g), (1, .int (nI t)), (2, .int (nI n0))]) hx hb dX1_differs_21 hl (by decide) rfl (fun ls hl => ?_)
    have loop23 : ∀ (n : Nat) (i : Nat) (H : Heap) (locs : List Loc) (ls : Array Slot), i ≤ 8 → 9 ≤ i + n → Wd D A s.heap (wM g b0 b1 d O) H locs → lv_has ls 6 [(0, .ref g), (1, .int (nI t)), (2, .int (nI n0)), (3, .int (nI (fr O))), (4, .int (nI (dfC O t n0 i))), (5, .int (nI i))] → W p l e ptr1 s m args below meth c H locs 0 0 Q (F0 m 23 ls []) := by
      intro n
      induction n with
      | zero =>
        intro i H locs ls h1 h2
        exact absurd h2 (by omega)
      | succ n ih =>
        intro i H locs ls hi hin w hl
        refine lv_iload hx hb dX1_differs_23 (lv_at hl 5 rfl) ?_
        refine lv_bipush (v := 8) hx hb dX1_differs_25 (by decide) ?_
        refine lv_icmp_ge (tgt := 77) hx hb dX1_differs_27 (by decide) (fun c3 => ?_) (fun c3 => ?_)
        · rw [e8, nI_leI (by decide) (by omega)] at c3
          obtain rfl : i = 8 := by omega
          refine lv_iload hx hb dX1_differs_77 (lv_at hl 4 rfl) ?_
          exact ret _ O _ _ _ _ (by first | rfl | decide) (⟨rfl, (aDf_ok hO ht hn).symm⟩) w dX1_differs_79
        · rw [e8, nI_leI (by decide) (by omega)] at c3
          refine gm_values E w (lv_at hl 0 rfl) dX1_differs_30 dX1_differs_31 ?_
          refine lv_sipush (v := 248) hx hb dX1_differs_34 (by decide) ?_
          refine lv_iload_n hx hb dX1_differs_37 rfl (lv_at hl 1 rfl) ?_
          refine lv_imul hx hb dX1_differs_38 ?_
          refine lv_bipush (v := 8) hx hb dX1_differs_39 (by decide) ?_
          refine lv_iload_n hx hb dX1_differs_41 rfl (lv_at hl 2 rfl) ?_
          refine lv_imul hx hb dX1_differs_42 ?_
          refine lv_iadd hx hb dX1_differs_43 ?_
          refine lv_iload hx hb dX1_differs_44 (lv_at hl 5 rfl) ?_
          refine lv_iadd hx hb dX1_differs_46 ?_
          refine m_ldv E w (i := 248 * t + 8 * n0 + i) (v := vM O t n0 i) (vM_val t n0 i) (by omega) (rfl) dX1_differs_47 ?_
          refine gm_values E w (lv_at hl 0 rfl) dX1_differs_48 dX1_differs_49 ?_
          refine lv_iload_n hx hb dX1_differs_52 rfl (lv_at hl 3 rfl) ?_
          refine lv_iload hx hb dX1_differs_53 (lv_at hl 5 rfl) ?_
          refine lv_iadd hx hb dX1_differs_55 ?_
          refine m_ldv E w (i := fr O + i) (nI_add _ _) (by omega) (rfl) dX1_differs_56 ?_
          refine lv_icmp_eq (tgt := 67) hx hb dX1_differs_57 (by decide) (fun c4 => ?_) (fun c4 => ?_)
          · refine lv_iload hx hb dX1_differs_67 (lv_at hl 4 rfl) ?_
            refine top_eq (y := nI (dfC O t n0 (i + 1))) (congrArg nI (if_pos c4).symm) ?_
            refine lv_istore (lv' := [(4, .int (nI (dfC O t n0 (i + 1)))), (0, .ref g), (1, .int (nI t)), (2, .int (nI n0)), (3, .int (nI (fr O))), (5, .int (nI i))]) hx hb dX1_differs_69 hl (by decide) rfl (fun ls hl => ?_)
            refine lv_iinc (v := nI (i + 1)) (lv' := [(5, .int (nI (i + 1))), (4, .int (nI (dfC O t n0 (i + 1)))), (0, .ref g), (1, .int (nI t)), (2, .int (nI n0)), (3, .int (nI (fr O)))]) hx hb dX1_differs_71 hl (k := 5) rfl (nI_1 i) (by decide) rfl (fun ls hl => ?_)
            refine lv_goto (tgt := 23) hx hb dX1_differs_74 (by decide) ?_
            exact ih (i + 1) _ _ _ (by omega) (by omega) w (lv_sub hl [2, 3, 4, 5, 1, 0] rfl)
          · refine lv_iload hx hb dX1_differs_60 (lv_at hl 4 rfl) ?_
            refine lv_iconst (v := 1) hx hb dX1_differs_62 (by decide) ?_
            refine lv_iadd hx hb dX1_differs_63 ?_
            refine lv_goto (tgt := 69) hx hb dX1_differs_64 (by decide) ?_
            refine top_eq (y := nI (dfC O t n0 (i + 1))) ((nI_1 _).trans (congrArg nI (if_neg c4).symm)) ?_
            refine lv_istore (lv' := [(4, .int (nI (dfC O t n0 (i + 1)))), (0, .ref g), (1, .int (nI t)), (2, .int (nI n0)), (3, .int (nI (fr O))), (5, .int (nI i))]) hx hb dX1_differs_69 hl (by decide) rfl (fun ls hl => ?_)
            refine lv_iinc (v := nI (i + 1)) (lv' := [(5, .int (nI (i + 1))), (4, .int (nI (dfC O t n0 (i + 1)))), (0, .ref g), (1, .int (nI t)), (2, .int (nI n0)), (3, .int (nI (fr O)))]) hx hb dX1_differs_71 hl (k := 5) rfl (nI_1 i) (by decide) rfl (fun ls hl => ?_)
            refine lv_goto (tgt := 23) hx hb dX1_differs_74 (by decide) ?_
            exact ih (i + 1) _ _ _ (by omega) (by omega) w (lv_sub hl [2, 3, 4, 5, 1, 0] rfl)
    exact loop23 9 0 _ _ _ (by omega) (by omega) w (lv_sub hl [3, 4, 5, 2, 1, 0] rfl)
  · have hp : ¬ pOk O x y := by
      rcases hq with ⟨q, _⟩ | ⟨_, q⟩
      · rw [q] at c1; exact absurd c1 (by decide)
      · exact q
    refine lv_bipush (v := -4) hx hb dX1_differs_9 (by decide) ?_
    exact ret (-4) O _ _ _ _ (by first | rfl | decide) (⟨rfl, (aDf_bad hp).symm⟩) w dX1_differs_11
set_option maxHeartbeats 4000000 in
set_option maxRecDepth 100000 in
/-- digest -/
theorem mM_digest (l : Launch) (D : va_G) (g b0 b1 : Nat) (d : ClassId) (O : MO)  (hO : MI O) : CM l yX1_digest cX1_digest 4 (some .int) ptr1 D g b0 b1 d O [] (fun r O2 => O = O2 ∧ r = dgC O 8) := by
  refine Ct_i (by decide) (Nat.le_of_ble_eq_true rfl) .int rfl ?_
  intro p e s m args below meth c A Q E hA w ret ls hl
  have hx := E.1.1
  have hb := E.1.2.1
  have hl : lv_has ls 4 [(0, .ref g)] := hl
  have h4 := MI_fr hO
  refine lv_aload_n hx hb dX1_digest_0 rfl (lv_at hl 0 rfl) ?_
  refine cm_i (rest := []) E (mM_now l D g b0 b1 d O hO) (cwm_now E ⟨by decide, by decide⟩) w hA hl.1 rfl rfl (by decide) dX1_digest_1 ⟨Nat.zero_le _, Nat.zero_le _⟩ (fun r O2 H locs hq w => ?_)
  obtain ⟨hq0, hq1⟩ := hq
  subst hq0
  subst hq1
  refine lv_istore_n (lv' := [(1, .int (nI (fr O))), (0, .ref g)]) hx hb dX1_digest_4 rfl hl (by decide) rfl (fun ls hl => ?_)
  refine lv_iconst (v := 0) hx hb dX1_digest_5 (by decide) ?_
  refine lv_istore_n (lv' := [(2, .int 0), (1, .int (nI (fr O))), (0, .ref g)]) hx hb dX1_digest_6 rfl hl (by decide) rfl (fun ls hl => ?_)
  refine lv_iconst (v := nI 0) hx hb dX1_digest_7 (by decide) ?_
  refine lv_istore_n (lv' := [(3, .int (nI 0)), (2, .int 0), (1, .int (nI (fr O))), (0, .ref g)]) hx hb dX1_digest_8 rfl hl (by decide) rfl (fun ls hl => ?_)
  have loop9 : ∀ (n : Nat) (i : Nat) (H : Heap) (locs : List Loc) (ls : Array Slot), i ≤ 8 → 9 ≤ i + n → Wd D A s.heap (wM g b0 b1 d O) H locs → lv_has ls 4 [(0, .ref g), (1, .int (nI (fr O))), (2, .int (dgC O i)), (3, .int (nI i))] → W p l e ptr1 s m args below meth c H locs 0 0 Q (F0 m 9 ls []) := by
    intro n
    induction n with
    | zero =>
      intro i H locs ls h1 h2
      exact absurd h2 (by omega)
    | succ n ih =>
      intro i H locs ls hi hin w hl
      refine lv_iload_n hx hb dX1_digest_9 rfl (lv_at hl 3 rfl) ?_
      refine lv_bipush (v := 8) hx hb dX1_digest_10 (by decide) ?_
      refine lv_icmp_ge (tgt := 36) hx hb dX1_digest_12 (by decide) (fun c3 => ?_) (fun c3 => ?_)
      · rw [e8, nI_leI (by decide) (by omega)] at c3
        obtain rfl : i = 8 := by omega
        refine lv_iload_n hx hb dX1_digest_36 rfl (lv_at hl 2 rfl) ?_
        exact ret _ O _ _ _ _ (by first | rfl | decide) (⟨rfl, rfl⟩) w dX1_digest_37
      · rw [e8, nI_leI (by decide) (by omega)] at c3
        refine lv_iload_n hx hb dX1_digest_15 rfl (lv_at hl 2 rfl) ?_
        refine lv_iload_n hx hb dX1_digest_16 rfl (lv_at hl 3 rfl) ?_
        refine lv_iconst (v := 1) hx hb dX1_digest_17 (by decide) ?_
        refine lv_iadd hx hb dX1_digest_18 ?_
        refine gm_values E w (lv_at hl 0 rfl) dX1_digest_19 dX1_digest_20 ?_
        refine lv_iload_n hx hb dX1_digest_23 rfl (lv_at hl 1 rfl) ?_
        refine lv_iload_n hx hb dX1_digest_24 rfl (lv_at hl 3 rfl) ?_
        refine lv_iadd hx hb dX1_digest_25 ?_
        refine m_ldv E w (i := fr O + i) (nI_add _ _) (by omega) (rfl) dX1_digest_26 ?_
        refine lv_imul hx hb dX1_digest_27 ?_
        refine lv_iadd hx hb dX1_digest_28 ?_
        refine top_eq (y := dgC O (i + 1)) (rfl) ?_
        refine lv_istore_n (lv' := [(2, .int (dgC O (i + 1))), (0, .ref g), (1, .int (nI (fr O))), (3, .int (nI i))]) hx hb dX1_digest_29 rfl hl (by decide) rfl (fun ls hl => ?_)
        refine lv_iinc (v := nI (i + 1)) (lv' := [(3, .int (nI (i + 1))), (2, .int (dgC O (i + 1))), (0, .ref g), (1, .int (nI (fr O)))]) hx hb dX1_digest_30 hl (k := 3) rfl (nI_1 i) (by decide) rfl (fun ls hl => ?_)
        refine lv_goto (tgt := 9) hx hb dX1_digest_33 (by decide) ?_
        exact ih (i + 1) _ _ _ (by omega) (by omega) w (lv_sub hl [2, 3, 1, 0] rfl)
  exact loop9 9 0 _ _ _ (by omega) (by omega) w (lv_sub hl [3, 2, 1, 0] rfl)
end
section
/-! POINTINTIME: the log and redo -/
set_option maxHeartbeats 4000000 in
set_option maxRecDepth 100000 in
/-- bad -/
theorem mX_bad (l : Launch) (D : va_G) (h : Nat) (ad : Nat → Nat) (d dz : ClassId) (S : PS) (x : Int32)  : CX l yX0_bad cX0_bad 2 (some .boolean) ptr0 D h ad d dz S [.int x] (fun r S2 => S = S2 ∧ (r = 0 ∧ (∃ k : Nat, k < 8 ∧ x = nI k) ∨ r = 1 ∧ ¬ kOk x)) := by
  refine Ct_i (by decide) (Nat.le_of_ble_eq_true rfl) .boolean rfl ?_
  intro p e s m args below meth c A Q E hA w ret ls hl
  have hx := E.1.1
  have hb := E.1.2.1
  have hl : lv_has ls 2 [(0, .ref h), (1, .int x)] := hl
  refine lv_iload_n hx hb dX0_bad_0 rfl (lv_at hl 1 rfl) ?_
  refine lv_if_lt (tgt := 10) hx hb dX0_bad_1 (by decide) (fun c1 => ?_) (fun c1 => ?_)
  · refine lv_iconst (v := 1) hx hb dX0_bad_10 (by decide) ?_
    refine lv_goto (tgt := 15) hx hb dX0_bad_11 (by decide) ?_
    exact ret 1 S _ _ _ _ (by first | rfl | decide) (⟨rfl, Or.inr ⟨rfl, fun q => i32_len q.1 c1⟩⟩) w dX0_bad_15
  · refine lv_iload_n hx hb dX0_bad_4 rfl (lv_at hl 1 rfl) ?_
    refine lv_bipush (v := 8) hx hb dX0_bad_5 (by decide) ?_
    refine lv_icmp_lt (tgt := 14) hx hb dX0_bad_7 (by decide) (fun c2 => ?_) (fun c2 => ?_)
    · refine lv_iconst (v := 0) hx hb dX0_bad_14 (by decide) ?_
      exact ret 0 S _ _ _ _ (by first | rfl | decide) (⟨rfl, Or.inl ⟨rfl, kOk_of ⟨i32_nlt c1, c2⟩⟩⟩) w dX0_bad_15
    · refine lv_iconst (v := 1) hx hb dX0_bad_10 (by decide) ?_
      refine lv_goto (tgt := 15) hx hb dX0_bad_11 (by decide) ?_
      exact ret 1 S _ _ _ _ (by first | rfl | decide) (⟨rfl, Or.inr ⟨rfl, fun q => c2 q.2⟩⟩) w dX0_bad_15
set_option maxHeartbeats 4000000 in
set_option maxRecDepth 100000 in
/-- noPoint -/
theorem mX_noPoint (l : Launch) (D : va_G) (h : Nat) (ad : Nat → Nat) (d dz : ClassId) (S : PS) (x y : Int32) (O : MO) (hO : MI O) (hT : iT S O) : CX l yX0_noPoint cX0_noPoint 3 (some .boolean) ptr0 D h ad d dz S [.int x, .int y] (fun r S2 => S = S2 ∧ (r = 0 ∧ (∃ t n : Nat, t < O.2.2 ∧ n ≤ O.2.1 t ∧ x = nI t ∧ y = nI n) ∨ r = 1 ∧ ¬ pOk O x y)) := by
  refine Ct_i (by decide) (Nat.le_of_ble_eq_true rfl) .boolean rfl ?_
  intro p e s m args below meth c A Q E hA w ret ls hl
  have hx := E.1.1
  have hb := E.1.2.1
  have hl : lv_has ls 3 [(0, .ref h), (1, .int x), (2, .int y)] := hl
  refine lv_iload_n hx hb dX0_noPoint_0 rfl (lv_at hl 1 rfl) ?_
  refine lv_if_lt (tgt := 26) hx hb dX0_noPoint_1 (by decide) (fun c1 => ?_) (fun c1 => ?_)
  · refine lv_iconst (v := 1) hx hb dX0_noPoint_26 (by decide) ?_
    refine lv_goto (tgt := 31) hx hb dX0_noPoint_27 (by decide) ?_
    exact ret 1 S _ _ _ _ (by first | rfl | decide) (⟨rfl, Or.inr ⟨rfl, fun q => i32_len q.1 c1⟩⟩) w dX0_noPoint_31
  · refine lv_iload_n hx hb dX0_noPoint_4 rfl (lv_at hl 1 rfl) ?_
    refine gx_timelines E w (lv_at hl 0 rfl) dX0_noPoint_5 dX0_noPoint_6 ?_
    refine top_eq (y := nI O.2.2) (hT.1) ?_
    refine lv_icmp_ge (tgt := 26) hx hb dX0_noPoint_9 (by decide) (fun c2 => ?_) (fun c2 => ?_)
    · refine lv_iconst (v := 1) hx hb dX0_noPoint_26 (by decide) ?_
      refine lv_goto (tgt := 31) hx hb dX0_noPoint_27 (by decide) ?_
      exact ret 1 S _ _ _ _ (by first | rfl | decide) (⟨rfl, Or.inr ⟨rfl, fun q => i32_ltn q.2.1 c2⟩⟩) w dX0_noPoint_31
    · obtain ⟨t, ht, rfl⟩ := tl_of hO.2.1 c1 c2
      refine lv_iload_n hx hb dX0_noPoint_12 rfl (lv_at hl 2 rfl) ?_
      refine lv_if_lt (tgt := 26) hx hb dX0_noPoint_13 (by decide) (fun c3 => ?_) (fun c3 => ?_)
      · refine lv_iconst (v := 1) hx hb dX0_noPoint_26 (by decide) ?_
        refine lv_goto (tgt := 31) hx hb dX0_noPoint_27 (by decide) ?_
        exact ret 1 S _ _ _ _ (by first | rfl | decide) (⟨rfl, Or.inr ⟨rfl, fun q => i32_len q.2.2.1 c3⟩⟩) w dX0_noPoint_31
      · obtain ⟨n, hn, rfl⟩ := nI_of c3
        have h6 := hO.2.1
        have h30 := hO.2.2 t ht
        refine lv_iload_n hx hb dX0_noPoint_16 rfl (lv_at hl 2 rfl) ?_
        refine gx_end E w (lv_at hl 0 rfl) dX0_noPoint_17 dX0_noPoint_18 ?_
        refine lv_iload_n hx hb dX0_noPoint_21 rfl (lv_at hl 1 rfl) ?_
        refine x_ld E w 6 (i := t) (v := nI (O.2.1 t)) rfl (by show _ < 6; omega) (hT.2.2.1 t ht) dX0_noPoint_22 ?_
        refine lv_icmp_le (tgt := 30) hx hb dX0_noPoint_23 (by decide) (fun c4 => ?_) (fun c4 => ?_)
        · rw [nI_leI hn (by omega)] at c4
          refine lv_iconst (v := 0) hx hb dX0_noPoint_30 (by decide) ?_
          exact ret 0 S _ _ _ _ (by first | rfl | decide) (⟨rfl, Or.inl ⟨rfl, t, n, ht, c4, rfl, rfl⟩⟩) w dX0_noPoint_31
        · refine lv_iconst (v := 1) hx hb dX0_noPoint_26 (by decide) ?_
          refine lv_goto (tgt := 31) hx hb dX0_noPoint_27 (by decide) ?_
          exact ret 1 S _ _ _ _ (by first | rfl | decide) (⟨rfl, Or.inr ⟨rfl, fun q => by have q2 := q.2.2.2; rw [nI_clamp (by omega)] at q2; exact c4 q2⟩⟩) w dX0_noPoint_31
set_option maxHeartbeats 4000000 in
set_option maxRecDepth 100000 in
/-- entry -/
theorem mX_entry (l : Launch) (D : va_G) (h : Nat) (ad : Nat → Nat) (d dz : ClassId) (S : PS)  (O : MO) (t w : Nat) (hO : MI O) (hT : iT S O) (ht : t < O.2.2) (hw1 : 1 ≤ w) (hw2 : w ≤ O.2.1 t) : CX l yX0_entry cX0_entry 5 (some .int) ptr0 D h ad d dz S [.int (nI t), .int (nI w)] (fun r S2 => S = S2 ∧ ∃ q : Nat, q < 186 ∧ r = nI q ∧ Lg S O t w q) := by
  refine Ct_i (by decide) (Nat.le_of_ble_eq_true rfl) .int rfl ?_
  intro p e s m args below meth c A Q E hA wd ret ls hl
  have hx := E.1.1
  have hb := E.1.2.1
  have hl : lv_has ls 5 [(0, .ref h), (1, .int (nI t)), (2, .int (nI w))] := hl
  have h6 := hO.2.1
  have h30 := hO.2.2 t ht
  have ex44 : ∀ (u : Nat) (z : Int32) (H : Heap) (locs : List Loc) (ls : Array Slot), u < O.2.2 → Lg S O u w (31 * u + w) → (∀ n' k : Nat, n' ≤ w → k < 8 → vM O t n' k = vM O u n' k) → Wd D A s.heap (wX h ad d dz S) H locs → lv_has ls 5 [(0, .ref h), (1, .int (nI t)), (2, .int (nI w)), (3, .int (nI u)), (4, .int z)] → W p l e ptr0 s m args below meth c H locs 0 0 Q (F0 m 44 ls []) := by
    intro u z H locs ls hu hL he wd hl
    refine lv_iload_n hx hb dX0_entry_44 rfl (lv_at hl 3 rfl) ?_
    refine lv_bipush (v := 31) hx hb dX0_entry_45 (by decide) ?_
    refine lv_imul hx hb dX0_entry_47 ?_
    refine lv_iload_n hx hb dX0_entry_48 rfl (lv_at hl 2 rfl) ?_
    refine lv_iadd hx hb dX0_entry_49 ?_
    refine top_eq (y := nI (31 * u + w)) (ent_val u w) ?_
    exact ret (nI (31 * u + w)) S _ _ _ _ (by first | rfl | decide) (⟨rfl, 31 * u + w, by omega, rfl, Lg_way hL he⟩) wd dX0_entry_50
  have loop5 : ∀ (n : Nat) (u i : Nat) (H : Heap) (locs : List Loc) (ls : Array Slot), i ≤ 6 → 7 ≤ i + n → u < O.2.2 → i + u ≤ t → w ≤ O.2.1 u → (∀ n' k : Nat, n' ≤ w → k < 8 → vM O t n' k = vM O u n' k) → Wd D A s.heap (wX h ad d dz S) H locs → lv_has ls 5 [(0, .ref h), (1, .int (nI t)), (2, .int (nI w)), (3, .int (nI u)), (4, .int (nI i))] → W p l e ptr0 s m args below meth c H locs 0 0 Q (F0 m 5 ls []) := by
    intro n
    induction n with
    | zero =>
      intro u i H locs ls h1 h2
      exact absurd h2 (by omega)
    | succ n ih =>
      intro u i H locs ls hi hin hu hiu hwu he wd hl
      obtain ⟨f, hf1, hf2, hf3, hf4⟩ := hT.2.2.2.1 u hu
      have h30u := hO.2.2 u hu
      refine lv_iload hx hb dX0_entry_5 (lv_at hl 4 rfl) ?_
      refine lv_bipush (v := 6) hx hb dX0_entry_7 (by decide) ?_
      refine lv_icmp_ge (tgt := 44) hx hb dX0_entry_9 (by decide) (fun c1 => ?_) (fun c1 => ?_)
      · rw [e6, nI_leI (by decide) (by omega)] at c1
        exact absurd c1 (by omega)
      · refine lv_iload_n hx hb dX0_entry_12 rfl (lv_at hl 2 rfl) ?_
        refine gx_fork E wd (lv_at hl 0 rfl) dX0_entry_13 dX0_entry_14 ?_
        refine lv_iload_n hx hb dX0_entry_17 rfl (lv_at hl 3 rfl) ?_
        refine x_ld E wd 5 (i := u) (v := nI f) rfl (by show _ < 6; omega) (hf1) dX0_entry_18 ?_
        refine lv_icmp_gt (tgt := 44) hx hb dX0_entry_19 (by decide) (fun c2 => ?_) (fun c2 => ?_)
        · rw [nI_ltI (by omega) (by omega)] at c2
          exact ex44 u (nI i) _ _ _ hu (hf4 w hw1 hwu (Or.inr c2)) he wd hl
        · rw [nI_ltI (by omega) (by omega)] at c2
          rcases hf3 with ⟨hu0, hp⟩ | ⟨q, hq1, hq2, hq3, hq4⟩
          · refine gx_parent E wd (lv_at hl 0 rfl) dX0_entry_22 dX0_entry_23 ?_
            refine lv_iload_n hx hb dX0_entry_26 rfl (lv_at hl 3 rfl) ?_
            refine x_ld E wd 4 (i := u) (v := -1) rfl (by show _ < 6; omega) (hp) dX0_entry_27 ?_
            refine lv_if_lt (tgt := 44) hx hb dX0_entry_28 (by decide) (fun c3 => ?_) (fun c3 => ?_)
            · exact ex44 u (nI i) _ _ _ hu (hf4 w hw1 hwu (Or.inl hu0)) he wd hl
            · exact absurd m1_neg c3
          · refine gx_parent E wd (lv_at hl 0 rfl) dX0_entry_22 dX0_entry_23 ?_
            refine lv_iload_n hx hb dX0_entry_26 rfl (lv_at hl 3 rfl) ?_
            refine x_ld E wd 4 (i := u) (v := nI q) rfl (by show _ < 6; omega) (hq2) dX0_entry_27 ?_
            refine lv_if_lt (tgt := 44) hx hb dX0_entry_28 (by decide) (fun c3 => ?_) (fun c3 => ?_)
            · exact absurd c3 (nI_nneg (by omega))
            · refine gx_parent E wd (lv_at hl 0 rfl) dX0_entry_31 dX0_entry_32 ?_
              refine lv_iload_n hx hb dX0_entry_35 rfl (lv_at hl 3 rfl) ?_
              refine x_ld E wd 4 (i := u) (v := nI q) rfl (by show _ < 6; omega) (hq2) dX0_entry_36 ?_
              refine lv_istore_n (lv' := [(3, .int (nI q)), (0, .ref h), (1, .int (nI t)), (2, .int (nI w)), (4, .int (nI i))]) hx hb dX0_entry_37 rfl hl (by decide) rfl (fun ls hl => ?_)
              refine lv_iinc (v := nI (i + 1)) (lv' := [(4, .int (nI (i + 1))), (3, .int (nI q)), (0, .ref h), (1, .int (nI t)), (2, .int (nI w))]) hx hb dX0_entry_38 hl (k := 4) rfl (nI_1 i) (by decide) rfl (fun ls hl => ?_)
              refine lv_goto (tgt := 5) hx hb dX0_entry_41 (by decide) ?_
              exact ih q (i + 1) _ _ _ (by omega) (by omega) (by omega) (by omega) (by omega) (fun n' k a b => (he n' k a b).trans (hq4 n' k (by omega) b)) wd (lv_sub hl [2, 3, 4, 1, 0] rfl)
  refine lv_iload_n hx hb dX0_entry_0 rfl (lv_at hl 1 rfl) ?_
  refine lv_istore_n (lv' := [(3, .int (nI t)), (0, .ref h), (1, .int (nI t)), (2, .int (nI w))]) hx hb dX0_entry_1 rfl hl (by decide) rfl (fun ls hl => ?_)
  refine lv_iconst (v := nI 0) hx hb dX0_entry_2 (by decide) ?_
  refine lv_istore (lv' := [(4, .int (nI 0)), (3, .int (nI t)), (0, .ref h), (1, .int (nI t)), (2, .int (nI w))]) hx hb dX0_entry_3 hl (by decide) rfl (fun ls hl => ?_)
  exact loop5 7 t 0 _ _ _ (by omega) (by omega) ht (by omega) hw2 (fun _ _ _ _ => rfl) wd (lv_sub hl [2, 3, 4, 1, 0] rfl)
set_option maxHeartbeats 4000000 in
set_option maxRecDepth 100000 in
/-- valueThen -/
theorem mX_valueThen (l : Launch) (D : va_G) (h : Nat) (ad : Nat → Nat) (d dz : ClassId) (S : PS)  (O : MO) (t n k : Nat) (hO : MI O) (hT : iT S O) (ht : t < O.2.2) (hn : n ≤ O.2.1 t) (hk : k < 8) : CX l yX0_valueThen cX0_valueThen 6 (some .int) ptr1 D h ad d dz S [.int (nI t), .int (nI n), .int (nI k)] (fun r S2 => S = S2 ∧ r = vM O t n k) := by
  refine Ct_i (by decide) (Nat.le_of_ble_eq_true rfl) .int rfl ?_
  intro p e s m args below meth c A Q E hA w ret ls hl
  have hx := E.1.1
  have hb := E.1.2.1
  have hl : lv_has ls 6 [(0, .ref h), (1, .int (nI t)), (2, .int (nI n)), (3, .int (nI k))] := hl
  have h6 := hO.2.1
  have h30 := hO.2.2 t ht
  have loop3 : ∀ (q : Nat) (H : Heap) (locs : List Loc) (ls : Array Slot), q ≤ n → vM O t n k = vM O t q k → Wd D A s.heap (wX h ad d dz S) H locs → lv_has ls 6 [(0, .ref h), (1, .int (nI t)), (2, .int (nI n)), (3, .int (nI k)), (4, .int (nI q))] → W p l e ptr1 s m args below meth c H locs 0 0 Q (F0 m 3 ls []) := by
    intro q
    induction q with
    | zero =>
      intro H locs ls hq hc w hl
      have hl : lv_has ls 6 [(0, .ref h), (1, .int (nI t)), (2, .int (nI n)), (3, .int (nI k)), (4, .int (nI 0))] := hl
      refine lv_iload hx hb dX0_valueThen_3 (lv_at hl 4 rfl) ?_
      refine lv_if_le (tgt := 61) hx hb dX0_valueThen_5 (by decide) (fun c3 => ?_) (fun c3 => ?_)
      · refine lv_iconst (v := 0) hx hb dX0_valueThen_61 (by decide) ?_
        exact ret 0 S _ _ _ _ (by first | rfl | decide) (⟨rfl, by rw [hc, hT.2.2.2.2 t k ht hk]⟩) w dX0_valueThen_62
      · exact absurd (by decide) c3
    | succ q ih =>
      intro H locs ls hq hc w hl
      have hl : lv_has ls 6 [(0, .ref h), (1, .int (nI t)), (2, .int (nI n)), (3, .int (nI k)), (4, .int (nI (q + 1)))] := hl
      refine lv_iload hx hb dX0_valueThen_3 (lv_at hl 4 rfl) ?_
      refine lv_if_le (tgt := 61) hx hb dX0_valueThen_5 (by decide) (fun c3 => ?_) (fun c3 => ?_)
      · exact absurd c3 (nI_nle (by omega) (by omega))
      · refine lv_aload_n hx hb dX0_valueThen_8 rfl (lv_at hl 0 rfl) ?_
        refine lv_iload_n hx hb dX0_valueThen_9 rfl (lv_at hl 1 rfl) ?_
        refine lv_iload hx hb dX0_valueThen_10 (lv_at hl 4 rfl) ?_
        refine cx_i (rest := []) E (mX_entry l D h ad d dz S O t (q + 1) hO hT ht (by omega) (by omega)) (cwx_entry E ⟨by decide, by decide⟩) w hA hl.1 rfl rfl (by decide) dX0_valueThen_12 ⟨Nat.zero_le _, Nat.zero_le _⟩ (fun r S2 H locs hq2 w => ?_)
        obtain ⟨hq3, q2, hq4, hq5, hL⟩ := hq2
        subst hq3
        subst hq5
        have hv := hL.2.2 k hk
        refine lv_istore (lv' := [(5, .int (nI q2)), (0, .ref h), (1, .int (nI t)), (2, .int (nI n)), (3, .int (nI k)), (4, .int (nI (q + 1)))]) hx hb dX0_valueThen_15 hl (by decide) rfl (fun ls hl => ?_)
        refine gx_keyB E w (lv_at hl 1 rfl) dX0_valueThen_17 dX0_valueThen_18 ?_
        refine lv_iload hx hb dX0_valueThen_21 (lv_at hl 0 rfl) ?_
        refine x_ld E w 2 (i := q2) rfl (by show _ < 186; omega) (rfl) dX0_valueThen_23 ?_
        refine lv_iload_n hx hb dX0_valueThen_24 rfl (lv_at hl 4 rfl) ?_
        refine lv_icmp_ne (tgt := 36) hx hb dX0_valueThen_25 (by decide) (fun c4 => ?_) (fun c4 => ?_)
        · refine gx_keyA E w (lv_at hl 1 rfl) dX0_valueThen_36 dX0_valueThen_37 ?_
          refine lv_iload hx hb dX0_valueThen_40 (lv_at hl 0 rfl) ?_
          refine x_ld E w 0 (i := q2) rfl (by show _ < 186; omega) (rfl) dX0_valueThen_42 ?_
          refine lv_iload_n hx hb dX0_valueThen_43 rfl (lv_at hl 4 rfl) ?_
          refine lv_icmp_ne (tgt := 55) hx hb dX0_valueThen_44 (by decide) (fun c5 => ?_) (fun c5 => ?_)
          · refine lv_iinc (v := nI q) (lv' := [(4, .int (nI q)), (5, .int (nI q2)), (0, .ref h), (1, .int (nI t)), (2, .int (nI n)), (3, .int (nI k))]) hx hb dX0_valueThen_55 hl (k := 5) rfl (pk_m1 q) (by decide) rfl (fun ls hl => ?_)
            refine lv_goto (tgt := 3) hx hb dX0_valueThen_58 (by decide) ?_
            exact ih _ _ _ (by omega) (by rw [hc, hv, if_neg c4, if_neg c5]; rfl) w (lv_sub hl [2, 3, 4, 5, 0] rfl)
          · refine gx_valueA E w (lv_at hl 1 rfl) dX0_valueThen_47 dX0_valueThen_48 ?_
            refine lv_iload hx hb dX0_valueThen_51 (lv_at hl 0 rfl) ?_
            refine x_ld E w 1 (i := q2) rfl (by show _ < 186; omega) (rfl) dX0_valueThen_53 ?_
            exact ret (S.1 1 q2) S _ _ _ _ (by first | rfl | decide) (⟨rfl, by rw [hc, hv, if_neg c4, if_pos c5]⟩) w dX0_valueThen_54
        · refine gx_valueB E w (lv_at hl 1 rfl) dX0_valueThen_28 dX0_valueThen_29 ?_
          refine lv_iload hx hb dX0_valueThen_32 (lv_at hl 0 rfl) ?_
          refine x_ld E w 3 (i := q2) rfl (by show _ < 186; omega) (rfl) dX0_valueThen_34 ?_
          exact ret (S.1 3 q2) S _ _ _ _ (by first | rfl | decide) (⟨rfl, by rw [hc, hv, if_pos c4]⟩) w dX0_valueThen_35
  refine lv_iload_n hx hb dX0_valueThen_0 rfl (lv_at hl 2 rfl) ?_
  refine lv_istore (lv' := [(4, .int (nI n)), (0, .ref h), (1, .int (nI t)), (2, .int (nI n)), (3, .int (nI k))]) hx hb dX0_valueThen_1 hl (by decide) rfl (fun ls hl => ?_)
  exact loop3 n _ _ _ (Nat.le_refl n) rfl w (lv_sub hl [1, 2, 3, 4, 0] rfl)
set_option maxHeartbeats 4000000 in
set_option maxRecDepth 100000 in
/-- apply -/
theorem mX_apply (l : Launch) (D : va_G) (h : Nat) (ad : Nat → Nat) (d dz : ClassId) (S : PS)  (k : Nat) (v y : Int32) (hk : k < 8) : CXv l yX0_apply cX0_apply 4 ptr0 D h ad d dz S [.int (nI k), .int v, .int y] (fun S2 => S2 = ap S k v y) := by
  refine Ct_v (by decide) (Nat.le_of_ble_eq_true rfl) ?_
  intro p e s m args below meth c A Q E hA w ret ls hl
  have hx := E.1.1
  have hb := E.1.2.1
  have hl : lv_has ls 4 [(0, .ref h), (1, .int (nI k)), (2, .int v), (3, .int y)] := hl
  refine gx_memory E w (lv_at hl 0 rfl) dX0_apply_0 dX0_apply_1 ?_
  refine lv_iload_n hx hb dX0_apply_4 rfl (lv_at hl 1 rfl) ?_
  refine lv_iload_n hx hb dX0_apply_5 rfl (lv_at hl 2 rfl) ?_
  obtain ⟨S1, eS1⟩ : ∃ z_ : PS, z_ = sa S 7 (upd (S.1 7) k v) := ⟨_, rfl⟩
  refine x_st E w 7 (i := k) rfl (by show _ < 8; omega) eS1.symm dX0_apply_6 (fun H locs w => ?_)
  refine gx_memoryPoint E w (lv_at hl 0 rfl) dX0_apply_7 dX0_apply_8 ?_
  refine lv_iload_n hx hb dX0_apply_11 rfl (lv_at hl 1 rfl) ?_
  refine lv_iload_n hx hb dX0_apply_12 rfl (lv_at hl 3 rfl) ?_
  obtain ⟨S3, eS3⟩ : ∃ z_ : PS, z_ = sa S1 8 (upd (S1.1 8) k y) := ⟨_, rfl⟩
  refine x_st E w 8 (i := k) rfl (by show _ < 8; omega) eS3.symm dX0_apply_13 (fun H locs w => ?_)
  exact ret S3 _ _ _ _ (by rw [eS3, eS1]; rfl) w dX0_apply_14
set_option maxHeartbeats 4000000 in
set_option maxRecDepth 100000 in
/-- redo -/
theorem mX_redo (l : Launch) (D : va_G) (h : Nat) (ad : Nat → Nat) (d dz : ClassId) (S : PS)  (O : MO) (t w : Nat) (hO : MI O) (hT : iT S O) (ht : t < O.2.2) (hw2 : w ≤ O.2.1 t) (hm : ∀ k : Nat, k < 8 → vp O t w k (S.1 7 k) (S.1 8 k)) : CXv l yX0_redo cX0_redo 5 ptr1 D h ad d dz S [.int (nI t), .int (nI w)] (fun S2 => kp S S2 ∧ ∀ k : Nat, k < 8 → S2.1 7 k = vM O t w k ∧ vp O t w k (S2.1 7 k) (S2.1 8 k)) := by
  refine Ct_v (by decide) (Nat.le_of_ble_eq_true rfl) ?_
  intro p e s m args below meth c A Q E hA wd ret ls hl
  have hx := E.1.1
  have hb := E.1.2.1
  have hl : lv_has ls 5 [(0, .ref h), (1, .int (nI t)), (2, .int (nI w))] := hl
  have h6 := hO.2.1
  have h30 := hO.2.2 t ht
  have loop2 : ∀ (n : Nat) (i : Nat) (S1 : PS) (H : Heap) (locs : List Loc) (ls : Array Slot), i ≤ w → w + 1 ≤ i + n → kp S S1 → RI O t w i S1 → Wd D A s.heap (wX h ad d dz S1) H locs → lv_has ls 5 [(0, .ref h), (1, .int (nI t)), (2, .int (nI w)), (3, .int (nI (i + 1)))] → W p l e ptr1 s m args below meth c H locs 0 0 Q (F0 m 2 ls []) := by
    intro n
    induction n with
    | zero =>
      intro i S1 H locs ls h1 h2
      exact absurd h2 (by omega)
    | succ n ih =>
      intro i S1 H locs ls hi hin hkp hR wd hl
      refine lv_iload_n hx hb dX0_redo_2 rfl (lv_at hl 3 rfl) ?_
      refine lv_iload_n hx hb dX0_redo_3 rfl (lv_at hl 2 rfl) ?_
      refine lv_icmp_gt (tgt := 137) hx hb dX0_redo_4 (by decide) (fun c1 => ?_) (fun c1 => ?_)
      · rw [nI_ltI (by omega) (by omega)] at c1
        obtain rfl : i = w := by omega
        exact ret S1 _ _ _ _ (⟨hkp, fun k hk => vq_end (hR k hk)⟩) wd dX0_redo_137
      · rw [nI_ltI (by omega) (by omega)] at c1
        refine lv_aload_n hx hb dX0_redo_7 rfl (lv_at hl 0 rfl) ?_
        refine lv_iload_n hx hb dX0_redo_8 rfl (lv_at hl 1 rfl) ?_
        refine lv_iload_n hx hb dX0_redo_9 rfl (lv_at hl 3 rfl) ?_
        refine cx_i (rest := []) E (mX_entry l D h ad d dz S1 O t (i + 1) hO (iT_kp hkp hT) ht (by omega) (by omega)) (cwx_entry E ⟨by decide, by decide⟩) wd hA hl.1 rfl rfl (by decide) dX0_redo_10 ⟨Nat.zero_le _, Nat.zero_le _⟩ (fun r S2 H locs hq wd => ?_)
        obtain ⟨hq3, q, hq4, hq5, hL1⟩ := hq
        subst hq3
        subst hq5
        have k0 := hkp.2 0 (by decide) (by decide)
        have k1 := hkp.2 1 (by decide) (by decide)
        have k2 := hkp.2 2 (by decide) (by decide)
        have k3 := hkp.2 3 (by decide) (by decide)
        have hL : Lg S O t (i + 1) q := Lg_of k0.symm k1.symm k2.symm k3.symm hL1
        refine lv_istore (lv' := [(4, .int (nI q)), (0, .ref h), (1, .int (nI t)), (2, .int (nI w)), (3, .int (nI (i + 1)))]) hx hb dX0_redo_13 hl (by decide) rfl (fun ls hl => ?_)
        have mid : ∀ (S4 : PS) (H : Heap) (locs : List Loc) (ls : Array Slot), kp S S4 → Mid S O t w i q S4 → Wd D A s.heap (wX h ad d dz S4) H locs → lv_has ls 5 [(0, .ref h), (1, .int (nI t)), (2, .int (nI w)), (3, .int (nI (i + 1))), (4, .int (nI q))] → W p l e ptr1 s m args below meth c H locs 0 0 Q (F0 m 86 ls []) := by
          intro S4 H locs ls hk4 hM wd hl
          have k2 := hk4.2 2 (by decide) (by decide)
          have k3 := hk4.2 3 (by decide) (by decide)
          refine gx_keyB E wd (lv_at hl 0 rfl) dX0_redo_86 dX0_redo_87 ?_
          refine lv_iload hx hb dX0_redo_90 (lv_at hl 4 rfl) ?_
          refine x_ld E wd 2 (i := q) (v := S.1 2 q) rfl (by show _ < 186; omega) (by rw [k2]) dX0_redo_92 ?_
          refine lv_if_lt (tgt := 131) hx hb dX0_redo_93 (by decide) (fun c2 => ?_) (fun c2 => ?_)
          · have hB : S.1 2 q = -1 := by
              rcases hL.2.1 with e | ⟨b, hb, e⟩
              · exact e
              · rw [e] at c2; exact absurd c2 (nI_nneg (by omega))
            refine lv_iinc (v := nI (i + 1 + 1)) (lv' := [(3, .int (nI (i + 1 + 1))), (0, .ref h), (1, .int (nI t)), (2, .int (nI w)), (4, .int (nI q))]) hx hb dX0_redo_131 hl (k := 3) rfl (nI_1 _) (by decide) rfl (fun ls hl => ?_)
            refine lv_goto (tgt := 2) hx hb dX0_redo_134 (by decide) ?_
            exact ih (i + 1) S4 _ _ _ (by omega) (by omega) hk4 (end_1 hM hB) wd (lv_sub hl [1, 2, 3, 0] rfl)
          · obtain ⟨b, hb8, hB⟩ : ∃ b : Nat, b < 8 ∧ S.1 2 q = nI b := by
              rcases hL.2.1 with e | e
              · rw [e] at c2; exact absurd m1_neg c2
              · exact e
            obtain ⟨qb, hqb1, hqb2⟩ : ∃ qb : Nat, S4.1 8 b = nI qb ∧ qb ≤ w := by
              rcases hM b hb8 with ⟨_, x, y, z, _⟩ | ⟨x, y, z, _⟩ <;> exact ⟨x, y, z⟩
            refine lv_iload_n hx hb dX0_redo_96 rfl (lv_at hl 3 rfl) ?_
            refine gx_memoryPoint E wd (lv_at hl 0 rfl) dX0_redo_97 dX0_redo_98 ?_
            refine gx_keyB E wd (lv_at hl 0 rfl) dX0_redo_101 dX0_redo_102 ?_
            refine lv_iload hx hb dX0_redo_105 (lv_at hl 4 rfl) ?_
            refine x_ld E wd 2 (i := q) (v := nI b) rfl (by show _ < 186; omega) (by rw [k2]; exact hB) dX0_redo_107 ?_
            refine x_ld E wd 8 (i := b) (v := nI qb) rfl (by show _ < 8; omega) (hqb1) dX0_redo_108 ?_
            refine lv_icmp_le (tgt := 131) hx hb dX0_redo_109 (by decide) (fun c3 => ?_) (fun c3 => ?_)
            · rw [nI_leI (by omega) (by omega)] at c3
              refine lv_iinc (v := nI (i + 1 + 1)) (lv' := [(3, .int (nI (i + 1 + 1))), (0, .ref h), (1, .int (nI t)), (2, .int (nI w)), (4, .int (nI q))]) hx hb dX0_redo_131 hl (k := 3) rfl (nI_1 _) (by decide) rfl (fun ls hl => ?_)
              refine lv_goto (tgt := 2) hx hb dX0_redo_134 (by decide) ?_
              exact ih (i + 1) S4 _ _ _ (by omega) (by omega) hk4 (end_2 hM hb8 hB hqb1 (by omega) c3 (by omega)) wd (lv_sub hl [1, 2, 3, 0] rfl)
            · refine lv_aload_n hx hb dX0_redo_112 rfl (lv_at hl 0 rfl) ?_
              refine gx_keyB E wd (lv_at hl 0 rfl) dX0_redo_113 dX0_redo_114 ?_
              refine lv_iload hx hb dX0_redo_117 (lv_at hl 4 rfl) ?_
              refine x_ld E wd 2 (i := q) (v := nI b) rfl (by show _ < 186; omega) (by rw [k2]; exact hB) dX0_redo_119 ?_
              refine gx_valueB E wd (lv_at hl 0 rfl) dX0_redo_120 dX0_redo_121 ?_
              refine lv_iload hx hb dX0_redo_124 (lv_at hl 4 rfl) ?_
              refine x_ld E wd 3 (i := q) (v := S.1 3 q) rfl (by show _ < 186; omega) (by rw [k3]) dX0_redo_126 ?_
              refine lv_iload_n hx hb dX0_redo_127 rfl (lv_at hl 3 rfl) ?_
              refine cx_v (rest := []) E (mX_apply l D h ad d dz S4 b (S.1 3 q) (nI (i + 1)) hb8) (cwx_apply E ⟨by decide, by decide⟩) wd hA hl.1 rfl rfl (by decide) dX0_redo_128 ⟨Nat.zero_le _, Nat.zero_le _⟩ (fun S5 H locs hq wd => ?_)
              subst hq
              refine lv_iinc (v := nI (i + 1 + 1)) (lv' := [(3, .int (nI (i + 1 + 1))), (0, .ref h), (1, .int (nI t)), (2, .int (nI w)), (4, .int (nI q))]) hx hb dX0_redo_131 hl (k := 3) rfl (nI_1 _) (by decide) rfl (fun ls hl => ?_)
              refine lv_goto (tgt := 2) hx hb dX0_redo_134 (by decide) ?_
              exact ih (i + 1) _ _ _ _ (by omega) (by omega) (ap_kp hk4 _ _ _) (end_3 hL hM hb8 hB (by omega)) wd (lv_sub hl [1, 2, 3, 0] rfl)
        obtain ⟨a, ha8, ea⟩ := hL.1
        obtain ⟨qa, hqa1, hqa2, hqa3, hqa4⟩ := hR a ha8
        refine lv_iload_n hx hb dX0_redo_15 rfl (lv_at hl 4 rfl) ?_
        refine gx_memoryPoint E wd (lv_at hl 1 rfl) dX0_redo_16 dX0_redo_17 ?_
        refine gx_keyA E wd (lv_at hl 1 rfl) dX0_redo_20 dX0_redo_21 ?_
        refine lv_iload hx hb dX0_redo_24 (lv_at hl 0 rfl) ?_
        refine x_ld E wd 0 (i := q) (v := nI a) rfl (by show _ < 186; omega) (by rw [k0]; exact ea) dX0_redo_26 ?_
        refine x_ld E wd 8 (i := a) (v := nI qa) rfl (by show _ < 8; omega) (hqa1) dX0_redo_27 ?_
        refine lv_icmp_le (tgt := 86) hx hb dX0_redo_28 (by decide) (fun c2 => ?_) (fun c2 => ?_)
        · rw [nI_leI (by omega) (by omega)] at c2
          exact mid S1 _ _ _ hkp (mid_1 hL ha8 ea hR hqa1 (by omega) c2 (by omega)) wd (lv_sub hl [1, 2, 3, 4, 0] rfl)
        · refine lv_aload_n hx hb dX0_redo_31 rfl (lv_at hl 1 rfl) ?_
          refine gx_keyA E wd (lv_at hl 1 rfl) dX0_redo_32 dX0_redo_33 ?_
          refine lv_iload hx hb dX0_redo_36 (lv_at hl 0 rfl) ?_
          refine x_ld E wd 0 (i := q) (v := nI a) rfl (by show _ < 186; omega) (by rw [k0]; exact ea) dX0_redo_38 ?_
          refine gx_valueA E wd (lv_at hl 1 rfl) dX0_redo_39 dX0_redo_40 ?_
          refine lv_iload hx hb dX0_redo_43 (lv_at hl 0 rfl) ?_
          refine x_ld E wd 1 (i := q) (v := S.1 1 q) rfl (by show _ < 186; omega) (by rw [k1]) dX0_redo_45 ?_
          refine lv_iload_n hx hb dX0_redo_46 rfl (lv_at hl 4 rfl) ?_
          refine cx_v (rest := []) E (mX_apply l D h ad d dz S1 a (S.1 1 q) (nI (i + 1)) ha8) (cwx_apply E ⟨by decide, by decide⟩) wd hA hl.1 rfl rfl (by decide) dX0_redo_47 ⟨Nat.zero_le _, Nat.zero_le _⟩ (fun S5 H locs hq wd => ?_)
          subst hq
          have hk5 := ap_kp hkp a (S.1 1 q) (nI (i + 1))
          have k0 := hk5.2 0 (by decide) (by decide)
          have k2 := hk5.2 2 (by decide) (by decide)
          have k3 := hk5.2 3 (by decide) (by decide)
          refine gx_keyB E wd (lv_at hl 1 rfl) dX0_redo_50 dX0_redo_51 ?_
          refine lv_iload hx hb dX0_redo_54 (lv_at hl 0 rfl) ?_
          refine x_ld E wd 2 (i := q) (v := S.1 2 q) rfl (by show _ < 186; omega) (by rw [k2]) dX0_redo_56 ?_
          refine gx_keyA E wd (lv_at hl 1 rfl) dX0_redo_57 dX0_redo_58 ?_
          refine lv_iload hx hb dX0_redo_61 (lv_at hl 0 rfl) ?_
          refine x_ld E wd 0 (i := q) (v := nI a) rfl (by show _ < 186; omega) (by rw [k0]; exact ea) dX0_redo_63 ?_
          refine lv_icmp_ne (tgt := 86) hx hb dX0_redo_64 (by decide) (fun c3 => ?_) (fun c3 => ?_)
          · exact mid _ _ _ _ hk5 (mid_2 hL ha8 ea hR c3 (by omega)) wd (lv_sub hl [1, 2, 3, 4, 0] rfl)
          · refine lv_aload_n hx hb dX0_redo_67 rfl (lv_at hl 1 rfl) ?_
            refine gx_keyB E wd (lv_at hl 1 rfl) dX0_redo_68 dX0_redo_69 ?_
            refine lv_iload hx hb dX0_redo_72 (lv_at hl 0 rfl) ?_
            refine x_ld E wd 2 (i := q) (v := nI a) rfl (by show _ < 186; omega) (by rw [k2]; exact c3) dX0_redo_74 ?_
            refine gx_valueB E wd (lv_at hl 1 rfl) dX0_redo_75 dX0_redo_76 ?_
            refine lv_iload hx hb dX0_redo_79 (lv_at hl 0 rfl) ?_
            refine x_ld E wd 3 (i := q) (v := S.1 3 q) rfl (by show _ < 186; omega) (by rw [k3]) dX0_redo_81 ?_
            refine lv_iload_n hx hb dX0_redo_82 rfl (lv_at hl 4 rfl) ?_
            refine cx_v (rest := []) E (mX_apply l D h ad d dz (ap S1 a (S.1 1 q) (nI (i + 1))) a (S.1 3 q) (nI (i + 1)) ha8) (cwx_apply E ⟨by decide, by decide⟩) wd hA hl.1 rfl rfl (by decide) dX0_redo_83 ⟨Nat.zero_le _, Nat.zero_le _⟩ (fun S6 H locs hq wd => ?_)
            subst hq
            exact mid _ _ _ _ (ap_kp hk5 _ _ _) (mid_3 hL ha8 ea hR c3 (by omega)) wd (lv_sub hl [1, 2, 3, 4, 0] rfl)
  refine lv_iconst (v := nI (0 + 1)) hx hb dX0_redo_0 (by decide) ?_
  refine lv_istore_n (lv' := [(3, .int (nI (0 + 1))), (0, .ref h), (1, .int (nI t)), (2, .int (nI w))]) hx hb dX0_redo_1 rfl hl (by decide) rfl (fun ls hl => ?_)
  exact loop2 (w + 1) 0 S _ _ _ (Nat.zero_le _) (by omega) (kp_rf S) (fun k hk => vq_0 (hm k hk)) wd (lv_sub hl [1, 2, 3, 0] rfl)
end
section
/-! POINTINTIME: backups' way, history, flush -/
set_option maxHeartbeats 4000000 in
set_option maxRecDepth 100000 in
/-- onTheWay -/
theorem mX_onTheWay (l : Launch) (D : va_G) (h : Nat) (ad : Nat → Nat) (d dz : ClassId) (S : PS)  (O : MO) (u0 w0 t n0 : Nat) (hO : MI O) (hT : iT S O) (hu0 : u0 < O.2.2) (hw0 : w0 < 2 ^ 31) (ht : t < O.2.2) (hn : n0 ≤ O.2.1 t) : CX l yX0_onTheWay cX0_onTheWay 8 (some .boolean) ptr0 D h ad d dz S [.int (nI u0), .int (nI w0), .int (nI t), .int (nI n0)] (fun r S2 => S = S2 ∧ (r = 0 ∨ r = 1 ∧ w0 ≤ n0 ∧ ∀ n' k : Nat, n' ≤ w0 → k < 8 → vM O t n' k = vM O u0 n' k)) := by
  refine Ct_i (by decide) (Nat.le_of_ble_eq_true rfl) .boolean rfl ?_
  intro p e s m args below meth c A Q E hA w ret ls hl
  have hx := E.1.1
  have hb := E.1.2.1
  have hl : lv_has ls 8 [(0, .ref h), (1, .int (nI u0)), (2, .int (nI w0)), (3, .int (nI t)), (4, .int (nI n0))] := hl
  have h6 := hO.2.1
  have h30 := hO.2.2 t ht
  have ex69 : ∀ (z i : Int32) (lim : Nat) (H : Heap) (locs : List Loc) (ls : Array Slot), lim ≤ n0 → Wy O t z lim → Wd D A s.heap (wX h ad d dz S) H locs → lv_has ls 8 [(0, .ref h), (1, .int (nI u0)), (2, .int (nI w0)), (3, .int (nI t)), (4, .int (nI n0)), (5, .int z), (6, .int (nI lim)), (7, .int i)] → W p l e ptr0 s m args below meth c H locs 0 0 Q (F0 m 69 ls []) := by
    intro z i lim H locs ls hlim hz w hl
    refine lv_iload hx hb dX0_onTheWay_69 (lv_at hl 5 rfl) ?_
    refine lv_iload_n hx hb dX0_onTheWay_71 rfl (lv_at hl 1 rfl) ?_
    refine lv_icmp_ne (tgt := 85) hx hb dX0_onTheWay_72 (by decide) (fun c1 => ?_) (fun c1 => ?_)
    · refine lv_iconst (v := 0) hx hb dX0_onTheWay_85 (by decide) ?_
      exact ret 0 S _ _ _ _ (by first | rfl | decide) (⟨rfl, Or.inl rfl⟩) w dX0_onTheWay_86
    · subst c1
      obtain ⟨u, hu, eu, he⟩ := Wy_of hz (nI_nneg (by omega))
      have hu2 := nI_inj (by omega) (by omega) eu
      subst hu2
      refine lv_iload_n hx hb dX0_onTheWay_75 rfl (lv_at hl 2 rfl) ?_
      refine lv_iload hx hb dX0_onTheWay_76 (lv_at hl 6 rfl) ?_
      refine lv_icmp_gt (tgt := 85) hx hb dX0_onTheWay_78 (by decide) (fun c2 => ?_) (fun c2 => ?_)
      · refine lv_iconst (v := 0) hx hb dX0_onTheWay_85 (by decide) ?_
        exact ret 0 S _ _ _ _ (by first | rfl | decide) (⟨rfl, Or.inl rfl⟩) w dX0_onTheWay_86
      · rw [nI_ltI (by omega) hw0] at c2
        refine lv_iconst (v := 1) hx hb dX0_onTheWay_81 (by decide) ?_
        refine lv_goto (tgt := 86) hx hb dX0_onTheWay_82 (by decide) ?_
        exact ret 1 S _ _ _ _ (by first | rfl | decide) (⟨rfl, Or.inr ⟨rfl, by omega, fun n' k a b => he n' k (by omega) b⟩⟩) w dX0_onTheWay_86
  have loop10 : ∀ (n : Nat) (z : Int32) (lim i : Nat) (H : Heap) (locs : List Loc) (ls : Array Slot), i ≤ 6 → 7 ≤ i + n → lim ≤ n0 → Wy O t z lim → Wd D A s.heap (wX h ad d dz S) H locs → lv_has ls 8 [(0, .ref h), (1, .int (nI u0)), (2, .int (nI w0)), (3, .int (nI t)), (4, .int (nI n0)), (5, .int z), (6, .int (nI lim)), (7, .int (nI i))] → W p l e ptr0 s m args below meth c H locs 0 0 Q (F0 m 10 ls []) := by
    intro n
    induction n with
    | zero =>
      intro z lim i H locs ls h1 h2
      exact absurd h2 (by omega)
    | succ n ih =>
      intro z lim i H locs ls hi hin hlim hz w hl
      refine lv_iload hx hb dX0_onTheWay_10 (lv_at hl 7 rfl) ?_
      refine lv_bipush (v := 6) hx hb dX0_onTheWay_12 (by decide) ?_
      refine lv_icmp_ge (tgt := 69) hx hb dX0_onTheWay_14 (by decide) (fun c1 => ?_) (fun c1 => ?_)
      · exact ex69 z (nI i) lim _ _ _ hlim hz w hl
      · rw [e6, nI_leI (by decide) (by omega)] at c1
        refine lv_iload hx hb dX0_onTheWay_17 (lv_at hl 5 rfl) ?_
        refine lv_iload_n hx hb dX0_onTheWay_19 rfl (lv_at hl 1 rfl) ?_
        refine lv_icmp_eq (tgt := 69) hx hb dX0_onTheWay_20 (by decide) (fun c2 => ?_) (fun c2 => ?_)
        · exact ex69 z (nI i) lim _ _ _ hlim hz w hl
        · refine lv_iload hx hb dX0_onTheWay_23 (lv_at hl 5 rfl) ?_
          refine lv_if_lt (tgt := 69) hx hb dX0_onTheWay_25 (by decide) (fun c3 => ?_) (fun c3 => ?_)
          · exact ex69 z (nI i) lim _ _ _ hlim hz w hl
          · obtain ⟨u, hu, eu, he⟩ := Wy_of hz c3
            subst eu
            obtain ⟨f, hf1, hf2, hf3, hf4⟩ := hT.2.2.2.1 u hu
            have h30u := hO.2.2 u hu
            have tail : ∀ (lim2 : Nat) (H : Heap) (locs : List Loc) (ls : Array Slot), lim2 ≤ lim → lim2 ≤ f → Wd D A s.heap (wX h ad d dz S) H locs → lv_has ls 8 [(0, .ref h), (1, .int (nI u0)), (2, .int (nI w0)), (3, .int (nI t)), (4, .int (nI n0)), (5, .int (nI u)), (6, .int (nI lim)), (7, .int (nI i))] → W p l e ptr0 s m args below meth c H locs 0 0 Q (F0 m 52 ls [.int (nI lim2)]) := by
              intro lim2 H locs ls hl1 hl2 w hl
              refine lv_istore (lv' := [(6, .int (nI lim2)), (0, .ref h), (1, .int (nI u0)), (2, .int (nI w0)), (3, .int (nI t)), (4, .int (nI n0)), (5, .int (nI u)), (7, .int (nI i))]) hx hb dX0_onTheWay_52 hl (by decide) rfl (fun ls hl => ?_)
              rcases hf3 with ⟨hu0, hp⟩ | ⟨q, hq1, hq2, hq3, hq4⟩
              · refine gx_parent E w (lv_at hl 1 rfl) dX0_onTheWay_54 dX0_onTheWay_55 ?_
                refine lv_iload hx hb dX0_onTheWay_58 (lv_at hl 6 rfl) ?_
                refine x_ld E w 4 (i := u) (v := -1) rfl (by show _ < 6; omega) (hp) dX0_onTheWay_60 ?_
                refine lv_istore (lv' := [(5, .int (-1)), (6, .int (nI lim2)), (0, .ref h), (1, .int (nI u0)), (2, .int (nI w0)), (3, .int (nI t)), (4, .int (nI n0)), (7, .int (nI i))]) hx hb dX0_onTheWay_61 hl (by decide) rfl (fun ls hl => ?_)
                refine lv_iinc (v := nI (i + 1)) (lv' := [(7, .int (nI (i + 1))), (5, .int (-1)), (6, .int (nI lim2)), (0, .ref h), (1, .int (nI u0)), (2, .int (nI w0)), (3, .int (nI t)), (4, .int (nI n0))]) hx hb dX0_onTheWay_63 hl (k := 7) rfl (nI_1 i) (by decide) rfl (fun ls hl => ?_)
                refine lv_goto (tgt := 10) hx hb dX0_onTheWay_66 (by decide) ?_
                exact ih (-1) lim2 (i + 1) _ _ _ (by omega) (by omega) (by omega) (Or.inl rfl) w (lv_sub hl [3, 4, 5, 6, 7, 1, 2, 0] rfl)
              · refine gx_parent E w (lv_at hl 1 rfl) dX0_onTheWay_54 dX0_onTheWay_55 ?_
                refine lv_iload hx hb dX0_onTheWay_58 (lv_at hl 6 rfl) ?_
                refine x_ld E w 4 (i := u) (v := nI q) rfl (by show _ < 6; omega) (hq2) dX0_onTheWay_60 ?_
                refine lv_istore (lv' := [(5, .int (nI q)), (6, .int (nI lim2)), (0, .ref h), (1, .int (nI u0)), (2, .int (nI w0)), (3, .int (nI t)), (4, .int (nI n0)), (7, .int (nI i))]) hx hb dX0_onTheWay_61 hl (by decide) rfl (fun ls hl => ?_)
                refine lv_iinc (v := nI (i + 1)) (lv' := [(7, .int (nI (i + 1))), (5, .int (nI q)), (6, .int (nI lim2)), (0, .ref h), (1, .int (nI u0)), (2, .int (nI w0)), (3, .int (nI t)), (4, .int (nI n0))]) hx hb dX0_onTheWay_63 hl (k := 7) rfl (nI_1 i) (by decide) rfl (fun ls hl => ?_)
                refine lv_goto (tgt := 10) hx hb dX0_onTheWay_66 (by decide) ?_
                exact ih (nI q) lim2 (i + 1) _ _ _ (by omega) (by omega) (by omega) (Or.inr ⟨q, by omega, rfl, fun n' k a b => (he n' k (by omega) b).trans (hq4 n' k (by omega) b)⟩) w (lv_sub hl [3, 4, 5, 6, 7, 1, 2, 0] rfl)
            refine gx_fork E w (lv_at hl 0 rfl) dX0_onTheWay_28 dX0_onTheWay_29 ?_
            refine lv_iload hx hb dX0_onTheWay_32 (lv_at hl 5 rfl) ?_
            refine x_ld E w 5 (i := u) (v := nI f) rfl (by show _ < 6; omega) (hf1) dX0_onTheWay_34 ?_
            refine lv_iload hx hb dX0_onTheWay_35 (lv_at hl 6 rfl) ?_
            refine lv_icmp_ge (tgt := 50) hx hb dX0_onTheWay_37 (by decide) (fun c4 => ?_) (fun c4 => ?_)
            · rw [nI_leI (by omega) (by omega)] at c4
              refine lv_iload hx hb dX0_onTheWay_50 (lv_at hl 6 rfl) ?_
              exact tail lim _ _ _ (Nat.le_refl _) c4 w (lv_sub hl [0, 1, 2, 3, 4, 5, 6, 7] rfl)
            · rw [nI_leI (by omega) (by omega)] at c4
              refine gx_fork E w (lv_at hl 0 rfl) dX0_onTheWay_40 dX0_onTheWay_41 ?_
              refine lv_iload hx hb dX0_onTheWay_44 (lv_at hl 5 rfl) ?_
              refine x_ld E w 5 (i := u) (v := nI f) rfl (by show _ < 6; omega) (hf1) dX0_onTheWay_46 ?_
              refine lv_goto (tgt := 52) hx hb dX0_onTheWay_47 (by decide) ?_
              exact tail f _ _ _ (by omega) (Nat.le_refl _) w (lv_sub hl [0, 1, 2, 3, 4, 5, 6, 7] rfl)
  refine lv_iload_n hx hb dX0_onTheWay_0 rfl (lv_at hl 3 rfl) ?_
  refine lv_istore (lv' := [(5, .int (nI t)), (0, .ref h), (1, .int (nI u0)), (2, .int (nI w0)), (3, .int (nI t)), (4, .int (nI n0))]) hx hb dX0_onTheWay_1 hl (by decide) rfl (fun ls hl => ?_)
  refine lv_iload hx hb dX0_onTheWay_3 (lv_at hl 5 rfl) ?_
  refine lv_istore (lv' := [(6, .int (nI n0)), (5, .int (nI t)), (0, .ref h), (1, .int (nI u0)), (2, .int (nI w0)), (3, .int (nI t)), (4, .int (nI n0))]) hx hb dX0_onTheWay_5 hl (by decide) rfl (fun ls hl => ?_)
  refine lv_iconst (v := nI 0) hx hb dX0_onTheWay_7 (by decide) ?_
  refine lv_istore (lv' := [(7, .int (nI 0)), (6, .int (nI n0)), (5, .int (nI t)), (0, .ref h), (1, .int (nI u0)), (2, .int (nI w0)), (3, .int (nI t)), (4, .int (nI n0))]) hx hb dX0_onTheWay_8 hl (by decide) rfl (fun ls hl => ?_)
  exact loop10 7 (nI t) n0 0 _ _ _ (by omega) (by omega) (Nat.le_refl _) (Or.inr ⟨t, ht, rfl, fun _ _ _ _ => rfl⟩) w (lv_sub hl [3, 4, 5, 6, 7, 2, 1, 0] rfl)
set_option maxHeartbeats 4000000 in
set_option maxRecDepth 100000 in
/-- usable -/
theorem mX_usable (l : Launch) (D : va_G) (h : Nat) (ad : Nat → Nat) (d dz : ClassId) (S : PS)  (O : MO) (t n0 : Nat) (hO : MI O) (hT : iT S O) (hF : iF S O) (ht : t < O.2.2) (hn : n0 ≤ O.2.1 t) : CX l yX0_usable cX0_usable 5 (some .int) ptr1 D h ad d dz S [.int (nI t), .int (nI n0)] (fun r S2 => S = S2 ∧ (r = -1 ∨ ∃ b : Nat, b < 4 ∧ r = nI b ∧ Us S O t n0 b)) := by
  refine Ct_i (by decide) (Nat.le_of_ble_eq_true rfl) .int rfl ?_
  intro p e s m args below meth c A Q E hA w ret ls hl
  have hx := E.1.1
  have hb := E.1.2.1
  have hl : lv_has ls 5 [(0, .ref h), (1, .int (nI t)), (2, .int (nI n0))] := hl
  have h6 := hO.2.1
  have h30 := hO.2.2 t ht
  have loop5 : ∀ (n : Nat) (z : Int32) (i : Nat) (H : Heap) (locs : List Loc) (ls : Array Slot), i ≤ 4 → 5 ≤ i + n → (z = -1 ∨ ∃ b : Nat, b < 4 ∧ z = nI b ∧ Us S O t n0 b) → Wd D A s.heap (wX h ad d dz S) H locs → lv_has ls 5 [(0, .ref h), (1, .int (nI t)), (2, .int (nI n0)), (3, .int z), (4, .int (nI i))] → W p l e ptr1 s m args below meth c H locs 0 0 Q (F0 m 5 ls []) := by
    intro n
    induction n with
    | zero =>
      intro z i H locs ls h1 h2
      exact absurd h2 (by omega)
    | succ n ih =>
      intro z i H locs ls hi hin hz w hl
      refine lv_iload hx hb dX0_usable_5 (lv_at hl 4 rfl) ?_
      refine lv_iconst (v := 4) hx hb dX0_usable_7 (by decide) ?_
      refine lv_icmp_ge (tgt := 73) hx hb dX0_usable_8 (by decide) (fun c1 => ?_) (fun c1 => ?_)
      · refine lv_iload_n hx hb dX0_usable_73 rfl (lv_at hl 3 rfl) ?_
        exact ret z S _ _ _ _ (by first | rfl | decide) (⟨rfl, hz⟩) w dX0_usable_74
      · rw [e4, nI_leI (by decide) (by omega)] at c1
        have nxt : ∀ (z : Int32) (H : Heap) (locs : List Loc) (ls : Array Slot), (z = -1 ∨ ∃ b : Nat, b < 4 ∧ z = nI b ∧ Us S O t n0 b) → Wd D A s.heap (wX h ad d dz S) H locs → lv_has ls 5 [(0, .ref h), (1, .int (nI t)), (2, .int (nI n0)), (3, .int z), (4, .int (nI i))] → W p l e ptr1 s m args below meth c H locs 0 0 Q (F0 m 67 ls []) := by
          intro z H locs ls hz w hl
          refine lv_iinc (v := nI (i + 1)) (lv' := [(4, .int (nI (i + 1))), (0, .ref h), (1, .int (nI t)), (2, .int (nI n0)), (3, .int z)]) hx hb dX0_usable_67 hl (k := 4) rfl (nI_1 i) (by decide) rfl (fun ls hl => ?_)
          refine lv_goto (tgt := 5) hx hb dX0_usable_70 (by decide) ?_
          exact ih z (i + 1) _ _ _ (by omega) (by omega) hz w (lv_sub hl [1, 2, 3, 4, 0] rfl)
        refine gx_finished E w (lv_at hl 0 rfl) dX0_usable_11 dX0_usable_12 ?_
        refine lv_iload hx hb dX0_usable_15 (lv_at hl 4 rfl) ?_
        refine x_zld E w (i := i) rfl (by omega) (rfl) dX0_usable_17 ?_
        refine lv_if_eq (tgt := 67) hx hb dX0_usable_18 (by decide) (fun c2 => ?_) (fun c2 => ?_)
        · exact nxt z _ _ _ hz w hl
        · obtain ⟨u, w0, hu, hw0, e12, e14, hv⟩ := hF i (by omega) c2
          have h30u := hO.2.2 u hu
          refine lv_aload_n hx hb dX0_usable_21 rfl (lv_at hl 0 rfl) ?_
          refine gx_backupLine E w (lv_at hl 0 rfl) dX0_usable_22 dX0_usable_23 ?_
          refine lv_iload hx hb dX0_usable_26 (lv_at hl 4 rfl) ?_
          refine x_ld E w 12 (i := i) (v := nI u) rfl (by show _ < 4; omega) (e12) dX0_usable_28 ?_
          refine gx_backupEnd E w (lv_at hl 0 rfl) dX0_usable_29 dX0_usable_30 ?_
          refine lv_iload hx hb dX0_usable_33 (lv_at hl 4 rfl) ?_
          refine x_ld E w 14 (i := i) (v := nI w0) rfl (by show _ < 4; omega) (e14) dX0_usable_35 ?_
          refine lv_iload_n hx hb dX0_usable_36 rfl (lv_at hl 1 rfl) ?_
          refine lv_iload_n hx hb dX0_usable_37 rfl (lv_at hl 2 rfl) ?_
          refine cx_i (rest := []) E (mX_onTheWay l D h ad d dz S O u w0 t n0 hO hT hu (by omega) ht hn) (cwx_onTheWay E ⟨by decide, by decide⟩) w hA hl.1 rfl rfl (by decide) dX0_usable_38 ⟨Nat.zero_le _, Nat.zero_le _⟩ (fun r S2 H locs hq w => ?_)
          obtain ⟨rfl, hq⟩ := hq
          refine lv_if_eq (tgt := 67) hx hb dX0_usable_41 (by decide) (fun c3 => ?_) (fun c3 => ?_)
          · exact nxt z _ _ _ hz w (lv_sub hl [0, 1, 2, 3, 4] rfl)
          · obtain ⟨hq1, hq2⟩ : w0 ≤ n0 ∧ ∀ n' k : Nat, n' ≤ w0 → k < 8 → vM O t n' k = vM O u n' k := by
              rcases hq with q | ⟨_, q⟩
              · exact absurd q c3
              · exact q
            have hUs : Us S O t n0 i := fun k hk => vp_way (hv k hk) hq1 hq2 hk
            have hnew : nI i = -1 ∨ ∃ b : Nat, b < 4 ∧ nI i = nI b ∧ Us S O t n0 b := Or.inr ⟨i, by omega, rfl, hUs⟩
            refine lv_iload_n hx hb dX0_usable_44 rfl (lv_at hl 3 rfl) ?_
            refine lv_if_lt (tgt := 64) hx hb dX0_usable_45 (by decide) (fun c4 => ?_) (fun c4 => ?_)
            · refine lv_iload hx hb dX0_usable_64 (lv_at hl 4 rfl) ?_
              refine lv_istore_n (lv' := [(3, .int (nI i)), (0, .ref h), (1, .int (nI t)), (2, .int (nI n0)), (4, .int (nI i))]) hx hb dX0_usable_66 rfl hl (by decide) rfl (fun ls hl => ?_)
              exact nxt (nI i) _ _ _ hnew w (lv_sub hl [1, 2, 3, 0, 4] rfl)
            · obtain ⟨v, hv4, ev, hvu⟩ : ∃ b : Nat, b < 4 ∧ z = nI b ∧ Us S O t n0 b := by
                rcases hz with q | q
                · rw [q] at c4; exact absurd m1_neg c4
                · exact q
              subst ev
              refine gx_backupEnd E w (lv_at hl 0 rfl) dX0_usable_48 dX0_usable_49 ?_
              refine lv_iload hx hb dX0_usable_52 (lv_at hl 4 rfl) ?_
              refine x_ld E w 14 (i := i) rfl (by show _ < 4; omega) (rfl) dX0_usable_54 ?_
              refine gx_backupEnd E w (lv_at hl 0 rfl) dX0_usable_55 dX0_usable_56 ?_
              refine lv_iload_n hx hb dX0_usable_59 rfl (lv_at hl 3 rfl) ?_
              refine x_ld E w 14 (i := v) rfl (by show _ < 4; omega) (rfl) dX0_usable_60 ?_
              refine lv_icmp_le (tgt := 67) hx hb dX0_usable_61 (by decide) (fun c5 => ?_) (fun c5 => ?_)
              · exact nxt (nI v) _ _ _ hz w (lv_sub hl [0, 1, 2, 3, 4] rfl)
              · refine lv_iload hx hb dX0_usable_64 (lv_at hl 4 rfl) ?_
                refine lv_istore_n (lv' := [(3, .int (nI i)), (0, .ref h), (1, .int (nI t)), (2, .int (nI n0)), (4, .int (nI i))]) hx hb dX0_usable_66 rfl hl (by decide) rfl (fun ls hl => ?_)
                exact nxt (nI i) _ _ _ hnew w (lv_sub hl [1, 2, 3, 0, 4] rfl)
  refine lv_iconst (v := -1) hx hb dX0_usable_0 (by decide) ?_
  refine lv_istore_n (lv' := [(3, .int (-1)), (0, .ref h), (1, .int (nI t)), (2, .int (nI n0))]) hx hb dX0_usable_1 rfl hl (by decide) rfl (fun ls hl => ?_)
  refine lv_iconst (v := nI 0) hx hb dX0_usable_2 (by decide) ?_
  refine lv_istore (lv' := [(4, .int (nI 0)), (3, .int (-1)), (0, .ref h), (1, .int (nI t)), (2, .int (nI n0))]) hx hb dX0_usable_3 hl (by decide) rfl (fun ls hl => ?_)
  exact loop5 5 (-1) 0 _ _ _ (by omega) (by omega) (Or.inl rfl) w (lv_sub hl [2, 3, 4, 1, 0] rfl)
set_option maxHeartbeats 4000000 in
set_option maxRecDepth 100000 in
/-- timeline -/
theorem mX_timeline (l : Launch) (D : va_G) (h : Nat) (ad : Nat → Nat) (d dz : ClassId) (S : PS)  (O : MO) (hI : Inv S O) : CX l yX0_timeline cX0_timeline 1 (some .int) ptr0 D h ad d dz S [] (fun r S2 => r = nI (O.2.2 - 1) ∧ Inv S2 O) := by
  refine Ct_i (by decide) (Nat.le_of_ble_eq_true rfl) .int rfl ?_
  intro p e s m args below meth c A Q E hA w ret ls hl
  have hx := E.1.1
  have hb := E.1.2.1
  have hl : lv_has ls 1 [(0, .ref h)] := hl
  have hO := hI.1
  have hT := hI.2.1
  have hM := hI.2.2.1
  have h6 := hO.2.1
  have h1 := hO.1
  have hln := MI_ln hO
  refine gx_now E w (lv_at hl 0 rfl) dX0_timeline_0 dX0_timeline_1 ?_
  refine top_eq (y := nI (O.2.2 - 1)) (hT.2.1) ?_
  exact ret (nI (O.2.2 - 1)) S _ _ _ _ (by first | rfl | decide) (⟨rfl, hI⟩) w dX0_timeline_4
set_option maxHeartbeats 4000000 in
set_option maxRecDepth 100000 in
/-- point -/
theorem mX_point (l : Launch) (D : va_G) (h : Nat) (ad : Nat → Nat) (d dz : ClassId) (S : PS)  (O : MO) (hI : Inv S O) : CX l yX0_point cX0_point 1 (some .int) ptr0 D h ad d dz S [] (fun r S2 => r = nI (ln O) ∧ Inv S2 O) := by
  refine Ct_i (by decide) (Nat.le_of_ble_eq_true rfl) .int rfl ?_
  intro p e s m args below meth c A Q E hA w ret ls hl
  have hx := E.1.1
  have hb := E.1.2.1
  have hl : lv_has ls 1 [(0, .ref h)] := hl
  have hO := hI.1
  have hT := hI.2.1
  have hM := hI.2.2.1
  have h6 := hO.2.1
  have h1 := hO.1
  have hln := MI_ln hO
  refine gx_end E w (lv_at hl 0 rfl) dX0_point_0 dX0_point_1 ?_
  refine gx_now E w (lv_at hl 0 rfl) dX0_point_4 dX0_point_5 ?_
  refine top_eq (y := nI (O.2.2 - 1)) (hT.2.1) ?_
  refine x_ld E w 6 (i := O.2.2 - 1) (v := nI (ln O)) rfl (by show _ < 6; omega) (iT_end hO hT) dX0_point_8 ?_
  exact ret (nI (ln O)) S _ _ _ _ (by first | rfl | decide) (⟨rfl, hI⟩) w dX0_point_9
set_option maxHeartbeats 4000000 in
set_option maxRecDepth 100000 in
/-- get -/
theorem mX_get (l : Launch) (D : va_G) (h : Nat) (ad : Nat → Nat) (d dz : ClassId) (S : PS) (x : Int32) (O : MO) (hI : Inv S O) : CX l yX0_get cX0_get 2 (some .int) ptr1 D h ad d dz S [.int x] (fun r S2 => r = aGet O x ∧ Inv S2 O) := by
  refine Ct_i (by decide) (Nat.le_of_ble_eq_true rfl) .int rfl ?_
  intro p e s m args below meth c A Q E hA w ret ls hl
  have hx := E.1.1
  have hb := E.1.2.1
  have hl : lv_has ls 2 [(0, .ref h), (1, .int x)] := hl
  have hO := hI.1
  have hT := hI.2.1
  have hM := hI.2.2.1
  have h6 := hO.2.1
  have h1 := hO.1
  have hln := MI_ln hO
  refine lv_aload_n hx hb dX0_get_0 rfl (lv_at hl 0 rfl) ?_
  refine lv_iload_n hx hb dX0_get_1 rfl (lv_at hl 1 rfl) ?_
  refine cx_i (rest := []) E (mX_bad l D h ad d dz S x) (cwx_bad E ⟨by decide, by decide⟩) w hA hl.1 rfl rfl (by decide) dX0_get_2 ⟨Nat.zero_le _, Nat.zero_le _⟩ (fun r S2 H locs hq w => ?_)
  obtain ⟨rfl, hq⟩ := hq
  refine lv_if_eq (tgt := 12) hx hb dX0_get_5 (by decide) (fun c1 => ?_) (fun c1 => ?_)
  · obtain ⟨k, hk, rfl⟩ : ∃ k : Nat, k < 8 ∧ x = nI k := by
      rcases hq with ⟨_, q⟩ | ⟨q, _⟩
      · exact q
      · rw [q] at c1; exact absurd c1 (by decide)
    refine gx_memory E w (lv_at hl 0 rfl) dX0_get_12 dX0_get_13 ?_
    refine lv_iload_n hx hb dX0_get_16 rfl (lv_at hl 1 rfl) ?_
    refine x_ld E w 7 (i := k) (v := O.1 (fr O + k)) rfl (by show _ < 8; omega) (iM_mem hM hk) dX0_get_17 ?_
    exact ret (O.1 (fr O + k)) S _ _ _ _ (by first | rfl | decide) (⟨(aGet_ok hk).symm, hI⟩) w dX0_get_18
  · have hk : ¬ kOk x := by
      rcases hq with ⟨q, _⟩ | ⟨_, q⟩
      · exact absurd q c1
      · exact q
    refine lv_iconst (v := 0) hx hb dX0_get_8 (by decide) ?_
    refine lv_goto (tgt := 18) hx hb dX0_get_9 (by decide) ?_
    exact ret 0 S _ _ _ _ (by first | rfl | decide) (⟨(aGet_bad hk).symm, hI⟩) w dX0_get_18
set_option maxHeartbeats 4000000 in
set_option maxRecDepth 100000 in
/-- lastPoint -/
theorem mX_lastPoint (l : Launch) (D : va_G) (h : Nat) (ad : Nat → Nat) (d dz : ClassId) (S : PS) (x : Int32) (O : MO) (hI : Inv S O) : CX l yX0_lastPoint cX0_lastPoint 2 (some .int) ptr0 D h ad d dz S [.int x] (fun r S2 => r = aLp O x ∧ Inv S2 O) := by
  refine Ct_i (by decide) (Nat.le_of_ble_eq_true rfl) .int rfl ?_
  intro p e s m args below meth c A Q E hA w ret ls hl
  have hx := E.1.1
  have hb := E.1.2.1
  have hl : lv_has ls 2 [(0, .ref h), (1, .int x)] := hl
  have hO := hI.1
  have hT := hI.2.1
  have hM := hI.2.2.1
  have h6 := hO.2.1
  have h1 := hO.1
  have hln := MI_ln hO
  refine lv_iload_n hx hb dX0_lastPoint_0 rfl (lv_at hl 1 rfl) ?_
  refine lv_if_lt (tgt := 12) hx hb dX0_lastPoint_1 (by decide) (fun c1 => ?_) (fun c1 => ?_)
  · refine lv_bipush (v := -4) hx hb dX0_lastPoint_12 (by decide) ?_
    refine lv_goto (tgt := 23) hx hb dX0_lastPoint_14 (by decide) ?_
    exact ret (-4) S _ _ _ _ (by first | rfl | decide) (⟨(aLp_bad (fun q => i32_len q.1 c1)).symm, hI⟩) w dX0_lastPoint_23
  · refine lv_iload_n hx hb dX0_lastPoint_4 rfl (lv_at hl 1 rfl) ?_
    refine gx_timelines E w (lv_at hl 0 rfl) dX0_lastPoint_5 dX0_lastPoint_6 ?_
    refine top_eq (y := nI O.2.2) (hT.1) ?_
    refine lv_icmp_lt (tgt := 17) hx hb dX0_lastPoint_9 (by decide) (fun c2 => ?_) (fun c2 => ?_)
    · obtain ⟨t, ht, rfl⟩ := tl_of h6 c1 (i32_ltn c2)
      refine gx_end E w (lv_at hl 0 rfl) dX0_lastPoint_17 dX0_lastPoint_18 ?_
      refine lv_iload_n hx hb dX0_lastPoint_21 rfl (lv_at hl 1 rfl) ?_
      refine x_ld E w 6 (i := t) (v := nI (O.2.1 t)) rfl (by show _ < 6; omega) (hT.2.2.1 t ht) dX0_lastPoint_22 ?_
      exact ret (nI (O.2.1 t)) S _ _ _ _ (by first | rfl | decide) (⟨(aLp_ok hO ht).symm, hI⟩) w dX0_lastPoint_23
    · refine lv_bipush (v := -4) hx hb dX0_lastPoint_12 (by decide) ?_
      refine lv_goto (tgt := 23) hx hb dX0_lastPoint_14 (by decide) ?_
      exact ret (-4) S _ _ _ _ (by first | rfl | decide) (⟨(aLp_bad (fun q => c2 q.2)).symm, hI⟩) w dX0_lastPoint_23
set_option maxHeartbeats 4000000 in
set_option maxRecDepth 100000 in
/-- valueAt -/
theorem mX_valueAt (l : Launch) (D : va_G) (h : Nat) (ad : Nat → Nat) (d dz : ClassId) (S : PS) (x y z : Int32) (O : MO) (hI : Inv S O) : CX l yX0_valueAt cX0_valueAt 4 (some .int) ptr2 D h ad d dz S [.int x, .int y, .int z] (fun r S2 => r = aVal O x y z ∧ Inv S2 O) := by
  refine Ct_i (by decide) (Nat.le_of_ble_eq_true rfl) .int rfl ?_
  intro p e s m args below meth c A Q E hA w ret ls hl
  have hx := E.1.1
  have hb := E.1.2.1
  have hl : lv_has ls 4 [(0, .ref h), (1, .int x), (2, .int y), (3, .int z)] := hl
  have hO := hI.1
  have hT := hI.2.1
  have hM := hI.2.2.1
  have h6 := hO.2.1
  have h1 := hO.1
  have hln := MI_ln hO
  refine lv_aload_n hx hb dX0_valueAt_0 rfl (lv_at hl 0 rfl) ?_
  refine lv_iload_n hx hb dX0_valueAt_1 rfl (lv_at hl 1 rfl) ?_
  refine lv_iload_n hx hb dX0_valueAt_2 rfl (lv_at hl 2 rfl) ?_
  refine cx_i (rest := []) E (mX_noPoint l D h ad d dz S x y O hO hT) (cwx_noPoint E ⟨by decide, by decide⟩) w hA hl.1 rfl rfl (by decide) dX0_valueAt_3 ⟨Nat.zero_le _, Nat.zero_le _⟩ (fun r S2 H locs hq w => ?_)
  obtain ⟨rfl, hq⟩ := hq
  refine lv_if_ne (tgt := 17) hx hb dX0_valueAt_6 (by decide) (fun c1 => ?_) (fun c1 => ?_)
  · have hp : ¬ pOk O x y := by
      rcases hq with ⟨q, _⟩ | ⟨_, q⟩
      · exact absurd q c1
      · exact q
    refine lv_iconst (v := 0) hx hb dX0_valueAt_17 (by decide) ?_
    exact ret 0 S _ _ _ _ (by first | rfl | decide) (⟨(aVal_bad (fun q => hp q.1)).symm, hI⟩) w dX0_valueAt_18
  · obtain ⟨t, n, ht, hn, rfl, rfl⟩ : ∃ t n : Nat, t < O.2.2 ∧ n ≤ O.2.1 t ∧ x = nI t ∧ y = nI n := by
      rcases hq with ⟨_, q⟩ | ⟨q, _⟩
      · exact q
      · rw [q] at c1; exact absurd c1 (by decide)
    have h30 := hO.2.2 t ht
    refine lv_aload_n hx hb dX0_valueAt_9 rfl (lv_at hl 0 rfl) ?_
    refine lv_iload_n hx hb dX0_valueAt_10 rfl (lv_at hl 3 rfl) ?_
    refine cx_i (rest := []) E (mX_bad l D h ad d dz S z) (cwx_bad E ⟨by decide, by decide⟩) w hA hl.1 rfl rfl (by decide) dX0_valueAt_11 ⟨Nat.zero_le _, Nat.zero_le _⟩ (fun r S2 H locs hq w => ?_)
    obtain ⟨rfl, hq⟩ := hq
    refine lv_if_eq (tgt := 19) hx hb dX0_valueAt_14 (by decide) (fun c2 => ?_) (fun c2 => ?_)
    · obtain ⟨k, hk, rfl⟩ : ∃ k : Nat, k < 8 ∧ z = nI k := by
        rcases hq with ⟨_, q⟩ | ⟨q, _⟩
        · exact q
        · rw [q] at c2; exact absurd c2 (by decide)
      refine lv_aload_n hx hb dX0_valueAt_19 rfl (lv_at hl 0 rfl) ?_
      refine lv_iload_n hx hb dX0_valueAt_20 rfl (lv_at hl 1 rfl) ?_
      refine lv_iload_n hx hb dX0_valueAt_21 rfl (lv_at hl 2 rfl) ?_
      refine lv_iload_n hx hb dX0_valueAt_22 rfl (lv_at hl 3 rfl) ?_
      refine cx_i (rest := []) E (mX_valueThen l D h ad d dz S O t n k hO hT ht hn hk) (cwx_valueThen E ⟨by decide, by decide⟩) w hA hl.1 rfl rfl (by decide) dX0_valueAt_23 ⟨Nat.zero_le _, Nat.zero_le _⟩ (fun r S2 H locs hq w => ?_)
      obtain ⟨hq0, hq1⟩ := hq
      subst hq0
      subst hq1
      exact ret (vM O t n k) S _ _ _ _ (by first | rfl | decide) (⟨(aVal_ok hO ht hn hk).symm, hI⟩) w dX0_valueAt_26
    · have hk : ¬ kOk z := by
        rcases hq with ⟨q, _⟩ | ⟨_, q⟩
        · exact absurd q c2
        · exact q
      refine lv_iconst (v := 0) hx hb dX0_valueAt_17 (by decide) ?_
      exact ret 0 S _ _ _ _ (by first | rfl | decide) (⟨(aVal_bad (fun q => hk q.2)).symm, hI⟩) w dX0_valueAt_18
set_option maxHeartbeats 4000000 in
set_option maxRecDepth 100000 in
/-- lastChange -/
theorem mX_lastChange (l : Launch) (D : va_G) (h : Nat) (ad : Nat → Nat) (d dz : ClassId) (S : PS) (x y z : Int32) (O : MO) (hI : Inv S O) : CX l yX0_lastChange cX0_lastChange 7 (some .int) ptr2 D h ad d dz S [.int x, .int y, .int z] (fun r S2 => r = aLc O x y z ∧ Inv S2 O) := by
  refine Ct_i (by decide) (Nat.le_of_ble_eq_true rfl) .int rfl ?_
  intro p e s m args below meth c A Q E hA w ret ls hl
  have hx := E.1.1
  have hb := E.1.2.1
  have hl : lv_has ls 7 [(0, .ref h), (1, .int x), (2, .int y), (3, .int z)] := hl
  have hO := hI.1
  have hT := hI.2.1
  have hM := hI.2.2.1
  have h6 := hO.2.1
  have h1 := hO.1
  have hln := MI_ln hO
  refine lv_aload_n hx hb dX0_lastChange_0 rfl (lv_at hl 0 rfl) ?_
  refine lv_iload_n hx hb dX0_lastChange_1 rfl (lv_at hl 3 rfl) ?_
  refine cx_i (rest := []) E (mX_bad l D h ad d dz S z) (cwx_bad E ⟨by decide, by decide⟩) w hA hl.1 rfl rfl (by decide) dX0_lastChange_2 ⟨Nat.zero_le _, Nat.zero_le _⟩ (fun r S2 H locs hq w => ?_)
  obtain ⟨rfl, hq⟩ := hq
  refine lv_if_eq (tgt := 10) hx hb dX0_lastChange_5 (by decide) (fun c1 => ?_) (fun c1 => ?_)
  · obtain ⟨k, hk, rfl⟩ : ∃ k : Nat, k < 8 ∧ z = nI k := by
      rcases hq with ⟨_, q⟩ | ⟨q, _⟩
      · exact q
      · rw [q] at c1; exact absurd c1 (by decide)
    refine lv_aload_n hx hb dX0_lastChange_10 rfl (lv_at hl 0 rfl) ?_
    refine lv_iload_n hx hb dX0_lastChange_11 rfl (lv_at hl 1 rfl) ?_
    refine lv_iload_n hx hb dX0_lastChange_12 rfl (lv_at hl 2 rfl) ?_
    refine cx_i (rest := []) E (mX_noPoint l D h ad d dz S x y O hO hT) (cwx_noPoint E ⟨by decide, by decide⟩) w hA hl.1 rfl rfl (by decide) dX0_lastChange_13 ⟨Nat.zero_le _, Nat.zero_le _⟩ (fun r S2 H locs hq w => ?_)
    obtain ⟨rfl, hq⟩ := hq
    refine lv_if_eq (tgt := 22) hx hb dX0_lastChange_16 (by decide) (fun c2 => ?_) (fun c2 => ?_)
    · obtain ⟨t, n, ht, hn, rfl, rfl⟩ : ∃ t n : Nat, t < O.2.2 ∧ n ≤ O.2.1 t ∧ x = nI t ∧ y = nI n := by
        rcases hq with ⟨_, q⟩ | ⟨q, _⟩
        · exact q
        · rw [q] at c2; exact absurd c2 (by decide)
      have h30 := hO.2.2 t ht
      refine lv_aload_n hx hb dX0_lastChange_22 rfl (lv_at hl 0 rfl) ?_
      refine lv_iload_n hx hb dX0_lastChange_23 rfl (lv_at hl 1 rfl) ?_
      refine lv_iload_n hx hb dX0_lastChange_24 rfl (lv_at hl 2 rfl) ?_
      refine lv_iload_n hx hb dX0_lastChange_25 rfl (lv_at hl 3 rfl) ?_
      refine cx_i (rest := []) E (mX_valueThen l D h ad d dz S O t n k hO hT ht hn hk) (cwx_valueThen E ⟨by decide, by decide⟩) w hA hl.1 rfl rfl (by decide) dX0_lastChange_26 ⟨Nat.zero_le _, Nat.zero_le _⟩ (fun r S2 H locs hq w => ?_)
      obtain ⟨hq0, hq1⟩ := hq
      subst hq0
      subst hq1
      refine lv_istore (lv' := [(4, .int (vM O t n k)), (0, .ref h), (1, .int (nI t)), (2, .int (nI n)), (3, .int (nI k))]) hx hb dX0_lastChange_29 hl (by decide) rfl (fun ls hl => ?_)
      refine lv_iload_n hx hb dX0_lastChange_31 rfl (lv_at hl 3 rfl) ?_
      refine lv_istore (lv' := [(5, .int (nI n)), (4, .int (vM O t n k)), (0, .ref h), (1, .int (nI t)), (2, .int (nI n)), (3, .int (nI k))]) hx hb dX0_lastChange_32 hl (by decide) rfl (fun ls hl => ?_)
      have loop34 : ∀ (q : Nat) (H : Heap) (locs : List Loc) (ls : Array Slot), q ≤ n → vM O t q k = vM O t n k → lastC O t k n = lastC O t k q → Wd D A s.heap (wX h ad d dz S) H locs → lv_has ls 7 [(0, .ref h), (1, .int (nI t)), (2, .int (nI n)), (3, .int (nI k)), (4, .int (vM O t n k)), (5, .int (nI q))] → W p l e ptr2 s m args below meth c H locs 0 0 Q (F0 m 34 ls []) := by
        intro q
        induction q with
        | zero =>
          intro H locs ls hq hv hc w hl
          have hl : lv_has ls 7 [(0, .ref h), (1, .int (nI t)), (2, .int (nI n)), (3, .int (nI k)), (4, .int (vM O t n k)), (5, .int (nI 0))] := hl
          refine lv_iload hx hb dX0_lastChange_34 (lv_at hl 5 rfl) ?_
          refine lv_if_le (tgt := 67) hx hb dX0_lastChange_36 (by decide) (fun c3 => ?_) (fun c3 => ?_)
          · refine lv_iconst (v := 0) hx hb dX0_lastChange_67 (by decide) ?_
            exact ret 0 S _ _ _ _ (by first | rfl | decide) (⟨by rw [aLc_ok hO ht hn hk, hc]; rfl, hI⟩) w dX0_lastChange_68
          · exact absurd (by decide) c3
        | succ q ih =>
          intro H locs ls hq hv hc w hl
          have hl : lv_has ls 7 [(0, .ref h), (1, .int (nI t)), (2, .int (nI n)), (3, .int (nI k)), (4, .int (vM O t n k)), (5, .int (nI (q + 1)))] := hl
          refine lv_iload hx hb dX0_lastChange_34 (lv_at hl 5 rfl) ?_
          refine lv_if_le (tgt := 67) hx hb dX0_lastChange_36 (by decide) (fun c3 => ?_) (fun c3 => ?_)
          · exact absurd c3 (nI_nle (by omega) (by omega))
          · refine lv_aload_n hx hb dX0_lastChange_39 rfl (lv_at hl 0 rfl) ?_
            refine lv_iload_n hx hb dX0_lastChange_40 rfl (lv_at hl 1 rfl) ?_
            refine lv_iload hx hb dX0_lastChange_41 (lv_at hl 5 rfl) ?_
            refine lv_iconst (v := 1) hx hb dX0_lastChange_43 (by decide) ?_
            refine lv_isub hx hb dX0_lastChange_44 ?_
            refine top_eq (y := nI q) (nI_pred q) ?_
            refine lv_iload_n hx hb dX0_lastChange_45 rfl (lv_at hl 3 rfl) ?_
            refine cx_i (rest := []) E (mX_valueThen l D h ad d dz S O t q k hO hT ht (by omega) hk) (cwx_valueThen E ⟨by decide, by decide⟩) w hA hl.1 rfl rfl (by decide) dX0_lastChange_46 ⟨Nat.zero_le _, Nat.zero_le _⟩ (fun r S2 H locs hq2 w => ?_)
            obtain ⟨hq0, hq1⟩ := hq2
            subst hq0
            subst hq1
            refine lv_istore (lv' := [(6, .int (vM O t q k)), (0, .ref h), (1, .int (nI t)), (2, .int (nI n)), (3, .int (nI k)), (4, .int (vM O t n k)), (5, .int (nI (q + 1)))]) hx hb dX0_lastChange_49 hl (by decide) rfl (fun ls hl => ?_)
            refine lv_iload hx hb dX0_lastChange_51 (lv_at hl 0 rfl) ?_
            refine lv_iload hx hb dX0_lastChange_53 (lv_at hl 5 rfl) ?_
            refine lv_icmp_eq (tgt := 61) hx hb dX0_lastChange_55 (by decide) (fun c4 => ?_) (fun c4 => ?_)
            · refine lv_iinc (v := nI q) (lv' := [(5, .int (nI q)), (6, .int (vM O t q k)), (0, .ref h), (1, .int (nI t)), (2, .int (nI n)), (3, .int (nI k)), (4, .int (vM O t n k))]) hx hb dX0_lastChange_61 hl (k := 6) rfl (pk_m1 q) (by decide) rfl (fun ls hl => ?_)
              refine lv_goto (tgt := 34) hx hb dX0_lastChange_64 (by decide) ?_
              exact ih _ _ _ (by omega) c4 (by rw [hc]; exact lastC_step hv c4) w (lv_sub hl [2, 3, 4, 5, 6, 0] rfl)
            · refine lv_iload hx hb dX0_lastChange_58 (lv_at hl 6 rfl) ?_
              exact ret (nI (q + 1)) S _ _ _ _ (by first | rfl | decide) (⟨by rw [aLc_ok hO ht hn hk, hc]; exact congrArg nI (lastC_hit hv c4).symm, hI⟩) w dX0_lastChange_60
      exact loop34 n _ _ _ (Nat.le_refl n) rfl rfl w (lv_sub hl [2, 3, 4, 5, 1, 0] rfl)
    · have hp : ¬ pOk O x y := by
        rcases hq with ⟨q, _⟩ | ⟨_, q⟩
        · exact absurd q c2
        · exact q
      refine lv_bipush (v := -4) hx hb dX0_lastChange_19 (by decide) ?_
      exact ret (-4) S _ _ _ _ (by first | rfl | decide) (⟨(aLc_none hk hp).symm, hI⟩) w dX0_lastChange_21
  · have hk : ¬ kOk z := by
      rcases hq with ⟨q, _⟩ | ⟨_, q⟩
      · exact absurd q c1
      · exact q
    refine lv_iconst (v := -1) hx hb dX0_lastChange_8 (by decide) ?_
    exact ret (-1) S _ _ _ _ (by first | rfl | decide) (⟨(aLc_bad hk).symm, hI⟩) w dX0_lastChange_9
set_option maxHeartbeats 4000000 in
set_option maxRecDepth 100000 in
/-- differs -/
theorem mX_differs (l : Launch) (D : va_G) (h : Nat) (ad : Nat → Nat) (d dz : ClassId) (S : PS) (x y : Int32) (O : MO) (hI : Inv S O) : CX l yX0_differs cX0_differs 6 (some .int) ptr2 D h ad d dz S [.int x, .int y] (fun r S2 => r = aDf O x y ∧ Inv S2 O) := by
  refine Ct_i (by decide) (Nat.le_of_ble_eq_true rfl) .int rfl ?_
  intro p e s m args below meth c A Q E hA w ret ls hl
  have hx := E.1.1
  have hb := E.1.2.1
  have hl : lv_has ls 6 [(0, .ref h), (1, .int x), (2, .int y)] := hl
  have hO := hI.1
  have hT := hI.2.1
  have hM := hI.2.2.1
  have h6 := hO.2.1
  have h1 := hO.1
  have hln := MI_ln hO
  refine lv_aload_n hx hb dX0_differs_0 rfl (lv_at hl 0 rfl) ?_
  refine lv_iload_n hx hb dX0_differs_1 rfl (lv_at hl 1 rfl) ?_
  refine lv_iload_n hx hb dX0_differs_2 rfl (lv_at hl 2 rfl) ?_
  refine cx_i (rest := []) E (mX_noPoint l D h ad d dz S x y O hO hT) (cwx_noPoint E ⟨by decide, by decide⟩) w hA hl.1 rfl rfl (by decide) dX0_differs_3 ⟨Nat.zero_le _, Nat.zero_le _⟩ (fun r S2 H locs hq w => ?_)
  obtain ⟨rfl, hq⟩ := hq
  refine lv_if_eq (tgt := 12) hx hb dX0_differs_6 (by decide) (fun c1 => ?_) (fun c1 => ?_)
  · obtain ⟨t, n0, ht, hn, rfl, rfl⟩ : ∃ t n : Nat, t < O.2.2 ∧ n ≤ O.2.1 t ∧ x = nI t ∧ y = nI n := by
      rcases hq with ⟨_, q⟩ | ⟨q, _⟩
      · exact q
      · rw [q] at c1; exact absurd c1 (by decide)
    have h30 := hO.2.2 t ht
    refine lv_iconst (v := nI 0) hx hb dX0_differs_12 (by decide) ?_
    refine lv_istore_n (lv' := [(3, .int (nI 0)), (0, .ref h), (1, .int (nI t)), (2, .int (nI n0))]) hx hb dX0_differs_13 rfl hl (by decide) rfl (fun ls hl => ?_)
    refine lv_iconst (v := nI 0) hx hb dX0_differs_14 (by decide) ?_
    refine lv_istore (lv' := [(4, .int (nI 0)), (3, .int (nI 0)), (0, .ref h), (1, .int (nI t)), (2, .int (nI n0))]) hx hb dX0_differs_15 hl (by decide) rfl (fun ls hl => ?_)
    have loop17 : ∀ (n : Nat) (i : Nat) (H : Heap) (locs : List Loc) (ls : Array Slot), i ≤ 8 → 9 ≤ i + n → Wd D A s.heap (wX h ad d dz S) H locs → lv_has ls 6 [(0, .ref h), (1, .int (nI t)), (2, .int (nI n0)), (3, .int (nI (dfC O t n0 i))), (4, .int (nI i))] → W p l e ptr2 s m args below meth c H locs 0 0 Q (F0 m 17 ls []) := by
      intro n
      induction n with
      | zero =>
        intro i H locs ls h1 h2
        exact absurd h2 (by omega)
      | succ n ih =>
        intro i H locs ls hi hin w hl
        refine lv_iload hx hb dX0_differs_17 (lv_at hl 4 rfl) ?_
        refine lv_bipush (v := 8) hx hb dX0_differs_19 (by decide) ?_
        refine lv_icmp_ge (tgt := 55) hx hb dX0_differs_21 (by decide) (fun c3 => ?_) (fun c3 => ?_)
        · rw [e8, nI_leI (by decide) (by omega)] at c3
          obtain rfl : i = 8 := by omega
          refine lv_iload_n hx hb dX0_differs_55 rfl (lv_at hl 3 rfl) ?_
          exact ret _ S _ _ _ _ (by first | rfl | decide) (⟨(aDf_ok hO ht hn).symm, hI⟩) w dX0_differs_56
        · rw [e8, nI_leI (by decide) (by omega)] at c3
          refine lv_aload_n hx hb dX0_differs_24 rfl (lv_at hl 0 rfl) ?_
          refine lv_iload_n hx hb dX0_differs_25 rfl (lv_at hl 1 rfl) ?_
          refine lv_iload_n hx hb dX0_differs_26 rfl (lv_at hl 2 rfl) ?_
          refine lv_iload hx hb dX0_differs_27 (lv_at hl 4 rfl) ?_
          refine cx_i (rest := []) E (mX_valueThen l D h ad d dz S O t n0 i hO hT ht hn (by omega)) (cwx_valueThen E ⟨by decide, by decide⟩) w hA hl.1 rfl rfl (by decide) dX0_differs_29 ⟨Nat.zero_le _, Nat.zero_le _⟩ (fun r S2 H locs hq2 w => ?_)
          obtain ⟨hq0, hq1⟩ := hq2
          subst hq0
          subst hq1
          refine lv_istore (lv' := [(5, .int (vM O t n0 i)), (0, .ref h), (1, .int (nI t)), (2, .int (nI n0)), (3, .int (nI (dfC O t n0 i))), (4, .int (nI i))]) hx hb dX0_differs_32 hl (by decide) rfl (fun ls hl => ?_)
          refine lv_iload hx hb dX0_differs_34 (lv_at hl 0 rfl) ?_
          refine gx_memory E w (lv_at hl 1 rfl) dX0_differs_36 dX0_differs_37 ?_
          refine lv_iload hx hb dX0_differs_40 (lv_at hl 5 rfl) ?_
          refine x_ld E w 7 (i := i) (v := O.1 (fr O + i)) rfl (by show _ < 8; omega) (iM_mem hM (by omega)) dX0_differs_42 ?_
          refine lv_icmp_eq (tgt := 49) hx hb dX0_differs_43 (by decide) (fun c4 => ?_) (fun c4 => ?_)
          · refine lv_iinc (v := nI (i + 1)) (lv' := [(4, .int (nI (i + 1))), (5, .int (vM O t n0 i)), (0, .ref h), (1, .int (nI t)), (2, .int (nI n0)), (3, .int (nI (dfC O t n0 i)))]) hx hb dX0_differs_49 hl (k := 5) rfl (nI_1 i) (by decide) rfl (fun ls hl => ?_)
            refine lv_goto (tgt := 17) hx hb dX0_differs_52 (by decide) ?_
            exact ih (i + 1) _ _ _ (by omega) (by omega) w (by rw [dfC_eq c4]; exact lv_sub hl [2, 3, 4, 5, 0] rfl)
          · refine lv_iinc (v := nI (dfC O t n0 (i + 1))) (lv' := [(3, .int (nI (dfC O t n0 (i + 1)))), (5, .int (vM O t n0 i)), (0, .ref h), (1, .int (nI t)), (2, .int (nI n0)), (4, .int (nI i))]) hx hb dX0_differs_46 hl (k := 4) rfl ((nI_1 _).trans (congrArg nI (if_neg c4).symm)) (by decide) rfl (fun ls hl => ?_)
            refine lv_iinc (v := nI (i + 1)) (lv' := [(4, .int (nI (i + 1))), (3, .int (nI (dfC O t n0 (i + 1)))), (5, .int (vM O t n0 i)), (0, .ref h), (1, .int (nI t)), (2, .int (nI n0))]) hx hb dX0_differs_49 hl (k := 5) rfl (nI_1 i) (by decide) rfl (fun ls hl => ?_)
            refine lv_goto (tgt := 17) hx hb dX0_differs_52 (by decide) ?_
            exact ih (i + 1) _ _ _ (by omega) (by omega) w (lv_sub hl [3, 4, 5, 1, 0] rfl)
    exact loop17 9 0 _ _ _ (by omega) (by omega) w (lv_sub hl [2, 3, 4, 1, 0] rfl)
  · have hp : ¬ pOk O x y := by
      rcases hq with ⟨q, _⟩ | ⟨_, q⟩
      · exact absurd q c1
      · exact q
    refine lv_bipush (v := -4) hx hb dX0_differs_9 (by decide) ?_
    exact ret (-4) S _ _ _ _ (by first | rfl | decide) (⟨(aDf_bad hp).symm, hI⟩) w dX0_differs_11
set_option maxHeartbeats 4000000 in
set_option maxRecDepth 100000 in
/-- digest -/
theorem mX_digest (l : Launch) (D : va_G) (h : Nat) (ad : Nat → Nat) (d dz : ClassId) (S : PS)  (O : MO) (hI : Inv S O) : CX l yX0_digest cX0_digest 3 (some .int) ptr0 D h ad d dz S [] (fun r S2 => r = dgC O 8 ∧ Inv S2 O) := by
  refine Ct_i (by decide) (Nat.le_of_ble_eq_true rfl) .int rfl ?_
  intro p e s m args below meth c A Q E hA w ret ls hl
  have hx := E.1.1
  have hb := E.1.2.1
  have hl : lv_has ls 3 [(0, .ref h)] := hl
  have hO := hI.1
  have hT := hI.2.1
  have hM := hI.2.2.1
  have h6 := hO.2.1
  have h1 := hO.1
  have hln := MI_ln hO
  refine lv_iconst (v := 0) hx hb dX0_digest_0 (by decide) ?_
  refine lv_istore_n (lv' := [(1, .int 0), (0, .ref h)]) hx hb dX0_digest_1 rfl hl (by decide) rfl (fun ls hl => ?_)
  refine lv_iconst (v := nI 0) hx hb dX0_digest_2 (by decide) ?_
  refine lv_istore_n (lv' := [(2, .int (nI 0)), (1, .int 0), (0, .ref h)]) hx hb dX0_digest_3 rfl hl (by decide) rfl (fun ls hl => ?_)
  have loop4 : ∀ (n : Nat) (i : Nat) (H : Heap) (locs : List Loc) (ls : Array Slot), i ≤ 8 → 9 ≤ i + n → Wd D A s.heap (wX h ad d dz S) H locs → lv_has ls 3 [(0, .ref h), (1, .int (dgC O i)), (2, .int (nI i))] → W p l e ptr0 s m args below meth c H locs 0 0 Q (F0 m 4 ls []) := by
    intro n
    induction n with
    | zero =>
      intro i H locs ls h1 h2
      exact absurd h2 (by omega)
    | succ n ih =>
      intro i H locs ls hi hin w hl
      refine lv_iload_n hx hb dX0_digest_4 rfl (lv_at hl 2 rfl) ?_
      refine lv_bipush (v := 8) hx hb dX0_digest_5 (by decide) ?_
      refine lv_icmp_ge (tgt := 29) hx hb dX0_digest_7 (by decide) (fun c3 => ?_) (fun c3 => ?_)
      · rw [e8, nI_leI (by decide) (by omega)] at c3
        obtain rfl : i = 8 := by omega
        refine lv_iload_n hx hb dX0_digest_29 rfl (lv_at hl 1 rfl) ?_
        exact ret _ S _ _ _ _ (by first | rfl | decide) (⟨rfl, hI⟩) w dX0_digest_30
      · rw [e8, nI_leI (by decide) (by omega)] at c3
        refine lv_iload_n hx hb dX0_digest_10 rfl (lv_at hl 1 rfl) ?_
        refine lv_iload_n hx hb dX0_digest_11 rfl (lv_at hl 2 rfl) ?_
        refine lv_iconst (v := 1) hx hb dX0_digest_12 (by decide) ?_
        refine lv_iadd hx hb dX0_digest_13 ?_
        refine gx_memory E w (lv_at hl 0 rfl) dX0_digest_14 dX0_digest_15 ?_
        refine lv_iload_n hx hb dX0_digest_18 rfl (lv_at hl 2 rfl) ?_
        refine x_ld E w 7 (i := i) (v := O.1 (fr O + i)) rfl (by show _ < 8; omega) (iM_mem hM (by omega)) dX0_digest_19 ?_
        refine lv_imul hx hb dX0_digest_20 ?_
        refine lv_iadd hx hb dX0_digest_21 ?_
        refine top_eq (y := dgC O (i + 1)) (rfl) ?_
        refine lv_istore_n (lv' := [(1, .int (dgC O (i + 1))), (0, .ref h), (2, .int (nI i))]) hx hb dX0_digest_22 rfl hl (by decide) rfl (fun ls hl => ?_)
        refine lv_iinc (v := nI (i + 1)) (lv' := [(2, .int (nI (i + 1))), (1, .int (dgC O (i + 1))), (0, .ref h)]) hx hb dX0_digest_23 hl (k := 2) rfl (nI_1 i) (by decide) rfl (fun ls hl => ?_)
        refine lv_goto (tgt := 4) hx hb dX0_digest_26 (by decide) ?_
        exact ih (i + 1) _ _ _ (by omega) (by omega) w (lv_sub hl [2, 1, 0] rfl)
  exact loop4 9 0 _ _ _ (by omega) (by omega) w (lv_sub hl [2, 1, 0] rfl)
set_option maxHeartbeats 4000000 in
set_option maxRecDepth 100000 in
/-- writeOut -/
theorem mX_writeOut (l : Launch) (D : va_G) (h : Nat) (ad : Nat → Nat) (d dz : ClassId) (S : PS) (x : Int32) (O : MO) (hM : iM S O) (hD : iD S O) : CX l yX0_writeOut cX0_writeOut 4 (some .int) ptr0 D h ad d dz S [.int x] (fun _ S2 => kd S S2 ∧ iD S2 O) := by
  refine Ct_i (by decide) (Nat.le_of_ble_eq_true rfl) .int rfl ?_
  intro p e s m args below meth c A Q E hA w ret ls hl
  have hx := E.1.1
  have hb := E.1.2.1
  have hl : lv_has ls 4 [(0, .ref h), (1, .int x)] := hl
  refine lv_iload_n hx hb dX0_writeOut_0 rfl (lv_at hl 1 rfl) ?_
  refine lv_istore_n (lv' := [(2, .int x), (0, .ref h), (1, .int x)]) hx hb dX0_writeOut_1 rfl hl (by decide) rfl (fun ls hl => ?_)
  refine lv_iconst (v := nI 0) hx hb dX0_writeOut_2 (by decide) ?_
  refine lv_istore_n (lv' := [(3, .int (nI 0)), (2, .int x), (0, .ref h), (1, .int x)]) hx hb dX0_writeOut_3 rfl hl (by decide) rfl (fun ls hl => ?_)
  have loop4 : ∀ (n : Nat) (z : Int32) (i : Nat) (S1 : PS) (H : Heap) (locs : List Loc) (ls : Array Slot), i ≤ 8 → 9 ≤ i + n → kd S S1 → iD S1 O → Wd D A s.heap (wX h ad d dz S1) H locs → lv_has ls 4 [(0, .ref h), (1, .int x), (2, .int z), (3, .int (nI i))] → W p l e ptr0 s m args below meth c H locs 0 0 Q (F0 m 4 ls []) := by
    intro n
    induction n with
    | zero =>
      intro z i S1 H locs ls h1 h2
      exact absurd h2 (by omega)
    | succ n ih =>
      intro z i S1 H locs ls hi hin hk hd w hl
      refine lv_iload_n hx hb dX0_writeOut_4 rfl (lv_at hl 3 rfl) ?_
      refine lv_bipush (v := 8) hx hb dX0_writeOut_5 (by decide) ?_
      refine lv_icmp_ge (tgt := 62) hx hb dX0_writeOut_7 (by decide) (fun c1 => ?_) (fun c1 => ?_)
      · refine lv_iload_n hx hb dX0_writeOut_62 rfl (lv_at hl 2 rfl) ?_
        exact ret z S1 _ _ _ _ (by first | rfl | decide) (⟨hk, hd⟩) w dX0_writeOut_63
      · rw [e8, nI_leI (by decide) (by omega)] at c1
        refine lv_iload_n hx hb dX0_writeOut_10 rfl (lv_at hl 2 rfl) ?_
        refine lv_if_le (tgt := 62) hx hb dX0_writeOut_11 (by decide) (fun c2 => ?_) (fun c2 => ?_)
        · refine lv_iload_n hx hb dX0_writeOut_62 rfl (lv_at hl 2 rfl) ?_
          exact ret z S1 _ _ _ _ (by first | rfl | decide) (⟨hk, hd⟩) w dX0_writeOut_63
        · have k7 := hk.2 7 (by decide) (by decide)
          have k8 := hk.2 8 (by decide) (by decide)
          refine gx_memoryPoint E w (lv_at hl 0 rfl) dX0_writeOut_14 dX0_writeOut_15 ?_
          refine lv_iload_n hx hb dX0_writeOut_18 rfl (lv_at hl 3 rfl) ?_
          refine x_ld E w 8 (i := i) rfl (by show _ < 8; omega) (rfl) dX0_writeOut_19 ?_
          refine gx_diskPoint E w (lv_at hl 0 rfl) dX0_writeOut_20 dX0_writeOut_21 ?_
          refine lv_iload_n hx hb dX0_writeOut_24 rfl (lv_at hl 3 rfl) ?_
          refine x_ld E w 10 (i := i) rfl (by show _ < 8; omega) (rfl) dX0_writeOut_25 ?_
          refine lv_icmp_le (tgt := 56) hx hb dX0_writeOut_26 (by decide) (fun c3 => ?_) (fun c3 => ?_)
          · refine lv_iinc (v := nI (i + 1)) (lv' := [(3, .int (nI (i + 1))), (0, .ref h), (1, .int x), (2, .int z)]) hx hb dX0_writeOut_56 hl (k := 3) rfl (nI_1 i) (by decide) rfl (fun ls hl => ?_)
            refine lv_goto (tgt := 4) hx hb dX0_writeOut_59 (by decide) ?_
            exact ih z (i + 1) S1 _ _ _ (by omega) (by omega) hk hd w (lv_sub hl [1, 2, 3, 0] rfl)
          · refine gx_disk E w (lv_at hl 0 rfl) dX0_writeOut_29 dX0_writeOut_30 ?_
            refine lv_iload_n hx hb dX0_writeOut_33 rfl (lv_at hl 3 rfl) ?_
            refine gx_memory E w (lv_at hl 0 rfl) dX0_writeOut_34 dX0_writeOut_35 ?_
            refine lv_iload_n hx hb dX0_writeOut_38 rfl (lv_at hl 3 rfl) ?_
            refine x_ld E w 7 (i := i) (v := S.1 7 i) rfl (by show _ < 8; omega) (by rw [k7]) dX0_writeOut_39 ?_
            obtain ⟨S2, eS2⟩ : ∃ z_ : PS, z_ = sa S1 9 (upd (S1.1 9) i (S.1 7 i)) := ⟨_, rfl⟩
            refine x_st E w 9 (i := i) rfl (by show _ < 8; omega) eS2.symm dX0_writeOut_40 (fun H locs w => ?_)
            refine gx_diskPoint E w (lv_at hl 0 rfl) dX0_writeOut_41 dX0_writeOut_42 ?_
            refine lv_iload_n hx hb dX0_writeOut_45 rfl (lv_at hl 3 rfl) ?_
            refine gx_memoryPoint E w (lv_at hl 0 rfl) dX0_writeOut_46 dX0_writeOut_47 ?_
            refine lv_iload_n hx hb dX0_writeOut_50 rfl (lv_at hl 3 rfl) ?_
            refine x_ld E w 8 (i := i) (v := S.1 8 i) rfl (by show _ < 8; omega) (by rw [eS2]; show S1.1 8 i = _; rw [k8]) dX0_writeOut_51 ?_
            obtain ⟨S3, eS3⟩ : ∃ z_ : PS, z_ = sa S2 10 (upd (S2.1 10) i (S.1 8 i)) := ⟨_, rfl⟩
            refine x_st E w 10 (i := i) rfl (by show _ < 8; omega) eS3.symm dX0_writeOut_52 (fun H locs w => ?_)
            refine lv_iinc (v := z + Int32.ofInt (-1)) (lv' := [(2, .int (z + Int32.ofInt (-1))), (0, .ref h), (1, .int x), (3, .int (nI i))]) hx hb dX0_writeOut_53 hl (k := 2) rfl (rfl) (by decide) rfl (fun ls hl => ?_)
            refine lv_iinc (v := nI (i + 1)) (lv' := [(3, .int (nI (i + 1))), (2, .int (z + Int32.ofInt (-1))), (0, .ref h), (1, .int x)]) hx hb dX0_writeOut_56 hl (k := 3) rfl (nI_1 i) (by decide) rfl (fun ls hl => ?_)
            refine lv_goto (tgt := 4) hx hb dX0_writeOut_59 (by decide) ?_
            exact ih _ (i + 1) S3 _ _ _ (by omega) (by omega) (by rw [eS3, eS2]; exact kd_sa10 (kd_sa9 hk _) _) (wo_step hM (by omega) hd eS2 eS3) w (lv_sub hl [2, 3, 1, 0] rfl)
  exact loop4 9 x 0 S _ _ _ (by omega) (by omega) (kd_rf S) hD w (lv_sub hl [2, 3, 1, 0] rfl)
set_option maxHeartbeats 4000000 in
set_option maxRecDepth 100000 in
/-- flush -/
theorem mX_flush (l : Launch) (D : va_G) (h : Nat) (ad : Nat → Nat) (d dz : ClassId) (S : PS) (x : Int32) (O : MO) (hI : Inv S O) : CX l yX0_flush cX0_flush 2 (some .int) ptr1 D h ad d dz S [.int x] (fun r S2 => r = aMany x ∧ Inv S2 O) := by
  refine Ct_i (by decide) (Nat.le_of_ble_eq_true rfl) .int rfl ?_
  intro p e s m args below meth c A Q E hA w ret ls hl
  have hx := E.1.1
  have hb := E.1.2.1
  have hl : lv_has ls 2 [(0, .ref h), (1, .int x)] := hl
  have hO := hI.1
  have hT := hI.2.1
  have hM := hI.2.2.1
  have h6 := hO.2.1
  have h1 := hO.1
  have hln := MI_ln hO
  refine lv_iload_n hx hb dX0_flush_0 rfl (lv_at hl 1 rfl) ?_
  refine lv_if_lt (tgt := 10) hx hb dX0_flush_1 (by decide) (fun c1 => ?_) (fun c1 => ?_)
  · refine lv_iconst (v := -1) hx hb dX0_flush_10 (by decide) ?_
    exact ret (-1) S _ _ _ _ (by first | rfl | decide) (⟨(aMany_bad (fun q => i32_len q.1 c1)).symm, hI⟩) w dX0_flush_11
  · refine lv_iload_n hx hb dX0_flush_4 rfl (lv_at hl 1 rfl) ?_
    refine lv_bipush (v := 8) hx hb dX0_flush_5 (by decide) ?_
    refine lv_icmp_le (tgt := 12) hx hb dX0_flush_7 (by decide) (fun c2 => ?_) (fun c2 => ?_)
    · refine lv_aload_n hx hb dX0_flush_12 rfl (lv_at hl 0 rfl) ?_
      refine lv_iload_n hx hb dX0_flush_13 rfl (lv_at hl 1 rfl) ?_
      refine cx_i (rest := []) E (mX_writeOut l D h ad d dz S x O hM hI.2.2.2.1) (cwx_writeOut E ⟨by decide, by decide⟩) w hA hl.1 rfl rfl (by decide) dX0_flush_14 ⟨Nat.zero_le _, Nat.zero_le _⟩ (fun r S2 H locs hq w => ?_)
      refine lv_pop hx hb dX0_flush_17 rfl ?_
      refine lv_iconst (v := 0) hx hb dX0_flush_18 (by decide) ?_
      exact ret 0 S2 _ _ _ _ (by first | rfl | decide) (⟨(aMany_ok ⟨i32_nlt c1, c2⟩).symm, kd_inv hI hq.1 hq.2⟩) w dX0_flush_19
    · refine lv_iconst (v := -1) hx hb dX0_flush_10 (by decide) ?_
      exact ret (-1) S _ _ _ _ (by first | rfl | decide) (⟨(aMany_bad (fun q => c2 q.2)).symm, hI⟩) w dX0_flush_11
end
section
/-! PURE, third part: a change, a restore, a crash, a backup keep the invariant -/
/-- the model's state behind a change of key k to v and (l not -1) of key l to w -/
def chR (O : MO) (k : Nat) (v l w : Int32) (O2 : MO) : Prop := O2.2 = (aGo O).2 ∧ (∀ i : Nat, i < fr O + 8 ∨ fr O + 16 ≤ i → O2.1 i = O.1 i) ∧ ∀ j : Nat, j < 8 → O2.1 (fr O + 8 + j) = if l = nI j then w else if nI k = nI j then v else O.1 (fr O + j)
theorem updN_same (f : Nat → Nat) (k v : Nat) : updN f k v k = v := if_pos rfl
theorem updN_ne {f : Nat → Nat} {k j v : Nat} (h : j ≠ k) : updN f k v j = f j := if_neg h
theorem vp_mono {O O2 : MO} {t t2 w w2 k : Nat} {x y : Int32} (h : vp O t w k x y) (hw : w ≤ w2) (he : ∀ n : Nat, n ≤ w → vM O2 t2 n k = vM O t n k) : vp O2 t2 w2 k x y := by
  obtain ⟨q, h1, h2, h3⟩ := h
  exact ⟨q, h1, by omega, by rw [h3, he q h2]⟩
theorem ch_old {O O2 : MO} {k : Nat} {v l w : Int32} (hO : MI O) (hc : chR O k v l w O2) {t n j : Nat} (ht : t < O.2.2) (hn : n ≤ O.2.1 t) (hj : j < 8) : vM O2 t n j = vM O t n j := by
  have h30 := hO.2.2 t ht
  refine hc.2.1 _ (Or.inl ?_)
  by_cases h : t = O.2.2 - 1
  · have hn2 : n ≤ ln O := by unfold ln; rw [← h]; exact hn
    unfold fr
    omega
  · unfold fr
    omega
theorem ch_new {O O2 : MO} {k : Nat} {v l w : Int32} (hc : chR O k v l w O2) {j : Nat} (hj : j < 8) : vM O2 (O.2.2 - 1) (ln O + 1) j = if l = nI j then w else if nI k = nI j then v else vM O (O.2.2 - 1) (ln O) j := by
  have h := hc.2.2 j hj
  have e : fr O + 8 + j = 248 * (O.2.2 - 1) + 8 * (ln O + 1) + j := by unfold fr; omega
  rw [e] at h
  exact h
theorem change_inv {S S2 : PS} {O O2 : MO} {k q : Nat} {v l w : Int32} (hI : Inv S O) (hf : ln O ≠ 30) (hk : k < 8) (hl : l = -1 ∨ ∃ j : Nat, j < 8 ∧ l = nI j) (hc : chR O k v l w O2) (hq : q = 31 * (O.2.2 - 1) + (ln O + 1))
    (a0 : S2.1 0 = upd (S.1 0) q (nI k)) (a1 : S2.1 1 = upd (S.1 1) q v) (a2 : S2.1 2 = upd (S.1 2) q l) (a3 : S2.1 3 = upd (S.1 3) q w) (a6 : S2.1 6 = upd (S.1 6) (O.2.2 - 1) (nI (ln O + 1)))
    (a7 : ∀ j : Nat, j < 8 → S2.1 7 j = if l = nI j then w else if nI k = nI j then v else S.1 7 j) (a8 : ∀ j : Nat, j < 8 → S2.1 8 j = if l = nI j then nI (ln O + 1) else if nI k = nI j then nI (ln O + 1) else S.1 8 j)
    (ao : ∀ j : Nat, 4 ≤ j → j ≠ 6 → j ≠ 7 → j ≠ 8 → S2.1 j = S.1 j) (as : S2.2 = S.2) : Inv S2 O2 := by
  obtain ⟨hO, hT, hM, hD, hF, hU⟩ := hI
  have h1 := hO.1
  have h6 := hO.2.1
  have hln := MI_ln hO
  have eN : O2.2.2 = O.2.2 := by rw [hc.1]; rfl
  have eL : O2.2.1 = updN O.2.1 (O.2.2 - 1) (ln O + 1) := by rw [hc.1]; rfl
  have eln : ln O2 = ln O + 1 := by
    show O2.2.1 (O2.2.2 - 1) = _
    rw [eL, eN, updN_same]
  have mono : ∀ t : Nat, O.2.1 t ≤ O2.2.1 t := by
    intro t
    rw [eL]
    by_cases h : t = O.2.2 - 1
    · rw [h, updN_same]
      exact Nat.le_succ _
    · rw [updN_ne h]
      exact Nat.le_refl _
  have hMO : MI O2 := by
    refine ⟨by rw [eN]; exact h1, by rw [eN]; exact h6, fun t ht => ?_⟩
    rw [eN] at ht
    rw [eL]
    by_cases h : t = O.2.2 - 1
    · rw [h, updN_same]; omega
    · rw [updN_ne h]; exact hO.2.2 t ht
  have old : ∀ t n j : Nat, t < O.2.2 → n ≤ O.2.1 t → j < 8 → vM O2 t n j = vM O t n j := fun t n j a b c => ch_old hO hc a b c
  have hnow : ∀ n j : Nat, n ≤ ln O → j < 8 → vM O2 (O.2.2 - 1) n j = vM O (O.2.2 - 1) n j := fun n j a b => old _ n j (by omega) a b
  refine ⟨hMO, ⟨by rw [as, eN]; exact hT.1, by rw [as, eN]; exact hT.2.1, fun t ht => ?_, fun t ht => ?_, fun t j ht hj => ?_⟩, fun j hj => ?_, fun j hj => ?_, fun b hb hfin => ?_, ?_⟩
  · rw [eN] at ht
    rw [a6, eL]
    by_cases h : t = O.2.2 - 1
    · rw [h, upd_same, updN_same]
    · rw [upd_ne h, updN_ne h]; exact hT.2.2.1 t ht
  · rw [eN] at ht
    have h30 := hO.2.2 t ht
    obtain ⟨f, b1, b2, b3, b4⟩ := hT.2.2.2.1 t ht
    refine ⟨f, by rw [ao 5 (by decide) (by decide) (by decide) (by decide)]; exact b1, Nat.le_trans b2 (mono t), ?_, fun n c1 c2 c3 => ?_⟩
    · rw [ao 4 (by decide) (by decide) (by decide) (by decide)]
      rcases b3 with b3 | ⟨u, u1, u2, u3, u4⟩
      · exact Or.inl b3
      · refine Or.inr ⟨u, u1, u2, Nat.le_trans u3 (mono u), fun n j d1 d2 => ?_⟩
        rw [old t n j ht (by omega) d2, old u n j (by omega) (by omega) d2]
        exact u4 n j d1 d2
    · by_cases hn : n ≤ O.2.1 t
      · obtain ⟨g1, g2, g3⟩ := b4 n c1 hn c3
        have hne : 31 * t + n ≠ q := by
          intro h
          rw [hq] at h
          by_cases ht2 : t = O.2.2 - 1
          · have : n ≤ ln O := by unfold ln; rw [← ht2]; exact hn
            rw [ht2] at h
            omega
          · omega
        refine ⟨by rw [a0, upd_ne hne]; exact g1, by rw [a2, upd_ne hne]; exact g2, fun j hj => ?_⟩
        rw [a0, a1, a2, a3, upd_ne hne, upd_ne hne, upd_ne hne, upd_ne hne, old t n j ht hn hj, old t (n - 1) j ht (by omega) hj]
        exact g3 j hj
      · have ht2 : t = O.2.2 - 1 := by
          by_cases h : t = O.2.2 - 1
          · exact h
          · rw [eL, updN_ne h] at c2
            exact absurd c2 hn
        subst ht2
        rw [eL, updN_same] at c2
        have hn2 : n = ln O + 1 := by
          have : ¬ n ≤ ln O := hn
          omega
        subst hn2
        rw [← hq]
        refine ⟨⟨k, hk, by rw [a0, upd_same]⟩, by rw [a2, upd_same]; exact hl, fun j hj => ?_⟩
        rw [a0, a1, a2, a3, upd_same, upd_same, upd_same, upd_same, ch_new hc hj, Nat.add_sub_cancel, hnow (ln O) j (Nat.le_refl _) hj]
  · rw [eN] at ht
    rw [old t 0 j ht (Nat.zero_le _) hj]
    exact hT.2.2.2.2 t j ht hj
  · have hm := (hM j hj).1
    have e7 : S2.1 7 j = vM O2 (O.2.2 - 1) (ln O + 1) j := by
      rw [a7 j hj, ch_new hc hj, hm]
    rw [eN, eln]
    refine ⟨e7, ?_⟩
    by_cases hB : l = nI j
    · exact ⟨ln O + 1, by rw [a8 j hj, if_pos hB], Nat.le_refl _, e7⟩
    · by_cases hA : nI k = nI j
      · exact ⟨ln O + 1, by rw [a8 j hj, if_neg hB, if_pos hA], Nat.le_refl _, e7⟩
      · rw [a8 j hj, if_neg hB, if_neg hA, a7 j hj, if_neg hB, if_neg hA]
        exact vp_mono (hM j hj).2 (Nat.le_succ _) (fun n hn => hnow n j hn hj)
  · rw [eN, eln, ao 9 (by decide) (by decide) (by decide) (by decide), ao 10 (by decide) (by decide) (by decide) (by decide)]
    exact vp_mono (hD j hj) (Nat.le_succ _) (fun n hn => hnow n j hn hj)
  · rw [ao 11 (by decide) (by decide) (by decide) (by decide)] at hfin
    obtain ⟨t, u, g1, g2, g3, g4, g5⟩ := hF b hb hfin
    refine ⟨t, u, by rw [eN]; exact g1, Nat.le_trans g2 (mono t), by rw [ao 12 (by decide) (by decide) (by decide) (by decide)]; exact g3, by rw [ao 14 (by decide) (by decide) (by decide) (by decide)]; exact g4, fun j hj => ?_⟩
    rw [ao 15 (by decide) (by decide) (by decide) (by decide), ao 16 (by decide) (by decide) (by decide) (by decide)]
    exact vp_mono (g5 j hj) (Nat.le_refl _) (fun n hn => old t n j g1 (by omega) hj)
  · obtain ⟨b, c, g1, g2, g3, g4, g5⟩ := hU
    refine ⟨b, c, g1, g2, by rw [as]; exact g3, by rw [as]; exact g4, fun hu => ?_⟩
    rw [as] at hu
    obtain ⟨u1, u2, u3⟩ := g5 hu
    refine ⟨by rw [ao 11 (by decide) (by decide) (by decide) (by decide)]; exact u1, by rw [eN, ao 12 (by decide) (by decide) (by decide) (by decide)]; exact u2, fun j hj => ?_⟩
    rw [eN, eln, ao 15 (by decide) (by decide) (by decide) (by decide), ao 16 (by decide) (by decide) (by decide) (by decide)]
    exact vp_mono (u3 j hj) (Nat.le_succ _) (fun n hn => hnow n j hn (by omega))
theorem aGo_out {O : MO} {i : Nat} (h : i < fr O + 8 ∨ fr O + 16 ≤ i) : (aGo O).1 i = O.1 i := by
  unfold aGo
  show (if fr O + 8 ≤ i ∧ i < fr O + 16 then O.1 (i - 8) else O.1 i) = _
  rw [if_neg (by omega)]
theorem chR_set {O : MO} {k : Nat} (hk : k < 8) (v w : Int32) : chR O k v (-1) w (aPut (aGo O) (fr O + 8 + k) v) := by
  refine ⟨rfl, fun i hi => ?_, fun j hj => ?_⟩
  · show upd (aGo O).1 (fr O + 8 + k) v i = _
    rw [upd_ne (by omega), aGo_out hi]
  · show upd (aGo O).1 (fr O + 8 + k) v (fr O + 8 + j) = _
    rw [if_neg (fun h => nI_nm1 (a := j) (by omega) h.symm)]
    by_cases h : j = k
    · subst h
      rw [upd_same, if_pos rfl]
    · rw [upd_ne (by omega), aGo_at hj, if_neg (fun e => h (nI_inj (by omega) (by omega) e).symm)]
theorem chR_exch {O : MO} {k j : Nat} (hk : k < 8) (hj : j < 8) : chR O k (O.1 (fr O + j)) (nI j) (O.1 (fr O + k)) (aPut (aPut (aGo O) (fr O + 8 + k) (O.1 (fr O + j))) (fr O + 8 + j) (O.1 (fr O + k))) := by
  refine ⟨rfl, fun i hi => ?_, fun i hi => ?_⟩
  · show upd (upd (aGo O).1 (fr O + 8 + k) _) (fr O + 8 + j) _ i = _
    rw [upd_ne (by omega), upd_ne (by omega), aGo_out hi]
  · show upd (upd (aGo O).1 (fr O + 8 + k) _) (fr O + 8 + j) _ (fr O + 8 + i) = _
    by_cases h : i = j
    · subst h
      rw [upd_same, if_pos rfl]
    · rw [upd_ne (by omega), if_neg (fun e => h (nI_inj (by omega) (by omega) e).symm)]
      by_cases h2 : i = k
      · subst h2
        rw [upd_same, if_pos rfl]
      · rw [upd_ne (by omega), aGo_at hi, if_neg (fun e => h2 (nI_inj (by omega) (by omega) e).symm)]
/-- a restore -/
theorem cp_old {O : MO} (hO : MI O) {t n u m k : Nat} (hu : u < O.2.2) (hm : m ≤ 30) (hk : k < 8) : vM (aCp O t n) u m k = vM O u m k := by
  unfold vM aCp
  show (if 248 * O.2.2 ≤ 248 * u + 8 * m + k ∧ 248 * u + 8 * m + k < 248 * O.2.2 + (8 * n + 8) then O.1 (248 * t + (248 * u + 8 * m + k - 248 * O.2.2)) else O.1 (248 * u + 8 * m + k)) = _
  rw [if_neg (by omega)]
theorem cp_new {O : MO} {t n m k : Nat} (hm : m ≤ n) (hk : k < 8) : vM (aCp O t n) O.2.2 m k = vM O t m k := by
  unfold vM aCp
  show (if 248 * O.2.2 ≤ 248 * O.2.2 + 8 * m + k ∧ 248 * O.2.2 + 8 * m + k < 248 * O.2.2 + (8 * n + 8) then O.1 (248 * t + (248 * O.2.2 + 8 * m + k - 248 * O.2.2)) else O.1 (248 * O.2.2 + 8 * m + k)) = _
  rw [if_pos (by omega)]
  exact congrArg O.1 (by omega)
theorem restore_inv {S S2 : PS} {O : MO} {t n : Nat} (hI : Inv S O) (ht : t < O.2.2) (hn : n ≤ O.2.1 t) (h66 : O.2.2 ≠ 6)
    (ao : ∀ j : Nat, j < 4 ∨ 11 ≤ j → S2.1 j = S.1 j) (a4 : S2.1 4 = upd (S.1 4) O.2.2 (nI t)) (a5 : S2.1 5 = upd (S.1 5) O.2.2 (nI n)) (a6 : S2.1 6 = upd (S.1 6) O.2.2 (nI n))
    (g0 : S2.2 0 = nI (O.2.2 + 1)) (g1 : S2.2 1 = nI O.2.2) (g2 : S2.2 2 = S.2 2) (g3 : S2.2 3 = 0) (g4 : S2.2 4 = S.2 4)
    (am : ∀ k : Nat, k < 8 → S2.1 7 k = vM O t n k ∧ vp O t n k (S2.1 7 k) (S2.1 8 k)) (ad : ∀ k : Nat, k < 8 → S2.1 9 k = S2.1 7 k ∧ S2.1 10 k = S2.1 8 k) : Inv S2 (aCp O t n) := by
  obtain ⟨hO, hT, hM, hD, hF, hU⟩ := hI
  have h1 := hO.1
  have h6 := hO.2.1
  have h30 := hO.2.2 t ht
  have eln : ln (aCp O t n) = n := by
    show updN O.2.1 O.2.2 n (O.2.2 + 1 - 1) = n
    rw [Nat.add_sub_cancel, updN_same]
  have eNow : (aCp O t n).2.2 - 1 = O.2.2 := Nat.add_sub_cancel _ _
  have la : ∀ u : Nat, u < O.2.2 → (aCp O t n).2.1 u = O.2.1 u := fun u hu => updN_ne (by omega)
  have laN : (aCp O t n).2.1 O.2.2 = n := updN_same _ _ _
  have old : ∀ u m k : Nat, u < O.2.2 → m ≤ O.2.1 u → k < 8 → vM (aCp O t n) u m k = vM O u m k := fun u m k a b c => cp_old hO a (by have := hO.2.2 u a; omega) c
  refine ⟨MI_cp hO ht hn h66, ⟨g0, by rw [eNow]; exact g1, fun u hu => ?_, fun u hu => ?_, fun u k hu hk => ?_⟩, fun k hk => ?_, fun k hk => ?_, fun b hb hfin => ?_, ?_⟩
  · have hu : u < O.2.2 + 1 := hu
    rw [a6]
    by_cases h : u = O.2.2
    · rw [h, upd_same, laN]
    · rw [upd_ne h, la u (by omega)]; exact hT.2.2.1 u (by omega)
  · have hu : u < O.2.2 + 1 := hu
    by_cases h : u = O.2.2
    · subst h
      refine ⟨n, by rw [a5, upd_same], by rw [laN]; exact Nat.le_refl _, Or.inr ⟨t, ht, by rw [a4, upd_same], by rw [la t ht]; exact hn, fun m k c1 c2 => ?_⟩, fun m c1 c2 c3 => ?_⟩
      · rw [cp_new c1 c2, old t m k ht (by omega) c2]
      · rw [laN] at c2
        rcases c3 with c3 | c3 <;> exact absurd c3 (by omega)
    · have hu2 : u < O.2.2 := by omega
      have h30u := hO.2.2 u hu2
      obtain ⟨f, b1, b2, b3, b4⟩ := hT.2.2.2.1 u hu2
      refine ⟨f, by rw [a5, upd_ne h]; exact b1, by rw [la u hu2]; exact b2, ?_, fun m c1 c2 c3 => ?_⟩
      · rw [a4, upd_ne h]
        rcases b3 with b3 | ⟨v, v1, v2, v3, v4⟩
        · exact Or.inl b3
        · refine Or.inr ⟨v, v1, v2, by rw [la v (by omega)]; exact v3, fun m k c1 c2 => ?_⟩
          rw [old u m k hu2 (by omega) c2, old v m k (by omega) (by omega) c2]
          exact v4 m k c1 c2
      · rw [la u hu2] at c2
        obtain ⟨e1, e2, e3⟩ := b4 m c1 c2 c3
        refine ⟨by rw [ao 0 (by omega)]; exact e1, by rw [ao 2 (by omega)]; exact e2, fun k hk => ?_⟩
        rw [ao 0 (by omega), ao 1 (by omega), ao 2 (by omega), ao 3 (by omega), old u m k hu2 c2 hk, old u (m - 1) k hu2 (by omega) hk]
        exact e3 k hk
  · have hu : u < O.2.2 + 1 := hu
    by_cases h : u = O.2.2
    · subst h
      rw [cp_new (Nat.zero_le _) hk]; exact hT.2.2.2.2 t k ht hk
    · rw [old u 0 k (by omega) (Nat.zero_le _) hk]; exact hT.2.2.2.2 u k (by omega) hk
  · rw [eNow, eln]
    refine ⟨by rw [cp_new (Nat.le_refl _) hk]; exact (am k hk).1, vp_mono (am k hk).2 (Nat.le_refl _) (fun m hm => cp_new hm hk)⟩
  · rw [eNow, eln, (ad k hk).1, (ad k hk).2]
    exact vp_mono (am k hk).2 (Nat.le_refl _) (fun m hm => cp_new hm hk)
  · rw [ao 11 (by omega)] at hfin
    obtain ⟨u, v, e1, e2, e3, e4, e5⟩ := hF b hb hfin
    refine ⟨u, v, by show u < O.2.2 + 1; omega, by rw [la u e1]; exact e2, by rw [ao 12 (by omega)]; exact e3, by rw [ao 14 (by omega)]; exact e4, fun k hk => ?_⟩
    rw [ao 15 (by omega), ao 16 (by omega)]
    exact vp_mono (e5 k hk) (Nat.le_refl _) (fun m hm => old u m k e1 (by omega) hk)
  · obtain ⟨b, c, e1, e2, e3, e4, e5⟩ := hU
    exact ⟨b, c, e1, e2, by rw [g2]; exact e3, by rw [g4]; exact e4, fun hu => absurd g3 hu⟩
/-- a crash -/
theorem crash_inv {S S1 S2 : PS} {O : MO} (hI : Inv S O) (hk : kp S S1) (hm : iM S1 O) (e : S2 = ss S1 3 0) : Inv S2 O := by
  obtain ⟨hO, hT, hM, hD, hF, hU⟩ := hI
  have k : ∀ j : Nat, j ≠ 7 → j ≠ 8 → S2.1 j = S.1 j := fun j a b => by rw [e]; exact hk.2 j a b
  have g : ∀ j : Nat, j ≠ 3 → S2.2 j = S.2 j := fun j a => by rw [e, ss_ne a, hk.1]
  refine ⟨hO, iT_of (k 0 (by decide) (by decide)) (k 1 (by decide) (by decide)) (k 2 (by decide) (by decide)) (k 3 (by decide) (by decide)) (k 4 (by decide) (by decide)) (k 5 (by decide) (by decide)) (k 6 (by decide) (by decide)) (g 0 (by decide)) (g 1 (by decide)) hT, by rw [e]; exact hm, ?_, iF_of (k 11 (by decide) (by decide)) (k 12 (by decide) (by decide)) (k 14 (by decide) (by decide)) (k 15 (by decide) (by decide)) (k 16 (by decide) (by decide)) hF, ?_⟩
  · intro j hj
    rw [k 9 (by decide) (by decide), k 10 (by decide) (by decide)]
    exact hD j hj
  · obtain ⟨b, c, e1, e2, e3, e4, e5⟩ := hU
    exact ⟨b, c, e1, e2, by rw [g 2 (by decide)]; exact e3, by rw [g 4 (by decide)]; exact e4, fun hu => absurd (by rw [e, ss_same]) hu⟩
/-- a backup's begin -/
theorem begin_inv {S S2 : PS} {O : MO} {b : Nat} (hI : Inv S O) (hb : b < 4) (eb : S.2 2 = nI b) (a11 : S2.1 11 = upd (S.1 11) b 0) (a12 : S2.1 12 = upd (S.1 12) b (nI (O.2.2 - 1))) (ao : ∀ j : Nat, j ≠ 11 → j ≠ 12 → j ≠ 13 → S2.1 j = S.1 j) (g : ∀ j : Nat, j < 3 → S2.2 j = S.2 j) (g4 : S2.2 4 = 0) : Inv S2 O := by
  obtain ⟨hO, hT, hM, hD, hF, hU⟩ := hI
  refine ⟨hO, iT_of (ao 0 (by decide) (by decide) (by decide)) (ao 1 (by decide) (by decide) (by decide)) (ao 2 (by decide) (by decide) (by decide)) (ao 3 (by decide) (by decide) (by decide)) (ao 4 (by decide) (by decide) (by decide)) (ao 5 (by decide) (by decide) (by decide)) (ao 6 (by decide) (by decide) (by decide)) (g 0 (by decide)) (g 1 (by decide)) hT, fun k hk => ?_, fun k hk => ?_, fun c hc hfin => ?_, ?_⟩
  · rw [ao 7 (by decide) (by decide) (by decide), ao 8 (by decide) (by decide) (by decide)]
    exact hM k hk
  · rw [ao 9 (by decide) (by decide) (by decide), ao 10 (by decide) (by decide) (by decide)]
    exact hD k hk
  · rw [a11] at hfin
    by_cases h : c = b
    · rw [h, upd_same] at hfin
      exact absurd rfl hfin
    · rw [upd_ne h] at hfin
      rw [a12, upd_ne h, ao 14 (by decide) (by decide) (by decide), ao 15 (by decide) (by decide) (by decide), ao 16 (by decide) (by decide) (by decide)]
      exact hF c hc hfin
  · refine ⟨b, 0, hb, by decide, by rw [g 2 (by decide)]; exact eb, by rw [g4]; decide, fun _ => ⟨by rw [a11, upd_same], by rw [a12, upd_same], fun k hk => absurd hk (by omega)⟩⟩
/-- one more key is copied -/
theorem copy_inv {S S2 : PS} {O : MO} {b c : Nat} (hI : Inv S O) (hb : b < 4) (hc : c < 8) (eb : S.2 2 = nI b) (ec : S.2 4 = nI c) (hu : S.2 3 ≠ 0) (a15 : S2.1 15 = upd (S.1 15) (8 * b + c) (S.1 9 c)) (a16 : S2.1 16 = upd (S.1 16) (8 * b + c) (S.1 10 c)) (ao : ∀ j : Nat, j ≠ 15 → j ≠ 16 → S2.1 j = S.1 j) (g : ∀ j : Nat, j ≠ 4 → S2.2 j = S.2 j) (g4 : S2.2 4 = nI (c + 1)) : Inv S2 O := by
  obtain ⟨hO, hT, hM, hD, hF, hU⟩ := hI
  obtain ⟨b2, c2, e1, e2, e3, e4, e5⟩ := hU
  have hb2 : b2 = b := nI_inj (by omega) (by omega) (e3.symm.trans eb)
  have hc2 : c2 = c := nI_inj (by omega) (by omega) (e4.symm.trans ec)
  subst hb2
  subst hc2
  obtain ⟨u1, u2, u3⟩ := e5 hu
  refine ⟨hO, iT_of (ao 0 (by decide) (by decide)) (ao 1 (by decide) (by decide)) (ao 2 (by decide) (by decide)) (ao 3 (by decide) (by decide)) (ao 4 (by decide) (by decide)) (ao 5 (by decide) (by decide)) (ao 6 (by decide) (by decide)) (g 0 (by decide)) (g 1 (by decide)) hT, fun k hk => ?_, fun k hk => ?_, fun d hd hfin => ?_, ?_⟩
  · rw [ao 7 (by decide) (by decide), ao 8 (by decide) (by decide)]
    exact hM k hk
  · rw [ao 9 (by decide) (by decide), ao 10 (by decide) (by decide)]
    exact hD k hk
  · rw [ao 11 (by decide) (by decide)] at hfin
    obtain ⟨t, w, f1, f2, f3, f4, f5⟩ := hF d hd hfin
    have hne : d ≠ b2 := fun h => hfin (by rw [h]; exact u1)
    refine ⟨t, w, f1, f2, by rw [ao 12 (by decide) (by decide)]; exact f3, by rw [ao 14 (by decide) (by decide)]; exact f4, fun k hk => ?_⟩
    rw [a15, a16, upd_ne (by omega), upd_ne (by omega)]
    exact f5 k hk
  · refine ⟨b2, c2 + 1, e1, by omega, by rw [g 2 (by decide)]; exact e3, g4, fun _ => ⟨by rw [ao 11 (by decide) (by decide)]; exact u1, by rw [ao 12 (by decide) (by decide)]; exact u2, fun k hk => ?_⟩⟩
    rw [a15, a16]
    by_cases h : k = c2
    · subst h
      rw [upd_same, upd_same]
      exact hD k hc
    · rw [upd_ne (by omega), upd_ne (by omega)]
      exact u3 k (by omega)
/-- a backup's end -/
theorem finish_inv {S S2 : PS} {O : MO} {b b2 : Nat} (hI : Inv S O) (hb : b < 4) (hb2 : b2 < 4) (eb : S.2 2 = nI b) (ec : S.2 4 = nI 8) (hu : S.2 3 ≠ 0) (a11 : S2.1 11 = upd (S.1 11) b 1) (a14 : S2.1 14 = upd (S.1 14) b (nI (ln O))) (ao : ∀ j : Nat, j ≠ 11 → j ≠ 14 → S2.1 j = S.1 j) (g0 : S2.2 0 = S.2 0) (g1 : S2.2 1 = S.2 1) (g2 : S2.2 2 = nI b2) (g3 : S2.2 3 = 0) (g4 : S2.2 4 = S.2 4) : Inv S2 O := by
  obtain ⟨hO, hT, hM, hD, hF, hU⟩ := hI
  obtain ⟨b3, c2, e1, e2, e3, e4, e5⟩ := hU
  have hb3 : b3 = b := nI_inj (by omega) (by omega) (e3.symm.trans eb)
  have hc2 : c2 = 8 := nI_inj (by omega) (by omega) (e4.symm.trans ec)
  subst hb3
  subst hc2
  obtain ⟨u1, u2, u3⟩ := e5 hu
  have h1 := hO.1
  refine ⟨hO, iT_of (ao 0 (by decide) (by decide)) (ao 1 (by decide) (by decide)) (ao 2 (by decide) (by decide)) (ao 3 (by decide) (by decide)) (ao 4 (by decide) (by decide)) (ao 5 (by decide) (by decide)) (ao 6 (by decide) (by decide)) g0 g1 hT, fun k hk => ?_, fun k hk => ?_, fun d hd hfin => ?_, ⟨b2, 8, hb2, Nat.le_refl _, g2, by rw [g4]; exact e4, fun h => absurd g3 h⟩⟩
  · rw [ao 7 (by decide) (by decide), ao 8 (by decide) (by decide)]
    exact hM k hk
  · rw [ao 9 (by decide) (by decide), ao 10 (by decide) (by decide)]
    exact hD k hk
  · rw [ao 12 (by decide) (by decide), ao 15 (by decide) (by decide), ao 16 (by decide) (by decide), a14]
    by_cases h : d = b3
    · subst h
      refine ⟨O.2.2 - 1, ln O, by omega, Nat.le_refl _, u2, by rw [upd_same], u3⟩
    · rw [a11, upd_ne h] at hfin
      rw [upd_ne h]
      exact hF d hd hfin
theorem and3 {b : Nat} (hb : b < 4) : (nI b + 1) &&& 3 = nI ((b + 1) % 4) := by
  rw [nI_1]
  exact pk_andN (by omega) 2 (by decide)
/-- the state behind change's log rows -/
def chS (S : PS) (q k u : Nat) (v y z p : Int32) : PS := sa (sa (sa (sa (sa S 6 (upd (S.1 6) u p)) 0 (upd (S.1 0) q (nI k))) 1 (upd (S.1 1) q v)) 2 (upd (S.1 2) q y)) 3 (upd (S.1 3) q z)
theorem ch_1 {S : PS} {O O2 : MO} {k q : Nat} {v z : Int32} (hI : Inv S O) (hf : ln O ≠ 30) (hk : k < 8) (hc : chR O k v (-1) z O2) (hq : q = 31 * (O.2.2 - 1) + (ln O + 1)) : Inv (ap (chS S q k (O.2.2 - 1) v (-1) z (nI (ln O + 1))) k v (nI (ln O + 1))) O2 := by
  have key : ∀ (f : Nat → Int32) (a z : Int32) (j : Nat), j < 8 → upd f k a j = if (-1 : Int32) = nI j then z else if nI k = nI j then a else f j := by
    intro f a z j hj
    rw [if_neg (fun h => nI_nm1 (a := j) (by omega) h.symm)]
    by_cases h : j = k
    · subst h
      rw [upd_same, if_pos rfl]
    · rw [upd_ne h, if_neg (fun e => h (nI_inj (by omega) (by omega) e).symm)]
  refine change_inv hI hf hk (Or.inl rfl) hc hq rfl rfl rfl rfl rfl (fun j hj => key _ _ _ j hj) (fun j hj => key _ _ _ j hj) (fun j h4 h6 h7 h8 => ?_) rfl
  exact (sa_ne h8).trans ((sa_ne h7).trans ((sa_ne (by omega)).trans ((sa_ne (by omega)).trans ((sa_ne (by omega)).trans ((sa_ne (by omega)).trans (sa_ne h6))))))
theorem ch_2 {S : PS} {O O2 : MO} {k q i : Nat} {v z : Int32} (hI : Inv S O) (hf : ln O ≠ 30) (hk : k < 8) (hi : i < 8) (hc : chR O k v (nI i) z O2) (hq : q = 31 * (O.2.2 - 1) + (ln O + 1)) : Inv (ap (ap (chS S q k (O.2.2 - 1) v (nI i) z (nI (ln O + 1))) k v (nI (ln O + 1))) i z (nI (ln O + 1))) O2 := by
  have key : ∀ (f : Nat → Int32) (a z : Int32) (j : Nat), j < 8 → upd (upd f k a) i z j = if nI i = nI j then z else if nI k = nI j then a else f j := by
    intro f a z j hj
    by_cases h2 : j = i
    · subst h2
      rw [upd_same, if_pos rfl]
    · rw [upd_ne h2, if_neg (fun e => h2 (nI_inj (by omega) (by omega) e).symm)]
      by_cases h : j = k
      · subst h
        rw [upd_same, if_pos rfl]
      · rw [upd_ne h, if_neg (fun e => h (nI_inj (by omega) (by omega) e).symm)]
  refine change_inv hI hf hk (Or.inr ⟨i, hi, rfl⟩) hc hq rfl rfl rfl rfl rfl (fun j hj => key _ _ _ j hj) (fun j hj => key _ _ _ j hj) (fun j h4 h6 h7 h8 => ?_) rfl
  exact (sa_ne h8).trans ((sa_ne h7).trans ((sa_ne h8).trans ((sa_ne h7).trans ((sa_ne (by omega)).trans ((sa_ne (by omega)).trans ((sa_ne (by omega)).trans ((sa_ne (by omega)).trans (sa_ne h6))))))))
/-- one more key of the memory is laid -/
theorem rs_step {S1 S2 S3 : PS} {P : Nat → Int32 → Int32 → Prop} {i : Nat} {x y : Int32} (h : ∀ j : Nat, j < i → P j (S1.1 7 j) (S1.1 8 j)) (e2 : S2 = sa S1 7 (upd (S1.1 7) i x)) (e3 : S3 = sa S2 8 (upd (S2.1 8) i y)) (hx : P i x y) : ∀ j : Nat, j < i + 1 → P j (S3.1 7 j) (S3.1 8 j) := by
  intro j hj
  have a : S3.1 7 = upd (S1.1 7) i x := by rw [e3, e2]; rfl
  have b : S3.1 8 = upd (S1.1 8) i y := by rw [e3, e2]; rfl
  rw [a, b]
  by_cases hji : j = i
  · subst hji
    rw [upd_same, upd_same]
    exact hx
  · rw [upd_ne hji, upd_ne hji]
    exact h j (by omega)
theorem ds_step {S1 S2 S3 : PS} {P : Nat → Int32 → Int32 → Prop} {i : Nat} {x y : Int32} (h : ∀ j : Nat, j < i → P j (S1.1 9 j) (S1.1 10 j)) (e2 : S2 = sa S1 9 (upd (S1.1 9) i x)) (e3 : S3 = sa S2 10 (upd (S2.1 10) i y)) (hx : P i x y) : ∀ j : Nat, j < i + 1 → P j (S3.1 9 j) (S3.1 10 j) := by
  intro j hj
  have a : S3.1 9 = upd (S1.1 9) i x := by rw [e3, e2]; rfl
  have b : S3.1 10 = upd (S1.1 10) i y := by rw [e3, e2]; rfl
  rw [a, b]
  by_cases hji : j = i
  · subst hji
    rw [upd_same, upd_same]
    exact hx
  · rw [upd_ne hji, upd_ne hji]
    exact h j (by omega)
end
section
/-! POINTINTIME: change, crash, backup, restore -/
set_option maxHeartbeats 4000000 in
set_option maxRecDepth 100000 in
/-- change -/
theorem mX_change (l : Launch) (D : va_G) (h : Nat) (ad : Nat → Nat) (d dz : ClassId) (S : PS)  (O O2 : MO) (k : Nat) (v y z : Int32) (hI : Inv S O) (hk : k < 8) (hy : y = -1 ∨ ∃ j : Nat, j < 8 ∧ y = nI j) (hc : ln O ≠ 30 → chR O k v y z O2) : CX l yX0_change cX0_change 7 (some .int) ptr1 D h ad d dz S [.int (nI k), .int v, .int y, .int z] (fun r S2 => (ln O = 30 ∧ r = -2 ∧ S = S2) ∨ (ln O ≠ 30 ∧ r = nI (ln O + 1) ∧ Inv S2 O2)) := by
  refine Ct_i (by decide) (Nat.le_of_ble_eq_true rfl) .int rfl ?_
  intro p e s m args below meth c A Q E hA w ret ls hl
  have hx := E.1.1
  have hb := E.1.2.1
  have hl : lv_has ls 7 [(0, .ref h), (1, .int (nI k)), (2, .int v), (3, .int y), (4, .int z)] := hl
  have hO := hI.1
  have hT := hI.2.1
  have hM := hI.2.2.1
  have h6 := hO.2.1
  have h1 := hO.1
  have hln := MI_ln hO
  refine gx_end E w (lv_at hl 0 rfl) dX0_change_0 dX0_change_1 ?_
  refine gx_now E w (lv_at hl 0 rfl) dX0_change_4 dX0_change_5 ?_
  refine top_eq (y := nI (O.2.2 - 1)) (hT.2.1) ?_
  refine x_ld E w 6 (i := O.2.2 - 1) (v := nI (ln O)) rfl (by show _ < 6; omega) (iT_end hO hT) dX0_change_8 ?_
  refine lv_bipush (v := 30) hx hb dX0_change_9 (by decide) ?_
  refine lv_icmp_ne (tgt := 17) hx hb dX0_change_11 (by decide) (fun cf => ?_) (fun cf => ?_)
  · have hf : ln O ≠ 30 := fun q => cf (by rw [q]; decide)
    refine gx_end E w (lv_at hl 0 rfl) dX0_change_17 dX0_change_18 ?_
    refine gx_now E w (lv_at hl 0 rfl) dX0_change_21 dX0_change_22 ?_
    refine top_eq (y := nI (O.2.2 - 1)) (hT.2.1) ?_
    refine gx_end E w (lv_at hl 0 rfl) dX0_change_25 dX0_change_26 ?_
    refine gx_now E w (lv_at hl 0 rfl) dX0_change_29 dX0_change_30 ?_
    refine top_eq (y := nI (O.2.2 - 1)) (hT.2.1) ?_
    refine x_ld E w 6 (i := O.2.2 - 1) (v := nI (ln O)) rfl (by show _ < 6; omega) (iT_end hO hT) dX0_change_33 ?_
    refine lv_iconst (v := 1) hx hb dX0_change_34 (by decide) ?_
    refine lv_iadd hx hb dX0_change_35 ?_
    refine top_eq (y := nI (ln O + 1)) (nI_1 _) ?_
    obtain ⟨S1, eS1⟩ : ∃ z_ : PS, z_ = sa S 6 (upd (S.1 6) (O.2.2 - 1) (nI (ln O + 1))) := ⟨_, rfl⟩
    refine x_st E w 6 (i := O.2.2 - 1) rfl (by show _ < 6; omega) eS1.symm dX0_change_36 (fun H locs w => ?_)
    have g1 : S1.2 = S.2 := by rw [eS1]; rfl
    refine gx_end E w (lv_at hl 0 rfl) dX0_change_37 dX0_change_38 ?_
    refine gx_now E w (lv_at hl 0 rfl) dX0_change_41 dX0_change_42 ?_
    refine top_eq (y := nI (O.2.2 - 1)) (by rw [g1]; exact hT.2.1) ?_
    refine x_ld E w 6 (i := O.2.2 - 1) (v := nI (ln O + 1)) rfl (by show _ < 6; omega) (by rw [eS1]; exact upd_same _ _ _) dX0_change_45 ?_
    refine lv_istore (lv' := [(5, .int (nI (ln O + 1))), (0, .ref h), (1, .int (nI k)), (2, .int v), (3, .int y), (4, .int z)]) hx hb dX0_change_46 hl (by decide) rfl (fun ls hl => ?_)
    refine gx_now E w (lv_at hl 1 rfl) dX0_change_48 dX0_change_49 ?_
    refine top_eq (y := nI (O.2.2 - 1)) (by rw [g1]; exact hT.2.1) ?_
    refine lv_bipush (v := 31) hx hb dX0_change_52 (by decide) ?_
    refine lv_imul hx hb dX0_change_54 ?_
    refine lv_iload hx hb dX0_change_55 (lv_at hl 0 rfl) ?_
    refine lv_iadd hx hb dX0_change_57 ?_
    obtain ⟨q, hq⟩ : ∃ q : Nat, q = 31 * (O.2.2 - 1) + (ln O + 1) := ⟨_, rfl⟩
    refine top_eq (y := nI q) (by rw [hq]; exact ent_val _ _) ?_
    refine lv_istore (lv' := [(6, .int (nI q)), (5, .int (nI (ln O + 1))), (0, .ref h), (1, .int (nI k)), (2, .int v), (3, .int y), (4, .int z)]) hx hb dX0_change_58 hl (by decide) rfl (fun ls hl => ?_)
    refine gx_keyA E w (lv_at hl 2 rfl) dX0_change_60 dX0_change_61 ?_
    refine lv_iload hx hb dX0_change_64 (lv_at hl 0 rfl) ?_
    refine lv_iload_n hx hb dX0_change_66 rfl (lv_at hl 3 rfl) ?_
    obtain ⟨S3, eS3⟩ : ∃ z_ : PS, z_ = sa S1 0 (upd (S1.1 0) q (nI k)) := ⟨_, rfl⟩
    refine x_st E w 0 (i := q) rfl (by show _ < 186; omega) eS3.symm dX0_change_67 (fun H locs w => ?_)
    refine gx_valueA E w (lv_at hl 2 rfl) dX0_change_68 dX0_change_69 ?_
    refine lv_iload hx hb dX0_change_72 (lv_at hl 0 rfl) ?_
    refine lv_iload_n hx hb dX0_change_74 rfl (lv_at hl 4 rfl) ?_
    obtain ⟨S4, eS4⟩ : ∃ z_ : PS, z_ = sa S3 1 (upd (S3.1 1) q v) := ⟨_, rfl⟩
    refine x_st E w 1 (i := q) rfl (by show _ < 186; omega) eS4.symm dX0_change_75 (fun H locs w => ?_)
    refine gx_keyB E w (lv_at hl 2 rfl) dX0_change_76 dX0_change_77 ?_
    refine lv_iload hx hb dX0_change_80 (lv_at hl 0 rfl) ?_
    refine lv_iload_n hx hb dX0_change_82 rfl (lv_at hl 5 rfl) ?_
    obtain ⟨S5, eS5⟩ : ∃ z_ : PS, z_ = sa S4 2 (upd (S4.1 2) q y) := ⟨_, rfl⟩
    refine x_st E w 2 (i := q) rfl (by show _ < 186; omega) eS5.symm dX0_change_83 (fun H locs w => ?_)
    refine gx_valueB E w (lv_at hl 2 rfl) dX0_change_84 dX0_change_85 ?_
    refine lv_iload hx hb dX0_change_88 (lv_at hl 0 rfl) ?_
    refine lv_iload hx hb dX0_change_90 (lv_at hl 6 rfl) ?_
    obtain ⟨S6, eS6⟩ : ∃ z_ : PS, z_ = sa S5 3 (upd (S5.1 3) q z) := ⟨_, rfl⟩
    refine x_st E w 3 (i := q) rfl (by show _ < 186; omega) eS6.symm dX0_change_92 (fun H locs w => ?_)
    have h66 : S6 = chS S q k (O.2.2 - 1) v y z (nI (ln O + 1)) := by rw [eS6, eS5, eS4, eS3, eS1]; rfl
    clear eS6
    subst h66
    refine lv_aload_n hx hb dX0_change_93 rfl (lv_at hl 2 rfl) ?_
    refine lv_iload_n hx hb dX0_change_94 rfl (lv_at hl 3 rfl) ?_
    refine lv_iload_n hx hb dX0_change_95 rfl (lv_at hl 4 rfl) ?_
    refine lv_iload hx hb dX0_change_96 (lv_at hl 1 rfl) ?_
    refine cx_v (rest := []) E (mX_apply l D h ad d dz (chS S q k (O.2.2 - 1) v y z (nI (ln O + 1))) k v (nI (ln O + 1)) hk) (cwx_apply E ⟨by decide, by decide⟩) w hA hl.1 rfl rfl (by decide) dX0_change_98 ⟨Nat.zero_le _, Nat.zero_le _⟩ (fun S7 H locs hq7 w => ?_)
    subst hq7
    refine lv_iload_n hx hb dX0_change_101 rfl (lv_at hl 5 rfl) ?_
    refine lv_if_lt (tgt := 114) hx hb dX0_change_102 (by decide) (fun c2 => ?_) (fun c2 => ?_)
    · have hy1 : y = -1 := by
        rcases hy with e | ⟨j, hj, e⟩
        · exact e
        · rw [e] at c2; exact absurd c2 (nI_nneg (by omega))
      subst hy1
      refine lv_iload hx hb dX0_change_114 (lv_at hl 1 rfl) ?_
      exact ret (nI (ln O + 1)) (ap (chS S q k (O.2.2 - 1) v (-1) z (nI (ln O + 1))) k v (nI (ln O + 1))) _ _ _ _ (by first | rfl | decide) (Or.inr ⟨hf, rfl, ch_1 hI hf hk (hc hf) hq⟩) w dX0_change_116
    · obtain ⟨j, hj, hy1⟩ : ∃ j : Nat, j < 8 ∧ y = nI j := by
        rcases hy with e | e
        · rw [e] at c2; exact absurd m1_neg c2
        · exact e
      subst hy1
      refine lv_aload_n hx hb dX0_change_105 rfl (lv_at hl 2 rfl) ?_
      refine lv_iload_n hx hb dX0_change_106 rfl (lv_at hl 5 rfl) ?_
      refine lv_iload hx hb dX0_change_107 (lv_at hl 6 rfl) ?_
      refine lv_iload hx hb dX0_change_109 (lv_at hl 1 rfl) ?_
      refine cx_v (rest := []) E (mX_apply l D h ad d dz (ap (chS S q k (O.2.2 - 1) v (nI j) z (nI (ln O + 1))) k v (nI (ln O + 1))) j z (nI (ln O + 1)) hj) (cwx_apply E ⟨by decide, by decide⟩) w hA hl.1 rfl rfl (by decide) dX0_change_111 ⟨Nat.zero_le _, Nat.zero_le _⟩ (fun S8 H locs hq8 w => ?_)
      subst hq8
      refine lv_iload hx hb dX0_change_114 (lv_at hl 1 rfl) ?_
      exact ret (nI (ln O + 1)) (ap (ap (chS S q k (O.2.2 - 1) v (nI j) z (nI (ln O + 1))) k v (nI (ln O + 1))) j z (nI (ln O + 1))) _ _ _ _ (by first | rfl | decide) (Or.inr ⟨hf, rfl, ch_2 hI hf hk hj (hc hf) hq⟩) w dX0_change_116
  · have hf : ln O = 30 := by rw [e30, nI_eq (by omega) (by decide)] at cf; exact cf
    refine lv_bipush (v := -2) hx hb dX0_change_14 (by decide) ?_
    exact ret (-2) S _ _ _ _ (by first | rfl | decide) (Or.inl ⟨hf, rfl, rfl⟩) w dX0_change_16
set_option maxHeartbeats 4000000 in
set_option maxRecDepth 100000 in
/-- set -/
theorem mX_set (l : Launch) (D : va_G) (h : Nat) (ad : Nat → Nat) (d dz : ClassId) (S : PS) (x v : Int32) (O : MO) (hI : Inv S O) : CX l yX0_set cX0_set 3 (some .int) ptr2 D h ad d dz S [.int x, .int v] (fun r S2 => r = (aSet O x v).1 ∧ Inv S2 (aSet O x v).2) := by
  refine Ct_i (by decide) (Nat.le_of_ble_eq_true rfl) .int rfl ?_
  intro p e s m args below meth c A Q E hA w ret ls hl
  have hx := E.1.1
  have hb := E.1.2.1
  have hl : lv_has ls 3 [(0, .ref h), (1, .int x), (2, .int v)] := hl
  have hO := hI.1
  have hT := hI.2.1
  have hM := hI.2.2.1
  have h6 := hO.2.1
  have h1 := hO.1
  have hln := MI_ln hO
  refine lv_aload_n hx hb dX0_set_0 rfl (lv_at hl 0 rfl) ?_
  refine lv_iload_n hx hb dX0_set_1 rfl (lv_at hl 1 rfl) ?_
  refine cx_i (rest := []) E (mX_bad l D h ad d dz S x) (cwx_bad E ⟨by decide, by decide⟩) w hA hl.1 rfl rfl (by decide) dX0_set_2 ⟨Nat.zero_le _, Nat.zero_le _⟩ (fun r S2 H locs hq w => ?_)
  obtain ⟨rfl, hq⟩ := hq
  refine lv_if_eq (tgt := 10) hx hb dX0_set_5 (by decide) (fun c1 => ?_) (fun c1 => ?_)
  · obtain ⟨k, hk, rfl⟩ : ∃ k : Nat, k < 8 ∧ x = nI k := by
      rcases hq with ⟨_, q⟩ | ⟨q, _⟩
      · exact q
      · rw [q] at c1; exact absurd c1 (by decide)
    refine lv_aload_n hx hb dX0_set_10 rfl (lv_at hl 0 rfl) ?_
    refine lv_iload_n hx hb dX0_set_11 rfl (lv_at hl 1 rfl) ?_
    refine lv_iload_n hx hb dX0_set_12 rfl (lv_at hl 2 rfl) ?_
    refine lv_iconst (v := -1) hx hb dX0_set_13 (by decide) ?_
    refine lv_iconst (v := 0) hx hb dX0_set_14 (by decide) ?_
    refine cx_i (rest := []) E (mX_change l D h ad d dz S O (aPut (aGo O) (fr O + 8 + k) v) k v (-1) 0 hI hk (Or.inl rfl) (fun _ => chR_set hk v 0)) (cwx_change E ⟨by decide, by decide⟩) w hA hl.1 rfl rfl (by decide) dX0_set_15 ⟨Nat.zero_le _, Nat.zero_le _⟩ (fun r S2 H locs hq w => ?_)
    exact ret r S2 _ _ _ _ (by first | rfl | decide) (by
          rcases hq with ⟨h1, h2, h3⟩ | ⟨h1, h2, h3⟩
          · subst h3; rw [aSet_full hk h1]; exact ⟨h2, hI⟩
          · rw [aSet_ok hk h1]; exact ⟨h2, h3⟩) w dX0_set_18
  · have hk : ¬ kOk x := by
      rcases hq with ⟨q, _⟩ | ⟨_, q⟩
      · exact absurd q c1
      · exact q
    refine lv_iconst (v := -1) hx hb dX0_set_8 (by decide) ?_
    exact ret (-1) S _ _ _ _ (by first | rfl | decide) (by rw [aSet_bad hk]; exact ⟨rfl, hI⟩) w dX0_set_9
set_option maxHeartbeats 4000000 in
set_option maxRecDepth 100000 in
/-- add -/
theorem mX_add (l : Launch) (D : va_G) (h : Nat) (ad : Nat → Nat) (d dz : ClassId) (S : PS) (x v : Int32) (O : MO) (hI : Inv S O) : CX l yX0_add cX0_add 3 (some .int) ptr2 D h ad d dz S [.int x, .int v] (fun r S2 => r = (aAdd O x v).1 ∧ Inv S2 (aAdd O x v).2) := by
  refine Ct_i (by decide) (Nat.le_of_ble_eq_true rfl) .int rfl ?_
  intro p e s m args below meth c A Q E hA w ret ls hl
  have hx := E.1.1
  have hb := E.1.2.1
  have hl : lv_has ls 3 [(0, .ref h), (1, .int x), (2, .int v)] := hl
  have hO := hI.1
  have hT := hI.2.1
  have hM := hI.2.2.1
  have h6 := hO.2.1
  have h1 := hO.1
  have hln := MI_ln hO
  refine lv_aload_n hx hb dX0_add_0 rfl (lv_at hl 0 rfl) ?_
  refine lv_iload_n hx hb dX0_add_1 rfl (lv_at hl 1 rfl) ?_
  refine cx_i (rest := []) E (mX_bad l D h ad d dz S x) (cwx_bad E ⟨by decide, by decide⟩) w hA hl.1 rfl rfl (by decide) dX0_add_2 ⟨Nat.zero_le _, Nat.zero_le _⟩ (fun r S2 H locs hq w => ?_)
  obtain ⟨rfl, hq⟩ := hq
  refine lv_if_eq (tgt := 10) hx hb dX0_add_5 (by decide) (fun c1 => ?_) (fun c1 => ?_)
  · obtain ⟨k, hk, rfl⟩ : ∃ k : Nat, k < 8 ∧ x = nI k := by
      rcases hq with ⟨_, q⟩ | ⟨q, _⟩
      · exact q
      · rw [q] at c1; exact absurd c1 (by decide)
    refine lv_aload_n hx hb dX0_add_10 rfl (lv_at hl 0 rfl) ?_
    refine lv_iload_n hx hb dX0_add_11 rfl (lv_at hl 1 rfl) ?_
    refine gx_memory E w (lv_at hl 0 rfl) dX0_add_12 dX0_add_13 ?_
    refine lv_iload_n hx hb dX0_add_16 rfl (lv_at hl 1 rfl) ?_
    refine x_ld E w 7 (i := k) (v := aGet O (nI k)) rfl (by show _ < 8; omega) ((iM_mem hM hk).trans (aGet_ok hk).symm) dX0_add_17 ?_
    refine lv_iload_n hx hb dX0_add_18 rfl (lv_at hl 2 rfl) ?_
    refine lv_iadd hx hb dX0_add_19 ?_
    refine lv_iconst (v := -1) hx hb dX0_add_20 (by decide) ?_
    refine lv_iconst (v := 0) hx hb dX0_add_21 (by decide) ?_
    refine cx_i (rest := []) E (mX_change l D h ad d dz S O (aPut (aGo O) (fr O + 8 + k) (aGet O (nI k) + v)) k (aGet O (nI k) + v) (-1) 0 hI hk (Or.inl rfl) (fun _ => chR_set hk _ 0)) (cwx_change E ⟨by decide, by decide⟩) w hA hl.1 rfl rfl (by decide) dX0_add_22 ⟨Nat.zero_le _, Nat.zero_le _⟩ (fun r S2 H locs hq w => ?_)
    exact ret r S2 _ _ _ _ (by first | rfl | decide) (by
          unfold aAdd
          rcases hq with ⟨h1, h2, h3⟩ | ⟨h1, h2, h3⟩
          · subst h3; rw [aSet_full hk h1]; exact ⟨h2, hI⟩
          · rw [aSet_ok hk h1]; exact ⟨h2, h3⟩) w dX0_add_25
  · have hk : ¬ kOk x := by
      rcases hq with ⟨q, _⟩ | ⟨_, q⟩
      · exact absurd q c1
      · exact q
    refine lv_iconst (v := -1) hx hb dX0_add_8 (by decide) ?_
    exact ret (-1) S _ _ _ _ (by first | rfl | decide) (by unfold aAdd; rw [aSet_bad hk]; exact ⟨rfl, hI⟩) w dX0_add_9
set_option maxHeartbeats 4000000 in
set_option maxRecDepth 100000 in
/-- exchange -/
theorem mX_exchange (l : Launch) (D : va_G) (h : Nat) (ad : Nat → Nat) (d dz : ClassId) (S : PS) (x y : Int32) (O : MO) (hI : Inv S O) : CX l yX0_exchange cX0_exchange 3 (some .int) ptr2 D h ad d dz S [.int x, .int y] (fun r S2 => r = (aExch O x y).1 ∧ Inv S2 (aExch O x y).2) := by
  refine Ct_i (by decide) (Nat.le_of_ble_eq_true rfl) .int rfl ?_
  intro p e s m args below meth c A Q E hA w ret ls hl
  have hx := E.1.1
  have hb := E.1.2.1
  have hl : lv_has ls 3 [(0, .ref h), (1, .int x), (2, .int y)] := hl
  have hO := hI.1
  have hT := hI.2.1
  have hM := hI.2.2.1
  have h6 := hO.2.1
  have h1 := hO.1
  have hln := MI_ln hO
  refine lv_aload_n hx hb dX0_exchange_0 rfl (lv_at hl 0 rfl) ?_
  refine lv_iload_n hx hb dX0_exchange_1 rfl (lv_at hl 1 rfl) ?_
  refine cx_i (rest := []) E (mX_bad l D h ad d dz S x) (cwx_bad E ⟨by decide, by decide⟩) w hA hl.1 rfl rfl (by decide) dX0_exchange_2 ⟨Nat.zero_le _, Nat.zero_le _⟩ (fun r S2 H locs hq w => ?_)
  obtain ⟨rfl, hq⟩ := hq
  refine lv_if_ne (tgt := 16) hx hb dX0_exchange_5 (by decide) (fun c1 => ?_) (fun c1 => ?_)
  · have hk : ¬ kOk x := by
      rcases hq with ⟨q, _⟩ | ⟨_, q⟩
      · exact absurd q c1
      · exact q
    refine lv_iconst (v := -1) hx hb dX0_exchange_16 (by decide) ?_
    exact ret (-1) S _ _ _ _ (by first | rfl | decide) (by rw [aExch_bad (fun q => hk q.1)]; exact ⟨rfl, hI⟩) w dX0_exchange_17
  · obtain ⟨k, hk, rfl⟩ : ∃ k : Nat, k < 8 ∧ x = nI k := by
      rcases hq with ⟨_, q⟩ | ⟨q, _⟩
      · exact q
      · rw [q] at c1; exact absurd c1 (by decide)
    refine lv_aload_n hx hb dX0_exchange_8 rfl (lv_at hl 0 rfl) ?_
    refine lv_iload_n hx hb dX0_exchange_9 rfl (lv_at hl 2 rfl) ?_
    refine cx_i (rest := []) E (mX_bad l D h ad d dz S y) (cwx_bad E ⟨by decide, by decide⟩) w hA hl.1 rfl rfl (by decide) dX0_exchange_10 ⟨Nat.zero_le _, Nat.zero_le _⟩ (fun r S2 H locs hq w => ?_)
    obtain ⟨rfl, hq⟩ := hq
    refine lv_if_eq (tgt := 18) hx hb dX0_exchange_13 (by decide) (fun c2 => ?_) (fun c2 => ?_)
    · obtain ⟨j, hj, rfl⟩ : ∃ k : Nat, k < 8 ∧ y = nI k := by
        rcases hq with ⟨_, q⟩ | ⟨q, _⟩
        · exact q
        · rw [q] at c2; exact absurd c2 (by decide)
      refine lv_aload_n hx hb dX0_exchange_18 rfl (lv_at hl 0 rfl) ?_
      refine lv_iload_n hx hb dX0_exchange_19 rfl (lv_at hl 1 rfl) ?_
      refine gx_memory E w (lv_at hl 0 rfl) dX0_exchange_20 dX0_exchange_21 ?_
      refine lv_iload_n hx hb dX0_exchange_24 rfl (lv_at hl 2 rfl) ?_
      refine x_ld E w 7 (i := j) (v := O.1 (fr O + j)) rfl (by show _ < 8; omega) (iM_mem hM hj) dX0_exchange_25 ?_
      refine lv_iload_n hx hb dX0_exchange_26 rfl (lv_at hl 2 rfl) ?_
      refine gx_memory E w (lv_at hl 0 rfl) dX0_exchange_27 dX0_exchange_28 ?_
      refine lv_iload_n hx hb dX0_exchange_31 rfl (lv_at hl 1 rfl) ?_
      refine x_ld E w 7 (i := k) (v := O.1 (fr O + k)) rfl (by show _ < 8; omega) (iM_mem hM hk) dX0_exchange_32 ?_
      refine cx_i (rest := []) E (mX_change l D h ad d dz S O (aPut (aPut (aGo O) (fr O + 8 + k) (O.1 (fr O + j))) (fr O + 8 + j) (O.1 (fr O + k))) k (O.1 (fr O + j)) (nI j) (O.1 (fr O + k)) hI hk (Or.inr ⟨j, hj, rfl⟩) (fun _ => chR_exch hk hj)) (cwx_change E ⟨by decide, by decide⟩) w hA hl.1 rfl rfl (by decide) dX0_exchange_33 ⟨Nat.zero_le _, Nat.zero_le _⟩ (fun r S2 H locs hq w => ?_)
      exact ret r S2 _ _ _ _ (by first | rfl | decide) (by
            rcases hq with ⟨h1, h2, h3⟩ | ⟨h1, h2, h3⟩
            · subst h3; rw [aExch_full hk hj h1]; exact ⟨h2, hI⟩
            · rw [aExch_ok hk hj h1]; exact ⟨h2, h3⟩) w dX0_exchange_36
    · have hk2 : ¬ kOk y := by
        rcases hq with ⟨q, _⟩ | ⟨_, q⟩
        · exact absurd q c2
        · exact q
      refine lv_iconst (v := -1) hx hb dX0_exchange_16 (by decide) ?_
      exact ret (-1) S _ _ _ _ (by first | rfl | decide) (by rw [aExch_bad (fun q => hk2 q.2)]; exact ⟨rfl, hI⟩) w dX0_exchange_17
set_option maxHeartbeats 4000000 in
set_option maxRecDepth 100000 in
/-- crash -/
theorem mX_crash (l : Launch) (D : va_G) (h : Nat) (ad : Nat → Nat) (d dz : ClassId) (S : PS)  (O : MO) (hI : Inv S O) : CX l yX0_crash cX0_crash 2 (some .int) ptr2 D h ad d dz S [] (fun r S2 => r = 0 ∧ Inv S2 O) := by
  refine Ct_i (by decide) (Nat.le_of_ble_eq_true rfl) .int rfl ?_
  intro p e s m args below meth c A Q E hA w ret ls hl
  have hx := E.1.1
  have hb := E.1.2.1
  have hl : lv_has ls 2 [(0, .ref h)] := hl
  have hO := hI.1
  have hT := hI.2.1
  have hM := hI.2.2.1
  have h6 := hO.2.1
  have h1 := hO.1
  have hln := MI_ln hO
  refine lv_iconst (v := nI 0) hx hb dX0_crash_0 (by decide) ?_
  refine lv_istore_n (lv' := [(1, .int (nI 0)), (0, .ref h)]) hx hb dX0_crash_1 rfl hl (by decide) rfl (fun ls hl => ?_)
  have loop2 : ∀ (n : Nat) (i : Nat) (S1 : PS) (H : Heap) (locs : List Loc) (ls : Array Slot), i ≤ 8 → 9 ≤ i + n → kp S S1 → (∀ j : Nat, j < i → vp O (O.2.2 - 1) (ln O) j (S1.1 7 j) (S1.1 8 j)) → Wd D A s.heap (wX h ad d dz S1) H locs → lv_has ls 2 [(0, .ref h), (1, .int (nI i))] → W p l e ptr2 s m args below meth c H locs 0 0 Q (F0 m 2 ls []) := by
    intro n
    induction n with
    | zero =>
      intro i S1 H locs ls h1 h2
      exact absurd h2 (by omega)
    | succ n ih =>
      intro i S1 H locs ls hi hin hk hm w hl
      refine lv_iload_n hx hb dX0_crash_2 rfl (lv_at hl 1 rfl) ?_
      refine lv_bipush (v := 8) hx hb dX0_crash_3 (by decide) ?_
      refine lv_icmp_ge (tgt := 38) hx hb dX0_crash_5 (by decide) (fun c1 => ?_) (fun c1 => ?_)
      · rw [e8, nI_leI (by decide) (by omega)] at c1
        obtain rfl : i = 8 := by omega
        have hT1 := iT_kp hk hT
        refine lv_aload_n hx hb dX0_crash_38 rfl (lv_at hl 0 rfl) ?_
        refine gx_now E w (lv_at hl 0 rfl) dX0_crash_39 dX0_crash_40 ?_
        refine top_eq (y := nI (O.2.2 - 1)) (hT1.2.1) ?_
        refine gx_end E w (lv_at hl 0 rfl) dX0_crash_43 dX0_crash_44 ?_
        refine gx_now E w (lv_at hl 0 rfl) dX0_crash_47 dX0_crash_48 ?_
        refine top_eq (y := nI (O.2.2 - 1)) (hT1.2.1) ?_
        refine x_ld E w 6 (i := O.2.2 - 1) (v := nI (ln O)) rfl (by show _ < 6; omega) (iT_end hO hT1) dX0_crash_51 ?_
        refine cx_v (rest := []) E (mX_redo l D h ad d dz S1 O (O.2.2 - 1) (ln O) hO hT1 (by omega) (Nat.le_refl _) hm) (cwx_redo E ⟨by decide, by decide⟩) w hA hl.1 rfl rfl (by decide) dX0_crash_52 ⟨Nat.zero_le _, Nat.zero_le _⟩ (fun S2 H locs hq w => ?_)
        refine lv_aload_n hx hb dX0_crash_55 rfl (lv_at hl 0 rfl) ?_
        refine lv_iconst (v := 0) hx hb dX0_crash_56 (by decide) ?_
        obtain ⟨S3, eS3⟩ : ∃ z_ : PS, z_ = ss S2 3 0 := ⟨_, rfl⟩
        refine px_underWay E w rfl rfl eS3.symm dX0_crash_57 (fun H locs w => ?_)
        refine lv_iconst (v := 0) hx hb dX0_crash_60 (by decide) ?_
        exact ret 0 S3 _ _ _ _ (by first | rfl | decide) (⟨rfl, crash_inv hI (kp_tr hk hq.1) hq.2 eS3⟩) w dX0_crash_61
      · rw [e8, nI_leI (by decide) (by omega)] at c1
        have k9 := hk.2 9 (by decide) (by decide)
        have k10 := hk.2 10 (by decide) (by decide)
        refine gx_memory E w (lv_at hl 0 rfl) dX0_crash_8 dX0_crash_9 ?_
        refine lv_iload_n hx hb dX0_crash_12 rfl (lv_at hl 1 rfl) ?_
        refine gx_disk E w (lv_at hl 0 rfl) dX0_crash_13 dX0_crash_14 ?_
        refine lv_iload_n hx hb dX0_crash_17 rfl (lv_at hl 1 rfl) ?_
        refine x_ld E w 9 (i := i) (v := S.1 9 i) rfl (by show _ < 8; omega) (by rw [k9]) dX0_crash_18 ?_
        obtain ⟨S2, eS2⟩ : ∃ z_ : PS, z_ = sa S1 7 (upd (S1.1 7) i (S.1 9 i)) := ⟨_, rfl⟩
        refine x_st E w 7 (i := i) rfl (by show _ < 8; omega) eS2.symm dX0_crash_19 (fun H locs w => ?_)
        refine gx_memoryPoint E w (lv_at hl 0 rfl) dX0_crash_20 dX0_crash_21 ?_
        refine lv_iload_n hx hb dX0_crash_24 rfl (lv_at hl 1 rfl) ?_
        refine gx_diskPoint E w (lv_at hl 0 rfl) dX0_crash_25 dX0_crash_26 ?_
        refine lv_iload_n hx hb dX0_crash_29 rfl (lv_at hl 1 rfl) ?_
        refine x_ld E w 10 (i := i) (v := S.1 10 i) rfl (by show _ < 8; omega) (by rw [eS2]; show S1.1 10 i = _; rw [k10]) dX0_crash_30 ?_
        obtain ⟨S3, eS3⟩ : ∃ z_ : PS, z_ = sa S2 8 (upd (S2.1 8) i (S.1 10 i)) := ⟨_, rfl⟩
        refine x_st E w 8 (i := i) rfl (by show _ < 8; omega) eS3.symm dX0_crash_31 (fun H locs w => ?_)
        refine lv_iinc (v := nI (i + 1)) (lv' := [(1, .int (nI (i + 1))), (0, .ref h)]) hx hb dX0_crash_32 hl (k := 1) rfl (nI_1 i) (by decide) rfl (fun ls hl => ?_)
        refine lv_goto (tgt := 2) hx hb dX0_crash_35 (by decide) ?_
        exact ih (i + 1) S3 _ _ _ (by omega) (by omega) (by rw [eS3, eS2]; exact kp_sa8 (kp_sa7 hk _) _) (rs_step (P := fun j x y => vp O (O.2.2 - 1) (ln O) j x y) hm eS2 eS3 (hI.2.2.2.1 i (by omega))) w (lv_sub hl [1, 0] rfl)
  exact loop2 9 0 S _ _ _ (by omega) (by omega) (kp_rf S) (fun j hj => absurd hj (by omega)) w (lv_sub hl [1, 0] rfl)
set_option maxHeartbeats 4000000 in
set_option maxRecDepth 100000 in
/-- beginBackup -/
theorem mX_beginBackup (l : Launch) (D : va_G) (h : Nat) (ad : Nat → Nat) (d dz : ClassId) (S : PS)  (O : MO) (hI : Inv S O) : CXv l yX0_beginBackup cX0_beginBackup 1 ptr1 D h ad d dz S [] (fun S2 => Inv S2 O ∧ S2.2 3 ≠ 0) := by
  refine Ct_v (by decide) (Nat.le_of_ble_eq_true rfl) ?_
  intro p e s m args below meth c A Q E hA w ret ls hl
  have hx := E.1.1
  have hb := E.1.2.1
  have hl : lv_has ls 1 [(0, .ref h)] := hl
  have hO := hI.1
  have hT := hI.2.1
  have hM := hI.2.2.1
  have h6 := hO.2.1
  have h1 := hO.1
  have hln := MI_ln hO
  refine lv_aload_n hx hb dX0_beginBackup_0 rfl (lv_at hl 0 rfl) ?_
  refine lv_bipush (v := 8) hx hb dX0_beginBackup_1 (by decide) ?_
  refine cx_i (rest := []) E (mX_writeOut l D h ad d dz S 8 O hM hI.2.2.2.1) (cwx_writeOut E ⟨by decide, by decide⟩) w hA hl.1 rfl rfl (by decide) dX0_beginBackup_3 ⟨Nat.zero_le _, Nat.zero_le _⟩ (fun r S1 H locs hq w => ?_)
  have hJ := kd_inv hI hq.1 hq.2
  have hT1 := hJ.2.1
  obtain ⟨b, c0, hb4, hc0, eb, ec, hu⟩ := hJ.2.2.2.2.2
  refine lv_pop hx hb dX0_beginBackup_6 rfl ?_
  refine gx_finished E w (lv_at hl 0 rfl) dX0_beginBackup_7 dX0_beginBackup_8 ?_
  refine gx_nextBackup E w (lv_at hl 0 rfl) dX0_beginBackup_11 dX0_beginBackup_12 ?_
  refine top_eq (y := nI b) (eb) ?_
  refine lv_iconst (v := 0) hx hb dX0_beginBackup_15 (by decide) ?_
  obtain ⟨S2, eS2⟩ : ∃ z_ : PS, z_ = sa S1 11 (upd (S1.1 11) b 0) := ⟨_, rfl⟩
  refine x_zst E w (i := b) rfl (hb4) (by decide) eS2.symm dX0_beginBackup_16 (fun H locs w => ?_)
  have g2 : S2.2 = S1.2 := by rw [eS2]; rfl
  refine gx_backupLine E w (lv_at hl 0 rfl) dX0_beginBackup_17 dX0_beginBackup_18 ?_
  refine gx_nextBackup E w (lv_at hl 0 rfl) dX0_beginBackup_21 dX0_beginBackup_22 ?_
  refine top_eq (y := nI b) (by rw [g2]; exact eb) ?_
  refine gx_now E w (lv_at hl 0 rfl) dX0_beginBackup_25 dX0_beginBackup_26 ?_
  refine top_eq (y := nI (O.2.2 - 1)) (by rw [g2]; exact hT1.2.1) ?_
  obtain ⟨S3, eS3⟩ : ∃ z_ : PS, z_ = sa S2 12 (upd (S2.1 12) b (nI (O.2.2 - 1))) := ⟨_, rfl⟩
  refine x_st E w 12 (i := b) rfl (by show _ < 4; omega) eS3.symm dX0_beginBackup_29 (fun H locs w => ?_)
  have g3 : S3.2 = S1.2 := by rw [eS3]; exact g2
  refine gx_backupBegin E w (lv_at hl 0 rfl) dX0_beginBackup_30 dX0_beginBackup_31 ?_
  refine gx_nextBackup E w (lv_at hl 0 rfl) dX0_beginBackup_34 dX0_beginBackup_35 ?_
  refine top_eq (y := nI b) (by rw [g3]; exact eb) ?_
  refine gx_end E w (lv_at hl 0 rfl) dX0_beginBackup_38 dX0_beginBackup_39 ?_
  refine gx_now E w (lv_at hl 0 rfl) dX0_beginBackup_42 dX0_beginBackup_43 ?_
  refine top_eq (y := nI (O.2.2 - 1)) (by rw [g3]; exact hT1.2.1) ?_
  refine x_ld E w 6 (i := O.2.2 - 1) rfl (by show _ < 6; omega) (rfl) dX0_beginBackup_46 ?_
  obtain ⟨S4, eS4⟩ : ∃ z_ : PS, z_ = sa S3 13 (upd (S3.1 13) b (S3.1 6 (O.2.2 - 1))) := ⟨_, rfl⟩
  refine x_st E w 13 (i := b) rfl (by show _ < 4; omega) eS4.symm dX0_beginBackup_47 (fun H locs w => ?_)
  refine lv_aload_n hx hb dX0_beginBackup_48 rfl (lv_at hl 0 rfl) ?_
  refine lv_iconst (v := 0) hx hb dX0_beginBackup_49 (by decide) ?_
  obtain ⟨S5, eS5⟩ : ∃ z_ : PS, z_ = ss S4 4 0 := ⟨_, rfl⟩
  refine px_copied E w eS5.symm dX0_beginBackup_50 (fun H locs w => ?_)
  refine lv_aload_n hx hb dX0_beginBackup_53 rfl (lv_at hl 0 rfl) ?_
  refine lv_iconst (v := 1) hx hb dX0_beginBackup_54 (by decide) ?_
  obtain ⟨S6, eS6⟩ : ∃ z_ : PS, z_ = ss S5 3 1 := ⟨_, rfl⟩
  refine px_underWay E w rfl rfl eS6.symm dX0_beginBackup_55 (fun H locs w => ?_)
  exact ret S6 _ _ _ _ (by
      refine ⟨begin_inv hJ hb4 eb ?_ ?_ ?_ ?_ ?_, by rw [eS6, ss_same]; decide⟩
      · rw [eS6, eS5, eS4, eS3, eS2]; rfl
      · rw [eS6, eS5, eS4, eS3, eS2]; rfl
      · intro j h11 h12 h13; rw [eS6, eS5, eS4, eS3, eS2]; exact (sa_ne h13).trans ((sa_ne h12).trans (sa_ne h11))
      · intro j hj; rw [eS6, ss_ne (by omega), eS5, ss_ne (by omega), eS4, eS3, eS2]; rfl
      · rw [eS6, eS5]; rfl) w dX0_beginBackup_58
set_option maxHeartbeats 4000000 in
set_option maxRecDepth 100000 in
/-- backup -/
theorem mX_backup (l : Launch) (D : va_G) (h : Nat) (ad : Nat → Nat) (d dz : ClassId) (S : PS) (x : Int32) (O : MO) (hI : Inv S O) : CX l yX0_backup cX0_backup 3 (some .int) ptr2 D h ad d dz S [.int x] (fun r S2 => r = aMany x ∧ Inv S2 O) := by
  refine Ct_i (by decide) (Nat.le_of_ble_eq_true rfl) .int rfl ?_
  intro p e s m args below meth c A Q E hA w ret ls hl
  have hx := E.1.1
  have hb := E.1.2.1
  have hl : lv_has ls 3 [(0, .ref h), (1, .int x)] := hl
  have hO := hI.1
  have hT := hI.2.1
  have hM := hI.2.2.1
  have h6 := hO.2.1
  have h1 := hO.1
  have hln := MI_ln hO
  refine lv_iload_n hx hb dX0_backup_0 rfl (lv_at hl 1 rfl) ?_
  refine lv_if_lt (tgt := 10) hx hb dX0_backup_1 (by decide) (fun c1 => ?_) (fun c1 => ?_)
  · refine lv_iconst (v := -1) hx hb dX0_backup_10 (by decide) ?_
    exact ret (-1) S _ _ _ _ (by first | rfl | decide) (⟨(aMany_bad (fun q => i32_len q.1 c1)).symm, hI⟩) w dX0_backup_11
  · refine lv_iload_n hx hb dX0_backup_4 rfl (lv_at hl 1 rfl) ?_
    refine lv_bipush (v := 8) hx hb dX0_backup_5 (by decide) ?_
    refine lv_icmp_le (tgt := 12) hx hb dX0_backup_7 (by decide) (fun c2 => ?_) (fun c2 => ?_)
    · have hans : (0 : Int32) = aMany x := (aMany_ok ⟨i32_nlt c1, c2⟩).symm
      have ex107 : ∀ (i : Nat) (S1 : PS) (H : Heap) (locs : List Loc) (ls : Array Slot), Inv S1 O → S1.2 3 ≠ 0 → Wd D A s.heap (wX h ad d dz S1) H locs → lv_has ls 3 [(0, .ref h), (1, .int x), (2, .int (nI i))] → W p l e ptr2 s m args below meth c H locs 0 0 Q (F0 m 107 ls []) := by
        intro i S1 H locs ls hJ hu1 w hl
        have hT1 := hJ.2.1
        obtain ⟨b, c0, hb4, hc0, eb, ec, hu⟩ := hJ.2.2.2.2.2
        refine gx_copied E w (lv_at hl 0 rfl) dX0_backup_107 dX0_backup_108 ?_
        refine top_eq (y := nI c0) (ec) ?_
        refine lv_bipush (v := 8) hx hb dX0_backup_111 (by decide) ?_
        refine lv_icmp_ne (tgt := 161) hx hb dX0_backup_113 (by decide) (fun c3 => ?_) (fun c3 => ?_)
        · refine lv_iconst (v := 0) hx hb dX0_backup_161 (by decide) ?_
          exact ret 0 S1 _ _ _ _ (by first | rfl | decide) (⟨hans, hJ⟩) w dX0_backup_162
        · obtain rfl : c0 = 8 := nI_inj (by omega) (by decide) c3
          refine gx_finished E w (lv_at hl 0 rfl) dX0_backup_116 dX0_backup_117 ?_
          refine gx_nextBackup E w (lv_at hl 0 rfl) dX0_backup_120 dX0_backup_121 ?_
          refine top_eq (y := nI b) (eb) ?_
          refine lv_iconst (v := 1) hx hb dX0_backup_124 (by decide) ?_
          obtain ⟨S2, eS2⟩ : ∃ z_ : PS, z_ = sa S1 11 (upd (S1.1 11) b 1) := ⟨_, rfl⟩
          refine x_zst E w (i := b) rfl (hb4) (by decide) eS2.symm dX0_backup_125 (fun H locs w => ?_)
          have g2 : S2.2 = S1.2 := by rw [eS2]; rfl
          have hE : S2.1 6 (O.2.2 - 1) = nI (ln O) := by rw [eS2]; exact iT_end hO hT1
          refine gx_backupEnd E w (lv_at hl 0 rfl) dX0_backup_126 dX0_backup_127 ?_
          refine gx_nextBackup E w (lv_at hl 0 rfl) dX0_backup_130 dX0_backup_131 ?_
          refine top_eq (y := nI b) (by rw [g2]; exact eb) ?_
          refine gx_end E w (lv_at hl 0 rfl) dX0_backup_134 dX0_backup_135 ?_
          refine gx_now E w (lv_at hl 0 rfl) dX0_backup_138 dX0_backup_139 ?_
          refine top_eq (y := nI (O.2.2 - 1)) (by rw [g2]; exact hT1.2.1) ?_
          refine x_ld E w 6 (i := O.2.2 - 1) (v := nI (ln O)) rfl (by show _ < 6; omega) (hE) dX0_backup_142 ?_
          obtain ⟨S3, eS3⟩ : ∃ z_ : PS, z_ = sa S2 14 (upd (S2.1 14) b (nI (ln O))) := ⟨_, rfl⟩
          refine x_st E w 14 (i := b) rfl (by show _ < 4; omega) eS3.symm dX0_backup_143 (fun H locs w => ?_)
          have g3 : S3.2 = S1.2 := by rw [eS3]; exact g2
          refine lv_aload_n hx hb dX0_backup_144 rfl (lv_at hl 0 rfl) ?_
          refine gx_nextBackup E w (lv_at hl 0 rfl) dX0_backup_145 dX0_backup_146 ?_
          refine top_eq (y := nI b) (by rw [g3]; exact eb) ?_
          refine lv_iconst (v := 1) hx hb dX0_backup_149 (by decide) ?_
          refine lv_iadd hx hb dX0_backup_150 ?_
          refine lv_iconst (v := 3) hx hb dX0_backup_151 (by decide) ?_
          refine lv_iand hx hb dX0_backup_152 ?_
          refine top_eq (y := nI ((b + 1) % 4)) (and3 hb4) ?_
          obtain ⟨S4, eS4⟩ : ∃ z_ : PS, z_ = ss S3 2 (nI ((b + 1) % 4)) := ⟨_, rfl⟩
          refine px_nextBackup E w eS4.symm dX0_backup_153 (fun H locs w => ?_)
          refine lv_aload_n hx hb dX0_backup_156 rfl (lv_at hl 0 rfl) ?_
          refine lv_iconst (v := 0) hx hb dX0_backup_157 (by decide) ?_
          obtain ⟨S5, eS5⟩ : ∃ z_ : PS, z_ = ss S4 3 0 := ⟨_, rfl⟩
          refine px_underWay E w rfl rfl eS5.symm dX0_backup_158 (fun H locs w => ?_)
          refine lv_iconst (v := 0) hx hb dX0_backup_161 (by decide) ?_
          exact ret 0 S5 _ _ _ _ (by first | rfl | decide) (by
                        refine ⟨hans, finish_inv hJ hb4 (b2 := (b + 1) % 4) (by omega) eb ec hu1 ?_ ?_ ?_ ?_ ?_ ?_ ?_ ?_⟩
                        · rw [eS5, eS4, eS3, eS2]; rfl
                        · rw [eS5, eS4, eS3, eS2]; rfl
                        · intro j h11 h14; rw [eS5, eS4, eS3, eS2]; exact (sa_ne h14).trans (sa_ne h11)
                        · rw [eS5, eS4, eS3, eS2]; rfl
                        · rw [eS5, eS4, eS3, eS2]; rfl
                        · rw [eS5, eS4]; rfl
                        · rw [eS5]; rfl
                        · rw [eS5, eS4, eS3, eS2]; rfl) w dX0_backup_162
      obtain ⟨mm, hmm, emm⟩ := many_of c1 c2
      have loop25 : ∀ (n : Nat) (i : Nat) (S1 : PS) (H : Heap) (locs : List Loc) (ls : Array Slot), i ≤ mm → mm + 1 ≤ i + n → Inv S1 O → S1.2 3 ≠ 0 → Wd D A s.heap (wX h ad d dz S1) H locs → lv_has ls 3 [(0, .ref h), (1, .int x), (2, .int (nI i))] → W p l e ptr2 s m args below meth c H locs 0 0 Q (F0 m 25 ls []) := by
        intro n
        induction n with
        | zero =>
          intro i S1 H locs ls h1 h2
          exact absurd h2 (by omega)
        | succ n ih =>
          intro i S1 H locs ls hi hin hJ hu1 w hl
          have hT1 := hJ.2.1
          obtain ⟨b, c0, hb4, hc0, eb, ec, hu⟩ := hJ.2.2.2.2.2
          refine lv_iload_n hx hb dX0_backup_25 rfl (lv_at hl 2 rfl) ?_
          refine lv_iload_n hx hb dX0_backup_26 rfl (lv_at hl 1 rfl) ?_
          refine lv_icmp_ge (tgt := 107) hx hb dX0_backup_27 (by decide) (fun c3 => ?_) (fun c3 => ?_)
          · exact ex107 i S1 _ _ _ hJ hu1 w hl
          · rw [emm, nI_leI (by omega) (by omega)] at c3
            refine gx_copied E w (lv_at hl 0 rfl) dX0_backup_30 dX0_backup_31 ?_
            refine top_eq (y := nI c0) (ec) ?_
            refine lv_bipush (v := 8) hx hb dX0_backup_34 (by decide) ?_
            refine lv_icmp_ge (tgt := 107) hx hb dX0_backup_36 (by decide) (fun c4 => ?_) (fun c4 => ?_)
            · exact ex107 i S1 _ _ _ hJ hu1 w hl
            · rw [e8, nI_leI (by decide) (by omega)] at c4
              refine gx_saved E w (lv_at hl 0 rfl) dX0_backup_39 dX0_backup_40 ?_
              refine gx_nextBackup E w (lv_at hl 0 rfl) dX0_backup_43 dX0_backup_44 ?_
              refine top_eq (y := nI b) (eb) ?_
              refine lv_bipush (v := 8) hx hb dX0_backup_47 (by decide) ?_
              refine lv_imul hx hb dX0_backup_49 ?_
              refine gx_copied E w (lv_at hl 0 rfl) dX0_backup_50 dX0_backup_51 ?_
              refine top_eq (y := nI c0) (ec) ?_
              refine lv_iadd hx hb dX0_backup_54 ?_
              refine top_eq (y := nI (8 * b + c0)) (b8_val b c0) ?_
              refine gx_disk E w (lv_at hl 0 rfl) dX0_backup_55 dX0_backup_56 ?_
              refine gx_copied E w (lv_at hl 0 rfl) dX0_backup_59 dX0_backup_60 ?_
              refine top_eq (y := nI c0) (ec) ?_
              refine x_ld E w 9 (i := c0) rfl (by show _ < 8; omega) (rfl) dX0_backup_63 ?_
              obtain ⟨S2, eS2⟩ : ∃ z_ : PS, z_ = sa S1 15 (upd (S1.1 15) (8 * b + c0) (S1.1 9 c0)) := ⟨_, rfl⟩
              refine x_st E w 15 (i := 8 * b + c0) rfl (by show _ < 32; omega) eS2.symm dX0_backup_64 (fun H locs w => ?_)
              have g2 : S2.2 = S1.2 := by rw [eS2]; rfl
              refine gx_savedPoint E w (lv_at hl 0 rfl) dX0_backup_65 dX0_backup_66 ?_
              refine gx_nextBackup E w (lv_at hl 0 rfl) dX0_backup_69 dX0_backup_70 ?_
              refine top_eq (y := nI b) (by rw [g2]; exact eb) ?_
              refine lv_bipush (v := 8) hx hb dX0_backup_73 (by decide) ?_
              refine lv_imul hx hb dX0_backup_75 ?_
              refine gx_copied E w (lv_at hl 0 rfl) dX0_backup_76 dX0_backup_77 ?_
              refine top_eq (y := nI c0) (by rw [g2]; exact ec) ?_
              refine lv_iadd hx hb dX0_backup_80 ?_
              refine top_eq (y := nI (8 * b + c0)) (b8_val b c0) ?_
              refine gx_diskPoint E w (lv_at hl 0 rfl) dX0_backup_81 dX0_backup_82 ?_
              refine gx_copied E w (lv_at hl 0 rfl) dX0_backup_85 dX0_backup_86 ?_
              refine top_eq (y := nI c0) (by rw [g2]; exact ec) ?_
              refine x_ld E w 10 (i := c0) (v := S1.1 10 c0) rfl (by show _ < 8; omega) (by rw [eS2]; rfl) dX0_backup_89 ?_
              obtain ⟨S3, eS3⟩ : ∃ z_ : PS, z_ = sa S2 16 (upd (S2.1 16) (8 * b + c0) (S1.1 10 c0)) := ⟨_, rfl⟩
              refine x_st E w 16 (i := 8 * b + c0) rfl (by show _ < 32; omega) eS3.symm dX0_backup_90 (fun H locs w => ?_)
              have g3 : S3.2 = S1.2 := by rw [eS3]; exact g2
              refine lv_aload_n hx hb dX0_backup_91 rfl (lv_at hl 0 rfl) ?_
              refine lv_dup hx hb dX0_backup_92 rfl ?_
              refine hx_copied E w dX0_backup_93 ?_
              refine top_eq (y := nI c0) (by rw [g3]; exact ec) ?_
              refine lv_iconst (v := 1) hx hb dX0_backup_96 (by decide) ?_
              refine lv_iadd hx hb dX0_backup_97 ?_
              refine top_eq (y := nI (c0 + 1)) (nI_1 _) ?_
              obtain ⟨S4, eS4⟩ : ∃ z_ : PS, z_ = ss S3 4 (nI (c0 + 1)) := ⟨_, rfl⟩
              refine px_copied E w eS4.symm dX0_backup_98 (fun H locs w => ?_)
              refine lv_iinc (v := nI (i + 1)) (lv' := [(2, .int (nI (i + 1))), (0, .ref h), (1, .int x)]) hx hb dX0_backup_101 hl (k := 2) rfl (nI_1 i) (by decide) rfl (fun ls hl => ?_)
              refine lv_goto (tgt := 25) hx hb dX0_backup_104 (by decide) ?_
              refine ih (i + 1) S4 _ _ _ (by omega) (by omega) (copy_inv hJ hb4 (by omega) eb ec hu1 ?_ ?_ ?_ ?_ ?_) (by rw [eS4, ss_ne (by decide), g3]; exact hu1) w (lv_sub hl [1, 2, 0] rfl)
              · rw [eS4, eS3, eS2]; rfl
              · rw [eS4, eS3, eS2]; rfl
              · intro j h15 h16; rw [eS4, eS3, eS2]; exact (sa_ne h16).trans (sa_ne h15)
              · intro j hj; rw [eS4, ss_ne hj, g3]
              · rw [eS4]; rfl
      refine gx_underWay E w (lv_at hl 0 rfl) dX0_backup_12 dX0_backup_13 ?_
      refine lv_if_ne (tgt := 23) hx hb dX0_backup_16 (by decide) (fun c3 => ?_) (fun c3 => ?_)
      · refine lv_iconst (v := nI 0) hx hb dX0_backup_23 (by decide) ?_
        refine lv_istore_n (lv' := [(2, .int (nI 0)), (0, .ref h), (1, .int x)]) hx hb dX0_backup_24 rfl hl (by decide) rfl (fun ls hl => ?_)
        exact loop25 (mm + 1) 0 S _ _ _ (by omega) (by omega) hI c3 w (lv_sub hl [1, 2, 0] rfl)
      · refine lv_aload_n hx hb dX0_backup_19 rfl (lv_at hl 0 rfl) ?_
        refine cx_v (rest := []) E (mX_beginBackup l D h ad d dz S O hI) (cwx_beginBackup E ⟨by decide, by decide⟩) w hA hl.1 rfl rfl (by decide) dX0_backup_20 ⟨Nat.zero_le _, Nat.zero_le _⟩ (fun S2 H locs hq w => ?_)
        refine lv_iconst (v := nI 0) hx hb dX0_backup_23 (by decide) ?_
        refine lv_istore_n (lv' := [(2, .int (nI 0)), (0, .ref h), (1, .int x)]) hx hb dX0_backup_24 rfl hl (by decide) rfl (fun ls hl => ?_)
        exact loop25 (mm + 1) 0 S2 _ _ _ (by omega) (by omega) hq.1 hq.2 w (lv_sub hl [1, 2, 0] rfl)
    · refine lv_iconst (v := -1) hx hb dX0_backup_10 (by decide) ?_
      exact ret (-1) S _ _ _ _ (by first | rfl | decide) (⟨(aMany_bad (fun q => c2 q.2)).symm, hI⟩) w dX0_backup_11
set_option maxHeartbeats 4000000 in
set_option maxRecDepth 100000 in
/-- restore -/
theorem mX_restore (l : Launch) (D : va_G) (h : Nat) (ad : Nat → Nat) (d dz : ClassId) (S : PS) (x y : Int32) (O : MO) (hI : Inv S O) : CX l yX0_restore cX0_restore 5 (some .int) ptr2 D h ad d dz S [.int x, .int y] (fun r S2 => r = (aRst O x y).1 ∧ Inv S2 (aRst O x y).2) := by
  refine Ct_i (by decide) (Nat.le_of_ble_eq_true rfl) .int rfl ?_
  intro p e s m args below meth c A Q E hA w ret ls hl
  have hx := E.1.1
  have hb := E.1.2.1
  have hl : lv_has ls 5 [(0, .ref h), (1, .int x), (2, .int y)] := hl
  have hO := hI.1
  have hT := hI.2.1
  have hM := hI.2.2.1
  have h6 := hO.2.1
  have h1 := hO.1
  have hln := MI_ln hO
  refine lv_aload_n hx hb dX0_restore_0 rfl (lv_at hl 0 rfl) ?_
  refine lv_iload_n hx hb dX0_restore_1 rfl (lv_at hl 1 rfl) ?_
  refine lv_iload_n hx hb dX0_restore_2 rfl (lv_at hl 2 rfl) ?_
  refine cx_i (rest := []) E (mX_noPoint l D h ad d dz S x y O hO hT) (cwx_noPoint E ⟨by decide, by decide⟩) w hA hl.1 rfl rfl (by decide) dX0_restore_3 ⟨Nat.zero_le _, Nat.zero_le _⟩ (fun r S2 H locs hq w => ?_)
  obtain ⟨rfl, hq⟩ := hq
  refine lv_if_eq (tgt := 12) hx hb dX0_restore_6 (by decide) (fun c1 => ?_) (fun c1 => ?_)
  · obtain ⟨t, n0, ht, hn, rfl, rfl⟩ : ∃ t n : Nat, t < O.2.2 ∧ n ≤ O.2.1 t ∧ x = nI t ∧ y = nI n := by
      rcases hq with ⟨_, q⟩ | ⟨q, _⟩
      · exact q
      · rw [q] at c1; exact absurd c1 (by decide)
    have h30 := hO.2.2 t ht
    refine gx_timelines E w (lv_at hl 0 rfl) dX0_restore_12 dX0_restore_13 ?_
    refine top_eq (y := nI O.2.2) (hT.1) ?_
    refine lv_bipush (v := 6) hx hb dX0_restore_16 (by decide) ?_
    refine lv_icmp_ne (tgt := 24) hx hb dX0_restore_18 (by decide) (fun c2 => ?_) (fun c2 => ?_)
    · have h66 : O.2.2 ≠ 6 := fun q => c2 (by rw [q]; decide)
      refine lv_aload_n hx hb dX0_restore_24 rfl (lv_at hl 0 rfl) ?_
      refine lv_iload_n hx hb dX0_restore_25 rfl (lv_at hl 1 rfl) ?_
      refine lv_iload_n hx hb dX0_restore_26 rfl (lv_at hl 2 rfl) ?_
      refine cx_i (rest := []) E (mX_usable l D h ad d dz S O t n0 hO hT hI.2.2.2.2.1 ht hn) (cwx_usable E ⟨by decide, by decide⟩) w hA hl.1 rfl rfl (by decide) dX0_restore_27 ⟨Nat.zero_le _, Nat.zero_le _⟩ (fun z S2 H locs hq3 w => ?_)
      obtain ⟨hq4, hz⟩ := hq3
      subst hq4
      refine lv_istore_n (lv' := [(3, .int z), (0, .ref h), (1, .int (nI t)), (2, .int (nI n0))]) hx hb dX0_restore_30 rfl hl (by decide) rfl (fun ls hl => ?_)
      refine lv_iconst (v := nI 0) hx hb dX0_restore_31 (by decide) ?_
      refine lv_istore (lv' := [(4, .int (nI 0)), (3, .int z), (0, .ref h), (1, .int (nI t)), (2, .int (nI n0))]) hx hb dX0_restore_32 hl (by decide) rfl (fun ls hl => ?_)
      have loop110 : ∀ (n : Nat) (i : Nat) (S2 S3 : PS) (H : Heap) (locs : List Loc) (ls : Array Slot), i ≤ 8 → 9 ≤ i + n → kp S S2 → (∀ k : Nat, k < 8 → S2.1 7 k = vM O t n0 k ∧ vp O t n0 k (S2.1 7 k) (S2.1 8 k)) → kd S2 S3 → (∀ j : Nat, j < i → S3.1 9 j = S2.1 7 j ∧ S3.1 10 j = S2.1 8 j) → Wd D A s.heap (wX h ad d dz S3) H locs → lv_has ls 5 [(0, .ref h), (1, .int (nI t)), (2, .int (nI n0)), (3, .int z), (4, .int (nI i))] → W p l e ptr2 s m args below meth c H locs 0 0 Q (F0 m 110 ls []) := by
        intro n
        induction n with
        | zero =>
          intro i S2 S3 H locs ls h1 h2
          exact absurd h2 (by omega)
        | succ n ih =>
          intro i S2 S3 H locs ls hi hin hk hm hkd hd w hl
          refine lv_iload hx hb dX0_restore_110 (lv_at hl 4 rfl) ?_
          refine lv_bipush (v := 8) hx hb dX0_restore_112 (by decide) ?_
          refine lv_icmp_ge (tgt := 151) hx hb dX0_restore_114 (by decide) (fun c3 => ?_) (fun c3 => ?_)
          · rw [e8, nI_leI (by decide) (by omega)] at c3
            obtain rfl : i = 8 := by omega
            have gS : S3.2 = S.2 := hkd.1.trans hk.1
            refine lv_aload_n hx hb dX0_restore_151 rfl (lv_at hl 0 rfl) ?_
            refine lv_iconst (v := 0) hx hb dX0_restore_152 (by decide) ?_
            obtain ⟨S4, eS4⟩ : ∃ z_ : PS, z_ = ss S3 3 0 := ⟨_, rfl⟩
            refine px_underWay E w rfl rfl eS4.symm dX0_restore_153 (fun H locs w => ?_)
            have g4 : S4.2 0 = nI O.2.2 := by rw [eS4, ss_ne (by decide), gS]; exact hT.1
            refine gx_parent E w (lv_at hl 0 rfl) dX0_restore_156 dX0_restore_157 ?_
            refine gx_timelines E w (lv_at hl 0 rfl) dX0_restore_160 dX0_restore_161 ?_
            refine top_eq (y := nI O.2.2) (g4) ?_
            refine lv_iload_n hx hb dX0_restore_164 rfl (lv_at hl 1 rfl) ?_
            obtain ⟨S5, eS5⟩ : ∃ z_ : PS, z_ = sa S4 4 (upd (S4.1 4) O.2.2 (nI t)) := ⟨_, rfl⟩
            refine x_st E w 4 (i := O.2.2) rfl (by show _ < 6; omega) eS5.symm dX0_restore_165 (fun H locs w => ?_)
            have g5 : S5.2 0 = nI O.2.2 := by rw [eS5]; exact g4
            refine gx_fork E w (lv_at hl 0 rfl) dX0_restore_166 dX0_restore_167 ?_
            refine gx_timelines E w (lv_at hl 0 rfl) dX0_restore_170 dX0_restore_171 ?_
            refine top_eq (y := nI O.2.2) (g5) ?_
            refine lv_iload_n hx hb dX0_restore_174 rfl (lv_at hl 2 rfl) ?_
            obtain ⟨S6, eS6⟩ : ∃ z_ : PS, z_ = sa S5 5 (upd (S5.1 5) O.2.2 (nI n0)) := ⟨_, rfl⟩
            refine x_st E w 5 (i := O.2.2) rfl (by show _ < 6; omega) eS6.symm dX0_restore_175 (fun H locs w => ?_)
            have g6 : S6.2 0 = nI O.2.2 := by rw [eS6]; exact g5
            refine gx_end E w (lv_at hl 0 rfl) dX0_restore_176 dX0_restore_177 ?_
            refine gx_timelines E w (lv_at hl 0 rfl) dX0_restore_180 dX0_restore_181 ?_
            refine top_eq (y := nI O.2.2) (g6) ?_
            refine lv_iload_n hx hb dX0_restore_184 rfl (lv_at hl 2 rfl) ?_
            obtain ⟨S7, eS7⟩ : ∃ z_ : PS, z_ = sa S6 6 (upd (S6.1 6) O.2.2 (nI n0)) := ⟨_, rfl⟩
            refine x_st E w 6 (i := O.2.2) rfl (by show _ < 6; omega) eS7.symm dX0_restore_185 (fun H locs w => ?_)
            have g7 : S7.2 0 = nI O.2.2 := by rw [eS7]; exact g6
            refine lv_aload_n hx hb dX0_restore_186 rfl (lv_at hl 0 rfl) ?_
            refine gx_timelines E w (lv_at hl 0 rfl) dX0_restore_187 dX0_restore_188 ?_
            refine top_eq (y := nI O.2.2) (g7) ?_
            obtain ⟨S8, eS8⟩ : ∃ z_ : PS, z_ = ss S7 1 (nI O.2.2) := ⟨_, rfl⟩
            refine px_now E w eS8.symm dX0_restore_191 (fun H locs w => ?_)
            have g8 : S8.2 0 = nI O.2.2 := by rw [eS8, ss_ne (by decide)]; exact g7
            refine lv_aload_n hx hb dX0_restore_194 rfl (lv_at hl 0 rfl) ?_
            refine lv_dup hx hb dX0_restore_195 rfl ?_
            refine hx_timelines E w dX0_restore_196 ?_
            refine top_eq (y := nI O.2.2) (g8) ?_
            refine lv_iconst (v := 1) hx hb dX0_restore_199 (by decide) ?_
            refine lv_iadd hx hb dX0_restore_200 ?_
            refine top_eq (y := nI (O.2.2 + 1)) (nI_1 _) ?_
            obtain ⟨S9, eS9⟩ : ∃ z_ : PS, z_ = ss S8 0 (nI (O.2.2 + 1)) := ⟨_, rfl⟩
            refine px_timelines E w eS9.symm dX0_restore_201 (fun H locs w => ?_)
            refine gx_now E w (lv_at hl 0 rfl) dX0_restore_204 dX0_restore_205 ?_
            refine top_eq (y := nI O.2.2) (by rw [eS9, ss_ne (by decide), eS8, ss_same]) ?_
            have hA9 : S9.1 = S7.1 := by rw [eS9, eS8]; rfl
            have hA7 : ∀ j : Nat, j ≠ 4 → j ≠ 5 → j ≠ 6 → S9.1 j = S3.1 j := by
              intro j h4 h5 h6
              rw [hA9, eS7, eS6, eS5]
              refine (sa_ne h6).trans ((sa_ne h5).trans ((sa_ne h4).trans ?_))
              rw [eS4]; rfl
            have hA3 : ∀ j : Nat, j ≠ 7 → j ≠ 8 → j ≠ 9 → j ≠ 10 → S3.1 j = S.1 j := fun j h7 h8 h9 h10 => (hkd.2 j h9 h10).trans (hk.2 j h7 h8)
            have hres : Inv S9 (aCp O t n0) := by
              refine restore_inv hI ht hn h66 ?_ ?_ ?_ ?_ ?_ ?_ ?_ ?_ ?_ ?_ ?_
              · intro j hj; rw [hA7 j (by omega) (by omega) (by omega), hA3 j (by omega) (by omega) (by omega) (by omega)]
              · rw [hA9, eS7, eS6, eS5, eS4, ← hA3 4 (by decide) (by decide) (by decide) (by decide)]; rfl
              · rw [hA9, eS7, eS6, eS5, eS4, ← hA3 5 (by decide) (by decide) (by decide) (by decide)]; rfl
              · rw [hA9, eS7, eS6, eS5, eS4, ← hA3 6 (by decide) (by decide) (by decide) (by decide)]; rfl
              · rw [eS9, ss_same]
              · rw [eS9, ss_ne (by decide), eS8, ss_same]
              · rw [eS9, ss_ne (by decide), eS8, ss_ne (by decide), eS7, eS6, eS5, eS4, ← gS]; rfl
              · rw [eS9, ss_ne (by decide), eS8, ss_ne (by decide), eS7, eS6, eS5, eS4]; rfl
              · rw [eS9, ss_ne (by decide), eS8, ss_ne (by decide), eS7, eS6, eS5, eS4, ← gS]; rfl
              · intro k hk8; rw [hA7 7 (by decide) (by decide) (by decide), hA7 8 (by decide) (by decide) (by decide), hkd.2 7 (by decide) (by decide), hkd.2 8 (by decide) (by decide)]; exact hm k hk8
              · intro k hk8; rw [hA7 7 (by decide) (by decide) (by decide), hA7 8 (by decide) (by decide) (by decide), hA7 9 (by decide) (by decide) (by decide), hA7 10 (by decide) (by decide) (by decide), hkd.2 7 (by decide) (by decide), hkd.2 8 (by decide) (by decide)]; exact hd k hk8
            exact ret (nI O.2.2) S9 _ _ _ _ (by first | rfl | decide) (by rw [aRst_ok hO ht hn h66]; exact ⟨rfl, hres⟩) w dX0_restore_208
          · rw [e8, nI_leI (by decide) (by omega)] at c3
            have k7 := hkd.2 7 (by decide) (by decide)
            have k8 := hkd.2 8 (by decide) (by decide)
            refine gx_disk E w (lv_at hl 0 rfl) dX0_restore_117 dX0_restore_118 ?_
            refine lv_iload hx hb dX0_restore_121 (lv_at hl 4 rfl) ?_
            refine gx_memory E w (lv_at hl 0 rfl) dX0_restore_123 dX0_restore_124 ?_
            refine lv_iload hx hb dX0_restore_127 (lv_at hl 4 rfl) ?_
            refine x_ld E w 7 (i := i) (v := S2.1 7 i) rfl (by show _ < 8; omega) (by rw [k7]) dX0_restore_129 ?_
            obtain ⟨S4, eS4⟩ : ∃ z_ : PS, z_ = sa S3 9 (upd (S3.1 9) i (S2.1 7 i)) := ⟨_, rfl⟩
            refine x_st E w 9 (i := i) rfl (by show _ < 8; omega) eS4.symm dX0_restore_130 (fun H locs w => ?_)
            refine gx_diskPoint E w (lv_at hl 0 rfl) dX0_restore_131 dX0_restore_132 ?_
            refine lv_iload hx hb dX0_restore_135 (lv_at hl 4 rfl) ?_
            refine gx_memoryPoint E w (lv_at hl 0 rfl) dX0_restore_137 dX0_restore_138 ?_
            refine lv_iload hx hb dX0_restore_141 (lv_at hl 4 rfl) ?_
            refine x_ld E w 8 (i := i) (v := S2.1 8 i) rfl (by show _ < 8; omega) (by rw [eS4]; show S3.1 8 i = _; rw [k8]) dX0_restore_143 ?_
            obtain ⟨S5, eS5⟩ : ∃ z_ : PS, z_ = sa S4 10 (upd (S4.1 10) i (S2.1 8 i)) := ⟨_, rfl⟩
            refine x_st E w 10 (i := i) rfl (by show _ < 8; omega) eS5.symm dX0_restore_144 (fun H locs w => ?_)
            refine lv_iinc (v := nI (i + 1)) (lv' := [(4, .int (nI (i + 1))), (0, .ref h), (1, .int (nI t)), (2, .int (nI n0)), (3, .int z)]) hx hb dX0_restore_145 hl (k := 4) rfl (nI_1 i) (by decide) rfl (fun ls hl => ?_)
            refine lv_goto (tgt := 110) hx hb dX0_restore_148 (by decide) ?_
            exact ih (i + 1) S2 S5 _ _ _ (by omega) (by omega) hk hm (by rw [eS5, eS4]; exact kd_sa10 (kd_sa9 hkd _) _) (ds_step (P := fun j x y => x = S2.1 7 j ∧ y = S2.1 8 j) hd eS4 eS5 ⟨rfl, rfl⟩) w (lv_sub hl [1, 2, 3, 4, 0] rfl)
      have loop34 : ∀ (n : Nat) (i : Nat) (S1 : PS) (H : Heap) (locs : List Loc) (ls : Array Slot), i ≤ 8 → 9 ≤ i + n → kp S S1 → (∀ j : Nat, j < i → vp O t n0 j (S1.1 7 j) (S1.1 8 j)) → Wd D A s.heap (wX h ad d dz S1) H locs → lv_has ls 5 [(0, .ref h), (1, .int (nI t)), (2, .int (nI n0)), (3, .int z), (4, .int (nI i))] → W p l e ptr2 s m args below meth c H locs 0 0 Q (F0 m 34 ls []) := by
        intro n
        induction n with
        | zero =>
          intro i S1 H locs ls h1 h2
          exact absurd h2 (by omega)
        | succ n ih =>
          intro i S1 H locs ls hi hin hk hm w hl
          refine lv_iload hx hb dX0_restore_34 (lv_at hl 4 rfl) ?_
          refine lv_bipush (v := 8) hx hb dX0_restore_36 (by decide) ?_
          refine lv_icmp_ge (tgt := 101) hx hb dX0_restore_38 (by decide) (fun c3 => ?_) (fun c3 => ?_)
          · rw [e8, nI_leI (by decide) (by omega)] at c3
            obtain rfl : i = 8 := by omega
            refine lv_aload_n hx hb dX0_restore_101 rfl (lv_at hl 0 rfl) ?_
            refine lv_iload_n hx hb dX0_restore_102 rfl (lv_at hl 1 rfl) ?_
            refine lv_iload_n hx hb dX0_restore_103 rfl (lv_at hl 2 rfl) ?_
            refine cx_v (rest := []) E (mX_redo l D h ad d dz S1 O t n0 hO (iT_kp hk hT) ht hn hm) (cwx_redo E ⟨by decide, by decide⟩) w hA hl.1 rfl rfl (by decide) dX0_restore_104 ⟨Nat.zero_le _, Nat.zero_le _⟩ (fun S2 H locs hq5 w => ?_)
            refine lv_iconst (v := nI 0) hx hb dX0_restore_107 (by decide) ?_
            refine lv_istore (lv' := [(4, .int (nI 0)), (0, .ref h), (1, .int (nI t)), (2, .int (nI n0)), (3, .int z)]) hx hb dX0_restore_108 hl (by decide) rfl (fun ls hl => ?_)
            exact loop110 9 0 S2 S2 _ _ _ (by omega) (by omega) (kp_tr hk hq5.1) hq5.2 (kd_rf S2) (fun j hj => absurd hj (by omega)) w (lv_sub hl [1, 2, 3, 4, 0] rfl)
          · rw [e8, nI_leI (by decide) (by omega)] at c3
            have k15 := hk.2 15 (by decide) (by decide)
            have k16 := hk.2 16 (by decide) (by decide)
            rcases hz with ez | ⟨b, hb4, ez, hus⟩
            · refine gx_memory E w (lv_at hl 0 rfl) dX0_restore_41 dX0_restore_42 ?_
              refine lv_iload hx hb dX0_restore_45 (lv_at hl 4 rfl) ?_
              refine lv_iload_n hx hb dX0_restore_47 rfl (lv_at hl 3 rfl) ?_
              refine lv_if_ge (tgt := 55) hx hb dX0_restore_48 (by decide) (fun c4 => ?_) (fun c4 => ?_)
              · exact absurd c4 (by rw [ez]; decide)
              · refine lv_iconst (v := 0) hx hb dX0_restore_51 (by decide) ?_
                refine lv_goto (tgt := 67) hx hb dX0_restore_52 (by decide) ?_
                obtain ⟨S2, eS2⟩ : ∃ z_ : PS, z_ = sa S1 7 (upd (S1.1 7) i 0) := ⟨_, rfl⟩
                refine x_st E w 7 (i := i) rfl (by show _ < 8; omega) eS2.symm dX0_restore_67 (fun H locs w => ?_)
                refine gx_memoryPoint E w (lv_at hl 0 rfl) dX0_restore_68 dX0_restore_69 ?_
                refine lv_iload hx hb dX0_restore_72 (lv_at hl 4 rfl) ?_
                refine lv_iload_n hx hb dX0_restore_74 rfl (lv_at hl 3 rfl) ?_
                refine lv_if_ge (tgt := 82) hx hb dX0_restore_75 (by decide) (fun c5 => ?_) (fun c5 => ?_)
                · exact absurd c5 c4
                · refine lv_iconst (v := 0) hx hb dX0_restore_78 (by decide) ?_
                  refine lv_goto (tgt := 94) hx hb dX0_restore_79 (by decide) ?_
                  obtain ⟨S3, eS3⟩ : ∃ z_ : PS, z_ = sa S2 8 (upd (S2.1 8) i 0) := ⟨_, rfl⟩
                  refine x_st E w 8 (i := i) rfl (by show _ < 8; omega) eS3.symm dX0_restore_94 (fun H locs w => ?_)
                  refine lv_iinc (v := nI (i + 1)) (lv' := [(4, .int (nI (i + 1))), (0, .ref h), (1, .int (nI t)), (2, .int (nI n0)), (3, .int z)]) hx hb dX0_restore_95 hl (k := 4) rfl (nI_1 i) (by decide) rfl (fun ls hl => ?_)
                  refine lv_goto (tgt := 34) hx hb dX0_restore_98 (by decide) ?_
                  exact ih (i + 1) S3 _ _ _ (by omega) (by omega) (by rw [eS3, eS2]; exact kp_sa8 (kp_sa7 hk _) _) (rs_step (P := fun j x y => vp O t n0 j x y) hm eS2 eS3 (⟨0, rfl, Nat.zero_le _, (hT.2.2.2.2 t i ht (by omega)).symm⟩)) w (lv_sub hl [1, 2, 3, 4, 0] rfl)
            · refine gx_memory E w (lv_at hl 0 rfl) dX0_restore_41 dX0_restore_42 ?_
              refine lv_iload hx hb dX0_restore_45 (lv_at hl 4 rfl) ?_
              refine lv_iload_n hx hb dX0_restore_47 rfl (lv_at hl 3 rfl) ?_
              refine lv_if_ge (tgt := 55) hx hb dX0_restore_48 (by decide) (fun c4 => ?_) (fun c4 => ?_)
              · refine gx_saved E w (lv_at hl 0 rfl) dX0_restore_55 dX0_restore_56 ?_
                refine lv_iload_n hx hb dX0_restore_59 rfl (lv_at hl 3 rfl) ?_
                refine lv_bipush (v := 8) hx hb dX0_restore_60 (by decide) ?_
                refine lv_imul hx hb dX0_restore_62 ?_
                refine lv_iload hx hb dX0_restore_63 (lv_at hl 4 rfl) ?_
                refine lv_iadd hx hb dX0_restore_65 ?_
                refine x_ld E w 15 (i := 8 * b + i) (v := S.1 15 (8 * b + i)) (by rw [ez]; exact b8_val b i) (by show _ < 32; omega) (by rw [k15]) dX0_restore_66 ?_
                obtain ⟨S2, eS2⟩ : ∃ z_ : PS, z_ = sa S1 7 (upd (S1.1 7) i (S.1 15 (8 * b + i))) := ⟨_, rfl⟩
                refine x_st E w 7 (i := i) rfl (by show _ < 8; omega) eS2.symm dX0_restore_67 (fun H locs w => ?_)
                refine gx_memoryPoint E w (lv_at hl 0 rfl) dX0_restore_68 dX0_restore_69 ?_
                refine lv_iload hx hb dX0_restore_72 (lv_at hl 4 rfl) ?_
                refine lv_iload_n hx hb dX0_restore_74 rfl (lv_at hl 3 rfl) ?_
                refine lv_if_ge (tgt := 82) hx hb dX0_restore_75 (by decide) (fun c5 => ?_) (fun c5 => ?_)
                · refine gx_savedPoint E w (lv_at hl 0 rfl) dX0_restore_82 dX0_restore_83 ?_
                  refine lv_iload_n hx hb dX0_restore_86 rfl (lv_at hl 3 rfl) ?_
                  refine lv_bipush (v := 8) hx hb dX0_restore_87 (by decide) ?_
                  refine lv_imul hx hb dX0_restore_89 ?_
                  refine lv_iload hx hb dX0_restore_90 (lv_at hl 4 rfl) ?_
                  refine lv_iadd hx hb dX0_restore_92 ?_
                  refine x_ld E w 16 (i := 8 * b + i) (v := S.1 16 (8 * b + i)) (by rw [ez]; exact b8_val b i) (by show _ < 32; omega) (by rw [eS2]; show S1.1 16 _ = _; rw [k16]) dX0_restore_93 ?_
                  obtain ⟨S3, eS3⟩ : ∃ z_ : PS, z_ = sa S2 8 (upd (S2.1 8) i (S.1 16 (8 * b + i))) := ⟨_, rfl⟩
                  refine x_st E w 8 (i := i) rfl (by show _ < 8; omega) eS3.symm dX0_restore_94 (fun H locs w => ?_)
                  refine lv_iinc (v := nI (i + 1)) (lv' := [(4, .int (nI (i + 1))), (0, .ref h), (1, .int (nI t)), (2, .int (nI n0)), (3, .int z)]) hx hb dX0_restore_95 hl (k := 4) rfl (nI_1 i) (by decide) rfl (fun ls hl => ?_)
                  refine lv_goto (tgt := 34) hx hb dX0_restore_98 (by decide) ?_
                  exact ih (i + 1) S3 _ _ _ (by omega) (by omega) (by rw [eS3, eS2]; exact kp_sa8 (kp_sa7 hk _) _) (rs_step (P := fun j x y => vp O t n0 j x y) hm eS2 eS3 (hus i (by omega))) w (lv_sub hl [1, 2, 3, 4, 0] rfl)
                · exact absurd c4 c5
              · exact absurd (by rw [ez]; exact nI_pos' (by omega)) c4
      exact loop34 9 0 S _ _ _ (by omega) (by omega) (kp_rf S) (fun j hj => absurd hj (by omega)) w (lv_sub hl [2, 3, 4, 1, 0] rfl)
    · have hf : O.2.2 = 6 := by rw [e6, nI_eq (by omega) (by decide)] at c2; exact c2
      refine lv_bipush (v := -2) hx hb dX0_restore_21 (by decide) ?_
      exact ret (-2) S _ _ _ _ (by first | rfl | decide) (by rw [aRst_full hO ht hn hf]; exact ⟨rfl, hI⟩) w dX0_restore_23
  · have hp : ¬ pOk O x y := by
      rcases hq with ⟨q, _⟩ | ⟨_, q⟩
      · exact absurd q c1
      · exact q
    refine lv_bipush (v := -4) hx hb dX0_restore_9 (by decide) ?_
    exact ret (-4) S _ _ _ _ (by first | rfl | decide) (by rw [aRst_bad hp]; exact ⟨rfl, hI⟩) w dX0_restore_11
end
section
/-! THE CONSTRUCTORS -/
set_option maxRecDepth 100000
section Init
variable {p : Program} {l : Launch} {e : Env} {R : Room} {s : State} {m : MethodId} {args : Array Value} {below : List Frame} {meth : Method} {c : Code} {H : Heap} {locs : List Loc} {cells slots : Nat} {Q : State → Prop}
variable {cc : ByteArray} {pc nL : Nat} {ls : Array Slot} {rest : List Value} {D : va_G} {A : Nat → Prop} {H0 : Heap} {own : String} {h : Nat} {ws : va_W} {tys : List (ClassId × FieldType)}
/-- the first int array -/
theorem in_0 (E : EX p s m args c D [] own cc nL) (w : Wd D A H0 ws H locs) (hA : ∀ q : Nat, H0.size ≤ q → A q) {n : Int32} {N : Nat} (hn : ¬ n < 0) (hN : n.toNatClampNeg = N) (hN2 : N ≤ 2000) (hcells : cells + 1 ≤ R.cells) (hslots : slots + N ≤ R.slots) (hdg : decode cc pc = .ok (.newarray .int, 2)) (kk : ∀ (q : Nat) (d : ClassId) (H : Heap), EX p s m args c D [(d, .int)] own cc nL → Wd D A H0 (ws ++ [(q, .inl (d, N, .inl (fun _ => 0)))]) H locs → W p l e R s m args below meth c H locs (cells + 1) (slots + N) Q (F0 m (pc + 2) ls (.ref q :: rest))) : W p l e R s m args below meth c H locs cells slots Q (F0 m pc ls (.int n :: rest)) :=
  va_newa (atype := .int) (N' := N) (a0 := (N, .inl (fun _ => 0))) E.1.1 E.1.2.1 (E.1.2.2.2.2 _ q93) rfl E.2 w.1 w.2.1 w.2.2 hA (fun _ => rfl) hn hN (by show N * 4 ≤ _; omega) hcells hslots hdg (fun q cA H1 hK hP hD hS => kk q cA H1 ⟨E.1, hK⟩ ⟨hP, hD, hS⟩)
/-- a further int array -/
theorem in_i {d : ClassId} (E : EX p s m args c D ((d, .int) :: tys) own cc nL) (w : Wd D A H0 ws H locs) (hA : ∀ q : Nat, H0.size ≤ q → A q) {n : Int32} {N : Nat} (hn : ¬ n < 0) (hN : n.toNatClampNeg = N) (hN2 : N ≤ 2000) (hcells : cells + 1 ≤ R.cells) (hslots : slots + N ≤ R.slots) (hdg : decode cc pc = .ok (.newarray .int, 2)) (kk : ∀ (q : Nat) (H : Heap), Wd D A H0 (ws ++ [(q, .inl (d, N, .inl (fun _ => 0)))]) H locs → W p l e R s m args below meth c H locs (cells + 1) (slots + N) Q (F0 m (pc + 2) ls (.ref q :: rest))) : W p l e R s m args below meth c H locs cells slots Q (F0 m pc ls (.int n :: rest)) := by
  refine va_newa (atype := .int) (N' := N) (a0 := (N, .inl (fun _ => 0))) E.1.1 E.1.2.1 (E.1.2.2.2.2 _ q93) rfl E.2 w.1 w.2.1 w.2.2 hA (fun _ => rfl) hn hN (by show N * 4 ≤ _; omega) hcells hslots hdg (fun q cA H1 hK hP hD hS => ?_)
  have h1 : va_RA s d .int := (hK.2 0 (d, .int) rfl).2
  have h2 : va_RA s cA .int := (hK.2 (((d, FieldType.int) :: tys).length) (cA, .int) (by rw [List.getElem?_append_right (Nat.le_refl _), Nat.sub_self]; rfl)).2
  have h3 : cA = d := Option.some.inj (h2.symm.trans h1)
  subst h3
  exact kk q H1 ⟨hP, hD, hS⟩
/-- the boolean array -/
theorem in_z {d : ClassId} (E : EX p s m args c D [(d, .int)] own cc nL) (w : Wd D A H0 ws H locs) (hA : ∀ q : Nat, H0.size ≤ q → A q) {n : Int32} {N : Nat} (hn : ¬ n < 0) (hN : n.toNatClampNeg = N) (hN2 : N ≤ 2000) (hcells : cells + 1 ≤ R.cells) (hslots : slots + N ≤ R.slots) (hdg : decode cc pc = .ok (.newarray .boolean, 2)) (kk : ∀ (q : Nat) (dz : ClassId) (H : Heap), EX p s m args c D [(d, .int), (dz, .boolean)] own cc nL → Wd D A H0 (ws ++ [(q, .inl (dz, N, .inl (fun _ => 0)))]) H locs → W p l e R s m args below meth c H locs (cells + 1) (slots + N) Q (F0 m (pc + 2) ls (.ref q :: rest))) : W p l e R s m args below meth c H locs cells slots Q (F0 m pc ls (.int n :: rest)) :=
  va_newa (atype := .boolean) (N' := N) (a0 := (N, .inl (fun _ => 0))) E.1.1 E.1.2.1 (E.1.2.2.2.2 _ q94) rfl E.2 w.1 w.2.1 w.2.2 hA (fun _ => rfl) hn hN (by show N * 1 ≤ _; omega) hcells hslots hdg (fun q cA H1 hK hP hD hS => kk q cA H1 ⟨E.1, hK⟩ ⟨hP, hD, hS⟩)
theorem pfX0_keyA (E : EX p s m args c D tys RX0 cc nL) (hin : meth.name = "<init>") {fs : List Value} (w : Wd D A H0 ((h, .inr (0, fs)) :: ws) H locs) (hf : 0 < fs.length) {q : Nat} (hdg : decode cc pc = .ok (.putfield 7, 3)) (kk : ∀ (H : Heap) (locs : List Loc), Wd D A H0 ((h, .inr (0, fs.set 0 (.ref q))) :: ws) H locs → W p l e R s m args below meth c H locs cells slots Q (F0 m (pc + 3) ls rest)) : W p l e R s m args below meth c H locs cells slots Q (F0 m pc ls (.ref q :: .ref h :: rest)) :=
  va_putF (D := D) (ci := 0) (v := .ref q) (ty := (.array .int)) (C := RX0) (T := TX0) (N := 22) E.1.1 E.1.2.1 E.1.2.2.2.2 in_X0 tyX0 tyX0_ok nmX0 E.1.2.2.2.1 E.2 w.1 w.2.1 w.2.2 0 rfl rfl 0 (by decide) (E.1.2.2.2.2 _ q26) (fun _ h9 => h9) rfl hin rfl (by decide +kernel) rfl rfl hf hdg (fun H2 locs2 hP hD hS => kk H2 locs2 ⟨hP, hD, hS⟩)
theorem pfX0_valueA (E : EX p s m args c D tys RX0 cc nL) (hin : meth.name = "<init>") {fs : List Value} (w : Wd D A H0 ((h, .inr (0, fs)) :: ws) H locs) (hf : 1 < fs.length) {q : Nat} (hdg : decode cc pc = .ok (.putfield 13, 3)) (kk : ∀ (H : Heap) (locs : List Loc), Wd D A H0 ((h, .inr (0, fs.set 1 (.ref q))) :: ws) H locs → W p l e R s m args below meth c H locs cells slots Q (F0 m (pc + 3) ls rest)) : W p l e R s m args below meth c H locs cells slots Q (F0 m pc ls (.ref q :: .ref h :: rest)) :=
  va_putF (D := D) (ci := 0) (v := .ref q) (ty := (.array .int)) (C := RX0) (T := TX0) (N := 22) E.1.1 E.1.2.1 E.1.2.2.2.2 in_X0 tyX0 tyX0_ok nmX0 E.1.2.2.2.1 E.2 w.1 w.2.1 w.2.2 0 rfl rfl 1 (by decide) (E.1.2.2.2.2 _ q27) (fun _ h9 => h9) rfl hin rfl (by decide +kernel) rfl rfl hf hdg (fun H2 locs2 hP hD hS => kk H2 locs2 ⟨hP, hD, hS⟩)
theorem pfX0_keyB (E : EX p s m args c D tys RX0 cc nL) (hin : meth.name = "<init>") {fs : List Value} (w : Wd D A H0 ((h, .inr (0, fs)) :: ws) H locs) (hf : 2 < fs.length) {q : Nat} (hdg : decode cc pc = .ok (.putfield 16, 3)) (kk : ∀ (H : Heap) (locs : List Loc), Wd D A H0 ((h, .inr (0, fs.set 2 (.ref q))) :: ws) H locs → W p l e R s m args below meth c H locs cells slots Q (F0 m (pc + 3) ls rest)) : W p l e R s m args below meth c H locs cells slots Q (F0 m pc ls (.ref q :: .ref h :: rest)) :=
  va_putF (D := D) (ci := 0) (v := .ref q) (ty := (.array .int)) (C := RX0) (T := TX0) (N := 22) E.1.1 E.1.2.1 E.1.2.2.2.2 in_X0 tyX0 tyX0_ok nmX0 E.1.2.2.2.1 E.2 w.1 w.2.1 w.2.2 0 rfl rfl 2 (by decide) (E.1.2.2.2.2 _ q28) (fun _ h9 => h9) rfl hin rfl (by decide +kernel) rfl rfl hf hdg (fun H2 locs2 hP hD hS => kk H2 locs2 ⟨hP, hD, hS⟩)
theorem pfX0_valueB (E : EX p s m args c D tys RX0 cc nL) (hin : meth.name = "<init>") {fs : List Value} (w : Wd D A H0 ((h, .inr (0, fs)) :: ws) H locs) (hf : 3 < fs.length) {q : Nat} (hdg : decode cc pc = .ok (.putfield 19, 3)) (kk : ∀ (H : Heap) (locs : List Loc), Wd D A H0 ((h, .inr (0, fs.set 3 (.ref q))) :: ws) H locs → W p l e R s m args below meth c H locs cells slots Q (F0 m (pc + 3) ls rest)) : W p l e R s m args below meth c H locs cells slots Q (F0 m pc ls (.ref q :: .ref h :: rest)) :=
  va_putF (D := D) (ci := 0) (v := .ref q) (ty := (.array .int)) (C := RX0) (T := TX0) (N := 22) E.1.1 E.1.2.1 E.1.2.2.2.2 in_X0 tyX0 tyX0_ok nmX0 E.1.2.2.2.1 E.2 w.1 w.2.1 w.2.2 0 rfl rfl 3 (by decide) (E.1.2.2.2.2 _ q29) (fun _ h9 => h9) rfl hin rfl (by decide +kernel) rfl rfl hf hdg (fun H2 locs2 hP hD hS => kk H2 locs2 ⟨hP, hD, hS⟩)
theorem pfX0_parent (E : EX p s m args c D tys RX0 cc nL) (hin : meth.name = "<init>") {fs : List Value} (w : Wd D A H0 ((h, .inr (0, fs)) :: ws) H locs) (hf : 5 < fs.length) {q : Nat} (hdg : decode cc pc = .ok (.putfield 22, 3)) (kk : ∀ (H : Heap) (locs : List Loc), Wd D A H0 ((h, .inr (0, fs.set 5 (.ref q))) :: ws) H locs → W p l e R s m args below meth c H locs cells slots Q (F0 m (pc + 3) ls rest)) : W p l e R s m args below meth c H locs cells slots Q (F0 m pc ls (.ref q :: .ref h :: rest)) :=
  va_putF (D := D) (ci := 0) (v := .ref q) (ty := (.array .int)) (C := RX0) (T := TX0) (N := 22) E.1.1 E.1.2.1 E.1.2.2.2.2 in_X0 tyX0 tyX0_ok nmX0 E.1.2.2.2.1 E.2 w.1 w.2.1 w.2.2 0 rfl rfl 5 (by decide) (E.1.2.2.2.2 _ q31) (fun _ h9 => h9) rfl hin rfl (by decide +kernel) rfl rfl hf hdg (fun H2 locs2 hP hD hS => kk H2 locs2 ⟨hP, hD, hS⟩)
theorem pfX0_fork (E : EX p s m args c D tys RX0 cc nL) (hin : meth.name = "<init>") {fs : List Value} (w : Wd D A H0 ((h, .inr (0, fs)) :: ws) H locs) (hf : 6 < fs.length) {q : Nat} (hdg : decode cc pc = .ok (.putfield 25, 3)) (kk : ∀ (H : Heap) (locs : List Loc), Wd D A H0 ((h, .inr (0, fs.set 6 (.ref q))) :: ws) H locs → W p l e R s m args below meth c H locs cells slots Q (F0 m (pc + 3) ls rest)) : W p l e R s m args below meth c H locs cells slots Q (F0 m pc ls (.ref q :: .ref h :: rest)) :=
  va_putF (D := D) (ci := 0) (v := .ref q) (ty := (.array .int)) (C := RX0) (T := TX0) (N := 22) E.1.1 E.1.2.1 E.1.2.2.2.2 in_X0 tyX0 tyX0_ok nmX0 E.1.2.2.2.1 E.2 w.1 w.2.1 w.2.2 0 rfl rfl 6 (by decide) (E.1.2.2.2.2 _ q32) (fun _ h9 => h9) rfl hin rfl (by decide +kernel) rfl rfl hf hdg (fun H2 locs2 hP hD hS => kk H2 locs2 ⟨hP, hD, hS⟩)
theorem pfX0_end (E : EX p s m args c D tys RX0 cc nL) (hin : meth.name = "<init>") {fs : List Value} (w : Wd D A H0 ((h, .inr (0, fs)) :: ws) H locs) (hf : 7 < fs.length) {q : Nat} (hdg : decode cc pc = .ok (.putfield 28, 3)) (kk : ∀ (H : Heap) (locs : List Loc), Wd D A H0 ((h, .inr (0, fs.set 7 (.ref q))) :: ws) H locs → W p l e R s m args below meth c H locs cells slots Q (F0 m (pc + 3) ls rest)) : W p l e R s m args below meth c H locs cells slots Q (F0 m pc ls (.ref q :: .ref h :: rest)) :=
  va_putF (D := D) (ci := 0) (v := .ref q) (ty := (.array .int)) (C := RX0) (T := TX0) (N := 22) E.1.1 E.1.2.1 E.1.2.2.2.2 in_X0 tyX0 tyX0_ok nmX0 E.1.2.2.2.1 E.2 w.1 w.2.1 w.2.2 0 rfl rfl 7 (by decide) (E.1.2.2.2.2 _ q33) (fun _ h9 => h9) rfl hin rfl (by decide +kernel) rfl rfl hf hdg (fun H2 locs2 hP hD hS => kk H2 locs2 ⟨hP, hD, hS⟩)
theorem pfX0_memory (E : EX p s m args c D tys RX0 cc nL) (hin : meth.name = "<init>") {fs : List Value} (w : Wd D A H0 ((h, .inr (0, fs)) :: ws) H locs) (hf : 9 < fs.length) {q : Nat} (hdg : decode cc pc = .ok (.putfield 31, 3)) (kk : ∀ (H : Heap) (locs : List Loc), Wd D A H0 ((h, .inr (0, fs.set 9 (.ref q))) :: ws) H locs → W p l e R s m args below meth c H locs cells slots Q (F0 m (pc + 3) ls rest)) : W p l e R s m args below meth c H locs cells slots Q (F0 m pc ls (.ref q :: .ref h :: rest)) :=
  va_putF (D := D) (ci := 0) (v := .ref q) (ty := (.array .int)) (C := RX0) (T := TX0) (N := 22) E.1.1 E.1.2.1 E.1.2.2.2.2 in_X0 tyX0 tyX0_ok nmX0 E.1.2.2.2.1 E.2 w.1 w.2.1 w.2.2 0 rfl rfl 9 (by decide) (E.1.2.2.2.2 _ q35) (fun _ h9 => h9) rfl hin rfl (by decide +kernel) rfl rfl hf hdg (fun H2 locs2 hP hD hS => kk H2 locs2 ⟨hP, hD, hS⟩)
theorem pfX0_memoryPoint (E : EX p s m args c D tys RX0 cc nL) (hin : meth.name = "<init>") {fs : List Value} (w : Wd D A H0 ((h, .inr (0, fs)) :: ws) H locs) (hf : 10 < fs.length) {q : Nat} (hdg : decode cc pc = .ok (.putfield 34, 3)) (kk : ∀ (H : Heap) (locs : List Loc), Wd D A H0 ((h, .inr (0, fs.set 10 (.ref q))) :: ws) H locs → W p l e R s m args below meth c H locs cells slots Q (F0 m (pc + 3) ls rest)) : W p l e R s m args below meth c H locs cells slots Q (F0 m pc ls (.ref q :: .ref h :: rest)) :=
  va_putF (D := D) (ci := 0) (v := .ref q) (ty := (.array .int)) (C := RX0) (T := TX0) (N := 22) E.1.1 E.1.2.1 E.1.2.2.2.2 in_X0 tyX0 tyX0_ok nmX0 E.1.2.2.2.1 E.2 w.1 w.2.1 w.2.2 0 rfl rfl 10 (by decide) (E.1.2.2.2.2 _ q36) (fun _ h9 => h9) rfl hin rfl (by decide +kernel) rfl rfl hf hdg (fun H2 locs2 hP hD hS => kk H2 locs2 ⟨hP, hD, hS⟩)
theorem pfX0_disk (E : EX p s m args c D tys RX0 cc nL) (hin : meth.name = "<init>") {fs : List Value} (w : Wd D A H0 ((h, .inr (0, fs)) :: ws) H locs) (hf : 11 < fs.length) {q : Nat} (hdg : decode cc pc = .ok (.putfield 37, 3)) (kk : ∀ (H : Heap) (locs : List Loc), Wd D A H0 ((h, .inr (0, fs.set 11 (.ref q))) :: ws) H locs → W p l e R s m args below meth c H locs cells slots Q (F0 m (pc + 3) ls rest)) : W p l e R s m args below meth c H locs cells slots Q (F0 m pc ls (.ref q :: .ref h :: rest)) :=
  va_putF (D := D) (ci := 0) (v := .ref q) (ty := (.array .int)) (C := RX0) (T := TX0) (N := 22) E.1.1 E.1.2.1 E.1.2.2.2.2 in_X0 tyX0 tyX0_ok nmX0 E.1.2.2.2.1 E.2 w.1 w.2.1 w.2.2 0 rfl rfl 11 (by decide) (E.1.2.2.2.2 _ q37) (fun _ h9 => h9) rfl hin rfl (by decide +kernel) rfl rfl hf hdg (fun H2 locs2 hP hD hS => kk H2 locs2 ⟨hP, hD, hS⟩)
theorem pfX0_diskPoint (E : EX p s m args c D tys RX0 cc nL) (hin : meth.name = "<init>") {fs : List Value} (w : Wd D A H0 ((h, .inr (0, fs)) :: ws) H locs) (hf : 12 < fs.length) {q : Nat} (hdg : decode cc pc = .ok (.putfield 40, 3)) (kk : ∀ (H : Heap) (locs : List Loc), Wd D A H0 ((h, .inr (0, fs.set 12 (.ref q))) :: ws) H locs → W p l e R s m args below meth c H locs cells slots Q (F0 m (pc + 3) ls rest)) : W p l e R s m args below meth c H locs cells slots Q (F0 m pc ls (.ref q :: .ref h :: rest)) :=
  va_putF (D := D) (ci := 0) (v := .ref q) (ty := (.array .int)) (C := RX0) (T := TX0) (N := 22) E.1.1 E.1.2.1 E.1.2.2.2.2 in_X0 tyX0 tyX0_ok nmX0 E.1.2.2.2.1 E.2 w.1 w.2.1 w.2.2 0 rfl rfl 12 (by decide) (E.1.2.2.2.2 _ q38) (fun _ h9 => h9) rfl hin rfl (by decide +kernel) rfl rfl hf hdg (fun H2 locs2 hP hD hS => kk H2 locs2 ⟨hP, hD, hS⟩)
theorem pfX0_finished (E : EX p s m args c D tys RX0 cc nL) (hin : meth.name = "<init>") {fs : List Value} (w : Wd D A H0 ((h, .inr (0, fs)) :: ws) H locs) (hf : 15 < fs.length) {q : Nat} (hdg : decode cc pc = .ok (.putfield 43, 3)) (kk : ∀ (H : Heap) (locs : List Loc), Wd D A H0 ((h, .inr (0, fs.set 15 (.ref q))) :: ws) H locs → W p l e R s m args below meth c H locs cells slots Q (F0 m (pc + 3) ls rest)) : W p l e R s m args below meth c H locs cells slots Q (F0 m pc ls (.ref q :: .ref h :: rest)) :=
  va_putF (D := D) (ci := 0) (v := .ref q) (ty := (.array .boolean)) (C := RX0) (T := TX0) (N := 22) E.1.1 E.1.2.1 E.1.2.2.2.2 in_X0 tyX0 tyX0_ok nmX0 E.1.2.2.2.1 E.2 w.1 w.2.1 w.2.2 0 rfl rfl 15 (by decide) (E.1.2.2.2.2 _ q41) (fun _ h9 => h9) rfl hin rfl (by decide +kernel) rfl rfl hf hdg (fun H2 locs2 hP hD hS => kk H2 locs2 ⟨hP, hD, hS⟩)
theorem pfX0_backupLine (E : EX p s m args c D tys RX0 cc nL) (hin : meth.name = "<init>") {fs : List Value} (w : Wd D A H0 ((h, .inr (0, fs)) :: ws) H locs) (hf : 16 < fs.length) {q : Nat} (hdg : decode cc pc = .ok (.putfield 47, 3)) (kk : ∀ (H : Heap) (locs : List Loc), Wd D A H0 ((h, .inr (0, fs.set 16 (.ref q))) :: ws) H locs → W p l e R s m args below meth c H locs cells slots Q (F0 m (pc + 3) ls rest)) : W p l e R s m args below meth c H locs cells slots Q (F0 m pc ls (.ref q :: .ref h :: rest)) :=
  va_putF (D := D) (ci := 0) (v := .ref q) (ty := (.array .int)) (C := RX0) (T := TX0) (N := 22) E.1.1 E.1.2.1 E.1.2.2.2.2 in_X0 tyX0 tyX0_ok nmX0 E.1.2.2.2.1 E.2 w.1 w.2.1 w.2.2 0 rfl rfl 16 (by decide) (E.1.2.2.2.2 _ q42) (fun _ h9 => h9) rfl hin rfl (by decide +kernel) rfl rfl hf hdg (fun H2 locs2 hP hD hS => kk H2 locs2 ⟨hP, hD, hS⟩)
theorem pfX0_backupBegin (E : EX p s m args c D tys RX0 cc nL) (hin : meth.name = "<init>") {fs : List Value} (w : Wd D A H0 ((h, .inr (0, fs)) :: ws) H locs) (hf : 17 < fs.length) {q : Nat} (hdg : decode cc pc = .ok (.putfield 50, 3)) (kk : ∀ (H : Heap) (locs : List Loc), Wd D A H0 ((h, .inr (0, fs.set 17 (.ref q))) :: ws) H locs → W p l e R s m args below meth c H locs cells slots Q (F0 m (pc + 3) ls rest)) : W p l e R s m args below meth c H locs cells slots Q (F0 m pc ls (.ref q :: .ref h :: rest)) :=
  va_putF (D := D) (ci := 0) (v := .ref q) (ty := (.array .int)) (C := RX0) (T := TX0) (N := 22) E.1.1 E.1.2.1 E.1.2.2.2.2 in_X0 tyX0 tyX0_ok nmX0 E.1.2.2.2.1 E.2 w.1 w.2.1 w.2.2 0 rfl rfl 17 (by decide) (E.1.2.2.2.2 _ q43) (fun _ h9 => h9) rfl hin rfl (by decide +kernel) rfl rfl hf hdg (fun H2 locs2 hP hD hS => kk H2 locs2 ⟨hP, hD, hS⟩)
theorem pfX0_backupEnd (E : EX p s m args c D tys RX0 cc nL) (hin : meth.name = "<init>") {fs : List Value} (w : Wd D A H0 ((h, .inr (0, fs)) :: ws) H locs) (hf : 18 < fs.length) {q : Nat} (hdg : decode cc pc = .ok (.putfield 53, 3)) (kk : ∀ (H : Heap) (locs : List Loc), Wd D A H0 ((h, .inr (0, fs.set 18 (.ref q))) :: ws) H locs → W p l e R s m args below meth c H locs cells slots Q (F0 m (pc + 3) ls rest)) : W p l e R s m args below meth c H locs cells slots Q (F0 m pc ls (.ref q :: .ref h :: rest)) :=
  va_putF (D := D) (ci := 0) (v := .ref q) (ty := (.array .int)) (C := RX0) (T := TX0) (N := 22) E.1.1 E.1.2.1 E.1.2.2.2.2 in_X0 tyX0 tyX0_ok nmX0 E.1.2.2.2.1 E.2 w.1 w.2.1 w.2.2 0 rfl rfl 18 (by decide) (E.1.2.2.2.2 _ q44) (fun _ h9 => h9) rfl hin rfl (by decide +kernel) rfl rfl hf hdg (fun H2 locs2 hP hD hS => kk H2 locs2 ⟨hP, hD, hS⟩)
theorem pfX0_saved (E : EX p s m args c D tys RX0 cc nL) (hin : meth.name = "<init>") {fs : List Value} (w : Wd D A H0 ((h, .inr (0, fs)) :: ws) H locs) (hf : 20 < fs.length) {q : Nat} (hdg : decode cc pc = .ok (.putfield 56, 3)) (kk : ∀ (H : Heap) (locs : List Loc), Wd D A H0 ((h, .inr (0, fs.set 20 (.ref q))) :: ws) H locs → W p l e R s m args below meth c H locs cells slots Q (F0 m (pc + 3) ls rest)) : W p l e R s m args below meth c H locs cells slots Q (F0 m pc ls (.ref q :: .ref h :: rest)) :=
  va_putF (D := D) (ci := 0) (v := .ref q) (ty := (.array .int)) (C := RX0) (T := TX0) (N := 22) E.1.1 E.1.2.1 E.1.2.2.2.2 in_X0 tyX0 tyX0_ok nmX0 E.1.2.2.2.1 E.2 w.1 w.2.1 w.2.2 0 rfl rfl 20 (by decide) (E.1.2.2.2.2 _ q46) (fun _ h9 => h9) rfl hin rfl (by decide +kernel) rfl rfl hf hdg (fun H2 locs2 hP hD hS => kk H2 locs2 ⟨hP, hD, hS⟩)
theorem pfX0_savedPoint (E : EX p s m args c D tys RX0 cc nL) (hin : meth.name = "<init>") {fs : List Value} (w : Wd D A H0 ((h, .inr (0, fs)) :: ws) H locs) (hf : 21 < fs.length) {q : Nat} (hdg : decode cc pc = .ok (.putfield 59, 3)) (kk : ∀ (H : Heap) (locs : List Loc), Wd D A H0 ((h, .inr (0, fs.set 21 (.ref q))) :: ws) H locs → W p l e R s m args below meth c H locs cells slots Q (F0 m (pc + 3) ls rest)) : W p l e R s m args below meth c H locs cells slots Q (F0 m pc ls (.ref q :: .ref h :: rest)) :=
  va_putF (D := D) (ci := 0) (v := .ref q) (ty := (.array .int)) (C := RX0) (T := TX0) (N := 22) E.1.1 E.1.2.1 E.1.2.2.2.2 in_X0 tyX0 tyX0_ok nmX0 E.1.2.2.2.1 E.2 w.1 w.2.1 w.2.2 0 rfl rfl 21 (by decide) (E.1.2.2.2.2 _ q47) (fun _ h9 => h9) rfl hin rfl (by decide +kernel) rfl rfl hf hdg (fun H2 locs2 hP hD hS => kk H2 locs2 ⟨hP, hD, hS⟩)
theorem pfX1_values (E : EX p s m args c D tys RX1 cc nL) (hin : meth.name = "<init>") {fs : List Value} (w : Wd D A H0 ((h, .inr (1, fs)) :: ws) H locs) (hf : 0 < fs.length) {q : Nat} (hdg : decode cc pc = .ok (.putfield 7, 3)) (kk : ∀ (H : Heap) (locs : List Loc), Wd D A H0 ((h, .inr (1, fs.set 0 (.ref q))) :: ws) H locs → W p l e R s m args below meth c H locs cells slots Q (F0 m (pc + 3) ls rest)) : W p l e R s m args below meth c H locs cells slots Q (F0 m pc ls (.ref q :: .ref h :: rest)) :=
  va_putF (D := D) (ci := 1) (v := .ref q) (ty := (.array .int)) (C := RX1) (T := TX1) (N := 3) E.1.1 E.1.2.1 E.1.2.2.2.2 in_X1 tyX1 tyX1_ok nmX1 E.1.2.2.2.1 E.2 w.1 w.2.1 w.2.2 0 rfl rfl 0 (by decide) (E.1.2.2.2.2 _ q205) (fun _ h9 => h9) rfl hin rfl (by decide +kernel) rfl rfl hf hdg (fun H2 locs2 hP hD hS => kk H2 locs2 ⟨hP, hD, hS⟩)
theorem pfX1_lasts (E : EX p s m args c D tys RX1 cc nL) (hin : meth.name = "<init>") {fs : List Value} (w : Wd D A H0 ((h, .inr (1, fs)) :: ws) H locs) (hf : 1 < fs.length) {q : Nat} (hdg : decode cc pc = .ok (.putfield 13, 3)) (kk : ∀ (H : Heap) (locs : List Loc), Wd D A H0 ((h, .inr (1, fs.set 1 (.ref q))) :: ws) H locs → W p l e R s m args below meth c H locs cells slots Q (F0 m (pc + 3) ls rest)) : W p l e R s m args below meth c H locs cells slots Q (F0 m pc ls (.ref q :: .ref h :: rest)) :=
  va_putF (D := D) (ci := 1) (v := .ref q) (ty := (.array .int)) (C := RX1) (T := TX1) (N := 3) E.1.1 E.1.2.1 E.1.2.2.2.2 in_X1 tyX1 tyX1_ok nmX1 E.1.2.2.2.1 E.2 w.1 w.2.1 w.2.2 0 rfl rfl 1 (by decide) (E.1.2.2.2.2 _ q206) (fun _ h9 => h9) rfl hin rfl (by decide +kernel) rfl rfl hf hdg (fun H2 locs2 hP hD hS => kk H2 locs2 ⟨hP, hD, hS⟩)
end Init
def Zr : PS := (fun _ _ => 0, fun _ => 0)
/-- PointInTime as its constructor leaves it -/
def S0 : PS := sa (ss Zr 0 1) 4 (upd (fun _ => 0) 0 (-1))
/-- the model as its constructor leaves it -/
def O0 : MO := (fun _ => 0, fun _ => 0, 1)
theorem inv_0 : Inv S0 O0 := by
  have hv : ∀ t n k : Nat, vM O0 t n k = 0 := fun _ _ _ => rfl
  have hm : MI O0 := ⟨by decide, by decide, fun t _ => Nat.zero_le _⟩
  have hl : ln O0 = 0 := rfl
  refine ⟨hm, ⟨by decide, by decide, fun t _ => by show (0 : Int32) = nI 0; decide, fun t ht => ?_, fun t k _ _ => hv t 0 k⟩, fun k _ => ⟨(hv _ _ _).symm, 0, by show (0 : Int32) = nI 0; decide, Nat.zero_le _, (hv _ _ _).symm⟩, fun k _ => ⟨0, by show (0 : Int32) = nI 0; decide, Nat.zero_le _, (hv _ _ _).symm⟩, fun b _ hb => absurd rfl hb, ⟨0, 0, by decide, by decide, by decide, by decide, fun h => absurd rfl h⟩⟩
  have ht0 : t = 0 := by
    have : t < 1 := ht
    omega
  subst ht0
  refine ⟨0, by show (0 : Int32) = nI 0; decide, Nat.le_refl _, Or.inl ⟨rfl, rfl⟩, fun n h1 h2 => ?_⟩
  have : n ≤ 0 := h2
  omega
abbrev fs0 : List Value := [.null, .null, .null, .null, .int 0, .null, .null, .null, .int 0, .null, .null, .null, .null, .int 0, .int 0, .null, .null, .null, .null, .int 0, .null, .null]
abbrev rmX : Room := { frames := 1, cells := 17, slots := 874, locals := 30 }
abbrev rmM : Room := { frames := 1, cells := 2, slots := 1494, locals := 30 }
set_option maxHeartbeats 4000000 in
/-- PointInTime() -/
theorem mX_init (l : Launch) (D : va_G) (h sz : Nat) : Met l yX0_init (ws_ yX0_init cX0_init 1 none) rmX (va_Pc [.ref h] (fun U => U.heap.size = sz ∧ va_P D vwCl [(h, .inr (0, fs0))] U.heap ∧ va_K D vwCl [] U ∧ va_D (fun _ => True) [(h, .inr (0, fs0))])) (va_Qv (fun _ : Unit => True) (fun _ t => ∃ (ad : Nat → Nat) (d dz : ClassId), va_P D vwCl (wX h ad d dz S0) t.heap ∧ va_K D vwCl [(d, .int), (dz, .boolean)] t ∧ va_D (va_A [(h, .inr (0, fs0))] sz) (wX h ad d dz S0)) (va_A [(h, .inr (0, fs0))] sz)) 17 874 (va_A [(h, .inr (0, fs0))] sz) := by
  refine Met.ofW (cc := cX0_init) (maxL := 1) (ret := none) (by decide) rfl ?_
  intro p e s m args below meth c s₁ B hml hv
  obtain ⟨rfl, hsz, hP, hK, hD0⟩ := hv
  have hx := B.exec
  have hb := B.bytes
  have hr := B.returns
  have hts := atoms_spec (ws := ws_ yX0_init cX0_init 1 none) B.pre
  have hts : ∀ w ∈ lw_all, w.before _ s = true := fun w h => hts w (List.mem_cons_of_mem _ h)
  have hown : s.vm.findClass RX0 = some m.cls := findClass_of_methodNamed B.named
  have hlocks := B.notSynchronized
  have hin : meth.name = "<init>" := (name_of_methodNamed B.named B.method).1
  subst hsz
  have hD := hD0.self (sz := s.heap.size)
  generalize hAe : va_A [(h, .inr (0, fs0))] s.heap.size = A at hD ⊢
  have hA : ∀ q : Nat, s.heap.size ≤ q → A q := fun q h => by rw [← hAe]; exact Or.inr h
  have hl := lv_entry ([.ref h]) (n := 1) (Nat.le_of_ble_eq_true rfl)
  rw [lg_entry_eq]
  generalize (lg_sl ([.ref h]) ++ List.replicate (1 - (lg_sl ([.ref h])).length) Slot.unset).toArray = ls at hl ⊢
  have hl : lv_has ls 1 [(0, .ref h)] := hl
  have w : Wd D A s.heap [(h, .inr (0, fs0))] s.heap [] := ⟨hP, hD, va_S.rf⟩
  have E : EX p s m _ c D [] RX0 cX0_init 1 := ⟨⟨hx, hb, hml, hown, hts⟩, hK⟩
  refine lv_aload_n hx hb dX0_init_0 rfl (lv_at hl 0 rfl) ?_
  refine W.objInit hx hb hown (hts _ q23) (hts _ q24) (hts _ q25) rfl (by rw [hml]; exact hl.1) rfl dX0_init_1 (Nat.le_of_ble_eq_true rfl) (Nat.le_of_ble_eq_true rfl) ?_
  refine W.eq (g2 := F0 m 4 ls []) rfl ?_
  refine lv_aload_n hx hb dX0_init_4 rfl (lv_at hl 0 rfl) ?_
  refine lv_sipush (v := 186) hx hb dX0_init_5 (by decide) ?_
  refine in_0 E w hA (N := 186) (by decide) (by decide) (by decide) (Nat.le_of_ble_eq_true rfl) (Nat.le_of_ble_eq_true rfl) dX0_init_8 (fun q0 d H E w => ?_)
  refine W.widen (k := 1) (n := 186) (Nat.le_of_ble_eq_true rfl) (Nat.le_of_ble_eq_true rfl) ?_
  have w : Wd D A s.heap ((h, .inr (0, [.null, .null, .null, .null, .int 0, .null, .null, .null, .int 0, .null, .null, .null, .null, .int 0, .int 0, .null, .null, .null, .null, .int 0, .null, .null])) :: [(q0, .inl (d, 186, .inl (fun _ => 0)))]) H _ := w
  refine pfX0_keyA E hin w (Nat.le_of_ble_eq_true rfl) dX0_init_10 (fun H locs w => ?_)
  have w : Wd D A s.heap [(h, .inr (0, [.ref q0, .null, .null, .null, .int 0, .null, .null, .null, .int 0, .null, .null, .null, .null, .int 0, .int 0, .null, .null, .null, .null, .int 0, .null, .null])), (q0, .inl (d, 186, .inl (fun _ => 0)))] H locs := w
  refine lv_aload_n hx hb dX0_init_13 rfl (lv_at hl 0 rfl) ?_
  refine lv_sipush (v := 186) hx hb dX0_init_14 (by decide) ?_
  refine in_i E w hA (N := 186) (by decide) (by decide) (by decide) (Nat.le_of_ble_eq_true rfl) (Nat.le_of_ble_eq_true rfl) dX0_init_17 (fun q1 H w => ?_)
  refine W.widen (k := 2) (n := 372) (Nat.le_of_ble_eq_true rfl) (Nat.le_of_ble_eq_true rfl) ?_
  have w : Wd D A s.heap ((h, .inr (0, [.ref q0, .null, .null, .null, .int 0, .null, .null, .null, .int 0, .null, .null, .null, .null, .int 0, .int 0, .null, .null, .null, .null, .int 0, .null, .null])) :: [(q0, .inl (d, 186, .inl (fun _ => 0))), (q1, .inl (d, 186, .inl (fun _ => 0)))]) H _ := w
  refine pfX0_valueA E hin w (Nat.le_of_ble_eq_true rfl) dX0_init_19 (fun H locs w => ?_)
  have w : Wd D A s.heap [(h, .inr (0, [.ref q0, .ref q1, .null, .null, .int 0, .null, .null, .null, .int 0, .null, .null, .null, .null, .int 0, .int 0, .null, .null, .null, .null, .int 0, .null, .null])), (q0, .inl (d, 186, .inl (fun _ => 0))), (q1, .inl (d, 186, .inl (fun _ => 0)))] H locs := w
  refine lv_aload_n hx hb dX0_init_22 rfl (lv_at hl 0 rfl) ?_
  refine lv_sipush (v := 186) hx hb dX0_init_23 (by decide) ?_
  refine in_i E w hA (N := 186) (by decide) (by decide) (by decide) (Nat.le_of_ble_eq_true rfl) (Nat.le_of_ble_eq_true rfl) dX0_init_26 (fun q2 H w => ?_)
  refine W.widen (k := 3) (n := 558) (Nat.le_of_ble_eq_true rfl) (Nat.le_of_ble_eq_true rfl) ?_
  have w : Wd D A s.heap ((h, .inr (0, [.ref q0, .ref q1, .null, .null, .int 0, .null, .null, .null, .int 0, .null, .null, .null, .null, .int 0, .int 0, .null, .null, .null, .null, .int 0, .null, .null])) :: [(q0, .inl (d, 186, .inl (fun _ => 0))), (q1, .inl (d, 186, .inl (fun _ => 0))), (q2, .inl (d, 186, .inl (fun _ => 0)))]) H _ := w
  refine pfX0_keyB E hin w (Nat.le_of_ble_eq_true rfl) dX0_init_28 (fun H locs w => ?_)
  have w : Wd D A s.heap [(h, .inr (0, [.ref q0, .ref q1, .ref q2, .null, .int 0, .null, .null, .null, .int 0, .null, .null, .null, .null, .int 0, .int 0, .null, .null, .null, .null, .int 0, .null, .null])), (q0, .inl (d, 186, .inl (fun _ => 0))), (q1, .inl (d, 186, .inl (fun _ => 0))), (q2, .inl (d, 186, .inl (fun _ => 0)))] H locs := w
  refine lv_aload_n hx hb dX0_init_31 rfl (lv_at hl 0 rfl) ?_
  refine lv_sipush (v := 186) hx hb dX0_init_32 (by decide) ?_
  refine in_i E w hA (N := 186) (by decide) (by decide) (by decide) (Nat.le_of_ble_eq_true rfl) (Nat.le_of_ble_eq_true rfl) dX0_init_35 (fun q3 H w => ?_)
  refine W.widen (k := 4) (n := 744) (Nat.le_of_ble_eq_true rfl) (Nat.le_of_ble_eq_true rfl) ?_
  have w : Wd D A s.heap ((h, .inr (0, [.ref q0, .ref q1, .ref q2, .null, .int 0, .null, .null, .null, .int 0, .null, .null, .null, .null, .int 0, .int 0, .null, .null, .null, .null, .int 0, .null, .null])) :: [(q0, .inl (d, 186, .inl (fun _ => 0))), (q1, .inl (d, 186, .inl (fun _ => 0))), (q2, .inl (d, 186, .inl (fun _ => 0))), (q3, .inl (d, 186, .inl (fun _ => 0)))]) H _ := w
  refine pfX0_valueB E hin w (Nat.le_of_ble_eq_true rfl) dX0_init_37 (fun H locs w => ?_)
  have w : Wd D A s.heap [(h, .inr (0, [.ref q0, .ref q1, .ref q2, .ref q3, .int 0, .null, .null, .null, .int 0, .null, .null, .null, .null, .int 0, .int 0, .null, .null, .null, .null, .int 0, .null, .null])), (q0, .inl (d, 186, .inl (fun _ => 0))), (q1, .inl (d, 186, .inl (fun _ => 0))), (q2, .inl (d, 186, .inl (fun _ => 0))), (q3, .inl (d, 186, .inl (fun _ => 0)))] H locs := w
  refine lv_aload_n hx hb dX0_init_40 rfl (lv_at hl 0 rfl) ?_
  refine lv_bipush (v := 6) hx hb dX0_init_41 (by decide) ?_
  refine in_i E w hA (N := 6) (by decide) (by decide) (by decide) (Nat.le_of_ble_eq_true rfl) (Nat.le_of_ble_eq_true rfl) dX0_init_43 (fun q4 H w => ?_)
  refine W.widen (k := 5) (n := 750) (Nat.le_of_ble_eq_true rfl) (Nat.le_of_ble_eq_true rfl) ?_
  have w : Wd D A s.heap ((h, .inr (0, [.ref q0, .ref q1, .ref q2, .ref q3, .int 0, .null, .null, .null, .int 0, .null, .null, .null, .null, .int 0, .int 0, .null, .null, .null, .null, .int 0, .null, .null])) :: [(q0, .inl (d, 186, .inl (fun _ => 0))), (q1, .inl (d, 186, .inl (fun _ => 0))), (q2, .inl (d, 186, .inl (fun _ => 0))), (q3, .inl (d, 186, .inl (fun _ => 0))), (q4, .inl (d, 6, .inl (fun _ => 0)))]) H _ := w
  refine pfX0_parent E hin w (Nat.le_of_ble_eq_true rfl) dX0_init_45 (fun H locs w => ?_)
  have w : Wd D A s.heap [(h, .inr (0, [.ref q0, .ref q1, .ref q2, .ref q3, .int 0, .ref q4, .null, .null, .int 0, .null, .null, .null, .null, .int 0, .int 0, .null, .null, .null, .null, .int 0, .null, .null])), (q0, .inl (d, 186, .inl (fun _ => 0))), (q1, .inl (d, 186, .inl (fun _ => 0))), (q2, .inl (d, 186, .inl (fun _ => 0))), (q3, .inl (d, 186, .inl (fun _ => 0))), (q4, .inl (d, 6, .inl (fun _ => 0)))] H locs := w
  refine lv_aload_n hx hb dX0_init_48 rfl (lv_at hl 0 rfl) ?_
  refine lv_bipush (v := 6) hx hb dX0_init_49 (by decide) ?_
  refine in_i E w hA (N := 6) (by decide) (by decide) (by decide) (Nat.le_of_ble_eq_true rfl) (Nat.le_of_ble_eq_true rfl) dX0_init_51 (fun q5 H w => ?_)
  refine W.widen (k := 6) (n := 756) (Nat.le_of_ble_eq_true rfl) (Nat.le_of_ble_eq_true rfl) ?_
  have w : Wd D A s.heap ((h, .inr (0, [.ref q0, .ref q1, .ref q2, .ref q3, .int 0, .ref q4, .null, .null, .int 0, .null, .null, .null, .null, .int 0, .int 0, .null, .null, .null, .null, .int 0, .null, .null])) :: [(q0, .inl (d, 186, .inl (fun _ => 0))), (q1, .inl (d, 186, .inl (fun _ => 0))), (q2, .inl (d, 186, .inl (fun _ => 0))), (q3, .inl (d, 186, .inl (fun _ => 0))), (q4, .inl (d, 6, .inl (fun _ => 0))), (q5, .inl (d, 6, .inl (fun _ => 0)))]) H _ := w
  refine pfX0_fork E hin w (Nat.le_of_ble_eq_true rfl) dX0_init_53 (fun H locs w => ?_)
  have w : Wd D A s.heap [(h, .inr (0, [.ref q0, .ref q1, .ref q2, .ref q3, .int 0, .ref q4, .ref q5, .null, .int 0, .null, .null, .null, .null, .int 0, .int 0, .null, .null, .null, .null, .int 0, .null, .null])), (q0, .inl (d, 186, .inl (fun _ => 0))), (q1, .inl (d, 186, .inl (fun _ => 0))), (q2, .inl (d, 186, .inl (fun _ => 0))), (q3, .inl (d, 186, .inl (fun _ => 0))), (q4, .inl (d, 6, .inl (fun _ => 0))), (q5, .inl (d, 6, .inl (fun _ => 0)))] H locs := w
  refine lv_aload_n hx hb dX0_init_56 rfl (lv_at hl 0 rfl) ?_
  refine lv_bipush (v := 6) hx hb dX0_init_57 (by decide) ?_
  refine in_i E w hA (N := 6) (by decide) (by decide) (by decide) (Nat.le_of_ble_eq_true rfl) (Nat.le_of_ble_eq_true rfl) dX0_init_59 (fun q6 H w => ?_)
  refine W.widen (k := 7) (n := 762) (Nat.le_of_ble_eq_true rfl) (Nat.le_of_ble_eq_true rfl) ?_
  have w : Wd D A s.heap ((h, .inr (0, [.ref q0, .ref q1, .ref q2, .ref q3, .int 0, .ref q4, .ref q5, .null, .int 0, .null, .null, .null, .null, .int 0, .int 0, .null, .null, .null, .null, .int 0, .null, .null])) :: [(q0, .inl (d, 186, .inl (fun _ => 0))), (q1, .inl (d, 186, .inl (fun _ => 0))), (q2, .inl (d, 186, .inl (fun _ => 0))), (q3, .inl (d, 186, .inl (fun _ => 0))), (q4, .inl (d, 6, .inl (fun _ => 0))), (q5, .inl (d, 6, .inl (fun _ => 0))), (q6, .inl (d, 6, .inl (fun _ => 0)))]) H _ := w
  refine pfX0_end E hin w (Nat.le_of_ble_eq_true rfl) dX0_init_61 (fun H locs w => ?_)
  have w : Wd D A s.heap [(h, .inr (0, [.ref q0, .ref q1, .ref q2, .ref q3, .int 0, .ref q4, .ref q5, .ref q6, .int 0, .null, .null, .null, .null, .int 0, .int 0, .null, .null, .null, .null, .int 0, .null, .null])), (q0, .inl (d, 186, .inl (fun _ => 0))), (q1, .inl (d, 186, .inl (fun _ => 0))), (q2, .inl (d, 186, .inl (fun _ => 0))), (q3, .inl (d, 186, .inl (fun _ => 0))), (q4, .inl (d, 6, .inl (fun _ => 0))), (q5, .inl (d, 6, .inl (fun _ => 0))), (q6, .inl (d, 6, .inl (fun _ => 0)))] H locs := w
  refine lv_aload_n hx hb dX0_init_64 rfl (lv_at hl 0 rfl) ?_
  refine lv_bipush (v := 8) hx hb dX0_init_65 (by decide) ?_
  refine in_i E w hA (N := 8) (by decide) (by decide) (by decide) (Nat.le_of_ble_eq_true rfl) (Nat.le_of_ble_eq_true rfl) dX0_init_67 (fun q7 H w => ?_)
  refine W.widen (k := 8) (n := 770) (Nat.le_of_ble_eq_true rfl) (Nat.le_of_ble_eq_true rfl) ?_
  have w : Wd D A s.heap ((h, .inr (0, [.ref q0, .ref q1, .ref q2, .ref q3, .int 0, .ref q4, .ref q5, .ref q6, .int 0, .null, .null, .null, .null, .int 0, .int 0, .null, .null, .null, .null, .int 0, .null, .null])) :: [(q0, .inl (d, 186, .inl (fun _ => 0))), (q1, .inl (d, 186, .inl (fun _ => 0))), (q2, .inl (d, 186, .inl (fun _ => 0))), (q3, .inl (d, 186, .inl (fun _ => 0))), (q4, .inl (d, 6, .inl (fun _ => 0))), (q5, .inl (d, 6, .inl (fun _ => 0))), (q6, .inl (d, 6, .inl (fun _ => 0))), (q7, .inl (d, 8, .inl (fun _ => 0)))]) H _ := w
  refine pfX0_memory E hin w (Nat.le_of_ble_eq_true rfl) dX0_init_69 (fun H locs w => ?_)
  have w : Wd D A s.heap [(h, .inr (0, [.ref q0, .ref q1, .ref q2, .ref q3, .int 0, .ref q4, .ref q5, .ref q6, .int 0, .ref q7, .null, .null, .null, .int 0, .int 0, .null, .null, .null, .null, .int 0, .null, .null])), (q0, .inl (d, 186, .inl (fun _ => 0))), (q1, .inl (d, 186, .inl (fun _ => 0))), (q2, .inl (d, 186, .inl (fun _ => 0))), (q3, .inl (d, 186, .inl (fun _ => 0))), (q4, .inl (d, 6, .inl (fun _ => 0))), (q5, .inl (d, 6, .inl (fun _ => 0))), (q6, .inl (d, 6, .inl (fun _ => 0))), (q7, .inl (d, 8, .inl (fun _ => 0)))] H locs := w
  refine lv_aload_n hx hb dX0_init_72 rfl (lv_at hl 0 rfl) ?_
  refine lv_bipush (v := 8) hx hb dX0_init_73 (by decide) ?_
  refine in_i E w hA (N := 8) (by decide) (by decide) (by decide) (Nat.le_of_ble_eq_true rfl) (Nat.le_of_ble_eq_true rfl) dX0_init_75 (fun q8 H w => ?_)
  refine W.widen (k := 9) (n := 778) (Nat.le_of_ble_eq_true rfl) (Nat.le_of_ble_eq_true rfl) ?_
  have w : Wd D A s.heap ((h, .inr (0, [.ref q0, .ref q1, .ref q2, .ref q3, .int 0, .ref q4, .ref q5, .ref q6, .int 0, .ref q7, .null, .null, .null, .int 0, .int 0, .null, .null, .null, .null, .int 0, .null, .null])) :: [(q0, .inl (d, 186, .inl (fun _ => 0))), (q1, .inl (d, 186, .inl (fun _ => 0))), (q2, .inl (d, 186, .inl (fun _ => 0))), (q3, .inl (d, 186, .inl (fun _ => 0))), (q4, .inl (d, 6, .inl (fun _ => 0))), (q5, .inl (d, 6, .inl (fun _ => 0))), (q6, .inl (d, 6, .inl (fun _ => 0))), (q7, .inl (d, 8, .inl (fun _ => 0))), (q8, .inl (d, 8, .inl (fun _ => 0)))]) H _ := w
  refine pfX0_memoryPoint E hin w (Nat.le_of_ble_eq_true rfl) dX0_init_77 (fun H locs w => ?_)
  have w : Wd D A s.heap [(h, .inr (0, [.ref q0, .ref q1, .ref q2, .ref q3, .int 0, .ref q4, .ref q5, .ref q6, .int 0, .ref q7, .ref q8, .null, .null, .int 0, .int 0, .null, .null, .null, .null, .int 0, .null, .null])), (q0, .inl (d, 186, .inl (fun _ => 0))), (q1, .inl (d, 186, .inl (fun _ => 0))), (q2, .inl (d, 186, .inl (fun _ => 0))), (q3, .inl (d, 186, .inl (fun _ => 0))), (q4, .inl (d, 6, .inl (fun _ => 0))), (q5, .inl (d, 6, .inl (fun _ => 0))), (q6, .inl (d, 6, .inl (fun _ => 0))), (q7, .inl (d, 8, .inl (fun _ => 0))), (q8, .inl (d, 8, .inl (fun _ => 0)))] H locs := w
  refine lv_aload_n hx hb dX0_init_80 rfl (lv_at hl 0 rfl) ?_
  refine lv_bipush (v := 8) hx hb dX0_init_81 (by decide) ?_
  refine in_i E w hA (N := 8) (by decide) (by decide) (by decide) (Nat.le_of_ble_eq_true rfl) (Nat.le_of_ble_eq_true rfl) dX0_init_83 (fun q9 H w => ?_)
  refine W.widen (k := 10) (n := 786) (Nat.le_of_ble_eq_true rfl) (Nat.le_of_ble_eq_true rfl) ?_
  have w : Wd D A s.heap ((h, .inr (0, [.ref q0, .ref q1, .ref q2, .ref q3, .int 0, .ref q4, .ref q5, .ref q6, .int 0, .ref q7, .ref q8, .null, .null, .int 0, .int 0, .null, .null, .null, .null, .int 0, .null, .null])) :: [(q0, .inl (d, 186, .inl (fun _ => 0))), (q1, .inl (d, 186, .inl (fun _ => 0))), (q2, .inl (d, 186, .inl (fun _ => 0))), (q3, .inl (d, 186, .inl (fun _ => 0))), (q4, .inl (d, 6, .inl (fun _ => 0))), (q5, .inl (d, 6, .inl (fun _ => 0))), (q6, .inl (d, 6, .inl (fun _ => 0))), (q7, .inl (d, 8, .inl (fun _ => 0))), (q8, .inl (d, 8, .inl (fun _ => 0))), (q9, .inl (d, 8, .inl (fun _ => 0)))]) H _ := w
  refine pfX0_disk E hin w (Nat.le_of_ble_eq_true rfl) dX0_init_85 (fun H locs w => ?_)
  have w : Wd D A s.heap [(h, .inr (0, [.ref q0, .ref q1, .ref q2, .ref q3, .int 0, .ref q4, .ref q5, .ref q6, .int 0, .ref q7, .ref q8, .ref q9, .null, .int 0, .int 0, .null, .null, .null, .null, .int 0, .null, .null])), (q0, .inl (d, 186, .inl (fun _ => 0))), (q1, .inl (d, 186, .inl (fun _ => 0))), (q2, .inl (d, 186, .inl (fun _ => 0))), (q3, .inl (d, 186, .inl (fun _ => 0))), (q4, .inl (d, 6, .inl (fun _ => 0))), (q5, .inl (d, 6, .inl (fun _ => 0))), (q6, .inl (d, 6, .inl (fun _ => 0))), (q7, .inl (d, 8, .inl (fun _ => 0))), (q8, .inl (d, 8, .inl (fun _ => 0))), (q9, .inl (d, 8, .inl (fun _ => 0)))] H locs := w
  refine lv_aload_n hx hb dX0_init_88 rfl (lv_at hl 0 rfl) ?_
  refine lv_bipush (v := 8) hx hb dX0_init_89 (by decide) ?_
  refine in_i E w hA (N := 8) (by decide) (by decide) (by decide) (Nat.le_of_ble_eq_true rfl) (Nat.le_of_ble_eq_true rfl) dX0_init_91 (fun q10 H w => ?_)
  refine W.widen (k := 11) (n := 794) (Nat.le_of_ble_eq_true rfl) (Nat.le_of_ble_eq_true rfl) ?_
  have w : Wd D A s.heap ((h, .inr (0, [.ref q0, .ref q1, .ref q2, .ref q3, .int 0, .ref q4, .ref q5, .ref q6, .int 0, .ref q7, .ref q8, .ref q9, .null, .int 0, .int 0, .null, .null, .null, .null, .int 0, .null, .null])) :: [(q0, .inl (d, 186, .inl (fun _ => 0))), (q1, .inl (d, 186, .inl (fun _ => 0))), (q2, .inl (d, 186, .inl (fun _ => 0))), (q3, .inl (d, 186, .inl (fun _ => 0))), (q4, .inl (d, 6, .inl (fun _ => 0))), (q5, .inl (d, 6, .inl (fun _ => 0))), (q6, .inl (d, 6, .inl (fun _ => 0))), (q7, .inl (d, 8, .inl (fun _ => 0))), (q8, .inl (d, 8, .inl (fun _ => 0))), (q9, .inl (d, 8, .inl (fun _ => 0))), (q10, .inl (d, 8, .inl (fun _ => 0)))]) H _ := w
  refine pfX0_diskPoint E hin w (Nat.le_of_ble_eq_true rfl) dX0_init_93 (fun H locs w => ?_)
  have w : Wd D A s.heap [(h, .inr (0, [.ref q0, .ref q1, .ref q2, .ref q3, .int 0, .ref q4, .ref q5, .ref q6, .int 0, .ref q7, .ref q8, .ref q9, .ref q10, .int 0, .int 0, .null, .null, .null, .null, .int 0, .null, .null])), (q0, .inl (d, 186, .inl (fun _ => 0))), (q1, .inl (d, 186, .inl (fun _ => 0))), (q2, .inl (d, 186, .inl (fun _ => 0))), (q3, .inl (d, 186, .inl (fun _ => 0))), (q4, .inl (d, 6, .inl (fun _ => 0))), (q5, .inl (d, 6, .inl (fun _ => 0))), (q6, .inl (d, 6, .inl (fun _ => 0))), (q7, .inl (d, 8, .inl (fun _ => 0))), (q8, .inl (d, 8, .inl (fun _ => 0))), (q9, .inl (d, 8, .inl (fun _ => 0))), (q10, .inl (d, 8, .inl (fun _ => 0)))] H locs := w
  refine lv_aload_n hx hb dX0_init_96 rfl (lv_at hl 0 rfl) ?_
  refine lv_iconst (v := 4) hx hb dX0_init_97 (by decide) ?_
  refine in_z E w hA (N := 4) (by decide) (by decide) (by decide) (Nat.le_of_ble_eq_true rfl) (Nat.le_of_ble_eq_true rfl) dX0_init_98 (fun q11 dz H E w => ?_)
  refine W.widen (k := 12) (n := 798) (Nat.le_of_ble_eq_true rfl) (Nat.le_of_ble_eq_true rfl) ?_
  have w : Wd D A s.heap ((h, .inr (0, [.ref q0, .ref q1, .ref q2, .ref q3, .int 0, .ref q4, .ref q5, .ref q6, .int 0, .ref q7, .ref q8, .ref q9, .ref q10, .int 0, .int 0, .null, .null, .null, .null, .int 0, .null, .null])) :: [(q0, .inl (d, 186, .inl (fun _ => 0))), (q1, .inl (d, 186, .inl (fun _ => 0))), (q2, .inl (d, 186, .inl (fun _ => 0))), (q3, .inl (d, 186, .inl (fun _ => 0))), (q4, .inl (d, 6, .inl (fun _ => 0))), (q5, .inl (d, 6, .inl (fun _ => 0))), (q6, .inl (d, 6, .inl (fun _ => 0))), (q7, .inl (d, 8, .inl (fun _ => 0))), (q8, .inl (d, 8, .inl (fun _ => 0))), (q9, .inl (d, 8, .inl (fun _ => 0))), (q10, .inl (d, 8, .inl (fun _ => 0))), (q11, .inl (dz, 4, .inl (fun _ => 0)))]) H _ := w
  refine pfX0_finished E hin w (Nat.le_of_ble_eq_true rfl) dX0_init_100 (fun H locs w => ?_)
  have w : Wd D A s.heap [(h, .inr (0, [.ref q0, .ref q1, .ref q2, .ref q3, .int 0, .ref q4, .ref q5, .ref q6, .int 0, .ref q7, .ref q8, .ref q9, .ref q10, .int 0, .int 0, .ref q11, .null, .null, .null, .int 0, .null, .null])), (q0, .inl (d, 186, .inl (fun _ => 0))), (q1, .inl (d, 186, .inl (fun _ => 0))), (q2, .inl (d, 186, .inl (fun _ => 0))), (q3, .inl (d, 186, .inl (fun _ => 0))), (q4, .inl (d, 6, .inl (fun _ => 0))), (q5, .inl (d, 6, .inl (fun _ => 0))), (q6, .inl (d, 6, .inl (fun _ => 0))), (q7, .inl (d, 8, .inl (fun _ => 0))), (q8, .inl (d, 8, .inl (fun _ => 0))), (q9, .inl (d, 8, .inl (fun _ => 0))), (q10, .inl (d, 8, .inl (fun _ => 0))), (q11, .inl (dz, 4, .inl (fun _ => 0)))] H locs := w
  refine lv_aload_n hx hb dX0_init_103 rfl (lv_at hl 0 rfl) ?_
  refine lv_iconst (v := 4) hx hb dX0_init_104 (by decide) ?_
  refine in_i E w hA (N := 4) (by decide) (by decide) (by decide) (Nat.le_of_ble_eq_true rfl) (Nat.le_of_ble_eq_true rfl) dX0_init_105 (fun q12 H w => ?_)
  refine W.widen (k := 13) (n := 802) (Nat.le_of_ble_eq_true rfl) (Nat.le_of_ble_eq_true rfl) ?_
  have w : Wd D A s.heap ((h, .inr (0, [.ref q0, .ref q1, .ref q2, .ref q3, .int 0, .ref q4, .ref q5, .ref q6, .int 0, .ref q7, .ref q8, .ref q9, .ref q10, .int 0, .int 0, .ref q11, .null, .null, .null, .int 0, .null, .null])) :: [(q0, .inl (d, 186, .inl (fun _ => 0))), (q1, .inl (d, 186, .inl (fun _ => 0))), (q2, .inl (d, 186, .inl (fun _ => 0))), (q3, .inl (d, 186, .inl (fun _ => 0))), (q4, .inl (d, 6, .inl (fun _ => 0))), (q5, .inl (d, 6, .inl (fun _ => 0))), (q6, .inl (d, 6, .inl (fun _ => 0))), (q7, .inl (d, 8, .inl (fun _ => 0))), (q8, .inl (d, 8, .inl (fun _ => 0))), (q9, .inl (d, 8, .inl (fun _ => 0))), (q10, .inl (d, 8, .inl (fun _ => 0))), (q11, .inl (dz, 4, .inl (fun _ => 0))), (q12, .inl (d, 4, .inl (fun _ => 0)))]) H _ := w
  refine pfX0_backupLine E hin w (Nat.le_of_ble_eq_true rfl) dX0_init_107 (fun H locs w => ?_)
  have w : Wd D A s.heap [(h, .inr (0, [.ref q0, .ref q1, .ref q2, .ref q3, .int 0, .ref q4, .ref q5, .ref q6, .int 0, .ref q7, .ref q8, .ref q9, .ref q10, .int 0, .int 0, .ref q11, .ref q12, .null, .null, .int 0, .null, .null])), (q0, .inl (d, 186, .inl (fun _ => 0))), (q1, .inl (d, 186, .inl (fun _ => 0))), (q2, .inl (d, 186, .inl (fun _ => 0))), (q3, .inl (d, 186, .inl (fun _ => 0))), (q4, .inl (d, 6, .inl (fun _ => 0))), (q5, .inl (d, 6, .inl (fun _ => 0))), (q6, .inl (d, 6, .inl (fun _ => 0))), (q7, .inl (d, 8, .inl (fun _ => 0))), (q8, .inl (d, 8, .inl (fun _ => 0))), (q9, .inl (d, 8, .inl (fun _ => 0))), (q10, .inl (d, 8, .inl (fun _ => 0))), (q11, .inl (dz, 4, .inl (fun _ => 0))), (q12, .inl (d, 4, .inl (fun _ => 0)))] H locs := w
  refine lv_aload_n hx hb dX0_init_110 rfl (lv_at hl 0 rfl) ?_
  refine lv_iconst (v := 4) hx hb dX0_init_111 (by decide) ?_
  refine in_i E w hA (N := 4) (by decide) (by decide) (by decide) (Nat.le_of_ble_eq_true rfl) (Nat.le_of_ble_eq_true rfl) dX0_init_112 (fun q13 H w => ?_)
  refine W.widen (k := 14) (n := 806) (Nat.le_of_ble_eq_true rfl) (Nat.le_of_ble_eq_true rfl) ?_
  have w : Wd D A s.heap ((h, .inr (0, [.ref q0, .ref q1, .ref q2, .ref q3, .int 0, .ref q4, .ref q5, .ref q6, .int 0, .ref q7, .ref q8, .ref q9, .ref q10, .int 0, .int 0, .ref q11, .ref q12, .null, .null, .int 0, .null, .null])) :: [(q0, .inl (d, 186, .inl (fun _ => 0))), (q1, .inl (d, 186, .inl (fun _ => 0))), (q2, .inl (d, 186, .inl (fun _ => 0))), (q3, .inl (d, 186, .inl (fun _ => 0))), (q4, .inl (d, 6, .inl (fun _ => 0))), (q5, .inl (d, 6, .inl (fun _ => 0))), (q6, .inl (d, 6, .inl (fun _ => 0))), (q7, .inl (d, 8, .inl (fun _ => 0))), (q8, .inl (d, 8, .inl (fun _ => 0))), (q9, .inl (d, 8, .inl (fun _ => 0))), (q10, .inl (d, 8, .inl (fun _ => 0))), (q11, .inl (dz, 4, .inl (fun _ => 0))), (q12, .inl (d, 4, .inl (fun _ => 0))), (q13, .inl (d, 4, .inl (fun _ => 0)))]) H _ := w
  refine pfX0_backupBegin E hin w (Nat.le_of_ble_eq_true rfl) dX0_init_114 (fun H locs w => ?_)
  have w : Wd D A s.heap [(h, .inr (0, [.ref q0, .ref q1, .ref q2, .ref q3, .int 0, .ref q4, .ref q5, .ref q6, .int 0, .ref q7, .ref q8, .ref q9, .ref q10, .int 0, .int 0, .ref q11, .ref q12, .ref q13, .null, .int 0, .null, .null])), (q0, .inl (d, 186, .inl (fun _ => 0))), (q1, .inl (d, 186, .inl (fun _ => 0))), (q2, .inl (d, 186, .inl (fun _ => 0))), (q3, .inl (d, 186, .inl (fun _ => 0))), (q4, .inl (d, 6, .inl (fun _ => 0))), (q5, .inl (d, 6, .inl (fun _ => 0))), (q6, .inl (d, 6, .inl (fun _ => 0))), (q7, .inl (d, 8, .inl (fun _ => 0))), (q8, .inl (d, 8, .inl (fun _ => 0))), (q9, .inl (d, 8, .inl (fun _ => 0))), (q10, .inl (d, 8, .inl (fun _ => 0))), (q11, .inl (dz, 4, .inl (fun _ => 0))), (q12, .inl (d, 4, .inl (fun _ => 0))), (q13, .inl (d, 4, .inl (fun _ => 0)))] H locs := w
  refine lv_aload_n hx hb dX0_init_117 rfl (lv_at hl 0 rfl) ?_
  refine lv_iconst (v := 4) hx hb dX0_init_118 (by decide) ?_
  refine in_i E w hA (N := 4) (by decide) (by decide) (by decide) (Nat.le_of_ble_eq_true rfl) (Nat.le_of_ble_eq_true rfl) dX0_init_119 (fun q14 H w => ?_)
  refine W.widen (k := 15) (n := 810) (Nat.le_of_ble_eq_true rfl) (Nat.le_of_ble_eq_true rfl) ?_
  have w : Wd D A s.heap ((h, .inr (0, [.ref q0, .ref q1, .ref q2, .ref q3, .int 0, .ref q4, .ref q5, .ref q6, .int 0, .ref q7, .ref q8, .ref q9, .ref q10, .int 0, .int 0, .ref q11, .ref q12, .ref q13, .null, .int 0, .null, .null])) :: [(q0, .inl (d, 186, .inl (fun _ => 0))), (q1, .inl (d, 186, .inl (fun _ => 0))), (q2, .inl (d, 186, .inl (fun _ => 0))), (q3, .inl (d, 186, .inl (fun _ => 0))), (q4, .inl (d, 6, .inl (fun _ => 0))), (q5, .inl (d, 6, .inl (fun _ => 0))), (q6, .inl (d, 6, .inl (fun _ => 0))), (q7, .inl (d, 8, .inl (fun _ => 0))), (q8, .inl (d, 8, .inl (fun _ => 0))), (q9, .inl (d, 8, .inl (fun _ => 0))), (q10, .inl (d, 8, .inl (fun _ => 0))), (q11, .inl (dz, 4, .inl (fun _ => 0))), (q12, .inl (d, 4, .inl (fun _ => 0))), (q13, .inl (d, 4, .inl (fun _ => 0))), (q14, .inl (d, 4, .inl (fun _ => 0)))]) H _ := w
  refine pfX0_backupEnd E hin w (Nat.le_of_ble_eq_true rfl) dX0_init_121 (fun H locs w => ?_)
  have w : Wd D A s.heap [(h, .inr (0, [.ref q0, .ref q1, .ref q2, .ref q3, .int 0, .ref q4, .ref q5, .ref q6, .int 0, .ref q7, .ref q8, .ref q9, .ref q10, .int 0, .int 0, .ref q11, .ref q12, .ref q13, .ref q14, .int 0, .null, .null])), (q0, .inl (d, 186, .inl (fun _ => 0))), (q1, .inl (d, 186, .inl (fun _ => 0))), (q2, .inl (d, 186, .inl (fun _ => 0))), (q3, .inl (d, 186, .inl (fun _ => 0))), (q4, .inl (d, 6, .inl (fun _ => 0))), (q5, .inl (d, 6, .inl (fun _ => 0))), (q6, .inl (d, 6, .inl (fun _ => 0))), (q7, .inl (d, 8, .inl (fun _ => 0))), (q8, .inl (d, 8, .inl (fun _ => 0))), (q9, .inl (d, 8, .inl (fun _ => 0))), (q10, .inl (d, 8, .inl (fun _ => 0))), (q11, .inl (dz, 4, .inl (fun _ => 0))), (q12, .inl (d, 4, .inl (fun _ => 0))), (q13, .inl (d, 4, .inl (fun _ => 0))), (q14, .inl (d, 4, .inl (fun _ => 0)))] H locs := w
  refine lv_aload_n hx hb dX0_init_124 rfl (lv_at hl 0 rfl) ?_
  refine lv_bipush (v := 32) hx hb dX0_init_125 (by decide) ?_
  refine in_i E w hA (N := 32) (by decide) (by decide) (by decide) (Nat.le_of_ble_eq_true rfl) (Nat.le_of_ble_eq_true rfl) dX0_init_127 (fun q15 H w => ?_)
  refine W.widen (k := 16) (n := 842) (Nat.le_of_ble_eq_true rfl) (Nat.le_of_ble_eq_true rfl) ?_
  have w : Wd D A s.heap ((h, .inr (0, [.ref q0, .ref q1, .ref q2, .ref q3, .int 0, .ref q4, .ref q5, .ref q6, .int 0, .ref q7, .ref q8, .ref q9, .ref q10, .int 0, .int 0, .ref q11, .ref q12, .ref q13, .ref q14, .int 0, .null, .null])) :: [(q0, .inl (d, 186, .inl (fun _ => 0))), (q1, .inl (d, 186, .inl (fun _ => 0))), (q2, .inl (d, 186, .inl (fun _ => 0))), (q3, .inl (d, 186, .inl (fun _ => 0))), (q4, .inl (d, 6, .inl (fun _ => 0))), (q5, .inl (d, 6, .inl (fun _ => 0))), (q6, .inl (d, 6, .inl (fun _ => 0))), (q7, .inl (d, 8, .inl (fun _ => 0))), (q8, .inl (d, 8, .inl (fun _ => 0))), (q9, .inl (d, 8, .inl (fun _ => 0))), (q10, .inl (d, 8, .inl (fun _ => 0))), (q11, .inl (dz, 4, .inl (fun _ => 0))), (q12, .inl (d, 4, .inl (fun _ => 0))), (q13, .inl (d, 4, .inl (fun _ => 0))), (q14, .inl (d, 4, .inl (fun _ => 0))), (q15, .inl (d, 32, .inl (fun _ => 0)))]) H _ := w
  refine pfX0_saved E hin w (Nat.le_of_ble_eq_true rfl) dX0_init_129 (fun H locs w => ?_)
  have w : Wd D A s.heap [(h, .inr (0, [.ref q0, .ref q1, .ref q2, .ref q3, .int 0, .ref q4, .ref q5, .ref q6, .int 0, .ref q7, .ref q8, .ref q9, .ref q10, .int 0, .int 0, .ref q11, .ref q12, .ref q13, .ref q14, .int 0, .ref q15, .null])), (q0, .inl (d, 186, .inl (fun _ => 0))), (q1, .inl (d, 186, .inl (fun _ => 0))), (q2, .inl (d, 186, .inl (fun _ => 0))), (q3, .inl (d, 186, .inl (fun _ => 0))), (q4, .inl (d, 6, .inl (fun _ => 0))), (q5, .inl (d, 6, .inl (fun _ => 0))), (q6, .inl (d, 6, .inl (fun _ => 0))), (q7, .inl (d, 8, .inl (fun _ => 0))), (q8, .inl (d, 8, .inl (fun _ => 0))), (q9, .inl (d, 8, .inl (fun _ => 0))), (q10, .inl (d, 8, .inl (fun _ => 0))), (q11, .inl (dz, 4, .inl (fun _ => 0))), (q12, .inl (d, 4, .inl (fun _ => 0))), (q13, .inl (d, 4, .inl (fun _ => 0))), (q14, .inl (d, 4, .inl (fun _ => 0))), (q15, .inl (d, 32, .inl (fun _ => 0)))] H locs := w
  refine lv_aload_n hx hb dX0_init_132 rfl (lv_at hl 0 rfl) ?_
  refine lv_bipush (v := 32) hx hb dX0_init_133 (by decide) ?_
  refine in_i E w hA (N := 32) (by decide) (by decide) (by decide) (Nat.le_of_ble_eq_true rfl) (Nat.le_of_ble_eq_true rfl) dX0_init_135 (fun q16 H w => ?_)
  refine W.widen (k := 17) (n := 874) (Nat.le_of_ble_eq_true rfl) (Nat.le_of_ble_eq_true rfl) ?_
  have w : Wd D A s.heap ((h, .inr (0, [.ref q0, .ref q1, .ref q2, .ref q3, .int 0, .ref q4, .ref q5, .ref q6, .int 0, .ref q7, .ref q8, .ref q9, .ref q10, .int 0, .int 0, .ref q11, .ref q12, .ref q13, .ref q14, .int 0, .ref q15, .null])) :: [(q0, .inl (d, 186, .inl (fun _ => 0))), (q1, .inl (d, 186, .inl (fun _ => 0))), (q2, .inl (d, 186, .inl (fun _ => 0))), (q3, .inl (d, 186, .inl (fun _ => 0))), (q4, .inl (d, 6, .inl (fun _ => 0))), (q5, .inl (d, 6, .inl (fun _ => 0))), (q6, .inl (d, 6, .inl (fun _ => 0))), (q7, .inl (d, 8, .inl (fun _ => 0))), (q8, .inl (d, 8, .inl (fun _ => 0))), (q9, .inl (d, 8, .inl (fun _ => 0))), (q10, .inl (d, 8, .inl (fun _ => 0))), (q11, .inl (dz, 4, .inl (fun _ => 0))), (q12, .inl (d, 4, .inl (fun _ => 0))), (q13, .inl (d, 4, .inl (fun _ => 0))), (q14, .inl (d, 4, .inl (fun _ => 0))), (q15, .inl (d, 32, .inl (fun _ => 0))), (q16, .inl (d, 32, .inl (fun _ => 0)))]) H _ := w
  refine pfX0_savedPoint E hin w (Nat.le_of_ble_eq_true rfl) dX0_init_137 (fun H locs w => ?_)
  have w : Wd D A s.heap [(h, .inr (0, [.ref q0, .ref q1, .ref q2, .ref q3, .int 0, .ref q4, .ref q5, .ref q6, .int 0, .ref q7, .ref q8, .ref q9, .ref q10, .int 0, .int 0, .ref q11, .ref q12, .ref q13, .ref q14, .int 0, .ref q15, .ref q16])), (q0, .inl (d, 186, .inl (fun _ => 0))), (q1, .inl (d, 186, .inl (fun _ => 0))), (q2, .inl (d, 186, .inl (fun _ => 0))), (q3, .inl (d, 186, .inl (fun _ => 0))), (q4, .inl (d, 6, .inl (fun _ => 0))), (q5, .inl (d, 6, .inl (fun _ => 0))), (q6, .inl (d, 6, .inl (fun _ => 0))), (q7, .inl (d, 8, .inl (fun _ => 0))), (q8, .inl (d, 8, .inl (fun _ => 0))), (q9, .inl (d, 8, .inl (fun _ => 0))), (q10, .inl (d, 8, .inl (fun _ => 0))), (q11, .inl (dz, 4, .inl (fun _ => 0))), (q12, .inl (d, 4, .inl (fun _ => 0))), (q13, .inl (d, 4, .inl (fun _ => 0))), (q14, .inl (d, 4, .inl (fun _ => 0))), (q15, .inl (d, 32, .inl (fun _ => 0))), (q16, .inl (d, 32, .inl (fun _ => 0)))] H locs := w
  obtain ⟨ad, ead⟩ : ∃ ad : Nat → Nat, ad = fun j => (([q0, q1, q2, q3, q4, q5, q6, q7, q8, q9, q10, q11, q12, q13, q14, q15, q16] : List Nat).getD j 0) := ⟨_, rfl⟩
  have w : Wd D A s.heap (wX h ad d dz Zr) H locs := by rw [ead]; exact w
  refine lv_aload_n hx hb dX0_init_140 rfl (lv_at hl 0 rfl) ?_
  refine lv_iconst (v := 1) hx hb dX0_init_141 (by decide) ?_
  refine px_timelines E w rfl dX0_init_142 (fun H locs w => ?_)
  refine gx_parent E w (lv_at hl 0 rfl) dX0_init_145 dX0_init_146 ?_
  refine lv_iconst (v := nI 0) hx hb dX0_init_149 (by decide) ?_
  refine lv_iconst (v := -1) hx hb dX0_init_150 (by decide) ?_
  refine x_st E w 4 (i := 0) (S2 := S0) rfl (by decide) rfl dX0_init_151 (fun H locs w => ?_)
  refine W.widen (k := 17) (n := 874) (Nat.le_refl _) (Nat.le_refl _) ?_
  exact W.vret hx hb hr (fun t ht hW => ⟨⟨(), rfl, trivial, ad, d, dz, by rw [ht]; exact w.1, va_K.moved hW.alike E.2, by first | exact w.2.1 | (rw [hAe]; exact w.2.1)⟩, w.2.2.F ht⟩) w.2.2.2.2 dX0_init_152
set_option maxHeartbeats 4000000 in
/-- PointInTimeModel() -/
theorem mM_init (l : Launch) (D : va_G) (g sz : Nat) : Met l yX1_init (ws_ yX1_init cX1_init 1 none) rmM (va_Pc [.ref g] (fun U => U.heap.size = sz ∧ va_P D vwCl [(g, .inr (1, [.null, .null, .int 0]))] U.heap ∧ va_K D vwCl [] U ∧ va_D (fun _ => True) [(g, .inr (1, [.null, .null, .int 0]))])) (va_Qv (fun _ : Unit => True) (fun _ t => ∃ (b0 b1 : Nat) (d : ClassId), va_P D vwCl (wM g b0 b1 d O0) t.heap ∧ va_K D vwCl [(d, .int)] t ∧ va_D (va_A [(g, .inr (1, [.null, .null, .int 0]))] sz) (wM g b0 b1 d O0)) (va_A [(g, .inr (1, [.null, .null, .int 0]))] sz)) 2 1494 (va_A [(g, .inr (1, [.null, .null, .int 0]))] sz) := by
  refine Met.ofW (cc := cX1_init) (maxL := 1) (ret := none) (by decide) rfl ?_
  intro p e s m args below meth c s₁ B hml hv
  obtain ⟨rfl, hsz, hP, hK, hD0⟩ := hv
  have hx := B.exec
  have hb := B.bytes
  have hr := B.returns
  have hts := atoms_spec (ws := ws_ yX1_init cX1_init 1 none) B.pre
  have hts : ∀ w ∈ lw_all, w.before _ s = true := fun w h => hts w (List.mem_cons_of_mem _ h)
  have hown : s.vm.findClass RX1 = some m.cls := findClass_of_methodNamed B.named
  have hlocks := B.notSynchronized
  have hin : meth.name = "<init>" := (name_of_methodNamed B.named B.method).1
  subst hsz
  have hD := hD0.self (sz := s.heap.size)
  generalize hAe : va_A [(g, .inr (1, [.null, .null, .int 0]))] s.heap.size = A at hD ⊢
  have hA : ∀ q : Nat, s.heap.size ≤ q → A q := fun q h => by rw [← hAe]; exact Or.inr h
  have hl := lv_entry ([.ref g]) (n := 1) (Nat.le_of_ble_eq_true rfl)
  rw [lg_entry_eq]
  generalize (lg_sl ([.ref g]) ++ List.replicate (1 - (lg_sl ([.ref g])).length) Slot.unset).toArray = ls at hl ⊢
  have hl : lv_has ls 1 [(0, .ref g)] := hl
  have w : Wd D A s.heap [(g, .inr (1, [.null, .null, .int 0]))] s.heap [] := ⟨hP, hD, va_S.rf⟩
  have E : EX p s m _ c D [] RX1 cX1_init 1 := ⟨⟨hx, hb, hml, hown, hts⟩, hK⟩
  refine lv_aload_n hx hb dX1_init_0 rfl (lv_at hl 0 rfl) ?_
  refine W.objInit hx hb hown (hts _ q204) (hts _ q24) (hts _ q25) rfl (by rw [hml]; exact hl.1) rfl dX1_init_1 (Nat.le_of_ble_eq_true rfl) (Nat.le_of_ble_eq_true rfl) ?_
  refine W.eq (g2 := F0 m 4 ls []) rfl ?_
  refine lv_aload_n hx hb dX1_init_4 rfl (lv_at hl 0 rfl) ?_
  refine lv_sipush (v := 1488) hx hb dX1_init_5 (by decide) ?_
  refine in_0 E w hA (N := 1488) (by decide) (by decide) (by decide) (Nat.le_of_ble_eq_true rfl) (Nat.le_of_ble_eq_true rfl) dX1_init_8 (fun b0 d H E w => ?_)
  refine W.widen (k := 1) (n := 1488) (Nat.le_of_ble_eq_true rfl) (Nat.le_of_ble_eq_true rfl) ?_
  have w : Wd D A s.heap ((g, .inr (1, [.null, .null, .int 0])) :: [(b0, .inl (d, 1488, .inl (fun _ => 0)))]) H _ := w
  refine pfX1_values E hin w (Nat.le_of_ble_eq_true rfl) dX1_init_10 (fun H locs w => ?_)
  have w : Wd D A s.heap [(g, .inr (1, [.ref b0, .null, .int 0])), (b0, .inl (d, 1488, .inl (fun _ => 0)))] H locs := w
  refine lv_aload_n hx hb dX1_init_13 rfl (lv_at hl 0 rfl) ?_
  refine lv_bipush (v := 6) hx hb dX1_init_14 (by decide) ?_
  refine in_i E w hA (N := 6) (by decide) (by decide) (by decide) (Nat.le_of_ble_eq_true rfl) (Nat.le_of_ble_eq_true rfl) dX1_init_16 (fun b1 H w => ?_)
  refine W.widen (k := 2) (n := 1494) (Nat.le_of_ble_eq_true rfl) (Nat.le_of_ble_eq_true rfl) ?_
  have w : Wd D A s.heap ((g, .inr (1, [.ref b0, .null, .int 0])) :: [(b0, .inl (d, 1488, .inl (fun _ => 0))), (b1, .inl (d, 6, .inl (fun _ => 0)))]) H _ := w
  refine pfX1_lasts E hin w (Nat.le_of_ble_eq_true rfl) dX1_init_18 (fun H locs w => ?_)
  have w : Wd D A s.heap (wM g b0 b1 d ((fun _ => 0), (fun _ => 0), 0)) H locs := w
  refine lv_aload_n hx hb dX1_init_21 rfl (lv_at hl 0 rfl) ?_
  refine lv_iconst (v := 1) hx hb dX1_init_22 (by decide) ?_
  refine pm_timelines E w (q := 1) (O2 := O0) e1 rfl dX1_init_23 (fun H locs w => ?_)
  refine W.widen (k := 2) (n := 1494) (Nat.le_refl _) (Nat.le_refl _) ?_
  exact W.vret hx hb hr (fun t ht hW => ⟨⟨(), rfl, trivial, b0, b1, d, by rw [ht]; exact w.1, va_K.moved hW.alike E.2, by first | exact w.2.1 | (rw [hAe]; exact w.2.1)⟩, w.2.2.F ht⟩) w.2.2.2.2 dX1_init_26
end
section
/-! THE CLAIM OUT OF ONE WALK OF THE LAW'S BODY. Your part is whole_start (and what it stands on); all else here is the same for every law, but numbers. -/
def lw_P (b : Addr) (xs : List Int32) (args : Array Value) (s : State) : Prop := args = #[.ref b] ∧ s.IntsAt b xs ∧ xs.length ≤ 256 ∧ (Jvm.Cond.and given_1 narrow_1).before args s = true
def lw_Q (_ : Array Value) (s : State) (o : Outcome) (t : State) : Prop := o = .returned (some (.int 1)) ∧ Framed s o t [] 600000 7290000
def lw_Z (below : List Frame) (a : Array Value) (s : State) : State → Prop := fun t => ∃ o, t.status = .running ∧ Ended t below o ∧ lw_Q a s o t
/-- the law's own end, with 1 on the stack, nothing written that was there before, its room as the claim has it -/
theorem lw_ret {p : Program} {l : Launch} {e : Env} {s : State} {m : MethodId} {below : List Frame} {meth : Method} {c : Code} {b : Nat} (hx : p.tables.exec = Jvm.exec) (hb : c.code = code) (hr : meth.sig.returnType = ret) (hlocks : meth.locks = false) {pc : Nat} {H : Heap} {ls : Array Slot} (hdg : decode code pc = .ok (.ireturn, 1)) : W p l e room_1 s m #[Value.ref b] below meth c H [] 600000 7290000 (lw_Z below #[Value.ref b] s) (F0 m pc ls [.int 1]) := by
  intro T hT X
  obtain ⟨fs, hret, hrun, hended, hW, hframe⟩ := X.leave (v := some (.int 1)) (hlocks := hlocks) (fun h => by rw [hr] at h; cases h)
  have hmeth' : T.vm.method? m = some meth := X.method'
  refine ⟨T.setFrames fs, ?_, .returned (some (.int 1)), hrun, hended, rfl, ⟨_, rfl⟩, hW, hframe⟩
  jvm_step X.here [X.here.top, hx, hb, hdg, hmeth', hr, ret, narrow_b1]
  (try refine ⟨rfl, ?_⟩); (try refine ⟨rfl, ?_⟩)
  first | (intro acts; rw [hret _ acts rfl rfl rfl]) | rw [hret _ _ rfl rfl rfl]
  exact Steps.refl _
/-- what holds at the law's entry: the machine, the code, the tables' words (any of lw_tbl by 'hts w (by decide +kernel)'), the script of L ints xs at the cell b, what the Statement gives of the start (any of its parts by flat_of_before) -/
def lw_At (p : Program) (s : State) (m : MethodId) (meth : Method) (c : Code) (b L : Nat) (xs : Nat → Int32) : Prop :=
  p.tables.exec = Jvm.exec ∧ c.code = code ∧ meth.sig.returnType = ret ∧ c.maxLocals = 4 ∧ s.vm.findClass R_law = some m.cls ∧ (∀ w ∈ lw_tbl, w.before #[Value.ref b] s = true) ∧ va_X b L xs s s.heap ∧ b < s.heap.size ∧ meth.locks = false ∧ (Jvm.Cond.and given_1 narrow_1).before #[Value.ref b] s = true
end
section
/-! THE LAW: its loop -/
set_option maxRecDepth 100000
section LawRows
variable {p : Program} {l : Launch} {e : Env} {R : Room} {s : State} {m : MethodId} {args : Array Value} {below : List Frame} {meth : Method} {c : Code} {H : Heap} {locs : List Loc} {cells slots : Nat} {Q : State → Prop}
variable {cc : ByteArray} {pc nL : Nat} {ls : Array Slot} {rest : List Value} {D : va_G} {A : Nat → Prop} {H0 : Heap} {own : String} {ws : va_W} {tys : List (ClassId × FieldType)}
/-- an int of the script is read -/
theorem s_ld {b L : Nat} {xs : Nat → Int32} (E : EX p s m args c D tys own cc nL) (hX : va_X b L xs s H0) (hbl : b < H0.size) (hbA : ¬ A b) (w : Wd D A H0 ws H locs) (hL : L ≤ 256) {i : Nat} {x : Int32} (ex : x = nI i) (hi : i < L) (hdg : decode cc pc = .ok (.iaload, 1)) (kk : W p l e R s m args below meth c H locs cells slots Q (F0 m (pc + 1) ls (.int (xs i) :: rest))) : W p l e R s m args below meth c H locs cells slots Q (F0 m pc ls (.int x :: .ref b :: rest)) := by
  subst ex
  refine va_sld E.1.1 E.1.2.1 hX hbl hbA w.2.2 (vp_inx hi (by omega)) hdg ?_
  rw [nI_clamp (by omega)]
  exact kk
end LawRows
theorem len_exit {L i : Nat} (hL : L ≤ 256) (hi : i ≤ L) (h : ¬ nI L - 4 < nI i) : i + 4 ≤ L := by
  rw [e4, Int32.lt_iff_toInt_lt, pk_sub_toInt (by omega) (by omega), nI_toInt (by omega)] at h
  omega
set_option maxHeartbeats 4000000 in
/-- case 0: set -/
theorem law_set {p : Program} {l : Launch} {e : Env} {s : State} {m : MethodId} {below : List Frame} {meth : Method} {c : Code} {D : va_G} {b L : Nat} {xs : Nat → Int32} {h g b0 b1 : Nat} {ad : Nat → Nat} {d dz dm : ClassId} (hL : L ≤ 256) (C0 : lw_At p s m meth c b L xs) (hK1 : va_K D vwCl [(d, .int), (dz, .boolean)] s) (hK2 : va_K D vwCl [(dm, .int)] s) {i : Nat} (hi : i + 4 ≤ L) (tail : ∀ (S2 : PS) (O2 : MO) (H : Heap) (locs : List Loc) (ls : Array Slot), Inv S2 O2 → Wd D (fun q : Nat => s.heap.size ≤ q) s.heap (wX h ad d dz S2 ++ wM g b0 b1 dm O2) H locs → lv_has ls 4 [(0, .ref b), (1, .ref h), (2, .ref g), (3, .int (nI i))] → W p l e room_1 s m #[Value.ref b] below meth c H locs 21 2393 (lw_Z below #[Value.ref b] s) (F0 m 503 ls [])) (S : PS) (O : MO) (hI : Inv S O) (H : Heap) (locs : List Loc) (w : Wd D (fun q : Nat => s.heap.size ≤ q) s.heap (wX h ad d dz S ++ wM g b0 b1 dm O) H locs) (ls : Array Slot) (hl : lv_has ls 4 [(0, .ref b), (1, .ref h), (2, .ref g), (3, .int (nI i))]) : W p l e room_1 s m #[Value.ref b] below meth c H locs 21 2393 (lw_Z below #[Value.ref b] s) (F0 m 108 ls []) := by
  obtain ⟨hx, hb, hr, hml, hown, hts0, hX, hbl, hlocks, hgv⟩ := id C0
  have hts : ∀ w ∈ lw_all, w.before #[Value.ref b] s = true := fun w h => hts0 w (lw_all_tbl h)
  have E : EX p s m #[Value.ref b] c D [] R_law code 4 := ⟨⟨hx, hb, hml, hown, hts⟩, hK1.sub [] rfl⟩
  have hA : ∀ q : Nat, s.heap.size ≤ q → (fun q : Nat => s.heap.size ≤ q) q := fun _ h => h
  have hbA : ¬ (fun q : Nat => s.heap.size ≤ q) b := Nat.not_le.mpr hbl
  refine lv_aload_n hx hb dL_law_108 rfl (lv_at hl 1 rfl) ?_
  refine lv_aload_n hx hb dL_law_109 rfl (lv_at hl 0 rfl) ?_
  refine lv_iload_n hx hb dL_law_110 rfl (lv_at hl 3 rfl) ?_
  refine lv_iconst (v := 1) hx hb dL_law_111 (by decide) ?_
  refine lv_iadd hx hb dL_law_112 ?_
  refine s_ld E hX hbl hbA w hL (i := i + 1) (nI_1 i) (by omega) dL_law_113 ?_
  refine lv_aload_n hx hb dL_law_114 rfl (lv_at hl 0 rfl) ?_
  refine lv_iload_n hx hb dL_law_115 rfl (lv_at hl 3 rfl) ?_
  refine lv_iconst (v := 2) hx hb dL_law_116 (by decide) ?_
  refine lv_iadd hx hb dL_law_117 ?_
  refine s_ld E hX hbl hbA w hL (i := i + 2) (nI_add i 2) (by omega) dL_law_118 ?_
  refine cF_i (rest := []) (wr := wM g b0 b1 dm O) E (mX_set l D h ad d dz S (xs (i + 1)) (xs (i + 2)) O hI) (clx_set E ⟨by decide, by decide⟩) w hA hK1 (ci := 0) rfl rfl rfl rfl hl.1 rfl (Nat.le_of_ble_eq_true rfl) dL_law_119 ⟨by decide, by decide⟩ (fun r1 S2 H locs hq1 w => ?_)
  have w := w.swap
  refine lv_aload_n hx hb dL_law_122 rfl (lv_at hl 2 rfl) ?_
  refine lv_aload_n hx hb dL_law_123 rfl (lv_at hl 0 rfl) ?_
  refine lv_iload_n hx hb dL_law_124 rfl (lv_at hl 3 rfl) ?_
  refine lv_iconst (v := 1) hx hb dL_law_125 (by decide) ?_
  refine lv_iadd hx hb dL_law_126 ?_
  refine s_ld E hX hbl hbA w hL (i := i + 1) (nI_1 i) (by omega) dL_law_127 ?_
  refine lv_aload_n hx hb dL_law_128 rfl (lv_at hl 0 rfl) ?_
  refine lv_iload_n hx hb dL_law_129 rfl (lv_at hl 3 rfl) ?_
  refine lv_iconst (v := 2) hx hb dL_law_130 (by decide) ?_
  refine lv_iadd hx hb dL_law_131 ?_
  refine s_ld E hX hbl hbA w hL (i := i + 2) (nI_add i 2) (by omega) dL_law_132 ?_
  refine cF_i (rest := [.int r1]) (wr := wX h ad d dz S2) E (mM_set l D g b0 b1 dm O (xs (i + 1)) (xs (i + 2)) hI.1) (clm_set E ⟨by decide, by decide⟩) w hA hK2 (ci := 1) rfl rfl rfl rfl hl.1 rfl (Nat.le_of_ble_eq_true rfl) dL_law_133 ⟨by decide, by decide⟩ (fun r2 O2 H locs hq2 w => ?_)
  have w := w.swap
  refine lv_icmp_eq (tgt := 503) hx hb dL_law_136 (by decide) (fun c1 => ?_) (fun c1 => ?_)
  · exact tail S2 O2 _ _ _ (by rw [hq2.2]; exact hq1.2) w hl
  · exact absurd (hq1.1.trans hq2.1.symm) c1
set_option maxHeartbeats 4000000 in
/-- case 1: exchange -/
theorem law_exchange {p : Program} {l : Launch} {e : Env} {s : State} {m : MethodId} {below : List Frame} {meth : Method} {c : Code} {D : va_G} {b L : Nat} {xs : Nat → Int32} {h g b0 b1 : Nat} {ad : Nat → Nat} {d dz dm : ClassId} (hL : L ≤ 256) (C0 : lw_At p s m meth c b L xs) (hK1 : va_K D vwCl [(d, .int), (dz, .boolean)] s) (hK2 : va_K D vwCl [(dm, .int)] s) {i : Nat} (hi : i + 4 ≤ L) (tail : ∀ (S2 : PS) (O2 : MO) (H : Heap) (locs : List Loc) (ls : Array Slot), Inv S2 O2 → Wd D (fun q : Nat => s.heap.size ≤ q) s.heap (wX h ad d dz S2 ++ wM g b0 b1 dm O2) H locs → lv_has ls 4 [(0, .ref b), (1, .ref h), (2, .ref g), (3, .int (nI i))] → W p l e room_1 s m #[Value.ref b] below meth c H locs 21 2393 (lw_Z below #[Value.ref b] s) (F0 m 503 ls [])) (S : PS) (O : MO) (hI : Inv S O) (H : Heap) (locs : List Loc) (w : Wd D (fun q : Nat => s.heap.size ≤ q) s.heap (wX h ad d dz S ++ wM g b0 b1 dm O) H locs) (ls : Array Slot) (hl : lv_has ls 4 [(0, .ref b), (1, .ref h), (2, .ref g), (3, .int (nI i))]) : W p l e room_1 s m #[Value.ref b] below meth c H locs 21 2393 (lw_Z below #[Value.ref b] s) (F0 m 141 ls []) := by
  obtain ⟨hx, hb, hr, hml, hown, hts0, hX, hbl, hlocks, hgv⟩ := id C0
  have hts : ∀ w ∈ lw_all, w.before #[Value.ref b] s = true := fun w h => hts0 w (lw_all_tbl h)
  have E : EX p s m #[Value.ref b] c D [] R_law code 4 := ⟨⟨hx, hb, hml, hown, hts⟩, hK1.sub [] rfl⟩
  have hA : ∀ q : Nat, s.heap.size ≤ q → (fun q : Nat => s.heap.size ≤ q) q := fun _ h => h
  have hbA : ¬ (fun q : Nat => s.heap.size ≤ q) b := Nat.not_le.mpr hbl
  refine lv_aload_n hx hb dL_law_141 rfl (lv_at hl 1 rfl) ?_
  refine lv_aload_n hx hb dL_law_142 rfl (lv_at hl 0 rfl) ?_
  refine lv_iload_n hx hb dL_law_143 rfl (lv_at hl 3 rfl) ?_
  refine lv_iconst (v := 1) hx hb dL_law_144 (by decide) ?_
  refine lv_iadd hx hb dL_law_145 ?_
  refine s_ld E hX hbl hbA w hL (i := i + 1) (nI_1 i) (by omega) dL_law_146 ?_
  refine lv_aload_n hx hb dL_law_147 rfl (lv_at hl 0 rfl) ?_
  refine lv_iload_n hx hb dL_law_148 rfl (lv_at hl 3 rfl) ?_
  refine lv_iconst (v := 2) hx hb dL_law_149 (by decide) ?_
  refine lv_iadd hx hb dL_law_150 ?_
  refine s_ld E hX hbl hbA w hL (i := i + 2) (nI_add i 2) (by omega) dL_law_151 ?_
  refine cF_i (rest := []) (wr := wM g b0 b1 dm O) E (mX_exchange l D h ad d dz S (xs (i + 1)) (xs (i + 2)) O hI) (clx_exchange E ⟨by decide, by decide⟩) w hA hK1 (ci := 0) rfl rfl rfl rfl hl.1 rfl (Nat.le_of_ble_eq_true rfl) dL_law_152 ⟨by decide, by decide⟩ (fun r1 S2 H locs hq1 w => ?_)
  have w := w.swap
  refine lv_aload_n hx hb dL_law_155 rfl (lv_at hl 2 rfl) ?_
  refine lv_aload_n hx hb dL_law_156 rfl (lv_at hl 0 rfl) ?_
  refine lv_iload_n hx hb dL_law_157 rfl (lv_at hl 3 rfl) ?_
  refine lv_iconst (v := 1) hx hb dL_law_158 (by decide) ?_
  refine lv_iadd hx hb dL_law_159 ?_
  refine s_ld E hX hbl hbA w hL (i := i + 1) (nI_1 i) (by omega) dL_law_160 ?_
  refine lv_aload_n hx hb dL_law_161 rfl (lv_at hl 0 rfl) ?_
  refine lv_iload_n hx hb dL_law_162 rfl (lv_at hl 3 rfl) ?_
  refine lv_iconst (v := 2) hx hb dL_law_163 (by decide) ?_
  refine lv_iadd hx hb dL_law_164 ?_
  refine s_ld E hX hbl hbA w hL (i := i + 2) (nI_add i 2) (by omega) dL_law_165 ?_
  refine cF_i (rest := [.int r1]) (wr := wX h ad d dz S2) E (mM_exchange l D g b0 b1 dm O (xs (i + 1)) (xs (i + 2)) hI.1) (clm_exchange E ⟨by decide, by decide⟩) w hA hK2 (ci := 1) rfl rfl rfl rfl hl.1 rfl (Nat.le_of_ble_eq_true rfl) dL_law_166 ⟨by decide, by decide⟩ (fun r2 O2 H locs hq2 w => ?_)
  have w := w.swap
  refine lv_icmp_eq (tgt := 503) hx hb dL_law_169 (by decide) (fun c1 => ?_) (fun c1 => ?_)
  · exact tail S2 O2 _ _ _ (by rw [hq2.2]; exact hq1.2) w hl
  · exact absurd (hq1.1.trans hq2.1.symm) c1
set_option maxHeartbeats 4000000 in
/-- case 2: add -/
theorem law_add {p : Program} {l : Launch} {e : Env} {s : State} {m : MethodId} {below : List Frame} {meth : Method} {c : Code} {D : va_G} {b L : Nat} {xs : Nat → Int32} {h g b0 b1 : Nat} {ad : Nat → Nat} {d dz dm : ClassId} (hL : L ≤ 256) (C0 : lw_At p s m meth c b L xs) (hK1 : va_K D vwCl [(d, .int), (dz, .boolean)] s) (hK2 : va_K D vwCl [(dm, .int)] s) {i : Nat} (hi : i + 4 ≤ L) (tail : ∀ (S2 : PS) (O2 : MO) (H : Heap) (locs : List Loc) (ls : Array Slot), Inv S2 O2 → Wd D (fun q : Nat => s.heap.size ≤ q) s.heap (wX h ad d dz S2 ++ wM g b0 b1 dm O2) H locs → lv_has ls 4 [(0, .ref b), (1, .ref h), (2, .ref g), (3, .int (nI i))] → W p l e room_1 s m #[Value.ref b] below meth c H locs 21 2393 (lw_Z below #[Value.ref b] s) (F0 m 503 ls [])) (S : PS) (O : MO) (hI : Inv S O) (H : Heap) (locs : List Loc) (w : Wd D (fun q : Nat => s.heap.size ≤ q) s.heap (wX h ad d dz S ++ wM g b0 b1 dm O) H locs) (ls : Array Slot) (hl : lv_has ls 4 [(0, .ref b), (1, .ref h), (2, .ref g), (3, .int (nI i))]) : W p l e room_1 s m #[Value.ref b] below meth c H locs 21 2393 (lw_Z below #[Value.ref b] s) (F0 m 174 ls []) := by
  obtain ⟨hx, hb, hr, hml, hown, hts0, hX, hbl, hlocks, hgv⟩ := id C0
  have hts : ∀ w ∈ lw_all, w.before #[Value.ref b] s = true := fun w h => hts0 w (lw_all_tbl h)
  have E : EX p s m #[Value.ref b] c D [] R_law code 4 := ⟨⟨hx, hb, hml, hown, hts⟩, hK1.sub [] rfl⟩
  have hA : ∀ q : Nat, s.heap.size ≤ q → (fun q : Nat => s.heap.size ≤ q) q := fun _ h => h
  have hbA : ¬ (fun q : Nat => s.heap.size ≤ q) b := Nat.not_le.mpr hbl
  refine lv_aload_n hx hb dL_law_174 rfl (lv_at hl 1 rfl) ?_
  refine lv_aload_n hx hb dL_law_175 rfl (lv_at hl 0 rfl) ?_
  refine lv_iload_n hx hb dL_law_176 rfl (lv_at hl 3 rfl) ?_
  refine lv_iconst (v := 1) hx hb dL_law_177 (by decide) ?_
  refine lv_iadd hx hb dL_law_178 ?_
  refine s_ld E hX hbl hbA w hL (i := i + 1) (nI_1 i) (by omega) dL_law_179 ?_
  refine lv_aload_n hx hb dL_law_180 rfl (lv_at hl 0 rfl) ?_
  refine lv_iload_n hx hb dL_law_181 rfl (lv_at hl 3 rfl) ?_
  refine lv_iconst (v := 2) hx hb dL_law_182 (by decide) ?_
  refine lv_iadd hx hb dL_law_183 ?_
  refine s_ld E hX hbl hbA w hL (i := i + 2) (nI_add i 2) (by omega) dL_law_184 ?_
  refine cF_i (rest := []) (wr := wM g b0 b1 dm O) E (mX_add l D h ad d dz S (xs (i + 1)) (xs (i + 2)) O hI) (clx_add E ⟨by decide, by decide⟩) w hA hK1 (ci := 0) rfl rfl rfl rfl hl.1 rfl (Nat.le_of_ble_eq_true rfl) dL_law_185 ⟨by decide, by decide⟩ (fun r1 S2 H locs hq1 w => ?_)
  have w := w.swap
  refine lv_aload_n hx hb dL_law_188 rfl (lv_at hl 2 rfl) ?_
  refine lv_aload_n hx hb dL_law_189 rfl (lv_at hl 0 rfl) ?_
  refine lv_iload_n hx hb dL_law_190 rfl (lv_at hl 3 rfl) ?_
  refine lv_iconst (v := 1) hx hb dL_law_191 (by decide) ?_
  refine lv_iadd hx hb dL_law_192 ?_
  refine s_ld E hX hbl hbA w hL (i := i + 1) (nI_1 i) (by omega) dL_law_193 ?_
  refine lv_aload_n hx hb dL_law_194 rfl (lv_at hl 0 rfl) ?_
  refine lv_iload_n hx hb dL_law_195 rfl (lv_at hl 3 rfl) ?_
  refine lv_iconst (v := 2) hx hb dL_law_196 (by decide) ?_
  refine lv_iadd hx hb dL_law_197 ?_
  refine s_ld E hX hbl hbA w hL (i := i + 2) (nI_add i 2) (by omega) dL_law_198 ?_
  refine cF_i (rest := [.int r1]) (wr := wX h ad d dz S2) E (mM_add l D g b0 b1 dm O (xs (i + 1)) (xs (i + 2)) hI.1) (clm_add E ⟨by decide, by decide⟩) w hA hK2 (ci := 1) rfl rfl rfl rfl hl.1 rfl (Nat.le_of_ble_eq_true rfl) dL_law_199 ⟨by decide, by decide⟩ (fun r2 O2 H locs hq2 w => ?_)
  have w := w.swap
  refine lv_icmp_eq (tgt := 503) hx hb dL_law_202 (by decide) (fun c1 => ?_) (fun c1 => ?_)
  · exact tail S2 O2 _ _ _ (by rw [hq2.2]; exact hq1.2) w hl
  · exact absurd (hq1.1.trans hq2.1.symm) c1
set_option maxHeartbeats 4000000 in
/-- case 3: get -/
theorem law_get {p : Program} {l : Launch} {e : Env} {s : State} {m : MethodId} {below : List Frame} {meth : Method} {c : Code} {D : va_G} {b L : Nat} {xs : Nat → Int32} {h g b0 b1 : Nat} {ad : Nat → Nat} {d dz dm : ClassId} (hL : L ≤ 256) (C0 : lw_At p s m meth c b L xs) (hK1 : va_K D vwCl [(d, .int), (dz, .boolean)] s) (hK2 : va_K D vwCl [(dm, .int)] s) {i : Nat} (hi : i + 4 ≤ L) (tail : ∀ (S2 : PS) (O2 : MO) (H : Heap) (locs : List Loc) (ls : Array Slot), Inv S2 O2 → Wd D (fun q : Nat => s.heap.size ≤ q) s.heap (wX h ad d dz S2 ++ wM g b0 b1 dm O2) H locs → lv_has ls 4 [(0, .ref b), (1, .ref h), (2, .ref g), (3, .int (nI i))] → W p l e room_1 s m #[Value.ref b] below meth c H locs 21 2393 (lw_Z below #[Value.ref b] s) (F0 m 503 ls [])) (S : PS) (O : MO) (hI : Inv S O) (H : Heap) (locs : List Loc) (w : Wd D (fun q : Nat => s.heap.size ≤ q) s.heap (wX h ad d dz S ++ wM g b0 b1 dm O) H locs) (ls : Array Slot) (hl : lv_has ls 4 [(0, .ref b), (1, .ref h), (2, .ref g), (3, .int (nI i))]) : W p l e room_1 s m #[Value.ref b] below meth c H locs 21 2393 (lw_Z below #[Value.ref b] s) (F0 m 207 ls []) := by
  obtain ⟨hx, hb, hr, hml, hown, hts0, hX, hbl, hlocks, hgv⟩ := id C0
  have hts : ∀ w ∈ lw_all, w.before #[Value.ref b] s = true := fun w h => hts0 w (lw_all_tbl h)
  have E : EX p s m #[Value.ref b] c D [] R_law code 4 := ⟨⟨hx, hb, hml, hown, hts⟩, hK1.sub [] rfl⟩
  have hA : ∀ q : Nat, s.heap.size ≤ q → (fun q : Nat => s.heap.size ≤ q) q := fun _ h => h
  have hbA : ¬ (fun q : Nat => s.heap.size ≤ q) b := Nat.not_le.mpr hbl
  refine lv_aload_n hx hb dL_law_207 rfl (lv_at hl 1 rfl) ?_
  refine lv_aload_n hx hb dL_law_208 rfl (lv_at hl 0 rfl) ?_
  refine lv_iload_n hx hb dL_law_209 rfl (lv_at hl 3 rfl) ?_
  refine lv_iconst (v := 1) hx hb dL_law_210 (by decide) ?_
  refine lv_iadd hx hb dL_law_211 ?_
  refine s_ld E hX hbl hbA w hL (i := i + 1) (nI_1 i) (by omega) dL_law_212 ?_
  refine cF_i (rest := []) (wr := wM g b0 b1 dm O) E (mX_get l D h ad d dz S (xs (i + 1)) O hI) (clx_get E ⟨by decide, by decide⟩) w hA hK1 (ci := 0) rfl rfl rfl rfl hl.1 rfl (Nat.le_of_ble_eq_true rfl) dL_law_213 ⟨by decide, by decide⟩ (fun r1 S2 H locs hq1 w => ?_)
  have w := w.swap
  refine lv_aload_n hx hb dL_law_216 rfl (lv_at hl 2 rfl) ?_
  refine lv_aload_n hx hb dL_law_217 rfl (lv_at hl 0 rfl) ?_
  refine lv_iload_n hx hb dL_law_218 rfl (lv_at hl 3 rfl) ?_
  refine lv_iconst (v := 1) hx hb dL_law_219 (by decide) ?_
  refine lv_iadd hx hb dL_law_220 ?_
  refine s_ld E hX hbl hbA w hL (i := i + 1) (nI_1 i) (by omega) dL_law_221 ?_
  refine cF_i (rest := [.int r1]) (wr := wX h ad d dz S2) E (mM_get l D g b0 b1 dm O (xs (i + 1)) hI.1) (clm_get E ⟨by decide, by decide⟩) w hA hK2 (ci := 1) rfl rfl rfl rfl hl.1 rfl (Nat.le_of_ble_eq_true rfl) dL_law_222 ⟨by decide, by decide⟩ (fun r2 O2 H locs hq2 w => ?_)
  have w := w.swap
  refine lv_icmp_eq (tgt := 503) hx hb dL_law_225 (by decide) (fun c1 => ?_) (fun c1 => ?_)
  · exact tail S2 O2 _ _ _ (by rw [← hq2.1]; exact hq1.2) w hl
  · exact absurd (hq1.1.trans hq2.2.symm) c1
set_option maxHeartbeats 4000000 in
/-- case 4: timeline -/
theorem law_timeline {p : Program} {l : Launch} {e : Env} {s : State} {m : MethodId} {below : List Frame} {meth : Method} {c : Code} {D : va_G} {b L : Nat} {xs : Nat → Int32} {h g b0 b1 : Nat} {ad : Nat → Nat} {d dz dm : ClassId} (hL : L ≤ 256) (C0 : lw_At p s m meth c b L xs) (hK1 : va_K D vwCl [(d, .int), (dz, .boolean)] s) (hK2 : va_K D vwCl [(dm, .int)] s) {i : Nat} (hi : i + 4 ≤ L) (tail : ∀ (S2 : PS) (O2 : MO) (H : Heap) (locs : List Loc) (ls : Array Slot), Inv S2 O2 → Wd D (fun q : Nat => s.heap.size ≤ q) s.heap (wX h ad d dz S2 ++ wM g b0 b1 dm O2) H locs → lv_has ls 4 [(0, .ref b), (1, .ref h), (2, .ref g), (3, .int (nI i))] → W p l e room_1 s m #[Value.ref b] below meth c H locs 21 2393 (lw_Z below #[Value.ref b] s) (F0 m 503 ls [])) (S : PS) (O : MO) (hI : Inv S O) (H : Heap) (locs : List Loc) (w : Wd D (fun q : Nat => s.heap.size ≤ q) s.heap (wX h ad d dz S ++ wM g b0 b1 dm O) H locs) (ls : Array Slot) (hl : lv_has ls 4 [(0, .ref b), (1, .ref h), (2, .ref g), (3, .int (nI i))]) : W p l e room_1 s m #[Value.ref b] below meth c H locs 21 2393 (lw_Z below #[Value.ref b] s) (F0 m 230 ls []) := by
  obtain ⟨hx, hb, hr, hml, hown, hts0, hX, hbl, hlocks, hgv⟩ := id C0
  have hts : ∀ w ∈ lw_all, w.before #[Value.ref b] s = true := fun w h => hts0 w (lw_all_tbl h)
  have E : EX p s m #[Value.ref b] c D [] R_law code 4 := ⟨⟨hx, hb, hml, hown, hts⟩, hK1.sub [] rfl⟩
  have hA : ∀ q : Nat, s.heap.size ≤ q → (fun q : Nat => s.heap.size ≤ q) q := fun _ h => h
  have hbA : ¬ (fun q : Nat => s.heap.size ≤ q) b := Nat.not_le.mpr hbl
  refine lv_aload_n hx hb dL_law_230 rfl (lv_at hl 1 rfl) ?_
  refine cF_i (rest := []) (wr := wM g b0 b1 dm O) E (mX_timeline l D h ad d dz S O hI) (clx_timeline E ⟨by decide, by decide⟩) w hA hK1 (ci := 0) rfl rfl rfl rfl hl.1 rfl (Nat.le_of_ble_eq_true rfl) dL_law_231 ⟨by decide, by decide⟩ (fun r1 S2 H locs hq1 w => ?_)
  have w := w.swap
  refine lv_aload_n hx hb dL_law_234 rfl (lv_at hl 2 rfl) ?_
  refine cF_i (rest := [.int r1]) (wr := wX h ad d dz S2) E (mM_timeline l D g b0 b1 dm O hI.1) (clm_timeline E ⟨by decide, by decide⟩) w hA hK2 (ci := 1) rfl rfl rfl rfl hl.1 rfl (Nat.le_of_ble_eq_true rfl) dL_law_235 ⟨by decide, by decide⟩ (fun r2 O2 H locs hq2 w => ?_)
  have w := w.swap
  refine lv_icmp_eq (tgt := 503) hx hb dL_law_238 (by decide) (fun c1 => ?_) (fun c1 => ?_)
  · exact tail S2 O2 _ _ _ (by rw [← hq2.1]; exact hq1.2) w hl
  · exact absurd (hq1.1.trans hq2.2.symm) c1
set_option maxHeartbeats 4000000 in
/-- case 5: point -/
theorem law_point {p : Program} {l : Launch} {e : Env} {s : State} {m : MethodId} {below : List Frame} {meth : Method} {c : Code} {D : va_G} {b L : Nat} {xs : Nat → Int32} {h g b0 b1 : Nat} {ad : Nat → Nat} {d dz dm : ClassId} (hL : L ≤ 256) (C0 : lw_At p s m meth c b L xs) (hK1 : va_K D vwCl [(d, .int), (dz, .boolean)] s) (hK2 : va_K D vwCl [(dm, .int)] s) {i : Nat} (hi : i + 4 ≤ L) (tail : ∀ (S2 : PS) (O2 : MO) (H : Heap) (locs : List Loc) (ls : Array Slot), Inv S2 O2 → Wd D (fun q : Nat => s.heap.size ≤ q) s.heap (wX h ad d dz S2 ++ wM g b0 b1 dm O2) H locs → lv_has ls 4 [(0, .ref b), (1, .ref h), (2, .ref g), (3, .int (nI i))] → W p l e room_1 s m #[Value.ref b] below meth c H locs 21 2393 (lw_Z below #[Value.ref b] s) (F0 m 503 ls [])) (S : PS) (O : MO) (hI : Inv S O) (H : Heap) (locs : List Loc) (w : Wd D (fun q : Nat => s.heap.size ≤ q) s.heap (wX h ad d dz S ++ wM g b0 b1 dm O) H locs) (ls : Array Slot) (hl : lv_has ls 4 [(0, .ref b), (1, .ref h), (2, .ref g), (3, .int (nI i))]) : W p l e room_1 s m #[Value.ref b] below meth c H locs 21 2393 (lw_Z below #[Value.ref b] s) (F0 m 243 ls []) := by
  obtain ⟨hx, hb, hr, hml, hown, hts0, hX, hbl, hlocks, hgv⟩ := id C0
  have hts : ∀ w ∈ lw_all, w.before #[Value.ref b] s = true := fun w h => hts0 w (lw_all_tbl h)
  have E : EX p s m #[Value.ref b] c D [] R_law code 4 := ⟨⟨hx, hb, hml, hown, hts⟩, hK1.sub [] rfl⟩
  have hA : ∀ q : Nat, s.heap.size ≤ q → (fun q : Nat => s.heap.size ≤ q) q := fun _ h => h
  have hbA : ¬ (fun q : Nat => s.heap.size ≤ q) b := Nat.not_le.mpr hbl
  refine lv_aload_n hx hb dL_law_243 rfl (lv_at hl 1 rfl) ?_
  refine cF_i (rest := []) (wr := wM g b0 b1 dm O) E (mX_point l D h ad d dz S O hI) (clx_point E ⟨by decide, by decide⟩) w hA hK1 (ci := 0) rfl rfl rfl rfl hl.1 rfl (Nat.le_of_ble_eq_true rfl) dL_law_244 ⟨by decide, by decide⟩ (fun r1 S2 H locs hq1 w => ?_)
  have w := w.swap
  refine lv_aload_n hx hb dL_law_247 rfl (lv_at hl 2 rfl) ?_
  refine cF_i (rest := [.int r1]) (wr := wX h ad d dz S2) E (mM_point l D g b0 b1 dm O hI.1) (clm_point E ⟨by decide, by decide⟩) w hA hK2 (ci := 1) rfl rfl rfl rfl hl.1 rfl (Nat.le_of_ble_eq_true rfl) dL_law_248 ⟨by decide, by decide⟩ (fun r2 O2 H locs hq2 w => ?_)
  have w := w.swap
  refine lv_icmp_eq (tgt := 503) hx hb dL_law_251 (by decide) (fun c1 => ?_) (fun c1 => ?_)
  · exact tail S2 O2 _ _ _ (by rw [← hq2.1]; exact hq1.2) w hl
  · exact absurd (hq1.1.trans hq2.2.symm) c1
set_option maxHeartbeats 4000000 in
/-- case 6: restore -/
theorem law_restore {p : Program} {l : Launch} {e : Env} {s : State} {m : MethodId} {below : List Frame} {meth : Method} {c : Code} {D : va_G} {b L : Nat} {xs : Nat → Int32} {h g b0 b1 : Nat} {ad : Nat → Nat} {d dz dm : ClassId} (hL : L ≤ 256) (C0 : lw_At p s m meth c b L xs) (hK1 : va_K D vwCl [(d, .int), (dz, .boolean)] s) (hK2 : va_K D vwCl [(dm, .int)] s) {i : Nat} (hi : i + 4 ≤ L) (tail : ∀ (S2 : PS) (O2 : MO) (H : Heap) (locs : List Loc) (ls : Array Slot), Inv S2 O2 → Wd D (fun q : Nat => s.heap.size ≤ q) s.heap (wX h ad d dz S2 ++ wM g b0 b1 dm O2) H locs → lv_has ls 4 [(0, .ref b), (1, .ref h), (2, .ref g), (3, .int (nI i))] → W p l e room_1 s m #[Value.ref b] below meth c H locs 21 2393 (lw_Z below #[Value.ref b] s) (F0 m 503 ls [])) (S : PS) (O : MO) (hI : Inv S O) (H : Heap) (locs : List Loc) (w : Wd D (fun q : Nat => s.heap.size ≤ q) s.heap (wX h ad d dz S ++ wM g b0 b1 dm O) H locs) (ls : Array Slot) (hl : lv_has ls 4 [(0, .ref b), (1, .ref h), (2, .ref g), (3, .int (nI i))]) : W p l e room_1 s m #[Value.ref b] below meth c H locs 21 2393 (lw_Z below #[Value.ref b] s) (F0 m 256 ls []) := by
  obtain ⟨hx, hb, hr, hml, hown, hts0, hX, hbl, hlocks, hgv⟩ := id C0
  have hts : ∀ w ∈ lw_all, w.before #[Value.ref b] s = true := fun w h => hts0 w (lw_all_tbl h)
  have E : EX p s m #[Value.ref b] c D [] R_law code 4 := ⟨⟨hx, hb, hml, hown, hts⟩, hK1.sub [] rfl⟩
  have hA : ∀ q : Nat, s.heap.size ≤ q → (fun q : Nat => s.heap.size ≤ q) q := fun _ h => h
  have hbA : ¬ (fun q : Nat => s.heap.size ≤ q) b := Nat.not_le.mpr hbl
  refine lv_aload_n hx hb dL_law_256 rfl (lv_at hl 1 rfl) ?_
  refine lv_aload_n hx hb dL_law_257 rfl (lv_at hl 0 rfl) ?_
  refine lv_iload_n hx hb dL_law_258 rfl (lv_at hl 3 rfl) ?_
  refine lv_iconst (v := 1) hx hb dL_law_259 (by decide) ?_
  refine lv_iadd hx hb dL_law_260 ?_
  refine s_ld E hX hbl hbA w hL (i := i + 1) (nI_1 i) (by omega) dL_law_261 ?_
  refine lv_aload_n hx hb dL_law_262 rfl (lv_at hl 0 rfl) ?_
  refine lv_iload_n hx hb dL_law_263 rfl (lv_at hl 3 rfl) ?_
  refine lv_iconst (v := 2) hx hb dL_law_264 (by decide) ?_
  refine lv_iadd hx hb dL_law_265 ?_
  refine s_ld E hX hbl hbA w hL (i := i + 2) (nI_add i 2) (by omega) dL_law_266 ?_
  refine cF_i (rest := []) (wr := wM g b0 b1 dm O) E (mX_restore l D h ad d dz S (xs (i + 1)) (xs (i + 2)) O hI) (clx_restore E ⟨by decide, by decide⟩) w hA hK1 (ci := 0) rfl rfl rfl rfl hl.1 rfl (Nat.le_of_ble_eq_true rfl) dL_law_267 ⟨by decide, by decide⟩ (fun r1 S2 H locs hq1 w => ?_)
  have w := w.swap
  refine lv_aload_n hx hb dL_law_270 rfl (lv_at hl 2 rfl) ?_
  refine lv_aload_n hx hb dL_law_271 rfl (lv_at hl 0 rfl) ?_
  refine lv_iload_n hx hb dL_law_272 rfl (lv_at hl 3 rfl) ?_
  refine lv_iconst (v := 1) hx hb dL_law_273 (by decide) ?_
  refine lv_iadd hx hb dL_law_274 ?_
  refine s_ld E hX hbl hbA w hL (i := i + 1) (nI_1 i) (by omega) dL_law_275 ?_
  refine lv_aload_n hx hb dL_law_276 rfl (lv_at hl 0 rfl) ?_
  refine lv_iload_n hx hb dL_law_277 rfl (lv_at hl 3 rfl) ?_
  refine lv_iconst (v := 2) hx hb dL_law_278 (by decide) ?_
  refine lv_iadd hx hb dL_law_279 ?_
  refine s_ld E hX hbl hbA w hL (i := i + 2) (nI_add i 2) (by omega) dL_law_280 ?_
  refine cF_i (rest := [.int r1]) (wr := wX h ad d dz S2) E (mM_restore l D g b0 b1 dm O (xs (i + 1)) (xs (i + 2)) hI.1) (clm_restore E ⟨by decide, by decide⟩) w hA hK2 (ci := 1) rfl rfl rfl rfl hl.1 rfl (Nat.le_of_ble_eq_true rfl) dL_law_281 ⟨by decide, by decide⟩ (fun r2 O2 H locs hq2 w => ?_)
  have w := w.swap
  refine lv_icmp_eq (tgt := 503) hx hb dL_law_284 (by decide) (fun c1 => ?_) (fun c1 => ?_)
  · exact tail S2 O2 _ _ _ (by rw [hq2.2]; exact hq1.2) w hl
  · exact absurd (hq1.1.trans hq2.1.symm) c1
set_option maxHeartbeats 4000000 in
/-- case 7: valueAt -/
theorem law_valueAt {p : Program} {l : Launch} {e : Env} {s : State} {m : MethodId} {below : List Frame} {meth : Method} {c : Code} {D : va_G} {b L : Nat} {xs : Nat → Int32} {h g b0 b1 : Nat} {ad : Nat → Nat} {d dz dm : ClassId} (hL : L ≤ 256) (C0 : lw_At p s m meth c b L xs) (hK1 : va_K D vwCl [(d, .int), (dz, .boolean)] s) (hK2 : va_K D vwCl [(dm, .int)] s) {i : Nat} (hi : i + 4 ≤ L) (tail : ∀ (S2 : PS) (O2 : MO) (H : Heap) (locs : List Loc) (ls : Array Slot), Inv S2 O2 → Wd D (fun q : Nat => s.heap.size ≤ q) s.heap (wX h ad d dz S2 ++ wM g b0 b1 dm O2) H locs → lv_has ls 4 [(0, .ref b), (1, .ref h), (2, .ref g), (3, .int (nI i))] → W p l e room_1 s m #[Value.ref b] below meth c H locs 21 2393 (lw_Z below #[Value.ref b] s) (F0 m 503 ls [])) (S : PS) (O : MO) (hI : Inv S O) (H : Heap) (locs : List Loc) (w : Wd D (fun q : Nat => s.heap.size ≤ q) s.heap (wX h ad d dz S ++ wM g b0 b1 dm O) H locs) (ls : Array Slot) (hl : lv_has ls 4 [(0, .ref b), (1, .ref h), (2, .ref g), (3, .int (nI i))]) : W p l e room_1 s m #[Value.ref b] below meth c H locs 21 2393 (lw_Z below #[Value.ref b] s) (F0 m 289 ls []) := by
  obtain ⟨hx, hb, hr, hml, hown, hts0, hX, hbl, hlocks, hgv⟩ := id C0
  have hts : ∀ w ∈ lw_all, w.before #[Value.ref b] s = true := fun w h => hts0 w (lw_all_tbl h)
  have E : EX p s m #[Value.ref b] c D [] R_law code 4 := ⟨⟨hx, hb, hml, hown, hts⟩, hK1.sub [] rfl⟩
  have hA : ∀ q : Nat, s.heap.size ≤ q → (fun q : Nat => s.heap.size ≤ q) q := fun _ h => h
  have hbA : ¬ (fun q : Nat => s.heap.size ≤ q) b := Nat.not_le.mpr hbl
  refine lv_aload_n hx hb dL_law_289 rfl (lv_at hl 1 rfl) ?_
  refine lv_aload_n hx hb dL_law_290 rfl (lv_at hl 0 rfl) ?_
  refine lv_iload_n hx hb dL_law_291 rfl (lv_at hl 3 rfl) ?_
  refine lv_iconst (v := 1) hx hb dL_law_292 (by decide) ?_
  refine lv_iadd hx hb dL_law_293 ?_
  refine s_ld E hX hbl hbA w hL (i := i + 1) (nI_1 i) (by omega) dL_law_294 ?_
  refine lv_aload_n hx hb dL_law_295 rfl (lv_at hl 0 rfl) ?_
  refine lv_iload_n hx hb dL_law_296 rfl (lv_at hl 3 rfl) ?_
  refine lv_iconst (v := 2) hx hb dL_law_297 (by decide) ?_
  refine lv_iadd hx hb dL_law_298 ?_
  refine s_ld E hX hbl hbA w hL (i := i + 2) (nI_add i 2) (by omega) dL_law_299 ?_
  refine lv_aload_n hx hb dL_law_300 rfl (lv_at hl 0 rfl) ?_
  refine lv_iload_n hx hb dL_law_301 rfl (lv_at hl 3 rfl) ?_
  refine lv_iconst (v := 3) hx hb dL_law_302 (by decide) ?_
  refine lv_iadd hx hb dL_law_303 ?_
  refine s_ld E hX hbl hbA w hL (i := i + 3) (nI_add i 3) (by omega) dL_law_304 ?_
  refine cF_i (rest := []) (wr := wM g b0 b1 dm O) E (mX_valueAt l D h ad d dz S (xs (i + 1)) (xs (i + 2)) (xs (i + 3)) O hI) (clx_valueAt E ⟨by decide, by decide⟩) w hA hK1 (ci := 0) rfl rfl rfl rfl hl.1 rfl (Nat.le_of_ble_eq_true rfl) dL_law_305 ⟨by decide, by decide⟩ (fun r1 S2 H locs hq1 w => ?_)
  have w := w.swap
  refine lv_aload_n hx hb dL_law_308 rfl (lv_at hl 2 rfl) ?_
  refine lv_aload_n hx hb dL_law_309 rfl (lv_at hl 0 rfl) ?_
  refine lv_iload_n hx hb dL_law_310 rfl (lv_at hl 3 rfl) ?_
  refine lv_iconst (v := 1) hx hb dL_law_311 (by decide) ?_
  refine lv_iadd hx hb dL_law_312 ?_
  refine s_ld E hX hbl hbA w hL (i := i + 1) (nI_1 i) (by omega) dL_law_313 ?_
  refine lv_aload_n hx hb dL_law_314 rfl (lv_at hl 0 rfl) ?_
  refine lv_iload_n hx hb dL_law_315 rfl (lv_at hl 3 rfl) ?_
  refine lv_iconst (v := 2) hx hb dL_law_316 (by decide) ?_
  refine lv_iadd hx hb dL_law_317 ?_
  refine s_ld E hX hbl hbA w hL (i := i + 2) (nI_add i 2) (by omega) dL_law_318 ?_
  refine lv_aload_n hx hb dL_law_319 rfl (lv_at hl 0 rfl) ?_
  refine lv_iload_n hx hb dL_law_320 rfl (lv_at hl 3 rfl) ?_
  refine lv_iconst (v := 3) hx hb dL_law_321 (by decide) ?_
  refine lv_iadd hx hb dL_law_322 ?_
  refine s_ld E hX hbl hbA w hL (i := i + 3) (nI_add i 3) (by omega) dL_law_323 ?_
  refine cF_i (rest := [.int r1]) (wr := wX h ad d dz S2) E (mM_valueAt l D g b0 b1 dm O (xs (i + 1)) (xs (i + 2)) (xs (i + 3)) hI.1) (clm_valueAt E ⟨by decide, by decide⟩) w hA hK2 (ci := 1) rfl rfl rfl rfl hl.1 rfl (Nat.le_of_ble_eq_true rfl) dL_law_324 ⟨by decide, by decide⟩ (fun r2 O2 H locs hq2 w => ?_)
  have w := w.swap
  refine lv_icmp_eq (tgt := 503) hx hb dL_law_327 (by decide) (fun c1 => ?_) (fun c1 => ?_)
  · exact tail S2 O2 _ _ _ (by rw [← hq2.1]; exact hq1.2) w hl
  · exact absurd (hq1.1.trans hq2.2.symm) c1
set_option maxHeartbeats 4000000 in
/-- case 8: lastPoint -/
theorem law_lastPoint {p : Program} {l : Launch} {e : Env} {s : State} {m : MethodId} {below : List Frame} {meth : Method} {c : Code} {D : va_G} {b L : Nat} {xs : Nat → Int32} {h g b0 b1 : Nat} {ad : Nat → Nat} {d dz dm : ClassId} (hL : L ≤ 256) (C0 : lw_At p s m meth c b L xs) (hK1 : va_K D vwCl [(d, .int), (dz, .boolean)] s) (hK2 : va_K D vwCl [(dm, .int)] s) {i : Nat} (hi : i + 4 ≤ L) (tail : ∀ (S2 : PS) (O2 : MO) (H : Heap) (locs : List Loc) (ls : Array Slot), Inv S2 O2 → Wd D (fun q : Nat => s.heap.size ≤ q) s.heap (wX h ad d dz S2 ++ wM g b0 b1 dm O2) H locs → lv_has ls 4 [(0, .ref b), (1, .ref h), (2, .ref g), (3, .int (nI i))] → W p l e room_1 s m #[Value.ref b] below meth c H locs 21 2393 (lw_Z below #[Value.ref b] s) (F0 m 503 ls [])) (S : PS) (O : MO) (hI : Inv S O) (H : Heap) (locs : List Loc) (w : Wd D (fun q : Nat => s.heap.size ≤ q) s.heap (wX h ad d dz S ++ wM g b0 b1 dm O) H locs) (ls : Array Slot) (hl : lv_has ls 4 [(0, .ref b), (1, .ref h), (2, .ref g), (3, .int (nI i))]) : W p l e room_1 s m #[Value.ref b] below meth c H locs 21 2393 (lw_Z below #[Value.ref b] s) (F0 m 332 ls []) := by
  obtain ⟨hx, hb, hr, hml, hown, hts0, hX, hbl, hlocks, hgv⟩ := id C0
  have hts : ∀ w ∈ lw_all, w.before #[Value.ref b] s = true := fun w h => hts0 w (lw_all_tbl h)
  have E : EX p s m #[Value.ref b] c D [] R_law code 4 := ⟨⟨hx, hb, hml, hown, hts⟩, hK1.sub [] rfl⟩
  have hA : ∀ q : Nat, s.heap.size ≤ q → (fun q : Nat => s.heap.size ≤ q) q := fun _ h => h
  have hbA : ¬ (fun q : Nat => s.heap.size ≤ q) b := Nat.not_le.mpr hbl
  refine lv_aload_n hx hb dL_law_332 rfl (lv_at hl 1 rfl) ?_
  refine lv_aload_n hx hb dL_law_333 rfl (lv_at hl 0 rfl) ?_
  refine lv_iload_n hx hb dL_law_334 rfl (lv_at hl 3 rfl) ?_
  refine lv_iconst (v := 1) hx hb dL_law_335 (by decide) ?_
  refine lv_iadd hx hb dL_law_336 ?_
  refine s_ld E hX hbl hbA w hL (i := i + 1) (nI_1 i) (by omega) dL_law_337 ?_
  refine cF_i (rest := []) (wr := wM g b0 b1 dm O) E (mX_lastPoint l D h ad d dz S (xs (i + 1)) O hI) (clx_lastPoint E ⟨by decide, by decide⟩) w hA hK1 (ci := 0) rfl rfl rfl rfl hl.1 rfl (Nat.le_of_ble_eq_true rfl) dL_law_338 ⟨by decide, by decide⟩ (fun r1 S2 H locs hq1 w => ?_)
  have w := w.swap
  refine lv_aload_n hx hb dL_law_341 rfl (lv_at hl 2 rfl) ?_
  refine lv_aload_n hx hb dL_law_342 rfl (lv_at hl 0 rfl) ?_
  refine lv_iload_n hx hb dL_law_343 rfl (lv_at hl 3 rfl) ?_
  refine lv_iconst (v := 1) hx hb dL_law_344 (by decide) ?_
  refine lv_iadd hx hb dL_law_345 ?_
  refine s_ld E hX hbl hbA w hL (i := i + 1) (nI_1 i) (by omega) dL_law_346 ?_
  refine cF_i (rest := [.int r1]) (wr := wX h ad d dz S2) E (mM_lastPoint l D g b0 b1 dm O (xs (i + 1)) hI.1) (clm_lastPoint E ⟨by decide, by decide⟩) w hA hK2 (ci := 1) rfl rfl rfl rfl hl.1 rfl (Nat.le_of_ble_eq_true rfl) dL_law_347 ⟨by decide, by decide⟩ (fun r2 O2 H locs hq2 w => ?_)
  have w := w.swap
  refine lv_icmp_eq (tgt := 503) hx hb dL_law_350 (by decide) (fun c1 => ?_) (fun c1 => ?_)
  · exact tail S2 O2 _ _ _ (by rw [← hq2.1]; exact hq1.2) w hl
  · exact absurd (hq1.1.trans hq2.2.symm) c1
set_option maxHeartbeats 4000000 in
/-- case 9: lastChange -/
theorem law_lastChange {p : Program} {l : Launch} {e : Env} {s : State} {m : MethodId} {below : List Frame} {meth : Method} {c : Code} {D : va_G} {b L : Nat} {xs : Nat → Int32} {h g b0 b1 : Nat} {ad : Nat → Nat} {d dz dm : ClassId} (hL : L ≤ 256) (C0 : lw_At p s m meth c b L xs) (hK1 : va_K D vwCl [(d, .int), (dz, .boolean)] s) (hK2 : va_K D vwCl [(dm, .int)] s) {i : Nat} (hi : i + 4 ≤ L) (tail : ∀ (S2 : PS) (O2 : MO) (H : Heap) (locs : List Loc) (ls : Array Slot), Inv S2 O2 → Wd D (fun q : Nat => s.heap.size ≤ q) s.heap (wX h ad d dz S2 ++ wM g b0 b1 dm O2) H locs → lv_has ls 4 [(0, .ref b), (1, .ref h), (2, .ref g), (3, .int (nI i))] → W p l e room_1 s m #[Value.ref b] below meth c H locs 21 2393 (lw_Z below #[Value.ref b] s) (F0 m 503 ls [])) (S : PS) (O : MO) (hI : Inv S O) (H : Heap) (locs : List Loc) (w : Wd D (fun q : Nat => s.heap.size ≤ q) s.heap (wX h ad d dz S ++ wM g b0 b1 dm O) H locs) (ls : Array Slot) (hl : lv_has ls 4 [(0, .ref b), (1, .ref h), (2, .ref g), (3, .int (nI i))]) : W p l e room_1 s m #[Value.ref b] below meth c H locs 21 2393 (lw_Z below #[Value.ref b] s) (F0 m 355 ls []) := by
  obtain ⟨hx, hb, hr, hml, hown, hts0, hX, hbl, hlocks, hgv⟩ := id C0
  have hts : ∀ w ∈ lw_all, w.before #[Value.ref b] s = true := fun w h => hts0 w (lw_all_tbl h)
  have E : EX p s m #[Value.ref b] c D [] R_law code 4 := ⟨⟨hx, hb, hml, hown, hts⟩, hK1.sub [] rfl⟩
  have hA : ∀ q : Nat, s.heap.size ≤ q → (fun q : Nat => s.heap.size ≤ q) q := fun _ h => h
  have hbA : ¬ (fun q : Nat => s.heap.size ≤ q) b := Nat.not_le.mpr hbl
  refine lv_aload_n hx hb dL_law_355 rfl (lv_at hl 1 rfl) ?_
  refine lv_aload_n hx hb dL_law_356 rfl (lv_at hl 0 rfl) ?_
  refine lv_iload_n hx hb dL_law_357 rfl (lv_at hl 3 rfl) ?_
  refine lv_iconst (v := 1) hx hb dL_law_358 (by decide) ?_
  refine lv_iadd hx hb dL_law_359 ?_
  refine s_ld E hX hbl hbA w hL (i := i + 1) (nI_1 i) (by omega) dL_law_360 ?_
  refine lv_aload_n hx hb dL_law_361 rfl (lv_at hl 0 rfl) ?_
  refine lv_iload_n hx hb dL_law_362 rfl (lv_at hl 3 rfl) ?_
  refine lv_iconst (v := 2) hx hb dL_law_363 (by decide) ?_
  refine lv_iadd hx hb dL_law_364 ?_
  refine s_ld E hX hbl hbA w hL (i := i + 2) (nI_add i 2) (by omega) dL_law_365 ?_
  refine lv_aload_n hx hb dL_law_366 rfl (lv_at hl 0 rfl) ?_
  refine lv_iload_n hx hb dL_law_367 rfl (lv_at hl 3 rfl) ?_
  refine lv_iconst (v := 3) hx hb dL_law_368 (by decide) ?_
  refine lv_iadd hx hb dL_law_369 ?_
  refine s_ld E hX hbl hbA w hL (i := i + 3) (nI_add i 3) (by omega) dL_law_370 ?_
  refine cF_i (rest := []) (wr := wM g b0 b1 dm O) E (mX_lastChange l D h ad d dz S (xs (i + 1)) (xs (i + 2)) (xs (i + 3)) O hI) (clx_lastChange E ⟨by decide, by decide⟩) w hA hK1 (ci := 0) rfl rfl rfl rfl hl.1 rfl (Nat.le_of_ble_eq_true rfl) dL_law_371 ⟨by decide, by decide⟩ (fun r1 S2 H locs hq1 w => ?_)
  have w := w.swap
  refine lv_aload_n hx hb dL_law_374 rfl (lv_at hl 2 rfl) ?_
  refine lv_aload_n hx hb dL_law_375 rfl (lv_at hl 0 rfl) ?_
  refine lv_iload_n hx hb dL_law_376 rfl (lv_at hl 3 rfl) ?_
  refine lv_iconst (v := 1) hx hb dL_law_377 (by decide) ?_
  refine lv_iadd hx hb dL_law_378 ?_
  refine s_ld E hX hbl hbA w hL (i := i + 1) (nI_1 i) (by omega) dL_law_379 ?_
  refine lv_aload_n hx hb dL_law_380 rfl (lv_at hl 0 rfl) ?_
  refine lv_iload_n hx hb dL_law_381 rfl (lv_at hl 3 rfl) ?_
  refine lv_iconst (v := 2) hx hb dL_law_382 (by decide) ?_
  refine lv_iadd hx hb dL_law_383 ?_
  refine s_ld E hX hbl hbA w hL (i := i + 2) (nI_add i 2) (by omega) dL_law_384 ?_
  refine lv_aload_n hx hb dL_law_385 rfl (lv_at hl 0 rfl) ?_
  refine lv_iload_n hx hb dL_law_386 rfl (lv_at hl 3 rfl) ?_
  refine lv_iconst (v := 3) hx hb dL_law_387 (by decide) ?_
  refine lv_iadd hx hb dL_law_388 ?_
  refine s_ld E hX hbl hbA w hL (i := i + 3) (nI_add i 3) (by omega) dL_law_389 ?_
  refine cF_i (rest := [.int r1]) (wr := wX h ad d dz S2) E (mM_lastChange l D g b0 b1 dm O (xs (i + 1)) (xs (i + 2)) (xs (i + 3)) hI.1) (clm_lastChange E ⟨by decide, by decide⟩) w hA hK2 (ci := 1) rfl rfl rfl rfl hl.1 rfl (Nat.le_of_ble_eq_true rfl) dL_law_390 ⟨by decide, by decide⟩ (fun r2 O2 H locs hq2 w => ?_)
  have w := w.swap
  refine lv_icmp_eq (tgt := 503) hx hb dL_law_393 (by decide) (fun c1 => ?_) (fun c1 => ?_)
  · exact tail S2 O2 _ _ _ (by rw [← hq2.1]; exact hq1.2) w hl
  · exact absurd (hq1.1.trans hq2.2.symm) c1
set_option maxHeartbeats 4000000 in
/-- case 10: differs -/
theorem law_differs {p : Program} {l : Launch} {e : Env} {s : State} {m : MethodId} {below : List Frame} {meth : Method} {c : Code} {D : va_G} {b L : Nat} {xs : Nat → Int32} {h g b0 b1 : Nat} {ad : Nat → Nat} {d dz dm : ClassId} (hL : L ≤ 256) (C0 : lw_At p s m meth c b L xs) (hK1 : va_K D vwCl [(d, .int), (dz, .boolean)] s) (hK2 : va_K D vwCl [(dm, .int)] s) {i : Nat} (hi : i + 4 ≤ L) (tail : ∀ (S2 : PS) (O2 : MO) (H : Heap) (locs : List Loc) (ls : Array Slot), Inv S2 O2 → Wd D (fun q : Nat => s.heap.size ≤ q) s.heap (wX h ad d dz S2 ++ wM g b0 b1 dm O2) H locs → lv_has ls 4 [(0, .ref b), (1, .ref h), (2, .ref g), (3, .int (nI i))] → W p l e room_1 s m #[Value.ref b] below meth c H locs 21 2393 (lw_Z below #[Value.ref b] s) (F0 m 503 ls [])) (S : PS) (O : MO) (hI : Inv S O) (H : Heap) (locs : List Loc) (w : Wd D (fun q : Nat => s.heap.size ≤ q) s.heap (wX h ad d dz S ++ wM g b0 b1 dm O) H locs) (ls : Array Slot) (hl : lv_has ls 4 [(0, .ref b), (1, .ref h), (2, .ref g), (3, .int (nI i))]) : W p l e room_1 s m #[Value.ref b] below meth c H locs 21 2393 (lw_Z below #[Value.ref b] s) (F0 m 398 ls []) := by
  obtain ⟨hx, hb, hr, hml, hown, hts0, hX, hbl, hlocks, hgv⟩ := id C0
  have hts : ∀ w ∈ lw_all, w.before #[Value.ref b] s = true := fun w h => hts0 w (lw_all_tbl h)
  have E : EX p s m #[Value.ref b] c D [] R_law code 4 := ⟨⟨hx, hb, hml, hown, hts⟩, hK1.sub [] rfl⟩
  have hA : ∀ q : Nat, s.heap.size ≤ q → (fun q : Nat => s.heap.size ≤ q) q := fun _ h => h
  have hbA : ¬ (fun q : Nat => s.heap.size ≤ q) b := Nat.not_le.mpr hbl
  refine lv_aload_n hx hb dL_law_398 rfl (lv_at hl 1 rfl) ?_
  refine lv_aload_n hx hb dL_law_399 rfl (lv_at hl 0 rfl) ?_
  refine lv_iload_n hx hb dL_law_400 rfl (lv_at hl 3 rfl) ?_
  refine lv_iconst (v := 1) hx hb dL_law_401 (by decide) ?_
  refine lv_iadd hx hb dL_law_402 ?_
  refine s_ld E hX hbl hbA w hL (i := i + 1) (nI_1 i) (by omega) dL_law_403 ?_
  refine lv_aload_n hx hb dL_law_404 rfl (lv_at hl 0 rfl) ?_
  refine lv_iload_n hx hb dL_law_405 rfl (lv_at hl 3 rfl) ?_
  refine lv_iconst (v := 2) hx hb dL_law_406 (by decide) ?_
  refine lv_iadd hx hb dL_law_407 ?_
  refine s_ld E hX hbl hbA w hL (i := i + 2) (nI_add i 2) (by omega) dL_law_408 ?_
  refine cF_i (rest := []) (wr := wM g b0 b1 dm O) E (mX_differs l D h ad d dz S (xs (i + 1)) (xs (i + 2)) O hI) (clx_differs E ⟨by decide, by decide⟩) w hA hK1 (ci := 0) rfl rfl rfl rfl hl.1 rfl (Nat.le_of_ble_eq_true rfl) dL_law_409 ⟨by decide, by decide⟩ (fun r1 S2 H locs hq1 w => ?_)
  have w := w.swap
  refine lv_aload_n hx hb dL_law_412 rfl (lv_at hl 2 rfl) ?_
  refine lv_aload_n hx hb dL_law_413 rfl (lv_at hl 0 rfl) ?_
  refine lv_iload_n hx hb dL_law_414 rfl (lv_at hl 3 rfl) ?_
  refine lv_iconst (v := 1) hx hb dL_law_415 (by decide) ?_
  refine lv_iadd hx hb dL_law_416 ?_
  refine s_ld E hX hbl hbA w hL (i := i + 1) (nI_1 i) (by omega) dL_law_417 ?_
  refine lv_aload_n hx hb dL_law_418 rfl (lv_at hl 0 rfl) ?_
  refine lv_iload_n hx hb dL_law_419 rfl (lv_at hl 3 rfl) ?_
  refine lv_iconst (v := 2) hx hb dL_law_420 (by decide) ?_
  refine lv_iadd hx hb dL_law_421 ?_
  refine s_ld E hX hbl hbA w hL (i := i + 2) (nI_add i 2) (by omega) dL_law_422 ?_
  refine cF_i (rest := [.int r1]) (wr := wX h ad d dz S2) E (mM_differs l D g b0 b1 dm O (xs (i + 1)) (xs (i + 2)) hI.1) (clm_differs E ⟨by decide, by decide⟩) w hA hK2 (ci := 1) rfl rfl rfl rfl hl.1 rfl (Nat.le_of_ble_eq_true rfl) dL_law_423 ⟨by decide, by decide⟩ (fun r2 O2 H locs hq2 w => ?_)
  have w := w.swap
  refine lv_icmp_eq (tgt := 503) hx hb dL_law_426 (by decide) (fun c1 => ?_) (fun c1 => ?_)
  · exact tail S2 O2 _ _ _ (by rw [← hq2.1]; exact hq1.2) w hl
  · exact absurd (hq1.1.trans hq2.2.symm) c1
set_option maxHeartbeats 4000000 in
/-- case 11: crash -/
theorem law_crash {p : Program} {l : Launch} {e : Env} {s : State} {m : MethodId} {below : List Frame} {meth : Method} {c : Code} {D : va_G} {b L : Nat} {xs : Nat → Int32} {h g b0 b1 : Nat} {ad : Nat → Nat} {d dz dm : ClassId} (hL : L ≤ 256) (C0 : lw_At p s m meth c b L xs) (hK1 : va_K D vwCl [(d, .int), (dz, .boolean)] s) (hK2 : va_K D vwCl [(dm, .int)] s) {i : Nat} (hi : i + 4 ≤ L) (tail : ∀ (S2 : PS) (O2 : MO) (H : Heap) (locs : List Loc) (ls : Array Slot), Inv S2 O2 → Wd D (fun q : Nat => s.heap.size ≤ q) s.heap (wX h ad d dz S2 ++ wM g b0 b1 dm O2) H locs → lv_has ls 4 [(0, .ref b), (1, .ref h), (2, .ref g), (3, .int (nI i))] → W p l e room_1 s m #[Value.ref b] below meth c H locs 21 2393 (lw_Z below #[Value.ref b] s) (F0 m 503 ls [])) (S : PS) (O : MO) (hI : Inv S O) (H : Heap) (locs : List Loc) (w : Wd D (fun q : Nat => s.heap.size ≤ q) s.heap (wX h ad d dz S ++ wM g b0 b1 dm O) H locs) (ls : Array Slot) (hl : lv_has ls 4 [(0, .ref b), (1, .ref h), (2, .ref g), (3, .int (nI i))]) : W p l e room_1 s m #[Value.ref b] below meth c H locs 21 2393 (lw_Z below #[Value.ref b] s) (F0 m 431 ls []) := by
  obtain ⟨hx, hb, hr, hml, hown, hts0, hX, hbl, hlocks, hgv⟩ := id C0
  have hts : ∀ w ∈ lw_all, w.before #[Value.ref b] s = true := fun w h => hts0 w (lw_all_tbl h)
  have E : EX p s m #[Value.ref b] c D [] R_law code 4 := ⟨⟨hx, hb, hml, hown, hts⟩, hK1.sub [] rfl⟩
  have hA : ∀ q : Nat, s.heap.size ≤ q → (fun q : Nat => s.heap.size ≤ q) q := fun _ h => h
  have hbA : ¬ (fun q : Nat => s.heap.size ≤ q) b := Nat.not_le.mpr hbl
  refine lv_aload_n hx hb dL_law_431 rfl (lv_at hl 1 rfl) ?_
  refine cF_i (rest := []) (wr := wM g b0 b1 dm O) E (mX_crash l D h ad d dz S O hI) (clx_crash E ⟨by decide, by decide⟩) w hA hK1 (ci := 0) rfl rfl rfl rfl hl.1 rfl (Nat.le_of_ble_eq_true rfl) dL_law_432 ⟨by decide, by decide⟩ (fun r1 S2 H locs hq1 w => ?_)
  have w := w.swap
  refine lv_aload_n hx hb dL_law_435 rfl (lv_at hl 2 rfl) ?_
  refine cF_i (rest := [.int r1]) (wr := wX h ad d dz S2) E (mM_crash l D g b0 b1 dm O) (clm_crash E ⟨by decide, by decide⟩) w hA hK2 (ci := 1) rfl rfl rfl rfl hl.1 rfl (Nat.le_of_ble_eq_true rfl) dL_law_436 ⟨by decide, by decide⟩ (fun r2 O2 H locs hq2 w => ?_)
  have w := w.swap
  refine lv_icmp_eq (tgt := 503) hx hb dL_law_439 (by decide) (fun c1 => ?_) (fun c1 => ?_)
  · exact tail S2 O2 _ _ _ (by rw [← hq2.1]; exact hq1.2) w hl
  · exact absurd (hq1.1.trans hq2.2.symm) c1
set_option maxHeartbeats 4000000 in
/-- case 12: backup -/
theorem law_backup {p : Program} {l : Launch} {e : Env} {s : State} {m : MethodId} {below : List Frame} {meth : Method} {c : Code} {D : va_G} {b L : Nat} {xs : Nat → Int32} {h g b0 b1 : Nat} {ad : Nat → Nat} {d dz dm : ClassId} (hL : L ≤ 256) (C0 : lw_At p s m meth c b L xs) (hK1 : va_K D vwCl [(d, .int), (dz, .boolean)] s) (hK2 : va_K D vwCl [(dm, .int)] s) {i : Nat} (hi : i + 4 ≤ L) (tail : ∀ (S2 : PS) (O2 : MO) (H : Heap) (locs : List Loc) (ls : Array Slot), Inv S2 O2 → Wd D (fun q : Nat => s.heap.size ≤ q) s.heap (wX h ad d dz S2 ++ wM g b0 b1 dm O2) H locs → lv_has ls 4 [(0, .ref b), (1, .ref h), (2, .ref g), (3, .int (nI i))] → W p l e room_1 s m #[Value.ref b] below meth c H locs 21 2393 (lw_Z below #[Value.ref b] s) (F0 m 503 ls [])) (S : PS) (O : MO) (hI : Inv S O) (H : Heap) (locs : List Loc) (w : Wd D (fun q : Nat => s.heap.size ≤ q) s.heap (wX h ad d dz S ++ wM g b0 b1 dm O) H locs) (ls : Array Slot) (hl : lv_has ls 4 [(0, .ref b), (1, .ref h), (2, .ref g), (3, .int (nI i))]) : W p l e room_1 s m #[Value.ref b] below meth c H locs 21 2393 (lw_Z below #[Value.ref b] s) (F0 m 444 ls []) := by
  obtain ⟨hx, hb, hr, hml, hown, hts0, hX, hbl, hlocks, hgv⟩ := id C0
  have hts : ∀ w ∈ lw_all, w.before #[Value.ref b] s = true := fun w h => hts0 w (lw_all_tbl h)
  have E : EX p s m #[Value.ref b] c D [] R_law code 4 := ⟨⟨hx, hb, hml, hown, hts⟩, hK1.sub [] rfl⟩
  have hA : ∀ q : Nat, s.heap.size ≤ q → (fun q : Nat => s.heap.size ≤ q) q := fun _ h => h
  have hbA : ¬ (fun q : Nat => s.heap.size ≤ q) b := Nat.not_le.mpr hbl
  refine lv_aload_n hx hb dL_law_444 rfl (lv_at hl 1 rfl) ?_
  refine lv_aload_n hx hb dL_law_445 rfl (lv_at hl 0 rfl) ?_
  refine lv_iload_n hx hb dL_law_446 rfl (lv_at hl 3 rfl) ?_
  refine lv_iconst (v := 1) hx hb dL_law_447 (by decide) ?_
  refine lv_iadd hx hb dL_law_448 ?_
  refine s_ld E hX hbl hbA w hL (i := i + 1) (nI_1 i) (by omega) dL_law_449 ?_
  refine cF_i (rest := []) (wr := wM g b0 b1 dm O) E (mX_backup l D h ad d dz S (xs (i + 1)) O hI) (clx_backup E ⟨by decide, by decide⟩) w hA hK1 (ci := 0) rfl rfl rfl rfl hl.1 rfl (Nat.le_of_ble_eq_true rfl) dL_law_450 ⟨by decide, by decide⟩ (fun r1 S2 H locs hq1 w => ?_)
  have w := w.swap
  refine lv_aload_n hx hb dL_law_453 rfl (lv_at hl 2 rfl) ?_
  refine lv_aload_n hx hb dL_law_454 rfl (lv_at hl 0 rfl) ?_
  refine lv_iload_n hx hb dL_law_455 rfl (lv_at hl 3 rfl) ?_
  refine lv_iconst (v := 1) hx hb dL_law_456 (by decide) ?_
  refine lv_iadd hx hb dL_law_457 ?_
  refine s_ld E hX hbl hbA w hL (i := i + 1) (nI_1 i) (by omega) dL_law_458 ?_
  refine cF_i (rest := [.int r1]) (wr := wX h ad d dz S2) E (mM_backup l D g b0 b1 dm O (xs (i + 1))) (clm_backup E ⟨by decide, by decide⟩) w hA hK2 (ci := 1) rfl rfl rfl rfl hl.1 rfl (Nat.le_of_ble_eq_true rfl) dL_law_459 ⟨by decide, by decide⟩ (fun r2 O2 H locs hq2 w => ?_)
  have w := w.swap
  refine lv_icmp_eq (tgt := 503) hx hb dL_law_462 (by decide) (fun c1 => ?_) (fun c1 => ?_)
  · exact tail S2 O2 _ _ _ (by rw [← hq2.1]; exact hq1.2) w hl
  · exact absurd (hq1.1.trans hq2.2.symm) c1
set_option maxHeartbeats 4000000 in
/-- case 13: flush -/
theorem law_flush {p : Program} {l : Launch} {e : Env} {s : State} {m : MethodId} {below : List Frame} {meth : Method} {c : Code} {D : va_G} {b L : Nat} {xs : Nat → Int32} {h g b0 b1 : Nat} {ad : Nat → Nat} {d dz dm : ClassId} (hL : L ≤ 256) (C0 : lw_At p s m meth c b L xs) (hK1 : va_K D vwCl [(d, .int), (dz, .boolean)] s) (hK2 : va_K D vwCl [(dm, .int)] s) {i : Nat} (hi : i + 4 ≤ L) (tail : ∀ (S2 : PS) (O2 : MO) (H : Heap) (locs : List Loc) (ls : Array Slot), Inv S2 O2 → Wd D (fun q : Nat => s.heap.size ≤ q) s.heap (wX h ad d dz S2 ++ wM g b0 b1 dm O2) H locs → lv_has ls 4 [(0, .ref b), (1, .ref h), (2, .ref g), (3, .int (nI i))] → W p l e room_1 s m #[Value.ref b] below meth c H locs 21 2393 (lw_Z below #[Value.ref b] s) (F0 m 503 ls [])) (S : PS) (O : MO) (hI : Inv S O) (H : Heap) (locs : List Loc) (w : Wd D (fun q : Nat => s.heap.size ≤ q) s.heap (wX h ad d dz S ++ wM g b0 b1 dm O) H locs) (ls : Array Slot) (hl : lv_has ls 4 [(0, .ref b), (1, .ref h), (2, .ref g), (3, .int (nI i))]) : W p l e room_1 s m #[Value.ref b] below meth c H locs 21 2393 (lw_Z below #[Value.ref b] s) (F0 m 467 ls []) := by
  obtain ⟨hx, hb, hr, hml, hown, hts0, hX, hbl, hlocks, hgv⟩ := id C0
  have hts : ∀ w ∈ lw_all, w.before #[Value.ref b] s = true := fun w h => hts0 w (lw_all_tbl h)
  have E : EX p s m #[Value.ref b] c D [] R_law code 4 := ⟨⟨hx, hb, hml, hown, hts⟩, hK1.sub [] rfl⟩
  have hA : ∀ q : Nat, s.heap.size ≤ q → (fun q : Nat => s.heap.size ≤ q) q := fun _ h => h
  have hbA : ¬ (fun q : Nat => s.heap.size ≤ q) b := Nat.not_le.mpr hbl
  refine lv_aload_n hx hb dL_law_467 rfl (lv_at hl 1 rfl) ?_
  refine lv_aload_n hx hb dL_law_468 rfl (lv_at hl 0 rfl) ?_
  refine lv_iload_n hx hb dL_law_469 rfl (lv_at hl 3 rfl) ?_
  refine lv_iconst (v := 1) hx hb dL_law_470 (by decide) ?_
  refine lv_iadd hx hb dL_law_471 ?_
  refine s_ld E hX hbl hbA w hL (i := i + 1) (nI_1 i) (by omega) dL_law_472 ?_
  refine cF_i (rest := []) (wr := wM g b0 b1 dm O) E (mX_flush l D h ad d dz S (xs (i + 1)) O hI) (clx_flush E ⟨by decide, by decide⟩) w hA hK1 (ci := 0) rfl rfl rfl rfl hl.1 rfl (Nat.le_of_ble_eq_true rfl) dL_law_473 ⟨by decide, by decide⟩ (fun r1 S2 H locs hq1 w => ?_)
  have w := w.swap
  refine lv_aload_n hx hb dL_law_476 rfl (lv_at hl 2 rfl) ?_
  refine lv_aload_n hx hb dL_law_477 rfl (lv_at hl 0 rfl) ?_
  refine lv_iload_n hx hb dL_law_478 rfl (lv_at hl 3 rfl) ?_
  refine lv_iconst (v := 1) hx hb dL_law_479 (by decide) ?_
  refine lv_iadd hx hb dL_law_480 ?_
  refine s_ld E hX hbl hbA w hL (i := i + 1) (nI_1 i) (by omega) dL_law_481 ?_
  refine cF_i (rest := [.int r1]) (wr := wX h ad d dz S2) E (mM_flush l D g b0 b1 dm O (xs (i + 1))) (clm_flush E ⟨by decide, by decide⟩) w hA hK2 (ci := 1) rfl rfl rfl rfl hl.1 rfl (Nat.le_of_ble_eq_true rfl) dL_law_482 ⟨by decide, by decide⟩ (fun r2 O2 H locs hq2 w => ?_)
  have w := w.swap
  refine lv_icmp_eq (tgt := 503) hx hb dL_law_485 (by decide) (fun c1 => ?_) (fun c1 => ?_)
  · exact tail S2 O2 _ _ _ (by rw [← hq2.1]; exact hq1.2) w hl
  · exact absurd (hq1.1.trans hq2.2.symm) c1
set_option maxHeartbeats 4000000 in
/-- case 14: digest -/
theorem law_digest {p : Program} {l : Launch} {e : Env} {s : State} {m : MethodId} {below : List Frame} {meth : Method} {c : Code} {D : va_G} {b L : Nat} {xs : Nat → Int32} {h g b0 b1 : Nat} {ad : Nat → Nat} {d dz dm : ClassId} (hL : L ≤ 256) (C0 : lw_At p s m meth c b L xs) (hK1 : va_K D vwCl [(d, .int), (dz, .boolean)] s) (hK2 : va_K D vwCl [(dm, .int)] s) {i : Nat} (hi : i + 4 ≤ L) (tail : ∀ (S2 : PS) (O2 : MO) (H : Heap) (locs : List Loc) (ls : Array Slot), Inv S2 O2 → Wd D (fun q : Nat => s.heap.size ≤ q) s.heap (wX h ad d dz S2 ++ wM g b0 b1 dm O2) H locs → lv_has ls 4 [(0, .ref b), (1, .ref h), (2, .ref g), (3, .int (nI i))] → W p l e room_1 s m #[Value.ref b] below meth c H locs 21 2393 (lw_Z below #[Value.ref b] s) (F0 m 503 ls [])) (S : PS) (O : MO) (hI : Inv S O) (H : Heap) (locs : List Loc) (w : Wd D (fun q : Nat => s.heap.size ≤ q) s.heap (wX h ad d dz S ++ wM g b0 b1 dm O) H locs) (ls : Array Slot) (hl : lv_has ls 4 [(0, .ref b), (1, .ref h), (2, .ref g), (3, .int (nI i))]) : W p l e room_1 s m #[Value.ref b] below meth c H locs 21 2393 (lw_Z below #[Value.ref b] s) (F0 m 490 ls []) := by
  obtain ⟨hx, hb, hr, hml, hown, hts0, hX, hbl, hlocks, hgv⟩ := id C0
  have hts : ∀ w ∈ lw_all, w.before #[Value.ref b] s = true := fun w h => hts0 w (lw_all_tbl h)
  have E : EX p s m #[Value.ref b] c D [] R_law code 4 := ⟨⟨hx, hb, hml, hown, hts⟩, hK1.sub [] rfl⟩
  have hA : ∀ q : Nat, s.heap.size ≤ q → (fun q : Nat => s.heap.size ≤ q) q := fun _ h => h
  have hbA : ¬ (fun q : Nat => s.heap.size ≤ q) b := Nat.not_le.mpr hbl
  refine lv_aload_n hx hb dL_law_490 rfl (lv_at hl 1 rfl) ?_
  refine cF_i (rest := []) (wr := wM g b0 b1 dm O) E (mX_digest l D h ad d dz S O hI) (clx_digest E ⟨by decide, by decide⟩) w hA hK1 (ci := 0) rfl rfl rfl rfl hl.1 rfl (Nat.le_of_ble_eq_true rfl) dL_law_491 ⟨by decide, by decide⟩ (fun r1 S2 H locs hq1 w => ?_)
  have w := w.swap
  refine lv_aload_n hx hb dL_law_494 rfl (lv_at hl 2 rfl) ?_
  refine cF_i (rest := [.int r1]) (wr := wX h ad d dz S2) E (mM_digest l D g b0 b1 dm O hI.1) (clm_digest E ⟨by decide, by decide⟩) w hA hK2 (ci := 1) rfl rfl rfl rfl hl.1 rfl (Nat.le_of_ble_eq_true rfl) dL_law_495 ⟨by decide, by decide⟩ (fun r2 O2 H locs hq2 w => ?_)
  have w := w.swap
  refine lv_icmp_eq (tgt := 503) hx hb dL_law_498 (by decide) (fun c1 => ?_) (fun c1 => ?_)
  · exact tail S2 O2 _ _ _ (by rw [← hq2.1]; exact hq1.2) w hl
  · exact absurd (hq1.1.trans hq2.2.symm) c1
set_option maxHeartbeats 4000000 in
/-- the loop at its head: i ints are read -/
theorem law_loop {p : Program} {l : Launch} {e : Env} {s : State} {m : MethodId} {below : List Frame} {meth : Method} {c : Code} {D : va_G} {b L : Nat} {xs : Nat → Int32} {h g b0 b1 : Nat} {ad : Nat → Nat} {d dz dm : ClassId} (hL : L ≤ 256) (C0 : lw_At p s m meth c b L xs) (hK1 : va_K D vwCl [(d, .int), (dz, .boolean)] s) (hK2 : va_K D vwCl [(dm, .int)] s) : ∀ (n i : Nat) (S : PS) (O : MO) (H : Heap) (locs : List Loc) (ls : Array Slot), i ≤ L → L + 1 ≤ i + n → Inv S O → Wd D (fun q : Nat => s.heap.size ≤ q) s.heap (wX h ad d dz S ++ wM g b0 b1 dm O) H locs → lv_has ls 4 [(0, .ref b), (1, .ref h), (2, .ref g), (3, .int (nI i))] → W p l e room_1 s m #[Value.ref b] below meth c H locs 21 2393 (lw_Z below #[Value.ref b] s) (F0 m 18 ls []) := by
  intro n
  induction n with
  | zero =>
    intro i S O H locs ls h1 h2
    exact absurd h2 (by omega)
  | succ n ih =>
    intro i S O H locs ls hi hin hI w hl
    obtain ⟨hx, hb, hr, hml, hown, hts0, hX, hbl, hlocks, hgv⟩ := id C0
    have hts : ∀ w ∈ lw_all, w.before #[Value.ref b] s = true := fun w h => hts0 w (lw_all_tbl h)
    have E : EX p s m #[Value.ref b] c D [] R_law code 4 := ⟨⟨hx, hb, hml, hown, hts⟩, hK1.sub [] rfl⟩
    have hbA : ¬ (fun q : Nat => s.heap.size ≤ q) b := Nat.not_le.mpr hbl
    refine lv_iload_n hx hb dL_law_18 rfl (lv_at hl 3 rfl) ?_
    refine lv_aload_n hx hb dL_law_19 rfl (lv_at hl 0 rfl) ?_
    refine va_slen hx hb hX hbl hbA w.2.2 dL_law_20 ?_
    refine lv_iconst (v := 4) hx hb dL_law_21 (by decide) ?_
    refine lv_isub hx hb dL_law_22 ?_
    refine lv_icmp_gt (tgt := 509) hx hb dL_law_23 (by decide) (fun c1 => ?_) (fun c1 => ?_)
    · refine lv_iconst (v := 1) hx hb dL_law_509 (by decide) ?_
      refine va_forget (fun q hq => w.2.2.2.2 q hq) ?_
      refine W.widen (k := 600000) (n := 7290000) (by decide) (by decide) ?_
      exact lw_ret hx hb hr hlocks dL_law_510
    · have hi4 : i + 4 ≤ L := len_exit hL hi c1
      have tail : ∀ (S2 : PS) (O2 : MO) (H : Heap) (locs : List Loc) (ls : Array Slot), Inv S2 O2 → Wd D (fun q : Nat => s.heap.size ≤ q) s.heap (wX h ad d dz S2 ++ wM g b0 b1 dm O2) H locs → lv_has ls 4 [(0, .ref b), (1, .ref h), (2, .ref g), (3, .int (nI i))] → W p l e room_1 s m #[Value.ref b] below meth c H locs 21 2393 (lw_Z below #[Value.ref b] s) (F0 m 503 ls []) := by
        intro S2 O2 H locs ls hI2 w hl
        refine lv_iinc (v := nI (i + 4)) (lv' := [(3, .int (nI (i + 4))), (0, .ref b), (1, .ref h), (2, .ref g)]) hx hb dL_law_503 hl (k := 3) rfl (nI_add i 4) (by decide) rfl (fun ls hl => ?_)
        refine lv_goto (tgt := 18) hx hb dL_law_506 (by decide) ?_
        exact ih (i + 4) S2 O2 _ _ _ hi4 (by omega) hI2 w (lv_sub hl [1, 2, 3, 0] rfl)
      refine lv_aload_n hx hb dL_law_26 rfl (lv_at hl 0 rfl) ?_
      refine lv_iload_n hx hb dL_law_27 rfl (lv_at hl 3 rfl) ?_
      refine s_ld E hX hbl hbA w hL (i := i) rfl (by omega) dL_law_28 ?_
      refine lv_bipush (v := 15) hx hb dL_law_29 (by decide) ?_
      refine lv_iand hx hb dL_law_31 ?_
      obtain ⟨j, hj, ej⟩ := pk_andE (xs i) (m := 15) 4 (by decide)
      refine top_eq (y := nI j) ej ?_
      have hj : j < 16 := hj
      have hc : j = 0 ∨ j = 1 ∨ j = 2 ∨ j = 3 ∨ j = 4 ∨ j = 5 ∨ j = 6 ∨ j = 7 ∨ j = 8 ∨ j = 9 ∨ j = 10 ∨ j = 11 ∨ j = 12 ∨ j = 13 ∨ j = 14 ∨ j = 15 := by omega
      rcases hc with rfl | rfl | rfl | rfl | rfl | rfl | rfl | rfl | rfl | rfl | rfl | rfl | rfl | rfl | rfl | rfl
      · refine lv_tableIn (off := 76) (tgt := 108) hx hb dL_law_32 (by decide) (by decide) (by decide) (by decide) ?_
        exact law_set hL C0 hK1 hK2 hi4 tail S O hI _ _ w _ hl
      · refine lv_tableIn (off := 109) (tgt := 141) hx hb dL_law_32 (by decide) (by decide) (by decide) (by decide) ?_
        exact law_exchange hL C0 hK1 hK2 hi4 tail S O hI _ _ w _ hl
      · refine lv_tableIn (off := 142) (tgt := 174) hx hb dL_law_32 (by decide) (by decide) (by decide) (by decide) ?_
        exact law_add hL C0 hK1 hK2 hi4 tail S O hI _ _ w _ hl
      · refine lv_tableIn (off := 175) (tgt := 207) hx hb dL_law_32 (by decide) (by decide) (by decide) (by decide) ?_
        exact law_get hL C0 hK1 hK2 hi4 tail S O hI _ _ w _ hl
      · refine lv_tableIn (off := 198) (tgt := 230) hx hb dL_law_32 (by decide) (by decide) (by decide) (by decide) ?_
        exact law_timeline hL C0 hK1 hK2 hi4 tail S O hI _ _ w _ hl
      · refine lv_tableIn (off := 211) (tgt := 243) hx hb dL_law_32 (by decide) (by decide) (by decide) (by decide) ?_
        exact law_point hL C0 hK1 hK2 hi4 tail S O hI _ _ w _ hl
      · refine lv_tableIn (off := 224) (tgt := 256) hx hb dL_law_32 (by decide) (by decide) (by decide) (by decide) ?_
        exact law_restore hL C0 hK1 hK2 hi4 tail S O hI _ _ w _ hl
      · refine lv_tableIn (off := 257) (tgt := 289) hx hb dL_law_32 (by decide) (by decide) (by decide) (by decide) ?_
        exact law_valueAt hL C0 hK1 hK2 hi4 tail S O hI _ _ w _ hl
      · refine lv_tableIn (off := 300) (tgt := 332) hx hb dL_law_32 (by decide) (by decide) (by decide) (by decide) ?_
        exact law_lastPoint hL C0 hK1 hK2 hi4 tail S O hI _ _ w _ hl
      · refine lv_tableIn (off := 323) (tgt := 355) hx hb dL_law_32 (by decide) (by decide) (by decide) (by decide) ?_
        exact law_lastChange hL C0 hK1 hK2 hi4 tail S O hI _ _ w _ hl
      · refine lv_tableIn (off := 366) (tgt := 398) hx hb dL_law_32 (by decide) (by decide) (by decide) (by decide) ?_
        exact law_differs hL C0 hK1 hK2 hi4 tail S O hI _ _ w _ hl
      · refine lv_tableIn (off := 399) (tgt := 431) hx hb dL_law_32 (by decide) (by decide) (by decide) (by decide) ?_
        exact law_crash hL C0 hK1 hK2 hi4 tail S O hI _ _ w _ hl
      · refine lv_tableIn (off := 412) (tgt := 444) hx hb dL_law_32 (by decide) (by decide) (by decide) (by decide) ?_
        exact law_backup hL C0 hK1 hK2 hi4 tail S O hI _ _ w _ hl
      · refine lv_tableIn (off := 435) (tgt := 467) hx hb dL_law_32 (by decide) (by decide) (by decide) (by decide) ?_
        exact law_flush hL C0 hK1 hK2 hi4 tail S O hI _ _ w _ hl
      · refine lv_tableIn (off := 458) (tgt := 490) hx hb dL_law_32 (by decide) (by decide) (by decide) (by decide) ?_
        exact law_digest hL C0 hK1 hK2 hi4 tail S O hI _ _ w _ hl
      · refine lv_tableOut (tgt := 503) hx hb dL_law_32 (by decide) (by decide) ?_
        exact tail S O _ _ _ hI w hl
end
section
set_option maxRecDepth 100000
set_option maxHeartbeats 4000000 in
/-- THE LAW, from its entry -/
theorem whole_start {p : Program} {e : Env} {s : State} {m : MethodId} {below : List Frame} {meth : Method} {c : Code} (l : Launch) {b L : Nat} {xs : Nat → Int32} (hL : L ≤ 256) (C0 : lw_At p s m meth c b L xs) : W p l e room_1 s m #[Value.ref b] below meth c s.heap [] 0 0 (lw_Z below #[Value.ref b] s) (entryFrame m ([Value.ref b] : List Value).toArray 4) := by
  obtain ⟨hx, hb, hr, hml, hown, hts0, hX, hbl, hlocks, hgv⟩ := id C0
  have hts : ∀ w ∈ lw_all, w.before #[Value.ref b] s = true := fun w h => hts0 w (lw_all_tbl h)
  have hA : ∀ q : Nat, s.heap.size ≤ q → (fun q : Nat => s.heap.size ≤ q) q := fun _ h => h
  have hbA : ¬ (fun q : Nat => s.heap.size ≤ q) b := Nat.not_le.mpr hbl
  obtain ⟨c0_, iS0, hKn0⟩ := u_known (C := RX0) (T := TX0) (N := 22) (n := 22) hts in_X0 (hts _ q19)
  obtain ⟨c1_, iS1, hKn1⟩ := u_known (C := RX1) (T := TX1) (N := 3) (n := 3) hts in_X1 (hts _ q200)
  obtain ⟨D, hKc⟩ : ∃ D : va_G, ∀ (k : Nat) (q : vw_C), vwCl[k]? = some q → u_Kn s q.1 q.2.1 q.2.2 (D.1 k) (D.2 k) := by
    refine ⟨(fun k => if k = 0 then c0_ else c1_, fun k => if k = 0 then iS0 else iS1), ?_⟩
    intro k q hq
    match k, hq with
    | 0, hq => cases hq; exact hKn0
    | 1, hq => cases hq; exact hKn1
    | k + 2, hq => simp [vwCl] at hq
  have hK : va_K D vwCl [] s := ⟨hKc, fun k q h => by simp at h⟩
  have hP : va_P D vwCl [] s.heap := fun k q h => by simp at h
  have hD : va_D (fun q : Nat => s.heap.size ≤ q) [] := ⟨fun i j p q h => by simp at h, fun k q h => by simp at h⟩
  have hS : va_S (fun q : Nat => s.heap.size ≤ q) s.heap s.heap [] := va_S.rf
  have E : EX p s m #[Value.ref b] c D [] R_law code 4 := ⟨⟨hx, hb, hml, hown, hts⟩, hK⟩
  have hl := lv_entry ([.ref b]) (n := 4) (Nat.le_of_ble_eq_true rfl)
  rw [lg_entry_eq]
  generalize (lg_sl ([.ref b]) ++ List.replicate (4 - (lg_sl ([.ref b])).length) Slot.unset).toArray = ls at hl ⊢
  have hl : lv_has ls 4 [(0, .ref b)] := hl
  refine va_new (ci := 0) (fs := fs0) (C := RX0) (T := TX0) (N := 22) hx hb hts in_X0 tyX0 tyX0_ok hown (hts _ q18) (hts _ q19) (hts _ q16) hK hP hD hS hA rfl (fun j hj => ?_) (by decide) (by decide) dL_law_0 (fun h H hP hD hS => ?_)
  · rcases (show j = 0 ∨ j = 1 ∨ j = 2 ∨ j = 3 ∨ j = 4 ∨ j = 5 ∨ j = 6 ∨ j = 7 ∨ j = 8 ∨ j = 9 ∨ j = 10 ∨ j = 11 ∨ j = 12 ∨ j = 13 ∨ j = 14 ∨ j = 15 ∨ j = 16 ∨ j = 17 ∨ j = 18 ∨ j = 19 ∨ j = 20 ∨ j = 21 by omega) with rfl | rfl | rfl | rfl | rfl | rfl | rfl | rfl | rfl | rfl | rfl | rfl | rfl | rfl | rfl | rfl | rfl | rfl | rfl | rfl | rfl | rfl <;> rfl
  have hP : va_P D vwCl [(h, .inr (0, fs0))] H := hP
  have hD : va_D (fun q : Nat => s.heap.size ≤ q) [(h, .inr (0, fs0))] := hD
  refine W.widen (k := 1) (n := 22) (by decide) (by decide) ?_
  refine lv_dup hx hb dL_law_3 rfl ?_
  have hFc : ∀ q, va_A [(h, .inr (0, fs0))] H.size q → (fun q : Nat => s.heap.size ≤ q) q := va_free hD hS hA [0] rfl
  refine va_callv (va_runI (As := []) (rest := [.ref h]) E.1 (mX_init l D h H.size) (cwI 0 hts (lw_meth q22) rfl rfl rfl (hts _ q16) (hts _ q20) (hts _ q21) rfl (by decide +kernel) ⟨by decide, by decide⟩) ⟨fun a U g mk q => by obtain ⟨q0, q1, qP, qK, qD⟩ := q; exact ⟨q0, q1, qP, va_K.moved (u := U) (U := U.calling g mk a) (Vm.Alike.refl U.vm) qK, qD⟩, fun U hU hW => ⟨rfl, by rw [hU], by rw [hU]; exact hP, va_K.moved hW.alike hK, hD.weaken (fun _ _ _ _ => trivial)⟩⟩ rfl rfl hl.1 rfl (lv_room (Nat.le_of_ble_eq_true rfl)) dL_law_4 ⟨by decide, by decide⟩) hS (fun q _ h => hFc q h) hFc (fun u t H1 locs ht hvm hw hB hz1 hk1 hS => ?_)
  obtain ⟨ad, d, dz, hP1, hK1, hD1⟩ := hB
  rw [ht] at hP1
  have hK1 : va_K D vwCl [(d, .int), (dz, .boolean)] s := va_K.moved hvm.symm hK1
  have hP : va_P D vwCl (wX h ad d dz S0) H1 := hP1
  have hD : va_D (fun q : Nat => s.heap.size ≤ q) (wX h ad d dz S0) := hD1.weaken (fun k q _ hq => hFc q.1 hq)
  refine W.widen (k := 18) (n := 896) (by decide) (by decide) ?_
  refine lv_astore_n (lv' := [(1, .ref h), (0, .ref b)]) hx hb dL_law_7 rfl hl (by decide) rfl (fun ls hl => ?_)
  refine va_new (ci := 1) (fs := [.null, .null, .int 0]) (C := RX1) (T := TX1) (N := 3) hx hb hts in_X1 tyX1 tyX1_ok hown (hts _ q199) (hts _ q200) (hts _ q17) hK hP hD hS hA rfl (fun j hj => by rcases (show j = 0 ∨ j = 1 ∨ j = 2 by omega) with rfl | rfl | rfl <;> rfl) (by decide) (by decide) dL_law_8 (fun g H hP hD hS => ?_)
  refine W.widen (k := 19) (n := 899) (by decide) (by decide) ?_
  refine lv_dup hx hb dL_law_11 rfl ?_
  have w : Wd D (fun q : Nat => s.heap.size ≤ q) s.heap ([(g, .inr (1, [.null, .null, .int 0]))] ++ wX h ad d dz S0) H locs := Wd.swap ⟨hP, hD, hS⟩
  have hPc : va_P D vwCl [(g, .inr (1, [.null, .null, .int 0]))] H := fun k q hk => w.1 k q (wd_L hk)
  have hDc : va_D (fun q : Nat => s.heap.size ≤ q) [(g, .inr (1, [.null, .null, .int 0]))] := ⟨fun i j x y hi hj he => w.2.1.1 _ _ x y (wd_L hi) (wd_L hj) he, fun k q hk => w.2.1.2 _ q (wd_L hk)⟩
  have hFc : ∀ q, va_A [(g, .inr (1, [.null, .null, .int 0]))] H.size q → (fun q : Nat => s.heap.size ≤ q) q := va_free hDc hS hA [0] rfl
  refine va_callv (va_runI (As := []) (rest := [.ref g]) E.1 (mM_init l D g H.size) (cwI 0 hts (lw_meth q203) rfl rfl rfl (hts _ q17) (hts _ q201) (hts _ q202) rfl (by decide +kernel) ⟨by decide, by decide⟩) ⟨fun a U g mk q => by obtain ⟨q0, q1, qP, qK, qD⟩ := q; exact ⟨q0, q1, qP, va_K.moved (u := U) (U := U.calling g mk a) (Vm.Alike.refl U.vm) qK, qD⟩, fun U hU hW => ⟨rfl, by rw [hU], by rw [hU]; exact hPc, va_K.moved hW.alike hK, hDc.weaken (fun _ _ _ _ => trivial)⟩⟩ rfl rfl hl.1 rfl (lv_room (Nat.le_of_ble_eq_true rfl)) dL_law_12 ⟨by decide, by decide⟩) hS (fun q _ h => hFc q h) hFc (fun u t H1 locs ht hvm hw hB hz1 hk1 hS => ?_)
  obtain ⟨b0, b1, dm, hP1, hK2, hD1⟩ := hB
  rw [ht] at hP1
  have hK2 : va_K D vwCl [(dm, .int)] s := va_K.moved hvm.symm hK2
  obtain ⟨hP2, hD2⟩ := wd_join w.1 w.2.1 hk1 hFc hP1 hD1
  have w : Wd D (fun q : Nat => s.heap.size ≤ q) s.heap (wX h ad d dz S0 ++ wM g b0 b1 dm O0) H1 locs := Wd.swap ⟨hP2, hD2, hS⟩
  refine W.widen (k := 21) (n := 2393) (by decide) (by decide) ?_
  refine lv_astore_n (lv' := [(2, .ref g), (1, .ref h), (0, .ref b)]) hx hb dL_law_15 rfl hl (by decide) rfl (fun ls hl => ?_)
  refine lv_iconst (v := nI 0) hx hb dL_law_16 (by decide) ?_
  refine lv_istore_n (lv' := [(3, .int (nI 0)), (2, .ref g), (1, .ref h), (0, .ref b)]) hx hb dL_law_17 rfl hl (by decide) rfl (fun ls hl => ?_)
  exact law_loop hL C0 hK1 hK2 (L + 1) 0 S0 O0 _ _ _ (Nat.zero_le _) (by omega) inv_0 w (lv_sub hl [3, 2, 1, 0] rfl)
end
section
set_option maxHeartbeats 4000000 in
theorem lw_walk (l : Launch) (b : Addr) (xs : List Int32) : MetFree l x (headSpec (Jvm.Cond.code x code maxLocals ret :: tables_1) room_1) (lw_P b xs) (fun _ _ _ _ _ => True) lw_Q := by
  refine MetFree.of_bodyS (code := code) (maxLocals := maxLocals) (ret := ret) (by decide) ?_ ?_
  · intro args s m h hn
    obtain ⟨meth, c, h1, h2, h3, h4, h5, h6, -, -⟩ := Cond.code_spec hn (atoms_spec (ws := Jvm.Cond.code x code maxLocals ret :: tables_1) h _ List.mem_cons_self)
    exact ⟨meth, c, h1, h2, h3, h4, h5, h6⟩
  · intro p e s m args below meth c s₁ B hml0 hP _
    obtain ⟨rfl, hx, hbd, hgv⟩ := hP
    obtain ⟨scr, harrAt, hlist, hof, hsmall⟩ := hx
    obtain ⟨hcb, hkn, -, -⟩ := State.arrayAt?_spec harrAt
    have hown : s.vm.findClass R_law = some m.cls := findClass_of_methodNamed B.named
    have hts0 : ∀ c ∈ (Jvm.Cond.code x code maxLocals ret :: tables_1), c.before #[Value.ref b] s = true := atoms_spec (ws := Jvm.Cond.code x code maxLocals ret :: tables_1) B.pre
    have hts : ∀ w ∈ lw_tbl, w.before #[Value.ref b] s = true := k2_hts_sels lw_privs (fun w hw => hts0 w (List.mem_cons_of_mem _ hw)) lw_privs_ok
    have hml : c.maxLocals = 4 := B.maxLocals_eq (hts0 _ List.mem_cons_self)
    have X₀ : Stand p l e room_1 s m #[Value.ref b] below meth c s₁ [] 0 0 := Stand.of_body B
    have hh0 : s₁.heap = s.heap := by rw [B.state]; rfl
    have hsz : scr.slots.size = xs.length := by rw [← Array.length_toList, hlist, List.length_map]
    have hval : ∀ j : Nat, j < xs.length → scr.slots[j]? = some (.int (xs.getD j 0)) := fun j hj => by
      rw [← Array.getElem?_toList, hlist]
      simp [hj]
    have hbl : b < s.heap.size := (Array.getElem?_eq_some_iff.mp hcb).1
    have hX : va_X b xs.length (fun j => xs.getD j 0) s s.heap := ⟨scr, hcb, hof, hkn, hsz, hval⟩
    have K : W p l e room_1 s m #[Value.ref b] below meth c s₁.heap [] 0 0 (lw_Z below #[Value.ref b] s) (entryFrame m ([Value.ref b] : List Value).toArray 4) := by
      rw [hh0]
      exact whole_start l hbd ⟨B.exec, B.bytes, B.returns, hml, hown, hts, hX, hbl, B.notSynchronized, hgv⟩
    obtain ⟨t, a1, o, b1, b2, b3⟩ := K s₁ rfl X₀
    exact ⟨t, o, a1, b1, b2, b3⟩
theorem lw_pre_spec {args : Array Value} {s : State} (h : (Jvm.Cond.and given_1 narrow_1).before args s = true) (hr : rest_1_c.before args s = true) : ∃ (b : Addr) (xs : List Int32), lw_P b xs args s := by
  have hs := flat_of_before _ h
  have hq := flat_of_before _ hr
  have hc : (Cond.count 1).before args s = true := hs _ (by decide +kernel)
  have harr : (Cond.arrayOf (.arg 0) .int).before args s = true := hs _ (by decide +kernel)
  have hle : (Cond.le (.length (.arg 0)) (.int 256)).before args s = true := hs _ (by decide +kernel)
  have hlen : (Cond.isInt (.length (.arg 0))).before args s = true := hq _ (by decide +kernel)
  have hall : (Cond.all (.arg 0) (.isInt (.elem (.arg 0) (.index 0)))).before args s = true := hq _ (by decide +kernel)
  obtain ⟨b, xs, hb, hx⟩ := State.ints_of_pre rfl harr hlen hall
  have hsm : xs.length < 2 ^ 31 := hx.choose_spec.2.2.2
  have hev : (Term.length (.arg 0)).eval args s none [] s = some (.int xs.length.toInt32) := hx.length_eval hb
  have hv := Cond.le_ints hev (show (Term.int 256).eval args s none [] s = some (.int 256) from rfl)
  have hd : xs.length.toInt32 ≤ 256 := by
    simpa [Cond.before, Cond.holds, hv] using hle
  have hN : xs.length ≤ 256 := (Int32.ofNat_le_ofNat hsm (by decide)).mp (show Int32.ofNat xs.length ≤ Int32.ofNat 256 from hd)
  exact ⟨b, xs, Cond.one_arg hc (show args[0]? = some (.ref b) from hb), hx, hN, h⟩
theorem lw_comes (l : Launch) : Comes l x (Jvm.Cond.code x code maxLocals ret :: tables_1) room_1 (fun tb e args s => Calls_1 tb e args s ∧ rest_1 tb e args s ∧ Pre_1 tb e args s)
    (fun _ _ args s o t => lw_Q args s o t) := by
  intro p e ha hc hk s m args below hf hfit hheap happ hpre
  obtain ⟨b, xs, hP⟩ := lw_pre_spec hpre.2.2 hpre.2.1
  obtain ⟨k, o, h1, h2, h3, hQ⟩ := lw_walk l b xs p e ha hc hk s m args below hf ((Spec.applies_iff_loose hf).mp happ).1 hP trivial
  exact ⟨k, o, h1, h2, h3, hQ⟩
theorem lw_frame {s t : State} {o : Outcome} {args : Array Value} (h : Framed s o t [] 600000 7290000) :
    Framed s o t (fieldLocs frame_1_writes args s ++ arrayLocs frame_1_arrays args s ++ staticLocs frame_1_statics s) 600000 7290000 := h
theorem lw_limb (L : Cond) (hL : ∀ (args : Array Value) (s t : State), L.after args s (.returned (some (.int 1))) t = true) :
    ArmFor flags0 classFile x code maxLocals ret World_1 tables_1 room_1 Calls_1 rest_1 Pre_1
      (fun tb e a s o t => postC L tb e a s o t ∧ Framed s o t (fieldLocs frame_1_writes a s ++ arrayLocs frame_1_arrays a s ++ staticLocs frame_1_statics s) 600000 7290000) := by
  intro l _ _ _ p e ha hc hk s m args below hf hfit hheap happ hpre
  obtain ⟨k, o, h1, h2, h3, rfl, hF⟩ := lw_comes l p e ha hc hk s m args below hf hfit hheap happ hpre
  exact ⟨k, _, h1, h2, h3, hL args s _, lw_frame hF⟩
theorem i_vc : Claimed_1_1 ∧ Claimed_1_2 := ⟨lw_limb limb_1_1 (fun args s t => by simp [limb_1_1, Cond.after, Cond.holds, Cond.value]), lw_limb limb_1_2 (fun args s t => Cond.after_iff.mpr (by
  first | (rw [show limb_1_2 = Cond.eq .result (.int 1) from rfl, Cond.eq_ints (x := 1) (y := 1) rfl rfl]; simp; done) | (simp [limb_1_2, Cond.value, Term.eval]; done)))⟩
end
