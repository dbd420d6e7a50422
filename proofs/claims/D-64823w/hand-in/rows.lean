section
-- ===== PART A: goes FIRST, ahead of the names: the tables' words, and 'selects' of the private methods out of them =====
/-- a private method of a class that the tables say can be made, by its rows of tables_1 -/
def lw_okq (q : MethodName × Nat) : Prop := (q.1.cls ≠ "java/lang/invoke/MethodHandle" ∧ q.1.cls ≠ "java/lang/invoke/VarHandle") ∧ Cond.instantiable q.1.cls q.2 ∈ tables_1 ∧ Cond.privateMethod q.1 ∈ tables_1 ∧ Cond.instanceMethod q.1 ∈ tables_1
set_option maxRecDepth 100000
theorem lw_t1 {w : Cond} (h : w ∈ tables_1_1) : w ∈ tables_1 := List.mem_append_left _ h
theorem lw_t2 {w : Cond} (h : w ∈ tables_1_2) : w ∈ tables_1 := List.mem_append_right _ h
theorem lw_p0 : lw_okq (⟨"EphemeronHeap", "has", "(I)Z"⟩, 15) := ⟨⟨by decide +kernel, by decide +kernel⟩, lw_t1 (List.mem_of_getElem? (i := 4) rfl), lw_t1 (List.mem_of_getElem? (i := 66) rfl), lw_t1 (List.mem_of_getElem? (i := 67) rfl)⟩
theorem lw_p1 : lw_okq (⟨"EphemeronHeap", "placeFor", "(I)I"⟩, 15) := ⟨⟨by decide +kernel, by decide +kernel⟩, lw_t1 (List.mem_of_getElem? (i := 4) rfl), lw_t1 (List.mem_of_getElem? (i := 74) rfl), lw_t1 (List.mem_of_getElem? (i := 75) rfl)⟩
theorem lw_p2 : lw_okq (⟨"EphemeronHeap", "copyLiving", "()V"⟩, 15) := ⟨⟨by decide +kernel, by decide +kernel⟩, lw_t1 (List.mem_of_getElem? (i := 4) rfl), lw_t1 (List.mem_of_getElem? (i := 90) rfl), lw_t1 (List.mem_of_getElem? (i := 91) rfl)⟩
theorem lw_p3 : lw_okq (⟨"EphemeronHeap", "copy", "(I)V"⟩, 15) := ⟨⟨by decide +kernel, by decide +kernel⟩, lw_t1 (List.mem_of_getElem? (i := 4) rfl), lw_t1 (List.mem_of_getElem? (i := 94) rfl), lw_t1 (List.mem_of_getElem? (i := 95) rfl)⟩
theorem lw_p4 : lw_okq (⟨"EphemeronHeap", "spread", "()V"⟩, 15) := ⟨⟨by decide +kernel, by decide +kernel⟩, lw_t1 (List.mem_of_getElem? (i := 4) rfl), lw_t1 (List.mem_of_getElem? (i := 98) rfl), lw_t1 (List.mem_of_getElem? (i := 99) rfl)⟩
theorem lw_p5 : lw_okq (⟨"EphemeronHeap", "lookAtPairs", "()V"⟩, 15) := ⟨⟨by decide +kernel, by decide +kernel⟩, lw_t1 (List.mem_of_getElem? (i := 4) rfl), lw_t1 (List.mem_of_getElem? (i := 102) rfl), lw_t1 (List.mem_of_getElem? (i := 103) rfl)⟩
theorem lw_p6 : lw_okq (⟨"EphemeronHeap", "isCopied", "(I)Z"⟩, 15) := ⟨⟨by decide +kernel, by decide +kernel⟩, lw_t1 (List.mem_of_getElem? (i := 4) rfl), lw_t1 (List.mem_of_getElem? (i := 106) rfl), lw_t1 (List.mem_of_getElem? (i := 107) rfl)⟩
theorem lw_p7 : lw_okq (⟨"EphemeronHeap", "rescue", "()V"⟩, 15) := ⟨⟨by decide +kernel, by decide +kernel⟩, lw_t1 (List.mem_of_getElem? (i := 4) rfl), lw_t1 (List.mem_of_getElem? (i := 110) rfl), lw_t1 (List.mem_of_getElem? (i := 111) rfl)⟩
theorem lw_p8 : lw_okq (⟨"EphemeronHeap", "mend", "(I)V"⟩, 15) := ⟨⟨by decide +kernel, by decide +kernel⟩, lw_t1 (List.mem_of_getElem? (i := 4) rfl), lw_t1 (List.mem_of_getElem? (i := 114) rfl), lw_t1 (List.mem_of_getElem? (i := 115) rfl)⟩
theorem lw_p9 : lw_okq (⟨"EphemeronHeap", "moved", "(I)I"⟩, 15) := ⟨⟨by decide +kernel, by decide +kernel⟩, lw_t1 (List.mem_of_getElem? (i := 4) rfl), lw_t1 (List.mem_of_getElem? (i := 118) rfl), lw_t1 (List.mem_of_getElem? (i := 119) rfl)⟩
theorem lw_p10 : lw_okq (⟨"EphemeronHeap", "living", "()I"⟩, 15) := ⟨⟨by decide +kernel, by decide +kernel⟩, lw_t1 (List.mem_of_getElem? (i := 4) rfl), lw_t1 (List.mem_of_getElem? (i := 141) rfl), lw_t1 (List.mem_of_getElem? (i := 142) rfl)⟩
theorem lw_p11 : lw_okq (⟨"EphemeronHeap", "numberAt", "(I)I"⟩, 15) := ⟨⟨by decide +kernel, by decide +kernel⟩, lw_t1 (List.mem_of_getElem? (i := 4) rfl), lw_t1 (List.mem_of_getElem? (i := 149) rfl), lw_t1 (List.mem_of_getElem? (i := 150) rfl)⟩
theorem lw_p12 : lw_okq (⟨"EphemeronHeapModel", "is", "(I)Z"⟩, 8) := ⟨⟨by decide +kernel, by decide +kernel⟩, lw_t1 (List.mem_of_getElem? (i := 173) rfl), lw_t1 (List.mem_of_getElem? (i := 214) rfl), lw_t1 (List.mem_of_getElem? (i := 215) rfl)⟩
theorem lw_p13 : lw_okq (⟨"EphemeronHeapModel", "living", "()I"⟩, 8) := ⟨⟨by decide +kernel, by decide +kernel⟩, lw_t1 (List.mem_of_getElem? (i := 173) rfl), lw_t1 (List.mem_of_getElem? (i := 230) rfl), lw_t1 (List.mem_of_getElem? (i := 231) rfl)⟩
theorem lw_p14 : lw_okq (⟨"EphemeronHeapModel", "bit", "(I)I"⟩, 8) := ⟨⟨by decide +kernel, by decide +kernel⟩, lw_t1 (List.mem_of_getElem? (i := 173) rfl), lw_t1 (List.mem_of_getElem? (i := 234) rfl), lw_t1 (List.mem_of_getElem? (i := 235) rfl)⟩
def lw_privs_1 : List (MethodName × Nat) := [(⟨"EphemeronHeap", "has", "(I)Z"⟩, 15), (⟨"EphemeronHeap", "placeFor", "(I)I"⟩, 15), (⟨"EphemeronHeap", "copyLiving", "()V"⟩, 15), (⟨"EphemeronHeap", "copy", "(I)V"⟩, 15), (⟨"EphemeronHeap", "spread", "()V"⟩, 15), (⟨"EphemeronHeap", "lookAtPairs", "()V"⟩, 15), (⟨"EphemeronHeap", "isCopied", "(I)Z"⟩, 15), (⟨"EphemeronHeap", "rescue", "()V"⟩, 15), (⟨"EphemeronHeap", "mend", "(I)V"⟩, 15), (⟨"EphemeronHeap", "moved", "(I)I"⟩, 15), (⟨"EphemeronHeap", "living", "()I"⟩, 15), (⟨"EphemeronHeap", "numberAt", "(I)I"⟩, 15), (⟨"EphemeronHeapModel", "is", "(I)Z"⟩, 8), (⟨"EphemeronHeapModel", "living", "()I"⟩, 8), (⟨"EphemeronHeapModel", "bit", "(I)I"⟩, 8)]
theorem lw_r1 : ∀ q ∈ lw_privs_1, lw_okq q := List.forall_mem_cons.mpr ⟨lw_p0, List.forall_mem_cons.mpr ⟨lw_p1, List.forall_mem_cons.mpr ⟨lw_p2, List.forall_mem_cons.mpr ⟨lw_p3, List.forall_mem_cons.mpr ⟨lw_p4, List.forall_mem_cons.mpr ⟨lw_p5, List.forall_mem_cons.mpr ⟨lw_p6, List.forall_mem_cons.mpr ⟨lw_p7, List.forall_mem_cons.mpr ⟨lw_p8, List.forall_mem_cons.mpr ⟨lw_p9, List.forall_mem_cons.mpr ⟨lw_p10, List.forall_mem_cons.mpr ⟨lw_p11, List.forall_mem_cons.mpr ⟨lw_p12, List.forall_mem_cons.mpr ⟨lw_p13, List.forall_mem_cons.mpr ⟨lw_p14, fun _ h => absurd h List.not_mem_nil⟩⟩⟩⟩⟩⟩⟩⟩⟩⟩⟩⟩⟩⟩⟩
def lw_privs : List (MethodName × Nat) := lw_privs_1
def lw_tbl : List Cond := k2_sels lw_privs ++ tables_1
theorem lw_privs_ok : ∀ q ∈ lw_privs, lw_okq q := lw_r1
-- ===== ONE list of words for every method: the tables' words that hold all through a run =====
def lw_all : List Cond := lw_tbl.filter goodWord
/-- a word of the tables by its place: claim/WORDS.tsv -/
theorem lw_w {w : Cond} (i : Nat) (h : lw_tbl[i]? = some w) (g : goodWord w = true) : w ∈ lw_all := List.mem_filter.mpr ⟨List.mem_of_getElem? h, g⟩
theorem lw_all_tbl {w : Cond} (h : w ∈ lw_all) : w ∈ lw_tbl := (List.mem_filter.mp h).1
theorem lw_self : GoodIn lw_all lw_all := fun w h => ⟨h, good_of_word (List.mem_filter.mp h).2⟩
/-- a class's field words, by their places -/
theorem lw_in (ws : List Cond) (ps : List Nat) (hp : ws = ps.filterMap (fun i => lw_tbl[i]?)) (hg : ws.all goodWord = true) : ∀ w ∈ ws, w ∈ lw_all := by
  intro w h
  have h1 := List.all_eq_true.mp hg w h
  rw [hp] at h
  obtain ⟨i, -, hi⟩ := List.mem_filterMap.mp h
  exact lw_w i hi h1
/-- the words of a contract for the method y with code b, L locals, answer r -/
abbrev ws_ (y : MethodName) (b : ByteArray) (L : Nat) (r : Option FieldType) : List Cond := Cond.code y b L r :: lw_all
theorem lw_meth {y : MethodName} {b : ByteArray} {L : Nat} {r : Option FieldType} (h : Cond.code y b L r ∈ lw_all) : GoodIn lw_all (ws_ y b L r) := by
  intro w hw
  rcases List.mem_cons.mp hw with e | e
  · rw [e]
    exact lw_self _ h
  · exact lw_self _ e
theorem lw_app {a c : List Cond} (ha : ∀ w ∈ a, w ∈ lw_all) (hc : GoodIn lw_all c) : GoodIn lw_all (a ++ c) := by
  intro w hw
  rcases List.mem_append.mp hw with e | e
  · exact lw_self w (ha w e)
  · exact hc w e
/-- what a call through an object asks: cwV n hts (lw_V ..) -/
theorem lw_V {own : String} {idx : Nat} {C : String} {y : MethodName} {b : ByteArray} {L : Nat} {r : Option FieldType} (h1 : Cond.methodLink own idx y ∈ lw_all) (h2 : Cond.instanceMethod y ∈ lw_all) (h3 : Cond.selects C y y ∈ lw_all) (h4 : Cond.initialized C ∈ lw_all) (h5 : Cond.code y b L r ∈ lw_all) : GoodIn lw_all (wsV own idx C y (ws_ y b L r)) := by
  refine lw_app ?_ (lw_meth h5)
  intro w hw
  simp only [List.mem_cons, List.not_mem_nil, or_false] at hw
  rcases hw with e | e | e | e
  · rw [e]; exact h1
  · rw [e]; exact h2
  · rw [e]; exact h3
  · rw [e]; exact h4
/-- what a static call asks: va_cwS n hts (lw_S ..) -/
theorem lw_S {own : String} {idx : Nat} {y : MethodName} {b : ByteArray} {L : Nat} {r : Option FieldType} (h1 : Cond.methodLink own idx y ∈ lw_all) (h2 : Cond.static y ∈ lw_all) (h3 : Cond.initialized y.cls ∈ lw_all) (h4 : Cond.code y b L r ∈ lw_all) : GoodIn lw_all (va_wsS own idx y (ws_ y b L r)) := by
  refine lw_app ?_ (lw_meth h4)
  intro w hw
  simp only [List.mem_cons, List.not_mem_nil, or_false] at hw
  rcases hw with e | e | e
  · rw [e]; exact h1
  · rw [e]; exact h2
  · rw [e]; exact h3
/-- the words of a contract for a method WITH HANDLERS (hh: its table) -/
abbrev wsW_ (y : MethodName) (b : ByteArray) (L : Nat) (r : Option FieldType) (hh : List (Nat × Nat × Nat × Nat)) : List Cond := Cond.codeWith y b L r hh :: lw_all
theorem lw_methW {y : MethodName} {b : ByteArray} {L : Nat} {r : Option FieldType} {hh : List (Nat × Nat × Nat × Nat)} (h : Cond.codeWith y b L r hh ∈ lw_all) : GoodIn lw_all (wsW_ y b L r hh) := by
  intro w hw
  rcases List.mem_cons.mp hw with e | e
  · rw [e]
    exact lw_self _ h
  · exact lw_self _ e
/-- any list of words by their places (lw_in), good -/
theorem lw_good {ws : List Cond} (h : ∀ w ∈ ws, w ∈ lw_all) : GoodIn lw_all ws := fun w hw => lw_self w (h w hw)
/-- what a call of a method with handlers asks: vx_cwVW n hts (lw_VW ..), vx_cwSW n hts (lw_SW ..) -/
theorem lw_VW {own : String} {idx : Nat} {C : String} {y : MethodName} {b : ByteArray} {L : Nat} {r : Option FieldType} {hh : List (Nat × Nat × Nat × Nat)} (h1 : Cond.methodLink own idx y ∈ lw_all) (h2 : Cond.instanceMethod y ∈ lw_all) (h3 : Cond.selects C y y ∈ lw_all) (h4 : Cond.initialized C ∈ lw_all) (h5 : Cond.codeWith y b L r hh ∈ lw_all) : GoodIn lw_all (wsV own idx C y (wsW_ y b L r hh)) := by
  refine lw_app ?_ (lw_methW h5)
  intro w hw
  simp only [List.mem_cons, List.not_mem_nil, or_false] at hw
  rcases hw with e | e | e | e
  · rw [e]; exact h1
  · rw [e]; exact h2
  · rw [e]; exact h3
  · rw [e]; exact h4
theorem lw_SW {own : String} {idx : Nat} {y : MethodName} {b : ByteArray} {L : Nat} {r : Option FieldType} {hh : List (Nat × Nat × Nat × Nat)} (h1 : Cond.methodLink own idx y ∈ lw_all) (h2 : Cond.static y ∈ lw_all) (h3 : Cond.initialized y.cls ∈ lw_all) (h4 : Cond.codeWith y b L r hh ∈ lw_all) : GoodIn lw_all (va_wsS own idx y (wsW_ y b L r hh)) := by
  refine lw_app ?_ (lw_methW h4)
  intro w hw
  simp only [List.mem_cons, List.not_mem_nil, or_false] at hw
  rcases hw with e | e | e
  · rw [e]; exact h1
  · rw [e]; exact h2
  · rw [e]; exact h3
/-- a word by its place in its run of the tables -/
theorem lw_at {r : List Cond} (hr : ∀ w ∈ r, w ∈ lw_tbl) {w : Cond} (i : Nat) (h : r[i]? = some w) : w ∈ lw_tbl := hr w (List.mem_of_getElem? h)
theorem lw_g {w : Cond} (h : w ∈ lw_tbl) (g : goodWord w = true) : w ∈ lw_all := List.mem_filter.mpr ⟨h, g⟩
theorem lw_ms : ∀ w ∈ k2_sels lw_privs, w ∈ lw_tbl := fun w h => show w ∈ k2_sels lw_privs ++ tables_1 from List.mem_append_left _ h
theorem lw_m1 : ∀ w ∈ tables_1_1, w ∈ lw_tbl := fun w h => show w ∈ k2_sels lw_privs ++ tables_1 from List.mem_append_right (k2_sels lw_privs) (show w ∈ tables_1 from List.mem_append_left _ h)
theorem lw_m2 : ∀ w ∈ tables_1_2, w ∈ lw_tbl := fun w h => show w ∈ k2_sels lw_privs ++ tables_1 from List.mem_append_right (k2_sels lw_privs) (show w ∈ tables_1 from List.mem_append_right _ h)
theorem qs0 : (Cond.selects "EphemeronHeap" ⟨"EphemeronHeap", "has", "(I)Z"⟩ ⟨"EphemeronHeap", "has", "(I)Z"⟩) ∈ lw_all := lw_g (lw_at lw_ms 0 rfl) rfl
theorem qs1 : (Cond.selects "EphemeronHeap" ⟨"EphemeronHeap", "placeFor", "(I)I"⟩ ⟨"EphemeronHeap", "placeFor", "(I)I"⟩) ∈ lw_all := lw_g (lw_at lw_ms 1 rfl) rfl
theorem qs2 : (Cond.selects "EphemeronHeap" ⟨"EphemeronHeap", "copyLiving", "()V"⟩ ⟨"EphemeronHeap", "copyLiving", "()V"⟩) ∈ lw_all := lw_g (lw_at lw_ms 2 rfl) rfl
theorem qs3 : (Cond.selects "EphemeronHeap" ⟨"EphemeronHeap", "copy", "(I)V"⟩ ⟨"EphemeronHeap", "copy", "(I)V"⟩) ∈ lw_all := lw_g (lw_at lw_ms 3 rfl) rfl
theorem qs4 : (Cond.selects "EphemeronHeap" ⟨"EphemeronHeap", "spread", "()V"⟩ ⟨"EphemeronHeap", "spread", "()V"⟩) ∈ lw_all := lw_g (lw_at lw_ms 4 rfl) rfl
theorem qs5 : (Cond.selects "EphemeronHeap" ⟨"EphemeronHeap", "lookAtPairs", "()V"⟩ ⟨"EphemeronHeap", "lookAtPairs", "()V"⟩) ∈ lw_all := lw_g (lw_at lw_ms 5 rfl) rfl
theorem qs6 : (Cond.selects "EphemeronHeap" ⟨"EphemeronHeap", "isCopied", "(I)Z"⟩ ⟨"EphemeronHeap", "isCopied", "(I)Z"⟩) ∈ lw_all := lw_g (lw_at lw_ms 6 rfl) rfl
theorem qs7 : (Cond.selects "EphemeronHeap" ⟨"EphemeronHeap", "rescue", "()V"⟩ ⟨"EphemeronHeap", "rescue", "()V"⟩) ∈ lw_all := lw_g (lw_at lw_ms 7 rfl) rfl
theorem qs8 : (Cond.selects "EphemeronHeap" ⟨"EphemeronHeap", "mend", "(I)V"⟩ ⟨"EphemeronHeap", "mend", "(I)V"⟩) ∈ lw_all := lw_g (lw_at lw_ms 8 rfl) rfl
theorem qs9 : (Cond.selects "EphemeronHeap" ⟨"EphemeronHeap", "moved", "(I)I"⟩ ⟨"EphemeronHeap", "moved", "(I)I"⟩) ∈ lw_all := lw_g (lw_at lw_ms 9 rfl) rfl
theorem qs10 : (Cond.selects "EphemeronHeap" ⟨"EphemeronHeap", "living", "()I"⟩ ⟨"EphemeronHeap", "living", "()I"⟩) ∈ lw_all := lw_g (lw_at lw_ms 10 rfl) rfl
theorem qs11 : (Cond.selects "EphemeronHeap" ⟨"EphemeronHeap", "numberAt", "(I)I"⟩ ⟨"EphemeronHeap", "numberAt", "(I)I"⟩) ∈ lw_all := lw_g (lw_at lw_ms 11 rfl) rfl
theorem qs12 : (Cond.selects "EphemeronHeapModel" ⟨"EphemeronHeapModel", "is", "(I)Z"⟩ ⟨"EphemeronHeapModel", "is", "(I)Z"⟩) ∈ lw_all := lw_g (lw_at lw_ms 12 rfl) rfl
theorem qs13 : (Cond.selects "EphemeronHeapModel" ⟨"EphemeronHeapModel", "living", "()I"⟩ ⟨"EphemeronHeapModel", "living", "()I"⟩) ∈ lw_all := lw_g (lw_at lw_ms 13 rfl) rfl
theorem qs14 : (Cond.selects "EphemeronHeapModel" ⟨"EphemeronHeapModel", "bit", "(I)I"⟩ ⟨"EphemeronHeapModel", "bit", "(I)I"⟩) ∈ lw_all := lw_g (lw_at lw_ms 14 rfl) rfl
end
section
/-! EphemeronHeap -/
set_option maxRecDepth 100000
def RX0 : String := "EphemeronHeap"
def TX0 : u_T := fun k => match k with
  | 0 => ("EphemeronHeap", "present", "I", false)
  | 1 => ("EphemeronHeap", "watchedSet", "I", false)
  | 2 => ("EphemeronHeap", "placeOf", "[B", true)
  | 3 => ("EphemeronHeap", "space", "I", false)
  | 4 => ("EphemeronHeap", "used", "I", false)
  | 5 => ("EphemeronHeap", "numbers", "[B", true)
  | 6 => ("EphemeronHeap", "kinds", "[B", true)
  | 7 => ("EphemeronHeap", "fieldA", "[B", true)
  | 8 => ("EphemeronHeap", "fieldB", "[B", true)
  | 9 => ("EphemeronHeap", "newPlace", "[B", true)
  | 10 => ("EphemeronHeap", "copied", "I", false)
  | 11 => ("EphemeronHeap", "scanned", "I", false)
  | 12 => ("EphemeronHeap", "roots", "[B", true)
  | 13 => ("EphemeronHeap", "queue", "[B", true)
  | _ => ("EphemeronHeap", "queueSize", "I", false)
def tyX0 : Nat → FieldType := fun k => match k with
  | 0 => .int
  | 1 => .int
  | 2 => .array .byte
  | 3 => .int
  | 4 => .int
  | 5 => .array .byte
  | 6 => .array .byte
  | 7 => .array .byte
  | 8 => .array .byte
  | 9 => .array .byte
  | 10 => .int
  | 11 => .int
  | 12 => .array .byte
  | 13 => .array .byte
  | _ => .int
abbrev wsX00 : List Cond := u_ws RX0 TX0 15
set_option maxRecDepth 100000 in
theorem nmX0 : ∀ a, a < 15 → ∀ b, b < 15 → a ≠ b → (TX0 a).2.1 ≠ (TX0 b).2.1 := by decide +kernel
set_option maxRecDepth 100000 in
theorem tyX0_ok : ∀ k, k < 15 → parseFieldDescriptor (TX0 k).2.2.1 = some (tyX0 k) := by decide +kernel
abbrev cX0_init : ByteArray := prog_1_method_1_code
def yX0_init : MethodName := ⟨RX0, "<init>", "()V"⟩
abbrev cX0_make : ByteArray := prog_1_method_5_code
def yX0_make : MethodName := ⟨RX0, "make", "(II)I"⟩
abbrev cX0_isRoot : ByteArray := prog_1_method_3_code
def yX0_isRoot : MethodName := ⟨RX0, "isRoot", "(I)Z"⟩
abbrev cX0_has : ByteArray := prog_1_method_2_code
def yX0_has : MethodName := ⟨RX0, "has", "(I)Z"⟩
abbrev cX0_point : ByteArray := prog_1_method_7_code
def yX0_point : MethodName := ⟨RX0, "point", "(III)Z"⟩
abbrev cX0_placeFor : ByteArray := prog_1_method_6_code
def yX0_placeFor : MethodName := ⟨RX0, "placeFor", "(I)I"⟩
abbrev cX0_root : ByteArray := prog_1_method_8_code
def yX0_root : MethodName := ⟨RX0, "root", "(II)Z"⟩
abbrev cX0_watch : ByteArray := prog_1_method_9_code
def yX0_watch : MethodName := ⟨RX0, "watch", "(I)Z"⟩
abbrev cX0_clean : ByteArray := prog_1_method_18_code
def yX0_clean : MethodName := ⟨RX0, "clean", "()I"⟩
abbrev cX0_copyLiving : ByteArray := prog_1_method_16_code
def yX0_copyLiving : MethodName := ⟨RX0, "copyLiving", "()V"⟩
abbrev cX0_copy : ByteArray := prog_1_method_11_code
def yX0_copy : MethodName := ⟨RX0, "copy", "(I)V"⟩
abbrev cX0_spread : ByteArray := prog_1_method_12_code
def yX0_spread : MethodName := ⟨RX0, "spread", "()V"⟩
abbrev cX0_lookAtPairs : ByteArray := prog_1_method_13_code
def yX0_lookAtPairs : MethodName := ⟨RX0, "lookAtPairs", "()V"⟩
abbrev cX0_isCopied : ByteArray := prog_1_method_10_code
def yX0_isCopied : MethodName := ⟨RX0, "isCopied", "(I)Z"⟩
abbrev cX0_rescue : ByteArray := prog_1_method_17_code
def yX0_rescue : MethodName := ⟨RX0, "rescue", "()V"⟩
abbrev cX0_mend : ByteArray := prog_1_method_15_code
def yX0_mend : MethodName := ⟨RX0, "mend", "(I)V"⟩
abbrev cX0_moved : ByteArray := prog_1_method_14_code
def yX0_moved : MethodName := ⟨RX0, "moved", "(I)I"⟩
abbrev cX0_ones : ByteArray := prog_1_method_4_code
def yX0_ones : MethodName := ⟨RX0, "ones", "(I)I"⟩
abbrev cX0_take : ByteArray := prog_1_method_19_code
def yX0_take : MethodName := ⟨RX0, "take", "(I)I"⟩
abbrev cX0_objects : ByteArray := prog_1_method_20_code
def yX0_objects : MethodName := ⟨RX0, "objects", "()I"⟩
abbrev cX0_there : ByteArray := prog_1_method_21_code
def yX0_there : MethodName := ⟨RX0, "there", "()I"⟩
abbrev cX0_alive : ByteArray := prog_1_method_23_code
def yX0_alive : MethodName := ⟨RX0, "alive", "()I"⟩
abbrev cX0_living : ByteArray := prog_1_method_22_code
def yX0_living : MethodName := ⟨RX0, "living", "()I"⟩
abbrev cX0_field : ByteArray := prog_1_method_25_code
def yX0_field : MethodName := ⟨RX0, "field", "(II)I"⟩
abbrev cX0_numberAt : ByteArray := prog_1_method_24_code
def yX0_numberAt : MethodName := ⟨RX0, "numberAt", "(I)I"⟩
abbrev cX0_kind : ByteArray := prog_1_method_26_code
def yX0_kind : MethodName := ⟨RX0, "kind", "(I)I"⟩
abbrev cX0_rootOf : ByteArray := prog_1_method_27_code
def yX0_rootOf : MethodName := ⟨RX0, "rootOf", "(I)I"⟩
abbrev cX0_queued : ByteArray := prog_1_method_28_code
def yX0_queued : MethodName := ⟨RX0, "queued", "()I"⟩
abbrev cX0_watched : ByteArray := prog_1_method_29_code
def yX0_watched : MethodName := ⟨RX0, "watched", "()I"⟩
abbrev cX0_heldBy : ByteArray := prog_1_method_30_code
def yX0_heldBy : MethodName := ⟨RX0, "heldBy", "(I)I"⟩
/-! EphemeronHeapModel -/
set_option maxRecDepth 100000
def RX1 : String := "EphemeronHeapModel"
def TX1 : u_T := fun k => match k with
  | 0 => ("EphemeronHeapModel", "here", "[Z", false)
  | 1 => ("EphemeronHeapModel", "kinds", "[I", false)
  | 2 => ("EphemeronHeapModel", "eyes", "[Z", false)
  | 3 => ("EphemeronHeapModel", "as", "[I", false)
  | 4 => ("EphemeronHeapModel", "bs", "[I", false)
  | 5 => ("EphemeronHeapModel", "roots", "[I", false)
  | 6 => ("EphemeronHeapModel", "waiting", "I", false)
  | _ => ("EphemeronHeapModel", "queue", "[I", false)
def tyX1 : Nat → FieldType := fun k => match k with
  | 0 => .array .boolean
  | 1 => .array .int
  | 2 => .array .boolean
  | 3 => .array .int
  | 4 => .array .int
  | 5 => .array .int
  | 6 => .int
  | _ => .array .int
abbrev wsX10 : List Cond := u_ws RX1 TX1 8
theorem nmX1 : ∀ a, a < 8 → ∀ b, b < 8 → a ≠ b → (TX1 a).2.1 ≠ (TX1 b).2.1 := by decide +kernel
theorem tyX1_ok : ∀ k, k < 8 → parseFieldDescriptor (TX1 k).2.2.1 = some (tyX1 k) := by decide +kernel
abbrev cX1_init : ByteArray := prog_3_method_1_code
def yX1_init : MethodName := ⟨RX1, "<init>", "()V"⟩
abbrev cX1_make : ByteArray := prog_3_method_3_code
def yX1_make : MethodName := ⟨RX1, "make", "(II)I"⟩
abbrev cX1_point : ByteArray := prog_3_method_4_code
def yX1_point : MethodName := ⟨RX1, "point", "(III)Z"⟩
abbrev cX1_is : ByteArray := prog_3_method_2_code
def yX1_is : MethodName := ⟨RX1, "is", "(I)Z"⟩
abbrev cX1_root : ByteArray := prog_3_method_5_code
def yX1_root : MethodName := ⟨RX1, "root", "(II)Z"⟩
abbrev cX1_watch : ByteArray := prog_3_method_6_code
def yX1_watch : MethodName := ⟨RX1, "watch", "(I)Z"⟩
abbrev cX1_clean : ByteArray := prog_3_method_9_code
def yX1_clean : MethodName := ⟨RX1, "clean", "()I"⟩
abbrev cX1_living : ByteArray := prog_3_method_8_code
def yX1_living : MethodName := ⟨RX1, "living", "()I"⟩
abbrev cX1_bit : ByteArray := prog_3_method_7_code
def yX1_bit : MethodName := ⟨RX1, "bit", "(I)I"⟩
abbrev cX1_take : ByteArray := prog_3_method_10_code
def yX1_take : MethodName := ⟨RX1, "take", "(I)I"⟩
abbrev cX1_objects : ByteArray := prog_3_method_11_code
def yX1_objects : MethodName := ⟨RX1, "objects", "()I"⟩
abbrev cX1_there : ByteArray := prog_3_method_12_code
def yX1_there : MethodName := ⟨RX1, "there", "()I"⟩
abbrev cX1_alive : ByteArray := prog_3_method_13_code
def yX1_alive : MethodName := ⟨RX1, "alive", "()I"⟩
abbrev cX1_field : ByteArray := prog_3_method_14_code
def yX1_field : MethodName := ⟨RX1, "field", "(II)I"⟩
abbrev cX1_kind : ByteArray := prog_3_method_15_code
def yX1_kind : MethodName := ⟨RX1, "kind", "(I)I"⟩
abbrev cX1_rootOf : ByteArray := prog_3_method_16_code
def yX1_rootOf : MethodName := ⟨RX1, "rootOf", "(I)I"⟩
abbrev cX1_queued : ByteArray := prog_3_method_17_code
def yX1_queued : MethodName := ⟨RX1, "queued", "()I"⟩
abbrev cX1_watched : ByteArray := prog_3_method_18_code
def yX1_watched : MethodName := ⟨RX1, "watched", "()I"⟩
abbrev cX1_heldBy : ByteArray := prog_3_method_19_code
def yX1_heldBy : MethodName := ⟨RX1, "heldBy", "(I)I"⟩
/-! java/lang/Object -/
set_option maxRecDepth 100000
def RJ0 : String := "java/lang/Object"
abbrev cJ0_init : ByteArray := object_method_1_code
def yJ0_init : MethodName := ⟨RJ0, "<init>", "()V"⟩
theorem dJ0_init_0 : decode cJ0_init 0 = .ok (.return_, 1) := by decide +kernel
theorem q24 : (Jvm.Cond.instanceMethod ({ cls := "java/lang/Object", name := "<init>", desc := "()V" } : Jvm.MethodName)) ∈ lw_all := lw_g (lw_at lw_m1 9 rfl) rfl
theorem q25 : (Jvm.Cond.code ({ cls := "java/lang/Object", name := "<init>", desc := "()V" } : Jvm.MethodName) object_method_1_code (1 : Nat) (Option.none : Option Jvm.ClassFile.FieldType)) ∈ lw_all := lw_g (lw_at lw_m1 10 rfl) rfl
theorem q72 : (Jvm.Cond.arrayClass Jvm.ClassFile.FieldType.byte) ∈ lw_all := lw_g (lw_at lw_m1 57 rfl) rfl
set_option maxRecDepth 100000
theorem q218 : (Jvm.Cond.arrayClass Jvm.ClassFile.FieldType.boolean) ∈ lw_all := lw_g (lw_at lw_m1 203 rfl) rfl
theorem q219 : (Jvm.Cond.arrayClass Jvm.ClassFile.FieldType.int) ∈ lw_all := lw_g (lw_at lw_m1 204 rfl) rfl
end
section
set_option maxRecDepth 100000
theorem q16 : (Jvm.Cond.initialized "EphemeronHeap") ∈ lw_all := lw_g (lw_at lw_m1 1 rfl) rfl
theorem q19 : (Jvm.Cond.instantiable "EphemeronHeap" (15 : Nat)) ∈ lw_all := lw_g (lw_at lw_m1 4 rfl) rfl
theorem q21 : (Jvm.Cond.instanceMethod ({ cls := "EphemeronHeap", name := "<init>", desc := "()V" } : Jvm.MethodName)) ∈ lw_all := lw_g (lw_at lw_m1 6 rfl) rfl
theorem q22 : (Jvm.Cond.code ({ cls := "EphemeronHeap", name := "<init>", desc := "()V" } : Jvm.MethodName) prog_1_method_1_code (2 : Nat) (Option.none : Option Jvm.ClassFile.FieldType)) ∈ lw_all := lw_g (lw_at lw_m1 7 rfl) rfl
theorem q23 : (Jvm.Cond.methodLink "EphemeronHeap" (1 : Nat) ({ cls := "java/lang/Object", name := "<init>", desc := "()V" } : Jvm.MethodName)) ∈ lw_all := lw_g (lw_at lw_m1 8 rfl) rfl
theorem q26 : (Jvm.Cond.fieldLink "EphemeronHeap" (34 : Nat) "EphemeronHeap" "present" "I") ∈ lw_all := lw_g (lw_at lw_m1 11 rfl) rfl
theorem q27 : (Jvm.Cond.fieldLink "EphemeronHeap" (51 : Nat) "EphemeronHeap" "watchedSet" "I") ∈ lw_all := lw_g (lw_at lw_m1 12 rfl) rfl
theorem q28 : (Jvm.Cond.fieldLink "EphemeronHeap" (7 : Nat) "EphemeronHeap" "placeOf" "[B") ∈ lw_all := lw_g (lw_at lw_m1 13 rfl) rfl
theorem q29 : (Jvm.Cond.fieldLink "EphemeronHeap" (45 : Nat) "EphemeronHeap" "space" "I") ∈ lw_all := lw_g (lw_at lw_m1 14 rfl) rfl
theorem q30 : (Jvm.Cond.fieldLink "EphemeronHeap" (48 : Nat) "EphemeronHeap" "used" "I") ∈ lw_all := lw_g (lw_at lw_m1 15 rfl) rfl
theorem q31 : (Jvm.Cond.fieldLink "EphemeronHeap" (13 : Nat) "EphemeronHeap" "numbers" "[B") ∈ lw_all := lw_g (lw_at lw_m1 16 rfl) rfl
theorem q32 : (Jvm.Cond.fieldLink "EphemeronHeap" (16 : Nat) "EphemeronHeap" "kinds" "[B") ∈ lw_all := lw_g (lw_at lw_m1 17 rfl) rfl
theorem q33 : (Jvm.Cond.fieldLink "EphemeronHeap" (19 : Nat) "EphemeronHeap" "fieldA" "[B") ∈ lw_all := lw_g (lw_at lw_m1 18 rfl) rfl
theorem q34 : (Jvm.Cond.fieldLink "EphemeronHeap" (22 : Nat) "EphemeronHeap" "fieldB" "[B") ∈ lw_all := lw_g (lw_at lw_m1 19 rfl) rfl
theorem q35 : (Jvm.Cond.fieldLink "EphemeronHeap" (25 : Nat) "EphemeronHeap" "newPlace" "[B") ∈ lw_all := lw_g (lw_at lw_m1 20 rfl) rfl
theorem q36 : (Jvm.Cond.fieldLink "EphemeronHeap" (58 : Nat) "EphemeronHeap" "copied" "I") ∈ lw_all := lw_g (lw_at lw_m1 21 rfl) rfl
theorem q37 : (Jvm.Cond.fieldLink "EphemeronHeap" (61 : Nat) "EphemeronHeap" "scanned" "I") ∈ lw_all := lw_g (lw_at lw_m1 22 rfl) rfl
theorem q38 : (Jvm.Cond.fieldLink "EphemeronHeap" (28 : Nat) "EphemeronHeap" "roots" "[B") ∈ lw_all := lw_g (lw_at lw_m1 23 rfl) rfl
theorem q39 : (Jvm.Cond.fieldLink "EphemeronHeap" (31 : Nat) "EphemeronHeap" "queue" "[B") ∈ lw_all := lw_g (lw_at lw_m1 24 rfl) rfl
theorem q40 : (Jvm.Cond.fieldLink "EphemeronHeap" (77 : Nat) "EphemeronHeap" "queueSize" "I") ∈ lw_all := lw_g (lw_at lw_m1 25 rfl) rfl
theorem q41 : (Jvm.Cond.lays "EphemeronHeap" "EphemeronHeap" "present" "I") ∈ lw_all := lw_g (lw_at lw_m1 26 rfl) rfl
theorem q42 : (Jvm.Cond.soleField "EphemeronHeap" "present") ∈ lw_all := lw_g (lw_at lw_m1 27 rfl) rfl
theorem q43 : (Jvm.Cond.lays "EphemeronHeap" "EphemeronHeap" "watchedSet" "I") ∈ lw_all := lw_g (lw_at lw_m1 28 rfl) rfl
theorem q44 : (Jvm.Cond.soleField "EphemeronHeap" "watchedSet") ∈ lw_all := lw_g (lw_at lw_m1 29 rfl) rfl
theorem q45 : (Jvm.Cond.laysFinal "EphemeronHeap" "EphemeronHeap" "placeOf" "[B") ∈ lw_all := lw_g (lw_at lw_m1 30 rfl) rfl
theorem q46 : (Jvm.Cond.soleField "EphemeronHeap" "placeOf") ∈ lw_all := lw_g (lw_at lw_m1 31 rfl) rfl
theorem q47 : (Jvm.Cond.lays "EphemeronHeap" "EphemeronHeap" "space" "I") ∈ lw_all := lw_g (lw_at lw_m1 32 rfl) rfl
theorem q48 : (Jvm.Cond.soleField "EphemeronHeap" "space") ∈ lw_all := lw_g (lw_at lw_m1 33 rfl) rfl
theorem q49 : (Jvm.Cond.lays "EphemeronHeap" "EphemeronHeap" "used" "I") ∈ lw_all := lw_g (lw_at lw_m1 34 rfl) rfl
theorem q50 : (Jvm.Cond.soleField "EphemeronHeap" "used") ∈ lw_all := lw_g (lw_at lw_m1 35 rfl) rfl
theorem q51 : (Jvm.Cond.laysFinal "EphemeronHeap" "EphemeronHeap" "numbers" "[B") ∈ lw_all := lw_g (lw_at lw_m1 36 rfl) rfl
theorem q52 : (Jvm.Cond.soleField "EphemeronHeap" "numbers") ∈ lw_all := lw_g (lw_at lw_m1 37 rfl) rfl
theorem q53 : (Jvm.Cond.laysFinal "EphemeronHeap" "EphemeronHeap" "kinds" "[B") ∈ lw_all := lw_g (lw_at lw_m1 38 rfl) rfl
theorem q54 : (Jvm.Cond.soleField "EphemeronHeap" "kinds") ∈ lw_all := lw_g (lw_at lw_m1 39 rfl) rfl
theorem q55 : (Jvm.Cond.laysFinal "EphemeronHeap" "EphemeronHeap" "fieldA" "[B") ∈ lw_all := lw_g (lw_at lw_m1 40 rfl) rfl
theorem q56 : (Jvm.Cond.soleField "EphemeronHeap" "fieldA") ∈ lw_all := lw_g (lw_at lw_m1 41 rfl) rfl
theorem q57 : (Jvm.Cond.laysFinal "EphemeronHeap" "EphemeronHeap" "fieldB" "[B") ∈ lw_all := lw_g (lw_at lw_m1 42 rfl) rfl
theorem q58 : (Jvm.Cond.soleField "EphemeronHeap" "fieldB") ∈ lw_all := lw_g (lw_at lw_m1 43 rfl) rfl
theorem q59 : (Jvm.Cond.laysFinal "EphemeronHeap" "EphemeronHeap" "newPlace" "[B") ∈ lw_all := lw_g (lw_at lw_m1 44 rfl) rfl
theorem q60 : (Jvm.Cond.soleField "EphemeronHeap" "newPlace") ∈ lw_all := lw_g (lw_at lw_m1 45 rfl) rfl
theorem q61 : (Jvm.Cond.lays "EphemeronHeap" "EphemeronHeap" "copied" "I") ∈ lw_all := lw_g (lw_at lw_m1 46 rfl) rfl
theorem q62 : (Jvm.Cond.soleField "EphemeronHeap" "copied") ∈ lw_all := lw_g (lw_at lw_m1 47 rfl) rfl
theorem q63 : (Jvm.Cond.lays "EphemeronHeap" "EphemeronHeap" "scanned" "I") ∈ lw_all := lw_g (lw_at lw_m1 48 rfl) rfl
theorem q64 : (Jvm.Cond.soleField "EphemeronHeap" "scanned") ∈ lw_all := lw_g (lw_at lw_m1 49 rfl) rfl
theorem q65 : (Jvm.Cond.laysFinal "EphemeronHeap" "EphemeronHeap" "roots" "[B") ∈ lw_all := lw_g (lw_at lw_m1 50 rfl) rfl
theorem q66 : (Jvm.Cond.soleField "EphemeronHeap" "roots") ∈ lw_all := lw_g (lw_at lw_m1 51 rfl) rfl
theorem q67 : (Jvm.Cond.laysFinal "EphemeronHeap" "EphemeronHeap" "queue" "[B") ∈ lw_all := lw_g (lw_at lw_m1 52 rfl) rfl
theorem q68 : (Jvm.Cond.soleField "EphemeronHeap" "queue") ∈ lw_all := lw_g (lw_at lw_m1 53 rfl) rfl
theorem q69 : (Jvm.Cond.lays "EphemeronHeap" "EphemeronHeap" "queueSize" "I") ∈ lw_all := lw_g (lw_at lw_m1 54 rfl) rfl
theorem q70 : (Jvm.Cond.soleField "EphemeronHeap" "queueSize") ∈ lw_all := lw_g (lw_at lw_m1 55 rfl) rfl
theorem q71 : (Jvm.Cond.superclass "EphemeronHeap" "java/lang/Object") ∈ lw_all := lw_g (lw_at lw_m1 56 rfl) rfl
theorem q74 : (Jvm.Cond.instanceMethod ({ cls := "EphemeronHeap", name := "make", desc := "(II)I" } : Jvm.MethodName)) ∈ lw_all := lw_g (lw_at lw_m1 59 rfl) rfl
theorem q75 : (Jvm.Cond.selects "EphemeronHeap" ({ cls := "EphemeronHeap", name := "make", desc := "(II)I" } : Jvm.MethodName) ({ cls := "EphemeronHeap", name := "make", desc := "(II)I" } : Jvm.MethodName)) ∈ lw_all := lw_g (lw_at lw_m1 60 rfl) rfl
theorem q76 : (Jvm.Cond.code ({ cls := "EphemeronHeap", name := "make", desc := "(II)I" } : Jvm.MethodName) prog_1_method_5_code (5 : Nat) (Option.some Jvm.ClassFile.FieldType.int)) ∈ lw_all := lw_g (lw_at lw_m1 61 rfl) rfl
theorem q77 : (Jvm.Cond.methodLink "EphemeronHeap" (38 : Nat) ({ cls := "EphemeronHeap", name := "isRoot", desc := "(I)Z" } : Jvm.MethodName)) ∈ lw_all := lw_g (lw_at lw_m1 62 rfl) rfl
theorem q78 : (Jvm.Cond.static ({ cls := "EphemeronHeap", name := "isRoot", desc := "(I)Z" } : Jvm.MethodName)) ∈ lw_all := lw_g (lw_at lw_m1 63 rfl) rfl
theorem q79 : (Jvm.Cond.code ({ cls := "EphemeronHeap", name := "isRoot", desc := "(I)Z" } : Jvm.MethodName) prog_1_method_3_code (1 : Nat) (Option.some Jvm.ClassFile.FieldType.boolean)) ∈ lw_all := lw_g (lw_at lw_m1 64 rfl) rfl
theorem q80 : (Jvm.Cond.methodLink "EphemeronHeap" (42 : Nat) ({ cls := "EphemeronHeap", name := "has", desc := "(I)Z" } : Jvm.MethodName)) ∈ lw_all := lw_g (lw_at lw_m1 65 rfl) rfl
theorem q81 : (Jvm.Cond.privateMethod ({ cls := "EphemeronHeap", name := "has", desc := "(I)Z" } : Jvm.MethodName)) ∈ lw_tbl := lw_at lw_m1 66 rfl
theorem q82 : (Jvm.Cond.instanceMethod ({ cls := "EphemeronHeap", name := "has", desc := "(I)Z" } : Jvm.MethodName)) ∈ lw_all := lw_g (lw_at lw_m1 67 rfl) rfl
theorem q83 : (Jvm.Cond.code ({ cls := "EphemeronHeap", name := "has", desc := "(I)Z" } : Jvm.MethodName) prog_1_method_2_code (2 : Nat) (Option.some Jvm.ClassFile.FieldType.boolean)) ∈ lw_all := lw_g (lw_at lw_m1 68 rfl) rfl
theorem q85 : (Jvm.Cond.instanceMethod ({ cls := "EphemeronHeap", name := "point", desc := "(III)Z" } : Jvm.MethodName)) ∈ lw_all := lw_g (lw_at lw_m1 70 rfl) rfl
theorem q86 : (Jvm.Cond.selects "EphemeronHeap" ({ cls := "EphemeronHeap", name := "point", desc := "(III)Z" } : Jvm.MethodName) ({ cls := "EphemeronHeap", name := "point", desc := "(III)Z" } : Jvm.MethodName)) ∈ lw_all := lw_g (lw_at lw_m1 71 rfl) rfl
theorem q87 : (Jvm.Cond.code ({ cls := "EphemeronHeap", name := "point", desc := "(III)Z" } : Jvm.MethodName) prog_1_method_7_code (4 : Nat) (Option.some Jvm.ClassFile.FieldType.boolean)) ∈ lw_all := lw_g (lw_at lw_m1 72 rfl) rfl
theorem q88 : (Jvm.Cond.methodLink "EphemeronHeap" (54 : Nat) ({ cls := "EphemeronHeap", name := "placeFor", desc := "(I)I" } : Jvm.MethodName)) ∈ lw_all := lw_g (lw_at lw_m1 73 rfl) rfl
theorem q89 : (Jvm.Cond.privateMethod ({ cls := "EphemeronHeap", name := "placeFor", desc := "(I)I" } : Jvm.MethodName)) ∈ lw_tbl := lw_at lw_m1 74 rfl
theorem q90 : (Jvm.Cond.instanceMethod ({ cls := "EphemeronHeap", name := "placeFor", desc := "(I)I" } : Jvm.MethodName)) ∈ lw_all := lw_g (lw_at lw_m1 75 rfl) rfl
theorem q91 : (Jvm.Cond.code ({ cls := "EphemeronHeap", name := "placeFor", desc := "(I)I" } : Jvm.MethodName) prog_1_method_6_code (2 : Nat) (Option.some Jvm.ClassFile.FieldType.int)) ∈ lw_all := lw_g (lw_at lw_m1 76 rfl) rfl
theorem q93 : (Jvm.Cond.instanceMethod ({ cls := "EphemeronHeap", name := "root", desc := "(II)Z" } : Jvm.MethodName)) ∈ lw_all := lw_g (lw_at lw_m1 78 rfl) rfl
theorem q94 : (Jvm.Cond.selects "EphemeronHeap" ({ cls := "EphemeronHeap", name := "root", desc := "(II)Z" } : Jvm.MethodName) ({ cls := "EphemeronHeap", name := "root", desc := "(II)Z" } : Jvm.MethodName)) ∈ lw_all := lw_g (lw_at lw_m1 79 rfl) rfl
theorem q95 : (Jvm.Cond.code ({ cls := "EphemeronHeap", name := "root", desc := "(II)Z" } : Jvm.MethodName) prog_1_method_8_code (3 : Nat) (Option.some Jvm.ClassFile.FieldType.boolean)) ∈ lw_all := lw_g (lw_at lw_m1 80 rfl) rfl
theorem q97 : (Jvm.Cond.instanceMethod ({ cls := "EphemeronHeap", name := "watch", desc := "(I)Z" } : Jvm.MethodName)) ∈ lw_all := lw_g (lw_at lw_m1 82 rfl) rfl
theorem q98 : (Jvm.Cond.selects "EphemeronHeap" ({ cls := "EphemeronHeap", name := "watch", desc := "(I)Z" } : Jvm.MethodName) ({ cls := "EphemeronHeap", name := "watch", desc := "(I)Z" } : Jvm.MethodName)) ∈ lw_all := lw_g (lw_at lw_m1 83 rfl) rfl
theorem q99 : (Jvm.Cond.code ({ cls := "EphemeronHeap", name := "watch", desc := "(I)Z" } : Jvm.MethodName) prog_1_method_9_code (2 : Nat) (Option.some Jvm.ClassFile.FieldType.boolean)) ∈ lw_all := lw_g (lw_at lw_m1 84 rfl) rfl
theorem q101 : (Jvm.Cond.instanceMethod ({ cls := "EphemeronHeap", name := "clean", desc := "()I" } : Jvm.MethodName)) ∈ lw_all := lw_g (lw_at lw_m1 86 rfl) rfl
theorem q102 : (Jvm.Cond.selects "EphemeronHeap" ({ cls := "EphemeronHeap", name := "clean", desc := "()I" } : Jvm.MethodName) ({ cls := "EphemeronHeap", name := "clean", desc := "()I" } : Jvm.MethodName)) ∈ lw_all := lw_g (lw_at lw_m1 87 rfl) rfl
theorem q103 : (Jvm.Cond.code ({ cls := "EphemeronHeap", name := "clean", desc := "()I" } : Jvm.MethodName) prog_1_method_18_code (5 : Nat) (Option.some Jvm.ClassFile.FieldType.int)) ∈ lw_all := lw_g (lw_at lw_m1 88 rfl) rfl
theorem q104 : (Jvm.Cond.methodLink "EphemeronHeap" (83 : Nat) ({ cls := "EphemeronHeap", name := "copyLiving", desc := "()V" } : Jvm.MethodName)) ∈ lw_all := lw_g (lw_at lw_m1 89 rfl) rfl
theorem q105 : (Jvm.Cond.privateMethod ({ cls := "EphemeronHeap", name := "copyLiving", desc := "()V" } : Jvm.MethodName)) ∈ lw_tbl := lw_at lw_m1 90 rfl
theorem q106 : (Jvm.Cond.instanceMethod ({ cls := "EphemeronHeap", name := "copyLiving", desc := "()V" } : Jvm.MethodName)) ∈ lw_all := lw_g (lw_at lw_m1 91 rfl) rfl
theorem q107 : (Jvm.Cond.code ({ cls := "EphemeronHeap", name := "copyLiving", desc := "()V" } : Jvm.MethodName) prog_1_method_16_code (2 : Nat) (Option.none : Option Jvm.ClassFile.FieldType)) ∈ lw_all := lw_g (lw_at lw_m1 92 rfl) rfl
theorem q108 : (Jvm.Cond.methodLink "EphemeronHeap" (64 : Nat) ({ cls := "EphemeronHeap", name := "copy", desc := "(I)V" } : Jvm.MethodName)) ∈ lw_all := lw_g (lw_at lw_m1 93 rfl) rfl
theorem q109 : (Jvm.Cond.privateMethod ({ cls := "EphemeronHeap", name := "copy", desc := "(I)V" } : Jvm.MethodName)) ∈ lw_tbl := lw_at lw_m1 94 rfl
theorem q110 : (Jvm.Cond.instanceMethod ({ cls := "EphemeronHeap", name := "copy", desc := "(I)V" } : Jvm.MethodName)) ∈ lw_all := lw_g (lw_at lw_m1 95 rfl) rfl
theorem q111 : (Jvm.Cond.code ({ cls := "EphemeronHeap", name := "copy", desc := "(I)V" } : Jvm.MethodName) prog_1_method_11_code (3 : Nat) (Option.none : Option Jvm.ClassFile.FieldType)) ∈ lw_all := lw_g (lw_at lw_m1 96 rfl) rfl
theorem q112 : (Jvm.Cond.methodLink "EphemeronHeap" (80 : Nat) ({ cls := "EphemeronHeap", name := "spread", desc := "()V" } : Jvm.MethodName)) ∈ lw_all := lw_g (lw_at lw_m1 97 rfl) rfl
theorem q113 : (Jvm.Cond.privateMethod ({ cls := "EphemeronHeap", name := "spread", desc := "()V" } : Jvm.MethodName)) ∈ lw_tbl := lw_at lw_m1 98 rfl
theorem q114 : (Jvm.Cond.instanceMethod ({ cls := "EphemeronHeap", name := "spread", desc := "()V" } : Jvm.MethodName)) ∈ lw_all := lw_g (lw_at lw_m1 99 rfl) rfl
theorem q115 : (Jvm.Cond.code ({ cls := "EphemeronHeap", name := "spread", desc := "()V" } : Jvm.MethodName) prog_1_method_12_code (4 : Nat) (Option.none : Option Jvm.ClassFile.FieldType)) ∈ lw_all := lw_g (lw_at lw_m1 100 rfl) rfl
theorem q116 : (Jvm.Cond.methodLink "EphemeronHeap" (68 : Nat) ({ cls := "EphemeronHeap", name := "lookAtPairs", desc := "()V" } : Jvm.MethodName)) ∈ lw_all := lw_g (lw_at lw_m1 101 rfl) rfl
theorem q117 : (Jvm.Cond.privateMethod ({ cls := "EphemeronHeap", name := "lookAtPairs", desc := "()V" } : Jvm.MethodName)) ∈ lw_tbl := lw_at lw_m1 102 rfl
theorem q118 : (Jvm.Cond.instanceMethod ({ cls := "EphemeronHeap", name := "lookAtPairs", desc := "()V" } : Jvm.MethodName)) ∈ lw_all := lw_g (lw_at lw_m1 103 rfl) rfl
theorem q119 : (Jvm.Cond.code ({ cls := "EphemeronHeap", name := "lookAtPairs", desc := "()V" } : Jvm.MethodName) prog_1_method_13_code (3 : Nat) (Option.none : Option Jvm.ClassFile.FieldType)) ∈ lw_all := lw_g (lw_at lw_m1 104 rfl) rfl
theorem q120 : (Jvm.Cond.methodLink "EphemeronHeap" (71 : Nat) ({ cls := "EphemeronHeap", name := "isCopied", desc := "(I)Z" } : Jvm.MethodName)) ∈ lw_all := lw_g (lw_at lw_m1 105 rfl) rfl
theorem q121 : (Jvm.Cond.privateMethod ({ cls := "EphemeronHeap", name := "isCopied", desc := "(I)Z" } : Jvm.MethodName)) ∈ lw_tbl := lw_at lw_m1 106 rfl
theorem q122 : (Jvm.Cond.instanceMethod ({ cls := "EphemeronHeap", name := "isCopied", desc := "(I)Z" } : Jvm.MethodName)) ∈ lw_all := lw_g (lw_at lw_m1 107 rfl) rfl
theorem q123 : (Jvm.Cond.code ({ cls := "EphemeronHeap", name := "isCopied", desc := "(I)Z" } : Jvm.MethodName) prog_1_method_10_code (2 : Nat) (Option.some Jvm.ClassFile.FieldType.boolean)) ∈ lw_all := lw_g (lw_at lw_m1 108 rfl) rfl
theorem q124 : (Jvm.Cond.methodLink "EphemeronHeap" (86 : Nat) ({ cls := "EphemeronHeap", name := "rescue", desc := "()V" } : Jvm.MethodName)) ∈ lw_all := lw_g (lw_at lw_m1 109 rfl) rfl
theorem q125 : (Jvm.Cond.privateMethod ({ cls := "EphemeronHeap", name := "rescue", desc := "()V" } : Jvm.MethodName)) ∈ lw_tbl := lw_at lw_m1 110 rfl
theorem q126 : (Jvm.Cond.instanceMethod ({ cls := "EphemeronHeap", name := "rescue", desc := "()V" } : Jvm.MethodName)) ∈ lw_all := lw_g (lw_at lw_m1 111 rfl) rfl
theorem q127 : (Jvm.Cond.code ({ cls := "EphemeronHeap", name := "rescue", desc := "()V" } : Jvm.MethodName) prog_1_method_17_code (3 : Nat) (Option.none : Option Jvm.ClassFile.FieldType)) ∈ lw_all := lw_g (lw_at lw_m1 112 rfl) rfl
theorem q128 : (Jvm.Cond.methodLink "EphemeronHeap" (89 : Nat) ({ cls := "EphemeronHeap", name := "mend", desc := "(I)V" } : Jvm.MethodName)) ∈ lw_all := lw_g (lw_at lw_m1 113 rfl) rfl
theorem q129 : (Jvm.Cond.privateMethod ({ cls := "EphemeronHeap", name := "mend", desc := "(I)V" } : Jvm.MethodName)) ∈ lw_tbl := lw_at lw_m1 114 rfl
theorem q130 : (Jvm.Cond.instanceMethod ({ cls := "EphemeronHeap", name := "mend", desc := "(I)V" } : Jvm.MethodName)) ∈ lw_all := lw_g (lw_at lw_m1 115 rfl) rfl
theorem q131 : (Jvm.Cond.code ({ cls := "EphemeronHeap", name := "mend", desc := "(I)V" } : Jvm.MethodName) prog_1_method_15_code (7 : Nat) (Option.none : Option Jvm.ClassFile.FieldType)) ∈ lw_all := lw_g (lw_at lw_m1 116 rfl) rfl
theorem q132 : (Jvm.Cond.methodLink "EphemeronHeap" (74 : Nat) ({ cls := "EphemeronHeap", name := "moved", desc := "(I)I" } : Jvm.MethodName)) ∈ lw_all := lw_g (lw_at lw_m1 117 rfl) rfl
theorem q133 : (Jvm.Cond.privateMethod ({ cls := "EphemeronHeap", name := "moved", desc := "(I)I" } : Jvm.MethodName)) ∈ lw_tbl := lw_at lw_m1 118 rfl
theorem q134 : (Jvm.Cond.instanceMethod ({ cls := "EphemeronHeap", name := "moved", desc := "(I)I" } : Jvm.MethodName)) ∈ lw_all := lw_g (lw_at lw_m1 119 rfl) rfl
theorem q135 : (Jvm.Cond.code ({ cls := "EphemeronHeap", name := "moved", desc := "(I)I" } : Jvm.MethodName) prog_1_method_14_code (2 : Nat) (Option.some Jvm.ClassFile.FieldType.int)) ∈ lw_all := lw_g (lw_at lw_m1 120 rfl) rfl
theorem q136 : (Jvm.Cond.methodLink "EphemeronHeap" (92 : Nat) ({ cls := "EphemeronHeap", name := "ones", desc := "(I)I" } : Jvm.MethodName)) ∈ lw_all := lw_g (lw_at lw_m1 121 rfl) rfl
theorem q137 : (Jvm.Cond.static ({ cls := "EphemeronHeap", name := "ones", desc := "(I)I" } : Jvm.MethodName)) ∈ lw_all := lw_g (lw_at lw_m1 122 rfl) rfl
theorem q138 : (Jvm.Cond.code ({ cls := "EphemeronHeap", name := "ones", desc := "(I)I" } : Jvm.MethodName) prog_1_method_4_code (3 : Nat) (Option.some Jvm.ClassFile.FieldType.int)) ∈ lw_all := lw_g (lw_at lw_m1 123 rfl) rfl
theorem q140 : (Jvm.Cond.instanceMethod ({ cls := "EphemeronHeap", name := "take", desc := "(I)I" } : Jvm.MethodName)) ∈ lw_all := lw_g (lw_at lw_m1 125 rfl) rfl
theorem q141 : (Jvm.Cond.selects "EphemeronHeap" ({ cls := "EphemeronHeap", name := "take", desc := "(I)I" } : Jvm.MethodName) ({ cls := "EphemeronHeap", name := "take", desc := "(I)I" } : Jvm.MethodName)) ∈ lw_all := lw_g (lw_at lw_m1 126 rfl) rfl
theorem q142 : (Jvm.Cond.code ({ cls := "EphemeronHeap", name := "take", desc := "(I)I" } : Jvm.MethodName) prog_1_method_19_code (4 : Nat) (Option.some Jvm.ClassFile.FieldType.int)) ∈ lw_all := lw_g (lw_at lw_m1 127 rfl) rfl
theorem q144 : (Jvm.Cond.instanceMethod ({ cls := "EphemeronHeap", name := "objects", desc := "()I" } : Jvm.MethodName)) ∈ lw_all := lw_g (lw_at lw_m1 129 rfl) rfl
theorem q145 : (Jvm.Cond.selects "EphemeronHeap" ({ cls := "EphemeronHeap", name := "objects", desc := "()I" } : Jvm.MethodName) ({ cls := "EphemeronHeap", name := "objects", desc := "()I" } : Jvm.MethodName)) ∈ lw_all := lw_g (lw_at lw_m1 130 rfl) rfl
theorem q146 : (Jvm.Cond.code ({ cls := "EphemeronHeap", name := "objects", desc := "()I" } : Jvm.MethodName) prog_1_method_20_code (1 : Nat) (Option.some Jvm.ClassFile.FieldType.int)) ∈ lw_all := lw_g (lw_at lw_m1 131 rfl) rfl
theorem q148 : (Jvm.Cond.instanceMethod ({ cls := "EphemeronHeap", name := "there", desc := "()I" } : Jvm.MethodName)) ∈ lw_all := lw_g (lw_at lw_m1 133 rfl) rfl
theorem q149 : (Jvm.Cond.selects "EphemeronHeap" ({ cls := "EphemeronHeap", name := "there", desc := "()I" } : Jvm.MethodName) ({ cls := "EphemeronHeap", name := "there", desc := "()I" } : Jvm.MethodName)) ∈ lw_all := lw_g (lw_at lw_m1 134 rfl) rfl
theorem q150 : (Jvm.Cond.code ({ cls := "EphemeronHeap", name := "there", desc := "()I" } : Jvm.MethodName) prog_1_method_21_code (1 : Nat) (Option.some Jvm.ClassFile.FieldType.int)) ∈ lw_all := lw_g (lw_at lw_m1 135 rfl) rfl
theorem q152 : (Jvm.Cond.instanceMethod ({ cls := "EphemeronHeap", name := "alive", desc := "()I" } : Jvm.MethodName)) ∈ lw_all := lw_g (lw_at lw_m1 137 rfl) rfl
theorem q153 : (Jvm.Cond.selects "EphemeronHeap" ({ cls := "EphemeronHeap", name := "alive", desc := "()I" } : Jvm.MethodName) ({ cls := "EphemeronHeap", name := "alive", desc := "()I" } : Jvm.MethodName)) ∈ lw_all := lw_g (lw_at lw_m1 138 rfl) rfl
theorem q154 : (Jvm.Cond.code ({ cls := "EphemeronHeap", name := "alive", desc := "()I" } : Jvm.MethodName) prog_1_method_23_code (1 : Nat) (Option.some Jvm.ClassFile.FieldType.int)) ∈ lw_all := lw_g (lw_at lw_m1 139 rfl) rfl
theorem q155 : (Jvm.Cond.methodLink "EphemeronHeap" (95 : Nat) ({ cls := "EphemeronHeap", name := "living", desc := "()I" } : Jvm.MethodName)) ∈ lw_all := lw_g (lw_at lw_m1 140 rfl) rfl
theorem q156 : (Jvm.Cond.privateMethod ({ cls := "EphemeronHeap", name := "living", desc := "()I" } : Jvm.MethodName)) ∈ lw_tbl := lw_at lw_m1 141 rfl
theorem q157 : (Jvm.Cond.instanceMethod ({ cls := "EphemeronHeap", name := "living", desc := "()I" } : Jvm.MethodName)) ∈ lw_all := lw_g (lw_at lw_m1 142 rfl) rfl
theorem q158 : (Jvm.Cond.code ({ cls := "EphemeronHeap", name := "living", desc := "()I" } : Jvm.MethodName) prog_1_method_22_code (3 : Nat) (Option.some Jvm.ClassFile.FieldType.int)) ∈ lw_all := lw_g (lw_at lw_m1 143 rfl) rfl
theorem q160 : (Jvm.Cond.instanceMethod ({ cls := "EphemeronHeap", name := "field", desc := "(II)I" } : Jvm.MethodName)) ∈ lw_all := lw_g (lw_at lw_m1 145 rfl) rfl
theorem q161 : (Jvm.Cond.selects "EphemeronHeap" ({ cls := "EphemeronHeap", name := "field", desc := "(II)I" } : Jvm.MethodName) ({ cls := "EphemeronHeap", name := "field", desc := "(II)I" } : Jvm.MethodName)) ∈ lw_all := lw_g (lw_at lw_m1 146 rfl) rfl
theorem q162 : (Jvm.Cond.code ({ cls := "EphemeronHeap", name := "field", desc := "(II)I" } : Jvm.MethodName) prog_1_method_25_code (3 : Nat) (Option.some Jvm.ClassFile.FieldType.int)) ∈ lw_all := lw_g (lw_at lw_m1 147 rfl) rfl
theorem q163 : (Jvm.Cond.methodLink "EphemeronHeap" (99 : Nat) ({ cls := "EphemeronHeap", name := "numberAt", desc := "(I)I" } : Jvm.MethodName)) ∈ lw_all := lw_g (lw_at lw_m1 148 rfl) rfl
theorem q164 : (Jvm.Cond.privateMethod ({ cls := "EphemeronHeap", name := "numberAt", desc := "(I)I" } : Jvm.MethodName)) ∈ lw_tbl := lw_at lw_m1 149 rfl
theorem q165 : (Jvm.Cond.instanceMethod ({ cls := "EphemeronHeap", name := "numberAt", desc := "(I)I" } : Jvm.MethodName)) ∈ lw_all := lw_g (lw_at lw_m1 150 rfl) rfl
theorem q166 : (Jvm.Cond.code ({ cls := "EphemeronHeap", name := "numberAt", desc := "(I)I" } : Jvm.MethodName) prog_1_method_24_code (2 : Nat) (Option.some Jvm.ClassFile.FieldType.int)) ∈ lw_all := lw_g (lw_at lw_m1 151 rfl) rfl
theorem q168 : (Jvm.Cond.instanceMethod ({ cls := "EphemeronHeap", name := "kind", desc := "(I)I" } : Jvm.MethodName)) ∈ lw_all := lw_g (lw_at lw_m1 153 rfl) rfl
theorem q169 : (Jvm.Cond.selects "EphemeronHeap" ({ cls := "EphemeronHeap", name := "kind", desc := "(I)I" } : Jvm.MethodName) ({ cls := "EphemeronHeap", name := "kind", desc := "(I)I" } : Jvm.MethodName)) ∈ lw_all := lw_g (lw_at lw_m1 154 rfl) rfl
theorem q170 : (Jvm.Cond.code ({ cls := "EphemeronHeap", name := "kind", desc := "(I)I" } : Jvm.MethodName) prog_1_method_26_code (2 : Nat) (Option.some Jvm.ClassFile.FieldType.int)) ∈ lw_all := lw_g (lw_at lw_m1 155 rfl) rfl
theorem q172 : (Jvm.Cond.instanceMethod ({ cls := "EphemeronHeap", name := "rootOf", desc := "(I)I" } : Jvm.MethodName)) ∈ lw_all := lw_g (lw_at lw_m1 157 rfl) rfl
theorem q173 : (Jvm.Cond.selects "EphemeronHeap" ({ cls := "EphemeronHeap", name := "rootOf", desc := "(I)I" } : Jvm.MethodName) ({ cls := "EphemeronHeap", name := "rootOf", desc := "(I)I" } : Jvm.MethodName)) ∈ lw_all := lw_g (lw_at lw_m1 158 rfl) rfl
theorem q174 : (Jvm.Cond.code ({ cls := "EphemeronHeap", name := "rootOf", desc := "(I)I" } : Jvm.MethodName) prog_1_method_27_code (2 : Nat) (Option.some Jvm.ClassFile.FieldType.int)) ∈ lw_all := lw_g (lw_at lw_m1 159 rfl) rfl
theorem q176 : (Jvm.Cond.instanceMethod ({ cls := "EphemeronHeap", name := "queued", desc := "()I" } : Jvm.MethodName)) ∈ lw_all := lw_g (lw_at lw_m1 161 rfl) rfl
theorem q177 : (Jvm.Cond.selects "EphemeronHeap" ({ cls := "EphemeronHeap", name := "queued", desc := "()I" } : Jvm.MethodName) ({ cls := "EphemeronHeap", name := "queued", desc := "()I" } : Jvm.MethodName)) ∈ lw_all := lw_g (lw_at lw_m1 162 rfl) rfl
theorem q178 : (Jvm.Cond.code ({ cls := "EphemeronHeap", name := "queued", desc := "()I" } : Jvm.MethodName) prog_1_method_28_code (1 : Nat) (Option.some Jvm.ClassFile.FieldType.int)) ∈ lw_all := lw_g (lw_at lw_m1 163 rfl) rfl
theorem q180 : (Jvm.Cond.instanceMethod ({ cls := "EphemeronHeap", name := "watched", desc := "()I" } : Jvm.MethodName)) ∈ lw_all := lw_g (lw_at lw_m1 165 rfl) rfl
theorem q181 : (Jvm.Cond.selects "EphemeronHeap" ({ cls := "EphemeronHeap", name := "watched", desc := "()I" } : Jvm.MethodName) ({ cls := "EphemeronHeap", name := "watched", desc := "()I" } : Jvm.MethodName)) ∈ lw_all := lw_g (lw_at lw_m1 166 rfl) rfl
theorem q182 : (Jvm.Cond.code ({ cls := "EphemeronHeap", name := "watched", desc := "()I" } : Jvm.MethodName) prog_1_method_29_code (1 : Nat) (Option.some Jvm.ClassFile.FieldType.int)) ∈ lw_all := lw_g (lw_at lw_m1 167 rfl) rfl
theorem q184 : (Jvm.Cond.instanceMethod ({ cls := "EphemeronHeap", name := "heldBy", desc := "(I)I" } : Jvm.MethodName)) ∈ lw_all := lw_g (lw_at lw_m1 169 rfl) rfl
theorem q185 : (Jvm.Cond.selects "EphemeronHeap" ({ cls := "EphemeronHeap", name := "heldBy", desc := "(I)I" } : Jvm.MethodName) ({ cls := "EphemeronHeap", name := "heldBy", desc := "(I)I" } : Jvm.MethodName)) ∈ lw_all := lw_g (lw_at lw_m1 170 rfl) rfl
theorem q186 : (Jvm.Cond.code ({ cls := "EphemeronHeap", name := "heldBy", desc := "(I)I" } : Jvm.MethodName) prog_1_method_30_code (7 : Nat) (Option.some Jvm.ClassFile.FieldType.int)) ∈ lw_all := lw_g (lw_at lw_m1 171 rfl) rfl
theorem in_X0 : ∀ w ∈ wsX00, w ∈ lw_all := lw_in wsX00 [41, 43, 45, 47, 49, 51, 53, 55, 57, 59, 61, 63, 65, 67, 69] (by decide +kernel) (by decide +kernel)
theorem q17 : (Jvm.Cond.initialized "EphemeronHeapModel") ∈ lw_all := lw_g (lw_at lw_m1 2 rfl) rfl
theorem q188 : (Jvm.Cond.instantiable "EphemeronHeapModel" (8 : Nat)) ∈ lw_all := lw_g (lw_at lw_m1 173 rfl) rfl
theorem q190 : (Jvm.Cond.instanceMethod ({ cls := "EphemeronHeapModel", name := "<init>", desc := "()V" } : Jvm.MethodName)) ∈ lw_all := lw_g (lw_at lw_m1 175 rfl) rfl
theorem q191 : (Jvm.Cond.code ({ cls := "EphemeronHeapModel", name := "<init>", desc := "()V" } : Jvm.MethodName) prog_3_method_1_code (1 : Nat) (Option.none : Option Jvm.ClassFile.FieldType)) ∈ lw_all := lw_g (lw_at lw_m1 176 rfl) rfl
theorem q192 : (Jvm.Cond.methodLink "EphemeronHeapModel" (1 : Nat) ({ cls := "java/lang/Object", name := "<init>", desc := "()V" } : Jvm.MethodName)) ∈ lw_all := lw_g (lw_at lw_m1 177 rfl) rfl
theorem q193 : (Jvm.Cond.fieldLink "EphemeronHeapModel" (7 : Nat) "EphemeronHeapModel" "here" "[Z") ∈ lw_all := lw_g (lw_at lw_m1 178 rfl) rfl
theorem q194 : (Jvm.Cond.fieldLink "EphemeronHeapModel" (13 : Nat) "EphemeronHeapModel" "kinds" "[I") ∈ lw_all := lw_g (lw_at lw_m1 179 rfl) rfl
theorem q195 : (Jvm.Cond.fieldLink "EphemeronHeapModel" (17 : Nat) "EphemeronHeapModel" "eyes" "[Z") ∈ lw_all := lw_g (lw_at lw_m1 180 rfl) rfl
theorem q196 : (Jvm.Cond.fieldLink "EphemeronHeapModel" (20 : Nat) "EphemeronHeapModel" "as" "[I") ∈ lw_all := lw_g (lw_at lw_m1 181 rfl) rfl
theorem q197 : (Jvm.Cond.fieldLink "EphemeronHeapModel" (23 : Nat) "EphemeronHeapModel" "bs" "[I") ∈ lw_all := lw_g (lw_at lw_m1 182 rfl) rfl
theorem q198 : (Jvm.Cond.fieldLink "EphemeronHeapModel" (26 : Nat) "EphemeronHeapModel" "roots" "[I") ∈ lw_all := lw_g (lw_at lw_m1 183 rfl) rfl
theorem q199 : (Jvm.Cond.fieldLink "EphemeronHeapModel" (40 : Nat) "EphemeronHeapModel" "waiting" "I") ∈ lw_all := lw_g (lw_at lw_m1 184 rfl) rfl
theorem q200 : (Jvm.Cond.fieldLink "EphemeronHeapModel" (29 : Nat) "EphemeronHeapModel" "queue" "[I") ∈ lw_all := lw_g (lw_at lw_m1 185 rfl) rfl
theorem q201 : (Jvm.Cond.lays "EphemeronHeapModel" "EphemeronHeapModel" "here" "[Z") ∈ lw_all := lw_g (lw_at lw_m1 186 rfl) rfl
theorem q202 : (Jvm.Cond.soleField "EphemeronHeapModel" "here") ∈ lw_all := lw_g (lw_at lw_m1 187 rfl) rfl
theorem q203 : (Jvm.Cond.lays "EphemeronHeapModel" "EphemeronHeapModel" "kinds" "[I") ∈ lw_all := lw_g (lw_at lw_m1 188 rfl) rfl
theorem q204 : (Jvm.Cond.soleField "EphemeronHeapModel" "kinds") ∈ lw_all := lw_g (lw_at lw_m1 189 rfl) rfl
theorem q205 : (Jvm.Cond.lays "EphemeronHeapModel" "EphemeronHeapModel" "eyes" "[Z") ∈ lw_all := lw_g (lw_at lw_m1 190 rfl) rfl
theorem q206 : (Jvm.Cond.soleField "EphemeronHeapModel" "eyes") ∈ lw_all := lw_g (lw_at lw_m1 191 rfl) rfl
theorem q207 : (Jvm.Cond.lays "EphemeronHeapModel" "EphemeronHeapModel" "as" "[I") ∈ lw_all := lw_g (lw_at lw_m1 192 rfl) rfl
theorem q208 : (Jvm.Cond.soleField "EphemeronHeapModel" "as") ∈ lw_all := lw_g (lw_at lw_m1 193 rfl) rfl
theorem q209 : (Jvm.Cond.lays "EphemeronHeapModel" "EphemeronHeapModel" "bs" "[I") ∈ lw_all := lw_g (lw_at lw_m1 194 rfl) rfl
theorem q210 : (Jvm.Cond.soleField "EphemeronHeapModel" "bs") ∈ lw_all := lw_g (lw_at lw_m1 195 rfl) rfl
theorem q211 : (Jvm.Cond.lays "EphemeronHeapModel" "EphemeronHeapModel" "roots" "[I") ∈ lw_all := lw_g (lw_at lw_m1 196 rfl) rfl
theorem q212 : (Jvm.Cond.soleField "EphemeronHeapModel" "roots") ∈ lw_all := lw_g (lw_at lw_m1 197 rfl) rfl
theorem q213 : (Jvm.Cond.lays "EphemeronHeapModel" "EphemeronHeapModel" "waiting" "I") ∈ lw_all := lw_g (lw_at lw_m1 198 rfl) rfl
theorem q214 : (Jvm.Cond.soleField "EphemeronHeapModel" "waiting") ∈ lw_all := lw_g (lw_at lw_m1 199 rfl) rfl
theorem q215 : (Jvm.Cond.lays "EphemeronHeapModel" "EphemeronHeapModel" "queue" "[I") ∈ lw_all := lw_g (lw_at lw_m1 200 rfl) rfl
theorem q216 : (Jvm.Cond.soleField "EphemeronHeapModel" "queue") ∈ lw_all := lw_g (lw_at lw_m1 201 rfl) rfl
theorem q217 : (Jvm.Cond.superclass "EphemeronHeapModel" "java/lang/Object") ∈ lw_all := lw_g (lw_at lw_m1 202 rfl) rfl
theorem q221 : (Jvm.Cond.instanceMethod ({ cls := "EphemeronHeapModel", name := "make", desc := "(II)I" } : Jvm.MethodName)) ∈ lw_all := lw_g (lw_at lw_m1 206 rfl) rfl
theorem q222 : (Jvm.Cond.selects "EphemeronHeapModel" ({ cls := "EphemeronHeapModel", name := "make", desc := "(II)I" } : Jvm.MethodName) ({ cls := "EphemeronHeapModel", name := "make", desc := "(II)I" } : Jvm.MethodName)) ∈ lw_all := lw_g (lw_at lw_m1 207 rfl) rfl
theorem q223 : (Jvm.Cond.code ({ cls := "EphemeronHeapModel", name := "make", desc := "(II)I" } : Jvm.MethodName) prog_3_method_3_code (4 : Nat) (Option.some Jvm.ClassFile.FieldType.int)) ∈ lw_all := lw_g (lw_at lw_m1 208 rfl) rfl
theorem q225 : (Jvm.Cond.instanceMethod ({ cls := "EphemeronHeapModel", name := "point", desc := "(III)Z" } : Jvm.MethodName)) ∈ lw_all := lw_g (lw_at lw_m1 210 rfl) rfl
theorem q226 : (Jvm.Cond.selects "EphemeronHeapModel" ({ cls := "EphemeronHeapModel", name := "point", desc := "(III)Z" } : Jvm.MethodName) ({ cls := "EphemeronHeapModel", name := "point", desc := "(III)Z" } : Jvm.MethodName)) ∈ lw_all := lw_g (lw_at lw_m1 211 rfl) rfl
theorem q227 : (Jvm.Cond.code ({ cls := "EphemeronHeapModel", name := "point", desc := "(III)Z" } : Jvm.MethodName) prog_3_method_4_code (4 : Nat) (Option.some Jvm.ClassFile.FieldType.boolean)) ∈ lw_all := lw_g (lw_at lw_m1 212 rfl) rfl
theorem q228 : (Jvm.Cond.methodLink "EphemeronHeapModel" (32 : Nat) ({ cls := "EphemeronHeapModel", name := "is", desc := "(I)Z" } : Jvm.MethodName)) ∈ lw_all := lw_g (lw_at lw_m1 213 rfl) rfl
theorem q229 : (Jvm.Cond.privateMethod ({ cls := "EphemeronHeapModel", name := "is", desc := "(I)Z" } : Jvm.MethodName)) ∈ lw_tbl := lw_at lw_m1 214 rfl
theorem q230 : (Jvm.Cond.instanceMethod ({ cls := "EphemeronHeapModel", name := "is", desc := "(I)Z" } : Jvm.MethodName)) ∈ lw_all := lw_g (lw_at lw_m1 215 rfl) rfl
theorem q231 : (Jvm.Cond.code ({ cls := "EphemeronHeapModel", name := "is", desc := "(I)Z" } : Jvm.MethodName) prog_3_method_2_code (2 : Nat) (Option.some Jvm.ClassFile.FieldType.boolean)) ∈ lw_all := lw_g (lw_at lw_m1 216 rfl) rfl
theorem q233 : (Jvm.Cond.instanceMethod ({ cls := "EphemeronHeapModel", name := "root", desc := "(II)Z" } : Jvm.MethodName)) ∈ lw_all := lw_g (lw_at lw_m1 218 rfl) rfl
theorem q234 : (Jvm.Cond.selects "EphemeronHeapModel" ({ cls := "EphemeronHeapModel", name := "root", desc := "(II)Z" } : Jvm.MethodName) ({ cls := "EphemeronHeapModel", name := "root", desc := "(II)Z" } : Jvm.MethodName)) ∈ lw_all := lw_g (lw_at lw_m1 219 rfl) rfl
theorem q235 : (Jvm.Cond.code ({ cls := "EphemeronHeapModel", name := "root", desc := "(II)Z" } : Jvm.MethodName) prog_3_method_5_code (3 : Nat) (Option.some Jvm.ClassFile.FieldType.boolean)) ∈ lw_all := lw_g (lw_at lw_m1 220 rfl) rfl
theorem q237 : (Jvm.Cond.instanceMethod ({ cls := "EphemeronHeapModel", name := "watch", desc := "(I)Z" } : Jvm.MethodName)) ∈ lw_all := lw_g (lw_at lw_m1 222 rfl) rfl
theorem q238 : (Jvm.Cond.selects "EphemeronHeapModel" ({ cls := "EphemeronHeapModel", name := "watch", desc := "(I)Z" } : Jvm.MethodName) ({ cls := "EphemeronHeapModel", name := "watch", desc := "(I)Z" } : Jvm.MethodName)) ∈ lw_all := lw_g (lw_at lw_m1 223 rfl) rfl
theorem q239 : (Jvm.Cond.code ({ cls := "EphemeronHeapModel", name := "watch", desc := "(I)Z" } : Jvm.MethodName) prog_3_method_6_code (2 : Nat) (Option.some Jvm.ClassFile.FieldType.boolean)) ∈ lw_all := lw_g (lw_at lw_m1 224 rfl) rfl
theorem q241 : (Jvm.Cond.instanceMethod ({ cls := "EphemeronHeapModel", name := "clean", desc := "()I" } : Jvm.MethodName)) ∈ lw_all := lw_g (lw_at lw_m1 226 rfl) rfl
theorem q242 : (Jvm.Cond.selects "EphemeronHeapModel" ({ cls := "EphemeronHeapModel", name := "clean", desc := "()I" } : Jvm.MethodName) ({ cls := "EphemeronHeapModel", name := "clean", desc := "()I" } : Jvm.MethodName)) ∈ lw_all := lw_g (lw_at lw_m1 227 rfl) rfl
theorem q243 : (Jvm.Cond.code ({ cls := "EphemeronHeapModel", name := "clean", desc := "()I" } : Jvm.MethodName) prog_3_method_9_code (9 : Nat) (Option.some Jvm.ClassFile.FieldType.int)) ∈ lw_all := lw_g (lw_at lw_m1 228 rfl) rfl
theorem q244 : (Jvm.Cond.methodLink "EphemeronHeapModel" (44 : Nat) ({ cls := "EphemeronHeapModel", name := "living", desc := "()I" } : Jvm.MethodName)) ∈ lw_all := lw_g (lw_at lw_m1 229 rfl) rfl
theorem q245 : (Jvm.Cond.privateMethod ({ cls := "EphemeronHeapModel", name := "living", desc := "()I" } : Jvm.MethodName)) ∈ lw_tbl := lw_at lw_m1 230 rfl
theorem q246 : (Jvm.Cond.instanceMethod ({ cls := "EphemeronHeapModel", name := "living", desc := "()I" } : Jvm.MethodName)) ∈ lw_all := lw_g (lw_at lw_m1 231 rfl) rfl
theorem q247 : (Jvm.Cond.code ({ cls := "EphemeronHeapModel", name := "living", desc := "()I" } : Jvm.MethodName) prog_3_method_8_code (7 : Nat) (Option.some Jvm.ClassFile.FieldType.int)) ∈ lw_all := lw_g (lw_at lw_m1 232 rfl) rfl
theorem q248 : (Jvm.Cond.methodLink "EphemeronHeapModel" (36 : Nat) ({ cls := "EphemeronHeapModel", name := "bit", desc := "(I)I" } : Jvm.MethodName)) ∈ lw_all := lw_g (lw_at lw_m1 233 rfl) rfl
theorem q249 : (Jvm.Cond.privateMethod ({ cls := "EphemeronHeapModel", name := "bit", desc := "(I)I" } : Jvm.MethodName)) ∈ lw_tbl := lw_at lw_m1 234 rfl
theorem q250 : (Jvm.Cond.instanceMethod ({ cls := "EphemeronHeapModel", name := "bit", desc := "(I)I" } : Jvm.MethodName)) ∈ lw_all := lw_g (lw_at lw_m1 235 rfl) rfl
theorem q251 : (Jvm.Cond.code ({ cls := "EphemeronHeapModel", name := "bit", desc := "(I)I" } : Jvm.MethodName) prog_3_method_7_code (2 : Nat) (Option.some Jvm.ClassFile.FieldType.int)) ∈ lw_all := lw_g (lw_at lw_m1 236 rfl) rfl
theorem q253 : (Jvm.Cond.instanceMethod ({ cls := "EphemeronHeapModel", name := "take", desc := "(I)I" } : Jvm.MethodName)) ∈ lw_all := lw_g (lw_at lw_m1 238 rfl) rfl
theorem q254 : (Jvm.Cond.selects "EphemeronHeapModel" ({ cls := "EphemeronHeapModel", name := "take", desc := "(I)I" } : Jvm.MethodName) ({ cls := "EphemeronHeapModel", name := "take", desc := "(I)I" } : Jvm.MethodName)) ∈ lw_all := lw_g (lw_at lw_m1 239 rfl) rfl
theorem q255 : (Jvm.Cond.code ({ cls := "EphemeronHeapModel", name := "take", desc := "(I)I" } : Jvm.MethodName) prog_3_method_10_code (4 : Nat) (Option.some Jvm.ClassFile.FieldType.int)) ∈ lw_all := lw_g (lw_at lw_m2 0 rfl) rfl
theorem q257 : (Jvm.Cond.instanceMethod ({ cls := "EphemeronHeapModel", name := "objects", desc := "()I" } : Jvm.MethodName)) ∈ lw_all := lw_g (lw_at lw_m2 2 rfl) rfl
theorem q258 : (Jvm.Cond.selects "EphemeronHeapModel" ({ cls := "EphemeronHeapModel", name := "objects", desc := "()I" } : Jvm.MethodName) ({ cls := "EphemeronHeapModel", name := "objects", desc := "()I" } : Jvm.MethodName)) ∈ lw_all := lw_g (lw_at lw_m2 3 rfl) rfl
theorem q259 : (Jvm.Cond.code ({ cls := "EphemeronHeapModel", name := "objects", desc := "()I" } : Jvm.MethodName) prog_3_method_11_code (3 : Nat) (Option.some Jvm.ClassFile.FieldType.int)) ∈ lw_all := lw_g (lw_at lw_m2 4 rfl) rfl
theorem q261 : (Jvm.Cond.instanceMethod ({ cls := "EphemeronHeapModel", name := "there", desc := "()I" } : Jvm.MethodName)) ∈ lw_all := lw_g (lw_at lw_m2 6 rfl) rfl
theorem q262 : (Jvm.Cond.selects "EphemeronHeapModel" ({ cls := "EphemeronHeapModel", name := "there", desc := "()I" } : Jvm.MethodName) ({ cls := "EphemeronHeapModel", name := "there", desc := "()I" } : Jvm.MethodName)) ∈ lw_all := lw_g (lw_at lw_m2 7 rfl) rfl
theorem q263 : (Jvm.Cond.code ({ cls := "EphemeronHeapModel", name := "there", desc := "()I" } : Jvm.MethodName) prog_3_method_12_code (3 : Nat) (Option.some Jvm.ClassFile.FieldType.int)) ∈ lw_all := lw_g (lw_at lw_m2 8 rfl) rfl
theorem q265 : (Jvm.Cond.instanceMethod ({ cls := "EphemeronHeapModel", name := "alive", desc := "()I" } : Jvm.MethodName)) ∈ lw_all := lw_g (lw_at lw_m2 10 rfl) rfl
theorem q266 : (Jvm.Cond.selects "EphemeronHeapModel" ({ cls := "EphemeronHeapModel", name := "alive", desc := "()I" } : Jvm.MethodName) ({ cls := "EphemeronHeapModel", name := "alive", desc := "()I" } : Jvm.MethodName)) ∈ lw_all := lw_g (lw_at lw_m2 11 rfl) rfl
theorem q267 : (Jvm.Cond.code ({ cls := "EphemeronHeapModel", name := "alive", desc := "()I" } : Jvm.MethodName) prog_3_method_13_code (1 : Nat) (Option.some Jvm.ClassFile.FieldType.int)) ∈ lw_all := lw_g (lw_at lw_m2 12 rfl) rfl
theorem q269 : (Jvm.Cond.instanceMethod ({ cls := "EphemeronHeapModel", name := "field", desc := "(II)I" } : Jvm.MethodName)) ∈ lw_all := lw_g (lw_at lw_m2 14 rfl) rfl
theorem q270 : (Jvm.Cond.selects "EphemeronHeapModel" ({ cls := "EphemeronHeapModel", name := "field", desc := "(II)I" } : Jvm.MethodName) ({ cls := "EphemeronHeapModel", name := "field", desc := "(II)I" } : Jvm.MethodName)) ∈ lw_all := lw_g (lw_at lw_m2 15 rfl) rfl
theorem q271 : (Jvm.Cond.code ({ cls := "EphemeronHeapModel", name := "field", desc := "(II)I" } : Jvm.MethodName) prog_3_method_14_code (3 : Nat) (Option.some Jvm.ClassFile.FieldType.int)) ∈ lw_all := lw_g (lw_at lw_m2 16 rfl) rfl
theorem q273 : (Jvm.Cond.instanceMethod ({ cls := "EphemeronHeapModel", name := "kind", desc := "(I)I" } : Jvm.MethodName)) ∈ lw_all := lw_g (lw_at lw_m2 18 rfl) rfl
theorem q274 : (Jvm.Cond.selects "EphemeronHeapModel" ({ cls := "EphemeronHeapModel", name := "kind", desc := "(I)I" } : Jvm.MethodName) ({ cls := "EphemeronHeapModel", name := "kind", desc := "(I)I" } : Jvm.MethodName)) ∈ lw_all := lw_g (lw_at lw_m2 19 rfl) rfl
theorem q275 : (Jvm.Cond.code ({ cls := "EphemeronHeapModel", name := "kind", desc := "(I)I" } : Jvm.MethodName) prog_3_method_15_code (2 : Nat) (Option.some Jvm.ClassFile.FieldType.int)) ∈ lw_all := lw_g (lw_at lw_m2 20 rfl) rfl
theorem q277 : (Jvm.Cond.instanceMethod ({ cls := "EphemeronHeapModel", name := "rootOf", desc := "(I)I" } : Jvm.MethodName)) ∈ lw_all := lw_g (lw_at lw_m2 22 rfl) rfl
theorem q278 : (Jvm.Cond.selects "EphemeronHeapModel" ({ cls := "EphemeronHeapModel", name := "rootOf", desc := "(I)I" } : Jvm.MethodName) ({ cls := "EphemeronHeapModel", name := "rootOf", desc := "(I)I" } : Jvm.MethodName)) ∈ lw_all := lw_g (lw_at lw_m2 23 rfl) rfl
theorem q279 : (Jvm.Cond.code ({ cls := "EphemeronHeapModel", name := "rootOf", desc := "(I)I" } : Jvm.MethodName) prog_3_method_16_code (2 : Nat) (Option.some Jvm.ClassFile.FieldType.int)) ∈ lw_all := lw_g (lw_at lw_m2 24 rfl) rfl
theorem q281 : (Jvm.Cond.instanceMethod ({ cls := "EphemeronHeapModel", name := "queued", desc := "()I" } : Jvm.MethodName)) ∈ lw_all := lw_g (lw_at lw_m2 26 rfl) rfl
theorem q282 : (Jvm.Cond.selects "EphemeronHeapModel" ({ cls := "EphemeronHeapModel", name := "queued", desc := "()I" } : Jvm.MethodName) ({ cls := "EphemeronHeapModel", name := "queued", desc := "()I" } : Jvm.MethodName)) ∈ lw_all := lw_g (lw_at lw_m2 27 rfl) rfl
theorem q283 : (Jvm.Cond.code ({ cls := "EphemeronHeapModel", name := "queued", desc := "()I" } : Jvm.MethodName) prog_3_method_17_code (1 : Nat) (Option.some Jvm.ClassFile.FieldType.int)) ∈ lw_all := lw_g (lw_at lw_m2 28 rfl) rfl
theorem q285 : (Jvm.Cond.instanceMethod ({ cls := "EphemeronHeapModel", name := "watched", desc := "()I" } : Jvm.MethodName)) ∈ lw_all := lw_g (lw_at lw_m2 30 rfl) rfl
theorem q286 : (Jvm.Cond.selects "EphemeronHeapModel" ({ cls := "EphemeronHeapModel", name := "watched", desc := "()I" } : Jvm.MethodName) ({ cls := "EphemeronHeapModel", name := "watched", desc := "()I" } : Jvm.MethodName)) ∈ lw_all := lw_g (lw_at lw_m2 31 rfl) rfl
theorem q287 : (Jvm.Cond.code ({ cls := "EphemeronHeapModel", name := "watched", desc := "()I" } : Jvm.MethodName) prog_3_method_18_code (3 : Nat) (Option.some Jvm.ClassFile.FieldType.int)) ∈ lw_all := lw_g (lw_at lw_m2 32 rfl) rfl
theorem q289 : (Jvm.Cond.instanceMethod ({ cls := "EphemeronHeapModel", name := "heldBy", desc := "(I)I" } : Jvm.MethodName)) ∈ lw_all := lw_g (lw_at lw_m2 34 rfl) rfl
theorem q290 : (Jvm.Cond.selects "EphemeronHeapModel" ({ cls := "EphemeronHeapModel", name := "heldBy", desc := "(I)I" } : Jvm.MethodName) ({ cls := "EphemeronHeapModel", name := "heldBy", desc := "(I)I" } : Jvm.MethodName)) ∈ lw_all := lw_g (lw_at lw_m2 35 rfl) rfl
theorem q291 : (Jvm.Cond.code ({ cls := "EphemeronHeapModel", name := "heldBy", desc := "(I)I" } : Jvm.MethodName) prog_3_method_19_code (6 : Nat) (Option.some Jvm.ClassFile.FieldType.int)) ∈ lw_all := lw_g (lw_at lw_m2 36 rfl) rfl
theorem in_X1 : ∀ w ∈ wsX10, w ∈ lw_all := lw_in wsX10 [201, 203, 205, 207, 209, 211, 213, 215] (by decide +kernel) (by decide +kernel)
theorem q15 : (Jvm.Cond.initialized "EphemeronHeapLaw") ∈ lw_all := lw_g (lw_at lw_m1 0 rfl) rfl
set_option maxRecDepth 100000
theorem q18 : (Jvm.Cond.classLink "EphemeronHeapLaw" (7 : Nat) "EphemeronHeap") ∈ lw_all := lw_g (lw_at lw_m1 3 rfl) rfl
theorem q20 : (Jvm.Cond.methodLink "EphemeronHeapLaw" (9 : Nat) ({ cls := "EphemeronHeap", name := "<init>", desc := "()V" } : Jvm.MethodName)) ∈ lw_all := lw_g (lw_at lw_m1 5 rfl) rfl
theorem q73 : (Jvm.Cond.methodLink "EphemeronHeapLaw" (13 : Nat) ({ cls := "EphemeronHeap", name := "make", desc := "(II)I" } : Jvm.MethodName)) ∈ lw_all := lw_g (lw_at lw_m1 58 rfl) rfl
theorem q84 : (Jvm.Cond.methodLink "EphemeronHeapLaw" (18 : Nat) ({ cls := "EphemeronHeap", name := "point", desc := "(III)Z" } : Jvm.MethodName)) ∈ lw_all := lw_g (lw_at lw_m1 69 rfl) rfl
theorem q92 : (Jvm.Cond.methodLink "EphemeronHeapLaw" (23 : Nat) ({ cls := "EphemeronHeap", name := "root", desc := "(II)Z" } : Jvm.MethodName)) ∈ lw_all := lw_g (lw_at lw_m1 77 rfl) rfl
theorem q96 : (Jvm.Cond.methodLink "EphemeronHeapLaw" (28 : Nat) ({ cls := "EphemeronHeap", name := "watch", desc := "(I)Z" } : Jvm.MethodName)) ∈ lw_all := lw_g (lw_at lw_m1 81 rfl) rfl
theorem q100 : (Jvm.Cond.methodLink "EphemeronHeapLaw" (33 : Nat) ({ cls := "EphemeronHeap", name := "clean", desc := "()I" } : Jvm.MethodName)) ∈ lw_all := lw_g (lw_at lw_m1 85 rfl) rfl
theorem q139 : (Jvm.Cond.methodLink "EphemeronHeapLaw" (38 : Nat) ({ cls := "EphemeronHeap", name := "take", desc := "(I)I" } : Jvm.MethodName)) ∈ lw_all := lw_g (lw_at lw_m1 124 rfl) rfl
theorem q143 : (Jvm.Cond.methodLink "EphemeronHeapLaw" (43 : Nat) ({ cls := "EphemeronHeap", name := "objects", desc := "()I" } : Jvm.MethodName)) ∈ lw_all := lw_g (lw_at lw_m1 128 rfl) rfl
theorem q147 : (Jvm.Cond.methodLink "EphemeronHeapLaw" (47 : Nat) ({ cls := "EphemeronHeap", name := "there", desc := "()I" } : Jvm.MethodName)) ∈ lw_all := lw_g (lw_at lw_m1 132 rfl) rfl
theorem q151 : (Jvm.Cond.methodLink "EphemeronHeapLaw" (51 : Nat) ({ cls := "EphemeronHeap", name := "alive", desc := "()I" } : Jvm.MethodName)) ∈ lw_all := lw_g (lw_at lw_m1 136 rfl) rfl
theorem q159 : (Jvm.Cond.methodLink "EphemeronHeapLaw" (55 : Nat) ({ cls := "EphemeronHeap", name := "field", desc := "(II)I" } : Jvm.MethodName)) ∈ lw_all := lw_g (lw_at lw_m1 144 rfl) rfl
theorem q167 : (Jvm.Cond.methodLink "EphemeronHeapLaw" (59 : Nat) ({ cls := "EphemeronHeap", name := "kind", desc := "(I)I" } : Jvm.MethodName)) ∈ lw_all := lw_g (lw_at lw_m1 152 rfl) rfl
theorem q171 : (Jvm.Cond.methodLink "EphemeronHeapLaw" (63 : Nat) ({ cls := "EphemeronHeap", name := "rootOf", desc := "(I)I" } : Jvm.MethodName)) ∈ lw_all := lw_g (lw_at lw_m1 156 rfl) rfl
theorem q175 : (Jvm.Cond.methodLink "EphemeronHeapLaw" (67 : Nat) ({ cls := "EphemeronHeap", name := "queued", desc := "()I" } : Jvm.MethodName)) ∈ lw_all := lw_g (lw_at lw_m1 160 rfl) rfl
theorem q179 : (Jvm.Cond.methodLink "EphemeronHeapLaw" (71 : Nat) ({ cls := "EphemeronHeap", name := "watched", desc := "()I" } : Jvm.MethodName)) ∈ lw_all := lw_g (lw_at lw_m1 164 rfl) rfl
theorem q183 : (Jvm.Cond.methodLink "EphemeronHeapLaw" (75 : Nat) ({ cls := "EphemeronHeap", name := "heldBy", desc := "(I)I" } : Jvm.MethodName)) ∈ lw_all := lw_g (lw_at lw_m1 168 rfl) rfl
theorem q187 : (Jvm.Cond.classLink "EphemeronHeapLaw" (10 : Nat) "EphemeronHeapModel") ∈ lw_all := lw_g (lw_at lw_m1 172 rfl) rfl
theorem q189 : (Jvm.Cond.methodLink "EphemeronHeapLaw" (12 : Nat) ({ cls := "EphemeronHeapModel", name := "<init>", desc := "()V" } : Jvm.MethodName)) ∈ lw_all := lw_g (lw_at lw_m1 174 rfl) rfl
theorem q220 : (Jvm.Cond.methodLink "EphemeronHeapLaw" (17 : Nat) ({ cls := "EphemeronHeapModel", name := "make", desc := "(II)I" } : Jvm.MethodName)) ∈ lw_all := lw_g (lw_at lw_m1 205 rfl) rfl
theorem q224 : (Jvm.Cond.methodLink "EphemeronHeapLaw" (22 : Nat) ({ cls := "EphemeronHeapModel", name := "point", desc := "(III)Z" } : Jvm.MethodName)) ∈ lw_all := lw_g (lw_at lw_m1 209 rfl) rfl
theorem q232 : (Jvm.Cond.methodLink "EphemeronHeapLaw" (27 : Nat) ({ cls := "EphemeronHeapModel", name := "root", desc := "(II)Z" } : Jvm.MethodName)) ∈ lw_all := lw_g (lw_at lw_m1 217 rfl) rfl
theorem q236 : (Jvm.Cond.methodLink "EphemeronHeapLaw" (32 : Nat) ({ cls := "EphemeronHeapModel", name := "watch", desc := "(I)Z" } : Jvm.MethodName)) ∈ lw_all := lw_g (lw_at lw_m1 221 rfl) rfl
theorem q240 : (Jvm.Cond.methodLink "EphemeronHeapLaw" (37 : Nat) ({ cls := "EphemeronHeapModel", name := "clean", desc := "()I" } : Jvm.MethodName)) ∈ lw_all := lw_g (lw_at lw_m1 225 rfl) rfl
theorem q252 : (Jvm.Cond.methodLink "EphemeronHeapLaw" (42 : Nat) ({ cls := "EphemeronHeapModel", name := "take", desc := "(I)I" } : Jvm.MethodName)) ∈ lw_all := lw_g (lw_at lw_m1 237 rfl) rfl
theorem q256 : (Jvm.Cond.methodLink "EphemeronHeapLaw" (46 : Nat) ({ cls := "EphemeronHeapModel", name := "objects", desc := "()I" } : Jvm.MethodName)) ∈ lw_all := lw_g (lw_at lw_m2 1 rfl) rfl
theorem q260 : (Jvm.Cond.methodLink "EphemeronHeapLaw" (50 : Nat) ({ cls := "EphemeronHeapModel", name := "there", desc := "()I" } : Jvm.MethodName)) ∈ lw_all := lw_g (lw_at lw_m2 5 rfl) rfl
theorem q264 : (Jvm.Cond.methodLink "EphemeronHeapLaw" (54 : Nat) ({ cls := "EphemeronHeapModel", name := "alive", desc := "()I" } : Jvm.MethodName)) ∈ lw_all := lw_g (lw_at lw_m2 9 rfl) rfl
theorem q268 : (Jvm.Cond.methodLink "EphemeronHeapLaw" (58 : Nat) ({ cls := "EphemeronHeapModel", name := "field", desc := "(II)I" } : Jvm.MethodName)) ∈ lw_all := lw_g (lw_at lw_m2 13 rfl) rfl
theorem q272 : (Jvm.Cond.methodLink "EphemeronHeapLaw" (62 : Nat) ({ cls := "EphemeronHeapModel", name := "kind", desc := "(I)I" } : Jvm.MethodName)) ∈ lw_all := lw_g (lw_at lw_m2 17 rfl) rfl
theorem q276 : (Jvm.Cond.methodLink "EphemeronHeapLaw" (66 : Nat) ({ cls := "EphemeronHeapModel", name := "rootOf", desc := "(I)I" } : Jvm.MethodName)) ∈ lw_all := lw_g (lw_at lw_m2 21 rfl) rfl
theorem q280 : (Jvm.Cond.methodLink "EphemeronHeapLaw" (70 : Nat) ({ cls := "EphemeronHeapModel", name := "queued", desc := "()I" } : Jvm.MethodName)) ∈ lw_all := lw_g (lw_at lw_m2 25 rfl) rfl
theorem q284 : (Jvm.Cond.methodLink "EphemeronHeapLaw" (74 : Nat) ({ cls := "EphemeronHeapModel", name := "watched", desc := "()I" } : Jvm.MethodName)) ∈ lw_all := lw_g (lw_at lw_m2 29 rfl) rfl
theorem q288 : (Jvm.Cond.methodLink "EphemeronHeapLaw" (78 : Nat) ({ cls := "EphemeronHeapModel", name := "heldBy", desc := "(I)I" } : Jvm.MethodName)) ∈ lw_all := lw_g (lw_at lw_m2 33 rfl) rfl
end
section
set_option maxRecDepth 100000
theorem dX0_init_0 : decode cX0_init 0 = .ok (.aload_n 0, 1) := by decide +kernel
theorem dX0_init_1 : decode cX0_init 1 = .ok (.invokespecial 1, 3) := by decide +kernel
theorem dX0_init_4 : decode cX0_init 4 = .ok (.aload_n 0, 1) := by decide +kernel
theorem dX0_init_5 : decode cX0_init 5 = .ok (.bipush 20, 2) := by decide +kernel
theorem dX0_init_7 : decode cX0_init 7 = .ok (.newarray .byte, 2) := by decide +kernel
theorem dX0_init_9 : decode cX0_init 9 = .ok (.putfield 7, 3) := by decide +kernel
theorem dX0_init_12 : decode cX0_init 12 = .ok (.aload_n 0, 1) := by decide +kernel
theorem dX0_init_13 : decode cX0_init 13 = .ok (.bipush 40, 2) := by decide +kernel
theorem dX0_init_15 : decode cX0_init 15 = .ok (.newarray .byte, 2) := by decide +kernel
theorem dX0_init_17 : decode cX0_init 17 = .ok (.putfield 13, 3) := by decide +kernel
theorem dX0_init_20 : decode cX0_init 20 = .ok (.aload_n 0, 1) := by decide +kernel
theorem dX0_init_21 : decode cX0_init 21 = .ok (.bipush 40, 2) := by decide +kernel
theorem dX0_init_23 : decode cX0_init 23 = .ok (.newarray .byte, 2) := by decide +kernel
theorem dX0_init_25 : decode cX0_init 25 = .ok (.putfield 16, 3) := by decide +kernel
theorem dX0_init_28 : decode cX0_init 28 = .ok (.aload_n 0, 1) := by decide +kernel
theorem dX0_init_29 : decode cX0_init 29 = .ok (.bipush 40, 2) := by decide +kernel
theorem dX0_init_31 : decode cX0_init 31 = .ok (.newarray .byte, 2) := by decide +kernel
theorem dX0_init_33 : decode cX0_init 33 = .ok (.putfield 19, 3) := by decide +kernel
theorem dX0_init_36 : decode cX0_init 36 = .ok (.aload_n 0, 1) := by decide +kernel
theorem dX0_init_37 : decode cX0_init 37 = .ok (.bipush 40, 2) := by decide +kernel
theorem dX0_init_39 : decode cX0_init 39 = .ok (.newarray .byte, 2) := by decide +kernel
theorem dX0_init_41 : decode cX0_init 41 = .ok (.putfield 22, 3) := by decide +kernel
theorem dX0_init_44 : decode cX0_init 44 = .ok (.aload_n 0, 1) := by decide +kernel
theorem dX0_init_45 : decode cX0_init 45 = .ok (.bipush 40, 2) := by decide +kernel
theorem dX0_init_47 : decode cX0_init 47 = .ok (.newarray .byte, 2) := by decide +kernel
theorem dX0_init_49 : decode cX0_init 49 = .ok (.putfield 25, 3) := by decide +kernel
theorem dX0_init_52 : decode cX0_init 52 = .ok (.aload_n 0, 1) := by decide +kernel
theorem dX0_init_53 : decode cX0_init 53 = .ok (.iconst 4, 1) := by decide +kernel
theorem dX0_init_54 : decode cX0_init 54 = .ok (.newarray .byte, 2) := by decide +kernel
theorem dX0_init_56 : decode cX0_init 56 = .ok (.putfield 28, 3) := by decide +kernel
theorem dX0_init_59 : decode cX0_init 59 = .ok (.aload_n 0, 1) := by decide +kernel
theorem dX0_init_60 : decode cX0_init 60 = .ok (.bipush 20, 2) := by decide +kernel
theorem dX0_init_62 : decode cX0_init 62 = .ok (.newarray .byte, 2) := by decide +kernel
theorem dX0_init_64 : decode cX0_init 64 = .ok (.putfield 31, 3) := by decide +kernel
theorem dX0_init_67 : decode cX0_init 67 = .ok (.iconst 0, 1) := by decide +kernel
theorem dX0_init_68 : decode cX0_init 68 = .ok (.istore_n 1, 1) := by decide +kernel
theorem dX0_init_69 : decode cX0_init 69 = .ok (.iload_n 1, 1) := by decide +kernel
theorem dX0_init_70 : decode cX0_init 70 = .ok (.iconst 4, 1) := by decide +kernel
theorem dX0_init_71 : decode cX0_init 71 = .ok (.if_icmp .ge 16, 3) := by decide +kernel
theorem dX0_init_74 : decode cX0_init 74 = .ok (.aload_n 0, 1) := by decide +kernel
theorem dX0_init_75 : decode cX0_init 75 = .ok (.getfield 28, 3) := by decide +kernel
theorem dX0_init_78 : decode cX0_init 78 = .ok (.iload_n 1, 1) := by decide +kernel
theorem dX0_init_79 : decode cX0_init 79 = .ok (.iconst (-1), 1) := by decide +kernel
theorem dX0_init_80 : decode cX0_init 80 = .ok (.bastore, 1) := by decide +kernel
theorem dX0_init_81 : decode cX0_init 81 = .ok (.iinc 1 1, 3) := by decide +kernel
theorem dX0_init_84 : decode cX0_init 84 = .ok (.goto (-15), 3) := by decide +kernel
theorem dX0_init_87 : decode cX0_init 87 = .ok (.return_, 1) := by decide +kernel
theorem dX0_make_0 : decode cX0_make 0 = .ok (.iload_n 1, 1) := by decide +kernel
theorem dX0_make_1 : decode cX0_make 1 = .ok (.ifCond .lt 15, 3) := by decide +kernel
theorem dX0_make_4 : decode cX0_make 4 = .ok (.iload_n 1, 1) := by decide +kernel
theorem dX0_make_5 : decode cX0_make 5 = .ok (.iconst 2, 1) := by decide +kernel
theorem dX0_make_6 : decode cX0_make 6 = .ok (.if_icmp .gt 10, 3) := by decide +kernel
theorem dX0_make_9 : decode cX0_make 9 = .ok (.iload_n 2, 1) := by decide +kernel
theorem dX0_make_10 : decode cX0_make 10 = .ok (.invokestatic 38, 3) := by decide +kernel
theorem dX0_make_13 : decode cX0_make 13 = .ok (.ifCond .ne 5, 3) := by decide +kernel
theorem dX0_make_16 : decode cX0_make 16 = .ok (.iconst (-1), 1) := by decide +kernel
theorem dX0_make_17 : decode cX0_make 17 = .ok (.ireturn, 1) := by decide +kernel
theorem dX0_make_18 : decode cX0_make 18 = .ok (.iconst 0, 1) := by decide +kernel
theorem dX0_make_19 : decode cX0_make 19 = .ok (.istore_n 3, 1) := by decide +kernel
theorem dX0_make_20 : decode cX0_make 20 = .ok (.iload_n 3, 1) := by decide +kernel
theorem dX0_make_21 : decode cX0_make 21 = .ok (.bipush 20, 2) := by decide +kernel
theorem dX0_make_23 : decode cX0_make 23 = .ok (.if_icmp .ge 121, 3) := by decide +kernel
theorem dX0_make_26 : decode cX0_make 26 = .ok (.aload_n 0, 1) := by decide +kernel
theorem dX0_make_27 : decode cX0_make 27 = .ok (.iload_n 3, 1) := by decide +kernel
theorem dX0_make_28 : decode cX0_make 28 = .ok (.invokevirtual 42, 3) := by decide +kernel
theorem dX0_make_31 : decode cX0_make 31 = .ok (.ifCond .ne 107, 3) := by decide +kernel
theorem dX0_make_34 : decode cX0_make 34 = .ok (.aload_n 0, 1) := by decide +kernel
theorem dX0_make_35 : decode cX0_make 35 = .ok (.getfield 45, 3) := by decide +kernel
theorem dX0_make_38 : decode cX0_make 38 = .ok (.bipush 20, 2) := by decide +kernel
theorem dX0_make_40 : decode cX0_make 40 = .ok (.imul, 1) := by decide +kernel
theorem dX0_make_41 : decode cX0_make 41 = .ok (.aload_n 0, 1) := by decide +kernel
theorem dX0_make_42 : decode cX0_make 42 = .ok (.getfield 48, 3) := by decide +kernel
theorem dX0_make_45 : decode cX0_make 45 = .ok (.iadd, 1) := by decide +kernel
theorem dX0_make_46 : decode cX0_make 46 = .ok (.istore 4, 2) := by decide +kernel
theorem dX0_make_48 : decode cX0_make 48 = .ok (.aload_n 0, 1) := by decide +kernel
theorem dX0_make_49 : decode cX0_make 49 = .ok (.dup, 1) := by decide +kernel
theorem dX0_make_50 : decode cX0_make 50 = .ok (.getfield 48, 3) := by decide +kernel
theorem dX0_make_53 : decode cX0_make 53 = .ok (.iconst 1, 1) := by decide +kernel
theorem dX0_make_54 : decode cX0_make 54 = .ok (.iadd, 1) := by decide +kernel
theorem dX0_make_55 : decode cX0_make 55 = .ok (.putfield 48, 3) := by decide +kernel
theorem dX0_make_58 : decode cX0_make 58 = .ok (.aload_n 0, 1) := by decide +kernel
theorem dX0_make_59 : decode cX0_make 59 = .ok (.dup, 1) := by decide +kernel
theorem dX0_make_60 : decode cX0_make 60 = .ok (.getfield 34, 3) := by decide +kernel
theorem dX0_make_63 : decode cX0_make 63 = .ok (.iconst 1, 1) := by decide +kernel
theorem dX0_make_64 : decode cX0_make 64 = .ok (.iload_n 3, 1) := by decide +kernel
theorem dX0_make_65 : decode cX0_make 65 = .ok (.ishl, 1) := by decide +kernel
theorem dX0_make_66 : decode cX0_make 66 = .ok (.ior, 1) := by decide +kernel
theorem dX0_make_67 : decode cX0_make 67 = .ok (.putfield 34, 3) := by decide +kernel
theorem dX0_make_70 : decode cX0_make 70 = .ok (.aload_n 0, 1) := by decide +kernel
theorem dX0_make_71 : decode cX0_make 71 = .ok (.dup, 1) := by decide +kernel
theorem dX0_make_72 : decode cX0_make 72 = .ok (.getfield 51, 3) := by decide +kernel
theorem dX0_make_75 : decode cX0_make 75 = .ok (.iconst 1, 1) := by decide +kernel
theorem dX0_make_76 : decode cX0_make 76 = .ok (.iload_n 3, 1) := by decide +kernel
theorem dX0_make_77 : decode cX0_make 77 = .ok (.ishl, 1) := by decide +kernel
theorem dX0_make_78 : decode cX0_make 78 = .ok (.iconst (-1), 1) := by decide +kernel
theorem dX0_make_79 : decode cX0_make 79 = .ok (.ixor, 1) := by decide +kernel
theorem dX0_make_80 : decode cX0_make 80 = .ok (.iand, 1) := by decide +kernel
theorem dX0_make_81 : decode cX0_make 81 = .ok (.putfield 51, 3) := by decide +kernel
theorem dX0_make_84 : decode cX0_make 84 = .ok (.aload_n 0, 1) := by decide +kernel
theorem dX0_make_85 : decode cX0_make 85 = .ok (.getfield 7, 3) := by decide +kernel
theorem dX0_make_88 : decode cX0_make 88 = .ok (.iload_n 3, 1) := by decide +kernel
theorem dX0_make_89 : decode cX0_make 89 = .ok (.iload 4, 2) := by decide +kernel
theorem dX0_make_91 : decode cX0_make 91 = .ok (.i2b, 1) := by decide +kernel
theorem dX0_make_92 : decode cX0_make 92 = .ok (.bastore, 1) := by decide +kernel
theorem dX0_make_93 : decode cX0_make 93 = .ok (.aload_n 0, 1) := by decide +kernel
theorem dX0_make_94 : decode cX0_make 94 = .ok (.getfield 13, 3) := by decide +kernel
theorem dX0_make_97 : decode cX0_make 97 = .ok (.iload 4, 2) := by decide +kernel
theorem dX0_make_99 : decode cX0_make 99 = .ok (.iload_n 3, 1) := by decide +kernel
theorem dX0_make_100 : decode cX0_make 100 = .ok (.i2b, 1) := by decide +kernel
theorem dX0_make_101 : decode cX0_make 101 = .ok (.bastore, 1) := by decide +kernel
theorem dX0_make_102 : decode cX0_make 102 = .ok (.aload_n 0, 1) := by decide +kernel
theorem dX0_make_103 : decode cX0_make 103 = .ok (.getfield 16, 3) := by decide +kernel
theorem dX0_make_106 : decode cX0_make 106 = .ok (.iload 4, 2) := by decide +kernel
theorem dX0_make_108 : decode cX0_make 108 = .ok (.iload_n 1, 1) := by decide +kernel
theorem dX0_make_109 : decode cX0_make 109 = .ok (.i2b, 1) := by decide +kernel
theorem dX0_make_110 : decode cX0_make 110 = .ok (.bastore, 1) := by decide +kernel
theorem dX0_make_111 : decode cX0_make 111 = .ok (.aload_n 0, 1) := by decide +kernel
theorem dX0_make_112 : decode cX0_make 112 = .ok (.getfield 19, 3) := by decide +kernel
theorem dX0_make_115 : decode cX0_make 115 = .ok (.iload 4, 2) := by decide +kernel
theorem dX0_make_117 : decode cX0_make 117 = .ok (.iconst (-1), 1) := by decide +kernel
theorem dX0_make_118 : decode cX0_make 118 = .ok (.bastore, 1) := by decide +kernel
theorem dX0_make_119 : decode cX0_make 119 = .ok (.aload_n 0, 1) := by decide +kernel
theorem dX0_make_120 : decode cX0_make 120 = .ok (.getfield 22, 3) := by decide +kernel
theorem dX0_make_123 : decode cX0_make 123 = .ok (.iload 4, 2) := by decide +kernel
theorem dX0_make_125 : decode cX0_make 125 = .ok (.iconst (-1), 1) := by decide +kernel
theorem dX0_make_126 : decode cX0_make 126 = .ok (.bastore, 1) := by decide +kernel
theorem dX0_make_127 : decode cX0_make 127 = .ok (.aload_n 0, 1) := by decide +kernel
theorem dX0_make_128 : decode cX0_make 128 = .ok (.getfield 28, 3) := by decide +kernel
theorem dX0_make_131 : decode cX0_make 131 = .ok (.iload_n 2, 1) := by decide +kernel
theorem dX0_make_132 : decode cX0_make 132 = .ok (.iload 4, 2) := by decide +kernel
theorem dX0_make_134 : decode cX0_make 134 = .ok (.i2b, 1) := by decide +kernel
theorem dX0_make_135 : decode cX0_make 135 = .ok (.bastore, 1) := by decide +kernel
theorem dX0_make_136 : decode cX0_make 136 = .ok (.iload_n 3, 1) := by decide +kernel
theorem dX0_make_137 : decode cX0_make 137 = .ok (.ireturn, 1) := by decide +kernel
theorem dX0_make_138 : decode cX0_make 138 = .ok (.iinc 3 1, 3) := by decide +kernel
theorem dX0_make_141 : decode cX0_make 141 = .ok (.goto (-121), 3) := by decide +kernel
theorem dX0_make_144 : decode cX0_make 144 = .ok (.bipush (-2), 2) := by decide +kernel
theorem dX0_make_146 : decode cX0_make 146 = .ok (.ireturn, 1) := by decide +kernel
theorem dX0_isRoot_0 : decode cX0_isRoot 0 = .ok (.iload_n 0, 1) := by decide +kernel
theorem dX0_isRoot_1 : decode cX0_isRoot 1 = .ok (.ifCond .lt 12, 3) := by decide +kernel
theorem dX0_isRoot_4 : decode cX0_isRoot 4 = .ok (.iload_n 0, 1) := by decide +kernel
theorem dX0_isRoot_5 : decode cX0_isRoot 5 = .ok (.iconst 4, 1) := by decide +kernel
theorem dX0_isRoot_6 : decode cX0_isRoot 6 = .ok (.if_icmp .ge 7, 3) := by decide +kernel
theorem dX0_isRoot_9 : decode cX0_isRoot 9 = .ok (.iconst 1, 1) := by decide +kernel
theorem dX0_isRoot_10 : decode cX0_isRoot 10 = .ok (.goto 4, 3) := by decide +kernel
theorem dX0_isRoot_13 : decode cX0_isRoot 13 = .ok (.iconst 0, 1) := by decide +kernel
theorem dX0_isRoot_14 : decode cX0_isRoot 14 = .ok (.ireturn, 1) := by decide +kernel
theorem dX0_has_0 : decode cX0_has 0 = .ok (.iload_n 1, 1) := by decide +kernel
theorem dX0_has_1 : decode cX0_has 1 = .ok (.ifCond .lt 24, 3) := by decide +kernel
theorem dX0_has_4 : decode cX0_has 4 = .ok (.iload_n 1, 1) := by decide +kernel
theorem dX0_has_5 : decode cX0_has 5 = .ok (.bipush 20, 2) := by decide +kernel
theorem dX0_has_7 : decode cX0_has 7 = .ok (.if_icmp .ge 18, 3) := by decide +kernel
theorem dX0_has_10 : decode cX0_has 10 = .ok (.aload_n 0, 1) := by decide +kernel
theorem dX0_has_11 : decode cX0_has 11 = .ok (.getfield 34, 3) := by decide +kernel
theorem dX0_has_14 : decode cX0_has 14 = .ok (.iload_n 1, 1) := by decide +kernel
theorem dX0_has_15 : decode cX0_has 15 = .ok (.ishr, 1) := by decide +kernel
theorem dX0_has_16 : decode cX0_has 16 = .ok (.iconst 1, 1) := by decide +kernel
theorem dX0_has_17 : decode cX0_has 17 = .ok (.iand, 1) := by decide +kernel
theorem dX0_has_18 : decode cX0_has 18 = .ok (.ifCond .eq 7, 3) := by decide +kernel
theorem dX0_has_21 : decode cX0_has 21 = .ok (.iconst 1, 1) := by decide +kernel
theorem dX0_has_22 : decode cX0_has 22 = .ok (.goto 4, 3) := by decide +kernel
theorem dX0_has_25 : decode cX0_has 25 = .ok (.iconst 0, 1) := by decide +kernel
theorem dX0_has_26 : decode cX0_has 26 = .ok (.ireturn, 1) := by decide +kernel
theorem dX0_point_0 : decode cX0_point 0 = .ok (.aload_n 0, 1) := by decide +kernel
theorem dX0_point_1 : decode cX0_point 1 = .ok (.iload_n 1, 1) := by decide +kernel
theorem dX0_point_2 : decode cX0_point 2 = .ok (.invokevirtual 42, 3) := by decide +kernel
theorem dX0_point_5 : decode cX0_point 5 = .ok (.ifCond .eq 25, 3) := by decide +kernel
theorem dX0_point_8 : decode cX0_point 8 = .ok (.iload_n 3, 1) := by decide +kernel
theorem dX0_point_9 : decode cX0_point 9 = .ok (.iconst (-1), 1) := by decide +kernel
theorem dX0_point_10 : decode cX0_point 10 = .ok (.if_icmp .eq 11, 3) := by decide +kernel
theorem dX0_point_13 : decode cX0_point 13 = .ok (.aload_n 0, 1) := by decide +kernel
theorem dX0_point_14 : decode cX0_point 14 = .ok (.iload_n 3, 1) := by decide +kernel
theorem dX0_point_15 : decode cX0_point 15 = .ok (.invokevirtual 42, 3) := by decide +kernel
theorem dX0_point_18 : decode cX0_point 18 = .ok (.ifCond .eq 12, 3) := by decide +kernel
theorem dX0_point_21 : decode cX0_point 21 = .ok (.iload_n 2, 1) := by decide +kernel
theorem dX0_point_22 : decode cX0_point 22 = .ok (.ifCond .lt 8, 3) := by decide +kernel
theorem dX0_point_25 : decode cX0_point 25 = .ok (.iload_n 2, 1) := by decide +kernel
theorem dX0_point_26 : decode cX0_point 26 = .ok (.iconst 1, 1) := by decide +kernel
theorem dX0_point_27 : decode cX0_point 27 = .ok (.if_icmp .le 5, 3) := by decide +kernel
theorem dX0_point_30 : decode cX0_point 30 = .ok (.iconst 0, 1) := by decide +kernel
theorem dX0_point_31 : decode cX0_point 31 = .ok (.ireturn, 1) := by decide +kernel
theorem dX0_point_32 : decode cX0_point 32 = .ok (.iload_n 2, 1) := by decide +kernel
theorem dX0_point_33 : decode cX0_point 33 = .ok (.ifCond .ne 23, 3) := by decide +kernel
theorem dX0_point_36 : decode cX0_point 36 = .ok (.aload_n 0, 1) := by decide +kernel
theorem dX0_point_37 : decode cX0_point 37 = .ok (.getfield 19, 3) := by decide +kernel
theorem dX0_point_40 : decode cX0_point 40 = .ok (.aload_n 0, 1) := by decide +kernel
theorem dX0_point_41 : decode cX0_point 41 = .ok (.getfield 7, 3) := by decide +kernel
theorem dX0_point_44 : decode cX0_point 44 = .ok (.iload_n 1, 1) := by decide +kernel
theorem dX0_point_45 : decode cX0_point 45 = .ok (.baload, 1) := by decide +kernel
theorem dX0_point_46 : decode cX0_point 46 = .ok (.aload_n 0, 1) := by decide +kernel
theorem dX0_point_47 : decode cX0_point 47 = .ok (.iload_n 3, 1) := by decide +kernel
theorem dX0_point_48 : decode cX0_point 48 = .ok (.invokevirtual 54, 3) := by decide +kernel
theorem dX0_point_51 : decode cX0_point 51 = .ok (.i2b, 1) := by decide +kernel
theorem dX0_point_52 : decode cX0_point 52 = .ok (.bastore, 1) := by decide +kernel
theorem dX0_point_53 : decode cX0_point 53 = .ok (.goto 20, 3) := by decide +kernel
theorem dX0_point_56 : decode cX0_point 56 = .ok (.aload_n 0, 1) := by decide +kernel
theorem dX0_point_57 : decode cX0_point 57 = .ok (.getfield 22, 3) := by decide +kernel
theorem dX0_point_60 : decode cX0_point 60 = .ok (.aload_n 0, 1) := by decide +kernel
theorem dX0_point_61 : decode cX0_point 61 = .ok (.getfield 7, 3) := by decide +kernel
theorem dX0_point_64 : decode cX0_point 64 = .ok (.iload_n 1, 1) := by decide +kernel
theorem dX0_point_65 : decode cX0_point 65 = .ok (.baload, 1) := by decide +kernel
theorem dX0_point_66 : decode cX0_point 66 = .ok (.aload_n 0, 1) := by decide +kernel
theorem dX0_point_67 : decode cX0_point 67 = .ok (.iload_n 3, 1) := by decide +kernel
theorem dX0_point_68 : decode cX0_point 68 = .ok (.invokevirtual 54, 3) := by decide +kernel
theorem dX0_point_71 : decode cX0_point 71 = .ok (.i2b, 1) := by decide +kernel
theorem dX0_point_72 : decode cX0_point 72 = .ok (.bastore, 1) := by decide +kernel
theorem dX0_point_73 : decode cX0_point 73 = .ok (.iconst 1, 1) := by decide +kernel
theorem dX0_point_74 : decode cX0_point 74 = .ok (.ireturn, 1) := by decide +kernel
theorem dX0_placeFor_0 : decode cX0_placeFor 0 = .ok (.iload_n 1, 1) := by decide +kernel
theorem dX0_placeFor_1 : decode cX0_placeFor 1 = .ok (.iconst (-1), 1) := by decide +kernel
theorem dX0_placeFor_2 : decode cX0_placeFor 2 = .ok (.if_icmp .ne 7, 3) := by decide +kernel
theorem dX0_placeFor_5 : decode cX0_placeFor 5 = .ok (.iconst (-1), 1) := by decide +kernel
theorem dX0_placeFor_6 : decode cX0_placeFor 6 = .ok (.goto 9, 3) := by decide +kernel
theorem dX0_placeFor_9 : decode cX0_placeFor 9 = .ok (.aload_n 0, 1) := by decide +kernel
theorem dX0_placeFor_10 : decode cX0_placeFor 10 = .ok (.getfield 7, 3) := by decide +kernel
theorem dX0_placeFor_13 : decode cX0_placeFor 13 = .ok (.iload_n 1, 1) := by decide +kernel
theorem dX0_placeFor_14 : decode cX0_placeFor 14 = .ok (.baload, 1) := by decide +kernel
theorem dX0_placeFor_15 : decode cX0_placeFor 15 = .ok (.ireturn, 1) := by decide +kernel
theorem dX0_root_0 : decode cX0_root 0 = .ok (.iload_n 1, 1) := by decide +kernel
theorem dX0_root_1 : decode cX0_root 1 = .ok (.invokestatic 38, 3) := by decide +kernel
theorem dX0_root_4 : decode cX0_root 4 = .ok (.ifCond .eq 16, 3) := by decide +kernel
theorem dX0_root_7 : decode cX0_root 7 = .ok (.iload_n 2, 1) := by decide +kernel
theorem dX0_root_8 : decode cX0_root 8 = .ok (.iconst (-1), 1) := by decide +kernel
theorem dX0_root_9 : decode cX0_root 9 = .ok (.if_icmp .eq 13, 3) := by decide +kernel
theorem dX0_root_12 : decode cX0_root 12 = .ok (.aload_n 0, 1) := by decide +kernel
theorem dX0_root_13 : decode cX0_root 13 = .ok (.iload_n 2, 1) := by decide +kernel
theorem dX0_root_14 : decode cX0_root 14 = .ok (.invokevirtual 42, 3) := by decide +kernel
theorem dX0_root_17 : decode cX0_root 17 = .ok (.ifCond .ne 5, 3) := by decide +kernel
theorem dX0_root_20 : decode cX0_root 20 = .ok (.iconst 0, 1) := by decide +kernel
theorem dX0_root_21 : decode cX0_root 21 = .ok (.ireturn, 1) := by decide +kernel
theorem dX0_root_22 : decode cX0_root 22 = .ok (.aload_n 0, 1) := by decide +kernel
theorem dX0_root_23 : decode cX0_root 23 = .ok (.getfield 28, 3) := by decide +kernel
theorem dX0_root_26 : decode cX0_root 26 = .ok (.iload_n 1, 1) := by decide +kernel
theorem dX0_root_27 : decode cX0_root 27 = .ok (.aload_n 0, 1) := by decide +kernel
theorem dX0_root_28 : decode cX0_root 28 = .ok (.iload_n 2, 1) := by decide +kernel
theorem dX0_root_29 : decode cX0_root 29 = .ok (.invokevirtual 54, 3) := by decide +kernel
theorem dX0_root_32 : decode cX0_root 32 = .ok (.i2b, 1) := by decide +kernel
theorem dX0_root_33 : decode cX0_root 33 = .ok (.bastore, 1) := by decide +kernel
theorem dX0_root_34 : decode cX0_root 34 = .ok (.iconst 1, 1) := by decide +kernel
theorem dX0_root_35 : decode cX0_root 35 = .ok (.ireturn, 1) := by decide +kernel
theorem dX0_watch_0 : decode cX0_watch 0 = .ok (.aload_n 0, 1) := by decide +kernel
theorem dX0_watch_1 : decode cX0_watch 1 = .ok (.iload_n 1, 1) := by decide +kernel
theorem dX0_watch_2 : decode cX0_watch 2 = .ok (.invokevirtual 42, 3) := by decide +kernel
theorem dX0_watch_5 : decode cX0_watch 5 = .ok (.ifCond .ne 5, 3) := by decide +kernel
theorem dX0_watch_8 : decode cX0_watch 8 = .ok (.iconst 0, 1) := by decide +kernel
theorem dX0_watch_9 : decode cX0_watch 9 = .ok (.ireturn, 1) := by decide +kernel
theorem dX0_watch_10 : decode cX0_watch 10 = .ok (.aload_n 0, 1) := by decide +kernel
theorem dX0_watch_11 : decode cX0_watch 11 = .ok (.dup, 1) := by decide +kernel
theorem dX0_watch_12 : decode cX0_watch 12 = .ok (.getfield 51, 3) := by decide +kernel
theorem dX0_watch_15 : decode cX0_watch 15 = .ok (.iconst 1, 1) := by decide +kernel
theorem dX0_watch_16 : decode cX0_watch 16 = .ok (.iload_n 1, 1) := by decide +kernel
theorem dX0_watch_17 : decode cX0_watch 17 = .ok (.ishl, 1) := by decide +kernel
theorem dX0_watch_18 : decode cX0_watch 18 = .ok (.ior, 1) := by decide +kernel
theorem dX0_watch_19 : decode cX0_watch 19 = .ok (.putfield 51, 3) := by decide +kernel
theorem dX0_watch_22 : decode cX0_watch 22 = .ok (.iconst 1, 1) := by decide +kernel
theorem dX0_watch_23 : decode cX0_watch 23 = .ok (.ireturn, 1) := by decide +kernel
theorem dX0_clean_0 : decode cX0_clean 0 = .ok (.aload_n 0, 1) := by decide +kernel
theorem dX0_clean_1 : decode cX0_clean 1 = .ok (.invokevirtual 83, 3) := by decide +kernel
theorem dX0_clean_4 : decode cX0_clean 4 = .ok (.aload_n 0, 1) := by decide +kernel
theorem dX0_clean_5 : decode cX0_clean 5 = .ok (.getfield 58, 3) := by decide +kernel
theorem dX0_clean_8 : decode cX0_clean 8 = .ok (.istore_n 1, 1) := by decide +kernel
theorem dX0_clean_9 : decode cX0_clean 9 = .ok (.aload_n 0, 1) := by decide +kernel
theorem dX0_clean_10 : decode cX0_clean 10 = .ok (.invokevirtual 86, 3) := by decide +kernel
theorem dX0_clean_13 : decode cX0_clean 13 = .ok (.aload_n 0, 1) := by decide +kernel
theorem dX0_clean_14 : decode cX0_clean 14 = .ok (.iload_n 1, 1) := by decide +kernel
theorem dX0_clean_15 : decode cX0_clean 15 = .ok (.invokevirtual 89, 3) := by decide +kernel
theorem dX0_clean_18 : decode cX0_clean 18 = .ok (.aload_n 0, 1) := by decide +kernel
theorem dX0_clean_19 : decode cX0_clean 19 = .ok (.getfield 34, 3) := by decide +kernel
theorem dX0_clean_22 : decode cX0_clean 22 = .ok (.invokestatic 92, 3) := by decide +kernel
theorem dX0_clean_25 : decode cX0_clean 25 = .ok (.istore_n 2, 1) := by decide +kernel
theorem dX0_clean_26 : decode cX0_clean 26 = .ok (.iconst 0, 1) := by decide +kernel
theorem dX0_clean_27 : decode cX0_clean 27 = .ok (.istore_n 3, 1) := by decide +kernel
theorem dX0_clean_28 : decode cX0_clean 28 = .ok (.iload_n 3, 1) := by decide +kernel
theorem dX0_clean_29 : decode cX0_clean 29 = .ok (.iconst 4, 1) := by decide +kernel
theorem dX0_clean_30 : decode cX0_clean 30 = .ok (.if_icmp .ge 26, 3) := by decide +kernel
theorem dX0_clean_33 : decode cX0_clean 33 = .ok (.aload_n 0, 1) := by decide +kernel
theorem dX0_clean_34 : decode cX0_clean 34 = .ok (.getfield 28, 3) := by decide +kernel
theorem dX0_clean_37 : decode cX0_clean 37 = .ok (.iload_n 3, 1) := by decide +kernel
theorem dX0_clean_38 : decode cX0_clean 38 = .ok (.aload_n 0, 1) := by decide +kernel
theorem dX0_clean_39 : decode cX0_clean 39 = .ok (.aload_n 0, 1) := by decide +kernel
theorem dX0_clean_40 : decode cX0_clean 40 = .ok (.getfield 28, 3) := by decide +kernel
theorem dX0_clean_43 : decode cX0_clean 43 = .ok (.iload_n 3, 1) := by decide +kernel
theorem dX0_clean_44 : decode cX0_clean 44 = .ok (.baload, 1) := by decide +kernel
theorem dX0_clean_45 : decode cX0_clean 45 = .ok (.invokevirtual 74, 3) := by decide +kernel
theorem dX0_clean_48 : decode cX0_clean 48 = .ok (.i2b, 1) := by decide +kernel
theorem dX0_clean_49 : decode cX0_clean 49 = .ok (.bastore, 1) := by decide +kernel
theorem dX0_clean_50 : decode cX0_clean 50 = .ok (.iinc 3 1, 3) := by decide +kernel
theorem dX0_clean_53 : decode cX0_clean 53 = .ok (.goto (-25), 3) := by decide +kernel
theorem dX0_clean_56 : decode cX0_clean 56 = .ok (.aload_n 0, 1) := by decide +kernel
theorem dX0_clean_57 : decode cX0_clean 57 = .ok (.iconst 1, 1) := by decide +kernel
theorem dX0_clean_58 : decode cX0_clean 58 = .ok (.aload_n 0, 1) := by decide +kernel
theorem dX0_clean_59 : decode cX0_clean 59 = .ok (.getfield 45, 3) := by decide +kernel
theorem dX0_clean_62 : decode cX0_clean 62 = .ok (.isub, 1) := by decide +kernel
theorem dX0_clean_63 : decode cX0_clean 63 = .ok (.putfield 45, 3) := by decide +kernel
theorem dX0_clean_66 : decode cX0_clean 66 = .ok (.aload_n 0, 1) := by decide +kernel
theorem dX0_clean_67 : decode cX0_clean 67 = .ok (.aload_n 0, 1) := by decide +kernel
theorem dX0_clean_68 : decode cX0_clean 68 = .ok (.getfield 58, 3) := by decide +kernel
theorem dX0_clean_71 : decode cX0_clean 71 = .ok (.putfield 48, 3) := by decide +kernel
theorem dX0_clean_74 : decode cX0_clean 74 = .ok (.aload_n 0, 1) := by decide +kernel
theorem dX0_clean_75 : decode cX0_clean 75 = .ok (.iconst 0, 1) := by decide +kernel
theorem dX0_clean_76 : decode cX0_clean 76 = .ok (.putfield 34, 3) := by decide +kernel
theorem dX0_clean_79 : decode cX0_clean 79 = .ok (.iconst 0, 1) := by decide +kernel
theorem dX0_clean_80 : decode cX0_clean 80 = .ok (.istore_n 3, 1) := by decide +kernel
theorem dX0_clean_81 : decode cX0_clean 81 = .ok (.iload_n 3, 1) := by decide +kernel
theorem dX0_clean_82 : decode cX0_clean 82 = .ok (.aload_n 0, 1) := by decide +kernel
theorem dX0_clean_83 : decode cX0_clean 83 = .ok (.getfield 58, 3) := by decide +kernel
theorem dX0_clean_86 : decode cX0_clean 86 = .ok (.if_icmp .ge 53, 3) := by decide +kernel
theorem dX0_clean_89 : decode cX0_clean 89 = .ok (.aload_n 0, 1) := by decide +kernel
theorem dX0_clean_90 : decode cX0_clean 90 = .ok (.getfield 45, 3) := by decide +kernel
theorem dX0_clean_93 : decode cX0_clean 93 = .ok (.bipush 20, 2) := by decide +kernel
theorem dX0_clean_95 : decode cX0_clean 95 = .ok (.imul, 1) := by decide +kernel
theorem dX0_clean_96 : decode cX0_clean 96 = .ok (.iload_n 3, 1) := by decide +kernel
theorem dX0_clean_97 : decode cX0_clean 97 = .ok (.iadd, 1) := by decide +kernel
theorem dX0_clean_98 : decode cX0_clean 98 = .ok (.istore 4, 2) := by decide +kernel
theorem dX0_clean_100 : decode cX0_clean 100 = .ok (.aload_n 0, 1) := by decide +kernel
theorem dX0_clean_101 : decode cX0_clean 101 = .ok (.dup, 1) := by decide +kernel
theorem dX0_clean_102 : decode cX0_clean 102 = .ok (.getfield 34, 3) := by decide +kernel
theorem dX0_clean_105 : decode cX0_clean 105 = .ok (.iconst 1, 1) := by decide +kernel
theorem dX0_clean_106 : decode cX0_clean 106 = .ok (.aload_n 0, 1) := by decide +kernel
theorem dX0_clean_107 : decode cX0_clean 107 = .ok (.getfield 13, 3) := by decide +kernel
theorem dX0_clean_110 : decode cX0_clean 110 = .ok (.iload 4, 2) := by decide +kernel
theorem dX0_clean_112 : decode cX0_clean 112 = .ok (.baload, 1) := by decide +kernel
theorem dX0_clean_113 : decode cX0_clean 113 = .ok (.ishl, 1) := by decide +kernel
theorem dX0_clean_114 : decode cX0_clean 114 = .ok (.ior, 1) := by decide +kernel
theorem dX0_clean_115 : decode cX0_clean 115 = .ok (.putfield 34, 3) := by decide +kernel
theorem dX0_clean_118 : decode cX0_clean 118 = .ok (.aload_n 0, 1) := by decide +kernel
theorem dX0_clean_119 : decode cX0_clean 119 = .ok (.getfield 7, 3) := by decide +kernel
theorem dX0_clean_122 : decode cX0_clean 122 = .ok (.aload_n 0, 1) := by decide +kernel
theorem dX0_clean_123 : decode cX0_clean 123 = .ok (.getfield 13, 3) := by decide +kernel
theorem dX0_clean_126 : decode cX0_clean 126 = .ok (.iload 4, 2) := by decide +kernel
theorem dX0_clean_128 : decode cX0_clean 128 = .ok (.baload, 1) := by decide +kernel
theorem dX0_clean_129 : decode cX0_clean 129 = .ok (.iload 4, 2) := by decide +kernel
theorem dX0_clean_131 : decode cX0_clean 131 = .ok (.i2b, 1) := by decide +kernel
theorem dX0_clean_132 : decode cX0_clean 132 = .ok (.bastore, 1) := by decide +kernel
theorem dX0_clean_133 : decode cX0_clean 133 = .ok (.iinc 3 1, 3) := by decide +kernel
theorem dX0_clean_136 : decode cX0_clean 136 = .ok (.goto (-55), 3) := by decide +kernel
theorem dX0_clean_139 : decode cX0_clean 139 = .ok (.aload_n 0, 1) := by decide +kernel
theorem dX0_clean_140 : decode cX0_clean 140 = .ok (.dup, 1) := by decide +kernel
theorem dX0_clean_141 : decode cX0_clean 141 = .ok (.getfield 51, 3) := by decide +kernel
theorem dX0_clean_144 : decode cX0_clean 144 = .ok (.aload_n 0, 1) := by decide +kernel
theorem dX0_clean_145 : decode cX0_clean 145 = .ok (.getfield 34, 3) := by decide +kernel
theorem dX0_clean_148 : decode cX0_clean 148 = .ok (.iand, 1) := by decide +kernel
theorem dX0_clean_149 : decode cX0_clean 149 = .ok (.putfield 51, 3) := by decide +kernel
theorem dX0_clean_152 : decode cX0_clean 152 = .ok (.iload_n 2, 1) := by decide +kernel
theorem dX0_clean_153 : decode cX0_clean 153 = .ok (.aload_n 0, 1) := by decide +kernel
theorem dX0_clean_154 : decode cX0_clean 154 = .ok (.getfield 58, 3) := by decide +kernel
theorem dX0_clean_157 : decode cX0_clean 157 = .ok (.isub, 1) := by decide +kernel
theorem dX0_clean_158 : decode cX0_clean 158 = .ok (.ireturn, 1) := by decide +kernel
theorem dX0_copyLiving_0 : decode cX0_copyLiving 0 = .ok (.iconst 0, 1) := by decide +kernel
theorem dX0_copyLiving_1 : decode cX0_copyLiving 1 = .ok (.istore_n 1, 1) := by decide +kernel
theorem dX0_copyLiving_2 : decode cX0_copyLiving 2 = .ok (.iload_n 1, 1) := by decide +kernel
theorem dX0_copyLiving_3 : decode cX0_copyLiving 3 = .ok (.bipush 40, 2) := by decide +kernel
theorem dX0_copyLiving_5 : decode cX0_copyLiving 5 = .ok (.if_icmp .ge 16, 3) := by decide +kernel
theorem dX0_copyLiving_8 : decode cX0_copyLiving 8 = .ok (.aload_n 0, 1) := by decide +kernel
theorem dX0_copyLiving_9 : decode cX0_copyLiving 9 = .ok (.getfield 25, 3) := by decide +kernel
theorem dX0_copyLiving_12 : decode cX0_copyLiving 12 = .ok (.iload_n 1, 1) := by decide +kernel
theorem dX0_copyLiving_13 : decode cX0_copyLiving 13 = .ok (.iconst (-1), 1) := by decide +kernel
theorem dX0_copyLiving_14 : decode cX0_copyLiving 14 = .ok (.bastore, 1) := by decide +kernel
theorem dX0_copyLiving_15 : decode cX0_copyLiving 15 = .ok (.iinc 1 1, 3) := by decide +kernel
theorem dX0_copyLiving_18 : decode cX0_copyLiving 18 = .ok (.goto (-16), 3) := by decide +kernel
theorem dX0_copyLiving_21 : decode cX0_copyLiving 21 = .ok (.aload_n 0, 1) := by decide +kernel
theorem dX0_copyLiving_22 : decode cX0_copyLiving 22 = .ok (.iconst 0, 1) := by decide +kernel
theorem dX0_copyLiving_23 : decode cX0_copyLiving 23 = .ok (.putfield 58, 3) := by decide +kernel
theorem dX0_copyLiving_26 : decode cX0_copyLiving 26 = .ok (.aload_n 0, 1) := by decide +kernel
theorem dX0_copyLiving_27 : decode cX0_copyLiving 27 = .ok (.iconst 0, 1) := by decide +kernel
theorem dX0_copyLiving_28 : decode cX0_copyLiving 28 = .ok (.putfield 61, 3) := by decide +kernel
theorem dX0_copyLiving_31 : decode cX0_copyLiving 31 = .ok (.iconst 0, 1) := by decide +kernel
theorem dX0_copyLiving_32 : decode cX0_copyLiving 32 = .ok (.istore_n 1, 1) := by decide +kernel
theorem dX0_copyLiving_33 : decode cX0_copyLiving 33 = .ok (.iload_n 1, 1) := by decide +kernel
theorem dX0_copyLiving_34 : decode cX0_copyLiving 34 = .ok (.iconst 4, 1) := by decide +kernel
theorem dX0_copyLiving_35 : decode cX0_copyLiving 35 = .ok (.if_icmp .ge 19, 3) := by decide +kernel
theorem dX0_copyLiving_38 : decode cX0_copyLiving 38 = .ok (.aload_n 0, 1) := by decide +kernel
theorem dX0_copyLiving_39 : decode cX0_copyLiving 39 = .ok (.aload_n 0, 1) := by decide +kernel
theorem dX0_copyLiving_40 : decode cX0_copyLiving 40 = .ok (.getfield 28, 3) := by decide +kernel
theorem dX0_copyLiving_43 : decode cX0_copyLiving 43 = .ok (.iload_n 1, 1) := by decide +kernel
theorem dX0_copyLiving_44 : decode cX0_copyLiving 44 = .ok (.baload, 1) := by decide +kernel
theorem dX0_copyLiving_45 : decode cX0_copyLiving 45 = .ok (.invokevirtual 64, 3) := by decide +kernel
theorem dX0_copyLiving_48 : decode cX0_copyLiving 48 = .ok (.iinc 1 1, 3) := by decide +kernel
theorem dX0_copyLiving_51 : decode cX0_copyLiving 51 = .ok (.goto (-18), 3) := by decide +kernel
theorem dX0_copyLiving_54 : decode cX0_copyLiving 54 = .ok (.iconst 0, 1) := by decide +kernel
theorem dX0_copyLiving_55 : decode cX0_copyLiving 55 = .ok (.istore_n 1, 1) := by decide +kernel
theorem dX0_copyLiving_56 : decode cX0_copyLiving 56 = .ok (.iload_n 1, 1) := by decide +kernel
theorem dX0_copyLiving_57 : decode cX0_copyLiving 57 = .ok (.aload_n 0, 1) := by decide +kernel
theorem dX0_copyLiving_58 : decode cX0_copyLiving 58 = .ok (.getfield 77, 3) := by decide +kernel
theorem dX0_copyLiving_61 : decode cX0_copyLiving 61 = .ok (.if_icmp .ge 24, 3) := by decide +kernel
theorem dX0_copyLiving_64 : decode cX0_copyLiving 64 = .ok (.aload_n 0, 1) := by decide +kernel
theorem dX0_copyLiving_65 : decode cX0_copyLiving 65 = .ok (.aload_n 0, 1) := by decide +kernel
theorem dX0_copyLiving_66 : decode cX0_copyLiving 66 = .ok (.getfield 7, 3) := by decide +kernel
theorem dX0_copyLiving_69 : decode cX0_copyLiving 69 = .ok (.aload_n 0, 1) := by decide +kernel
theorem dX0_copyLiving_70 : decode cX0_copyLiving 70 = .ok (.getfield 31, 3) := by decide +kernel
theorem dX0_copyLiving_73 : decode cX0_copyLiving 73 = .ok (.iload_n 1, 1) := by decide +kernel
theorem dX0_copyLiving_74 : decode cX0_copyLiving 74 = .ok (.baload, 1) := by decide +kernel
theorem dX0_copyLiving_75 : decode cX0_copyLiving 75 = .ok (.baload, 1) := by decide +kernel
theorem dX0_copyLiving_76 : decode cX0_copyLiving 76 = .ok (.invokevirtual 64, 3) := by decide +kernel
theorem dX0_copyLiving_79 : decode cX0_copyLiving 79 = .ok (.iinc 1 1, 3) := by decide +kernel
theorem dX0_copyLiving_82 : decode cX0_copyLiving 82 = .ok (.goto (-26), 3) := by decide +kernel
theorem dX0_copyLiving_85 : decode cX0_copyLiving 85 = .ok (.aload_n 0, 1) := by decide +kernel
theorem dX0_copyLiving_86 : decode cX0_copyLiving 86 = .ok (.invokevirtual 80, 3) := by decide +kernel
theorem dX0_copyLiving_89 : decode cX0_copyLiving 89 = .ok (.return_, 1) := by decide +kernel
theorem dX0_copy_0 : decode cX0_copy 0 = .ok (.iload_n 1, 1) := by decide +kernel
end
section
set_option maxRecDepth 100000
theorem dX0_copy_1 : decode cX0_copy 1 = .ok (.ifCond .lt 12, 3) := by decide +kernel
theorem dX0_copy_4 : decode cX0_copy 4 = .ok (.aload_n 0, 1) := by decide +kernel
theorem dX0_copy_5 : decode cX0_copy 5 = .ok (.getfield 25, 3) := by decide +kernel
theorem dX0_copy_8 : decode cX0_copy 8 = .ok (.iload_n 1, 1) := by decide +kernel
theorem dX0_copy_9 : decode cX0_copy 9 = .ok (.baload, 1) := by decide +kernel
theorem dX0_copy_10 : decode cX0_copy 10 = .ok (.ifCond .lt 4, 3) := by decide +kernel
theorem dX0_copy_13 : decode cX0_copy 13 = .ok (.return_, 1) := by decide +kernel
theorem dX0_copy_14 : decode cX0_copy 14 = .ok (.iconst 1, 1) := by decide +kernel
theorem dX0_copy_15 : decode cX0_copy 15 = .ok (.aload_n 0, 1) := by decide +kernel
theorem dX0_copy_16 : decode cX0_copy 16 = .ok (.getfield 45, 3) := by decide +kernel
theorem dX0_copy_19 : decode cX0_copy 19 = .ok (.isub, 1) := by decide +kernel
theorem dX0_copy_20 : decode cX0_copy 20 = .ok (.bipush 20, 2) := by decide +kernel
theorem dX0_copy_22 : decode cX0_copy 22 = .ok (.imul, 1) := by decide +kernel
theorem dX0_copy_23 : decode cX0_copy 23 = .ok (.aload_n 0, 1) := by decide +kernel
theorem dX0_copy_24 : decode cX0_copy 24 = .ok (.getfield 58, 3) := by decide +kernel
theorem dX0_copy_27 : decode cX0_copy 27 = .ok (.iadd, 1) := by decide +kernel
theorem dX0_copy_28 : decode cX0_copy 28 = .ok (.istore_n 2, 1) := by decide +kernel
theorem dX0_copy_29 : decode cX0_copy 29 = .ok (.aload_n 0, 1) := by decide +kernel
theorem dX0_copy_30 : decode cX0_copy 30 = .ok (.dup, 1) := by decide +kernel
theorem dX0_copy_31 : decode cX0_copy 31 = .ok (.getfield 58, 3) := by decide +kernel
theorem dX0_copy_34 : decode cX0_copy 34 = .ok (.iconst 1, 1) := by decide +kernel
theorem dX0_copy_35 : decode cX0_copy 35 = .ok (.iadd, 1) := by decide +kernel
theorem dX0_copy_36 : decode cX0_copy 36 = .ok (.putfield 58, 3) := by decide +kernel
theorem dX0_copy_39 : decode cX0_copy 39 = .ok (.aload_n 0, 1) := by decide +kernel
theorem dX0_copy_40 : decode cX0_copy 40 = .ok (.getfield 25, 3) := by decide +kernel
theorem dX0_copy_43 : decode cX0_copy 43 = .ok (.iload_n 1, 1) := by decide +kernel
theorem dX0_copy_44 : decode cX0_copy 44 = .ok (.iload_n 2, 1) := by decide +kernel
theorem dX0_copy_45 : decode cX0_copy 45 = .ok (.i2b, 1) := by decide +kernel
theorem dX0_copy_46 : decode cX0_copy 46 = .ok (.bastore, 1) := by decide +kernel
theorem dX0_copy_47 : decode cX0_copy 47 = .ok (.aload_n 0, 1) := by decide +kernel
theorem dX0_copy_48 : decode cX0_copy 48 = .ok (.getfield 13, 3) := by decide +kernel
theorem dX0_copy_51 : decode cX0_copy 51 = .ok (.iload_n 2, 1) := by decide +kernel
theorem dX0_copy_52 : decode cX0_copy 52 = .ok (.aload_n 0, 1) := by decide +kernel
theorem dX0_copy_53 : decode cX0_copy 53 = .ok (.getfield 13, 3) := by decide +kernel
theorem dX0_copy_56 : decode cX0_copy 56 = .ok (.iload_n 1, 1) := by decide +kernel
theorem dX0_copy_57 : decode cX0_copy 57 = .ok (.baload, 1) := by decide +kernel
theorem dX0_copy_58 : decode cX0_copy 58 = .ok (.bastore, 1) := by decide +kernel
theorem dX0_copy_59 : decode cX0_copy 59 = .ok (.aload_n 0, 1) := by decide +kernel
theorem dX0_copy_60 : decode cX0_copy 60 = .ok (.getfield 16, 3) := by decide +kernel
theorem dX0_copy_63 : decode cX0_copy 63 = .ok (.iload_n 2, 1) := by decide +kernel
theorem dX0_copy_64 : decode cX0_copy 64 = .ok (.aload_n 0, 1) := by decide +kernel
theorem dX0_copy_65 : decode cX0_copy 65 = .ok (.getfield 16, 3) := by decide +kernel
theorem dX0_copy_68 : decode cX0_copy 68 = .ok (.iload_n 1, 1) := by decide +kernel
theorem dX0_copy_69 : decode cX0_copy 69 = .ok (.baload, 1) := by decide +kernel
theorem dX0_copy_70 : decode cX0_copy 70 = .ok (.bastore, 1) := by decide +kernel
theorem dX0_copy_71 : decode cX0_copy 71 = .ok (.aload_n 0, 1) := by decide +kernel
theorem dX0_copy_72 : decode cX0_copy 72 = .ok (.getfield 19, 3) := by decide +kernel
theorem dX0_copy_75 : decode cX0_copy 75 = .ok (.iload_n 2, 1) := by decide +kernel
theorem dX0_copy_76 : decode cX0_copy 76 = .ok (.aload_n 0, 1) := by decide +kernel
theorem dX0_copy_77 : decode cX0_copy 77 = .ok (.getfield 19, 3) := by decide +kernel
theorem dX0_copy_80 : decode cX0_copy 80 = .ok (.iload_n 1, 1) := by decide +kernel
theorem dX0_copy_81 : decode cX0_copy 81 = .ok (.baload, 1) := by decide +kernel
theorem dX0_copy_82 : decode cX0_copy 82 = .ok (.bastore, 1) := by decide +kernel
theorem dX0_copy_83 : decode cX0_copy 83 = .ok (.aload_n 0, 1) := by decide +kernel
theorem dX0_copy_84 : decode cX0_copy 84 = .ok (.getfield 22, 3) := by decide +kernel
theorem dX0_copy_87 : decode cX0_copy 87 = .ok (.iload_n 2, 1) := by decide +kernel
theorem dX0_copy_88 : decode cX0_copy 88 = .ok (.aload_n 0, 1) := by decide +kernel
theorem dX0_copy_89 : decode cX0_copy 89 = .ok (.getfield 22, 3) := by decide +kernel
theorem dX0_copy_92 : decode cX0_copy 92 = .ok (.iload_n 1, 1) := by decide +kernel
theorem dX0_copy_93 : decode cX0_copy 93 = .ok (.baload, 1) := by decide +kernel
theorem dX0_copy_94 : decode cX0_copy 94 = .ok (.bastore, 1) := by decide +kernel
theorem dX0_copy_95 : decode cX0_copy 95 = .ok (.return_, 1) := by decide +kernel
theorem dX0_spread_0 : decode cX0_spread 0 = .ok (.iconst (-1), 1) := by decide +kernel
theorem dX0_spread_1 : decode cX0_spread 1 = .ok (.istore_n 1, 1) := by decide +kernel
theorem dX0_spread_2 : decode cX0_spread 2 = .ok (.iconst 0, 1) := by decide +kernel
theorem dX0_spread_3 : decode cX0_spread 3 = .ok (.istore_n 2, 1) := by decide +kernel
theorem dX0_spread_4 : decode cX0_spread 4 = .ok (.iload_n 2, 1) := by decide +kernel
theorem dX0_spread_5 : decode cX0_spread 5 = .ok (.bipush 20, 2) := by decide +kernel
theorem dX0_spread_7 : decode cX0_spread 7 = .ok (.if_icmp .gt 104, 3) := by decide +kernel
theorem dX0_spread_10 : decode cX0_spread 10 = .ok (.iload_n 1, 1) := by decide +kernel
theorem dX0_spread_11 : decode cX0_spread 11 = .ok (.aload_n 0, 1) := by decide +kernel
theorem dX0_spread_12 : decode cX0_spread 12 = .ok (.getfield 58, 3) := by decide +kernel
theorem dX0_spread_15 : decode cX0_spread 15 = .ok (.if_icmp .eq 96, 3) := by decide +kernel
theorem dX0_spread_18 : decode cX0_spread 18 = .ok (.aload_n 0, 1) := by decide +kernel
theorem dX0_spread_19 : decode cX0_spread 19 = .ok (.getfield 58, 3) := by decide +kernel
theorem dX0_spread_22 : decode cX0_spread 22 = .ok (.istore_n 1, 1) := by decide +kernel
theorem dX0_spread_23 : decode cX0_spread 23 = .ok (.aload_n 0, 1) := by decide +kernel
theorem dX0_spread_24 : decode cX0_spread 24 = .ok (.getfield 61, 3) := by decide +kernel
theorem dX0_spread_27 : decode cX0_spread 27 = .ok (.aload_n 0, 1) := by decide +kernel
theorem dX0_spread_28 : decode cX0_spread 28 = .ok (.getfield 58, 3) := by decide +kernel
theorem dX0_spread_31 : decode cX0_spread 31 = .ok (.if_icmp .ge 70, 3) := by decide +kernel
theorem dX0_spread_34 : decode cX0_spread 34 = .ok (.iconst 1, 1) := by decide +kernel
theorem dX0_spread_35 : decode cX0_spread 35 = .ok (.aload_n 0, 1) := by decide +kernel
theorem dX0_spread_36 : decode cX0_spread 36 = .ok (.getfield 45, 3) := by decide +kernel
theorem dX0_spread_39 : decode cX0_spread 39 = .ok (.isub, 1) := by decide +kernel
theorem dX0_spread_40 : decode cX0_spread 40 = .ok (.bipush 20, 2) := by decide +kernel
theorem dX0_spread_42 : decode cX0_spread 42 = .ok (.imul, 1) := by decide +kernel
theorem dX0_spread_43 : decode cX0_spread 43 = .ok (.aload_n 0, 1) := by decide +kernel
theorem dX0_spread_44 : decode cX0_spread 44 = .ok (.getfield 61, 3) := by decide +kernel
theorem dX0_spread_47 : decode cX0_spread 47 = .ok (.iadd, 1) := by decide +kernel
theorem dX0_spread_48 : decode cX0_spread 48 = .ok (.istore_n 3, 1) := by decide +kernel
theorem dX0_spread_49 : decode cX0_spread 49 = .ok (.aload_n 0, 1) := by decide +kernel
theorem dX0_spread_50 : decode cX0_spread 50 = .ok (.dup, 1) := by decide +kernel
theorem dX0_spread_51 : decode cX0_spread 51 = .ok (.getfield 61, 3) := by decide +kernel
theorem dX0_spread_54 : decode cX0_spread 54 = .ok (.iconst 1, 1) := by decide +kernel
theorem dX0_spread_55 : decode cX0_spread 55 = .ok (.iadd, 1) := by decide +kernel
theorem dX0_spread_56 : decode cX0_spread 56 = .ok (.putfield 61, 3) := by decide +kernel
theorem dX0_spread_59 : decode cX0_spread 59 = .ok (.aload_n 0, 1) := by decide +kernel
theorem dX0_spread_60 : decode cX0_spread 60 = .ok (.getfield 16, 3) := by decide +kernel
theorem dX0_spread_63 : decode cX0_spread 63 = .ok (.iload_n 3, 1) := by decide +kernel
theorem dX0_spread_64 : decode cX0_spread 64 = .ok (.baload, 1) := by decide +kernel
theorem dX0_spread_65 : decode cX0_spread 65 = .ok (.ifCond .ne 13, 3) := by decide +kernel
theorem dX0_spread_68 : decode cX0_spread 68 = .ok (.aload_n 0, 1) := by decide +kernel
theorem dX0_spread_69 : decode cX0_spread 69 = .ok (.aload_n 0, 1) := by decide +kernel
theorem dX0_spread_70 : decode cX0_spread 70 = .ok (.getfield 19, 3) := by decide +kernel
theorem dX0_spread_73 : decode cX0_spread 73 = .ok (.iload_n 3, 1) := by decide +kernel
theorem dX0_spread_74 : decode cX0_spread 74 = .ok (.baload, 1) := by decide +kernel
theorem dX0_spread_75 : decode cX0_spread 75 = .ok (.invokevirtual 64, 3) := by decide +kernel
theorem dX0_spread_78 : decode cX0_spread 78 = .ok (.aload_n 0, 1) := by decide +kernel
theorem dX0_spread_79 : decode cX0_spread 79 = .ok (.getfield 16, 3) := by decide +kernel
theorem dX0_spread_82 : decode cX0_spread 82 = .ok (.iload_n 3, 1) := by decide +kernel
theorem dX0_spread_83 : decode cX0_spread 83 = .ok (.baload, 1) := by decide +kernel
theorem dX0_spread_84 : decode cX0_spread 84 = .ok (.iconst 2, 1) := by decide +kernel
theorem dX0_spread_85 : decode cX0_spread 85 = .ok (.if_icmp .eq 13, 3) := by decide +kernel
theorem dX0_spread_88 : decode cX0_spread 88 = .ok (.aload_n 0, 1) := by decide +kernel
theorem dX0_spread_89 : decode cX0_spread 89 = .ok (.aload_n 0, 1) := by decide +kernel
theorem dX0_spread_90 : decode cX0_spread 90 = .ok (.getfield 22, 3) := by decide +kernel
theorem dX0_spread_93 : decode cX0_spread 93 = .ok (.iload_n 3, 1) := by decide +kernel
theorem dX0_spread_94 : decode cX0_spread 94 = .ok (.baload, 1) := by decide +kernel
theorem dX0_spread_95 : decode cX0_spread 95 = .ok (.invokevirtual 64, 3) := by decide +kernel
theorem dX0_spread_98 : decode cX0_spread 98 = .ok (.goto (-75), 3) := by decide +kernel
theorem dX0_spread_101 : decode cX0_spread 101 = .ok (.aload_n 0, 1) := by decide +kernel
theorem dX0_spread_102 : decode cX0_spread 102 = .ok (.invokevirtual 68, 3) := by decide +kernel
theorem dX0_spread_105 : decode cX0_spread 105 = .ok (.iinc 2 1, 3) := by decide +kernel
theorem dX0_spread_108 : decode cX0_spread 108 = .ok (.goto (-104), 3) := by decide +kernel
theorem dX0_spread_111 : decode cX0_spread 111 = .ok (.return_, 1) := by decide +kernel
theorem dX0_lookAtPairs_0 : decode cX0_lookAtPairs 0 = .ok (.iconst 0, 1) := by decide +kernel
theorem dX0_lookAtPairs_1 : decode cX0_lookAtPairs 1 = .ok (.istore_n 1, 1) := by decide +kernel
theorem dX0_lookAtPairs_2 : decode cX0_lookAtPairs 2 = .ok (.iload_n 1, 1) := by decide +kernel
theorem dX0_lookAtPairs_3 : decode cX0_lookAtPairs 3 = .ok (.aload_n 0, 1) := by decide +kernel
theorem dX0_lookAtPairs_4 : decode cX0_lookAtPairs 4 = .ok (.getfield 61, 3) := by decide +kernel
theorem dX0_lookAtPairs_7 : decode cX0_lookAtPairs 7 = .ok (.if_icmp .ge 54, 3) := by decide +kernel
theorem dX0_lookAtPairs_10 : decode cX0_lookAtPairs 10 = .ok (.iconst 1, 1) := by decide +kernel
theorem dX0_lookAtPairs_11 : decode cX0_lookAtPairs 11 = .ok (.aload_n 0, 1) := by decide +kernel
theorem dX0_lookAtPairs_12 : decode cX0_lookAtPairs 12 = .ok (.getfield 45, 3) := by decide +kernel
theorem dX0_lookAtPairs_15 : decode cX0_lookAtPairs 15 = .ok (.isub, 1) := by decide +kernel
theorem dX0_lookAtPairs_16 : decode cX0_lookAtPairs 16 = .ok (.bipush 20, 2) := by decide +kernel
theorem dX0_lookAtPairs_18 : decode cX0_lookAtPairs 18 = .ok (.imul, 1) := by decide +kernel
theorem dX0_lookAtPairs_19 : decode cX0_lookAtPairs 19 = .ok (.iload_n 1, 1) := by decide +kernel
theorem dX0_lookAtPairs_20 : decode cX0_lookAtPairs 20 = .ok (.iadd, 1) := by decide +kernel
theorem dX0_lookAtPairs_21 : decode cX0_lookAtPairs 21 = .ok (.istore_n 2, 1) := by decide +kernel
theorem dX0_lookAtPairs_22 : decode cX0_lookAtPairs 22 = .ok (.aload_n 0, 1) := by decide +kernel
theorem dX0_lookAtPairs_23 : decode cX0_lookAtPairs 23 = .ok (.getfield 16, 3) := by decide +kernel
theorem dX0_lookAtPairs_26 : decode cX0_lookAtPairs 26 = .ok (.iload_n 2, 1) := by decide +kernel
theorem dX0_lookAtPairs_27 : decode cX0_lookAtPairs 27 = .ok (.baload, 1) := by decide +kernel
theorem dX0_lookAtPairs_28 : decode cX0_lookAtPairs 28 = .ok (.iconst 2, 1) := by decide +kernel
theorem dX0_lookAtPairs_29 : decode cX0_lookAtPairs 29 = .ok (.if_icmp .ne 26, 3) := by decide +kernel
theorem dX0_lookAtPairs_32 : decode cX0_lookAtPairs 32 = .ok (.aload_n 0, 1) := by decide +kernel
theorem dX0_lookAtPairs_33 : decode cX0_lookAtPairs 33 = .ok (.aload_n 0, 1) := by decide +kernel
theorem dX0_lookAtPairs_34 : decode cX0_lookAtPairs 34 = .ok (.getfield 19, 3) := by decide +kernel
theorem dX0_lookAtPairs_37 : decode cX0_lookAtPairs 37 = .ok (.iload_n 2, 1) := by decide +kernel
theorem dX0_lookAtPairs_38 : decode cX0_lookAtPairs 38 = .ok (.baload, 1) := by decide +kernel
theorem dX0_lookAtPairs_39 : decode cX0_lookAtPairs 39 = .ok (.invokevirtual 71, 3) := by decide +kernel
theorem dX0_lookAtPairs_42 : decode cX0_lookAtPairs 42 = .ok (.ifCond .eq 13, 3) := by decide +kernel
theorem dX0_lookAtPairs_45 : decode cX0_lookAtPairs 45 = .ok (.aload_n 0, 1) := by decide +kernel
theorem dX0_lookAtPairs_46 : decode cX0_lookAtPairs 46 = .ok (.aload_n 0, 1) := by decide +kernel
theorem dX0_lookAtPairs_47 : decode cX0_lookAtPairs 47 = .ok (.getfield 22, 3) := by decide +kernel
theorem dX0_lookAtPairs_50 : decode cX0_lookAtPairs 50 = .ok (.iload_n 2, 1) := by decide +kernel
theorem dX0_lookAtPairs_51 : decode cX0_lookAtPairs 51 = .ok (.baload, 1) := by decide +kernel
theorem dX0_lookAtPairs_52 : decode cX0_lookAtPairs 52 = .ok (.invokevirtual 64, 3) := by decide +kernel
theorem dX0_lookAtPairs_55 : decode cX0_lookAtPairs 55 = .ok (.iinc 1 1, 3) := by decide +kernel
theorem dX0_lookAtPairs_58 : decode cX0_lookAtPairs 58 = .ok (.goto (-56), 3) := by decide +kernel
theorem dX0_lookAtPairs_61 : decode cX0_lookAtPairs 61 = .ok (.return_, 1) := by decide +kernel
theorem dX0_isCopied_0 : decode cX0_isCopied 0 = .ok (.iload_n 1, 1) := by decide +kernel
theorem dX0_isCopied_1 : decode cX0_isCopied 1 = .ok (.ifCond .lt 16, 3) := by decide +kernel
theorem dX0_isCopied_4 : decode cX0_isCopied 4 = .ok (.aload_n 0, 1) := by decide +kernel
theorem dX0_isCopied_5 : decode cX0_isCopied 5 = .ok (.getfield 25, 3) := by decide +kernel
theorem dX0_isCopied_8 : decode cX0_isCopied 8 = .ok (.iload_n 1, 1) := by decide +kernel
theorem dX0_isCopied_9 : decode cX0_isCopied 9 = .ok (.baload, 1) := by decide +kernel
theorem dX0_isCopied_10 : decode cX0_isCopied 10 = .ok (.ifCond .lt 7, 3) := by decide +kernel
theorem dX0_isCopied_13 : decode cX0_isCopied 13 = .ok (.iconst 1, 1) := by decide +kernel
theorem dX0_isCopied_14 : decode cX0_isCopied 14 = .ok (.goto 4, 3) := by decide +kernel
theorem dX0_isCopied_17 : decode cX0_isCopied 17 = .ok (.iconst 0, 1) := by decide +kernel
theorem dX0_isCopied_18 : decode cX0_isCopied 18 = .ok (.ireturn, 1) := by decide +kernel
theorem dX0_rescue_0 : decode cX0_rescue 0 = .ok (.iconst 0, 1) := by decide +kernel
theorem dX0_rescue_1 : decode cX0_rescue 1 = .ok (.istore_n 1, 1) := by decide +kernel
theorem dX0_rescue_2 : decode cX0_rescue 2 = .ok (.iload_n 1, 1) := by decide +kernel
theorem dX0_rescue_3 : decode cX0_rescue 3 = .ok (.bipush 20, 2) := by decide +kernel
theorem dX0_rescue_5 : decode cX0_rescue 5 = .ok (.if_icmp .ge 86, 3) := by decide +kernel
theorem dX0_rescue_8 : decode cX0_rescue 8 = .ok (.aload_n 0, 1) := by decide +kernel
theorem dX0_rescue_9 : decode cX0_rescue 9 = .ok (.iload_n 1, 1) := by decide +kernel
theorem dX0_rescue_10 : decode cX0_rescue 10 = .ok (.invokevirtual 42, 3) := by decide +kernel
theorem dX0_rescue_13 : decode cX0_rescue 13 = .ok (.ifCond .eq 31, 3) := by decide +kernel
theorem dX0_rescue_16 : decode cX0_rescue 16 = .ok (.aload_n 0, 1) := by decide +kernel
theorem dX0_rescue_17 : decode cX0_rescue 17 = .ok (.getfield 51, 3) := by decide +kernel
theorem dX0_rescue_20 : decode cX0_rescue 20 = .ok (.iload_n 1, 1) := by decide +kernel
theorem dX0_rescue_21 : decode cX0_rescue 21 = .ok (.ishr, 1) := by decide +kernel
theorem dX0_rescue_22 : decode cX0_rescue 22 = .ok (.iconst 1, 1) := by decide +kernel
theorem dX0_rescue_23 : decode cX0_rescue 23 = .ok (.iand, 1) := by decide +kernel
theorem dX0_rescue_24 : decode cX0_rescue 24 = .ok (.ifCond .eq 20, 3) := by decide +kernel
theorem dX0_rescue_27 : decode cX0_rescue 27 = .ok (.aload_n 0, 1) := by decide +kernel
theorem dX0_rescue_28 : decode cX0_rescue 28 = .ok (.aload_n 0, 1) := by decide +kernel
theorem dX0_rescue_29 : decode cX0_rescue 29 = .ok (.getfield 7, 3) := by decide +kernel
theorem dX0_rescue_32 : decode cX0_rescue 32 = .ok (.iload_n 1, 1) := by decide +kernel
theorem dX0_rescue_33 : decode cX0_rescue 33 = .ok (.baload, 1) := by decide +kernel
theorem dX0_rescue_34 : decode cX0_rescue 34 = .ok (.invokevirtual 71, 3) := by decide +kernel
theorem dX0_rescue_37 : decode cX0_rescue 37 = .ok (.ifCond .ne 7, 3) := by decide +kernel
theorem dX0_rescue_40 : decode cX0_rescue 40 = .ok (.iconst 1, 1) := by decide +kernel
theorem dX0_rescue_41 : decode cX0_rescue 41 = .ok (.goto 4, 3) := by decide +kernel
theorem dX0_rescue_44 : decode cX0_rescue 44 = .ok (.iconst 0, 1) := by decide +kernel
theorem dX0_rescue_45 : decode cX0_rescue 45 = .ok (.istore_n 2, 1) := by decide +kernel
theorem dX0_rescue_46 : decode cX0_rescue 46 = .ok (.iload_n 2, 1) := by decide +kernel
theorem dX0_rescue_47 : decode cX0_rescue 47 = .ok (.ifCond .eq 38, 3) := by decide +kernel
theorem dX0_rescue_50 : decode cX0_rescue 50 = .ok (.aload_n 0, 1) := by decide +kernel
theorem dX0_rescue_51 : decode cX0_rescue 51 = .ok (.getfield 31, 3) := by decide +kernel
theorem dX0_rescue_54 : decode cX0_rescue 54 = .ok (.aload_n 0, 1) := by decide +kernel
theorem dX0_rescue_55 : decode cX0_rescue 55 = .ok (.getfield 77, 3) := by decide +kernel
theorem dX0_rescue_58 : decode cX0_rescue 58 = .ok (.iload_n 1, 1) := by decide +kernel
theorem dX0_rescue_59 : decode cX0_rescue 59 = .ok (.i2b, 1) := by decide +kernel
theorem dX0_rescue_60 : decode cX0_rescue 60 = .ok (.bastore, 1) := by decide +kernel
theorem dX0_rescue_61 : decode cX0_rescue 61 = .ok (.aload_n 0, 1) := by decide +kernel
theorem dX0_rescue_62 : decode cX0_rescue 62 = .ok (.dup, 1) := by decide +kernel
theorem dX0_rescue_63 : decode cX0_rescue 63 = .ok (.getfield 77, 3) := by decide +kernel
theorem dX0_rescue_66 : decode cX0_rescue 66 = .ok (.iconst 1, 1) := by decide +kernel
theorem dX0_rescue_67 : decode cX0_rescue 67 = .ok (.iadd, 1) := by decide +kernel
theorem dX0_rescue_68 : decode cX0_rescue 68 = .ok (.putfield 77, 3) := by decide +kernel
theorem dX0_rescue_71 : decode cX0_rescue 71 = .ok (.aload_n 0, 1) := by decide +kernel
theorem dX0_rescue_72 : decode cX0_rescue 72 = .ok (.dup, 1) := by decide +kernel
theorem dX0_rescue_73 : decode cX0_rescue 73 = .ok (.getfield 51, 3) := by decide +kernel
theorem dX0_rescue_76 : decode cX0_rescue 76 = .ok (.iconst 1, 1) := by decide +kernel
theorem dX0_rescue_77 : decode cX0_rescue 77 = .ok (.iload_n 1, 1) := by decide +kernel
theorem dX0_rescue_78 : decode cX0_rescue 78 = .ok (.ishl, 1) := by decide +kernel
theorem dX0_rescue_79 : decode cX0_rescue 79 = .ok (.iconst (-1), 1) := by decide +kernel
theorem dX0_rescue_80 : decode cX0_rescue 80 = .ok (.ixor, 1) := by decide +kernel
theorem dX0_rescue_81 : decode cX0_rescue 81 = .ok (.iand, 1) := by decide +kernel
theorem dX0_rescue_82 : decode cX0_rescue 82 = .ok (.putfield 51, 3) := by decide +kernel
theorem dX0_rescue_85 : decode cX0_rescue 85 = .ok (.iinc 1 1, 3) := by decide +kernel
theorem dX0_rescue_88 : decode cX0_rescue 88 = .ok (.goto (-86), 3) := by decide +kernel
theorem dX0_rescue_91 : decode cX0_rescue 91 = .ok (.iconst 0, 1) := by decide +kernel
theorem dX0_rescue_92 : decode cX0_rescue 92 = .ok (.istore_n 1, 1) := by decide +kernel
theorem dX0_rescue_93 : decode cX0_rescue 93 = .ok (.iload_n 1, 1) := by decide +kernel
theorem dX0_rescue_94 : decode cX0_rescue 94 = .ok (.aload_n 0, 1) := by decide +kernel
theorem dX0_rescue_95 : decode cX0_rescue 95 = .ok (.getfield 77, 3) := by decide +kernel
theorem dX0_rescue_98 : decode cX0_rescue 98 = .ok (.if_icmp .ge 24, 3) := by decide +kernel
theorem dX0_rescue_101 : decode cX0_rescue 101 = .ok (.aload_n 0, 1) := by decide +kernel
theorem dX0_rescue_102 : decode cX0_rescue 102 = .ok (.aload_n 0, 1) := by decide +kernel
theorem dX0_rescue_103 : decode cX0_rescue 103 = .ok (.getfield 7, 3) := by decide +kernel
theorem dX0_rescue_106 : decode cX0_rescue 106 = .ok (.aload_n 0, 1) := by decide +kernel
theorem dX0_rescue_107 : decode cX0_rescue 107 = .ok (.getfield 31, 3) := by decide +kernel
theorem dX0_rescue_110 : decode cX0_rescue 110 = .ok (.iload_n 1, 1) := by decide +kernel
theorem dX0_rescue_111 : decode cX0_rescue 111 = .ok (.baload, 1) := by decide +kernel
theorem dX0_rescue_112 : decode cX0_rescue 112 = .ok (.baload, 1) := by decide +kernel
theorem dX0_rescue_113 : decode cX0_rescue 113 = .ok (.invokevirtual 64, 3) := by decide +kernel
theorem dX0_rescue_116 : decode cX0_rescue 116 = .ok (.iinc 1 1, 3) := by decide +kernel
theorem dX0_rescue_119 : decode cX0_rescue 119 = .ok (.goto (-26), 3) := by decide +kernel
theorem dX0_rescue_122 : decode cX0_rescue 122 = .ok (.aload_n 0, 1) := by decide +kernel
theorem dX0_rescue_123 : decode cX0_rescue 123 = .ok (.invokevirtual 80, 3) := by decide +kernel
theorem dX0_rescue_126 : decode cX0_rescue 126 = .ok (.return_, 1) := by decide +kernel
theorem dX0_mend_0 : decode cX0_mend 0 = .ok (.iconst 1, 1) := by decide +kernel
theorem dX0_mend_1 : decode cX0_mend 1 = .ok (.aload_n 0, 1) := by decide +kernel
theorem dX0_mend_2 : decode cX0_mend 2 = .ok (.getfield 45, 3) := by decide +kernel
theorem dX0_mend_5 : decode cX0_mend 5 = .ok (.isub, 1) := by decide +kernel
theorem dX0_mend_6 : decode cX0_mend 6 = .ok (.bipush 20, 2) := by decide +kernel
theorem dX0_mend_8 : decode cX0_mend 8 = .ok (.imul, 1) := by decide +kernel
theorem dX0_mend_9 : decode cX0_mend 9 = .ok (.iload_n 1, 1) := by decide +kernel
theorem dX0_mend_10 : decode cX0_mend 10 = .ok (.iadd, 1) := by decide +kernel
theorem dX0_mend_11 : decode cX0_mend 11 = .ok (.istore_n 2, 1) := by decide +kernel
theorem dX0_mend_12 : decode cX0_mend 12 = .ok (.iconst 0, 1) := by decide +kernel
theorem dX0_mend_13 : decode cX0_mend 13 = .ok (.istore_n 3, 1) := by decide +kernel
theorem dX0_mend_14 : decode cX0_mend 14 = .ok (.iload_n 3, 1) := by decide +kernel
theorem dX0_mend_15 : decode cX0_mend 15 = .ok (.aload_n 0, 1) := by decide +kernel
theorem dX0_mend_16 : decode cX0_mend 16 = .ok (.getfield 58, 3) := by decide +kernel
theorem dX0_mend_19 : decode cX0_mend 19 = .ok (.if_icmp .ge 107, 3) := by decide +kernel
theorem dX0_mend_22 : decode cX0_mend 22 = .ok (.iconst 1, 1) := by decide +kernel
theorem dX0_mend_23 : decode cX0_mend 23 = .ok (.aload_n 0, 1) := by decide +kernel
theorem dX0_mend_24 : decode cX0_mend 24 = .ok (.getfield 45, 3) := by decide +kernel
theorem dX0_mend_27 : decode cX0_mend 27 = .ok (.isub, 1) := by decide +kernel
theorem dX0_mend_28 : decode cX0_mend 28 = .ok (.bipush 20, 2) := by decide +kernel
theorem dX0_mend_30 : decode cX0_mend 30 = .ok (.imul, 1) := by decide +kernel
theorem dX0_mend_31 : decode cX0_mend 31 = .ok (.iload_n 3, 1) := by decide +kernel
theorem dX0_mend_32 : decode cX0_mend 32 = .ok (.iadd, 1) := by decide +kernel
theorem dX0_mend_33 : decode cX0_mend 33 = .ok (.istore 4, 2) := by decide +kernel
theorem dX0_mend_35 : decode cX0_mend 35 = .ok (.aload_n 0, 1) := by decide +kernel
theorem dX0_mend_36 : decode cX0_mend 36 = .ok (.aload_n 0, 1) := by decide +kernel
theorem dX0_mend_37 : decode cX0_mend 37 = .ok (.getfield 19, 3) := by decide +kernel
theorem dX0_mend_40 : decode cX0_mend 40 = .ok (.iload 4, 2) := by decide +kernel
theorem dX0_mend_42 : decode cX0_mend 42 = .ok (.baload, 1) := by decide +kernel
theorem dX0_mend_43 : decode cX0_mend 43 = .ok (.invokevirtual 74, 3) := by decide +kernel
theorem dX0_mend_46 : decode cX0_mend 46 = .ok (.istore 5, 2) := by decide +kernel
theorem dX0_mend_48 : decode cX0_mend 48 = .ok (.aload_n 0, 1) := by decide +kernel
theorem dX0_mend_49 : decode cX0_mend 49 = .ok (.aload_n 0, 1) := by decide +kernel
theorem dX0_mend_50 : decode cX0_mend 50 = .ok (.getfield 22, 3) := by decide +kernel
theorem dX0_mend_53 : decode cX0_mend 53 = .ok (.iload 4, 2) := by decide +kernel
theorem dX0_mend_55 : decode cX0_mend 55 = .ok (.baload, 1) := by decide +kernel
theorem dX0_mend_56 : decode cX0_mend 56 = .ok (.invokevirtual 74, 3) := by decide +kernel
theorem dX0_mend_59 : decode cX0_mend 59 = .ok (.istore 6, 2) := by decide +kernel
theorem dX0_mend_61 : decode cX0_mend 61 = .ok (.aload_n 0, 1) := by decide +kernel
theorem dX0_mend_62 : decode cX0_mend 62 = .ok (.getfield 16, 3) := by decide +kernel
theorem dX0_mend_65 : decode cX0_mend 65 = .ok (.iload 4, 2) := by decide +kernel
theorem dX0_mend_67 : decode cX0_mend 67 = .ok (.baload, 1) := by decide +kernel
theorem dX0_mend_68 : decode cX0_mend 68 = .ok (.iconst 1, 1) := by decide +kernel
theorem dX0_mend_69 : decode cX0_mend 69 = .ok (.if_icmp .ne 12, 3) := by decide +kernel
theorem dX0_mend_72 : decode cX0_mend 72 = .ok (.iload 5, 2) := by decide +kernel
theorem dX0_mend_74 : decode cX0_mend 74 = .ok (.iload_n 2, 1) := by decide +kernel
theorem dX0_mend_75 : decode cX0_mend 75 = .ok (.if_icmp .lt 6, 3) := by decide +kernel
theorem dX0_mend_78 : decode cX0_mend 78 = .ok (.iconst (-1), 1) := by decide +kernel
theorem dX0_mend_79 : decode cX0_mend 79 = .ok (.istore 5, 2) := by decide +kernel
theorem dX0_mend_81 : decode cX0_mend 81 = .ok (.aload_n 0, 1) := by decide +kernel
theorem dX0_mend_82 : decode cX0_mend 82 = .ok (.getfield 16, 3) := by decide +kernel
theorem dX0_mend_85 : decode cX0_mend 85 = .ok (.iload 4, 2) := by decide +kernel
theorem dX0_mend_87 : decode cX0_mend 87 = .ok (.baload, 1) := by decide +kernel
theorem dX0_mend_88 : decode cX0_mend 88 = .ok (.iconst 2, 1) := by decide +kernel
theorem dX0_mend_89 : decode cX0_mend 89 = .ok (.if_icmp .ne 11, 3) := by decide +kernel
theorem dX0_mend_92 : decode cX0_mend 92 = .ok (.iload 5, 2) := by decide +kernel
theorem dX0_mend_94 : decode cX0_mend 94 = .ok (.ifCond .ge 6, 3) := by decide +kernel
theorem dX0_mend_97 : decode cX0_mend 97 = .ok (.iconst (-1), 1) := by decide +kernel
theorem dX0_mend_98 : decode cX0_mend 98 = .ok (.istore 6, 2) := by decide +kernel
theorem dX0_mend_100 : decode cX0_mend 100 = .ok (.aload_n 0, 1) := by decide +kernel
theorem dX0_mend_101 : decode cX0_mend 101 = .ok (.getfield 19, 3) := by decide +kernel
theorem dX0_mend_104 : decode cX0_mend 104 = .ok (.iload 4, 2) := by decide +kernel
theorem dX0_mend_106 : decode cX0_mend 106 = .ok (.iload 5, 2) := by decide +kernel
theorem dX0_mend_108 : decode cX0_mend 108 = .ok (.i2b, 1) := by decide +kernel
theorem dX0_mend_109 : decode cX0_mend 109 = .ok (.bastore, 1) := by decide +kernel
theorem dX0_mend_110 : decode cX0_mend 110 = .ok (.aload_n 0, 1) := by decide +kernel
theorem dX0_mend_111 : decode cX0_mend 111 = .ok (.getfield 22, 3) := by decide +kernel
theorem dX0_mend_114 : decode cX0_mend 114 = .ok (.iload 4, 2) := by decide +kernel
theorem dX0_mend_116 : decode cX0_mend 116 = .ok (.iload 6, 2) := by decide +kernel
theorem dX0_mend_118 : decode cX0_mend 118 = .ok (.i2b, 1) := by decide +kernel
theorem dX0_mend_119 : decode cX0_mend 119 = .ok (.bastore, 1) := by decide +kernel
theorem dX0_mend_120 : decode cX0_mend 120 = .ok (.iinc 3 1, 3) := by decide +kernel
theorem dX0_mend_123 : decode cX0_mend 123 = .ok (.goto (-109), 3) := by decide +kernel
theorem dX0_mend_126 : decode cX0_mend 126 = .ok (.return_, 1) := by decide +kernel
theorem dX0_moved_0 : decode cX0_moved 0 = .ok (.iload_n 1, 1) := by decide +kernel
theorem dX0_moved_1 : decode cX0_moved 1 = .ok (.ifCond .ge 7, 3) := by decide +kernel
theorem dX0_moved_4 : decode cX0_moved 4 = .ok (.iconst (-1), 1) := by decide +kernel
theorem dX0_moved_5 : decode cX0_moved 5 = .ok (.goto 9, 3) := by decide +kernel
theorem dX0_moved_8 : decode cX0_moved 8 = .ok (.aload_n 0, 1) := by decide +kernel
theorem dX0_moved_9 : decode cX0_moved 9 = .ok (.getfield 25, 3) := by decide +kernel
theorem dX0_moved_12 : decode cX0_moved 12 = .ok (.iload_n 1, 1) := by decide +kernel
theorem dX0_moved_13 : decode cX0_moved 13 = .ok (.baload, 1) := by decide +kernel
theorem dX0_moved_14 : decode cX0_moved 14 = .ok (.ireturn, 1) := by decide +kernel
theorem dX0_ones_0 : decode cX0_ones 0 = .ok (.iconst 0, 1) := by decide +kernel
theorem dX0_ones_1 : decode cX0_ones 1 = .ok (.istore_n 1, 1) := by decide +kernel
theorem dX0_ones_2 : decode cX0_ones 2 = .ok (.iconst 0, 1) := by decide +kernel
theorem dX0_ones_3 : decode cX0_ones 3 = .ok (.istore_n 2, 1) := by decide +kernel
theorem dX0_ones_4 : decode cX0_ones 4 = .ok (.iload_n 2, 1) := by decide +kernel
theorem dX0_ones_5 : decode cX0_ones 5 = .ok (.bipush 20, 2) := by decide +kernel
theorem dX0_ones_7 : decode cX0_ones 7 = .ok (.if_icmp .ge 17, 3) := by decide +kernel
theorem dX0_ones_10 : decode cX0_ones 10 = .ok (.iload_n 1, 1) := by decide +kernel
theorem dX0_ones_11 : decode cX0_ones 11 = .ok (.iload_n 0, 1) := by decide +kernel
theorem dX0_ones_12 : decode cX0_ones 12 = .ok (.iload_n 2, 1) := by decide +kernel
theorem dX0_ones_13 : decode cX0_ones 13 = .ok (.ishr, 1) := by decide +kernel
theorem dX0_ones_14 : decode cX0_ones 14 = .ok (.iconst 1, 1) := by decide +kernel
theorem dX0_ones_15 : decode cX0_ones 15 = .ok (.iand, 1) := by decide +kernel
theorem dX0_ones_16 : decode cX0_ones 16 = .ok (.iadd, 1) := by decide +kernel
theorem dX0_ones_17 : decode cX0_ones 17 = .ok (.istore_n 1, 1) := by decide +kernel
theorem dX0_ones_18 : decode cX0_ones 18 = .ok (.iinc 2 1, 3) := by decide +kernel
theorem dX0_ones_21 : decode cX0_ones 21 = .ok (.goto (-17), 3) := by decide +kernel
theorem dX0_ones_24 : decode cX0_ones 24 = .ok (.iload_n 1, 1) := by decide +kernel
theorem dX0_ones_25 : decode cX0_ones 25 = .ok (.ireturn, 1) := by decide +kernel
theorem dX0_take_0 : decode cX0_take 0 = .ok (.iload_n 1, 1) := by decide +kernel
theorem dX0_take_1 : decode cX0_take 1 = .ok (.invokestatic 38, 3) := by decide +kernel
theorem dX0_take_4 : decode cX0_take 4 = .ok (.ifCond .eq 10, 3) := by decide +kernel
theorem dX0_take_7 : decode cX0_take 7 = .ok (.aload_n 0, 1) := by decide +kernel
theorem dX0_take_8 : decode cX0_take 8 = .ok (.getfield 77, 3) := by decide +kernel
theorem dX0_take_11 : decode cX0_take 11 = .ok (.ifCond .ne 5, 3) := by decide +kernel
theorem dX0_take_14 : decode cX0_take 14 = .ok (.iconst (-1), 1) := by decide +kernel
theorem dX0_take_15 : decode cX0_take 15 = .ok (.ireturn, 1) := by decide +kernel
theorem dX0_take_16 : decode cX0_take 16 = .ok (.aload_n 0, 1) := by decide +kernel
theorem dX0_take_17 : decode cX0_take 17 = .ok (.getfield 31, 3) := by decide +kernel
theorem dX0_take_20 : decode cX0_take 20 = .ok (.iconst 0, 1) := by decide +kernel
theorem dX0_take_21 : decode cX0_take 21 = .ok (.baload, 1) := by decide +kernel
theorem dX0_take_22 : decode cX0_take 22 = .ok (.istore_n 2, 1) := by decide +kernel
theorem dX0_take_23 : decode cX0_take 23 = .ok (.aload_n 0, 1) := by decide +kernel
theorem dX0_take_24 : decode cX0_take 24 = .ok (.dup, 1) := by decide +kernel
theorem dX0_take_25 : decode cX0_take 25 = .ok (.getfield 77, 3) := by decide +kernel
theorem dX0_take_28 : decode cX0_take 28 = .ok (.iconst 1, 1) := by decide +kernel
theorem dX0_take_29 : decode cX0_take 29 = .ok (.isub, 1) := by decide +kernel
theorem dX0_take_30 : decode cX0_take 30 = .ok (.putfield 77, 3) := by decide +kernel
theorem dX0_take_33 : decode cX0_take 33 = .ok (.iconst 0, 1) := by decide +kernel
theorem dX0_take_34 : decode cX0_take 34 = .ok (.istore_n 3, 1) := by decide +kernel
theorem dX0_take_35 : decode cX0_take 35 = .ok (.iload_n 3, 1) := by decide +kernel
theorem dX0_take_36 : decode cX0_take 36 = .ok (.aload_n 0, 1) := by decide +kernel
theorem dX0_take_37 : decode cX0_take 37 = .ok (.getfield 77, 3) := by decide +kernel
theorem dX0_take_40 : decode cX0_take 40 = .ok (.if_icmp .ge 23, 3) := by decide +kernel
theorem dX0_take_43 : decode cX0_take 43 = .ok (.aload_n 0, 1) := by decide +kernel
theorem dX0_take_44 : decode cX0_take 44 = .ok (.getfield 31, 3) := by decide +kernel
theorem dX0_take_47 : decode cX0_take 47 = .ok (.iload_n 3, 1) := by decide +kernel
theorem dX0_take_48 : decode cX0_take 48 = .ok (.aload_n 0, 1) := by decide +kernel
theorem dX0_take_49 : decode cX0_take 49 = .ok (.getfield 31, 3) := by decide +kernel
theorem dX0_take_52 : decode cX0_take 52 = .ok (.iload_n 3, 1) := by decide +kernel
theorem dX0_take_53 : decode cX0_take 53 = .ok (.iconst 1, 1) := by decide +kernel
theorem dX0_take_54 : decode cX0_take 54 = .ok (.iadd, 1) := by decide +kernel
theorem dX0_take_55 : decode cX0_take 55 = .ok (.baload, 1) := by decide +kernel
theorem dX0_take_56 : decode cX0_take 56 = .ok (.bastore, 1) := by decide +kernel
theorem dX0_take_57 : decode cX0_take 57 = .ok (.iinc 3 1, 3) := by decide +kernel
theorem dX0_take_60 : decode cX0_take 60 = .ok (.goto (-25), 3) := by decide +kernel
theorem dX0_take_63 : decode cX0_take 63 = .ok (.aload_n 0, 1) := by decide +kernel
theorem dX0_take_64 : decode cX0_take 64 = .ok (.getfield 28, 3) := by decide +kernel
theorem dX0_take_67 : decode cX0_take 67 = .ok (.iload_n 1, 1) := by decide +kernel
theorem dX0_take_68 : decode cX0_take 68 = .ok (.aload_n 0, 1) := by decide +kernel
theorem dX0_take_69 : decode cX0_take 69 = .ok (.getfield 7, 3) := by decide +kernel
theorem dX0_take_72 : decode cX0_take 72 = .ok (.iload_n 2, 1) := by decide +kernel
theorem dX0_take_73 : decode cX0_take 73 = .ok (.baload, 1) := by decide +kernel
theorem dX0_take_74 : decode cX0_take 74 = .ok (.bastore, 1) := by decide +kernel
theorem dX0_take_75 : decode cX0_take 75 = .ok (.iload_n 2, 1) := by decide +kernel
theorem dX0_take_76 : decode cX0_take 76 = .ok (.ireturn, 1) := by decide +kernel
theorem dX0_objects_0 : decode cX0_objects 0 = .ok (.aload_n 0, 1) := by decide +kernel
theorem dX0_objects_1 : decode cX0_objects 1 = .ok (.getfield 34, 3) := by decide +kernel
theorem dX0_objects_4 : decode cX0_objects 4 = .ok (.invokestatic 92, 3) := by decide +kernel
end
section
set_option maxRecDepth 100000
theorem dX0_objects_7 : decode cX0_objects 7 = .ok (.ireturn, 1) := by decide +kernel
theorem dX0_there_0 : decode cX0_there 0 = .ok (.aload_n 0, 1) := by decide +kernel
theorem dX0_there_1 : decode cX0_there 1 = .ok (.getfield 34, 3) := by decide +kernel
theorem dX0_there_4 : decode cX0_there 4 = .ok (.ireturn, 1) := by decide +kernel
theorem dX0_alive_0 : decode cX0_alive 0 = .ok (.aload_n 0, 1) := by decide +kernel
theorem dX0_alive_1 : decode cX0_alive 1 = .ok (.invokevirtual 95, 3) := by decide +kernel
theorem dX0_alive_4 : decode cX0_alive 4 = .ok (.ireturn, 1) := by decide +kernel
theorem dX0_living_0 : decode cX0_living 0 = .ok (.aload_n 0, 1) := by decide +kernel
theorem dX0_living_1 : decode cX0_living 1 = .ok (.invokevirtual 83, 3) := by decide +kernel
theorem dX0_living_4 : decode cX0_living 4 = .ok (.iconst 0, 1) := by decide +kernel
theorem dX0_living_5 : decode cX0_living 5 = .ok (.istore_n 1, 1) := by decide +kernel
theorem dX0_living_6 : decode cX0_living 6 = .ok (.iconst 0, 1) := by decide +kernel
theorem dX0_living_7 : decode cX0_living 7 = .ok (.istore_n 2, 1) := by decide +kernel
theorem dX0_living_8 : decode cX0_living 8 = .ok (.iload_n 2, 1) := by decide +kernel
theorem dX0_living_9 : decode cX0_living 9 = .ok (.aload_n 0, 1) := by decide +kernel
theorem dX0_living_10 : decode cX0_living 10 = .ok (.getfield 58, 3) := by decide +kernel
theorem dX0_living_13 : decode cX0_living 13 = .ok (.if_icmp .ge 30, 3) := by decide +kernel
theorem dX0_living_16 : decode cX0_living 16 = .ok (.iload_n 1, 1) := by decide +kernel
theorem dX0_living_17 : decode cX0_living 17 = .ok (.iconst 1, 1) := by decide +kernel
theorem dX0_living_18 : decode cX0_living 18 = .ok (.aload_n 0, 1) := by decide +kernel
theorem dX0_living_19 : decode cX0_living 19 = .ok (.getfield 13, 3) := by decide +kernel
theorem dX0_living_22 : decode cX0_living 22 = .ok (.iconst 1, 1) := by decide +kernel
theorem dX0_living_23 : decode cX0_living 23 = .ok (.aload_n 0, 1) := by decide +kernel
theorem dX0_living_24 : decode cX0_living 24 = .ok (.getfield 45, 3) := by decide +kernel
theorem dX0_living_27 : decode cX0_living 27 = .ok (.isub, 1) := by decide +kernel
theorem dX0_living_28 : decode cX0_living 28 = .ok (.bipush 20, 2) := by decide +kernel
theorem dX0_living_30 : decode cX0_living 30 = .ok (.imul, 1) := by decide +kernel
theorem dX0_living_31 : decode cX0_living 31 = .ok (.iload_n 2, 1) := by decide +kernel
theorem dX0_living_32 : decode cX0_living 32 = .ok (.iadd, 1) := by decide +kernel
theorem dX0_living_33 : decode cX0_living 33 = .ok (.baload, 1) := by decide +kernel
theorem dX0_living_34 : decode cX0_living 34 = .ok (.ishl, 1) := by decide +kernel
theorem dX0_living_35 : decode cX0_living 35 = .ok (.ior, 1) := by decide +kernel
theorem dX0_living_36 : decode cX0_living 36 = .ok (.istore_n 1, 1) := by decide +kernel
theorem dX0_living_37 : decode cX0_living 37 = .ok (.iinc 2 1, 3) := by decide +kernel
theorem dX0_living_40 : decode cX0_living 40 = .ok (.goto (-32), 3) := by decide +kernel
theorem dX0_living_43 : decode cX0_living 43 = .ok (.iload_n 1, 1) := by decide +kernel
theorem dX0_living_44 : decode cX0_living 44 = .ok (.ireturn, 1) := by decide +kernel
theorem dX0_field_0 : decode cX0_field 0 = .ok (.aload_n 0, 1) := by decide +kernel
theorem dX0_field_1 : decode cX0_field 1 = .ok (.iload_n 1, 1) := by decide +kernel
theorem dX0_field_2 : decode cX0_field 2 = .ok (.invokevirtual 42, 3) := by decide +kernel
theorem dX0_field_5 : decode cX0_field 5 = .ok (.ifCond .eq 12, 3) := by decide +kernel
theorem dX0_field_8 : decode cX0_field 8 = .ok (.iload_n 2, 1) := by decide +kernel
theorem dX0_field_9 : decode cX0_field 9 = .ok (.ifCond .lt 8, 3) := by decide +kernel
theorem dX0_field_12 : decode cX0_field 12 = .ok (.iload_n 2, 1) := by decide +kernel
theorem dX0_field_13 : decode cX0_field 13 = .ok (.iconst 1, 1) := by decide +kernel
theorem dX0_field_14 : decode cX0_field 14 = .ok (.if_icmp .le 5, 3) := by decide +kernel
theorem dX0_field_17 : decode cX0_field 17 = .ok (.iconst (-1), 1) := by decide +kernel
theorem dX0_field_18 : decode cX0_field 18 = .ok (.ireturn, 1) := by decide +kernel
theorem dX0_field_19 : decode cX0_field 19 = .ok (.aload_n 0, 1) := by decide +kernel
theorem dX0_field_20 : decode cX0_field 20 = .ok (.iload_n 2, 1) := by decide +kernel
theorem dX0_field_21 : decode cX0_field 21 = .ok (.ifCond .ne 17, 3) := by decide +kernel
theorem dX0_field_24 : decode cX0_field 24 = .ok (.aload_n 0, 1) := by decide +kernel
theorem dX0_field_25 : decode cX0_field 25 = .ok (.getfield 19, 3) := by decide +kernel
theorem dX0_field_28 : decode cX0_field 28 = .ok (.aload_n 0, 1) := by decide +kernel
theorem dX0_field_29 : decode cX0_field 29 = .ok (.getfield 7, 3) := by decide +kernel
theorem dX0_field_32 : decode cX0_field 32 = .ok (.iload_n 1, 1) := by decide +kernel
theorem dX0_field_33 : decode cX0_field 33 = .ok (.baload, 1) := by decide +kernel
theorem dX0_field_34 : decode cX0_field 34 = .ok (.baload, 1) := by decide +kernel
theorem dX0_field_35 : decode cX0_field 35 = .ok (.goto 14, 3) := by decide +kernel
theorem dX0_field_38 : decode cX0_field 38 = .ok (.aload_n 0, 1) := by decide +kernel
theorem dX0_field_39 : decode cX0_field 39 = .ok (.getfield 22, 3) := by decide +kernel
theorem dX0_field_42 : decode cX0_field 42 = .ok (.aload_n 0, 1) := by decide +kernel
theorem dX0_field_43 : decode cX0_field 43 = .ok (.getfield 7, 3) := by decide +kernel
theorem dX0_field_46 : decode cX0_field 46 = .ok (.iload_n 1, 1) := by decide +kernel
theorem dX0_field_47 : decode cX0_field 47 = .ok (.baload, 1) := by decide +kernel
theorem dX0_field_48 : decode cX0_field 48 = .ok (.baload, 1) := by decide +kernel
theorem dX0_field_49 : decode cX0_field 49 = .ok (.invokevirtual 99, 3) := by decide +kernel
theorem dX0_field_52 : decode cX0_field 52 = .ok (.ireturn, 1) := by decide +kernel
theorem dX0_numberAt_0 : decode cX0_numberAt 0 = .ok (.iload_n 1, 1) := by decide +kernel
theorem dX0_numberAt_1 : decode cX0_numberAt 1 = .ok (.ifCond .ge 7, 3) := by decide +kernel
theorem dX0_numberAt_4 : decode cX0_numberAt 4 = .ok (.iconst (-1), 1) := by decide +kernel
theorem dX0_numberAt_5 : decode cX0_numberAt 5 = .ok (.goto 9, 3) := by decide +kernel
theorem dX0_numberAt_8 : decode cX0_numberAt 8 = .ok (.aload_n 0, 1) := by decide +kernel
theorem dX0_numberAt_9 : decode cX0_numberAt 9 = .ok (.getfield 13, 3) := by decide +kernel
theorem dX0_numberAt_12 : decode cX0_numberAt 12 = .ok (.iload_n 1, 1) := by decide +kernel
theorem dX0_numberAt_13 : decode cX0_numberAt 13 = .ok (.baload, 1) := by decide +kernel
theorem dX0_numberAt_14 : decode cX0_numberAt 14 = .ok (.ireturn, 1) := by decide +kernel
theorem dX0_kind_0 : decode cX0_kind 0 = .ok (.aload_n 0, 1) := by decide +kernel
theorem dX0_kind_1 : decode cX0_kind 1 = .ok (.iload_n 1, 1) := by decide +kernel
theorem dX0_kind_2 : decode cX0_kind 2 = .ok (.invokevirtual 42, 3) := by decide +kernel
theorem dX0_kind_5 : decode cX0_kind 5 = .ok (.ifCond .eq 17, 3) := by decide +kernel
theorem dX0_kind_8 : decode cX0_kind 8 = .ok (.aload_n 0, 1) := by decide +kernel
theorem dX0_kind_9 : decode cX0_kind 9 = .ok (.getfield 16, 3) := by decide +kernel
theorem dX0_kind_12 : decode cX0_kind 12 = .ok (.aload_n 0, 1) := by decide +kernel
theorem dX0_kind_13 : decode cX0_kind 13 = .ok (.getfield 7, 3) := by decide +kernel
theorem dX0_kind_16 : decode cX0_kind 16 = .ok (.iload_n 1, 1) := by decide +kernel
theorem dX0_kind_17 : decode cX0_kind 17 = .ok (.baload, 1) := by decide +kernel
theorem dX0_kind_18 : decode cX0_kind 18 = .ok (.baload, 1) := by decide +kernel
theorem dX0_kind_19 : decode cX0_kind 19 = .ok (.goto 4, 3) := by decide +kernel
theorem dX0_kind_22 : decode cX0_kind 22 = .ok (.iconst (-1), 1) := by decide +kernel
theorem dX0_kind_23 : decode cX0_kind 23 = .ok (.ireturn, 1) := by decide +kernel
theorem dX0_rootOf_0 : decode cX0_rootOf 0 = .ok (.iload_n 1, 1) := by decide +kernel
theorem dX0_rootOf_1 : decode cX0_rootOf 1 = .ok (.invokestatic 38, 3) := by decide +kernel
theorem dX0_rootOf_4 : decode cX0_rootOf 4 = .ok (.ifCond .eq 16, 3) := by decide +kernel
theorem dX0_rootOf_7 : decode cX0_rootOf 7 = .ok (.aload_n 0, 1) := by decide +kernel
theorem dX0_rootOf_8 : decode cX0_rootOf 8 = .ok (.aload_n 0, 1) := by decide +kernel
theorem dX0_rootOf_9 : decode cX0_rootOf 9 = .ok (.getfield 28, 3) := by decide +kernel
theorem dX0_rootOf_12 : decode cX0_rootOf 12 = .ok (.iload_n 1, 1) := by decide +kernel
theorem dX0_rootOf_13 : decode cX0_rootOf 13 = .ok (.baload, 1) := by decide +kernel
theorem dX0_rootOf_14 : decode cX0_rootOf 14 = .ok (.invokevirtual 99, 3) := by decide +kernel
theorem dX0_rootOf_17 : decode cX0_rootOf 17 = .ok (.goto 4, 3) := by decide +kernel
theorem dX0_rootOf_20 : decode cX0_rootOf 20 = .ok (.iconst (-1), 1) := by decide +kernel
theorem dX0_rootOf_21 : decode cX0_rootOf 21 = .ok (.ireturn, 1) := by decide +kernel
theorem dX0_queued_0 : decode cX0_queued 0 = .ok (.aload_n 0, 1) := by decide +kernel
theorem dX0_queued_1 : decode cX0_queued 1 = .ok (.getfield 77, 3) := by decide +kernel
theorem dX0_queued_4 : decode cX0_queued 4 = .ok (.ireturn, 1) := by decide +kernel
theorem dX0_watched_0 : decode cX0_watched 0 = .ok (.aload_n 0, 1) := by decide +kernel
theorem dX0_watched_1 : decode cX0_watched 1 = .ok (.getfield 51, 3) := by decide +kernel
theorem dX0_watched_4 : decode cX0_watched 4 = .ok (.ireturn, 1) := by decide +kernel
theorem dX0_heldBy_0 : decode cX0_heldBy 0 = .ok (.aload_n 0, 1) := by decide +kernel
theorem dX0_heldBy_1 : decode cX0_heldBy 1 = .ok (.iload_n 1, 1) := by decide +kernel
theorem dX0_heldBy_2 : decode cX0_heldBy 2 = .ok (.invokevirtual 42, 3) := by decide +kernel
theorem dX0_heldBy_5 : decode cX0_heldBy 5 = .ok (.ifCond .ne 5, 3) := by decide +kernel
theorem dX0_heldBy_8 : decode cX0_heldBy 8 = .ok (.iconst 0, 1) := by decide +kernel
theorem dX0_heldBy_9 : decode cX0_heldBy 9 = .ok (.ireturn, 1) := by decide +kernel
theorem dX0_heldBy_10 : decode cX0_heldBy 10 = .ok (.aload_n 0, 1) := by decide +kernel
theorem dX0_heldBy_11 : decode cX0_heldBy 11 = .ok (.invokevirtual 95, 3) := by decide +kernel
theorem dX0_heldBy_14 : decode cX0_heldBy 14 = .ok (.istore_n 2, 1) := by decide +kernel
theorem dX0_heldBy_15 : decode cX0_heldBy 15 = .ok (.aload_n 0, 1) := by decide +kernel
theorem dX0_heldBy_16 : decode cX0_heldBy 16 = .ok (.getfield 7, 3) := by decide +kernel
theorem dX0_heldBy_19 : decode cX0_heldBy 19 = .ok (.iload_n 1, 1) := by decide +kernel
theorem dX0_heldBy_20 : decode cX0_heldBy 20 = .ok (.baload, 1) := by decide +kernel
theorem dX0_heldBy_21 : decode cX0_heldBy 21 = .ok (.istore_n 3, 1) := by decide +kernel
theorem dX0_heldBy_22 : decode cX0_heldBy 22 = .ok (.aload_n 0, 1) := by decide +kernel
theorem dX0_heldBy_23 : decode cX0_heldBy 23 = .ok (.getfield 19, 3) := by decide +kernel
theorem dX0_heldBy_26 : decode cX0_heldBy 26 = .ok (.iload_n 3, 1) := by decide +kernel
theorem dX0_heldBy_27 : decode cX0_heldBy 27 = .ok (.baload, 1) := by decide +kernel
theorem dX0_heldBy_28 : decode cX0_heldBy 28 = .ok (.istore 4, 2) := by decide +kernel
theorem dX0_heldBy_30 : decode cX0_heldBy 30 = .ok (.aload_n 0, 1) := by decide +kernel
theorem dX0_heldBy_31 : decode cX0_heldBy 31 = .ok (.getfield 22, 3) := by decide +kernel
theorem dX0_heldBy_34 : decode cX0_heldBy 34 = .ok (.iload_n 3, 1) := by decide +kernel
theorem dX0_heldBy_35 : decode cX0_heldBy 35 = .ok (.baload, 1) := by decide +kernel
theorem dX0_heldBy_36 : decode cX0_heldBy 36 = .ok (.istore 5, 2) := by decide +kernel
theorem dX0_heldBy_38 : decode cX0_heldBy 38 = .ok (.aload_n 0, 1) := by decide +kernel
theorem dX0_heldBy_39 : decode cX0_heldBy 39 = .ok (.getfield 19, 3) := by decide +kernel
theorem dX0_heldBy_42 : decode cX0_heldBy 42 = .ok (.iload_n 3, 1) := by decide +kernel
theorem dX0_heldBy_43 : decode cX0_heldBy 43 = .ok (.iconst (-1), 1) := by decide +kernel
theorem dX0_heldBy_44 : decode cX0_heldBy 44 = .ok (.bastore, 1) := by decide +kernel
theorem dX0_heldBy_45 : decode cX0_heldBy 45 = .ok (.aload_n 0, 1) := by decide +kernel
theorem dX0_heldBy_46 : decode cX0_heldBy 46 = .ok (.getfield 22, 3) := by decide +kernel
theorem dX0_heldBy_49 : decode cX0_heldBy 49 = .ok (.iload_n 3, 1) := by decide +kernel
theorem dX0_heldBy_50 : decode cX0_heldBy 50 = .ok (.iconst (-1), 1) := by decide +kernel
theorem dX0_heldBy_51 : decode cX0_heldBy 51 = .ok (.bastore, 1) := by decide +kernel
theorem dX0_heldBy_52 : decode cX0_heldBy 52 = .ok (.aload_n 0, 1) := by decide +kernel
theorem dX0_heldBy_53 : decode cX0_heldBy 53 = .ok (.invokevirtual 95, 3) := by decide +kernel
theorem dX0_heldBy_56 : decode cX0_heldBy 56 = .ok (.istore 6, 2) := by decide +kernel
theorem dX0_heldBy_58 : decode cX0_heldBy 58 = .ok (.aload_n 0, 1) := by decide +kernel
theorem dX0_heldBy_59 : decode cX0_heldBy 59 = .ok (.getfield 19, 3) := by decide +kernel
theorem dX0_heldBy_62 : decode cX0_heldBy 62 = .ok (.iload_n 3, 1) := by decide +kernel
theorem dX0_heldBy_63 : decode cX0_heldBy 63 = .ok (.iload 4, 2) := by decide +kernel
theorem dX0_heldBy_65 : decode cX0_heldBy 65 = .ok (.bastore, 1) := by decide +kernel
theorem dX0_heldBy_66 : decode cX0_heldBy 66 = .ok (.aload_n 0, 1) := by decide +kernel
theorem dX0_heldBy_67 : decode cX0_heldBy 67 = .ok (.getfield 22, 3) := by decide +kernel
theorem dX0_heldBy_70 : decode cX0_heldBy 70 = .ok (.iload_n 3, 1) := by decide +kernel
theorem dX0_heldBy_71 : decode cX0_heldBy 71 = .ok (.iload 5, 2) := by decide +kernel
theorem dX0_heldBy_73 : decode cX0_heldBy 73 = .ok (.bastore, 1) := by decide +kernel
theorem dX0_heldBy_74 : decode cX0_heldBy 74 = .ok (.iload_n 2, 1) := by decide +kernel
theorem dX0_heldBy_75 : decode cX0_heldBy 75 = .ok (.iload 6, 2) := by decide +kernel
theorem dX0_heldBy_77 : decode cX0_heldBy 77 = .ok (.iconst (-1), 1) := by decide +kernel
theorem dX0_heldBy_78 : decode cX0_heldBy 78 = .ok (.ixor, 1) := by decide +kernel
theorem dX0_heldBy_79 : decode cX0_heldBy 79 = .ok (.iand, 1) := by decide +kernel
theorem dX0_heldBy_80 : decode cX0_heldBy 80 = .ok (.ireturn, 1) := by decide +kernel
end
section
set_option maxRecDepth 100000
theorem dX1_init_0 : decode cX1_init 0 = .ok (.aload_n 0, 1) := by decide +kernel
theorem dX1_init_1 : decode cX1_init 1 = .ok (.invokespecial 1, 3) := by decide +kernel
theorem dX1_init_4 : decode cX1_init 4 = .ok (.aload_n 0, 1) := by decide +kernel
theorem dX1_init_5 : decode cX1_init 5 = .ok (.bipush 20, 2) := by decide +kernel
theorem dX1_init_7 : decode cX1_init 7 = .ok (.newarray .boolean, 2) := by decide +kernel
theorem dX1_init_9 : decode cX1_init 9 = .ok (.putfield 7, 3) := by decide +kernel
theorem dX1_init_12 : decode cX1_init 12 = .ok (.aload_n 0, 1) := by decide +kernel
theorem dX1_init_13 : decode cX1_init 13 = .ok (.bipush 20, 2) := by decide +kernel
theorem dX1_init_15 : decode cX1_init 15 = .ok (.newarray .int, 2) := by decide +kernel
theorem dX1_init_17 : decode cX1_init 17 = .ok (.putfield 13, 3) := by decide +kernel
theorem dX1_init_20 : decode cX1_init 20 = .ok (.aload_n 0, 1) := by decide +kernel
theorem dX1_init_21 : decode cX1_init 21 = .ok (.bipush 20, 2) := by decide +kernel
theorem dX1_init_23 : decode cX1_init 23 = .ok (.newarray .boolean, 2) := by decide +kernel
theorem dX1_init_25 : decode cX1_init 25 = .ok (.putfield 17, 3) := by decide +kernel
theorem dX1_init_28 : decode cX1_init 28 = .ok (.aload_n 0, 1) := by decide +kernel
theorem dX1_init_29 : decode cX1_init 29 = .ok (.bipush 20, 2) := by decide +kernel
theorem dX1_init_31 : decode cX1_init 31 = .ok (.newarray .int, 2) := by decide +kernel
theorem dX1_init_33 : decode cX1_init 33 = .ok (.putfield 20, 3) := by decide +kernel
theorem dX1_init_36 : decode cX1_init 36 = .ok (.aload_n 0, 1) := by decide +kernel
theorem dX1_init_37 : decode cX1_init 37 = .ok (.bipush 20, 2) := by decide +kernel
theorem dX1_init_39 : decode cX1_init 39 = .ok (.newarray .int, 2) := by decide +kernel
theorem dX1_init_41 : decode cX1_init 41 = .ok (.putfield 23, 3) := by decide +kernel
theorem dX1_init_44 : decode cX1_init 44 = .ok (.aload_n 0, 1) := by decide +kernel
theorem dX1_init_45 : decode cX1_init 45 = .ok (.iconst 4, 1) := by decide +kernel
theorem dX1_init_46 : decode cX1_init 46 = .ok (.newarray .int, 2) := by decide +kernel
theorem dX1_init_48 : decode cX1_init 48 = .ok (.putfield 26, 3) := by decide +kernel
theorem dX1_init_51 : decode cX1_init 51 = .ok (.aload_n 0, 1) := by decide +kernel
theorem dX1_init_52 : decode cX1_init 52 = .ok (.bipush 20, 2) := by decide +kernel
theorem dX1_init_54 : decode cX1_init 54 = .ok (.newarray .int, 2) := by decide +kernel
theorem dX1_init_56 : decode cX1_init 56 = .ok (.putfield 29, 3) := by decide +kernel
theorem dX1_init_59 : decode cX1_init 59 = .ok (.return_, 1) := by decide +kernel
theorem dX1_make_0 : decode cX1_make 0 = .ok (.iload_n 1, 1) := by decide +kernel
theorem dX1_make_1 : decode cX1_make 1 = .ok (.ifCond .lt 17, 3) := by decide +kernel
theorem dX1_make_4 : decode cX1_make 4 = .ok (.iload_n 1, 1) := by decide +kernel
theorem dX1_make_5 : decode cX1_make 5 = .ok (.iconst 2, 1) := by decide +kernel
theorem dX1_make_6 : decode cX1_make 6 = .ok (.if_icmp .gt 12, 3) := by decide +kernel
theorem dX1_make_9 : decode cX1_make 9 = .ok (.iload_n 2, 1) := by decide +kernel
theorem dX1_make_10 : decode cX1_make 10 = .ok (.ifCond .lt 8, 3) := by decide +kernel
theorem dX1_make_13 : decode cX1_make 13 = .ok (.iload_n 2, 1) := by decide +kernel
theorem dX1_make_14 : decode cX1_make 14 = .ok (.iconst 3, 1) := by decide +kernel
theorem dX1_make_15 : decode cX1_make 15 = .ok (.if_icmp .le 5, 3) := by decide +kernel
theorem dX1_make_18 : decode cX1_make 18 = .ok (.iconst (-1), 1) := by decide +kernel
theorem dX1_make_19 : decode cX1_make 19 = .ok (.ireturn, 1) := by decide +kernel
theorem dX1_make_20 : decode cX1_make 20 = .ok (.iconst 0, 1) := by decide +kernel
theorem dX1_make_21 : decode cX1_make 21 = .ok (.istore_n 3, 1) := by decide +kernel
theorem dX1_make_22 : decode cX1_make 22 = .ok (.iload_n 3, 1) := by decide +kernel
theorem dX1_make_23 : decode cX1_make 23 = .ok (.bipush 20, 2) := by decide +kernel
theorem dX1_make_25 : decode cX1_make 25 = .ok (.if_icmp .ge 64, 3) := by decide +kernel
theorem dX1_make_28 : decode cX1_make 28 = .ok (.aload_n 0, 1) := by decide +kernel
theorem dX1_make_29 : decode cX1_make 29 = .ok (.getfield 7, 3) := by decide +kernel
theorem dX1_make_32 : decode cX1_make 32 = .ok (.iload_n 3, 1) := by decide +kernel
theorem dX1_make_33 : decode cX1_make 33 = .ok (.baload, 1) := by decide +kernel
theorem dX1_make_34 : decode cX1_make 34 = .ok (.ifCond .ne 49, 3) := by decide +kernel
theorem dX1_make_37 : decode cX1_make 37 = .ok (.aload_n 0, 1) := by decide +kernel
theorem dX1_make_38 : decode cX1_make 38 = .ok (.getfield 7, 3) := by decide +kernel
theorem dX1_make_41 : decode cX1_make 41 = .ok (.iload_n 3, 1) := by decide +kernel
theorem dX1_make_42 : decode cX1_make 42 = .ok (.iconst 1, 1) := by decide +kernel
theorem dX1_make_43 : decode cX1_make 43 = .ok (.bastore, 1) := by decide +kernel
theorem dX1_make_44 : decode cX1_make 44 = .ok (.aload_n 0, 1) := by decide +kernel
theorem dX1_make_45 : decode cX1_make 45 = .ok (.getfield 13, 3) := by decide +kernel
theorem dX1_make_48 : decode cX1_make 48 = .ok (.iload_n 3, 1) := by decide +kernel
theorem dX1_make_49 : decode cX1_make 49 = .ok (.iload_n 1, 1) := by decide +kernel
theorem dX1_make_50 : decode cX1_make 50 = .ok (.iastore, 1) := by decide +kernel
theorem dX1_make_51 : decode cX1_make 51 = .ok (.aload_n 0, 1) := by decide +kernel
theorem dX1_make_52 : decode cX1_make 52 = .ok (.getfield 17, 3) := by decide +kernel
theorem dX1_make_55 : decode cX1_make 55 = .ok (.iload_n 3, 1) := by decide +kernel
theorem dX1_make_56 : decode cX1_make 56 = .ok (.iconst 0, 1) := by decide +kernel
theorem dX1_make_57 : decode cX1_make 57 = .ok (.bastore, 1) := by decide +kernel
theorem dX1_make_58 : decode cX1_make 58 = .ok (.aload_n 0, 1) := by decide +kernel
theorem dX1_make_59 : decode cX1_make 59 = .ok (.getfield 20, 3) := by decide +kernel
theorem dX1_make_62 : decode cX1_make 62 = .ok (.iload_n 3, 1) := by decide +kernel
theorem dX1_make_63 : decode cX1_make 63 = .ok (.iconst 0, 1) := by decide +kernel
theorem dX1_make_64 : decode cX1_make 64 = .ok (.iastore, 1) := by decide +kernel
theorem dX1_make_65 : decode cX1_make 65 = .ok (.aload_n 0, 1) := by decide +kernel
theorem dX1_make_66 : decode cX1_make 66 = .ok (.getfield 23, 3) := by decide +kernel
theorem dX1_make_69 : decode cX1_make 69 = .ok (.iload_n 3, 1) := by decide +kernel
theorem dX1_make_70 : decode cX1_make 70 = .ok (.iconst 0, 1) := by decide +kernel
theorem dX1_make_71 : decode cX1_make 71 = .ok (.iastore, 1) := by decide +kernel
theorem dX1_make_72 : decode cX1_make 72 = .ok (.aload_n 0, 1) := by decide +kernel
theorem dX1_make_73 : decode cX1_make 73 = .ok (.getfield 26, 3) := by decide +kernel
theorem dX1_make_76 : decode cX1_make 76 = .ok (.iload_n 2, 1) := by decide +kernel
theorem dX1_make_77 : decode cX1_make 77 = .ok (.iload_n 3, 1) := by decide +kernel
theorem dX1_make_78 : decode cX1_make 78 = .ok (.iconst 1, 1) := by decide +kernel
theorem dX1_make_79 : decode cX1_make 79 = .ok (.iadd, 1) := by decide +kernel
theorem dX1_make_80 : decode cX1_make 80 = .ok (.iastore, 1) := by decide +kernel
theorem dX1_make_81 : decode cX1_make 81 = .ok (.iload_n 3, 1) := by decide +kernel
theorem dX1_make_82 : decode cX1_make 82 = .ok (.ireturn, 1) := by decide +kernel
theorem dX1_make_83 : decode cX1_make 83 = .ok (.iinc 3 1, 3) := by decide +kernel
theorem dX1_make_86 : decode cX1_make 86 = .ok (.goto (-64), 3) := by decide +kernel
theorem dX1_make_89 : decode cX1_make 89 = .ok (.bipush (-2), 2) := by decide +kernel
theorem dX1_make_91 : decode cX1_make 91 = .ok (.ireturn, 1) := by decide +kernel
theorem dX1_point_0 : decode cX1_point 0 = .ok (.aload_n 0, 1) := by decide +kernel
theorem dX1_point_1 : decode cX1_point 1 = .ok (.iload_n 1, 1) := by decide +kernel
theorem dX1_point_2 : decode cX1_point 2 = .ok (.invokevirtual 32, 3) := by decide +kernel
theorem dX1_point_5 : decode cX1_point 5 = .ok (.ifCond .eq 25, 3) := by decide +kernel
theorem dX1_point_8 : decode cX1_point 8 = .ok (.iload_n 2, 1) := by decide +kernel
theorem dX1_point_9 : decode cX1_point 9 = .ok (.ifCond .eq 8, 3) := by decide +kernel
theorem dX1_point_12 : decode cX1_point 12 = .ok (.iload_n 2, 1) := by decide +kernel
theorem dX1_point_13 : decode cX1_point 13 = .ok (.iconst 1, 1) := by decide +kernel
theorem dX1_point_14 : decode cX1_point 14 = .ok (.if_icmp .ne 16, 3) := by decide +kernel
theorem dX1_point_17 : decode cX1_point 17 = .ok (.iload_n 3, 1) := by decide +kernel
theorem dX1_point_18 : decode cX1_point 18 = .ok (.iconst (-1), 1) := by decide +kernel
theorem dX1_point_19 : decode cX1_point 19 = .ok (.if_icmp .eq 13, 3) := by decide +kernel
theorem dX1_point_22 : decode cX1_point 22 = .ok (.aload_n 0, 1) := by decide +kernel
theorem dX1_point_23 : decode cX1_point 23 = .ok (.iload_n 3, 1) := by decide +kernel
theorem dX1_point_24 : decode cX1_point 24 = .ok (.invokevirtual 32, 3) := by decide +kernel
theorem dX1_point_27 : decode cX1_point 27 = .ok (.ifCond .ne 5, 3) := by decide +kernel
theorem dX1_point_30 : decode cX1_point 30 = .ok (.iconst 0, 1) := by decide +kernel
theorem dX1_point_31 : decode cX1_point 31 = .ok (.ireturn, 1) := by decide +kernel
theorem dX1_point_32 : decode cX1_point 32 = .ok (.aload_n 0, 1) := by decide +kernel
theorem dX1_point_33 : decode cX1_point 33 = .ok (.getfield 20, 3) := by decide +kernel
theorem dX1_point_36 : decode cX1_point 36 = .ok (.iload_n 1, 1) := by decide +kernel
theorem dX1_point_37 : decode cX1_point 37 = .ok (.iload_n 2, 1) := by decide +kernel
theorem dX1_point_38 : decode cX1_point 38 = .ok (.ifCond .ne 9, 3) := by decide +kernel
theorem dX1_point_41 : decode cX1_point 41 = .ok (.iload_n 3, 1) := by decide +kernel
theorem dX1_point_42 : decode cX1_point 42 = .ok (.iconst 1, 1) := by decide +kernel
theorem dX1_point_43 : decode cX1_point 43 = .ok (.iadd, 1) := by decide +kernel
theorem dX1_point_44 : decode cX1_point 44 = .ok (.goto 9, 3) := by decide +kernel
theorem dX1_point_47 : decode cX1_point 47 = .ok (.aload_n 0, 1) := by decide +kernel
theorem dX1_point_48 : decode cX1_point 48 = .ok (.getfield 20, 3) := by decide +kernel
theorem dX1_point_51 : decode cX1_point 51 = .ok (.iload_n 1, 1) := by decide +kernel
theorem dX1_point_52 : decode cX1_point 52 = .ok (.iaload, 1) := by decide +kernel
theorem dX1_point_53 : decode cX1_point 53 = .ok (.iastore, 1) := by decide +kernel
theorem dX1_point_54 : decode cX1_point 54 = .ok (.aload_n 0, 1) := by decide +kernel
theorem dX1_point_55 : decode cX1_point 55 = .ok (.getfield 23, 3) := by decide +kernel
theorem dX1_point_58 : decode cX1_point 58 = .ok (.iload_n 1, 1) := by decide +kernel
theorem dX1_point_59 : decode cX1_point 59 = .ok (.iload_n 2, 1) := by decide +kernel
theorem dX1_point_60 : decode cX1_point 60 = .ok (.iconst 1, 1) := by decide +kernel
theorem dX1_point_61 : decode cX1_point 61 = .ok (.if_icmp .ne 9, 3) := by decide +kernel
theorem dX1_point_64 : decode cX1_point 64 = .ok (.iload_n 3, 1) := by decide +kernel
theorem dX1_point_65 : decode cX1_point 65 = .ok (.iconst 1, 1) := by decide +kernel
theorem dX1_point_66 : decode cX1_point 66 = .ok (.iadd, 1) := by decide +kernel
theorem dX1_point_67 : decode cX1_point 67 = .ok (.goto 9, 3) := by decide +kernel
theorem dX1_point_70 : decode cX1_point 70 = .ok (.aload_n 0, 1) := by decide +kernel
theorem dX1_point_71 : decode cX1_point 71 = .ok (.getfield 23, 3) := by decide +kernel
theorem dX1_point_74 : decode cX1_point 74 = .ok (.iload_n 1, 1) := by decide +kernel
theorem dX1_point_75 : decode cX1_point 75 = .ok (.iaload, 1) := by decide +kernel
theorem dX1_point_76 : decode cX1_point 76 = .ok (.iastore, 1) := by decide +kernel
theorem dX1_point_77 : decode cX1_point 77 = .ok (.iconst 1, 1) := by decide +kernel
theorem dX1_point_78 : decode cX1_point 78 = .ok (.ireturn, 1) := by decide +kernel
theorem dX1_is_0 : decode cX1_is 0 = .ok (.iload_n 1, 1) := by decide +kernel
theorem dX1_is_1 : decode cX1_is 1 = .ok (.ifCond .lt 22, 3) := by decide +kernel
theorem dX1_is_4 : decode cX1_is 4 = .ok (.iload_n 1, 1) := by decide +kernel
theorem dX1_is_5 : decode cX1_is 5 = .ok (.bipush 20, 2) := by decide +kernel
theorem dX1_is_7 : decode cX1_is 7 = .ok (.if_icmp .ge 16, 3) := by decide +kernel
theorem dX1_is_10 : decode cX1_is 10 = .ok (.aload_n 0, 1) := by decide +kernel
theorem dX1_is_11 : decode cX1_is 11 = .ok (.getfield 7, 3) := by decide +kernel
theorem dX1_is_14 : decode cX1_is 14 = .ok (.iload_n 1, 1) := by decide +kernel
theorem dX1_is_15 : decode cX1_is 15 = .ok (.baload, 1) := by decide +kernel
theorem dX1_is_16 : decode cX1_is 16 = .ok (.ifCond .eq 7, 3) := by decide +kernel
theorem dX1_is_19 : decode cX1_is 19 = .ok (.iconst 1, 1) := by decide +kernel
theorem dX1_is_20 : decode cX1_is 20 = .ok (.goto 4, 3) := by decide +kernel
theorem dX1_is_23 : decode cX1_is 23 = .ok (.iconst 0, 1) := by decide +kernel
theorem dX1_is_24 : decode cX1_is 24 = .ok (.ireturn, 1) := by decide +kernel
theorem dX1_root_0 : decode cX1_root 0 = .ok (.iload_n 1, 1) := by decide +kernel
theorem dX1_root_1 : decode cX1_root 1 = .ok (.ifCond .lt 21, 3) := by decide +kernel
theorem dX1_root_4 : decode cX1_root 4 = .ok (.iload_n 1, 1) := by decide +kernel
theorem dX1_root_5 : decode cX1_root 5 = .ok (.iconst 3, 1) := by decide +kernel
theorem dX1_root_6 : decode cX1_root 6 = .ok (.if_icmp .gt 16, 3) := by decide +kernel
theorem dX1_root_9 : decode cX1_root 9 = .ok (.iload_n 2, 1) := by decide +kernel
theorem dX1_root_10 : decode cX1_root 10 = .ok (.iconst (-1), 1) := by decide +kernel
theorem dX1_root_11 : decode cX1_root 11 = .ok (.if_icmp .eq 13, 3) := by decide +kernel
theorem dX1_root_14 : decode cX1_root 14 = .ok (.aload_n 0, 1) := by decide +kernel
theorem dX1_root_15 : decode cX1_root 15 = .ok (.iload_n 2, 1) := by decide +kernel
theorem dX1_root_16 : decode cX1_root 16 = .ok (.invokevirtual 32, 3) := by decide +kernel
theorem dX1_root_19 : decode cX1_root 19 = .ok (.ifCond .ne 5, 3) := by decide +kernel
theorem dX1_root_22 : decode cX1_root 22 = .ok (.iconst 0, 1) := by decide +kernel
theorem dX1_root_23 : decode cX1_root 23 = .ok (.ireturn, 1) := by decide +kernel
theorem dX1_root_24 : decode cX1_root 24 = .ok (.aload_n 0, 1) := by decide +kernel
theorem dX1_root_25 : decode cX1_root 25 = .ok (.getfield 26, 3) := by decide +kernel
theorem dX1_root_28 : decode cX1_root 28 = .ok (.iload_n 1, 1) := by decide +kernel
theorem dX1_root_29 : decode cX1_root 29 = .ok (.iload_n 2, 1) := by decide +kernel
theorem dX1_root_30 : decode cX1_root 30 = .ok (.iconst 1, 1) := by decide +kernel
theorem dX1_root_31 : decode cX1_root 31 = .ok (.iadd, 1) := by decide +kernel
theorem dX1_root_32 : decode cX1_root 32 = .ok (.iastore, 1) := by decide +kernel
theorem dX1_root_33 : decode cX1_root 33 = .ok (.iconst 1, 1) := by decide +kernel
theorem dX1_root_34 : decode cX1_root 34 = .ok (.ireturn, 1) := by decide +kernel
theorem dX1_watch_0 : decode cX1_watch 0 = .ok (.aload_n 0, 1) := by decide +kernel
theorem dX1_watch_1 : decode cX1_watch 1 = .ok (.iload_n 1, 1) := by decide +kernel
theorem dX1_watch_2 : decode cX1_watch 2 = .ok (.invokevirtual 32, 3) := by decide +kernel
theorem dX1_watch_5 : decode cX1_watch 5 = .ok (.ifCond .ne 5, 3) := by decide +kernel
theorem dX1_watch_8 : decode cX1_watch 8 = .ok (.iconst 0, 1) := by decide +kernel
theorem dX1_watch_9 : decode cX1_watch 9 = .ok (.ireturn, 1) := by decide +kernel
theorem dX1_watch_10 : decode cX1_watch 10 = .ok (.aload_n 0, 1) := by decide +kernel
theorem dX1_watch_11 : decode cX1_watch 11 = .ok (.getfield 17, 3) := by decide +kernel
theorem dX1_watch_14 : decode cX1_watch 14 = .ok (.iload_n 1, 1) := by decide +kernel
theorem dX1_watch_15 : decode cX1_watch 15 = .ok (.iconst 1, 1) := by decide +kernel
theorem dX1_watch_16 : decode cX1_watch 16 = .ok (.bastore, 1) := by decide +kernel
theorem dX1_watch_17 : decode cX1_watch 17 = .ok (.iconst 1, 1) := by decide +kernel
theorem dX1_watch_18 : decode cX1_watch 18 = .ok (.ireturn, 1) := by decide +kernel
theorem dX1_clean_0 : decode cX1_clean 0 = .ok (.aload_n 0, 1) := by decide +kernel
theorem dX1_clean_1 : decode cX1_clean 1 = .ok (.invokevirtual 44, 3) := by decide +kernel
theorem dX1_clean_4 : decode cX1_clean 4 = .ok (.istore_n 1, 1) := by decide +kernel
theorem dX1_clean_5 : decode cX1_clean 5 = .ok (.iconst 0, 1) := by decide +kernel
theorem dX1_clean_6 : decode cX1_clean 6 = .ok (.istore_n 2, 1) := by decide +kernel
theorem dX1_clean_7 : decode cX1_clean 7 = .ok (.iload_n 2, 1) := by decide +kernel
theorem dX1_clean_8 : decode cX1_clean 8 = .ok (.bipush 20, 2) := by decide +kernel
theorem dX1_clean_10 : decode cX1_clean 10 = .ok (.if_icmp .ge 62, 3) := by decide +kernel
theorem dX1_clean_13 : decode cX1_clean 13 = .ok (.aload_n 0, 1) := by decide +kernel
theorem dX1_clean_14 : decode cX1_clean 14 = .ok (.getfield 7, 3) := by decide +kernel
theorem dX1_clean_17 : decode cX1_clean 17 = .ok (.iload_n 2, 1) := by decide +kernel
theorem dX1_clean_18 : decode cX1_clean 18 = .ok (.baload, 1) := by decide +kernel
theorem dX1_clean_19 : decode cX1_clean 19 = .ok (.ifCond .eq 47, 3) := by decide +kernel
theorem dX1_clean_22 : decode cX1_clean 22 = .ok (.aload_n 0, 1) := by decide +kernel
theorem dX1_clean_23 : decode cX1_clean 23 = .ok (.getfield 17, 3) := by decide +kernel
theorem dX1_clean_26 : decode cX1_clean 26 = .ok (.iload_n 2, 1) := by decide +kernel
theorem dX1_clean_27 : decode cX1_clean 27 = .ok (.baload, 1) := by decide +kernel
theorem dX1_clean_28 : decode cX1_clean 28 = .ok (.ifCond .eq 38, 3) := by decide +kernel
theorem dX1_clean_31 : decode cX1_clean 31 = .ok (.iload_n 1, 1) := by decide +kernel
theorem dX1_clean_32 : decode cX1_clean 32 = .ok (.iload_n 2, 1) := by decide +kernel
theorem dX1_clean_33 : decode cX1_clean 33 = .ok (.ishr, 1) := by decide +kernel
theorem dX1_clean_34 : decode cX1_clean 34 = .ok (.iconst 1, 1) := by decide +kernel
theorem dX1_clean_35 : decode cX1_clean 35 = .ok (.iand, 1) := by decide +kernel
theorem dX1_clean_36 : decode cX1_clean 36 = .ok (.ifCond .ne 30, 3) := by decide +kernel
theorem dX1_clean_39 : decode cX1_clean 39 = .ok (.aload_n 0, 1) := by decide +kernel
theorem dX1_clean_40 : decode cX1_clean 40 = .ok (.getfield 29, 3) := by decide +kernel
theorem dX1_clean_43 : decode cX1_clean 43 = .ok (.aload_n 0, 1) := by decide +kernel
theorem dX1_clean_44 : decode cX1_clean 44 = .ok (.getfield 40, 3) := by decide +kernel
theorem dX1_clean_47 : decode cX1_clean 47 = .ok (.iload_n 2, 1) := by decide +kernel
theorem dX1_clean_48 : decode cX1_clean 48 = .ok (.iastore, 1) := by decide +kernel
theorem dX1_clean_49 : decode cX1_clean 49 = .ok (.aload_n 0, 1) := by decide +kernel
theorem dX1_clean_50 : decode cX1_clean 50 = .ok (.dup, 1) := by decide +kernel
theorem dX1_clean_51 : decode cX1_clean 51 = .ok (.getfield 40, 3) := by decide +kernel
theorem dX1_clean_54 : decode cX1_clean 54 = .ok (.iconst 1, 1) := by decide +kernel
theorem dX1_clean_55 : decode cX1_clean 55 = .ok (.iadd, 1) := by decide +kernel
theorem dX1_clean_56 : decode cX1_clean 56 = .ok (.putfield 40, 3) := by decide +kernel
theorem dX1_clean_59 : decode cX1_clean 59 = .ok (.aload_n 0, 1) := by decide +kernel
theorem dX1_clean_60 : decode cX1_clean 60 = .ok (.getfield 17, 3) := by decide +kernel
theorem dX1_clean_63 : decode cX1_clean 63 = .ok (.iload_n 2, 1) := by decide +kernel
theorem dX1_clean_64 : decode cX1_clean 64 = .ok (.iconst 0, 1) := by decide +kernel
theorem dX1_clean_65 : decode cX1_clean 65 = .ok (.bastore, 1) := by decide +kernel
theorem dX1_clean_66 : decode cX1_clean 66 = .ok (.iinc 2 1, 3) := by decide +kernel
theorem dX1_clean_69 : decode cX1_clean 69 = .ok (.goto (-62), 3) := by decide +kernel
theorem dX1_clean_72 : decode cX1_clean 72 = .ok (.aload_n 0, 1) := by decide +kernel
theorem dX1_clean_73 : decode cX1_clean 73 = .ok (.invokevirtual 44, 3) := by decide +kernel
theorem dX1_clean_76 : decode cX1_clean 76 = .ok (.istore_n 2, 1) := by decide +kernel
theorem dX1_clean_77 : decode cX1_clean 77 = .ok (.iconst 0, 1) := by decide +kernel
theorem dX1_clean_78 : decode cX1_clean 78 = .ok (.istore_n 3, 1) := by decide +kernel
theorem dX1_clean_79 : decode cX1_clean 79 = .ok (.iconst 0, 1) := by decide +kernel
theorem dX1_clean_80 : decode cX1_clean 80 = .ok (.istore 4, 2) := by decide +kernel
theorem dX1_clean_82 : decode cX1_clean 82 = .ok (.iload 4, 2) := by decide +kernel
theorem dX1_clean_84 : decode cX1_clean 84 = .ok (.bipush 20, 2) := by decide +kernel
theorem dX1_clean_86 : decode cX1_clean 86 = .ok (.if_icmp .ge 209, 3) := by decide +kernel
theorem dX1_clean_89 : decode cX1_clean 89 = .ok (.aload_n 0, 1) := by decide +kernel
theorem dX1_clean_90 : decode cX1_clean 90 = .ok (.aload_n 0, 1) := by decide +kernel
theorem dX1_clean_91 : decode cX1_clean 91 = .ok (.getfield 20, 3) := by decide +kernel
theorem dX1_clean_94 : decode cX1_clean 94 = .ok (.iload 4, 2) := by decide +kernel
theorem dX1_clean_96 : decode cX1_clean 96 = .ok (.iaload, 1) := by decide +kernel
theorem dX1_clean_97 : decode cX1_clean 97 = .ok (.invokevirtual 36, 3) := by decide +kernel
theorem dX1_clean_100 : decode cX1_clean 100 = .ok (.istore 5, 2) := by decide +kernel
theorem dX1_clean_102 : decode cX1_clean 102 = .ok (.aload_n 0, 1) := by decide +kernel
theorem dX1_clean_103 : decode cX1_clean 103 = .ok (.getfield 13, 3) := by decide +kernel
theorem dX1_clean_106 : decode cX1_clean 106 = .ok (.iload 4, 2) := by decide +kernel
theorem dX1_clean_108 : decode cX1_clean 108 = .ok (.iaload, 1) := by decide +kernel
theorem dX1_clean_109 : decode cX1_clean 109 = .ok (.iconst 1, 1) := by decide +kernel
theorem dX1_clean_110 : decode cX1_clean 110 = .ok (.if_icmp .ne 16, 3) := by decide +kernel
theorem dX1_clean_113 : decode cX1_clean 113 = .ok (.iload 5, 2) := by decide +kernel
theorem dX1_clean_115 : decode cX1_clean 115 = .ok (.iload_n 1, 1) := by decide +kernel
theorem dX1_clean_116 : decode cX1_clean 116 = .ok (.iconst (-1), 1) := by decide +kernel
theorem dX1_clean_117 : decode cX1_clean 117 = .ok (.ixor, 1) := by decide +kernel
theorem dX1_clean_118 : decode cX1_clean 118 = .ok (.iand, 1) := by decide +kernel
theorem dX1_clean_119 : decode cX1_clean 119 = .ok (.ifCond .eq 7, 3) := by decide +kernel
theorem dX1_clean_122 : decode cX1_clean 122 = .ok (.iconst 1, 1) := by decide +kernel
theorem dX1_clean_123 : decode cX1_clean 123 = .ok (.goto 4, 3) := by decide +kernel
theorem dX1_clean_126 : decode cX1_clean 126 = .ok (.iconst 0, 1) := by decide +kernel
theorem dX1_clean_127 : decode cX1_clean 127 = .ok (.istore 6, 2) := by decide +kernel
theorem dX1_clean_129 : decode cX1_clean 129 = .ok (.aload_n 0, 1) := by decide +kernel
theorem dX1_clean_130 : decode cX1_clean 130 = .ok (.getfield 13, 3) := by decide +kernel
theorem dX1_clean_133 : decode cX1_clean 133 = .ok (.iload 4, 2) := by decide +kernel
theorem dX1_clean_135 : decode cX1_clean 135 = .ok (.iaload, 1) := by decide +kernel
theorem dX1_clean_136 : decode cX1_clean 136 = .ok (.iconst 2, 1) := by decide +kernel
theorem dX1_clean_137 : decode cX1_clean 137 = .ok (.if_icmp .ne 16, 3) := by decide +kernel
theorem dX1_clean_140 : decode cX1_clean 140 = .ok (.iload 5, 2) := by decide +kernel
theorem dX1_clean_142 : decode cX1_clean 142 = .ok (.iload_n 2, 1) := by decide +kernel
theorem dX1_clean_143 : decode cX1_clean 143 = .ok (.iconst (-1), 1) := by decide +kernel
theorem dX1_clean_144 : decode cX1_clean 144 = .ok (.ixor, 1) := by decide +kernel
theorem dX1_clean_145 : decode cX1_clean 145 = .ok (.iand, 1) := by decide +kernel
theorem dX1_clean_146 : decode cX1_clean 146 = .ok (.ifCond .eq 7, 3) := by decide +kernel
theorem dX1_clean_149 : decode cX1_clean 149 = .ok (.iconst 1, 1) := by decide +kernel
theorem dX1_clean_150 : decode cX1_clean 150 = .ok (.goto 4, 3) := by decide +kernel
theorem dX1_clean_153 : decode cX1_clean 153 = .ok (.iconst 0, 1) := by decide +kernel
theorem dX1_clean_154 : decode cX1_clean 154 = .ok (.istore 7, 2) := by decide +kernel
theorem dX1_clean_156 : decode cX1_clean 156 = .ok (.aload_n 0, 1) := by decide +kernel
theorem dX1_clean_157 : decode cX1_clean 157 = .ok (.getfield 20, 3) := by decide +kernel
theorem dX1_clean_160 : decode cX1_clean 160 = .ok (.iload 4, 2) := by decide +kernel
theorem dX1_clean_162 : decode cX1_clean 162 = .ok (.iload 6, 2) := by decide +kernel
theorem dX1_clean_164 : decode cX1_clean 164 = .ok (.ifCond .ne 8, 3) := by decide +kernel
theorem dX1_clean_167 : decode cX1_clean 167 = .ok (.iload 7, 2) := by decide +kernel
theorem dX1_clean_169 : decode cX1_clean 169 = .ok (.ifCond .eq 7, 3) := by decide +kernel
theorem dX1_clean_172 : decode cX1_clean 172 = .ok (.iconst 0, 1) := by decide +kernel
theorem dX1_clean_173 : decode cX1_clean 173 = .ok (.goto 10, 3) := by decide +kernel
theorem dX1_clean_176 : decode cX1_clean 176 = .ok (.aload_n 0, 1) := by decide +kernel
theorem dX1_clean_177 : decode cX1_clean 177 = .ok (.getfield 20, 3) := by decide +kernel
theorem dX1_clean_180 : decode cX1_clean 180 = .ok (.iload 4, 2) := by decide +kernel
theorem dX1_clean_182 : decode cX1_clean 182 = .ok (.iaload, 1) := by decide +kernel
theorem dX1_clean_183 : decode cX1_clean 183 = .ok (.iastore, 1) := by decide +kernel
theorem dX1_clean_184 : decode cX1_clean 184 = .ok (.aload_n 0, 1) := by decide +kernel
theorem dX1_clean_185 : decode cX1_clean 185 = .ok (.getfield 23, 3) := by decide +kernel
theorem dX1_clean_188 : decode cX1_clean 188 = .ok (.iload 4, 2) := by decide +kernel
theorem dX1_clean_190 : decode cX1_clean 190 = .ok (.aload_n 0, 1) := by decide +kernel
theorem dX1_clean_191 : decode cX1_clean 191 = .ok (.getfield 13, 3) := by decide +kernel
theorem dX1_clean_194 : decode cX1_clean 194 = .ok (.iload 4, 2) := by decide +kernel
theorem dX1_clean_196 : decode cX1_clean 196 = .ok (.iaload, 1) := by decide +kernel
theorem dX1_clean_197 : decode cX1_clean 197 = .ok (.iconst 2, 1) := by decide +kernel
theorem dX1_clean_198 : decode cX1_clean 198 = .ok (.if_icmp .ne 17, 3) := by decide +kernel
theorem dX1_clean_201 : decode cX1_clean 201 = .ok (.aload_n 0, 1) := by decide +kernel
theorem dX1_clean_202 : decode cX1_clean 202 = .ok (.getfield 20, 3) := by decide +kernel
theorem dX1_clean_205 : decode cX1_clean 205 = .ok (.iload 4, 2) := by decide +kernel
theorem dX1_clean_207 : decode cX1_clean 207 = .ok (.iaload, 1) := by decide +kernel
theorem dX1_clean_208 : decode cX1_clean 208 = .ok (.ifCond .ne 7, 3) := by decide +kernel
theorem dX1_clean_211 : decode cX1_clean 211 = .ok (.iconst 0, 1) := by decide +kernel
theorem dX1_clean_212 : decode cX1_clean 212 = .ok (.goto 10, 3) := by decide +kernel
theorem dX1_clean_215 : decode cX1_clean 215 = .ok (.aload_n 0, 1) := by decide +kernel
theorem dX1_clean_216 : decode cX1_clean 216 = .ok (.getfield 23, 3) := by decide +kernel
theorem dX1_clean_219 : decode cX1_clean 219 = .ok (.iload 4, 2) := by decide +kernel
theorem dX1_clean_221 : decode cX1_clean 221 = .ok (.iaload, 1) := by decide +kernel
theorem dX1_clean_222 : decode cX1_clean 222 = .ok (.iastore, 1) := by decide +kernel
theorem dX1_clean_223 : decode cX1_clean 223 = .ok (.aload_n 0, 1) := by decide +kernel
theorem dX1_clean_224 : decode cX1_clean 224 = .ok (.getfield 7, 3) := by decide +kernel
theorem dX1_clean_227 : decode cX1_clean 227 = .ok (.iload 4, 2) := by decide +kernel
theorem dX1_clean_229 : decode cX1_clean 229 = .ok (.baload, 1) := by decide +kernel
theorem dX1_clean_230 : decode cX1_clean 230 = .ok (.ifCond .eq 16, 3) := by decide +kernel
theorem dX1_clean_233 : decode cX1_clean 233 = .ok (.iload_n 2, 1) := by decide +kernel
theorem dX1_clean_234 : decode cX1_clean 234 = .ok (.iload 4, 2) := by decide +kernel
theorem dX1_clean_236 : decode cX1_clean 236 = .ok (.ishr, 1) := by decide +kernel
theorem dX1_clean_237 : decode cX1_clean 237 = .ok (.iconst 1, 1) := by decide +kernel
theorem dX1_clean_238 : decode cX1_clean 238 = .ok (.iand, 1) := by decide +kernel
theorem dX1_clean_239 : decode cX1_clean 239 = .ok (.ifCond .ne 7, 3) := by decide +kernel
theorem dX1_clean_242 : decode cX1_clean 242 = .ok (.iconst 1, 1) := by decide +kernel
theorem dX1_clean_243 : decode cX1_clean 243 = .ok (.goto 4, 3) := by decide +kernel
theorem dX1_clean_246 : decode cX1_clean 246 = .ok (.iconst 0, 1) := by decide +kernel
theorem dX1_clean_247 : decode cX1_clean 247 = .ok (.istore 8, 2) := by decide +kernel
theorem dX1_clean_249 : decode cX1_clean 249 = .ok (.iload 8, 2) := by decide +kernel
theorem dX1_clean_251 : decode cX1_clean 251 = .ok (.ifCond .eq 9, 3) := by decide +kernel
theorem dX1_clean_254 : decode cX1_clean 254 = .ok (.iload_n 3, 1) := by decide +kernel
theorem dX1_clean_255 : decode cX1_clean 255 = .ok (.iconst 1, 1) := by decide +kernel
theorem dX1_clean_256 : decode cX1_clean 256 = .ok (.iadd, 1) := by decide +kernel
theorem dX1_clean_257 : decode cX1_clean 257 = .ok (.goto 4, 3) := by decide +kernel
theorem dX1_clean_260 : decode cX1_clean 260 = .ok (.iload_n 3, 1) := by decide +kernel
theorem dX1_clean_261 : decode cX1_clean 261 = .ok (.istore_n 3, 1) := by decide +kernel
theorem dX1_clean_262 : decode cX1_clean 262 = .ok (.aload_n 0, 1) := by decide +kernel
theorem dX1_clean_263 : decode cX1_clean 263 = .ok (.getfield 7, 3) := by decide +kernel
theorem dX1_clean_266 : decode cX1_clean 266 = .ok (.iload 4, 2) := by decide +kernel
theorem dX1_clean_268 : decode cX1_clean 268 = .ok (.aload_n 0, 1) := by decide +kernel
theorem dX1_clean_269 : decode cX1_clean 269 = .ok (.getfield 7, 3) := by decide +kernel
theorem dX1_clean_272 : decode cX1_clean 272 = .ok (.iload 4, 2) := by decide +kernel
theorem dX1_clean_274 : decode cX1_clean 274 = .ok (.baload, 1) := by decide +kernel
theorem dX1_clean_275 : decode cX1_clean 275 = .ok (.ifCond .eq 12, 3) := by decide +kernel
theorem dX1_clean_278 : decode cX1_clean 278 = .ok (.iload 8, 2) := by decide +kernel
theorem dX1_clean_280 : decode cX1_clean 280 = .ok (.ifCond .ne 7, 3) := by decide +kernel
theorem dX1_clean_283 : decode cX1_clean 283 = .ok (.iconst 1, 1) := by decide +kernel
theorem dX1_clean_284 : decode cX1_clean 284 = .ok (.goto 4, 3) := by decide +kernel
theorem dX1_clean_287 : decode cX1_clean 287 = .ok (.iconst 0, 1) := by decide +kernel
theorem dX1_clean_288 : decode cX1_clean 288 = .ok (.bastore, 1) := by decide +kernel
theorem dX1_clean_289 : decode cX1_clean 289 = .ok (.iinc 4 1, 3) := by decide +kernel
theorem dX1_clean_292 : decode cX1_clean 292 = .ok (.goto (-210), 3) := by decide +kernel
theorem dX1_clean_295 : decode cX1_clean 295 = .ok (.iload_n 3, 1) := by decide +kernel
theorem dX1_clean_296 : decode cX1_clean 296 = .ok (.ireturn, 1) := by decide +kernel
theorem dX1_living_0 : decode cX1_living 0 = .ok (.iconst 0, 1) := by decide +kernel
theorem dX1_living_1 : decode cX1_living 1 = .ok (.istore_n 1, 1) := by decide +kernel
theorem dX1_living_2 : decode cX1_living 2 = .ok (.iconst 0, 1) := by decide +kernel
theorem dX1_living_3 : decode cX1_living 3 = .ok (.istore_n 2, 1) := by decide +kernel
theorem dX1_living_4 : decode cX1_living 4 = .ok (.iload_n 2, 1) := by decide +kernel
theorem dX1_living_5 : decode cX1_living 5 = .ok (.iconst 4, 1) := by decide +kernel
theorem dX1_living_6 : decode cX1_living 6 = .ok (.if_icmp .ge 22, 3) := by decide +kernel
theorem dX1_living_9 : decode cX1_living 9 = .ok (.iload_n 1, 1) := by decide +kernel
theorem dX1_living_10 : decode cX1_living 10 = .ok (.aload_n 0, 1) := by decide +kernel
theorem dX1_living_11 : decode cX1_living 11 = .ok (.aload_n 0, 1) := by decide +kernel
theorem dX1_living_12 : decode cX1_living 12 = .ok (.getfield 26, 3) := by decide +kernel
theorem dX1_living_15 : decode cX1_living 15 = .ok (.iload_n 2, 1) := by decide +kernel
theorem dX1_living_16 : decode cX1_living 16 = .ok (.iaload, 1) := by decide +kernel
theorem dX1_living_17 : decode cX1_living 17 = .ok (.invokevirtual 36, 3) := by decide +kernel
theorem dX1_living_20 : decode cX1_living 20 = .ok (.ior, 1) := by decide +kernel
theorem dX1_living_21 : decode cX1_living 21 = .ok (.istore_n 1, 1) := by decide +kernel
theorem dX1_living_22 : decode cX1_living 22 = .ok (.iinc 2 1, 3) := by decide +kernel
theorem dX1_living_25 : decode cX1_living 25 = .ok (.goto (-21), 3) := by decide +kernel
theorem dX1_living_28 : decode cX1_living 28 = .ok (.iconst 0, 1) := by decide +kernel
theorem dX1_living_29 : decode cX1_living 29 = .ok (.istore_n 2, 1) := by decide +kernel
theorem dX1_living_30 : decode cX1_living 30 = .ok (.iload_n 2, 1) := by decide +kernel
theorem dX1_living_31 : decode cX1_living 31 = .ok (.aload_n 0, 1) := by decide +kernel
theorem dX1_living_32 : decode cX1_living 32 = .ok (.getfield 40, 3) := by decide +kernel
theorem dX1_living_35 : decode cX1_living 35 = .ok (.if_icmp .ge 20, 3) := by decide +kernel
theorem dX1_living_38 : decode cX1_living 38 = .ok (.iload_n 1, 1) := by decide +kernel
theorem dX1_living_39 : decode cX1_living 39 = .ok (.iconst 1, 1) := by decide +kernel
theorem dX1_living_40 : decode cX1_living 40 = .ok (.aload_n 0, 1) := by decide +kernel
theorem dX1_living_41 : decode cX1_living 41 = .ok (.getfield 29, 3) := by decide +kernel
theorem dX1_living_44 : decode cX1_living 44 = .ok (.iload_n 2, 1) := by decide +kernel
theorem dX1_living_45 : decode cX1_living 45 = .ok (.iaload, 1) := by decide +kernel
theorem dX1_living_46 : decode cX1_living 46 = .ok (.ishl, 1) := by decide +kernel
theorem dX1_living_47 : decode cX1_living 47 = .ok (.ior, 1) := by decide +kernel
theorem dX1_living_48 : decode cX1_living 48 = .ok (.istore_n 1, 1) := by decide +kernel
theorem dX1_living_49 : decode cX1_living 49 = .ok (.iinc 2 1, 3) := by decide +kernel
theorem dX1_living_52 : decode cX1_living 52 = .ok (.goto (-22), 3) := by decide +kernel
theorem dX1_living_55 : decode cX1_living 55 = .ok (.iconst 0, 1) := by decide +kernel
theorem dX1_living_56 : decode cX1_living 56 = .ok (.istore_n 2, 1) := by decide +kernel
theorem dX1_living_57 : decode cX1_living 57 = .ok (.iload_n 2, 1) := by decide +kernel
theorem dX1_living_58 : decode cX1_living 58 = .ok (.bipush 20, 2) := by decide +kernel
theorem dX1_living_60 : decode cX1_living 60 = .ok (.if_icmp .ge 103, 3) := by decide +kernel
theorem dX1_living_63 : decode cX1_living 63 = .ok (.iconst 0, 1) := by decide +kernel
theorem dX1_living_64 : decode cX1_living 64 = .ok (.istore_n 3, 1) := by decide +kernel
end
section
set_option maxRecDepth 100000
theorem dX1_living_65 : decode cX1_living 65 = .ok (.iload_n 3, 1) := by decide +kernel
theorem dX1_living_66 : decode cX1_living 66 = .ok (.bipush 20, 2) := by decide +kernel
theorem dX1_living_68 : decode cX1_living 68 = .ok (.if_icmp .ge 89, 3) := by decide +kernel
theorem dX1_living_71 : decode cX1_living 71 = .ok (.iload_n 1, 1) := by decide +kernel
theorem dX1_living_72 : decode cX1_living 72 = .ok (.iload_n 3, 1) := by decide +kernel
theorem dX1_living_73 : decode cX1_living 73 = .ok (.ishr, 1) := by decide +kernel
theorem dX1_living_74 : decode cX1_living 74 = .ok (.iconst 1, 1) := by decide +kernel
theorem dX1_living_75 : decode cX1_living 75 = .ok (.iand, 1) := by decide +kernel
theorem dX1_living_76 : decode cX1_living 76 = .ok (.iconst 1, 1) := by decide +kernel
theorem dX1_living_77 : decode cX1_living 77 = .ok (.if_icmp .ne 74, 3) := by decide +kernel
theorem dX1_living_80 : decode cX1_living 80 = .ok (.aload_n 0, 1) := by decide +kernel
theorem dX1_living_81 : decode cX1_living 81 = .ok (.aload_n 0, 1) := by decide +kernel
theorem dX1_living_82 : decode cX1_living 82 = .ok (.getfield 20, 3) := by decide +kernel
theorem dX1_living_85 : decode cX1_living 85 = .ok (.iload_n 3, 1) := by decide +kernel
theorem dX1_living_86 : decode cX1_living 86 = .ok (.iaload, 1) := by decide +kernel
theorem dX1_living_87 : decode cX1_living 87 = .ok (.invokevirtual 36, 3) := by decide +kernel
theorem dX1_living_90 : decode cX1_living 90 = .ok (.istore 4, 2) := by decide +kernel
theorem dX1_living_92 : decode cX1_living 92 = .ok (.aload_n 0, 1) := by decide +kernel
theorem dX1_living_93 : decode cX1_living 93 = .ok (.aload_n 0, 1) := by decide +kernel
theorem dX1_living_94 : decode cX1_living 94 = .ok (.getfield 23, 3) := by decide +kernel
theorem dX1_living_97 : decode cX1_living 97 = .ok (.iload_n 3, 1) := by decide +kernel
theorem dX1_living_98 : decode cX1_living 98 = .ok (.iaload, 1) := by decide +kernel
theorem dX1_living_99 : decode cX1_living 99 = .ok (.invokevirtual 36, 3) := by decide +kernel
theorem dX1_living_102 : decode cX1_living 102 = .ok (.istore 5, 2) := by decide +kernel
theorem dX1_living_104 : decode cX1_living 104 = .ok (.aload_n 0, 1) := by decide +kernel
theorem dX1_living_105 : decode cX1_living 105 = .ok (.getfield 13, 3) := by decide +kernel
theorem dX1_living_108 : decode cX1_living 108 = .ok (.iload_n 3, 1) := by decide +kernel
theorem dX1_living_109 : decode cX1_living 109 = .ok (.iaload, 1) := by decide +kernel
theorem dX1_living_110 : decode cX1_living 110 = .ok (.ifCond .ne 11, 3) := by decide +kernel
theorem dX1_living_113 : decode cX1_living 113 = .ok (.iload 4, 2) := by decide +kernel
theorem dX1_living_115 : decode cX1_living 115 = .ok (.iload 5, 2) := by decide +kernel
theorem dX1_living_117 : decode cX1_living 117 = .ok (.ior, 1) := by decide +kernel
theorem dX1_living_118 : decode cX1_living 118 = .ok (.goto 26, 3) := by decide +kernel
theorem dX1_living_121 : decode cX1_living 121 = .ok (.aload_n 0, 1) := by decide +kernel
theorem dX1_living_122 : decode cX1_living 122 = .ok (.getfield 13, 3) := by decide +kernel
theorem dX1_living_125 : decode cX1_living 125 = .ok (.iload_n 3, 1) := by decide +kernel
theorem dX1_living_126 : decode cX1_living 126 = .ok (.iaload, 1) := by decide +kernel
theorem dX1_living_127 : decode cX1_living 127 = .ok (.iconst 1, 1) := by decide +kernel
theorem dX1_living_128 : decode cX1_living 128 = .ok (.if_icmp .eq 10, 3) := by decide +kernel
theorem dX1_living_131 : decode cX1_living 131 = .ok (.iload 4, 2) := by decide +kernel
theorem dX1_living_133 : decode cX1_living 133 = .ok (.iload_n 1, 1) := by decide +kernel
theorem dX1_living_134 : decode cX1_living 134 = .ok (.iand, 1) := by decide +kernel
theorem dX1_living_135 : decode cX1_living 135 = .ok (.ifCond .eq 8, 3) := by decide +kernel
theorem dX1_living_138 : decode cX1_living 138 = .ok (.iload 5, 2) := by decide +kernel
theorem dX1_living_140 : decode cX1_living 140 = .ok (.goto 4, 3) := by decide +kernel
theorem dX1_living_143 : decode cX1_living 143 = .ok (.iconst 0, 1) := by decide +kernel
theorem dX1_living_144 : decode cX1_living 144 = .ok (.istore 6, 2) := by decide +kernel
theorem dX1_living_146 : decode cX1_living 146 = .ok (.iload_n 1, 1) := by decide +kernel
theorem dX1_living_147 : decode cX1_living 147 = .ok (.iload 6, 2) := by decide +kernel
theorem dX1_living_149 : decode cX1_living 149 = .ok (.ior, 1) := by decide +kernel
theorem dX1_living_150 : decode cX1_living 150 = .ok (.istore_n 1, 1) := by decide +kernel
theorem dX1_living_151 : decode cX1_living 151 = .ok (.iinc 3 1, 3) := by decide +kernel
theorem dX1_living_154 : decode cX1_living 154 = .ok (.goto (-89), 3) := by decide +kernel
theorem dX1_living_157 : decode cX1_living 157 = .ok (.iinc 2 1, 3) := by decide +kernel
theorem dX1_living_160 : decode cX1_living 160 = .ok (.goto (-103), 3) := by decide +kernel
theorem dX1_living_163 : decode cX1_living 163 = .ok (.iload_n 1, 1) := by decide +kernel
theorem dX1_living_164 : decode cX1_living 164 = .ok (.ireturn, 1) := by decide +kernel
theorem dX1_bit_0 : decode cX1_bit 0 = .ok (.iload_n 1, 1) := by decide +kernel
theorem dX1_bit_1 : decode cX1_bit 1 = .ok (.ifCond .le 11, 3) := by decide +kernel
theorem dX1_bit_4 : decode cX1_bit 4 = .ok (.iconst 1, 1) := by decide +kernel
theorem dX1_bit_5 : decode cX1_bit 5 = .ok (.iload_n 1, 1) := by decide +kernel
theorem dX1_bit_6 : decode cX1_bit 6 = .ok (.iconst 1, 1) := by decide +kernel
theorem dX1_bit_7 : decode cX1_bit 7 = .ok (.isub, 1) := by decide +kernel
theorem dX1_bit_8 : decode cX1_bit 8 = .ok (.ishl, 1) := by decide +kernel
theorem dX1_bit_9 : decode cX1_bit 9 = .ok (.goto 4, 3) := by decide +kernel
theorem dX1_bit_12 : decode cX1_bit 12 = .ok (.iconst 0, 1) := by decide +kernel
theorem dX1_bit_13 : decode cX1_bit 13 = .ok (.ireturn, 1) := by decide +kernel
theorem dX1_take_0 : decode cX1_take 0 = .ok (.iload_n 1, 1) := by decide +kernel
theorem dX1_take_1 : decode cX1_take 1 = .ok (.ifCond .lt 15, 3) := by decide +kernel
theorem dX1_take_4 : decode cX1_take 4 = .ok (.iload_n 1, 1) := by decide +kernel
theorem dX1_take_5 : decode cX1_take 5 = .ok (.iconst 3, 1) := by decide +kernel
theorem dX1_take_6 : decode cX1_take 6 = .ok (.if_icmp .gt 10, 3) := by decide +kernel
theorem dX1_take_9 : decode cX1_take 9 = .ok (.aload_n 0, 1) := by decide +kernel
theorem dX1_take_10 : decode cX1_take 10 = .ok (.getfield 40, 3) := by decide +kernel
theorem dX1_take_13 : decode cX1_take 13 = .ok (.ifCond .ne 5, 3) := by decide +kernel
theorem dX1_take_16 : decode cX1_take 16 = .ok (.iconst (-1), 1) := by decide +kernel
theorem dX1_take_17 : decode cX1_take 17 = .ok (.ireturn, 1) := by decide +kernel
theorem dX1_take_18 : decode cX1_take 18 = .ok (.aload_n 0, 1) := by decide +kernel
theorem dX1_take_19 : decode cX1_take 19 = .ok (.getfield 29, 3) := by decide +kernel
theorem dX1_take_22 : decode cX1_take 22 = .ok (.iconst 0, 1) := by decide +kernel
theorem dX1_take_23 : decode cX1_take 23 = .ok (.iaload, 1) := by decide +kernel
theorem dX1_take_24 : decode cX1_take 24 = .ok (.istore_n 2, 1) := by decide +kernel
theorem dX1_take_25 : decode cX1_take 25 = .ok (.aload_n 0, 1) := by decide +kernel
theorem dX1_take_26 : decode cX1_take 26 = .ok (.dup, 1) := by decide +kernel
theorem dX1_take_27 : decode cX1_take 27 = .ok (.getfield 40, 3) := by decide +kernel
theorem dX1_take_30 : decode cX1_take 30 = .ok (.iconst 1, 1) := by decide +kernel
theorem dX1_take_31 : decode cX1_take 31 = .ok (.isub, 1) := by decide +kernel
theorem dX1_take_32 : decode cX1_take 32 = .ok (.putfield 40, 3) := by decide +kernel
theorem dX1_take_35 : decode cX1_take 35 = .ok (.iconst 0, 1) := by decide +kernel
theorem dX1_take_36 : decode cX1_take 36 = .ok (.istore_n 3, 1) := by decide +kernel
theorem dX1_take_37 : decode cX1_take 37 = .ok (.iload_n 3, 1) := by decide +kernel
theorem dX1_take_38 : decode cX1_take 38 = .ok (.aload_n 0, 1) := by decide +kernel
theorem dX1_take_39 : decode cX1_take 39 = .ok (.getfield 40, 3) := by decide +kernel
theorem dX1_take_42 : decode cX1_take 42 = .ok (.if_icmp .ge 23, 3) := by decide +kernel
theorem dX1_take_45 : decode cX1_take 45 = .ok (.aload_n 0, 1) := by decide +kernel
theorem dX1_take_46 : decode cX1_take 46 = .ok (.getfield 29, 3) := by decide +kernel
theorem dX1_take_49 : decode cX1_take 49 = .ok (.iload_n 3, 1) := by decide +kernel
theorem dX1_take_50 : decode cX1_take 50 = .ok (.aload_n 0, 1) := by decide +kernel
theorem dX1_take_51 : decode cX1_take 51 = .ok (.getfield 29, 3) := by decide +kernel
theorem dX1_take_54 : decode cX1_take 54 = .ok (.iload_n 3, 1) := by decide +kernel
theorem dX1_take_55 : decode cX1_take 55 = .ok (.iconst 1, 1) := by decide +kernel
theorem dX1_take_56 : decode cX1_take 56 = .ok (.iadd, 1) := by decide +kernel
theorem dX1_take_57 : decode cX1_take 57 = .ok (.iaload, 1) := by decide +kernel
theorem dX1_take_58 : decode cX1_take 58 = .ok (.iastore, 1) := by decide +kernel
theorem dX1_take_59 : decode cX1_take 59 = .ok (.iinc 3 1, 3) := by decide +kernel
theorem dX1_take_62 : decode cX1_take 62 = .ok (.goto (-25), 3) := by decide +kernel
theorem dX1_take_65 : decode cX1_take 65 = .ok (.aload_n 0, 1) := by decide +kernel
theorem dX1_take_66 : decode cX1_take 66 = .ok (.getfield 26, 3) := by decide +kernel
theorem dX1_take_69 : decode cX1_take 69 = .ok (.iload_n 1, 1) := by decide +kernel
theorem dX1_take_70 : decode cX1_take 70 = .ok (.iload_n 2, 1) := by decide +kernel
theorem dX1_take_71 : decode cX1_take 71 = .ok (.iconst 1, 1) := by decide +kernel
theorem dX1_take_72 : decode cX1_take 72 = .ok (.iadd, 1) := by decide +kernel
theorem dX1_take_73 : decode cX1_take 73 = .ok (.iastore, 1) := by decide +kernel
theorem dX1_take_74 : decode cX1_take 74 = .ok (.iload_n 2, 1) := by decide +kernel
theorem dX1_take_75 : decode cX1_take 75 = .ok (.ireturn, 1) := by decide +kernel
theorem dX1_objects_0 : decode cX1_objects 0 = .ok (.iconst 0, 1) := by decide +kernel
theorem dX1_objects_1 : decode cX1_objects 1 = .ok (.istore_n 1, 1) := by decide +kernel
theorem dX1_objects_2 : decode cX1_objects 2 = .ok (.iconst 0, 1) := by decide +kernel
theorem dX1_objects_3 : decode cX1_objects 3 = .ok (.istore_n 2, 1) := by decide +kernel
theorem dX1_objects_4 : decode cX1_objects 4 = .ok (.iload_n 2, 1) := by decide +kernel
theorem dX1_objects_5 : decode cX1_objects 5 = .ok (.bipush 20, 2) := by decide +kernel
theorem dX1_objects_7 : decode cX1_objects 7 = .ok (.if_icmp .ge 26, 3) := by decide +kernel
theorem dX1_objects_10 : decode cX1_objects 10 = .ok (.aload_n 0, 1) := by decide +kernel
theorem dX1_objects_11 : decode cX1_objects 11 = .ok (.getfield 7, 3) := by decide +kernel
theorem dX1_objects_14 : decode cX1_objects 14 = .ok (.iload_n 2, 1) := by decide +kernel
theorem dX1_objects_15 : decode cX1_objects 15 = .ok (.baload, 1) := by decide +kernel
theorem dX1_objects_16 : decode cX1_objects 16 = .ok (.ifCond .eq 9, 3) := by decide +kernel
theorem dX1_objects_19 : decode cX1_objects 19 = .ok (.iload_n 1, 1) := by decide +kernel
theorem dX1_objects_20 : decode cX1_objects 20 = .ok (.iconst 1, 1) := by decide +kernel
theorem dX1_objects_21 : decode cX1_objects 21 = .ok (.iadd, 1) := by decide +kernel
theorem dX1_objects_22 : decode cX1_objects 22 = .ok (.goto 4, 3) := by decide +kernel
theorem dX1_objects_25 : decode cX1_objects 25 = .ok (.iload_n 1, 1) := by decide +kernel
theorem dX1_objects_26 : decode cX1_objects 26 = .ok (.istore_n 1, 1) := by decide +kernel
theorem dX1_objects_27 : decode cX1_objects 27 = .ok (.iinc 2 1, 3) := by decide +kernel
theorem dX1_objects_30 : decode cX1_objects 30 = .ok (.goto (-26), 3) := by decide +kernel
theorem dX1_objects_33 : decode cX1_objects 33 = .ok (.iload_n 1, 1) := by decide +kernel
theorem dX1_objects_34 : decode cX1_objects 34 = .ok (.ireturn, 1) := by decide +kernel
theorem dX1_there_0 : decode cX1_there 0 = .ok (.iconst 0, 1) := by decide +kernel
theorem dX1_there_1 : decode cX1_there 1 = .ok (.istore_n 1, 1) := by decide +kernel
theorem dX1_there_2 : decode cX1_there 2 = .ok (.iconst 0, 1) := by decide +kernel
theorem dX1_there_3 : decode cX1_there 3 = .ok (.istore_n 2, 1) := by decide +kernel
theorem dX1_there_4 : decode cX1_there 4 = .ok (.iload_n 2, 1) := by decide +kernel
theorem dX1_there_5 : decode cX1_there 5 = .ok (.bipush 20, 2) := by decide +kernel
theorem dX1_there_7 : decode cX1_there 7 = .ok (.if_icmp .ge 28, 3) := by decide +kernel
theorem dX1_there_10 : decode cX1_there 10 = .ok (.aload_n 0, 1) := by decide +kernel
theorem dX1_there_11 : decode cX1_there 11 = .ok (.getfield 7, 3) := by decide +kernel
theorem dX1_there_14 : decode cX1_there 14 = .ok (.iload_n 2, 1) := by decide +kernel
theorem dX1_there_15 : decode cX1_there 15 = .ok (.baload, 1) := by decide +kernel
theorem dX1_there_16 : decode cX1_there 16 = .ok (.ifCond .eq 11, 3) := by decide +kernel
theorem dX1_there_19 : decode cX1_there 19 = .ok (.iload_n 1, 1) := by decide +kernel
theorem dX1_there_20 : decode cX1_there 20 = .ok (.iconst 1, 1) := by decide +kernel
theorem dX1_there_21 : decode cX1_there 21 = .ok (.iload_n 2, 1) := by decide +kernel
theorem dX1_there_22 : decode cX1_there 22 = .ok (.ishl, 1) := by decide +kernel
theorem dX1_there_23 : decode cX1_there 23 = .ok (.ior, 1) := by decide +kernel
theorem dX1_there_24 : decode cX1_there 24 = .ok (.goto 4, 3) := by decide +kernel
theorem dX1_there_27 : decode cX1_there 27 = .ok (.iload_n 1, 1) := by decide +kernel
theorem dX1_there_28 : decode cX1_there 28 = .ok (.istore_n 1, 1) := by decide +kernel
theorem dX1_there_29 : decode cX1_there 29 = .ok (.iinc 2 1, 3) := by decide +kernel
theorem dX1_there_32 : decode cX1_there 32 = .ok (.goto (-28), 3) := by decide +kernel
theorem dX1_there_35 : decode cX1_there 35 = .ok (.iload_n 1, 1) := by decide +kernel
theorem dX1_there_36 : decode cX1_there 36 = .ok (.ireturn, 1) := by decide +kernel
theorem dX1_alive_0 : decode cX1_alive 0 = .ok (.aload_n 0, 1) := by decide +kernel
theorem dX1_alive_1 : decode cX1_alive 1 = .ok (.invokevirtual 44, 3) := by decide +kernel
theorem dX1_alive_4 : decode cX1_alive 4 = .ok (.ireturn, 1) := by decide +kernel
theorem dX1_field_0 : decode cX1_field 0 = .ok (.aload_n 0, 1) := by decide +kernel
theorem dX1_field_1 : decode cX1_field 1 = .ok (.iload_n 1, 1) := by decide +kernel
theorem dX1_field_2 : decode cX1_field 2 = .ok (.invokevirtual 32, 3) := by decide +kernel
theorem dX1_field_5 : decode cX1_field 5 = .ok (.ifCond .eq 12, 3) := by decide +kernel
theorem dX1_field_8 : decode cX1_field 8 = .ok (.iload_n 2, 1) := by decide +kernel
theorem dX1_field_9 : decode cX1_field 9 = .ok (.ifCond .eq 12, 3) := by decide +kernel
theorem dX1_field_12 : decode cX1_field 12 = .ok (.iload_n 2, 1) := by decide +kernel
theorem dX1_field_13 : decode cX1_field 13 = .ok (.iconst 1, 1) := by decide +kernel
theorem dX1_field_14 : decode cX1_field 14 = .ok (.if_icmp .eq 7, 3) := by decide +kernel
theorem dX1_field_17 : decode cX1_field 17 = .ok (.iconst (-1), 1) := by decide +kernel
theorem dX1_field_18 : decode cX1_field 18 = .ok (.goto 26, 3) := by decide +kernel
theorem dX1_field_21 : decode cX1_field 21 = .ok (.iload_n 2, 1) := by decide +kernel
theorem dX1_field_22 : decode cX1_field 22 = .ok (.ifCond .ne 14, 3) := by decide +kernel
theorem dX1_field_25 : decode cX1_field 25 = .ok (.aload_n 0, 1) := by decide +kernel
theorem dX1_field_26 : decode cX1_field 26 = .ok (.getfield 20, 3) := by decide +kernel
theorem dX1_field_29 : decode cX1_field 29 = .ok (.iload_n 1, 1) := by decide +kernel
theorem dX1_field_30 : decode cX1_field 30 = .ok (.iaload, 1) := by decide +kernel
theorem dX1_field_31 : decode cX1_field 31 = .ok (.iconst 1, 1) := by decide +kernel
theorem dX1_field_32 : decode cX1_field 32 = .ok (.isub, 1) := by decide +kernel
theorem dX1_field_33 : decode cX1_field 33 = .ok (.goto 11, 3) := by decide +kernel
theorem dX1_field_36 : decode cX1_field 36 = .ok (.aload_n 0, 1) := by decide +kernel
theorem dX1_field_37 : decode cX1_field 37 = .ok (.getfield 23, 3) := by decide +kernel
theorem dX1_field_40 : decode cX1_field 40 = .ok (.iload_n 1, 1) := by decide +kernel
theorem dX1_field_41 : decode cX1_field 41 = .ok (.iaload, 1) := by decide +kernel
theorem dX1_field_42 : decode cX1_field 42 = .ok (.iconst 1, 1) := by decide +kernel
theorem dX1_field_43 : decode cX1_field 43 = .ok (.isub, 1) := by decide +kernel
theorem dX1_field_44 : decode cX1_field 44 = .ok (.ireturn, 1) := by decide +kernel
theorem dX1_kind_0 : decode cX1_kind 0 = .ok (.aload_n 0, 1) := by decide +kernel
theorem dX1_kind_1 : decode cX1_kind 1 = .ok (.iload_n 1, 1) := by decide +kernel
theorem dX1_kind_2 : decode cX1_kind 2 = .ok (.invokevirtual 32, 3) := by decide +kernel
theorem dX1_kind_5 : decode cX1_kind 5 = .ok (.ifCond .eq 12, 3) := by decide +kernel
theorem dX1_kind_8 : decode cX1_kind 8 = .ok (.aload_n 0, 1) := by decide +kernel
theorem dX1_kind_9 : decode cX1_kind 9 = .ok (.getfield 13, 3) := by decide +kernel
theorem dX1_kind_12 : decode cX1_kind 12 = .ok (.iload_n 1, 1) := by decide +kernel
theorem dX1_kind_13 : decode cX1_kind 13 = .ok (.iaload, 1) := by decide +kernel
theorem dX1_kind_14 : decode cX1_kind 14 = .ok (.goto 4, 3) := by decide +kernel
theorem dX1_kind_17 : decode cX1_kind 17 = .ok (.iconst (-1), 1) := by decide +kernel
theorem dX1_kind_18 : decode cX1_kind 18 = .ok (.ireturn, 1) := by decide +kernel
theorem dX1_rootOf_0 : decode cX1_rootOf 0 = .ok (.iload_n 1, 1) := by decide +kernel
theorem dX1_rootOf_1 : decode cX1_rootOf 1 = .ok (.ifCond .lt 19, 3) := by decide +kernel
theorem dX1_rootOf_4 : decode cX1_rootOf 4 = .ok (.iload_n 1, 1) := by decide +kernel
theorem dX1_rootOf_5 : decode cX1_rootOf 5 = .ok (.iconst 3, 1) := by decide +kernel
theorem dX1_rootOf_6 : decode cX1_rootOf 6 = .ok (.if_icmp .gt 14, 3) := by decide +kernel
theorem dX1_rootOf_9 : decode cX1_rootOf 9 = .ok (.aload_n 0, 1) := by decide +kernel
theorem dX1_rootOf_10 : decode cX1_rootOf 10 = .ok (.getfield 26, 3) := by decide +kernel
theorem dX1_rootOf_13 : decode cX1_rootOf 13 = .ok (.iload_n 1, 1) := by decide +kernel
theorem dX1_rootOf_14 : decode cX1_rootOf 14 = .ok (.iaload, 1) := by decide +kernel
theorem dX1_rootOf_15 : decode cX1_rootOf 15 = .ok (.iconst 1, 1) := by decide +kernel
theorem dX1_rootOf_16 : decode cX1_rootOf 16 = .ok (.isub, 1) := by decide +kernel
theorem dX1_rootOf_17 : decode cX1_rootOf 17 = .ok (.goto 4, 3) := by decide +kernel
theorem dX1_rootOf_20 : decode cX1_rootOf 20 = .ok (.iconst (-1), 1) := by decide +kernel
theorem dX1_rootOf_21 : decode cX1_rootOf 21 = .ok (.ireturn, 1) := by decide +kernel
theorem dX1_queued_0 : decode cX1_queued 0 = .ok (.aload_n 0, 1) := by decide +kernel
theorem dX1_queued_1 : decode cX1_queued 1 = .ok (.getfield 40, 3) := by decide +kernel
theorem dX1_queued_4 : decode cX1_queued 4 = .ok (.ireturn, 1) := by decide +kernel
theorem dX1_watched_0 : decode cX1_watched 0 = .ok (.iconst 0, 1) := by decide +kernel
theorem dX1_watched_1 : decode cX1_watched 1 = .ok (.istore_n 1, 1) := by decide +kernel
theorem dX1_watched_2 : decode cX1_watched 2 = .ok (.iconst 0, 1) := by decide +kernel
theorem dX1_watched_3 : decode cX1_watched 3 = .ok (.istore_n 2, 1) := by decide +kernel
theorem dX1_watched_4 : decode cX1_watched 4 = .ok (.iload_n 2, 1) := by decide +kernel
theorem dX1_watched_5 : decode cX1_watched 5 = .ok (.bipush 20, 2) := by decide +kernel
theorem dX1_watched_7 : decode cX1_watched 7 = .ok (.if_icmp .ge 37, 3) := by decide +kernel
theorem dX1_watched_10 : decode cX1_watched 10 = .ok (.aload_n 0, 1) := by decide +kernel
theorem dX1_watched_11 : decode cX1_watched 11 = .ok (.getfield 7, 3) := by decide +kernel
theorem dX1_watched_14 : decode cX1_watched 14 = .ok (.iload_n 2, 1) := by decide +kernel
theorem dX1_watched_15 : decode cX1_watched 15 = .ok (.baload, 1) := by decide +kernel
theorem dX1_watched_16 : decode cX1_watched 16 = .ok (.ifCond .eq 20, 3) := by decide +kernel
theorem dX1_watched_19 : decode cX1_watched 19 = .ok (.aload_n 0, 1) := by decide +kernel
theorem dX1_watched_20 : decode cX1_watched 20 = .ok (.getfield 17, 3) := by decide +kernel
theorem dX1_watched_23 : decode cX1_watched 23 = .ok (.iload_n 2, 1) := by decide +kernel
theorem dX1_watched_24 : decode cX1_watched 24 = .ok (.baload, 1) := by decide +kernel
theorem dX1_watched_25 : decode cX1_watched 25 = .ok (.ifCond .eq 11, 3) := by decide +kernel
theorem dX1_watched_28 : decode cX1_watched 28 = .ok (.iload_n 1, 1) := by decide +kernel
theorem dX1_watched_29 : decode cX1_watched 29 = .ok (.iconst 1, 1) := by decide +kernel
theorem dX1_watched_30 : decode cX1_watched 30 = .ok (.iload_n 2, 1) := by decide +kernel
theorem dX1_watched_31 : decode cX1_watched 31 = .ok (.ishl, 1) := by decide +kernel
theorem dX1_watched_32 : decode cX1_watched 32 = .ok (.ior, 1) := by decide +kernel
theorem dX1_watched_33 : decode cX1_watched 33 = .ok (.goto 4, 3) := by decide +kernel
theorem dX1_watched_36 : decode cX1_watched 36 = .ok (.iload_n 1, 1) := by decide +kernel
theorem dX1_watched_37 : decode cX1_watched 37 = .ok (.istore_n 1, 1) := by decide +kernel
theorem dX1_watched_38 : decode cX1_watched 38 = .ok (.iinc 2 1, 3) := by decide +kernel
theorem dX1_watched_41 : decode cX1_watched 41 = .ok (.goto (-37), 3) := by decide +kernel
theorem dX1_watched_44 : decode cX1_watched 44 = .ok (.iload_n 1, 1) := by decide +kernel
theorem dX1_watched_45 : decode cX1_watched 45 = .ok (.ireturn, 1) := by decide +kernel
theorem dX1_heldBy_0 : decode cX1_heldBy 0 = .ok (.aload_n 0, 1) := by decide +kernel
theorem dX1_heldBy_1 : decode cX1_heldBy 1 = .ok (.iload_n 1, 1) := by decide +kernel
theorem dX1_heldBy_2 : decode cX1_heldBy 2 = .ok (.invokevirtual 32, 3) := by decide +kernel
theorem dX1_heldBy_5 : decode cX1_heldBy 5 = .ok (.ifCond .ne 5, 3) := by decide +kernel
theorem dX1_heldBy_8 : decode cX1_heldBy 8 = .ok (.iconst 0, 1) := by decide +kernel
theorem dX1_heldBy_9 : decode cX1_heldBy 9 = .ok (.ireturn, 1) := by decide +kernel
theorem dX1_heldBy_10 : decode cX1_heldBy 10 = .ok (.aload_n 0, 1) := by decide +kernel
theorem dX1_heldBy_11 : decode cX1_heldBy 11 = .ok (.invokevirtual 44, 3) := by decide +kernel
theorem dX1_heldBy_14 : decode cX1_heldBy 14 = .ok (.istore_n 2, 1) := by decide +kernel
theorem dX1_heldBy_15 : decode cX1_heldBy 15 = .ok (.aload_n 0, 1) := by decide +kernel
theorem dX1_heldBy_16 : decode cX1_heldBy 16 = .ok (.getfield 20, 3) := by decide +kernel
theorem dX1_heldBy_19 : decode cX1_heldBy 19 = .ok (.iload_n 1, 1) := by decide +kernel
theorem dX1_heldBy_20 : decode cX1_heldBy 20 = .ok (.iaload, 1) := by decide +kernel
theorem dX1_heldBy_21 : decode cX1_heldBy 21 = .ok (.istore_n 3, 1) := by decide +kernel
theorem dX1_heldBy_22 : decode cX1_heldBy 22 = .ok (.aload_n 0, 1) := by decide +kernel
theorem dX1_heldBy_23 : decode cX1_heldBy 23 = .ok (.getfield 23, 3) := by decide +kernel
theorem dX1_heldBy_26 : decode cX1_heldBy 26 = .ok (.iload_n 1, 1) := by decide +kernel
theorem dX1_heldBy_27 : decode cX1_heldBy 27 = .ok (.iaload, 1) := by decide +kernel
theorem dX1_heldBy_28 : decode cX1_heldBy 28 = .ok (.istore 4, 2) := by decide +kernel
theorem dX1_heldBy_30 : decode cX1_heldBy 30 = .ok (.aload_n 0, 1) := by decide +kernel
theorem dX1_heldBy_31 : decode cX1_heldBy 31 = .ok (.getfield 20, 3) := by decide +kernel
theorem dX1_heldBy_34 : decode cX1_heldBy 34 = .ok (.iload_n 1, 1) := by decide +kernel
theorem dX1_heldBy_35 : decode cX1_heldBy 35 = .ok (.iconst 0, 1) := by decide +kernel
theorem dX1_heldBy_36 : decode cX1_heldBy 36 = .ok (.iastore, 1) := by decide +kernel
theorem dX1_heldBy_37 : decode cX1_heldBy 37 = .ok (.aload_n 0, 1) := by decide +kernel
theorem dX1_heldBy_38 : decode cX1_heldBy 38 = .ok (.getfield 23, 3) := by decide +kernel
theorem dX1_heldBy_41 : decode cX1_heldBy 41 = .ok (.iload_n 1, 1) := by decide +kernel
theorem dX1_heldBy_42 : decode cX1_heldBy 42 = .ok (.iconst 0, 1) := by decide +kernel
theorem dX1_heldBy_43 : decode cX1_heldBy 43 = .ok (.iastore, 1) := by decide +kernel
theorem dX1_heldBy_44 : decode cX1_heldBy 44 = .ok (.iload_n 2, 1) := by decide +kernel
theorem dX1_heldBy_45 : decode cX1_heldBy 45 = .ok (.aload_n 0, 1) := by decide +kernel
theorem dX1_heldBy_46 : decode cX1_heldBy 46 = .ok (.invokevirtual 44, 3) := by decide +kernel
theorem dX1_heldBy_49 : decode cX1_heldBy 49 = .ok (.iconst (-1), 1) := by decide +kernel
theorem dX1_heldBy_50 : decode cX1_heldBy 50 = .ok (.ixor, 1) := by decide +kernel
theorem dX1_heldBy_51 : decode cX1_heldBy 51 = .ok (.iand, 1) := by decide +kernel
theorem dX1_heldBy_52 : decode cX1_heldBy 52 = .ok (.istore 5, 2) := by decide +kernel
theorem dX1_heldBy_54 : decode cX1_heldBy 54 = .ok (.aload_n 0, 1) := by decide +kernel
theorem dX1_heldBy_55 : decode cX1_heldBy 55 = .ok (.getfield 20, 3) := by decide +kernel
theorem dX1_heldBy_58 : decode cX1_heldBy 58 = .ok (.iload_n 1, 1) := by decide +kernel
theorem dX1_heldBy_59 : decode cX1_heldBy 59 = .ok (.iload_n 3, 1) := by decide +kernel
theorem dX1_heldBy_60 : decode cX1_heldBy 60 = .ok (.iastore, 1) := by decide +kernel
theorem dX1_heldBy_61 : decode cX1_heldBy 61 = .ok (.aload_n 0, 1) := by decide +kernel
theorem dX1_heldBy_62 : decode cX1_heldBy 62 = .ok (.getfield 23, 3) := by decide +kernel
theorem dX1_heldBy_65 : decode cX1_heldBy 65 = .ok (.iload_n 1, 1) := by decide +kernel
theorem dX1_heldBy_66 : decode cX1_heldBy 66 = .ok (.iload 4, 2) := by decide +kernel
theorem dX1_heldBy_68 : decode cX1_heldBy 68 = .ok (.iastore, 1) := by decide +kernel
theorem dX1_heldBy_69 : decode cX1_heldBy 69 = .ok (.iload 5, 2) := by decide +kernel
theorem dX1_heldBy_71 : decode cX1_heldBy 71 = .ok (.ireturn, 1) := by decide +kernel
end
section
/-! the law's own entry -/
set_option maxRecDepth 100000
abbrev cL_law : ByteArray := code
theorem dL_law_0 : decode cL_law 0 = .ok (.new 7, 3) := by decide +kernel
theorem dL_law_3 : decode cL_law 3 = .ok (.dup, 1) := by decide +kernel
theorem dL_law_4 : decode cL_law 4 = .ok (.invokespecial 9, 3) := by decide +kernel
theorem dL_law_7 : decode cL_law 7 = .ok (.astore_n 1, 1) := by decide +kernel
theorem dL_law_8 : decode cL_law 8 = .ok (.new 10, 3) := by decide +kernel
theorem dL_law_11 : decode cL_law 11 = .ok (.dup, 1) := by decide +kernel
theorem dL_law_12 : decode cL_law 12 = .ok (.invokespecial 12, 3) := by decide +kernel
theorem dL_law_15 : decode cL_law 15 = .ok (.astore_n 2, 1) := by decide +kernel
theorem dL_law_16 : decode cL_law 16 = .ok (.iconst 0, 1) := by decide +kernel
theorem dL_law_17 : decode cL_law 17 = .ok (.istore_n 3, 1) := by decide +kernel
theorem dL_law_18 : decode cL_law 18 = .ok (.iload_n 3, 1) := by decide +kernel
theorem dL_law_19 : decode cL_law 19 = .ok (.aload_n 0, 1) := by decide +kernel
theorem dL_law_20 : decode cL_law 20 = .ok (.arraylength, 1) := by decide +kernel
theorem dL_law_21 : decode cL_law 21 = .ok (.iconst 4, 1) := by decide +kernel
theorem dL_law_22 : decode cL_law 22 = .ok (.isub, 1) := by decide +kernel
theorem dL_law_23 : decode cL_law 23 = .ok (.if_icmp .gt 426, 3) := by decide +kernel
theorem dL_law_26 : decode cL_law 26 = .ok (.aload_n 0, 1) := by decide +kernel
theorem dL_law_27 : decode cL_law 27 = .ok (.iload_n 3, 1) := by decide +kernel
theorem dL_law_28 : decode cL_law 28 = .ok (.iaload, 1) := by decide +kernel
theorem dL_law_29 : decode cL_law 29 = .ok (.bipush 15, 2) := by decide +kernel
theorem dL_law_31 : decode cL_law 31 = .ok (.iand, 1) := by decide +kernel
theorem dL_law_32 : decode cL_law 32 = .ok (.tableswitch 411 0 14 #[76, 109, 152, 185, 208, 221, 244, 257, 270, 283, 316, 339, 362, 375, 388], 76) := by decide +kernel
theorem dL_law_108 : decode cL_law 108 = .ok (.aload_n 1, 1) := by decide +kernel
theorem dL_law_109 : decode cL_law 109 = .ok (.aload_n 0, 1) := by decide +kernel
theorem dL_law_110 : decode cL_law 110 = .ok (.iload_n 3, 1) := by decide +kernel
theorem dL_law_111 : decode cL_law 111 = .ok (.iconst 1, 1) := by decide +kernel
theorem dL_law_112 : decode cL_law 112 = .ok (.iadd, 1) := by decide +kernel
theorem dL_law_113 : decode cL_law 113 = .ok (.iaload, 1) := by decide +kernel
theorem dL_law_114 : decode cL_law 114 = .ok (.aload_n 0, 1) := by decide +kernel
theorem dL_law_115 : decode cL_law 115 = .ok (.iload_n 3, 1) := by decide +kernel
theorem dL_law_116 : decode cL_law 116 = .ok (.iconst 2, 1) := by decide +kernel
theorem dL_law_117 : decode cL_law 117 = .ok (.iadd, 1) := by decide +kernel
theorem dL_law_118 : decode cL_law 118 = .ok (.iaload, 1) := by decide +kernel
theorem dL_law_119 : decode cL_law 119 = .ok (.invokevirtual 13, 3) := by decide +kernel
theorem dL_law_122 : decode cL_law 122 = .ok (.aload_n 2, 1) := by decide +kernel
theorem dL_law_123 : decode cL_law 123 = .ok (.aload_n 0, 1) := by decide +kernel
theorem dL_law_124 : decode cL_law 124 = .ok (.iload_n 3, 1) := by decide +kernel
theorem dL_law_125 : decode cL_law 125 = .ok (.iconst 1, 1) := by decide +kernel
theorem dL_law_126 : decode cL_law 126 = .ok (.iadd, 1) := by decide +kernel
theorem dL_law_127 : decode cL_law 127 = .ok (.iaload, 1) := by decide +kernel
theorem dL_law_128 : decode cL_law 128 = .ok (.aload_n 0, 1) := by decide +kernel
theorem dL_law_129 : decode cL_law 129 = .ok (.iload_n 3, 1) := by decide +kernel
theorem dL_law_130 : decode cL_law 130 = .ok (.iconst 2, 1) := by decide +kernel
theorem dL_law_131 : decode cL_law 131 = .ok (.iadd, 1) := by decide +kernel
theorem dL_law_132 : decode cL_law 132 = .ok (.iaload, 1) := by decide +kernel
theorem dL_law_133 : decode cL_law 133 = .ok (.invokevirtual 17, 3) := by decide +kernel
theorem dL_law_136 : decode cL_law 136 = .ok (.if_icmp .eq 307, 3) := by decide +kernel
theorem dL_law_139 : decode cL_law 139 = .ok (.iconst 0, 1) := by decide +kernel
theorem dL_law_140 : decode cL_law 140 = .ok (.ireturn, 1) := by decide +kernel
theorem dL_law_141 : decode cL_law 141 = .ok (.aload_n 1, 1) := by decide +kernel
theorem dL_law_142 : decode cL_law 142 = .ok (.aload_n 0, 1) := by decide +kernel
theorem dL_law_143 : decode cL_law 143 = .ok (.iload_n 3, 1) := by decide +kernel
theorem dL_law_144 : decode cL_law 144 = .ok (.iconst 1, 1) := by decide +kernel
theorem dL_law_145 : decode cL_law 145 = .ok (.iadd, 1) := by decide +kernel
theorem dL_law_146 : decode cL_law 146 = .ok (.iaload, 1) := by decide +kernel
theorem dL_law_147 : decode cL_law 147 = .ok (.aload_n 0, 1) := by decide +kernel
theorem dL_law_148 : decode cL_law 148 = .ok (.iload_n 3, 1) := by decide +kernel
theorem dL_law_149 : decode cL_law 149 = .ok (.iconst 2, 1) := by decide +kernel
theorem dL_law_150 : decode cL_law 150 = .ok (.iadd, 1) := by decide +kernel
theorem dL_law_151 : decode cL_law 151 = .ok (.iaload, 1) := by decide +kernel
theorem dL_law_152 : decode cL_law 152 = .ok (.aload_n 0, 1) := by decide +kernel
theorem dL_law_153 : decode cL_law 153 = .ok (.iload_n 3, 1) := by decide +kernel
theorem dL_law_154 : decode cL_law 154 = .ok (.iconst 3, 1) := by decide +kernel
theorem dL_law_155 : decode cL_law 155 = .ok (.iadd, 1) := by decide +kernel
theorem dL_law_156 : decode cL_law 156 = .ok (.iaload, 1) := by decide +kernel
theorem dL_law_157 : decode cL_law 157 = .ok (.invokevirtual 18, 3) := by decide +kernel
theorem dL_law_160 : decode cL_law 160 = .ok (.aload_n 2, 1) := by decide +kernel
theorem dL_law_161 : decode cL_law 161 = .ok (.aload_n 0, 1) := by decide +kernel
theorem dL_law_162 : decode cL_law 162 = .ok (.iload_n 3, 1) := by decide +kernel
theorem dL_law_163 : decode cL_law 163 = .ok (.iconst 1, 1) := by decide +kernel
theorem dL_law_164 : decode cL_law 164 = .ok (.iadd, 1) := by decide +kernel
theorem dL_law_165 : decode cL_law 165 = .ok (.iaload, 1) := by decide +kernel
theorem dL_law_166 : decode cL_law 166 = .ok (.aload_n 0, 1) := by decide +kernel
theorem dL_law_167 : decode cL_law 167 = .ok (.iload_n 3, 1) := by decide +kernel
theorem dL_law_168 : decode cL_law 168 = .ok (.iconst 2, 1) := by decide +kernel
theorem dL_law_169 : decode cL_law 169 = .ok (.iadd, 1) := by decide +kernel
theorem dL_law_170 : decode cL_law 170 = .ok (.iaload, 1) := by decide +kernel
theorem dL_law_171 : decode cL_law 171 = .ok (.aload_n 0, 1) := by decide +kernel
theorem dL_law_172 : decode cL_law 172 = .ok (.iload_n 3, 1) := by decide +kernel
theorem dL_law_173 : decode cL_law 173 = .ok (.iconst 3, 1) := by decide +kernel
theorem dL_law_174 : decode cL_law 174 = .ok (.iadd, 1) := by decide +kernel
theorem dL_law_175 : decode cL_law 175 = .ok (.iaload, 1) := by decide +kernel
theorem dL_law_176 : decode cL_law 176 = .ok (.invokevirtual 22, 3) := by decide +kernel
theorem dL_law_179 : decode cL_law 179 = .ok (.if_icmp .eq 264, 3) := by decide +kernel
theorem dL_law_182 : decode cL_law 182 = .ok (.iconst 0, 1) := by decide +kernel
theorem dL_law_183 : decode cL_law 183 = .ok (.ireturn, 1) := by decide +kernel
theorem dL_law_184 : decode cL_law 184 = .ok (.aload_n 1, 1) := by decide +kernel
theorem dL_law_185 : decode cL_law 185 = .ok (.aload_n 0, 1) := by decide +kernel
theorem dL_law_186 : decode cL_law 186 = .ok (.iload_n 3, 1) := by decide +kernel
theorem dL_law_187 : decode cL_law 187 = .ok (.iconst 1, 1) := by decide +kernel
theorem dL_law_188 : decode cL_law 188 = .ok (.iadd, 1) := by decide +kernel
theorem dL_law_189 : decode cL_law 189 = .ok (.iaload, 1) := by decide +kernel
theorem dL_law_190 : decode cL_law 190 = .ok (.aload_n 0, 1) := by decide +kernel
theorem dL_law_191 : decode cL_law 191 = .ok (.iload_n 3, 1) := by decide +kernel
theorem dL_law_192 : decode cL_law 192 = .ok (.iconst 2, 1) := by decide +kernel
theorem dL_law_193 : decode cL_law 193 = .ok (.iadd, 1) := by decide +kernel
theorem dL_law_194 : decode cL_law 194 = .ok (.iaload, 1) := by decide +kernel
theorem dL_law_195 : decode cL_law 195 = .ok (.invokevirtual 23, 3) := by decide +kernel
theorem dL_law_198 : decode cL_law 198 = .ok (.aload_n 2, 1) := by decide +kernel
theorem dL_law_199 : decode cL_law 199 = .ok (.aload_n 0, 1) := by decide +kernel
theorem dL_law_200 : decode cL_law 200 = .ok (.iload_n 3, 1) := by decide +kernel
theorem dL_law_201 : decode cL_law 201 = .ok (.iconst 1, 1) := by decide +kernel
theorem dL_law_202 : decode cL_law 202 = .ok (.iadd, 1) := by decide +kernel
theorem dL_law_203 : decode cL_law 203 = .ok (.iaload, 1) := by decide +kernel
theorem dL_law_204 : decode cL_law 204 = .ok (.aload_n 0, 1) := by decide +kernel
theorem dL_law_205 : decode cL_law 205 = .ok (.iload_n 3, 1) := by decide +kernel
theorem dL_law_206 : decode cL_law 206 = .ok (.iconst 2, 1) := by decide +kernel
theorem dL_law_207 : decode cL_law 207 = .ok (.iadd, 1) := by decide +kernel
theorem dL_law_208 : decode cL_law 208 = .ok (.iaload, 1) := by decide +kernel
theorem dL_law_209 : decode cL_law 209 = .ok (.invokevirtual 27, 3) := by decide +kernel
theorem dL_law_212 : decode cL_law 212 = .ok (.if_icmp .eq 231, 3) := by decide +kernel
theorem dL_law_215 : decode cL_law 215 = .ok (.iconst 0, 1) := by decide +kernel
theorem dL_law_216 : decode cL_law 216 = .ok (.ireturn, 1) := by decide +kernel
theorem dL_law_217 : decode cL_law 217 = .ok (.aload_n 1, 1) := by decide +kernel
theorem dL_law_218 : decode cL_law 218 = .ok (.aload_n 0, 1) := by decide +kernel
theorem dL_law_219 : decode cL_law 219 = .ok (.iload_n 3, 1) := by decide +kernel
theorem dL_law_220 : decode cL_law 220 = .ok (.iconst 1, 1) := by decide +kernel
theorem dL_law_221 : decode cL_law 221 = .ok (.iadd, 1) := by decide +kernel
theorem dL_law_222 : decode cL_law 222 = .ok (.iaload, 1) := by decide +kernel
theorem dL_law_223 : decode cL_law 223 = .ok (.invokevirtual 28, 3) := by decide +kernel
theorem dL_law_226 : decode cL_law 226 = .ok (.aload_n 2, 1) := by decide +kernel
theorem dL_law_227 : decode cL_law 227 = .ok (.aload_n 0, 1) := by decide +kernel
theorem dL_law_228 : decode cL_law 228 = .ok (.iload_n 3, 1) := by decide +kernel
theorem dL_law_229 : decode cL_law 229 = .ok (.iconst 1, 1) := by decide +kernel
theorem dL_law_230 : decode cL_law 230 = .ok (.iadd, 1) := by decide +kernel
theorem dL_law_231 : decode cL_law 231 = .ok (.iaload, 1) := by decide +kernel
theorem dL_law_232 : decode cL_law 232 = .ok (.invokevirtual 32, 3) := by decide +kernel
theorem dL_law_235 : decode cL_law 235 = .ok (.if_icmp .eq 208, 3) := by decide +kernel
theorem dL_law_238 : decode cL_law 238 = .ok (.iconst 0, 1) := by decide +kernel
theorem dL_law_239 : decode cL_law 239 = .ok (.ireturn, 1) := by decide +kernel
theorem dL_law_240 : decode cL_law 240 = .ok (.aload_n 1, 1) := by decide +kernel
theorem dL_law_241 : decode cL_law 241 = .ok (.invokevirtual 33, 3) := by decide +kernel
theorem dL_law_244 : decode cL_law 244 = .ok (.aload_n 2, 1) := by decide +kernel
theorem dL_law_245 : decode cL_law 245 = .ok (.invokevirtual 37, 3) := by decide +kernel
theorem dL_law_248 : decode cL_law 248 = .ok (.if_icmp .eq 195, 3) := by decide +kernel
theorem dL_law_251 : decode cL_law 251 = .ok (.iconst 0, 1) := by decide +kernel
theorem dL_law_252 : decode cL_law 252 = .ok (.ireturn, 1) := by decide +kernel
theorem dL_law_253 : decode cL_law 253 = .ok (.aload_n 1, 1) := by decide +kernel
theorem dL_law_254 : decode cL_law 254 = .ok (.aload_n 0, 1) := by decide +kernel
theorem dL_law_255 : decode cL_law 255 = .ok (.iload_n 3, 1) := by decide +kernel
theorem dL_law_256 : decode cL_law 256 = .ok (.iconst 1, 1) := by decide +kernel
theorem dL_law_257 : decode cL_law 257 = .ok (.iadd, 1) := by decide +kernel
theorem dL_law_258 : decode cL_law 258 = .ok (.iaload, 1) := by decide +kernel
theorem dL_law_259 : decode cL_law 259 = .ok (.invokevirtual 38, 3) := by decide +kernel
theorem dL_law_262 : decode cL_law 262 = .ok (.aload_n 2, 1) := by decide +kernel
theorem dL_law_263 : decode cL_law 263 = .ok (.aload_n 0, 1) := by decide +kernel
theorem dL_law_264 : decode cL_law 264 = .ok (.iload_n 3, 1) := by decide +kernel
theorem dL_law_265 : decode cL_law 265 = .ok (.iconst 1, 1) := by decide +kernel
theorem dL_law_266 : decode cL_law 266 = .ok (.iadd, 1) := by decide +kernel
theorem dL_law_267 : decode cL_law 267 = .ok (.iaload, 1) := by decide +kernel
theorem dL_law_268 : decode cL_law 268 = .ok (.invokevirtual 42, 3) := by decide +kernel
theorem dL_law_271 : decode cL_law 271 = .ok (.if_icmp .eq 172, 3) := by decide +kernel
theorem dL_law_274 : decode cL_law 274 = .ok (.iconst 0, 1) := by decide +kernel
theorem dL_law_275 : decode cL_law 275 = .ok (.ireturn, 1) := by decide +kernel
theorem dL_law_276 : decode cL_law 276 = .ok (.aload_n 1, 1) := by decide +kernel
theorem dL_law_277 : decode cL_law 277 = .ok (.invokevirtual 43, 3) := by decide +kernel
theorem dL_law_280 : decode cL_law 280 = .ok (.aload_n 2, 1) := by decide +kernel
theorem dL_law_281 : decode cL_law 281 = .ok (.invokevirtual 46, 3) := by decide +kernel
theorem dL_law_284 : decode cL_law 284 = .ok (.if_icmp .eq 159, 3) := by decide +kernel
theorem dL_law_287 : decode cL_law 287 = .ok (.iconst 0, 1) := by decide +kernel
theorem dL_law_288 : decode cL_law 288 = .ok (.ireturn, 1) := by decide +kernel
theorem dL_law_289 : decode cL_law 289 = .ok (.aload_n 1, 1) := by decide +kernel
theorem dL_law_290 : decode cL_law 290 = .ok (.invokevirtual 47, 3) := by decide +kernel
theorem dL_law_293 : decode cL_law 293 = .ok (.aload_n 2, 1) := by decide +kernel
theorem dL_law_294 : decode cL_law 294 = .ok (.invokevirtual 50, 3) := by decide +kernel
theorem dL_law_297 : decode cL_law 297 = .ok (.if_icmp .eq 146, 3) := by decide +kernel
theorem dL_law_300 : decode cL_law 300 = .ok (.iconst 0, 1) := by decide +kernel
theorem dL_law_301 : decode cL_law 301 = .ok (.ireturn, 1) := by decide +kernel
theorem dL_law_302 : decode cL_law 302 = .ok (.aload_n 1, 1) := by decide +kernel
theorem dL_law_303 : decode cL_law 303 = .ok (.invokevirtual 51, 3) := by decide +kernel
theorem dL_law_306 : decode cL_law 306 = .ok (.aload_n 2, 1) := by decide +kernel
theorem dL_law_307 : decode cL_law 307 = .ok (.invokevirtual 54, 3) := by decide +kernel
theorem dL_law_310 : decode cL_law 310 = .ok (.if_icmp .eq 133, 3) := by decide +kernel
theorem dL_law_313 : decode cL_law 313 = .ok (.iconst 0, 1) := by decide +kernel
theorem dL_law_314 : decode cL_law 314 = .ok (.ireturn, 1) := by decide +kernel
theorem dL_law_315 : decode cL_law 315 = .ok (.aload_n 1, 1) := by decide +kernel
theorem dL_law_316 : decode cL_law 316 = .ok (.aload_n 0, 1) := by decide +kernel
theorem dL_law_317 : decode cL_law 317 = .ok (.iload_n 3, 1) := by decide +kernel
theorem dL_law_318 : decode cL_law 318 = .ok (.iconst 1, 1) := by decide +kernel
theorem dL_law_319 : decode cL_law 319 = .ok (.iadd, 1) := by decide +kernel
theorem dL_law_320 : decode cL_law 320 = .ok (.iaload, 1) := by decide +kernel
theorem dL_law_321 : decode cL_law 321 = .ok (.aload_n 0, 1) := by decide +kernel
theorem dL_law_322 : decode cL_law 322 = .ok (.iload_n 3, 1) := by decide +kernel
theorem dL_law_323 : decode cL_law 323 = .ok (.iconst 2, 1) := by decide +kernel
theorem dL_law_324 : decode cL_law 324 = .ok (.iadd, 1) := by decide +kernel
theorem dL_law_325 : decode cL_law 325 = .ok (.iaload, 1) := by decide +kernel
theorem dL_law_326 : decode cL_law 326 = .ok (.invokevirtual 55, 3) := by decide +kernel
theorem dL_law_329 : decode cL_law 329 = .ok (.aload_n 2, 1) := by decide +kernel
theorem dL_law_330 : decode cL_law 330 = .ok (.aload_n 0, 1) := by decide +kernel
theorem dL_law_331 : decode cL_law 331 = .ok (.iload_n 3, 1) := by decide +kernel
theorem dL_law_332 : decode cL_law 332 = .ok (.iconst 1, 1) := by decide +kernel
theorem dL_law_333 : decode cL_law 333 = .ok (.iadd, 1) := by decide +kernel
theorem dL_law_334 : decode cL_law 334 = .ok (.iaload, 1) := by decide +kernel
theorem dL_law_335 : decode cL_law 335 = .ok (.aload_n 0, 1) := by decide +kernel
theorem dL_law_336 : decode cL_law 336 = .ok (.iload_n 3, 1) := by decide +kernel
theorem dL_law_337 : decode cL_law 337 = .ok (.iconst 2, 1) := by decide +kernel
theorem dL_law_338 : decode cL_law 338 = .ok (.iadd, 1) := by decide +kernel
theorem dL_law_339 : decode cL_law 339 = .ok (.iaload, 1) := by decide +kernel
theorem dL_law_340 : decode cL_law 340 = .ok (.invokevirtual 58, 3) := by decide +kernel
theorem dL_law_343 : decode cL_law 343 = .ok (.if_icmp .eq 100, 3) := by decide +kernel
theorem dL_law_346 : decode cL_law 346 = .ok (.iconst 0, 1) := by decide +kernel
theorem dL_law_347 : decode cL_law 347 = .ok (.ireturn, 1) := by decide +kernel
theorem dL_law_348 : decode cL_law 348 = .ok (.aload_n 1, 1) := by decide +kernel
theorem dL_law_349 : decode cL_law 349 = .ok (.aload_n 0, 1) := by decide +kernel
theorem dL_law_350 : decode cL_law 350 = .ok (.iload_n 3, 1) := by decide +kernel
theorem dL_law_351 : decode cL_law 351 = .ok (.iconst 1, 1) := by decide +kernel
theorem dL_law_352 : decode cL_law 352 = .ok (.iadd, 1) := by decide +kernel
theorem dL_law_353 : decode cL_law 353 = .ok (.iaload, 1) := by decide +kernel
theorem dL_law_354 : decode cL_law 354 = .ok (.invokevirtual 59, 3) := by decide +kernel
theorem dL_law_357 : decode cL_law 357 = .ok (.aload_n 2, 1) := by decide +kernel
theorem dL_law_358 : decode cL_law 358 = .ok (.aload_n 0, 1) := by decide +kernel
theorem dL_law_359 : decode cL_law 359 = .ok (.iload_n 3, 1) := by decide +kernel
theorem dL_law_360 : decode cL_law 360 = .ok (.iconst 1, 1) := by decide +kernel
theorem dL_law_361 : decode cL_law 361 = .ok (.iadd, 1) := by decide +kernel
theorem dL_law_362 : decode cL_law 362 = .ok (.iaload, 1) := by decide +kernel
theorem dL_law_363 : decode cL_law 363 = .ok (.invokevirtual 62, 3) := by decide +kernel
theorem dL_law_366 : decode cL_law 366 = .ok (.if_icmp .eq 77, 3) := by decide +kernel
theorem dL_law_369 : decode cL_law 369 = .ok (.iconst 0, 1) := by decide +kernel
theorem dL_law_370 : decode cL_law 370 = .ok (.ireturn, 1) := by decide +kernel
theorem dL_law_371 : decode cL_law 371 = .ok (.aload_n 1, 1) := by decide +kernel
theorem dL_law_372 : decode cL_law 372 = .ok (.aload_n 0, 1) := by decide +kernel
theorem dL_law_373 : decode cL_law 373 = .ok (.iload_n 3, 1) := by decide +kernel
theorem dL_law_374 : decode cL_law 374 = .ok (.iconst 1, 1) := by decide +kernel
theorem dL_law_375 : decode cL_law 375 = .ok (.iadd, 1) := by decide +kernel
theorem dL_law_376 : decode cL_law 376 = .ok (.iaload, 1) := by decide +kernel
theorem dL_law_377 : decode cL_law 377 = .ok (.invokevirtual 63, 3) := by decide +kernel
theorem dL_law_380 : decode cL_law 380 = .ok (.aload_n 2, 1) := by decide +kernel
theorem dL_law_381 : decode cL_law 381 = .ok (.aload_n 0, 1) := by decide +kernel
theorem dL_law_382 : decode cL_law 382 = .ok (.iload_n 3, 1) := by decide +kernel
theorem dL_law_383 : decode cL_law 383 = .ok (.iconst 1, 1) := by decide +kernel
theorem dL_law_384 : decode cL_law 384 = .ok (.iadd, 1) := by decide +kernel
theorem dL_law_385 : decode cL_law 385 = .ok (.iaload, 1) := by decide +kernel
theorem dL_law_386 : decode cL_law 386 = .ok (.invokevirtual 66, 3) := by decide +kernel
theorem dL_law_389 : decode cL_law 389 = .ok (.if_icmp .eq 54, 3) := by decide +kernel
theorem dL_law_392 : decode cL_law 392 = .ok (.iconst 0, 1) := by decide +kernel
theorem dL_law_393 : decode cL_law 393 = .ok (.ireturn, 1) := by decide +kernel
theorem dL_law_394 : decode cL_law 394 = .ok (.aload_n 1, 1) := by decide +kernel
theorem dL_law_395 : decode cL_law 395 = .ok (.invokevirtual 67, 3) := by decide +kernel
theorem dL_law_398 : decode cL_law 398 = .ok (.aload_n 2, 1) := by decide +kernel
theorem dL_law_399 : decode cL_law 399 = .ok (.invokevirtual 70, 3) := by decide +kernel
theorem dL_law_402 : decode cL_law 402 = .ok (.if_icmp .eq 41, 3) := by decide +kernel
theorem dL_law_405 : decode cL_law 405 = .ok (.iconst 0, 1) := by decide +kernel
theorem dL_law_406 : decode cL_law 406 = .ok (.ireturn, 1) := by decide +kernel
theorem dL_law_407 : decode cL_law 407 = .ok (.aload_n 1, 1) := by decide +kernel
theorem dL_law_408 : decode cL_law 408 = .ok (.invokevirtual 71, 3) := by decide +kernel
theorem dL_law_411 : decode cL_law 411 = .ok (.aload_n 2, 1) := by decide +kernel
theorem dL_law_412 : decode cL_law 412 = .ok (.invokevirtual 74, 3) := by decide +kernel
theorem dL_law_415 : decode cL_law 415 = .ok (.if_icmp .eq 28, 3) := by decide +kernel
theorem dL_law_418 : decode cL_law 418 = .ok (.iconst 0, 1) := by decide +kernel
theorem dL_law_419 : decode cL_law 419 = .ok (.ireturn, 1) := by decide +kernel
theorem dL_law_420 : decode cL_law 420 = .ok (.aload_n 1, 1) := by decide +kernel
theorem dL_law_421 : decode cL_law 421 = .ok (.aload_n 0, 1) := by decide +kernel
theorem dL_law_422 : decode cL_law 422 = .ok (.iload_n 3, 1) := by decide +kernel
theorem dL_law_423 : decode cL_law 423 = .ok (.iconst 1, 1) := by decide +kernel
theorem dL_law_424 : decode cL_law 424 = .ok (.iadd, 1) := by decide +kernel
theorem dL_law_425 : decode cL_law 425 = .ok (.iaload, 1) := by decide +kernel
theorem dL_law_426 : decode cL_law 426 = .ok (.invokevirtual 75, 3) := by decide +kernel
theorem dL_law_429 : decode cL_law 429 = .ok (.aload_n 2, 1) := by decide +kernel
theorem dL_law_430 : decode cL_law 430 = .ok (.aload_n 0, 1) := by decide +kernel
theorem dL_law_431 : decode cL_law 431 = .ok (.iload_n 3, 1) := by decide +kernel
theorem dL_law_432 : decode cL_law 432 = .ok (.iconst 1, 1) := by decide +kernel
theorem dL_law_433 : decode cL_law 433 = .ok (.iadd, 1) := by decide +kernel
theorem dL_law_434 : decode cL_law 434 = .ok (.iaload, 1) := by decide +kernel
theorem dL_law_435 : decode cL_law 435 = .ok (.invokevirtual 78, 3) := by decide +kernel
theorem dL_law_438 : decode cL_law 438 = .ok (.if_icmp .eq 5, 3) := by decide +kernel
theorem dL_law_441 : decode cL_law 441 = .ok (.iconst 0, 1) := by decide +kernel
theorem dL_law_442 : decode cL_law 442 = .ok (.ireturn, 1) := by decide +kernel
theorem dL_law_443 : decode cL_law 443 = .ok (.iinc 3 4, 3) := by decide +kernel
theorem dL_law_446 : decode cL_law 446 = .ok (.goto (-428), 3) := by decide +kernel
theorem dL_law_449 : decode cL_law 449 = .ok (.iconst 1, 1) := by decide +kernel
theorem dL_law_450 : decode cL_law 450 = .ok (.ireturn, 1) := by decide +kernel
end
section
/-! ===== Int32 by its bits: bt x i ===== -/
def bt (x : Int32) (i : Nat) : Bool := x.toBitVec.getLsbD i
theorem b_ext {x y : Int32} (h : ∀ i, i < 32 → bt x i = bt y i) : x = y := Int32.toBitVec_inj.mp (BitVec.eq_of_getLsbD_eq (fun i hi => h i hi))
theorem b_or (x y : Int32) (i : Nat) : bt (x ||| y) i = (bt x i || bt y i) := by unfold bt; rw [Int32.toBitVec_or, BitVec.getLsbD_or]
theorem b_and (x y : Int32) (i : Nat) : bt (x &&& y) i = (bt x i && bt y i) := by unfold bt; rw [Int32.toBitVec_and, BitVec.getLsbD_and]
theorem b_xor (x y : Int32) (i : Nat) : bt (x ^^^ y) i = (bt x i ^^ bt y i) := by unfold bt; rw [Int32.toBitVec_xor, BitVec.getLsbD_xor]
theorem b_big {x : Int32} {i : Nat} (h : 32 ≤ i) : bt x i = false := BitVec.getLsbD_of_ge _ _ h
theorem b_255 (i : Nat) : bt 255 i = decide (i < 8) := by
  rcases Nat.lt_or_ge i 32 with h | h
  · exact (by decide +kernel : ∀ i, i < 32 → bt 255 i = decide (i < 8)) i h
  · rw [b_big h, decide_eq_false (by omega)]
theorem b_65535 (i : Nat) : bt 65535 i = decide (i < 16) := by
  rcases Nat.lt_or_ge i 32 with h | h
  · exact (by decide +kernel : ∀ i, i < 32 → bt 65535 i = decide (i < 16)) i h
  · rw [b_big h, decide_eq_false (by omega)]
theorem b_m1 : ∀ i, i < 32 → bt (-1) i = true := by decide +kernel
theorem b_0 (i : Nat) : bt 0 i = false := BitVec.getLsbD_zero
theorem s_l : ∀ n, n < 32 → ((nI n &&& 31).toBitVec.smod 32).toNat = n := by decide +kernel
theorem s_u : ∀ n, n < 32 → (((nI n).toUInt32 &&& Int32.toUInt32 31).toBitVec % 32).toNat = n := by decide +kernel
theorem b_shl (n : Nat) (hn : n < 32) (x : Int32) {i : Nat} (hi : i < 32) : bt (x <<< (nI n &&& 31)) i = (decide (n ≤ i) && bt x (i - n)) := by
  unfold bt
  rw [Int32.toBitVec_shiftLeft]
  show (x.toBitVec <<< ((nI n &&& 31).toBitVec.smod 32).toNat).getLsbD i = _
  rw [s_l n hn, BitVec.getLsbD_shiftLeft]
  rcases Nat.lt_or_ge i n with h | h
  · simp [h, Nat.not_le.mpr h]
  · simp [hi, h, Nat.not_lt.mpr h]
theorem b_ushr (n : Nat) (hn : n < 32) (x : Int32) (i : Nat) : bt ((x.toUInt32 >>> ((nI n).toUInt32 &&& Int32.toUInt32 31)).toInt32) i = bt x (n + i) := by
  show (x.toUInt32 >>> ((nI n).toUInt32 &&& Int32.toUInt32 31)).toBitVec.getLsbD i = x.toUInt32.toBitVec.getLsbD (n + i)
  rw [UInt32.toBitVec_shiftRight]
  show (x.toUInt32.toBitVec >>> (((nI n).toUInt32 &&& Int32.toUInt32 31).toBitVec % 32).toNat).getLsbD i = _
  rw [s_u n hn, BitVec.getLsbD_ushiftRight]
theorem b_sshr (n : Nat) (hn : n < 32) (x : Int32) {i : Nat} (hi : i < 32) : bt (x >>> (nI n &&& 31)) i = if n + i < 32 then bt x (n + i) else bt x 31 := by
  unfold bt
  rw [Int32.toBitVec_shiftRight]
  show (x.toBitVec.sshiftRight ((nI n &&& 31).toBitVec.smod 32).toNat).getLsbD i = _
  rw [s_l n hn, BitVec.getLsbD_sshiftRight, BitVec.msb_eq_getLsbD_last]
  simp [hi]
theorem b_shl8 (x : Int32) {i : Nat} (hi : i < 32) : bt (x <<< ((8 : Int32) &&& 31)) i = (decide (8 ≤ i) && bt x (i - 8)) := b_shl 8 (by omega) x hi
theorem b_shl16 (x : Int32) {i : Nat} (hi : i < 32) : bt (x <<< ((16 : Int32) &&& 31)) i = (decide (16 ≤ i) && bt x (i - 16)) := b_shl 16 (by omega) x hi
theorem b_shl24 (x : Int32) {i : Nat} (hi : i < 32) : bt (x <<< ((24 : Int32) &&& 31)) i = (decide (24 ≤ i) && bt x (i - 24)) := b_shl 24 (by omega) x hi
theorem b_sshr8 (x : Int32) {i : Nat} (hi : i < 32) : bt (x >>> ((8 : Int32) &&& 31)) i = if 8 + i < 32 then bt x (8 + i) else bt x 31 := b_sshr 8 (by omega) x hi
/-! ===== nI under and, xor, >>>, one bit, 65535 ===== -/
/-! ===== drawers: more things than places ===== -/
theorem fb_holes : ∀ (m n : Nat) (f : Nat → Nat), (∀ i, i < n → f i < m) → (∀ i j, i < j → j < n → f i ≠ f j) → n ≤ m := by
  intro m
  induction m with
  | zero =>
    intro n f h1 _
    rcases Nat.eq_zero_or_pos n with h | h
    · omega
    · exact absurd (h1 0 h) (Nat.not_lt_zero _)
  | succ m ih =>
    intro n f h1 h2
    by_cases hx : ∃ i, i < n ∧ f i = m
    · obtain ⟨a, ha, hfa⟩ := hx
      have hg := ih (n - 1) (fun i => if i < a then f i else f (i + 1)) (by
        intro i hi
        by_cases q : i < a
        · simp only [if_pos q]
          have b1 := h1 i (by omega)
          have b2 := h2 i a q ha
          omega
        · simp only [if_neg q]
          have b1 := h1 (i + 1) (by omega)
          have b2 := h2 a (i + 1) (by omega) (by omega)
          omega) (by
        intro i j hij hj
        by_cases q : i < a
        · by_cases r : j < a
          · simp only [if_pos q, if_pos r]
            exact h2 i j hij (by omega)
          · simp only [if_pos q, if_neg r]
            exact h2 i (j + 1) (by omega) (by omega)
        · have r : ¬ j < a := by omega
          simp only [if_neg q, if_neg r]
          exact h2 (i + 1) (j + 1) (by omega) (by omega))
      omega
    · have hg := ih n f (fun i hi => by
        have b1 := h1 i hi
        have b2 : f i ≠ m := fun e => hx ⟨i, hi, e⟩
        omega) h2
      omega
/-- two of them in one place -/
theorem fb_twice {m n : Nat} {f : Nat → Nat} (h : ∀ i, i < n → f i < m) (hm : m < n) : ∃ i j, i < j ∧ j < n ∧ f i = f j := by
  refine Classical.byContradiction fun hx => ?_
  have := fb_holes m n f h (fun i j hij hj e => hx ⟨i, j, hij, hj, e⟩)
  omega
/-- as many as places, none twice: each place is taken -/
theorem fb_onto {n : Nat} {f : Nat → Nat} (h : ∀ i, i < n → f i < n) (h2 : ∀ i j, i < j → j < n → f i ≠ f j) {y : Nat} (hy : y < n) : ∃ i, i < n ∧ f i = y := by
  refine Classical.byContradiction fun hx => ?_
  have hne : ∀ i, i < n → f i ≠ y := fun i hi e => hx ⟨i, hi, e⟩
  have := fb_holes (n - 1) n (fun i => if f i < y then f i else f i - 1) (by
    intro i hi
    have b1 := h i hi
    have b2 := hne i hi
    by_cases q : f i < y
    · simp only [if_pos q]; omega
    · simp only [if_neg q]; omega) (by
    intro i j hij hj
    have b1 := hne i (by omega)
    have b2 := hne j hj
    have b3 := h2 i j hij hj
    by_cases q : f i < y
    · by_cases r : f j < y
      · simp only [if_pos q, if_pos r]; exact b3
      · simp only [if_pos q, if_neg r]; omega
    · by_cases r : f j < y
      · simp only [if_neg q, if_pos r]; omega
      · simp only [if_neg q, if_neg r]; omega)
  omega
/-! ===== how many places have a property ===== -/
def fb_ct (p : Nat → Bool) : Nat → Nat
  | 0 => 0
  | n + 1 => fb_ct p n + (if p n then 1 else 0)
theorem fb_ct_succ (p : Nat → Bool) (n : Nat) : fb_ct p (n + 1) = fb_ct p n + (if p n then 1 else 0) := rfl
theorem fb_ct_le (p : Nat → Bool) : ∀ n, fb_ct p n ≤ n
  | 0 => Nat.le_refl _
  | n + 1 => by
    have h := fb_ct_le p n
    rw [fb_ct_succ]
    split <;> omega
theorem fb_ct_step (p : Nat → Bool) (m : Nat) : ∀ n, fb_ct p m ≤ fb_ct p (m + n)
  | 0 => Nat.le_refl _
  | n + 1 => by
    have h := fb_ct_step p m n
    show fb_ct p m ≤ fb_ct p (m + n + 1)
    rw [fb_ct_succ]
    omega
theorem fb_ct_mono (p : Nat → Bool) {m n : Nat} (h : m ≤ n) : fb_ct p m ≤ fb_ct p n := by
  have := fb_ct_step p m (n - m)
  rwa [Nat.add_sub_cancel' h] at this
theorem fb_ct_cong {p q : Nat → Bool} : ∀ {n : Nat}, (∀ k, k < n → p k = q k) → fb_ct p n = fb_ct q n
  | 0, _ => rfl
  | n + 1, h => by
    rw [fb_ct_succ, fb_ct_succ, fb_ct_cong (fun k hk => h k (by omega)), h n (by omega)]
/-- one place changed -/
theorem fb_ct_out (p : Nat → Bool) (b : Bool) {i n : Nat} (h : n ≤ i) : fb_ct (fun k => if k = i then b else p k) n = fb_ct p n :=
  fb_ct_cong fun k hk => if_neg (by omega)
theorem fb_ct_upd (p : Nat → Bool) (b : Bool) {i : Nat} : ∀ {n : Nat}, i < n → fb_ct (fun k => if k = i then b else p k) n + (if p i then 1 else 0) = fb_ct p n + (if b then 1 else 0)
  | 0, h => absurd h (Nat.not_lt_zero i)
  | n + 1, h => by
    rw [fb_ct_succ, fb_ct_succ]
    rcases Nat.lt_or_ge i n with q | q
    · have := fb_ct_upd p b q
      have e : (if n = i then b else p n) = p n := if_neg (by omega)
      rw [e]
      omega
    · have e : i = n := by omega
      subst e
      rw [fb_ct_out p b (Nat.le_refl _)]
      simp only [if_true]
      omega
theorem fb_ct_sub {p q : Nat → Bool} : ∀ {n : Nat}, (∀ k, k < n → p k = true → q k = true) → fb_ct p n ≤ fb_ct q n
  | 0, _ => Nat.le_refl _
  | n + 1, h => by
    have h1 := fb_ct_sub (n := n) (p := p) (q := q) (fun k hk => h k (by omega))
    have h2 := h n (by omega)
    rw [fb_ct_succ, fb_ct_succ]
    cases hp : p n <;> cases hq : q n <;> simp_all <;> omega
theorem fb_ct_or {p q : Nat → Bool} : ∀ {n : Nat}, (∀ k, k < n → ¬ (p k = true ∧ q k = true)) → fb_ct (fun k => p k || q k) n = fb_ct p n + fb_ct q n
  | 0, _ => rfl
  | n + 1, h => by
    have h1 := fb_ct_or (n := n) (p := p) (q := q) (fun k hk => h k (by omega))
    have h2 := h n (by omega)
    rw [fb_ct_succ, fb_ct_succ, fb_ct_succ, h1]
    cases hp : p n <;> cases hq : q n <;> simp_all <;> omega
theorem fb_ct_not (p : Nat → Bool) : ∀ n, fb_ct p n + fb_ct (fun k => !p k) n = n
  | 0 => rfl
  | n + 1 => by
    have h := fb_ct_not p n
    rw [fb_ct_succ, fb_ct_succ]
    cases p n <;> simp <;> omega
theorem fb_ct_split (p : Nat → Bool) (m : Nat) : ∀ n, fb_ct p (m + n) = fb_ct p m + fb_ct (fun k => p (m + k)) n
  | 0 => rfl
  | n + 1 => by
    have h := fb_ct_split p m n
    show fb_ct p (m + n + 1) = _
    rw [fb_ct_succ, fb_ct_succ, h, Nat.add_assoc]
theorem fb_ct_zero {p : Nat → Bool} : ∀ {n : Nat}, fb_ct p n = 0 ↔ ∀ k, k < n → p k = false
  | 0 => ⟨fun _ k hk => absurd hk (Nat.not_lt_zero k), fun _ => rfl⟩
  | n + 1 => by
    have h := fb_ct_zero (p := p) (n := n)
    rw [fb_ct_succ]
    constructor
    · intro e k hk
      have e1 : fb_ct p n = 0 := by omega
      rcases Nat.lt_or_ge k n with q | q
      · exact h.mp e1 k q
      · have ek : k = n := by omega
        subst ek
        cases hp : p k
        · rfl
        · simp [hp] at e
    · intro a
      rw [h.mpr (fun k hk => a k (by omega)), a n (by omega)]
      rfl
theorem fb_ct_pos {p : Nat → Bool} {n : Nat} : 0 < fb_ct p n ↔ ∃ k, k < n ∧ p k = true := by
  constructor
  · intro h
    refine Classical.byContradiction fun hx => ?_
    have := fb_ct_zero.mpr (fun k hk => by
      cases hp : p k
      · rfl
      · exact absurd ⟨k, hk, hp⟩ hx : ∀ k, k < n → p k = false)
    omega
  · rintro ⟨k, hk, hp⟩
    rcases Nat.eq_zero_or_pos (fb_ct p n) with e | e
    · have := fb_ct_zero.mp e k hk
      rw [this] at hp
      cases hp
    · exact e
theorem fb_ct_all {p : Nat → Bool} {n : Nat} : fb_ct p n = n ↔ ∀ k, k < n → p k = true := by
  have h := fb_ct_not p n
  constructor
  · intro e k hk
    have z : fb_ct (fun k => !p k) n = 0 := by omega
    have := fb_ct_zero.mp z k hk
    cases hp : p k
    · simp [hp] at this
    · rfl
  · intro a
    have z : fb_ct (fun k => !p k) n = 0 := fb_ct_zero.mpr (fun k hk => by simp [a k hk])
    omega
/-- the k-th place with the property -/
theorem fb_ct_kth {p : Nat → Bool} {k : Nat} : ∀ {n : Nat}, k < fb_ct p n → ∃ i, i < n ∧ p i = true ∧ fb_ct p i = k
  | 0, h => absurd h (Nat.not_lt_zero k)
  | n + 1, h => by
    rcases Nat.lt_or_ge k (fb_ct p n) with q | q
    · obtain ⟨i, h1, h2⟩ := fb_ct_kth q
      exact ⟨i, by omega, h2⟩
    · rw [fb_ct_succ] at h
      cases hp : p n
      · simp [hp] at h; omega
      · simp [hp] at h
        exact ⟨n, by omega, hp, by omega⟩
theorem fb_ct_kth_one {p : Nat → Bool} {i j : Nat} (hi : p i = true) (hj : p j = true) (e : fb_ct p i = fb_ct p j) : i = j := by
  have key : ∀ a b : Nat, a < b → p a = true → fb_ct p a < fb_ct p b := by
    intro a b hab ha
    have h := fb_ct_mono p (show a + 1 ≤ b from hab)
    rw [fb_ct_succ, ha] at h
    simp at h
    omega
  rcases Nat.lt_trichotomy i j with q | q | q
  · have := key i j q hi; omega
  · exact q
  · have := key j i q hj; omega
/-! ===== sums over a range: one place changed, parts, bounds ===== -/
/-! ===== signed ints as whole numbers, within bounds ===== -/
theorem fb_rng (x : Int32) : -2147483648 ≤ x.toInt ∧ x.toInt < 2147483648 := by
  have h1 := Int32.le_toInt x
  have h2 := Int32.toInt_lt x
  omega
theorem fb_bmod {z : Int} (h1 : -2147483648 ≤ z) (h2 : z < 2147483648) : z.bmod (2 ^ 32) = z := by
  rw [Int.bmod_eq_of_le (by omega) (by omega)]
theorem fb_addI {x y : Int32} (h1 : -2147483648 ≤ x.toInt + y.toInt) (h2 : x.toInt + y.toInt < 2147483648) : (x + y).toInt = x.toInt + y.toInt := by
  rw [Int32.toInt_add, fb_bmod h1 h2]
theorem fb_subI {x y : Int32} (h1 : -2147483648 ≤ x.toInt - y.toInt) (h2 : x.toInt - y.toInt < 2147483648) : (x - y).toInt = x.toInt - y.toInt := by
  rw [Int32.toInt_sub, fb_bmod h1 h2]
theorem fb_mulI {x y : Int32} (h1 : -2147483648 ≤ x.toInt * y.toInt) (h2 : x.toInt * y.toInt < 2147483648) : (x * y).toInt = x.toInt * y.toInt := by
  rw [Int32.toInt_mul, fb_bmod h1 h2]
theorem fb_negI {x : Int32} (h : x.toInt ≠ -2147483648) : (-x).toInt = -x.toInt := by
  have := fb_rng x
  rw [Int32.toInt_neg, fb_bmod (by omega) (by omega)]
theorem fb_ofI {z : Int} (h1 : -2147483648 ≤ z) (h2 : z < 2147483648) : (Int32.ofInt z).toInt = z := by
  rw [Int32.toInt_ofInt, fb_bmod h1 h2]
theorem fb_asI (x : Int32) : Int32.ofInt x.toInt = x := Int32.ofInt_toInt x
/-! ===== cuts of what is narrow already ===== -/
theorem fb_byte {x : Int32} (h1 : -128 ≤ x.toInt) (h2 : x.toInt < 128) : x.toInt8.toInt32 = x := by
  apply Int32.toInt_inj.1
  rw [Int8.toInt_toInt32, Int32.toInt_toInt8, Int.bmod_eq_of_le (by omega) (by omega)]
end
section
/-! ROWS FOR THIS CLAIM'S TWO CLASSES. A state of an object: its ints and its arrays, by the place of the field. gk_C: what stays through a method's body; gk_G: the world now. -/
abbrev vwCl : List vw_C := [(RX0, TX0, 15), (RX1, TX1, 8)]
abbrev gS : Type := (Nat → Int32) × (Nat → Nat → Int32)
def gI (u : gS) (k : Nat) (x : Int32) : gS := (upd u.1 k x, u.2)
def gA (u : gS) (k n : Nat) (x : Int32) : gS := (u.1, va_up u.2 k (upd (u.2 k) n x))
def gk_C (D : va_G) (tys : List (ClassId × FieldType)) (own : String) (cc : ByteArray) (nL f k : Nat) (A : Nat → Prop) (p : Program) (R : Room) (s : State) (m : MethodId) (args : Array Value) (c : Code) : Prop :=
  CallFix p m c cc nL s args lw_all own ∧ va_K D vwCl tys s ∧ (∀ q : Nat, s.heap.size ≤ q → A q) ∧ f ≤ R.frames ∧ k ≤ R.locals
def gk_G (D : va_G) (ws : va_W) (A : Nat → Prop) (H0 H : Heap) (locs : List Loc) : Prop := va_P D vwCl ws H ∧ va_D A ws ∧ va_S A H0 H locs
def gk_Pc (D : va_G) (tys : List (ClassId × FieldType)) (ws : va_W) (sz : Nat) (vals : List Value) : Array Value → State → Prop := va_Pc vals (fun U => U.heap.size = sz ∧ va_P D vwCl ws U.heap ∧ va_K D vwCl tys U ∧ va_D (fun _ => True) ws)
def gk_B (D : va_G) (tys : List (ClassId × FieldType)) (wf : gS → va_W) (A : Nat → Prop) (u : gS) (t : State) : Prop := va_P D vwCl (wf u) t.heap ∧ va_K D vwCl tys t ∧ va_D A (wf u)
/-- the contract of a method that answers an int or a boolean: from the state u to a state u' with 'post answer u'' -/
def gk_Mi (l : Launch) (D : va_G) (tys : List (ClassId × FieldType)) (wf : gS → va_W) (y : MethodName) (cc : ByteArray) (nL : Nat) (ty : FieldType) (f k : Nat) (vals : List Value) (u : gS) (post : Int32 → gS → Prop) : Prop :=
  ∀ sz : Nat, Met l y (ws_ y cc nL (some ty)) ({ frames := f, cells := 0, slots := 0, locals := k } : Room) (gk_Pc D tys (wf u) sz vals) (va_Qi post (gk_B D tys wf (va_A (wf u) sz)) (va_A (wf u) sz)) 0 0 (va_A (wf u) sz)
/-- the contract of a method that answers nothing -/
def gk_Mv (l : Launch) (D : va_G) (tys : List (ClassId × FieldType)) (wf : gS → va_W) (y : MethodName) (cc : ByteArray) (nL : Nat) (f k : Nat) (vals : List Value) (u : gS) (post : gS → Prop) : Prop :=
  ∀ sz : Nat, Met l y (ws_ y cc nL none) ({ frames := f, cells := 0, slots := 0, locals := k } : Room) (gk_Pc D tys (wf u) sz vals) (va_Qv post (gk_B D tys wf (va_A (wf u) sz)) (va_A (wf u) sz)) 0 0 (va_A (wf u) sz)
section GK
variable {p : Program} {l : Launch} {e : Env} {R : Room} {s : State} {m : MethodId} {args : Array Value} {below : List Frame} {meth : Method} {c : Code} {H : Heap} {locs : List Loc} {cells slots : Nat} {Q : State → Prop}
variable {cc : ByteArray} {pc : Nat} {ls : Array Slot} {rest : List Value} {D : va_G} {A : Nat → Prop} {tys : List (ClassId × FieldType)} {ws : va_W} {own : String} {nL f k : Nat}
theorem gk_tv {x y : Int32} (h : x = y) (K : W p l e R s m args below meth c H locs cells slots Q (F0 m pc ls (.int y :: rest))) : W p l e R s m args below meth c H locs cells slots Q (F0 m pc ls (.int x :: rest)) := by
  subst h
  exact K
theorem gk_free (C : gk_C D tys own cc nL f k A p R s m args c) (G : gk_G D ws A s.heap H locs) : ∀ q, va_A ws H.size q → A q := by
  intro q hq
  rcases hq with ⟨i, x, hx⟩ | hq
  · exact G.2.1.2 i _ hx
  · exact C.2.2.1 q (Nat.le_trans G.2.2.1 hq)
theorem gk_get (C : gk_C D tys own cc nL f k A p R s m args c) (G : gk_G D ws A s.heap H locs) {ci a N index : Nat} {fs : List Value} {T : u_T} (he : ws[0]? = some (a, .inr (ci, fs))) (hc : vwCl[ci]? = some (own, T, N)) (hin : ∀ w ∈ u_ws own T N, w ∈ lw_all) (j : Nat) (hj : j < N) (hq : Cond.fieldLink own index own (T j).2.1 (T j).2.2.1 ∈ lw_all) (hT : (T j).1 = own) {v : Value} (hv : fs[j]? = some v) (hdg : decode cc pc = .ok (.getfield index, 3))
    (K : W p l e R s m args below meth c H locs cells slots Q (F0 m (pc + 3) ls (v :: rest))) : W p l e R s m args below meth c H locs cells slots Q (F0 m pc ls (.ref a :: rest)) :=
  va_get C.1.1 C.1.2.1 C.1.2.2.2.2 hin C.1.2.2.2.1 C.2.1 G.1 0 he hc j hj (C.1.2.2.2.2 _ hq) (fun x h => by rw [hT] at h; exact h) hv hdg K
theorem gk_put (C : gk_C D tys own cc nL f k A p R s m args c) (G : gk_G D ws A s.heap H locs) {ci a N index : Nat} {fs : List Value} {T : u_T} (he : ws[0]? = some (a, .inr (ci, fs))) (hc : vwCl[ci]? = some (own, T, N)) (hin : ∀ w ∈ u_ws own T N, w ∈ lw_all) (ty0 : Nat → FieldType) (hty : ∀ i, i < N → parseFieldDescriptor (T i).2.2.1 = some (ty0 i)) (hnm : ∀ a, a < N → ∀ b, b < N → a ≠ b → (T a).2.1 ≠ (T b).2.1) (j : Nat) (hj : j < N) (hq : Cond.fieldLink own index own (T j).2.1 (T j).2.2.1 ∈ lw_all) (hT : (T j).1 = own) (hfin : (T j).2.2.2 = false) {ty : FieldType} {v : Value} (hd : parseFieldDescriptor (T j).2.2.1 = some ty) (hn : narrow ty v = v) (hfit : fits ty v = true) (hl : j < fs.length) (hdg : decode cc pc = .ok (.putfield index, 3))
    (K : ∀ (H1 : Heap) (locs1 : List Loc), gk_G D (ws.set 0 (a, .inr (ci, fs.set j v))) A s.heap H1 locs1 → W p l e R s m args below meth c H1 locs1 cells slots Q (F0 m (pc + 3) ls rest)) : W p l e R s m args below meth c H locs cells slots Q (F0 m pc ls (v :: .ref a :: rest)) :=
  va_put C.1.1 C.1.2.1 C.1.2.2.2.2 hin ty0 hty hnm C.1.2.2.2.1 C.2.1 G.1 G.2.1 G.2.2 0 he hc j hj (C.1.2.2.2.2 _ hq) (fun x h => by rw [hT] at h; exact h) hfin hd hn hfit hl hdg (fun H1 locs1 h1 h2 h3 => K H1 locs1 ⟨h1, h2, h3⟩)
theorem gk_lb (C : gk_C D tys own cc nL f k A p R s m args c) (G : gk_G D ws A s.heap H locs) {a N : Nat} {cA : ClassId} {F : Nat → Int32} (q0 t0 : Nat) (ha : ws[q0]? = some (a, .inl (cA, N, .inl F))) (ht : tys[t0]? = some (cA, .byte)) (hN : N < 2 ^ 31) {i x : Int32} {n : Nat} (hi : i = nI n) (hn : n < N) (hv : F n = x) (hdg : decode cc pc = .ok (.baload, 1))
    (K : W p l e R s m args below meth c H locs cells slots Q (F0 m (pc + 1) ls (.int x :: rest))) : W p l e R s m args below meth c H locs cells slots Q (F0 m pc ls (.int i :: .ref a :: rest)) := by
  subst hi
  refine va_bald C.1.1 C.1.2.1 C.2.1 G.1 q0 t0 ha ht (vp_in_nI hn hN) hdg ?_
  rw [nI_clamp (Nat.lt_trans hn hN), hv]
  exact K
theorem gk_lz (C : gk_C D tys own cc nL f k A p R s m args c) (G : gk_G D ws A s.heap H locs) {a N : Nat} {cA : ClassId} {F : Nat → Int32} (q0 t0 : Nat) (ha : ws[q0]? = some (a, .inl (cA, N, .inl F))) (ht : tys[t0]? = some (cA, .boolean)) (hN : N < 2 ^ 31) {i x : Int32} {n : Nat} (hi : i = nI n) (hn : n < N) (hv : F n = x) (hdg : decode cc pc = .ok (.baload, 1))
    (K : W p l e R s m args below meth c H locs cells slots Q (F0 m (pc + 1) ls (.int x :: rest))) : W p l e R s m args below meth c H locs cells slots Q (F0 m pc ls (.int i :: .ref a :: rest)) := by
  subst hi
  refine va_zald C.1.1 C.1.2.1 C.2.1 G.1 q0 t0 ha ht (vp_in_nI hn hN) hdg ?_
  rw [nI_clamp (Nat.lt_trans hn hN), hv]
  exact K
theorem gk_li (C : gk_C D tys own cc nL f k A p R s m args c) (G : gk_G D ws A s.heap H locs) {a N : Nat} {cA : ClassId} {F : Nat → Int32} (q0 t0 : Nat) (ha : ws[q0]? = some (a, .inl (cA, N, .inl F))) (ht : tys[t0]? = some (cA, .int)) (hN : N < 2 ^ 31) {i x : Int32} {n : Nat} (hi : i = nI n) (hn : n < N) (hv : F n = x) (hdg : decode cc pc = .ok (.iaload, 1))
    (K : W p l e R s m args below meth c H locs cells slots Q (F0 m (pc + 1) ls (.int x :: rest))) : W p l e R s m args below meth c H locs cells slots Q (F0 m pc ls (.int i :: .ref a :: rest)) := by
  subst hi
  refine va_iald C.1.1 C.1.2.1 C.2.1 G.1 q0 t0 ha ht (vp_in_nI hn hN) hdg ?_
  rw [nI_clamp (Nat.lt_trans hn hN), hv]
  exact K
theorem gk_sb (C : gk_C D tys own cc nL f k A p R s m args c) (G : gk_G D ws A s.heap H locs) {a N : Nat} {cA : ClassId} {F : Nat → Int32} (q0 t0 : Nat) (ha : ws[q0]? = some (a, .inl (cA, N, .inl F))) (ht : tys[t0]? = some (cA, .byte)) (hN : N < 2 ^ 31) {i x y : Int32} {n : Nat} (hi : i = nI n) (hn : n < N) (hx : vp_nar .byte y = x) (hdg : decode cc pc = .ok (.bastore, 1))
    (K : ∀ (H1 : Heap) (locs1 : List Loc), gk_G D (ws.set q0 (a, .inl (cA, N, .inl (upd F n x)))) A s.heap H1 locs1 → W p l e R s m args below meth c H1 locs1 cells slots Q (F0 m (pc + 1) ls rest)) : W p l e R s m args below meth c H locs cells slots Q (F0 m pc ls (.int y :: .int i :: .ref a :: rest)) := by
  subst hi
  subst hx
  refine va_bast C.1.1 C.1.2.1 C.2.1 G.1 G.2.1 G.2.2 q0 t0 ha ht (vp_in_nI hn hN) hdg (fun H1 locs1 h1 h2 h3 => K H1 locs1 ?_)
  rw [nI_clamp (Nat.lt_trans hn hN)] at h1 h2
  exact ⟨h1, h2, h3⟩
theorem gk_sz (C : gk_C D tys own cc nL f k A p R s m args c) (G : gk_G D ws A s.heap H locs) {a N : Nat} {cA : ClassId} {F : Nat → Int32} (q0 t0 : Nat) (ha : ws[q0]? = some (a, .inl (cA, N, .inl F))) (ht : tys[t0]? = some (cA, .boolean)) (hN : N < 2 ^ 31) {i x y : Int32} {n : Nat} (hi : i = nI n) (hn : n < N) (hx : vp_nar .boolean y = x) (hdg : decode cc pc = .ok (.bastore, 1))
    (K : ∀ (H1 : Heap) (locs1 : List Loc), gk_G D (ws.set q0 (a, .inl (cA, N, .inl (upd F n x)))) A s.heap H1 locs1 → W p l e R s m args below meth c H1 locs1 cells slots Q (F0 m (pc + 1) ls rest)) : W p l e R s m args below meth c H locs cells slots Q (F0 m pc ls (.int y :: .int i :: .ref a :: rest)) := by
  subst hi
  subst hx
  refine va_zast C.1.1 C.1.2.1 C.2.1 G.1 G.2.1 G.2.2 q0 t0 ha ht (vp_in_nI hn hN) hdg (fun H1 locs1 h1 h2 h3 => K H1 locs1 ?_)
  rw [nI_clamp (Nat.lt_trans hn hN)] at h1 h2
  exact ⟨h1, h2, h3⟩
theorem gk_si (C : gk_C D tys own cc nL f k A p R s m args c) (G : gk_G D ws A s.heap H locs) {a N : Nat} {cA : ClassId} {F : Nat → Int32} (q0 t0 : Nat) (ha : ws[q0]? = some (a, .inl (cA, N, .inl F))) (ht : tys[t0]? = some (cA, .int)) (hN : N < 2 ^ 31) {i x y : Int32} {n : Nat} (hi : i = nI n) (hn : n < N) (hx : y = x) (hdg : decode cc pc = .ok (.iastore, 1))
    (K : ∀ (H1 : Heap) (locs1 : List Loc), gk_G D (ws.set q0 (a, .inl (cA, N, .inl (upd F n x)))) A s.heap H1 locs1 → W p l e R s m args below meth c H1 locs1 cells slots Q (F0 m (pc + 1) ls rest)) : W p l e R s m args below meth c H locs cells slots Q (F0 m pc ls (.int y :: .int i :: .ref a :: rest)) := by
  subst hi
  subst hx
  refine va_iast C.1.1 C.1.2.1 C.2.1 G.1 G.2.1 G.2.2 q0 t0 ha ht (vp_in_nI hn hN) hdg (fun H1 locs1 h1 h2 h3 => K H1 locs1 ?_)
  rw [nI_clamp (Nat.lt_trans hn hN)] at h1 h2
  exact ⟨h1, h2, h3⟩
end GK
/-- a method's start: an answer that is an int or a boolean -/
theorem gk_oi {l : Launch} {D : va_G} {tys : List (ClassId × FieldType)} {wf : gS → va_W} {y : MethodName} {cc : ByteArray} {nL : Nat} {ty : FieldType} {f k : Nat} {vals : List Value} {u : gS} {post : Int32 → gS → Prop} {own : String} (hy : plainName y.cls = true) (ho : y.cls = own) (hlen : (lg_sl vals).length ≤ nL) (hty : ∀ r u', post r u' → narrow ty (.int r) = .int r)
    (K : ∀ (p : Program) (e : Env) (R : Room) (s : State) (m : MethodId) (args : Array Value) (below : List Frame) (meth : Method) (c : Code) (Q : State → Prop) (A : Nat → Prop) (ls : Array Slot),
      gk_C D tys own cc nL f k A p R s m args c → gk_G D (wf u) A s.heap s.heap [] →
      (∀ (r : Int32) (u' : gS) (H : Heap) (locs : List Loc) (pc : Nat) (ls : Array Slot), gk_G D (wf u') A s.heap H locs → post r u' → decode cc pc = .ok (.ireturn, 1) → W p l e R s m args below meth c H locs 0 0 Q (F0 m pc ls [.int r])) →
      lv_has ls nL (lv_args 0 vals) → W p l e R s m args below meth c s.heap [] 0 0 Q (F0 m 0 ls [])) : gk_Mi l D tys wf y cc nL ty f k vals u post := by
  intro sz
  refine Met.ofW (cc := cc) (maxL := nL) (ret := some ty) hy rfl ?_
  intro p e s m args below meth c s₁ B hml hv
  obtain ⟨rfl, hsz, hP, hK, hD0⟩ := hv
  have hx := B.exec
  have hb := B.bytes
  have hr := B.returns
  have hts := atoms_spec (ws := ws_ y cc nL (some ty)) B.pre
  have hts : ∀ w ∈ lw_all, w.before _ s = true := fun w h => hts w (List.mem_cons_of_mem _ h)
  have hown : s.vm.findClass own = some m.cls := by
    rw [← ho]
    exact findClass_of_methodNamed B.named
  have hlocks := B.notSynchronized
  subst hsz
  have hD := hD0.self (sz := s.heap.size)
  rw [lg_entry_eq]
  refine K p e _ s m _ below meth c _ (va_A (wf u) s.heap.size) _ ⟨⟨hx, hb, hml, hown, hts⟩, hK, fun q h => Or.inr h, Nat.le_refl _, Nat.le_refl _⟩ ⟨hP, hD, va_S.rf⟩ ?_ (lv_entry vals hlen)
  intro r u' H locs pc ls G hp hd
  exact W.zret hx hb hr (hty r u' hp) (fun t ht hW => ⟨⟨r, u', rfl, hp, by rw [ht]; exact G.1, va_K.moved hW.alike hK, G.2.1⟩, G.2.2.F ht⟩) G.2.2.2.2 hd
/-- a method's start: no answer -/
theorem gk_ov {l : Launch} {D : va_G} {tys : List (ClassId × FieldType)} {wf : gS → va_W} {y : MethodName} {cc : ByteArray} {nL : Nat} {f k : Nat} {vals : List Value} {u : gS} {post : gS → Prop} {own : String} (hy : plainName y.cls = true) (ho : y.cls = own) (hlen : (lg_sl vals).length ≤ nL)
    (K : ∀ (p : Program) (e : Env) (R : Room) (s : State) (m : MethodId) (args : Array Value) (below : List Frame) (meth : Method) (c : Code) (Q : State → Prop) (A : Nat → Prop) (ls : Array Slot),
      gk_C D tys own cc nL f k A p R s m args c → gk_G D (wf u) A s.heap s.heap [] →
      (∀ (u' : gS) (H : Heap) (locs : List Loc) (pc : Nat) (ls : Array Slot), gk_G D (wf u') A s.heap H locs → post u' → decode cc pc = .ok (.return_, 1) → W p l e R s m args below meth c H locs 0 0 Q (F0 m pc ls [])) →
      lv_has ls nL (lv_args 0 vals) → W p l e R s m args below meth c s.heap [] 0 0 Q (F0 m 0 ls [])) : gk_Mv l D tys wf y cc nL f k vals u post := by
  intro sz
  refine Met.ofW (cc := cc) (maxL := nL) (ret := none) hy rfl ?_
  intro p e s m args below meth c s₁ B hml hv
  obtain ⟨rfl, hsz, hP, hK, hD0⟩ := hv
  have hx := B.exec
  have hb := B.bytes
  have hr := B.returns
  have hts := atoms_spec (ws := ws_ y cc nL none) B.pre
  have hts : ∀ w ∈ lw_all, w.before _ s = true := fun w h => hts w (List.mem_cons_of_mem _ h)
  have hown : s.vm.findClass own = some m.cls := by
    rw [← ho]
    exact findClass_of_methodNamed B.named
  have hlocks := B.notSynchronized
  subst hsz
  have hD := hD0.self (sz := s.heap.size)
  rw [lg_entry_eq]
  refine K p e _ s m _ below meth c _ (va_A (wf u) s.heap.size) _ ⟨⟨hx, hb, hml, hown, hts⟩, hK, fun q h => Or.inr h, Nat.le_refl _, Nat.le_refl _⟩ ⟨hP, hD, va_S.rf⟩ ?_ (lv_entry vals hlen)
  intro u' H locs pc ls G hp hd
  exact W.vret hx hb hr (fun t ht hW => ⟨⟨u', rfl, hp, by rw [ht]; exact G.1, va_K.moved hW.alike hK, G.2.1⟩, G.2.2.F ht⟩) G.2.2.2.2 hd
section GC
variable {p : Program} {l : Launch} {e : Env} {R : Room} {s : State} {m : MethodId} {args : Array Value} {below : List Frame} {meth : Method} {c : Code} {H : Heap} {locs : List Loc} {Q : State → Prop}
variable {cc : ByteArray} {pc : Nat} {ls : Array Slot} {rest st0 : List Value} {D : va_G} {A : Nat → Prop} {tys : List (ClassId × FieldType)} {wf : gS → va_W} {own : String} {nL f k : Nat} {u : gS}
theorem gk_blind {D : va_G} {tys : List (ClassId × FieldType)} {ws : va_W} {sz : Nat} {vals : List Value} : FrameBlind (gk_Pc D tys ws sz vals) := by
  intro a U g mk q
  obtain ⟨q0, q1, qP, qK, qD⟩ := q
  exact ⟨q0, q1, qP, va_K.moved (u := U) (U := U.calling g mk a) (Vm.Alike.refl U.vm) qK, qD⟩
/-- a call of a method of the same object: an answer that is an int or a boolean -/
theorem gk_ci {y : MethodName} {bytes : ByteArray} {maxL f' k' n index b ci N : Nat} {ty : FieldType} {T : u_T} {fs As : List Value} {post : Int32 → gS → Prop} (C : gk_C D tys own cc nL f k A p R s m args c) (G : gk_G D (wf u) A s.heap H locs)
    (hM : gk_Mi l D tys wf y bytes maxL ty f' k' (.ref b :: As) u post) (hq : GoodIn lw_all (wsV own index own y (ws_ y bytes maxL (some ty))))
    (hd : y.cls = own ∧ y.cls ≠ "java/lang/invoke/MethodHandle" ∧ y.cls ≠ "java/lang/invoke/VarHandle" ∧ (parseMethodDescriptor y.desc).map (fun d => d.parameters.length) = some n) (hn : As.length = n)
    (hR : f' + 1 ≤ f ∧ 8 + (maxL + 11) + k' ≤ k) (hc : vwCl[ci]? = some (own, T, N)) (he : (wf u)[0]? = some (b, .inr (ci, fs)))
    (hst : st0 = As.reverse ++ .ref b :: rest) (hW : (rest.map fun v => v.category).sum ≤ 8) (hl : ls.size = nL) (hdg : decode cc pc = .ok (.invokevirtual index, 3))
    (K : ∀ (r : Int32) (u' : gS) (H1 : Heap) (locs1 : List Loc), post r u' → gk_G D (wf u') A s.heap H1 locs1 → W p l e R s m args below meth c H1 locs1 0 0 Q (F0 m (pc + 3) ls (.int r :: rest))) : W p l e R s m args below meth c H locs 0 0 Q (F0 m pc ls st0) := by
  have hF := gk_free C G
  obtain ⟨S, hK, hA, hf, hk⟩ := C
  obtain ⟨hP, hD, hS⟩ := G
  refine va_calli (va_runV (As := As) (rest := rest) S (hM H.size) (cwV n S.2.2.2.2 hq rfl rfl rfl hd ⟨Nat.le_trans hR.1 hf, Nat.le_trans hR.2 hk⟩) ⟨gk_blind, va_recv hK hP hc he, fun U hU hW => ⟨rfl, by rw [hU], by rw [hU]; exact hP, va_K.moved hW.alike hK, hD.weaken (fun _ _ _ _ => trivial)⟩⟩ rfl hn hl hst (lv_room hW) hdg ⟨Nat.zero_le _, Nat.zero_le _⟩) hS (fun q _ h => hF q h) hF (fun r u' t H1 locs1 ht hvm hp hB hz1 hk1 hS1 => ?_)
  obtain ⟨hP1, hK1, hD1⟩ := hB
  rw [ht] at hP1
  exact K r u' H1 locs1 hp ⟨hP1, hD1.weaken (fun _ _ _ h => hF _ h), hS1⟩
/-- the same: no answer -/
theorem gk_cv {y : MethodName} {bytes : ByteArray} {maxL f' k' n index b ci N : Nat} {T : u_T} {fs As : List Value} {post : gS → Prop} (C : gk_C D tys own cc nL f k A p R s m args c) (G : gk_G D (wf u) A s.heap H locs)
    (hM : gk_Mv l D tys wf y bytes maxL f' k' (.ref b :: As) u post) (hq : GoodIn lw_all (wsV own index own y (ws_ y bytes maxL none)))
    (hd : y.cls = own ∧ y.cls ≠ "java/lang/invoke/MethodHandle" ∧ y.cls ≠ "java/lang/invoke/VarHandle" ∧ (parseMethodDescriptor y.desc).map (fun d => d.parameters.length) = some n) (hn : As.length = n)
    (hR : f' + 1 ≤ f ∧ 8 + (maxL + 11) + k' ≤ k) (hc : vwCl[ci]? = some (own, T, N)) (he : (wf u)[0]? = some (b, .inr (ci, fs)))
    (hst : st0 = As.reverse ++ .ref b :: rest) (hW : (rest.map fun v => v.category).sum ≤ 8) (hl : ls.size = nL) (hdg : decode cc pc = .ok (.invokevirtual index, 3))
    (K : ∀ (u' : gS) (H1 : Heap) (locs1 : List Loc), post u' → gk_G D (wf u') A s.heap H1 locs1 → W p l e R s m args below meth c H1 locs1 0 0 Q (F0 m (pc + 3) ls rest)) : W p l e R s m args below meth c H locs 0 0 Q (F0 m pc ls st0) := by
  have hF := gk_free C G
  obtain ⟨S, hK, hA, hf, hk⟩ := C
  obtain ⟨hP, hD, hS⟩ := G
  refine va_callv (va_runV (As := As) (rest := rest) S (hM H.size) (cwV n S.2.2.2.2 hq rfl rfl rfl hd ⟨Nat.le_trans hR.1 hf, Nat.le_trans hR.2 hk⟩) ⟨gk_blind, va_recv hK hP hc he, fun U hU hW => ⟨rfl, by rw [hU], by rw [hU]; exact hP, va_K.moved hW.alike hK, hD.weaken (fun _ _ _ _ => trivial)⟩⟩ rfl hn hl hst (lv_room hW) hdg ⟨Nat.zero_le _, Nat.zero_le _⟩) hS (fun q _ h => hF q h) hF (fun u' t H1 locs1 ht hvm hp hB hz1 hk1 hS1 => ?_)
  obtain ⟨hP1, hK1, hD1⟩ := hB
  rw [ht] at hP1
  exact K u' H1 locs1 hp ⟨hP1, hD1.weaken (fun _ _ _ h => hF _ h), hS1⟩
/-- a call of a static method that touches no cell -/
theorem gk_cs {y : MethodName} {bytes : ByteArray} {maxL f' k' n index : Nat} {ty : FieldType} {As : List Value} {post : Int32 → gS → Prop} {u0 : gS} {ws : va_W} (C : gk_C D tys own cc nL f k A p R s m args c) (G : gk_G D ws A s.heap H locs)
    (hM : gk_Mi l D [] (fun _ => []) y bytes maxL ty f' k' As u0 post) (hq : GoodIn lw_all (va_wsS own index y (ws_ y bytes maxL (some ty))))
    (hd : y.cls ≠ "java/lang/invoke/MethodHandle" ∧ y.cls ≠ "java/lang/invoke/VarHandle" ∧ (parseMethodDescriptor y.desc).map (fun d => d.parameters.length) = some n) (hn : As.length = n)
    (hR : f' + 1 ≤ f ∧ 8 + (maxL + 11) + k' ≤ k)
    (hst : st0 = As.reverse ++ rest) (hW : (rest.map fun v => v.category).sum ≤ 8) (hl : ls.size = nL) (hdg : decode cc pc = .ok (.invokestatic index, 3))
    (K : ∀ (r : Int32) (u' : gS) (H1 : Heap) (locs1 : List Loc), post r u' → gk_G D ws A s.heap H1 locs1 → W p l e R s m args below meth c H1 locs1 0 0 Q (F0 m (pc + 3) ls (.int r :: rest))) : W p l e R s m args below meth c H locs 0 0 Q (F0 m pc ls st0) := by
  obtain ⟨S, hK, hA, hf, hk⟩ := C
  obtain ⟨hP, hD, hS⟩ := G
  have hF : ∀ q, va_A ([] : va_W) H.size q → A q := by
    intro q hq
    rcases hq with ⟨i, x, hx⟩ | hq
    · simp at hx
    · exact hA q (Nat.le_trans hS.1 hq)
  have hK0 := hK.sub (tys' := []) [] rfl
  have hP0 : va_P D vwCl [] H := fun i q h => by simp at h
  have hD0 : va_D (fun _ => True) ([] : va_W) := ⟨fun i j p q h => by simp at h, fun i q h => by simp at h⟩
  refine va_calli (va_runS (As := As) (rest := rest) S (hM H.size) (va_cwS n S.2.2.2.2 hq rfl rfl rfl hd ⟨Nat.le_trans hR.1 hf, Nat.le_trans hR.2 hk⟩) ⟨gk_blind, fun U hU hW => ⟨rfl, by rw [hU], by rw [hU]; exact hP0, va_K.moved hW.alike hK0, hD0⟩⟩ rfl hn hl hst (lv_room hW) hdg ⟨Nat.zero_le _, Nat.zero_le _⟩) hS (fun q _ h => hF q h) hF (fun r u' t H1 locs1 ht hvm hp hB hz1 hk1 hS1 => ?_)
  refine K r u' H1 locs1 hp ⟨hP.kept (fun i q h => hk1 q.1 ((hP i q h).lt) ?_), hD, hS1⟩
  rintro (⟨j, x, hx⟩ | hq)
  · simp at hx
  · exact absurd ((hP i q h).lt) (Nat.not_lt.mpr hq)
end GC
end
section
/-! field, array and call rows of the two classes, by program (gen/rows.py) -/
def eh_f (h : Nat → Nat) (u : gS) : List Value := [.int (u.1 0), .int (u.1 1), .ref (h 2), .int (u.1 3), .int (u.1 4), .ref (h 5), .ref (h 6), .ref (h 7), .ref (h 8), .ref (h 9), .int (u.1 10), .int (u.1 11), .ref (h 12), .ref (h 13), .int (u.1 14)]
def eh_w (h : Nat → Nat) (d : Nat → ClassId) (u : gS) : va_W := [(h 100, .inr (0, eh_f h u)), (h 2, .inl (d 2, 20, .inl (u.2 2))), (h 5, .inl (d 5, 40, .inl (u.2 5))), (h 6, .inl (d 6, 40, .inl (u.2 6))), (h 7, .inl (d 7, 40, .inl (u.2 7))), (h 8, .inl (d 8, 40, .inl (u.2 8))), (h 9, .inl (d 9, 40, .inl (u.2 9))), (h 12, .inl (d 12, 4, .inl (u.2 12))), (h 13, .inl (d 13, 20, .inl (u.2 13)))]
def eh_t (d : Nat → ClassId) : List (ClassId × FieldType) := [(d 2, .byte), (d 5, .byte), (d 6, .byte), (d 7, .byte), (d 8, .byte), (d 9, .byte), (d 12, .byte), (d 13, .byte)]
section EH_ROWS
variable {p : Program} {l : Launch} {e : Env} {R : Room} {s : State} {m : MethodId} {args : Array Value} {below : List Frame} {meth : Method} {c : Code} {H : Heap} {locs : List Loc} {cells slots : Nat} {Q : State → Prop}
variable {cc : ByteArray} {pc : Nat} {ls : Array Slot} {rest st0 : List Value} {D : va_G} {A : Nat → Prop} {nL f k : Nat} {u : gS} {h : Nat → Nat} {d : Nat → ClassId}
/-- present -/
theorem eh_g0 (C : gk_C D (eh_t d) RX0 cc nL f k A p R s m args c) (G : gk_G D (eh_w h d u) A s.heap H locs) {x : Int32} (hv : u.1 0 = x) (hdg : decode cc pc = .ok (.getfield 34, 3)) (K : W p l e R s m args below meth c H locs cells slots Q (F0 m (pc + 3) ls (.int x :: rest))) : W p l e R s m args below meth c H locs cells slots Q (F0 m pc ls (.ref (h 100) :: rest)) := gk_get C G (ci := 0) (fs := eh_f h u) rfl rfl in_X0 0 (by decide) q26 rfl (by rw [← hv]; rfl) hdg K
theorem eh_p0 (C : gk_C D (eh_t d) RX0 cc nL f k A p R s m args c) (G : gk_G D (eh_w h d u) A s.heap H locs) {x : Int32} (hdg : decode cc pc = .ok (.putfield 34, 3)) (K : ∀ (H1 : Heap) (locs1 : List Loc), gk_G D (eh_w h d (gI u 0 x)) A s.heap H1 locs1 → W p l e R s m args below meth c H1 locs1 cells slots Q (F0 m (pc + 3) ls rest)) : W p l e R s m args below meth c H locs cells slots Q (F0 m pc ls (.int x :: .ref (h 100) :: rest)) := gk_put C G (ci := 0) (fs := eh_f h u) rfl rfl in_X0 tyX0 tyX0_ok nmX0 0 (by decide) q26 rfl rfl (ty := .int) (by decide +kernel) rfl rfl (Nat.le_of_ble_eq_true rfl) hdg (fun H1 locs1 g => K H1 locs1 g)
/-- watchedSet -/
theorem eh_g1 (C : gk_C D (eh_t d) RX0 cc nL f k A p R s m args c) (G : gk_G D (eh_w h d u) A s.heap H locs) {x : Int32} (hv : u.1 1 = x) (hdg : decode cc pc = .ok (.getfield 51, 3)) (K : W p l e R s m args below meth c H locs cells slots Q (F0 m (pc + 3) ls (.int x :: rest))) : W p l e R s m args below meth c H locs cells slots Q (F0 m pc ls (.ref (h 100) :: rest)) := gk_get C G (ci := 0) (fs := eh_f h u) rfl rfl in_X0 1 (by decide) q27 rfl (by rw [← hv]; rfl) hdg K
theorem eh_p1 (C : gk_C D (eh_t d) RX0 cc nL f k A p R s m args c) (G : gk_G D (eh_w h d u) A s.heap H locs) {x : Int32} (hdg : decode cc pc = .ok (.putfield 51, 3)) (K : ∀ (H1 : Heap) (locs1 : List Loc), gk_G D (eh_w h d (gI u 1 x)) A s.heap H1 locs1 → W p l e R s m args below meth c H1 locs1 cells slots Q (F0 m (pc + 3) ls rest)) : W p l e R s m args below meth c H locs cells slots Q (F0 m pc ls (.int x :: .ref (h 100) :: rest)) := gk_put C G (ci := 0) (fs := eh_f h u) rfl rfl in_X0 tyX0 tyX0_ok nmX0 1 (by decide) q27 rfl rfl (ty := .int) (by decide +kernel) rfl rfl (Nat.le_of_ble_eq_true rfl) hdg (fun H1 locs1 g => K H1 locs1 g)
/-- placeOf -/
theorem eh_g2 (C : gk_C D (eh_t d) RX0 cc nL f k A p R s m args c) (G : gk_G D (eh_w h d u) A s.heap H locs) (hdg : decode cc pc = .ok (.getfield 7, 3)) (K : W p l e R s m args below meth c H locs cells slots Q (F0 m (pc + 3) ls (.ref (h 2) :: rest))) : W p l e R s m args below meth c H locs cells slots Q (F0 m pc ls (.ref (h 100) :: rest)) := gk_get C G (ci := 0) (fs := eh_f h u) rfl rfl in_X0 2 (by decide) q28 rfl rfl hdg K
theorem eh_l2 (C : gk_C D (eh_t d) RX0 cc nL f k A p R s m args c) (G : gk_G D (eh_w h d u) A s.heap H locs) {i x : Int32} {n : Nat} (hi : i = nI n) (hn : n < 20) (hv : u.2 2 n = x) (hdg : decode cc pc = .ok (.baload, 1)) (K : W p l e R s m args below meth c H locs cells slots Q (F0 m (pc + 1) ls (.int x :: rest))) : W p l e R s m args below meth c H locs cells slots Q (F0 m pc ls (.int i :: .ref (h 2) :: rest)) := gk_lb C G (F := u.2 2) 1 0 rfl rfl (by decide) hi hn hv hdg K
theorem eh_s2 (C : gk_C D (eh_t d) RX0 cc nL f k A p R s m args c) (G : gk_G D (eh_w h d u) A s.heap H locs) {i x y : Int32} {n : Nat} (hi : i = nI n) (hn : n < 20) (hx : vp_nar .byte y = x) (hdg : decode cc pc = .ok (.bastore, 1)) (K : ∀ (H1 : Heap) (locs1 : List Loc), gk_G D (eh_w h d (gA u 2 n x)) A s.heap H1 locs1 → W p l e R s m args below meth c H1 locs1 cells slots Q (F0 m (pc + 1) ls rest)) : W p l e R s m args below meth c H locs cells slots Q (F0 m pc ls (.int y :: .int i :: .ref (h 2) :: rest)) := gk_sb C G (F := u.2 2) 1 0 rfl rfl (by decide) hi hn hx hdg (fun H1 locs1 g => K H1 locs1 g)
/-- space -/
theorem eh_g3 (C : gk_C D (eh_t d) RX0 cc nL f k A p R s m args c) (G : gk_G D (eh_w h d u) A s.heap H locs) {x : Int32} (hv : u.1 3 = x) (hdg : decode cc pc = .ok (.getfield 45, 3)) (K : W p l e R s m args below meth c H locs cells slots Q (F0 m (pc + 3) ls (.int x :: rest))) : W p l e R s m args below meth c H locs cells slots Q (F0 m pc ls (.ref (h 100) :: rest)) := gk_get C G (ci := 0) (fs := eh_f h u) rfl rfl in_X0 3 (by decide) q29 rfl (by rw [← hv]; rfl) hdg K
theorem eh_p3 (C : gk_C D (eh_t d) RX0 cc nL f k A p R s m args c) (G : gk_G D (eh_w h d u) A s.heap H locs) {x : Int32} (hdg : decode cc pc = .ok (.putfield 45, 3)) (K : ∀ (H1 : Heap) (locs1 : List Loc), gk_G D (eh_w h d (gI u 3 x)) A s.heap H1 locs1 → W p l e R s m args below meth c H1 locs1 cells slots Q (F0 m (pc + 3) ls rest)) : W p l e R s m args below meth c H locs cells slots Q (F0 m pc ls (.int x :: .ref (h 100) :: rest)) := gk_put C G (ci := 0) (fs := eh_f h u) rfl rfl in_X0 tyX0 tyX0_ok nmX0 3 (by decide) q29 rfl rfl (ty := .int) (by decide +kernel) rfl rfl (Nat.le_of_ble_eq_true rfl) hdg (fun H1 locs1 g => K H1 locs1 g)
/-- used -/
theorem eh_g4 (C : gk_C D (eh_t d) RX0 cc nL f k A p R s m args c) (G : gk_G D (eh_w h d u) A s.heap H locs) {x : Int32} (hv : u.1 4 = x) (hdg : decode cc pc = .ok (.getfield 48, 3)) (K : W p l e R s m args below meth c H locs cells slots Q (F0 m (pc + 3) ls (.int x :: rest))) : W p l e R s m args below meth c H locs cells slots Q (F0 m pc ls (.ref (h 100) :: rest)) := gk_get C G (ci := 0) (fs := eh_f h u) rfl rfl in_X0 4 (by decide) q30 rfl (by rw [← hv]; rfl) hdg K
theorem eh_p4 (C : gk_C D (eh_t d) RX0 cc nL f k A p R s m args c) (G : gk_G D (eh_w h d u) A s.heap H locs) {x : Int32} (hdg : decode cc pc = .ok (.putfield 48, 3)) (K : ∀ (H1 : Heap) (locs1 : List Loc), gk_G D (eh_w h d (gI u 4 x)) A s.heap H1 locs1 → W p l e R s m args below meth c H1 locs1 cells slots Q (F0 m (pc + 3) ls rest)) : W p l e R s m args below meth c H locs cells slots Q (F0 m pc ls (.int x :: .ref (h 100) :: rest)) := gk_put C G (ci := 0) (fs := eh_f h u) rfl rfl in_X0 tyX0 tyX0_ok nmX0 4 (by decide) q30 rfl rfl (ty := .int) (by decide +kernel) rfl rfl (Nat.le_of_ble_eq_true rfl) hdg (fun H1 locs1 g => K H1 locs1 g)
/-- numbers -/
theorem eh_g5 (C : gk_C D (eh_t d) RX0 cc nL f k A p R s m args c) (G : gk_G D (eh_w h d u) A s.heap H locs) (hdg : decode cc pc = .ok (.getfield 13, 3)) (K : W p l e R s m args below meth c H locs cells slots Q (F0 m (pc + 3) ls (.ref (h 5) :: rest))) : W p l e R s m args below meth c H locs cells slots Q (F0 m pc ls (.ref (h 100) :: rest)) := gk_get C G (ci := 0) (fs := eh_f h u) rfl rfl in_X0 5 (by decide) q31 rfl rfl hdg K
theorem eh_l5 (C : gk_C D (eh_t d) RX0 cc nL f k A p R s m args c) (G : gk_G D (eh_w h d u) A s.heap H locs) {i x : Int32} {n : Nat} (hi : i = nI n) (hn : n < 40) (hv : u.2 5 n = x) (hdg : decode cc pc = .ok (.baload, 1)) (K : W p l e R s m args below meth c H locs cells slots Q (F0 m (pc + 1) ls (.int x :: rest))) : W p l e R s m args below meth c H locs cells slots Q (F0 m pc ls (.int i :: .ref (h 5) :: rest)) := gk_lb C G (F := u.2 5) 2 1 rfl rfl (by decide) hi hn hv hdg K
theorem eh_s5 (C : gk_C D (eh_t d) RX0 cc nL f k A p R s m args c) (G : gk_G D (eh_w h d u) A s.heap H locs) {i x y : Int32} {n : Nat} (hi : i = nI n) (hn : n < 40) (hx : vp_nar .byte y = x) (hdg : decode cc pc = .ok (.bastore, 1)) (K : ∀ (H1 : Heap) (locs1 : List Loc), gk_G D (eh_w h d (gA u 5 n x)) A s.heap H1 locs1 → W p l e R s m args below meth c H1 locs1 cells slots Q (F0 m (pc + 1) ls rest)) : W p l e R s m args below meth c H locs cells slots Q (F0 m pc ls (.int y :: .int i :: .ref (h 5) :: rest)) := gk_sb C G (F := u.2 5) 2 1 rfl rfl (by decide) hi hn hx hdg (fun H1 locs1 g => K H1 locs1 g)
/-- kinds -/
theorem eh_g6 (C : gk_C D (eh_t d) RX0 cc nL f k A p R s m args c) (G : gk_G D (eh_w h d u) A s.heap H locs) (hdg : decode cc pc = .ok (.getfield 16, 3)) (K : W p l e R s m args below meth c H locs cells slots Q (F0 m (pc + 3) ls (.ref (h 6) :: rest))) : W p l e R s m args below meth c H locs cells slots Q (F0 m pc ls (.ref (h 100) :: rest)) := gk_get C G (ci := 0) (fs := eh_f h u) rfl rfl in_X0 6 (by decide) q32 rfl rfl hdg K
theorem eh_l6 (C : gk_C D (eh_t d) RX0 cc nL f k A p R s m args c) (G : gk_G D (eh_w h d u) A s.heap H locs) {i x : Int32} {n : Nat} (hi : i = nI n) (hn : n < 40) (hv : u.2 6 n = x) (hdg : decode cc pc = .ok (.baload, 1)) (K : W p l e R s m args below meth c H locs cells slots Q (F0 m (pc + 1) ls (.int x :: rest))) : W p l e R s m args below meth c H locs cells slots Q (F0 m pc ls (.int i :: .ref (h 6) :: rest)) := gk_lb C G (F := u.2 6) 3 2 rfl rfl (by decide) hi hn hv hdg K
theorem eh_s6 (C : gk_C D (eh_t d) RX0 cc nL f k A p R s m args c) (G : gk_G D (eh_w h d u) A s.heap H locs) {i x y : Int32} {n : Nat} (hi : i = nI n) (hn : n < 40) (hx : vp_nar .byte y = x) (hdg : decode cc pc = .ok (.bastore, 1)) (K : ∀ (H1 : Heap) (locs1 : List Loc), gk_G D (eh_w h d (gA u 6 n x)) A s.heap H1 locs1 → W p l e R s m args below meth c H1 locs1 cells slots Q (F0 m (pc + 1) ls rest)) : W p l e R s m args below meth c H locs cells slots Q (F0 m pc ls (.int y :: .int i :: .ref (h 6) :: rest)) := gk_sb C G (F := u.2 6) 3 2 rfl rfl (by decide) hi hn hx hdg (fun H1 locs1 g => K H1 locs1 g)
/-- fieldA -/
theorem eh_g7 (C : gk_C D (eh_t d) RX0 cc nL f k A p R s m args c) (G : gk_G D (eh_w h d u) A s.heap H locs) (hdg : decode cc pc = .ok (.getfield 19, 3)) (K : W p l e R s m args below meth c H locs cells slots Q (F0 m (pc + 3) ls (.ref (h 7) :: rest))) : W p l e R s m args below meth c H locs cells slots Q (F0 m pc ls (.ref (h 100) :: rest)) := gk_get C G (ci := 0) (fs := eh_f h u) rfl rfl in_X0 7 (by decide) q33 rfl rfl hdg K
theorem eh_l7 (C : gk_C D (eh_t d) RX0 cc nL f k A p R s m args c) (G : gk_G D (eh_w h d u) A s.heap H locs) {i x : Int32} {n : Nat} (hi : i = nI n) (hn : n < 40) (hv : u.2 7 n = x) (hdg : decode cc pc = .ok (.baload, 1)) (K : W p l e R s m args below meth c H locs cells slots Q (F0 m (pc + 1) ls (.int x :: rest))) : W p l e R s m args below meth c H locs cells slots Q (F0 m pc ls (.int i :: .ref (h 7) :: rest)) := gk_lb C G (F := u.2 7) 4 3 rfl rfl (by decide) hi hn hv hdg K
theorem eh_s7 (C : gk_C D (eh_t d) RX0 cc nL f k A p R s m args c) (G : gk_G D (eh_w h d u) A s.heap H locs) {i x y : Int32} {n : Nat} (hi : i = nI n) (hn : n < 40) (hx : vp_nar .byte y = x) (hdg : decode cc pc = .ok (.bastore, 1)) (K : ∀ (H1 : Heap) (locs1 : List Loc), gk_G D (eh_w h d (gA u 7 n x)) A s.heap H1 locs1 → W p l e R s m args below meth c H1 locs1 cells slots Q (F0 m (pc + 1) ls rest)) : W p l e R s m args below meth c H locs cells slots Q (F0 m pc ls (.int y :: .int i :: .ref (h 7) :: rest)) := gk_sb C G (F := u.2 7) 4 3 rfl rfl (by decide) hi hn hx hdg (fun H1 locs1 g => K H1 locs1 g)
/-- fieldB -/
theorem eh_g8 (C : gk_C D (eh_t d) RX0 cc nL f k A p R s m args c) (G : gk_G D (eh_w h d u) A s.heap H locs) (hdg : decode cc pc = .ok (.getfield 22, 3)) (K : W p l e R s m args below meth c H locs cells slots Q (F0 m (pc + 3) ls (.ref (h 8) :: rest))) : W p l e R s m args below meth c H locs cells slots Q (F0 m pc ls (.ref (h 100) :: rest)) := gk_get C G (ci := 0) (fs := eh_f h u) rfl rfl in_X0 8 (by decide) q34 rfl rfl hdg K
theorem eh_l8 (C : gk_C D (eh_t d) RX0 cc nL f k A p R s m args c) (G : gk_G D (eh_w h d u) A s.heap H locs) {i x : Int32} {n : Nat} (hi : i = nI n) (hn : n < 40) (hv : u.2 8 n = x) (hdg : decode cc pc = .ok (.baload, 1)) (K : W p l e R s m args below meth c H locs cells slots Q (F0 m (pc + 1) ls (.int x :: rest))) : W p l e R s m args below meth c H locs cells slots Q (F0 m pc ls (.int i :: .ref (h 8) :: rest)) := gk_lb C G (F := u.2 8) 5 4 rfl rfl (by decide) hi hn hv hdg K
theorem eh_s8 (C : gk_C D (eh_t d) RX0 cc nL f k A p R s m args c) (G : gk_G D (eh_w h d u) A s.heap H locs) {i x y : Int32} {n : Nat} (hi : i = nI n) (hn : n < 40) (hx : vp_nar .byte y = x) (hdg : decode cc pc = .ok (.bastore, 1)) (K : ∀ (H1 : Heap) (locs1 : List Loc), gk_G D (eh_w h d (gA u 8 n x)) A s.heap H1 locs1 → W p l e R s m args below meth c H1 locs1 cells slots Q (F0 m (pc + 1) ls rest)) : W p l e R s m args below meth c H locs cells slots Q (F0 m pc ls (.int y :: .int i :: .ref (h 8) :: rest)) := gk_sb C G (F := u.2 8) 5 4 rfl rfl (by decide) hi hn hx hdg (fun H1 locs1 g => K H1 locs1 g)
/-- newPlace -/
theorem eh_g9 (C : gk_C D (eh_t d) RX0 cc nL f k A p R s m args c) (G : gk_G D (eh_w h d u) A s.heap H locs) (hdg : decode cc pc = .ok (.getfield 25, 3)) (K : W p l e R s m args below meth c H locs cells slots Q (F0 m (pc + 3) ls (.ref (h 9) :: rest))) : W p l e R s m args below meth c H locs cells slots Q (F0 m pc ls (.ref (h 100) :: rest)) := gk_get C G (ci := 0) (fs := eh_f h u) rfl rfl in_X0 9 (by decide) q35 rfl rfl hdg K
theorem eh_l9 (C : gk_C D (eh_t d) RX0 cc nL f k A p R s m args c) (G : gk_G D (eh_w h d u) A s.heap H locs) {i x : Int32} {n : Nat} (hi : i = nI n) (hn : n < 40) (hv : u.2 9 n = x) (hdg : decode cc pc = .ok (.baload, 1)) (K : W p l e R s m args below meth c H locs cells slots Q (F0 m (pc + 1) ls (.int x :: rest))) : W p l e R s m args below meth c H locs cells slots Q (F0 m pc ls (.int i :: .ref (h 9) :: rest)) := gk_lb C G (F := u.2 9) 6 5 rfl rfl (by decide) hi hn hv hdg K
theorem eh_s9 (C : gk_C D (eh_t d) RX0 cc nL f k A p R s m args c) (G : gk_G D (eh_w h d u) A s.heap H locs) {i x y : Int32} {n : Nat} (hi : i = nI n) (hn : n < 40) (hx : vp_nar .byte y = x) (hdg : decode cc pc = .ok (.bastore, 1)) (K : ∀ (H1 : Heap) (locs1 : List Loc), gk_G D (eh_w h d (gA u 9 n x)) A s.heap H1 locs1 → W p l e R s m args below meth c H1 locs1 cells slots Q (F0 m (pc + 1) ls rest)) : W p l e R s m args below meth c H locs cells slots Q (F0 m pc ls (.int y :: .int i :: .ref (h 9) :: rest)) := gk_sb C G (F := u.2 9) 6 5 rfl rfl (by decide) hi hn hx hdg (fun H1 locs1 g => K H1 locs1 g)
/-- copied -/
theorem eh_g10 (C : gk_C D (eh_t d) RX0 cc nL f k A p R s m args c) (G : gk_G D (eh_w h d u) A s.heap H locs) {x : Int32} (hv : u.1 10 = x) (hdg : decode cc pc = .ok (.getfield 58, 3)) (K : W p l e R s m args below meth c H locs cells slots Q (F0 m (pc + 3) ls (.int x :: rest))) : W p l e R s m args below meth c H locs cells slots Q (F0 m pc ls (.ref (h 100) :: rest)) := gk_get C G (ci := 0) (fs := eh_f h u) rfl rfl in_X0 10 (by decide) q36 rfl (by rw [← hv]; rfl) hdg K
theorem eh_p10 (C : gk_C D (eh_t d) RX0 cc nL f k A p R s m args c) (G : gk_G D (eh_w h d u) A s.heap H locs) {x : Int32} (hdg : decode cc pc = .ok (.putfield 58, 3)) (K : ∀ (H1 : Heap) (locs1 : List Loc), gk_G D (eh_w h d (gI u 10 x)) A s.heap H1 locs1 → W p l e R s m args below meth c H1 locs1 cells slots Q (F0 m (pc + 3) ls rest)) : W p l e R s m args below meth c H locs cells slots Q (F0 m pc ls (.int x :: .ref (h 100) :: rest)) := gk_put C G (ci := 0) (fs := eh_f h u) rfl rfl in_X0 tyX0 tyX0_ok nmX0 10 (by decide) q36 rfl rfl (ty := .int) (by decide +kernel) rfl rfl (Nat.le_of_ble_eq_true rfl) hdg (fun H1 locs1 g => K H1 locs1 g)
/-- scanned -/
theorem eh_g11 (C : gk_C D (eh_t d) RX0 cc nL f k A p R s m args c) (G : gk_G D (eh_w h d u) A s.heap H locs) {x : Int32} (hv : u.1 11 = x) (hdg : decode cc pc = .ok (.getfield 61, 3)) (K : W p l e R s m args below meth c H locs cells slots Q (F0 m (pc + 3) ls (.int x :: rest))) : W p l e R s m args below meth c H locs cells slots Q (F0 m pc ls (.ref (h 100) :: rest)) := gk_get C G (ci := 0) (fs := eh_f h u) rfl rfl in_X0 11 (by decide) q37 rfl (by rw [← hv]; rfl) hdg K
theorem eh_p11 (C : gk_C D (eh_t d) RX0 cc nL f k A p R s m args c) (G : gk_G D (eh_w h d u) A s.heap H locs) {x : Int32} (hdg : decode cc pc = .ok (.putfield 61, 3)) (K : ∀ (H1 : Heap) (locs1 : List Loc), gk_G D (eh_w h d (gI u 11 x)) A s.heap H1 locs1 → W p l e R s m args below meth c H1 locs1 cells slots Q (F0 m (pc + 3) ls rest)) : W p l e R s m args below meth c H locs cells slots Q (F0 m pc ls (.int x :: .ref (h 100) :: rest)) := gk_put C G (ci := 0) (fs := eh_f h u) rfl rfl in_X0 tyX0 tyX0_ok nmX0 11 (by decide) q37 rfl rfl (ty := .int) (by decide +kernel) rfl rfl (Nat.le_of_ble_eq_true rfl) hdg (fun H1 locs1 g => K H1 locs1 g)
/-- roots -/
theorem eh_g12 (C : gk_C D (eh_t d) RX0 cc nL f k A p R s m args c) (G : gk_G D (eh_w h d u) A s.heap H locs) (hdg : decode cc pc = .ok (.getfield 28, 3)) (K : W p l e R s m args below meth c H locs cells slots Q (F0 m (pc + 3) ls (.ref (h 12) :: rest))) : W p l e R s m args below meth c H locs cells slots Q (F0 m pc ls (.ref (h 100) :: rest)) := gk_get C G (ci := 0) (fs := eh_f h u) rfl rfl in_X0 12 (by decide) q38 rfl rfl hdg K
theorem eh_l12 (C : gk_C D (eh_t d) RX0 cc nL f k A p R s m args c) (G : gk_G D (eh_w h d u) A s.heap H locs) {i x : Int32} {n : Nat} (hi : i = nI n) (hn : n < 4) (hv : u.2 12 n = x) (hdg : decode cc pc = .ok (.baload, 1)) (K : W p l e R s m args below meth c H locs cells slots Q (F0 m (pc + 1) ls (.int x :: rest))) : W p l e R s m args below meth c H locs cells slots Q (F0 m pc ls (.int i :: .ref (h 12) :: rest)) := gk_lb C G (F := u.2 12) 7 6 rfl rfl (by decide) hi hn hv hdg K
theorem eh_s12 (C : gk_C D (eh_t d) RX0 cc nL f k A p R s m args c) (G : gk_G D (eh_w h d u) A s.heap H locs) {i x y : Int32} {n : Nat} (hi : i = nI n) (hn : n < 4) (hx : vp_nar .byte y = x) (hdg : decode cc pc = .ok (.bastore, 1)) (K : ∀ (H1 : Heap) (locs1 : List Loc), gk_G D (eh_w h d (gA u 12 n x)) A s.heap H1 locs1 → W p l e R s m args below meth c H1 locs1 cells slots Q (F0 m (pc + 1) ls rest)) : W p l e R s m args below meth c H locs cells slots Q (F0 m pc ls (.int y :: .int i :: .ref (h 12) :: rest)) := gk_sb C G (F := u.2 12) 7 6 rfl rfl (by decide) hi hn hx hdg (fun H1 locs1 g => K H1 locs1 g)
/-- queue -/
theorem eh_g13 (C : gk_C D (eh_t d) RX0 cc nL f k A p R s m args c) (G : gk_G D (eh_w h d u) A s.heap H locs) (hdg : decode cc pc = .ok (.getfield 31, 3)) (K : W p l e R s m args below meth c H locs cells slots Q (F0 m (pc + 3) ls (.ref (h 13) :: rest))) : W p l e R s m args below meth c H locs cells slots Q (F0 m pc ls (.ref (h 100) :: rest)) := gk_get C G (ci := 0) (fs := eh_f h u) rfl rfl in_X0 13 (by decide) q39 rfl rfl hdg K
theorem eh_l13 (C : gk_C D (eh_t d) RX0 cc nL f k A p R s m args c) (G : gk_G D (eh_w h d u) A s.heap H locs) {i x : Int32} {n : Nat} (hi : i = nI n) (hn : n < 20) (hv : u.2 13 n = x) (hdg : decode cc pc = .ok (.baload, 1)) (K : W p l e R s m args below meth c H locs cells slots Q (F0 m (pc + 1) ls (.int x :: rest))) : W p l e R s m args below meth c H locs cells slots Q (F0 m pc ls (.int i :: .ref (h 13) :: rest)) := gk_lb C G (F := u.2 13) 8 7 rfl rfl (by decide) hi hn hv hdg K
theorem eh_s13 (C : gk_C D (eh_t d) RX0 cc nL f k A p R s m args c) (G : gk_G D (eh_w h d u) A s.heap H locs) {i x y : Int32} {n : Nat} (hi : i = nI n) (hn : n < 20) (hx : vp_nar .byte y = x) (hdg : decode cc pc = .ok (.bastore, 1)) (K : ∀ (H1 : Heap) (locs1 : List Loc), gk_G D (eh_w h d (gA u 13 n x)) A s.heap H1 locs1 → W p l e R s m args below meth c H1 locs1 cells slots Q (F0 m (pc + 1) ls rest)) : W p l e R s m args below meth c H locs cells slots Q (F0 m pc ls (.int y :: .int i :: .ref (h 13) :: rest)) := gk_sb C G (F := u.2 13) 8 7 rfl rfl (by decide) hi hn hx hdg (fun H1 locs1 g => K H1 locs1 g)
/-- queueSize -/
theorem eh_g14 (C : gk_C D (eh_t d) RX0 cc nL f k A p R s m args c) (G : gk_G D (eh_w h d u) A s.heap H locs) {x : Int32} (hv : u.1 14 = x) (hdg : decode cc pc = .ok (.getfield 77, 3)) (K : W p l e R s m args below meth c H locs cells slots Q (F0 m (pc + 3) ls (.int x :: rest))) : W p l e R s m args below meth c H locs cells slots Q (F0 m pc ls (.ref (h 100) :: rest)) := gk_get C G (ci := 0) (fs := eh_f h u) rfl rfl in_X0 14 (by decide) q40 rfl (by rw [← hv]; rfl) hdg K
theorem eh_p14 (C : gk_C D (eh_t d) RX0 cc nL f k A p R s m args c) (G : gk_G D (eh_w h d u) A s.heap H locs) {x : Int32} (hdg : decode cc pc = .ok (.putfield 77, 3)) (K : ∀ (H1 : Heap) (locs1 : List Loc), gk_G D (eh_w h d (gI u 14 x)) A s.heap H1 locs1 → W p l e R s m args below meth c H1 locs1 cells slots Q (F0 m (pc + 3) ls rest)) : W p l e R s m args below meth c H locs cells slots Q (F0 m pc ls (.int x :: .ref (h 100) :: rest)) := gk_put C G (ci := 0) (fs := eh_f h u) rfl rfl in_X0 tyX0 tyX0_ok nmX0 14 (by decide) q40 rfl rfl (ty := .int) (by decide +kernel) rfl rfl (Nat.le_of_ble_eq_true rfl) hdg (fun H1 locs1 g => K H1 locs1 g)
theorem eh_ci {y : MethodName} {bytes : ByteArray} {maxL f' k' n index : Nat} {ty : FieldType} {As : List Value} {post : Int32 → gS → Prop} (C : gk_C D (eh_t d) RX0 cc nL f k A p R s m args c) (G : gk_G D (eh_w h d u) A s.heap H locs) (hM : gk_Mi l D (eh_t d) (eh_w h d) y bytes maxL ty f' k' (.ref (h 100) :: As) u post) (hq : GoodIn lw_all (wsV RX0 index RX0 y (ws_ y bytes maxL (some ty)))) (hd : y.cls = RX0 ∧ y.cls ≠ "java/lang/invoke/MethodHandle" ∧ y.cls ≠ "java/lang/invoke/VarHandle" ∧ (parseMethodDescriptor y.desc).map (fun d => d.parameters.length) = some n) (hn : As.length = n) (hR : f' + 1 ≤ f ∧ 8 + (maxL + 11) + k' ≤ k) (hst : st0 = As.reverse ++ .ref (h 100) :: rest) (hW : (rest.map fun v => v.category).sum ≤ 8) (hl : ls.size = nL) (hdg : decode cc pc = .ok (.invokevirtual index, 3))
    (K : ∀ (r : Int32) (u' : gS) (H1 : Heap) (locs1 : List Loc), post r u' → gk_G D (eh_w h d u') A s.heap H1 locs1 → W p l e R s m args below meth c H1 locs1 0 0 Q (F0 m (pc + 3) ls (.int r :: rest))) : W p l e R s m args below meth c H locs 0 0 Q (F0 m pc ls st0) := gk_ci C G hM hq hd hn hR (ci := 0) (fs := eh_f h u) rfl rfl hst hW hl hdg K
theorem eh_cv {y : MethodName} {bytes : ByteArray} {maxL f' k' n index : Nat} {As : List Value} {post : gS → Prop} (C : gk_C D (eh_t d) RX0 cc nL f k A p R s m args c) (G : gk_G D (eh_w h d u) A s.heap H locs) (hM : gk_Mv l D (eh_t d) (eh_w h d) y bytes maxL f' k' (.ref (h 100) :: As) u post) (hq : GoodIn lw_all (wsV RX0 index RX0 y (ws_ y bytes maxL none))) (hd : y.cls = RX0 ∧ y.cls ≠ "java/lang/invoke/MethodHandle" ∧ y.cls ≠ "java/lang/invoke/VarHandle" ∧ (parseMethodDescriptor y.desc).map (fun d => d.parameters.length) = some n) (hn : As.length = n) (hR : f' + 1 ≤ f ∧ 8 + (maxL + 11) + k' ≤ k) (hst : st0 = As.reverse ++ .ref (h 100) :: rest) (hW : (rest.map fun v => v.category).sum ≤ 8) (hl : ls.size = nL) (hdg : decode cc pc = .ok (.invokevirtual index, 3))
    (K : ∀ (u' : gS) (H1 : Heap) (locs1 : List Loc), post u' → gk_G D (eh_w h d u') A s.heap H1 locs1 → W p l e R s m args below meth c H1 locs1 0 0 Q (F0 m (pc + 3) ls rest)) : W p l e R s m args below meth c H locs 0 0 Q (F0 m pc ls st0) := gk_cv C G hM hq hd hn hR (ci := 0) (fs := eh_f h u) rfl rfl hst hW hl hdg K
end EH_ROWS
def mo_f (h : Nat → Nat) (u : gS) : List Value := [.ref (h 0), .ref (h 1), .ref (h 2), .ref (h 3), .ref (h 4), .ref (h 5), .int (u.1 6), .ref (h 7)]
def mo_w (h : Nat → Nat) (d : Nat → ClassId) (u : gS) : va_W := [(h 100, .inr (1, mo_f h u)), (h 0, .inl (d 0, 20, .inl (u.2 0))), (h 1, .inl (d 1, 20, .inl (u.2 1))), (h 2, .inl (d 2, 20, .inl (u.2 2))), (h 3, .inl (d 3, 20, .inl (u.2 3))), (h 4, .inl (d 4, 20, .inl (u.2 4))), (h 5, .inl (d 5, 4, .inl (u.2 5))), (h 7, .inl (d 7, 20, .inl (u.2 7)))]
def mo_t (d : Nat → ClassId) : List (ClassId × FieldType) := [(d 0, .boolean), (d 1, .int), (d 2, .boolean), (d 3, .int), (d 4, .int), (d 5, .int), (d 7, .int)]
section MO_ROWS
variable {p : Program} {l : Launch} {e : Env} {R : Room} {s : State} {m : MethodId} {args : Array Value} {below : List Frame} {meth : Method} {c : Code} {H : Heap} {locs : List Loc} {cells slots : Nat} {Q : State → Prop}
variable {cc : ByteArray} {pc : Nat} {ls : Array Slot} {rest st0 : List Value} {D : va_G} {A : Nat → Prop} {nL f k : Nat} {u : gS} {h : Nat → Nat} {d : Nat → ClassId}
/-- here -/
theorem mo_g0 (C : gk_C D (mo_t d) RX1 cc nL f k A p R s m args c) (G : gk_G D (mo_w h d u) A s.heap H locs) (hdg : decode cc pc = .ok (.getfield 7, 3)) (K : W p l e R s m args below meth c H locs cells slots Q (F0 m (pc + 3) ls (.ref (h 0) :: rest))) : W p l e R s m args below meth c H locs cells slots Q (F0 m pc ls (.ref (h 100) :: rest)) := gk_get C G (ci := 1) (fs := mo_f h u) rfl rfl in_X1 0 (by decide) q193 rfl rfl hdg K
theorem mo_l0 (C : gk_C D (mo_t d) RX1 cc nL f k A p R s m args c) (G : gk_G D (mo_w h d u) A s.heap H locs) {i x : Int32} {n : Nat} (hi : i = nI n) (hn : n < 20) (hv : u.2 0 n = x) (hdg : decode cc pc = .ok (.baload, 1)) (K : W p l e R s m args below meth c H locs cells slots Q (F0 m (pc + 1) ls (.int x :: rest))) : W p l e R s m args below meth c H locs cells slots Q (F0 m pc ls (.int i :: .ref (h 0) :: rest)) := gk_lz C G (F := u.2 0) 1 0 rfl rfl (by decide) hi hn hv hdg K
theorem mo_s0 (C : gk_C D (mo_t d) RX1 cc nL f k A p R s m args c) (G : gk_G D (mo_w h d u) A s.heap H locs) {i x y : Int32} {n : Nat} (hi : i = nI n) (hn : n < 20) (hx : vp_nar .boolean y = x) (hdg : decode cc pc = .ok (.bastore, 1)) (K : ∀ (H1 : Heap) (locs1 : List Loc), gk_G D (mo_w h d (gA u 0 n x)) A s.heap H1 locs1 → W p l e R s m args below meth c H1 locs1 cells slots Q (F0 m (pc + 1) ls rest)) : W p l e R s m args below meth c H locs cells slots Q (F0 m pc ls (.int y :: .int i :: .ref (h 0) :: rest)) := gk_sz C G (F := u.2 0) 1 0 rfl rfl (by decide) hi hn hx hdg (fun H1 locs1 g => K H1 locs1 g)
/-- kinds -/
theorem mo_g1 (C : gk_C D (mo_t d) RX1 cc nL f k A p R s m args c) (G : gk_G D (mo_w h d u) A s.heap H locs) (hdg : decode cc pc = .ok (.getfield 13, 3)) (K : W p l e R s m args below meth c H locs cells slots Q (F0 m (pc + 3) ls (.ref (h 1) :: rest))) : W p l e R s m args below meth c H locs cells slots Q (F0 m pc ls (.ref (h 100) :: rest)) := gk_get C G (ci := 1) (fs := mo_f h u) rfl rfl in_X1 1 (by decide) q194 rfl rfl hdg K
theorem mo_l1 (C : gk_C D (mo_t d) RX1 cc nL f k A p R s m args c) (G : gk_G D (mo_w h d u) A s.heap H locs) {i x : Int32} {n : Nat} (hi : i = nI n) (hn : n < 20) (hv : u.2 1 n = x) (hdg : decode cc pc = .ok (.iaload, 1)) (K : W p l e R s m args below meth c H locs cells slots Q (F0 m (pc + 1) ls (.int x :: rest))) : W p l e R s m args below meth c H locs cells slots Q (F0 m pc ls (.int i :: .ref (h 1) :: rest)) := gk_li C G (F := u.2 1) 2 1 rfl rfl (by decide) hi hn hv hdg K
theorem mo_s1 (C : gk_C D (mo_t d) RX1 cc nL f k A p R s m args c) (G : gk_G D (mo_w h d u) A s.heap H locs) {i x y : Int32} {n : Nat} (hi : i = nI n) (hn : n < 20) (hx : y = x) (hdg : decode cc pc = .ok (.iastore, 1)) (K : ∀ (H1 : Heap) (locs1 : List Loc), gk_G D (mo_w h d (gA u 1 n x)) A s.heap H1 locs1 → W p l e R s m args below meth c H1 locs1 cells slots Q (F0 m (pc + 1) ls rest)) : W p l e R s m args below meth c H locs cells slots Q (F0 m pc ls (.int y :: .int i :: .ref (h 1) :: rest)) := gk_si C G (F := u.2 1) 2 1 rfl rfl (by decide) hi hn hx hdg (fun H1 locs1 g => K H1 locs1 g)
/-- eyes -/
theorem mo_g2 (C : gk_C D (mo_t d) RX1 cc nL f k A p R s m args c) (G : gk_G D (mo_w h d u) A s.heap H locs) (hdg : decode cc pc = .ok (.getfield 17, 3)) (K : W p l e R s m args below meth c H locs cells slots Q (F0 m (pc + 3) ls (.ref (h 2) :: rest))) : W p l e R s m args below meth c H locs cells slots Q (F0 m pc ls (.ref (h 100) :: rest)) := gk_get C G (ci := 1) (fs := mo_f h u) rfl rfl in_X1 2 (by decide) q195 rfl rfl hdg K
theorem mo_l2 (C : gk_C D (mo_t d) RX1 cc nL f k A p R s m args c) (G : gk_G D (mo_w h d u) A s.heap H locs) {i x : Int32} {n : Nat} (hi : i = nI n) (hn : n < 20) (hv : u.2 2 n = x) (hdg : decode cc pc = .ok (.baload, 1)) (K : W p l e R s m args below meth c H locs cells slots Q (F0 m (pc + 1) ls (.int x :: rest))) : W p l e R s m args below meth c H locs cells slots Q (F0 m pc ls (.int i :: .ref (h 2) :: rest)) := gk_lz C G (F := u.2 2) 3 2 rfl rfl (by decide) hi hn hv hdg K
theorem mo_s2 (C : gk_C D (mo_t d) RX1 cc nL f k A p R s m args c) (G : gk_G D (mo_w h d u) A s.heap H locs) {i x y : Int32} {n : Nat} (hi : i = nI n) (hn : n < 20) (hx : vp_nar .boolean y = x) (hdg : decode cc pc = .ok (.bastore, 1)) (K : ∀ (H1 : Heap) (locs1 : List Loc), gk_G D (mo_w h d (gA u 2 n x)) A s.heap H1 locs1 → W p l e R s m args below meth c H1 locs1 cells slots Q (F0 m (pc + 1) ls rest)) : W p l e R s m args below meth c H locs cells slots Q (F0 m pc ls (.int y :: .int i :: .ref (h 2) :: rest)) := gk_sz C G (F := u.2 2) 3 2 rfl rfl (by decide) hi hn hx hdg (fun H1 locs1 g => K H1 locs1 g)
/-- as -/
theorem mo_g3 (C : gk_C D (mo_t d) RX1 cc nL f k A p R s m args c) (G : gk_G D (mo_w h d u) A s.heap H locs) (hdg : decode cc pc = .ok (.getfield 20, 3)) (K : W p l e R s m args below meth c H locs cells slots Q (F0 m (pc + 3) ls (.ref (h 3) :: rest))) : W p l e R s m args below meth c H locs cells slots Q (F0 m pc ls (.ref (h 100) :: rest)) := gk_get C G (ci := 1) (fs := mo_f h u) rfl rfl in_X1 3 (by decide) q196 rfl rfl hdg K
theorem mo_l3 (C : gk_C D (mo_t d) RX1 cc nL f k A p R s m args c) (G : gk_G D (mo_w h d u) A s.heap H locs) {i x : Int32} {n : Nat} (hi : i = nI n) (hn : n < 20) (hv : u.2 3 n = x) (hdg : decode cc pc = .ok (.iaload, 1)) (K : W p l e R s m args below meth c H locs cells slots Q (F0 m (pc + 1) ls (.int x :: rest))) : W p l e R s m args below meth c H locs cells slots Q (F0 m pc ls (.int i :: .ref (h 3) :: rest)) := gk_li C G (F := u.2 3) 4 3 rfl rfl (by decide) hi hn hv hdg K
theorem mo_s3 (C : gk_C D (mo_t d) RX1 cc nL f k A p R s m args c) (G : gk_G D (mo_w h d u) A s.heap H locs) {i x y : Int32} {n : Nat} (hi : i = nI n) (hn : n < 20) (hx : y = x) (hdg : decode cc pc = .ok (.iastore, 1)) (K : ∀ (H1 : Heap) (locs1 : List Loc), gk_G D (mo_w h d (gA u 3 n x)) A s.heap H1 locs1 → W p l e R s m args below meth c H1 locs1 cells slots Q (F0 m (pc + 1) ls rest)) : W p l e R s m args below meth c H locs cells slots Q (F0 m pc ls (.int y :: .int i :: .ref (h 3) :: rest)) := gk_si C G (F := u.2 3) 4 3 rfl rfl (by decide) hi hn hx hdg (fun H1 locs1 g => K H1 locs1 g)
/-- bs -/
theorem mo_g4 (C : gk_C D (mo_t d) RX1 cc nL f k A p R s m args c) (G : gk_G D (mo_w h d u) A s.heap H locs) (hdg : decode cc pc = .ok (.getfield 23, 3)) (K : W p l e R s m args below meth c H locs cells slots Q (F0 m (pc + 3) ls (.ref (h 4) :: rest))) : W p l e R s m args below meth c H locs cells slots Q (F0 m pc ls (.ref (h 100) :: rest)) := gk_get C G (ci := 1) (fs := mo_f h u) rfl rfl in_X1 4 (by decide) q197 rfl rfl hdg K
theorem mo_l4 (C : gk_C D (mo_t d) RX1 cc nL f k A p R s m args c) (G : gk_G D (mo_w h d u) A s.heap H locs) {i x : Int32} {n : Nat} (hi : i = nI n) (hn : n < 20) (hv : u.2 4 n = x) (hdg : decode cc pc = .ok (.iaload, 1)) (K : W p l e R s m args below meth c H locs cells slots Q (F0 m (pc + 1) ls (.int x :: rest))) : W p l e R s m args below meth c H locs cells slots Q (F0 m pc ls (.int i :: .ref (h 4) :: rest)) := gk_li C G (F := u.2 4) 5 4 rfl rfl (by decide) hi hn hv hdg K
theorem mo_s4 (C : gk_C D (mo_t d) RX1 cc nL f k A p R s m args c) (G : gk_G D (mo_w h d u) A s.heap H locs) {i x y : Int32} {n : Nat} (hi : i = nI n) (hn : n < 20) (hx : y = x) (hdg : decode cc pc = .ok (.iastore, 1)) (K : ∀ (H1 : Heap) (locs1 : List Loc), gk_G D (mo_w h d (gA u 4 n x)) A s.heap H1 locs1 → W p l e R s m args below meth c H1 locs1 cells slots Q (F0 m (pc + 1) ls rest)) : W p l e R s m args below meth c H locs cells slots Q (F0 m pc ls (.int y :: .int i :: .ref (h 4) :: rest)) := gk_si C G (F := u.2 4) 5 4 rfl rfl (by decide) hi hn hx hdg (fun H1 locs1 g => K H1 locs1 g)
/-- roots -/
theorem mo_g5 (C : gk_C D (mo_t d) RX1 cc nL f k A p R s m args c) (G : gk_G D (mo_w h d u) A s.heap H locs) (hdg : decode cc pc = .ok (.getfield 26, 3)) (K : W p l e R s m args below meth c H locs cells slots Q (F0 m (pc + 3) ls (.ref (h 5) :: rest))) : W p l e R s m args below meth c H locs cells slots Q (F0 m pc ls (.ref (h 100) :: rest)) := gk_get C G (ci := 1) (fs := mo_f h u) rfl rfl in_X1 5 (by decide) q198 rfl rfl hdg K
theorem mo_l5 (C : gk_C D (mo_t d) RX1 cc nL f k A p R s m args c) (G : gk_G D (mo_w h d u) A s.heap H locs) {i x : Int32} {n : Nat} (hi : i = nI n) (hn : n < 4) (hv : u.2 5 n = x) (hdg : decode cc pc = .ok (.iaload, 1)) (K : W p l e R s m args below meth c H locs cells slots Q (F0 m (pc + 1) ls (.int x :: rest))) : W p l e R s m args below meth c H locs cells slots Q (F0 m pc ls (.int i :: .ref (h 5) :: rest)) := gk_li C G (F := u.2 5) 6 5 rfl rfl (by decide) hi hn hv hdg K
theorem mo_s5 (C : gk_C D (mo_t d) RX1 cc nL f k A p R s m args c) (G : gk_G D (mo_w h d u) A s.heap H locs) {i x y : Int32} {n : Nat} (hi : i = nI n) (hn : n < 4) (hx : y = x) (hdg : decode cc pc = .ok (.iastore, 1)) (K : ∀ (H1 : Heap) (locs1 : List Loc), gk_G D (mo_w h d (gA u 5 n x)) A s.heap H1 locs1 → W p l e R s m args below meth c H1 locs1 cells slots Q (F0 m (pc + 1) ls rest)) : W p l e R s m args below meth c H locs cells slots Q (F0 m pc ls (.int y :: .int i :: .ref (h 5) :: rest)) := gk_si C G (F := u.2 5) 6 5 rfl rfl (by decide) hi hn hx hdg (fun H1 locs1 g => K H1 locs1 g)
/-- waiting -/
theorem mo_g6 (C : gk_C D (mo_t d) RX1 cc nL f k A p R s m args c) (G : gk_G D (mo_w h d u) A s.heap H locs) {x : Int32} (hv : u.1 6 = x) (hdg : decode cc pc = .ok (.getfield 40, 3)) (K : W p l e R s m args below meth c H locs cells slots Q (F0 m (pc + 3) ls (.int x :: rest))) : W p l e R s m args below meth c H locs cells slots Q (F0 m pc ls (.ref (h 100) :: rest)) := gk_get C G (ci := 1) (fs := mo_f h u) rfl rfl in_X1 6 (by decide) q199 rfl (by rw [← hv]; rfl) hdg K
theorem mo_p6 (C : gk_C D (mo_t d) RX1 cc nL f k A p R s m args c) (G : gk_G D (mo_w h d u) A s.heap H locs) {x : Int32} (hdg : decode cc pc = .ok (.putfield 40, 3)) (K : ∀ (H1 : Heap) (locs1 : List Loc), gk_G D (mo_w h d (gI u 6 x)) A s.heap H1 locs1 → W p l e R s m args below meth c H1 locs1 cells slots Q (F0 m (pc + 3) ls rest)) : W p l e R s m args below meth c H locs cells slots Q (F0 m pc ls (.int x :: .ref (h 100) :: rest)) := gk_put C G (ci := 1) (fs := mo_f h u) rfl rfl in_X1 tyX1 tyX1_ok nmX1 6 (by decide) q199 rfl rfl (ty := .int) (by decide +kernel) rfl rfl (Nat.le_of_ble_eq_true rfl) hdg (fun H1 locs1 g => K H1 locs1 g)
/-- queue -/
theorem mo_g7 (C : gk_C D (mo_t d) RX1 cc nL f k A p R s m args c) (G : gk_G D (mo_w h d u) A s.heap H locs) (hdg : decode cc pc = .ok (.getfield 29, 3)) (K : W p l e R s m args below meth c H locs cells slots Q (F0 m (pc + 3) ls (.ref (h 7) :: rest))) : W p l e R s m args below meth c H locs cells slots Q (F0 m pc ls (.ref (h 100) :: rest)) := gk_get C G (ci := 1) (fs := mo_f h u) rfl rfl in_X1 7 (by decide) q200 rfl rfl hdg K
theorem mo_l7 (C : gk_C D (mo_t d) RX1 cc nL f k A p R s m args c) (G : gk_G D (mo_w h d u) A s.heap H locs) {i x : Int32} {n : Nat} (hi : i = nI n) (hn : n < 20) (hv : u.2 7 n = x) (hdg : decode cc pc = .ok (.iaload, 1)) (K : W p l e R s m args below meth c H locs cells slots Q (F0 m (pc + 1) ls (.int x :: rest))) : W p l e R s m args below meth c H locs cells slots Q (F0 m pc ls (.int i :: .ref (h 7) :: rest)) := gk_li C G (F := u.2 7) 7 6 rfl rfl (by decide) hi hn hv hdg K
theorem mo_s7 (C : gk_C D (mo_t d) RX1 cc nL f k A p R s m args c) (G : gk_G D (mo_w h d u) A s.heap H locs) {i x y : Int32} {n : Nat} (hi : i = nI n) (hn : n < 20) (hx : y = x) (hdg : decode cc pc = .ok (.iastore, 1)) (K : ∀ (H1 : Heap) (locs1 : List Loc), gk_G D (mo_w h d (gA u 7 n x)) A s.heap H1 locs1 → W p l e R s m args below meth c H1 locs1 cells slots Q (F0 m (pc + 1) ls rest)) : W p l e R s m args below meth c H locs cells slots Q (F0 m pc ls (.int y :: .int i :: .ref (h 7) :: rest)) := gk_si C G (F := u.2 7) 7 6 rfl rfl (by decide) hi hn hx hdg (fun H1 locs1 g => K H1 locs1 g)
theorem mo_ci {y : MethodName} {bytes : ByteArray} {maxL f' k' n index : Nat} {ty : FieldType} {As : List Value} {post : Int32 → gS → Prop} (C : gk_C D (mo_t d) RX1 cc nL f k A p R s m args c) (G : gk_G D (mo_w h d u) A s.heap H locs) (hM : gk_Mi l D (mo_t d) (mo_w h d) y bytes maxL ty f' k' (.ref (h 100) :: As) u post) (hq : GoodIn lw_all (wsV RX1 index RX1 y (ws_ y bytes maxL (some ty)))) (hd : y.cls = RX1 ∧ y.cls ≠ "java/lang/invoke/MethodHandle" ∧ y.cls ≠ "java/lang/invoke/VarHandle" ∧ (parseMethodDescriptor y.desc).map (fun d => d.parameters.length) = some n) (hn : As.length = n) (hR : f' + 1 ≤ f ∧ 8 + (maxL + 11) + k' ≤ k) (hst : st0 = As.reverse ++ .ref (h 100) :: rest) (hW : (rest.map fun v => v.category).sum ≤ 8) (hl : ls.size = nL) (hdg : decode cc pc = .ok (.invokevirtual index, 3))
    (K : ∀ (r : Int32) (u' : gS) (H1 : Heap) (locs1 : List Loc), post r u' → gk_G D (mo_w h d u') A s.heap H1 locs1 → W p l e R s m args below meth c H1 locs1 0 0 Q (F0 m (pc + 3) ls (.int r :: rest))) : W p l e R s m args below meth c H locs 0 0 Q (F0 m pc ls st0) := gk_ci C G hM hq hd hn hR (ci := 1) (fs := mo_f h u) rfl rfl hst hW hl hdg K
theorem mo_cv {y : MethodName} {bytes : ByteArray} {maxL f' k' n index : Nat} {As : List Value} {post : gS → Prop} (C : gk_C D (mo_t d) RX1 cc nL f k A p R s m args c) (G : gk_G D (mo_w h d u) A s.heap H locs) (hM : gk_Mv l D (mo_t d) (mo_w h d) y bytes maxL f' k' (.ref (h 100) :: As) u post) (hq : GoodIn lw_all (wsV RX1 index RX1 y (ws_ y bytes maxL none))) (hd : y.cls = RX1 ∧ y.cls ≠ "java/lang/invoke/MethodHandle" ∧ y.cls ≠ "java/lang/invoke/VarHandle" ∧ (parseMethodDescriptor y.desc).map (fun d => d.parameters.length) = some n) (hn : As.length = n) (hR : f' + 1 ≤ f ∧ 8 + (maxL + 11) + k' ≤ k) (hst : st0 = As.reverse ++ .ref (h 100) :: rest) (hW : (rest.map fun v => v.category).sum ≤ 8) (hl : ls.size = nL) (hdg : decode cc pc = .ok (.invokevirtual index, 3))
    (K : ∀ (u' : gS) (H1 : Heap) (locs1 : List Loc), post u' → gk_G D (mo_w h d u') A s.heap H1 locs1 → W p l e R s m args below meth c H1 locs1 0 0 Q (F0 m (pc + 3) ls rest)) : W p l e R s m args below meth c H locs 0 0 Q (F0 m pc ls st0) := gk_cv C G hM hq hd hn hR (ci := 1) (fs := mo_f h u) rfl rfl hst hW hl hdg K
end MO_ROWS
end
section
/-! THE VALUE THAT BOTH SIDES ARE TIED TO: which objects are there, their kinds, who is watched, their two fields, the roots, the queue -/
abbrev eV : Type := (Nat → Bool) × (Nat → Nat) × (Nat → Bool) × (Nat → Option Nat) × (Nat → Option Nat) × (Nat → Option Nat) × List Nat
abbrev v_he (v : eV) : Nat → Bool := v.1
abbrev v_ki (v : eV) : Nat → Nat := v.2.1
abbrev v_ey (v : eV) : Nat → Bool := v.2.2.1
abbrev v_fa (v : eV) : Nat → Option Nat := v.2.2.2.1
abbrev v_fb (v : eV) : Nat → Option Nat := v.2.2.2.2.1
abbrev v_ro (v : eV) : Nat → Option Nat := v.2.2.2.2.2.1
abbrev v_qu (v : eV) : List Nat := v.2.2.2.2.2.2
/-! numbers: flags, masks, references -/
def bI (b : Bool) : Int32 := match b with
  | true => nI 1
  | false => nI 0
def bm (o : Nat) : Int32 := nI 1 <<< (nI o &&& 31)
def mk_ (f : Nat → Bool) : Nat → Int32
  | 0 => nI 0
  | n + 1 => if f n then mk_ f n ||| bm n else mk_ f n
def eM (x : Option Nat) : Int32 := match x with
  | none => nI 0
  | some k => nI (k + 1)
def eR (x : Option Nat) : Int32 := match x with
  | none => -1
  | some k => nI k
def eP (pl : Nat → Nat) (x : Option Nat) : Int32 := match x with
  | none => -1
  | some k => nI (pl k)
theorem bI_range (b : Bool) : narrow .boolean (.int (bI b)) = .int (bI b) := by cases b <;> rfl
theorem bI_ne {b : Bool} : ¬ bI b = 0 ↔ b = true := by cases b <;> decide
theorem bI_eq {b : Bool} : bI b = 0 ↔ b = false := by cases b <;> decide
theorem bI_eq1 {b : Bool} : bI b = nI 1 ↔ b = true := by cases b <;> decide
theorem m1_lt : (-1 : Int32) < 0 := by decide
theorem nI_m1 {n : Nat} (h : n < 2 ^ 31) : ¬ nI n = -1 := fun e => nI_pos h (e ▸ m1_lt)
theorem eP_neg {pl : Nat → Nat} {x : Option Nat} (h : ∀ k, x = some k → pl k < 2 ^ 31) : eP pl x < 0 ↔ x = none := by
  cases x with
  | none => exact ⟨fun _ => rfl, fun _ => m1_lt⟩
  | some k => exact ⟨fun q => absurd q (nI_pos (h k rfl)), fun q => by cases q⟩
theorem nb_nI {n : Nat} (h : n < 128) : vp_nar .byte (nI n) = nI n := by
  rw [vp_nar_byte]
  exact fb_byte (by rw [nI_toInt (by omega)]; omega) (by rw [nI_toInt (by omega)]; omega)
theorem nb_m1 : vp_nar .byte (-1) = -1 := by decide
theorem ib_nI {n : Nat} (h : n < 128) : (nI n).toInt8.toInt32 = nI n := fb_byte (by rw [nI_toInt (by omega)]; omega) (by rw [nI_toInt (by omega)]; omega)
theorem ib_m1 : (-1 : Int32).toInt8.toInt32 = -1 := by decide
theorem nb_eP {pl : Nat → Nat} {x : Option Nat} (h : ∀ k, x = some k → pl k < 128) : vp_nar .byte (eP pl x) = eP pl x := by
  cases x with
  | none => exact nb_m1
  | some k => exact nb_nI (h k rfl)
theorem ib_eP {pl : Nat → Nat} {x : Option Nat} (h : ∀ k, x = some k → pl k < 128) : (eP pl x).toInt8.toInt32 = eP pl x := by
  cases x with
  | none => exact ib_m1
  | some k => exact ib_nI (h k rfl)
theorem nz_0 : vp_nar .boolean (nI 0) = nI 0 := by decide
theorem nz_1 : vp_nar .boolean (nI 1) = nI 1 := by decide
theorem nz_b (b : Bool) : vp_nar .boolean (bI b) = bI b := by cases b <;> decide
/-! bits -/
theorem bt_n1 : ∀ i, i < 32 → bt (nI 1) i = decide (i = 0) := by decide +kernel
theorem bt_n0 (i : Nat) : bt (nI 0) i = false := b_0 i
theorem bt_bm {o i : Nat} (ho : o < 32) (hi : i < 32) : bt (bm o) i = decide (i = o) := by
  unfold bm
  rw [b_shl o ho _ hi]
  by_cases h : o ≤ i
  · rw [bt_n1 _ (by omega), decide_eq_true h, Bool.true_and]
    exact decide_eq_decide.mpr (by omega)
  · rw [decide_eq_false h, Bool.false_and, decide_eq_false (by omega)]
theorem mk_bt (f : Nat → Bool) : ∀ n, n ≤ 32 → ∀ i, i < 32 → bt (mk_ f n) i = (decide (i < n) && f i)
  | 0, _, i, _ => by
    show bt (nI 0) i = _
    rw [bt_n0]; simp
  | n + 1, hn, i, hi => by
    have ih := mk_bt f n (by omega) i hi
    unfold mk_
    by_cases hf : f n = true
    · rw [if_pos hf, b_or, ih, bt_bm (by omega) hi]
      by_cases h : i = n
      · subst h; simp [hf]
      · have : (i < n + 1) ↔ (i < n) := by omega
        simp [h, this]
    · rw [if_neg hf, ih]
      by_cases h : i = n
      · subst h; simp at hf; simp [hf]
      · have : (i < n + 1) ↔ (i < n) := by omega
        simp [this]
theorem mk_of {x : Int32} {f : Nat → Bool} (h : ∀ i, i < 32 → bt x i = (decide (i < 20) && f i)) : x = mk_ f 20 := b_ext fun i hi => by rw [h i hi, mk_bt f 20 (by omega) i hi]
theorem mk_cong {f g : Nat → Bool} (h : ∀ i, i < 20 → f i = g i) : mk_ f 20 = mk_ g 20 := mk_of fun i hi => by
  rw [mk_bt f 20 (by omega) i hi]
  by_cases q : i < 20
  · rw [h i q]
  · simp [q]
theorem mk_set {f : Nat → Bool} {o : Nat} (ho : o < 20) : mk_ f 20 ||| bm o = mk_ (va_up f o true) 20 := mk_of fun i hi => by
  rw [b_or, mk_bt f 20 (by omega) i hi, bt_bm (by omega) hi]
  by_cases h : i = o
  · subst h; simp [va_up, ho]
  · simp [va_up, h]
theorem mk_clr {f : Nat → Bool} {o : Nat} (ho : o < 20) : mk_ f 20 &&& (bm o ^^^ -1) = mk_ (va_up f o false) 20 := mk_of fun i hi => by
  rw [b_and, b_xor, mk_bt f 20 (by omega) i hi, bt_bm (by omega) hi, b_m1 i hi]
  by_cases h : i = o
  · subst h; simp [va_up]
  · simp [va_up, h]
theorem mk_and (f g : Nat → Bool) : mk_ f 20 &&& mk_ g 20 = mk_ (fun o => f o && g o) 20 := mk_of fun i hi => by
  rw [b_and, mk_bt f 20 (by omega) i hi, mk_bt g 20 (by omega) i hi]
  by_cases h : i < 20 <;> simp [h]
theorem b_test {x : Int32} {o : Nat} (ho : o < 32) : (x >>> (nI o &&& 31)) &&& nI 1 = bI (bt x o) := b_ext fun i hi => by
  rw [b_and, b_sshr o ho x hi, bt_n1 i hi]
  by_cases h : i = 0
  · subst h
    rw [if_pos (by omega), Nat.add_zero]
    cases bt x o <;> decide
  · rw [decide_eq_false h, Bool.and_false]
    cases bt x o
    · exact (bt_n0 i).symm
    · show false = bt (nI 1) i
      rw [bt_n1 i hi, decide_eq_false h]
theorem mk_test {f : Nat → Bool} {o : Nat} (ho : o < 20) : (mk_ f 20 >>> (nI o &&& 31)) &&& nI 1 = bI (f o) := by
  rw [b_test (by omega), mk_bt f 20 (by omega) o (by omega)]
  simp [ho]
theorem nI_bI (c : Nat) (b : Bool) : nI c + bI b = nI (c + if b then 1 else 0) := by
  cases b
  · exact nI_add c 0
  · exact nI_add c 1
/-! what is alive -/
def v_cl (v : eV) (X : Nat → Prop) : Prop := ∀ o, X o → (v_ki v o = 0 → ∀ k, v_fa v o = some k → X k) ∧ (v_ki v o ≠ 2 → ∀ k, v_fb v o = some k → X k) ∧ (v_ki v o = 2 → ∀ k j, v_fa v o = some k → X k → v_fb v o = some j → X j)
def v_start (v : eV) (o : Nat) : Prop := (∃ r, r < 4 ∧ v_ro v r = some o) ∨ o ∈ v_qu v
def v_live (v : eV) (o : Nat) : Prop := ∀ X : Nat → Prop, (∀ x, v_start v x → X x) → v_cl v X → X o
noncomputable def v_lb (v : eV) (o : Nat) : Bool := @decide (v_live v o) (Classical.propDecidable _)
theorem v_lb_iff {v : eV} {o : Nat} : v_lb v o = true ↔ v_live v o := @decide_eq_true_iff _ (Classical.propDecidable _)
theorem v_lb_false {v : eV} {o : Nat} : v_lb v o = false ↔ ¬ v_live v o := @decide_eq_false_iff_not _ (Classical.propDecidable _)
theorem v_live_start {v : eV} {o : Nat} (h : v_start v o) : v_live v o := fun _ h1 _ => h1 o h
theorem v_live_cl (v : eV) : v_cl v (v_live v) := fun o ho => ⟨fun hk k hf X h1 h2 => (h2 o (ho X h1 h2)).1 hk k hf, fun hk k hf X h1 h2 => (h2 o (ho X h1 h2)).2.1 hk k hf, fun hk k j hf hl hj X h1 h2 => (h2 o (ho X h1 h2)).2.2 hk k j hf (hl X h1 h2) hj⟩
/-- the invariant of the value -/
def v_inv (v : eV) : Prop :=
  (∀ o, o < 20 → v_ki v o ≤ 2 ∧ (∀ k, v_fa v o = some k → k < 20) ∧ (∀ k, v_fb v o = some k → k < 20)) ∧
  (∀ o, o < 20 → v_he v o = true → (∀ k, v_fa v o = some k → v_he v k = true) ∧ (∀ k, v_fb v o = some k → v_he v k = true)) ∧
  (∀ r, r < 4 → ∀ k, v_ro v r = some k → k < 20 ∧ v_he v k = true) ∧
  (∀ o, o ∈ v_qu v → o < 20 ∧ v_he v o = true) ∧ (v_qu v).Nodup
theorem v_live_here {v : eV} (hv : v_inv v) {o : Nat} (h : v_live v o) : o < 20 ∧ v_he v o = true := by
  refine h (fun x => x < 20 ∧ v_he v x = true) ?_ ?_
  · rintro x (⟨r, hr, hx⟩ | hx)
    · exact hv.2.2.1 r hr x hx
    · exact hv.2.2.2.1 x hx
  · rintro x ⟨h1, h2⟩
    exact ⟨fun _ k hk => ⟨(hv.1 x h1).2.1 k hk, (hv.2.1 x h1 h2).1 k hk⟩, fun _ k hk => ⟨(hv.1 x h1).2.2 k hk, (hv.2.1 x h1 h2).2 k hk⟩, fun _ _ j _ _ hj => ⟨(hv.1 x h1).2.2 j hj, (hv.2.1 x h1 h2).2 j hj⟩⟩
/-! the calls, on the value -/
def v_has (v : eV) (x : Int32) : Bool := decide (¬ x < 0) && (decide (x < nI 20) && v_he v x.toNatClampNeg)
def v_root (r : Int32) : Bool := decide (¬ r < 0) && decide (r < nI 4)
def v_ref (p : Int32) : Option Nat := if p = -1 then none else some p.toNatClampNeg
def v_okp (v : eV) (p : Int32) : Bool := decide (p = -1) || v_has v p
def v_wh (w : Int32) : Bool := decide (w = 0) || decide (w = nI 1)
def v_mk (v : eV) (o k r : Nat) : eV := (va_up (v_he v) o true, va_up (v_ki v) o k, va_up (v_ey v) o false, va_up (v_fa v) o none, va_up (v_fb v) o none, va_up (v_ro v) r (some o), v_qu v)
def o_make (v : eV) (k r : Int32) : Int32 × eV := if k < 0 ∨ nI 2 < k ∨ v_root r = false then (-1, v) else match (List.range 20).find? (fun o => !v_he v o) with
  | none => (-2, v)
  | some o => (nI o, v_mk v o k.toNatClampNeg r.toNatClampNeg)
def v_setA (v : eV) (o : Nat) (x : Option Nat) : eV := (v_he v, v_ki v, v_ey v, va_up (v_fa v) o x, v_fb v, v_ro v, v_qu v)
def v_setB (v : eV) (o : Nat) (x : Option Nat) : eV := (v_he v, v_ki v, v_ey v, v_fa v, va_up (v_fb v) o x, v_ro v, v_qu v)
def v_setR (v : eV) (r : Nat) (x : Option Nat) : eV := (v_he v, v_ki v, v_ey v, v_fa v, v_fb v, va_up (v_ro v) r x, v_qu v)
def v_setE (v : eV) (o : Nat) (b : Bool) : eV := (v_he v, v_ki v, va_up (v_ey v) o b, v_fa v, v_fb v, v_ro v, v_qu v)
def v_setQ (v : eV) (q : List Nat) : eV := (v_he v, v_ki v, v_ey v, v_fa v, v_fb v, v_ro v, q)
def o_point (v : eV) (o w p : Int32) : Int32 × eV := if (v_has v o && (v_okp v p && v_wh w)) = true then (nI 1, if w = 0 then v_setA v o.toNatClampNeg (v_ref p) else v_setB v o.toNatClampNeg (v_ref p)) else (nI 0, v)
def o_root (v : eV) (r p : Int32) : Int32 × eV := if (v_root r && v_okp v p) = true then (nI 1, v_setR v r.toNatClampNeg (v_ref p)) else (nI 0, v)
def o_watch (v : eV) (o : Int32) : Int32 × eV := if v_has v o = true then (nI 1, v_setE v o.toNatClampNeg true) else (nI 0, v)
def o_take (v : eV) (r : Int32) : Int32 × eV := if v_root r = true then (match v_qu v with
  | [] => (-1, v)
  | o :: t => (nI o, v_setQ (v_setR v r.toNatClampNeg (some o)) t)) else (-1, v)
/-- rescue: the watched that aren't in B come to the queue's end, and are watched no more -/
def v_ends (v : eV) (B : Nat → Bool) (o : Nat) : Bool := v_he v o && (v_ey v o && !B o)
def v_res (v : eV) (B : Nat → Bool) (n : Nat) : eV := (v_he v, v_ki v, fun o => if o < n ∧ v_ends v B o = true then false else v_ey v o, v_fa v, v_fb v, v_ro v, v_qu v ++ (List.range n).filter (v_ends v B))
/-- mended fields -/
def v_out (X : Nat → Bool) (x : Option Nat) : Bool := match x with
  | none => false
  | some k => !X k
def v_fa2 (v : eV) (B A : Nat → Bool) (o : Nat) : Option Nat := if (v_ki v o = 1 ∧ v_out B (v_fa v o) = true) ∨ (v_ki v o = 2 ∧ v_out A (v_fa v o) = true) then none else v_fa v o
def v_fb2 (v : eV) (B A : Nat → Bool) (o : Nat) : Option Nat := if v_ki v o = 2 ∧ v_fa2 v B A o = none then none else v_fb v o
noncomputable def v_cln (v : eV) : eV := (fun o => v_he v o && v_lb (v_res v (v_lb v) 20) o, v_ki v, v_ey (v_res v (v_lb v) 20), v_fa2 v (v_lb v) (v_lb (v_res v (v_lb v) 20)), v_fb2 v (v_lb v) (v_lb (v_res v (v_lb v) 20)), v_ro v, v_qu (v_res v (v_lb v) 20))
noncomputable def o_clean (v : eV) : Int32 × eV := (nI (fb_ct (fun o => v_he v o && !v_lb (v_res v (v_lb v) 20) o) 20), v_cln v)
noncomputable def a_held (v : eV) (o : Int32) : Int32 := if v_has v o = true then mk_ (v_lb v) 20 &&& (mk_ (v_lb (v_setB (v_setA v o.toNatClampNeg none) o.toNatClampNeg none)) 20 ^^^ -1) else nI 0
def a_field (v : eV) (o w : Int32) : Int32 := if (v_has v o && v_wh w) = true then (if w = 0 then eR (v_fa v o.toNatClampNeg) else eR (v_fb v o.toNatClampNeg)) else -1
def a_kind (v : eV) (o : Int32) : Int32 := if v_has v o = true then nI (v_ki v o.toNatClampNeg) else -1
def a_rootOf (v : eV) (r : Int32) : Int32 := if v_root r = true then eR (v_ro v r.toNatClampNeg) else -1
theorem v_has_nI {v : eV} {n : Nat} (h : n < 20) : v_has v (nI n) = v_he v n := by
  unfold v_has
  rw [decide_eq_true (nI_pos (by omega)), decide_eq_true (show nI n < nI 20 from nI_lt h (by omega)), nI_clamp (by omega)]
  rfl
theorem v_has_neg {v : eV} {x : Int32} (h : x < 0) : v_has v x = false := by
  unfold v_has
  rw [decide_eq_false (fun q => q h)]
  rfl
theorem v_has_big {v : eV} {x : Int32} (h : nI 20 ≤ x) : v_has v x = false := by
  unfold v_has
  rw [decide_eq_false (show ¬ x < nI 20 from fun q => absurd h (Int32.not_le.mpr q))]
  simp
theorem v_has_of {v : eV} {x : Int32} (h : v_has v x = true) : ∃ n, n < 20 ∧ x = nI n ∧ v_he v n = true := by
  rcases pk_ix x (n := 20) (by omega) with q | q | ⟨n, hn, rfl⟩
  · rw [v_has_neg q] at h; cases h
  · rw [v_has_big q] at h; cases h
  · exact ⟨n, hn, rfl, by rw [← v_has_nI hn]; exact h⟩
theorem v_root_of {r : Int32} (h : v_root r = true) : ∃ n, n < 4 ∧ r = nI n := by
  unfold v_root at h
  simp only [Bool.and_eq_true, decide_eq_true_eq] at h
  rcases pk_ix r (n := 4) (by omega) with q | q | ⟨n, hn, rfl⟩
  · exact absurd q h.1
  · exact absurd q (Int32.not_le.mpr h.2)
  · exact ⟨n, hn, rfl⟩
theorem v_root_nI {n : Nat} (h : n < 4) : v_root (nI n) = true := by
  unfold v_root
  rw [decide_eq_true (nI_pos (by omega)), decide_eq_true (show nI n < nI 4 from nI_lt h (by omega))]
  rfl
theorem v_okp_of {v : eV} {p : Int32} (h : v_okp v p = true) : p = -1 ∧ v_ref p = none ∨ ∃ n, n < 20 ∧ p = nI n ∧ v_he v n = true ∧ v_ref p = some n := by
  unfold v_okp at h
  by_cases q : p = -1
  · exact Or.inl ⟨q, by unfold v_ref; rw [if_pos q]⟩
  · rw [decide_eq_false q, Bool.false_or] at h
    obtain ⟨n, hn, rfl, hh⟩ := v_has_of h
    exact Or.inr ⟨n, hn, rfl, hh, by unfold v_ref; rw [if_neg q, nI_clamp (by omega)]⟩
end
section
/-! THE CLASS AGAINST THE VALUE. eh_R: between calls; eh_Q: while it copies: cs is what was copied, in its order, sc how much of it is scanned; pl the places, sp the space in use -/
def eh_R (u : gS) (v : eV) (sp : Nat) (pl : Nat → Nat) : Prop :=
  sp ≤ 1 ∧ u.1 3 = nI sp ∧ u.1 4 = nI (fb_ct (v_he v) 20) ∧ u.1 0 = mk_ (v_he v) 20 ∧ u.1 1 = mk_ (fun o => v_he v o && v_ey v o) 20 ∧
  (∀ o, o < 20 → v_he v o = true → u.2 2 o = nI (pl o) ∧ sp * 20 ≤ pl o ∧ pl o < sp * 20 + fb_ct (v_he v) 20 ∧ u.2 5 (pl o) = nI o ∧ u.2 6 (pl o) = nI (v_ki v o) ∧ u.2 7 (pl o) = eP pl (v_fa v o) ∧ u.2 8 (pl o) = eP pl (v_fb v o)) ∧
  (∀ r, r < 4 → u.2 12 r = eP pl (v_ro v r)) ∧ u.1 14 = nI (v_qu v).length ∧ ∀ i, i < (v_qu v).length → u.2 13 i = nI ((v_qu v).getD i 0)
def eh_Q (u : gS) (v : eV) (sp : Nat) (pl : Nat → Nat) (cs : List Nat) (sc : Nat) : Prop :=
  eh_R u v sp pl ∧ u.1 10 = nI cs.length ∧ u.1 11 = nI sc ∧ sc ≤ cs.length ∧ cs.Nodup ∧ (∀ o, o ∈ cs → o < 20 ∧ v_he v o = true) ∧
  (∀ i, i < cs.length → u.2 5 ((1 - sp) * 20 + i) = nI (cs.getD i 0) ∧ u.2 6 ((1 - sp) * 20 + i) = nI (v_ki v (cs.getD i 0)) ∧ u.2 7 ((1 - sp) * 20 + i) = eP pl (v_fa v (cs.getD i 0)) ∧ u.2 8 ((1 - sp) * 20 + i) = eP pl (v_fb v (cs.getD i 0)) ∧ u.2 9 (pl (cs.getD i 0)) = nI ((1 - sp) * 20 + i)) ∧
  (∀ o, o < 20 → v_he v o = true → o ∉ cs → u.2 9 (pl o) = -1)
theorem nI_inj {a b : Nat} (ha : a < 2 ^ 31) (hb : b < 2 ^ 31) (h : nI a = nI b) : a = b := (nI_eq ha hb).mp h
/-- what eh_R says of the places -/
theorem eh_pl {u : gS} {v : eV} {sp : Nat} {pl : Nat → Nat} (h : eh_R u v sp pl) {o : Nat} (ho : o < 20) (hh : v_he v o = true) : sp * 20 ≤ pl o ∧ pl o < sp * 20 + 20 ∧ pl o < 40 := by
  have h1 := h.2.2.2.2.2.1 o ho hh
  have h2 := fb_ct_le (v_he v) 20
  have h3 := h.1
  omega
theorem eh_plinj {u : gS} {v : eV} {sp : Nat} {pl : Nat → Nat} (h : eh_R u v sp pl) {a b : Nat} (ha : a < 20) (hha : v_he v a = true) (hb : b < 20) (hhb : v_he v b = true) (e : pl a = pl b) : a = b := by
  have h1 := (h.2.2.2.2.2.1 a ha hha).2.2.2.1
  have h2 := (h.2.2.2.2.2.1 b hb hhb).2.2.2.1
  rw [e, h2] at h1
  exact (nI_inj (by omega) (by omega) h1).symm
/-- a list without twins, of numbers below n: its length is the count of what is in it -/
theorem nd_ct : ∀ (cs : List Nat) (n : Nat), cs.Nodup → (∀ o, o ∈ cs → o < n) → fb_ct (fun o => decide (o ∈ cs)) n = cs.length
  | [], n, _, _ => by
    rw [fb_ct_zero.mpr (fun k _ => by simp)]
    rfl
  | a :: cs, n, h1, h2 => by
    obtain ⟨h3, h4⟩ := List.nodup_cons.mp h1
    have ih := nd_ct cs n h4 (fun o ho => h2 o (List.mem_cons_of_mem _ ho))
    have h5 := fb_ct_upd (fun o => decide (o ∈ cs)) true (i := a) (n := n) (h2 a List.mem_cons_self)
    have h6 : fb_ct (fun o => decide (o ∈ a :: cs)) n = fb_ct (fun k => if k = a then true else decide (k ∈ cs)) n := fb_ct_cong (fun k _ => by
      by_cases q : k = a
      · subst q; simp
      · simp [q])
    rw [h6]
    have h7 : (if decide (a ∈ cs) = true then 1 else 0) = 0 := if_neg (by simpa using h3)
    rw [h7] at h5
    simp only [List.length_cons]
    simp only [if_true] at h5
    omega
theorem nd_le {cs : List Nat} {n : Nat} (h1 : cs.Nodup) (h2 : ∀ o, o ∈ cs → o < n) : cs.length ≤ n := by
  rw [← nd_ct cs n h1 h2]
  exact fb_ct_le _ n
theorem eh_csle {u : gS} {v : eV} {sp : Nat} {pl : Nat → Nat} {cs : List Nat} {sc : Nat} (h : eh_Q u v sp pl cs sc) : cs.length ≤ 20 := nd_le h.2.2.2.2.1 (fun o ho => (h.2.2.2.2.2.1 o ho).1)
theorem eh_cslt {u : gS} {v : eV} {sp : Nat} {pl : Nat → Nat} {cs : List Nat} {sc o : Nat} (h : eh_Q u v sp pl cs sc) (ho : o < 20) (hn : o ∉ cs) : cs.length < 20 := by
  have h1 : (o :: cs).length ≤ 20 := nd_le (List.nodup_cons.mpr ⟨hn, h.2.2.2.2.1⟩) (fun x hx => by
    rcases List.mem_cons.mp hx with rfl | q
    · exact ho
    · exact (h.2.2.2.2.2.1 x q).1)
  exact h1
theorem gd_eq {cs : List Nat} {i : Nat} (h : i < cs.length) : cs.getD i 0 = cs[i] := by
  rw [List.getD_eq_getElem?_getD, List.getElem?_eq_getElem h]
  rfl
theorem getD_mem {cs : List Nat} {i : Nat} (h : i < cs.length) : cs.getD i 0 ∈ cs := by
  rw [gd_eq h]
  exact List.getElem_mem h
theorem mem_getD {cs : List Nat} {o : Nat} (h : o ∈ cs) : ∃ i, i < cs.length ∧ cs.getD i 0 = o := by
  obtain ⟨i, hi, e⟩ := List.mem_iff_getElem.mp h
  exact ⟨i, hi, by rw [gd_eq hi]; exact e⟩
theorem getD_app_lt {cs t : List Nat} {i : Nat} (h : i < cs.length) : (cs ++ t).getD i 0 = cs.getD i 0 := by
  rw [gd_eq h, gd_eq (by rw [List.length_append]; omega), List.getElem_append_left h]
theorem getD_app_eq {cs : List Nat} {o : Nat} : (cs ++ [o]).getD cs.length 0 = o := by
  rw [gd_eq (by simp)]
  simp
theorem nd_inj {cs : List Nat} (h : cs.Nodup) {i j : Nat} (hi : i < cs.length) (hj : j < cs.length) (e : cs.getD i 0 = cs.getD j 0) : i = j := by
  rw [gd_eq hi, gd_eq hj] at e
  exact (List.getElem?_inj hi h).mp (by rw [List.getElem?_eq_getElem hi, List.getElem?_eq_getElem hj, e])
/-- the new place of what is copied is known by what newPlace holds -/
theorem eh_to {sp c : Nat} (h : sp ≤ 1) : (nI 1 - nI sp) * nI 20 + nI c = nI ((1 - sp) * 20 + c) := by rw [pk_sub h, pk_mul, nI_add]
theorem eh_np_in {u : gS} {v : eV} {sp : Nat} {pl : Nat → Nat} {cs : List Nat} {sc o : Nat} (h : eh_Q u v sp pl cs sc) (ho : o ∈ cs) : ∃ i, i < cs.length ∧ cs.getD i 0 = o ∧ u.2 9 (pl o) = nI ((1 - sp) * 20 + i) := by
  obtain ⟨i, hi, e⟩ := mem_getD ho
  exact ⟨i, hi, e, by rw [← e]; exact (h.2.2.2.2.2.2.1 i hi).2.2.2.2⟩
def eh_add (cs : List Nat) (x : Option Nat) : List Nat := match x with
  | none => cs
  | some o => if o ∈ cs then cs else cs ++ [o]
theorem eh_add_in {cs : List Nat} {o : Nat} (h : o ∈ cs) : eh_add cs (some o) = cs := if_pos h
theorem eh_add_out {cs : List Nat} {o : Nat} (h : o ∉ cs) : eh_add cs (some o) = cs ++ [o] := if_neg h
theorem eh_add_mem {cs : List Nat} {x : Option Nat} {k : Nat} : k ∈ eh_add cs x ↔ k ∈ cs ∨ x = some k := by
  cases x with
  | none => simp [eh_add]
  | some o =>
    by_cases h : o ∈ cs
    · rw [eh_add_in h]
      constructor
      · exact Or.inl
      · rintro (q | q)
        · exact q
        · cases q; exact h
    · rw [eh_add_out h, List.mem_append, List.mem_singleton]
      constructor
      · rintro (q | q)
        · exact Or.inl q
        · exact Or.inr (by rw [q])
      · rintro (q | q)
        · exact Or.inl q
        · exact Or.inr (by cases q; rfl)
theorem eh_add_pre {cs : List Nat} {x : Option Nat} : ∃ t, eh_add cs x = cs ++ t := by
  cases x with
  | none => exact ⟨[], by simp [eh_add]⟩
  | some o =>
    by_cases h : o ∈ cs
    · exact ⟨[], by rw [eh_add_in h]; simp⟩
    · exact ⟨[o], eh_add_out h⟩
/-- one object is copied -/
theorem eh_copy1 {u : gS} {v : eV} {sp : Nat} {pl : Nat → Nat} {cs : List Nat} {sc o : Nat} (h : eh_Q u v sp pl cs sc) (ho : o < 20) (hh : v_he v o = true) (hn : o ∉ cs) :
    eh_Q (gA (gA (gA (gA (gA (gI u 10 (nI (cs.length + 1))) 9 (pl o) (nI ((1 - sp) * 20 + cs.length))) 5 ((1 - sp) * 20 + cs.length) (nI o)) 6 ((1 - sp) * 20 + cs.length) (nI (v_ki v o))) 7 ((1 - sp) * 20 + cs.length) (eP pl (v_fa v o))) 8 ((1 - sp) * 20 + cs.length) (eP pl (v_fb v o))) v sp pl (cs ++ [o]) sc := by
  have hlt := eh_cslt h ho hn
  obtain ⟨hR, c1, c2, c3, c4, c5, c6, c7⟩ := h
  have hpl := fun {x : Nat} (a : x < 20) (b : v_he v x = true) => eh_pl hR a b
  have hne : ∀ x, x < 20 → v_he v x = true → pl x ≠ (1 - sp) * 20 + cs.length := fun x a b => by
    have := hpl a b
    have := hR.1
    omega
  refine ⟨⟨hR.1, hR.2.1, hR.2.2.1, hR.2.2.2.1, hR.2.2.2.2.1, fun x a b => ?_, hR.2.2.2.2.2.2.1, hR.2.2.2.2.2.2.2.1, hR.2.2.2.2.2.2.2.2⟩, ?_, c2, ?_, ?_, ?_, ?_, ?_⟩
  · have q := hR.2.2.2.2.2.1 x a b
    have n := hne x a b
    refine ⟨q.1, q.2.1, q.2.2.1, ?_, ?_, ?_, ?_⟩
    · show (if pl x = (1 - sp) * 20 + cs.length then nI o else u.2 5 (pl x)) = _
      rw [if_neg n]; exact q.2.2.2.1
    · show (if pl x = (1 - sp) * 20 + cs.length then nI (v_ki v o) else u.2 6 (pl x)) = _
      rw [if_neg n]; exact q.2.2.2.2.1
    · show (if pl x = (1 - sp) * 20 + cs.length then eP pl (v_fa v o) else u.2 7 (pl x)) = _
      rw [if_neg n]; exact q.2.2.2.2.2.1
    · show (if pl x = (1 - sp) * 20 + cs.length then eP pl (v_fb v o) else u.2 8 (pl x)) = _
      rw [if_neg n]; exact q.2.2.2.2.2.2
  · show nI (cs.length + 1) = nI (cs ++ [o]).length
    rw [List.length_append]; rfl
  · rw [List.length_append]; omega
  · rw [List.nodup_append]
    refine ⟨c4, by simp, fun a ha b hb => ?_⟩
    rw [List.mem_singleton] at hb
    rw [hb]
    exact fun e => hn (e ▸ ha)
  · intro x hx
    rcases List.mem_append.mp hx with q | q
    · exact c5 x q
    · rw [List.mem_singleton.mp q]; exact ⟨ho, hh⟩
  · intro i hi
    rw [List.length_append] at hi
    have hi : i < cs.length + 1 := hi
    rcases Nat.lt_or_ge i cs.length with q | q
    · rw [getD_app_lt q]
      have n : (1 - sp) * 20 + i ≠ (1 - sp) * 20 + cs.length := by omega
      obtain ⟨a1, a2, a3, a4, a5⟩ := c6 i q
      have hm := c5 _ (getD_mem q)
      have n2 : pl (cs.getD i 0) ≠ pl o := fun e => hn (by rw [← eh_plinj hR hm.1 hm.2 ho hh e]; exact getD_mem q)
      refine ⟨?_, ?_, ?_, ?_, ?_⟩
      · show (if (1 - sp) * 20 + i = (1 - sp) * 20 + cs.length then nI o else u.2 5 ((1 - sp) * 20 + i)) = _
        rw [if_neg n]; exact a1
      · show (if (1 - sp) * 20 + i = (1 - sp) * 20 + cs.length then nI (v_ki v o) else u.2 6 ((1 - sp) * 20 + i)) = _
        rw [if_neg n]; exact a2
      · show (if (1 - sp) * 20 + i = (1 - sp) * 20 + cs.length then eP pl (v_fa v o) else u.2 7 ((1 - sp) * 20 + i)) = _
        rw [if_neg n]; exact a3
      · show (if (1 - sp) * 20 + i = (1 - sp) * 20 + cs.length then eP pl (v_fb v o) else u.2 8 ((1 - sp) * 20 + i)) = _
        rw [if_neg n]; exact a4
      · show (if pl (cs.getD i 0) = pl o then nI ((1 - sp) * 20 + cs.length) else u.2 9 (pl (cs.getD i 0))) = _
        rw [if_neg n2]; exact a5
    · have e : i = cs.length := by omega
      subst e
      rw [getD_app_eq]
      refine ⟨?_, ?_, ?_, ?_, ?_⟩
      · exact if_pos rfl
      · exact if_pos rfl
      · exact if_pos rfl
      · exact if_pos rfl
      · exact if_pos rfl
  · intro x a b hx
    have hx1 : x ∉ cs := fun q => hx (List.mem_append_left _ q)
    have hx2 : x ≠ o := fun q => hx (by rw [q]; simp)
    show (if pl x = pl o then nI ((1 - sp) * 20 + cs.length) else u.2 9 (pl x)) = -1
    rw [if_neg (fun e => hx2 (eh_plinj hR a b ho hh e))]
    exact c7 x a b hx1
end
section
/-! what was copied grows, and only by what is kept alive -/
def eh_gr (v : eV) (cs cs' : List Nat) : Prop := (∃ t, cs' = cs ++ t) ∧ ∀ X : Nat → Prop, (∀ o, o ∈ cs → X o) → v_cl v X → ∀ o, o ∈ cs' → X o
theorem eg_rf {v : eV} {cs : List Nat} : eh_gr v cs cs := ⟨⟨[], by simp⟩, fun _ h _ => h⟩
theorem eg_tr {v : eV} {a b c : List Nat} (h1 : eh_gr v a b) (h2 : eh_gr v b c) : eh_gr v a c := by
  obtain ⟨⟨t1, e1⟩, m1⟩ := h1
  obtain ⟨⟨t2, e2⟩, m2⟩ := h2
  exact ⟨⟨t1 ++ t2, by rw [e2, e1, List.append_assoc]⟩, fun X h hc => m2 X (m1 X h hc) hc⟩
theorem eg_add {v : eV} {cs : List Nat} {x : Option Nat} (hx : ∀ X : Nat → Prop, (∀ o, o ∈ cs → X o) → v_cl v X → ∀ k, x = some k → X k) : eh_gr v cs (eh_add cs x) := by
  refine ⟨eh_add_pre, fun X h hc o ho => ?_⟩
  rcases eh_add_mem.mp ho with q | q
  · exact h o q
  · exact hx X h hc o q
theorem eg_len {v : eV} {cs cs' : List Nat} (h : eh_gr v cs cs') : cs.length ≤ cs'.length := by
  obtain ⟨⟨t, e⟩, -⟩ := h
  rw [e, List.length_append]; omega
theorem eg_eq {v : eV} {cs cs' : List Nat} (h : eh_gr v cs cs') (hl : cs'.length ≤ cs.length) : cs' = cs := by
  obtain ⟨⟨t, e⟩, -⟩ := h
  rw [e, List.length_append] at hl
  have : t = [] := List.eq_nil_of_length_eq_zero (by omega)
  rw [e, this, List.append_nil]
theorem eg_mem {v : eV} {cs cs' : List Nat} (h : eh_gr v cs cs') {o : Nat} (ho : o ∈ cs) : o ∈ cs' := by
  obtain ⟨⟨t, e⟩, -⟩ := h
  rw [e]; exact List.mem_append_left _ ho
theorem eg_get {v : eV} {cs cs' : List Nat} (h : eh_gr v cs cs') {i : Nat} (hi : i < cs.length) : cs'.getD i 0 = cs.getD i 0 := by
  obtain ⟨⟨t, e⟩, -⟩ := h
  rw [e]; exact getD_app_lt hi
/-- pairs -/
def eh_pr (v : eV) (cs : List Nat) (o : Nat) : Prop := v_ki v o = 2 → ∀ k j, v_fa v o = some k → k ∈ cs → v_fb v o = some j → j ∈ cs
def eh_lp (v : eV) (cs cs1 : List Nat) (i : Nat) : Prop := cs.length < cs1.length ∨ (cs1 = cs ∧ ∀ j, j < i → eh_pr v cs (cs.getD j 0))
theorem lp_keep {v : eV} {cs cs1 : List Nat} {i : Nat} (h : eh_lp v cs cs1 i) (hp : eh_pr v cs1 (cs1.getD i 0)) : eh_lp v cs cs1 (i + 1) := by
  rcases h with q | ⟨e, q⟩
  · exact Or.inl q
  · refine Or.inr ⟨e, fun j hj => ?_⟩
    rcases Nat.lt_or_ge j i with r | r
    · exact q j r
    · rw [show j = i by omega, ← e]; exact hp
theorem lp_grow {v : eV} {cs cs1 : List Nat} {i : Nat} (h : eh_lp v cs cs1 i) : eh_lp v cs (eh_add cs1 (v_fb v (cs1.getD i 0))) (i + 1) := by
  cases hb : v_fb v (cs1.getD i 0) with
  | none =>
    show eh_lp v cs cs1 (i + 1)
    exact lp_keep h (fun _ k j _ _ hj => by rw [hb] at hj; cases hj)
  | some x =>
    by_cases hm : x ∈ cs1
    · rw [eh_add_in hm]
      exact lp_keep h (fun _ k j _ _ hj => by rw [hb] at hj; cases hj; exact hm)
    · rw [eh_add_out hm]
      refine Or.inl ?_
      rw [List.length_append]
      rcases h with q | ⟨e, q⟩
      · omega
      · rw [e]; simp
/-- what is scanned is followed -/
def eh_sc (v : eV) (cs : List Nat) (sc : Nat) : Prop := ∀ i, i < sc → (v_ki v (cs.getD i 0) = 0 → ∀ k, v_fa v (cs.getD i 0) = some k → k ∈ cs) ∧ (v_ki v (cs.getD i 0) ≠ 2 → ∀ k, v_fb v (cs.getD i 0) = some k → k ∈ cs)
theorem sc_gr {v : eV} {cs cs' : List Nat} {sc : Nat} (h : eh_sc v cs sc) (hs : sc ≤ cs.length) (hg : eh_gr v cs cs') : eh_sc v cs' sc := fun i hi => by
  have e := eg_get hg (show i < cs.length by omega)
  rw [e]
  exact ⟨fun a k b => eg_mem hg ((h i hi).1 a k b), fun a k b => eg_mem hg ((h i hi).2 a k b)⟩
theorem sc_step {v : eV} {cs : List Nat} {sc : Nat} (h : eh_sc v cs sc) (h1 : v_ki v (cs.getD sc 0) = 0 → ∀ k, v_fa v (cs.getD sc 0) = some k → k ∈ cs) (h2 : v_ki v (cs.getD sc 0) ≠ 2 → ∀ k, v_fb v (cs.getD sc 0) = some k → k ∈ cs) : eh_sc v cs (sc + 1) := fun i hi => by
  rcases Nat.lt_or_ge i sc with q | q
  · exact h i q
  · rw [show i = sc by omega]; exact ⟨h1, h2⟩
theorem sc_cl {v : eV} {cs : List Nat} (h : eh_sc v cs cs.length) (hp : ∀ j, j < cs.length → eh_pr v cs (cs.getD j 0)) : v_cl v (fun o => o ∈ cs) := by
  intro o ho
  obtain ⟨i, hi, e⟩ := mem_getD ho
  have a := h i hi
  have b := hp i hi
  rw [e] at a b
  exact ⟨a.1, a.2, fun hk k j hf hm hj => b hk k j hf hm hj⟩
/-- the targets of fields are here -/
theorem tg_a {v : eV} (hv : v_inv v) {o : Nat} (ho : o < 20) (hh : v_he v o = true) : ∀ k, v_fa v o = some k → k < 20 ∧ v_he v k = true := fun k e => ⟨(hv.1 o ho).2.1 k e, (hv.2.1 o ho hh).1 k e⟩
theorem tg_b {v : eV} (hv : v_inv v) {o : Nat} (ho : o < 20) (hh : v_he v o = true) : ∀ k, v_fb v o = some k → k < 20 ∧ v_he v k = true := fun k e => ⟨(hv.1 o ho).2.2 k e, (hv.2.1 o ho hh).2 k e⟩
theorem ki_cmp {a b : Nat} (ha : a ≤ 2) (hb : b ≤ 2) : nI a = nI b ↔ a = b := nI_eq (by omega) (by omega)
/-- spread's outer loop: before and round -/
def eh_sp (v : eV) (cs1 : List Nat) (sc1 : Nat) (b : Int32) (k : Nat) : Prop := (b = -1 ∧ k = 0) ∨ ∃ bn, b = nI bn ∧ bn ≤ cs1.length ∧ k ≤ bn + 1 ∧ (bn = cs1.length → v_cl v (fun o => o ∈ cs1) ∧ sc1 = cs1.length)
theorem sp_next {v : eV} {cs1 cs2 cs3 : List Nat} (h12 : eh_gr v cs1 cs2) (hs : eh_sc v cs2 cs2.length) (h23 : eh_gr v cs2 cs3) (hl : eh_lp v cs2 cs3 cs2.length) {k : Nat} (hk : k ≤ cs1.length) : eh_sp v cs3 cs2.length (nI cs1.length) (k + 1) := by
  have a := eg_len h12
  have b := eg_len h23
  refine Or.inr ⟨cs1.length, rfl, by omega, by omega, fun e => ?_⟩
  have e2 : cs3 = cs2 := eg_eq h23 (by omega)
  rcases hl with q | ⟨-, q⟩
  · omega
  · rw [e2]
    exact ⟨sc_cl hs q, rfl⟩
theorem sp_out1 {v : eV} {cs1 : List Nat} {sc1 k : Nat} {b : Int32} (h : eh_sp v cs1 sc1 b k) (hk : 21 ≤ k) (hc : cs1.length ≤ 20) : v_cl v (fun o => o ∈ cs1) ∧ sc1 = cs1.length := by
  rcases h with ⟨-, q⟩ | ⟨bn, -, h1, h2, h3⟩
  · omega
  · exact h3 (by omega)
theorem sp_out2 {v : eV} {cs1 : List Nat} {sc1 k : Nat} {b : Int32} (h : eh_sp v cs1 sc1 b k) (hb : b = nI cs1.length) (hc : cs1.length ≤ 20) : v_cl v (fun o => o ∈ cs1) ∧ sc1 = cs1.length := by
  rcases h with ⟨q, -⟩ | ⟨bn, e, h1, h2, h3⟩
  · exact absurd (hb.symm.trans q) (nI_m1 (by omega))
  · exact h3 (nI_inj (by omega) (by omega) (e.symm.trans hb))
theorem sp_in {v : eV} {cs1 : List Nat} {sc1 k : Nat} {b : Int32} (h : eh_sp v cs1 sc1 b k) (hb : ¬ b = nI cs1.length) : k ≤ cs1.length := by
  rcases h with ⟨-, q⟩ | ⟨bn, e, h1, h2, h3⟩
  · omega
  · rcases Nat.lt_or_ge bn cs1.length with q | q
    · omega
    · exact absurd (by rw [e, show bn = cs1.length by omega]) hb
/-- scanned goes up by one -/
theorem eh_scan1 {u : gS} {v : eV} {sp : Nat} {pl : Nat → Nat} {cs : List Nat} {sc : Nat} (h : eh_Q u v sp pl cs sc) (hs : sc < cs.length) : eh_Q (gI u 11 (nI (sc + 1))) v sp pl cs (sc + 1) := ⟨h.1, h.2.1, rfl, hs, h.2.2.2.2.1, h.2.2.2.2.2.1, h.2.2.2.2.2.2.1, h.2.2.2.2.2.2.2⟩
def eh_in (cs : List Nat) (x : Option Nat) : Bool := match x with
  | none => false
  | some k => decide (k ∈ cs)
def eh_nn (f : Nat → Int32) (pl : Nat → Nat) (x : Option Nat) : Int32 := match x with
  | none => -1
  | some k => f (pl k)
theorem eh_in_f {cs : List Nat} {x : Option Nat} (h : eh_in cs x = false) {k : Nat} (hk : x = some k) : k ∉ cs := by
  subst hk
  exact of_decide_eq_false h
theorem eh_in_t {cs : List Nat} {x : Option Nat} (h : eh_in cs x = true) : ∃ k, x = some k ∧ k ∈ cs := by
  cases x with
  | none => cases h
  | some k => exact ⟨k, rfl, of_decide_eq_true h⟩
end
section
/-! what copyLiving and living stand on -/
theorem qu_le {v : eV} (hv : v_inv v) : (v_qu v).length ≤ 20 := nd_le hv.2.2.2.2 (fun o ho => (hv.2.2.2.1 o ho).1)
/-- nothing copied yet -/
theorem eh_Q0 {u : gS} {v : eV} {sp : Nat} {pl : Nat → Nat} (h : eh_R u v sp pl) (h9 : ∀ j, j < 40 → u.2 9 j = -1) : eh_Q (gI (gI u 10 (nI 0)) 11 (nI 0)) v sp pl [] 0 :=
  ⟨h, rfl, rfl, Nat.le_refl _, List.nodup_nil, fun o ho => absurd ho List.not_mem_nil, fun i hi => absurd hi (Nat.not_lt_zero i), fun o a b _ => h9 _ (eh_pl h a b).2.2⟩
/-- the first i of the roots and of the queue are copied, and nothing that isn't such -/
def eh_st (v : eV) (cs : List Nat) (i j : Nat) : Prop := (∀ o, o ∈ cs → v_start v o) ∧ (∀ r, r < i → ∀ k, v_ro v r = some k → k ∈ cs) ∧ ∀ a, a < j → (v_qu v).getD a 0 ∈ cs
theorem st_root {v : eV} {cs : List Nat} {i : Nat} (h : eh_st v cs i 0) (hi : i < 4) : eh_st v (eh_add cs (v_ro v i)) (i + 1) 0 := by
  refine ⟨fun o ho => ?_, fun r hr k hk => ?_, fun a ha => absurd ha (Nat.not_lt_zero a)⟩
  · rcases eh_add_mem.mp ho with q | q
    · exact h.1 o q
    · exact Or.inl ⟨i, hi, q⟩
  · rcases Nat.lt_or_ge r i with q | q
    · exact eh_add_mem.mpr (Or.inl (h.2.1 r q k hk))
    · rw [show r = i by omega] at hk
      exact eh_add_mem.mpr (Or.inr hk)
theorem st_queue {v : eV} {cs : List Nat} {j : Nat} (h : eh_st v cs 4 j) (hj : j < (v_qu v).length) : eh_st v (eh_add cs (some ((v_qu v).getD j 0))) 4 (j + 1) := by
  refine ⟨fun o ho => ?_, fun r hr k hk => eh_add_mem.mpr (Or.inl (h.2.1 r hr k hk)), fun a ha => ?_⟩
  · rcases eh_add_mem.mp ho with q | q
    · exact h.1 o q
    · cases q
      exact Or.inr (getD_mem hj)
  · rcases Nat.lt_or_ge a j with q | q
    · exact eh_add_mem.mpr (Or.inl (h.2.2 a q))
    · rw [show a = j by omega]
      exact eh_add_mem.mpr (Or.inr rfl)
theorem st_live {v : eV} {cs cs' : List Nat} (h : eh_st v cs 4 (v_qu v).length) (hg : eh_gr v cs cs') (hc : v_cl v (fun o => o ∈ cs')) : ∀ o, o ∈ cs' ↔ v_live v o := by
  intro o
  constructor
  · exact fun ho => hg.2 (v_live v) (fun x hx => v_live_start (h.1 x hx)) (v_live_cl v) o ho
  · intro hl
    refine hl (fun o => o ∈ cs') (fun x hx => eg_mem hg ?_) hc
    rcases hx with ⟨r, hr, hx⟩ | hx
    · exact h.2.1 r hr x hx
    · obtain ⟨i, hi, e⟩ := mem_getD hx
      rw [← e]; exact h.2.2 i hi
/-- a mask is built of a list, one by one -/
theorem mk_take {cs : List Nat} {i : Nat} (hi : i < cs.length) (ho : cs.getD i 0 < 20) : mk_ (fun o => decide (o ∈ cs.take i)) 20 ||| bm (cs.getD i 0) = mk_ (fun o => decide (o ∈ cs.take (i + 1))) 20 := by
  rw [mk_set ho]
  refine mk_cong fun k _ => ?_
  have e : cs.take (i + 1) = cs.take i ++ [cs.getD i 0] := by
    rw [gd_eq hi, List.take_append_getElem hi]
  rw [e]
  generalize cs.getD i 0 = z
  by_cases q : k = z
  · simp [va_up, q]
  · simp [va_up, q]
theorem mk_take0 {cs : List Nat} : mk_ (fun o => decide (o ∈ cs.take 0)) 20 = nI 0 := (mk_of fun i _ => by rw [bt_n0]; simp).symm
theorem mk_lb {v : eV} {cs : List Nat} (h : ∀ o, o ∈ cs ↔ v_live v o) : mk_ (fun o => decide (o ∈ cs)) 20 = mk_ (v_lb v) 20 := mk_cong fun o _ => by
  rw [Bool.eq_iff_iff, decide_eq_true_iff, v_lb_iff]
  exact h o
end
section
/-! what rescue stands on -/
theorem res_0 {v : eV} {B : Nat → Bool} : v_res v B 0 = v := by
  have h1 : (fun o => if o < 0 ∧ v_ends v B o = true then false else v_ey v o) = v_ey v := funext fun o => if_neg (fun q => Nat.not_lt_zero o q.1)
  unfold v_res
  rw [h1, List.range_zero, List.filter_nil, List.append_nil]
theorem res_f {v : eV} {B : Nat → Bool} {i : Nat} (h : v_ends v B i = false) : v_res v B (i + 1) = v_res v B i := by
  have h1 : (fun o => if o < i + 1 ∧ v_ends v B o = true then false else v_ey v o) = (fun o => if o < i ∧ v_ends v B o = true then false else v_ey v o) := funext fun o => by
    by_cases q : o = i
    · subst q
      rw [if_neg (fun z => by rw [h] at z; exact absurd z.2 (by decide)), if_neg (fun z => Nat.lt_irrefl _ z.1)]
    · have : (o < i + 1 ∧ v_ends v B o = true) ↔ (o < i ∧ v_ends v B o = true) := ⟨fun z => ⟨by have := z.1; omega, z.2⟩, fun z => ⟨by have := z.1; omega, z.2⟩⟩
      simp only [this]
  unfold v_res
  rw [h1, List.range_succ, List.filter_append]
  simp [h]
theorem res_t {v : eV} {B : Nat → Bool} {i : Nat} (h : v_ends v B i = true) : v_res v B (i + 1) = v_setQ (v_setE (v_res v B i) i false) (v_qu (v_res v B i) ++ [i]) := by
  have h1 : (fun o => if o < i + 1 ∧ v_ends v B o = true then false else v_ey v o) = va_up (fun o => if o < i ∧ v_ends v B o = true then false else v_ey v o) i false := funext fun o => by
    unfold va_up
    by_cases q : o = i
    · subst q
      rw [if_pos ⟨Nat.lt_succ_self _, h⟩, if_pos rfl]
    · rw [if_neg q]
      have : (o < i + 1 ∧ v_ends v B o = true) ↔ (o < i ∧ v_ends v B o = true) := ⟨fun z => ⟨by have := z.1; omega, z.2⟩, fun z => ⟨by have := z.1; omega, z.2⟩⟩
      simp only [this]
  have h2 : (List.range (i + 1)).filter (v_ends v B) = (List.range i).filter (v_ends v B) ++ [i] := by
    rw [List.range_succ, List.filter_append]
    simp [h]
  show (v_he v, v_ki v, _, v_fa v, v_fb v, v_ro v, v_qu v ++ (List.range (i + 1)).filter (v_ends v B)) = (v_he v, v_ki v, _, v_fa v, v_fb v, v_ro v, (v_qu v ++ (List.range i).filter (v_ends v B)) ++ [i])
  rw [h2, List.append_assoc, h1]
  rfl
theorem res_mem {v : eV} {B : Nat → Bool} {n o : Nat} : o ∈ v_qu (v_res v B n) ↔ o ∈ v_qu v ∨ (o < n ∧ v_ends v B o = true) := by
  show o ∈ v_qu v ++ (List.range n).filter (v_ends v B) ↔ _
  rw [List.mem_append, List.mem_filter, List.mem_range]
theorem res_nd {v : eV} {B : Nat → Bool} {n : Nat} (hv : v_inv v) (hB : ∀ o, o ∈ v_qu v → B o = true) : (v_qu (v_res v B n)).Nodup := by
  show (v_qu v ++ (List.range n).filter (v_ends v B)).Nodup
  rw [List.nodup_append]
  refine ⟨hv.2.2.2.2, List.Nodup.sublist List.filter_sublist List.nodup_range, fun a ha b hb e => ?_⟩
  subst e
  have h1 := (List.mem_filter.mp hb).2
  unfold v_ends at h1
  rw [hB a ha] at h1
  simp at h1
theorem res_inv {v : eV} {B : Nat → Bool} {n : Nat} (hn : n ≤ 20) (hv : v_inv v) (hB : ∀ o, o ∈ v_qu v → B o = true) : v_inv (v_res v B n) := by
  refine ⟨hv.1, hv.2.1, hv.2.2.1, fun o ho => ?_, res_nd hv hB⟩
  rcases res_mem.mp ho with q | ⟨q1, q2⟩
  · exact hv.2.2.2.1 o q
  · unfold v_ends at q2
    simp only [Bool.and_eq_true] at q2
    exact ⟨by omega, q2.1⟩
theorem res_ql {v : eV} {B : Nat → Bool} {i : Nat} (hi : i < 20) (hv : v_inv v) (hB : ∀ o, o ∈ v_qu v → B o = true) (h : v_ends v B i = true) : (v_qu (v_res v B i)).length < 20 := by
  have h2 := res_inv (Nat.le_of_lt hi) hv hB
  have h1 : (i :: v_qu (v_res v B i)).length ≤ 20 := nd_le (List.nodup_cons.mpr ⟨fun q => ?_, h2.2.2.2.2⟩) (fun x hx => by
    rcases List.mem_cons.mp hx with rfl | q
    · exact hi
    · exact (h2.2.2.2.1 x q).1)
  · exact h1
  · rcases res_mem.mp q with z | z
    · have := hB i z
      unfold v_ends at h
      rw [this] at h
      simp at h
    · omega
/-- one watched object goes to the queue -/
theorem eh_res1 {u : gS} {v : eV} {sp : Nat} {pl : Nat → Nat} {cs : List Nat} {sc i : Nat} (h : eh_Q u v sp pl cs sc) (hi : i < 20) : eh_Q (gI (gI (gA u 13 (v_qu v).length (nI i)) 14 (nI ((v_qu v).length + 1))) 1 (mk_ (fun o => v_he v o && v_ey v o) 20 &&& (bm i ^^^ -1))) (v_setQ (v_setE v i false) (v_qu v ++ [i])) sp pl cs sc := by
  obtain ⟨⟨r0, r1, r2, r3, r4, r5, r6, r7, r8⟩, hc⟩ := h
  refine ⟨⟨r0, r1, r2, r3, ?_, r5, r6, ?_, ?_⟩, hc⟩
  · show mk_ (fun o => v_he v o && v_ey v o) 20 &&& (bm i ^^^ -1) = mk_ (fun o => v_he v o && va_up (v_ey v) i false o) 20
    rw [mk_clr hi]
    refine mk_cong fun o _ => ?_
    unfold va_up
    by_cases q : o = i
    · simp [q]
    · simp [q]
  · show nI ((v_qu v).length + 1) = nI (v_qu v ++ [i]).length
    rw [List.length_append]; rfl
  · intro a ha
    have ha : a < (v_qu v ++ [i]).length := ha
    rw [List.length_append] at ha
    show (if a = (v_qu v).length then nI i else u.2 13 a) = nI ((v_qu v ++ [i]).getD a 0)
    by_cases q : a = (v_qu v).length
    · rw [if_pos q, q, getD_app_eq]
    · have ha : a < (v_qu v).length + 1 := ha
      rw [if_neg q, getD_app_lt (by omega)]
      exact r8 a (by omega)
/-- the queue's places, copied one by one: what was copied stays in front -/
def eh_qs (v : eV) (cs cs1 : List Nat) (i : Nat) : Prop := (∃ t, cs1 = cs ++ t) ∧ (∀ o, o ∈ cs1 → o ∈ cs ∨ o ∈ v_qu v) ∧ ∀ a, a < i → (v_qu v).getD a 0 ∈ cs1
theorem qs_step {v : eV} {cs cs1 : List Nat} {i : Nat} (h : eh_qs v cs cs1 i) (hi : i < (v_qu v).length) : eh_qs v cs (eh_add cs1 (some ((v_qu v).getD i 0))) (i + 1) := by
  obtain ⟨⟨t, e⟩, h2, h3⟩ := h
  obtain ⟨t2, e2⟩ := eh_add_pre (cs := cs1) (x := some ((v_qu v).getD i 0))
  refine ⟨⟨t ++ t2, by rw [e2, e, List.append_assoc]⟩, fun o ho => ?_, fun a ha => ?_⟩
  · rcases eh_add_mem.mp ho with q | q
    · exact h2 o q
    · cases q
      exact Or.inr (getD_mem hi)
  · rcases Nat.lt_or_ge a i with q | q
    · exact eh_add_mem.mpr (Or.inl (h3 a q))
    · rw [show a = i by omega]
      exact eh_add_mem.mpr (Or.inr rfl)
theorem qs_sc {v : eV} {cs cs1 : List Nat} {i : Nat} (h : eh_qs v cs cs1 i) (hc : v_cl v (fun o => o ∈ cs)) : eh_sc v cs1 cs.length := fun j hj => by
  obtain ⟨⟨t, e⟩, -, -⟩ := h
  have e1 : cs1.getD j 0 = cs.getD j 0 := by rw [e]; exact getD_app_lt hj
  have m : ∀ k, k ∈ cs → k ∈ cs1 := fun k hk => by rw [e]; exact List.mem_append_left _ hk
  have a := hc _ (getD_mem hj)
  rw [e1]
  exact ⟨fun x k y => m k (a.1 x k y), fun x k y => m k (a.2.1 x k y)⟩
theorem qs_live {v v1 : eV} {cs cs1 cs2 : List Nat} (h0 : ∀ o, o ∈ cs ↔ v_live v o) (hcl : ∀ X, v_cl v1 X ↔ v_cl v X) (hro : v_ro v1 = v_ro v) (hqu : ∀ o, o ∈ v_qu v → o ∈ v_qu v1) (h : eh_qs v1 cs cs1 (v_qu v1).length) (hg : eh_gr v1 cs1 cs2) (hc : v_cl v1 (fun o => o ∈ cs2)) : (∃ t, cs2 = cs ++ t) ∧ ∀ o, o ∈ cs2 ↔ v_live v1 o := by
  obtain ⟨⟨t, e⟩, h2, h3⟩ := h
  obtain ⟨⟨t2, e2⟩, hg2⟩ := hg
  have m : ∀ k, k ∈ cs → k ∈ cs2 := fun k hk => by rw [e2, e]; exact List.mem_append_left _ (List.mem_append_left _ hk)
  refine ⟨⟨t ++ t2, by rw [e2, e, List.append_assoc]⟩, fun o => ⟨fun ho => ?_, fun hl => ?_⟩⟩
  · refine hg2 (v_live v1) (fun x hx => ?_) (v_live_cl v1) o ho
    rcases h2 x hx with q | q
    · intro X a b
      refine (h0 x).mp q X (fun y hy => a y ?_) ((hcl X).mp b)
      rcases hy with ⟨r, hr, hy⟩ | hy
      · exact Or.inl ⟨r, hr, by rw [hro]; exact hy⟩
      · exact Or.inr (hqu y hy)
    · exact v_live_start (Or.inr q)
  · refine hl (fun o => o ∈ cs2) (fun x hx => ?_) hc
    rcases hx with ⟨r, hr, hx⟩ | hx
    · rw [hro] at hx
      exact m x ((h0 x).mpr (v_live_start (Or.inl ⟨r, hr, hx⟩)))
    · obtain ⟨i, hi, e3⟩ := mem_getD hx
      rw [← e3, e2]
      exact List.mem_append_left _ (h3 i hi)
theorem res_bit {v : eV} {B : Nat → Bool} {i : Nat} (h : v_he v i = true) : (v_he (v_res v B i) i && v_ey (v_res v B i) i) = v_ey v i := by
  show (v_he v i && (if i < i ∧ v_ends v B i = true then false else v_ey v i)) = v_ey v i
  rw [h, if_neg (fun q => Nat.lt_irrefl i q.1)]
  rfl
end
section
/-! what mend and clean stand on -/
def ef (X : Nat → Bool) (x : Option Nat) : Option Nat := match x with
  | none => none
  | some k => if X k = true then some k else none
theorem ef_all {X : Nat → Bool} {x : Option Nat} (h : ∀ k, x = some k → X k = true) : ef X x = x := by
  cases x with
  | none => rfl
  | some k => exact if_pos (h k rfl)
theorem ef_some {X : Nat → Bool} {x : Option Nat} {k : Nat} (h : ef X x = some k) : x = some k ∧ X k = true := by
  cases x with
  | none => cases h
  | some j =>
    unfold ef at h
    by_cases q : X j = true
    · simp only [q, if_true] at h
      cases h
      exact ⟨rfl, q⟩
    · simp [q] at h
def eh_pn (sp : Nat) (cs : List Nat) (o : Nat) : Nat := (1 - sp) * 20 + cs.idxOf o
theorem pn_get {sp : Nat} {cs : List Nat} (hn : cs.Nodup) {i : Nat} (hi : i < cs.length) : eh_pn sp cs (cs.getD i 0) = (1 - sp) * 20 + i := by
  unfold eh_pn
  rw [gd_eq hi, List.Nodup.idxOf_getElem hn i hi]
theorem pn_lt {sp : Nat} {cs : List Nat} (hn : cs.Nodup) {o : Nat} (ho : o ∈ cs) : eh_pn sp cs o < (1 - sp) * 20 + cs.length := by
  obtain ⟨i, hi, e⟩ := mem_getD ho
  rw [← e, pn_get hn hi]
  omega
theorem pn_ge {sp : Nat} {cs : List Nat} {o : Nat} : (1 - sp) * 20 ≤ eh_pn sp cs o := Nat.le_add_right _ _
theorem pn_first {sp : Nat} {cs t : List Nat} (hn : (cs ++ t).Nodup) {k : Nat} (hk : k ∈ cs ++ t) : k ∈ cs ↔ eh_pn sp (cs ++ t) k < (1 - sp) * 20 + cs.length := by
  obtain ⟨i, hi, e⟩ := mem_getD hk
  rw [← e, pn_get hn hi]
  constructor
  · intro hm
    obtain ⟨j, hj, e2⟩ := mem_getD hm
    rw [← getD_app_lt (t := t) hj] at e2
    have := nd_inj hn (by rw [List.length_append]; omega) hi e2
    omega
  · intro hl
    rw [getD_app_lt (by omega)]
    exact getD_mem (by omega)
/-- while the copies are mended: the first i are -/
def eh_N (u : gS) (v : eV) (sp : Nat) (pl : Nat → Nat) (cs : List Nat) (B A : Nat → Bool) (i : Nat) : Prop :=
  sp ≤ 1 ∧ u.1 3 = nI sp ∧ u.1 0 = mk_ (v_he v) 20 ∧ u.1 1 = mk_ (fun o => v_he v o && v_ey v o) 20 ∧ u.1 10 = nI cs.length ∧
  (u.1 14 = nI (v_qu v).length ∧ ∀ a, a < (v_qu v).length → u.2 13 a = nI ((v_qu v).getD a 0)) ∧ (∀ r, r < 4 → u.2 12 r = eP pl (v_ro v r)) ∧
  (∀ j, j < cs.length → u.2 5 ((1 - sp) * 20 + j) = nI (cs.getD j 0) ∧ u.2 6 ((1 - sp) * 20 + j) = nI (v_ki v (cs.getD j 0)) ∧ u.2 9 (pl (cs.getD j 0)) = nI ((1 - sp) * 20 + j)) ∧
  (∀ o, o < 20 → v_he v o = true → o ∉ cs → u.2 9 (pl o) = -1) ∧
  (∀ j, j < i → j < cs.length → u.2 7 ((1 - sp) * 20 + j) = eP (eh_pn sp cs) (v_fa2 v B A (cs.getD j 0)) ∧ u.2 8 ((1 - sp) * 20 + j) = eP (eh_pn sp cs) (v_fb2 v B A (cs.getD j 0))) ∧
  (∀ j, i ≤ j → j < cs.length → u.2 7 ((1 - sp) * 20 + j) = eP pl (v_fa v (cs.getD j 0)) ∧ u.2 8 ((1 - sp) * 20 + j) = eP pl (v_fb v (cs.getD j 0)))
theorem N_of_Q {u : gS} {v : eV} {sp : Nat} {pl : Nat → Nat} {cs : List Nat} {sc : Nat} {B A : Nat → Bool} (h : eh_Q u v sp pl cs sc) : eh_N u v sp pl cs B A 0 := by
  obtain ⟨⟨r0, r1, r2, r3, r4, r5, r6, r7, r8⟩, c1, c2, c3, c4, c5, c6, c7⟩ := h
  exact ⟨r0, r1, r3, r4, c1, ⟨r7, r8⟩, r6, fun j hj => ⟨(c6 j hj).1, (c6 j hj).2.1, (c6 j hj).2.2.2.2⟩, c7, fun j hj => absurd hj (Nat.not_lt_zero j), fun j _ hj => ⟨(c6 j hj).2.2.1, (c6 j hj).2.2.2.1⟩⟩
theorem nn_eq {u : gS} {v : eV} {sp : Nat} {pl : Nat → Nat} {cs : List Nat} {B A : Nat → Bool} {i : Nat} (h : eh_N u v sp pl cs B A i) (hn : cs.Nodup) (hA : ∀ o, A o = true ↔ o ∈ cs) {x : Option Nat} (hx : ∀ k, x = some k → k < 20 ∧ v_he v k = true) : eP (eh_pn sp cs) (ef A x) = eh_nn (u.2 9) pl x := by
  cases x with
  | none => rfl
  | some k =>
    show eP (eh_pn sp cs) (if A k = true then some k else none) = u.2 9 (pl k)
    by_cases q : A k = true
    · rw [if_pos q]
      obtain ⟨j, hj, e⟩ := mem_getD ((hA k).mp q)
      have := (h.2.2.2.2.2.2.2.1 j hj).2.2
      rw [e] at this
      rw [this]
      show nI (eh_pn sp cs k) = _
      rw [← e, pn_get hn hj]
    · rw [if_neg q]
      exact (h.2.2.2.2.2.2.2.2.1 k (hx k rfl).1 (hx k rfl).2 (fun z => q ((hA k).mpr z))).symm
theorem N_step {u : gS} {v : eV} {sp : Nat} {pl : Nat → Nat} {cs : List Nat} {B A : Nat → Bool} {i : Nat} (h : eh_N u v sp pl cs B A i) (hi : i < cs.length) : eh_N (gA (gA u 7 ((1 - sp) * 20 + i) (eP (eh_pn sp cs) (v_fa2 v B A (cs.getD i 0)))) 8 ((1 - sp) * 20 + i) (eP (eh_pn sp cs) (v_fb2 v B A (cs.getD i 0)))) v sp pl cs B A (i + 1) := by
  obtain ⟨r0, r1, r3, r4, c1, r7, r6, c6, c7, c8, c9⟩ := h
  refine ⟨r0, r1, r3, r4, c1, r7, r6, c6, c7, fun j h1 hj => ?_, fun j h1 hj => ?_⟩
  · refine ⟨?_, ?_⟩
    · show (if (1 - sp) * 20 + j = (1 - sp) * 20 + i then eP (eh_pn sp cs) (v_fa2 v B A (cs.getD i 0)) else u.2 7 ((1 - sp) * 20 + j)) = _
      by_cases q : j = i
      · rw [q, if_pos rfl]
      · rw [if_neg (by omega)]; exact (c8 j (by omega) hj).1
    · show (if (1 - sp) * 20 + j = (1 - sp) * 20 + i then eP (eh_pn sp cs) (v_fb2 v B A (cs.getD i 0)) else u.2 8 ((1 - sp) * 20 + j)) = _
      by_cases q : j = i
      · rw [q, if_pos rfl]
      · rw [if_neg (by omega)]; exact (c8 j (by omega) hj).2
  · refine ⟨?_, ?_⟩
    · show (if (1 - sp) * 20 + j = (1 - sp) * 20 + i then _ else u.2 7 ((1 - sp) * 20 + j)) = _
      rw [if_neg (by omega)]; exact (c9 j (by omega) hj).1
    · show (if (1 - sp) * 20 + j = (1 - sp) * 20 + i then _ else u.2 8 ((1 - sp) * 20 + j)) = _
      rw [if_neg (by omega)]; exact (c9 j (by omega) hj).2
/-! the mended fields, by kind -/
theorem m_fa0 {v : eV} {B A : Nat → Bool} {o : Nat} (h : v_ki v o = 0) : v_fa2 v B A o = v_fa v o := if_neg (by rw [h]; rintro (⟨q, -⟩ | ⟨q, -⟩) <;> cases q)
theorem m_fa1 {v : eV} {B A : Nat → Bool} {o : Nat} (h : v_ki v o = 1) : v_fa2 v B A o = ef B (v_fa v o) := by
  unfold v_fa2
  rw [h]
  cases v_fa v o with
  | none => simp [v_out, ef]
  | some k => cases hb : B k <;> simp [v_out, ef, hb]
theorem m_fa2 {v : eV} {B A : Nat → Bool} {o : Nat} (h : v_ki v o = 2) : v_fa2 v B A o = ef A (v_fa v o) := by
  unfold v_fa2
  rw [h]
  cases v_fa v o with
  | none => simp [v_out, ef]
  | some k => cases hb : A k <;> simp [v_out, ef, hb]
theorem m_fb {v : eV} {B A : Nat → Bool} {o : Nat} (h : v_ki v o ≠ 2) : v_fb2 v B A o = v_fb v o := if_neg (fun q => h q.1)
theorem m_fbn {v : eV} {B A : Nat → Bool} {o : Nat} (h : v_ki v o = 2) (h2 : v_fa2 v B A o = none) : v_fb2 v B A o = none := if_pos ⟨h, h2⟩
theorem m_fbs {v : eV} {B A : Nat → Bool} {o k : Nat} (h2 : v_fa2 v B A o = some k) : v_fb2 v B A o = v_fb v o := if_neg (fun q => by rw [h2] at q; cases q.2)
/-- what mended fields point to was copied -/
theorem m_fa_in {v : eV} {B A : Nat → Bool} (hc : v_cl v (fun o => A o = true)) (hB : ∀ k, B k = true → A k = true) {o k : Nat} (hk : v_ki v o ≤ 2) (ho : A o = true) (h : v_fa2 v B A o = some k) : A k = true := by
  rcases (show v_ki v o = 0 ∨ v_ki v o = 1 ∨ v_ki v o = 2 by omega) with q | q | q
  · rw [m_fa0 q] at h
    exact (hc o ho).1 q k h
  · rw [m_fa1 q] at h
    exact hB k (ef_some h).2
  · rw [m_fa2 q] at h
    exact (ef_some h).2
theorem m_fb_in {v : eV} {B A : Nat → Bool} (hc : v_cl v (fun o => A o = true)) {o k : Nat} (ho : A o = true) (h : v_fb2 v B A o = some k) : A k = true := by
  by_cases q : v_ki v o = 2
  · cases h2 : v_fa2 v B A o with
    | none => rw [m_fbn q h2] at h; cases h
    | some j =>
      rw [m_fbs h2] at h
      rw [m_fa2 q] at h2
      exact (hc o ho).2.2 q j k (ef_some h2).1 (ef_some h2).2 h
  · rw [m_fb q] at h
    exact (hc o ho).2.1 q k h
theorem m_fa_sub {v : eV} {B A : Nat → Bool} {o k : Nat} (h : v_fa2 v B A o = some k) : v_fa v o = some k := by
  unfold v_fa2 at h
  split at h
  · cases h
  · exact h
theorem m_fb_sub {v : eV} {B A : Nat → Bool} {o k : Nat} (h : v_fb2 v B A o = some k) : v_fb v o = some k := by
  unfold v_fb2 at h
  split at h
  · cases h
  · exact h
/-- a weak object's first field: kept if it was among the first -/
theorem m_weak {sp fst : Nat} {cs : List Nat} {B A : Nat → Bool} (hsp : sp ≤ 1) (hf : fst ≤ 20) (hl : cs.length ≤ 20) (hn : cs.Nodup) (hA : ∀ o, A o = true ↔ o ∈ cs) (hB1 : ∀ k, B k = true → k ∈ cs) (hB2 : ∀ k, k ∈ cs → (B k = true ↔ eh_pn sp cs k < (1 - sp) * 20 + fst)) (x : Option Nat) :
    (eP (eh_pn sp cs) (ef A x) < nI ((1 - sp) * 20 + fst) → eP (eh_pn sp cs) (ef A x) = eP (eh_pn sp cs) (ef B x)) ∧ (¬ eP (eh_pn sp cs) (ef A x) < nI ((1 - sp) * 20 + fst) → -1 = eP (eh_pn sp cs) (ef B x)) := by
  have h0 : (-1 : Int32) < nI ((1 - sp) * 20 + fst) := Int32.lt_of_lt_of_le m1_lt (nI_pos' (by omega))
  cases x with
  | none => exact ⟨fun _ => rfl, fun q => absurd h0 q⟩
  | some k =>
    by_cases q : A k = true
    · have hk := (hA k).mp q
      have e1 : ef A (some k) = some k := if_pos q
      have hlt := pn_lt (sp := sp) hn hk
      rw [e1]
      by_cases z : B k = true
      · have e2 : ef B (some k) = some k := if_pos z
        rw [e2]
        exact ⟨fun _ => rfl, fun w => absurd (nI_lt ((hB2 k hk).mp z) (by omega)) w⟩
      · have e2 : ef B (some k) = none := if_neg z
        rw [e2]
        exact ⟨fun w => absurd ((hB2 k hk).mpr ((nI_ltI (by omega) (by omega)).mp w)) z, fun _ => rfl⟩
    · have e1 : ef A (some k) = none := if_neg q
      have e2 : ef B (some k) = none := if_neg (fun z => q ((hA k).mpr (hB1 k z)))
      rw [e1, e2]
      exact ⟨fun _ => rfl, fun w => absurd h0 w⟩
end
section
/-! what clean stands on -/
def eh_T (u : gS) (v : eV) (sp : Nat) (pl : Nat → Nat) (cs : List Nat) (B A : Nat → Bool) (i : Nat) : Prop :=
  sp ≤ 1 ∧ u.1 3 = nI sp ∧ u.1 0 = mk_ (v_he v) 20 ∧ u.1 1 = mk_ (fun o => v_he v o && v_ey v o) 20 ∧ u.1 10 = nI cs.length ∧
  (u.1 14 = nI (v_qu v).length ∧ ∀ a, a < (v_qu v).length → u.2 13 a = nI ((v_qu v).getD a 0)) ∧ (∀ r, r < 4 → u.2 12 r = if r < i then eP (eh_pn sp cs) (v_ro v r) else eP pl (v_ro v r)) ∧
  (∀ j, j < cs.length → u.2 5 ((1 - sp) * 20 + j) = nI (cs.getD j 0) ∧ u.2 6 ((1 - sp) * 20 + j) = nI (v_ki v (cs.getD j 0)) ∧ u.2 7 ((1 - sp) * 20 + j) = eP (eh_pn sp cs) (v_fa2 v B A (cs.getD j 0)) ∧ u.2 8 ((1 - sp) * 20 + j) = eP (eh_pn sp cs) (v_fb2 v B A (cs.getD j 0))) ∧
  (∀ o, o ∈ cs → u.2 9 (pl o) = nI (eh_pn sp cs o))
theorem T_of_N {u : gS} {v : eV} {sp : Nat} {pl : Nat → Nat} {cs : List Nat} {B A : Nat → Bool} (hn : cs.Nodup) (h : eh_N u v sp pl cs B A cs.length) : eh_T u v sp pl cs B A 0 := by
  obtain ⟨r0, r1, r3, r4, c1, r7, r6, c6, c7, c8, c9⟩ := h
  refine ⟨r0, r1, r3, r4, c1, r7, fun r hr => by rw [if_neg (Nat.not_lt_zero r)]; exact r6 r hr, fun j hj => ⟨(c6 j hj).1, (c6 j hj).2.1, (c8 j hj hj).1, (c8 j hj hj).2⟩, fun o ho => ?_⟩
  obtain ⟨j, hj, e⟩ := mem_getD ho
  have := (c6 j hj).2.2
  rw [← e, pn_get hn hj]
  exact this
theorem T_step {u : gS} {v : eV} {sp : Nat} {pl : Nat → Nat} {cs : List Nat} {B A : Nat → Bool} {i : Nat} (h : eh_T u v sp pl cs B A i) : eh_T (gA u 12 i (eP (eh_pn sp cs) (v_ro v i))) v sp pl cs B A (i + 1) := by
  obtain ⟨r0, r1, r3, r4, c1, r7, r6, c6, c7⟩ := h
  refine ⟨r0, r1, r3, r4, c1, r7, fun r hr => ?_, c6, c7⟩
  show (if r = i then eP (eh_pn sp cs) (v_ro v i) else u.2 12 r) = _
  by_cases q : r = i
  · rw [if_pos q, if_pos (by omega), q]
  · rw [if_neg q, r6 r hr]
    by_cases z : r < i
    · rw [if_pos z, if_pos (by omega)]
    · rw [if_neg z, if_neg (by omega)]
theorem T_nn {u : gS} {v : eV} {sp : Nat} {pl : Nat → Nat} {cs : List Nat} {B A : Nat → Bool} {i : Nat} (h : eh_T u v sp pl cs B A i) {x : Option Nat} (hx : ∀ k, x = some k → k ∈ cs) : eP (eh_pn sp cs) x = eh_nn (u.2 9) pl x := by
  cases x with
  | none => rfl
  | some k => exact (h.2.2.2.2.2.2.2.2 k (hx k rfl)).symm
def eh_U (u : gS) (v : eV) (sp : Nat) (cs : List Nat) (B A : Nat → Bool) (i : Nat) : Prop :=
  sp ≤ 1 ∧ u.1 3 = nI (1 - sp) ∧ u.1 4 = nI cs.length ∧ u.1 0 = mk_ (fun o => decide (o ∈ cs.take i)) 20 ∧ u.1 1 = mk_ (fun o => v_he v o && v_ey v o) 20 ∧ u.1 10 = nI cs.length ∧
  (u.1 14 = nI (v_qu v).length ∧ ∀ a, a < (v_qu v).length → u.2 13 a = nI ((v_qu v).getD a 0)) ∧ (∀ r, r < 4 → u.2 12 r = eP (eh_pn sp cs) (v_ro v r)) ∧
  (∀ j, j < cs.length → u.2 5 ((1 - sp) * 20 + j) = nI (cs.getD j 0) ∧ u.2 6 ((1 - sp) * 20 + j) = nI (v_ki v (cs.getD j 0)) ∧ u.2 7 ((1 - sp) * 20 + j) = eP (eh_pn sp cs) (v_fa2 v B A (cs.getD j 0)) ∧ u.2 8 ((1 - sp) * 20 + j) = eP (eh_pn sp cs) (v_fb2 v B A (cs.getD j 0))) ∧
  (∀ j, j < i → j < cs.length → u.2 2 (cs.getD j 0) = nI ((1 - sp) * 20 + j))
theorem U_of_T {u : gS} {v : eV} {sp : Nat} {pl : Nat → Nat} {cs : List Nat} {B A : Nat → Bool} (h : eh_T u v sp pl cs B A 4) : eh_U (gI (gI (gI u 3 (nI (1 - sp))) 4 (nI cs.length)) 0 (nI 0)) v sp cs B A 0 := by
  obtain ⟨r0, r1, r3, r4, c1, r7, r6, c6, c7⟩ := h
  exact ⟨r0, rfl, rfl, mk_take0.symm, r4, c1, r7, fun r hr => by have := r6 r hr; rw [if_pos hr] at this; exact this, c6, fun j hj => absurd hj (Nat.not_lt_zero j)⟩
theorem U_step {u : gS} {v : eV} {sp : Nat} {cs : List Nat} {B A : Nat → Bool} {i : Nat} (hn : cs.Nodup) (hi : i < cs.length) (h : eh_U u v sp cs B A i) : eh_U (gA (gI u 0 (mk_ (fun o => decide (o ∈ cs.take (i + 1))) 20)) 2 (cs.getD i 0) (nI ((1 - sp) * 20 + i))) v sp cs B A (i + 1) := by
  obtain ⟨r0, r1, r3, r4, c1, r7, r6, c6, c7, c8⟩ := h
  refine ⟨r0, r1, r3, rfl, c1, r7, r6, c6, c7, fun j h1 hj => ?_⟩
  show (if cs.getD j 0 = cs.getD i 0 then nI ((1 - sp) * 20 + i) else u.2 2 (cs.getD j 0)) = _
  by_cases q : j = i
  · rw [q, if_pos rfl]
  · rw [if_neg (fun e => q (nd_inj hn hj hi e))]
    exact c8 j (by omega) hj
/-- the end of clean -/
theorem R_of_U {u : gS} {v : eV} {sp : Nat} {cs : List Nat} (hv : v_inv v) (hn : cs.Nodup) (hcs : ∀ o, o ∈ cs ↔ v_live (v_res v (v_lb v) 20) o) (hh : ∀ o, o ∈ cs → o < 20 ∧ v_he v o = true) (h : eh_U u (v_res v (v_lb v) 20) sp cs (v_lb v) (v_lb (v_res v (v_lb v) 20)) cs.length) :
    eh_R (gI u 1 (mk_ (fun o => v_he v o && v_ey (v_res v (v_lb v) 20) o) 20 &&& mk_ (fun o => decide (o ∈ cs)) 20)) (v_cln v) (1 - sp) (eh_pn sp cs) := by
  obtain ⟨r0, r1, r3, r4, c1, r7, r6, c6, c7, c8⟩ := h
  have hA : ∀ o, v_lb (v_res v (v_lb v) 20) o = decide (o ∈ cs) := fun o => by
    rw [Bool.eq_iff_iff, v_lb_iff, decide_eq_true_iff]
    exact (hcs o).symm
  have hhe : ∀ o, v_he (v_cln v) o = decide (o ∈ cs) := fun o => by
    show (v_he v o && v_lb (v_res v (v_lb v) 20) o) = _
    rw [hA]
    by_cases q : o ∈ cs
    · rw [decide_eq_true q, (hh o q).2]; rfl
    · rw [decide_eq_false q]; simp
  have hct : fb_ct (v_he (v_cln v)) 20 = cs.length := by
    rw [fb_ct_cong (q := fun o => decide (o ∈ cs)) (fun k _ => hhe k)]
    exact nd_ct cs 20 hn (fun o ho => (hh o ho).1)
  refine ⟨by omega, r1, by rw [hct]; exact r3, ?_, ?_, fun o ho hho => ?_, c6, r6.1, r6.2⟩
  · show u.1 0 = _
    rw [r4, List.take_length]
    exact mk_cong fun o _ => (hhe o).symm
  · show mk_ (fun o => v_he v o && v_ey (v_res v (v_lb v) 20) o) 20 &&& mk_ (fun o => decide (o ∈ cs)) 20 = _
    rw [mk_and]
    refine mk_cong fun o _ => ?_
    show (v_he v o && v_ey (v_res v (v_lb v) 20) o && decide (o ∈ cs)) = (v_he (v_cln v) o && v_ey (v_res v (v_lb v) 20) o)
    rw [hhe]
    by_cases q : o ∈ cs
    · rw [decide_eq_true q, (hh o q).2]; simp
    · rw [decide_eq_false q]; simp
  · rw [hhe] at hho
    obtain ⟨j, hj, e⟩ := mem_getD (of_decide_eq_true hho)
    have hp := pn_get (sp := sp) hn hj
    rw [e] at hp
    have a := c7 j hj
    have b := c8 j hj hj
    rw [e] at a b
    rw [hct, hp]
    exact ⟨b, by omega, by omega, a.1, a.2.1, a.2.2.1, a.2.2.2⟩
theorem cln_ct {v : eV} {A : Nat → Bool} {cs : List Nat} (hn : cs.Nodup) (hA : ∀ o, A o = true ↔ o ∈ cs) (hh : ∀ o, o ∈ cs → o < 20 ∧ v_he v o = true) : nI (fb_ct (v_he v) 20) - nI cs.length = nI (fb_ct (fun o => v_he v o && !A o) 20) := by
  have h1 : fb_ct (fun o => decide (o ∈ cs)) 20 = cs.length := nd_ct cs 20 hn (fun o ho => (hh o ho).1)
  have h2 : fb_ct (v_he v) 20 = fb_ct (fun o => decide (o ∈ cs) || (v_he v o && !A o)) 20 := fb_ct_cong fun k _ => by
    by_cases q : k ∈ cs
    · rw [decide_eq_true q, (hh k q).2]; rfl
    · have : A k = false := by
        cases e : A k
        · rfl
        · exact absurd ((hA k).mp e) q
      rw [decide_eq_false q, this]; simp
  rw [fb_ct_or (fun k _ z => by
    have a := (hA k).mpr (of_decide_eq_true z.1)
    have b := z.2
    rw [a] at b
    simp at b)] at h2
  rw [h2, h1, pk_sub (by omega)]
  congr 1
  omega
/-- clean keeps the invariant -/
theorem cln_inv {v : eV} (hv : v_inv v) : v_inv (v_cln v) := by
  have hB : ∀ o, o ∈ v_qu v → v_lb v o = true := fun o ho => v_lb_iff.mpr (v_live_start (Or.inr ho))
  have hv1 : v_inv (v_res v (v_lb v) 20) := res_inv (Nat.le_refl _) hv hB
  have hcl : v_cl v (fun o => v_lb (v_res v (v_lb v) 20) o = true) := by
    have e : (fun o => v_lb (v_res v (v_lb v) 20) o = true) = v_live (v_res v (v_lb v) 20) := funext fun o => propext v_lb_iff
    rw [e]
    exact v_live_cl (v_res v (v_lb v) 20)
  have hsub : ∀ k, v_lb v k = true → v_lb (v_res v (v_lb v) 20) k = true := fun k hk => v_lb_iff.mpr (fun X a b => v_lb_iff.mp hk X (fun y hy => a y (by
    rcases hy with q | q
    · exact Or.inl q
    · exact Or.inr (res_mem.mpr (Or.inl q)))) b)
  have hst : ∀ o, v_start (v_res v (v_lb v) 20) o → o < 20 ∧ v_he (v_cln v) o = true := fun o ho => by
    have hl := v_live_start ho
    have := v_live_here hv1 hl
    refine ⟨this.1, ?_⟩
    show (v_he v o && v_lb (v_res v (v_lb v) 20) o) = true
    rw [v_lb_iff.mpr hl, Bool.and_true]
    exact this.2
  refine ⟨fun o ho => ⟨(hv.1 o ho).1, fun k hk => (hv.1 o ho).2.1 k (m_fa_sub hk), fun k hk => (hv.1 o ho).2.2 k (m_fb_sub hk)⟩, fun o ho hh => ?_, fun r hr k hk => hst k (Or.inl ⟨r, hr, hk⟩), fun o ho => hst o (Or.inr ho), hv1.2.2.2.2⟩
  have hh : (v_he v o && v_lb (v_res v (v_lb v) 20) o) = true := hh
  rw [Bool.and_eq_true] at hh
  refine ⟨fun k hk => ?_, fun k hk => ?_⟩
  · show (v_he v k && v_lb (v_res v (v_lb v) 20) k) = true
    rw [Bool.and_eq_true]
    exact ⟨(hv.2.1 o ho hh.1).1 k (m_fa_sub hk), m_fa_in hcl hsub (hv.1 o ho).1 hh.2 hk⟩
  · show (v_he v k && v_lb (v_res v (v_lb v) 20) k) = true
    rw [Bool.and_eq_true]
    exact ⟨(hv.2.1 o ho hh.1).2 k (m_fb_sub hk), m_fb_in hcl hh.2 hk⟩
def eh_RR (u : gS) (v : eV) : Prop := ∃ sp pl, eh_R u v sp pl
end
section
/-! EphemeronHeap: the small methods -/
set_option maxHeartbeats 4000000 in
set_option maxRecDepth 100000 in
/-- has(x) -/
theorem me_has (l : Launch) (D : va_G) (h : Nat → Nat) (d : Nat → ClassId) (u : gS) (v : eV) (x : Int32) (h0 : u.1 0 = mk_ (v_he v) 20) : gk_Mi l D (eh_t d) (eh_w h d) yX0_has cX0_has 2 .boolean 0 0 [.ref (h 100), .int x] u (fun r u' => r = bI (v_has v x) ∧ u' = u) := by
  refine gk_oi (own := RX0) (by decide) rfl (Nat.le_of_ble_eq_true rfl) (fun r u' q => by rw [q.1]; exact bI_range _) ?_
  intro p e R s m args below meth c Q A ls C G hret hl
  have hx := C.1.1
  have hb := C.1.2.1
  have hl : lv_has ls 2 [(0, .ref (h 100)), (1, .int x)] := hl
  refine lv_iload_n hx hb dX0_has_0 rfl (lv_at hl 1 rfl) ?_
  refine lv_if_lt (tgt := 25) hx hb dX0_has_1 (by decide) (fun c1 => ?_) (fun c1 => ?_)
  · refine lv_iconst (v := nI 0) hx hb dX0_has_25 (by decide) ?_
    exact hret (nI 0) u _ _ _ _ G (⟨by rw [v_has_neg c1]; rfl, rfl⟩) dX0_has_26
  · refine lv_iload_n hx hb dX0_has_4 rfl (lv_at hl 1 rfl) ?_
    refine lv_bipush (v := nI 20) hx hb dX0_has_5 (by decide) ?_
    refine lv_icmp_ge (tgt := 25) hx hb dX0_has_7 (by decide) (fun c2 => ?_) (fun c2 => ?_)
    · refine lv_iconst (v := nI 0) hx hb dX0_has_25 (by decide) ?_
      exact hret (nI 0) u _ _ _ _ G (⟨by rw [v_has_big c2]; rfl, rfl⟩) dX0_has_26
    · obtain ⟨n, hn, hxn⟩ : ∃ n, n < 20 ∧ x = nI n := by
        rcases pk_ix x (n := 20) (by omega) with q | q | ⟨n, hn, e⟩
        · exact absurd q c1
        · exact absurd q c2
        · exact ⟨n, hn, e⟩
      have hv : v_has v x = v_he v n := by rw [hxn]; exact v_has_nI hn
      refine lv_aload_n hx hb dX0_has_10 rfl (lv_at hl 0 rfl) ?_
      refine eh_g0 (x := mk_ (v_he v) 20) C G (h0) dX0_has_11 ?_
      refine lv_iload_n hx hb dX0_has_14 rfl (lv_at hl 1 rfl) ?_
      refine lv_ishr hx hb dX0_has_15 ?_
      refine lv_iconst (v := nI 1) hx hb dX0_has_16 (by decide) ?_
      refine lv_iand hx hb dX0_has_17 ?_
      refine gk_tv (y := bI (v_he v n)) (by rw [hxn]; exact mk_test hn) ?_
      refine lv_if_eq (tgt := 25) hx hb dX0_has_18 (by decide) (fun c3 => ?_) (fun c3 => ?_)
      · refine lv_iconst (v := nI 0) hx hb dX0_has_25 (by decide) ?_
        exact hret (nI 0) u _ _ _ _ G (⟨by rw [hv, bI_eq.mp c3]; rfl, rfl⟩) dX0_has_26
      · refine lv_iconst (v := nI 1) hx hb dX0_has_21 (by decide) ?_
        refine lv_goto (tgt := 26) hx hb dX0_has_22 (by decide) ?_
        exact hret (nI 1) u _ _ _ _ G (⟨by rw [hv, bI_ne.mp c3]; rfl, rfl⟩) dX0_has_26
set_option maxHeartbeats 4000000 in
set_option maxRecDepth 100000 in
/-- isRoot(x) -/
theorem me_isRoot (l : Launch) (D : va_G) (u : gS) (x : Int32)  : gk_Mi l D [] (fun _ => []) yX0_isRoot cX0_isRoot 1 .boolean 0 0 [.int x] u (fun r u' => r = bI (v_root x) ∧ u' = u) := by
  refine gk_oi (own := RX0) (by decide) rfl (Nat.le_of_ble_eq_true rfl) (fun r u' q => by rw [q.1]; exact bI_range _) ?_
  intro p e R s m args below meth c Q A ls C G hret hl
  have hx := C.1.1
  have hb := C.1.2.1
  have hl : lv_has ls 1 [(0, .int x)] := hl
  refine lv_iload_n hx hb dX0_isRoot_0 rfl (lv_at hl 0 rfl) ?_
  refine lv_if_lt (tgt := 13) hx hb dX0_isRoot_1 (by decide) (fun c1 => ?_) (fun c1 => ?_)
  · refine lv_iconst (v := nI 0) hx hb dX0_isRoot_13 (by decide) ?_
    exact hret (nI 0) u _ _ _ _ G (⟨by unfold v_root; rw [decide_eq_false (fun q => q c1)]; rfl, rfl⟩) dX0_isRoot_14
  · refine lv_iload_n hx hb dX0_isRoot_4 rfl (lv_at hl 0 rfl) ?_
    refine lv_iconst (v := nI 4) hx hb dX0_isRoot_5 (by decide) ?_
    refine lv_icmp_ge (tgt := 13) hx hb dX0_isRoot_6 (by decide) (fun c2 => ?_) (fun c2 => ?_)
    · refine lv_iconst (v := nI 0) hx hb dX0_isRoot_13 (by decide) ?_
      exact hret (nI 0) u _ _ _ _ G (⟨by unfold v_root; rw [decide_eq_false (Int32.not_lt.mpr c2)]; simp; rfl, rfl⟩) dX0_isRoot_14
    · refine lv_iconst (v := nI 1) hx hb dX0_isRoot_9 (by decide) ?_
      refine lv_goto (tgt := 14) hx hb dX0_isRoot_10 (by decide) ?_
      exact hret (nI 1) u _ _ _ _ G (⟨by unfold v_root; rw [decide_eq_true c1, decide_eq_true (Int32.not_le.mp c2)]; rfl, rfl⟩) dX0_isRoot_14
set_option maxHeartbeats 4000000 in
set_option maxRecDepth 100000 in
/-- placeFor(x) -/
theorem me_placeFor (l : Launch) (D : va_G) (h : Nat → Nat) (d : Nat → ClassId) (u : gS) (v : eV) (x : Int32) (pl : Nat → Nat) (hp : v_okp v x = true) (h2 : ∀ o, o < 20 → v_he v o = true → u.2 2 o = nI (pl o)) : gk_Mi l D (eh_t d) (eh_w h d) yX0_placeFor cX0_placeFor 2 .int 0 0 [.ref (h 100), .int x] u (fun r u' => r = eP pl (v_ref x) ∧ u' = u) := by
  refine gk_oi (own := RX0) (by decide) rfl (Nat.le_of_ble_eq_true rfl) (fun _ _ _ => rfl) ?_
  intro p e R s m args below meth c Q A ls C G hret hl
  have hx := C.1.1
  have hb := C.1.2.1
  have hl : lv_has ls 2 [(0, .ref (h 100)), (1, .int x)] := hl
  rcases v_okp_of hp with ⟨e1, e2⟩ | ⟨n, hn, e1, hh, e2⟩
  · refine lv_iload_n hx hb dX0_placeFor_0 rfl (lv_at hl 1 rfl) ?_
    refine lv_iconst (v := -1) hx hb dX0_placeFor_1 (by decide) ?_
    refine lv_icmp_ne (tgt := 9) hx hb dX0_placeFor_2 (by decide) (fun c_ => absurd (e1) c_) (fun _ => ?_)
    refine lv_iconst (v := -1) hx hb dX0_placeFor_5 (by decide) ?_
    refine lv_goto (tgt := 15) hx hb dX0_placeFor_6 (by decide) ?_
    exact hret (-1) u _ _ _ _ G (⟨by rw [e2]; rfl, rfl⟩) dX0_placeFor_15
  · refine lv_iload_n hx hb dX0_placeFor_0 rfl (lv_at hl 1 rfl) ?_
    refine lv_iconst (v := -1) hx hb dX0_placeFor_1 (by decide) ?_
    refine lv_icmp_ne (tgt := 9) hx hb dX0_placeFor_2 (by decide) (fun _ => ?_) (fun c_ => absurd c_ (by rw [e1]; exact nI_m1 (by omega)))
    refine lv_aload_n hx hb dX0_placeFor_9 rfl (lv_at hl 0 rfl) ?_
    refine eh_g2 C G dX0_placeFor_10 ?_
    refine lv_iload_n hx hb dX0_placeFor_13 rfl (lv_at hl 1 rfl) ?_
    refine eh_l2 (n := n) (x := nI (pl n)) C G (e1) (hn) (h2 n hn hh) dX0_placeFor_14 ?_
    exact hret (nI (pl n)) u _ _ _ _ G (⟨by rw [e2]; rfl, rfl⟩) dX0_placeFor_15
set_option maxHeartbeats 4000000 in
set_option maxRecDepth 100000 in
/-- isCopied(place of x) -/
theorem me_isCopied (l : Launch) (D : va_G) (h : Nat → Nat) (d : Nat → ClassId) (u : gS) (v : eV) (sp : Nat) (pl : Nat → Nat) (cs : List Nat) (sc : Nat) (x : Option Nat) (hq : eh_Q u v sp pl cs sc) (hx0 : ∀ k, x = some k → k < 20 ∧ v_he v k = true) : gk_Mi l D (eh_t d) (eh_w h d) yX0_isCopied cX0_isCopied 2 .boolean 0 0 [.ref (h 100), .int (eP pl x)] u (fun r u' => r = bI (eh_in cs x) ∧ u' = u) := by
  refine gk_oi (own := RX0) (by decide) rfl (Nat.le_of_ble_eq_true rfl) (fun r u' q => by rw [q.1]; exact bI_range _) ?_
  intro p e R s m args below meth c Q A ls C G hret hl
  have hx := C.1.1
  have hb := C.1.2.1
  have hl : lv_has ls 2 [(0, .ref (h 100)), (1, .int (eP pl x))] := hl
  have hR := hq.1
  cases x with
  | none =>
    refine lv_iload_n hx hb dX0_isCopied_0 rfl (lv_at hl 1 rfl) ?_
    refine lv_if_lt (tgt := 17) hx hb dX0_isCopied_1 (by decide) (fun _ => ?_) (fun c_ => absurd (show (-1 : Int32) < 0 from m1_lt) c_)
    refine lv_iconst (v := nI 0) hx hb dX0_isCopied_17 (by decide) ?_
    exact hret (nI 0) u _ _ _ _ G (⟨rfl, rfl⟩) dX0_isCopied_18
  | some k =>
    obtain ⟨hk, hh⟩ := hx0 k rfl
    have hp := eh_pl hR hk hh
    have e0 : eP pl (some k) = nI (pl k) := rfl
    by_cases hm : k ∈ cs
    · obtain ⟨i, hi, -, h9⟩ := eh_np_in hq hm
      have hle := eh_csle hq
      refine lv_iload_n hx hb dX0_isCopied_0 rfl (lv_at hl 1 rfl) ?_
      refine lv_if_lt (tgt := 17) hx hb dX0_isCopied_1 (by decide) (fun c_ => absurd c_ (by rw [e0]; exact nI_pos (by omega))) (fun _ => ?_)
      refine lv_aload_n hx hb dX0_isCopied_4 rfl (lv_at hl 0 rfl) ?_
      refine eh_g9 C G dX0_isCopied_5 ?_
      refine lv_iload_n hx hb dX0_isCopied_8 rfl (lv_at hl 1 rfl) ?_
      refine eh_l9 (n := pl k) (x := nI ((1 - sp) * 20 + i)) C G (e0) (hp.2.2) (h9) dX0_isCopied_9 ?_
      refine lv_if_lt (tgt := 17) hx hb dX0_isCopied_10 (by decide) (fun c_ => absurd c_ (nI_pos (by omega))) (fun _ => ?_)
      refine lv_iconst (v := nI 1) hx hb dX0_isCopied_13 (by decide) ?_
      refine lv_goto (tgt := 18) hx hb dX0_isCopied_14 (by decide) ?_
      exact hret (nI 1) u _ _ _ _ G (⟨by show nI 1 = bI (decide (k ∈ cs)); rw [decide_eq_true hm]; rfl, rfl⟩) dX0_isCopied_18
    · refine lv_iload_n hx hb dX0_isCopied_0 rfl (lv_at hl 1 rfl) ?_
      refine lv_if_lt (tgt := 17) hx hb dX0_isCopied_1 (by decide) (fun c_ => absurd c_ (by rw [e0]; exact nI_pos (by omega))) (fun _ => ?_)
      refine lv_aload_n hx hb dX0_isCopied_4 rfl (lv_at hl 0 rfl) ?_
      refine eh_g9 C G dX0_isCopied_5 ?_
      refine lv_iload_n hx hb dX0_isCopied_8 rfl (lv_at hl 1 rfl) ?_
      refine eh_l9 (n := pl k) (x := -1) C G (e0) (hp.2.2) (hq.2.2.2.2.2.2.2 k hk hh hm) dX0_isCopied_9 ?_
      refine lv_if_lt (tgt := 17) hx hb dX0_isCopied_10 (by decide) (fun _ => ?_) (fun c_ => absurd (m1_lt) c_)
      refine lv_iconst (v := nI 0) hx hb dX0_isCopied_17 (by decide) ?_
      exact hret (nI 0) u _ _ _ _ G (⟨by show nI 0 = bI (decide (k ∈ cs)); rw [decide_eq_false hm]; rfl, rfl⟩) dX0_isCopied_18
set_option maxHeartbeats 4000000 in
set_option maxRecDepth 100000 in
/-- moved(place of x) -/
theorem me_moved (l : Launch) (D : va_G) (h : Nat → Nat) (d : Nat → ClassId) (u : gS) (pl : Nat → Nat) (x : Option Nat) (z : Int32) (hx0 : ∀ k, x = some k → pl k < 40) (hz : z = eh_nn (u.2 9) pl x) : gk_Mi l D (eh_t d) (eh_w h d) yX0_moved cX0_moved 2 .int 0 0 [.ref (h 100), .int (eP pl x)] u (fun r u' => r = z ∧ u' = u) := by
  refine gk_oi (own := RX0) (by decide) rfl (Nat.le_of_ble_eq_true rfl) (fun _ _ _ => rfl) ?_
  intro p e R s m args below meth c Q A ls C G hret hl
  have hx := C.1.1
  have hb := C.1.2.1
  have hl : lv_has ls 2 [(0, .ref (h 100)), (1, .int (eP pl x))] := hl
  cases x with
  | none =>
    refine lv_iload_n hx hb dX0_moved_0 rfl (lv_at hl 1 rfl) ?_
    refine lv_if_ge (tgt := 8) hx hb dX0_moved_1 (by decide) (fun c_ => absurd c_ (show ¬ (0 : Int32) ≤ -1 by decide)) (fun _ => ?_)
    refine lv_iconst (v := -1) hx hb dX0_moved_4 (by decide) ?_
    refine lv_goto (tgt := 14) hx hb dX0_moved_5 (by decide) ?_
    exact hret (-1) u _ _ _ _ G (⟨hz.symm, rfl⟩) dX0_moved_14
  | some k =>
    have hp := hx0 k rfl
    refine lv_iload_n hx hb dX0_moved_0 rfl (lv_at hl 1 rfl) ?_
    refine lv_if_ge (tgt := 8) hx hb dX0_moved_1 (by decide) (fun _ => ?_) (fun c_ => absurd (nI_pos' (by omega)) c_)
    refine lv_aload_n hx hb dX0_moved_8 rfl (lv_at hl 0 rfl) ?_
    refine eh_g9 C G dX0_moved_9 ?_
    refine lv_iload_n hx hb dX0_moved_12 rfl (lv_at hl 1 rfl) ?_
    refine eh_l9 (n := pl k) (x := u.2 9 (pl k)) C G (rfl) (hp) (rfl) dX0_moved_13 ?_
    exact hret (u.2 9 (pl k)) u _ _ _ _ G (⟨hz.symm, rfl⟩) dX0_moved_14
set_option maxHeartbeats 4000000 in
set_option maxRecDepth 100000 in
/-- numberAt(place of x) -/
theorem me_numberAt (l : Launch) (D : va_G) (h : Nat → Nat) (d : Nat → ClassId) (u : gS) (pl : Nat → Nat) (x : Option Nat) (hx0 : ∀ k, x = some k → pl k < 40 ∧ u.2 5 (pl k) = nI k) : gk_Mi l D (eh_t d) (eh_w h d) yX0_numberAt cX0_numberAt 2 .int 0 0 [.ref (h 100), .int (eP pl x)] u (fun r u' => r = eR x ∧ u' = u) := by
  refine gk_oi (own := RX0) (by decide) rfl (Nat.le_of_ble_eq_true rfl) (fun _ _ _ => rfl) ?_
  intro p e R s m args below meth c Q A ls C G hret hl
  have hx := C.1.1
  have hb := C.1.2.1
  have hl : lv_has ls 2 [(0, .ref (h 100)), (1, .int (eP pl x))] := hl
  cases x with
  | none =>
    refine lv_iload_n hx hb dX0_numberAt_0 rfl (lv_at hl 1 rfl) ?_
    refine lv_if_ge (tgt := 8) hx hb dX0_numberAt_1 (by decide) (fun c_ => absurd c_ (show ¬ (0 : Int32) ≤ -1 by decide)) (fun _ => ?_)
    refine lv_iconst (v := -1) hx hb dX0_numberAt_4 (by decide) ?_
    refine lv_goto (tgt := 14) hx hb dX0_numberAt_5 (by decide) ?_
    exact hret (-1) u _ _ _ _ G (⟨rfl, rfl⟩) dX0_numberAt_14
  | some k =>
    have hp := hx0 k rfl
    refine lv_iload_n hx hb dX0_numberAt_0 rfl (lv_at hl 1 rfl) ?_
    refine lv_if_ge (tgt := 8) hx hb dX0_numberAt_1 (by decide) (fun _ => ?_) (fun c_ => absurd (nI_pos' (by omega)) c_)
    refine lv_aload_n hx hb dX0_numberAt_8 rfl (lv_at hl 0 rfl) ?_
    refine eh_g5 C G dX0_numberAt_9 ?_
    refine lv_iload_n hx hb dX0_numberAt_12 rfl (lv_at hl 1 rfl) ?_
    refine eh_l5 (n := pl k) (x := nI k) C G (rfl) (hp.1) (hp.2) dX0_numberAt_13 ?_
    exact hret (nI k) u _ _ _ _ G (⟨rfl, rfl⟩) dX0_numberAt_14
set_option maxHeartbeats 4000000 in
set_option maxRecDepth 100000 in
/-- copy(place of x) -/
theorem me_copy (l : Launch) (D : va_G) (h : Nat → Nat) (d : Nat → ClassId) (u : gS) (v : eV) (sp : Nat) (pl : Nat → Nat) (cs : List Nat) (sc : Nat) (x : Option Nat) (hv : v_inv v) (hq : eh_Q u v sp pl cs sc) (hx0 : ∀ k, x = some k → k < 20 ∧ v_he v k = true) : gk_Mv l D (eh_t d) (eh_w h d) yX0_copy cX0_copy 3 0 0 [.ref (h 100), .int (eP pl x)] u (fun u' => eh_Q u' v sp pl (eh_add cs x) sc) := by
  refine gk_ov (own := RX0) (by decide) rfl (Nat.le_of_ble_eq_true rfl) ?_
  intro p e R s m args below meth c Q A ls C G hret hl
  have hx := C.1.1
  have hb := C.1.2.1
  have hl : lv_has ls 3 [(0, .ref (h 100)), (1, .int (eP pl x))] := hl
  have hR := hq.1
  cases x with
  | none =>
    refine lv_iload_n hx hb dX0_copy_0 rfl (lv_at hl 1 rfl) ?_
    refine lv_if_lt (tgt := 13) hx hb dX0_copy_1 (by decide) (fun _ => ?_) (fun c_ => absurd (show (-1 : Int32) < 0 from m1_lt) c_)
    exact hret u _ _ _ _ G (hq) dX0_copy_13
  | some k =>
    obtain ⟨hk, hh⟩ := hx0 k rfl
    have hp := eh_pl hR hk hh
    have hsp := hR.1
    have e0 : eP pl (some k) = nI (pl k) := rfl
    by_cases hm : k ∈ cs
    · obtain ⟨i, hi, -, h9⟩ := eh_np_in hq hm
      have hle := eh_csle hq
      refine lv_iload_n hx hb dX0_copy_0 rfl (lv_at hl 1 rfl) ?_
      refine lv_if_lt (tgt := 13) hx hb dX0_copy_1 (by decide) (fun c_ => absurd c_ (by rw [e0]; exact nI_pos (by omega))) (fun _ => ?_)
      refine lv_aload_n hx hb dX0_copy_4 rfl (lv_at hl 0 rfl) ?_
      refine eh_g9 C G dX0_copy_5 ?_
      refine lv_iload_n hx hb dX0_copy_8 rfl (lv_at hl 1 rfl) ?_
      refine eh_l9 (n := pl k) (x := nI ((1 - sp) * 20 + i)) C G (e0) (hp.2.2) (h9) dX0_copy_9 ?_
      refine lv_if_lt (tgt := 14) hx hb dX0_copy_10 (by decide) (fun c_ => absurd c_ (nI_pos (by omega))) (fun _ => ?_)
      exact hret u _ _ _ _ G (by rw [eh_add_in hm]; exact hq) dX0_copy_13
    · have hlt := eh_cslt hq hk hm
      have hob := hR.2.2.2.2.2.1 k hk hh
      have hA := (hv.2.1 k hk hh).1
      have hB := (hv.2.1 k hk hh).2
      have hA1 : ∀ j, v_fa v k = some j → pl j < 128 := fun j e => by
        have := eh_pl hR ((hv.1 k hk).2.1 j e) (hA j e)
        omega
      have hB1 : ∀ j, v_fb v k = some j → pl j < 128 := fun j e => by
        have := eh_pl hR ((hv.1 k hk).2.2 j e) (hB j e)
        omega
      have hki := (hv.1 k hk).1
      refine lv_iload_n hx hb dX0_copy_0 rfl (lv_at hl 1 rfl) ?_
      refine lv_if_lt (tgt := 13) hx hb dX0_copy_1 (by decide) (fun c_ => absurd c_ (by rw [e0]; exact nI_pos (by omega))) (fun _ => ?_)
      refine lv_aload_n hx hb dX0_copy_4 rfl (lv_at hl 0 rfl) ?_
      refine eh_g9 C G dX0_copy_5 ?_
      refine lv_iload_n hx hb dX0_copy_8 rfl (lv_at hl 1 rfl) ?_
      refine eh_l9 (n := pl k) (x := -1) C G (e0) (hp.2.2) (hq.2.2.2.2.2.2.2 k hk hh hm) dX0_copy_9 ?_
      refine lv_if_lt (tgt := 14) hx hb dX0_copy_10 (by decide) (fun _ => ?_) (fun c_ => absurd (m1_lt) c_)
      refine lv_iconst (v := nI 1) hx hb dX0_copy_14 (by decide) ?_
      refine lv_aload_n hx hb dX0_copy_15 rfl (lv_at hl 0 rfl) ?_
      refine eh_g3 (x := nI sp) C G (hR.2.1) dX0_copy_16 ?_
      refine lv_isub hx hb dX0_copy_19 ?_
      refine lv_bipush (v := nI 20) hx hb dX0_copy_20 (by decide) ?_
      refine lv_imul hx hb dX0_copy_22 ?_
      refine lv_aload_n hx hb dX0_copy_23 rfl (lv_at hl 0 rfl) ?_
      refine eh_g10 (x := nI cs.length) C G (hq.2.1) dX0_copy_24 ?_
      refine lv_iadd hx hb dX0_copy_27 ?_
      refine gk_tv (y := nI ((1 - sp) * 20 + cs.length)) (eh_to hsp) ?_
      refine lv_istore_n (lv' := [(2, .int (nI ((1 - sp) * 20 + cs.length))), (0, .ref (h 100)), (1, .int (eP pl (some k)))]) hx hb dX0_copy_28 rfl hl (by decide) rfl (fun ls hl => ?_)
      refine lv_aload_n hx hb dX0_copy_29 rfl (lv_at hl 1 rfl) ?_
      refine lv_dup hx hb dX0_copy_30 rfl ?_
      refine eh_g10 (x := nI cs.length) C G (hq.2.1) dX0_copy_31 ?_
      refine lv_iconst (v := nI 1) hx hb dX0_copy_34 (by decide) ?_
      refine lv_iadd hx hb dX0_copy_35 ?_
      refine gk_tv (y := nI (cs.length + 1)) (nI_1 _) ?_
      refine eh_p10 C G dX0_copy_36 (fun H locs G => ?_)
      refine lv_aload_n hx hb dX0_copy_39 rfl (lv_at hl 1 rfl) ?_
      refine eh_g9 C G dX0_copy_40 ?_
      refine lv_iload_n hx hb dX0_copy_43 rfl (lv_at hl 2 rfl) ?_
      refine lv_iload_n hx hb dX0_copy_44 rfl (lv_at hl 0 rfl) ?_
      refine lv_i2b (v := nI ((1 - sp) * 20 + cs.length)) hx hb dX0_copy_45 (ib_nI (by omega)) ?_
      refine eh_s9 (n := pl k) (x := nI ((1 - sp) * 20 + cs.length)) C G (e0) (hp.2.2) (nb_nI (by omega)) dX0_copy_46 (fun H locs G => ?_)
      refine lv_aload_n hx hb dX0_copy_47 rfl (lv_at hl 1 rfl) ?_
      refine eh_g5 C G dX0_copy_48 ?_
      refine lv_iload_n hx hb dX0_copy_51 rfl (lv_at hl 0 rfl) ?_
      refine lv_aload_n hx hb dX0_copy_52 rfl (lv_at hl 1 rfl) ?_
      refine eh_g5 C G dX0_copy_53 ?_
      refine lv_iload_n hx hb dX0_copy_56 rfl (lv_at hl 2 rfl) ?_
      refine eh_l5 (n := pl k) (x := nI k) C G (e0) (hp.2.2) (hob.2.2.2.1) dX0_copy_57 ?_
      refine eh_s5 (n := (1 - sp) * 20 + cs.length) (x := nI k) C G (rfl) (by omega) (nb_nI (by omega)) dX0_copy_58 (fun H locs G => ?_)
      refine lv_aload_n hx hb dX0_copy_59 rfl (lv_at hl 1 rfl) ?_
      refine eh_g6 C G dX0_copy_60 ?_
      refine lv_iload_n hx hb dX0_copy_63 rfl (lv_at hl 0 rfl) ?_
      refine lv_aload_n hx hb dX0_copy_64 rfl (lv_at hl 1 rfl) ?_
      refine eh_g6 C G dX0_copy_65 ?_
      refine lv_iload_n hx hb dX0_copy_68 rfl (lv_at hl 2 rfl) ?_
      refine eh_l6 (n := pl k) (x := nI (v_ki v k)) C G (e0) (hp.2.2) (hob.2.2.2.2.1) dX0_copy_69 ?_
      refine eh_s6 (n := (1 - sp) * 20 + cs.length) (x := nI (v_ki v k)) C G (rfl) (by omega) (nb_nI (by omega)) dX0_copy_70 (fun H locs G => ?_)
      refine lv_aload_n hx hb dX0_copy_71 rfl (lv_at hl 1 rfl) ?_
      refine eh_g7 C G dX0_copy_72 ?_
      refine lv_iload_n hx hb dX0_copy_75 rfl (lv_at hl 0 rfl) ?_
      refine lv_aload_n hx hb dX0_copy_76 rfl (lv_at hl 1 rfl) ?_
      refine eh_g7 C G dX0_copy_77 ?_
      refine lv_iload_n hx hb dX0_copy_80 rfl (lv_at hl 2 rfl) ?_
      refine eh_l7 (n := pl k) (x := eP pl (v_fa v k)) C G (e0) (hp.2.2) (hob.2.2.2.2.2.1) dX0_copy_81 ?_
      refine eh_s7 (n := (1 - sp) * 20 + cs.length) (x := eP pl (v_fa v k)) C G (rfl) (by omega) (nb_eP hA1) dX0_copy_82 (fun H locs G => ?_)
      refine lv_aload_n hx hb dX0_copy_83 rfl (lv_at hl 1 rfl) ?_
      refine eh_g8 C G dX0_copy_84 ?_
      refine lv_iload_n hx hb dX0_copy_87 rfl (lv_at hl 0 rfl) ?_
      refine lv_aload_n hx hb dX0_copy_88 rfl (lv_at hl 1 rfl) ?_
      refine eh_g8 C G dX0_copy_89 ?_
      refine lv_iload_n hx hb dX0_copy_92 rfl (lv_at hl 2 rfl) ?_
      refine eh_l8 (n := pl k) (x := eP pl (v_fb v k)) C G (e0) (hp.2.2) (hob.2.2.2.2.2.2) dX0_copy_93 ?_
      refine eh_s8 (n := (1 - sp) * 20 + cs.length) (x := eP pl (v_fb v k)) C G (rfl) (by omega) (nb_eP hB1) dX0_copy_94 (fun H locs G => ?_)
      exact hret _ _ _ _ _ G (by rw [eh_add_out hm]; exact eh_copy1 hq hk hh hm) dX0_copy_95
set_option maxHeartbeats 4000000 in
set_option maxRecDepth 100000 in
/-- ones(mask) -/
theorem me_ones (l : Launch) (D : va_G) (u : gS) (f : Nat → Bool)  : gk_Mi l D [] (fun _ => []) yX0_ones cX0_ones 3 .int 0 0 [.int (mk_ f 20)] u (fun r u' => r = nI (fb_ct f 20) ∧ u' = u) := by
  refine gk_oi (own := RX0) (by decide) rfl (Nat.le_of_ble_eq_true rfl) (fun _ _ _ => rfl) ?_
  intro p e R s m args below meth c Q A ls C G hret hl
  have hx := C.1.1
  have hb := C.1.2.1
  have hl : lv_has ls 3 [(0, .int (mk_ f 20))] := hl
  have loop : ∀ (n i : Nat), i ≤ 20 → 21 ≤ i + n → ∀ (ls : Array Slot), lv_has ls 3 [(2, .int (nI i)), (1, .int (nI (fb_ct f i))), (0, .int (mk_ f 20))] → W p l e R s m args below meth c s.heap [] 0 0 Q (F0 m 4 ls []) := by
    intro n
    induction n with
    | zero => intro i h1 h2; exact absurd h2 (by omega)
    | succ n ih =>
      intro i h1 h2 ls hl
      refine lv_iload_n hx hb dX0_ones_4 rfl (lv_at hl 0 rfl) ?_
      refine lv_bipush (v := nI 20) hx hb dX0_ones_5 (by decide) ?_
      refine lv_icmp_ge (tgt := 24) hx hb dX0_ones_7 (by decide) (fun c1 => ?_) (fun c1 => ?_)
      · have c1 := (nI_leI (a := 20) (b := i) (by omega) (by omega)).mp c1
        refine lv_iload_n hx hb dX0_ones_24 rfl (lv_at hl 1 rfl) ?_
        exact hret (nI (fb_ct f i)) u _ _ _ _ G (⟨by rw [show i = 20 by omega], rfl⟩) dX0_ones_25
      · have c1 : i < 20 := by
          rcases Nat.lt_or_ge i 20 with q | q
          · exact q
          · exact absurd (nI_le q (by omega)) c1
        refine lv_iload_n hx hb dX0_ones_10 rfl (lv_at hl 1 rfl) ?_
        refine lv_iload_n hx hb dX0_ones_11 rfl (lv_at hl 2 rfl) ?_
        refine lv_iload_n hx hb dX0_ones_12 rfl (lv_at hl 0 rfl) ?_
        refine lv_ishr hx hb dX0_ones_13 ?_
        refine lv_iconst (v := nI 1) hx hb dX0_ones_14 (by decide) ?_
        refine lv_iand hx hb dX0_ones_15 ?_
        refine gk_tv (y := bI (f i)) (mk_test c1) ?_
        refine lv_iadd hx hb dX0_ones_16 ?_
        refine gk_tv (y := nI (fb_ct f (i + 1))) (nI_bI _ _) ?_
        refine lv_istore_n (lv' := [(1, .int (nI (fb_ct f (i + 1)))), (2, .int (nI i)), (0, .int (mk_ f 20))]) hx hb dX0_ones_17 rfl hl (by decide) rfl (fun ls hl => ?_)
        refine lv_iinc (v := nI (i + 1)) (lv' := [(2, .int (nI (i + 1))), (1, .int (nI (fb_ct f (i + 1)))), (0, .int (mk_ f 20))]) hx hb dX0_ones_18 hl (k := 1) rfl (nI_1 i) (by decide) rfl (fun ls hl => ?_)
        refine lv_goto (tgt := 4) hx hb dX0_ones_21 (by decide) ?_
        exact ih (i + 1) (by omega) (by omega) ls (lv_sub hl [0, 1, 2] rfl)
  refine lv_iconst (v := nI 0) hx hb dX0_ones_0 (by decide) ?_
  refine lv_istore_n (lv' := [(1, .int (nI 0)), (0, .int (mk_ f 20))]) hx hb dX0_ones_1 rfl hl (by decide) rfl (fun ls hl => ?_)
  refine lv_iconst (v := nI 0) hx hb dX0_ones_2 (by decide) ?_
  refine lv_istore_n (lv' := [(2, .int (nI 0)), (1, .int (nI 0)), (0, .int (mk_ f 20))]) hx hb dX0_ones_3 rfl hl (by decide) rfl (fun ls hl => ?_)
  exact loop 21 0 (by omega) (by omega) ls (lv_sub hl [0, 1, 2] rfl)
end
section
/-! EphemeronHeap: pairs and spreading -/
set_option maxHeartbeats 4000000 in
set_option maxRecDepth 100000 in
/-- lookAtPairs() -/
theorem me_pairs (l : Launch) (D : va_G) (h : Nat → Nat) (d : Nat → ClassId) (u : gS) (v : eV) (sp : Nat) (pl : Nat → Nat) (cs : List Nat) (sc : Nat) (hv : v_inv v) (hq0 : eh_Q u v sp pl cs sc) : gk_Mv l D (eh_t d) (eh_w h d) yX0_lookAtPairs cX0_lookAtPairs 3 1 22 [.ref (h 100)] u (fun u' => ∃ cs', eh_Q u' v sp pl cs' sc ∧ eh_gr v cs cs' ∧ eh_lp v cs cs' sc) := by
  refine gk_ov (own := RX0) (by decide) rfl (Nat.le_of_ble_eq_true rfl) ?_
  intro p e R s m args below meth c Q A ls C G hret hl
  have hx := C.1.1
  have hb := C.1.2.1
  have hl : lv_has ls 3 [(0, .ref (h 100))] := hl
  have hsl := hq0.2.2.2.1
  have hle0 := eh_csle hq0
  have loop : ∀ (n i : Nat) (cs1 : List Nat) (u1 : gS), i ≤ sc → sc + 1 ≤ i + n → eh_Q u1 v sp pl cs1 sc → eh_gr v cs cs1 → eh_lp v cs cs1 i → ∀ (H : Heap) (locs : List Loc), gk_G D (eh_w h d u1) A s.heap H locs → ∀ (ls : Array Slot), lv_has ls 3 [(1, .int (nI i)), (0, .ref (h 100))] → W p l e R s m args below meth c H locs 0 0 Q (F0 m 2 ls []) := by
    intro n
    induction n with
    | zero => intro i cs1 u1 h1 h2; exact absurd h2 (by omega)
    | succ n ih =>
      intro i cs1 u1 h1 h2 hq hg hp H locs G ls hl
      refine lv_iload_n hx hb dX0_lookAtPairs_2 rfl (lv_at hl 0 rfl) ?_
      refine lv_aload_n hx hb dX0_lookAtPairs_3 rfl (lv_at hl 1 rfl) ?_
      refine eh_g11 (x := nI sc) C G (hq.2.2.1) dX0_lookAtPairs_4 ?_
      refine lv_icmp_ge (tgt := 61) hx hb dX0_lookAtPairs_7 (by decide) (fun c1 => ?_) (fun c1 => ?_)
      · have c1 := (nI_leI (a := sc) (b := i) (by omega) (by omega)).mp c1
        have e1 : i = sc := by omega
        exact hret _ _ _ _ _ G (⟨cs1, hq, hg, by rw [← e1]; exact hp⟩) dX0_lookAtPairs_61
      · have c1 : i < sc := by
          rcases Nat.lt_or_ge i sc with q | q
          · exact q
          · exact absurd (nI_le q (by omega)) c1
        have hsp := hq.1.1
        have hle := eh_csle hq
        have hsl1 := hq.2.2.2.1
        have hic : i < cs1.length := by omega
        have hm : (cs1.getD i 0) ∈ cs1 := getD_mem hic
        have ho := hq.2.2.2.2.2.1 _ hm
        have hat := hq.2.2.2.2.2.2.1 i hic
        have hki := (hv.1 _ ho.1).1
        refine lv_iconst (v := nI 1) hx hb dX0_lookAtPairs_10 (by decide) ?_
        refine lv_aload_n hx hb dX0_lookAtPairs_11 rfl (lv_at hl 1 rfl) ?_
        refine eh_g3 (x := nI sp) C G (hq.1.2.1) dX0_lookAtPairs_12 ?_
        refine lv_isub hx hb dX0_lookAtPairs_15 ?_
        refine lv_bipush (v := nI 20) hx hb dX0_lookAtPairs_16 (by decide) ?_
        refine lv_imul hx hb dX0_lookAtPairs_18 ?_
        refine lv_iload_n hx hb dX0_lookAtPairs_19 rfl (lv_at hl 0 rfl) ?_
        refine lv_iadd hx hb dX0_lookAtPairs_20 ?_
        refine gk_tv (y := nI ((1 - sp) * 20 + i)) (eh_to hsp) ?_
        refine lv_istore_n (lv' := [(2, .int (nI ((1 - sp) * 20 + i))), (1, .int (nI i)), (0, .ref (h 100))]) hx hb dX0_lookAtPairs_21 rfl hl (by decide) rfl (fun ls hl => ?_)
        refine lv_aload_n hx hb dX0_lookAtPairs_22 rfl (lv_at hl 2 rfl) ?_
        refine eh_g6 C G dX0_lookAtPairs_23 ?_
        refine lv_iload_n hx hb dX0_lookAtPairs_26 rfl (lv_at hl 0 rfl) ?_
        refine eh_l6 (n := (1 - sp) * 20 + i) (x := nI (v_ki v (cs1.getD i 0))) C G (rfl) (by omega) (hat.2.1) dX0_lookAtPairs_27 ?_
        refine lv_iconst (v := nI 2) hx hb dX0_lookAtPairs_28 (by decide) ?_
        refine lv_icmp_ne (tgt := 55) hx hb dX0_lookAtPairs_29 (by decide) (fun c2 => ?_) (fun c2 => ?_)
        · have c2 : v_ki v (cs1.getD i 0) ≠ 2 := fun q => c2 (by rw [q])
          refine lv_iinc (v := nI (i + 1)) (lv' := [(1, .int (nI (i + 1))), (2, .int (nI ((1 - sp) * 20 + i))), (0, .ref (h 100))]) hx hb dX0_lookAtPairs_55 hl (k := 1) rfl (nI_1 i) (by decide) rfl (fun ls hl => ?_)
          refine lv_goto (tgt := 2) hx hb dX0_lookAtPairs_58 (by decide) ?_
          exact ih (i + 1) cs1 _ (by omega) (by omega) hq hg (lp_keep hp (fun q => absurd q c2)) _ _ G ls (lv_sub hl [0, 2] rfl)
        · have c2 : v_ki v (cs1.getD i 0) = 2 := (ki_cmp hki (by omega)).mp c2
          refine lv_aload_n hx hb dX0_lookAtPairs_32 rfl (lv_at hl 2 rfl) ?_
          refine lv_aload_n hx hb dX0_lookAtPairs_33 rfl (lv_at hl 2 rfl) ?_
          refine eh_g7 C G dX0_lookAtPairs_34 ?_
          refine lv_iload_n hx hb dX0_lookAtPairs_37 rfl (lv_at hl 0 rfl) ?_
          refine eh_l7 (n := (1 - sp) * 20 + i) (x := eP pl (v_fa v (cs1.getD i 0))) C G (rfl) (by omega) (hat.2.2.1) dX0_lookAtPairs_38 ?_
          refine eh_ci (n := 1) (As := [.int (eP pl (v_fa v (cs1.getD i 0)))]) (rest := []) C G (me_isCopied l D h d u1 v sp pl cs1 sc (v_fa v (cs1.getD i 0)) hq (tg_a hv ho.1 ho.2)) (lw_V q120 q122 qs6 q16 q123) (by decide +kernel) rfl (by decide) rfl (Nat.le_of_ble_eq_true rfl) hl.1 dX0_lookAtPairs_39 (fun r u2 H locs hp2 G => ?_)
          obtain ⟨er, eu⟩ := hp2
          rw [eu] at G
          clear eu u2
          refine lv_if_eq (tgt := 55) hx hb dX0_lookAtPairs_42 (by decide) (fun c3 => ?_) (fun c3 => ?_)
          · refine lv_iinc (v := nI (i + 1)) (lv' := [(1, .int (nI (i + 1))), (2, .int (nI ((1 - sp) * 20 + i))), (0, .ref (h 100))]) hx hb dX0_lookAtPairs_55 hl (k := 1) rfl (nI_1 i) (by decide) rfl (fun ls hl => ?_)
            refine lv_goto (tgt := 2) hx hb dX0_lookAtPairs_58 (by decide) ?_
            exact ih (i + 1) cs1 _ (by omega) (by omega) hq hg (lp_keep hp (fun _ k j hk hkm _ => absurd hkm (eh_in_f (bI_eq.mp (er ▸ c3)) hk))) _ _ G ls (lv_sub hl [0, 2] rfl)
          · obtain ⟨k, hk, hkm⟩ := eh_in_t (bI_ne.mp (er ▸ c3))
            refine lv_aload_n hx hb dX0_lookAtPairs_45 rfl (lv_at hl 2 rfl) ?_
            refine lv_aload_n hx hb dX0_lookAtPairs_46 rfl (lv_at hl 2 rfl) ?_
            refine eh_g8 C G dX0_lookAtPairs_47 ?_
            refine lv_iload_n hx hb dX0_lookAtPairs_50 rfl (lv_at hl 0 rfl) ?_
            refine eh_l8 (n := (1 - sp) * 20 + i) (x := eP pl (v_fb v (cs1.getD i 0))) C G (rfl) (by omega) (hat.2.2.2.1) dX0_lookAtPairs_51 ?_
            refine eh_cv (n := 1) (As := [.int (eP pl (v_fb v (cs1.getD i 0)))]) (rest := []) C G (me_copy l D h d u1 v sp pl cs1 sc (v_fb v (cs1.getD i 0)) hv hq (tg_b hv ho.1 ho.2)) (lw_V q108 q110 qs3 q16 q111) (by decide +kernel) rfl (by decide) rfl (Nat.le_of_ble_eq_true rfl) hl.1 dX0_lookAtPairs_52 (fun u2 H locs hq2 G => ?_)
            refine lv_iinc (v := nI (i + 1)) (lv' := [(1, .int (nI (i + 1))), (2, .int (nI ((1 - sp) * 20 + i))), (0, .ref (h 100))]) hx hb dX0_lookAtPairs_55 hl (k := 1) rfl (nI_1 i) (by decide) rfl (fun ls hl => ?_)
            refine lv_goto (tgt := 2) hx hb dX0_lookAtPairs_58 (by decide) ?_
            exact ih (i + 1) _ _ (by omega) (by omega) hq2 (eg_tr hg (eg_add (fun X a b j hj => (b _ (a _ hm)).2.2 c2 k j hk (a k hkm) hj))) (lp_grow hp) _ _ G ls (lv_sub hl [0, 2] rfl)
  refine lv_iconst (v := nI 0) hx hb dX0_lookAtPairs_0 (by decide) ?_
  refine lv_istore_n (lv' := [(1, .int (nI 0)), (0, .ref (h 100))]) hx hb dX0_lookAtPairs_1 rfl hl (by decide) rfl (fun ls hl => ?_)
  exact loop (sc + 1) 0 cs u (by omega) (by omega) hq0 eg_rf (Or.inr ⟨rfl, fun j hj => absurd hj (by omega)⟩) _ _ G ls (lv_sub hl [0, 1] rfl)
set_option maxHeartbeats 4000000 in
set_option maxRecDepth 100000 in
/-- spread() -/
theorem me_spread (l : Launch) (D : va_G) (h : Nat → Nat) (d : Nat → ClassId) (u : gS) (v : eV) (sp : Nat) (pl : Nat → Nat) (cs : List Nat) (sc : Nat) (hv : v_inv v) (hq0 : eh_Q u v sp pl cs sc) (hs0 : eh_sc v cs sc) : gk_Mv l D (eh_t d) (eh_w h d) yX0_spread cX0_spread 4 2 44 [.ref (h 100)] u (fun u' => ∃ cs', eh_Q u' v sp pl cs' cs'.length ∧ eh_gr v cs cs' ∧ v_cl v (fun o => o ∈ cs')) := by
  refine gk_ov (own := RX0) (by decide) rfl (Nat.le_of_ble_eq_true rfl) ?_
  intro p e R s m args below meth c Q A ls C G hret hl
  have hx := C.1.1
  have hb := C.1.2.1
  have hl : lv_has ls 4 [(0, .ref (h 100))] := hl
  have scan : ∀ (n : Nat) (cs0 cs1 : List Nat) (sc1 : Nat) (u1 : gS) (b k : Int32), 21 ≤ sc1 + n → eh_Q u1 v sp pl cs1 sc1 → eh_sc v cs1 sc1 → eh_gr v cs0 cs1 → ∀ (H : Heap) (locs : List Loc), gk_G D (eh_w h d u1) A s.heap H locs → ∀ (ls : Array Slot), lv_has ls 4 [(0, .ref (h 100)), (1, .int b), (2, .int k)] → (∀ (cs2 : List Nat) (u2 : gS) (H : Heap) (locs : List Loc) (ls : Array Slot), eh_Q u2 v sp pl cs2 cs2.length → eh_sc v cs2 cs2.length → eh_gr v cs0 cs2 → gk_G D (eh_w h d u2) A s.heap H locs → lv_has ls 4 [(0, .ref (h 100)), (1, .int b), (2, .int k)] → W p l e R s m args below meth c H locs 0 0 Q (F0 m 101 ls [])) → W p l e R s m args below meth c H locs 0 0 Q (F0 m 23 ls []) := by
    intro n
    induction n with
    | zero =>
      intro cs0 cs1 sc1 u1 b k h1 hq
      have a := eh_csle hq
      have a2 := hq.2.2.2.1
      exact absurd h1 (by omega)
    | succ n ih =>
      intro cs0 cs1 sc1 u1 b k h1 hq hs hg H locs G ls hl KK
      have hle := eh_csle hq
      have hsl := hq.2.2.2.1
      refine lv_aload_n hx hb dX0_spread_23 rfl (lv_at hl 0 rfl) ?_
      refine eh_g11 (x := nI sc1) C G (hq.2.2.1) dX0_spread_24 ?_
      refine lv_aload_n hx hb dX0_spread_27 rfl (lv_at hl 0 rfl) ?_
      refine eh_g10 (x := nI cs1.length) C G (hq.2.1) dX0_spread_28 ?_
      refine lv_icmp_ge (tgt := 101) hx hb dX0_spread_31 (by decide) (fun c1 => ?_) (fun c1 => ?_)
      · have c1 := (nI_leI (a := cs1.length) (b := sc1) (by omega) (by omega)).mp c1
        have e1 : sc1 = cs1.length := by omega
        subst e1
        exact KK cs1 u1 _ _ ls hq hs hg G hl
      · have c1 : sc1 < cs1.length := by
          rcases Nat.lt_or_ge sc1 cs1.length with q | q
          · exact q
          · exact absurd (nI_le q (by omega)) c1
        have hsp := hq.1.1
        have hm : (cs1.getD sc1 0) ∈ cs1 := getD_mem c1
        have ho := hq.2.2.2.2.2.1 _ hm
        have hat := hq.2.2.2.2.2.2.1 sc1 c1
        have hki := (hv.1 _ ho.1).1
        refine lv_iconst (v := nI 1) hx hb dX0_spread_34 (by decide) ?_
        refine lv_aload_n hx hb dX0_spread_35 rfl (lv_at hl 0 rfl) ?_
        refine eh_g3 (x := nI sp) C G (hq.1.2.1) dX0_spread_36 ?_
        refine lv_isub hx hb dX0_spread_39 ?_
        refine lv_bipush (v := nI 20) hx hb dX0_spread_40 (by decide) ?_
        refine lv_imul hx hb dX0_spread_42 ?_
        refine lv_aload_n hx hb dX0_spread_43 rfl (lv_at hl 0 rfl) ?_
        refine eh_g11 (x := nI sc1) C G (hq.2.2.1) dX0_spread_44 ?_
        refine lv_iadd hx hb dX0_spread_47 ?_
        refine gk_tv (y := nI ((1 - sp) * 20 + sc1)) (eh_to hsp) ?_
        refine lv_istore_n (lv' := [(3, .int (nI ((1 - sp) * 20 + sc1))), (0, .ref (h 100)), (1, .int b), (2, .int k)]) hx hb dX0_spread_48 rfl hl (by decide) rfl (fun ls hl => ?_)
        refine lv_aload_n hx hb dX0_spread_49 rfl (lv_at hl 1 rfl) ?_
        refine lv_dup hx hb dX0_spread_50 rfl ?_
        refine eh_g11 (x := nI sc1) C G (hq.2.2.1) dX0_spread_51 ?_
        refine lv_iconst (v := nI 1) hx hb dX0_spread_54 (by decide) ?_
        refine lv_iadd hx hb dX0_spread_55 ?_
        refine gk_tv (y := nI (sc1 + 1)) (nI_1 _) ?_
        refine eh_p11 C G dX0_spread_56 (fun H locs G => ?_)
        refine lv_aload_n hx hb dX0_spread_59 rfl (lv_at hl 1 rfl) ?_
        refine eh_g6 C G dX0_spread_60 ?_
        refine lv_iload_n hx hb dX0_spread_63 rfl (lv_at hl 0 rfl) ?_
        refine eh_l6 (n := (1 - sp) * 20 + sc1) (x := nI (v_ki v (cs1.getD sc1 0))) C G (rfl) (by omega) (hat.2.1) dX0_spread_64 ?_
        refine lv_if_ne (tgt := 78) hx hb dX0_spread_65 (by decide) (fun c2 => ?_) (fun c2 => ?_)
        · have c2 : v_ki v (cs1.getD sc1 0) ≠ 0 := fun q => c2 (by rw [q]; rfl)
          refine lv_aload_n hx hb dX0_spread_78 rfl (lv_at hl 1 rfl) ?_
          refine eh_g6 C G dX0_spread_79 ?_
          refine lv_iload_n hx hb dX0_spread_82 rfl (lv_at hl 0 rfl) ?_
          refine eh_l6 (n := (1 - sp) * 20 + sc1) (x := nI (v_ki v (cs1.getD sc1 0))) C G (rfl) (by omega) (hat.2.1) dX0_spread_83 ?_
          refine lv_iconst (v := nI 2) hx hb dX0_spread_84 (by decide) ?_
          refine lv_icmp_eq (tgt := 98) hx hb dX0_spread_85 (by decide) (fun c3 => ?_) (fun c3 => ?_)
          · have c3 : v_ki v (cs1.getD sc1 0) = 2 := (ki_cmp hki (by omega)).mp c3
            refine lv_goto (tgt := 23) hx hb dX0_spread_98 (by decide) ?_
            exact ih cs0 cs1 (sc1 + 1) _ b k (by omega) (eh_scan1 hq c1) (sc_step hs (fun q => absurd q c2) (fun q => absurd c3 q)) (hg) _ _ G ls (lv_sub hl [1, 2, 3] rfl) KK
          · have c3 : v_ki v (cs1.getD sc1 0) ≠ 2 := fun q => c3 (by rw [q])
            refine lv_aload_n hx hb dX0_spread_88 rfl (lv_at hl 1 rfl) ?_
            refine lv_aload_n hx hb dX0_spread_89 rfl (lv_at hl 1 rfl) ?_
            refine eh_g8 C G dX0_spread_90 ?_
            refine lv_iload_n hx hb dX0_spread_93 rfl (lv_at hl 0 rfl) ?_
            refine eh_l8 (n := (1 - sp) * 20 + sc1) (x := eP pl (v_fb v (cs1.getD sc1 0))) C G (rfl) (by omega) (hat.2.2.2.1) dX0_spread_94 ?_
            refine eh_cv (n := 1) (As := [.int (eP pl (v_fb v (cs1.getD sc1 0)))]) (rest := []) C G (me_copy l D h d _ v sp pl cs1 (sc1 + 1) (v_fb v (cs1.getD sc1 0)) hv (eh_scan1 hq c1) (tg_b hv ho.1 ho.2)) (lw_V q108 q110 qs3 q16 q111) (by decide +kernel) rfl (by decide) rfl (Nat.le_of_ble_eq_true rfl) hl.1 dX0_spread_95 (fun u3 H locs hq3 G => ?_)
            have g3 := eg_add (v := v) (cs := cs1) (x := v_fb v (cs1.getD sc1 0)) (fun X a b j hj => (b _ (a _ hm)).2.1 c3 j hj)
            have e3 := eg_get g3 c1
            refine lv_goto (tgt := 23) hx hb dX0_spread_98 (by decide) ?_
            exact ih cs0 _ (sc1 + 1) _ b k (by omega) hq3 (sc_step (sc_gr hs (Nat.le_of_lt c1) g3) (fun q => by rw [e3] at q; exact absurd q c2) (fun _ k hk => by rw [e3] at hk; exact eh_add_mem.mpr (Or.inr hk))) (eg_tr hg g3) _ _ G ls (lv_sub hl [1, 2, 3] rfl) KK
        · have c2 : v_ki v (cs1.getD sc1 0) = 0 := (ki_cmp hki (by omega)).mp (show nI (v_ki v (cs1.getD sc1 0)) = nI 0 from c2)
          refine lv_aload_n hx hb dX0_spread_68 rfl (lv_at hl 1 rfl) ?_
          refine lv_aload_n hx hb dX0_spread_69 rfl (lv_at hl 1 rfl) ?_
          refine eh_g7 C G dX0_spread_70 ?_
          refine lv_iload_n hx hb dX0_spread_73 rfl (lv_at hl 0 rfl) ?_
          refine eh_l7 (n := (1 - sp) * 20 + sc1) (x := eP pl (v_fa v (cs1.getD sc1 0))) C G (rfl) (by omega) (hat.2.2.1) dX0_spread_74 ?_
          refine eh_cv (n := 1) (As := [.int (eP pl (v_fa v (cs1.getD sc1 0)))]) (rest := []) C G (me_copy l D h d _ v sp pl cs1 (sc1 + 1) (v_fa v (cs1.getD sc1 0)) hv (eh_scan1 hq c1) (tg_a hv ho.1 ho.2)) (lw_V q108 q110 qs3 q16 q111) (by decide +kernel) rfl (by decide) rfl (Nat.le_of_ble_eq_true rfl) hl.1 dX0_spread_75 (fun u2 H locs hq2 G => ?_)
          have g2 := (eg_add (cs := cs1) (x := v_fa v (cs1.getD sc1 0)) (fun X a b j hj => (b _ (a _ hm)).1 c2 j hj))
          have e2 := eg_get g2 c1
          have c12 : sc1 < (eh_add cs1 (v_fa v (cs1.getD sc1 0))).length := Nat.lt_of_lt_of_le c1 (eg_len g2)
          have hat2 := hq2.2.2.2.2.2.2.1 sc1 c12
          rw [e2] at hat2
          refine lv_aload_n hx hb dX0_spread_78 rfl (lv_at hl 1 rfl) ?_
          refine eh_g6 C G dX0_spread_79 ?_
          refine lv_iload_n hx hb dX0_spread_82 rfl (lv_at hl 0 rfl) ?_
          refine eh_l6 (n := (1 - sp) * 20 + sc1) (x := nI (v_ki v (cs1.getD sc1 0))) C G (rfl) (by omega) (hat2.2.1) dX0_spread_83 ?_
          refine lv_iconst (v := nI 2) hx hb dX0_spread_84 (by decide) ?_
          refine lv_icmp_eq (tgt := 98) hx hb dX0_spread_85 (by decide) (fun c_ => absurd c_ (fun q => by rw [c2] at q; exact absurd q (by decide))) (fun _ => ?_)
          refine lv_aload_n hx hb dX0_spread_88 rfl (lv_at hl 1 rfl) ?_
          refine lv_aload_n hx hb dX0_spread_89 rfl (lv_at hl 1 rfl) ?_
          refine eh_g8 C G dX0_spread_90 ?_
          refine lv_iload_n hx hb dX0_spread_93 rfl (lv_at hl 0 rfl) ?_
          refine eh_l8 (n := (1 - sp) * 20 + sc1) (x := eP pl (v_fb v (cs1.getD sc1 0))) C G (rfl) (by omega) (hat2.2.2.2.1) dX0_spread_94 ?_
          refine eh_cv (n := 1) (As := [.int (eP pl (v_fb v (cs1.getD sc1 0)))]) (rest := []) C G (me_copy l D h d u2 v sp pl _ (sc1 + 1) (v_fb v (cs1.getD sc1 0)) hv hq2 (tg_b hv ho.1 ho.2)) (lw_V q108 q110 qs3 q16 q111) (by decide +kernel) rfl (by decide) rfl (Nat.le_of_ble_eq_true rfl) hl.1 dX0_spread_95 (fun u3 H locs hq3 G => ?_)
          have g3 := eg_add (v := v) (cs := eh_add cs1 (v_fa v (cs1.getD sc1 0))) (x := v_fb v (cs1.getD sc1 0)) (fun X a b j hj => (b _ (a _ (eg_mem g2 hm))).2.1 (by rw [c2]; decide) j hj)
          have g13 := eg_tr g2 g3
          have e3 := eg_get g13 c1
          refine lv_goto (tgt := 23) hx hb dX0_spread_98 (by decide) ?_
          exact ih cs0 _ (sc1 + 1) _ b k (by omega) hq3 (sc_step (sc_gr hs (Nat.le_of_lt c1) g13) (fun _ k hk => by rw [e3] at hk; exact eg_mem g3 (eh_add_mem.mpr (Or.inr hk))) (fun _ k hk => by rw [e3] at hk; exact eh_add_mem.mpr (Or.inr hk))) (eg_tr hg g13) _ _ G ls (lv_sub hl [1, 2, 3] rfl) KK
  have loop : ∀ (n k : Nat) (b : Int32) (cs1 : List Nat) (sc1 : Nat) (u1 : gS), 22 ≤ k + n → k ≤ 21 → eh_Q u1 v sp pl cs1 sc1 → eh_sc v cs1 sc1 → eh_gr v cs cs1 → eh_sp v cs1 sc1 b k → ∀ (H : Heap) (locs : List Loc), gk_G D (eh_w h d u1) A s.heap H locs → ∀ (ls : Array Slot), lv_has ls 4 [(2, .int (nI k)), (1, .int b), (0, .ref (h 100))] → W p l e R s m args below meth c H locs 0 0 Q (F0 m 4 ls []) := by
    intro n
    induction n with
    | zero => intro k b cs1 sc1 u1 h1 h2; exact absurd h1 (by omega)
    | succ n ih =>
      intro k b cs1 sc1 u1 h1 h2 hq hs hg hsb H locs G ls hl
      have hle := eh_csle hq
      refine lv_iload_n hx hb dX0_spread_4 rfl (lv_at hl 0 rfl) ?_
      refine lv_bipush (v := nI 20) hx hb dX0_spread_5 (by decide) ?_
      refine lv_icmp_gt (tgt := 111) hx hb dX0_spread_7 (by decide) (fun c1 => ?_) (fun c1 => ?_)
      · have c1 := (nI_ltI (a := 20) (b := k) (by omega) (by omega)).mp c1
        have z := sp_out1 hsb (by omega) hle
        have z2 := z.2
        subst z2
        exact hret _ _ _ _ _ G (⟨cs1, hq, hg, z.1⟩) dX0_spread_111
      · have c1 : k ≤ 20 := by
          rcases Nat.lt_or_ge 20 k with q | q
          · exact absurd (nI_lt q (by omega)) c1
          · exact q
        refine lv_iload_n hx hb dX0_spread_10 rfl (lv_at hl 1 rfl) ?_
        refine lv_aload_n hx hb dX0_spread_11 rfl (lv_at hl 2 rfl) ?_
        refine eh_g10 (x := nI cs1.length) C G (hq.2.1) dX0_spread_12 ?_
        refine lv_icmp_eq (tgt := 111) hx hb dX0_spread_15 (by decide) (fun c2 => ?_) (fun c2 => ?_)
        · have z := sp_out2 hsb c2 hle
          have z2 := z.2
          subst z2
          exact hret _ _ _ _ _ G (⟨cs1, hq, hg, z.1⟩) dX0_spread_111
        · have hk := sp_in hsb c2
          refine lv_aload_n hx hb dX0_spread_18 rfl (lv_at hl 2 rfl) ?_
          refine eh_g10 (x := nI cs1.length) C G (hq.2.1) dX0_spread_19 ?_
          refine lv_istore_n (lv' := [(1, .int (nI cs1.length)), (2, .int (nI k)), (0, .ref (h 100))]) hx hb dX0_spread_22 rfl hl (by decide) rfl (fun ls hl => ?_)
          refine scan 21 cs1 cs1 sc1 u1 (nI cs1.length) (nI k) (by omega) hq hs eg_rf _ _ G ls (lv_sub hl [2, 0, 1] rfl) (fun cs2 u2 H locs ls hq2 hs2 hg2 G hl => ?_)
          refine lv_aload_n hx hb dX0_spread_101 rfl (lv_at hl 0 rfl) ?_
          refine eh_cv (n := 0) (As := []) (rest := []) C G (me_pairs l D h d u2 v sp pl cs2 cs2.length hv hq2) (lw_V q116 q118 qs5 q16 q119) (by decide +kernel) rfl (by decide) rfl (Nat.le_of_ble_eq_true rfl) hl.1 dX0_spread_102 (fun u3 H locs hp3 G => ?_)
          obtain ⟨cs3, hq3, hg3, hl3⟩ := hp3
          refine lv_iinc (v := nI (k + 1)) (lv' := [(2, .int (nI (k + 1))), (0, .ref (h 100)), (1, .int (nI cs1.length))]) hx hb dX0_spread_105 hl (k := 2) rfl (nI_1 k) (by decide) rfl (fun ls hl => ?_)
          refine lv_goto (tgt := 4) hx hb dX0_spread_108 (by decide) ?_
          exact ih (k + 1) (nI cs1.length) cs3 cs2.length u3 (by omega) (by omega) hq3 (sc_gr hs2 (Nat.le_refl _) hg3) (eg_tr hg (eg_tr hg2 hg3)) (sp_next hg2 hs2 hg3 hl3 hk) _ _ G ls (lv_sub hl [0, 2, 1] rfl)
  refine lv_iconst (v := -1) hx hb dX0_spread_0 (by decide) ?_
  refine lv_istore_n (lv' := [(1, .int (-1)), (0, .ref (h 100))]) hx hb dX0_spread_1 rfl hl (by decide) rfl (fun ls hl => ?_)
  refine lv_iconst (v := nI 0) hx hb dX0_spread_2 (by decide) ?_
  refine lv_istore_n (lv' := [(2, .int (nI 0)), (1, .int (-1)), (0, .ref (h 100))]) hx hb dX0_spread_3 rfl hl (by decide) rfl (fun ls hl => ?_)
  exact loop 22 0 (-1) cs sc u (by omega) (by omega) hq0 hs0 eg_rf (Or.inl ⟨rfl, rfl⟩) _ _ G ls (lv_sub hl [0, 1, 2] rfl)
end
section
/-! EphemeronHeap: copyLiving and living -/
set_option maxHeartbeats 4000000 in
set_option maxRecDepth 100000 in
/-- copyLiving() -/
theorem me_copyLiving (l : Launch) (D : va_G) (h : Nat → Nat) (d : Nat → ClassId) (u : gS) (v : eV) (sp : Nat) (pl : Nat → Nat) (hv : v_inv v) (hR0 : eh_R u v sp pl) : gk_Mv l D (eh_t d) (eh_w h d) yX0_copyLiving cX0_copyLiving 2 3 67 [.ref (h 100)] u (fun u' => ∃ cs, eh_Q u' v sp pl cs cs.length ∧ ∀ o, o ∈ cs ↔ v_live v o) := by
  refine gk_ov (own := RX0) (by decide) rfl (Nat.le_of_ble_eq_true rfl) ?_
  intro p e R s m args below meth c Q A ls C G hret hl
  have hx := C.1.1
  have hb := C.1.2.1
  have hl : lv_has ls 2 [(0, .ref (h 100))] := hl
  have hql := qu_le hv
  have loop3 : ∀ (n i : Nat) (cs1 : List Nat) (u1 : gS), i ≤ (v_qu v).length → (v_qu v).length + 1 ≤ i + n → eh_Q u1 v sp pl cs1 0 → eh_st v cs1 4 i → ∀ (H : Heap) (locs : List Loc), gk_G D (eh_w h d u1) A s.heap H locs → ∀ (ls : Array Slot), lv_has ls 2 [(1, .int (nI i)), (0, .ref (h 100))] → W p l e R s m args below meth c H locs 0 0 Q (F0 m 56 ls []) := by
    intro n
    induction n with
    | zero => intro i cs1 u1 h1 h2; exact absurd h2 (by omega)
    | succ n ih =>
      intro i cs1 u1 h1 h2 hq hst H locs G ls hl
      have hR := hq.1
      refine lv_iload_n hx hb dX0_copyLiving_56 rfl (lv_at hl 0 rfl) ?_
      refine lv_aload_n hx hb dX0_copyLiving_57 rfl (lv_at hl 1 rfl) ?_
      refine eh_g14 (x := nI (v_qu v).length) C G (hR.2.2.2.2.2.2.2.1) dX0_copyLiving_58 ?_
      refine lv_icmp_ge (tgt := 85) hx hb dX0_copyLiving_61 (by decide) (fun c1 => ?_) (fun c1 => ?_)
      · have c1 := (nI_leI (a := (v_qu v).length) (b := i) (by omega) (by omega)).mp c1
        have e1 : i = (v_qu v).length := by omega
        rw [e1] at hst
        refine lv_aload_n hx hb dX0_copyLiving_85 rfl (lv_at hl 1 rfl) ?_
        refine eh_cv (n := 0) (As := []) (rest := []) C G (me_spread l D h d u1 v sp pl cs1 0 hv hq (fun i hi => absurd hi (Nat.not_lt_zero i))) (lw_V q112 q114 qs4 q16 q115) (by decide +kernel) rfl (by decide) rfl (Nat.le_of_ble_eq_true rfl) hl.1 dX0_copyLiving_86 (fun u2 H locs hp2 G => ?_)
        obtain ⟨cs2, hq2, hg2, hc2⟩ := hp2
        exact hret _ _ _ _ _ G (⟨cs2, hq2, st_live hst hg2 hc2⟩) dX0_copyLiving_89
      · have c1 : i < (v_qu v).length := by
          rcases Nat.lt_or_ge i ((v_qu v).length) with q | q
          · exact q
          · exact absurd (nI_le q (by omega)) c1
        have hqi := hv.2.2.2.1 _ (getD_mem c1)
        refine lv_aload_n hx hb dX0_copyLiving_64 rfl (lv_at hl 1 rfl) ?_
        refine lv_aload_n hx hb dX0_copyLiving_65 rfl (lv_at hl 1 rfl) ?_
        refine eh_g2 C G dX0_copyLiving_66 ?_
        refine lv_aload_n hx hb dX0_copyLiving_69 rfl (lv_at hl 1 rfl) ?_
        refine eh_g13 C G dX0_copyLiving_70 ?_
        refine lv_iload_n hx hb dX0_copyLiving_73 rfl (lv_at hl 0 rfl) ?_
        refine eh_l13 (n := i) (x := nI ((v_qu v).getD i 0)) C G (rfl) (by omega) (hR.2.2.2.2.2.2.2.2 i c1) dX0_copyLiving_74 ?_
        refine eh_l2 (n := ((v_qu v).getD i 0)) (x := nI (pl ((v_qu v).getD i 0))) C G (rfl) (hqi.1) ((hR.2.2.2.2.2.1 _ hqi.1 hqi.2).1) dX0_copyLiving_75 ?_
        refine gk_tv (y := eP pl (some ((v_qu v).getD i 0))) (rfl) ?_
        refine eh_cv (n := 1) (As := [.int (eP pl (some ((v_qu v).getD i 0)))]) (rest := []) C G (me_copy l D h d u1 v sp pl cs1 0 (some ((v_qu v).getD i 0)) hv hq (fun k e => by cases e; exact hqi)) (lw_V q108 q110 qs3 q16 q111) (by decide +kernel) rfl (by decide) rfl (Nat.le_of_ble_eq_true rfl) hl.1 dX0_copyLiving_76 (fun u2 H locs hq2 G => ?_)
        refine lv_iinc (v := nI (i + 1)) (lv' := [(1, .int (nI (i + 1))), (0, .ref (h 100))]) hx hb dX0_copyLiving_79 hl (k := 0) rfl (nI_1 i) (by decide) rfl (fun ls hl => ?_)
        refine lv_goto (tgt := 56) hx hb dX0_copyLiving_82 (by decide) ?_
        exact ih (i + 1) _ _ (by omega) (by omega) hq2 (st_queue hst c1) _ _ G ls (lv_sub hl [0, 1] rfl)
  have loop2 : ∀ (n i : Nat) (cs1 : List Nat) (u1 : gS), i ≤ 4 → 5 ≤ i + n → eh_Q u1 v sp pl cs1 0 → eh_st v cs1 i 0 → ∀ (H : Heap) (locs : List Loc), gk_G D (eh_w h d u1) A s.heap H locs → ∀ (ls : Array Slot), lv_has ls 2 [(1, .int (nI i)), (0, .ref (h 100))] → W p l e R s m args below meth c H locs 0 0 Q (F0 m 33 ls []) := by
    intro n
    induction n with
    | zero => intro i cs1 u1 h1 h2; exact absurd h2 (by omega)
    | succ n ih =>
      intro i cs1 u1 h1 h2 hq hst H locs G ls hl
      have hR := hq.1
      refine lv_iload_n hx hb dX0_copyLiving_33 rfl (lv_at hl 0 rfl) ?_
      refine lv_iconst (v := nI 4) hx hb dX0_copyLiving_34 (by decide) ?_
      refine lv_icmp_ge (tgt := 54) hx hb dX0_copyLiving_35 (by decide) (fun c1 => ?_) (fun c1 => ?_)
      · have c1 := (nI_leI (a := 4) (b := i) (by omega) (by omega)).mp c1
        have e1 : i = 4 := by omega
        rw [e1] at hst
        refine lv_iconst (v := nI 0) hx hb dX0_copyLiving_54 (by decide) ?_
        refine lv_istore_n (lv' := [(1, .int (nI 0)), (0, .ref (h 100))]) hx hb dX0_copyLiving_55 rfl hl (by decide) rfl (fun ls hl => ?_)
        exact loop3 ((v_qu v).length + 1) 0 cs1 u1 (by omega) (by omega) hq hst _ _ G ls (lv_sub hl [0, 1] rfl)
      · have c1 : i < 4 := by
          rcases Nat.lt_or_ge i 4 with q | q
          · exact q
          · exact absurd (nI_le q (by omega)) c1
        refine lv_aload_n hx hb dX0_copyLiving_38 rfl (lv_at hl 1 rfl) ?_
        refine lv_aload_n hx hb dX0_copyLiving_39 rfl (lv_at hl 1 rfl) ?_
        refine eh_g12 C G dX0_copyLiving_40 ?_
        refine lv_iload_n hx hb dX0_copyLiving_43 rfl (lv_at hl 0 rfl) ?_
        refine eh_l12 (n := i) (x := eP pl (v_ro v i)) C G (rfl) (c1) (hR.2.2.2.2.2.2.1 i c1) dX0_copyLiving_44 ?_
        refine eh_cv (n := 1) (As := [.int (eP pl (v_ro v i))]) (rest := []) C G (me_copy l D h d u1 v sp pl cs1 0 (v_ro v i) hv hq (hv.2.2.1 i c1)) (lw_V q108 q110 qs3 q16 q111) (by decide +kernel) rfl (by decide) rfl (Nat.le_of_ble_eq_true rfl) hl.1 dX0_copyLiving_45 (fun u2 H locs hq2 G => ?_)
        refine lv_iinc (v := nI (i + 1)) (lv' := [(1, .int (nI (i + 1))), (0, .ref (h 100))]) hx hb dX0_copyLiving_48 hl (k := 0) rfl (nI_1 i) (by decide) rfl (fun ls hl => ?_)
        refine lv_goto (tgt := 33) hx hb dX0_copyLiving_51 (by decide) ?_
        exact ih (i + 1) _ _ (by omega) (by omega) hq2 (st_root hst c1) _ _ G ls (lv_sub hl [0, 1] rfl)
  have loop1 : ∀ (n i : Nat) (u1 : gS), i ≤ 40 → 41 ≤ i + n → eh_R u1 v sp pl → (∀ j, j < i → u1.2 9 j = -1) → ∀ (H : Heap) (locs : List Loc), gk_G D (eh_w h d u1) A s.heap H locs → ∀ (ls : Array Slot), lv_has ls 2 [(1, .int (nI i)), (0, .ref (h 100))] → W p l e R s m args below meth c H locs 0 0 Q (F0 m 2 ls []) := by
    intro n
    induction n with
    | zero => intro i u1 h1 h2; exact absurd h2 (by omega)
    | succ n ih =>
      intro i u1 h1 h2 hR h9 H locs G ls hl
      refine lv_iload_n hx hb dX0_copyLiving_2 rfl (lv_at hl 0 rfl) ?_
      refine lv_bipush (v := nI 40) hx hb dX0_copyLiving_3 (by decide) ?_
      refine lv_icmp_ge (tgt := 21) hx hb dX0_copyLiving_5 (by decide) (fun c1 => ?_) (fun c1 => ?_)
      · have c1 := (nI_leI (a := 40) (b := i) (by omega) (by omega)).mp c1
        have e1 : i = 40 := by omega
        rw [e1] at h9
        refine lv_aload_n hx hb dX0_copyLiving_21 rfl (lv_at hl 1 rfl) ?_
        refine lv_iconst (v := nI 0) hx hb dX0_copyLiving_22 (by decide) ?_
        refine eh_p10 C G dX0_copyLiving_23 (fun H locs G => ?_)
        refine lv_aload_n hx hb dX0_copyLiving_26 rfl (lv_at hl 1 rfl) ?_
        refine lv_iconst (v := nI 0) hx hb dX0_copyLiving_27 (by decide) ?_
        refine eh_p11 C G dX0_copyLiving_28 (fun H locs G => ?_)
        refine lv_iconst (v := nI 0) hx hb dX0_copyLiving_31 (by decide) ?_
        refine lv_istore_n (lv' := [(1, .int (nI 0)), (0, .ref (h 100))]) hx hb dX0_copyLiving_32 rfl hl (by decide) rfl (fun ls hl => ?_)
        exact loop2 5 0 [] _ (by omega) (by omega) (eh_Q0 hR h9) ⟨fun o ho => absurd ho List.not_mem_nil, fun r hr => absurd hr (Nat.not_lt_zero r), fun a ha => absurd ha (Nat.not_lt_zero a)⟩ _ _ G ls (lv_sub hl [0, 1] rfl)
      · have c1 : i < 40 := by
          rcases Nat.lt_or_ge i 40 with q | q
          · exact q
          · exact absurd (nI_le q (by omega)) c1
        refine lv_aload_n hx hb dX0_copyLiving_8 rfl (lv_at hl 1 rfl) ?_
        refine eh_g9 C G dX0_copyLiving_9 ?_
        refine lv_iload_n hx hb dX0_copyLiving_12 rfl (lv_at hl 0 rfl) ?_
        refine lv_iconst (v := -1) hx hb dX0_copyLiving_13 (by decide) ?_
        refine eh_s9 (n := i) (x := -1) C G (rfl) (c1) (nb_m1) dX0_copyLiving_14 (fun H locs G => ?_)
        refine lv_iinc (v := nI (i + 1)) (lv' := [(1, .int (nI (i + 1))), (0, .ref (h 100))]) hx hb dX0_copyLiving_15 hl (k := 0) rfl (nI_1 i) (by decide) rfl (fun ls hl => ?_)
        refine lv_goto (tgt := 2) hx hb dX0_copyLiving_18 (by decide) ?_
        exact ih (i + 1) (gA u1 9 i (-1)) (by omega) (by omega) hR (fun j hj => by
          show (if j = i then -1 else u1.2 9 j) = -1
          by_cases q : j = i
          · rw [if_pos q]
          · rw [if_neg q]; exact h9 j (by omega)) _ _ G ls (lv_sub hl [0, 1] rfl)
  refine lv_iconst (v := nI 0) hx hb dX0_copyLiving_0 (by decide) ?_
  refine lv_istore_n (lv' := [(1, .int (nI 0)), (0, .ref (h 100))]) hx hb dX0_copyLiving_1 rfl hl (by decide) rfl (fun ls hl => ?_)
  exact loop1 41 0 u (by omega) (by omega) hR0 (fun j hj => absurd hj (Nat.not_lt_zero j)) _ _ G ls (lv_sub hl [0, 1] rfl)
set_option maxHeartbeats 4000000 in
set_option maxRecDepth 100000 in
/-- living() -/
theorem me_living (l : Launch) (D : va_G) (h : Nat → Nat) (d : Nat → ClassId) (u : gS) (v : eV) (sp : Nat) (pl : Nat → Nat) (hv : v_inv v) (hR0 : eh_R u v sp pl) : gk_Mi l D (eh_t d) (eh_w h d) yX0_living cX0_living 3 .int 4 88 [.ref (h 100)] u (fun r u' => r = mk_ (v_lb v) 20 ∧ eh_R u' v sp pl) := by
  refine gk_oi (own := RX0) (by decide) rfl (Nat.le_of_ble_eq_true rfl) (fun _ _ _ => rfl) ?_
  intro p e R s m args below meth c Q A ls C G hret hl
  have hx := C.1.1
  have hb := C.1.2.1
  have hl : lv_has ls 3 [(0, .ref (h 100))] := hl
  refine lv_aload_n hx hb dX0_living_0 rfl (lv_at hl 0 rfl) ?_
  refine eh_cv (n := 0) (As := []) (rest := []) C G (me_copyLiving l D h d u v sp pl hv hR0) (lw_V q104 q106 qs2 q16 q107) (by decide +kernel) rfl (by decide) rfl (Nat.le_of_ble_eq_true rfl) hl.1 dX0_living_1 (fun u1 H locs hp1 G => ?_)
  obtain ⟨cs, hq, hlv⟩ := hp1
  have hle := eh_csle hq
  have hsp := hq.1.1
  have loop : ∀ (n i : Nat), i ≤ cs.length → cs.length + 1 ≤ i + n → ∀ (ls : Array Slot), lv_has ls 3 [(2, .int (nI i)), (1, .int (mk_ (fun o => decide (o ∈ cs.take i)) 20)), (0, .ref (h 100))] → W p l e R s m args below meth c H locs 0 0 Q (F0 m 8 ls []) := by
    intro n
    induction n with
    | zero => intro i h1 h2; exact absurd h2 (by omega)
    | succ n ih =>
      intro i h1 h2 ls hl
      refine lv_iload_n hx hb dX0_living_8 rfl (lv_at hl 0 rfl) ?_
      refine lv_aload_n hx hb dX0_living_9 rfl (lv_at hl 2 rfl) ?_
      refine eh_g10 (x := nI cs.length) C G (hq.2.1) dX0_living_10 ?_
      refine lv_icmp_ge (tgt := 43) hx hb dX0_living_13 (by decide) (fun c1 => ?_) (fun c1 => ?_)
      · have c1 := (nI_leI (a := cs.length) (b := i) (by omega) (by omega)).mp c1
        have e1 : i = cs.length := by omega
        refine lv_iload_n hx hb dX0_living_43 rfl (lv_at hl 1 rfl) ?_
        exact hret (mk_ (fun o => decide (o ∈ cs.take i)) 20) _ _ _ _ _ G (⟨by rw [e1, List.take_length]; exact mk_lb hlv, hq.1⟩) dX0_living_44
      · have c1 : i < cs.length := by
          rcases Nat.lt_or_ge i cs.length with q | q
          · exact q
          · exact absurd (nI_le q (by omega)) c1
        have hat := hq.2.2.2.2.2.2.1 i c1
        have ho := hq.2.2.2.2.2.1 _ (getD_mem c1)
        refine lv_iload_n hx hb dX0_living_16 rfl (lv_at hl 1 rfl) ?_
        refine lv_iconst (v := nI 1) hx hb dX0_living_17 (by decide) ?_
        refine lv_aload_n hx hb dX0_living_18 rfl (lv_at hl 2 rfl) ?_
        refine eh_g5 C G dX0_living_19 ?_
        refine lv_iconst (v := nI 1) hx hb dX0_living_22 (by decide) ?_
        refine lv_aload_n hx hb dX0_living_23 rfl (lv_at hl 2 rfl) ?_
        refine eh_g3 (x := nI sp) C G (hq.1.2.1) dX0_living_24 ?_
        refine lv_isub hx hb dX0_living_27 ?_
        refine lv_bipush (v := nI 20) hx hb dX0_living_28 (by decide) ?_
        refine lv_imul hx hb dX0_living_30 ?_
        refine lv_iload_n hx hb dX0_living_31 rfl (lv_at hl 0 rfl) ?_
        refine lv_iadd hx hb dX0_living_32 ?_
        refine gk_tv (y := nI ((1 - sp) * 20 + i)) (eh_to hsp) ?_
        refine eh_l5 (n := (1 - sp) * 20 + i) (x := nI (cs.getD i 0)) C G (rfl) (by omega) (hat.1) dX0_living_33 ?_
        refine lv_ishl hx hb dX0_living_34 ?_
        refine lv_ior hx hb dX0_living_35 ?_
        refine gk_tv (y := mk_ (fun o => decide (o ∈ cs.take (i + 1))) 20) (mk_take c1 ho.1) ?_
        refine lv_istore_n (lv' := [(1, .int (mk_ (fun o => decide (o ∈ cs.take (i + 1))) 20)), (2, .int (nI i)), (0, .ref (h 100))]) hx hb dX0_living_36 rfl hl (by decide) rfl (fun ls hl => ?_)
        refine lv_iinc (v := nI (i + 1)) (lv' := [(2, .int (nI (i + 1))), (1, .int (mk_ (fun o => decide (o ∈ cs.take (i + 1))) 20)), (0, .ref (h 100))]) hx hb dX0_living_37 hl (k := 1) rfl (nI_1 i) (by decide) rfl (fun ls hl => ?_)
        refine lv_goto (tgt := 8) hx hb dX0_living_40 (by decide) ?_
        exact ih (i + 1) (by omega) (by omega) ls (lv_sub hl [0, 1, 2] rfl)
  refine lv_iconst (v := nI 0) hx hb dX0_living_4 (by decide) ?_
  refine gk_tv (y := mk_ (fun o => decide (o ∈ cs.take 0)) 20) (mk_take0.symm) ?_
  refine lv_istore_n (lv' := [(1, .int (mk_ (fun o => decide (o ∈ cs.take 0)) 20)), (0, .ref (h 100))]) hx hb dX0_living_5 rfl hl (by decide) rfl (fun ls hl => ?_)
  refine lv_iconst (v := nI 0) hx hb dX0_living_6 (by decide) ?_
  refine lv_istore_n (lv' := [(2, .int (nI 0)), (1, .int (mk_ (fun o => decide (o ∈ cs.take 0)) 20)), (0, .ref (h 100))]) hx hb dX0_living_7 rfl hl (by decide) rfl (fun ls hl => ?_)
  exact loop (cs.length + 1) 0 (by omega) (by omega) ls (lv_sub hl [0, 1, 2] rfl)
end
section
/-! EphemeronHeap: rescue -/
set_option maxHeartbeats 4000000 in
set_option maxRecDepth 100000 in
/-- rescue() -/
theorem me_rescue (l : Launch) (D : va_G) (h : Nat → Nat) (d : Nat → ClassId) (u : gS) (v : eV) (sp : Nat) (pl : Nat → Nat) (cs : List Nat) (hv : v_inv v) (hq0 : eh_Q u v sp pl cs cs.length) (hlv : ∀ o, o ∈ cs ↔ v_live v o) : gk_Mv l D (eh_t d) (eh_w h d) yX0_rescue cX0_rescue 3 3 67 [.ref (h 100)] u (fun u' => ∃ cs', eh_Q u' (v_res v (v_lb v) 20) sp pl cs' cs'.length ∧ (∃ t, cs' = cs ++ t) ∧ ∀ o, o ∈ cs' ↔ v_live (v_res v (v_lb v) 20) o) := by
  refine gk_ov (own := RX0) (by decide) rfl (Nat.le_of_ble_eq_true rfl) ?_
  intro p e R s m args below meth c Q A ls C G hret hl
  have hx := C.1.1
  have hb := C.1.2.1
  have hl : lv_has ls 3 [(0, .ref (h 100))] := hl
  have hB : ∀ o, o ∈ v_qu v → v_lb v o = true := fun o ho => v_lb_iff.mpr (v_live_start (Or.inr ho))
  have hv1 : v_inv (v_res v (v_lb v) 20) := res_inv (Nat.le_refl _) hv hB
  have hql := qu_le hv1
  have hcl : v_cl v (fun o => o ∈ cs) := by
    have e : (fun o => o ∈ cs) = v_live v := funext fun o => propext (hlv o)
    rw [e]; exact v_live_cl v
  have loop2 : ∀ (n i : Nat) (cs1 : List Nat) (u1 : gS), i ≤ (v_qu (v_res v (v_lb v) 20)).length → (v_qu (v_res v (v_lb v) 20)).length + 1 ≤ i + n → eh_Q u1 (v_res v (v_lb v) 20) sp pl cs1 cs.length → eh_qs (v_res v (v_lb v) 20) cs cs1 i → ∀ (H : Heap) (locs : List Loc), gk_G D (eh_w h d u1) A s.heap H locs → ∀ (ls : Array Slot), lv_has ls 3 [(1, .int (nI i)), (0, .ref (h 100))] → W p l e R s m args below meth c H locs 0 0 Q (F0 m 93 ls []) := by
    intro n
    induction n with
    | zero => intro i cs1 u1 h1 h2; exact absurd h2 (by omega)
    | succ n ih =>
      intro i cs1 u1 h1 h2 hq hst H locs G ls hl
      have hR := hq.1
      refine lv_iload_n hx hb dX0_rescue_93 rfl (lv_at hl 0 rfl) ?_
      refine lv_aload_n hx hb dX0_rescue_94 rfl (lv_at hl 1 rfl) ?_
      refine eh_g14 (x := nI (v_qu (v_res v (v_lb v) 20)).length) C G (hR.2.2.2.2.2.2.2.1) dX0_rescue_95 ?_
      refine lv_icmp_ge (tgt := 122) hx hb dX0_rescue_98 (by decide) (fun c1 => ?_) (fun c1 => ?_)
      · have c1 := (nI_leI (a := (v_qu (v_res v (v_lb v) 20)).length) (b := i) (by omega) (by omega)).mp c1
        have e1 : i = (v_qu (v_res v (v_lb v) 20)).length := by omega
        rw [e1] at hst
        refine lv_aload_n hx hb dX0_rescue_122 rfl (lv_at hl 1 rfl) ?_
        refine eh_cv (n := 0) (As := []) (rest := []) C G (me_spread l D h d u1 (v_res v (v_lb v) 20) sp pl cs1 cs.length hv1 hq (qs_sc hst hcl)) (lw_V q112 q114 qs4 q16 q115) (by decide +kernel) rfl (by decide) rfl (Nat.le_of_ble_eq_true rfl) hl.1 dX0_rescue_123 (fun u2 H locs hp2 G => ?_)
        obtain ⟨cs2, hq2, hg2, hc2⟩ := hp2
        have z := qs_live (v1 := (v_res v (v_lb v) 20)) hlv (fun _ => Iff.rfl) rfl (fun o ho => res_mem.mpr (Or.inl ho)) hst hg2 hc2
        exact hret _ _ _ _ _ G (⟨cs2, hq2, z.1, z.2⟩) dX0_rescue_126
      · have c1 : i < (v_qu (v_res v (v_lb v) 20)).length := by
          rcases Nat.lt_or_ge i ((v_qu (v_res v (v_lb v) 20)).length) with q | q
          · exact q
          · exact absurd (nI_le q (by omega)) c1
        have hqi := hv1.2.2.2.1 _ (getD_mem c1)
        refine lv_aload_n hx hb dX0_rescue_101 rfl (lv_at hl 1 rfl) ?_
        refine lv_aload_n hx hb dX0_rescue_102 rfl (lv_at hl 1 rfl) ?_
        refine eh_g2 C G dX0_rescue_103 ?_
        refine lv_aload_n hx hb dX0_rescue_106 rfl (lv_at hl 1 rfl) ?_
        refine eh_g13 C G dX0_rescue_107 ?_
        refine lv_iload_n hx hb dX0_rescue_110 rfl (lv_at hl 0 rfl) ?_
        refine eh_l13 (n := i) (x := nI ((v_qu (v_res v (v_lb v) 20)).getD i 0)) C G (rfl) (by omega) (hR.2.2.2.2.2.2.2.2 i c1) dX0_rescue_111 ?_
        refine eh_l2 (n := ((v_qu (v_res v (v_lb v) 20)).getD i 0)) (x := nI (pl ((v_qu (v_res v (v_lb v) 20)).getD i 0))) C G (rfl) (hqi.1) ((hR.2.2.2.2.2.1 _ hqi.1 hqi.2).1) dX0_rescue_112 ?_
        refine gk_tv (y := eP pl (some ((v_qu (v_res v (v_lb v) 20)).getD i 0))) (rfl) ?_
        refine eh_cv (n := 1) (As := [.int (eP pl (some ((v_qu (v_res v (v_lb v) 20)).getD i 0)))]) (rest := []) C G (me_copy l D h d u1 (v_res v (v_lb v) 20) sp pl cs1 cs.length (some ((v_qu (v_res v (v_lb v) 20)).getD i 0)) hv1 hq (fun k e => by cases e; exact hqi)) (lw_V q108 q110 qs3 q16 q111) (by decide +kernel) rfl (by decide) rfl (Nat.le_of_ble_eq_true rfl) hl.1 dX0_rescue_113 (fun u2 H locs hq2 G => ?_)
        refine lv_iinc (v := nI (i + 1)) (lv' := [(1, .int (nI (i + 1))), (0, .ref (h 100))]) hx hb dX0_rescue_116 hl (k := 0) rfl (nI_1 i) (by decide) rfl (fun ls hl => ?_)
        refine lv_goto (tgt := 93) hx hb dX0_rescue_119 (by decide) ?_
        exact ih (i + 1) _ _ (by omega) (by omega) hq2 (qs_step hst c1) _ _ G ls (lv_sub hl [0, 1] rfl)
  have loop1 : ∀ (n i : Nat) (u1 : gS), i ≤ 20 → 21 ≤ i + n → eh_Q u1 (v_res v (v_lb v) i) sp pl cs cs.length → ∀ (H : Heap) (locs : List Loc), gk_G D (eh_w h d u1) A s.heap H locs → ∀ (ls : Array Slot), lv_has ls 3 [(1, .int (nI i)), (0, .ref (h 100))] → W p l e R s m args below meth c H locs 0 0 Q (F0 m 2 ls []) := by
    intro n
    induction n with
    | zero => intro i u1 h1 h2; exact absurd h2 (by omega)
    | succ n ih =>
      intro i u1 h1 h2 hq H locs G ls hl
      refine lv_iload_n hx hb dX0_rescue_2 rfl (lv_at hl 0 rfl) ?_
      refine lv_bipush (v := nI 20) hx hb dX0_rescue_3 (by decide) ?_
      refine lv_icmp_ge (tgt := 91) hx hb dX0_rescue_5 (by decide) (fun c1 => ?_) (fun c1 => ?_)
      · have c1 := (nI_leI (a := 20) (b := i) (by omega) (by omega)).mp c1
        have e1 : i = 20 := by omega
        rw [e1] at hq
        refine lv_iconst (v := nI 0) hx hb dX0_rescue_91 (by decide) ?_
        refine lv_istore_n (lv' := [(1, .int (nI 0)), (0, .ref (h 100))]) hx hb dX0_rescue_92 rfl hl (by decide) rfl (fun ls hl => ?_)
        exact loop2 ((v_qu (v_res v (v_lb v) 20)).length + 1) 0 cs u1 (by omega) (by omega) hq ⟨⟨[], by simp⟩, fun o ho => Or.inl ho, fun a ha => absurd ha (Nat.not_lt_zero a)⟩ _ _ G ls (lv_sub hl [0, 1] rfl)
      · have c1 : i < 20 := by
          rcases Nat.lt_or_ge i 20 with q | q
          · exact q
          · exact absurd (nI_le q (by omega)) c1
        have J : ∀ (H : Heap) (locs : List Loc), gk_G D (eh_w h d u1) A s.heap H locs → W p l e R s m args below meth c H locs 0 0 Q (F0 m 45 ls [.int (bI (v_ends v (v_lb v) i))]) := by
          intro H locs G
          refine lv_istore_n (lv' := [(2, .int (bI (v_ends v (v_lb v) i))), (1, .int (nI i)), (0, .ref (h 100))]) hx hb dX0_rescue_45 rfl hl (by decide) rfl (fun ls hl => ?_)
          refine lv_iload_n hx hb dX0_rescue_46 rfl (lv_at hl 0 rfl) ?_
          refine lv_if_eq (tgt := 85) hx hb dX0_rescue_47 (by decide) (fun c4 => ?_) (fun c4 => ?_)
          · have he : (v_ends v (v_lb v) i) = false := bI_eq.mp c4
            refine lv_iinc (v := nI (i + 1)) (lv' := [(1, .int (nI (i + 1))), (2, .int (bI (v_ends v (v_lb v) i))), (0, .ref (h 100))]) hx hb dX0_rescue_85 hl (k := 1) rfl (nI_1 i) (by decide) rfl (fun ls hl => ?_)
            refine lv_goto (tgt := 2) hx hb dX0_rescue_88 (by decide) ?_
            exact ih (i + 1) u1 (by omega) (by omega) (by rw [res_f he]; exact hq) _ _ G ls (lv_sub hl [0, 2] rfl)
          · have he : (v_ends v (v_lb v) i) = true := bI_ne.mp c4
            have hqs := res_ql c1 hv hB he
            refine lv_aload_n hx hb dX0_rescue_50 rfl (lv_at hl 2 rfl) ?_
            refine eh_g13 C G dX0_rescue_51 ?_
            refine lv_aload_n hx hb dX0_rescue_54 rfl (lv_at hl 2 rfl) ?_
            refine eh_g14 (x := nI (v_qu (v_res v (v_lb v) i)).length) C G (hq.1.2.2.2.2.2.2.2.1) dX0_rescue_55 ?_
            refine lv_iload_n hx hb dX0_rescue_58 rfl (lv_at hl 1 rfl) ?_
            refine lv_i2b (v := nI i) hx hb dX0_rescue_59 (ib_nI (by omega)) ?_
            refine eh_s13 (n := (v_qu (v_res v (v_lb v) i)).length) (x := nI i) C G (rfl) (hqs) (nb_nI (by omega)) dX0_rescue_60 (fun H locs G => ?_)
            refine lv_aload_n hx hb dX0_rescue_61 rfl (lv_at hl 2 rfl) ?_
            refine lv_dup hx hb dX0_rescue_62 rfl ?_
            refine eh_g14 (x := nI (v_qu (v_res v (v_lb v) i)).length) C G (hq.1.2.2.2.2.2.2.2.1) dX0_rescue_63 ?_
            refine lv_iconst (v := nI 1) hx hb dX0_rescue_66 (by decide) ?_
            refine lv_iadd hx hb dX0_rescue_67 ?_
            refine gk_tv (y := nI ((v_qu (v_res v (v_lb v) i)).length + 1)) (nI_1 _) ?_
            refine eh_p14 C G dX0_rescue_68 (fun H locs G => ?_)
            refine lv_aload_n hx hb dX0_rescue_71 rfl (lv_at hl 2 rfl) ?_
            refine lv_dup hx hb dX0_rescue_72 rfl ?_
            refine eh_g1 (x := mk_ (fun o => v_he (v_res v (v_lb v) i) o && v_ey (v_res v (v_lb v) i) o) 20) C G (hq.1.2.2.2.2.1) dX0_rescue_73 ?_
            refine lv_iconst (v := nI 1) hx hb dX0_rescue_76 (by decide) ?_
            refine lv_iload_n hx hb dX0_rescue_77 rfl (lv_at hl 1 rfl) ?_
            refine lv_ishl hx hb dX0_rescue_78 ?_
            refine lv_iconst (v := -1) hx hb dX0_rescue_79 (by decide) ?_
            refine lv_ixor hx hb dX0_rescue_80 ?_
            refine lv_iand hx hb dX0_rescue_81 ?_
            refine eh_p1 C G dX0_rescue_82 (fun H locs G => ?_)
            refine lv_iinc (v := nI (i + 1)) (lv' := [(1, .int (nI (i + 1))), (2, .int (bI (v_ends v (v_lb v) i))), (0, .ref (h 100))]) hx hb dX0_rescue_85 hl (k := 1) rfl (nI_1 i) (by decide) rfl (fun ls hl => ?_)
            refine lv_goto (tgt := 2) hx hb dX0_rescue_88 (by decide) ?_
            exact ih (i + 1) _ (by omega) (by omega) (by rw [res_t he]; exact eh_res1 hq c1) _ _ G ls (lv_sub hl [0, 2] rfl)
        refine lv_aload_n hx hb dX0_rescue_8 rfl (lv_at hl 1 rfl) ?_
        refine lv_iload_n hx hb dX0_rescue_9 rfl (lv_at hl 0 rfl) ?_
        refine eh_ci (n := 1) (As := [.int (nI i)]) (rest := []) C G (me_has l D h d u1 (v_res v (v_lb v) i) (nI i) hq.1.2.2.2.1) (lw_V q80 q82 qs0 q16 q83) (by decide +kernel) rfl (by decide) rfl (Nat.le_of_ble_eq_true rfl) hl.1 dX0_rescue_10 (fun r u2 H locs hp2 G => ?_)
        obtain ⟨er, eu⟩ := hp2
        rw [eu] at G
        refine gk_tv (y := bI (v_he v i)) (er.trans (congrArg bI (v_has_nI c1))) ?_
        refine lv_if_eq (tgt := 44) hx hb dX0_rescue_13 (by decide) (fun c2 => ?_) (fun c2 => ?_)
        · refine lv_iconst (v := nI 0) hx hb dX0_rescue_44 (by decide) ?_
          exact gk_tv (congrArg bI (show false = (v_ends v (v_lb v) i) from by unfold v_ends; rw [bI_eq.mp c2]; rfl)) (J _ _ G)
        · have hh : v_he v i = true := bI_ne.mp c2
          refine lv_aload_n hx hb dX0_rescue_16 rfl (lv_at hl 1 rfl) ?_
          refine eh_g1 (x := mk_ (fun o => v_he (v_res v (v_lb v) i) o && v_ey (v_res v (v_lb v) i) o) 20) C G (hq.1.2.2.2.2.1) dX0_rescue_17 ?_
          refine lv_iload_n hx hb dX0_rescue_20 rfl (lv_at hl 0 rfl) ?_
          refine lv_ishr hx hb dX0_rescue_21 ?_
          refine lv_iconst (v := nI 1) hx hb dX0_rescue_22 (by decide) ?_
          refine lv_iand hx hb dX0_rescue_23 ?_
          refine gk_tv (y := bI (v_ey v i)) ((mk_test c1).trans (congrArg bI (res_bit hh))) ?_
          refine lv_if_eq (tgt := 44) hx hb dX0_rescue_24 (by decide) (fun c3 => ?_) (fun c3 => ?_)
          · refine lv_iconst (v := nI 0) hx hb dX0_rescue_44 (by decide) ?_
            exact gk_tv (congrArg bI (show false = (v_ends v (v_lb v) i) from by unfold v_ends; rw [bI_eq.mp c3, hh]; rfl)) (J _ _ G)
          · have hy : v_ey v i = true := bI_ne.mp c3
            refine lv_aload_n hx hb dX0_rescue_27 rfl (lv_at hl 1 rfl) ?_
            refine lv_aload_n hx hb dX0_rescue_28 rfl (lv_at hl 1 rfl) ?_
            refine eh_g2 C G dX0_rescue_29 ?_
            refine lv_iload_n hx hb dX0_rescue_32 rfl (lv_at hl 0 rfl) ?_
            refine eh_l2 (n := i) (x := nI (pl i)) C G (rfl) (c1) ((hq.1.2.2.2.2.2.1 i c1 hh).1) dX0_rescue_33 ?_
            refine gk_tv (y := eP pl (some i)) (rfl) ?_
            refine eh_ci (n := 1) (As := [.int (eP pl (some i))]) (rest := []) C G (me_isCopied l D h d u1 (v_res v (v_lb v) i) sp pl cs cs.length (some i) hq (fun k e => by cases e; exact ⟨c1, hh⟩)) (lw_V q120 q122 qs6 q16 q123) (by decide +kernel) rfl (by decide) rfl (Nat.le_of_ble_eq_true rfl) hl.1 dX0_rescue_34 (fun r u3 H locs hp3 G => ?_)
            obtain ⟨er3, eu3⟩ := hp3
            rw [eu3] at G
            refine gk_tv (y := bI (decide (i ∈ cs))) (er3) ?_
            refine lv_if_ne (tgt := 44) hx hb dX0_rescue_37 (by decide) (fun c5 => ?_) (fun c5 => ?_)
            · refine lv_iconst (v := nI 0) hx hb dX0_rescue_44 (by decide) ?_
              exact gk_tv (congrArg bI (show false = (v_ends v (v_lb v) i) from by unfold v_ends; rw [hh, hy, v_lb_iff.mpr ((hlv i).mp (of_decide_eq_true (bI_ne.mp c5)))]; rfl)) (J _ _ G)
            · refine lv_iconst (v := nI 1) hx hb dX0_rescue_40 (by decide) ?_
              refine lv_goto (tgt := 45) hx hb dX0_rescue_41 (by decide) ?_
              exact gk_tv (congrArg bI (show true = (v_ends v (v_lb v) i) from by unfold v_ends; rw [hh, hy, v_lb_false.mpr (fun z => of_decide_eq_false (bI_eq.mp c5) ((hlv i).mpr z))]; rfl)) (J _ _ G)
  refine lv_iconst (v := nI 0) hx hb dX0_rescue_0 (by decide) ?_
  refine lv_istore_n (lv' := [(1, .int (nI 0)), (0, .ref (h 100))]) hx hb dX0_rescue_1 rfl hl (by decide) rfl (fun ls hl => ?_)
  exact loop1 21 0 u (by omega) (by omega) (by rw [res_0]; exact hq0) _ _ G ls (lv_sub hl [0, 1] rfl)
end
section
/-! EphemeronHeap: mend -/
set_option maxHeartbeats 4000000 in
set_option maxRecDepth 100000 in
/-- mend(first) -/
theorem me_mend (l : Launch) (D : va_G) (h : Nat → Nat) (d : Nat → ClassId) (u : gS) (v : eV) (sp : Nat) (pl : Nat → Nat) (cs : List Nat) (B Aa : Nat → Bool) (fst : Nat) (hv : v_inv v) (hpl : ∀ o, o < 20 → v_he v o = true → pl o < 40) (hN0 : eh_N u v sp pl cs B Aa 0) (hn : cs.Nodup) (hcs : ∀ o, o ∈ cs → o < 20 ∧ v_he v o = true) (hA : ∀ o, Aa o = true ↔ o ∈ cs) (hB1 : ∀ k, B k = true → k ∈ cs) (hB2 : ∀ k, k ∈ cs → (B k = true ↔ eh_pn sp cs k < (1 - sp) * 20 + fst)) (hcl : v_cl v (fun o => Aa o = true)) (hf : fst ≤ 20) : gk_Mv l D (eh_t d) (eh_w h d) yX0_mend cX0_mend 7 1 21 [.ref (h 100), .int (nI fst)] u (fun u' => eh_N u' v sp pl cs B Aa cs.length) := by
  refine gk_ov (own := RX0) (by decide) rfl (Nat.le_of_ble_eq_true rfl) ?_
  intro p e R s m args below meth c Q A ls C G hret hl
  have hx := C.1.1
  have hb := C.1.2.1
  have hl : lv_has ls 7 [(0, .ref (h 100)), (1, .int (nI fst))] := hl
  have hsp := hN0.1
  have hle : cs.length ≤ 20 := nd_le hn (fun o ho => (hcs o ho).1)
  have hpn : ∀ k, Aa k = true → eh_pn sp cs k < 40 := fun k hk => by
    have := pn_lt (sp := sp) hn ((hA k).mp hk)
    omega
  have loop : ∀ (n i : Nat) (u1 : gS), i ≤ cs.length → cs.length + 1 ≤ i + n → eh_N u1 v sp pl cs B Aa i → ∀ (H : Heap) (locs : List Loc), gk_G D (eh_w h d u1) A s.heap H locs → ∀ (ls : Array Slot), lv_has ls 7 [(3, .int (nI i)), (2, .int (nI ((1 - sp) * 20 + fst))), (1, .int (nI fst)), (0, .ref (h 100))] → W p l e R s m args below meth c H locs 0 0 Q (F0 m 14 ls []) := by
    intro n
    induction n with
    | zero => intro i u1 h1 h2; exact absurd h2 (by omega)
    | succ n ih =>
      intro i u1 h1 h2 hN H locs G ls hl
      refine lv_iload_n hx hb dX0_mend_14 rfl (lv_at hl 0 rfl) ?_
      refine lv_aload_n hx hb dX0_mend_15 rfl (lv_at hl 3 rfl) ?_
      refine eh_g10 (x := nI cs.length) C G (hN.2.2.2.2.1) dX0_mend_16 ?_
      refine lv_icmp_ge (tgt := 126) hx hb dX0_mend_19 (by decide) (fun c1 => ?_) (fun c1 => ?_)
      · have c1 := (nI_leI (a := cs.length) (b := i) (by omega) (by omega)).mp c1
        have e1 : i = cs.length := by omega
        exact hret _ _ _ _ _ G (by rw [← e1]; exact hN) dX0_mend_126
      · have c1 : i < cs.length := by
          rcases Nat.lt_or_ge i cs.length with q | q
          · exact q
          · exact absurd (nI_le q (by omega)) c1
        have hm : (cs.getD i 0) ∈ cs := getD_mem c1
        have hmA := (hA _).mpr hm
        have ho := hcs _ hm
        have hki := (hv.1 _ ho.1).1
        have hc := hN.2.2.2.2.2.2.2.1 i c1
        have hff := hN.2.2.2.2.2.2.2.2.2.2 i (Nat.le_refl _) c1
        refine lv_iconst (v := nI 1) hx hb dX0_mend_22 (by decide) ?_
        refine lv_aload_n hx hb dX0_mend_23 rfl (lv_at hl 3 rfl) ?_
        refine eh_g3 (x := nI sp) C G (hN.2.1) dX0_mend_24 ?_
        refine lv_isub hx hb dX0_mend_27 ?_
        refine lv_bipush (v := nI 20) hx hb dX0_mend_28 (by decide) ?_
        refine lv_imul hx hb dX0_mend_30 ?_
        refine lv_iload_n hx hb dX0_mend_31 rfl (lv_at hl 0 rfl) ?_
        refine lv_iadd hx hb dX0_mend_32 ?_
        refine gk_tv (y := nI ((1 - sp) * 20 + i)) (eh_to hsp) ?_
        refine lv_istore (lv' := [(4, .int (nI ((1 - sp) * 20 + i))), (3, .int (nI i)), (2, .int (nI ((1 - sp) * 20 + fst))), (1, .int (nI fst)), (0, .ref (h 100))]) hx hb dX0_mend_33 hl (by decide) rfl (fun ls hl => ?_)
        refine lv_aload_n hx hb dX0_mend_35 rfl (lv_at hl 4 rfl) ?_
        refine lv_aload_n hx hb dX0_mend_36 rfl (lv_at hl 4 rfl) ?_
        refine eh_g7 C G dX0_mend_37 ?_
        refine lv_iload hx hb dX0_mend_40 (lv_at hl 0 rfl) ?_
        refine eh_l7 (n := (1 - sp) * 20 + i) (x := eP pl (v_fa v (cs.getD i 0))) C G (rfl) (by omega) (hff.1) dX0_mend_42 ?_
        refine eh_ci (n := 1) (As := [.int (eP pl (v_fa v (cs.getD i 0)))]) (rest := []) C G (me_moved l D h d u1 pl (v_fa v (cs.getD i 0)) (eP (eh_pn sp cs) (ef Aa (v_fa v (cs.getD i 0)))) (fun k e => hpl k (tg_a hv ho.1 ho.2 k e).1 (tg_a hv ho.1 ho.2 k e).2) (nn_eq hN hn hA (tg_a hv ho.1 ho.2))) (lw_V q132 q134 qs9 q16 q135) (by decide +kernel) rfl (by decide) rfl (Nat.le_of_ble_eq_true rfl) hl.1 dX0_mend_43 (fun ra u2 H locs hp2 G => ?_)
        obtain ⟨era, eu2⟩ := hp2
        rw [eu2] at G
        refine gk_tv (y := eP (eh_pn sp cs) (ef Aa (v_fa v (cs.getD i 0)))) (era) ?_
        refine lv_istore (lv' := [(5, .int (eP (eh_pn sp cs) (ef Aa (v_fa v (cs.getD i 0))))), (4, .int (nI ((1 - sp) * 20 + i))), (3, .int (nI i)), (2, .int (nI ((1 - sp) * 20 + fst))), (1, .int (nI fst)), (0, .ref (h 100))]) hx hb dX0_mend_46 hl (by decide) rfl (fun ls hl => ?_)
        refine lv_aload_n hx hb dX0_mend_48 rfl (lv_at hl 5 rfl) ?_
        refine lv_aload_n hx hb dX0_mend_49 rfl (lv_at hl 5 rfl) ?_
        refine eh_g8 C G dX0_mend_50 ?_
        refine lv_iload hx hb dX0_mend_53 (lv_at hl 1 rfl) ?_
        refine eh_l8 (n := (1 - sp) * 20 + i) (x := eP pl (v_fb v (cs.getD i 0))) C G (rfl) (by omega) (hff.2) dX0_mend_55 ?_
        refine eh_ci (n := 1) (As := [.int (eP pl (v_fb v (cs.getD i 0)))]) (rest := []) C G (me_moved l D h d u1 pl (v_fb v (cs.getD i 0)) (eP (eh_pn sp cs) (ef Aa (v_fb v (cs.getD i 0)))) (fun k e => hpl k (tg_b hv ho.1 ho.2 k e).1 (tg_b hv ho.1 ho.2 k e).2) (nn_eq hN hn hA (tg_b hv ho.1 ho.2))) (lw_V q132 q134 qs9 q16 q135) (by decide +kernel) rfl (by decide) rfl (Nat.le_of_ble_eq_true rfl) hl.1 dX0_mend_56 (fun rb u3 H locs hp3 G => ?_)
        obtain ⟨erb, eu3⟩ := hp3
        rw [eu3] at G
        refine gk_tv (y := eP (eh_pn sp cs) (ef Aa (v_fb v (cs.getD i 0)))) (erb) ?_
        refine lv_istore (lv' := [(6, .int (eP (eh_pn sp cs) (ef Aa (v_fb v (cs.getD i 0))))), (5, .int (eP (eh_pn sp cs) (ef Aa (v_fa v (cs.getD i 0))))), (4, .int (nI ((1 - sp) * 20 + i))), (3, .int (nI i)), (2, .int (nI ((1 - sp) * 20 + fst))), (1, .int (nI fst)), (0, .ref (h 100))]) hx hb dX0_mend_59 hl (by decide) rfl (fun ls hl => ?_)
        have hl : lv_has ls 7 [(6, .int (eP (eh_pn sp cs) (ef Aa (v_fb v (cs.getD i 0))))), (5, .int (eP (eh_pn sp cs) (ef Aa (v_fa v (cs.getD i 0))))), (4, .int (nI ((1 - sp) * 20 + i))), (3, .int (nI i)), (2, .int (nI ((1 - sp) * 20 + fst))), (1, .int (nI fst)), (0, .ref (h 100))] := hl
        have J : ∀ (ls : Array Slot), lv_has ls 7 [(0, .ref (h 100)), (1, .int (nI fst)), (2, .int (nI ((1 - sp) * 20 + fst))), (3, .int (nI i)), (4, .int (nI ((1 - sp) * 20 + i))), (5, .int (eP (eh_pn sp cs) (v_fa2 v B Aa (cs.getD i 0)))), (6, .int (eP (eh_pn sp cs) (v_fb2 v B Aa (cs.getD i 0))))] → W p l e R s m args below meth c H locs 0 0 Q (F0 m 100 ls []) := by
          intro ls hl
          refine lv_aload_n hx hb dX0_mend_100 rfl (lv_at hl 0 rfl) ?_
          refine eh_g7 C G dX0_mend_101 ?_
          refine lv_iload hx hb dX0_mend_104 (lv_at hl 4 rfl) ?_
          refine lv_iload hx hb dX0_mend_106 (lv_at hl 5 rfl) ?_
          refine lv_i2b (v := eP (eh_pn sp cs) (v_fa2 v B Aa (cs.getD i 0))) hx hb dX0_mend_108 (ib_eP (fun k e => by have := hpn k (m_fa_in hcl (fun k q => (hA k).mpr (hB1 k q)) hki hmA e); omega)) ?_
          refine eh_s7 (n := (1 - sp) * 20 + i) (x := eP (eh_pn sp cs) (v_fa2 v B Aa (cs.getD i 0))) C G (rfl) (by omega) (nb_eP (fun k e => by have := hpn k (m_fa_in hcl (fun k q => (hA k).mpr (hB1 k q)) hki hmA e); omega)) dX0_mend_109 (fun H locs G => ?_)
          refine lv_aload_n hx hb dX0_mend_110 rfl (lv_at hl 0 rfl) ?_
          refine eh_g8 C G dX0_mend_111 ?_
          refine lv_iload hx hb dX0_mend_114 (lv_at hl 4 rfl) ?_
          refine lv_iload hx hb dX0_mend_116 (lv_at hl 6 rfl) ?_
          refine lv_i2b (v := eP (eh_pn sp cs) (v_fb2 v B Aa (cs.getD i 0))) hx hb dX0_mend_118 (ib_eP (fun k e => by have := hpn k (m_fb_in hcl hmA e); omega)) ?_
          refine eh_s8 (n := (1 - sp) * 20 + i) (x := eP (eh_pn sp cs) (v_fb2 v B Aa (cs.getD i 0))) C G (rfl) (by omega) (nb_eP (fun k e => by have := hpn k (m_fb_in hcl hmA e); omega)) dX0_mend_119 (fun H locs G => ?_)
          refine lv_iinc (v := nI (i + 1)) (lv' := [(3, .int (nI (i + 1))), (0, .ref (h 100)), (1, .int (nI fst)), (2, .int (nI ((1 - sp) * 20 + fst))), (4, .int (nI ((1 - sp) * 20 + i))), (5, .int (eP (eh_pn sp cs) (v_fa2 v B Aa (cs.getD i 0)))), (6, .int (eP (eh_pn sp cs) (v_fb2 v B Aa (cs.getD i 0))))]) hx hb dX0_mend_120 hl (k := 3) rfl (nI_1 i) (by decide) rfl (fun ls hl => ?_)
          refine lv_goto (tgt := 14) hx hb dX0_mend_123 (by decide) ?_
          exact ih (i + 1) _ (by omega) (by omega) (N_step hN c1) _ _ G ls (lv_sub hl [0, 3, 2, 1] rfl)
        rcases (show v_ki v (cs.getD i 0) = 0 ∨ v_ki v (cs.getD i 0) = 1 ∨ v_ki v (cs.getD i 0) = 2 by omega) with hk | hk | hk
        · refine lv_aload_n hx hb dX0_mend_61 rfl (lv_at hl 6 rfl) ?_
          refine eh_g6 C G dX0_mend_62 ?_
          refine lv_iload hx hb dX0_mend_65 (lv_at hl 2 rfl) ?_
          refine eh_l6 (n := (1 - sp) * 20 + i) (x := nI (v_ki v (cs.getD i 0))) C G (rfl) (by omega) (hc.2.1) dX0_mend_67 ?_
          refine lv_iconst (v := nI 1) hx hb dX0_mend_68 (by decide) ?_
          refine lv_icmp_ne (tgt := 81) hx hb dX0_mend_69 (by decide) (fun _ => ?_) (fun c_ => absurd c_ (by rw [hk]; decide))
          refine lv_aload_n hx hb dX0_mend_81 rfl (lv_at hl 6 rfl) ?_
          refine eh_g6 C G dX0_mend_82 ?_
          refine lv_iload hx hb dX0_mend_85 (lv_at hl 2 rfl) ?_
          refine eh_l6 (n := (1 - sp) * 20 + i) (x := nI (v_ki v (cs.getD i 0))) C G (rfl) (by omega) (hc.2.1) dX0_mend_87 ?_
          refine lv_iconst (v := nI 2) hx hb dX0_mend_88 (by decide) ?_
          refine lv_icmp_ne (tgt := 100) hx hb dX0_mend_89 (by decide) (fun _ => ?_) (fun c_ => absurd c_ (by rw [hk]; decide))
          have hA2 : eP (eh_pn sp cs) (v_fa2 v B Aa (cs.getD i 0)) = eP (eh_pn sp cs) (ef Aa (v_fa v (cs.getD i 0))) := by rw [m_fa0 hk, ef_all (fun k e => (hcl _ hmA).1 hk k e)]
          have hB2 : eP (eh_pn sp cs) (v_fb2 v B Aa (cs.getD i 0)) = eP (eh_pn sp cs) (ef Aa (v_fb v (cs.getD i 0))) := by rw [m_fb (by rw [hk]; decide), ef_all (fun k e => (hcl _ hmA).2.1 (by rw [hk]; decide) k e)]
          exact J ls (by rw [hA2, hB2]; exact (lv_sub hl [6, 5, 4, 3, 2, 1, 0] rfl))
        · refine lv_aload_n hx hb dX0_mend_61 rfl (lv_at hl 6 rfl) ?_
          refine eh_g6 C G dX0_mend_62 ?_
          refine lv_iload hx hb dX0_mend_65 (lv_at hl 2 rfl) ?_
          refine eh_l6 (n := (1 - sp) * 20 + i) (x := nI (v_ki v (cs.getD i 0))) C G (rfl) (by omega) (hc.2.1) dX0_mend_67 ?_
          refine lv_iconst (v := nI 1) hx hb dX0_mend_68 (by decide) ?_
          refine lv_icmp_ne (tgt := 81) hx hb dX0_mend_69 (by decide) (fun c_ => absurd (by rw [hk]) c_) (fun _ => ?_)
          refine lv_iload hx hb dX0_mend_72 (lv_at hl 1 rfl) ?_
          refine lv_iload_n hx hb dX0_mend_74 rfl (lv_at hl 4 rfl) ?_
          refine lv_icmp_lt (tgt := 81) hx hb dX0_mend_75 (by decide) (fun cw => ?_) (fun cw => ?_)
          · refine lv_aload_n hx hb dX0_mend_81 rfl (lv_at hl 6 rfl) ?_
            refine eh_g6 C G dX0_mend_82 ?_
            refine lv_iload hx hb dX0_mend_85 (lv_at hl 2 rfl) ?_
            refine eh_l6 (n := (1 - sp) * 20 + i) (x := nI (v_ki v (cs.getD i 0))) C G (rfl) (by omega) (hc.2.1) dX0_mend_87 ?_
            refine lv_iconst (v := nI 2) hx hb dX0_mend_88 (by decide) ?_
            refine lv_icmp_ne (tgt := 100) hx hb dX0_mend_89 (by decide) (fun _ => ?_) (fun c_ => absurd c_ (by rw [hk]; decide))
            have hA2 : eP (eh_pn sp cs) (v_fa2 v B Aa (cs.getD i 0)) = eP (eh_pn sp cs) (ef Aa (v_fa v (cs.getD i 0))) := by rw [m_fa1 hk]; exact ((m_weak hsp hf hle hn hA hB1 hB2 (v_fa v (cs.getD i 0))).1 cw).symm
            have hB2 : eP (eh_pn sp cs) (v_fb2 v B Aa (cs.getD i 0)) = eP (eh_pn sp cs) (ef Aa (v_fb v (cs.getD i 0))) := by rw [m_fb (by rw [hk]; decide), ef_all (fun k e => (hcl _ hmA).2.1 (by rw [hk]; decide) k e)]
            exact J ls (by rw [hA2, hB2]; exact (lv_sub hl [6, 5, 4, 3, 2, 1, 0] rfl))
          · refine lv_iconst (v := -1) hx hb dX0_mend_78 (by decide) ?_
            refine lv_istore (lv' := [(5, .int (-1)), (6, .int (eP (eh_pn sp cs) (ef Aa (v_fb v (cs.getD i 0))))), (4, .int (nI ((1 - sp) * 20 + i))), (3, .int (nI i)), (2, .int (nI ((1 - sp) * 20 + fst))), (1, .int (nI fst)), (0, .ref (h 100))]) hx hb dX0_mend_79 hl (by decide) rfl (fun ls hl => ?_)
            refine lv_aload_n hx hb dX0_mend_81 rfl (lv_at hl 6 rfl) ?_
            refine eh_g6 C G dX0_mend_82 ?_
            refine lv_iload hx hb dX0_mend_85 (lv_at hl 2 rfl) ?_
            refine eh_l6 (n := (1 - sp) * 20 + i) (x := nI (v_ki v (cs.getD i 0))) C G (rfl) (by omega) (hc.2.1) dX0_mend_87 ?_
            refine lv_iconst (v := nI 2) hx hb dX0_mend_88 (by decide) ?_
            refine lv_icmp_ne (tgt := 100) hx hb dX0_mend_89 (by decide) (fun _ => ?_) (fun c_ => absurd c_ (by rw [hk]; decide))
            have hA2 : eP (eh_pn sp cs) (v_fa2 v B Aa (cs.getD i 0)) = -1 := by rw [m_fa1 hk]; exact ((m_weak hsp hf hle hn hA hB1 hB2 (v_fa v (cs.getD i 0))).2 cw).symm
            have hB2 : eP (eh_pn sp cs) (v_fb2 v B Aa (cs.getD i 0)) = eP (eh_pn sp cs) (ef Aa (v_fb v (cs.getD i 0))) := by rw [m_fb (by rw [hk]; decide), ef_all (fun k e => (hcl _ hmA).2.1 (by rw [hk]; decide) k e)]
            exact J ls (by rw [hA2, hB2]; exact (lv_sub hl [6, 5, 4, 3, 2, 0, 1] rfl))
        · refine lv_aload_n hx hb dX0_mend_61 rfl (lv_at hl 6 rfl) ?_
          refine eh_g6 C G dX0_mend_62 ?_
          refine lv_iload hx hb dX0_mend_65 (lv_at hl 2 rfl) ?_
          refine eh_l6 (n := (1 - sp) * 20 + i) (x := nI (v_ki v (cs.getD i 0))) C G (rfl) (by omega) (hc.2.1) dX0_mend_67 ?_
          refine lv_iconst (v := nI 1) hx hb dX0_mend_68 (by decide) ?_
          refine lv_icmp_ne (tgt := 81) hx hb dX0_mend_69 (by decide) (fun _ => ?_) (fun c_ => absurd c_ (by rw [hk]; decide))
          refine lv_aload_n hx hb dX0_mend_81 rfl (lv_at hl 6 rfl) ?_
          refine eh_g6 C G dX0_mend_82 ?_
          refine lv_iload hx hb dX0_mend_85 (lv_at hl 2 rfl) ?_
          refine eh_l6 (n := (1 - sp) * 20 + i) (x := nI (v_ki v (cs.getD i 0))) C G (rfl) (by omega) (hc.2.1) dX0_mend_87 ?_
          refine lv_iconst (v := nI 2) hx hb dX0_mend_88 (by decide) ?_
          refine lv_icmp_ne (tgt := 100) hx hb dX0_mend_89 (by decide) (fun c_ => absurd (by rw [hk]) c_) (fun _ => ?_)
          refine lv_iload hx hb dX0_mend_92 (lv_at hl 1 rfl) ?_
          refine lv_if_ge (tgt := 100) hx hb dX0_mend_94 (by decide) (fun cg => ?_) (fun cg => ?_)
          · obtain ⟨k, ek⟩ : ∃ k, ef Aa (v_fa v (cs.getD i 0)) = some k := by
              cases e : ef Aa (v_fa v (cs.getD i 0)) with
              | none => rw [e] at cg; exact absurd cg (show ¬ (0 : Int32) ≤ -1 by decide)
              | some k => exact ⟨k, rfl⟩
            have hA2 : eP (eh_pn sp cs) (v_fa2 v B Aa (cs.getD i 0)) = eP (eh_pn sp cs) (ef Aa (v_fa v (cs.getD i 0))) := by rw [m_fa2 hk]
            have hB2 : eP (eh_pn sp cs) (v_fb2 v B Aa (cs.getD i 0)) = eP (eh_pn sp cs) (ef Aa (v_fb v (cs.getD i 0))) := by
              rw [m_fbs (by rw [m_fa2 hk]; exact ek), ef_all (fun j e => (hcl _ hmA).2.2 hk k j (ef_some ek).1 (ef_some ek).2 e)]
            exact J ls (by rw [hA2, hB2]; exact (lv_sub hl [6, 5, 4, 3, 2, 1, 0] rfl))
          · have ek : ef Aa (v_fa v (cs.getD i 0)) = none := by
              cases e : ef Aa (v_fa v (cs.getD i 0)) with
              | none => rfl
              | some k =>
                rw [e] at cg
                have := hpn k (ef_some e).2
                exact absurd (nI_pos' (n := eh_pn sp cs k) (by omega)) cg
            refine lv_iconst (v := -1) hx hb dX0_mend_97 (by decide) ?_
            refine lv_istore (lv' := [(6, .int (-1)), (5, .int (eP (eh_pn sp cs) (ef Aa (v_fa v (cs.getD i 0))))), (4, .int (nI ((1 - sp) * 20 + i))), (3, .int (nI i)), (2, .int (nI ((1 - sp) * 20 + fst))), (1, .int (nI fst)), (0, .ref (h 100))]) hx hb dX0_mend_98 hl (by decide) rfl (fun ls hl => ?_)
            have hA2 : eP (eh_pn sp cs) (v_fa2 v B Aa (cs.getD i 0)) = eP (eh_pn sp cs) (ef Aa (v_fa v (cs.getD i 0))) := by rw [m_fa2 hk]
            have hB2 : eP (eh_pn sp cs) (v_fb2 v B Aa (cs.getD i 0)) = -1 := by rw [m_fbn hk (by rw [m_fa2 hk]; exact ek)]; rfl
            exact J ls (by rw [hA2, hB2]; exact (lv_sub hl [6, 5, 4, 3, 2, 1, 0] rfl))
  refine lv_iconst (v := nI 1) hx hb dX0_mend_0 (by decide) ?_
  refine lv_aload_n hx hb dX0_mend_1 rfl (lv_at hl 0 rfl) ?_
  refine eh_g3 (x := nI sp) C G (hN0.2.1) dX0_mend_2 ?_
  refine lv_isub hx hb dX0_mend_5 ?_
  refine lv_bipush (v := nI 20) hx hb dX0_mend_6 (by decide) ?_
  refine lv_imul hx hb dX0_mend_8 ?_
  refine lv_iload_n hx hb dX0_mend_9 rfl (lv_at hl 1 rfl) ?_
  refine lv_iadd hx hb dX0_mend_10 ?_
  refine gk_tv (y := nI ((1 - sp) * 20 + fst)) (eh_to hsp) ?_
  refine lv_istore_n (lv' := [(2, .int (nI ((1 - sp) * 20 + fst))), (0, .ref (h 100)), (1, .int (nI fst))]) hx hb dX0_mend_11 rfl hl (by decide) rfl (fun ls hl => ?_)
  refine lv_iconst (v := nI 0) hx hb dX0_mend_12 (by decide) ?_
  refine lv_istore_n (lv' := [(3, .int (nI 0)), (2, .int (nI ((1 - sp) * 20 + fst))), (0, .ref (h 100)), (1, .int (nI fst))]) hx hb dX0_mend_13 rfl hl (by decide) rfl (fun ls hl => ?_)
  exact loop (cs.length + 1) 0 u (by omega) (by omega) hN0 _ _ G ls (lv_sub hl [0, 1, 3, 2] rfl)
end
section
/-! EphemeronHeap: clean -/
set_option maxHeartbeats 4000000 in
set_option maxRecDepth 100000 in
/-- clean() -/
theorem me_clean (l : Launch) (D : va_G) (h : Nat → Nat) (d : Nat → ClassId) (u : gS) (v : eV) (sp : Nat) (pl : Nat → Nat) (hv : v_inv v) (hR0 : eh_R u v sp pl) : gk_Mi l D (eh_t d) (eh_w h d) yX0_clean cX0_clean 5 .int 4 89 [.ref (h 100)] u (fun r u' => r = (o_clean v).1 ∧ eh_RR u' (o_clean v).2) := by
  refine gk_oi (own := RX0) (by decide) rfl (Nat.le_of_ble_eq_true rfl) (fun _ _ _ => rfl) ?_
  intro p e R s m args below meth c Q A ls C G hret hl
  have hx := C.1.1
  have hb := C.1.2.1
  have hl : lv_has ls 5 [(0, .ref (h 100))] := hl
  have hB : ∀ o, o ∈ v_qu v → v_lb v o = true := fun o ho => v_lb_iff.mpr (v_live_start (Or.inr ho))
  have hv1 : v_inv (v_res v (v_lb v) 20) := res_inv (Nat.le_refl _) hv hB
  have hsp := hR0.1
  refine lv_aload_n hx hb dX0_clean_0 rfl (lv_at hl 0 rfl) ?_
  refine eh_cv (n := 0) (As := []) (rest := []) C G (me_copyLiving l D h d u v sp pl hv hR0) (lw_V q104 q106 qs2 q16 q107) (by decide +kernel) rfl (by decide) rfl (Nat.le_of_ble_eq_true rfl) hl.1 dX0_clean_1 (fun u1 H locs hp1 G => ?_)
  obtain ⟨cs0, hq1, hl1⟩ := hp1
  refine lv_aload_n hx hb dX0_clean_4 rfl (lv_at hl 0 rfl) ?_
  refine eh_g10 (x := nI cs0.length) C G (hq1.2.1) dX0_clean_5 ?_
  refine lv_istore_n (lv' := [(1, .int (nI cs0.length)), (0, .ref (h 100))]) hx hb dX0_clean_8 rfl hl (by decide) rfl (fun ls hl => ?_)
  refine lv_aload_n hx hb dX0_clean_9 rfl (lv_at hl 1 rfl) ?_
  refine eh_cv (n := 0) (As := []) (rest := []) C G (me_rescue l D h d u1 v sp pl cs0 hv hq1 hl1) (lw_V q124 q126 qs7 q16 q127) (by decide +kernel) rfl (by decide) rfl (Nat.le_of_ble_eq_true rfl) hl.1 dX0_clean_10 (fun u2 H locs hp2 G => ?_)
  obtain ⟨cs, hq2, ⟨tl, ecs⟩, hl2⟩ := hp2
  have hn := hq2.2.2.2.2.1
  have hle := eh_csle hq2
  have hcs : ∀ o, o ∈ cs → o < 20 ∧ v_he v o = true := hq2.2.2.2.2.2.1
  have hA : ∀ o, v_lb (v_res v (v_lb v) 20) o = true ↔ o ∈ cs := fun o => v_lb_iff.trans (hl2 o).symm
  have hm0 : ∀ k, v_lb v k = true ↔ k ∈ cs0 := fun k => v_lb_iff.trans (hl1 k).symm
  have hB1 : ∀ k, v_lb v k = true → k ∈ cs := fun k hk => by rw [ecs]; exact List.mem_append_left _ ((hm0 k).mp hk)
  have hB2 : ∀ k, k ∈ cs → (v_lb v k = true ↔ eh_pn sp cs k < (1 - sp) * 20 + cs0.length) := fun k hk => by
    have a := pn_first (sp := sp) (cs := cs0) (t := tl) (by rw [← ecs]; exact hn) (k := k) (by rw [← ecs]; exact hk)
    rw [← ecs] at a
    exact (hm0 k).trans a
  have hcl : v_cl (v_res v (v_lb v) 20) (fun o => v_lb (v_res v (v_lb v) 20) o = true) := by
    have e : (fun o => v_lb (v_res v (v_lb v) 20) o = true) = v_live (v_res v (v_lb v) 20) := funext fun o => propext v_lb_iff
    rw [e]
    exact v_live_cl (v_res v (v_lb v) 20)
  refine lv_aload_n hx hb dX0_clean_13 rfl (lv_at hl 1 rfl) ?_
  refine lv_iload_n hx hb dX0_clean_14 rfl (lv_at hl 0 rfl) ?_
  refine eh_cv (n := 1) (As := [.int (nI cs0.length)]) (rest := []) C G (me_mend l D h d u2 (v_res v (v_lb v) 20) sp pl cs (v_lb v) (v_lb (v_res v (v_lb v) 20)) cs0.length hv1 (fun o a b => (eh_pl hq2.1 a b).2.2) (N_of_Q hq2) hn hcs hA hB1 hB2 hcl (eh_csle hq1)) (lw_V q128 q130 qs8 q16 q131) (by decide +kernel) rfl (by decide) rfl (Nat.le_of_ble_eq_true rfl) hl.1 dX0_clean_15 (fun u3 H locs hN3 G => ?_)
  have hT3 := T_of_N hn hN3
  refine lv_aload_n hx hb dX0_clean_18 rfl (lv_at hl 1 rfl) ?_
  refine eh_g0 (x := mk_ (v_he v) 20) C G (hN3.2.2.1) dX0_clean_19 ?_
  refine gk_cs (n := 1) (As := [.int (mk_ (v_he v) 20)]) (rest := []) C G (me_ones l D u (v_he v)) (lw_S q136 q137 q16 q138) (by decide +kernel) rfl (by decide) rfl (Nat.le_of_ble_eq_true rfl) hl.1 dX0_clean_22 (fun rc ux H locs hpx G => ?_)
  refine gk_tv (y := nI (fb_ct (v_he v) 20)) (hpx.1) ?_
  refine lv_istore_n (lv' := [(2, .int (nI (fb_ct (v_he v) 20))), (1, .int (nI cs0.length)), (0, .ref (h 100))]) hx hb dX0_clean_25 rfl hl (by decide) rfl (fun ls hl => ?_)
  refine lv_iconst (v := nI 0) hx hb dX0_clean_26 (by decide) ?_
  refine lv_istore_n (lv' := [(3, .int (nI 0)), (2, .int (nI (fb_ct (v_he v) 20))), (1, .int (nI cs0.length)), (0, .ref (h 100))]) hx hb dX0_clean_27 rfl hl (by decide) rfl (fun ls hl => ?_)
  have hl : lv_has ls 5 [(3, .int (nI 0)), (2, .int (nI (fb_ct (v_he v) 20))), (1, .int (nI cs0.length)), (0, .ref (h 100))] := hl
  have loop2 : ∀ (n i : Nat) (u4 : gS), i ≤ cs.length → cs.length + 1 ≤ i + n → eh_U u4 (v_res v (v_lb v) 20) sp cs (v_lb v) (v_lb (v_res v (v_lb v) 20)) i → ∀ (H : Heap) (locs : List Loc), gk_G D (eh_w h d u4) A s.heap H locs → ∀ (ls : Array Slot), lv_has ls 5 [(3, .int (nI i)), (2, .int (nI (fb_ct (v_he v) 20))), (1, .int (nI cs0.length)), (0, .ref (h 100))] → W p l e R s m args below meth c H locs 0 0 Q (F0 m 81 ls []) := by
    intro n
    induction n with
    | zero => intro i u4 h1 h2; exact absurd h2 (by omega)
    | succ n ih =>
      intro i u4 h1 h2 hU H locs G ls hl
      refine lv_iload_n hx hb dX0_clean_81 rfl (lv_at hl 0 rfl) ?_
      refine lv_aload_n hx hb dX0_clean_82 rfl (lv_at hl 3 rfl) ?_
      refine eh_g10 (x := nI cs.length) C G (hU.2.2.2.2.2.1) dX0_clean_83 ?_
      refine lv_icmp_ge (tgt := 139) hx hb dX0_clean_86 (by decide) (fun c1 => ?_) (fun c1 => ?_)
      · have c1 := (nI_leI (a := cs.length) (b := i) (by omega) (by omega)).mp c1
        have e1 : i = cs.length := by omega
        rw [e1] at hU
        refine lv_aload_n hx hb dX0_clean_139 rfl (lv_at hl 3 rfl) ?_
        refine lv_dup hx hb dX0_clean_140 rfl ?_
        refine eh_g1 (x := mk_ (fun o => v_he v o && v_ey (v_res v (v_lb v) 20) o) 20) C G (hU.2.2.2.2.1) dX0_clean_141 ?_
        refine lv_aload_n hx hb dX0_clean_144 rfl (lv_at hl 3 rfl) ?_
        refine eh_g0 (x := mk_ (fun o => decide (o ∈ cs)) 20) C G (by have := hU.2.2.2.1; rw [List.take_length] at this; exact this) dX0_clean_145 ?_
        refine lv_iand hx hb dX0_clean_148 ?_
        refine eh_p1 C G dX0_clean_149 (fun H locs G => ?_)
        refine lv_iload_n hx hb dX0_clean_152 rfl (lv_at hl 1 rfl) ?_
        refine lv_aload_n hx hb dX0_clean_153 rfl (lv_at hl 3 rfl) ?_
        refine eh_g10 (x := nI cs.length) C G (hU.2.2.2.2.2.1) dX0_clean_154 ?_
        refine lv_isub hx hb dX0_clean_157 ?_
        exact hret (nI (fb_ct (v_he v) 20) - nI cs.length) _ _ _ _ _ G (⟨cln_ct hn hA hcs, _, _, R_of_U hv hn hl2 hcs hU⟩) dX0_clean_158
      · have c1 : i < cs.length := by
          rcases Nat.lt_or_ge i cs.length with q | q
          · exact q
          · exact absurd (nI_le q (by omega)) c1
        have ho := hcs _ (getD_mem c1)
        have hc := hU.2.2.2.2.2.2.2.2.1 i c1
        refine lv_aload_n hx hb dX0_clean_89 rfl (lv_at hl 3 rfl) ?_
        refine eh_g3 (x := nI (1 - sp)) C G (hU.2.1) dX0_clean_90 ?_
        refine lv_bipush (v := nI 20) hx hb dX0_clean_93 (by decide) ?_
        refine lv_imul hx hb dX0_clean_95 ?_
        refine lv_iload_n hx hb dX0_clean_96 rfl (lv_at hl 0 rfl) ?_
        refine lv_iadd hx hb dX0_clean_97 ?_
        refine gk_tv (y := nI ((1 - sp) * 20 + i)) (by rw [pk_mul, nI_add]) ?_
        refine lv_istore (lv' := [(4, .int (nI ((1 - sp) * 20 + i))), (3, .int (nI i)), (2, .int (nI (fb_ct (v_he v) 20))), (1, .int (nI cs0.length)), (0, .ref (h 100))]) hx hb dX0_clean_98 hl (by decide) rfl (fun ls hl => ?_)
        refine lv_aload_n hx hb dX0_clean_100 rfl (lv_at hl 4 rfl) ?_
        refine lv_dup hx hb dX0_clean_101 rfl ?_
        refine eh_g0 (x := mk_ (fun o => decide (o ∈ cs.take i)) 20) C G (hU.2.2.2.1) dX0_clean_102 ?_
        refine lv_iconst (v := nI 1) hx hb dX0_clean_105 (by decide) ?_
        refine lv_aload_n hx hb dX0_clean_106 rfl (lv_at hl 4 rfl) ?_
        refine eh_g5 C G dX0_clean_107 ?_
        refine lv_iload hx hb dX0_clean_110 (lv_at hl 0 rfl) ?_
        refine eh_l5 (n := (1 - sp) * 20 + i) (x := nI (cs.getD i 0)) C G (rfl) (by omega) (hc.1) dX0_clean_112 ?_
        refine lv_ishl hx hb dX0_clean_113 ?_
        refine lv_ior hx hb dX0_clean_114 ?_
        refine gk_tv (y := mk_ (fun o => decide (o ∈ cs.take (i + 1))) 20) (mk_take c1 ho.1) ?_
        refine eh_p0 C G dX0_clean_115 (fun H locs G => ?_)
        refine lv_aload_n hx hb dX0_clean_118 rfl (lv_at hl 4 rfl) ?_
        refine eh_g2 C G dX0_clean_119 ?_
        refine lv_aload_n hx hb dX0_clean_122 rfl (lv_at hl 4 rfl) ?_
        refine eh_g5 C G dX0_clean_123 ?_
        refine lv_iload hx hb dX0_clean_126 (lv_at hl 0 rfl) ?_
        refine eh_l5 (n := (1 - sp) * 20 + i) (x := nI (cs.getD i 0)) C G (rfl) (by omega) (hc.1) dX0_clean_128 ?_
        refine lv_iload hx hb dX0_clean_129 (lv_at hl 0 rfl) ?_
        refine lv_i2b (v := nI ((1 - sp) * 20 + i)) hx hb dX0_clean_131 (ib_nI (by omega)) ?_
        refine eh_s2 (n := (cs.getD i 0)) (x := nI ((1 - sp) * 20 + i)) C G (rfl) (ho.1) (nb_nI (by omega)) dX0_clean_132 (fun H locs G => ?_)
        refine lv_iinc (v := nI (i + 1)) (lv' := [(3, .int (nI (i + 1))), (4, .int (nI ((1 - sp) * 20 + i))), (2, .int (nI (fb_ct (v_he v) 20))), (1, .int (nI cs0.length)), (0, .ref (h 100))]) hx hb dX0_clean_133 hl (k := 1) rfl (nI_1 i) (by decide) rfl (fun ls hl => ?_)
        refine lv_goto (tgt := 81) hx hb dX0_clean_136 (by decide) ?_
        exact ih (i + 1) _ (by omega) (by omega) (U_step hn c1 hU) _ _ G ls (lv_sub hl [0, 2, 3, 4] rfl)
  have loop1 : ∀ (n i : Nat) (u4 : gS), i ≤ 4 → 5 ≤ i + n → eh_T u4 (v_res v (v_lb v) 20) sp pl cs (v_lb v) (v_lb (v_res v (v_lb v) 20)) i → ∀ (H : Heap) (locs : List Loc), gk_G D (eh_w h d u4) A s.heap H locs → ∀ (ls : Array Slot), lv_has ls 5 [(3, .int (nI i)), (2, .int (nI (fb_ct (v_he v) 20))), (1, .int (nI cs0.length)), (0, .ref (h 100))] → W p l e R s m args below meth c H locs 0 0 Q (F0 m 28 ls []) := by
    intro n
    induction n with
    | zero => intro i u4 h1 h2; exact absurd h2 (by omega)
    | succ n ih =>
      intro i u4 h1 h2 hT H locs G ls hl
      refine lv_iload_n hx hb dX0_clean_28 rfl (lv_at hl 0 rfl) ?_
      refine lv_iconst (v := nI 4) hx hb dX0_clean_29 (by decide) ?_
      refine lv_icmp_ge (tgt := 56) hx hb dX0_clean_30 (by decide) (fun c1 => ?_) (fun c1 => ?_)
      · have c1 := (nI_leI (a := 4) (b := i) (by omega) (by omega)).mp c1
        have e1 : i = 4 := by omega
        rw [e1] at hT
        refine lv_aload_n hx hb dX0_clean_56 rfl (lv_at hl 3 rfl) ?_
        refine lv_iconst (v := nI 1) hx hb dX0_clean_57 (by decide) ?_
        refine lv_aload_n hx hb dX0_clean_58 rfl (lv_at hl 3 rfl) ?_
        refine eh_g3 (x := nI sp) C G (hT.2.1) dX0_clean_59 ?_
        refine lv_isub hx hb dX0_clean_62 ?_
        refine gk_tv (y := nI (1 - sp)) (pk_sub hsp) ?_
        refine eh_p3 C G dX0_clean_63 (fun H locs G => ?_)
        refine lv_aload_n hx hb dX0_clean_66 rfl (lv_at hl 3 rfl) ?_
        refine lv_aload_n hx hb dX0_clean_67 rfl (lv_at hl 3 rfl) ?_
        refine eh_g10 (x := nI cs.length) C G (hT.2.2.2.2.1) dX0_clean_68 ?_
        refine eh_p4 C G dX0_clean_71 (fun H locs G => ?_)
        refine lv_aload_n hx hb dX0_clean_74 rfl (lv_at hl 3 rfl) ?_
        refine lv_iconst (v := nI 0) hx hb dX0_clean_75 (by decide) ?_
        refine eh_p0 C G dX0_clean_76 (fun H locs G => ?_)
        refine lv_iconst (v := nI 0) hx hb dX0_clean_79 (by decide) ?_
        refine lv_istore_n (lv' := [(3, .int (nI 0)), (2, .int (nI (fb_ct (v_he v) 20))), (1, .int (nI cs0.length)), (0, .ref (h 100))]) hx hb dX0_clean_80 rfl hl (by decide) rfl (fun ls hl => ?_)
        exact loop2 (cs.length + 1) 0 _ (by omega) (by omega) (U_of_T hT) _ _ G ls (lv_sub hl [0, 1, 2, 3] rfl)
      · have c1 : i < 4 := by
          rcases Nat.lt_or_ge i 4 with q | q
          · exact q
          · exact absurd (nI_le q (by omega)) c1
        have hro : ∀ k, v_ro v i = some k → k ∈ cs := fun k e => (hl2 k).mpr (v_live_start (Or.inl ⟨i, c1, e⟩))
        refine lv_aload_n hx hb dX0_clean_33 rfl (lv_at hl 3 rfl) ?_
        refine eh_g12 C G dX0_clean_34 ?_
        refine lv_iload_n hx hb dX0_clean_37 rfl (lv_at hl 0 rfl) ?_
        refine lv_aload_n hx hb dX0_clean_38 rfl (lv_at hl 3 rfl) ?_
        refine lv_aload_n hx hb dX0_clean_39 rfl (lv_at hl 3 rfl) ?_
        refine eh_g12 C G dX0_clean_40 ?_
        refine lv_iload_n hx hb dX0_clean_43 rfl (lv_at hl 0 rfl) ?_
        refine eh_l12 (n := i) (x := eP pl (v_ro v i)) C G (rfl) (c1) (by have := hT.2.2.2.2.2.2.1 i c1; rw [if_neg (Nat.lt_irrefl i)] at this; exact this) dX0_clean_44 ?_
        refine eh_ci (n := 1) (As := [.int (eP pl (v_ro v i))]) (rest := [.int (nI i), .ref (h 12)]) C G (me_moved l D h d u4 pl (v_ro v i) (eP (eh_pn sp cs) (v_ro v i)) (fun k e => (eh_pl hq2.1 (hcs k (hro k e)).1 (hcs k (hro k e)).2).2.2) (T_nn hT hro)) (lw_V q132 q134 qs9 q16 q135) (by decide +kernel) rfl (by decide) rfl (Nat.le_of_ble_eq_true rfl) hl.1 dX0_clean_45 (fun rm u5 H locs hp5 G => ?_)
        obtain ⟨er5, eu5⟩ := hp5
        rw [eu5] at G
        refine gk_tv (y := eP (eh_pn sp cs) (v_ro v i)) (er5) ?_
        refine lv_i2b (v := eP (eh_pn sp cs) (v_ro v i)) hx hb dX0_clean_48 (ib_eP (fun k e => by have := pn_lt (sp := sp) hn (hro k e); omega)) ?_
        refine eh_s12 (n := i) (x := eP (eh_pn sp cs) (v_ro v i)) C G (rfl) (c1) (nb_eP (fun k e => by have := pn_lt (sp := sp) hn (hro k e); omega)) dX0_clean_49 (fun H locs G => ?_)
        refine lv_iinc (v := nI (i + 1)) (lv' := [(3, .int (nI (i + 1))), (2, .int (nI (fb_ct (v_he v) 20))), (1, .int (nI cs0.length)), (0, .ref (h 100))]) hx hb dX0_clean_50 hl (k := 0) rfl (nI_1 i) (by decide) rfl (fun ls hl => ?_)
        refine lv_goto (tgt := 28) hx hb dX0_clean_53 (by decide) ?_
        exact ih (i + 1) _ (by omega) (by omega) (T_step hT) _ _ G ls (lv_sub hl [0, 1, 2, 3] rfl)
  exact loop1 5 0 u3 (by omega) (by omega) hT3 _ _ G ls hl
end
section
/-! what the heap's small calls do to the value -/
theorem eP_up {pl : Nat → Nat} {o p : Nat} {x : Option Nat} (h : ∀ k, x = some k → k ≠ o) : eP (va_up pl o p) x = eP pl x := by
  cases x with
  | none => rfl
  | some k =>
    show nI (if k = o then p else pl k) = nI (pl k)
    rw [if_neg (h k rfl)]
theorem ct_mk {f : Nat → Bool} {o : Nat} (ho : o < 20) (h : f o = false) : fb_ct (va_up f o true) 20 = fb_ct f 20 + 1 := by
  have h1 := fb_ct_upd f true (i := o) (n := 20) ho
  rw [h] at h1
  exact h1
theorem ct_lt {f : Nat → Bool} {o : Nat} (ho : o < 20) (h : f o = false) : fb_ct f 20 < 20 := by
  have h1 := ct_mk ho h
  have h2 := fb_ct_le (va_up f o true) 20
  omega
theorem R_mk {u : gS} {v : eV} {sp : Nat} {pl : Nat → Nat} (hv : v_inv v) (h : eh_R u v sp pl) {o k r : Nat} (ho : o < 20) (hf : v_he v o = false) (hr : r < 4) :
    eh_R (gA (gA (gA (gA (gA (gA (gI (gI (gI u 4 (nI (fb_ct (v_he v) 20 + 1))) 0 (mk_ (v_he v) 20 ||| bm o)) 1 (mk_ (fun o => v_he v o && v_ey v o) 20 &&& (bm o ^^^ -1))) 2 o (nI (sp * 20 + fb_ct (v_he v) 20))) 5 (sp * 20 + fb_ct (v_he v) 20) (nI o)) 6 (sp * 20 + fb_ct (v_he v) 20) (nI k)) 7 (sp * 20 + fb_ct (v_he v) 20) (-1)) 8 (sp * 20 + fb_ct (v_he v) 20) (-1)) 12 r (nI (sp * 20 + fb_ct (v_he v) 20))) (v_mk v o k r) sp (va_up pl o (sp * 20 + fb_ct (v_he v) 20)) := by
  obtain ⟨r0, r1, r2, r3, r4, r5, r6, r7, r8⟩ := h
  have hct : fb_ct (v_he (v_mk v o k r)) 20 = fb_ct (v_he v) 20 + 1 := ct_mk ho hf
  refine ⟨r0, r1, by rw [hct]; rfl, ?_, ?_, fun x hx hh => ?_, fun r' hr' => ?_, r7, r8⟩
  · exact mk_set ho
  · show mk_ (fun o => v_he v o && v_ey v o) 20 &&& (bm o ^^^ -1) = mk_ (fun x => va_up (v_he v) o true x && va_up (v_ey v) o false x) 20
    rw [mk_clr ho]
    refine mk_cong fun x _ => ?_
    unfold va_up
    by_cases q : x = o
    · simp [q]
    · simp [q]
  · rw [hct]
    by_cases q : x = o
    · subst q
      have e : va_up pl x (sp * 20 + fb_ct (v_he v) 20) x = sp * 20 + fb_ct (v_he v) 20 := if_pos rfl
      rw [e]
      refine ⟨if_pos rfl, by omega, by omega, if_pos rfl, ?_, ?_, ?_⟩
      · show (if sp * 20 + fb_ct (v_he v) 20 = sp * 20 + fb_ct (v_he v) 20 then nI k else _) = nI (if x = x then k else v_ki v x)
        rw [if_pos rfl, if_pos rfl]
      · show (if sp * 20 + fb_ct (v_he v) 20 = sp * 20 + fb_ct (v_he v) 20 then -1 else _) = eP _ (if x = x then none else v_fa v x)
        rw [if_pos rfl, if_pos rfl]; rfl
      · show (if sp * 20 + fb_ct (v_he v) 20 = sp * 20 + fb_ct (v_he v) 20 then -1 else _) = eP _ (if x = x then none else v_fb v x)
        rw [if_pos rfl, if_pos rfl]; rfl
    · have hh : v_he v x = true := by
        have : (if x = o then true else v_he v x) = true := hh
        rw [if_neg q] at this; exact this
      obtain ⟨a1, a2, a3, a4, a5, a6, a7⟩ := r5 x hx hh
      have e : va_up pl o (sp * 20 + fb_ct (v_he v) 20) x = pl x := if_neg q
      have n : pl x ≠ sp * 20 + fb_ct (v_he v) 20 := by omega
      have tgt : ∀ j, v_he v j = true → j ≠ o := fun j hj e => by rw [e, hf] at hj; cases hj
      rw [e]
      refine ⟨?_, a2, by omega, ?_, ?_, ?_, ?_⟩
      · show (if x = o then _ else u.2 2 x) = _
        rw [if_neg q]; exact a1
      · show (if pl x = sp * 20 + fb_ct (v_he v) 20 then _ else u.2 5 (pl x)) = _
        rw [if_neg n]; exact a4
      · show (if pl x = sp * 20 + fb_ct (v_he v) 20 then _ else u.2 6 (pl x)) = nI (if x = o then k else v_ki v x)
        rw [if_neg n, if_neg q]; exact a5
      · show (if pl x = sp * 20 + fb_ct (v_he v) 20 then _ else u.2 7 (pl x)) = eP _ (if x = o then none else v_fa v x)
        rw [if_neg n, if_neg q, eP_up (fun j e => tgt j ((hv.2.1 x hx hh).1 j e))]; exact a6
      · show (if pl x = sp * 20 + fb_ct (v_he v) 20 then _ else u.2 8 (pl x)) = eP _ (if x = o then none else v_fb v x)
        rw [if_neg n, if_neg q, eP_up (fun j e => tgt j ((hv.2.1 x hx hh).2 j e))]; exact a7
  · show (if r' = r then nI (sp * 20 + fb_ct (v_he v) 20) else u.2 12 r') = eP _ (if r' = r then some o else v_ro v r')
    by_cases q : r' = r
    · rw [if_pos q, if_pos q]
      show _ = nI (if o = o then _ else pl o)
      rw [if_pos rfl]
    · rw [if_neg q, if_neg q, eP_up (fun j e z => by have := (hv.2.2.1 r' hr' j e).2; rw [z, hf] at this; cases this)]
      exact r6 r' hr'
theorem mk_inv {v : eV} (hv : v_inv v) {o k r : Nat} (ho : o < 20) (hf : v_he v o = false) (hk : k ≤ 2) : v_inv (v_mk v o k r) := by
  have up : ∀ j, v_he v j = true → v_he (v_mk v o k r) j = true := fun j hj => by
    show (if j = o then true else v_he v j) = true
    by_cases q : j = o
    · rw [if_pos q]
    · rw [if_neg q]; exact hj
  have fa : ∀ x, v_fa (v_mk v o k r) x = if x = o then none else v_fa v x := fun _ => rfl
  have fb : ∀ x, v_fb (v_mk v o k r) x = if x = o then none else v_fb v x := fun _ => rfl
  have he : ∀ x, v_he (v_mk v o k r) x = if x = o then true else v_he v x := fun _ => rfl
  refine ⟨fun x hx => ⟨?_, fun j hj => ?_, fun j hj => ?_⟩, fun x hx hh => ⟨fun j hj => ?_, fun j hj => ?_⟩, fun r' hr' j hj => ?_, fun x hx => ⟨(hv.2.2.2.1 x hx).1, up x (hv.2.2.2.1 x hx).2⟩, hv.2.2.2.2⟩
  · show (if x = o then k else v_ki v x) ≤ 2
    by_cases q : x = o
    · rw [if_pos q]; exact hk
    · rw [if_neg q]; exact (hv.1 x hx).1
  · rw [fa] at hj
    by_cases q : x = o
    · rw [if_pos q] at hj; cases hj
    · rw [if_neg q] at hj; exact (hv.1 x hx).2.1 j hj
  · rw [fb] at hj
    by_cases q : x = o
    · rw [if_pos q] at hj; cases hj
    · rw [if_neg q] at hj; exact (hv.1 x hx).2.2 j hj
  · rw [fa] at hj
    by_cases q : x = o
    · rw [if_pos q] at hj; cases hj
    · rw [if_neg q] at hj
      rw [he, if_neg q] at hh
      exact up j ((hv.2.1 x hx hh).1 j hj)
  · rw [fb] at hj
    by_cases q : x = o
    · rw [if_pos q] at hj; cases hj
    · rw [if_neg q] at hj
      rw [he, if_neg q] at hh
      exact up j ((hv.2.1 x hx hh).2 j hj)
  · have hj : (if r' = r then some o else v_ro v r') = some j := hj
    by_cases q : r' = r
    · rw [if_pos q] at hj
      cases hj
      exact ⟨ho, by rw [he, if_pos rfl]⟩
    · rw [if_neg q] at hj
      exact ⟨(hv.2.2.1 r' hr' j hj).1, up j (hv.2.2.1 r' hr' j hj).2⟩
theorem R_setA {u : gS} {v : eV} {sp : Nat} {pl : Nat → Nat} (h : eh_R u v sp pl) {o : Nat} (ho : o < 20) (hh : v_he v o = true) (x : Option Nat) : eh_R (gA u 7 (pl o) (eP pl x)) (v_setA v o x) sp pl := by
  have hj := fun {a : Nat} (ha : a < 20) (hha : v_he v a = true) (e : pl a = pl o) => eh_plinj h ha hha ho hh e
  obtain ⟨r0, r1, r2, r3, r4, r5, r6, r7, r8⟩ := h
  refine ⟨r0, r1, r2, r3, r4, fun y hy hhy => ?_, r6, r7, r8⟩
  obtain ⟨a1, a2, a3, a4, a5, a6, a7⟩ := r5 y hy hhy
  refine ⟨a1, a2, a3, a4, a5, ?_, a7⟩
  show (if pl y = pl o then eP pl x else u.2 7 (pl y)) = eP pl (if y = o then x else v_fa v y)
  by_cases q : y = o
  · rw [q, if_pos rfl, if_pos rfl]
  · rw [if_neg q, if_neg (fun e => q (hj hy hhy e))]; exact a6
theorem R_setB {u : gS} {v : eV} {sp : Nat} {pl : Nat → Nat} (h : eh_R u v sp pl) {o : Nat} (ho : o < 20) (hh : v_he v o = true) (x : Option Nat) : eh_R (gA u 8 (pl o) (eP pl x)) (v_setB v o x) sp pl := by
  have hj := fun {a : Nat} (ha : a < 20) (hha : v_he v a = true) (e : pl a = pl o) => eh_plinj h ha hha ho hh e
  obtain ⟨r0, r1, r2, r3, r4, r5, r6, r7, r8⟩ := h
  refine ⟨r0, r1, r2, r3, r4, fun y hy hhy => ?_, r6, r7, r8⟩
  obtain ⟨a1, a2, a3, a4, a5, a6, a7⟩ := r5 y hy hhy
  refine ⟨a1, a2, a3, a4, a5, a6, ?_⟩
  show (if pl y = pl o then eP pl x else u.2 8 (pl y)) = eP pl (if y = o then x else v_fb v y)
  by_cases q : y = o
  · rw [q, if_pos rfl, if_pos rfl]
  · rw [if_neg q, if_neg (fun e => q (hj hy hhy e))]; exact a7
theorem R_setR {u : gS} {v : eV} {sp : Nat} {pl : Nat → Nat} (h : eh_R u v sp pl) (r : Nat) (x : Option Nat) : eh_R (gA u 12 r (eP pl x)) (v_setR v r x) sp pl := by
  obtain ⟨r0, r1, r2, r3, r4, r5, r6, r7, r8⟩ := h
  refine ⟨r0, r1, r2, r3, r4, r5, fun r' hr' => ?_, r7, r8⟩
  show (if r' = r then eP pl x else u.2 12 r') = eP pl (if r' = r then x else v_ro v r')
  by_cases q : r' = r
  · rw [if_pos q, if_pos q]
  · rw [if_neg q, if_neg q]; exact r6 r' hr'
theorem R_setE {u : gS} {v : eV} {sp : Nat} {pl : Nat → Nat} (h : eh_R u v sp pl) {o : Nat} (ho : o < 20) (hh : v_he v o = true) : eh_R (gI u 1 (mk_ (fun o => v_he v o && v_ey v o) 20 ||| bm o)) (v_setE v o true) sp pl := by
  obtain ⟨r0, r1, r2, r3, r4, r5, r6, r7, r8⟩ := h
  refine ⟨r0, r1, r2, r3, ?_, r5, r6, r7, r8⟩
  show mk_ (fun o => v_he v o && v_ey v o) 20 ||| bm o = mk_ (fun x => v_he v x && va_up (v_ey v) o true x) 20
  rw [mk_set ho]
  refine mk_cong fun x _ => ?_
  unfold va_up
  by_cases q : x = o
  · simp [q, hh]
  · simp [q]
/-- what holds but for the queue -/
def eh_R9 (u : gS) (v : eV) (sp : Nat) (pl : Nat → Nat) : Prop :=
  sp ≤ 1 ∧ u.1 3 = nI sp ∧ u.1 4 = nI (fb_ct (v_he v) 20) ∧ u.1 0 = mk_ (v_he v) 20 ∧ u.1 1 = mk_ (fun o => v_he v o && v_ey v o) 20 ∧
  (∀ o, o < 20 → v_he v o = true → u.2 2 o = nI (pl o) ∧ sp * 20 ≤ pl o ∧ pl o < sp * 20 + fb_ct (v_he v) 20 ∧ u.2 5 (pl o) = nI o ∧ u.2 6 (pl o) = nI (v_ki v o) ∧ u.2 7 (pl o) = eP pl (v_fa v o) ∧ u.2 8 (pl o) = eP pl (v_fb v o)) ∧
  (∀ r, r < 4 → u.2 12 r = eP pl (v_ro v r))
theorem R9_of {u : gS} {v : eV} {sp : Nat} {pl : Nat → Nat} (h : eh_R u v sp pl) : eh_R9 u v sp pl := ⟨h.1, h.2.1, h.2.2.1, h.2.2.2.1, h.2.2.2.2.1, h.2.2.2.2.2.1, h.2.2.2.2.2.2.1⟩
theorem R9_to {u : gS} {v : eV} {sp : Nat} {pl : Nat → Nat} (h : eh_R9 u v sp pl) (q : List Nat) (a : u.1 14 = nI q.length) (b : ∀ i, i < q.length → u.2 13 i = nI (q.getD i 0)) : eh_R u (v_setQ v q) sp pl := ⟨h.1, h.2.1, h.2.2.1, h.2.2.2.1, h.2.2.2.2.1, h.2.2.2.2.2.1, h.2.2.2.2.2.2, a, b⟩
theorem R9_14 {u : gS} {v : eV} {sp : Nat} {pl : Nat → Nat} (h : eh_R u v sp pl) (x : Int32) : eh_R9 (gI u 14 x) v sp pl := ⟨h.1, h.2.1, h.2.2.1, h.2.2.2.1, h.2.2.2.2.1, h.2.2.2.2.2.1, h.2.2.2.2.2.2.1⟩
theorem R9_13 {u : gS} {v : eV} {sp : Nat} {pl : Nat → Nat} (h : eh_R9 u v sp pl) (n : Nat) (x : Int32) : eh_R9 (gA u 13 n x) v sp pl := h
/-! the invariant -/
theorem sA_inv {v : eV} (hv : v_inv v) {o : Nat} {x : Option Nat} (hx : ∀ k, x = some k → k < 20 ∧ v_he v k = true) : v_inv (v_setA v o x) := by
  have fa : ∀ y, v_fa (v_setA v o x) y = if y = o then x else v_fa v y := fun _ => rfl
  refine ⟨fun y hy => ⟨(hv.1 y hy).1, fun k hk => ?_, (hv.1 y hy).2.2⟩, fun y hy hh => ⟨fun k hk => ?_, (hv.2.1 y hy hh).2⟩, hv.2.2.1, hv.2.2.2.1, hv.2.2.2.2⟩
  · rw [fa] at hk
    by_cases q : y = o
    · rw [if_pos q] at hk; exact (hx k hk).1
    · rw [if_neg q] at hk; exact (hv.1 y hy).2.1 k hk
  · rw [fa] at hk
    by_cases q : y = o
    · rw [if_pos q] at hk; exact (hx k hk).2
    · rw [if_neg q] at hk; exact (hv.2.1 y hy hh).1 k hk
theorem sB_inv {v : eV} (hv : v_inv v) {o : Nat} {x : Option Nat} (hx : ∀ k, x = some k → k < 20 ∧ v_he v k = true) : v_inv (v_setB v o x) := by
  have fb : ∀ y, v_fb (v_setB v o x) y = if y = o then x else v_fb v y := fun _ => rfl
  refine ⟨fun y hy => ⟨(hv.1 y hy).1, (hv.1 y hy).2.1, fun k hk => ?_⟩, fun y hy hh => ⟨(hv.2.1 y hy hh).1, fun k hk => ?_⟩, hv.2.2.1, hv.2.2.2.1, hv.2.2.2.2⟩
  · rw [fb] at hk
    by_cases q : y = o
    · rw [if_pos q] at hk; exact (hx k hk).1
    · rw [if_neg q] at hk; exact (hv.1 y hy).2.2 k hk
  · rw [fb] at hk
    by_cases q : y = o
    · rw [if_pos q] at hk; exact (hx k hk).2
    · rw [if_neg q] at hk; exact (hv.2.1 y hy hh).2 k hk
theorem sR_inv {v : eV} (hv : v_inv v) {r : Nat} {x : Option Nat} (hx : ∀ k, x = some k → k < 20 ∧ v_he v k = true) : v_inv (v_setR v r x) := by
  refine ⟨hv.1, hv.2.1, fun r' hr' k hk => ?_, hv.2.2.2.1, hv.2.2.2.2⟩
  have hk : (if r' = r then x else v_ro v r') = some k := hk
  by_cases q : r' = r
  · rw [if_pos q] at hk; exact hx k hk
  · rw [if_neg q] at hk; exact hv.2.2.1 r' hr' k hk
theorem sE_inv {v : eV} (hv : v_inv v) {o : Nat} {b : Bool} : v_inv (v_setE v o b) := hv
theorem sQ_inv {v : eV} (hv : v_inv v) {q : List Nat} (h1 : ∀ o, o ∈ q → o ∈ v_qu v) (h2 : q.Nodup) : v_inv (v_setQ v q) := ⟨hv.1, hv.2.1, hv.2.2.1, fun o ho => hv.2.2.2.1 o (h1 o ho), h2⟩
/-- every call keeps the invariant -/
theorem ref_ok {v : eV} {p : Int32} (h : v_okp v p = true) : ∀ k, v_ref p = some k → k < 20 ∧ v_he v k = true := by
  intro k hk
  rcases v_okp_of h with ⟨-, e⟩ | ⟨n, hn, -, hh, e⟩
  · rw [e] at hk; cases hk
  · rw [e] at hk
    cases hk
    exact ⟨hn, hh⟩
theorem i_make {v : eV} (hv : v_inv v) (k r : Int32) : v_inv (o_make v k r).2 := by
  unfold o_make
  by_cases q : k < 0 ∨ nI 2 < k ∨ v_root r = false
  · rw [if_pos q]; exact hv
  · rw [if_neg q]
    cases hf : (List.range 20).find? (fun o => !v_he v o) with
    | none => exact hv
    | some o =>
      have h1 := List.find?_some hf
      have h2 := List.mem_of_find?_eq_some hf
      rw [List.mem_range] at h2
      refine mk_inv hv h2 (by simpa using h1) ?_
      obtain ⟨j, hj, e⟩ := nI_of2 (M := nI 2) (n := 2) rfl (fun z => q (Or.inl z)) (Int32.not_lt.mp (fun z => q (Or.inr (Or.inl z))))
      rw [e, nI_clamp (by omega)]; exact hj
theorem i_point {v : eV} (hv : v_inv v) (o w p : Int32) : v_inv (o_point v o w p).2 := by
  unfold o_point
  by_cases q : (v_has v o && (v_okp v p && v_wh w)) = true
  · rw [if_pos q]
    simp only [Bool.and_eq_true] at q
    by_cases z : w = 0
    · show v_inv (if w = 0 then _ else _)
      rw [if_pos z]; exact sA_inv hv (ref_ok q.2.1)
    · show v_inv (if w = 0 then _ else _)
      rw [if_neg z]; exact sB_inv hv (ref_ok q.2.1)
  · rw [if_neg q]; exact hv
theorem i_root {v : eV} (hv : v_inv v) (r p : Int32) : v_inv (o_root v r p).2 := by
  unfold o_root
  by_cases q : (v_root r && v_okp v p) = true
  · rw [if_pos q]
    simp only [Bool.and_eq_true] at q
    exact sR_inv hv (ref_ok q.2)
  · rw [if_neg q]; exact hv
theorem i_watch {v : eV} (hv : v_inv v) (o : Int32) : v_inv (o_watch v o).2 := by
  unfold o_watch
  by_cases q : v_has v o = true
  · rw [if_pos q]; exact sE_inv hv
  · rw [if_neg q]; exact hv
theorem i_take {v : eV} (hv : v_inv v) (r : Int32) : v_inv (o_take v r).2 := by
  unfold o_take
  by_cases q : v_root r = true
  · rw [if_pos q]
    cases hq : v_qu v with
    | nil => exact hv
    | cons o t =>
      have ho := hv.2.2.2.1 o (by rw [hq]; exact List.mem_cons_self)
      have hn := hv.2.2.2.2
      rw [hq] at hn
      refine sQ_inv (sR_inv hv (fun k e => by cases e; exact ho)) (fun x hx => ?_) (List.nodup_cons.mp hn).2
      show x ∈ v_qu v
      rw [hq]; exact List.mem_cons_of_mem _ hx
  · rw [if_neg q]; exact hv
/-! what the calls answer, by case -/
theorem make_bad {v : eV} {k r : Int32} (h : k < 0 ∨ nI 2 < k ∨ v_root r = false) : o_make v k r = (-1, v) := if_pos h
theorem make_full {v : eV} {k r : Int32} (h : ¬ (k < 0 ∨ nI 2 < k ∨ v_root r = false)) (h2 : ∀ j, j < 20 → v_he v j = true) : o_make v k r = (-2, v) := by
  have e : (List.range 20).find? (fun o => !v_he v o) = none := List.find?_eq_none.mpr (fun x hx => by
    rw [List.mem_range] at hx
    rw [h2 x hx]; decide)
  unfold o_make
  rw [if_neg h, e]
theorem find_first {p : Nat → Bool} {n i : Nat} (hi : i < n) (hp : p i = true) (h2 : ∀ j, j < i → p j = false) : (List.range n).find? p = some i := by
  rw [List.find?_range_eq_some]
  exact ⟨hp, List.mem_range.mpr hi, fun j hj => by rw [h2 j hj]; rfl⟩
theorem make_at {v : eV} {k r : Int32} {i kk rr : Nat} (h : ¬ (k < 0 ∨ nI 2 < k ∨ v_root r = false)) (hi : i < 20) (h1 : v_he v i = false) (h2 : ∀ j, j < i → v_he v j = true) (ek : k = nI kk) (hk : kk ≤ 2) (er : r = nI rr) (hr : rr < 4) : o_make v k r = (nI i, v_mk v i kk rr) := by
  have e := find_first (p := fun o => !v_he v o) hi (by rw [h1]; rfl) (fun j hj => by rw [h2 j hj]; rfl)
  unfold o_make
  rw [if_neg h, e, ek, er, nI_clamp (by omega), nI_clamp (by omega)]
theorem wh_neg {y : Int32} (h : y < 0) : v_wh y = false := by
  unfold v_wh
  rw [decide_eq_false (fun e => by rw [e] at h; exact absurd h (by decide)), decide_eq_false (fun e => by rw [e] at h; exact absurd h (by decide))]
  rfl
theorem wh_big {y : Int32} (h : ¬ y ≤ nI 1) : v_wh y = false := by
  unfold v_wh
  rw [decide_eq_false (fun e => h (by rw [e]; decide)), decide_eq_false (fun e => h (by rw [e]; exact Int32.le_refl _))]
  rfl
theorem wh_of {y : Int32} (h1 : ¬ y < 0) (h2 : y ≤ nI 1) : y = 0 ∨ y = nI 1 := by
  obtain ⟨j, hj, e⟩ := nI_of2 (M := nI 1) (n := 1) rfl h1 h2
  rcases (show j = 0 ∨ j = 1 by omega) with q | q
  · exact Or.inl (by rw [e, q]; rfl)
  · exact Or.inr (by rw [e, q])
theorem wh_0 {y : Int32} (h : y = 0) : v_wh y = true := by unfold v_wh; rw [decide_eq_true h]; rfl
theorem wh_1 {y : Int32} (h : y = nI 1) : v_wh y = true := by unfold v_wh; rw [decide_eq_true h]; simp
theorem pt_f {v : eV} {x y z : Int32} (h : (v_has v x && (v_okp v z && v_wh y)) = false) : o_point v x y z = (nI 0, v) := if_neg (by rw [h]; decide)
theorem pt_a {v : eV} {x y z : Int32} {n : Nat} (hn : n < 20) (hx : x = nI n) (hh : v_he v n = true) (hz : v_okp v z = true) (hy : y = 0) : o_point v x y z = (nI 1, v_setA v n (v_ref z)) := by
  have e : (v_has v x && (v_okp v z && v_wh y)) = true := by rw [hx, v_has_nI hn, hh, hz, wh_0 hy]; rfl
  unfold o_point
  rw [if_pos e, if_pos hy, hx, nI_clamp (by omega)]
theorem pt_b {v : eV} {x y z : Int32} {n : Nat} (hn : n < 20) (hx : x = nI n) (hh : v_he v n = true) (hz : v_okp v z = true) (hy : y = nI 1) : o_point v x y z = (nI 1, v_setB v n (v_ref z)) := by
  have e : (v_has v x && (v_okp v z && v_wh y)) = true := by rw [hx, v_has_nI hn, hh, hz, wh_1 hy]; rfl
  unfold o_point
  rw [if_pos e, if_neg (by rw [hy]; decide), hx, nI_clamp (by omega)]
theorem rt_f {v : eV} {r p : Int32} (h : (v_root r && v_okp v p) = false) : o_root v r p = (nI 0, v) := if_neg (by rw [h]; decide)
theorem rt_t {v : eV} {r p : Int32} {n : Nat} (hn : n < 4) (hr : r = nI n) (hp : v_okp v p = true) : o_root v r p = (nI 1, v_setR v n (v_ref p)) := by
  have e : (v_root r && v_okp v p) = true := by rw [hr, v_root_nI hn, hp]; rfl
  unfold o_root
  rw [if_pos e, hr, nI_clamp (by omega)]
theorem okp_m1 {v : eV} {p : Int32} (h : p = -1) : v_okp v p = true := by unfold v_okp; rw [decide_eq_true h]; rfl
theorem okp_has {v : eV} {p : Int32} (h : v_has v p = true) : v_okp v p = true := by unfold v_okp; rw [h]; simp
theorem okp_f {v : eV} {p : Int32} (h1 : ¬ p = -1) (h2 : v_has v p = false) : v_okp v p = false := by unfold v_okp; rw [decide_eq_false h1, h2]; rfl
theorem wt_f {v : eV} {o : Int32} (h : v_has v o = false) : o_watch v o = (nI 0, v) := if_neg (by rw [h]; decide)
theorem wt_t {v : eV} {o : Int32} {n : Nat} (hn : n < 20) (ho : o = nI n) (hh : v_he v n = true) : o_watch v o = (nI 1, v_setE v n true) := by
  have e : v_has v o = true := by rw [ho, v_has_nI hn]; exact hh
  unfold o_watch
  rw [if_pos e, ho, nI_clamp (by omega)]
theorem tk_f {v : eV} {r : Int32} (h : v_root r = false) : o_take v r = (-1, v) := if_neg (by rw [h]; decide)
theorem tk_e {v : eV} {r : Int32} (h : v_qu v = []) : o_take v r = (-1, v) := by
  unfold o_take
  rw [h]
  by_cases q : v_root r = true
  · rw [if_pos q]
  · rw [if_neg q]
theorem tk_t {v : eV} {r : Int32} {n o : Nat} {t : List Nat} (hn : n < 4) (hr : r = nI n) (h : v_qu v = o :: t) : o_take v r = (nI o, v_setQ (v_setR v n (some o)) t) := by
  unfold o_take
  rw [if_pos (by rw [hr]; exact v_root_nI hn), h, hr, nI_clamp (by omega)]
theorem fd_f {v : eV} {o w : Int32} (h : (v_has v o && v_wh w) = false) : a_field v o w = -1 := if_neg (by rw [h]; decide)
theorem fd_a {v : eV} {o w : Int32} {n : Nat} (hn : n < 20) (ho : o = nI n) (hh : v_he v n = true) (hw : w = 0) : a_field v o w = eR (v_fa v n) := by
  have e : (v_has v o && v_wh w) = true := by rw [ho, v_has_nI hn, hh, wh_0 hw]; rfl
  unfold a_field
  rw [if_pos e, if_pos hw, ho, nI_clamp (by omega)]
theorem fd_b {v : eV} {o w : Int32} {n : Nat} (hn : n < 20) (ho : o = nI n) (hh : v_he v n = true) (hw : w = nI 1) : a_field v o w = eR (v_fb v n) := by
  have e : (v_has v o && v_wh w) = true := by rw [ho, v_has_nI hn, hh, wh_1 hw]; rfl
  unfold a_field
  rw [if_pos e, if_neg (by rw [hw]; decide), ho, nI_clamp (by omega)]
theorem kd_f {v : eV} {o : Int32} (h : v_has v o = false) : a_kind v o = -1 := if_neg (by rw [h]; decide)
theorem kd_t {v : eV} {o : Int32} {n : Nat} (hn : n < 20) (ho : o = nI n) (hh : v_he v n = true) : a_kind v o = nI (v_ki v n) := by
  have e : v_has v o = true := by rw [ho, v_has_nI hn]; exact hh
  unfold a_kind
  rw [if_pos e, ho, nI_clamp (by omega)]
theorem ro_f {v : eV} {r : Int32} (h : v_root r = false) : a_rootOf v r = -1 := if_neg (by rw [h]; decide)
theorem ro_t {v : eV} {r : Int32} {n : Nat} (hn : n < 4) (hr : r = nI n) : a_rootOf v r = eR (v_ro v n) := by
  unfold a_rootOf
  rw [if_pos (by rw [hr]; exact v_root_nI hn), hr, nI_clamp (by omega)]
theorem hd_f {v : eV} {o : Int32} (h : v_has v o = false) : a_held v o = nI 0 := if_neg (by rw [h]; decide)
theorem hd_t {v : eV} {o : Int32} {n : Nat} (hn : n < 20) (ho : o = nI n) (hh : v_he v n = true) : a_held v o = mk_ (v_lb v) 20 &&& (mk_ (v_lb (v_setB (v_setA v n none) n none)) 20 ^^^ -1) := by
  have e : v_has v o = true := by rw [ho, v_has_nI hn]; exact hh
  unfold a_held
  rw [if_pos e, ho, nI_clamp (by omega)]
theorem up_back {α : Type} (f : Nat → α) (o : Nat) (x : α) : va_up (va_up f o x) o (f o) = f := funext fun j => by
  unfold va_up
  by_cases q : j = o
  · rw [if_pos q, q]
  · rw [if_neg q, if_neg q]
theorem held_back (v : eV) (n : Nat) : v_setB (v_setA (v_setB (v_setA v n none) n none) n (v_fa v n)) n (v_fb v n) = v := by
  show (v_he v, v_ki v, v_ey v, va_up (va_up (v_fa v) n none) n (v_fa v n), va_up (va_up (v_fb v) n none) n (v_fb v n), v_ro v, v_qu v) = v
  rw [up_back, up_back]
end
section
/-! EphemeronHeap: the calls that change it -/
set_option maxHeartbeats 4000000 in
set_option maxRecDepth 100000 in
/-- make(kind, r) -/
theorem me_make (l : Launch) (D : va_G) (h : Nat → Nat) (d : Nat → ClassId) (u : gS) (v : eV) (sp : Nat) (pl : Nat → Nat) (x y : Int32) (hv : v_inv v) (hR : eh_R u v sp pl) : gk_Mi l D (eh_t d) (eh_w h d) yX0_make cX0_make 5 .int 1 21 [.ref (h 100), .int x, .int y] u (fun r u' => r = (o_make v x y).1 ∧ eh_RR u' (o_make v x y).2) := by
  refine gk_oi (own := RX0) (by decide) rfl (Nat.le_of_ble_eq_true rfl) (fun _ _ _ => rfl) ?_
  intro p e R s m args below meth c Q A ls C G hret hl
  have hx := C.1.1
  have hb := C.1.2.1
  have hl : lv_has ls 5 [(0, .ref (h 100)), (1, .int x), (2, .int y)] := hl
  refine lv_iload_n hx hb dX0_make_0 rfl (lv_at hl 1 rfl) ?_
  refine lv_if_lt (tgt := 16) hx hb dX0_make_1 (by decide) (fun c1 => ?_) (fun c1 => ?_)
  · refine lv_iconst (v := -1) hx hb dX0_make_16 (by decide) ?_
    exact hret (-1) u _ _ _ _ G (⟨by rw [make_bad (Or.inl c1)], by rw [make_bad (Or.inl c1)]; exact ⟨sp, pl, hR⟩⟩) dX0_make_17
  · refine lv_iload_n hx hb dX0_make_4 rfl (lv_at hl 1 rfl) ?_
    refine lv_iconst (v := nI 2) hx hb dX0_make_5 (by decide) ?_
    refine lv_icmp_gt (tgt := 16) hx hb dX0_make_6 (by decide) (fun c2 => ?_) (fun c2 => ?_)
    · refine lv_iconst (v := -1) hx hb dX0_make_16 (by decide) ?_
      exact hret (-1) u _ _ _ _ G (⟨by rw [make_bad (Or.inr (Or.inl c2))], by rw [make_bad (Or.inr (Or.inl c2))]; exact ⟨sp, pl, hR⟩⟩) dX0_make_17
    · refine lv_iload_n hx hb dX0_make_9 rfl (lv_at hl 2 rfl) ?_
      refine gk_cs (n := 1) (As := [.int y]) (rest := []) C G (me_isRoot l D u y) (lw_S q77 q78 q16 q79) (by decide +kernel) rfl (by decide) rfl (Nat.le_of_ble_eq_true rfl) hl.1 dX0_make_10 (fun rr9 u8 H locs hp8 G => ?_)
      refine gk_tv (y := bI (v_root y)) (hp8.1) ?_
      refine lv_if_ne (tgt := 18) hx hb dX0_make_13 (by decide) (fun c3 => ?_) (fun c3 => ?_)
      · have hgood : ¬ (x < 0 ∨ nI 2 < x ∨ v_root y = false) := by
          rintro (q | q | q)
          · exact c1 q
          · exact c2 q
          · rw [bI_ne.mp c3] at q; cases q
        obtain ⟨kk, hkk, ek⟩ := nI_of2 (M := nI 2) (n := 2) rfl c1 (Int32.not_lt.mp c2)
        obtain ⟨rr, hrr, er⟩ := v_root_of (bI_ne.mp c3)
        have loop : ∀ (n i : Nat), i ≤ 20 → 21 ≤ i + n → (∀ j, j < i → v_he v j = true) → ∀ (H : Heap) (locs : List Loc), gk_G D (eh_w h d u) A s.heap H locs → ∀ (ls : Array Slot), lv_has ls 5 [(3, .int (nI i)), (0, .ref (h 100)), (1, .int x), (2, .int y)] → W p l e R s m args below meth c H locs 0 0 Q (F0 m 20 ls []) := by
          intro n
          induction n with
          | zero => intro i h1 h2; exact absurd h2 (by omega)
          | succ n ih =>
            intro i h1 h2 hall H locs G ls hl
            refine lv_iload_n hx hb dX0_make_20 rfl (lv_at hl 0 rfl) ?_
            refine lv_bipush (v := nI 20) hx hb dX0_make_21 (by decide) ?_
            refine lv_icmp_ge (tgt := 144) hx hb dX0_make_23 (by decide) (fun c4 => ?_) (fun c4 => ?_)
            · have c4 := (nI_leI (a := 20) (b := i) (by omega) (by omega)).mp c4
              refine lv_bipush (v := -2) hx hb dX0_make_144 (by decide) ?_
              exact hret (-2) u _ _ _ _ G (⟨by rw [make_full hgood (fun j hj => hall j (by omega))], by rw [make_full hgood (fun j hj => hall j (by omega))]; exact ⟨sp, pl, hR⟩⟩) dX0_make_146
            · have c4 : i < 20 := by
                rcases Nat.lt_or_ge i 20 with q | q
                · exact q
                · exact absurd (nI_le q (by omega)) c4
              refine lv_aload_n hx hb dX0_make_26 rfl (lv_at hl 1 rfl) ?_
              refine lv_iload_n hx hb dX0_make_27 rfl (lv_at hl 0 rfl) ?_
              refine eh_ci (n := 1) (As := [.int (nI i)]) (rest := []) C G (me_has l D h d u v (nI i) hR.2.2.2.1) (lw_V q80 q82 qs0 q16 q83) (by decide +kernel) rfl (by decide) rfl (Nat.le_of_ble_eq_true rfl) hl.1 dX0_make_28 (fun rh u9 H locs hp9 G => ?_)
              obtain ⟨er9, eu9⟩ := hp9
              rw [eu9] at G
              refine gk_tv (y := bI (v_he v i)) (er9.trans (congrArg bI (v_has_nI c4))) ?_
              refine lv_if_ne (tgt := 138) hx hb dX0_make_31 (by decide) (fun c5 => ?_) (fun c5 => ?_)
              · refine lv_iinc (v := nI (i + 1)) (lv' := [(3, .int (nI (i + 1))), (0, .ref (h 100)), (1, .int x), (2, .int y)]) hx hb dX0_make_138 hl (k := 0) rfl (nI_1 i) (by decide) rfl (fun ls hl => ?_)
                refine lv_goto (tgt := 20) hx hb dX0_make_141 (by decide) ?_
                exact ih (i + 1) (by omega) (by omega) (fun j hj => by
                  rcases Nat.lt_or_ge j i with q | q
                  · exact hall j q
                  · rw [show j = i by omega]; exact bI_ne.mp c5) _ _ G ls (lv_sub hl [0, 1, 2, 3] rfl)
              · have hfr : v_he v i = false := bI_eq.mp c5
                have hct := ct_lt c4 hfr
                have hsp := hR.1
                refine lv_aload_n hx hb dX0_make_34 rfl (lv_at hl 1 rfl) ?_
                refine eh_g3 (x := nI sp) C G (hR.2.1) dX0_make_35 ?_
                refine lv_bipush (v := nI 20) hx hb dX0_make_38 (by decide) ?_
                refine lv_imul hx hb dX0_make_40 ?_
                refine lv_aload_n hx hb dX0_make_41 rfl (lv_at hl 1 rfl) ?_
                refine eh_g4 (x := nI (fb_ct (v_he v) 20)) C G (hR.2.2.1) dX0_make_42 ?_
                refine lv_iadd hx hb dX0_make_45 ?_
                refine gk_tv (y := nI (sp * 20 + fb_ct (v_he v) 20)) (by rw [pk_mul, nI_add]) ?_
                refine lv_istore (lv' := [(4, .int (nI (sp * 20 + fb_ct (v_he v) 20))), (3, .int (nI i)), (0, .ref (h 100)), (1, .int x), (2, .int y)]) hx hb dX0_make_46 hl (by decide) rfl (fun ls hl => ?_)
                refine lv_aload_n hx hb dX0_make_48 rfl (lv_at hl 2 rfl) ?_
                refine lv_dup hx hb dX0_make_49 rfl ?_
                refine eh_g4 (x := nI (fb_ct (v_he v) 20)) C G (hR.2.2.1) dX0_make_50 ?_
                refine lv_iconst (v := nI 1) hx hb dX0_make_53 (by decide) ?_
                refine lv_iadd hx hb dX0_make_54 ?_
                refine gk_tv (y := nI (fb_ct (v_he v) 20 + 1)) (nI_1 _) ?_
                refine eh_p4 C G dX0_make_55 (fun H locs G => ?_)
                refine lv_aload_n hx hb dX0_make_58 rfl (lv_at hl 2 rfl) ?_
                refine lv_dup hx hb dX0_make_59 rfl ?_
                refine eh_g0 (x := mk_ (v_he v) 20) C G (hR.2.2.2.1) dX0_make_60 ?_
                refine lv_iconst (v := nI 1) hx hb dX0_make_63 (by decide) ?_
                refine lv_iload_n hx hb dX0_make_64 rfl (lv_at hl 1 rfl) ?_
                refine lv_ishl hx hb dX0_make_65 ?_
                refine lv_ior hx hb dX0_make_66 ?_
                refine eh_p0 C G dX0_make_67 (fun H locs G => ?_)
                refine lv_aload_n hx hb dX0_make_70 rfl (lv_at hl 2 rfl) ?_
                refine lv_dup hx hb dX0_make_71 rfl ?_
                refine eh_g1 (x := mk_ (fun o => v_he v o && v_ey v o) 20) C G (hR.2.2.2.2.1) dX0_make_72 ?_
                refine lv_iconst (v := nI 1) hx hb dX0_make_75 (by decide) ?_
                refine lv_iload_n hx hb dX0_make_76 rfl (lv_at hl 1 rfl) ?_
                refine lv_ishl hx hb dX0_make_77 ?_
                refine lv_iconst (v := -1) hx hb dX0_make_78 (by decide) ?_
                refine lv_ixor hx hb dX0_make_79 ?_
                refine lv_iand hx hb dX0_make_80 ?_
                refine eh_p1 C G dX0_make_81 (fun H locs G => ?_)
                refine lv_aload_n hx hb dX0_make_84 rfl (lv_at hl 2 rfl) ?_
                refine eh_g2 C G dX0_make_85 ?_
                refine lv_iload_n hx hb dX0_make_88 rfl (lv_at hl 1 rfl) ?_
                refine lv_iload hx hb dX0_make_89 (lv_at hl 0 rfl) ?_
                refine lv_i2b (v := nI (sp * 20 + fb_ct (v_he v) 20)) hx hb dX0_make_91 (ib_nI (by omega)) ?_
                refine eh_s2 (n := i) (x := nI (sp * 20 + fb_ct (v_he v) 20)) C G (rfl) (c4) (nb_nI (by omega)) dX0_make_92 (fun H locs G => ?_)
                refine lv_aload_n hx hb dX0_make_93 rfl (lv_at hl 2 rfl) ?_
                refine eh_g5 C G dX0_make_94 ?_
                refine lv_iload hx hb dX0_make_97 (lv_at hl 0 rfl) ?_
                refine lv_iload_n hx hb dX0_make_99 rfl (lv_at hl 1 rfl) ?_
                refine lv_i2b (v := nI i) hx hb dX0_make_100 (ib_nI (by omega)) ?_
                refine eh_s5 (n := sp * 20 + fb_ct (v_he v) 20) (x := nI i) C G (rfl) (by omega) (nb_nI (by omega)) dX0_make_101 (fun H locs G => ?_)
                refine lv_aload_n hx hb dX0_make_102 rfl (lv_at hl 2 rfl) ?_
                refine eh_g6 C G dX0_make_103 ?_
                refine lv_iload hx hb dX0_make_106 (lv_at hl 0 rfl) ?_
                refine lv_iload_n hx hb dX0_make_108 rfl (lv_at hl 3 rfl) ?_
                refine lv_i2b (v := nI kk) hx hb dX0_make_109 (by rw [ek]; exact ib_nI (by omega)) ?_
                refine eh_s6 (n := sp * 20 + fb_ct (v_he v) 20) (x := nI kk) C G (rfl) (by omega) (nb_nI (by omega)) dX0_make_110 (fun H locs G => ?_)
                refine lv_aload_n hx hb dX0_make_111 rfl (lv_at hl 2 rfl) ?_
                refine eh_g7 C G dX0_make_112 ?_
                refine lv_iload hx hb dX0_make_115 (lv_at hl 0 rfl) ?_
                refine lv_iconst (v := -1) hx hb dX0_make_117 (by decide) ?_
                refine eh_s7 (n := sp * 20 + fb_ct (v_he v) 20) (x := -1) C G (rfl) (by omega) (nb_m1) dX0_make_118 (fun H locs G => ?_)
                refine lv_aload_n hx hb dX0_make_119 rfl (lv_at hl 2 rfl) ?_
                refine eh_g8 C G dX0_make_120 ?_
                refine lv_iload hx hb dX0_make_123 (lv_at hl 0 rfl) ?_
                refine lv_iconst (v := -1) hx hb dX0_make_125 (by decide) ?_
                refine eh_s8 (n := sp * 20 + fb_ct (v_he v) 20) (x := -1) C G (rfl) (by omega) (nb_m1) dX0_make_126 (fun H locs G => ?_)
                refine lv_aload_n hx hb dX0_make_127 rfl (lv_at hl 2 rfl) ?_
                refine eh_g12 C G dX0_make_128 ?_
                refine lv_iload_n hx hb dX0_make_131 rfl (lv_at hl 4 rfl) ?_
                refine lv_iload hx hb dX0_make_132 (lv_at hl 0 rfl) ?_
                refine lv_i2b (v := nI (sp * 20 + fb_ct (v_he v) 20)) hx hb dX0_make_134 (ib_nI (by omega)) ?_
                refine eh_s12 (n := rr) (x := nI (sp * 20 + fb_ct (v_he v) 20)) C G (er) (hrr) (nb_nI (by omega)) dX0_make_135 (fun H locs G => ?_)
                refine lv_iload_n hx hb dX0_make_136 rfl (lv_at hl 1 rfl) ?_
                exact hret (nI i) _ _ _ _ _ G (⟨by rw [make_at hgood c4 hfr hall ek hkk er hrr], by rw [make_at hgood c4 hfr hall ek hkk er hrr]; exact ⟨_, _, R_mk hv hR c4 hfr hrr⟩⟩) dX0_make_137
        refine lv_iconst (v := nI 0) hx hb dX0_make_18 (by decide) ?_
        refine lv_istore_n (lv' := [(3, .int (nI 0)), (0, .ref (h 100)), (1, .int x), (2, .int y)]) hx hb dX0_make_19 rfl hl (by decide) rfl (fun ls hl => ?_)
        exact loop 21 0 (by omega) (by omega) (fun j hj => absurd hj (Nat.not_lt_zero j)) _ _ G ls hl
      · refine lv_iconst (v := -1) hx hb dX0_make_16 (by decide) ?_
        exact hret (-1) u _ _ _ _ G (⟨by rw [make_bad (Or.inr (Or.inr (bI_eq.mp c3)))], by rw [make_bad (Or.inr (Or.inr (bI_eq.mp c3)))]; exact ⟨sp, pl, hR⟩⟩) dX0_make_17
set_option maxHeartbeats 4000000 in
set_option maxRecDepth 100000 in
/-- point(o, which, p) -/
theorem me_point (l : Launch) (D : va_G) (h : Nat → Nat) (d : Nat → ClassId) (u : gS) (v : eV) (sp : Nat) (pl : Nat → Nat) (x y z : Int32) (hv : v_inv v) (hR : eh_R u v sp pl) : gk_Mi l D (eh_t d) (eh_w h d) yX0_point cX0_point 4 .boolean 1 21 [.ref (h 100), .int x, .int y, .int z] u (fun r u' => r = bI (decide ((o_point v x y z).1 = nI 1)) ∧ r = (o_point v x y z).1 ∧ eh_RR u' (o_point v x y z).2) := by
  refine gk_oi (own := RX0) (by decide) rfl (Nat.le_of_ble_eq_true rfl) (fun r u' q => by rw [q.1]; exact bI_range _) ?_
  intro p e R s m args below meth c Q A ls C G hret hl
  have hx := C.1.1
  have hb := C.1.2.1
  have hl : lv_has ls 4 [(0, .ref (h 100)), (1, .int x), (2, .int y), (3, .int z)] := hl
  refine lv_aload_n hx hb dX0_point_0 rfl (lv_at hl 0 rfl) ?_
  refine lv_iload_n hx hb dX0_point_1 rfl (lv_at hl 1 rfl) ?_
  refine eh_ci (n := 1) (As := [.int x]) (rest := []) C G (me_has l D h d u v x hR.2.2.2.1) (lw_V q80 q82 qs0 q16 q83) (by decide +kernel) rfl (by decide) rfl (Nat.le_of_ble_eq_true rfl) hl.1 dX0_point_2 (fun rh u9 H locs hp9 G => ?_)
  obtain ⟨er9, eu9⟩ := hp9
  rw [eu9] at G
  refine gk_tv (y := bI (v_has v x)) (er9) ?_
  refine lv_if_eq (tgt := 30) hx hb dX0_point_5 (by decide) (fun c0 => ?_) (fun c0 => ?_)
  · refine lv_iconst (v := nI 0) hx hb dX0_point_30 (by decide) ?_
    exact hret (nI 0) u _ _ _ _ G (⟨by rw [pt_f (by rw [bI_eq.mp c0]; rfl)]; rfl, by rw [pt_f (by rw [bI_eq.mp c0]; rfl)], by rw [pt_f (by rw [bI_eq.mp c0]; rfl)]; exact ⟨sp, pl, hR⟩⟩) dX0_point_31
  · obtain ⟨n, hn, ex, hh⟩ := v_has_of (bI_ne.mp c0)
    have J : v_okp v z = true → ∀ (H : Heap) (locs : List Loc), gk_G D (eh_w h d u) A s.heap H locs → W p l e R s m args below meth c H locs 0 0 Q (F0 m 21 ls []) := by
      intro hz H locs G
      have hbd : ∀ k, v_ref z = some k → pl k < 128 := fun k e => by
        have := ref_ok hz k e
        have := eh_pl hR this.1 this.2
        omega
      refine lv_iload_n hx hb dX0_point_21 rfl (lv_at hl 2 rfl) ?_
      refine lv_if_lt (tgt := 30) hx hb dX0_point_22 (by decide) (fun c1 => ?_) (fun c1 => ?_)
      · refine lv_iconst (v := nI 0) hx hb dX0_point_30 (by decide) ?_
        exact hret (nI 0) u _ _ _ _ G (⟨by rw [pt_f (by rw [wh_neg c1]; simp)]; rfl, by rw [pt_f (by rw [wh_neg c1]; simp)], by rw [pt_f (by rw [wh_neg c1]; simp)]; exact ⟨sp, pl, hR⟩⟩) dX0_point_31
      · refine lv_iload_n hx hb dX0_point_25 rfl (lv_at hl 2 rfl) ?_
        refine lv_iconst (v := nI 1) hx hb dX0_point_26 (by decide) ?_
        refine lv_icmp_le (tgt := 32) hx hb dX0_point_27 (by decide) (fun c2 => ?_) (fun c2 => ?_)
        · have hw := wh_of c1 c2
          refine lv_iload_n hx hb dX0_point_32 rfl (lv_at hl 2 rfl) ?_
          refine lv_if_ne (tgt := 56) hx hb dX0_point_33 (by decide) (fun c3 => ?_) (fun c3 => ?_)
          · have hw1 : y = nI 1 := hw.resolve_left c3
            refine lv_aload_n hx hb dX0_point_56 rfl (lv_at hl 0 rfl) ?_
            refine eh_g8 C G dX0_point_57 ?_
            refine lv_aload_n hx hb dX0_point_60 rfl (lv_at hl 0 rfl) ?_
            refine eh_g2 C G dX0_point_61 ?_
            refine lv_iload_n hx hb dX0_point_64 rfl (lv_at hl 1 rfl) ?_
            refine eh_l2 (n := n) (x := nI (pl n)) C G (ex) (hn) ((hR.2.2.2.2.2.1 n hn hh).1) dX0_point_65 ?_
            refine lv_aload_n hx hb dX0_point_66 rfl (lv_at hl 0 rfl) ?_
            refine lv_iload_n hx hb dX0_point_67 rfl (lv_at hl 3 rfl) ?_
            refine eh_ci (n := 1) (As := [.int z]) (rest := [.int (nI (pl n)), .ref (h 8)]) C G (me_placeFor l D h d u v z pl hz (fun o a b => (hR.2.2.2.2.2.1 o a b).1)) (lw_V q88 q90 qs1 q16 q91) (by decide +kernel) rfl (by decide) rfl (Nat.le_of_ble_eq_true rfl) hl.1 dX0_point_68 (fun rp u7 H locs hp7 G => ?_)
            obtain ⟨er7, eu7⟩ := hp7
            rw [eu7] at G
            refine gk_tv (y := eP pl (v_ref z)) (er7) ?_
            refine lv_i2b (v := eP pl (v_ref z)) hx hb dX0_point_71 (ib_eP hbd) ?_
            refine eh_s8 (n := pl n) (x := eP pl (v_ref z)) C G (rfl) ((eh_pl hR hn hh).2.2) (nb_eP hbd) dX0_point_72 (fun H locs G => ?_)
            refine lv_iconst (v := nI 1) hx hb dX0_point_73 (by decide) ?_
            exact hret (nI 1) _ _ _ _ _ G (⟨by rw [pt_b hn ex hh hz hw1]; rfl, by rw [pt_b hn ex hh hz hw1], by rw [pt_b hn ex hh hz hw1]; exact ⟨sp, pl, R_setB hR hn hh _⟩⟩) dX0_point_74
          · refine lv_aload_n hx hb dX0_point_36 rfl (lv_at hl 0 rfl) ?_
            refine eh_g7 C G dX0_point_37 ?_
            refine lv_aload_n hx hb dX0_point_40 rfl (lv_at hl 0 rfl) ?_
            refine eh_g2 C G dX0_point_41 ?_
            refine lv_iload_n hx hb dX0_point_44 rfl (lv_at hl 1 rfl) ?_
            refine eh_l2 (n := n) (x := nI (pl n)) C G (ex) (hn) ((hR.2.2.2.2.2.1 n hn hh).1) dX0_point_45 ?_
            refine lv_aload_n hx hb dX0_point_46 rfl (lv_at hl 0 rfl) ?_
            refine lv_iload_n hx hb dX0_point_47 rfl (lv_at hl 3 rfl) ?_
            refine eh_ci (n := 1) (As := [.int z]) (rest := [.int (nI (pl n)), .ref (h 7)]) C G (me_placeFor l D h d u v z pl hz (fun o a b => (hR.2.2.2.2.2.1 o a b).1)) (lw_V q88 q90 qs1 q16 q91) (by decide +kernel) rfl (by decide) rfl (Nat.le_of_ble_eq_true rfl) hl.1 dX0_point_48 (fun rp u7 H locs hp7 G => ?_)
            obtain ⟨er7, eu7⟩ := hp7
            rw [eu7] at G
            refine gk_tv (y := eP pl (v_ref z)) (er7) ?_
            refine lv_i2b (v := eP pl (v_ref z)) hx hb dX0_point_51 (ib_eP hbd) ?_
            refine eh_s7 (n := pl n) (x := eP pl (v_ref z)) C G (rfl) ((eh_pl hR hn hh).2.2) (nb_eP hbd) dX0_point_52 (fun H locs G => ?_)
            refine lv_goto (tgt := 73) hx hb dX0_point_53 (by decide) ?_
            refine lv_iconst (v := nI 1) hx hb dX0_point_73 (by decide) ?_
            exact hret (nI 1) _ _ _ _ _ G (⟨by rw [pt_a hn ex hh hz c3]; rfl, by rw [pt_a hn ex hh hz c3], by rw [pt_a hn ex hh hz c3]; exact ⟨sp, pl, R_setA hR hn hh _⟩⟩) dX0_point_74
        · refine lv_iconst (v := nI 0) hx hb dX0_point_30 (by decide) ?_
          exact hret (nI 0) u _ _ _ _ G (⟨by rw [pt_f (by rw [wh_big c2]; simp)]; rfl, by rw [pt_f (by rw [wh_big c2]; simp)], by rw [pt_f (by rw [wh_big c2]; simp)]; exact ⟨sp, pl, hR⟩⟩) dX0_point_31
    refine lv_iload_n hx hb dX0_point_8 rfl (lv_at hl 3 rfl) ?_
    refine lv_iconst (v := -1) hx hb dX0_point_9 (by decide) ?_
    refine lv_icmp_eq (tgt := 21) hx hb dX0_point_10 (by decide) (fun c4 => ?_) (fun c4 => ?_)
    · exact J (okp_m1 c4) _ _ G
    · refine lv_aload_n hx hb dX0_point_13 rfl (lv_at hl 0 rfl) ?_
      refine lv_iload_n hx hb dX0_point_14 rfl (lv_at hl 3 rfl) ?_
      refine eh_ci (n := 1) (As := [.int z]) (rest := []) C G (me_has l D h d u v z hR.2.2.2.1) (lw_V q80 q82 qs0 q16 q83) (by decide +kernel) rfl (by decide) rfl (Nat.le_of_ble_eq_true rfl) hl.1 dX0_point_15 (fun rh u9 H locs hp9 G => ?_)
      obtain ⟨er9, eu9⟩ := hp9
      rw [eu9] at G
      refine gk_tv (y := bI (v_has v z)) (er9) ?_
      refine lv_if_eq (tgt := 30) hx hb dX0_point_18 (by decide) (fun c5 => ?_) (fun c5 => ?_)
      · refine lv_iconst (v := nI 0) hx hb dX0_point_30 (by decide) ?_
        exact hret (nI 0) u _ _ _ _ G (⟨by rw [pt_f (by rw [okp_f c4 (bI_eq.mp c5)]; simp)]; rfl, by rw [pt_f (by rw [okp_f c4 (bI_eq.mp c5)]; simp)], by rw [pt_f (by rw [okp_f c4 (bI_eq.mp c5)]; simp)]; exact ⟨sp, pl, hR⟩⟩) dX0_point_31
      · exact J (okp_has (bI_ne.mp c5)) _ _ G
set_option maxHeartbeats 4000000 in
set_option maxRecDepth 100000 in
/-- root(r, p) -/
theorem me_root (l : Launch) (D : va_G) (h : Nat → Nat) (d : Nat → ClassId) (u : gS) (v : eV) (sp : Nat) (pl : Nat → Nat) (x z : Int32) (hv : v_inv v) (hR : eh_R u v sp pl) : gk_Mi l D (eh_t d) (eh_w h d) yX0_root cX0_root 3 .boolean 1 21 [.ref (h 100), .int x, .int z] u (fun r u' => r = bI (decide ((o_root v x z).1 = nI 1)) ∧ r = (o_root v x z).1 ∧ eh_RR u' (o_root v x z).2) := by
  refine gk_oi (own := RX0) (by decide) rfl (Nat.le_of_ble_eq_true rfl) (fun r u' q => by rw [q.1]; exact bI_range _) ?_
  intro p e R s m args below meth c Q A ls C G hret hl
  have hx := C.1.1
  have hb := C.1.2.1
  have hl : lv_has ls 3 [(0, .ref (h 100)), (1, .int x), (2, .int z)] := hl
  refine lv_iload_n hx hb dX0_root_0 rfl (lv_at hl 1 rfl) ?_
  refine gk_cs (n := 1) (As := [.int x]) (rest := []) C G (me_isRoot l D u x) (lw_S q77 q78 q16 q79) (by decide +kernel) rfl (by decide) rfl (Nat.le_of_ble_eq_true rfl) hl.1 dX0_root_1 (fun rr9 u8 H locs hp8 G => ?_)
  refine gk_tv (y := bI (v_root x)) (hp8.1) ?_
  refine lv_if_eq (tgt := 20) hx hb dX0_root_4 (by decide) (fun c0 => ?_) (fun c0 => ?_)
  · refine lv_iconst (v := nI 0) hx hb dX0_root_20 (by decide) ?_
    exact hret (nI 0) u _ _ _ _ G (⟨by rw [rt_f (by rw [bI_eq.mp c0]; rfl)]; rfl, by rw [rt_f (by rw [bI_eq.mp c0]; rfl)], by rw [rt_f (by rw [bI_eq.mp c0]; rfl)]; exact ⟨sp, pl, hR⟩⟩) dX0_root_21
  · obtain ⟨n, hn, ex⟩ := v_root_of (bI_ne.mp c0)
    have J : v_okp v z = true → ∀ (H : Heap) (locs : List Loc), gk_G D (eh_w h d u) A s.heap H locs → W p l e R s m args below meth c H locs 0 0 Q (F0 m 22 ls []) := by
      intro hz H locs G
      have hbd : ∀ k, v_ref z = some k → pl k < 128 := fun k e => by
        have := ref_ok hz k e
        have := eh_pl hR this.1 this.2
        omega
      refine lv_aload_n hx hb dX0_root_22 rfl (lv_at hl 0 rfl) ?_
      refine eh_g12 C G dX0_root_23 ?_
      refine lv_iload_n hx hb dX0_root_26 rfl (lv_at hl 1 rfl) ?_
      refine lv_aload_n hx hb dX0_root_27 rfl (lv_at hl 0 rfl) ?_
      refine lv_iload_n hx hb dX0_root_28 rfl (lv_at hl 2 rfl) ?_
      refine eh_ci (n := 1) (As := [.int z]) (rest := [.int x, .ref (h 12)]) C G (me_placeFor l D h d u v z pl hz (fun o a b => (hR.2.2.2.2.2.1 o a b).1)) (lw_V q88 q90 qs1 q16 q91) (by decide +kernel) rfl (by decide) rfl (Nat.le_of_ble_eq_true rfl) hl.1 dX0_root_29 (fun rp u7 H locs hp7 G => ?_)
      obtain ⟨er7, eu7⟩ := hp7
      rw [eu7] at G
      refine gk_tv (y := eP pl (v_ref z)) (er7) ?_
      refine lv_i2b (v := eP pl (v_ref z)) hx hb dX0_root_32 (ib_eP hbd) ?_
      refine eh_s12 (n := n) (x := eP pl (v_ref z)) C G (ex) (hn) (nb_eP hbd) dX0_root_33 (fun H locs G => ?_)
      refine lv_iconst (v := nI 1) hx hb dX0_root_34 (by decide) ?_
      exact hret (nI 1) _ _ _ _ _ G (⟨by rw [rt_t hn ex hz]; rfl, by rw [rt_t hn ex hz], by rw [rt_t hn ex hz]; exact ⟨sp, pl, R_setR hR _ _⟩⟩) dX0_root_35
    refine lv_iload_n hx hb dX0_root_7 rfl (lv_at hl 2 rfl) ?_
    refine lv_iconst (v := -1) hx hb dX0_root_8 (by decide) ?_
    refine lv_icmp_eq (tgt := 22) hx hb dX0_root_9 (by decide) (fun c4 => ?_) (fun c4 => ?_)
    · exact J (okp_m1 c4) _ _ G
    · refine lv_aload_n hx hb dX0_root_12 rfl (lv_at hl 0 rfl) ?_
      refine lv_iload_n hx hb dX0_root_13 rfl (lv_at hl 2 rfl) ?_
      refine eh_ci (n := 1) (As := [.int z]) (rest := []) C G (me_has l D h d u v z hR.2.2.2.1) (lw_V q80 q82 qs0 q16 q83) (by decide +kernel) rfl (by decide) rfl (Nat.le_of_ble_eq_true rfl) hl.1 dX0_root_14 (fun rh u9 H locs hp9 G => ?_)
      obtain ⟨er9, eu9⟩ := hp9
      rw [eu9] at G
      refine gk_tv (y := bI (v_has v z)) (er9) ?_
      refine lv_if_ne (tgt := 22) hx hb dX0_root_17 (by decide) (fun c5 => ?_) (fun c5 => ?_)
      · exact J (okp_has (bI_ne.mp c5)) _ _ G
      · refine lv_iconst (v := nI 0) hx hb dX0_root_20 (by decide) ?_
        exact hret (nI 0) u _ _ _ _ G (⟨by rw [rt_f (by rw [okp_f c4 (bI_eq.mp c5)]; simp)]; rfl, by rw [rt_f (by rw [okp_f c4 (bI_eq.mp c5)]; simp)], by rw [rt_f (by rw [okp_f c4 (bI_eq.mp c5)]; simp)]; exact ⟨sp, pl, hR⟩⟩) dX0_root_21
set_option maxHeartbeats 4000000 in
set_option maxRecDepth 100000 in
/-- watch(o) -/
theorem me_watch (l : Launch) (D : va_G) (h : Nat → Nat) (d : Nat → ClassId) (u : gS) (v : eV) (sp : Nat) (pl : Nat → Nat) (x : Int32) (hv : v_inv v) (hR : eh_R u v sp pl) : gk_Mi l D (eh_t d) (eh_w h d) yX0_watch cX0_watch 2 .boolean 1 21 [.ref (h 100), .int x] u (fun r u' => r = bI (decide ((o_watch v x).1 = nI 1)) ∧ r = (o_watch v x).1 ∧ eh_RR u' (o_watch v x).2) := by
  refine gk_oi (own := RX0) (by decide) rfl (Nat.le_of_ble_eq_true rfl) (fun r u' q => by rw [q.1]; exact bI_range _) ?_
  intro p e R s m args below meth c Q A ls C G hret hl
  have hx := C.1.1
  have hb := C.1.2.1
  have hl : lv_has ls 2 [(0, .ref (h 100)), (1, .int x)] := hl
  refine lv_aload_n hx hb dX0_watch_0 rfl (lv_at hl 0 rfl) ?_
  refine lv_iload_n hx hb dX0_watch_1 rfl (lv_at hl 1 rfl) ?_
  refine eh_ci (n := 1) (As := [.int x]) (rest := []) C G (me_has l D h d u v x hR.2.2.2.1) (lw_V q80 q82 qs0 q16 q83) (by decide +kernel) rfl (by decide) rfl (Nat.le_of_ble_eq_true rfl) hl.1 dX0_watch_2 (fun rh u9 H locs hp9 G => ?_)
  obtain ⟨er9, eu9⟩ := hp9
  rw [eu9] at G
  refine gk_tv (y := bI (v_has v x)) (er9) ?_
  refine lv_if_ne (tgt := 10) hx hb dX0_watch_5 (by decide) (fun c0 => ?_) (fun c0 => ?_)
  · obtain ⟨n, hn, ex, hh⟩ := v_has_of (bI_ne.mp c0)
    refine lv_aload_n hx hb dX0_watch_10 rfl (lv_at hl 0 rfl) ?_
    refine lv_dup hx hb dX0_watch_11 rfl ?_
    refine eh_g1 (x := mk_ (fun o => v_he v o && v_ey v o) 20) C G (hR.2.2.2.2.1) dX0_watch_12 ?_
    refine lv_iconst (v := nI 1) hx hb dX0_watch_15 (by decide) ?_
    refine lv_iload_n hx hb dX0_watch_16 rfl (lv_at hl 1 rfl) ?_
    refine lv_ishl hx hb dX0_watch_17 ?_
    refine lv_ior hx hb dX0_watch_18 ?_
    refine gk_tv (y := mk_ (fun o => v_he v o && v_ey v o) 20 ||| bm n) (by rw [ex]; rfl) ?_
    refine eh_p1 C G dX0_watch_19 (fun H locs G => ?_)
    refine lv_iconst (v := nI 1) hx hb dX0_watch_22 (by decide) ?_
    exact hret (nI 1) _ _ _ _ _ G (⟨by rw [wt_t hn ex hh]; rfl, by rw [wt_t hn ex hh], by rw [wt_t hn ex hh]; exact ⟨sp, pl, R_setE hR hn hh⟩⟩) dX0_watch_23
  · refine lv_iconst (v := nI 0) hx hb dX0_watch_8 (by decide) ?_
    exact hret (nI 0) u _ _ _ _ G (⟨by rw [wt_f (bI_eq.mp c0)]; rfl, by rw [wt_f (bI_eq.mp c0)], by rw [wt_f (bI_eq.mp c0)]; exact ⟨sp, pl, hR⟩⟩) dX0_watch_9
set_option maxHeartbeats 4000000 in
set_option maxRecDepth 100000 in
/-- take(r) -/
theorem me_take (l : Launch) (D : va_G) (h : Nat → Nat) (d : Nat → ClassId) (u : gS) (v : eV) (sp : Nat) (pl : Nat → Nat) (x : Int32) (hv : v_inv v) (hR : eh_R u v sp pl) : gk_Mi l D (eh_t d) (eh_w h d) yX0_take cX0_take 4 .int 1 20 [.ref (h 100), .int x] u (fun r u' => r = (o_take v x).1 ∧ eh_RR u' (o_take v x).2) := by
  refine gk_oi (own := RX0) (by decide) rfl (Nat.le_of_ble_eq_true rfl) (fun _ _ _ => rfl) ?_
  intro p e R s m args below meth c Q A ls C G hret hl
  have hx := C.1.1
  have hb := C.1.2.1
  have hl : lv_has ls 4 [(0, .ref (h 100)), (1, .int x)] := hl
  cases hqe : v_qu v with
  | nil =>
    refine lv_iload_n hx hb dX0_take_0 rfl (lv_at hl 1 rfl) ?_
    refine gk_cs (n := 1) (As := [.int x]) (rest := []) C G (me_isRoot l D u x) (lw_S q77 q78 q16 q79) (by decide +kernel) rfl (by decide) rfl (Nat.le_of_ble_eq_true rfl) hl.1 dX0_take_1 (fun rr9 u8 H locs hp8 G => ?_)
    refine gk_tv (y := bI (v_root x)) (hp8.1) ?_
    refine lv_if_eq (tgt := 14) hx hb dX0_take_4 (by decide) (fun c0 => ?_) (fun c0 => ?_)
    · refine lv_iconst (v := -1) hx hb dX0_take_14 (by decide) ?_
      exact hret (-1) u _ _ _ _ G (⟨by rw [tk_f (bI_eq.mp c0)], by rw [tk_f (bI_eq.mp c0)]; exact ⟨sp, pl, hR⟩⟩) dX0_take_15
    · refine lv_aload_n hx hb dX0_take_7 rfl (lv_at hl 0 rfl) ?_
      refine eh_g14 (x := nI 0) C G (by have := hR.2.2.2.2.2.2.2.1; rw [hqe] at this; exact this) dX0_take_8 ?_
      refine lv_if_ne (tgt := 16) hx hb dX0_take_11 (by decide) (fun c_ => absurd (rfl) c_) (fun _ => ?_)
      refine lv_iconst (v := -1) hx hb dX0_take_14 (by decide) ?_
      exact hret (-1) u _ _ _ _ G (⟨by rw [tk_e hqe], by rw [tk_e hqe]; exact ⟨sp, pl, hR⟩⟩) dX0_take_15
  | cons o tl =>
    refine lv_iload_n hx hb dX0_take_0 rfl (lv_at hl 1 rfl) ?_
    refine gk_cs (n := 1) (As := [.int x]) (rest := []) C G (me_isRoot l D u x) (lw_S q77 q78 q16 q79) (by decide +kernel) rfl (by decide) rfl (Nat.le_of_ble_eq_true rfl) hl.1 dX0_take_1 (fun rr9 u8 H locs hp8 G => ?_)
    refine gk_tv (y := bI (v_root x)) (hp8.1) ?_
    refine lv_if_eq (tgt := 14) hx hb dX0_take_4 (by decide) (fun c0 => ?_) (fun c0 => ?_)
    · refine lv_iconst (v := -1) hx hb dX0_take_14 (by decide) ?_
      exact hret (-1) u _ _ _ _ G (⟨by rw [tk_f (bI_eq.mp c0)], by rw [tk_f (bI_eq.mp c0)]; exact ⟨sp, pl, hR⟩⟩) dX0_take_15
    · obtain ⟨n, hn, ex⟩ := v_root_of (bI_ne.mp c0)
      have hql := qu_le hv
      rw [hqe] at hql
      have hql : tl.length + 1 ≤ 20 := hql
      have ho := hv.2.2.2.1 o (by rw [hqe]; exact List.mem_cons_self)
      have hqq : ∀ i, i < tl.length + 1 → u.2 13 i = nI ((o :: tl).getD i 0) := fun i hi => by
        have := hR.2.2.2.2.2.2.2.2 i (by rw [hqe]; exact hi)
        rw [hqe] at this
        exact this
      refine lv_aload_n hx hb dX0_take_7 rfl (lv_at hl 0 rfl) ?_
      refine eh_g14 (x := nI (tl.length + 1)) C G (by have := hR.2.2.2.2.2.2.2.1; rw [hqe] at this; exact this) dX0_take_8 ?_
      refine lv_if_ne (tgt := 16) hx hb dX0_take_11 (by decide) (fun _ => ?_) (fun c_ => absurd c_ (fun q => absurd q (nI_ne0 (by omega) (by omega))))
      refine lv_aload_n hx hb dX0_take_16 rfl (lv_at hl 0 rfl) ?_
      refine eh_g13 C G dX0_take_17 ?_
      refine lv_iconst (v := nI 0) hx hb dX0_take_20 (by decide) ?_
      refine eh_l13 (n := 0) (x := nI o) C G (rfl) (by omega) (hqq 0 (by omega)) dX0_take_21 ?_
      refine lv_istore_n (lv' := [(2, .int (nI o)), (0, .ref (h 100)), (1, .int x)]) hx hb dX0_take_22 rfl hl (by decide) rfl (fun ls hl => ?_)
      refine lv_aload_n hx hb dX0_take_23 rfl (lv_at hl 1 rfl) ?_
      refine lv_dup hx hb dX0_take_24 rfl ?_
      refine eh_g14 (x := nI (tl.length + 1)) C G (by have := hR.2.2.2.2.2.2.2.1; rw [hqe] at this; exact this) dX0_take_25 ?_
      refine lv_iconst (v := nI 1) hx hb dX0_take_28 (by decide) ?_
      refine lv_isub hx hb dX0_take_29 ?_
      refine gk_tv (y := nI tl.length) (nI_pred _) ?_
      refine eh_p14 C G dX0_take_30 (fun H locs G => ?_)
      have loop : ∀ (k i : Nat) (u1 : gS), i ≤ tl.length → tl.length + 1 ≤ i + k → u1.1 14 = nI tl.length → (∀ j, j < tl.length + 1 → u1.2 13 j = if j < i then nI (tl.getD j 0) else nI ((o :: tl).getD j 0)) → eh_R9 u1 v sp pl → ∀ (H : Heap) (locs : List Loc), gk_G D (eh_w h d u1) A s.heap H locs → ∀ (ls : Array Slot), lv_has ls 4 [(3, .int (nI i)), (2, .int (nI o)), (0, .ref (h 100)), (1, .int x)] → W p l e R s m args below meth c H locs 0 0 Q (F0 m 35 ls []) := by
        intro k
        induction k with
        | zero => intro i u1 h1 h2; exact absurd h2 (by omega)
        | succ k ih =>
          intro i u1 h1 h2 h14 h13 h9 H locs G ls hl
          refine lv_iload_n hx hb dX0_take_35 rfl (lv_at hl 0 rfl) ?_
          refine lv_aload_n hx hb dX0_take_36 rfl (lv_at hl 2 rfl) ?_
          refine eh_g14 (x := nI tl.length) C G (h14) dX0_take_37 ?_
          refine lv_icmp_ge (tgt := 63) hx hb dX0_take_40 (by decide) (fun c1 => ?_) (fun c1 => ?_)
          · have c1 := (nI_leI (a := tl.length) (b := i) (by omega) (by omega)).mp c1
            have e1 : i = tl.length := by omega
            have hR1 := R9_to h9 tl h14 (fun j hj => by
              have := h13 j (by omega)
              rw [if_pos (by omega)] at this
              exact this)
            refine lv_aload_n hx hb dX0_take_63 rfl (lv_at hl 2 rfl) ?_
            refine eh_g12 C G dX0_take_64 ?_
            refine lv_iload_n hx hb dX0_take_67 rfl (lv_at hl 3 rfl) ?_
            refine lv_aload_n hx hb dX0_take_68 rfl (lv_at hl 2 rfl) ?_
            refine eh_g2 C G dX0_take_69 ?_
            refine lv_iload_n hx hb dX0_take_72 rfl (lv_at hl 1 rfl) ?_
            refine eh_l2 (n := o) (x := nI (pl o)) C G (rfl) (ho.1) ((hR1.2.2.2.2.2.1 o ho.1 ho.2).1) dX0_take_73 ?_
            refine gk_tv (y := eP pl (some o)) (rfl) ?_
            refine eh_s12 (n := n) (x := eP pl (some o)) C G (ex) (hn) (nb_nI (by have := eh_pl hR ho.1 ho.2; omega)) dX0_take_74 (fun H locs G => ?_)
            refine lv_iload_n hx hb dX0_take_75 rfl (lv_at hl 1 rfl) ?_
            exact hret (nI o) _ _ _ _ _ G (⟨by rw [tk_t hn ex hqe], by rw [tk_t hn ex hqe]; exact ⟨sp, pl, R_setR hR1 _ _⟩⟩) dX0_take_76
          · have c1 : i < tl.length := by
              rcases Nat.lt_or_ge i tl.length with q | q
              · exact q
              · exact absurd (nI_le q (by omega)) c1
            refine lv_aload_n hx hb dX0_take_43 rfl (lv_at hl 2 rfl) ?_
            refine eh_g13 C G dX0_take_44 ?_
            refine lv_iload_n hx hb dX0_take_47 rfl (lv_at hl 0 rfl) ?_
            refine lv_aload_n hx hb dX0_take_48 rfl (lv_at hl 2 rfl) ?_
            refine eh_g13 C G dX0_take_49 ?_
            refine lv_iload_n hx hb dX0_take_52 rfl (lv_at hl 0 rfl) ?_
            refine lv_iconst (v := nI 1) hx hb dX0_take_53 (by decide) ?_
            refine lv_iadd hx hb dX0_take_54 ?_
            refine gk_tv (y := nI (i + 1)) (nI_1 _) ?_
            refine eh_l13 (n := i + 1) (x := nI (tl.getD i 0)) C G (rfl) (by omega) (by have := h13 (i + 1) (by omega); rw [if_neg (by omega)] at this; exact this) dX0_take_55 ?_
            refine eh_s13 (n := i) (x := nI (tl.getD i 0)) C G (rfl) (by omega) (nb_nI (by have := (hv.2.2.2.1 (tl.getD i 0) (by rw [hqe]; exact List.mem_cons_of_mem _ (getD_mem c1))).1; omega)) dX0_take_56 (fun H locs G => ?_)
            refine lv_iinc (v := nI (i + 1)) (lv' := [(3, .int (nI (i + 1))), (2, .int (nI o)), (0, .ref (h 100)), (1, .int x)]) hx hb dX0_take_57 hl (k := 0) rfl (nI_1 i) (by decide) rfl (fun ls hl => ?_)
            refine lv_goto (tgt := 35) hx hb dX0_take_60 (by decide) ?_
            exact ih (i + 1) (gA u1 13 i (nI (tl.getD i 0))) (by omega) (by omega) h14 (fun j hj => by
              show (if j = i then nI (tl.getD i 0) else u1.2 13 j) = _
              by_cases q : j = i
              · rw [if_pos q, if_pos (by omega), q]
              · rw [if_neg q, h13 j hj]
                by_cases z : j < i
                · rw [if_pos z, if_pos (by omega)]
                · rw [if_neg z, if_neg (by omega)]) (R9_13 h9 _ _) _ _ G ls (lv_sub hl [0, 1, 2, 3] rfl)
      refine lv_iconst (v := nI 0) hx hb dX0_take_33 (by decide) ?_
      refine lv_istore_n (lv' := [(3, .int (nI 0)), (2, .int (nI o)), (0, .ref (h 100)), (1, .int x)]) hx hb dX0_take_34 rfl hl (by decide) rfl (fun ls hl => ?_)
      exact loop (tl.length + 1) 0 _ (by omega) (by omega) rfl (fun j hj => by rw [if_neg (Nat.not_lt_zero j)]; exact hqq j hj) (R9_14 hR _) _ _ G ls (lv_sub hl [0, 1, 2, 3] rfl)
end
section
/-! EphemeronHeap: the calls that look -/
set_option maxHeartbeats 4000000 in
set_option maxRecDepth 100000 in
/-- objects() -/
theorem me_objects (l : Launch) (D : va_G) (h : Nat → Nat) (d : Nat → ClassId) (u : gS) (v : eV) (sp : Nat) (pl : Nat → Nat) (hv : v_inv v) (hR : eh_R u v sp pl) : gk_Mi l D (eh_t d) (eh_w h d) yX0_objects cX0_objects 1 .int 1 22 [.ref (h 100)] u (fun r u' => r = nI (fb_ct (v_he v) 20) ∧ eh_RR u' v) := by
  refine gk_oi (own := RX0) (by decide) rfl (Nat.le_of_ble_eq_true rfl) (fun _ _ _ => rfl) ?_
  intro p e R s m args below meth c Q A ls C G hret hl
  have hx := C.1.1
  have hb := C.1.2.1
  have hl : lv_has ls 1 [(0, .ref (h 100))] := hl
  refine lv_aload_n hx hb dX0_objects_0 rfl (lv_at hl 0 rfl) ?_
  refine eh_g0 (x := mk_ (v_he v) 20) C G (hR.2.2.2.1) dX0_objects_1 ?_
  refine gk_cs (n := 1) (As := [.int (mk_ (v_he v) 20)]) (rest := []) C G (me_ones l D u (v_he v)) (lw_S q136 q137 q16 q138) (by decide +kernel) rfl (by decide) rfl (Nat.le_of_ble_eq_true rfl) hl.1 dX0_objects_4 (fun rc ux H locs hpx G => ?_)
  exact hret rc u _ _ _ _ G (⟨hpx.1, ⟨sp, pl, hR⟩⟩) dX0_objects_7
set_option maxHeartbeats 4000000 in
set_option maxRecDepth 100000 in
/-- there() -/
theorem me_there (l : Launch) (D : va_G) (h : Nat → Nat) (d : Nat → ClassId) (u : gS) (v : eV) (sp : Nat) (pl : Nat → Nat) (hv : v_inv v) (hR : eh_R u v sp pl) : gk_Mi l D (eh_t d) (eh_w h d) yX0_there cX0_there 1 .int 0 0 [.ref (h 100)] u (fun r u' => r = mk_ (v_he v) 20 ∧ eh_RR u' v) := by
  refine gk_oi (own := RX0) (by decide) rfl (Nat.le_of_ble_eq_true rfl) (fun _ _ _ => rfl) ?_
  intro p e R s m args below meth c Q A ls C G hret hl
  have hx := C.1.1
  have hb := C.1.2.1
  have hl : lv_has ls 1 [(0, .ref (h 100))] := hl
  refine lv_aload_n hx hb dX0_there_0 rfl (lv_at hl 0 rfl) ?_
  refine eh_g0 (x := mk_ (v_he v) 20) C G (hR.2.2.2.1) dX0_there_1 ?_
  exact hret (mk_ (v_he v) 20) u _ _ _ _ G (⟨rfl, ⟨sp, pl, hR⟩⟩) dX0_there_4
set_option maxHeartbeats 4000000 in
set_option maxRecDepth 100000 in
/-- alive() -/
theorem me_alive (l : Launch) (D : va_G) (h : Nat → Nat) (d : Nat → ClassId) (u : gS) (v : eV) (sp : Nat) (pl : Nat → Nat) (hv : v_inv v) (hR : eh_R u v sp pl) : gk_Mi l D (eh_t d) (eh_w h d) yX0_alive cX0_alive 1 .int 5 110 [.ref (h 100)] u (fun r u' => r = mk_ (v_lb v) 20 ∧ eh_RR u' v) := by
  refine gk_oi (own := RX0) (by decide) rfl (Nat.le_of_ble_eq_true rfl) (fun _ _ _ => rfl) ?_
  intro p e R s m args below meth c Q A ls C G hret hl
  have hx := C.1.1
  have hb := C.1.2.1
  have hl : lv_has ls 1 [(0, .ref (h 100))] := hl
  refine lv_aload_n hx hb dX0_alive_0 rfl (lv_at hl 0 rfl) ?_
  refine eh_ci (n := 0) (As := []) (rest := []) C G (me_living l D h d u v sp pl hv hR) (lw_V q155 q157 qs10 q16 q158) (by decide +kernel) rfl (by decide) rfl (Nat.le_of_ble_eq_true rfl) hl.1 dX0_alive_1 (fun ra u1 H locs hp1 G => ?_)
  exact hret ra u1 _ _ _ _ G (⟨hp1.1, sp, pl, hp1.2⟩) dX0_alive_4
set_option maxHeartbeats 4000000 in
set_option maxRecDepth 100000 in
/-- queued() -/
theorem me_queued (l : Launch) (D : va_G) (h : Nat → Nat) (d : Nat → ClassId) (u : gS) (v : eV) (sp : Nat) (pl : Nat → Nat) (hv : v_inv v) (hR : eh_R u v sp pl) : gk_Mi l D (eh_t d) (eh_w h d) yX0_queued cX0_queued 1 .int 0 0 [.ref (h 100)] u (fun r u' => r = nI (v_qu v).length ∧ eh_RR u' v) := by
  refine gk_oi (own := RX0) (by decide) rfl (Nat.le_of_ble_eq_true rfl) (fun _ _ _ => rfl) ?_
  intro p e R s m args below meth c Q A ls C G hret hl
  have hx := C.1.1
  have hb := C.1.2.1
  have hl : lv_has ls 1 [(0, .ref (h 100))] := hl
  refine lv_aload_n hx hb dX0_queued_0 rfl (lv_at hl 0 rfl) ?_
  refine eh_g14 (x := nI (v_qu v).length) C G (hR.2.2.2.2.2.2.2.1) dX0_queued_1 ?_
  exact hret (nI (v_qu v).length) u _ _ _ _ G (⟨rfl, ⟨sp, pl, hR⟩⟩) dX0_queued_4
set_option maxHeartbeats 4000000 in
set_option maxRecDepth 100000 in
/-- watched() -/
theorem me_watched (l : Launch) (D : va_G) (h : Nat → Nat) (d : Nat → ClassId) (u : gS) (v : eV) (sp : Nat) (pl : Nat → Nat) (hv : v_inv v) (hR : eh_R u v sp pl) : gk_Mi l D (eh_t d) (eh_w h d) yX0_watched cX0_watched 1 .int 0 0 [.ref (h 100)] u (fun r u' => r = mk_ (fun o => v_he v o && v_ey v o) 20 ∧ eh_RR u' v) := by
  refine gk_oi (own := RX0) (by decide) rfl (Nat.le_of_ble_eq_true rfl) (fun _ _ _ => rfl) ?_
  intro p e R s m args below meth c Q A ls C G hret hl
  have hx := C.1.1
  have hb := C.1.2.1
  have hl : lv_has ls 1 [(0, .ref (h 100))] := hl
  refine lv_aload_n hx hb dX0_watched_0 rfl (lv_at hl 0 rfl) ?_
  refine eh_g1 (x := mk_ (fun o => v_he v o && v_ey v o) 20) C G (hR.2.2.2.2.1) dX0_watched_1 ?_
  exact hret (mk_ (fun o => v_he v o && v_ey v o) 20) u _ _ _ _ G (⟨rfl, ⟨sp, pl, hR⟩⟩) dX0_watched_4
set_option maxHeartbeats 4000000 in
set_option maxRecDepth 100000 in
/-- kind(o) -/
theorem me_kind (l : Launch) (D : va_G) (h : Nat → Nat) (d : Nat → ClassId) (u : gS) (v : eV) (sp : Nat) (pl : Nat → Nat) (x : Int32) (hv : v_inv v) (hR : eh_R u v sp pl) : gk_Mi l D (eh_t d) (eh_w h d) yX0_kind cX0_kind 2 .int 1 21 [.ref (h 100), .int x] u (fun r u' => r = a_kind v x ∧ eh_RR u' v) := by
  refine gk_oi (own := RX0) (by decide) rfl (Nat.le_of_ble_eq_true rfl) (fun _ _ _ => rfl) ?_
  intro p e R s m args below meth c Q A ls C G hret hl
  have hx := C.1.1
  have hb := C.1.2.1
  have hl : lv_has ls 2 [(0, .ref (h 100)), (1, .int x)] := hl
  refine lv_aload_n hx hb dX0_kind_0 rfl (lv_at hl 0 rfl) ?_
  refine lv_iload_n hx hb dX0_kind_1 rfl (lv_at hl 1 rfl) ?_
  refine eh_ci (n := 1) (As := [.int x]) (rest := []) C G (me_has l D h d u v x hR.2.2.2.1) (lw_V q80 q82 qs0 q16 q83) (by decide +kernel) rfl (by decide) rfl (Nat.le_of_ble_eq_true rfl) hl.1 dX0_kind_2 (fun rh u9 H locs hp9 G => ?_)
  obtain ⟨er9, eu9⟩ := hp9
  rw [eu9] at G
  refine gk_tv (y := bI (v_has v x)) (er9) ?_
  refine lv_if_eq (tgt := 22) hx hb dX0_kind_5 (by decide) (fun c0 => ?_) (fun c0 => ?_)
  · refine lv_iconst (v := -1) hx hb dX0_kind_22 (by decide) ?_
    exact hret (-1) u _ _ _ _ G (⟨(kd_f (bI_eq.mp c0)).symm, ⟨sp, pl, hR⟩⟩) dX0_kind_23
  · obtain ⟨n, hn, ex, hh⟩ := v_has_of (bI_ne.mp c0)
    have hp := eh_pl hR hn hh
    refine lv_aload_n hx hb dX0_kind_8 rfl (lv_at hl 0 rfl) ?_
    refine eh_g6 C G dX0_kind_9 ?_
    refine lv_aload_n hx hb dX0_kind_12 rfl (lv_at hl 0 rfl) ?_
    refine eh_g2 C G dX0_kind_13 ?_
    refine lv_iload_n hx hb dX0_kind_16 rfl (lv_at hl 1 rfl) ?_
    refine eh_l2 (n := n) (x := nI (pl n)) C G (ex) (hn) ((hR.2.2.2.2.2.1 n hn hh).1) dX0_kind_17 ?_
    refine eh_l6 (n := pl n) (x := nI (v_ki v n)) C G (rfl) (hp.2.2) ((hR.2.2.2.2.2.1 n hn hh).2.2.2.2.1) dX0_kind_18 ?_
    refine lv_goto (tgt := 23) hx hb dX0_kind_19 (by decide) ?_
    exact hret (nI (v_ki v n)) u _ _ _ _ G (⟨(kd_t hn ex hh).symm, ⟨sp, pl, hR⟩⟩) dX0_kind_23
set_option maxHeartbeats 4000000 in
set_option maxRecDepth 100000 in
/-- rootOf(r) -/
theorem me_rootOf (l : Launch) (D : va_G) (h : Nat → Nat) (d : Nat → ClassId) (u : gS) (v : eV) (sp : Nat) (pl : Nat → Nat) (x : Int32) (hv : v_inv v) (hR : eh_R u v sp pl) : gk_Mi l D (eh_t d) (eh_w h d) yX0_rootOf cX0_rootOf 2 .int 1 21 [.ref (h 100), .int x] u (fun r u' => r = a_rootOf v x ∧ eh_RR u' v) := by
  refine gk_oi (own := RX0) (by decide) rfl (Nat.le_of_ble_eq_true rfl) (fun _ _ _ => rfl) ?_
  intro p e R s m args below meth c Q A ls C G hret hl
  have hx := C.1.1
  have hb := C.1.2.1
  have hl : lv_has ls 2 [(0, .ref (h 100)), (1, .int x)] := hl
  refine lv_iload_n hx hb dX0_rootOf_0 rfl (lv_at hl 1 rfl) ?_
  refine gk_cs (n := 1) (As := [.int x]) (rest := []) C G (me_isRoot l D u x) (lw_S q77 q78 q16 q79) (by decide +kernel) rfl (by decide) rfl (Nat.le_of_ble_eq_true rfl) hl.1 dX0_rootOf_1 (fun rr9 u8 H locs hp8 G => ?_)
  refine gk_tv (y := bI (v_root x)) (hp8.1) ?_
  refine lv_if_eq (tgt := 20) hx hb dX0_rootOf_4 (by decide) (fun c0 => ?_) (fun c0 => ?_)
  · refine lv_iconst (v := -1) hx hb dX0_rootOf_20 (by decide) ?_
    exact hret (-1) u _ _ _ _ G (⟨(ro_f (bI_eq.mp c0)).symm, ⟨sp, pl, hR⟩⟩) dX0_rootOf_21
  · obtain ⟨n, hn, ex⟩ := v_root_of (bI_ne.mp c0)
    have hro := hv.2.2.1 n hn
    refine lv_aload_n hx hb dX0_rootOf_7 rfl (lv_at hl 0 rfl) ?_
    refine lv_aload_n hx hb dX0_rootOf_8 rfl (lv_at hl 0 rfl) ?_
    refine eh_g12 C G dX0_rootOf_9 ?_
    refine lv_iload_n hx hb dX0_rootOf_12 rfl (lv_at hl 1 rfl) ?_
    refine eh_l12 (n := n) (x := eP pl (v_ro v n)) C G (ex) (hn) (hR.2.2.2.2.2.2.1 n hn) dX0_rootOf_13 ?_
    refine eh_ci (n := 1) (As := [.int (eP pl (v_ro v n))]) (rest := []) C G (me_numberAt l D h d u pl (v_ro v n) (fun k e => ⟨(eh_pl hR (hro k e).1 (hro k e).2).2.2, (hR.2.2.2.2.2.1 k (hro k e).1 (hro k e).2).2.2.2.1⟩)) (lw_V q163 q165 qs11 q16 q166) (by decide +kernel) rfl (by decide) rfl (Nat.le_of_ble_eq_true rfl) hl.1 dX0_rootOf_14 (fun rn u7 H locs hp7 G => ?_)
    obtain ⟨ern, eun⟩ := hp7
    rw [eun] at G
    refine lv_goto (tgt := 21) hx hb dX0_rootOf_17 (by decide) ?_
    exact hret rn u _ _ _ _ G (⟨ern.trans (ro_t hn ex).symm, ⟨sp, pl, hR⟩⟩) dX0_rootOf_21
set_option maxHeartbeats 4000000 in
set_option maxRecDepth 100000 in
/-- field(o, which) -/
theorem me_field (l : Launch) (D : va_G) (h : Nat → Nat) (d : Nat → ClassId) (u : gS) (v : eV) (sp : Nat) (pl : Nat → Nat) (x y : Int32) (hv : v_inv v) (hR : eh_R u v sp pl) : gk_Mi l D (eh_t d) (eh_w h d) yX0_field cX0_field 3 .int 1 21 [.ref (h 100), .int x, .int y] u (fun r u' => r = a_field v x y ∧ eh_RR u' v) := by
  refine gk_oi (own := RX0) (by decide) rfl (Nat.le_of_ble_eq_true rfl) (fun _ _ _ => rfl) ?_
  intro p e R s m args below meth c Q A ls C G hret hl
  have hx := C.1.1
  have hb := C.1.2.1
  have hl : lv_has ls 3 [(0, .ref (h 100)), (1, .int x), (2, .int y)] := hl
  refine lv_aload_n hx hb dX0_field_0 rfl (lv_at hl 0 rfl) ?_
  refine lv_iload_n hx hb dX0_field_1 rfl (lv_at hl 1 rfl) ?_
  refine eh_ci (n := 1) (As := [.int x]) (rest := []) C G (me_has l D h d u v x hR.2.2.2.1) (lw_V q80 q82 qs0 q16 q83) (by decide +kernel) rfl (by decide) rfl (Nat.le_of_ble_eq_true rfl) hl.1 dX0_field_2 (fun rh u9 H locs hp9 G => ?_)
  obtain ⟨er9, eu9⟩ := hp9
  rw [eu9] at G
  refine gk_tv (y := bI (v_has v x)) (er9) ?_
  refine lv_if_eq (tgt := 17) hx hb dX0_field_5 (by decide) (fun c0 => ?_) (fun c0 => ?_)
  · refine lv_iconst (v := -1) hx hb dX0_field_17 (by decide) ?_
    exact hret (-1) u _ _ _ _ G (⟨(fd_f (by rw [bI_eq.mp c0]; rfl)).symm, ⟨sp, pl, hR⟩⟩) dX0_field_18
  · obtain ⟨n, hn, ex, hh⟩ := v_has_of (bI_ne.mp c0)
    have hp := eh_pl hR hn hh
    refine lv_iload_n hx hb dX0_field_8 rfl (lv_at hl 2 rfl) ?_
    refine lv_if_lt (tgt := 17) hx hb dX0_field_9 (by decide) (fun c1 => ?_) (fun c1 => ?_)
    · refine lv_iconst (v := -1) hx hb dX0_field_17 (by decide) ?_
      exact hret (-1) u _ _ _ _ G (⟨(fd_f (by rw [wh_neg c1]; simp)).symm, ⟨sp, pl, hR⟩⟩) dX0_field_18
    · refine lv_iload_n hx hb dX0_field_12 rfl (lv_at hl 2 rfl) ?_
      refine lv_iconst (v := nI 1) hx hb dX0_field_13 (by decide) ?_
      refine lv_icmp_le (tgt := 19) hx hb dX0_field_14 (by decide) (fun c2 => ?_) (fun c2 => ?_)
      · have hw := wh_of c1 c2
        refine lv_aload_n hx hb dX0_field_19 rfl (lv_at hl 0 rfl) ?_
        refine lv_iload_n hx hb dX0_field_20 rfl (lv_at hl 2 rfl) ?_
        refine lv_if_ne (tgt := 38) hx hb dX0_field_21 (by decide) (fun c3 => ?_) (fun c3 => ?_)
        · have hw1 : y = nI 1 := hw.resolve_left c3
          refine lv_aload_n hx hb dX0_field_38 rfl (lv_at hl 0 rfl) ?_
          refine eh_g8 C G dX0_field_39 ?_
          refine lv_aload_n hx hb dX0_field_42 rfl (lv_at hl 0 rfl) ?_
          refine eh_g2 C G dX0_field_43 ?_
          refine lv_iload_n hx hb dX0_field_46 rfl (lv_at hl 1 rfl) ?_
          refine eh_l2 (n := n) (x := nI (pl n)) C G (ex) (hn) ((hR.2.2.2.2.2.1 n hn hh).1) dX0_field_47 ?_
          refine eh_l8 (n := pl n) (x := eP pl (v_fb v n)) C G (rfl) (hp.2.2) ((hR.2.2.2.2.2.1 n hn hh).2.2.2.2.2.2) dX0_field_48 ?_
          refine eh_ci (n := 1) (As := [.int (eP pl (v_fb v n))]) (rest := []) C G (me_numberAt l D h d u pl (v_fb v n) (fun k e => ⟨(eh_pl hR (tg_b hv hn hh k e).1 (tg_b hv hn hh k e).2).2.2, (hR.2.2.2.2.2.1 k (tg_b hv hn hh k e).1 (tg_b hv hn hh k e).2).2.2.2.1⟩)) (lw_V q163 q165 qs11 q16 q166) (by decide +kernel) rfl (by decide) rfl (Nat.le_of_ble_eq_true rfl) hl.1 dX0_field_49 (fun rn u7 H locs hp7 G => ?_)
          obtain ⟨ern, eun⟩ := hp7
          rw [eun] at G
          exact hret rn u _ _ _ _ G (⟨ern.trans (fd_b hn ex hh hw1).symm, ⟨sp, pl, hR⟩⟩) dX0_field_52
        · refine lv_aload_n hx hb dX0_field_24 rfl (lv_at hl 0 rfl) ?_
          refine eh_g7 C G dX0_field_25 ?_
          refine lv_aload_n hx hb dX0_field_28 rfl (lv_at hl 0 rfl) ?_
          refine eh_g2 C G dX0_field_29 ?_
          refine lv_iload_n hx hb dX0_field_32 rfl (lv_at hl 1 rfl) ?_
          refine eh_l2 (n := n) (x := nI (pl n)) C G (ex) (hn) ((hR.2.2.2.2.2.1 n hn hh).1) dX0_field_33 ?_
          refine eh_l7 (n := pl n) (x := eP pl (v_fa v n)) C G (rfl) (hp.2.2) ((hR.2.2.2.2.2.1 n hn hh).2.2.2.2.2.1) dX0_field_34 ?_
          refine lv_goto (tgt := 49) hx hb dX0_field_35 (by decide) ?_
          refine eh_ci (n := 1) (As := [.int (eP pl (v_fa v n))]) (rest := []) C G (me_numberAt l D h d u pl (v_fa v n) (fun k e => ⟨(eh_pl hR (tg_a hv hn hh k e).1 (tg_a hv hn hh k e).2).2.2, (hR.2.2.2.2.2.1 k (tg_a hv hn hh k e).1 (tg_a hv hn hh k e).2).2.2.2.1⟩)) (lw_V q163 q165 qs11 q16 q166) (by decide +kernel) rfl (by decide) rfl (Nat.le_of_ble_eq_true rfl) hl.1 dX0_field_49 (fun rn u7 H locs hp7 G => ?_)
          obtain ⟨ern, eun⟩ := hp7
          rw [eun] at G
          exact hret rn u _ _ _ _ G (⟨ern.trans (fd_a hn ex hh c3).symm, ⟨sp, pl, hR⟩⟩) dX0_field_52
      · refine lv_iconst (v := -1) hx hb dX0_field_17 (by decide) ?_
        exact hret (-1) u _ _ _ _ G (⟨(fd_f (by rw [wh_big c2]; simp)).symm, ⟨sp, pl, hR⟩⟩) dX0_field_18
set_option maxHeartbeats 4000000 in
set_option maxRecDepth 100000 in
/-- heldBy(o) -/
theorem me_heldBy (l : Launch) (D : va_G) (h : Nat → Nat) (d : Nat → ClassId) (u : gS) (v : eV) (sp : Nat) (pl : Nat → Nat) (x : Int32) (hv : v_inv v) (hR : eh_R u v sp pl) : gk_Mi l D (eh_t d) (eh_w h d) yX0_heldBy cX0_heldBy 7 .int 5 110 [.ref (h 100), .int x] u (fun r u' => r = a_held v x ∧ eh_RR u' v) := by
  refine gk_oi (own := RX0) (by decide) rfl (Nat.le_of_ble_eq_true rfl) (fun _ _ _ => rfl) ?_
  intro p e R s m args below meth c Q A ls C G hret hl
  have hx := C.1.1
  have hb := C.1.2.1
  have hl : lv_has ls 7 [(0, .ref (h 100)), (1, .int x)] := hl
  refine lv_aload_n hx hb dX0_heldBy_0 rfl (lv_at hl 0 rfl) ?_
  refine lv_iload_n hx hb dX0_heldBy_1 rfl (lv_at hl 1 rfl) ?_
  refine eh_ci (n := 1) (As := [.int x]) (rest := []) C G (me_has l D h d u v x hR.2.2.2.1) (lw_V q80 q82 qs0 q16 q83) (by decide +kernel) rfl (by decide) rfl (Nat.le_of_ble_eq_true rfl) hl.1 dX0_heldBy_2 (fun rh u9 H locs hp9 G => ?_)
  obtain ⟨er9, eu9⟩ := hp9
  rw [eu9] at G
  refine gk_tv (y := bI (v_has v x)) (er9) ?_
  refine lv_if_ne (tgt := 10) hx hb dX0_heldBy_5 (by decide) (fun c0 => ?_) (fun c0 => ?_)
  · obtain ⟨n, hn, ex, hh⟩ := v_has_of (bI_ne.mp c0)
    have hp := eh_pl hR hn hh
    refine lv_aload_n hx hb dX0_heldBy_10 rfl (lv_at hl 0 rfl) ?_
    refine eh_ci (n := 0) (As := []) (rest := []) C G (me_living l D h d u v sp pl hv hR) (lw_V q155 q157 qs10 q16 q158) (by decide +kernel) rfl (by decide) rfl (Nat.le_of_ble_eq_true rfl) hl.1 dX0_heldBy_11 (fun r1 u1 H locs hp1 G => ?_)
    obtain ⟨er1, hR1⟩ := hp1
    refine gk_tv (y := mk_ (v_lb v) 20) (er1) ?_
    refine lv_istore_n (lv' := [(2, .int (mk_ (v_lb v) 20)), (0, .ref (h 100)), (1, .int x)]) hx hb dX0_heldBy_14 rfl hl (by decide) rfl (fun ls hl => ?_)
    refine lv_aload_n hx hb dX0_heldBy_15 rfl (lv_at hl 1 rfl) ?_
    refine eh_g2 C G dX0_heldBy_16 ?_
    refine lv_iload_n hx hb dX0_heldBy_19 rfl (lv_at hl 2 rfl) ?_
    refine eh_l2 (n := n) (x := nI (pl n)) C G (ex) (hn) ((hR1.2.2.2.2.2.1 n hn hh).1) dX0_heldBy_20 ?_
    refine lv_istore_n (lv' := [(3, .int (nI (pl n))), (2, .int (mk_ (v_lb v) 20)), (0, .ref (h 100)), (1, .int x)]) hx hb dX0_heldBy_21 rfl hl (by decide) rfl (fun ls hl => ?_)
    refine lv_aload_n hx hb dX0_heldBy_22 rfl (lv_at hl 2 rfl) ?_
    refine eh_g7 C G dX0_heldBy_23 ?_
    refine lv_iload_n hx hb dX0_heldBy_26 rfl (lv_at hl 0 rfl) ?_
    refine eh_l7 (n := pl n) (x := eP pl (v_fa v n)) C G (rfl) (hp.2.2) ((hR1.2.2.2.2.2.1 n hn hh).2.2.2.2.2.1) dX0_heldBy_27 ?_
    refine lv_istore (lv' := [(4, .int (eP pl (v_fa v n))), (3, .int (nI (pl n))), (2, .int (mk_ (v_lb v) 20)), (0, .ref (h 100)), (1, .int x)]) hx hb dX0_heldBy_28 hl (by decide) rfl (fun ls hl => ?_)
    refine lv_aload_n hx hb dX0_heldBy_30 rfl (lv_at hl 3 rfl) ?_
    refine eh_g8 C G dX0_heldBy_31 ?_
    refine lv_iload_n hx hb dX0_heldBy_34 rfl (lv_at hl 1 rfl) ?_
    refine eh_l8 (n := pl n) (x := eP pl (v_fb v n)) C G (rfl) (hp.2.2) ((hR1.2.2.2.2.2.1 n hn hh).2.2.2.2.2.2) dX0_heldBy_35 ?_
    refine lv_istore (lv' := [(5, .int (eP pl (v_fb v n))), (4, .int (eP pl (v_fa v n))), (3, .int (nI (pl n))), (2, .int (mk_ (v_lb v) 20)), (0, .ref (h 100)), (1, .int x)]) hx hb dX0_heldBy_36 hl (by decide) rfl (fun ls hl => ?_)
    refine lv_aload_n hx hb dX0_heldBy_38 rfl (lv_at hl 4 rfl) ?_
    refine eh_g7 C G dX0_heldBy_39 ?_
    refine lv_iload_n hx hb dX0_heldBy_42 rfl (lv_at hl 2 rfl) ?_
    refine lv_iconst (v := -1) hx hb dX0_heldBy_43 (by decide) ?_
    refine eh_s7 (n := pl n) (x := eP pl none) C G (rfl) (hp.2.2) (nb_m1) dX0_heldBy_44 (fun H locs G => ?_)
    refine lv_aload_n hx hb dX0_heldBy_45 rfl (lv_at hl 4 rfl) ?_
    refine eh_g8 C G dX0_heldBy_46 ?_
    refine lv_iload_n hx hb dX0_heldBy_49 rfl (lv_at hl 2 rfl) ?_
    refine lv_iconst (v := -1) hx hb dX0_heldBy_50 (by decide) ?_
    refine eh_s8 (n := pl n) (x := eP pl none) C G (rfl) (hp.2.2) (nb_m1) dX0_heldBy_51 (fun H locs G => ?_)
    refine lv_aload_n hx hb dX0_heldBy_52 rfl (lv_at hl 4 rfl) ?_
    have hv2 : v_inv (v_setB (v_setA v n none) n none) := sB_inv (sA_inv hv (fun k e => by cases e)) (fun k e => by cases e)
    have hRm := R_setB (R_setA hR1 hn hh none) hn hh none
    refine eh_ci (n := 0) (As := []) (rest := []) C G (me_living l D h d _ (v_setB (v_setA v n none) n none) sp pl hv2 hRm) (lw_V q155 q157 qs10 q16 q158) (by decide +kernel) rfl (by decide) rfl (Nat.le_of_ble_eq_true rfl) hl.1 dX0_heldBy_53 (fun r2 u2 H locs hp2 G => ?_)
    obtain ⟨er2, hR2⟩ := hp2
    refine gk_tv (y := mk_ (v_lb (v_setB (v_setA v n none) n none)) 20) (er2) ?_
    refine lv_istore (lv' := [(6, .int (mk_ (v_lb (v_setB (v_setA v n none) n none)) 20)), (5, .int (eP pl (v_fb v n))), (4, .int (eP pl (v_fa v n))), (3, .int (nI (pl n))), (2, .int (mk_ (v_lb v) 20)), (0, .ref (h 100)), (1, .int x)]) hx hb dX0_heldBy_56 hl (by decide) rfl (fun ls hl => ?_)
    refine lv_aload_n hx hb dX0_heldBy_58 rfl (lv_at hl 5 rfl) ?_
    refine eh_g7 C G dX0_heldBy_59 ?_
    refine lv_iload_n hx hb dX0_heldBy_62 rfl (lv_at hl 3 rfl) ?_
    refine lv_iload hx hb dX0_heldBy_63 (lv_at hl 2 rfl) ?_
    refine eh_s7 (n := pl n) (x := eP pl (v_fa v n)) C G (rfl) (hp.2.2) (nb_eP (fun k e => by have := eh_pl hR (tg_a hv hn hh k e).1 (tg_a hv hn hh k e).2; omega)) dX0_heldBy_65 (fun H locs G => ?_)
    refine lv_aload_n hx hb dX0_heldBy_66 rfl (lv_at hl 5 rfl) ?_
    refine eh_g8 C G dX0_heldBy_67 ?_
    refine lv_iload_n hx hb dX0_heldBy_70 rfl (lv_at hl 3 rfl) ?_
    refine lv_iload hx hb dX0_heldBy_71 (lv_at hl 1 rfl) ?_
    refine eh_s8 (n := pl n) (x := eP pl (v_fb v n)) C G (rfl) (hp.2.2) (nb_eP (fun k e => by have := eh_pl hR (tg_b hv hn hh k e).1 (tg_b hv hn hh k e).2; omega)) dX0_heldBy_73 (fun H locs G => ?_)
    refine lv_iload_n hx hb dX0_heldBy_74 rfl (lv_at hl 4 rfl) ?_
    refine lv_iload hx hb dX0_heldBy_75 (lv_at hl 0 rfl) ?_
    refine lv_iconst (v := -1) hx hb dX0_heldBy_77 (by decide) ?_
    refine lv_ixor hx hb dX0_heldBy_78 ?_
    refine lv_iand hx hb dX0_heldBy_79 ?_
    exact hret (mk_ (v_lb v) 20 &&& (mk_ (v_lb (v_setB (v_setA v n none) n none)) 20 ^^^ -1)) _ _ _ _ _ G (⟨(hd_t hn ex hh).symm, sp, pl, by have z := R_setB (R_setA hR2 hn hh (v_fa v n)) hn hh (v_fb v n); rw [held_back] at z; exact z⟩) dX0_heldBy_80
  · refine lv_iconst (v := nI 0) hx hb dX0_heldBy_8 (by decide) ?_
    exact hret (nI 0) u _ _ _ _ G (⟨(hd_f (bI_eq.mp c0)).symm, ⟨sp, pl, hR⟩⟩) dX0_heldBy_9
end
section
/-! THE REFERENCE AGAINST THE VALUE -/
def mo_R (u : gS) (v : eV) : Prop :=
  (∀ o, o < 20 → u.2 0 o = bI (v_he v o) ∧ u.2 1 o = nI (v_ki v o) ∧ u.2 2 o = bI (v_ey v o) ∧ u.2 3 o = eM (v_fa v o) ∧ u.2 4 o = eM (v_fb v o)) ∧ (∀ r, r < 4 → u.2 5 r = eM (v_ro v r)) ∧ u.1 6 = nI (v_qu v).length ∧ ∀ i, i < (v_qu v).length → u.2 7 i = nI ((v_qu v).getD i 0)
def eB (x : Option Nat) : Int32 := match x with
  | none => nI 0
  | some k => bm k
theorem eM_R (x : Option Nat) : eM x - nI 1 = eR x := by
  cases x with
  | none => decide
  | some k => exact nI_pred k
theorem eM_ref {v : eV} {p : Int32} (h : v_okp v p = true) : p + nI 1 = eM (v_ref p) := by
  rcases v_okp_of h with ⟨e1, e2⟩ | ⟨n, hn, e1, hh, e2⟩
  · rw [e2, e1]; decide
  · rw [e2, e1]; exact nI_1 n
theorem bt_eB {x : Option Nat} (h : ∀ k, x = some k → k < 20) {i : Nat} (hi : i < 32) : bt (eB x) i = decide (x = some i) := by
  cases x with
  | none =>
    show bt (nI 0) i = _
    rw [bt_n0]; simp
  | some k =>
    show bt (bm k) i = _
    rw [bt_bm (by have := h k rfl; omega) hi]
    exact decide_eq_decide.mpr ⟨fun e => by rw [e], fun e => by cases e; rfl⟩
theorem mk_orB {S : Nat → Bool} {x : Option Nat} (h : ∀ k, x = some k → k < 20) : mk_ S 20 ||| eB x = mk_ (fun o => S o || decide (x = some o)) 20 := mk_of fun i hi => by
  rw [b_or, mk_bt S 20 (by omega) i hi, bt_eB h hi]
  by_cases q : i < 20
  · simp [q]
  · have : x ≠ some i := fun e => q (h i e)
    simp [q, this]
theorem i_zero {x : Int32} : x = 0 ↔ ∀ i, i < 32 → bt x i = false := by
  constructor
  · intro h i _
    rw [h]; exact b_0 i
  · intro h
    exact b_ext fun i hi => by rw [h i hi, b_0]
theorem and_B {S : Nat → Bool} {x : Option Nat} (h : ∀ k, x = some k → k < 20) : eB x &&& mk_ S 20 = 0 ↔ ∀ k, x = some k → S k = false := by
  rw [i_zero]
  constructor
  · intro a k e
    have hk := h k e
    have b := a k (by omega)
    rw [b_and, bt_eB h (by omega), mk_bt S 20 (by omega) k (by omega), decide_eq_true e, decide_eq_true hk] at b
    simpa using b
  · intro a i hi
    rw [b_and, bt_eB h hi, mk_bt S 20 (by omega) i hi]
    by_cases e : x = some i
    · rw [a i e]; simp
    · rw [decide_eq_false e]; rfl
theorem and_nB {S : Nat → Bool} {x : Option Nat} (h : ∀ k, x = some k → k < 20) : eB x &&& (mk_ S 20 ^^^ -1) = 0 ↔ v_out S x = false := by
  rw [i_zero]
  constructor
  · intro a
    cases x with
    | none => rfl
    | some k =>
      have hk := h k rfl
      have b := a k (by omega)
      rw [b_and, bt_eB h (by omega), b_xor, mk_bt S 20 (by omega) k (by omega), b_m1 k (by omega), decide_eq_true rfl, decide_eq_true hk] at b
      show (!S k) = false
      simpa using b
  · intro a i hi
    rw [b_and, bt_eB h hi, b_xor, mk_bt S 20 (by omega) i hi, b_m1 i hi]
    by_cases e : x = some i
    · have hk := h i e
      rw [e] at a
      have a : (!S i) = false := a
      rw [decide_eq_true hk]
      simp at a
      simp [a]
    · rw [decide_eq_false e]; rfl
def m_in (S : Nat → Bool) (x : Option Nat) : Bool := match x with
  | none => false
  | some k => S k
/-- one object is looked at -/
def m_more (v : eV) (S : Nat → Bool) (i o : Nat) : Bool := (decide (v_ki v i = 0) && (decide (v_fa v i = some o) || decide (v_fb v i = some o))) || ((decide (v_ki v i = 1) || (decide (v_ki v i = 2) && m_in S (v_fa v i))) && decide (v_fb v i = some o))
def m_st (v : eV) (S : Nat → Bool) (i o : Nat) : Bool := S o || (S i && m_more v S i o)
theorem st_no {v : eV} {S : Nat → Bool} {i : Nat} (h : S i = false) : m_st v S i = S := funext fun o => by unfold m_st; rw [h]; simp
theorem st_0 {v : eV} {S : Nat → Bool} {i : Nat} (h : S i = true) (hk : v_ki v i = 0) (ha : ∀ k, v_fa v i = some k → k < 20) (hb : ∀ k, v_fb v i = some k → k < 20) : mk_ S 20 ||| (eB (v_fa v i) ||| eB (v_fb v i)) = mk_ (m_st v S i) 20 := mk_of fun o ho => by
  rw [b_or, b_or, mk_bt S 20 (by omega) o ho, bt_eB ha ho, bt_eB hb ho]
  unfold m_st m_more
  rw [h, hk]
  by_cases q : o < 20
  · simp [q]
  · have e1 : v_fa v i ≠ some o := fun e => q (ha o e)
    have e2 : v_fb v i ≠ some o := fun e => q (hb o e)
    simp [q, e1, e2]
theorem st_b {v : eV} {S : Nat → Bool} {i : Nat} (h : S i = true) (hk : v_ki v i ≠ 0) (hk2 : (decide (v_ki v i = 1) || (decide (v_ki v i = 2) && m_in S (v_fa v i))) = true) (hb : ∀ k, v_fb v i = some k → k < 20) : mk_ S 20 ||| eB (v_fb v i) = mk_ (m_st v S i) 20 := by
  rw [mk_orB hb]
  refine mk_cong fun o _ => ?_
  unfold m_st m_more
  rw [h, hk2, decide_eq_false hk]
  simp
theorem st_n {v : eV} {S : Nat → Bool} {i : Nat} (hk : v_ki v i ≠ 0) (hk2 : (decide (v_ki v i = 1) || (decide (v_ki v i = 2) && m_in S (v_fa v i))) = false) : mk_ S 20 ||| nI 0 = mk_ (m_st v S i) 20 := by
  have e : mk_ S 20 ||| nI 0 = mk_ S 20 := b_ext fun o ho => by rw [b_or, bt_n0]; simp
  rw [e]
  refine mk_cong fun o _ => ?_
  unfold m_st m_more
  rw [hk2, decide_eq_false hk]
  simp
theorem st_sub {v : eV} {S : Nat → Bool} {i o : Nat} (h : S o = true) : m_st v S i o = true := by unfold m_st; rw [h]; rfl
theorem m_in_t {S : Nat → Bool} {x : Option Nat} (h : m_in S x = true) : ∃ k, x = some k ∧ S k = true := by
  cases x with
  | none => cases h
  | some k => exact ⟨k, rfl, h⟩
theorem ms_live {v : eV} {S : Nat → Bool} (h : ∀ o, S o = true → v_live v o) (i : Nat) : ∀ o, m_st v S i o = true → v_live v o := by
  intro o ho
  unfold m_st m_more at ho
  simp only [Bool.or_eq_true, Bool.and_eq_true, decide_eq_true_eq] at ho
  rcases ho with q | ⟨hi, q⟩
  · exact h o q
  · have hl := v_live_cl v i (h i hi)
    rcases q with ⟨hk, q | q⟩ | ⟨hk | ⟨hk, hm⟩, q⟩
    · exact hl.1 hk o q
    · exact hl.2.1 (by rw [hk]; decide) o q
    · exact hl.2.1 (by rw [hk]; decide) o q
    · obtain ⟨k, e, hs⟩ := m_in_t hm
      exact hl.2.2 hk k o e (h k hs) q
/-- the rules at one object -/
def m_ru (v : eV) (S : Nat → Bool) (o : Nat) : Prop := S o = true → (v_ki v o = 0 → ∀ k, v_fa v o = some k → S k = true) ∧ (v_ki v o ≠ 2 → ∀ k, v_fb v o = some k → S k = true) ∧ (v_ki v o = 2 → ∀ k j, v_fa v o = some k → S k = true → v_fb v o = some j → S j = true)
theorem st_ru {v : eV} {S : Nat → Bool} {i : Nat} (hv : v_inv v) (hi : i < 20) (h : ∀ o, o < 20 → m_st v S i o = S o) : m_ru v S i := by
  intro hs
  have b := hv.1 i hi
  have key : ∀ k, k < 20 → m_more v S i k = true → S k = true := fun k hk hm => by
    rw [← h k hk]
    unfold m_st
    rw [hs, hm]; simp
  refine ⟨fun q k e => key k (b.2.1 k e) ?_, fun q k e => key k (b.2.2 k e) ?_, fun q k j e hk e2 => key j (b.2.2 j e2) ?_⟩
  · unfold m_more; rw [q, e]; simp
  · unfold m_more
    rcases (show v_ki v i = 0 ∨ v_ki v i = 1 by omega) with z | z
    · rw [z, e]; simp
    · rw [z, e]; simp
  · unfold m_more
    have : m_in S (v_fa v i) = true := by rw [e]; exact hk
    rw [q, e2, this]; simp
theorem ct_grow {S T : Nat → Bool} (h : ∀ o, S o = true → T o = true) : (∀ o, o < 20 → T o = S o) ∨ fb_ct S 20 < fb_ct T 20 := by
  by_cases q : ∀ o, o < 20 → T o = S o
  · exact Or.inl q
  · refine Or.inr ?_
    obtain ⟨o, ho⟩ := Classical.not_forall.mp q
    obtain ⟨hlt, ho⟩ := Classical.not_imp.mp ho
    have hs : S o = false := by
      cases e : S o
      · rfl
      · exact absurd (by rw [h o e, e]) ho
    have ht : T o = true := by
      cases e : T o
      · exact absurd (by rw [e, hs]) ho
      · rfl
    have h1 := ct_mk hlt hs
    have h2 : fb_ct (va_up S o true) 20 ≤ fb_ct T 20 := fb_ct_sub fun k _ hk => by
      unfold va_up at hk
      by_cases z : k = o
      · rw [z]; exact ht
      · rw [if_neg z] at hk; exact h k hk
    omega
theorem st_cl {v : eV} {S : Nat → Bool} {i : Nat} (hr : m_ru v S i) (o : Nat) : m_st v S i o = S o := by
  cases hs : S o
  · unfold m_st
    rw [hs, Bool.false_or]
    cases hi : S i
    · rfl
    · rw [Bool.true_and]
      have r := hr hi
      cases hm : m_more v S i o
      · rfl
      · unfold m_more at hm
        simp only [Bool.or_eq_true, Bool.and_eq_true, decide_eq_true_eq] at hm
        have : S o = true := by
          rcases hm with ⟨hk, q | q⟩ | ⟨hk | ⟨hk, hm⟩, q⟩
          · exact r.1 hk o q
          · exact r.2.1 (by rw [hk]; decide) o q
          · exact r.2.1 (by rw [hk]; decide) o q
          · obtain ⟨k, e, hs⟩ := m_in_t hm
            exact r.2.2 hk k o e hs q
        rw [hs] at this
        exact this.symm
  · exact st_sub hs
def m_cd (v : eV) (S : Nat → Bool) : Prop := ∀ j, j < 20 → m_ru v S j
/-- within a pass -/
def m_ps (v : eV) (S0 S : Nat → Bool) (i : Nat) : Prop := (((∀ o, o < 20 → S o = S0 o) ∧ ∀ j, j < i → m_ru v S0 j) ∨ fb_ct S0 20 < fb_ct S 20) ∧ (m_cd v S0 → ∀ o, o < 20 → S o = S0 o)
theorem ru_cong {v : eV} {S T : Nat → Bool} {j : Nat} (hv : v_inv v) (hj : j < 20) (h : ∀ o, o < 20 → S o = T o) (hr : m_ru v S j) : m_ru v T j := by
  intro hs
  have b := hv.1 j hj
  have r := hr (by rw [h j hj]; exact hs)
  exact ⟨fun q k e => by rw [← h k (b.2.1 k e)]; exact r.1 q k e, fun q k e => by rw [← h k (b.2.2 k e)]; exact r.2.1 q k e, fun q k x e hk e2 => by rw [← h x (b.2.2 x e2)]; exact r.2.2 q k x e (by rw [h k (b.2.1 k e)]; exact hk) e2⟩
theorem ps_0 {v : eV} {S : Nat → Bool} : m_ps v S S 0 := ⟨Or.inl ⟨fun _ _ => rfl, fun j hj => absurd hj (Nat.not_lt_zero j)⟩, fun _ _ _ => rfl⟩
theorem ps_step {v : eV} {S0 S : Nat → Bool} {i : Nat} (hv : v_inv v) (hi : i < 20) (h : m_ps v S0 S i) : m_ps v S0 (m_st v S i) (i + 1) := by
  have g := ct_grow (S := S) (T := m_st v S i) (fun o ho => st_sub ho)
  obtain ⟨h, hc⟩ := h
  refine ⟨?_, fun z o ho => ?_⟩
  · rcases h with ⟨a, b⟩ | a
    · have e : fb_ct S 20 = fb_ct S0 20 := fb_ct_cong a
      rcases g with q | q
      · refine Or.inl ⟨fun o ho => by rw [q o ho, a o ho], fun j hj => ?_⟩
        rcases Nat.lt_or_ge j i with z | z
        · exact b j z
        · rw [show j = i by omega]
          exact ru_cong hv hi a (st_ru hv hi q)
      · exact Or.inr (by omega)
    · refine Or.inr (Nat.lt_of_lt_of_le a ?_)
      exact fb_ct_sub fun k _ hk => st_sub hk
  · have a := hc z
    rw [st_cl (ru_cong hv hi (fun o ho => (a o ho).symm) (z i hi)) o]
    exact a o ho
/-- over the passes -/
theorem cd_next {v : eV} {S0 S : Nat → Bool} {k : Nat} (hv : v_inv v) (h : m_cd v S0 ∨ k ≤ fb_ct S0 20) (hp : m_ps v S0 S 20) : m_cd v S ∨ k + 1 ≤ fb_ct S 20 := by
  obtain ⟨hp, hc⟩ := hp
  rcases hp with ⟨a, b⟩ | a
  · exact Or.inl fun j hj => ru_cong hv hj (fun o ho => (a o ho).symm) (b j hj)
  · rcases h with q | q
    · have e : fb_ct S 20 = fb_ct S0 20 := fb_ct_cong (hc q)
      omega
    · exact Or.inr (by omega)
theorem cd_end {v : eV} {S : Nat → Bool} (hv : v_inv v) (h : m_cd v S ∨ 20 ≤ fb_ct S 20) : m_cd v S := by
  rcases h with q | q
  · exact q
  · have e : fb_ct S 20 = 20 := Nat.le_antisymm (fb_ct_le S 20) q
    have a := fb_ct_all.mp e
    intro j hj hs
    have b := hv.1 j hj
    exact ⟨fun _ k e => a k (b.2.1 k e), fun _ k e => a k (b.2.2 k e), fun _ _ x _ _ e => a x (b.2.2 x e)⟩
theorem mo_live {v : eV} {S : Nat → Bool} (hv : v_inv v) (h1 : ∀ o, S o = true → v_live v o) (h2 : ∀ o, v_start v o → S o = true) (hc : m_cd v S) : mk_ S 20 = mk_ (v_lb v) 20 := mk_cong fun o _ => by
  rw [Bool.eq_iff_iff, v_lb_iff]
  refine ⟨h1 o, fun hl => hl (fun o => S o = true) h2 (fun x hx => ?_)⟩
  exact hc x (v_live_here hv (h1 x hx)).1 hx
/-- the roots and the queue come into the set -/
def m_s0 (v : eV) (S : Nat → Bool) (i j : Nat) : Prop := (∀ o, S o = true → v_start v o) ∧ (∀ r, r < i → ∀ k, v_ro v r = some k → S k = true) ∧ ∀ a, a < j → S ((v_qu v).getD a 0) = true
theorem s0_root {v : eV} {S : Nat → Bool} {i : Nat} (h : m_s0 v S i 0) (hi : i < 4) : m_s0 v (fun o => S o || decide (v_ro v i = some o)) (i + 1) 0 := by
  refine ⟨fun o ho => ?_, fun r hr k hk => ?_, fun a ha => absurd ha (Nat.not_lt_zero a)⟩
  · simp only [Bool.or_eq_true, decide_eq_true_eq] at ho
    rcases ho with q | q
    · exact h.1 o q
    · exact Or.inl ⟨i, hi, q⟩
  · rcases Nat.lt_or_ge r i with q | q
    · show (S k || decide (v_ro v i = some k)) = true
      rw [h.2.1 r q k hk]; rfl
    · rw [show r = i by omega] at hk
      show (S k || decide (v_ro v i = some k)) = true
      rw [decide_eq_true hk]; simp
theorem s0_queue {v : eV} {S : Nat → Bool} {j : Nat} (h : m_s0 v S 4 j) (hj : j < (v_qu v).length) : m_s0 v (fun o => S o || decide (some ((v_qu v).getD j 0) = some o)) 4 (j + 1) := by
  refine ⟨fun o ho => ?_, fun r hr k hk => ?_, fun a ha => ?_⟩
  · simp only [Bool.or_eq_true, decide_eq_true_eq] at ho
    rcases ho with q | q
    · exact h.1 o q
    · cases q
      exact Or.inr (getD_mem hj)
  · show (S k || _) = true
    rw [h.2.1 r hr k hk]; rfl
  · rcases Nat.lt_or_ge a j with q | q
    · show (S _ || _) = true
      rw [h.2.2 a q]; rfl
    · rw [show a = j by omega]
      show (S _ || decide _) = true
      rw [decide_eq_true rfl]; simp
theorem s0_start {v : eV} {S : Nat → Bool} (h : m_s0 v S 4 (v_qu v).length) : ∀ o, v_start v o → S o = true := by
  rintro o (⟨r, hr, e⟩ | q)
  · exact h.2.1 r hr o e
  · obtain ⟨i, hi, e⟩ := mem_getD q
    rw [← e]; exact h.2.2 i hi
theorem mk_f0 : mk_ (fun _ => false) 20 = nI 0 := (mk_of fun i _ => by rw [bt_n0]; simp).symm
end
section
/-! EphemeronHeapModel: is, bit, living -/
set_option maxHeartbeats 4000000 in
set_option maxRecDepth 100000 in
/-- is(x) -/
theorem mm_is (l : Launch) (D : va_G) (h : Nat → Nat) (d : Nat → ClassId) (u : gS) (v : eV) (x : Int32) (hR : mo_R u v) : gk_Mi l D (mo_t d) (mo_w h d) yX1_is cX1_is 2 .boolean 0 0 [.ref (h 100), .int x] u (fun r u' => r = bI (v_has v x) ∧ u' = u) := by
  refine gk_oi (own := RX1) (by decide) rfl (Nat.le_of_ble_eq_true rfl) (fun r u' q => by rw [q.1]; exact bI_range _) ?_
  intro p e R s m args below meth c Q A ls C G hret hl
  have hx := C.1.1
  have hb := C.1.2.1
  have hl : lv_has ls 2 [(0, .ref (h 100)), (1, .int x)] := hl
  refine lv_iload_n hx hb dX1_is_0 rfl (lv_at hl 1 rfl) ?_
  refine lv_if_lt (tgt := 23) hx hb dX1_is_1 (by decide) (fun c1 => ?_) (fun c1 => ?_)
  · refine lv_iconst (v := nI 0) hx hb dX1_is_23 (by decide) ?_
    exact hret (nI 0) u _ _ _ _ G (⟨by rw [v_has_neg c1]; rfl, rfl⟩) dX1_is_24
  · refine lv_iload_n hx hb dX1_is_4 rfl (lv_at hl 1 rfl) ?_
    refine lv_bipush (v := nI 20) hx hb dX1_is_5 (by decide) ?_
    refine lv_icmp_ge (tgt := 23) hx hb dX1_is_7 (by decide) (fun c2 => ?_) (fun c2 => ?_)
    · refine lv_iconst (v := nI 0) hx hb dX1_is_23 (by decide) ?_
      exact hret (nI 0) u _ _ _ _ G (⟨by rw [v_has_big c2]; rfl, rfl⟩) dX1_is_24
    · obtain ⟨n, hn, hxn⟩ : ∃ n, n < 20 ∧ x = nI n := by
        rcases pk_ix x (n := 20) (by omega) with q | q | ⟨n, hn, e⟩
        · exact absurd q c1
        · exact absurd q c2
        · exact ⟨n, hn, e⟩
      have hv : v_has v x = v_he v n := by rw [hxn]; exact v_has_nI hn
      refine lv_aload_n hx hb dX1_is_10 rfl (lv_at hl 0 rfl) ?_
      refine mo_g0 C G dX1_is_11 ?_
      refine lv_iload_n hx hb dX1_is_14 rfl (lv_at hl 1 rfl) ?_
      refine mo_l0 (n := n) (x := bI (v_he v n)) C G (hxn) (hn) ((hR.1 n hn).1) dX1_is_15 ?_
      refine lv_if_eq (tgt := 23) hx hb dX1_is_16 (by decide) (fun c3 => ?_) (fun c3 => ?_)
      · refine lv_iconst (v := nI 0) hx hb dX1_is_23 (by decide) ?_
        exact hret (nI 0) u _ _ _ _ G (⟨by rw [hv, bI_eq.mp c3]; rfl, rfl⟩) dX1_is_24
      · refine lv_iconst (v := nI 1) hx hb dX1_is_19 (by decide) ?_
        refine lv_goto (tgt := 24) hx hb dX1_is_20 (by decide) ?_
        exact hret (nI 1) u _ _ _ _ G (⟨by rw [hv, bI_ne.mp c3]; rfl, rfl⟩) dX1_is_24
set_option maxHeartbeats 4000000 in
set_option maxRecDepth 100000 in
/-- bit(x) -/
theorem mm_bit (l : Launch) (D : va_G) (h : Nat → Nat) (d : Nat → ClassId) (u : gS) (x : Option Nat) (hx0 : ∀ k, x = some k → k < 20) : gk_Mi l D (mo_t d) (mo_w h d) yX1_bit cX1_bit 2 .int 0 0 [.ref (h 100), .int (eM x)] u (fun r u' => r = eB x ∧ u' = u) := by
  refine gk_oi (own := RX1) (by decide) rfl (Nat.le_of_ble_eq_true rfl) (fun _ _ _ => rfl) ?_
  intro p e R s m args below meth c Q A ls C G hret hl
  have hx := C.1.1
  have hb := C.1.2.1
  have hl : lv_has ls 2 [(0, .ref (h 100)), (1, .int (eM x))] := hl
  cases x with
  | none =>
    refine lv_iload_n hx hb dX1_bit_0 rfl (lv_at hl 1 rfl) ?_
    refine lv_if_le (tgt := 12) hx hb dX1_bit_1 (by decide) (fun _ => ?_) (fun c_ => absurd (show nI 0 ≤ 0 by decide) c_)
    refine lv_iconst (v := nI 0) hx hb dX1_bit_12 (by decide) ?_
    exact hret (nI 0) u _ _ _ _ G (⟨rfl, rfl⟩) dX1_bit_13
  | some k =>
    have hk := hx0 k rfl
    refine lv_iload_n hx hb dX1_bit_0 rfl (lv_at hl 1 rfl) ?_
    refine lv_if_le (tgt := 12) hx hb dX1_bit_1 (by decide) (fun c_ => absurd c_ (nI_nle (n := k + 1) (by omega) (by omega))) (fun _ => ?_)
    refine lv_iconst (v := nI 1) hx hb dX1_bit_4 (by decide) ?_
    refine lv_iload_n hx hb dX1_bit_5 rfl (lv_at hl 1 rfl) ?_
    refine lv_iconst (v := nI 1) hx hb dX1_bit_6 (by decide) ?_
    refine lv_isub hx hb dX1_bit_7 ?_
    refine gk_tv (y := nI k) (nI_pred k) ?_
    refine lv_ishl hx hb dX1_bit_8 ?_
    refine lv_goto (tgt := 13) hx hb dX1_bit_9 (by decide) ?_
    exact hret (nI 1 <<< (nI k &&& 31)) u _ _ _ _ G (⟨rfl, rfl⟩) dX1_bit_13
set_option maxHeartbeats 4000000 in
set_option maxRecDepth 100000 in
/-- living() -/
theorem mm_living (l : Launch) (D : va_G) (h : Nat → Nat) (d : Nat → ClassId) (u : gS) (v : eV) (hv : v_inv v) (hR : mo_R u v) : gk_Mi l D (mo_t d) (mo_w h d) yX1_living cX1_living 7 .int 1 21 [.ref (h 100)] u (fun r u' => r = mk_ (v_lb v) 20 ∧ u' = u) := by
  refine gk_oi (own := RX1) (by decide) rfl (Nat.le_of_ble_eq_true rfl) (fun _ _ _ => rfl) ?_
  intro p e R s m args below meth c Q A ls C G hret hl
  have hx := C.1.1
  have hb := C.1.2.1
  have hl : lv_has ls 7 [(0, .ref (h 100))] := hl
  have hql := qu_le hv
  have inner : ∀ (k : Int32) (S0 : Nat → Bool) (n i : Nat) (S : Nat → Bool), i ≤ 20 → 21 ≤ i + n → (∀ o, S o = true → v_live v o) → (∀ o, v_start v o → S o = true) → m_ps v S0 S i → ∀ (H : Heap) (locs : List Loc), gk_G D (mo_w h d u) A s.heap H locs → ∀ (ls : Array Slot), lv_has ls 7 [(3, .int (nI i)), (1, .int (mk_ S 20)), (2, .int k), (0, .ref (h 100))] → (∀ (S1 : Nat → Bool) (H : Heap) (locs : List Loc) (ls : Array Slot), (∀ o, S1 o = true → v_live v o) → (∀ o, v_start v o → S1 o = true) → m_ps v S0 S1 20 → gk_G D (mo_w h d u) A s.heap H locs → lv_has ls 7 [(1, .int (mk_ S1 20)), (2, .int k), (0, .ref (h 100))] → W p l e R s m args below meth c H locs 0 0 Q (F0 m 157 ls [])) → W p l e R s m args below meth c H locs 0 0 Q (F0 m 65 ls []) := by
    intro k S0 n
    induction n with
    | zero => intro i S h1 h2; exact absurd h2 (by omega)
    | succ n ih =>
      intro i S h1 h2 hS1 hS2 hps H locs G ls hl KK
      refine lv_iload_n hx hb dX1_living_65 rfl (lv_at hl 0 rfl) ?_
      refine lv_bipush (v := nI 20) hx hb dX1_living_66 (by decide) ?_
      refine lv_icmp_ge (tgt := 157) hx hb dX1_living_68 (by decide) (fun c1 => ?_) (fun c1 => ?_)
      · have c1 := (nI_leI (a := 20) (b := i) (by omega) (by omega)).mp c1
        have e1 : i = 20 := by omega
        rw [e1] at hps
        exact KK S _ _ ls hS1 hS2 hps G (lv_sub hl [1, 2, 3] rfl)
      · have c1 : i < 20 := by
          rcases Nat.lt_or_ge i 20 with q | q
          · exact q
          · exact absurd (nI_le q (by omega)) c1
        have hb_ := hv.1 i c1
        refine lv_iload_n hx hb dX1_living_71 rfl (lv_at hl 1 rfl) ?_
        refine lv_iload_n hx hb dX1_living_72 rfl (lv_at hl 0 rfl) ?_
        refine lv_ishr hx hb dX1_living_73 ?_
        refine lv_iconst (v := nI 1) hx hb dX1_living_74 (by decide) ?_
        refine lv_iand hx hb dX1_living_75 ?_
        refine gk_tv (y := bI (S i)) (mk_test c1) ?_
        refine lv_iconst (v := nI 1) hx hb dX1_living_76 (by decide) ?_
        refine lv_icmp_ne (tgt := 151) hx hb dX1_living_77 (by decide) (fun c2 => ?_) (fun c2 => ?_)
        · have c2 : S i = false := by
            cases e : S i
            · rfl
            · exact absurd (bI_eq1.mpr e) c2
          refine lv_iinc (v := nI (i + 1)) (lv' := [(3, .int (nI (i + 1))), (1, .int (mk_ S 20)), (2, .int k), (0, .ref (h 100))]) hx hb dX1_living_151 hl (k := 0) rfl (nI_1 i) (by decide) rfl (fun ls hl => ?_)
          refine lv_goto (tgt := 65) hx hb dX1_living_154 (by decide) ?_
          exact ih (i + 1) S (by omega) (by omega) hS1 hS2 (by have z := ps_step hv c1 hps; rw [st_no c2] at z; exact z) _ _ G ls (lv_sub hl [0, 1, 2, 3] rfl) KK
        · have c2 : S i = true := bI_eq1.mp c2
          refine lv_aload_n hx hb dX1_living_80 rfl (lv_at hl 3 rfl) ?_
          refine lv_aload_n hx hb dX1_living_81 rfl (lv_at hl 3 rfl) ?_
          refine mo_g3 C G dX1_living_82 ?_
          refine lv_iload_n hx hb dX1_living_85 rfl (lv_at hl 0 rfl) ?_
          refine mo_l3 (n := i) (x := eM (v_fa v i)) C G (rfl) (c1) ((hR.1 i c1).2.2.2.1) dX1_living_86 ?_
          refine mo_ci (n := 1) (As := [.int (eM (v_fa v i))]) (rest := []) C G (mm_bit l D h d u (v_fa v i) hb_.2.1) (lw_V q248 q250 qs14 q17 q251) (by decide +kernel) rfl (by decide) rfl (Nat.le_of_ble_eq_true rfl) hl.1 dX1_living_87 (fun ra u8 H locs hp8 G => ?_)
          obtain ⟨era, eu8⟩ := hp8
          rw [eu8] at G
          refine gk_tv (y := eB (v_fa v i)) (era) ?_
          refine lv_istore (lv' := [(4, .int (eB (v_fa v i))), (3, .int (nI i)), (1, .int (mk_ S 20)), (2, .int k), (0, .ref (h 100))]) hx hb dX1_living_90 hl (by decide) rfl (fun ls hl => ?_)
          refine lv_aload_n hx hb dX1_living_92 rfl (lv_at hl 4 rfl) ?_
          refine lv_aload_n hx hb dX1_living_93 rfl (lv_at hl 4 rfl) ?_
          refine mo_g4 C G dX1_living_94 ?_
          refine lv_iload_n hx hb dX1_living_97 rfl (lv_at hl 1 rfl) ?_
          refine mo_l4 (n := i) (x := eM (v_fb v i)) C G (rfl) (c1) ((hR.1 i c1).2.2.2.2) dX1_living_98 ?_
          refine mo_ci (n := 1) (As := [.int (eM (v_fb v i))]) (rest := []) C G (mm_bit l D h d u (v_fb v i) hb_.2.2) (lw_V q248 q250 qs14 q17 q251) (by decide +kernel) rfl (by decide) rfl (Nat.le_of_ble_eq_true rfl) hl.1 dX1_living_99 (fun rb u9 H locs hp9 G => ?_)
          obtain ⟨erb, eu9⟩ := hp9
          rw [eu9] at G
          refine gk_tv (y := eB (v_fb v i)) (erb) ?_
          refine lv_istore (lv' := [(5, .int (eB (v_fb v i))), (4, .int (eB (v_fa v i))), (3, .int (nI i)), (1, .int (mk_ S 20)), (2, .int k), (0, .ref (h 100))]) hx hb dX1_living_102 hl (by decide) rfl (fun ls hl => ?_)
          refine lv_aload_n hx hb dX1_living_104 rfl (lv_at hl 5 rfl) ?_
          refine mo_g1 C G dX1_living_105 ?_
          refine lv_iload_n hx hb dX1_living_108 rfl (lv_at hl 2 rfl) ?_
          refine mo_l1 (n := i) (x := nI (v_ki v i)) C G (rfl) (c1) ((hR.1 i c1).2.1) dX1_living_109 ?_
          refine lv_if_ne (tgt := 121) hx hb dX1_living_110 (by decide) (fun c3 => ?_) (fun c3 => ?_)
          · have c3 : v_ki v i ≠ 0 := fun q => c3 (by rw [q]; rfl)
            refine lv_aload_n hx hb dX1_living_121 rfl (lv_at hl 5 rfl) ?_
            refine mo_g1 C G dX1_living_122 ?_
            refine lv_iload_n hx hb dX1_living_125 rfl (lv_at hl 2 rfl) ?_
            refine mo_l1 (n := i) (x := nI (v_ki v i)) C G (rfl) (c1) ((hR.1 i c1).2.1) dX1_living_126 ?_
            refine lv_iconst (v := nI 1) hx hb dX1_living_127 (by decide) ?_
            refine lv_icmp_eq (tgt := 138) hx hb dX1_living_128 (by decide) (fun c4 => ?_) (fun c4 => ?_)
            · have c4 : v_ki v i = 1 := (ki_cmp hb_.1 (by omega)).mp c4
              have hk2 : (decide (v_ki v i = 1) || (decide (v_ki v i = 2) && m_in S (v_fa v i))) = true := by rw [c4]; rfl
              refine lv_iload hx hb dX1_living_138 (lv_at hl 0 rfl) ?_
              refine lv_goto (tgt := 144) hx hb dX1_living_140 (by decide) ?_
              refine lv_istore (lv' := [(6, .int (eB (v_fb v i))), (5, .int (eB (v_fb v i))), (4, .int (eB (v_fa v i))), (3, .int (nI i)), (1, .int (mk_ S 20)), (2, .int k), (0, .ref (h 100))]) hx hb dX1_living_144 hl (by decide) rfl (fun ls hl => ?_)
              refine lv_iload_n hx hb dX1_living_146 rfl (lv_at hl 4 rfl) ?_
              refine lv_iload hx hb dX1_living_147 (lv_at hl 0 rfl) ?_
              refine lv_ior hx hb dX1_living_149 ?_
              refine gk_tv (y := mk_ (m_st v S i) 20) (st_b c2 c3 hk2 hb_.2.2) ?_
              refine lv_istore_n (lv' := [(1, .int (mk_ (m_st v S i) 20)), (6, .int (eB (v_fb v i))), (5, .int (eB (v_fb v i))), (4, .int (eB (v_fa v i))), (3, .int (nI i)), (2, .int k), (0, .ref (h 100))]) hx hb dX1_living_150 rfl hl (by decide) rfl (fun ls hl => ?_)
              refine lv_iinc (v := nI (i + 1)) (lv' := [(3, .int (nI (i + 1))), (1, .int (mk_ (m_st v S i) 20)), (6, .int (eB (v_fb v i))), (5, .int (eB (v_fb v i))), (4, .int (eB (v_fa v i))), (2, .int k), (0, .ref (h 100))]) hx hb dX1_living_151 hl (k := 4) rfl (nI_1 i) (by decide) rfl (fun ls hl => ?_)
              refine lv_goto (tgt := 65) hx hb dX1_living_154 (by decide) ?_
              exact ih (i + 1) (m_st v S i) (by omega) (by omega) (ms_live hS1 i) (fun o ho => st_sub (hS2 o ho)) (ps_step hv c1 hps) _ _ G ls (lv_sub hl [0, 1, 5, 6] rfl) KK
            · have c4 : v_ki v i = 2 := by
                have : v_ki v i ≠ 1 := fun q => c4 (by rw [q])
                omega
              refine lv_iload hx hb dX1_living_131 (lv_at hl 1 rfl) ?_
              refine lv_iload_n hx hb dX1_living_133 rfl (lv_at hl 3 rfl) ?_
              refine lv_iand hx hb dX1_living_134 ?_
              refine lv_if_eq (tgt := 143) hx hb dX1_living_135 (by decide) (fun c5 => ?_) (fun c5 => ?_)
              · have hk2 : (decide (v_ki v i = 1) || (decide (v_ki v i = 2) && m_in S (v_fa v i))) = false := by
                  rw [c4]
                  cases e : v_fa v i with
                  | none => rfl
                  | some j => exact (and_B hb_.2.1).mp c5 j e
                refine lv_iconst (v := nI 0) hx hb dX1_living_143 (by decide) ?_
                refine lv_istore (lv' := [(6, .int (nI 0)), (5, .int (eB (v_fb v i))), (4, .int (eB (v_fa v i))), (3, .int (nI i)), (1, .int (mk_ S 20)), (2, .int k), (0, .ref (h 100))]) hx hb dX1_living_144 hl (by decide) rfl (fun ls hl => ?_)
                refine lv_iload_n hx hb dX1_living_146 rfl (lv_at hl 4 rfl) ?_
                refine lv_iload hx hb dX1_living_147 (lv_at hl 0 rfl) ?_
                refine lv_ior hx hb dX1_living_149 ?_
                refine gk_tv (y := mk_ (m_st v S i) 20) (st_n c3 hk2) ?_
                refine lv_istore_n (lv' := [(1, .int (mk_ (m_st v S i) 20)), (6, .int (nI 0)), (5, .int (eB (v_fb v i))), (4, .int (eB (v_fa v i))), (3, .int (nI i)), (2, .int k), (0, .ref (h 100))]) hx hb dX1_living_150 rfl hl (by decide) rfl (fun ls hl => ?_)
                refine lv_iinc (v := nI (i + 1)) (lv' := [(3, .int (nI (i + 1))), (1, .int (mk_ (m_st v S i) 20)), (6, .int (nI 0)), (5, .int (eB (v_fb v i))), (4, .int (eB (v_fa v i))), (2, .int k), (0, .ref (h 100))]) hx hb dX1_living_151 hl (k := 4) rfl (nI_1 i) (by decide) rfl (fun ls hl => ?_)
                refine lv_goto (tgt := 65) hx hb dX1_living_154 (by decide) ?_
                exact ih (i + 1) (m_st v S i) (by omega) (by omega) (ms_live hS1 i) (fun o ho => st_sub (hS2 o ho)) (ps_step hv c1 hps) _ _ G ls (lv_sub hl [0, 1, 5, 6] rfl) KK
              · have hk2 : (decide (v_ki v i = 1) || (decide (v_ki v i = 2) && m_in S (v_fa v i))) = true := by
                  have : m_in S (v_fa v i) = true := by
                    cases e : m_in S (v_fa v i)
                    · exact absurd ((and_B hb_.2.1).mpr (fun j ej => by rw [ej] at e; exact e)) c5
                    · rfl
                  rw [c4, this]; rfl
                refine lv_iload hx hb dX1_living_138 (lv_at hl 0 rfl) ?_
                refine lv_goto (tgt := 144) hx hb dX1_living_140 (by decide) ?_
                refine lv_istore (lv' := [(6, .int (eB (v_fb v i))), (5, .int (eB (v_fb v i))), (4, .int (eB (v_fa v i))), (3, .int (nI i)), (1, .int (mk_ S 20)), (2, .int k), (0, .ref (h 100))]) hx hb dX1_living_144 hl (by decide) rfl (fun ls hl => ?_)
                refine lv_iload_n hx hb dX1_living_146 rfl (lv_at hl 4 rfl) ?_
                refine lv_iload hx hb dX1_living_147 (lv_at hl 0 rfl) ?_
                refine lv_ior hx hb dX1_living_149 ?_
                refine gk_tv (y := mk_ (m_st v S i) 20) (st_b c2 c3 hk2 hb_.2.2) ?_
                refine lv_istore_n (lv' := [(1, .int (mk_ (m_st v S i) 20)), (6, .int (eB (v_fb v i))), (5, .int (eB (v_fb v i))), (4, .int (eB (v_fa v i))), (3, .int (nI i)), (2, .int k), (0, .ref (h 100))]) hx hb dX1_living_150 rfl hl (by decide) rfl (fun ls hl => ?_)
                refine lv_iinc (v := nI (i + 1)) (lv' := [(3, .int (nI (i + 1))), (1, .int (mk_ (m_st v S i) 20)), (6, .int (eB (v_fb v i))), (5, .int (eB (v_fb v i))), (4, .int (eB (v_fa v i))), (2, .int k), (0, .ref (h 100))]) hx hb dX1_living_151 hl (k := 4) rfl (nI_1 i) (by decide) rfl (fun ls hl => ?_)
                refine lv_goto (tgt := 65) hx hb dX1_living_154 (by decide) ?_
                exact ih (i + 1) (m_st v S i) (by omega) (by omega) (ms_live hS1 i) (fun o ho => st_sub (hS2 o ho)) (ps_step hv c1 hps) _ _ G ls (lv_sub hl [0, 1, 5, 6] rfl) KK
          · have c3 : v_ki v i = 0 := (ki_cmp hb_.1 (by omega)).mp (show nI (v_ki v i) = nI 0 from c3)
            refine lv_iload hx hb dX1_living_113 (lv_at hl 1 rfl) ?_
            refine lv_iload hx hb dX1_living_115 (lv_at hl 0 rfl) ?_
            refine lv_ior hx hb dX1_living_117 ?_
            refine lv_goto (tgt := 144) hx hb dX1_living_118 (by decide) ?_
            refine lv_istore (lv' := [(6, .int ((eB (v_fa v i)) ||| (eB (v_fb v i)))), (5, .int (eB (v_fb v i))), (4, .int (eB (v_fa v i))), (3, .int (nI i)), (1, .int (mk_ S 20)), (2, .int k), (0, .ref (h 100))]) hx hb dX1_living_144 hl (by decide) rfl (fun ls hl => ?_)
            refine lv_iload_n hx hb dX1_living_146 rfl (lv_at hl 4 rfl) ?_
            refine lv_iload hx hb dX1_living_147 (lv_at hl 0 rfl) ?_
            refine lv_ior hx hb dX1_living_149 ?_
            refine gk_tv (y := mk_ (m_st v S i) 20) (st_0 c2 c3 hb_.2.1 hb_.2.2) ?_
            refine lv_istore_n (lv' := [(1, .int (mk_ (m_st v S i) 20)), (6, .int ((eB (v_fa v i)) ||| (eB (v_fb v i)))), (5, .int (eB (v_fb v i))), (4, .int (eB (v_fa v i))), (3, .int (nI i)), (2, .int k), (0, .ref (h 100))]) hx hb dX1_living_150 rfl hl (by decide) rfl (fun ls hl => ?_)
            refine lv_iinc (v := nI (i + 1)) (lv' := [(3, .int (nI (i + 1))), (1, .int (mk_ (m_st v S i) 20)), (6, .int ((eB (v_fa v i)) ||| (eB (v_fb v i)))), (5, .int (eB (v_fb v i))), (4, .int (eB (v_fa v i))), (2, .int k), (0, .ref (h 100))]) hx hb dX1_living_151 hl (k := 4) rfl (nI_1 i) (by decide) rfl (fun ls hl => ?_)
            refine lv_goto (tgt := 65) hx hb dX1_living_154 (by decide) ?_
            exact ih (i + 1) (m_st v S i) (by omega) (by omega) (ms_live hS1 i) (fun o ho => st_sub (hS2 o ho)) (ps_step hv c1 hps) _ _ G ls (lv_sub hl [0, 1, 5, 6] rfl) KK
  have outer : ∀ (n k : Nat) (S : Nat → Bool), k ≤ 20 → 21 ≤ k + n → (∀ o, S o = true → v_live v o) → (∀ o, v_start v o → S o = true) → (m_cd v S ∨ k ≤ fb_ct S 20) → ∀ (H : Heap) (locs : List Loc), gk_G D (mo_w h d u) A s.heap H locs → ∀ (ls : Array Slot), lv_has ls 7 [(2, .int (nI k)), (1, .int (mk_ S 20)), (0, .ref (h 100))] → W p l e R s m args below meth c H locs 0 0 Q (F0 m 57 ls []) := by
    intro n
    induction n with
    | zero => intro k S h1 h2; exact absurd h2 (by omega)
    | succ n ih =>
      intro k S h1 h2 hS1 hS2 hcd H locs G ls hl
      refine lv_iload_n hx hb dX1_living_57 rfl (lv_at hl 0 rfl) ?_
      refine lv_bipush (v := nI 20) hx hb dX1_living_58 (by decide) ?_
      refine lv_icmp_ge (tgt := 163) hx hb dX1_living_60 (by decide) (fun c1 => ?_) (fun c1 => ?_)
      · have c1 := (nI_leI (a := 20) (b := k) (by omega) (by omega)).mp c1
        have e1 : k = 20 := by omega
        rw [e1] at hcd
        refine lv_iload_n hx hb dX1_living_163 rfl (lv_at hl 1 rfl) ?_
        exact hret (mk_ S 20) u _ _ _ _ G (⟨mo_live hv hS1 hS2 (cd_end hv hcd), rfl⟩) dX1_living_164
      · have c1 : k < 20 := by
          rcases Nat.lt_or_ge k 20 with q | q
          · exact q
          · exact absurd (nI_le q (by omega)) c1
        refine lv_iconst (v := nI 0) hx hb dX1_living_63 (by decide) ?_
        refine lv_istore_n (lv' := [(3, .int (nI 0)), (2, .int (nI k)), (1, .int (mk_ S 20)), (0, .ref (h 100))]) hx hb dX1_living_64 rfl hl (by decide) rfl (fun ls hl => ?_)
        refine inner (nI k) S 21 0 S (by omega) (by omega) hS1 hS2 ps_0 _ _ G ls (lv_sub hl [0, 2, 1, 3] rfl) (fun S1 H locs ls hT1 hT2 hps1 G hl => ?_)
        refine lv_iinc (v := nI (k + 1)) (lv' := [(2, .int (nI (k + 1))), (1, .int (mk_ S1 20)), (0, .ref (h 100))]) hx hb dX1_living_157 hl (k := 1) rfl (nI_1 k) (by decide) rfl (fun ls hl => ?_)
        refine lv_goto (tgt := 57) hx hb dX1_living_160 (by decide) ?_
        exact ih (k + 1) S1 (by omega) (by omega) hT1 hT2 (cd_next hv hcd hps1) _ _ G ls (lv_sub hl [0, 1, 2] rfl)
  have loop2 : ∀ (n i : Nat) (S : Nat → Bool), i ≤ (v_qu v).length → (v_qu v).length + 1 ≤ i + n → m_s0 v S 4 i → ∀ (H : Heap) (locs : List Loc), gk_G D (mo_w h d u) A s.heap H locs → ∀ (ls : Array Slot), lv_has ls 7 [(2, .int (nI i)), (1, .int (mk_ S 20)), (0, .ref (h 100))] → W p l e R s m args below meth c H locs 0 0 Q (F0 m 30 ls []) := by
    intro n
    induction n with
    | zero => intro i S h1 h2; exact absurd h2 (by omega)
    | succ n ih =>
      intro i S h1 h2 hs H locs G ls hl
      refine lv_iload_n hx hb dX1_living_30 rfl (lv_at hl 0 rfl) ?_
      refine lv_aload_n hx hb dX1_living_31 rfl (lv_at hl 2 rfl) ?_
      refine mo_g6 (x := nI (v_qu v).length) C G (hR.2.2.1) dX1_living_32 ?_
      refine lv_icmp_ge (tgt := 55) hx hb dX1_living_35 (by decide) (fun c1 => ?_) (fun c1 => ?_)
      · have c1 := (nI_leI (a := (v_qu v).length) (b := i) (by omega) (by omega)).mp c1
        have e1 : i = (v_qu v).length := by omega
        rw [e1] at hs
        refine lv_iconst (v := nI 0) hx hb dX1_living_55 (by decide) ?_
        refine lv_istore_n (lv' := [(2, .int (nI 0)), (1, .int (mk_ S 20)), (0, .ref (h 100))]) hx hb dX1_living_56 rfl hl (by decide) rfl (fun ls hl => ?_)
        exact outer 21 0 S (by omega) (by omega) (fun o ho => v_live_start (hs.1 o ho)) (s0_start hs) (Or.inr (Nat.zero_le _)) _ _ G ls (lv_sub hl [0, 1, 2] rfl)
      · have c1 : i < (v_qu v).length := by
          rcases Nat.lt_or_ge i ((v_qu v).length) with q | q
          · exact q
          · exact absurd (nI_le q (by omega)) c1
        have hqi := hv.2.2.2.1 _ (getD_mem c1)
        refine lv_iload_n hx hb dX1_living_38 rfl (lv_at hl 1 rfl) ?_
        refine lv_iconst (v := nI 1) hx hb dX1_living_39 (by decide) ?_
        refine lv_aload_n hx hb dX1_living_40 rfl (lv_at hl 2 rfl) ?_
        refine mo_g7 C G dX1_living_41 ?_
        refine lv_iload_n hx hb dX1_living_44 rfl (lv_at hl 0 rfl) ?_
        refine mo_l7 (n := i) (x := nI ((v_qu v).getD i 0)) C G (rfl) (by omega) (hR.2.2.2 i c1) dX1_living_45 ?_
        refine lv_ishl hx hb dX1_living_46 ?_
        refine lv_ior hx hb dX1_living_47 ?_
        refine gk_tv (y := mk_ (fun o => S o || decide (some ((v_qu v).getD i 0) = some o)) 20) (mk_orB (x := some ((v_qu v).getD i 0)) (fun k e => by cases e; exact hqi.1)) ?_
        refine lv_istore_n (lv' := [(1, .int (mk_ (fun o => S o || decide (some ((v_qu v).getD i 0) = some o)) 20)), (2, .int (nI i)), (0, .ref (h 100))]) hx hb dX1_living_48 rfl hl (by decide) rfl (fun ls hl => ?_)
        refine lv_iinc (v := nI (i + 1)) (lv' := [(2, .int (nI (i + 1))), (1, .int (mk_ (fun o => S o || decide (some ((v_qu v).getD i 0) = some o)) 20)), (0, .ref (h 100))]) hx hb dX1_living_49 hl (k := 1) rfl (nI_1 i) (by decide) rfl (fun ls hl => ?_)
        refine lv_goto (tgt := 30) hx hb dX1_living_52 (by decide) ?_
        exact ih (i + 1) _ (by omega) (by omega) (s0_queue hs c1) _ _ G ls (lv_sub hl [0, 1, 2] rfl)
  have loop1 : ∀ (n i : Nat) (S : Nat → Bool), i ≤ 4 → 5 ≤ i + n → m_s0 v S i 0 → ∀ (H : Heap) (locs : List Loc), gk_G D (mo_w h d u) A s.heap H locs → ∀ (ls : Array Slot), lv_has ls 7 [(2, .int (nI i)), (1, .int (mk_ S 20)), (0, .ref (h 100))] → W p l e R s m args below meth c H locs 0 0 Q (F0 m 4 ls []) := by
    intro n
    induction n with
    | zero => intro i S h1 h2; exact absurd h2 (by omega)
    | succ n ih =>
      intro i S h1 h2 hs H locs G ls hl
      refine lv_iload_n hx hb dX1_living_4 rfl (lv_at hl 0 rfl) ?_
      refine lv_iconst (v := nI 4) hx hb dX1_living_5 (by decide) ?_
      refine lv_icmp_ge (tgt := 28) hx hb dX1_living_6 (by decide) (fun c1 => ?_) (fun c1 => ?_)
      · have c1 := (nI_leI (a := 4) (b := i) (by omega) (by omega)).mp c1
        have e1 : i = 4 := by omega
        rw [e1] at hs
        refine lv_iconst (v := nI 0) hx hb dX1_living_28 (by decide) ?_
        refine lv_istore_n (lv' := [(2, .int (nI 0)), (1, .int (mk_ S 20)), (0, .ref (h 100))]) hx hb dX1_living_29 rfl hl (by decide) rfl (fun ls hl => ?_)
        exact loop2 ((v_qu v).length + 1) 0 S (by omega) (by omega) hs _ _ G ls (lv_sub hl [0, 1, 2] rfl)
      · have c1 : i < 4 := by
          rcases Nat.lt_or_ge i 4 with q | q
          · exact q
          · exact absurd (nI_le q (by omega)) c1
        have hro : ∀ k, v_ro v i = some k → k < 20 := fun k e => (hv.2.2.1 i c1 k e).1
        refine lv_iload_n hx hb dX1_living_9 rfl (lv_at hl 1 rfl) ?_
        refine lv_aload_n hx hb dX1_living_10 rfl (lv_at hl 2 rfl) ?_
        refine lv_aload_n hx hb dX1_living_11 rfl (lv_at hl 2 rfl) ?_
        refine mo_g5 C G dX1_living_12 ?_
        refine lv_iload_n hx hb dX1_living_15 rfl (lv_at hl 0 rfl) ?_
        refine mo_l5 (n := i) (x := eM (v_ro v i)) C G (rfl) (c1) (hR.2.1 i c1) dX1_living_16 ?_
        refine mo_ci (n := 1) (As := [.int (eM (v_ro v i))]) (rest := [.int (mk_ S 20)]) C G (mm_bit l D h d u (v_ro v i) hro) (lw_V q248 q250 qs14 q17 q251) (by decide +kernel) rfl (by decide) rfl (Nat.le_of_ble_eq_true rfl) hl.1 dX1_living_17 (fun ra u8 H locs hp8 G => ?_)
        obtain ⟨era, eu8⟩ := hp8
        rw [eu8] at G
        refine gk_tv (y := eB (v_ro v i)) (era) ?_
        refine lv_ior hx hb dX1_living_20 ?_
        refine gk_tv (y := mk_ (fun o => S o || decide (v_ro v i = some o)) 20) (mk_orB hro) ?_
        refine lv_istore_n (lv' := [(1, .int (mk_ (fun o => S o || decide (v_ro v i = some o)) 20)), (2, .int (nI i)), (0, .ref (h 100))]) hx hb dX1_living_21 rfl hl (by decide) rfl (fun ls hl => ?_)
        refine lv_iinc (v := nI (i + 1)) (lv' := [(2, .int (nI (i + 1))), (1, .int (mk_ (fun o => S o || decide (v_ro v i = some o)) 20)), (0, .ref (h 100))]) hx hb dX1_living_22 hl (k := 1) rfl (nI_1 i) (by decide) rfl (fun ls hl => ?_)
        refine lv_goto (tgt := 4) hx hb dX1_living_25 (by decide) ?_
        exact ih (i + 1) _ (by omega) (by omega) (s0_root hs c1) _ _ G ls (lv_sub hl [0, 1, 2] rfl)
  refine lv_iconst (v := nI 0) hx hb dX1_living_0 (by decide) ?_
  refine gk_tv (y := mk_ (fun _ => false) 20) (mk_f0.symm) ?_
  refine lv_istore_n (lv' := [(1, .int (mk_ (fun _ => false) 20)), (0, .ref (h 100))]) hx hb dX1_living_1 rfl hl (by decide) rfl (fun ls hl => ?_)
  refine lv_iconst (v := nI 0) hx hb dX1_living_2 (by decide) ?_
  refine lv_istore_n (lv' := [(2, .int (nI 0)), (1, .int (mk_ (fun _ => false) 20)), (0, .ref (h 100))]) hx hb dX1_living_3 rfl hl (by decide) rfl (fun ls hl => ?_)
  exact loop1 5 0 _ (by omega) (by omega) ⟨fun o ho => (by cases ho), fun r hr => absurd hr (Nat.not_lt_zero r), fun a ha => absurd ha (Nat.not_lt_zero a)⟩ _ _ G ls (lv_sub hl [0, 1, 2] rfl)
end
section
/-! what the reference's small calls do to the value -/
theorem M_mk {u : gS} {v : eV} (h : mo_R u v) {o k r : Nat} : mo_R (gA (gA (gA (gA (gA (gA u 0 o (nI 1)) 1 o (nI k)) 2 o (nI 0)) 3 o (nI 0)) 4 o (nI 0)) 5 r (nI (o + 1))) (v_mk v o k r) := by
  obtain ⟨h1, h2, h3, h4⟩ := h
  refine ⟨fun x hx => ?_, fun r' hr' => ?_, h3, h4⟩
  · obtain ⟨a1, a2, a3, a4, a5⟩ := h1 x hx
    refine ⟨?_, ?_, ?_, ?_, ?_⟩
    · show (if x = o then nI 1 else u.2 0 x) = bI (if x = o then true else v_he v x)
      by_cases q : x = o
      · rw [if_pos q, if_pos q]; rfl
      · rw [if_neg q, if_neg q]; exact a1
    · show (if x = o then nI k else u.2 1 x) = nI (if x = o then k else v_ki v x)
      by_cases q : x = o
      · rw [if_pos q, if_pos q]
      · rw [if_neg q, if_neg q]; exact a2
    · show (if x = o then nI 0 else u.2 2 x) = bI (if x = o then false else v_ey v x)
      by_cases q : x = o
      · rw [if_pos q, if_pos q]; rfl
      · rw [if_neg q, if_neg q]; exact a3
    · show (if x = o then nI 0 else u.2 3 x) = eM (if x = o then none else v_fa v x)
      by_cases q : x = o
      · rw [if_pos q, if_pos q]; rfl
      · rw [if_neg q, if_neg q]; exact a4
    · show (if x = o then nI 0 else u.2 4 x) = eM (if x = o then none else v_fb v x)
      by_cases q : x = o
      · rw [if_pos q, if_pos q]; rfl
      · rw [if_neg q, if_neg q]; exact a5
  · show (if r' = r then nI (o + 1) else u.2 5 r') = eM (if r' = r then some o else v_ro v r')
    by_cases q : r' = r
    · rw [if_pos q, if_pos q]; rfl
    · rw [if_neg q, if_neg q]; exact h2 r' hr'
theorem M_setA1 {u : gS} {v : eV} (h : mo_R u v) (o : Nat) (x : Option Nat) : mo_R (gA u 3 o (eM x)) (v_setA v o x) := by
  obtain ⟨h1, h2, h3, h4⟩ := h
  refine ⟨fun y hy => ?_, h2, h3, h4⟩
  obtain ⟨a1, a2, a3, a4, a5⟩ := h1 y hy
  refine ⟨a1, a2, a3, ?_, a5⟩
  show (if y = o then eM x else u.2 3 y) = eM (if y = o then x else v_fa v y)
  by_cases q : y = o
  · rw [if_pos q, if_pos q]
  · rw [if_neg q, if_neg q]; exact a4
theorem M_setB1 {u : gS} {v : eV} (h : mo_R u v) (o : Nat) (x : Option Nat) : mo_R (gA u 4 o (eM x)) (v_setB v o x) := by
  obtain ⟨h1, h2, h3, h4⟩ := h
  refine ⟨fun y hy => ?_, h2, h3, h4⟩
  obtain ⟨a1, a2, a3, a4, a5⟩ := h1 y hy
  refine ⟨a1, a2, a3, a4, ?_⟩
  show (if y = o then eM x else u.2 4 y) = eM (if y = o then x else v_fb v y)
  by_cases q : y = o
  · rw [if_pos q, if_pos q]
  · rw [if_neg q, if_neg q]; exact a5
theorem up_same {α : Type} (f : Nat → α) (o : Nat) : va_up f o (f o) = f := funext fun j => by
  unfold va_up
  by_cases q : j = o
  · rw [if_pos q, q]
  · rw [if_neg q]
theorem setB_same (v : eV) (o : Nat) : v_setB v o (v_fb v o) = v := by
  show (v_he v, v_ki v, v_ey v, v_fa v, va_up (v_fb v) o (v_fb v o), v_ro v, v_qu v) = v
  rw [up_same]
theorem setA_same (v : eV) (o : Nat) : v_setA v o (v_fa v o) = v := by
  show (v_he v, v_ki v, v_ey v, va_up (v_fa v) o (v_fa v o), v_fb v, v_ro v, v_qu v) = v
  rw [up_same]
theorem M_pa {u : gS} {v : eV} (h : mo_R u v) (o : Nat) (x : Option Nat) : mo_R (gA (gA u 3 o (eM x)) 4 o (eM (v_fb v o))) (v_setA v o x) := by
  have z := M_setB1 (M_setA1 h o x) o (v_fb v o)
  have e : v_setB (v_setA v o x) o (v_fb v o) = v_setA v o x := setB_same (v_setA v o x) o
  rw [e] at z
  exact z
theorem M_pb {u : gS} {v : eV} (h : mo_R u v) (o : Nat) (x : Option Nat) : mo_R (gA (gA u 3 o (eM (v_fa v o))) 4 o (eM x)) (v_setB v o x) := by
  have z := M_setA1 h o (v_fa v o)
  rw [setA_same v o] at z
  exact M_setB1 z o x
theorem M_setR {u : gS} {v : eV} (h : mo_R u v) (r : Nat) (x : Option Nat) : mo_R (gA u 5 r (eM x)) (v_setR v r x) := by
  obtain ⟨h1, h2, h3, h4⟩ := h
  refine ⟨h1, fun r' hr' => ?_, h3, h4⟩
  show (if r' = r then eM x else u.2 5 r') = eM (if r' = r then x else v_ro v r')
  by_cases q : r' = r
  · rw [if_pos q, if_pos q]
  · rw [if_neg q, if_neg q]; exact h2 r' hr'
theorem M_setE {u : gS} {v : eV} (h : mo_R u v) (o : Nat) (b : Bool) : mo_R (gA u 2 o (bI b)) (v_setE v o b) := by
  obtain ⟨h1, h2, h3, h4⟩ := h
  refine ⟨fun y hy => ?_, h2, h3, h4⟩
  obtain ⟨a1, a2, a3, a4, a5⟩ := h1 y hy
  refine ⟨a1, a2, ?_, a4, a5⟩
  show (if y = o then bI b else u.2 2 y) = bI (if y = o then b else v_ey v y)
  by_cases q : y = o
  · rw [if_pos q, if_pos q]
  · rw [if_neg q, if_neg q]; exact a3
def mo_R9 (u : gS) (v : eV) : Prop := (∀ o, o < 20 → u.2 0 o = bI (v_he v o) ∧ u.2 1 o = nI (v_ki v o) ∧ u.2 2 o = bI (v_ey v o) ∧ u.2 3 o = eM (v_fa v o) ∧ u.2 4 o = eM (v_fb v o)) ∧ (∀ r, r < 4 → u.2 5 r = eM (v_ro v r))
theorem M9_to {u : gS} {v : eV} (h : mo_R9 u v) (q : List Nat) (a : u.1 6 = nI q.length) (b : ∀ i, i < q.length → u.2 7 i = nI (q.getD i 0)) : mo_R u (v_setQ v q) := ⟨h.1, h.2, a, b⟩
theorem rt_neg {r : Int32} (h : r < 0) : v_root r = false := by unfold v_root; rw [decide_eq_false (fun q => q h)]; rfl
theorem rt_big {r : Int32} (h : nI 3 < r) : v_root r = false := by
  unfold v_root
  rw [decide_eq_false (show ¬ r < nI 4 from fun q => ?_)]
  · simp
  · have h1 := Int32.lt_iff_toInt_lt.mp h
    have h2 := Int32.lt_iff_toInt_lt.mp q
    rw [nI_toInt (by omega)] at h1 h2
    omega
theorem rt_ok {r : Int32} (h1 : ¬ r < 0) (h2 : ¬ nI 3 < r) : ∃ n, n < 4 ∧ r = nI n := by
  obtain ⟨j, hj, e⟩ := nI_of2 (M := nI 3) (n := 3) rfl h1 (Int32.not_lt.mp h2)
  exact ⟨j, by omega, e⟩
/-- the queue gets one more -/
theorem M_queue {u : gS} {v : eV} (h : mo_R u v) {i : Nat} : mo_R (gA (gI (gA u 7 (v_qu v).length (nI i)) 6 (nI ((v_qu v).length + 1))) 2 i (nI 0)) (v_setQ (v_setE v i false) (v_qu v ++ [i])) := by
  have z := M_setE h i false
  obtain ⟨h1, h2, h3, h4⟩ := z
  refine ⟨h1, h2, ?_, fun a ha => ?_⟩
  · show nI ((v_qu v).length + 1) = nI (v_qu v ++ [i]).length
    rw [List.length_append]; rfl
  · have ha : a < (v_qu v ++ [i]).length := ha
    rw [List.length_append] at ha
    have ha : a < (v_qu v).length + 1 := ha
    show (if a = (v_qu v).length then nI i else u.2 7 a) = nI ((v_qu v ++ [i]).getD a 0)
    by_cases q : a = (v_qu v).length
    · rw [if_pos q, q, getD_app_eq]
    · rw [if_neg q, getD_app_lt (by omega)]
      exact h.2.2.2 a (by omega)
/-- clean's second loop: the first i are done -/
def v_part (v : eV) (B A : Nat → Bool) (i : Nat) : eV := (fun o => if o < i then v_he v o && A o else v_he v o, v_ki v, v_ey v, fun o => if o < i then v_fa2 v B A o else v_fa v o, fun o => if o < i then v_fb2 v B A o else v_fb v o, v_ro v, v_qu v)
theorem part_0 {v : eV} {B A : Nat → Bool} {u : gS} (h : mo_R u v) : mo_R u (v_part v B A 0) := h
theorem part_step {v : eV} {B A : Nat → Bool} {i : Nat} {u : gS} (h : mo_R u (v_part v B A i)) : mo_R (gA (gA (gA u 3 i (eM (v_fa2 v B A i))) 4 i (eM (v_fb2 v B A i))) 0 i (bI (v_he v i && A i))) (v_part v B A (i + 1)) := by
  obtain ⟨h1, h2, h3, h4⟩ := h
  refine ⟨fun x hx => ?_, h2, h3, h4⟩
  obtain ⟨a1, a2, a3, a4, a5⟩ := h1 x hx
  refine ⟨?_, a2, a3, ?_, ?_⟩
  · have a1 : u.2 0 x = bI (if x < i then v_he v x && A x else v_he v x) := a1
    show (if x = i then bI (v_he v i && A i) else u.2 0 x) = bI (if x < i + 1 then v_he v x && A x else v_he v x)
    by_cases q : x = i
    · rw [if_pos q, if_pos (by omega), q]
    · rw [if_neg q, a1]
      by_cases z : x < i
      · rw [if_pos z, if_pos (by omega)]
      · rw [if_neg z, if_neg (by omega)]
  · have a4 : u.2 3 x = eM (if x < i then v_fa2 v B A x else v_fa v x) := a4
    show (if x = i then eM (v_fa2 v B A i) else u.2 3 x) = eM (if x < i + 1 then v_fa2 v B A x else v_fa v x)
    by_cases q : x = i
    · rw [if_pos q, if_pos (by omega), q]
    · rw [if_neg q, a4]
      by_cases z : x < i
      · rw [if_pos z, if_pos (by omega)]
      · rw [if_neg z, if_neg (by omega)]
  · have a5 : u.2 4 x = eM (if x < i then v_fb2 v B A x else v_fb v x) := a5
    show (if x = i then eM (v_fb2 v B A i) else u.2 4 x) = eM (if x < i + 1 then v_fb2 v B A x else v_fb v x)
    by_cases q : x = i
    · rw [if_pos q, if_pos (by omega), q]
    · rw [if_neg q, a5]
      by_cases z : x < i
      · rw [if_pos z, if_pos (by omega)]
      · rw [if_neg z, if_neg (by omega)]
theorem part_at {v : eV} {B A : Nat → Bool} {i : Nat} {u : gS} (h : mo_R u (v_part v B A i)) (hi : i < 20) : u.2 0 i = bI (v_he v i) ∧ u.2 1 i = nI (v_ki v i) ∧ u.2 3 i = eM (v_fa v i) ∧ u.2 4 i = eM (v_fb v i) := by
  obtain ⟨a1, a2, a3, a4, a5⟩ := h.1 i hi
  have a1 : u.2 0 i = bI (if i < i then v_he v i && A i else v_he v i) := a1
  have a4 : u.2 3 i = eM (if i < i then v_fa2 v B A i else v_fa v i) := a4
  have a5 : u.2 4 i = eM (if i < i then v_fb2 v B A i else v_fb v i) := a5
  rw [if_neg (Nat.lt_irrefl i)] at a1 a4 a5
  exact ⟨a1, a2, a4, a5⟩
theorem part_end {v : eV} {u : gS} (h : mo_R u (v_part (v_res v (v_lb v) 20) (v_lb v) (v_lb (v_res v (v_lb v) 20)) 20)) : mo_R u (v_cln v) := by
  obtain ⟨h1, h2, h3, h4⟩ := h
  refine ⟨fun x hx => ?_, h2, h3, h4⟩
  obtain ⟨a1, a2, a3, a4, a5⟩ := h1 x hx
  have a1 : u.2 0 x = bI (if x < 20 then v_he v x && v_lb (v_res v (v_lb v) 20) x else v_he v x) := a1
  have a4 : u.2 3 x = eM (if x < 20 then v_fa2 (v_res v (v_lb v) 20) (v_lb v) (v_lb (v_res v (v_lb v) 20)) x else v_fa v x) := a4
  have a5 : u.2 4 x = eM (if x < 20 then v_fb2 (v_res v (v_lb v) 20) (v_lb v) (v_lb (v_res v (v_lb v) 20)) x else v_fb v x) := a5
  rw [if_pos hx] at a1 a4 a5
  exact ⟨a1, a2, a3, a4, a5⟩
/-- flags -/
def m_wk (v : eV) (B : Nat → Bool) (i : Nat) : Bool := decide (v_ki v i = 1) && v_out B (v_fa v i)
def m_pr (v : eV) (A : Nat → Bool) (i : Nat) : Bool := decide (v_ki v i = 2) && v_out A (v_fa v i)
theorem fa2_flags {v : eV} {B A : Nat → Bool} {i : Nat} : v_fa2 v B A i = if (m_wk v B i || m_pr v A i) = true then none else v_fa v i := by
  unfold v_fa2 m_wk m_pr
  simp only [Bool.or_eq_true, Bool.and_eq_true, decide_eq_true_eq]
theorem eM_0 {x : Option Nat} (h : ∀ k, x = some k → k < 20) : eM x = 0 ↔ x = none := by
  cases x with
  | none => exact ⟨fun _ => rfl, fun _ => rfl⟩
  | some k => exact ⟨fun q => absurd q (nI_ne0 (by omega) (by have := h k rfl; omega)), fun q => by cases q⟩
theorem wk_f1 {v : eV} {B : Nat → Bool} {i : Nat} (h : ¬ v_ki v i = 1) : m_wk v B i = false := by unfold m_wk; rw [decide_eq_false h]; rfl
theorem pr_f1 {v : eV} {A : Nat → Bool} {i : Nat} (h : ¬ v_ki v i = 2) : m_pr v A i = false := by unfold m_pr; rw [decide_eq_false h]; rfl
theorem wk_2 {v : eV} {B : Nat → Bool} {i : Nat} (h : v_ki v i = 1) : m_wk v B i = v_out B (v_fa v i) := by unfold m_wk; rw [decide_eq_true h]; rfl
theorem pr_2 {v : eV} {A : Nat → Bool} {i : Nat} (h : v_ki v i = 2) : m_pr v A i = v_out A (v_fa v i) := by unfold m_pr; rw [decide_eq_true h]; rfl
theorem hn_1 {a b : Bool} (h1 : a = true) (h2 : (a && !b) = true) : nI 0 = bI (a && b) := by
  cases a <;> cases b <;> simp_all <;> rfl
theorem hn_2 {a b : Bool} (h1 : a = true) (h2 : (a && !b) = false) : nI 1 = bI (a && b) := by
  cases a <;> cases b <;> simp_all <;> rfl
end
section
/-! EphemeronHeapModel: the calls but clean -/
set_option maxHeartbeats 4000000 in
set_option maxRecDepth 100000 in
/-- make(kind, r) -/
theorem mm_make (l : Launch) (D : va_G) (h : Nat → Nat) (d : Nat → ClassId) (u : gS) (v : eV) (x y : Int32) (hv : v_inv v) (hR : mo_R u v) : gk_Mi l D (mo_t d) (mo_w h d) yX1_make cX1_make 4 .int 0 0 [.ref (h 100), .int x, .int y] u (fun r u' => r = (o_make v x y).1 ∧ mo_R u' (o_make v x y).2) := by
  refine gk_oi (own := RX1) (by decide) rfl (Nat.le_of_ble_eq_true rfl) (fun _ _ _ => rfl) ?_
  intro p e R s m args below meth c Q A ls C G hret hl
  have hx := C.1.1
  have hb := C.1.2.1
  have hl : lv_has ls 4 [(0, .ref (h 100)), (1, .int x), (2, .int y)] := hl
  refine lv_iload_n hx hb dX1_make_0 rfl (lv_at hl 1 rfl) ?_
  refine lv_if_lt (tgt := 18) hx hb dX1_make_1 (by decide) (fun c1 => ?_) (fun c1 => ?_)
  · refine lv_iconst (v := -1) hx hb dX1_make_18 (by decide) ?_
    exact hret (-1) u _ _ _ _ G (⟨by rw [make_bad (Or.inl c1)], by rw [make_bad (Or.inl c1)]; exact hR⟩) dX1_make_19
  · refine lv_iload_n hx hb dX1_make_4 rfl (lv_at hl 1 rfl) ?_
    refine lv_iconst (v := nI 2) hx hb dX1_make_5 (by decide) ?_
    refine lv_icmp_gt (tgt := 18) hx hb dX1_make_6 (by decide) (fun c2 => ?_) (fun c2 => ?_)
    · refine lv_iconst (v := -1) hx hb dX1_make_18 (by decide) ?_
      exact hret (-1) u _ _ _ _ G (⟨by rw [make_bad (Or.inr (Or.inl c2))], by rw [make_bad (Or.inr (Or.inl c2))]; exact hR⟩) dX1_make_19
    · refine lv_iload_n hx hb dX1_make_9 rfl (lv_at hl 2 rfl) ?_
      refine lv_if_lt (tgt := 18) hx hb dX1_make_10 (by decide) (fun c3 => ?_) (fun c3 => ?_)
      · refine lv_iconst (v := -1) hx hb dX1_make_18 (by decide) ?_
        exact hret (-1) u _ _ _ _ G (⟨by rw [make_bad (Or.inr (Or.inr (rt_neg c3)))], by rw [make_bad (Or.inr (Or.inr (rt_neg c3)))]; exact hR⟩) dX1_make_19
      · refine lv_iload_n hx hb dX1_make_13 rfl (lv_at hl 2 rfl) ?_
        refine lv_iconst (v := nI 3) hx hb dX1_make_14 (by decide) ?_
        refine lv_icmp_le (tgt := 20) hx hb dX1_make_15 (by decide) (fun c4 => ?_) (fun c4 => ?_)
        · have c4 : ¬ nI 3 < y := Int32.not_lt.mpr c4
          obtain ⟨rr, hrr, er⟩ := rt_ok c3 c4
          have hgood : ¬ (x < 0 ∨ nI 2 < x ∨ v_root y = false) := by
            rintro (q | q | q)
            · exact c1 q
            · exact c2 q
            · rw [er, v_root_nI hrr] at q; cases q
          obtain ⟨kk, hkk, ek⟩ := nI_of2 (M := nI 2) (n := 2) rfl c1 (Int32.not_lt.mp c2)
          have loop : ∀ (n i : Nat), i ≤ 20 → 21 ≤ i + n → (∀ j, j < i → v_he v j = true) → ∀ (ls : Array Slot), lv_has ls 4 [(3, .int (nI i)), (0, .ref (h 100)), (1, .int x), (2, .int y)] → W p l e R s m args below meth c s.heap [] 0 0 Q (F0 m 22 ls []) := by
            intro n
            induction n with
            | zero => intro i h1 h2; exact absurd h2 (by omega)
            | succ n ih =>
              intro i h1 h2 hall ls hl
              refine lv_iload_n hx hb dX1_make_22 rfl (lv_at hl 0 rfl) ?_
              refine lv_bipush (v := nI 20) hx hb dX1_make_23 (by decide) ?_
              refine lv_icmp_ge (tgt := 89) hx hb dX1_make_25 (by decide) (fun c5 => ?_) (fun c5 => ?_)
              · have c5 := (nI_leI (a := 20) (b := i) (by omega) (by omega)).mp c5
                refine lv_bipush (v := -2) hx hb dX1_make_89 (by decide) ?_
                exact hret (-2) u _ _ _ _ G (⟨by rw [make_full hgood (fun j hj => hall j (by omega))], by rw [make_full hgood (fun j hj => hall j (by omega))]; exact hR⟩) dX1_make_91
              · have c5 : i < 20 := by
                  rcases Nat.lt_or_ge i 20 with q | q
                  · exact q
                  · exact absurd (nI_le q (by omega)) c5
                refine lv_aload_n hx hb dX1_make_28 rfl (lv_at hl 1 rfl) ?_
                refine mo_g0 C G dX1_make_29 ?_
                refine lv_iload_n hx hb dX1_make_32 rfl (lv_at hl 0 rfl) ?_
                refine mo_l0 (n := i) (x := bI (v_he v i)) C G (rfl) (c5) ((hR.1 i c5).1) dX1_make_33 ?_
                refine lv_if_ne (tgt := 83) hx hb dX1_make_34 (by decide) (fun c6 => ?_) (fun c6 => ?_)
                · refine lv_iinc (v := nI (i + 1)) (lv' := [(3, .int (nI (i + 1))), (0, .ref (h 100)), (1, .int x), (2, .int y)]) hx hb dX1_make_83 hl (k := 0) rfl (nI_1 i) (by decide) rfl (fun ls hl => ?_)
                  refine lv_goto (tgt := 22) hx hb dX1_make_86 (by decide) ?_
                  exact ih (i + 1) (by omega) (by omega) (fun j hj => by
                    rcases Nat.lt_or_ge j i with q | q
                    · exact hall j q
                    · rw [show j = i by omega]; exact bI_ne.mp c6) ls (lv_sub hl [0, 1, 2, 3] rfl)
                · have hfr : v_he v i = false := bI_eq.mp c6
                  refine lv_aload_n hx hb dX1_make_37 rfl (lv_at hl 1 rfl) ?_
                  refine mo_g0 C G dX1_make_38 ?_
                  refine lv_iload_n hx hb dX1_make_41 rfl (lv_at hl 0 rfl) ?_
                  refine lv_iconst (v := nI 1) hx hb dX1_make_42 (by decide) ?_
                  refine mo_s0 (n := i) (x := nI 1) C G (rfl) (c5) (nz_1) dX1_make_43 (fun H locs G => ?_)
                  refine lv_aload_n hx hb dX1_make_44 rfl (lv_at hl 1 rfl) ?_
                  refine mo_g1 C G dX1_make_45 ?_
                  refine lv_iload_n hx hb dX1_make_48 rfl (lv_at hl 0 rfl) ?_
                  refine lv_iload_n hx hb dX1_make_49 rfl (lv_at hl 2 rfl) ?_
                  refine mo_s1 (n := i) (x := nI kk) C G (rfl) (c5) (ek) dX1_make_50 (fun H locs G => ?_)
                  refine lv_aload_n hx hb dX1_make_51 rfl (lv_at hl 1 rfl) ?_
                  refine mo_g2 C G dX1_make_52 ?_
                  refine lv_iload_n hx hb dX1_make_55 rfl (lv_at hl 0 rfl) ?_
                  refine lv_iconst (v := nI 0) hx hb dX1_make_56 (by decide) ?_
                  refine mo_s2 (n := i) (x := nI 0) C G (rfl) (c5) (nz_0) dX1_make_57 (fun H locs G => ?_)
                  refine lv_aload_n hx hb dX1_make_58 rfl (lv_at hl 1 rfl) ?_
                  refine mo_g3 C G dX1_make_59 ?_
                  refine lv_iload_n hx hb dX1_make_62 rfl (lv_at hl 0 rfl) ?_
                  refine lv_iconst (v := nI 0) hx hb dX1_make_63 (by decide) ?_
                  refine mo_s3 (n := i) (x := nI 0) C G (rfl) (c5) (rfl) dX1_make_64 (fun H locs G => ?_)
                  refine lv_aload_n hx hb dX1_make_65 rfl (lv_at hl 1 rfl) ?_
                  refine mo_g4 C G dX1_make_66 ?_
                  refine lv_iload_n hx hb dX1_make_69 rfl (lv_at hl 0 rfl) ?_
                  refine lv_iconst (v := nI 0) hx hb dX1_make_70 (by decide) ?_
                  refine mo_s4 (n := i) (x := nI 0) C G (rfl) (c5) (rfl) dX1_make_71 (fun H locs G => ?_)
                  refine lv_aload_n hx hb dX1_make_72 rfl (lv_at hl 1 rfl) ?_
                  refine mo_g5 C G dX1_make_73 ?_
                  refine lv_iload_n hx hb dX1_make_76 rfl (lv_at hl 3 rfl) ?_
                  refine lv_iload_n hx hb dX1_make_77 rfl (lv_at hl 0 rfl) ?_
                  refine lv_iconst (v := nI 1) hx hb dX1_make_78 (by decide) ?_
                  refine lv_iadd hx hb dX1_make_79 ?_
                  refine mo_s5 (n := rr) (x := nI (i + 1)) C G (er) (hrr) (nI_1 i) dX1_make_80 (fun H locs G => ?_)
                  refine lv_iload_n hx hb dX1_make_81 rfl (lv_at hl 0 rfl) ?_
                  exact hret (nI i) _ _ _ _ _ G (⟨by rw [make_at hgood c5 hfr hall ek hkk er hrr], by rw [make_at hgood c5 hfr hall ek hkk er hrr]; exact M_mk hR⟩) dX1_make_82
          refine lv_iconst (v := nI 0) hx hb dX1_make_20 (by decide) ?_
          refine lv_istore_n (lv' := [(3, .int (nI 0)), (0, .ref (h 100)), (1, .int x), (2, .int y)]) hx hb dX1_make_21 rfl hl (by decide) rfl (fun ls hl => ?_)
          exact loop 21 0 (by omega) (by omega) (fun j hj => absurd hj (Nat.not_lt_zero j)) ls hl
        · refine lv_iconst (v := -1) hx hb dX1_make_18 (by decide) ?_
          exact hret (-1) u _ _ _ _ G (⟨by rw [make_bad (Or.inr (Or.inr (rt_big (Int32.not_le.mp c4))))], by rw [make_bad (Or.inr (Or.inr (rt_big (Int32.not_le.mp c4))))]; exact hR⟩) dX1_make_19
set_option maxHeartbeats 4000000 in
set_option maxRecDepth 100000 in
/-- point(o, which, p) -/
theorem mm_point (l : Launch) (D : va_G) (h : Nat → Nat) (d : Nat → ClassId) (u : gS) (v : eV) (x y z : Int32) (hv : v_inv v) (hR : mo_R u v) : gk_Mi l D (mo_t d) (mo_w h d) yX1_point cX1_point 4 .boolean 1 21 [.ref (h 100), .int x, .int y, .int z] u (fun r u' => r = bI (decide ((o_point v x y z).1 = nI 1)) ∧ r = (o_point v x y z).1 ∧ mo_R u' (o_point v x y z).2) := by
  refine gk_oi (own := RX1) (by decide) rfl (Nat.le_of_ble_eq_true rfl) (fun r u' q => by rw [q.1]; exact bI_range _) ?_
  intro p e R s m args below meth c Q A ls C G hret hl
  have hx := C.1.1
  have hb := C.1.2.1
  have hl : lv_has ls 4 [(0, .ref (h 100)), (1, .int x), (2, .int y), (3, .int z)] := hl
  refine lv_aload_n hx hb dX1_point_0 rfl (lv_at hl 0 rfl) ?_
  refine lv_iload_n hx hb dX1_point_1 rfl (lv_at hl 1 rfl) ?_
  refine mo_ci (n := 1) (As := [.int x]) (rest := []) C G (mm_is l D h d u v x hR) (lw_V q228 q230 qs12 q17 q231) (by decide +kernel) rfl (by decide) rfl (Nat.le_of_ble_eq_true rfl) hl.1 dX1_point_2 (fun rh u9 H locs hp9 G => ?_)
  obtain ⟨er9, eu9⟩ := hp9
  rw [eu9] at G
  refine gk_tv (y := bI (v_has v x)) (er9) ?_
  refine lv_if_eq (tgt := 30) hx hb dX1_point_5 (by decide) (fun c0 => ?_) (fun c0 => ?_)
  · refine lv_iconst (v := nI 0) hx hb dX1_point_30 (by decide) ?_
    exact hret (nI 0) u _ _ _ _ G (⟨by rw [pt_f (by rw [bI_eq.mp c0]; rfl)]; rfl, by rw [pt_f (by rw [bI_eq.mp c0]; rfl)], by rw [pt_f (by rw [bI_eq.mp c0]; rfl)]; exact hR⟩) dX1_point_31
  · obtain ⟨n, hn, ex, hh⟩ := v_has_of (bI_ne.mp c0)
    have J2 : v_okp v z = true → (y = 0 ∨ y = nI 1) → ∀ (H : Heap) (locs : List Loc), gk_G D (mo_w h d u) A s.heap H locs → W p l e R s m args below meth c H locs 0 0 Q (F0 m 32 ls []) := by
      intro hz hw H locs G
      rcases hw with hw | hw
      · refine lv_aload_n hx hb dX1_point_32 rfl (lv_at hl 0 rfl) ?_
        refine mo_g3 C G dX1_point_33 ?_
        refine lv_iload_n hx hb dX1_point_36 rfl (lv_at hl 1 rfl) ?_
        refine lv_iload_n hx hb dX1_point_37 rfl (lv_at hl 2 rfl) ?_
        refine lv_if_ne (tgt := 47) hx hb dX1_point_38 (by decide) (fun c_ => absurd (hw) c_) (fun _ => ?_)
        refine lv_iload_n hx hb dX1_point_41 rfl (lv_at hl 3 rfl) ?_
        refine lv_iconst (v := nI 1) hx hb dX1_point_42 (by decide) ?_
        refine lv_iadd hx hb dX1_point_43 ?_
        refine lv_goto (tgt := 53) hx hb dX1_point_44 (by decide) ?_
        refine gk_tv (y := eM (v_ref z)) (eM_ref hz) ?_
        refine mo_s3 (n := n) (x := eM (v_ref z)) C G (ex) (hn) (rfl) dX1_point_53 (fun H locs G => ?_)
        refine lv_aload_n hx hb dX1_point_54 rfl (lv_at hl 0 rfl) ?_
        refine mo_g4 C G dX1_point_55 ?_
        refine lv_iload_n hx hb dX1_point_58 rfl (lv_at hl 1 rfl) ?_
        refine lv_iload_n hx hb dX1_point_59 rfl (lv_at hl 2 rfl) ?_
        refine lv_iconst (v := nI 1) hx hb dX1_point_60 (by decide) ?_
        refine lv_icmp_ne (tgt := 70) hx hb dX1_point_61 (by decide) (fun _ => ?_) (fun c_ => absurd c_ (by rw [hw]; decide))
        refine lv_aload_n hx hb dX1_point_70 rfl (lv_at hl 0 rfl) ?_
        refine mo_g4 C G dX1_point_71 ?_
        refine lv_iload_n hx hb dX1_point_74 rfl (lv_at hl 1 rfl) ?_
        refine mo_l4 (n := n) (x := eM (v_fb v n)) C G (ex) (hn) ((hR.1 n hn).2.2.2.2) dX1_point_75 ?_
        refine mo_s4 (n := n) (x := eM (v_fb v n)) C G (ex) (hn) (rfl) dX1_point_76 (fun H locs G => ?_)
        refine lv_iconst (v := nI 1) hx hb dX1_point_77 (by decide) ?_
        exact hret (nI 1) _ _ _ _ _ G (⟨by rw [pt_a hn ex hh hz hw]; rfl, by rw [pt_a hn ex hh hz hw], by rw [pt_a hn ex hh hz hw]; exact M_pa hR n _⟩) dX1_point_78
      · refine lv_aload_n hx hb dX1_point_32 rfl (lv_at hl 0 rfl) ?_
        refine mo_g3 C G dX1_point_33 ?_
        refine lv_iload_n hx hb dX1_point_36 rfl (lv_at hl 1 rfl) ?_
        refine lv_iload_n hx hb dX1_point_37 rfl (lv_at hl 2 rfl) ?_
        refine lv_if_ne (tgt := 47) hx hb dX1_point_38 (by decide) (fun _ => ?_) (fun c_ => absurd c_ (by rw [hw]; decide))
        refine lv_aload_n hx hb dX1_point_47 rfl (lv_at hl 0 rfl) ?_
        refine mo_g3 C G dX1_point_48 ?_
        refine lv_iload_n hx hb dX1_point_51 rfl (lv_at hl 1 rfl) ?_
        refine mo_l3 (n := n) (x := eM (v_fa v n)) C G (ex) (hn) ((hR.1 n hn).2.2.2.1) dX1_point_52 ?_
        refine mo_s3 (n := n) (x := eM (v_fa v n)) C G (ex) (hn) (rfl) dX1_point_53 (fun H locs G => ?_)
        refine lv_aload_n hx hb dX1_point_54 rfl (lv_at hl 0 rfl) ?_
        refine mo_g4 C G dX1_point_55 ?_
        refine lv_iload_n hx hb dX1_point_58 rfl (lv_at hl 1 rfl) ?_
        refine lv_iload_n hx hb dX1_point_59 rfl (lv_at hl 2 rfl) ?_
        refine lv_iconst (v := nI 1) hx hb dX1_point_60 (by decide) ?_
        refine lv_icmp_ne (tgt := 70) hx hb dX1_point_61 (by decide) (fun c_ => absurd (hw) c_) (fun _ => ?_)
        refine lv_iload_n hx hb dX1_point_64 rfl (lv_at hl 3 rfl) ?_
        refine lv_iconst (v := nI 1) hx hb dX1_point_65 (by decide) ?_
        refine lv_iadd hx hb dX1_point_66 ?_
        refine lv_goto (tgt := 76) hx hb dX1_point_67 (by decide) ?_
        refine gk_tv (y := eM (v_ref z)) (eM_ref hz) ?_
        refine mo_s4 (n := n) (x := eM (v_ref z)) C G (ex) (hn) (rfl) dX1_point_76 (fun H locs G => ?_)
        refine lv_iconst (v := nI 1) hx hb dX1_point_77 (by decide) ?_
        exact hret (nI 1) _ _ _ _ _ G (⟨by rw [pt_b hn ex hh hz hw]; rfl, by rw [pt_b hn ex hh hz hw], by rw [pt_b hn ex hh hz hw]; exact M_pb hR n _⟩) dX1_point_78
    have J1 : (y = 0 ∨ y = nI 1) → ∀ (H : Heap) (locs : List Loc), gk_G D (mo_w h d u) A s.heap H locs → W p l e R s m args below meth c H locs 0 0 Q (F0 m 17 ls []) := by
      intro hw H locs G
      refine lv_iload_n hx hb dX1_point_17 rfl (lv_at hl 3 rfl) ?_
      refine lv_iconst (v := -1) hx hb dX1_point_18 (by decide) ?_
      refine lv_icmp_eq (tgt := 32) hx hb dX1_point_19 (by decide) (fun c4 => ?_) (fun c4 => ?_)
      · exact J2 (okp_m1 c4) hw _ _ G
      · refine lv_aload_n hx hb dX1_point_22 rfl (lv_at hl 0 rfl) ?_
        refine lv_iload_n hx hb dX1_point_23 rfl (lv_at hl 3 rfl) ?_
        refine mo_ci (n := 1) (As := [.int z]) (rest := []) C G (mm_is l D h d u v z hR) (lw_V q228 q230 qs12 q17 q231) (by decide +kernel) rfl (by decide) rfl (Nat.le_of_ble_eq_true rfl) hl.1 dX1_point_24 (fun rh u9 H locs hp9 G => ?_)
        obtain ⟨er9, eu9⟩ := hp9
        rw [eu9] at G
        refine gk_tv (y := bI (v_has v z)) (er9) ?_
        refine lv_if_ne (tgt := 32) hx hb dX1_point_27 (by decide) (fun c5 => ?_) (fun c5 => ?_)
        · exact J2 (okp_has (bI_ne.mp c5)) hw _ _ G
        · refine lv_iconst (v := nI 0) hx hb dX1_point_30 (by decide) ?_
          exact hret (nI 0) u _ _ _ _ G (⟨by rw [pt_f (by rw [okp_f c4 (bI_eq.mp c5)]; simp)]; rfl, by rw [pt_f (by rw [okp_f c4 (bI_eq.mp c5)]; simp)], by rw [pt_f (by rw [okp_f c4 (bI_eq.mp c5)]; simp)]; exact hR⟩) dX1_point_31
    refine lv_iload_n hx hb dX1_point_8 rfl (lv_at hl 2 rfl) ?_
    refine lv_if_eq (tgt := 17) hx hb dX1_point_9 (by decide) (fun c1 => ?_) (fun c1 => ?_)
    · exact J1 (Or.inl c1) _ _ G
    · refine lv_iload_n hx hb dX1_point_12 rfl (lv_at hl 2 rfl) ?_
      refine lv_iconst (v := nI 1) hx hb dX1_point_13 (by decide) ?_
      refine lv_icmp_ne (tgt := 30) hx hb dX1_point_14 (by decide) (fun c2 => ?_) (fun c2 => ?_)
      · refine lv_iconst (v := nI 0) hx hb dX1_point_30 (by decide) ?_
        exact hret (nI 0) u _ _ _ _ G (⟨by rw [pt_f (by unfold v_wh; rw [decide_eq_false c1, decide_eq_false c2]; simp)]; rfl, by rw [pt_f (by unfold v_wh; rw [decide_eq_false c1, decide_eq_false c2]; simp)], by rw [pt_f (by unfold v_wh; rw [decide_eq_false c1, decide_eq_false c2]; simp)]; exact hR⟩) dX1_point_31
      · exact J1 (Or.inr c2) _ _ G
set_option maxHeartbeats 4000000 in
set_option maxRecDepth 100000 in
/-- root(r, p) -/
theorem mm_root (l : Launch) (D : va_G) (h : Nat → Nat) (d : Nat → ClassId) (u : gS) (v : eV) (x z : Int32) (hv : v_inv v) (hR : mo_R u v) : gk_Mi l D (mo_t d) (mo_w h d) yX1_root cX1_root 3 .boolean 1 21 [.ref (h 100), .int x, .int z] u (fun r u' => r = bI (decide ((o_root v x z).1 = nI 1)) ∧ r = (o_root v x z).1 ∧ mo_R u' (o_root v x z).2) := by
  refine gk_oi (own := RX1) (by decide) rfl (Nat.le_of_ble_eq_true rfl) (fun r u' q => by rw [q.1]; exact bI_range _) ?_
  intro p e R s m args below meth c Q A ls C G hret hl
  have hx := C.1.1
  have hb := C.1.2.1
  have hl : lv_has ls 3 [(0, .ref (h 100)), (1, .int x), (2, .int z)] := hl
  refine lv_iload_n hx hb dX1_root_0 rfl (lv_at hl 1 rfl) ?_
  refine lv_if_lt (tgt := 22) hx hb dX1_root_1 (by decide) (fun c1 => ?_) (fun c1 => ?_)
  · refine lv_iconst (v := nI 0) hx hb dX1_root_22 (by decide) ?_
    exact hret (nI 0) u _ _ _ _ G (⟨by rw [rt_f (by rw [rt_neg c1]; rfl)]; rfl, by rw [rt_f (by rw [rt_neg c1]; rfl)], by rw [rt_f (by rw [rt_neg c1]; rfl)]; exact hR⟩) dX1_root_23
  · refine lv_iload_n hx hb dX1_root_4 rfl (lv_at hl 1 rfl) ?_
    refine lv_iconst (v := nI 3) hx hb dX1_root_5 (by decide) ?_
    refine lv_icmp_gt (tgt := 22) hx hb dX1_root_6 (by decide) (fun c2 => ?_) (fun c2 => ?_)
    · refine lv_iconst (v := nI 0) hx hb dX1_root_22 (by decide) ?_
      exact hret (nI 0) u _ _ _ _ G (⟨by rw [rt_f (by rw [rt_big c2]; rfl)]; rfl, by rw [rt_f (by rw [rt_big c2]; rfl)], by rw [rt_f (by rw [rt_big c2]; rfl)]; exact hR⟩) dX1_root_23
    · obtain ⟨n, hn, ex⟩ := rt_ok c1 c2
      have J : v_okp v z = true → ∀ (H : Heap) (locs : List Loc), gk_G D (mo_w h d u) A s.heap H locs → W p l e R s m args below meth c H locs 0 0 Q (F0 m 24 ls []) := by
        intro hz H locs G
        refine lv_aload_n hx hb dX1_root_24 rfl (lv_at hl 0 rfl) ?_
        refine mo_g5 C G dX1_root_25 ?_
        refine lv_iload_n hx hb dX1_root_28 rfl (lv_at hl 1 rfl) ?_
        refine lv_iload_n hx hb dX1_root_29 rfl (lv_at hl 2 rfl) ?_
        refine lv_iconst (v := nI 1) hx hb dX1_root_30 (by decide) ?_
        refine lv_iadd hx hb dX1_root_31 ?_
        refine gk_tv (y := eM (v_ref z)) (eM_ref hz) ?_
        refine mo_s5 (n := n) (x := eM (v_ref z)) C G (ex) (hn) (rfl) dX1_root_32 (fun H locs G => ?_)
        refine lv_iconst (v := nI 1) hx hb dX1_root_33 (by decide) ?_
        exact hret (nI 1) _ _ _ _ _ G (⟨by rw [rt_t hn ex hz]; rfl, by rw [rt_t hn ex hz], by rw [rt_t hn ex hz]; exact M_setR hR n _⟩) dX1_root_34
      refine lv_iload_n hx hb dX1_root_9 rfl (lv_at hl 2 rfl) ?_
      refine lv_iconst (v := -1) hx hb dX1_root_10 (by decide) ?_
      refine lv_icmp_eq (tgt := 24) hx hb dX1_root_11 (by decide) (fun c4 => ?_) (fun c4 => ?_)
      · exact J (okp_m1 c4) _ _ G
      · refine lv_aload_n hx hb dX1_root_14 rfl (lv_at hl 0 rfl) ?_
        refine lv_iload_n hx hb dX1_root_15 rfl (lv_at hl 2 rfl) ?_
        refine mo_ci (n := 1) (As := [.int z]) (rest := []) C G (mm_is l D h d u v z hR) (lw_V q228 q230 qs12 q17 q231) (by decide +kernel) rfl (by decide) rfl (Nat.le_of_ble_eq_true rfl) hl.1 dX1_root_16 (fun rh u9 H locs hp9 G => ?_)
        obtain ⟨er9, eu9⟩ := hp9
        rw [eu9] at G
        refine gk_tv (y := bI (v_has v z)) (er9) ?_
        refine lv_if_ne (tgt := 24) hx hb dX1_root_19 (by decide) (fun c5 => ?_) (fun c5 => ?_)
        · exact J (okp_has (bI_ne.mp c5)) _ _ G
        · refine lv_iconst (v := nI 0) hx hb dX1_root_22 (by decide) ?_
          exact hret (nI 0) u _ _ _ _ G (⟨by rw [rt_f (by rw [okp_f c4 (bI_eq.mp c5)]; simp)]; rfl, by rw [rt_f (by rw [okp_f c4 (bI_eq.mp c5)]; simp)], by rw [rt_f (by rw [okp_f c4 (bI_eq.mp c5)]; simp)]; exact hR⟩) dX1_root_23
set_option maxHeartbeats 4000000 in
set_option maxRecDepth 100000 in
/-- watch(o) -/
theorem mm_watch (l : Launch) (D : va_G) (h : Nat → Nat) (d : Nat → ClassId) (u : gS) (v : eV) (x : Int32) (hv : v_inv v) (hR : mo_R u v) : gk_Mi l D (mo_t d) (mo_w h d) yX1_watch cX1_watch 2 .boolean 1 21 [.ref (h 100), .int x] u (fun r u' => r = bI (decide ((o_watch v x).1 = nI 1)) ∧ r = (o_watch v x).1 ∧ mo_R u' (o_watch v x).2) := by
  refine gk_oi (own := RX1) (by decide) rfl (Nat.le_of_ble_eq_true rfl) (fun r u' q => by rw [q.1]; exact bI_range _) ?_
  intro p e R s m args below meth c Q A ls C G hret hl
  have hx := C.1.1
  have hb := C.1.2.1
  have hl : lv_has ls 2 [(0, .ref (h 100)), (1, .int x)] := hl
  refine lv_aload_n hx hb dX1_watch_0 rfl (lv_at hl 0 rfl) ?_
  refine lv_iload_n hx hb dX1_watch_1 rfl (lv_at hl 1 rfl) ?_
  refine mo_ci (n := 1) (As := [.int x]) (rest := []) C G (mm_is l D h d u v x hR) (lw_V q228 q230 qs12 q17 q231) (by decide +kernel) rfl (by decide) rfl (Nat.le_of_ble_eq_true rfl) hl.1 dX1_watch_2 (fun rh u9 H locs hp9 G => ?_)
  obtain ⟨er9, eu9⟩ := hp9
  rw [eu9] at G
  refine gk_tv (y := bI (v_has v x)) (er9) ?_
  refine lv_if_ne (tgt := 10) hx hb dX1_watch_5 (by decide) (fun c0 => ?_) (fun c0 => ?_)
  · obtain ⟨n, hn, ex, hh⟩ := v_has_of (bI_ne.mp c0)
    refine lv_aload_n hx hb dX1_watch_10 rfl (lv_at hl 0 rfl) ?_
    refine mo_g2 C G dX1_watch_11 ?_
    refine lv_iload_n hx hb dX1_watch_14 rfl (lv_at hl 1 rfl) ?_
    refine lv_iconst (v := nI 1) hx hb dX1_watch_15 (by decide) ?_
    refine mo_s2 (n := n) (x := nI 1) C G (ex) (hn) (nz_1) dX1_watch_16 (fun H locs G => ?_)
    refine lv_iconst (v := nI 1) hx hb dX1_watch_17 (by decide) ?_
    exact hret (nI 1) _ _ _ _ _ G (⟨by rw [wt_t hn ex hh]; rfl, by rw [wt_t hn ex hh], by rw [wt_t hn ex hh]; exact M_setE hR n true⟩) dX1_watch_18
  · refine lv_iconst (v := nI 0) hx hb dX1_watch_8 (by decide) ?_
    exact hret (nI 0) u _ _ _ _ G (⟨by rw [wt_f (bI_eq.mp c0)]; rfl, by rw [wt_f (bI_eq.mp c0)], by rw [wt_f (bI_eq.mp c0)]; exact hR⟩) dX1_watch_9
set_option maxHeartbeats 4000000 in
set_option maxRecDepth 100000 in
/-- take(r) -/
theorem mm_take (l : Launch) (D : va_G) (h : Nat → Nat) (d : Nat → ClassId) (u : gS) (v : eV) (x : Int32) (hv : v_inv v) (hR : mo_R u v) : gk_Mi l D (mo_t d) (mo_w h d) yX1_take cX1_take 4 .int 0 0 [.ref (h 100), .int x] u (fun r u' => r = (o_take v x).1 ∧ mo_R u' (o_take v x).2) := by
  refine gk_oi (own := RX1) (by decide) rfl (Nat.le_of_ble_eq_true rfl) (fun _ _ _ => rfl) ?_
  intro p e R s m args below meth c Q A ls C G hret hl
  have hx := C.1.1
  have hb := C.1.2.1
  have hl : lv_has ls 4 [(0, .ref (h 100)), (1, .int x)] := hl
  cases hqe : v_qu v with
  | nil =>
    refine lv_iload_n hx hb dX1_take_0 rfl (lv_at hl 1 rfl) ?_
    refine lv_if_lt (tgt := 16) hx hb dX1_take_1 (by decide) (fun c1 => ?_) (fun c1 => ?_)
    · refine lv_iconst (v := -1) hx hb dX1_take_16 (by decide) ?_
      exact hret (-1) u _ _ _ _ G (⟨by rw [tk_f (rt_neg c1)], by rw [tk_f (rt_neg c1)]; exact hR⟩) dX1_take_17
    · refine lv_iload_n hx hb dX1_take_4 rfl (lv_at hl 1 rfl) ?_
      refine lv_iconst (v := nI 3) hx hb dX1_take_5 (by decide) ?_
      refine lv_icmp_gt (tgt := 16) hx hb dX1_take_6 (by decide) (fun c2 => ?_) (fun c2 => ?_)
      · refine lv_iconst (v := -1) hx hb dX1_take_16 (by decide) ?_
        exact hret (-1) u _ _ _ _ G (⟨by rw [tk_f (rt_big c2)], by rw [tk_f (rt_big c2)]; exact hR⟩) dX1_take_17
      · refine lv_aload_n hx hb dX1_take_9 rfl (lv_at hl 0 rfl) ?_
        refine mo_g6 (x := nI 0) C G (by have := hR.2.2.1; rw [hqe] at this; exact this) dX1_take_10 ?_
        refine lv_if_ne (tgt := 18) hx hb dX1_take_13 (by decide) (fun c_ => absurd (rfl) c_) (fun _ => ?_)
        refine lv_iconst (v := -1) hx hb dX1_take_16 (by decide) ?_
        exact hret (-1) u _ _ _ _ G (⟨by rw [tk_e hqe], by rw [tk_e hqe]; exact hR⟩) dX1_take_17
  | cons o tl =>
    refine lv_iload_n hx hb dX1_take_0 rfl (lv_at hl 1 rfl) ?_
    refine lv_if_lt (tgt := 16) hx hb dX1_take_1 (by decide) (fun c1 => ?_) (fun c1 => ?_)
    · refine lv_iconst (v := -1) hx hb dX1_take_16 (by decide) ?_
      exact hret (-1) u _ _ _ _ G (⟨by rw [tk_f (rt_neg c1)], by rw [tk_f (rt_neg c1)]; exact hR⟩) dX1_take_17
    · refine lv_iload_n hx hb dX1_take_4 rfl (lv_at hl 1 rfl) ?_
      refine lv_iconst (v := nI 3) hx hb dX1_take_5 (by decide) ?_
      refine lv_icmp_gt (tgt := 16) hx hb dX1_take_6 (by decide) (fun c2 => ?_) (fun c2 => ?_)
      · refine lv_iconst (v := -1) hx hb dX1_take_16 (by decide) ?_
        exact hret (-1) u _ _ _ _ G (⟨by rw [tk_f (rt_big c2)], by rw [tk_f (rt_big c2)]; exact hR⟩) dX1_take_17
      · obtain ⟨n, hn, ex⟩ := rt_ok c1 c2
        have hql := qu_le hv
        rw [hqe] at hql
        have hql : tl.length + 1 ≤ 20 := hql
        have hqq : ∀ i, i < tl.length + 1 → u.2 7 i = nI ((o :: tl).getD i 0) := fun i hi => by
          have := hR.2.2.2 i (by rw [hqe]; exact hi)
          rw [hqe] at this
          exact this
        refine lv_aload_n hx hb dX1_take_9 rfl (lv_at hl 0 rfl) ?_
        refine mo_g6 (x := nI (tl.length + 1)) C G (by have := hR.2.2.1; rw [hqe] at this; exact this) dX1_take_10 ?_
        refine lv_if_ne (tgt := 18) hx hb dX1_take_13 (by decide) (fun _ => ?_) (fun c_ => absurd c_ (fun q => absurd q (nI_ne0 (by omega) (by omega))))
        refine lv_aload_n hx hb dX1_take_18 rfl (lv_at hl 0 rfl) ?_
        refine mo_g7 C G dX1_take_19 ?_
        refine lv_iconst (v := nI 0) hx hb dX1_take_22 (by decide) ?_
        refine mo_l7 (n := 0) (x := nI o) C G (rfl) (by omega) (hqq 0 (by omega)) dX1_take_23 ?_
        refine lv_istore_n (lv' := [(2, .int (nI o)), (0, .ref (h 100)), (1, .int x)]) hx hb dX1_take_24 rfl hl (by decide) rfl (fun ls hl => ?_)
        refine lv_aload_n hx hb dX1_take_25 rfl (lv_at hl 1 rfl) ?_
        refine lv_dup hx hb dX1_take_26 rfl ?_
        refine mo_g6 (x := nI (tl.length + 1)) C G (by have := hR.2.2.1; rw [hqe] at this; exact this) dX1_take_27 ?_
        refine lv_iconst (v := nI 1) hx hb dX1_take_30 (by decide) ?_
        refine lv_isub hx hb dX1_take_31 ?_
        refine gk_tv (y := nI tl.length) (nI_pred _) ?_
        refine mo_p6 C G dX1_take_32 (fun H locs G => ?_)
        have loop : ∀ (k i : Nat) (u1 : gS), i ≤ tl.length → tl.length + 1 ≤ i + k → u1.1 6 = nI tl.length → (∀ j, j < tl.length + 1 → u1.2 7 j = if j < i then nI (tl.getD j 0) else nI ((o :: tl).getD j 0)) → mo_R9 u1 v → ∀ (H : Heap) (locs : List Loc), gk_G D (mo_w h d u1) A s.heap H locs → ∀ (ls : Array Slot), lv_has ls 4 [(3, .int (nI i)), (2, .int (nI o)), (0, .ref (h 100)), (1, .int x)] → W p l e R s m args below meth c H locs 0 0 Q (F0 m 37 ls []) := by
          intro k
          induction k with
          | zero => intro i u1 h1 h2; exact absurd h2 (by omega)
          | succ k ih =>
            intro i u1 h1 h2 h14 h13 h9 H locs G ls hl
            refine lv_iload_n hx hb dX1_take_37 rfl (lv_at hl 0 rfl) ?_
            refine lv_aload_n hx hb dX1_take_38 rfl (lv_at hl 2 rfl) ?_
            refine mo_g6 (x := nI tl.length) C G (h14) dX1_take_39 ?_
            refine lv_icmp_ge (tgt := 65) hx hb dX1_take_42 (by decide) (fun c3 => ?_) (fun c3 => ?_)
            · have c3 := (nI_leI (a := tl.length) (b := i) (by omega) (by omega)).mp c3
              have e1 : i = tl.length := by omega
              have hR1 := M9_to h9 tl h14 (fun j hj => by
                have := h13 j (by omega)
                rw [if_pos (by omega)] at this
                exact this)
              refine lv_aload_n hx hb dX1_take_65 rfl (lv_at hl 2 rfl) ?_
              refine mo_g5 C G dX1_take_66 ?_
              refine lv_iload_n hx hb dX1_take_69 rfl (lv_at hl 3 rfl) ?_
              refine lv_iload_n hx hb dX1_take_70 rfl (lv_at hl 1 rfl) ?_
              refine lv_iconst (v := nI 1) hx hb dX1_take_71 (by decide) ?_
              refine lv_iadd hx hb dX1_take_72 ?_
              refine gk_tv (y := eM (some o)) (nI_1 o) ?_
              refine mo_s5 (n := n) (x := eM (some o)) C G (ex) (hn) (rfl) dX1_take_73 (fun H locs G => ?_)
              refine lv_iload_n hx hb dX1_take_74 rfl (lv_at hl 1 rfl) ?_
              exact hret (nI o) _ _ _ _ _ G (⟨by rw [tk_t hn ex hqe], by rw [tk_t hn ex hqe]; exact M_setR hR1 n _⟩) dX1_take_75
            · have c3 : i < tl.length := by
                rcases Nat.lt_or_ge i tl.length with q | q
                · exact q
                · exact absurd (nI_le q (by omega)) c3
              refine lv_aload_n hx hb dX1_take_45 rfl (lv_at hl 2 rfl) ?_
              refine mo_g7 C G dX1_take_46 ?_
              refine lv_iload_n hx hb dX1_take_49 rfl (lv_at hl 0 rfl) ?_
              refine lv_aload_n hx hb dX1_take_50 rfl (lv_at hl 2 rfl) ?_
              refine mo_g7 C G dX1_take_51 ?_
              refine lv_iload_n hx hb dX1_take_54 rfl (lv_at hl 0 rfl) ?_
              refine lv_iconst (v := nI 1) hx hb dX1_take_55 (by decide) ?_
              refine lv_iadd hx hb dX1_take_56 ?_
              refine gk_tv (y := nI (i + 1)) (nI_1 _) ?_
              refine mo_l7 (n := i + 1) (x := nI (tl.getD i 0)) C G (rfl) (by omega) (by have := h13 (i + 1) (by omega); rw [if_neg (by omega)] at this; exact this) dX1_take_57 ?_
              refine mo_s7 (n := i) (x := nI (tl.getD i 0)) C G (rfl) (by omega) (rfl) dX1_take_58 (fun H locs G => ?_)
              refine lv_iinc (v := nI (i + 1)) (lv' := [(3, .int (nI (i + 1))), (2, .int (nI o)), (0, .ref (h 100)), (1, .int x)]) hx hb dX1_take_59 hl (k := 0) rfl (nI_1 i) (by decide) rfl (fun ls hl => ?_)
              refine lv_goto (tgt := 37) hx hb dX1_take_62 (by decide) ?_
              exact ih (i + 1) (gA u1 7 i (nI (tl.getD i 0))) (by omega) (by omega) h14 (fun j hj => by
                show (if j = i then nI (tl.getD i 0) else u1.2 7 j) = _
                by_cases q : j = i
                · rw [if_pos q, if_pos (by omega), q]
                · rw [if_neg q, h13 j hj]
                  by_cases z : j < i
                  · rw [if_pos z, if_pos (by omega)]
                  · rw [if_neg z, if_neg (by omega)]) h9 _ _ G ls (lv_sub hl [0, 1, 2, 3] rfl)
        refine lv_iconst (v := nI 0) hx hb dX1_take_35 (by decide) ?_
        refine lv_istore_n (lv' := [(3, .int (nI 0)), (2, .int (nI o)), (0, .ref (h 100)), (1, .int x)]) hx hb dX1_take_36 rfl hl (by decide) rfl (fun ls hl => ?_)
        exact loop (tl.length + 1) 0 (gI u 6 (nI tl.length)) (by omega) (by omega) rfl (fun j hj => by rw [if_neg (Nat.not_lt_zero j)]; exact hqq j hj) ⟨hR.1, hR.2.1⟩ _ _ G ls (lv_sub hl [0, 1, 2, 3] rfl)
set_option maxHeartbeats 4000000 in
set_option maxRecDepth 100000 in
/-- alive() -/
theorem mm_alive (l : Launch) (D : va_G) (h : Nat → Nat) (d : Nat → ClassId) (u : gS) (v : eV) (hv : v_inv v) (hR : mo_R u v) : gk_Mi l D (mo_t d) (mo_w h d) yX1_alive cX1_alive 1 .int 2 47 [.ref (h 100)] u (fun r u' => r = mk_ (v_lb v) 20 ∧ mo_R u' v) := by
  refine gk_oi (own := RX1) (by decide) rfl (Nat.le_of_ble_eq_true rfl) (fun _ _ _ => rfl) ?_
  intro p e R s m args below meth c Q A ls C G hret hl
  have hx := C.1.1
  have hb := C.1.2.1
  have hl : lv_has ls 1 [(0, .ref (h 100))] := hl
  refine lv_aload_n hx hb dX1_alive_0 rfl (lv_at hl 0 rfl) ?_
  refine mo_ci (n := 0) (As := []) (rest := []) C G (mm_living l D h d u v hv hR) (lw_V q244 q246 qs13 q17 q247) (by decide +kernel) rfl (by decide) rfl (Nat.le_of_ble_eq_true rfl) hl.1 dX1_alive_1 (fun ra u1 H locs hp1 G => ?_)
  obtain ⟨er1, eu1⟩ := hp1
  rw [eu1] at G
  exact hret ra u _ _ _ _ G (⟨er1, hR⟩) dX1_alive_4
set_option maxHeartbeats 4000000 in
set_option maxRecDepth 100000 in
/-- queued() -/
theorem mm_queued (l : Launch) (D : va_G) (h : Nat → Nat) (d : Nat → ClassId) (u : gS) (v : eV) (hv : v_inv v) (hR : mo_R u v) : gk_Mi l D (mo_t d) (mo_w h d) yX1_queued cX1_queued 1 .int 0 0 [.ref (h 100)] u (fun r u' => r = nI (v_qu v).length ∧ mo_R u' v) := by
  refine gk_oi (own := RX1) (by decide) rfl (Nat.le_of_ble_eq_true rfl) (fun _ _ _ => rfl) ?_
  intro p e R s m args below meth c Q A ls C G hret hl
  have hx := C.1.1
  have hb := C.1.2.1
  have hl : lv_has ls 1 [(0, .ref (h 100))] := hl
  refine lv_aload_n hx hb dX1_queued_0 rfl (lv_at hl 0 rfl) ?_
  refine mo_g6 (x := nI (v_qu v).length) C G (hR.2.2.1) dX1_queued_1 ?_
  exact hret (nI (v_qu v).length) u _ _ _ _ G (⟨rfl, hR⟩) dX1_queued_4
set_option maxHeartbeats 4000000 in
set_option maxRecDepth 100000 in
/-- kind(o) -/
theorem mm_kind (l : Launch) (D : va_G) (h : Nat → Nat) (d : Nat → ClassId) (u : gS) (v : eV) (x : Int32) (hv : v_inv v) (hR : mo_R u v) : gk_Mi l D (mo_t d) (mo_w h d) yX1_kind cX1_kind 2 .int 1 21 [.ref (h 100), .int x] u (fun r u' => r = a_kind v x ∧ mo_R u' v) := by
  refine gk_oi (own := RX1) (by decide) rfl (Nat.le_of_ble_eq_true rfl) (fun _ _ _ => rfl) ?_
  intro p e R s m args below meth c Q A ls C G hret hl
  have hx := C.1.1
  have hb := C.1.2.1
  have hl : lv_has ls 2 [(0, .ref (h 100)), (1, .int x)] := hl
  refine lv_aload_n hx hb dX1_kind_0 rfl (lv_at hl 0 rfl) ?_
  refine lv_iload_n hx hb dX1_kind_1 rfl (lv_at hl 1 rfl) ?_
  refine mo_ci (n := 1) (As := [.int x]) (rest := []) C G (mm_is l D h d u v x hR) (lw_V q228 q230 qs12 q17 q231) (by decide +kernel) rfl (by decide) rfl (Nat.le_of_ble_eq_true rfl) hl.1 dX1_kind_2 (fun rh u9 H locs hp9 G => ?_)
  obtain ⟨er9, eu9⟩ := hp9
  rw [eu9] at G
  refine gk_tv (y := bI (v_has v x)) (er9) ?_
  refine lv_if_eq (tgt := 17) hx hb dX1_kind_5 (by decide) (fun c0 => ?_) (fun c0 => ?_)
  · refine lv_iconst (v := -1) hx hb dX1_kind_17 (by decide) ?_
    exact hret (-1) u _ _ _ _ G (⟨(kd_f (bI_eq.mp c0)).symm, hR⟩) dX1_kind_18
  · obtain ⟨n, hn, ex, hh⟩ := v_has_of (bI_ne.mp c0)
    refine lv_aload_n hx hb dX1_kind_8 rfl (lv_at hl 0 rfl) ?_
    refine mo_g1 C G dX1_kind_9 ?_
    refine lv_iload_n hx hb dX1_kind_12 rfl (lv_at hl 1 rfl) ?_
    refine mo_l1 (n := n) (x := nI (v_ki v n)) C G (ex) (hn) ((hR.1 n hn).2.1) dX1_kind_13 ?_
    refine lv_goto (tgt := 18) hx hb dX1_kind_14 (by decide) ?_
    exact hret (nI (v_ki v n)) u _ _ _ _ G (⟨(kd_t hn ex hh).symm, hR⟩) dX1_kind_18
set_option maxHeartbeats 4000000 in
set_option maxRecDepth 100000 in
/-- rootOf(r) -/
theorem mm_rootOf (l : Launch) (D : va_G) (h : Nat → Nat) (d : Nat → ClassId) (u : gS) (v : eV) (x : Int32) (hv : v_inv v) (hR : mo_R u v) : gk_Mi l D (mo_t d) (mo_w h d) yX1_rootOf cX1_rootOf 2 .int 0 0 [.ref (h 100), .int x] u (fun r u' => r = a_rootOf v x ∧ mo_R u' v) := by
  refine gk_oi (own := RX1) (by decide) rfl (Nat.le_of_ble_eq_true rfl) (fun _ _ _ => rfl) ?_
  intro p e R s m args below meth c Q A ls C G hret hl
  have hx := C.1.1
  have hb := C.1.2.1
  have hl : lv_has ls 2 [(0, .ref (h 100)), (1, .int x)] := hl
  refine lv_iload_n hx hb dX1_rootOf_0 rfl (lv_at hl 1 rfl) ?_
  refine lv_if_lt (tgt := 20) hx hb dX1_rootOf_1 (by decide) (fun c1 => ?_) (fun c1 => ?_)
  · refine lv_iconst (v := -1) hx hb dX1_rootOf_20 (by decide) ?_
    exact hret (-1) u _ _ _ _ G (⟨(ro_f (rt_neg c1)).symm, hR⟩) dX1_rootOf_21
  · refine lv_iload_n hx hb dX1_rootOf_4 rfl (lv_at hl 1 rfl) ?_
    refine lv_iconst (v := nI 3) hx hb dX1_rootOf_5 (by decide) ?_
    refine lv_icmp_gt (tgt := 20) hx hb dX1_rootOf_6 (by decide) (fun c2 => ?_) (fun c2 => ?_)
    · refine lv_iconst (v := -1) hx hb dX1_rootOf_20 (by decide) ?_
      exact hret (-1) u _ _ _ _ G (⟨(ro_f (rt_big c2)).symm, hR⟩) dX1_rootOf_21
    · obtain ⟨n, hn, ex⟩ := rt_ok c1 c2
      refine lv_aload_n hx hb dX1_rootOf_9 rfl (lv_at hl 0 rfl) ?_
      refine mo_g5 C G dX1_rootOf_10 ?_
      refine lv_iload_n hx hb dX1_rootOf_13 rfl (lv_at hl 1 rfl) ?_
      refine mo_l5 (n := n) (x := eM (v_ro v n)) C G (ex) (hn) (hR.2.1 n hn) dX1_rootOf_14 ?_
      refine lv_iconst (v := nI 1) hx hb dX1_rootOf_15 (by decide) ?_
      refine lv_isub hx hb dX1_rootOf_16 ?_
      refine gk_tv (y := eR (v_ro v n)) (eM_R _) ?_
      refine lv_goto (tgt := 21) hx hb dX1_rootOf_17 (by decide) ?_
      exact hret (eR (v_ro v n)) u _ _ _ _ G (⟨(ro_t hn ex).symm, hR⟩) dX1_rootOf_21
set_option maxHeartbeats 4000000 in
set_option maxRecDepth 100000 in
/-- field(o, which) -/
theorem mm_field (l : Launch) (D : va_G) (h : Nat → Nat) (d : Nat → ClassId) (u : gS) (v : eV) (x y : Int32) (hv : v_inv v) (hR : mo_R u v) : gk_Mi l D (mo_t d) (mo_w h d) yX1_field cX1_field 3 .int 1 21 [.ref (h 100), .int x, .int y] u (fun r u' => r = a_field v x y ∧ mo_R u' v) := by
  refine gk_oi (own := RX1) (by decide) rfl (Nat.le_of_ble_eq_true rfl) (fun _ _ _ => rfl) ?_
  intro p e R s m args below meth c Q A ls C G hret hl
  have hx := C.1.1
  have hb := C.1.2.1
  have hl : lv_has ls 3 [(0, .ref (h 100)), (1, .int x), (2, .int y)] := hl
  refine lv_aload_n hx hb dX1_field_0 rfl (lv_at hl 0 rfl) ?_
  refine lv_iload_n hx hb dX1_field_1 rfl (lv_at hl 1 rfl) ?_
  refine mo_ci (n := 1) (As := [.int x]) (rest := []) C G (mm_is l D h d u v x hR) (lw_V q228 q230 qs12 q17 q231) (by decide +kernel) rfl (by decide) rfl (Nat.le_of_ble_eq_true rfl) hl.1 dX1_field_2 (fun rh u9 H locs hp9 G => ?_)
  obtain ⟨er9, eu9⟩ := hp9
  rw [eu9] at G
  refine gk_tv (y := bI (v_has v x)) (er9) ?_
  refine lv_if_eq (tgt := 17) hx hb dX1_field_5 (by decide) (fun c0 => ?_) (fun c0 => ?_)
  · refine lv_iconst (v := -1) hx hb dX1_field_17 (by decide) ?_
    refine lv_goto (tgt := 44) hx hb dX1_field_18 (by decide) ?_
    exact hret (-1) u _ _ _ _ G (⟨(fd_f (by rw [bI_eq.mp c0]; rfl)).symm, hR⟩) dX1_field_44
  · obtain ⟨n, hn, ex, hh⟩ := v_has_of (bI_ne.mp c0)
    refine lv_iload_n hx hb dX1_field_8 rfl (lv_at hl 2 rfl) ?_
    refine lv_if_eq (tgt := 21) hx hb dX1_field_9 (by decide) (fun c1 => ?_) (fun c1 => ?_)
    · refine lv_iload_n hx hb dX1_field_21 rfl (lv_at hl 2 rfl) ?_
      refine lv_if_ne (tgt := 36) hx hb dX1_field_22 (by decide) (fun c_ => absurd (c1) c_) (fun _ => ?_)
      refine lv_aload_n hx hb dX1_field_25 rfl (lv_at hl 0 rfl) ?_
      refine mo_g3 C G dX1_field_26 ?_
      refine lv_iload_n hx hb dX1_field_29 rfl (lv_at hl 1 rfl) ?_
      refine mo_l3 (n := n) (x := eM (v_fa v n)) C G (ex) (hn) ((hR.1 n hn).2.2.2.1) dX1_field_30 ?_
      refine lv_iconst (v := nI 1) hx hb dX1_field_31 (by decide) ?_
      refine lv_isub hx hb dX1_field_32 ?_
      refine gk_tv (y := eR (v_fa v n)) (eM_R _) ?_
      refine lv_goto (tgt := 44) hx hb dX1_field_33 (by decide) ?_
      exact hret (eR (v_fa v n)) u _ _ _ _ G (⟨(fd_a hn ex hh c1).symm, hR⟩) dX1_field_44
    · refine lv_iload_n hx hb dX1_field_12 rfl (lv_at hl 2 rfl) ?_
      refine lv_iconst (v := nI 1) hx hb dX1_field_13 (by decide) ?_
      refine lv_icmp_eq (tgt := 21) hx hb dX1_field_14 (by decide) (fun c2 => ?_) (fun c2 => ?_)
      · refine lv_iload_n hx hb dX1_field_21 rfl (lv_at hl 2 rfl) ?_
        refine lv_if_ne (tgt := 36) hx hb dX1_field_22 (by decide) (fun _ => ?_) (fun c_ => absurd c_ (c1))
        refine lv_aload_n hx hb dX1_field_36 rfl (lv_at hl 0 rfl) ?_
        refine mo_g4 C G dX1_field_37 ?_
        refine lv_iload_n hx hb dX1_field_40 rfl (lv_at hl 1 rfl) ?_
        refine mo_l4 (n := n) (x := eM (v_fb v n)) C G (ex) (hn) ((hR.1 n hn).2.2.2.2) dX1_field_41 ?_
        refine lv_iconst (v := nI 1) hx hb dX1_field_42 (by decide) ?_
        refine lv_isub hx hb dX1_field_43 ?_
        refine gk_tv (y := eR (v_fb v n)) (eM_R _) ?_
        exact hret (eR (v_fb v n)) u _ _ _ _ G (⟨(fd_b hn ex hh c2).symm, hR⟩) dX1_field_44
      · refine lv_iconst (v := -1) hx hb dX1_field_17 (by decide) ?_
        refine lv_goto (tgt := 44) hx hb dX1_field_18 (by decide) ?_
        exact hret (-1) u _ _ _ _ G (⟨(fd_f (by unfold v_wh; rw [decide_eq_false c1, decide_eq_false c2]; simp)).symm, hR⟩) dX1_field_44
set_option maxHeartbeats 4000000 in
set_option maxRecDepth 100000 in
/-- objects() -/
theorem mm_objects (l : Launch) (D : va_G) (h : Nat → Nat) (d : Nat → ClassId) (u : gS) (v : eV) (hv : v_inv v) (hR : mo_R u v) : gk_Mi l D (mo_t d) (mo_w h d) yX1_objects cX1_objects 3 .int 0 0 [.ref (h 100)] u (fun r u' => r = nI (fb_ct (v_he v) 20) ∧ mo_R u' v) := by
  refine gk_oi (own := RX1) (by decide) rfl (Nat.le_of_ble_eq_true rfl) (fun _ _ _ => rfl) ?_
  intro p e R s m args below meth c Q A ls C G hret hl
  have hx := C.1.1
  have hb := C.1.2.1
  have hl : lv_has ls 3 [(0, .ref (h 100))] := hl
  have loop : ∀ (n i : Nat), i ≤ 20 → 21 ≤ i + n → ∀ (ls : Array Slot), lv_has ls 3 [(2, .int (nI i)), (1, .int (nI (fb_ct (v_he v) i))), (0, .ref (h 100))] → W p l e R s m args below meth c s.heap [] 0 0 Q (F0 m 4 ls []) := by
    intro n
    induction n with
    | zero => intro i h1 h2; exact absurd h2 (by omega)
    | succ n ih =>
      intro i h1 h2 ls hl
      refine lv_iload_n hx hb dX1_objects_4 rfl (lv_at hl 0 rfl) ?_
      refine lv_bipush (v := nI 20) hx hb dX1_objects_5 (by decide) ?_
      refine lv_icmp_ge (tgt := 33) hx hb dX1_objects_7 (by decide) (fun c1 => ?_) (fun c1 => ?_)
      · have c1 := (nI_leI (a := 20) (b := i) (by omega) (by omega)).mp c1
        have e1 : i = 20 := by omega
        refine lv_iload_n hx hb dX1_objects_33 rfl (lv_at hl 1 rfl) ?_
        exact hret (nI (fb_ct (v_he v) i)) u _ _ _ _ G (⟨by rw [e1], hR⟩) dX1_objects_34
      · have c1 : i < 20 := by
          rcases Nat.lt_or_ge i 20 with q | q
          · exact q
          · exact absurd (nI_le q (by omega)) c1
        refine lv_aload_n hx hb dX1_objects_10 rfl (lv_at hl 2 rfl) ?_
        refine mo_g0 C G dX1_objects_11 ?_
        refine lv_iload_n hx hb dX1_objects_14 rfl (lv_at hl 0 rfl) ?_
        refine mo_l0 (n := i) (x := bI (v_he v i)) C G (rfl) (c1) ((hR.1 i c1).1) dX1_objects_15 ?_
        refine lv_if_eq (tgt := 25) hx hb dX1_objects_16 (by decide) (fun c2 => ?_) (fun c2 => ?_)
        · refine lv_iload_n hx hb dX1_objects_25 rfl (lv_at hl 1 rfl) ?_
          refine gk_tv (y := nI (fb_ct (v_he v) (i + 1))) (by rw [fb_ct_succ, bI_eq.mp c2]; rfl) ?_
          refine lv_istore_n (lv' := [(1, .int (nI (fb_ct (v_he v) (i + 1)))), (2, .int (nI i)), (0, .ref (h 100))]) hx hb dX1_objects_26 rfl hl (by decide) rfl (fun ls hl => ?_)
          refine lv_iinc (v := nI (i + 1)) (lv' := [(2, .int (nI (i + 1))), (1, .int (nI (fb_ct (v_he v) (i + 1)))), (0, .ref (h 100))]) hx hb dX1_objects_27 hl (k := 1) rfl (nI_1 i) (by decide) rfl (fun ls hl => ?_)
          refine lv_goto (tgt := 4) hx hb dX1_objects_30 (by decide) ?_
          exact ih (i + 1) (by omega) (by omega) ls (lv_sub hl [0, 1, 2] rfl)
        · refine lv_iload_n hx hb dX1_objects_19 rfl (lv_at hl 1 rfl) ?_
          refine lv_iconst (v := nI 1) hx hb dX1_objects_20 (by decide) ?_
          refine lv_iadd hx hb dX1_objects_21 ?_
          refine lv_goto (tgt := 26) hx hb dX1_objects_22 (by decide) ?_
          refine gk_tv (y := nI (fb_ct (v_he v) (i + 1))) (by rw [fb_ct_succ, bI_ne.mp c2]; exact nI_1 _) ?_
          refine lv_istore_n (lv' := [(1, .int (nI (fb_ct (v_he v) (i + 1)))), (2, .int (nI i)), (0, .ref (h 100))]) hx hb dX1_objects_26 rfl hl (by decide) rfl (fun ls hl => ?_)
          refine lv_iinc (v := nI (i + 1)) (lv' := [(2, .int (nI (i + 1))), (1, .int (nI (fb_ct (v_he v) (i + 1)))), (0, .ref (h 100))]) hx hb dX1_objects_27 hl (k := 1) rfl (nI_1 i) (by decide) rfl (fun ls hl => ?_)
          refine lv_goto (tgt := 4) hx hb dX1_objects_30 (by decide) ?_
          exact ih (i + 1) (by omega) (by omega) ls (lv_sub hl [0, 1, 2] rfl)
  refine lv_iconst (v := nI 0) hx hb dX1_objects_0 (by decide) ?_
  refine lv_istore_n (lv' := [(1, .int (nI 0)), (0, .ref (h 100))]) hx hb dX1_objects_1 rfl hl (by decide) rfl (fun ls hl => ?_)
  refine lv_iconst (v := nI 0) hx hb dX1_objects_2 (by decide) ?_
  refine lv_istore_n (lv' := [(2, .int (nI 0)), (1, .int (nI 0)), (0, .ref (h 100))]) hx hb dX1_objects_3 rfl hl (by decide) rfl (fun ls hl => ?_)
  exact loop 21 0 (by omega) (by omega) ls (lv_sub hl [0, 1, 2] rfl)
set_option maxHeartbeats 4000000 in
set_option maxRecDepth 100000 in
/-- there() -/
theorem mm_there (l : Launch) (D : va_G) (h : Nat → Nat) (d : Nat → ClassId) (u : gS) (v : eV) (hv : v_inv v) (hR : mo_R u v) : gk_Mi l D (mo_t d) (mo_w h d) yX1_there cX1_there 3 .int 0 0 [.ref (h 100)] u (fun r u' => r = mk_ (v_he v) 20 ∧ mo_R u' v) := by
  refine gk_oi (own := RX1) (by decide) rfl (Nat.le_of_ble_eq_true rfl) (fun _ _ _ => rfl) ?_
  intro p e R s m args below meth c Q A ls C G hret hl
  have hx := C.1.1
  have hb := C.1.2.1
  have hl : lv_has ls 3 [(0, .ref (h 100))] := hl
  have loop : ∀ (n i : Nat), i ≤ 20 → 21 ≤ i + n → ∀ (ls : Array Slot), lv_has ls 3 [(2, .int (nI i)), (1, .int (mk_ (v_he v) i)), (0, .ref (h 100))] → W p l e R s m args below meth c s.heap [] 0 0 Q (F0 m 4 ls []) := by
    intro n
    induction n with
    | zero => intro i h1 h2; exact absurd h2 (by omega)
    | succ n ih =>
      intro i h1 h2 ls hl
      refine lv_iload_n hx hb dX1_there_4 rfl (lv_at hl 0 rfl) ?_
      refine lv_bipush (v := nI 20) hx hb dX1_there_5 (by decide) ?_
      refine lv_icmp_ge (tgt := 35) hx hb dX1_there_7 (by decide) (fun c1 => ?_) (fun c1 => ?_)
      · have c1 := (nI_leI (a := 20) (b := i) (by omega) (by omega)).mp c1
        have e1 : i = 20 := by omega
        refine lv_iload_n hx hb dX1_there_35 rfl (lv_at hl 1 rfl) ?_
        exact hret (mk_ (v_he v) i) u _ _ _ _ G (⟨by rw [e1], hR⟩) dX1_there_36
      · have c1 : i < 20 := by
          rcases Nat.lt_or_ge i 20 with q | q
          · exact q
          · exact absurd (nI_le q (by omega)) c1
        refine lv_aload_n hx hb dX1_there_10 rfl (lv_at hl 2 rfl) ?_
        refine mo_g0 C G dX1_there_11 ?_
        refine lv_iload_n hx hb dX1_there_14 rfl (lv_at hl 0 rfl) ?_
        refine mo_l0 (n := i) (x := bI (v_he v i)) C G (rfl) (c1) ((hR.1 i c1).1) dX1_there_15 ?_
        refine lv_if_eq (tgt := 27) hx hb dX1_there_16 (by decide) (fun c2 => ?_) (fun c2 => ?_)
        · refine lv_iload_n hx hb dX1_there_27 rfl (lv_at hl 1 rfl) ?_
          refine gk_tv (y := mk_ (v_he v) (i + 1)) ((if_neg (by rw [bI_eq.mp c2]; decide)).symm) ?_
          refine lv_istore_n (lv' := [(1, .int (mk_ (v_he v) (i + 1))), (2, .int (nI i)), (0, .ref (h 100))]) hx hb dX1_there_28 rfl hl (by decide) rfl (fun ls hl => ?_)
          refine lv_iinc (v := nI (i + 1)) (lv' := [(2, .int (nI (i + 1))), (1, .int (mk_ (v_he v) (i + 1))), (0, .ref (h 100))]) hx hb dX1_there_29 hl (k := 1) rfl (nI_1 i) (by decide) rfl (fun ls hl => ?_)
          refine lv_goto (tgt := 4) hx hb dX1_there_32 (by decide) ?_
          exact ih (i + 1) (by omega) (by omega) ls (lv_sub hl [0, 1, 2] rfl)
        · refine lv_iload_n hx hb dX1_there_19 rfl (lv_at hl 1 rfl) ?_
          refine lv_iconst (v := nI 1) hx hb dX1_there_20 (by decide) ?_
          refine lv_iload_n hx hb dX1_there_21 rfl (lv_at hl 0 rfl) ?_
          refine lv_ishl hx hb dX1_there_22 ?_
          refine lv_ior hx hb dX1_there_23 ?_
          refine lv_goto (tgt := 28) hx hb dX1_there_24 (by decide) ?_
          refine gk_tv (y := mk_ (v_he v) (i + 1)) ((if_pos (bI_ne.mp c2)).symm) ?_
          refine lv_istore_n (lv' := [(1, .int (mk_ (v_he v) (i + 1))), (2, .int (nI i)), (0, .ref (h 100))]) hx hb dX1_there_28 rfl hl (by decide) rfl (fun ls hl => ?_)
          refine lv_iinc (v := nI (i + 1)) (lv' := [(2, .int (nI (i + 1))), (1, .int (mk_ (v_he v) (i + 1))), (0, .ref (h 100))]) hx hb dX1_there_29 hl (k := 1) rfl (nI_1 i) (by decide) rfl (fun ls hl => ?_)
          refine lv_goto (tgt := 4) hx hb dX1_there_32 (by decide) ?_
          exact ih (i + 1) (by omega) (by omega) ls (lv_sub hl [0, 1, 2] rfl)
  refine lv_iconst (v := nI 0) hx hb dX1_there_0 (by decide) ?_
  refine lv_istore_n (lv' := [(1, .int (nI 0)), (0, .ref (h 100))]) hx hb dX1_there_1 rfl hl (by decide) rfl (fun ls hl => ?_)
  refine lv_iconst (v := nI 0) hx hb dX1_there_2 (by decide) ?_
  refine lv_istore_n (lv' := [(2, .int (nI 0)), (1, .int (nI 0)), (0, .ref (h 100))]) hx hb dX1_there_3 rfl hl (by decide) rfl (fun ls hl => ?_)
  exact loop 21 0 (by omega) (by omega) ls (lv_sub hl [0, 1, 2] rfl)
set_option maxHeartbeats 4000000 in
set_option maxRecDepth 100000 in
/-- watched() -/
theorem mm_watched (l : Launch) (D : va_G) (h : Nat → Nat) (d : Nat → ClassId) (u : gS) (v : eV) (hv : v_inv v) (hR : mo_R u v) : gk_Mi l D (mo_t d) (mo_w h d) yX1_watched cX1_watched 3 .int 0 0 [.ref (h 100)] u (fun r u' => r = mk_ (fun o => v_he v o && v_ey v o) 20 ∧ mo_R u' v) := by
  refine gk_oi (own := RX1) (by decide) rfl (Nat.le_of_ble_eq_true rfl) (fun _ _ _ => rfl) ?_
  intro p e R s m args below meth c Q A ls C G hret hl
  have hx := C.1.1
  have hb := C.1.2.1
  have hl : lv_has ls 3 [(0, .ref (h 100))] := hl
  have loop : ∀ (n i : Nat), i ≤ 20 → 21 ≤ i + n → ∀ (ls : Array Slot), lv_has ls 3 [(2, .int (nI i)), (1, .int (mk_ (fun o => v_he v o && v_ey v o) i)), (0, .ref (h 100))] → W p l e R s m args below meth c s.heap [] 0 0 Q (F0 m 4 ls []) := by
    intro n
    induction n with
    | zero => intro i h1 h2; exact absurd h2 (by omega)
    | succ n ih =>
      intro i h1 h2 ls hl
      refine lv_iload_n hx hb dX1_watched_4 rfl (lv_at hl 0 rfl) ?_
      refine lv_bipush (v := nI 20) hx hb dX1_watched_5 (by decide) ?_
      refine lv_icmp_ge (tgt := 44) hx hb dX1_watched_7 (by decide) (fun c1 => ?_) (fun c1 => ?_)
      · have c1 := (nI_leI (a := 20) (b := i) (by omega) (by omega)).mp c1
        have e1 : i = 20 := by omega
        refine lv_iload_n hx hb dX1_watched_44 rfl (lv_at hl 1 rfl) ?_
        exact hret (mk_ (fun o => v_he v o && v_ey v o) i) u _ _ _ _ G (⟨by rw [e1], hR⟩) dX1_watched_45
      · have c1 : i < 20 := by
          rcases Nat.lt_or_ge i 20 with q | q
          · exact q
          · exact absurd (nI_le q (by omega)) c1
        refine lv_aload_n hx hb dX1_watched_10 rfl (lv_at hl 2 rfl) ?_
        refine mo_g0 C G dX1_watched_11 ?_
        refine lv_iload_n hx hb dX1_watched_14 rfl (lv_at hl 0 rfl) ?_
        refine mo_l0 (n := i) (x := bI (v_he v i)) C G (rfl) (c1) ((hR.1 i c1).1) dX1_watched_15 ?_
        refine lv_if_eq (tgt := 36) hx hb dX1_watched_16 (by decide) (fun c2 => ?_) (fun c2 => ?_)
        · refine lv_iload_n hx hb dX1_watched_36 rfl (lv_at hl 1 rfl) ?_
          refine gk_tv (y := mk_ (fun o => v_he v o && v_ey v o) (i + 1)) ((if_neg (show ¬ (v_he v i && v_ey v i) = true by rw [bI_eq.mp c2]; simp)).symm) ?_
          refine lv_istore_n (lv' := [(1, .int (mk_ (fun o => v_he v o && v_ey v o) (i + 1))), (2, .int (nI i)), (0, .ref (h 100))]) hx hb dX1_watched_37 rfl hl (by decide) rfl (fun ls hl => ?_)
          refine lv_iinc (v := nI (i + 1)) (lv' := [(2, .int (nI (i + 1))), (1, .int (mk_ (fun o => v_he v o && v_ey v o) (i + 1))), (0, .ref (h 100))]) hx hb dX1_watched_38 hl (k := 1) rfl (nI_1 i) (by decide) rfl (fun ls hl => ?_)
          refine lv_goto (tgt := 4) hx hb dX1_watched_41 (by decide) ?_
          exact ih (i + 1) (by omega) (by omega) ls (lv_sub hl [0, 1, 2] rfl)
        · refine lv_aload_n hx hb dX1_watched_19 rfl (lv_at hl 2 rfl) ?_
          refine mo_g2 C G dX1_watched_20 ?_
          refine lv_iload_n hx hb dX1_watched_23 rfl (lv_at hl 0 rfl) ?_
          refine mo_l2 (n := i) (x := bI (v_ey v i)) C G (rfl) (c1) ((hR.1 i c1).2.2.1) dX1_watched_24 ?_
          refine lv_if_eq (tgt := 36) hx hb dX1_watched_25 (by decide) (fun c3 => ?_) (fun c3 => ?_)
          · refine lv_iload_n hx hb dX1_watched_36 rfl (lv_at hl 1 rfl) ?_
            refine gk_tv (y := mk_ (fun o => v_he v o && v_ey v o) (i + 1)) ((if_neg (show ¬ (v_he v i && v_ey v i) = true by rw [bI_eq.mp c3]; simp)).symm) ?_
            refine lv_istore_n (lv' := [(1, .int (mk_ (fun o => v_he v o && v_ey v o) (i + 1))), (2, .int (nI i)), (0, .ref (h 100))]) hx hb dX1_watched_37 rfl hl (by decide) rfl (fun ls hl => ?_)
            refine lv_iinc (v := nI (i + 1)) (lv' := [(2, .int (nI (i + 1))), (1, .int (mk_ (fun o => v_he v o && v_ey v o) (i + 1))), (0, .ref (h 100))]) hx hb dX1_watched_38 hl (k := 1) rfl (nI_1 i) (by decide) rfl (fun ls hl => ?_)
            refine lv_goto (tgt := 4) hx hb dX1_watched_41 (by decide) ?_
            exact ih (i + 1) (by omega) (by omega) ls (lv_sub hl [0, 1, 2] rfl)
          · refine lv_iload_n hx hb dX1_watched_28 rfl (lv_at hl 1 rfl) ?_
            refine lv_iconst (v := nI 1) hx hb dX1_watched_29 (by decide) ?_
            refine lv_iload_n hx hb dX1_watched_30 rfl (lv_at hl 0 rfl) ?_
            refine lv_ishl hx hb dX1_watched_31 ?_
            refine lv_ior hx hb dX1_watched_32 ?_
            refine lv_goto (tgt := 37) hx hb dX1_watched_33 (by decide) ?_
            refine gk_tv (y := mk_ (fun o => v_he v o && v_ey v o) (i + 1)) ((if_pos (show (v_he v i && v_ey v i) = true by rw [bI_ne.mp c2, bI_ne.mp c3]; rfl)).symm) ?_
            refine lv_istore_n (lv' := [(1, .int (mk_ (fun o => v_he v o && v_ey v o) (i + 1))), (2, .int (nI i)), (0, .ref (h 100))]) hx hb dX1_watched_37 rfl hl (by decide) rfl (fun ls hl => ?_)
            refine lv_iinc (v := nI (i + 1)) (lv' := [(2, .int (nI (i + 1))), (1, .int (mk_ (fun o => v_he v o && v_ey v o) (i + 1))), (0, .ref (h 100))]) hx hb dX1_watched_38 hl (k := 1) rfl (nI_1 i) (by decide) rfl (fun ls hl => ?_)
            refine lv_goto (tgt := 4) hx hb dX1_watched_41 (by decide) ?_
            exact ih (i + 1) (by omega) (by omega) ls (lv_sub hl [0, 1, 2] rfl)
  refine lv_iconst (v := nI 0) hx hb dX1_watched_0 (by decide) ?_
  refine lv_istore_n (lv' := [(1, .int (nI 0)), (0, .ref (h 100))]) hx hb dX1_watched_1 rfl hl (by decide) rfl (fun ls hl => ?_)
  refine lv_iconst (v := nI 0) hx hb dX1_watched_2 (by decide) ?_
  refine lv_istore_n (lv' := [(2, .int (nI 0)), (1, .int (nI 0)), (0, .ref (h 100))]) hx hb dX1_watched_3 rfl hl (by decide) rfl (fun ls hl => ?_)
  exact loop 21 0 (by omega) (by omega) ls (lv_sub hl [0, 1, 2] rfl)
set_option maxHeartbeats 4000000 in
set_option maxRecDepth 100000 in
/-- heldBy(o) -/
theorem mm_heldBy (l : Launch) (D : va_G) (h : Nat → Nat) (d : Nat → ClassId) (u : gS) (v : eV) (x : Int32) (hv : v_inv v) (hR : mo_R u v) : gk_Mi l D (mo_t d) (mo_w h d) yX1_heldBy cX1_heldBy 6 .int 2 47 [.ref (h 100), .int x] u (fun r u' => r = a_held v x ∧ mo_R u' v) := by
  refine gk_oi (own := RX1) (by decide) rfl (Nat.le_of_ble_eq_true rfl) (fun _ _ _ => rfl) ?_
  intro p e R s m args below meth c Q A ls C G hret hl
  have hx := C.1.1
  have hb := C.1.2.1
  have hl : lv_has ls 6 [(0, .ref (h 100)), (1, .int x)] := hl
  refine lv_aload_n hx hb dX1_heldBy_0 rfl (lv_at hl 0 rfl) ?_
  refine lv_iload_n hx hb dX1_heldBy_1 rfl (lv_at hl 1 rfl) ?_
  refine mo_ci (n := 1) (As := [.int x]) (rest := []) C G (mm_is l D h d u v x hR) (lw_V q228 q230 qs12 q17 q231) (by decide +kernel) rfl (by decide) rfl (Nat.le_of_ble_eq_true rfl) hl.1 dX1_heldBy_2 (fun rh u9 H locs hp9 G => ?_)
  obtain ⟨er9, eu9⟩ := hp9
  rw [eu9] at G
  refine gk_tv (y := bI (v_has v x)) (er9) ?_
  refine lv_if_ne (tgt := 10) hx hb dX1_heldBy_5 (by decide) (fun c0 => ?_) (fun c0 => ?_)
  · obtain ⟨n, hn, ex, hh⟩ := v_has_of (bI_ne.mp c0)
    refine lv_aload_n hx hb dX1_heldBy_10 rfl (lv_at hl 0 rfl) ?_
    refine mo_ci (n := 0) (As := []) (rest := []) C G (mm_living l D h d u v hv hR) (lw_V q244 q246 qs13 q17 q247) (by decide +kernel) rfl (by decide) rfl (Nat.le_of_ble_eq_true rfl) hl.1 dX1_heldBy_11 (fun r1 u1 H locs hp1 G => ?_)
    obtain ⟨er1, eu1⟩ := hp1
    rw [eu1] at G
    refine gk_tv (y := mk_ (v_lb v) 20) (er1) ?_
    refine lv_istore_n (lv' := [(2, .int (mk_ (v_lb v) 20)), (0, .ref (h 100)), (1, .int x)]) hx hb dX1_heldBy_14 rfl hl (by decide) rfl (fun ls hl => ?_)
    refine lv_aload_n hx hb dX1_heldBy_15 rfl (lv_at hl 1 rfl) ?_
    refine mo_g3 C G dX1_heldBy_16 ?_
    refine lv_iload_n hx hb dX1_heldBy_19 rfl (lv_at hl 2 rfl) ?_
    refine mo_l3 (n := n) (x := eM (v_fa v n)) C G (ex) (hn) ((hR.1 n hn).2.2.2.1) dX1_heldBy_20 ?_
    refine lv_istore_n (lv' := [(3, .int (eM (v_fa v n))), (2, .int (mk_ (v_lb v) 20)), (0, .ref (h 100)), (1, .int x)]) hx hb dX1_heldBy_21 rfl hl (by decide) rfl (fun ls hl => ?_)
    refine lv_aload_n hx hb dX1_heldBy_22 rfl (lv_at hl 2 rfl) ?_
    refine mo_g4 C G dX1_heldBy_23 ?_
    refine lv_iload_n hx hb dX1_heldBy_26 rfl (lv_at hl 3 rfl) ?_
    refine mo_l4 (n := n) (x := eM (v_fb v n)) C G (ex) (hn) ((hR.1 n hn).2.2.2.2) dX1_heldBy_27 ?_
    refine lv_istore (lv' := [(4, .int (eM (v_fb v n))), (3, .int (eM (v_fa v n))), (2, .int (mk_ (v_lb v) 20)), (0, .ref (h 100)), (1, .int x)]) hx hb dX1_heldBy_28 hl (by decide) rfl (fun ls hl => ?_)
    refine lv_aload_n hx hb dX1_heldBy_30 rfl (lv_at hl 3 rfl) ?_
    refine mo_g3 C G dX1_heldBy_31 ?_
    refine lv_iload_n hx hb dX1_heldBy_34 rfl (lv_at hl 4 rfl) ?_
    refine lv_iconst (v := nI 0) hx hb dX1_heldBy_35 (by decide) ?_
    refine mo_s3 (n := n) (x := eM none) C G (ex) (hn) (rfl) dX1_heldBy_36 (fun H locs G => ?_)
    refine lv_aload_n hx hb dX1_heldBy_37 rfl (lv_at hl 3 rfl) ?_
    refine mo_g4 C G dX1_heldBy_38 ?_
    refine lv_iload_n hx hb dX1_heldBy_41 rfl (lv_at hl 4 rfl) ?_
    refine lv_iconst (v := nI 0) hx hb dX1_heldBy_42 (by decide) ?_
    refine mo_s4 (n := n) (x := eM none) C G (ex) (hn) (rfl) dX1_heldBy_43 (fun H locs G => ?_)
    refine lv_iload_n hx hb dX1_heldBy_44 rfl (lv_at hl 2 rfl) ?_
    refine lv_aload_n hx hb dX1_heldBy_45 rfl (lv_at hl 3 rfl) ?_
    have hv2 : v_inv (v_setB (v_setA v n none) n none) := sB_inv (sA_inv hv (fun k e => by cases e)) (fun k e => by cases e)
    have hRm := M_setB1 (M_setA1 hR n none) n none
    refine mo_ci (n := 0) (As := []) (rest := [.int (mk_ (v_lb v) 20)]) C G (mm_living l D h d _ (v_setB (v_setA v n none) n none) hv2 hRm) (lw_V q244 q246 qs13 q17 q247) (by decide +kernel) rfl (by decide) rfl (Nat.le_of_ble_eq_true rfl) hl.1 dX1_heldBy_46 (fun r2 u2 H locs hp2 G => ?_)
    obtain ⟨er2, eu2⟩ := hp2
    rw [eu2] at G
    refine gk_tv (y := mk_ (v_lb (v_setB (v_setA v n none) n none)) 20) (er2) ?_
    refine lv_iconst (v := -1) hx hb dX1_heldBy_49 (by decide) ?_
    refine lv_ixor hx hb dX1_heldBy_50 ?_
    refine lv_iand hx hb dX1_heldBy_51 ?_
    refine lv_istore (lv' := [(5, .int ((mk_ (v_lb v) 20) &&& ((mk_ (v_lb (v_setB (v_setA v n none) n none)) 20) ^^^ (-1)))), (4, .int (eM (v_fb v n))), (3, .int (eM (v_fa v n))), (2, .int (mk_ (v_lb v) 20)), (0, .ref (h 100)), (1, .int x)]) hx hb dX1_heldBy_52 hl (by decide) rfl (fun ls hl => ?_)
    refine lv_aload_n hx hb dX1_heldBy_54 rfl (lv_at hl 4 rfl) ?_
    refine mo_g3 C G dX1_heldBy_55 ?_
    refine lv_iload_n hx hb dX1_heldBy_58 rfl (lv_at hl 5 rfl) ?_
    refine lv_iload_n hx hb dX1_heldBy_59 rfl (lv_at hl 2 rfl) ?_
    refine mo_s3 (n := n) (x := eM (v_fa v n)) C G (ex) (hn) (rfl) dX1_heldBy_60 (fun H locs G => ?_)
    refine lv_aload_n hx hb dX1_heldBy_61 rfl (lv_at hl 4 rfl) ?_
    refine mo_g4 C G dX1_heldBy_62 ?_
    refine lv_iload_n hx hb dX1_heldBy_65 rfl (lv_at hl 5 rfl) ?_
    refine lv_iload hx hb dX1_heldBy_66 (lv_at hl 1 rfl) ?_
    refine mo_s4 (n := n) (x := eM (v_fb v n)) C G (ex) (hn) (rfl) dX1_heldBy_68 (fun H locs G => ?_)
    refine lv_iload hx hb dX1_heldBy_69 (lv_at hl 0 rfl) ?_
    exact hret (mk_ (v_lb v) 20 &&& (mk_ (v_lb (v_setB (v_setA v n none) n none)) 20 ^^^ -1)) _ _ _ _ _ G (⟨(hd_t hn ex hh).symm, by have z := M_setB1 (M_setA1 hRm n (v_fa v n)) n (v_fb v n); rw [held_back] at z; exact z⟩) dX1_heldBy_71
  · refine lv_iconst (v := nI 0) hx hb dX1_heldBy_8 (by decide) ?_
    exact hret (nI 0) u _ _ _ _ G (⟨(hd_f (bI_eq.mp c0)).symm, hR⟩) dX1_heldBy_9
end
section
/-! EphemeronHeapModel: clean -/
set_option maxHeartbeats 4000000 in
set_option maxRecDepth 100000 in
/-- clean() -/
theorem mm_clean (l : Launch) (D : va_G) (h : Nat → Nat) (d : Nat → ClassId) (u : gS) (v : eV) (hv : v_inv v) (hR0 : mo_R u v) : gk_Mi l D (mo_t d) (mo_w h d) yX1_clean cX1_clean 9 .int 2 47 [.ref (h 100)] u (fun r u' => r = (o_clean v).1 ∧ mo_R u' (o_clean v).2) := by
  refine gk_oi (own := RX1) (by decide) rfl (Nat.le_of_ble_eq_true rfl) (fun _ _ _ => rfl) ?_
  intro p e R s m args below meth c Q A ls C G hret hl
  have hx := C.1.1
  have hb := C.1.2.1
  have hl : lv_has ls 9 [(0, .ref (h 100))] := hl
  have hB : ∀ o, o ∈ v_qu v → v_lb v o = true := fun o ho => v_lb_iff.mpr (v_live_start (Or.inr ho))
  have hv1 : v_inv (v_res v (v_lb v) 20) := res_inv (Nat.le_refl _) hv hB
  obtain ⟨w1, hw1⟩ : ∃ z, z = v_res v (v_lb v) 20 := ⟨_, rfl⟩
  obtain ⟨B0, hB0⟩ : ∃ z, z = v_lb v := ⟨_, rfl⟩
  obtain ⟨A0, hA0⟩ : ∃ z, z = v_lb w1 := ⟨_, rfl⟩
  rw [← hw1] at hv1
  have loop2 : ∀ (n i : Nat) (u1 : gS), i ≤ 20 → 21 ≤ i + n → mo_R u1 (v_part w1 B0 A0 i) → ∀ (H : Heap) (locs : List Loc), gk_G D (mo_w h d u1) A s.heap H locs → ∀ (ls : Array Slot), lv_has ls 9 [(4, .int (nI i)), (3, .int (nI (fb_ct (fun o => v_he w1 o && !A0 o) i))), (2, .int (mk_ A0 20)), (1, .int (mk_ B0 20)), (0, .ref (h 100))] → W p l e R s m args below meth c H locs 0 0 Q (F0 m 82 ls []) := by
    intro n
    induction n with
    | zero => intro i u1 h1 h2; exact absurd h2 (by omega)
    | succ n ih =>
      intro i u1 h1 h2 hR H locs G ls hl
      refine lv_iload hx hb dX1_clean_82 (lv_at hl 0 rfl) ?_
      refine lv_bipush (v := nI 20) hx hb dX1_clean_84 (by decide) ?_
      refine lv_icmp_ge (tgt := 295) hx hb dX1_clean_86 (by decide) (fun c1 => ?_) (fun c1 => ?_)
      · have c1 := (nI_leI (a := 20) (b := i) (by omega) (by omega)).mp c1
        have e1 : i = 20 := by omega
        rw [e1] at hR
        refine lv_iload_n hx hb dX1_clean_295 rfl (lv_at hl 1 rfl) ?_
        exact hret (nI (fb_ct (fun o => v_he w1 o && !A0 o) i)) u1 _ _ _ _ G (⟨by rw [e1, hA0, hw1]; rfl, by rw [hA0, hB0, hw1] at hR; exact part_end hR⟩) dX1_clean_296
      · have c1 : i < 20 := by
          rcases Nat.lt_or_ge i 20 with q | q
          · exact q
          · exact absurd (nI_le q (by omega)) c1
        have hat := part_at hR c1
        have hbd := hv1.1 i c1
        have J288 : ∀ (H : Heap) (locs : List Loc), gk_G D (mo_w h d (gA (gA u1 3 i (eM (v_fa2 w1 B0 A0 i))) 4 i (eM (v_fb2 w1 B0 A0 i)))) A s.heap H locs → ∀ (ls : Array Slot), lv_has ls 9 [(0, .ref (h 100)), (1, .int (mk_ B0 20)), (2, .int (mk_ A0 20)), (3, .int (nI (fb_ct (fun o => v_he w1 o && !A0 o) (i + 1)))), (4, .int (nI i))] → W p l e R s m args below meth c H locs 0 0 Q (F0 m 288 ls [.int (bI (v_he w1 i && A0 i)), .int (nI i), .ref (h 0)]) := by
          intro H locs G ls hl
          refine mo_s0 (n := i) (x := bI (v_he w1 i && A0 i)) C G (rfl) (c1) (nz_b _) dX1_clean_288 (fun H locs G => ?_)
          refine lv_iinc (v := nI (i + 1)) (lv' := [(4, .int (nI (i + 1))), (0, .ref (h 100)), (1, .int (mk_ B0 20)), (2, .int (mk_ A0 20)), (3, .int (nI (fb_ct (fun o => v_he w1 o && !A0 o) (i + 1))))]) hx hb dX1_clean_289 hl (k := 4) rfl (nI_1 i) (by decide) rfl (fun ls hl => ?_)
          refine lv_goto (tgt := 82) hx hb dX1_clean_292 (by decide) ?_
          exact ih (i + 1) _ (by omega) (by omega) (part_step hR) _ _ G ls (lv_sub hl [0, 4, 3, 2, 1] rfl)
        have J261 : ∀ (H : Heap) (locs : List Loc), gk_G D (mo_w h d (gA (gA u1 3 i (eM (v_fa2 w1 B0 A0 i))) 4 i (eM (v_fb2 w1 B0 A0 i)))) A s.heap H locs → ∀ (ls : Array Slot), lv_has ls 9 [(0, .ref (h 100)), (1, .int (mk_ B0 20)), (2, .int (mk_ A0 20)), (4, .int (nI i)), (8, .int (bI (v_he w1 i && !A0 i)))] → W p l e R s m args below meth c H locs 0 0 Q (F0 m 261 ls [.int (nI (fb_ct (fun o => v_he w1 o && !A0 o) (i + 1)))]) := by
          intro H locs G ls hl
          refine lv_istore_n (lv' := [(3, .int (nI (fb_ct (fun o => v_he w1 o && !A0 o) (i + 1)))), (0, .ref (h 100)), (1, .int (mk_ B0 20)), (2, .int (mk_ A0 20)), (4, .int (nI i)), (8, .int (bI (v_he w1 i && !A0 i)))]) hx hb dX1_clean_261 rfl hl (by decide) rfl (fun ls hl => ?_)
          refine lv_aload_n hx hb dX1_clean_262 rfl (lv_at hl 1 rfl) ?_
          refine mo_g0 C G dX1_clean_263 ?_
          refine lv_iload hx hb dX1_clean_266 (lv_at hl 4 rfl) ?_
          refine lv_aload_n hx hb dX1_clean_268 rfl (lv_at hl 1 rfl) ?_
          refine mo_g0 C G dX1_clean_269 ?_
          refine lv_iload hx hb dX1_clean_272 (lv_at hl 4 rfl) ?_
          refine mo_l0 (n := i) (x := bI (v_he w1 i)) C G (rfl) (c1) (hat.1) dX1_clean_274 ?_
          refine lv_if_eq (tgt := 287) hx hb dX1_clean_275 (by decide) (fun d1 => ?_) (fun d1 => ?_)
          · refine lv_iconst (v := nI 0) hx hb dX1_clean_287 (by decide) ?_
            exact gk_tv (by rw [bI_eq.mp d1]; rfl) (J288 _ _ G ls (lv_sub hl [1, 2, 3, 0, 4] rfl))
          · refine lv_iload hx hb dX1_clean_278 (lv_at hl 5 rfl) ?_
            refine lv_if_ne (tgt := 287) hx hb dX1_clean_280 (by decide) (fun d2 => ?_) (fun d2 => ?_)
            · refine lv_iconst (v := nI 0) hx hb dX1_clean_287 (by decide) ?_
              exact gk_tv (hn_1 (bI_ne.mp d1) (bI_ne.mp d2)) (J288 _ _ G ls (lv_sub hl [1, 2, 3, 0, 4] rfl))
            · refine lv_iconst (v := nI 1) hx hb dX1_clean_283 (by decide) ?_
              refine lv_goto (tgt := 288) hx hb dX1_clean_284 (by decide) ?_
              exact gk_tv (hn_2 (bI_ne.mp d1) (bI_eq.mp d2)) (J288 _ _ G ls (lv_sub hl [1, 2, 3, 0, 4] rfl))
        have J247 : ∀ (H : Heap) (locs : List Loc), gk_G D (mo_w h d (gA (gA u1 3 i (eM (v_fa2 w1 B0 A0 i))) 4 i (eM (v_fb2 w1 B0 A0 i)))) A s.heap H locs → ∀ (ls : Array Slot), lv_has ls 9 [(0, .ref (h 100)), (1, .int (mk_ B0 20)), (2, .int (mk_ A0 20)), (3, .int (nI (fb_ct (fun o => v_he w1 o && !A0 o) i))), (4, .int (nI i))] → W p l e R s m args below meth c H locs 0 0 Q (F0 m 247 ls [.int (bI (v_he w1 i && !A0 i))]) := by
          intro H locs G ls hl
          refine lv_istore (lv' := [(8, .int (bI (v_he w1 i && !A0 i))), (0, .ref (h 100)), (1, .int (mk_ B0 20)), (2, .int (mk_ A0 20)), (3, .int (nI (fb_ct (fun o => v_he w1 o && !A0 o) i))), (4, .int (nI i))]) hx hb dX1_clean_247 hl (by decide) rfl (fun ls hl => ?_)
          refine lv_iload hx hb dX1_clean_249 (lv_at hl 0 rfl) ?_
          refine lv_if_eq (tgt := 260) hx hb dX1_clean_251 (by decide) (fun d1 => ?_) (fun d1 => ?_)
          · refine lv_iload_n hx hb dX1_clean_260 rfl (lv_at hl 4 rfl) ?_
            exact gk_tv (by rw [fb_ct_succ, bI_eq.mp d1]; rfl) (J261 _ _ G ls (lv_sub hl [1, 2, 3, 5, 0] rfl))
          · refine lv_iload_n hx hb dX1_clean_254 rfl (lv_at hl 4 rfl) ?_
            refine lv_iconst (v := nI 1) hx hb dX1_clean_255 (by decide) ?_
            refine lv_iadd hx hb dX1_clean_256 ?_
            refine lv_goto (tgt := 261) hx hb dX1_clean_257 (by decide) ?_
            exact gk_tv (by rw [fb_ct_succ, bI_ne.mp d1]; exact nI_1 _) (J261 _ _ G ls (lv_sub hl [1, 2, 3, 5, 0] rfl))
        have J222 : ∀ (H : Heap) (locs : List Loc), gk_G D (mo_w h d (gA u1 3 i (eM (v_fa2 w1 B0 A0 i)))) A s.heap H locs → ∀ (ls : Array Slot), lv_has ls 9 [(0, .ref (h 100)), (1, .int (mk_ B0 20)), (2, .int (mk_ A0 20)), (3, .int (nI (fb_ct (fun o => v_he w1 o && !A0 o) i))), (4, .int (nI i))] → W p l e R s m args below meth c H locs 0 0 Q (F0 m 222 ls [.int (eM (v_fb2 w1 B0 A0 i)), .int (nI i), .ref (h 4)]) := by
          intro H locs G ls hl
          refine mo_s4 (n := i) (x := eM (v_fb2 w1 B0 A0 i)) C G (rfl) (c1) (rfl) dX1_clean_222 (fun H locs G => ?_)
          refine lv_aload_n hx hb dX1_clean_223 rfl (lv_at hl 0 rfl) ?_
          refine mo_g0 C G dX1_clean_224 ?_
          refine lv_iload hx hb dX1_clean_227 (lv_at hl 4 rfl) ?_
          refine mo_l0 (n := i) (x := bI (v_he w1 i)) C G (rfl) (c1) (hat.1) dX1_clean_229 ?_
          refine lv_if_eq (tgt := 246) hx hb dX1_clean_230 (by decide) (fun d1 => ?_) (fun d1 => ?_)
          · refine lv_iconst (v := nI 0) hx hb dX1_clean_246 (by decide) ?_
            exact gk_tv (by rw [bI_eq.mp d1]; rfl) (J247 _ _ G ls (lv_sub hl [0, 1, 2, 3, 4] rfl))
          · refine lv_iload_n hx hb dX1_clean_233 rfl (lv_at hl 2 rfl) ?_
            refine lv_iload hx hb dX1_clean_234 (lv_at hl 4 rfl) ?_
            refine lv_ishr hx hb dX1_clean_236 ?_
            refine lv_iconst (v := nI 1) hx hb dX1_clean_237 (by decide) ?_
            refine lv_iand hx hb dX1_clean_238 ?_
            refine gk_tv (y := bI (A0 i)) (mk_test c1) ?_
            refine lv_if_ne (tgt := 246) hx hb dX1_clean_239 (by decide) (fun d2 => ?_) (fun d2 => ?_)
            · refine lv_iconst (v := nI 0) hx hb dX1_clean_246 (by decide) ?_
              exact gk_tv (by rw [bI_ne.mp d1, bI_ne.mp d2]; rfl) (J247 _ _ G ls (lv_sub hl [0, 1, 2, 3, 4] rfl))
            · refine lv_iconst (v := nI 1) hx hb dX1_clean_242 (by decide) ?_
              refine lv_goto (tgt := 247) hx hb dX1_clean_243 (by decide) ?_
              exact gk_tv (by rw [bI_ne.mp d1, bI_eq.mp d2]; rfl) (J247 _ _ G ls (lv_sub hl [0, 1, 2, 3, 4] rfl))
        have J183 : ∀ (H : Heap) (locs : List Loc), gk_G D (mo_w h d u1) A s.heap H locs → ∀ (ls : Array Slot), lv_has ls 9 [(0, .ref (h 100)), (1, .int (mk_ B0 20)), (2, .int (mk_ A0 20)), (3, .int (nI (fb_ct (fun o => v_he w1 o && !A0 o) i))), (4, .int (nI i))] → W p l e R s m args below meth c H locs 0 0 Q (F0 m 183 ls [.int (eM (v_fa2 w1 B0 A0 i)), .int (nI i), .ref (h 3)]) := by
          intro H locs G ls hl
          refine mo_s3 (n := i) (x := eM (v_fa2 w1 B0 A0 i)) C G (rfl) (c1) (rfl) dX1_clean_183 (fun H locs G => ?_)
          refine lv_aload_n hx hb dX1_clean_184 rfl (lv_at hl 0 rfl) ?_
          refine mo_g4 C G dX1_clean_185 ?_
          refine lv_iload hx hb dX1_clean_188 (lv_at hl 4 rfl) ?_
          refine lv_aload_n hx hb dX1_clean_190 rfl (lv_at hl 0 rfl) ?_
          refine mo_g1 C G dX1_clean_191 ?_
          refine lv_iload hx hb dX1_clean_194 (lv_at hl 4 rfl) ?_
          refine mo_l1 (n := i) (x := nI (v_ki w1 i)) C G (rfl) (c1) (hat.2.1) dX1_clean_196 ?_
          refine lv_iconst (v := nI 2) hx hb dX1_clean_197 (by decide) ?_
          refine lv_icmp_ne (tgt := 215) hx hb dX1_clean_198 (by decide) (fun d1 => ?_) (fun d1 => ?_)
          · have d1 : (v_ki w1 i) ≠ 2 := fun q => d1 (by rw [q])
            refine lv_aload_n hx hb dX1_clean_215 rfl (lv_at hl 0 rfl) ?_
            refine mo_g4 C G dX1_clean_216 ?_
            refine lv_iload hx hb dX1_clean_219 (lv_at hl 4 rfl) ?_
            refine mo_l4 (n := i) (x := eM (v_fb w1 i)) C G (rfl) (c1) (hat.2.2.2) dX1_clean_221 ?_
            exact gk_tv (by rw [m_fb d1]) (J222 _ _ G ls (lv_sub hl [0, 1, 2, 3, 4] rfl))
          · have d1 : (v_ki w1 i) = 2 := (ki_cmp hbd.1 (by omega)).mp d1
            refine lv_aload_n hx hb dX1_clean_201 rfl (lv_at hl 0 rfl) ?_
            refine mo_g3 C G dX1_clean_202 ?_
            refine lv_iload hx hb dX1_clean_205 (lv_at hl 4 rfl) ?_
            refine mo_l3 (n := i) (x := eM (v_fa2 w1 B0 A0 i)) C G (rfl) (c1) (if_pos rfl) dX1_clean_207 ?_
            refine lv_if_ne (tgt := 215) hx hb dX1_clean_208 (by decide) (fun d2 => ?_) (fun d2 => ?_)
            · have d2 : (v_fa2 w1 B0 A0 i) ≠ none := fun q => d2 (by rw [q]; rfl)
              refine lv_aload_n hx hb dX1_clean_215 rfl (lv_at hl 0 rfl) ?_
              refine mo_g4 C G dX1_clean_216 ?_
              refine lv_iload hx hb dX1_clean_219 (lv_at hl 4 rfl) ?_
              refine mo_l4 (n := i) (x := eM (v_fb w1 i)) C G (rfl) (c1) (hat.2.2.2) dX1_clean_221 ?_
              exact gk_tv (by rw [show v_fb2 w1 B0 A0 i = v_fb w1 i from if_neg (fun q => d2 q.2)]) (J222 _ _ G ls (lv_sub hl [0, 1, 2, 3, 4] rfl))
            · refine lv_iconst (v := nI 0) hx hb dX1_clean_211 (by decide) ?_
              refine lv_goto (tgt := 222) hx hb dX1_clean_212 (by decide) ?_
              exact gk_tv (by rw [m_fbn d1 ((eM_0 (fun k e => hbd.2.1 k (m_fa_sub e))).mp d2)]; rfl) (J222 _ _ G ls (lv_sub hl [0, 1, 2, 3, 4] rfl))
        have J154 : ∀ (H : Heap) (locs : List Loc), gk_G D (mo_w h d u1) A s.heap H locs → ∀ (ls : Array Slot), lv_has ls 9 [(0, .ref (h 100)), (1, .int (mk_ B0 20)), (2, .int (mk_ A0 20)), (3, .int (nI (fb_ct (fun o => v_he w1 o && !A0 o) i))), (4, .int (nI i)), (5, .int (eB (v_fa w1 i))), (6, .int (bI (m_wk w1 B0 i)))] → W p l e R s m args below meth c H locs 0 0 Q (F0 m 154 ls [.int (bI (m_pr w1 A0 i))]) := by
          intro H locs G ls hl
          refine lv_istore (lv' := [(7, .int (bI (m_pr w1 A0 i))), (0, .ref (h 100)), (1, .int (mk_ B0 20)), (2, .int (mk_ A0 20)), (3, .int (nI (fb_ct (fun o => v_he w1 o && !A0 o) i))), (4, .int (nI i)), (5, .int (eB (v_fa w1 i))), (6, .int (bI (m_wk w1 B0 i)))]) hx hb dX1_clean_154 hl (by decide) rfl (fun ls hl => ?_)
          refine lv_aload_n hx hb dX1_clean_156 rfl (lv_at hl 1 rfl) ?_
          refine mo_g3 C G dX1_clean_157 ?_
          refine lv_iload hx hb dX1_clean_160 (lv_at hl 5 rfl) ?_
          refine lv_iload hx hb dX1_clean_162 (lv_at hl 7 rfl) ?_
          refine lv_if_ne (tgt := 172) hx hb dX1_clean_164 (by decide) (fun d1 => ?_) (fun d1 => ?_)
          · refine lv_iconst (v := nI 0) hx hb dX1_clean_172 (by decide) ?_
            refine lv_goto (tgt := 183) hx hb dX1_clean_173 (by decide) ?_
            exact gk_tv (by rw [fa2_flags, bI_ne.mp d1]; rfl) (J183 _ _ G ls (lv_sub hl [1, 2, 3, 4, 5] rfl))
          · refine lv_iload hx hb dX1_clean_167 (lv_at hl 0 rfl) ?_
            refine lv_if_eq (tgt := 176) hx hb dX1_clean_169 (by decide) (fun d2 => ?_) (fun d2 => ?_)
            · refine lv_aload_n hx hb dX1_clean_176 rfl (lv_at hl 1 rfl) ?_
              refine mo_g3 C G dX1_clean_177 ?_
              refine lv_iload hx hb dX1_clean_180 (lv_at hl 5 rfl) ?_
              refine mo_l3 (n := i) (x := eM (v_fa w1 i)) C G (rfl) (c1) (hat.2.2.1) dX1_clean_182 ?_
              exact gk_tv (by rw [fa2_flags, bI_eq.mp d1, bI_eq.mp d2]; rfl) (J183 _ _ G ls (lv_sub hl [1, 2, 3, 4, 5] rfl))
            · refine lv_iconst (v := nI 0) hx hb dX1_clean_172 (by decide) ?_
              refine lv_goto (tgt := 183) hx hb dX1_clean_173 (by decide) ?_
              exact gk_tv (by rw [fa2_flags, bI_eq.mp d1, bI_ne.mp d2]; rfl) (J183 _ _ G ls (lv_sub hl [1, 2, 3, 4, 5] rfl))
        have J127 : ∀ (H : Heap) (locs : List Loc), gk_G D (mo_w h d u1) A s.heap H locs → ∀ (ls : Array Slot), lv_has ls 9 [(0, .ref (h 100)), (1, .int (mk_ B0 20)), (2, .int (mk_ A0 20)), (3, .int (nI (fb_ct (fun o => v_he w1 o && !A0 o) i))), (4, .int (nI i)), (5, .int (eB (v_fa w1 i)))] → W p l e R s m args below meth c H locs 0 0 Q (F0 m 127 ls [.int (bI (m_wk w1 B0 i))]) := by
          intro H locs G ls hl
          refine lv_istore (lv' := [(6, .int (bI (m_wk w1 B0 i))), (0, .ref (h 100)), (1, .int (mk_ B0 20)), (2, .int (mk_ A0 20)), (3, .int (nI (fb_ct (fun o => v_he w1 o && !A0 o) i))), (4, .int (nI i)), (5, .int (eB (v_fa w1 i)))]) hx hb dX1_clean_127 hl (by decide) rfl (fun ls hl => ?_)
          refine lv_aload_n hx hb dX1_clean_129 rfl (lv_at hl 1 rfl) ?_
          refine mo_g1 C G dX1_clean_130 ?_
          refine lv_iload hx hb dX1_clean_133 (lv_at hl 5 rfl) ?_
          refine mo_l1 (n := i) (x := nI (v_ki w1 i)) C G (rfl) (c1) (hat.2.1) dX1_clean_135 ?_
          refine lv_iconst (v := nI 2) hx hb dX1_clean_136 (by decide) ?_
          refine lv_icmp_ne (tgt := 153) hx hb dX1_clean_137 (by decide) (fun d1 => ?_) (fun d1 => ?_)
          · refine lv_iconst (v := nI 0) hx hb dX1_clean_153 (by decide) ?_
            exact gk_tv (by rw [pr_f1 (fun q => d1 (by rw [q]))]; rfl) (J154 _ _ G ls (lv_sub hl [1, 2, 3, 4, 5, 6, 0] rfl))
          · have d1 : (v_ki w1 i) = 2 := (ki_cmp hbd.1 (by omega)).mp d1
            refine lv_iload hx hb dX1_clean_140 (lv_at hl 6 rfl) ?_
            refine lv_iload_n hx hb dX1_clean_142 rfl (lv_at hl 3 rfl) ?_
            refine lv_iconst (v := -1) hx hb dX1_clean_143 (by decide) ?_
            refine lv_ixor hx hb dX1_clean_144 ?_
            refine lv_iand hx hb dX1_clean_145 ?_
            refine lv_if_eq (tgt := 153) hx hb dX1_clean_146 (by decide) (fun d2 => ?_) (fun d2 => ?_)
            · refine lv_iconst (v := nI 0) hx hb dX1_clean_153 (by decide) ?_
              exact gk_tv (by rw [pr_2 d1, (and_nB hbd.2.1).mp d2]; rfl) (J154 _ _ G ls (lv_sub hl [1, 2, 3, 4, 5, 6, 0] rfl))
            · refine lv_iconst (v := nI 1) hx hb dX1_clean_149 (by decide) ?_
              refine lv_goto (tgt := 154) hx hb dX1_clean_150 (by decide) ?_
              exact gk_tv (by rw [pr_2 d1, show v_out A0 (v_fa w1 i) = true from by cases e : v_out A0 (v_fa w1 i); exact absurd ((and_nB hbd.2.1).mpr e) d2; rfl]; rfl) (J154 _ _ G ls (lv_sub hl [1, 2, 3, 4, 5, 6, 0] rfl))
        refine lv_aload_n hx hb dX1_clean_89 rfl (lv_at hl 4 rfl) ?_
        refine lv_aload_n hx hb dX1_clean_90 rfl (lv_at hl 4 rfl) ?_
        refine mo_g3 C G dX1_clean_91 ?_
        refine lv_iload hx hb dX1_clean_94 (lv_at hl 0 rfl) ?_
        refine mo_l3 (n := i) (x := eM (v_fa w1 i)) C G (rfl) (c1) (hat.2.2.1) dX1_clean_96 ?_
        refine mo_ci (n := 1) (As := [.int (eM (v_fa w1 i))]) (rest := []) C G (mm_bit l D h d u1 (v_fa w1 i) hbd.2.1) (lw_V q248 q250 qs14 q17 q251) (by decide +kernel) rfl (by decide) rfl (Nat.le_of_ble_eq_true rfl) hl.1 dX1_clean_97 (fun ra u8 H locs hp8 G => ?_)
        obtain ⟨era, eu8⟩ := hp8
        rw [eu8] at G
        refine gk_tv (y := eB (v_fa w1 i)) (era) ?_
        refine lv_istore (lv' := [(5, .int (eB (v_fa w1 i))), (4, .int (nI i)), (3, .int (nI (fb_ct (fun o => v_he w1 o && !A0 o) i))), (2, .int (mk_ A0 20)), (1, .int (mk_ B0 20)), (0, .ref (h 100))]) hx hb dX1_clean_100 hl (by decide) rfl (fun ls hl => ?_)
        refine lv_aload_n hx hb dX1_clean_102 rfl (lv_at hl 5 rfl) ?_
        refine mo_g1 C G dX1_clean_103 ?_
        refine lv_iload hx hb dX1_clean_106 (lv_at hl 1 rfl) ?_
        refine mo_l1 (n := i) (x := nI (v_ki w1 i)) C G (rfl) (c1) (hat.2.1) dX1_clean_108 ?_
        refine lv_iconst (v := nI 1) hx hb dX1_clean_109 (by decide) ?_
        refine lv_icmp_ne (tgt := 126) hx hb dX1_clean_110 (by decide) (fun d1 => ?_) (fun d1 => ?_)
        · refine lv_iconst (v := nI 0) hx hb dX1_clean_126 (by decide) ?_
          exact gk_tv (by rw [wk_f1 (fun q => d1 (by rw [q]))]; rfl) (J127 _ _ G ls (lv_sub hl [5, 4, 3, 2, 1, 0] rfl))
        · have d1 : (v_ki w1 i) = 1 := (ki_cmp hbd.1 (by omega)).mp d1
          refine lv_iload hx hb dX1_clean_113 (lv_at hl 0 rfl) ?_
          refine lv_iload_n hx hb dX1_clean_115 rfl (lv_at hl 4 rfl) ?_
          refine lv_iconst (v := -1) hx hb dX1_clean_116 (by decide) ?_
          refine lv_ixor hx hb dX1_clean_117 ?_
          refine lv_iand hx hb dX1_clean_118 ?_
          refine lv_if_eq (tgt := 126) hx hb dX1_clean_119 (by decide) (fun d2 => ?_) (fun d2 => ?_)
          · refine lv_iconst (v := nI 0) hx hb dX1_clean_126 (by decide) ?_
            exact gk_tv (by rw [wk_2 d1, (and_nB hbd.2.1).mp d2]; rfl) (J127 _ _ G ls (lv_sub hl [5, 4, 3, 2, 1, 0] rfl))
          · refine lv_iconst (v := nI 1) hx hb dX1_clean_122 (by decide) ?_
            refine lv_goto (tgt := 127) hx hb dX1_clean_123 (by decide) ?_
            exact gk_tv (by rw [wk_2 d1, show v_out B0 (v_fa w1 i) = true from by cases e : v_out B0 (v_fa w1 i); exact absurd ((and_nB hbd.2.1).mpr e) d2; rfl]; rfl) (J127 _ _ G ls (lv_sub hl [5, 4, 3, 2, 1, 0] rfl))
  have loop1 : ∀ (n i : Nat) (u1 : gS), i ≤ 20 → 21 ≤ i + n → mo_R u1 (v_res v (v_lb v) i) → ∀ (H : Heap) (locs : List Loc), gk_G D (mo_w h d u1) A s.heap H locs → ∀ (ls : Array Slot), lv_has ls 9 [(2, .int (nI i)), (1, .int (mk_ B0 20)), (0, .ref (h 100))] → W p l e R s m args below meth c H locs 0 0 Q (F0 m 7 ls []) := by
    intro n
    induction n with
    | zero => intro i u1 h1 h2; exact absurd h2 (by omega)
    | succ n ih =>
      intro i u1 h1 h2 hR H locs G ls hl
      refine lv_iload_n hx hb dX1_clean_7 rfl (lv_at hl 0 rfl) ?_
      refine lv_bipush (v := nI 20) hx hb dX1_clean_8 (by decide) ?_
      refine lv_icmp_ge (tgt := 72) hx hb dX1_clean_10 (by decide) (fun c1 => ?_) (fun c1 => ?_)
      · have c1 := (nI_leI (a := 20) (b := i) (by omega) (by omega)).mp c1
        have e1 : i = 20 := by omega
        rw [e1, ← hw1] at hR
        refine lv_aload_n hx hb dX1_clean_72 rfl (lv_at hl 2 rfl) ?_
        refine mo_ci (n := 0) (As := []) (rest := []) C G (mm_living l D h d u1 w1 hv1 hR) (lw_V q244 q246 qs13 q17 q247) (by decide +kernel) rfl (by decide) rfl (Nat.le_of_ble_eq_true rfl) hl.1 dX1_clean_73 (fun ra u8 H locs hp8 G => ?_)
        obtain ⟨era, eu8⟩ := hp8
        rw [eu8] at G
        refine gk_tv (y := mk_ A0 20) (by rw [hA0]; exact era) ?_
        refine lv_istore_n (lv' := [(2, .int (mk_ A0 20)), (1, .int (mk_ B0 20)), (0, .ref (h 100))]) hx hb dX1_clean_76 rfl hl (by decide) rfl (fun ls hl => ?_)
        refine lv_iconst (v := nI 0) hx hb dX1_clean_77 (by decide) ?_
        refine lv_istore_n (lv' := [(3, .int (nI 0)), (2, .int (mk_ A0 20)), (1, .int (mk_ B0 20)), (0, .ref (h 100))]) hx hb dX1_clean_78 rfl hl (by decide) rfl (fun ls hl => ?_)
        refine lv_iconst (v := nI 0) hx hb dX1_clean_79 (by decide) ?_
        refine lv_istore (lv' := [(4, .int (nI 0)), (3, .int (nI 0)), (2, .int (mk_ A0 20)), (1, .int (mk_ B0 20)), (0, .ref (h 100))]) hx hb dX1_clean_80 hl (by decide) rfl (fun ls hl => ?_)
        exact loop2 21 0 u1 (by omega) (by omega) (part_0 hR) _ _ G ls (lv_sub hl [0, 1, 2, 3, 4] rfl)
      · have c1 : i < 20 := by
          rcases Nat.lt_or_ge i 20 with q | q
          · exact q
          · exact absurd (nI_le q (by omega)) c1
        refine lv_aload_n hx hb dX1_clean_13 rfl (lv_at hl 2 rfl) ?_
        refine mo_g0 C G dX1_clean_14 ?_
        refine lv_iload_n hx hb dX1_clean_17 rfl (lv_at hl 0 rfl) ?_
        refine mo_l0 (n := i) (x := bI (v_he v i)) C G (rfl) (c1) ((hR.1 i c1).1) dX1_clean_18 ?_
        refine lv_if_eq (tgt := 66) hx hb dX1_clean_19 (by decide) (fun c2 => ?_) (fun c2 => ?_)
        · have he : v_ends v (v_lb v) i = false := by unfold v_ends; rw [bI_eq.mp c2]; rfl
          refine lv_iinc (v := nI (i + 1)) (lv' := [(2, .int (nI (i + 1))), (1, .int (mk_ B0 20)), (0, .ref (h 100))]) hx hb dX1_clean_66 hl (k := 0) rfl (nI_1 i) (by decide) rfl (fun ls hl => ?_)
          refine lv_goto (tgt := 7) hx hb dX1_clean_69 (by decide) ?_
          exact ih (i + 1) u1 (by omega) (by omega) (by rw [res_f he]; exact hR) _ _ G ls (lv_sub hl [0, 1, 2] rfl)
        · have hh : v_he v i = true := bI_ne.mp c2
          refine lv_aload_n hx hb dX1_clean_22 rfl (lv_at hl 2 rfl) ?_
          refine mo_g2 C G dX1_clean_23 ?_
          refine lv_iload_n hx hb dX1_clean_26 rfl (lv_at hl 0 rfl) ?_
          refine mo_l2 (n := i) (x := bI (v_ey v i)) C G (rfl) (c1) ((hR.1 i c1).2.2.1.trans (congrArg bI (by have z := res_bit (B := v_lb v) hh; rw [show v_he (v_res v (v_lb v) i) i = true from hh, Bool.true_and] at z; exact z))) dX1_clean_27 ?_
          refine lv_if_eq (tgt := 66) hx hb dX1_clean_28 (by decide) (fun c3 => ?_) (fun c3 => ?_)
          · have he : v_ends v (v_lb v) i = false := by unfold v_ends; rw [hh, bI_eq.mp c3]; rfl
            refine lv_iinc (v := nI (i + 1)) (lv' := [(2, .int (nI (i + 1))), (1, .int (mk_ B0 20)), (0, .ref (h 100))]) hx hb dX1_clean_66 hl (k := 0) rfl (nI_1 i) (by decide) rfl (fun ls hl => ?_)
            refine lv_goto (tgt := 7) hx hb dX1_clean_69 (by decide) ?_
            exact ih (i + 1) u1 (by omega) (by omega) (by rw [res_f he]; exact hR) _ _ G ls (lv_sub hl [0, 1, 2] rfl)
          · have hy : v_ey v i = true := bI_ne.mp c3
            refine lv_iload_n hx hb dX1_clean_31 rfl (lv_at hl 1 rfl) ?_
            refine lv_iload_n hx hb dX1_clean_32 rfl (lv_at hl 0 rfl) ?_
            refine lv_ishr hx hb dX1_clean_33 ?_
            refine lv_iconst (v := nI 1) hx hb dX1_clean_34 (by decide) ?_
            refine lv_iand hx hb dX1_clean_35 ?_
            refine gk_tv (y := bI (B0 i)) (mk_test c1) ?_
            refine lv_if_ne (tgt := 66) hx hb dX1_clean_36 (by decide) (fun c4 => ?_) (fun c4 => ?_)
            · have he : v_ends v (v_lb v) i = false := by unfold v_ends; rw [hh, hy, ← hB0, bI_ne.mp c4]; rfl
              refine lv_iinc (v := nI (i + 1)) (lv' := [(2, .int (nI (i + 1))), (1, .int (mk_ B0 20)), (0, .ref (h 100))]) hx hb dX1_clean_66 hl (k := 0) rfl (nI_1 i) (by decide) rfl (fun ls hl => ?_)
              refine lv_goto (tgt := 7) hx hb dX1_clean_69 (by decide) ?_
              exact ih (i + 1) u1 (by omega) (by omega) (by rw [res_f he]; exact hR) _ _ G ls (lv_sub hl [0, 1, 2] rfl)
            · have he : v_ends v (v_lb v) i = true := by unfold v_ends; rw [hh, hy, ← hB0, bI_eq.mp c4]; rfl
              have hqs := res_ql c1 hv hB he
              refine lv_aload_n hx hb dX1_clean_39 rfl (lv_at hl 2 rfl) ?_
              refine mo_g7 C G dX1_clean_40 ?_
              refine lv_aload_n hx hb dX1_clean_43 rfl (lv_at hl 2 rfl) ?_
              refine mo_g6 (x := nI (v_qu (v_res v (v_lb v) i)).length) C G (hR.2.2.1) dX1_clean_44 ?_
              refine lv_iload_n hx hb dX1_clean_47 rfl (lv_at hl 0 rfl) ?_
              refine mo_s7 (n := (v_qu (v_res v (v_lb v) i)).length) (x := nI i) C G (rfl) (hqs) (rfl) dX1_clean_48 (fun H locs G => ?_)
              refine lv_aload_n hx hb dX1_clean_49 rfl (lv_at hl 2 rfl) ?_
              refine lv_dup hx hb dX1_clean_50 rfl ?_
              refine mo_g6 (x := nI (v_qu (v_res v (v_lb v) i)).length) C G (hR.2.2.1) dX1_clean_51 ?_
              refine lv_iconst (v := nI 1) hx hb dX1_clean_54 (by decide) ?_
              refine lv_iadd hx hb dX1_clean_55 ?_
              refine gk_tv (y := nI ((v_qu (v_res v (v_lb v) i)).length + 1)) (nI_1 _) ?_
              refine mo_p6 C G dX1_clean_56 (fun H locs G => ?_)
              refine lv_aload_n hx hb dX1_clean_59 rfl (lv_at hl 2 rfl) ?_
              refine mo_g2 C G dX1_clean_60 ?_
              refine lv_iload_n hx hb dX1_clean_63 rfl (lv_at hl 0 rfl) ?_
              refine lv_iconst (v := nI 0) hx hb dX1_clean_64 (by decide) ?_
              refine mo_s2 (n := i) (x := nI 0) C G (rfl) (c1) (nz_0) dX1_clean_65 (fun H locs G => ?_)
              refine lv_iinc (v := nI (i + 1)) (lv' := [(2, .int (nI (i + 1))), (1, .int (mk_ B0 20)), (0, .ref (h 100))]) hx hb dX1_clean_66 hl (k := 0) rfl (nI_1 i) (by decide) rfl (fun ls hl => ?_)
              refine lv_goto (tgt := 7) hx hb dX1_clean_69 (by decide) ?_
              exact ih (i + 1) _ (by omega) (by omega) (by rw [res_t he]; exact M_queue hR) _ _ G ls (lv_sub hl [0, 1, 2] rfl)
  refine lv_aload_n hx hb dX1_clean_0 rfl (lv_at hl 0 rfl) ?_
  refine mo_ci (n := 0) (As := []) (rest := []) C G (mm_living l D h d u v hv hR0) (lw_V q244 q246 qs13 q17 q247) (by decide +kernel) rfl (by decide) rfl (Nat.le_of_ble_eq_true rfl) hl.1 dX1_clean_1 (fun rl u8 H locs hp8 G => ?_)
  obtain ⟨era, eu8⟩ := hp8
  rw [eu8] at G
  refine gk_tv (y := mk_ B0 20) (by rw [hB0]; exact era) ?_
  refine lv_istore_n (lv' := [(1, .int (mk_ B0 20)), (0, .ref (h 100))]) hx hb dX1_clean_4 rfl hl (by decide) rfl (fun ls hl => ?_)
  refine lv_iconst (v := nI 0) hx hb dX1_clean_5 (by decide) ?_
  refine lv_istore_n (lv' := [(2, .int (nI 0)), (1, .int (mk_ B0 20)), (0, .ref (h 100))]) hx hb dX1_clean_6 rfl hl (by decide) rfl (fun ls hl => ?_)
  exact loop1 21 0 u (by omega) (by omega) (by rw [res_0]; exact hR0) _ _ G ls (lv_sub hl [0, 1, 2] rfl)
end
section
/-! the constructors -/
def v_0 : eV := (fun _ => false, fun _ => 0, fun _ => false, fun _ => none, fun _ => none, fun _ => none, [])
def g_0 : gS := (fun _ => nI 0, fun _ _ => nI 0)
theorem v_0_inv : v_inv v_0 := ⟨fun o _ => ⟨Nat.zero_le _, fun k e => (by cases e), fun k e => (by cases e)⟩, fun o _ h => (by cases h), fun r _ k e => (by cases e), fun o ho => absurd ho List.not_mem_nil, List.nodup_nil⟩
theorem eh_R_0 {u : gS} (h1 : u.1 = g_0.1) (h2 : ∀ r, r < 4 → u.2 12 r = -1) : eh_RR u v_0 := by
  refine ⟨0, fun _ => 0, Nat.zero_le _, by rw [h1]; rfl, by rw [h1]; rfl, by rw [h1]; exact mk_f0.symm, ?_, fun o _ h => (by cases h), fun r hr => h2 r hr, by rw [h1]; rfl, fun i hi => absurd hi (Nat.not_lt_zero i)⟩
  rw [h1]
  exact mk_f0.symm
theorem mo_R_0 : mo_R g_0 v_0 := ⟨fun o _ => ⟨rfl, rfl, rfl, rfl, rfl⟩, fun r _ => rfl, rfl, fun i hi => absurd hi (Nat.not_lt_zero i)⟩
def eh_B (D : va_G) (A : Nat → Prop) (x : (Nat → Nat) × (Nat → ClassId) × gS) (t : State) : Prop := va_P D vwCl (eh_w x.1 x.2.1 x.2.2) t.heap ∧ va_K D vwCl (eh_t x.2.1) t ∧ va_D A (eh_w x.1 x.2.1 x.2.2)
set_option maxHeartbeats 4000000 in
set_option maxRecDepth 100000 in
theorem me_init (l : Launch) (D : va_G) (a sz : Nat) : Met l yX0_init (ws_ yX0_init cX0_init 2 none) ({ frames := 1, cells := 8, slots := 244, locals := 12 } : Room) (va_Pc [.ref a] (fun U => U.heap.size = sz ∧ va_P D vwCl [(a, .inr (0, [.int (nI 0), .int (nI 0), .null, .int (nI 0), .int (nI 0), .null, .null, .null, .null, .null, .int (nI 0), .int (nI 0), .null, .null, .int (nI 0)]))] U.heap ∧ va_K D vwCl [] U ∧ va_D (fun _ => True) [(a, .inr (0, [.int (nI 0), .int (nI 0), .null, .int (nI 0), .int (nI 0), .null, .null, .null, .null, .null, .int (nI 0), .int (nI 0), .null, .null, .int (nI 0)]))])) (va_Qv (fun x : (Nat → Nat) × (Nat → ClassId) × gS => x.1 100 = a ∧ eh_RR x.2.2 v_0) (eh_B D (va_A [(a, .inr (0, [.int (nI 0), .int (nI 0), .null, .int (nI 0), .int (nI 0), .null, .null, .null, .null, .null, .int (nI 0), .int (nI 0), .null, .null, .int (nI 0)]))] sz)) (va_A [(a, .inr (0, [.int (nI 0), .int (nI 0), .null, .int (nI 0), .int (nI 0), .null, .null, .null, .null, .null, .int (nI 0), .int (nI 0), .null, .null, .int (nI 0)]))] sz)) 8 244 (va_A [(a, .inr (0, [.int (nI 0), .int (nI 0), .null, .int (nI 0), .int (nI 0), .null, .null, .null, .null, .null, .int (nI 0), .int (nI 0), .null, .null, .int (nI 0)]))] sz) := by
  refine Met.ofW (cc := cX0_init) (maxL := 2) (ret := none) (by decide) rfl ?_
  intro p e s m args below meth c s₁ B hml hv
  obtain ⟨rfl, hsz, hP, hK, hD0⟩ := hv
  have hx := B.exec
  have hb := B.bytes
  have hr := B.returns
  have hts := atoms_spec (ws := ws_ yX0_init cX0_init 2 none) B.pre
  have hts : ∀ w ∈ lw_all, w.before _ s = true := fun w h => hts w (List.mem_cons_of_mem _ h)
  have hown : s.vm.findClass RX0 = some m.cls := findClass_of_methodNamed B.named
  have hlocks := B.notSynchronized
  have hin : meth.name = "<init>" := (name_of_methodNamed B.named B.method).1
  subst hsz
  have hD := hD0.self (sz := s.heap.size)
  generalize hAe : va_A [(a, .inr (0, [.int (nI 0), .int (nI 0), .null, .int (nI 0), .int (nI 0), .null, .null, .null, .null, .null, .int (nI 0), .int (nI 0), .null, .null, .int (nI 0)]))] s.heap.size = A at hD ⊢
  have hA : ∀ q : Nat, s.heap.size ≤ q → A q := fun q h => by rw [← hAe]; exact Or.inr h
  have hS : va_S A s.heap s.heap [] := va_S.rf
  have hl := lv_entry ([.ref a]) (n := 2) (Nat.le_of_ble_eq_true rfl)
  rw [lg_entry_eq]
  generalize (lg_sl ([.ref a]) ++ List.replicate (2 - (lg_sl ([.ref a])).length) Slot.unset).toArray = ls at hl ⊢
  have hl : lv_has ls 2 [(0, .ref a)] := hl
  refine lv_aload_n hx hb dX0_init_0 rfl (lv_at hl 0 rfl) ?_
  refine W.objInit hx hb hown (hts _ q23) (hts _ q24) (hts _ q25) rfl (by rw [hml]; exact hl.1) rfl dX0_init_1 (Nat.le_of_ble_eq_true rfl) (Nat.le_of_ble_eq_true rfl) ?_
  refine W.eq (g2 := F0 m 4 ls []) rfl ?_
  refine lv_aload_n hx hb dX0_init_4 rfl (lv_at hl 0 rfl) ?_
  refine lv_bipush (v := nI 20) hx hb dX0_init_5 (by decide) ?_
  refine va_newa (atype := .byte) (ty := .byte) (N' := 20) (a0 := (20, .inl (fun _ => nI 0))) hx hb (hts _ q72) rfl hK hP hD hS hA (n := nI 20) (fun _ => rfl) (by decide) (by decide) (by decide) (Nat.le_of_ble_eq_true rfl) (Nat.le_of_ble_eq_true rfl) dX0_init_7 (fun q2 c2 H hK hP hD hS => ?_)
  refine W.widen (k := 1) (n := 20) (Nat.le_of_ble_eq_true rfl) (Nat.le_of_ble_eq_true rfl) ?_
  have hP : va_P D vwCl [(a, .inr (0, [.int (nI 0), .int (nI 0), .null, .int (nI 0), .int (nI 0), .null, .null, .null, .null, .null, .int (nI 0), .int (nI 0), .null, .null, .int (nI 0)])), (q2, .inl (c2, 20, .inl (fun _ => nI 0)))] H := hP
  have hD : va_D A [(a, .inr (0, [.int (nI 0), .int (nI 0), .null, .int (nI 0), .int (nI 0), .null, .null, .null, .null, .null, .int (nI 0), .int (nI 0), .null, .null, .int (nI 0)])), (q2, .inl (c2, 20, .inl (fun _ => nI 0)))] := hD
  have hK : va_K D vwCl [(c2, .byte)] s := hK
  refine va_putF (D := D) (ci := 0) (v := .ref q2) (ty := .array .byte) (C := RX0) (T := TX0) (N := 15) hx hb hts in_X0 tyX0 tyX0_ok nmX0 hown hK hP hD hS 0 rfl rfl 2 (by decide) (hts _ q28) (fun _ h9 => h9) rfl hin rfl (by decide +kernel) rfl rfl (Nat.le_of_ble_eq_true rfl) dX0_init_9 (fun H locs hP hD hS => ?_)
  have hP : va_P D vwCl [(a, .inr (0, [.int (nI 0), .int (nI 0), .ref q2, .int (nI 0), .int (nI 0), .null, .null, .null, .null, .null, .int (nI 0), .int (nI 0), .null, .null, .int (nI 0)])), (q2, .inl (c2, 20, .inl (fun _ => nI 0)))] H := hP
  have hD : va_D A [(a, .inr (0, [.int (nI 0), .int (nI 0), .ref q2, .int (nI 0), .int (nI 0), .null, .null, .null, .null, .null, .int (nI 0), .int (nI 0), .null, .null, .int (nI 0)])), (q2, .inl (c2, 20, .inl (fun _ => nI 0)))] := hD
  refine lv_aload_n hx hb dX0_init_12 rfl (lv_at hl 0 rfl) ?_
  refine lv_bipush (v := nI 40) hx hb dX0_init_13 (by decide) ?_
  refine va_newa (atype := .byte) (ty := .byte) (N' := 40) (a0 := (40, .inl (fun _ => nI 0))) hx hb (hts _ q72) rfl hK hP hD hS hA (n := nI 40) (fun _ => rfl) (by decide) (by decide) (by decide) (Nat.le_of_ble_eq_true rfl) (Nat.le_of_ble_eq_true rfl) dX0_init_15 (fun q5 c5 H hK hP hD hS => ?_)
  refine W.widen (k := 2) (n := 60) (Nat.le_of_ble_eq_true rfl) (Nat.le_of_ble_eq_true rfl) ?_
  have hP : va_P D vwCl [(a, .inr (0, [.int (nI 0), .int (nI 0), .ref q2, .int (nI 0), .int (nI 0), .null, .null, .null, .null, .null, .int (nI 0), .int (nI 0), .null, .null, .int (nI 0)])), (q2, .inl (c2, 20, .inl (fun _ => nI 0))), (q5, .inl (c5, 40, .inl (fun _ => nI 0)))] H := hP
  have hD : va_D A [(a, .inr (0, [.int (nI 0), .int (nI 0), .ref q2, .int (nI 0), .int (nI 0), .null, .null, .null, .null, .null, .int (nI 0), .int (nI 0), .null, .null, .int (nI 0)])), (q2, .inl (c2, 20, .inl (fun _ => nI 0))), (q5, .inl (c5, 40, .inl (fun _ => nI 0)))] := hD
  have hK : va_K D vwCl [(c2, .byte), (c5, .byte)] s := hK
  refine va_putF (D := D) (ci := 0) (v := .ref q5) (ty := .array .byte) (C := RX0) (T := TX0) (N := 15) hx hb hts in_X0 tyX0 tyX0_ok nmX0 hown hK hP hD hS 0 rfl rfl 5 (by decide) (hts _ q31) (fun _ h9 => h9) rfl hin rfl (by decide +kernel) rfl rfl (Nat.le_of_ble_eq_true rfl) dX0_init_17 (fun H locs hP hD hS => ?_)
  have hP : va_P D vwCl [(a, .inr (0, [.int (nI 0), .int (nI 0), .ref q2, .int (nI 0), .int (nI 0), .ref q5, .null, .null, .null, .null, .int (nI 0), .int (nI 0), .null, .null, .int (nI 0)])), (q2, .inl (c2, 20, .inl (fun _ => nI 0))), (q5, .inl (c5, 40, .inl (fun _ => nI 0)))] H := hP
  have hD : va_D A [(a, .inr (0, [.int (nI 0), .int (nI 0), .ref q2, .int (nI 0), .int (nI 0), .ref q5, .null, .null, .null, .null, .int (nI 0), .int (nI 0), .null, .null, .int (nI 0)])), (q2, .inl (c2, 20, .inl (fun _ => nI 0))), (q5, .inl (c5, 40, .inl (fun _ => nI 0)))] := hD
  refine lv_aload_n hx hb dX0_init_20 rfl (lv_at hl 0 rfl) ?_
  refine lv_bipush (v := nI 40) hx hb dX0_init_21 (by decide) ?_
  refine va_newa (atype := .byte) (ty := .byte) (N' := 40) (a0 := (40, .inl (fun _ => nI 0))) hx hb (hts _ q72) rfl hK hP hD hS hA (n := nI 40) (fun _ => rfl) (by decide) (by decide) (by decide) (Nat.le_of_ble_eq_true rfl) (Nat.le_of_ble_eq_true rfl) dX0_init_23 (fun q6 c6 H hK hP hD hS => ?_)
  refine W.widen (k := 3) (n := 100) (Nat.le_of_ble_eq_true rfl) (Nat.le_of_ble_eq_true rfl) ?_
  have hP : va_P D vwCl [(a, .inr (0, [.int (nI 0), .int (nI 0), .ref q2, .int (nI 0), .int (nI 0), .ref q5, .null, .null, .null, .null, .int (nI 0), .int (nI 0), .null, .null, .int (nI 0)])), (q2, .inl (c2, 20, .inl (fun _ => nI 0))), (q5, .inl (c5, 40, .inl (fun _ => nI 0))), (q6, .inl (c6, 40, .inl (fun _ => nI 0)))] H := hP
  have hD : va_D A [(a, .inr (0, [.int (nI 0), .int (nI 0), .ref q2, .int (nI 0), .int (nI 0), .ref q5, .null, .null, .null, .null, .int (nI 0), .int (nI 0), .null, .null, .int (nI 0)])), (q2, .inl (c2, 20, .inl (fun _ => nI 0))), (q5, .inl (c5, 40, .inl (fun _ => nI 0))), (q6, .inl (c6, 40, .inl (fun _ => nI 0)))] := hD
  have hK : va_K D vwCl [(c2, .byte), (c5, .byte), (c6, .byte)] s := hK
  refine va_putF (D := D) (ci := 0) (v := .ref q6) (ty := .array .byte) (C := RX0) (T := TX0) (N := 15) hx hb hts in_X0 tyX0 tyX0_ok nmX0 hown hK hP hD hS 0 rfl rfl 6 (by decide) (hts _ q32) (fun _ h9 => h9) rfl hin rfl (by decide +kernel) rfl rfl (Nat.le_of_ble_eq_true rfl) dX0_init_25 (fun H locs hP hD hS => ?_)
  have hP : va_P D vwCl [(a, .inr (0, [.int (nI 0), .int (nI 0), .ref q2, .int (nI 0), .int (nI 0), .ref q5, .ref q6, .null, .null, .null, .int (nI 0), .int (nI 0), .null, .null, .int (nI 0)])), (q2, .inl (c2, 20, .inl (fun _ => nI 0))), (q5, .inl (c5, 40, .inl (fun _ => nI 0))), (q6, .inl (c6, 40, .inl (fun _ => nI 0)))] H := hP
  have hD : va_D A [(a, .inr (0, [.int (nI 0), .int (nI 0), .ref q2, .int (nI 0), .int (nI 0), .ref q5, .ref q6, .null, .null, .null, .int (nI 0), .int (nI 0), .null, .null, .int (nI 0)])), (q2, .inl (c2, 20, .inl (fun _ => nI 0))), (q5, .inl (c5, 40, .inl (fun _ => nI 0))), (q6, .inl (c6, 40, .inl (fun _ => nI 0)))] := hD
  refine lv_aload_n hx hb dX0_init_28 rfl (lv_at hl 0 rfl) ?_
  refine lv_bipush (v := nI 40) hx hb dX0_init_29 (by decide) ?_
  refine va_newa (atype := .byte) (ty := .byte) (N' := 40) (a0 := (40, .inl (fun _ => nI 0))) hx hb (hts _ q72) rfl hK hP hD hS hA (n := nI 40) (fun _ => rfl) (by decide) (by decide) (by decide) (Nat.le_of_ble_eq_true rfl) (Nat.le_of_ble_eq_true rfl) dX0_init_31 (fun q7 c7 H hK hP hD hS => ?_)
  refine W.widen (k := 4) (n := 140) (Nat.le_of_ble_eq_true rfl) (Nat.le_of_ble_eq_true rfl) ?_
  have hP : va_P D vwCl [(a, .inr (0, [.int (nI 0), .int (nI 0), .ref q2, .int (nI 0), .int (nI 0), .ref q5, .ref q6, .null, .null, .null, .int (nI 0), .int (nI 0), .null, .null, .int (nI 0)])), (q2, .inl (c2, 20, .inl (fun _ => nI 0))), (q5, .inl (c5, 40, .inl (fun _ => nI 0))), (q6, .inl (c6, 40, .inl (fun _ => nI 0))), (q7, .inl (c7, 40, .inl (fun _ => nI 0)))] H := hP
  have hD : va_D A [(a, .inr (0, [.int (nI 0), .int (nI 0), .ref q2, .int (nI 0), .int (nI 0), .ref q5, .ref q6, .null, .null, .null, .int (nI 0), .int (nI 0), .null, .null, .int (nI 0)])), (q2, .inl (c2, 20, .inl (fun _ => nI 0))), (q5, .inl (c5, 40, .inl (fun _ => nI 0))), (q6, .inl (c6, 40, .inl (fun _ => nI 0))), (q7, .inl (c7, 40, .inl (fun _ => nI 0)))] := hD
  have hK : va_K D vwCl [(c2, .byte), (c5, .byte), (c6, .byte), (c7, .byte)] s := hK
  refine va_putF (D := D) (ci := 0) (v := .ref q7) (ty := .array .byte) (C := RX0) (T := TX0) (N := 15) hx hb hts in_X0 tyX0 tyX0_ok nmX0 hown hK hP hD hS 0 rfl rfl 7 (by decide) (hts _ q33) (fun _ h9 => h9) rfl hin rfl (by decide +kernel) rfl rfl (Nat.le_of_ble_eq_true rfl) dX0_init_33 (fun H locs hP hD hS => ?_)
  have hP : va_P D vwCl [(a, .inr (0, [.int (nI 0), .int (nI 0), .ref q2, .int (nI 0), .int (nI 0), .ref q5, .ref q6, .ref q7, .null, .null, .int (nI 0), .int (nI 0), .null, .null, .int (nI 0)])), (q2, .inl (c2, 20, .inl (fun _ => nI 0))), (q5, .inl (c5, 40, .inl (fun _ => nI 0))), (q6, .inl (c6, 40, .inl (fun _ => nI 0))), (q7, .inl (c7, 40, .inl (fun _ => nI 0)))] H := hP
  have hD : va_D A [(a, .inr (0, [.int (nI 0), .int (nI 0), .ref q2, .int (nI 0), .int (nI 0), .ref q5, .ref q6, .ref q7, .null, .null, .int (nI 0), .int (nI 0), .null, .null, .int (nI 0)])), (q2, .inl (c2, 20, .inl (fun _ => nI 0))), (q5, .inl (c5, 40, .inl (fun _ => nI 0))), (q6, .inl (c6, 40, .inl (fun _ => nI 0))), (q7, .inl (c7, 40, .inl (fun _ => nI 0)))] := hD
  refine lv_aload_n hx hb dX0_init_36 rfl (lv_at hl 0 rfl) ?_
  refine lv_bipush (v := nI 40) hx hb dX0_init_37 (by decide) ?_
  refine va_newa (atype := .byte) (ty := .byte) (N' := 40) (a0 := (40, .inl (fun _ => nI 0))) hx hb (hts _ q72) rfl hK hP hD hS hA (n := nI 40) (fun _ => rfl) (by decide) (by decide) (by decide) (Nat.le_of_ble_eq_true rfl) (Nat.le_of_ble_eq_true rfl) dX0_init_39 (fun q8 c8 H hK hP hD hS => ?_)
  refine W.widen (k := 5) (n := 180) (Nat.le_of_ble_eq_true rfl) (Nat.le_of_ble_eq_true rfl) ?_
  have hP : va_P D vwCl [(a, .inr (0, [.int (nI 0), .int (nI 0), .ref q2, .int (nI 0), .int (nI 0), .ref q5, .ref q6, .ref q7, .null, .null, .int (nI 0), .int (nI 0), .null, .null, .int (nI 0)])), (q2, .inl (c2, 20, .inl (fun _ => nI 0))), (q5, .inl (c5, 40, .inl (fun _ => nI 0))), (q6, .inl (c6, 40, .inl (fun _ => nI 0))), (q7, .inl (c7, 40, .inl (fun _ => nI 0))), (q8, .inl (c8, 40, .inl (fun _ => nI 0)))] H := hP
  have hD : va_D A [(a, .inr (0, [.int (nI 0), .int (nI 0), .ref q2, .int (nI 0), .int (nI 0), .ref q5, .ref q6, .ref q7, .null, .null, .int (nI 0), .int (nI 0), .null, .null, .int (nI 0)])), (q2, .inl (c2, 20, .inl (fun _ => nI 0))), (q5, .inl (c5, 40, .inl (fun _ => nI 0))), (q6, .inl (c6, 40, .inl (fun _ => nI 0))), (q7, .inl (c7, 40, .inl (fun _ => nI 0))), (q8, .inl (c8, 40, .inl (fun _ => nI 0)))] := hD
  have hK : va_K D vwCl [(c2, .byte), (c5, .byte), (c6, .byte), (c7, .byte), (c8, .byte)] s := hK
  refine va_putF (D := D) (ci := 0) (v := .ref q8) (ty := .array .byte) (C := RX0) (T := TX0) (N := 15) hx hb hts in_X0 tyX0 tyX0_ok nmX0 hown hK hP hD hS 0 rfl rfl 8 (by decide) (hts _ q34) (fun _ h9 => h9) rfl hin rfl (by decide +kernel) rfl rfl (Nat.le_of_ble_eq_true rfl) dX0_init_41 (fun H locs hP hD hS => ?_)
  have hP : va_P D vwCl [(a, .inr (0, [.int (nI 0), .int (nI 0), .ref q2, .int (nI 0), .int (nI 0), .ref q5, .ref q6, .ref q7, .ref q8, .null, .int (nI 0), .int (nI 0), .null, .null, .int (nI 0)])), (q2, .inl (c2, 20, .inl (fun _ => nI 0))), (q5, .inl (c5, 40, .inl (fun _ => nI 0))), (q6, .inl (c6, 40, .inl (fun _ => nI 0))), (q7, .inl (c7, 40, .inl (fun _ => nI 0))), (q8, .inl (c8, 40, .inl (fun _ => nI 0)))] H := hP
  have hD : va_D A [(a, .inr (0, [.int (nI 0), .int (nI 0), .ref q2, .int (nI 0), .int (nI 0), .ref q5, .ref q6, .ref q7, .ref q8, .null, .int (nI 0), .int (nI 0), .null, .null, .int (nI 0)])), (q2, .inl (c2, 20, .inl (fun _ => nI 0))), (q5, .inl (c5, 40, .inl (fun _ => nI 0))), (q6, .inl (c6, 40, .inl (fun _ => nI 0))), (q7, .inl (c7, 40, .inl (fun _ => nI 0))), (q8, .inl (c8, 40, .inl (fun _ => nI 0)))] := hD
  refine lv_aload_n hx hb dX0_init_44 rfl (lv_at hl 0 rfl) ?_
  refine lv_bipush (v := nI 40) hx hb dX0_init_45 (by decide) ?_
  refine va_newa (atype := .byte) (ty := .byte) (N' := 40) (a0 := (40, .inl (fun _ => nI 0))) hx hb (hts _ q72) rfl hK hP hD hS hA (n := nI 40) (fun _ => rfl) (by decide) (by decide) (by decide) (Nat.le_of_ble_eq_true rfl) (Nat.le_of_ble_eq_true rfl) dX0_init_47 (fun q9 c9 H hK hP hD hS => ?_)
  refine W.widen (k := 6) (n := 220) (Nat.le_of_ble_eq_true rfl) (Nat.le_of_ble_eq_true rfl) ?_
  have hP : va_P D vwCl [(a, .inr (0, [.int (nI 0), .int (nI 0), .ref q2, .int (nI 0), .int (nI 0), .ref q5, .ref q6, .ref q7, .ref q8, .null, .int (nI 0), .int (nI 0), .null, .null, .int (nI 0)])), (q2, .inl (c2, 20, .inl (fun _ => nI 0))), (q5, .inl (c5, 40, .inl (fun _ => nI 0))), (q6, .inl (c6, 40, .inl (fun _ => nI 0))), (q7, .inl (c7, 40, .inl (fun _ => nI 0))), (q8, .inl (c8, 40, .inl (fun _ => nI 0))), (q9, .inl (c9, 40, .inl (fun _ => nI 0)))] H := hP
  have hD : va_D A [(a, .inr (0, [.int (nI 0), .int (nI 0), .ref q2, .int (nI 0), .int (nI 0), .ref q5, .ref q6, .ref q7, .ref q8, .null, .int (nI 0), .int (nI 0), .null, .null, .int (nI 0)])), (q2, .inl (c2, 20, .inl (fun _ => nI 0))), (q5, .inl (c5, 40, .inl (fun _ => nI 0))), (q6, .inl (c6, 40, .inl (fun _ => nI 0))), (q7, .inl (c7, 40, .inl (fun _ => nI 0))), (q8, .inl (c8, 40, .inl (fun _ => nI 0))), (q9, .inl (c9, 40, .inl (fun _ => nI 0)))] := hD
  have hK : va_K D vwCl [(c2, .byte), (c5, .byte), (c6, .byte), (c7, .byte), (c8, .byte), (c9, .byte)] s := hK
  refine va_putF (D := D) (ci := 0) (v := .ref q9) (ty := .array .byte) (C := RX0) (T := TX0) (N := 15) hx hb hts in_X0 tyX0 tyX0_ok nmX0 hown hK hP hD hS 0 rfl rfl 9 (by decide) (hts _ q35) (fun _ h9 => h9) rfl hin rfl (by decide +kernel) rfl rfl (Nat.le_of_ble_eq_true rfl) dX0_init_49 (fun H locs hP hD hS => ?_)
  have hP : va_P D vwCl [(a, .inr (0, [.int (nI 0), .int (nI 0), .ref q2, .int (nI 0), .int (nI 0), .ref q5, .ref q6, .ref q7, .ref q8, .ref q9, .int (nI 0), .int (nI 0), .null, .null, .int (nI 0)])), (q2, .inl (c2, 20, .inl (fun _ => nI 0))), (q5, .inl (c5, 40, .inl (fun _ => nI 0))), (q6, .inl (c6, 40, .inl (fun _ => nI 0))), (q7, .inl (c7, 40, .inl (fun _ => nI 0))), (q8, .inl (c8, 40, .inl (fun _ => nI 0))), (q9, .inl (c9, 40, .inl (fun _ => nI 0)))] H := hP
  have hD : va_D A [(a, .inr (0, [.int (nI 0), .int (nI 0), .ref q2, .int (nI 0), .int (nI 0), .ref q5, .ref q6, .ref q7, .ref q8, .ref q9, .int (nI 0), .int (nI 0), .null, .null, .int (nI 0)])), (q2, .inl (c2, 20, .inl (fun _ => nI 0))), (q5, .inl (c5, 40, .inl (fun _ => nI 0))), (q6, .inl (c6, 40, .inl (fun _ => nI 0))), (q7, .inl (c7, 40, .inl (fun _ => nI 0))), (q8, .inl (c8, 40, .inl (fun _ => nI 0))), (q9, .inl (c9, 40, .inl (fun _ => nI 0)))] := hD
  refine lv_aload_n hx hb dX0_init_52 rfl (lv_at hl 0 rfl) ?_
  refine lv_iconst (v := nI 4) hx hb dX0_init_53 (by decide) ?_
  refine va_newa (atype := .byte) (ty := .byte) (N' := 4) (a0 := (4, .inl (fun _ => nI 0))) hx hb (hts _ q72) rfl hK hP hD hS hA (n := nI 4) (fun _ => rfl) (by decide) (by decide) (by decide) (Nat.le_of_ble_eq_true rfl) (Nat.le_of_ble_eq_true rfl) dX0_init_54 (fun q12 c12 H hK hP hD hS => ?_)
  refine W.widen (k := 7) (n := 224) (Nat.le_of_ble_eq_true rfl) (Nat.le_of_ble_eq_true rfl) ?_
  have hP : va_P D vwCl [(a, .inr (0, [.int (nI 0), .int (nI 0), .ref q2, .int (nI 0), .int (nI 0), .ref q5, .ref q6, .ref q7, .ref q8, .ref q9, .int (nI 0), .int (nI 0), .null, .null, .int (nI 0)])), (q2, .inl (c2, 20, .inl (fun _ => nI 0))), (q5, .inl (c5, 40, .inl (fun _ => nI 0))), (q6, .inl (c6, 40, .inl (fun _ => nI 0))), (q7, .inl (c7, 40, .inl (fun _ => nI 0))), (q8, .inl (c8, 40, .inl (fun _ => nI 0))), (q9, .inl (c9, 40, .inl (fun _ => nI 0))), (q12, .inl (c12, 4, .inl (fun _ => nI 0)))] H := hP
  have hD : va_D A [(a, .inr (0, [.int (nI 0), .int (nI 0), .ref q2, .int (nI 0), .int (nI 0), .ref q5, .ref q6, .ref q7, .ref q8, .ref q9, .int (nI 0), .int (nI 0), .null, .null, .int (nI 0)])), (q2, .inl (c2, 20, .inl (fun _ => nI 0))), (q5, .inl (c5, 40, .inl (fun _ => nI 0))), (q6, .inl (c6, 40, .inl (fun _ => nI 0))), (q7, .inl (c7, 40, .inl (fun _ => nI 0))), (q8, .inl (c8, 40, .inl (fun _ => nI 0))), (q9, .inl (c9, 40, .inl (fun _ => nI 0))), (q12, .inl (c12, 4, .inl (fun _ => nI 0)))] := hD
  have hK : va_K D vwCl [(c2, .byte), (c5, .byte), (c6, .byte), (c7, .byte), (c8, .byte), (c9, .byte), (c12, .byte)] s := hK
  refine va_putF (D := D) (ci := 0) (v := .ref q12) (ty := .array .byte) (C := RX0) (T := TX0) (N := 15) hx hb hts in_X0 tyX0 tyX0_ok nmX0 hown hK hP hD hS 0 rfl rfl 12 (by decide) (hts _ q38) (fun _ h9 => h9) rfl hin rfl (by decide +kernel) rfl rfl (Nat.le_of_ble_eq_true rfl) dX0_init_56 (fun H locs hP hD hS => ?_)
  have hP : va_P D vwCl [(a, .inr (0, [.int (nI 0), .int (nI 0), .ref q2, .int (nI 0), .int (nI 0), .ref q5, .ref q6, .ref q7, .ref q8, .ref q9, .int (nI 0), .int (nI 0), .ref q12, .null, .int (nI 0)])), (q2, .inl (c2, 20, .inl (fun _ => nI 0))), (q5, .inl (c5, 40, .inl (fun _ => nI 0))), (q6, .inl (c6, 40, .inl (fun _ => nI 0))), (q7, .inl (c7, 40, .inl (fun _ => nI 0))), (q8, .inl (c8, 40, .inl (fun _ => nI 0))), (q9, .inl (c9, 40, .inl (fun _ => nI 0))), (q12, .inl (c12, 4, .inl (fun _ => nI 0)))] H := hP
  have hD : va_D A [(a, .inr (0, [.int (nI 0), .int (nI 0), .ref q2, .int (nI 0), .int (nI 0), .ref q5, .ref q6, .ref q7, .ref q8, .ref q9, .int (nI 0), .int (nI 0), .ref q12, .null, .int (nI 0)])), (q2, .inl (c2, 20, .inl (fun _ => nI 0))), (q5, .inl (c5, 40, .inl (fun _ => nI 0))), (q6, .inl (c6, 40, .inl (fun _ => nI 0))), (q7, .inl (c7, 40, .inl (fun _ => nI 0))), (q8, .inl (c8, 40, .inl (fun _ => nI 0))), (q9, .inl (c9, 40, .inl (fun _ => nI 0))), (q12, .inl (c12, 4, .inl (fun _ => nI 0)))] := hD
  refine lv_aload_n hx hb dX0_init_59 rfl (lv_at hl 0 rfl) ?_
  refine lv_bipush (v := nI 20) hx hb dX0_init_60 (by decide) ?_
  refine va_newa (atype := .byte) (ty := .byte) (N' := 20) (a0 := (20, .inl (fun _ => nI 0))) hx hb (hts _ q72) rfl hK hP hD hS hA (n := nI 20) (fun _ => rfl) (by decide) (by decide) (by decide) (Nat.le_of_ble_eq_true rfl) (Nat.le_of_ble_eq_true rfl) dX0_init_62 (fun q13 c13 H hK hP hD hS => ?_)
  refine W.widen (k := 8) (n := 244) (Nat.le_of_ble_eq_true rfl) (Nat.le_of_ble_eq_true rfl) ?_
  have hP : va_P D vwCl [(a, .inr (0, [.int (nI 0), .int (nI 0), .ref q2, .int (nI 0), .int (nI 0), .ref q5, .ref q6, .ref q7, .ref q8, .ref q9, .int (nI 0), .int (nI 0), .ref q12, .null, .int (nI 0)])), (q2, .inl (c2, 20, .inl (fun _ => nI 0))), (q5, .inl (c5, 40, .inl (fun _ => nI 0))), (q6, .inl (c6, 40, .inl (fun _ => nI 0))), (q7, .inl (c7, 40, .inl (fun _ => nI 0))), (q8, .inl (c8, 40, .inl (fun _ => nI 0))), (q9, .inl (c9, 40, .inl (fun _ => nI 0))), (q12, .inl (c12, 4, .inl (fun _ => nI 0))), (q13, .inl (c13, 20, .inl (fun _ => nI 0)))] H := hP
  have hD : va_D A [(a, .inr (0, [.int (nI 0), .int (nI 0), .ref q2, .int (nI 0), .int (nI 0), .ref q5, .ref q6, .ref q7, .ref q8, .ref q9, .int (nI 0), .int (nI 0), .ref q12, .null, .int (nI 0)])), (q2, .inl (c2, 20, .inl (fun _ => nI 0))), (q5, .inl (c5, 40, .inl (fun _ => nI 0))), (q6, .inl (c6, 40, .inl (fun _ => nI 0))), (q7, .inl (c7, 40, .inl (fun _ => nI 0))), (q8, .inl (c8, 40, .inl (fun _ => nI 0))), (q9, .inl (c9, 40, .inl (fun _ => nI 0))), (q12, .inl (c12, 4, .inl (fun _ => nI 0))), (q13, .inl (c13, 20, .inl (fun _ => nI 0)))] := hD
  have hK : va_K D vwCl [(c2, .byte), (c5, .byte), (c6, .byte), (c7, .byte), (c8, .byte), (c9, .byte), (c12, .byte), (c13, .byte)] s := hK
  refine va_putF (D := D) (ci := 0) (v := .ref q13) (ty := .array .byte) (C := RX0) (T := TX0) (N := 15) hx hb hts in_X0 tyX0 tyX0_ok nmX0 hown hK hP hD hS 0 rfl rfl 13 (by decide) (hts _ q39) (fun _ h9 => h9) rfl hin rfl (by decide +kernel) rfl rfl (Nat.le_of_ble_eq_true rfl) dX0_init_64 (fun H locs hP hD hS => ?_)
  have hP : va_P D vwCl [(a, .inr (0, [.int (nI 0), .int (nI 0), .ref q2, .int (nI 0), .int (nI 0), .ref q5, .ref q6, .ref q7, .ref q8, .ref q9, .int (nI 0), .int (nI 0), .ref q12, .ref q13, .int (nI 0)])), (q2, .inl (c2, 20, .inl (fun _ => nI 0))), (q5, .inl (c5, 40, .inl (fun _ => nI 0))), (q6, .inl (c6, 40, .inl (fun _ => nI 0))), (q7, .inl (c7, 40, .inl (fun _ => nI 0))), (q8, .inl (c8, 40, .inl (fun _ => nI 0))), (q9, .inl (c9, 40, .inl (fun _ => nI 0))), (q12, .inl (c12, 4, .inl (fun _ => nI 0))), (q13, .inl (c13, 20, .inl (fun _ => nI 0)))] H := hP
  have hD : va_D A [(a, .inr (0, [.int (nI 0), .int (nI 0), .ref q2, .int (nI 0), .int (nI 0), .ref q5, .ref q6, .ref q7, .ref q8, .ref q9, .int (nI 0), .int (nI 0), .ref q12, .ref q13, .int (nI 0)])), (q2, .inl (c2, 20, .inl (fun _ => nI 0))), (q5, .inl (c5, 40, .inl (fun _ => nI 0))), (q6, .inl (c6, 40, .inl (fun _ => nI 0))), (q7, .inl (c7, 40, .inl (fun _ => nI 0))), (q8, .inl (c8, 40, .inl (fun _ => nI 0))), (q9, .inl (c9, 40, .inl (fun _ => nI 0))), (q12, .inl (c12, 4, .inl (fun _ => nI 0))), (q13, .inl (c13, 20, .inl (fun _ => nI 0)))] := hD
  obtain ⟨h, hh⟩ : ∃ z : Nat → Nat, z = (fun k => if k = 2 then q2 else if k = 5 then q5 else if k = 6 then q6 else if k = 7 then q7 else if k = 8 then q8 else if k = 9 then q9 else if k = 12 then q12 else if k = 13 then q13 else a) := ⟨_, rfl⟩
  obtain ⟨d, hd⟩ : ∃ z : Nat → ClassId, z = (fun k => if k = 2 then c2 else if k = 5 then c5 else if k = 6 then c6 else if k = 7 then c7 else if k = 8 then c8 else if k = 9 then c9 else if k = 12 then c12 else if k = 13 then c13 else c2) := ⟨_, rfl⟩
  have h100 : h 100 = a := by rw [hh]; rfl
  have hP : va_P D vwCl (eh_w h d g_0) H := by rw [hh, hd]; exact hP
  have hD : va_D A (eh_w h d g_0) := by rw [hh, hd]; exact hD
  have hK : va_K D vwCl (eh_t d) s := by rw [hd]; exact hK
  have C : gk_C D (eh_t d) RX0 cX0_init 2 0 0 A p (headSpec (ws_ yX0_init cX0_init 2 none) ({ frames := 1, cells := 8, slots := 244, locals := 12 } : Room)).room s m ([.ref a] : List Value).toArray c := ⟨⟨hx, hb, hml, hown, hts⟩, hK, hA, Nat.zero_le _, Nat.zero_le _⟩
  rw [← h100] at hl
  have G : gk_G D (eh_w h d g_0) A s.heap H locs := ⟨hP, hD, hS⟩
  have loop : ∀ (n i : Nat) (u1 : gS), i ≤ 4 → 5 ≤ i + n → u1.1 = g_0.1 → (∀ r, r < i → u1.2 12 r = -1) → ∀ (H : Heap) (locs : List Loc), gk_G D (eh_w h d u1) A s.heap H locs → ∀ (ls : Array Slot), lv_has ls 2 [(1, .int (nI i)), (0, .ref (h 100))] → W p l e (headSpec (ws_ yX0_init cX0_init 2 none) ({ frames := 1, cells := 8, slots := 244, locals := 12 } : Room)).room s m ([.ref a] : List Value).toArray below meth c H locs 8 244 (MQ below (va_Qv (fun x : (Nat → Nat) × (Nat → ClassId) × gS => x.1 100 = a ∧ eh_RR x.2.2 v_0) (eh_B D A) A) ([.ref a] : List Value).toArray s 8 244 A) (F0 m 69 ls []) := by
    intro n
    induction n with
    | zero => intro i u1 h1 h2; exact absurd h2 (by omega)
    | succ n ih =>
      intro i u1 h1 h2 e1 e2 H locs G ls hl
      refine lv_iload_n hx hb dX0_init_69 rfl (lv_at hl 0 rfl) ?_
      refine lv_iconst (v := nI 4) hx hb dX0_init_70 (by decide) ?_
      refine lv_icmp_ge (tgt := 87) hx hb dX0_init_71 (by decide) (fun c1 => ?_) (fun c1 => ?_)
      · have c1 := (nI_leI (a := 4) (b := i) (by omega) (by omega)).mp c1
        have hE : eh_RR u1 v_0 := eh_R_0 e1 (fun r hr => e2 r (by omega))
        exact W.vret hx hb hr (fun t ht hW => ⟨⟨(h, d, u1), rfl, ⟨h100, hE⟩, by rw [ht]; exact G.1, va_K.moved hW.alike hK, G.2.1⟩, G.2.2.F ht⟩) G.2.2.2.2 dX0_init_87
      · have c1 : i < 4 := by
          rcases Nat.lt_or_ge i 4 with q | q
          · exact q
          · exact absurd (nI_le q (by omega)) c1
        refine lv_aload_n hx hb dX0_init_74 rfl (lv_at hl 1 rfl) ?_
        refine eh_g12 C G dX0_init_75 ?_
        refine lv_iload_n hx hb dX0_init_78 rfl (lv_at hl 0 rfl) ?_
        refine lv_iconst (v := -1) hx hb dX0_init_79 (by decide) ?_
        refine eh_s12 (n := i) (x := -1) C G (rfl) (c1) (nb_m1) dX0_init_80 (fun H locs G => ?_)
        refine lv_iinc (v := nI (i + 1)) (lv' := [(1, .int (nI (i + 1))), (0, .ref (h 100))]) hx hb dX0_init_81 hl (k := 0) rfl (nI_1 i) (by decide) rfl (fun ls hl => ?_)
        refine lv_goto (tgt := 69) hx hb dX0_init_84 (by decide) ?_
        exact ih (i + 1) (gA u1 12 i (-1)) (by omega) (by omega) e1 (fun r hr => by
          show (if r = i then -1 else u1.2 12 r) = -1
          by_cases q : r = i
          · rw [if_pos q]
          · rw [if_neg q]; exact e2 r (by omega)) _ _ G ls (lv_sub hl [0, 1] rfl)
  refine lv_iconst (v := nI 0) hx hb dX0_init_67 (by decide) ?_
  refine lv_istore_n (lv' := [(1, .int (nI 0)), (0, .ref (h 100))]) hx hb dX0_init_68 rfl hl (by decide) rfl (fun ls hl => ?_)
  exact loop 5 0 g_0 (by omega) (by omega) rfl (fun r hr => absurd hr (Nat.not_lt_zero r)) _ _ G ls hl
def mo_B (D : va_G) (A : Nat → Prop) (x : (Nat → Nat) × (Nat → ClassId) × gS) (t : State) : Prop := va_P D vwCl (mo_w x.1 x.2.1 x.2.2) t.heap ∧ va_K D vwCl (mo_t x.2.1) t ∧ va_D A (mo_w x.1 x.2.1 x.2.2)
set_option maxHeartbeats 4000000 in
set_option maxRecDepth 100000 in
theorem mm_init (l : Launch) (D : va_G) (a sz : Nat) : Met l yX1_init (ws_ yX1_init cX1_init 1 none) ({ frames := 1, cells := 7, slots := 124, locals := 12 } : Room) (va_Pc [.ref a] (fun U => U.heap.size = sz ∧ va_P D vwCl [(a, .inr (1, [.null, .null, .null, .null, .null, .null, .int (nI 0), .null]))] U.heap ∧ va_K D vwCl [] U ∧ va_D (fun _ => True) [(a, .inr (1, [.null, .null, .null, .null, .null, .null, .int (nI 0), .null]))])) (va_Qv (fun x : (Nat → Nat) × (Nat → ClassId) × gS => x.1 100 = a ∧ mo_R x.2.2 v_0) (mo_B D (va_A [(a, .inr (1, [.null, .null, .null, .null, .null, .null, .int (nI 0), .null]))] sz)) (va_A [(a, .inr (1, [.null, .null, .null, .null, .null, .null, .int (nI 0), .null]))] sz)) 7 124 (va_A [(a, .inr (1, [.null, .null, .null, .null, .null, .null, .int (nI 0), .null]))] sz) := by
  refine Met.ofW (cc := cX1_init) (maxL := 1) (ret := none) (by decide) rfl ?_
  intro p e s m args below meth c s₁ B hml hv
  obtain ⟨rfl, hsz, hP, hK, hD0⟩ := hv
  have hx := B.exec
  have hb := B.bytes
  have hr := B.returns
  have hts := atoms_spec (ws := ws_ yX1_init cX1_init 1 none) B.pre
  have hts : ∀ w ∈ lw_all, w.before _ s = true := fun w h => hts w (List.mem_cons_of_mem _ h)
  have hown : s.vm.findClass RX1 = some m.cls := findClass_of_methodNamed B.named
  have hlocks := B.notSynchronized
  have hin : meth.name = "<init>" := (name_of_methodNamed B.named B.method).1
  subst hsz
  have hD := hD0.self (sz := s.heap.size)
  generalize hAe : va_A [(a, .inr (1, [.null, .null, .null, .null, .null, .null, .int (nI 0), .null]))] s.heap.size = A at hD ⊢
  have hA : ∀ q : Nat, s.heap.size ≤ q → A q := fun q h => by rw [← hAe]; exact Or.inr h
  have hS : va_S A s.heap s.heap [] := va_S.rf
  have hl := lv_entry ([.ref a]) (n := 1) (Nat.le_of_ble_eq_true rfl)
  rw [lg_entry_eq]
  generalize (lg_sl ([.ref a]) ++ List.replicate (1 - (lg_sl ([.ref a])).length) Slot.unset).toArray = ls at hl ⊢
  have hl : lv_has ls 1 [(0, .ref a)] := hl
  refine lv_aload_n hx hb dX1_init_0 rfl (lv_at hl 0 rfl) ?_
  refine W.objInit hx hb hown (hts _ q192) (hts _ q24) (hts _ q25) rfl (by rw [hml]; exact hl.1) rfl dX1_init_1 (Nat.le_of_ble_eq_true rfl) (Nat.le_of_ble_eq_true rfl) ?_
  refine W.eq (g2 := F0 m 4 ls []) rfl ?_
  refine lv_aload_n hx hb dX1_init_4 rfl (lv_at hl 0 rfl) ?_
  refine lv_bipush (v := nI 20) hx hb dX1_init_5 (by decide) ?_
  refine va_newa (atype := .boolean) (ty := .boolean) (N' := 20) (a0 := (20, .inl (fun _ => nI 0))) hx hb (hts _ q218) rfl hK hP hD hS hA (n := nI 20) (fun _ => rfl) (by decide) (by decide) (by decide) (Nat.le_of_ble_eq_true rfl) (Nat.le_of_ble_eq_true rfl) dX1_init_7 (fun q0 c0 H hK hP hD hS => ?_)
  refine W.widen (k := 1) (n := 20) (Nat.le_of_ble_eq_true rfl) (Nat.le_of_ble_eq_true rfl) ?_
  have hP : va_P D vwCl [(a, .inr (1, [.null, .null, .null, .null, .null, .null, .int (nI 0), .null])), (q0, .inl (c0, 20, .inl (fun _ => nI 0)))] H := hP
  have hD : va_D A [(a, .inr (1, [.null, .null, .null, .null, .null, .null, .int (nI 0), .null])), (q0, .inl (c0, 20, .inl (fun _ => nI 0)))] := hD
  have hK : va_K D vwCl [(c0, .boolean)] s := hK
  refine va_put (D := D) (ci := 1) (v := .ref q0) (ty := .array .boolean) (C := RX1) (T := TX1) (N := 8) hx hb hts in_X1 tyX1 tyX1_ok nmX1 hown hK hP hD hS 0 rfl rfl 0 (by decide) (hts _ q193) (fun _ h9 => h9) rfl (by decide +kernel) rfl rfl (Nat.le_of_ble_eq_true rfl) dX1_init_9 (fun H locs hP hD hS => ?_)
  have hP : va_P D vwCl [(a, .inr (1, [.ref q0, .null, .null, .null, .null, .null, .int (nI 0), .null])), (q0, .inl (c0, 20, .inl (fun _ => nI 0)))] H := hP
  have hD : va_D A [(a, .inr (1, [.ref q0, .null, .null, .null, .null, .null, .int (nI 0), .null])), (q0, .inl (c0, 20, .inl (fun _ => nI 0)))] := hD
  refine lv_aload_n hx hb dX1_init_12 rfl (lv_at hl 0 rfl) ?_
  refine lv_bipush (v := nI 20) hx hb dX1_init_13 (by decide) ?_
  refine va_newa (atype := .int) (ty := .int) (N' := 20) (a0 := (20, .inl (fun _ => nI 0))) hx hb (hts _ q219) rfl hK hP hD hS hA (n := nI 20) (fun _ => rfl) (by decide) (by decide) (by decide) (Nat.le_of_ble_eq_true rfl) (Nat.le_of_ble_eq_true rfl) dX1_init_15 (fun q1 c1 H hK hP hD hS => ?_)
  refine W.widen (k := 2) (n := 40) (Nat.le_of_ble_eq_true rfl) (Nat.le_of_ble_eq_true rfl) ?_
  have hP : va_P D vwCl [(a, .inr (1, [.ref q0, .null, .null, .null, .null, .null, .int (nI 0), .null])), (q0, .inl (c0, 20, .inl (fun _ => nI 0))), (q1, .inl (c1, 20, .inl (fun _ => nI 0)))] H := hP
  have hD : va_D A [(a, .inr (1, [.ref q0, .null, .null, .null, .null, .null, .int (nI 0), .null])), (q0, .inl (c0, 20, .inl (fun _ => nI 0))), (q1, .inl (c1, 20, .inl (fun _ => nI 0)))] := hD
  have hK : va_K D vwCl [(c0, .boolean), (c1, .int)] s := hK
  refine va_put (D := D) (ci := 1) (v := .ref q1) (ty := .array .int) (C := RX1) (T := TX1) (N := 8) hx hb hts in_X1 tyX1 tyX1_ok nmX1 hown hK hP hD hS 0 rfl rfl 1 (by decide) (hts _ q194) (fun _ h9 => h9) rfl (by decide +kernel) rfl rfl (Nat.le_of_ble_eq_true rfl) dX1_init_17 (fun H locs hP hD hS => ?_)
  have hP : va_P D vwCl [(a, .inr (1, [.ref q0, .ref q1, .null, .null, .null, .null, .int (nI 0), .null])), (q0, .inl (c0, 20, .inl (fun _ => nI 0))), (q1, .inl (c1, 20, .inl (fun _ => nI 0)))] H := hP
  have hD : va_D A [(a, .inr (1, [.ref q0, .ref q1, .null, .null, .null, .null, .int (nI 0), .null])), (q0, .inl (c0, 20, .inl (fun _ => nI 0))), (q1, .inl (c1, 20, .inl (fun _ => nI 0)))] := hD
  refine lv_aload_n hx hb dX1_init_20 rfl (lv_at hl 0 rfl) ?_
  refine lv_bipush (v := nI 20) hx hb dX1_init_21 (by decide) ?_
  refine va_newa (atype := .boolean) (ty := .boolean) (N' := 20) (a0 := (20, .inl (fun _ => nI 0))) hx hb (hts _ q218) rfl hK hP hD hS hA (n := nI 20) (fun _ => rfl) (by decide) (by decide) (by decide) (Nat.le_of_ble_eq_true rfl) (Nat.le_of_ble_eq_true rfl) dX1_init_23 (fun q2 c2 H hK hP hD hS => ?_)
  refine W.widen (k := 3) (n := 60) (Nat.le_of_ble_eq_true rfl) (Nat.le_of_ble_eq_true rfl) ?_
  have hP : va_P D vwCl [(a, .inr (1, [.ref q0, .ref q1, .null, .null, .null, .null, .int (nI 0), .null])), (q0, .inl (c0, 20, .inl (fun _ => nI 0))), (q1, .inl (c1, 20, .inl (fun _ => nI 0))), (q2, .inl (c2, 20, .inl (fun _ => nI 0)))] H := hP
  have hD : va_D A [(a, .inr (1, [.ref q0, .ref q1, .null, .null, .null, .null, .int (nI 0), .null])), (q0, .inl (c0, 20, .inl (fun _ => nI 0))), (q1, .inl (c1, 20, .inl (fun _ => nI 0))), (q2, .inl (c2, 20, .inl (fun _ => nI 0)))] := hD
  have hK : va_K D vwCl [(c0, .boolean), (c1, .int), (c2, .boolean)] s := hK
  refine va_put (D := D) (ci := 1) (v := .ref q2) (ty := .array .boolean) (C := RX1) (T := TX1) (N := 8) hx hb hts in_X1 tyX1 tyX1_ok nmX1 hown hK hP hD hS 0 rfl rfl 2 (by decide) (hts _ q195) (fun _ h9 => h9) rfl (by decide +kernel) rfl rfl (Nat.le_of_ble_eq_true rfl) dX1_init_25 (fun H locs hP hD hS => ?_)
  have hP : va_P D vwCl [(a, .inr (1, [.ref q0, .ref q1, .ref q2, .null, .null, .null, .int (nI 0), .null])), (q0, .inl (c0, 20, .inl (fun _ => nI 0))), (q1, .inl (c1, 20, .inl (fun _ => nI 0))), (q2, .inl (c2, 20, .inl (fun _ => nI 0)))] H := hP
  have hD : va_D A [(a, .inr (1, [.ref q0, .ref q1, .ref q2, .null, .null, .null, .int (nI 0), .null])), (q0, .inl (c0, 20, .inl (fun _ => nI 0))), (q1, .inl (c1, 20, .inl (fun _ => nI 0))), (q2, .inl (c2, 20, .inl (fun _ => nI 0)))] := hD
  refine lv_aload_n hx hb dX1_init_28 rfl (lv_at hl 0 rfl) ?_
  refine lv_bipush (v := nI 20) hx hb dX1_init_29 (by decide) ?_
  refine va_newa (atype := .int) (ty := .int) (N' := 20) (a0 := (20, .inl (fun _ => nI 0))) hx hb (hts _ q219) rfl hK hP hD hS hA (n := nI 20) (fun _ => rfl) (by decide) (by decide) (by decide) (Nat.le_of_ble_eq_true rfl) (Nat.le_of_ble_eq_true rfl) dX1_init_31 (fun q3 c3 H hK hP hD hS => ?_)
  refine W.widen (k := 4) (n := 80) (Nat.le_of_ble_eq_true rfl) (Nat.le_of_ble_eq_true rfl) ?_
  have hP : va_P D vwCl [(a, .inr (1, [.ref q0, .ref q1, .ref q2, .null, .null, .null, .int (nI 0), .null])), (q0, .inl (c0, 20, .inl (fun _ => nI 0))), (q1, .inl (c1, 20, .inl (fun _ => nI 0))), (q2, .inl (c2, 20, .inl (fun _ => nI 0))), (q3, .inl (c3, 20, .inl (fun _ => nI 0)))] H := hP
  have hD : va_D A [(a, .inr (1, [.ref q0, .ref q1, .ref q2, .null, .null, .null, .int (nI 0), .null])), (q0, .inl (c0, 20, .inl (fun _ => nI 0))), (q1, .inl (c1, 20, .inl (fun _ => nI 0))), (q2, .inl (c2, 20, .inl (fun _ => nI 0))), (q3, .inl (c3, 20, .inl (fun _ => nI 0)))] := hD
  have hK : va_K D vwCl [(c0, .boolean), (c1, .int), (c2, .boolean), (c3, .int)] s := hK
  refine va_put (D := D) (ci := 1) (v := .ref q3) (ty := .array .int) (C := RX1) (T := TX1) (N := 8) hx hb hts in_X1 tyX1 tyX1_ok nmX1 hown hK hP hD hS 0 rfl rfl 3 (by decide) (hts _ q196) (fun _ h9 => h9) rfl (by decide +kernel) rfl rfl (Nat.le_of_ble_eq_true rfl) dX1_init_33 (fun H locs hP hD hS => ?_)
  have hP : va_P D vwCl [(a, .inr (1, [.ref q0, .ref q1, .ref q2, .ref q3, .null, .null, .int (nI 0), .null])), (q0, .inl (c0, 20, .inl (fun _ => nI 0))), (q1, .inl (c1, 20, .inl (fun _ => nI 0))), (q2, .inl (c2, 20, .inl (fun _ => nI 0))), (q3, .inl (c3, 20, .inl (fun _ => nI 0)))] H := hP
  have hD : va_D A [(a, .inr (1, [.ref q0, .ref q1, .ref q2, .ref q3, .null, .null, .int (nI 0), .null])), (q0, .inl (c0, 20, .inl (fun _ => nI 0))), (q1, .inl (c1, 20, .inl (fun _ => nI 0))), (q2, .inl (c2, 20, .inl (fun _ => nI 0))), (q3, .inl (c3, 20, .inl (fun _ => nI 0)))] := hD
  refine lv_aload_n hx hb dX1_init_36 rfl (lv_at hl 0 rfl) ?_
  refine lv_bipush (v := nI 20) hx hb dX1_init_37 (by decide) ?_
  refine va_newa (atype := .int) (ty := .int) (N' := 20) (a0 := (20, .inl (fun _ => nI 0))) hx hb (hts _ q219) rfl hK hP hD hS hA (n := nI 20) (fun _ => rfl) (by decide) (by decide) (by decide) (Nat.le_of_ble_eq_true rfl) (Nat.le_of_ble_eq_true rfl) dX1_init_39 (fun q4 c4 H hK hP hD hS => ?_)
  refine W.widen (k := 5) (n := 100) (Nat.le_of_ble_eq_true rfl) (Nat.le_of_ble_eq_true rfl) ?_
  have hP : va_P D vwCl [(a, .inr (1, [.ref q0, .ref q1, .ref q2, .ref q3, .null, .null, .int (nI 0), .null])), (q0, .inl (c0, 20, .inl (fun _ => nI 0))), (q1, .inl (c1, 20, .inl (fun _ => nI 0))), (q2, .inl (c2, 20, .inl (fun _ => nI 0))), (q3, .inl (c3, 20, .inl (fun _ => nI 0))), (q4, .inl (c4, 20, .inl (fun _ => nI 0)))] H := hP
  have hD : va_D A [(a, .inr (1, [.ref q0, .ref q1, .ref q2, .ref q3, .null, .null, .int (nI 0), .null])), (q0, .inl (c0, 20, .inl (fun _ => nI 0))), (q1, .inl (c1, 20, .inl (fun _ => nI 0))), (q2, .inl (c2, 20, .inl (fun _ => nI 0))), (q3, .inl (c3, 20, .inl (fun _ => nI 0))), (q4, .inl (c4, 20, .inl (fun _ => nI 0)))] := hD
  have hK : va_K D vwCl [(c0, .boolean), (c1, .int), (c2, .boolean), (c3, .int), (c4, .int)] s := hK
  refine va_put (D := D) (ci := 1) (v := .ref q4) (ty := .array .int) (C := RX1) (T := TX1) (N := 8) hx hb hts in_X1 tyX1 tyX1_ok nmX1 hown hK hP hD hS 0 rfl rfl 4 (by decide) (hts _ q197) (fun _ h9 => h9) rfl (by decide +kernel) rfl rfl (Nat.le_of_ble_eq_true rfl) dX1_init_41 (fun H locs hP hD hS => ?_)
  have hP : va_P D vwCl [(a, .inr (1, [.ref q0, .ref q1, .ref q2, .ref q3, .ref q4, .null, .int (nI 0), .null])), (q0, .inl (c0, 20, .inl (fun _ => nI 0))), (q1, .inl (c1, 20, .inl (fun _ => nI 0))), (q2, .inl (c2, 20, .inl (fun _ => nI 0))), (q3, .inl (c3, 20, .inl (fun _ => nI 0))), (q4, .inl (c4, 20, .inl (fun _ => nI 0)))] H := hP
  have hD : va_D A [(a, .inr (1, [.ref q0, .ref q1, .ref q2, .ref q3, .ref q4, .null, .int (nI 0), .null])), (q0, .inl (c0, 20, .inl (fun _ => nI 0))), (q1, .inl (c1, 20, .inl (fun _ => nI 0))), (q2, .inl (c2, 20, .inl (fun _ => nI 0))), (q3, .inl (c3, 20, .inl (fun _ => nI 0))), (q4, .inl (c4, 20, .inl (fun _ => nI 0)))] := hD
  refine lv_aload_n hx hb dX1_init_44 rfl (lv_at hl 0 rfl) ?_
  refine lv_iconst (v := nI 4) hx hb dX1_init_45 (by decide) ?_
  refine va_newa (atype := .int) (ty := .int) (N' := 4) (a0 := (4, .inl (fun _ => nI 0))) hx hb (hts _ q219) rfl hK hP hD hS hA (n := nI 4) (fun _ => rfl) (by decide) (by decide) (by decide) (Nat.le_of_ble_eq_true rfl) (Nat.le_of_ble_eq_true rfl) dX1_init_46 (fun q5 c5 H hK hP hD hS => ?_)
  refine W.widen (k := 6) (n := 104) (Nat.le_of_ble_eq_true rfl) (Nat.le_of_ble_eq_true rfl) ?_
  have hP : va_P D vwCl [(a, .inr (1, [.ref q0, .ref q1, .ref q2, .ref q3, .ref q4, .null, .int (nI 0), .null])), (q0, .inl (c0, 20, .inl (fun _ => nI 0))), (q1, .inl (c1, 20, .inl (fun _ => nI 0))), (q2, .inl (c2, 20, .inl (fun _ => nI 0))), (q3, .inl (c3, 20, .inl (fun _ => nI 0))), (q4, .inl (c4, 20, .inl (fun _ => nI 0))), (q5, .inl (c5, 4, .inl (fun _ => nI 0)))] H := hP
  have hD : va_D A [(a, .inr (1, [.ref q0, .ref q1, .ref q2, .ref q3, .ref q4, .null, .int (nI 0), .null])), (q0, .inl (c0, 20, .inl (fun _ => nI 0))), (q1, .inl (c1, 20, .inl (fun _ => nI 0))), (q2, .inl (c2, 20, .inl (fun _ => nI 0))), (q3, .inl (c3, 20, .inl (fun _ => nI 0))), (q4, .inl (c4, 20, .inl (fun _ => nI 0))), (q5, .inl (c5, 4, .inl (fun _ => nI 0)))] := hD
  have hK : va_K D vwCl [(c0, .boolean), (c1, .int), (c2, .boolean), (c3, .int), (c4, .int), (c5, .int)] s := hK
  refine va_put (D := D) (ci := 1) (v := .ref q5) (ty := .array .int) (C := RX1) (T := TX1) (N := 8) hx hb hts in_X1 tyX1 tyX1_ok nmX1 hown hK hP hD hS 0 rfl rfl 5 (by decide) (hts _ q198) (fun _ h9 => h9) rfl (by decide +kernel) rfl rfl (Nat.le_of_ble_eq_true rfl) dX1_init_48 (fun H locs hP hD hS => ?_)
  have hP : va_P D vwCl [(a, .inr (1, [.ref q0, .ref q1, .ref q2, .ref q3, .ref q4, .ref q5, .int (nI 0), .null])), (q0, .inl (c0, 20, .inl (fun _ => nI 0))), (q1, .inl (c1, 20, .inl (fun _ => nI 0))), (q2, .inl (c2, 20, .inl (fun _ => nI 0))), (q3, .inl (c3, 20, .inl (fun _ => nI 0))), (q4, .inl (c4, 20, .inl (fun _ => nI 0))), (q5, .inl (c5, 4, .inl (fun _ => nI 0)))] H := hP
  have hD : va_D A [(a, .inr (1, [.ref q0, .ref q1, .ref q2, .ref q3, .ref q4, .ref q5, .int (nI 0), .null])), (q0, .inl (c0, 20, .inl (fun _ => nI 0))), (q1, .inl (c1, 20, .inl (fun _ => nI 0))), (q2, .inl (c2, 20, .inl (fun _ => nI 0))), (q3, .inl (c3, 20, .inl (fun _ => nI 0))), (q4, .inl (c4, 20, .inl (fun _ => nI 0))), (q5, .inl (c5, 4, .inl (fun _ => nI 0)))] := hD
  refine lv_aload_n hx hb dX1_init_51 rfl (lv_at hl 0 rfl) ?_
  refine lv_bipush (v := nI 20) hx hb dX1_init_52 (by decide) ?_
  refine va_newa (atype := .int) (ty := .int) (N' := 20) (a0 := (20, .inl (fun _ => nI 0))) hx hb (hts _ q219) rfl hK hP hD hS hA (n := nI 20) (fun _ => rfl) (by decide) (by decide) (by decide) (Nat.le_of_ble_eq_true rfl) (Nat.le_of_ble_eq_true rfl) dX1_init_54 (fun q7 c7 H hK hP hD hS => ?_)
  refine W.widen (k := 7) (n := 124) (Nat.le_of_ble_eq_true rfl) (Nat.le_of_ble_eq_true rfl) ?_
  have hP : va_P D vwCl [(a, .inr (1, [.ref q0, .ref q1, .ref q2, .ref q3, .ref q4, .ref q5, .int (nI 0), .null])), (q0, .inl (c0, 20, .inl (fun _ => nI 0))), (q1, .inl (c1, 20, .inl (fun _ => nI 0))), (q2, .inl (c2, 20, .inl (fun _ => nI 0))), (q3, .inl (c3, 20, .inl (fun _ => nI 0))), (q4, .inl (c4, 20, .inl (fun _ => nI 0))), (q5, .inl (c5, 4, .inl (fun _ => nI 0))), (q7, .inl (c7, 20, .inl (fun _ => nI 0)))] H := hP
  have hD : va_D A [(a, .inr (1, [.ref q0, .ref q1, .ref q2, .ref q3, .ref q4, .ref q5, .int (nI 0), .null])), (q0, .inl (c0, 20, .inl (fun _ => nI 0))), (q1, .inl (c1, 20, .inl (fun _ => nI 0))), (q2, .inl (c2, 20, .inl (fun _ => nI 0))), (q3, .inl (c3, 20, .inl (fun _ => nI 0))), (q4, .inl (c4, 20, .inl (fun _ => nI 0))), (q5, .inl (c5, 4, .inl (fun _ => nI 0))), (q7, .inl (c7, 20, .inl (fun _ => nI 0)))] := hD
  have hK : va_K D vwCl [(c0, .boolean), (c1, .int), (c2, .boolean), (c3, .int), (c4, .int), (c5, .int), (c7, .int)] s := hK
  refine va_put (D := D) (ci := 1) (v := .ref q7) (ty := .array .int) (C := RX1) (T := TX1) (N := 8) hx hb hts in_X1 tyX1 tyX1_ok nmX1 hown hK hP hD hS 0 rfl rfl 7 (by decide) (hts _ q200) (fun _ h9 => h9) rfl (by decide +kernel) rfl rfl (Nat.le_of_ble_eq_true rfl) dX1_init_56 (fun H locs hP hD hS => ?_)
  have hP : va_P D vwCl [(a, .inr (1, [.ref q0, .ref q1, .ref q2, .ref q3, .ref q4, .ref q5, .int (nI 0), .ref q7])), (q0, .inl (c0, 20, .inl (fun _ => nI 0))), (q1, .inl (c1, 20, .inl (fun _ => nI 0))), (q2, .inl (c2, 20, .inl (fun _ => nI 0))), (q3, .inl (c3, 20, .inl (fun _ => nI 0))), (q4, .inl (c4, 20, .inl (fun _ => nI 0))), (q5, .inl (c5, 4, .inl (fun _ => nI 0))), (q7, .inl (c7, 20, .inl (fun _ => nI 0)))] H := hP
  have hD : va_D A [(a, .inr (1, [.ref q0, .ref q1, .ref q2, .ref q3, .ref q4, .ref q5, .int (nI 0), .ref q7])), (q0, .inl (c0, 20, .inl (fun _ => nI 0))), (q1, .inl (c1, 20, .inl (fun _ => nI 0))), (q2, .inl (c2, 20, .inl (fun _ => nI 0))), (q3, .inl (c3, 20, .inl (fun _ => nI 0))), (q4, .inl (c4, 20, .inl (fun _ => nI 0))), (q5, .inl (c5, 4, .inl (fun _ => nI 0))), (q7, .inl (c7, 20, .inl (fun _ => nI 0)))] := hD
  obtain ⟨h, hh⟩ : ∃ z : Nat → Nat, z = (fun k => if k = 0 then q0 else if k = 1 then q1 else if k = 2 then q2 else if k = 3 then q3 else if k = 4 then q4 else if k = 5 then q5 else if k = 7 then q7 else a) := ⟨_, rfl⟩
  obtain ⟨d, hd⟩ : ∃ z : Nat → ClassId, z = (fun k => if k = 0 then c0 else if k = 1 then c1 else if k = 2 then c2 else if k = 3 then c3 else if k = 4 then c4 else if k = 5 then c5 else if k = 7 then c7 else c0) := ⟨_, rfl⟩
  have h100 : h 100 = a := by rw [hh]; rfl
  have hP : va_P D vwCl (mo_w h d g_0) H := by rw [hh, hd]; exact hP
  have hD : va_D A (mo_w h d g_0) := by rw [hh, hd]; exact hD
  have hK : va_K D vwCl (mo_t d) s := by rw [hd]; exact hK
  exact W.vret hx hb hr (fun t ht hW => ⟨⟨(h, d, g_0), rfl, ⟨h100, mo_R_0⟩, by rw [ht]; exact hP, va_K.moved hW.alike hK, hD⟩, hS.F ht⟩) hS.2.2 dX1_init_59
end
section
/-! rows of the law: two worlds side by side; a call of one leaves the other as it was -/
def lj (D : va_G) (wa wb : va_W) (A : Nat → Prop) (H0 H : Heap) (locs : List Loc) : Prop :=
  va_P D vwCl wa H ∧ va_P D vwCl wb H ∧ va_D A wa ∧ va_D A wb ∧ (∀ (i j : Nat) (p q : Nat × va_E), wa[i]? = some p → wb[j]? = some q → p.1 ≠ q.1) ∧ va_S A H0 H locs
theorem lj.symm {D : va_G} {wa wb : va_W} {A : Nat → Prop} {H0 H : Heap} {locs : List Loc} (h : lj D wa wb A H0 H locs) : lj D wb wa A H0 H locs := ⟨h.2.1, h.1, h.2.2.2.1, h.2.2.1, fun i j p q hp hq e => h.2.2.2.2.1 j i q p hq hp e.symm, h.2.2.2.2.2⟩
section LJ
variable {p : Program} {l : Launch} {e : Env} {R : Room} {s : State} {m : MethodId} {args : Array Value} {below : List Frame} {meth : Method} {c : Code} {H : Heap} {locs : List Loc} {Q : State → Prop} {cells slots : Nat}
variable {cc : ByteArray} {pc : Nat} {ls : Array Slot} {rest st0 : List Value} {D : va_G} {A : Nat → Prop} {tys : List (ClassId × FieldType)} {wf : gS → va_W} {wb : va_W} {own : String} {nL : Nat} {u : gS}
theorem gk_cj {C : String} {y : MethodName} {bytes : ByteArray} {maxL f' k' n index b ci N : Nat} {ty : FieldType} {T : u_T} {fs As : List Value} {post : Int32 → gS → Prop} (S : CallFix p m c cc nL s args lw_all own) (hK : va_K D vwCl tys s) (hA : ∀ q : Nat, s.heap.size ≤ q → A q) (J : lj D (wf u) wb A s.heap H locs)
    (hM : gk_Mi l D tys wf y bytes maxL ty f' k' (.ref b :: As) u post) (hq : GoodIn lw_all (wsV own index C y (ws_ y bytes maxL (some ty))))
    (hd : y.cls = C ∧ y.cls ≠ "java/lang/invoke/MethodHandle" ∧ y.cls ≠ "java/lang/invoke/VarHandle" ∧ (parseMethodDescriptor y.desc).map (fun d => d.parameters.length) = some n) (hn : As.length = n)
    (hR : f' + 1 ≤ R.frames ∧ 8 + (maxL + 11) + k' ≤ R.locals) (hc : vwCl[ci]? = some (C, T, N)) (he : (wf u)[0]? = some (b, .inr (ci, fs)))
    (hst : st0 = As.reverse ++ .ref b :: rest) (hW : (rest.map fun v => v.category).sum ≤ 8) (hl : ls.size = nL) (hdg : decode cc pc = .ok (.invokevirtual index, 3)) (hf : cells ≤ R.cells ∧ slots ≤ R.slots)
    (K : ∀ (r : Int32) (u' : gS) (H1 : Heap) (locs1 : List Loc), post r u' → lj D (wf u') wb A s.heap H1 locs1 → W p l e R s m args below meth c H1 locs1 cells slots Q (F0 m (pc + 3) ls (.int r :: rest))) : W p l e R s m args below meth c H locs cells slots Q (F0 m pc ls st0) := by
  obtain ⟨hP, hPb, hD, hDb, hx, hS⟩ := J
  have hF : ∀ q, va_A (wf u) H.size q → A q := by
    intro q hq
    rcases hq with ⟨i, x, hx⟩ | hq
    · exact hD.2 i _ hx
    · exact hA q (Nat.le_trans hS.1 hq)
  have hnb : ∀ (j : Nat) (q : Nat × va_E), wb[j]? = some q → ¬ va_A (wf u) H.size q.1 := by
    rintro j q hj (⟨i, x, hx2⟩ | hz)
    · exact hx i j _ q hx2 hj rfl
    · exact absurd ((hPb j q hj).lt) (Nat.not_lt.mpr hz)
  refine va_calli (va_runV (As := As) (rest := rest) S (hM H.size) (cwV n S.2.2.2.2 hq rfl rfl rfl hd hR) ⟨gk_blind, va_recv hK hP hc he, fun U hU hW => ⟨rfl, by rw [hU], by rw [hU]; exact hP, va_K.moved hW.alike hK, hD.weaken (fun _ _ _ _ => trivial)⟩⟩ rfl hn hl hst (lv_room hW) hdg hf) hS (fun q _ h => hF q h) hF (fun r u' t H1 locs1 ht hvm hp hB hz1 hk1 hS1 => ?_)
  obtain ⟨hP1, hK1, hD1⟩ := hB
  rw [ht] at hP1
  refine K r u' H1 locs1 hp ⟨hP1, hPb.kept (fun j q hj => hk1 q.1 ((hPb j q hj).lt) (hnb j q hj)), hD1.weaken (fun _ _ _ h => hF _ h), hDb, fun i j p q hp hq e => ?_, hS1⟩
  exact hnb j q hq (e ▸ hD1.2 i p hp)
theorem lw_ld {b L n : Nat} {xs : Nat → Int32} {x : Int32} (hexec : p.tables.exec = Jvm.exec) (hb : c.code = cc) (hX : va_X b L xs s s.heap) (hbl : b < s.heap.size) (hS : va_S (fun q : Nat => s.heap.size ≤ q) s.heap H locs) {i : Int32} (hi : i = nI n) (hn : n < L) (hL : L ≤ 256) (hv : xs n = x) (hdg : decode cc pc = .ok (.iaload, 1))
    (K : W p l e R s m args below meth c H locs cells slots Q (F0 m (pc + 1) ls (.int x :: rest))) : W p l e R s m args below meth c H locs cells slots Q (F0 m pc ls (.int i :: .ref b :: rest)) := by
  subst hi
  refine va_sld (A := fun q : Nat => s.heap.size ≤ q) hexec hb hX hbl (Nat.not_le.mpr hbl) hS (vp_in_nI hn (by omega)) hdg ?_
  rw [nI_clamp (by omega), hv]
  exact K
end LJ
/-- what the two sides share -/
def lw_I (u w : gS) (v : eV) : Prop := v_inv v ∧ eh_RR u v ∧ mo_R w v
end
section
/-! THE CLAIM OUT OF ONE WALK OF THE LAW'S BODY. Your part is whole_start (and what it stands on); all else here is the same for every law, but numbers. -/
def R_law : String := "EphemeronHeapLaw"
def lw_P (b : Addr) (xs : List Int32) (args : Array Value) (s : State) : Prop := args = #[.ref b] ∧ s.IntsAt b xs ∧ xs.length ≤ 256 ∧ (Jvm.Cond.and given_1 narrow_1).before args s = true
def lw_Q (_ : Array Value) (s : State) (o : Outcome) (t : State) : Prop := o = .returned (some (.int 1)) ∧ Framed s o t [] 600000 7290000
def lw_Z (below : List Frame) (a : Array Value) (s : State) : State → Prop := fun t => ∃ o, t.status = .running ∧ Ended t below o ∧ lw_Q a s o t
/-- the law's own end, with 1 on the stack, nothing written that was there before, its room as the claim has it -/
theorem lw_ret {p : Program} {l : Launch} {e : Env} {s : State} {m : MethodId} {below : List Frame} {meth : Method} {c : Code} {b : Nat} (hx : p.tables.exec = Jvm.exec) (hb : c.code = code) (hr : meth.sig.returnType = ret) (hlocks : meth.locks = false) {pc : Nat} {H : Heap} {ls : Array Slot} (hdg : decode code pc = .ok (.ireturn, 1)) : W p l e room_1 s m #[Value.ref b] below meth c H [] 600000 7290000 (lw_Z below #[Value.ref b] s) (F0 m pc ls [.int 1]) := by
  intro T hT X
  obtain ⟨fs, hret, hrun, hended, hW, hframe⟩ := X.leave (v := some (.int 1)) (hlocks := hlocks) (fun h => by rw [hr] at h; cases h)
  have hmeth' : T.vm.method? m = some meth := X.method'
  refine ⟨T.setFrames fs, ?_, .returned (some (.int 1)), hrun, hended, rfl, ⟨_, rfl⟩, hW, hframe⟩
  jvm_step X.here [X.here.top, hx, hb, hdg, hmeth', hr, ret, narrow_b1]
  (try refine ⟨rfl, ?_⟩); (try refine ⟨rfl, ?_⟩)
  first | (intro acts; rw [hret _ acts rfl rfl rfl]) | rw [hret _ _ rfl rfl rfl]
  exact Steps.refl _
/-- what holds at the law's entry: the machine, the code, the tables' words (any of lw_tbl by 'hts w (by decide +kernel)'), the script of L ints xs at the cell b, what the Statement gives of the start (any of its parts by flat_of_before) -/
def lw_At (p : Program) (s : State) (m : MethodId) (meth : Method) (c : Code) (b L : Nat) (xs : Nat → Int32) : Prop :=
  p.tables.exec = Jvm.exec ∧ c.code = code ∧ meth.sig.returnType = ret ∧ c.maxLocals = 4 ∧ s.vm.findClass R_law = some m.cls ∧ (∀ w ∈ lw_tbl, w.before #[Value.ref b] s = true) ∧ va_X b L xs s s.heap ∧ b < s.heap.size ∧ meth.locks = false ∧ (Jvm.Cond.and given_1 narrow_1).before #[Value.ref b] s = true
/-- two worlds out of one -/
theorem lj_of {D : va_G} {wa wb : va_W} {A : Nat → Prop} {H0 H : Heap} {locs : List Loc} (hP : va_P D vwCl (wa ++ wb) H) (hD : va_D A (wa ++ wb)) (hS : va_S A H0 H locs) : lj D wa wb A H0 H locs := by
  have ka : ∀ (k : Nat) (q : Nat × va_E), wa[k]? = some q → (wa ++ wb)[k]? = some q := fun k q h => by
    have hk : k < wa.length := (List.getElem?_eq_some_iff.mp h).1
    rw [List.getElem?_append_left hk]; exact h
  have kb : ∀ (k : Nat) (q : Nat × va_E), wb[k]? = some q → (wa ++ wb)[wa.length + k]? = some q := fun k q h => by
    rw [List.getElem?_append_right (Nat.le_add_right _ _), Nat.add_sub_cancel_left]; exact h
  refine ⟨fun k q h => hP k q (ka k q h), fun k q h => hP _ q (kb k q h), ⟨fun i j p q hp hq e => hD.1 i j p q (ka i p hp) (ka j q hq) e, fun k q h => hD.2 k q (ka k q h)⟩, ⟨fun i j p q hp hq e => ?_, fun k q h => hD.2 _ q (kb k q h)⟩, fun i j p q hp hq e => ?_, hS⟩
  · have := hD.1 _ _ p q (kb i p hp) (kb j q hq) e
    omega
  · have h1 := hD.1 _ _ p q (ka i p hp) (kb j q hq) e
    have h2 : i < wa.length := (List.getElem?_eq_some_iff.mp hp).1
    omega
/-- what stays through the law's loop -/
def lw_C (p : Program) (s : State) (m : MethodId) (c : Code) (b L : Nat) (xs : Nat → Int32) (D : va_G) (d d' : Nat → ClassId) : Prop :=
  CallFix p m c code 4 s #[Value.ref b] lw_all R_law ∧ va_X b L xs s s.heap ∧ b < s.heap.size ∧ va_K D vwCl (eh_t d) s ∧ va_K D vwCl (mo_t d') s ∧ L ≤ 256
end
section
/-! the cases of the law's switch, one by one: from a case to the loop's end (443), the two sides still tied to one value -/
section LC
variable {p : Program} {l : Launch} {e : Env} {s : State} {m : MethodId} {below : List Frame} {meth : Method} {c : Code} {H : Heap} {locs : List Loc} {Q : State → Prop} {ls : Array Slot} {D : va_G} {b L i : Nat} {xs : Nat → Int32} {h h' : Nat → Nat} {d d' : Nat → ClassId} {u w : gS} {v : eV}
set_option maxHeartbeats 4000000 in
set_option maxRecDepth 100000 in
theorem lc_make (C : lw_C p s m c b L xs D d d') (hi : i + 4 ≤ L) (I : lw_I u w v) (J : lj D (eh_w h d u) (mo_w h' d' w) (fun q : Nat => s.heap.size ≤ q) s.heap H locs) (hl : lv_has ls 4 [(0, .ref b), (1, .ref (h 100)), (2, .ref (h' 100)), (3, .int (nI i))]) (K : ∀ (u w : gS) (v : eV) (H : Heap) (locs : List Loc), lw_I u w v → lj D (eh_w h d u) (mo_w h' d' w) (fun q : Nat => s.heap.size ≤ q) s.heap H locs → W p l e room_1 s m #[Value.ref b] below meth c H locs 17 391 Q (F0 m 443 ls [])) : W p l e room_1 s m #[Value.ref b] below meth c H locs 17 391 Q (F0 m 108 ls []) := by
  obtain ⟨S, hX, hbl, hKe, hKm, hL⟩ := C
  have hx := S.1
  have hb := S.2.1
  obtain ⟨hv, ⟨sp, pl, hR⟩, hM⟩ := I
  refine lv_aload_n hx hb dL_law_108 rfl (lv_at hl 1 rfl) ?_
  refine lv_aload_n hx hb dL_law_109 rfl (lv_at hl 0 rfl) ?_
  refine lv_iload_n hx hb dL_law_110 rfl (lv_at hl 3 rfl) ?_
  refine lv_iconst (v := nI 1) hx hb dL_law_111 (by decide) ?_
  refine lv_iadd hx hb dL_law_112 ?_
  refine lw_ld (n := i + 1) (x := xs (i + 1)) hx hb hX hbl J.2.2.2.2.2 (nI_add i 1) (by omega) hL rfl dL_law_113 ?_
  refine lv_aload_n hx hb dL_law_114 rfl (lv_at hl 0 rfl) ?_
  refine lv_iload_n hx hb dL_law_115 rfl (lv_at hl 3 rfl) ?_
  refine lv_iconst (v := nI 2) hx hb dL_law_116 (by decide) ?_
  refine lv_iadd hx hb dL_law_117 ?_
  refine lw_ld (n := i + 2) (x := xs (i + 2)) hx hb hX hbl J.2.2.2.2.2 (nI_add i 2) (by omega) hL rfl dL_law_118 ?_
  refine gk_cj (n := 2) (As := [.int (xs (i + 1)), .int (xs (i + 2))]) (rest := []) (C := RX0) (ci := 0) (T := TX0) (N := 15) (fs := eh_f h u) (wf := eh_w h d) S hKe (fun _ h => h) J (me_make l D h d u v sp pl (xs (i + 1)) (xs (i + 2)) hv hR) (lw_V q73 q74 q75 q16 q76) (by decide +kernel) rfl ⟨Nat.le_of_ble_eq_true rfl, Nat.le_of_ble_eq_true rfl⟩ rfl rfl rfl (Nat.le_of_ble_eq_true rfl) hl.1 dL_law_119 ⟨Nat.le_of_ble_eq_true rfl, Nat.le_of_ble_eq_true rfl⟩ (fun r1 u1 H locs hp1 J => ?_)
  refine lv_aload_n hx hb dL_law_122 rfl (lv_at hl 2 rfl) ?_
  refine lv_aload_n hx hb dL_law_123 rfl (lv_at hl 0 rfl) ?_
  refine lv_iload_n hx hb dL_law_124 rfl (lv_at hl 3 rfl) ?_
  refine lv_iconst (v := nI 1) hx hb dL_law_125 (by decide) ?_
  refine lv_iadd hx hb dL_law_126 ?_
  refine lw_ld (n := i + 1) (x := xs (i + 1)) hx hb hX hbl J.2.2.2.2.2 (nI_add i 1) (by omega) hL rfl dL_law_127 ?_
  refine lv_aload_n hx hb dL_law_128 rfl (lv_at hl 0 rfl) ?_
  refine lv_iload_n hx hb dL_law_129 rfl (lv_at hl 3 rfl) ?_
  refine lv_iconst (v := nI 2) hx hb dL_law_130 (by decide) ?_
  refine lv_iadd hx hb dL_law_131 ?_
  refine lw_ld (n := i + 2) (x := xs (i + 2)) hx hb hX hbl J.2.2.2.2.2 (nI_add i 2) (by omega) hL rfl dL_law_132 ?_
  refine gk_cj (n := 2) (As := [.int (xs (i + 1)), .int (xs (i + 2))]) (rest := [.int r1]) (C := RX1) (ci := 1) (T := TX1) (N := 8) (fs := mo_f h' w) (wf := mo_w h' d') S hKm (fun _ h => h) J.symm (mm_make l D h' d' w v (xs (i + 1)) (xs (i + 2)) hv hM) (lw_V q220 q221 q222 q17 q223) (by decide +kernel) rfl ⟨Nat.le_of_ble_eq_true rfl, Nat.le_of_ble_eq_true rfl⟩ rfl rfl rfl (Nat.le_of_ble_eq_true rfl) hl.1 dL_law_133 ⟨Nat.le_of_ble_eq_true rfl, Nat.le_of_ble_eq_true rfl⟩ (fun r2 w1 H locs hp2 J => ?_)
  refine lv_icmp_eq (tgt := 443) hx hb dL_law_136 (by decide) (fun _ => ?_) (fun c_ => absurd (hp1.1.trans hp2.1.symm) c_)
  exact K u1 w1 (o_make v (xs (i + 1)) (xs (i + 2))).2 H locs ⟨i_make hv _ _, hp1.2, hp2.2⟩ J.symm
set_option maxHeartbeats 4000000 in
set_option maxRecDepth 100000 in
theorem lc_point (C : lw_C p s m c b L xs D d d') (hi : i + 4 ≤ L) (I : lw_I u w v) (J : lj D (eh_w h d u) (mo_w h' d' w) (fun q : Nat => s.heap.size ≤ q) s.heap H locs) (hl : lv_has ls 4 [(0, .ref b), (1, .ref (h 100)), (2, .ref (h' 100)), (3, .int (nI i))]) (K : ∀ (u w : gS) (v : eV) (H : Heap) (locs : List Loc), lw_I u w v → lj D (eh_w h d u) (mo_w h' d' w) (fun q : Nat => s.heap.size ≤ q) s.heap H locs → W p l e room_1 s m #[Value.ref b] below meth c H locs 17 391 Q (F0 m 443 ls [])) : W p l e room_1 s m #[Value.ref b] below meth c H locs 17 391 Q (F0 m 141 ls []) := by
  obtain ⟨S, hX, hbl, hKe, hKm, hL⟩ := C
  have hx := S.1
  have hb := S.2.1
  obtain ⟨hv, ⟨sp, pl, hR⟩, hM⟩ := I
  refine lv_aload_n hx hb dL_law_141 rfl (lv_at hl 1 rfl) ?_
  refine lv_aload_n hx hb dL_law_142 rfl (lv_at hl 0 rfl) ?_
  refine lv_iload_n hx hb dL_law_143 rfl (lv_at hl 3 rfl) ?_
  refine lv_iconst (v := nI 1) hx hb dL_law_144 (by decide) ?_
  refine lv_iadd hx hb dL_law_145 ?_
  refine lw_ld (n := i + 1) (x := xs (i + 1)) hx hb hX hbl J.2.2.2.2.2 (nI_add i 1) (by omega) hL rfl dL_law_146 ?_
  refine lv_aload_n hx hb dL_law_147 rfl (lv_at hl 0 rfl) ?_
  refine lv_iload_n hx hb dL_law_148 rfl (lv_at hl 3 rfl) ?_
  refine lv_iconst (v := nI 2) hx hb dL_law_149 (by decide) ?_
  refine lv_iadd hx hb dL_law_150 ?_
  refine lw_ld (n := i + 2) (x := xs (i + 2)) hx hb hX hbl J.2.2.2.2.2 (nI_add i 2) (by omega) hL rfl dL_law_151 ?_
  refine lv_aload_n hx hb dL_law_152 rfl (lv_at hl 0 rfl) ?_
  refine lv_iload_n hx hb dL_law_153 rfl (lv_at hl 3 rfl) ?_
  refine lv_iconst (v := nI 3) hx hb dL_law_154 (by decide) ?_
  refine lv_iadd hx hb dL_law_155 ?_
  refine lw_ld (n := i + 3) (x := xs (i + 3)) hx hb hX hbl J.2.2.2.2.2 (nI_add i 3) (by omega) hL rfl dL_law_156 ?_
  refine gk_cj (n := 3) (As := [.int (xs (i + 1)), .int (xs (i + 2)), .int (xs (i + 3))]) (rest := []) (C := RX0) (ci := 0) (T := TX0) (N := 15) (fs := eh_f h u) (wf := eh_w h d) S hKe (fun _ h => h) J (me_point l D h d u v sp pl (xs (i + 1)) (xs (i + 2)) (xs (i + 3)) hv hR) (lw_V q84 q85 q86 q16 q87) (by decide +kernel) rfl ⟨Nat.le_of_ble_eq_true rfl, Nat.le_of_ble_eq_true rfl⟩ rfl rfl rfl (Nat.le_of_ble_eq_true rfl) hl.1 dL_law_157 ⟨Nat.le_of_ble_eq_true rfl, Nat.le_of_ble_eq_true rfl⟩ (fun r1 u1 H locs hp1 J => ?_)
  refine lv_aload_n hx hb dL_law_160 rfl (lv_at hl 2 rfl) ?_
  refine lv_aload_n hx hb dL_law_161 rfl (lv_at hl 0 rfl) ?_
  refine lv_iload_n hx hb dL_law_162 rfl (lv_at hl 3 rfl) ?_
  refine lv_iconst (v := nI 1) hx hb dL_law_163 (by decide) ?_
  refine lv_iadd hx hb dL_law_164 ?_
  refine lw_ld (n := i + 1) (x := xs (i + 1)) hx hb hX hbl J.2.2.2.2.2 (nI_add i 1) (by omega) hL rfl dL_law_165 ?_
  refine lv_aload_n hx hb dL_law_166 rfl (lv_at hl 0 rfl) ?_
  refine lv_iload_n hx hb dL_law_167 rfl (lv_at hl 3 rfl) ?_
  refine lv_iconst (v := nI 2) hx hb dL_law_168 (by decide) ?_
  refine lv_iadd hx hb dL_law_169 ?_
  refine lw_ld (n := i + 2) (x := xs (i + 2)) hx hb hX hbl J.2.2.2.2.2 (nI_add i 2) (by omega) hL rfl dL_law_170 ?_
  refine lv_aload_n hx hb dL_law_171 rfl (lv_at hl 0 rfl) ?_
  refine lv_iload_n hx hb dL_law_172 rfl (lv_at hl 3 rfl) ?_
  refine lv_iconst (v := nI 3) hx hb dL_law_173 (by decide) ?_
  refine lv_iadd hx hb dL_law_174 ?_
  refine lw_ld (n := i + 3) (x := xs (i + 3)) hx hb hX hbl J.2.2.2.2.2 (nI_add i 3) (by omega) hL rfl dL_law_175 ?_
  refine gk_cj (n := 3) (As := [.int (xs (i + 1)), .int (xs (i + 2)), .int (xs (i + 3))]) (rest := [.int r1]) (C := RX1) (ci := 1) (T := TX1) (N := 8) (fs := mo_f h' w) (wf := mo_w h' d') S hKm (fun _ h => h) J.symm (mm_point l D h' d' w v (xs (i + 1)) (xs (i + 2)) (xs (i + 3)) hv hM) (lw_V q224 q225 q226 q17 q227) (by decide +kernel) rfl ⟨Nat.le_of_ble_eq_true rfl, Nat.le_of_ble_eq_true rfl⟩ rfl rfl rfl (Nat.le_of_ble_eq_true rfl) hl.1 dL_law_176 ⟨Nat.le_of_ble_eq_true rfl, Nat.le_of_ble_eq_true rfl⟩ (fun r2 w1 H locs hp2 J => ?_)
  refine lv_icmp_eq (tgt := 443) hx hb dL_law_179 (by decide) (fun _ => ?_) (fun c_ => absurd (hp1.2.1.trans hp2.2.1.symm) c_)
  exact K u1 w1 (o_point v (xs (i + 1)) (xs (i + 2)) (xs (i + 3))).2 H locs ⟨i_point hv _ _ _, hp1.2.2, hp2.2.2⟩ J.symm
set_option maxHeartbeats 4000000 in
set_option maxRecDepth 100000 in
theorem lc_root (C : lw_C p s m c b L xs D d d') (hi : i + 4 ≤ L) (I : lw_I u w v) (J : lj D (eh_w h d u) (mo_w h' d' w) (fun q : Nat => s.heap.size ≤ q) s.heap H locs) (hl : lv_has ls 4 [(0, .ref b), (1, .ref (h 100)), (2, .ref (h' 100)), (3, .int (nI i))]) (K : ∀ (u w : gS) (v : eV) (H : Heap) (locs : List Loc), lw_I u w v → lj D (eh_w h d u) (mo_w h' d' w) (fun q : Nat => s.heap.size ≤ q) s.heap H locs → W p l e room_1 s m #[Value.ref b] below meth c H locs 17 391 Q (F0 m 443 ls [])) : W p l e room_1 s m #[Value.ref b] below meth c H locs 17 391 Q (F0 m 184 ls []) := by
  obtain ⟨S, hX, hbl, hKe, hKm, hL⟩ := C
  have hx := S.1
  have hb := S.2.1
  obtain ⟨hv, ⟨sp, pl, hR⟩, hM⟩ := I
  refine lv_aload_n hx hb dL_law_184 rfl (lv_at hl 1 rfl) ?_
  refine lv_aload_n hx hb dL_law_185 rfl (lv_at hl 0 rfl) ?_
  refine lv_iload_n hx hb dL_law_186 rfl (lv_at hl 3 rfl) ?_
  refine lv_iconst (v := nI 1) hx hb dL_law_187 (by decide) ?_
  refine lv_iadd hx hb dL_law_188 ?_
  refine lw_ld (n := i + 1) (x := xs (i + 1)) hx hb hX hbl J.2.2.2.2.2 (nI_add i 1) (by omega) hL rfl dL_law_189 ?_
  refine lv_aload_n hx hb dL_law_190 rfl (lv_at hl 0 rfl) ?_
  refine lv_iload_n hx hb dL_law_191 rfl (lv_at hl 3 rfl) ?_
  refine lv_iconst (v := nI 2) hx hb dL_law_192 (by decide) ?_
  refine lv_iadd hx hb dL_law_193 ?_
  refine lw_ld (n := i + 2) (x := xs (i + 2)) hx hb hX hbl J.2.2.2.2.2 (nI_add i 2) (by omega) hL rfl dL_law_194 ?_
  refine gk_cj (n := 2) (As := [.int (xs (i + 1)), .int (xs (i + 2))]) (rest := []) (C := RX0) (ci := 0) (T := TX0) (N := 15) (fs := eh_f h u) (wf := eh_w h d) S hKe (fun _ h => h) J (me_root l D h d u v sp pl (xs (i + 1)) (xs (i + 2)) hv hR) (lw_V q92 q93 q94 q16 q95) (by decide +kernel) rfl ⟨Nat.le_of_ble_eq_true rfl, Nat.le_of_ble_eq_true rfl⟩ rfl rfl rfl (Nat.le_of_ble_eq_true rfl) hl.1 dL_law_195 ⟨Nat.le_of_ble_eq_true rfl, Nat.le_of_ble_eq_true rfl⟩ (fun r1 u1 H locs hp1 J => ?_)
  refine lv_aload_n hx hb dL_law_198 rfl (lv_at hl 2 rfl) ?_
  refine lv_aload_n hx hb dL_law_199 rfl (lv_at hl 0 rfl) ?_
  refine lv_iload_n hx hb dL_law_200 rfl (lv_at hl 3 rfl) ?_
  refine lv_iconst (v := nI 1) hx hb dL_law_201 (by decide) ?_
  refine lv_iadd hx hb dL_law_202 ?_
  refine lw_ld (n := i + 1) (x := xs (i + 1)) hx hb hX hbl J.2.2.2.2.2 (nI_add i 1) (by omega) hL rfl dL_law_203 ?_
  refine lv_aload_n hx hb dL_law_204 rfl (lv_at hl 0 rfl) ?_
  refine lv_iload_n hx hb dL_law_205 rfl (lv_at hl 3 rfl) ?_
  refine lv_iconst (v := nI 2) hx hb dL_law_206 (by decide) ?_
  refine lv_iadd hx hb dL_law_207 ?_
  refine lw_ld (n := i + 2) (x := xs (i + 2)) hx hb hX hbl J.2.2.2.2.2 (nI_add i 2) (by omega) hL rfl dL_law_208 ?_
  refine gk_cj (n := 2) (As := [.int (xs (i + 1)), .int (xs (i + 2))]) (rest := [.int r1]) (C := RX1) (ci := 1) (T := TX1) (N := 8) (fs := mo_f h' w) (wf := mo_w h' d') S hKm (fun _ h => h) J.symm (mm_root l D h' d' w v (xs (i + 1)) (xs (i + 2)) hv hM) (lw_V q232 q233 q234 q17 q235) (by decide +kernel) rfl ⟨Nat.le_of_ble_eq_true rfl, Nat.le_of_ble_eq_true rfl⟩ rfl rfl rfl (Nat.le_of_ble_eq_true rfl) hl.1 dL_law_209 ⟨Nat.le_of_ble_eq_true rfl, Nat.le_of_ble_eq_true rfl⟩ (fun r2 w1 H locs hp2 J => ?_)
  refine lv_icmp_eq (tgt := 443) hx hb dL_law_212 (by decide) (fun _ => ?_) (fun c_ => absurd (hp1.2.1.trans hp2.2.1.symm) c_)
  exact K u1 w1 (o_root v (xs (i + 1)) (xs (i + 2))).2 H locs ⟨i_root hv _ _, hp1.2.2, hp2.2.2⟩ J.symm
set_option maxHeartbeats 4000000 in
set_option maxRecDepth 100000 in
theorem lc_watch (C : lw_C p s m c b L xs D d d') (hi : i + 4 ≤ L) (I : lw_I u w v) (J : lj D (eh_w h d u) (mo_w h' d' w) (fun q : Nat => s.heap.size ≤ q) s.heap H locs) (hl : lv_has ls 4 [(0, .ref b), (1, .ref (h 100)), (2, .ref (h' 100)), (3, .int (nI i))]) (K : ∀ (u w : gS) (v : eV) (H : Heap) (locs : List Loc), lw_I u w v → lj D (eh_w h d u) (mo_w h' d' w) (fun q : Nat => s.heap.size ≤ q) s.heap H locs → W p l e room_1 s m #[Value.ref b] below meth c H locs 17 391 Q (F0 m 443 ls [])) : W p l e room_1 s m #[Value.ref b] below meth c H locs 17 391 Q (F0 m 217 ls []) := by
  obtain ⟨S, hX, hbl, hKe, hKm, hL⟩ := C
  have hx := S.1
  have hb := S.2.1
  obtain ⟨hv, ⟨sp, pl, hR⟩, hM⟩ := I
  refine lv_aload_n hx hb dL_law_217 rfl (lv_at hl 1 rfl) ?_
  refine lv_aload_n hx hb dL_law_218 rfl (lv_at hl 0 rfl) ?_
  refine lv_iload_n hx hb dL_law_219 rfl (lv_at hl 3 rfl) ?_
  refine lv_iconst (v := nI 1) hx hb dL_law_220 (by decide) ?_
  refine lv_iadd hx hb dL_law_221 ?_
  refine lw_ld (n := i + 1) (x := xs (i + 1)) hx hb hX hbl J.2.2.2.2.2 (nI_add i 1) (by omega) hL rfl dL_law_222 ?_
  refine gk_cj (n := 1) (As := [.int (xs (i + 1))]) (rest := []) (C := RX0) (ci := 0) (T := TX0) (N := 15) (fs := eh_f h u) (wf := eh_w h d) S hKe (fun _ h => h) J (me_watch l D h d u v sp pl (xs (i + 1)) hv hR) (lw_V q96 q97 q98 q16 q99) (by decide +kernel) rfl ⟨Nat.le_of_ble_eq_true rfl, Nat.le_of_ble_eq_true rfl⟩ rfl rfl rfl (Nat.le_of_ble_eq_true rfl) hl.1 dL_law_223 ⟨Nat.le_of_ble_eq_true rfl, Nat.le_of_ble_eq_true rfl⟩ (fun r1 u1 H locs hp1 J => ?_)
  refine lv_aload_n hx hb dL_law_226 rfl (lv_at hl 2 rfl) ?_
  refine lv_aload_n hx hb dL_law_227 rfl (lv_at hl 0 rfl) ?_
  refine lv_iload_n hx hb dL_law_228 rfl (lv_at hl 3 rfl) ?_
  refine lv_iconst (v := nI 1) hx hb dL_law_229 (by decide) ?_
  refine lv_iadd hx hb dL_law_230 ?_
  refine lw_ld (n := i + 1) (x := xs (i + 1)) hx hb hX hbl J.2.2.2.2.2 (nI_add i 1) (by omega) hL rfl dL_law_231 ?_
  refine gk_cj (n := 1) (As := [.int (xs (i + 1))]) (rest := [.int r1]) (C := RX1) (ci := 1) (T := TX1) (N := 8) (fs := mo_f h' w) (wf := mo_w h' d') S hKm (fun _ h => h) J.symm (mm_watch l D h' d' w v (xs (i + 1)) hv hM) (lw_V q236 q237 q238 q17 q239) (by decide +kernel) rfl ⟨Nat.le_of_ble_eq_true rfl, Nat.le_of_ble_eq_true rfl⟩ rfl rfl rfl (Nat.le_of_ble_eq_true rfl) hl.1 dL_law_232 ⟨Nat.le_of_ble_eq_true rfl, Nat.le_of_ble_eq_true rfl⟩ (fun r2 w1 H locs hp2 J => ?_)
  refine lv_icmp_eq (tgt := 443) hx hb dL_law_235 (by decide) (fun _ => ?_) (fun c_ => absurd (hp1.2.1.trans hp2.2.1.symm) c_)
  exact K u1 w1 (o_watch v (xs (i + 1))).2 H locs ⟨i_watch hv _, hp1.2.2, hp2.2.2⟩ J.symm
set_option maxHeartbeats 4000000 in
set_option maxRecDepth 100000 in
theorem lc_clean (C : lw_C p s m c b L xs D d d') (hi : i + 4 ≤ L) (I : lw_I u w v) (J : lj D (eh_w h d u) (mo_w h' d' w) (fun q : Nat => s.heap.size ≤ q) s.heap H locs) (hl : lv_has ls 4 [(0, .ref b), (1, .ref (h 100)), (2, .ref (h' 100)), (3, .int (nI i))]) (K : ∀ (u w : gS) (v : eV) (H : Heap) (locs : List Loc), lw_I u w v → lj D (eh_w h d u) (mo_w h' d' w) (fun q : Nat => s.heap.size ≤ q) s.heap H locs → W p l e room_1 s m #[Value.ref b] below meth c H locs 17 391 Q (F0 m 443 ls [])) : W p l e room_1 s m #[Value.ref b] below meth c H locs 17 391 Q (F0 m 240 ls []) := by
  obtain ⟨S, hX, hbl, hKe, hKm, hL⟩ := C
  have hx := S.1
  have hb := S.2.1
  obtain ⟨hv, ⟨sp, pl, hR⟩, hM⟩ := I
  refine lv_aload_n hx hb dL_law_240 rfl (lv_at hl 1 rfl) ?_
  refine gk_cj (n := 0) (As := []) (rest := []) (C := RX0) (ci := 0) (T := TX0) (N := 15) (fs := eh_f h u) (wf := eh_w h d) S hKe (fun _ h => h) J (me_clean l D h d u v sp pl hv hR) (lw_V q100 q101 q102 q16 q103) (by decide +kernel) rfl ⟨Nat.le_of_ble_eq_true rfl, Nat.le_of_ble_eq_true rfl⟩ rfl rfl rfl (Nat.le_of_ble_eq_true rfl) hl.1 dL_law_241 ⟨Nat.le_of_ble_eq_true rfl, Nat.le_of_ble_eq_true rfl⟩ (fun r1 u1 H locs hp1 J => ?_)
  refine lv_aload_n hx hb dL_law_244 rfl (lv_at hl 2 rfl) ?_
  refine gk_cj (n := 0) (As := []) (rest := [.int r1]) (C := RX1) (ci := 1) (T := TX1) (N := 8) (fs := mo_f h' w) (wf := mo_w h' d') S hKm (fun _ h => h) J.symm (mm_clean l D h' d' w v hv hM) (lw_V q240 q241 q242 q17 q243) (by decide +kernel) rfl ⟨Nat.le_of_ble_eq_true rfl, Nat.le_of_ble_eq_true rfl⟩ rfl rfl rfl (Nat.le_of_ble_eq_true rfl) hl.1 dL_law_245 ⟨Nat.le_of_ble_eq_true rfl, Nat.le_of_ble_eq_true rfl⟩ (fun r2 w1 H locs hp2 J => ?_)
  refine lv_icmp_eq (tgt := 443) hx hb dL_law_248 (by decide) (fun _ => ?_) (fun c_ => absurd (hp1.1.trans hp2.1.symm) c_)
  exact K u1 w1 (o_clean v).2 H locs ⟨cln_inv hv, hp1.2, hp2.2⟩ J.symm
set_option maxHeartbeats 4000000 in
set_option maxRecDepth 100000 in
theorem lc_take (C : lw_C p s m c b L xs D d d') (hi : i + 4 ≤ L) (I : lw_I u w v) (J : lj D (eh_w h d u) (mo_w h' d' w) (fun q : Nat => s.heap.size ≤ q) s.heap H locs) (hl : lv_has ls 4 [(0, .ref b), (1, .ref (h 100)), (2, .ref (h' 100)), (3, .int (nI i))]) (K : ∀ (u w : gS) (v : eV) (H : Heap) (locs : List Loc), lw_I u w v → lj D (eh_w h d u) (mo_w h' d' w) (fun q : Nat => s.heap.size ≤ q) s.heap H locs → W p l e room_1 s m #[Value.ref b] below meth c H locs 17 391 Q (F0 m 443 ls [])) : W p l e room_1 s m #[Value.ref b] below meth c H locs 17 391 Q (F0 m 253 ls []) := by
  obtain ⟨S, hX, hbl, hKe, hKm, hL⟩ := C
  have hx := S.1
  have hb := S.2.1
  obtain ⟨hv, ⟨sp, pl, hR⟩, hM⟩ := I
  refine lv_aload_n hx hb dL_law_253 rfl (lv_at hl 1 rfl) ?_
  refine lv_aload_n hx hb dL_law_254 rfl (lv_at hl 0 rfl) ?_
  refine lv_iload_n hx hb dL_law_255 rfl (lv_at hl 3 rfl) ?_
  refine lv_iconst (v := nI 1) hx hb dL_law_256 (by decide) ?_
  refine lv_iadd hx hb dL_law_257 ?_
  refine lw_ld (n := i + 1) (x := xs (i + 1)) hx hb hX hbl J.2.2.2.2.2 (nI_add i 1) (by omega) hL rfl dL_law_258 ?_
  refine gk_cj (n := 1) (As := [.int (xs (i + 1))]) (rest := []) (C := RX0) (ci := 0) (T := TX0) (N := 15) (fs := eh_f h u) (wf := eh_w h d) S hKe (fun _ h => h) J (me_take l D h d u v sp pl (xs (i + 1)) hv hR) (lw_V q139 q140 q141 q16 q142) (by decide +kernel) rfl ⟨Nat.le_of_ble_eq_true rfl, Nat.le_of_ble_eq_true rfl⟩ rfl rfl rfl (Nat.le_of_ble_eq_true rfl) hl.1 dL_law_259 ⟨Nat.le_of_ble_eq_true rfl, Nat.le_of_ble_eq_true rfl⟩ (fun r1 u1 H locs hp1 J => ?_)
  refine lv_aload_n hx hb dL_law_262 rfl (lv_at hl 2 rfl) ?_
  refine lv_aload_n hx hb dL_law_263 rfl (lv_at hl 0 rfl) ?_
  refine lv_iload_n hx hb dL_law_264 rfl (lv_at hl 3 rfl) ?_
  refine lv_iconst (v := nI 1) hx hb dL_law_265 (by decide) ?_
  refine lv_iadd hx hb dL_law_266 ?_
  refine lw_ld (n := i + 1) (x := xs (i + 1)) hx hb hX hbl J.2.2.2.2.2 (nI_add i 1) (by omega) hL rfl dL_law_267 ?_
  refine gk_cj (n := 1) (As := [.int (xs (i + 1))]) (rest := [.int r1]) (C := RX1) (ci := 1) (T := TX1) (N := 8) (fs := mo_f h' w) (wf := mo_w h' d') S hKm (fun _ h => h) J.symm (mm_take l D h' d' w v (xs (i + 1)) hv hM) (lw_V q252 q253 q254 q17 q255) (by decide +kernel) rfl ⟨Nat.le_of_ble_eq_true rfl, Nat.le_of_ble_eq_true rfl⟩ rfl rfl rfl (Nat.le_of_ble_eq_true rfl) hl.1 dL_law_268 ⟨Nat.le_of_ble_eq_true rfl, Nat.le_of_ble_eq_true rfl⟩ (fun r2 w1 H locs hp2 J => ?_)
  refine lv_icmp_eq (tgt := 443) hx hb dL_law_271 (by decide) (fun _ => ?_) (fun c_ => absurd (hp1.1.trans hp2.1.symm) c_)
  exact K u1 w1 (o_take v (xs (i + 1))).2 H locs ⟨i_take hv _, hp1.2, hp2.2⟩ J.symm
set_option maxHeartbeats 4000000 in
set_option maxRecDepth 100000 in
theorem lc_objects (C : lw_C p s m c b L xs D d d') (hi : i + 4 ≤ L) (I : lw_I u w v) (J : lj D (eh_w h d u) (mo_w h' d' w) (fun q : Nat => s.heap.size ≤ q) s.heap H locs) (hl : lv_has ls 4 [(0, .ref b), (1, .ref (h 100)), (2, .ref (h' 100)), (3, .int (nI i))]) (K : ∀ (u w : gS) (v : eV) (H : Heap) (locs : List Loc), lw_I u w v → lj D (eh_w h d u) (mo_w h' d' w) (fun q : Nat => s.heap.size ≤ q) s.heap H locs → W p l e room_1 s m #[Value.ref b] below meth c H locs 17 391 Q (F0 m 443 ls [])) : W p l e room_1 s m #[Value.ref b] below meth c H locs 17 391 Q (F0 m 276 ls []) := by
  obtain ⟨S, hX, hbl, hKe, hKm, hL⟩ := C
  have hx := S.1
  have hb := S.2.1
  obtain ⟨hv, ⟨sp, pl, hR⟩, hM⟩ := I
  refine lv_aload_n hx hb dL_law_276 rfl (lv_at hl 1 rfl) ?_
  refine gk_cj (n := 0) (As := []) (rest := []) (C := RX0) (ci := 0) (T := TX0) (N := 15) (fs := eh_f h u) (wf := eh_w h d) S hKe (fun _ h => h) J (me_objects l D h d u v sp pl hv hR) (lw_V q143 q144 q145 q16 q146) (by decide +kernel) rfl ⟨Nat.le_of_ble_eq_true rfl, Nat.le_of_ble_eq_true rfl⟩ rfl rfl rfl (Nat.le_of_ble_eq_true rfl) hl.1 dL_law_277 ⟨Nat.le_of_ble_eq_true rfl, Nat.le_of_ble_eq_true rfl⟩ (fun r1 u1 H locs hp1 J => ?_)
  refine lv_aload_n hx hb dL_law_280 rfl (lv_at hl 2 rfl) ?_
  refine gk_cj (n := 0) (As := []) (rest := [.int r1]) (C := RX1) (ci := 1) (T := TX1) (N := 8) (fs := mo_f h' w) (wf := mo_w h' d') S hKm (fun _ h => h) J.symm (mm_objects l D h' d' w v hv hM) (lw_V q256 q257 q258 q17 q259) (by decide +kernel) rfl ⟨Nat.le_of_ble_eq_true rfl, Nat.le_of_ble_eq_true rfl⟩ rfl rfl rfl (Nat.le_of_ble_eq_true rfl) hl.1 dL_law_281 ⟨Nat.le_of_ble_eq_true rfl, Nat.le_of_ble_eq_true rfl⟩ (fun r2 w1 H locs hp2 J => ?_)
  refine lv_icmp_eq (tgt := 443) hx hb dL_law_284 (by decide) (fun _ => ?_) (fun c_ => absurd (hp1.1.trans hp2.1.symm) c_)
  exact K u1 w1 v H locs ⟨hv, hp1.2, hp2.2⟩ J.symm
set_option maxHeartbeats 4000000 in
set_option maxRecDepth 100000 in
theorem lc_there (C : lw_C p s m c b L xs D d d') (hi : i + 4 ≤ L) (I : lw_I u w v) (J : lj D (eh_w h d u) (mo_w h' d' w) (fun q : Nat => s.heap.size ≤ q) s.heap H locs) (hl : lv_has ls 4 [(0, .ref b), (1, .ref (h 100)), (2, .ref (h' 100)), (3, .int (nI i))]) (K : ∀ (u w : gS) (v : eV) (H : Heap) (locs : List Loc), lw_I u w v → lj D (eh_w h d u) (mo_w h' d' w) (fun q : Nat => s.heap.size ≤ q) s.heap H locs → W p l e room_1 s m #[Value.ref b] below meth c H locs 17 391 Q (F0 m 443 ls [])) : W p l e room_1 s m #[Value.ref b] below meth c H locs 17 391 Q (F0 m 289 ls []) := by
  obtain ⟨S, hX, hbl, hKe, hKm, hL⟩ := C
  have hx := S.1
  have hb := S.2.1
  obtain ⟨hv, ⟨sp, pl, hR⟩, hM⟩ := I
  refine lv_aload_n hx hb dL_law_289 rfl (lv_at hl 1 rfl) ?_
  refine gk_cj (n := 0) (As := []) (rest := []) (C := RX0) (ci := 0) (T := TX0) (N := 15) (fs := eh_f h u) (wf := eh_w h d) S hKe (fun _ h => h) J (me_there l D h d u v sp pl hv hR) (lw_V q147 q148 q149 q16 q150) (by decide +kernel) rfl ⟨Nat.le_of_ble_eq_true rfl, Nat.le_of_ble_eq_true rfl⟩ rfl rfl rfl (Nat.le_of_ble_eq_true rfl) hl.1 dL_law_290 ⟨Nat.le_of_ble_eq_true rfl, Nat.le_of_ble_eq_true rfl⟩ (fun r1 u1 H locs hp1 J => ?_)
  refine lv_aload_n hx hb dL_law_293 rfl (lv_at hl 2 rfl) ?_
  refine gk_cj (n := 0) (As := []) (rest := [.int r1]) (C := RX1) (ci := 1) (T := TX1) (N := 8) (fs := mo_f h' w) (wf := mo_w h' d') S hKm (fun _ h => h) J.symm (mm_there l D h' d' w v hv hM) (lw_V q260 q261 q262 q17 q263) (by decide +kernel) rfl ⟨Nat.le_of_ble_eq_true rfl, Nat.le_of_ble_eq_true rfl⟩ rfl rfl rfl (Nat.le_of_ble_eq_true rfl) hl.1 dL_law_294 ⟨Nat.le_of_ble_eq_true rfl, Nat.le_of_ble_eq_true rfl⟩ (fun r2 w1 H locs hp2 J => ?_)
  refine lv_icmp_eq (tgt := 443) hx hb dL_law_297 (by decide) (fun _ => ?_) (fun c_ => absurd (hp1.1.trans hp2.1.symm) c_)
  exact K u1 w1 v H locs ⟨hv, hp1.2, hp2.2⟩ J.symm
set_option maxHeartbeats 4000000 in
set_option maxRecDepth 100000 in
theorem lc_alive (C : lw_C p s m c b L xs D d d') (hi : i + 4 ≤ L) (I : lw_I u w v) (J : lj D (eh_w h d u) (mo_w h' d' w) (fun q : Nat => s.heap.size ≤ q) s.heap H locs) (hl : lv_has ls 4 [(0, .ref b), (1, .ref (h 100)), (2, .ref (h' 100)), (3, .int (nI i))]) (K : ∀ (u w : gS) (v : eV) (H : Heap) (locs : List Loc), lw_I u w v → lj D (eh_w h d u) (mo_w h' d' w) (fun q : Nat => s.heap.size ≤ q) s.heap H locs → W p l e room_1 s m #[Value.ref b] below meth c H locs 17 391 Q (F0 m 443 ls [])) : W p l e room_1 s m #[Value.ref b] below meth c H locs 17 391 Q (F0 m 302 ls []) := by
  obtain ⟨S, hX, hbl, hKe, hKm, hL⟩ := C
  have hx := S.1
  have hb := S.2.1
  obtain ⟨hv, ⟨sp, pl, hR⟩, hM⟩ := I
  refine lv_aload_n hx hb dL_law_302 rfl (lv_at hl 1 rfl) ?_
  refine gk_cj (n := 0) (As := []) (rest := []) (C := RX0) (ci := 0) (T := TX0) (N := 15) (fs := eh_f h u) (wf := eh_w h d) S hKe (fun _ h => h) J (me_alive l D h d u v sp pl hv hR) (lw_V q151 q152 q153 q16 q154) (by decide +kernel) rfl ⟨Nat.le_of_ble_eq_true rfl, Nat.le_of_ble_eq_true rfl⟩ rfl rfl rfl (Nat.le_of_ble_eq_true rfl) hl.1 dL_law_303 ⟨Nat.le_of_ble_eq_true rfl, Nat.le_of_ble_eq_true rfl⟩ (fun r1 u1 H locs hp1 J => ?_)
  refine lv_aload_n hx hb dL_law_306 rfl (lv_at hl 2 rfl) ?_
  refine gk_cj (n := 0) (As := []) (rest := [.int r1]) (C := RX1) (ci := 1) (T := TX1) (N := 8) (fs := mo_f h' w) (wf := mo_w h' d') S hKm (fun _ h => h) J.symm (mm_alive l D h' d' w v hv hM) (lw_V q264 q265 q266 q17 q267) (by decide +kernel) rfl ⟨Nat.le_of_ble_eq_true rfl, Nat.le_of_ble_eq_true rfl⟩ rfl rfl rfl (Nat.le_of_ble_eq_true rfl) hl.1 dL_law_307 ⟨Nat.le_of_ble_eq_true rfl, Nat.le_of_ble_eq_true rfl⟩ (fun r2 w1 H locs hp2 J => ?_)
  refine lv_icmp_eq (tgt := 443) hx hb dL_law_310 (by decide) (fun _ => ?_) (fun c_ => absurd (hp1.1.trans hp2.1.symm) c_)
  exact K u1 w1 v H locs ⟨hv, hp1.2, hp2.2⟩ J.symm
set_option maxHeartbeats 4000000 in
set_option maxRecDepth 100000 in
theorem lc_field (C : lw_C p s m c b L xs D d d') (hi : i + 4 ≤ L) (I : lw_I u w v) (J : lj D (eh_w h d u) (mo_w h' d' w) (fun q : Nat => s.heap.size ≤ q) s.heap H locs) (hl : lv_has ls 4 [(0, .ref b), (1, .ref (h 100)), (2, .ref (h' 100)), (3, .int (nI i))]) (K : ∀ (u w : gS) (v : eV) (H : Heap) (locs : List Loc), lw_I u w v → lj D (eh_w h d u) (mo_w h' d' w) (fun q : Nat => s.heap.size ≤ q) s.heap H locs → W p l e room_1 s m #[Value.ref b] below meth c H locs 17 391 Q (F0 m 443 ls [])) : W p l e room_1 s m #[Value.ref b] below meth c H locs 17 391 Q (F0 m 315 ls []) := by
  obtain ⟨S, hX, hbl, hKe, hKm, hL⟩ := C
  have hx := S.1
  have hb := S.2.1
  obtain ⟨hv, ⟨sp, pl, hR⟩, hM⟩ := I
  refine lv_aload_n hx hb dL_law_315 rfl (lv_at hl 1 rfl) ?_
  refine lv_aload_n hx hb dL_law_316 rfl (lv_at hl 0 rfl) ?_
  refine lv_iload_n hx hb dL_law_317 rfl (lv_at hl 3 rfl) ?_
  refine lv_iconst (v := nI 1) hx hb dL_law_318 (by decide) ?_
  refine lv_iadd hx hb dL_law_319 ?_
  refine lw_ld (n := i + 1) (x := xs (i + 1)) hx hb hX hbl J.2.2.2.2.2 (nI_add i 1) (by omega) hL rfl dL_law_320 ?_
  refine lv_aload_n hx hb dL_law_321 rfl (lv_at hl 0 rfl) ?_
  refine lv_iload_n hx hb dL_law_322 rfl (lv_at hl 3 rfl) ?_
  refine lv_iconst (v := nI 2) hx hb dL_law_323 (by decide) ?_
  refine lv_iadd hx hb dL_law_324 ?_
  refine lw_ld (n := i + 2) (x := xs (i + 2)) hx hb hX hbl J.2.2.2.2.2 (nI_add i 2) (by omega) hL rfl dL_law_325 ?_
  refine gk_cj (n := 2) (As := [.int (xs (i + 1)), .int (xs (i + 2))]) (rest := []) (C := RX0) (ci := 0) (T := TX0) (N := 15) (fs := eh_f h u) (wf := eh_w h d) S hKe (fun _ h => h) J (me_field l D h d u v sp pl (xs (i + 1)) (xs (i + 2)) hv hR) (lw_V q159 q160 q161 q16 q162) (by decide +kernel) rfl ⟨Nat.le_of_ble_eq_true rfl, Nat.le_of_ble_eq_true rfl⟩ rfl rfl rfl (Nat.le_of_ble_eq_true rfl) hl.1 dL_law_326 ⟨Nat.le_of_ble_eq_true rfl, Nat.le_of_ble_eq_true rfl⟩ (fun r1 u1 H locs hp1 J => ?_)
  refine lv_aload_n hx hb dL_law_329 rfl (lv_at hl 2 rfl) ?_
  refine lv_aload_n hx hb dL_law_330 rfl (lv_at hl 0 rfl) ?_
  refine lv_iload_n hx hb dL_law_331 rfl (lv_at hl 3 rfl) ?_
  refine lv_iconst (v := nI 1) hx hb dL_law_332 (by decide) ?_
  refine lv_iadd hx hb dL_law_333 ?_
  refine lw_ld (n := i + 1) (x := xs (i + 1)) hx hb hX hbl J.2.2.2.2.2 (nI_add i 1) (by omega) hL rfl dL_law_334 ?_
  refine lv_aload_n hx hb dL_law_335 rfl (lv_at hl 0 rfl) ?_
  refine lv_iload_n hx hb dL_law_336 rfl (lv_at hl 3 rfl) ?_
  refine lv_iconst (v := nI 2) hx hb dL_law_337 (by decide) ?_
  refine lv_iadd hx hb dL_law_338 ?_
  refine lw_ld (n := i + 2) (x := xs (i + 2)) hx hb hX hbl J.2.2.2.2.2 (nI_add i 2) (by omega) hL rfl dL_law_339 ?_
  refine gk_cj (n := 2) (As := [.int (xs (i + 1)), .int (xs (i + 2))]) (rest := [.int r1]) (C := RX1) (ci := 1) (T := TX1) (N := 8) (fs := mo_f h' w) (wf := mo_w h' d') S hKm (fun _ h => h) J.symm (mm_field l D h' d' w v (xs (i + 1)) (xs (i + 2)) hv hM) (lw_V q268 q269 q270 q17 q271) (by decide +kernel) rfl ⟨Nat.le_of_ble_eq_true rfl, Nat.le_of_ble_eq_true rfl⟩ rfl rfl rfl (Nat.le_of_ble_eq_true rfl) hl.1 dL_law_340 ⟨Nat.le_of_ble_eq_true rfl, Nat.le_of_ble_eq_true rfl⟩ (fun r2 w1 H locs hp2 J => ?_)
  refine lv_icmp_eq (tgt := 443) hx hb dL_law_343 (by decide) (fun _ => ?_) (fun c_ => absurd (hp1.1.trans hp2.1.symm) c_)
  exact K u1 w1 v H locs ⟨hv, hp1.2, hp2.2⟩ J.symm
set_option maxHeartbeats 4000000 in
set_option maxRecDepth 100000 in
theorem lc_kind (C : lw_C p s m c b L xs D d d') (hi : i + 4 ≤ L) (I : lw_I u w v) (J : lj D (eh_w h d u) (mo_w h' d' w) (fun q : Nat => s.heap.size ≤ q) s.heap H locs) (hl : lv_has ls 4 [(0, .ref b), (1, .ref (h 100)), (2, .ref (h' 100)), (3, .int (nI i))]) (K : ∀ (u w : gS) (v : eV) (H : Heap) (locs : List Loc), lw_I u w v → lj D (eh_w h d u) (mo_w h' d' w) (fun q : Nat => s.heap.size ≤ q) s.heap H locs → W p l e room_1 s m #[Value.ref b] below meth c H locs 17 391 Q (F0 m 443 ls [])) : W p l e room_1 s m #[Value.ref b] below meth c H locs 17 391 Q (F0 m 348 ls []) := by
  obtain ⟨S, hX, hbl, hKe, hKm, hL⟩ := C
  have hx := S.1
  have hb := S.2.1
  obtain ⟨hv, ⟨sp, pl, hR⟩, hM⟩ := I
  refine lv_aload_n hx hb dL_law_348 rfl (lv_at hl 1 rfl) ?_
  refine lv_aload_n hx hb dL_law_349 rfl (lv_at hl 0 rfl) ?_
  refine lv_iload_n hx hb dL_law_350 rfl (lv_at hl 3 rfl) ?_
  refine lv_iconst (v := nI 1) hx hb dL_law_351 (by decide) ?_
  refine lv_iadd hx hb dL_law_352 ?_
  refine lw_ld (n := i + 1) (x := xs (i + 1)) hx hb hX hbl J.2.2.2.2.2 (nI_add i 1) (by omega) hL rfl dL_law_353 ?_
  refine gk_cj (n := 1) (As := [.int (xs (i + 1))]) (rest := []) (C := RX0) (ci := 0) (T := TX0) (N := 15) (fs := eh_f h u) (wf := eh_w h d) S hKe (fun _ h => h) J (me_kind l D h d u v sp pl (xs (i + 1)) hv hR) (lw_V q167 q168 q169 q16 q170) (by decide +kernel) rfl ⟨Nat.le_of_ble_eq_true rfl, Nat.le_of_ble_eq_true rfl⟩ rfl rfl rfl (Nat.le_of_ble_eq_true rfl) hl.1 dL_law_354 ⟨Nat.le_of_ble_eq_true rfl, Nat.le_of_ble_eq_true rfl⟩ (fun r1 u1 H locs hp1 J => ?_)
  refine lv_aload_n hx hb dL_law_357 rfl (lv_at hl 2 rfl) ?_
  refine lv_aload_n hx hb dL_law_358 rfl (lv_at hl 0 rfl) ?_
  refine lv_iload_n hx hb dL_law_359 rfl (lv_at hl 3 rfl) ?_
  refine lv_iconst (v := nI 1) hx hb dL_law_360 (by decide) ?_
  refine lv_iadd hx hb dL_law_361 ?_
  refine lw_ld (n := i + 1) (x := xs (i + 1)) hx hb hX hbl J.2.2.2.2.2 (nI_add i 1) (by omega) hL rfl dL_law_362 ?_
  refine gk_cj (n := 1) (As := [.int (xs (i + 1))]) (rest := [.int r1]) (C := RX1) (ci := 1) (T := TX1) (N := 8) (fs := mo_f h' w) (wf := mo_w h' d') S hKm (fun _ h => h) J.symm (mm_kind l D h' d' w v (xs (i + 1)) hv hM) (lw_V q272 q273 q274 q17 q275) (by decide +kernel) rfl ⟨Nat.le_of_ble_eq_true rfl, Nat.le_of_ble_eq_true rfl⟩ rfl rfl rfl (Nat.le_of_ble_eq_true rfl) hl.1 dL_law_363 ⟨Nat.le_of_ble_eq_true rfl, Nat.le_of_ble_eq_true rfl⟩ (fun r2 w1 H locs hp2 J => ?_)
  refine lv_icmp_eq (tgt := 443) hx hb dL_law_366 (by decide) (fun _ => ?_) (fun c_ => absurd (hp1.1.trans hp2.1.symm) c_)
  exact K u1 w1 v H locs ⟨hv, hp1.2, hp2.2⟩ J.symm
set_option maxHeartbeats 4000000 in
set_option maxRecDepth 100000 in
theorem lc_rootOf (C : lw_C p s m c b L xs D d d') (hi : i + 4 ≤ L) (I : lw_I u w v) (J : lj D (eh_w h d u) (mo_w h' d' w) (fun q : Nat => s.heap.size ≤ q) s.heap H locs) (hl : lv_has ls 4 [(0, .ref b), (1, .ref (h 100)), (2, .ref (h' 100)), (3, .int (nI i))]) (K : ∀ (u w : gS) (v : eV) (H : Heap) (locs : List Loc), lw_I u w v → lj D (eh_w h d u) (mo_w h' d' w) (fun q : Nat => s.heap.size ≤ q) s.heap H locs → W p l e room_1 s m #[Value.ref b] below meth c H locs 17 391 Q (F0 m 443 ls [])) : W p l e room_1 s m #[Value.ref b] below meth c H locs 17 391 Q (F0 m 371 ls []) := by
  obtain ⟨S, hX, hbl, hKe, hKm, hL⟩ := C
  have hx := S.1
  have hb := S.2.1
  obtain ⟨hv, ⟨sp, pl, hR⟩, hM⟩ := I
  refine lv_aload_n hx hb dL_law_371 rfl (lv_at hl 1 rfl) ?_
  refine lv_aload_n hx hb dL_law_372 rfl (lv_at hl 0 rfl) ?_
  refine lv_iload_n hx hb dL_law_373 rfl (lv_at hl 3 rfl) ?_
  refine lv_iconst (v := nI 1) hx hb dL_law_374 (by decide) ?_
  refine lv_iadd hx hb dL_law_375 ?_
  refine lw_ld (n := i + 1) (x := xs (i + 1)) hx hb hX hbl J.2.2.2.2.2 (nI_add i 1) (by omega) hL rfl dL_law_376 ?_
  refine gk_cj (n := 1) (As := [.int (xs (i + 1))]) (rest := []) (C := RX0) (ci := 0) (T := TX0) (N := 15) (fs := eh_f h u) (wf := eh_w h d) S hKe (fun _ h => h) J (me_rootOf l D h d u v sp pl (xs (i + 1)) hv hR) (lw_V q171 q172 q173 q16 q174) (by decide +kernel) rfl ⟨Nat.le_of_ble_eq_true rfl, Nat.le_of_ble_eq_true rfl⟩ rfl rfl rfl (Nat.le_of_ble_eq_true rfl) hl.1 dL_law_377 ⟨Nat.le_of_ble_eq_true rfl, Nat.le_of_ble_eq_true rfl⟩ (fun r1 u1 H locs hp1 J => ?_)
  refine lv_aload_n hx hb dL_law_380 rfl (lv_at hl 2 rfl) ?_
  refine lv_aload_n hx hb dL_law_381 rfl (lv_at hl 0 rfl) ?_
  refine lv_iload_n hx hb dL_law_382 rfl (lv_at hl 3 rfl) ?_
  refine lv_iconst (v := nI 1) hx hb dL_law_383 (by decide) ?_
  refine lv_iadd hx hb dL_law_384 ?_
  refine lw_ld (n := i + 1) (x := xs (i + 1)) hx hb hX hbl J.2.2.2.2.2 (nI_add i 1) (by omega) hL rfl dL_law_385 ?_
  refine gk_cj (n := 1) (As := [.int (xs (i + 1))]) (rest := [.int r1]) (C := RX1) (ci := 1) (T := TX1) (N := 8) (fs := mo_f h' w) (wf := mo_w h' d') S hKm (fun _ h => h) J.symm (mm_rootOf l D h' d' w v (xs (i + 1)) hv hM) (lw_V q276 q277 q278 q17 q279) (by decide +kernel) rfl ⟨Nat.le_of_ble_eq_true rfl, Nat.le_of_ble_eq_true rfl⟩ rfl rfl rfl (Nat.le_of_ble_eq_true rfl) hl.1 dL_law_386 ⟨Nat.le_of_ble_eq_true rfl, Nat.le_of_ble_eq_true rfl⟩ (fun r2 w1 H locs hp2 J => ?_)
  refine lv_icmp_eq (tgt := 443) hx hb dL_law_389 (by decide) (fun _ => ?_) (fun c_ => absurd (hp1.1.trans hp2.1.symm) c_)
  exact K u1 w1 v H locs ⟨hv, hp1.2, hp2.2⟩ J.symm
set_option maxHeartbeats 4000000 in
set_option maxRecDepth 100000 in
theorem lc_queued (C : lw_C p s m c b L xs D d d') (hi : i + 4 ≤ L) (I : lw_I u w v) (J : lj D (eh_w h d u) (mo_w h' d' w) (fun q : Nat => s.heap.size ≤ q) s.heap H locs) (hl : lv_has ls 4 [(0, .ref b), (1, .ref (h 100)), (2, .ref (h' 100)), (3, .int (nI i))]) (K : ∀ (u w : gS) (v : eV) (H : Heap) (locs : List Loc), lw_I u w v → lj D (eh_w h d u) (mo_w h' d' w) (fun q : Nat => s.heap.size ≤ q) s.heap H locs → W p l e room_1 s m #[Value.ref b] below meth c H locs 17 391 Q (F0 m 443 ls [])) : W p l e room_1 s m #[Value.ref b] below meth c H locs 17 391 Q (F0 m 394 ls []) := by
  obtain ⟨S, hX, hbl, hKe, hKm, hL⟩ := C
  have hx := S.1
  have hb := S.2.1
  obtain ⟨hv, ⟨sp, pl, hR⟩, hM⟩ := I
  refine lv_aload_n hx hb dL_law_394 rfl (lv_at hl 1 rfl) ?_
  refine gk_cj (n := 0) (As := []) (rest := []) (C := RX0) (ci := 0) (T := TX0) (N := 15) (fs := eh_f h u) (wf := eh_w h d) S hKe (fun _ h => h) J (me_queued l D h d u v sp pl hv hR) (lw_V q175 q176 q177 q16 q178) (by decide +kernel) rfl ⟨Nat.le_of_ble_eq_true rfl, Nat.le_of_ble_eq_true rfl⟩ rfl rfl rfl (Nat.le_of_ble_eq_true rfl) hl.1 dL_law_395 ⟨Nat.le_of_ble_eq_true rfl, Nat.le_of_ble_eq_true rfl⟩ (fun r1 u1 H locs hp1 J => ?_)
  refine lv_aload_n hx hb dL_law_398 rfl (lv_at hl 2 rfl) ?_
  refine gk_cj (n := 0) (As := []) (rest := [.int r1]) (C := RX1) (ci := 1) (T := TX1) (N := 8) (fs := mo_f h' w) (wf := mo_w h' d') S hKm (fun _ h => h) J.symm (mm_queued l D h' d' w v hv hM) (lw_V q280 q281 q282 q17 q283) (by decide +kernel) rfl ⟨Nat.le_of_ble_eq_true rfl, Nat.le_of_ble_eq_true rfl⟩ rfl rfl rfl (Nat.le_of_ble_eq_true rfl) hl.1 dL_law_399 ⟨Nat.le_of_ble_eq_true rfl, Nat.le_of_ble_eq_true rfl⟩ (fun r2 w1 H locs hp2 J => ?_)
  refine lv_icmp_eq (tgt := 443) hx hb dL_law_402 (by decide) (fun _ => ?_) (fun c_ => absurd (hp1.1.trans hp2.1.symm) c_)
  exact K u1 w1 v H locs ⟨hv, hp1.2, hp2.2⟩ J.symm
set_option maxHeartbeats 4000000 in
set_option maxRecDepth 100000 in
theorem lc_watched (C : lw_C p s m c b L xs D d d') (hi : i + 4 ≤ L) (I : lw_I u w v) (J : lj D (eh_w h d u) (mo_w h' d' w) (fun q : Nat => s.heap.size ≤ q) s.heap H locs) (hl : lv_has ls 4 [(0, .ref b), (1, .ref (h 100)), (2, .ref (h' 100)), (3, .int (nI i))]) (K : ∀ (u w : gS) (v : eV) (H : Heap) (locs : List Loc), lw_I u w v → lj D (eh_w h d u) (mo_w h' d' w) (fun q : Nat => s.heap.size ≤ q) s.heap H locs → W p l e room_1 s m #[Value.ref b] below meth c H locs 17 391 Q (F0 m 443 ls [])) : W p l e room_1 s m #[Value.ref b] below meth c H locs 17 391 Q (F0 m 407 ls []) := by
  obtain ⟨S, hX, hbl, hKe, hKm, hL⟩ := C
  have hx := S.1
  have hb := S.2.1
  obtain ⟨hv, ⟨sp, pl, hR⟩, hM⟩ := I
  refine lv_aload_n hx hb dL_law_407 rfl (lv_at hl 1 rfl) ?_
  refine gk_cj (n := 0) (As := []) (rest := []) (C := RX0) (ci := 0) (T := TX0) (N := 15) (fs := eh_f h u) (wf := eh_w h d) S hKe (fun _ h => h) J (me_watched l D h d u v sp pl hv hR) (lw_V q179 q180 q181 q16 q182) (by decide +kernel) rfl ⟨Nat.le_of_ble_eq_true rfl, Nat.le_of_ble_eq_true rfl⟩ rfl rfl rfl (Nat.le_of_ble_eq_true rfl) hl.1 dL_law_408 ⟨Nat.le_of_ble_eq_true rfl, Nat.le_of_ble_eq_true rfl⟩ (fun r1 u1 H locs hp1 J => ?_)
  refine lv_aload_n hx hb dL_law_411 rfl (lv_at hl 2 rfl) ?_
  refine gk_cj (n := 0) (As := []) (rest := [.int r1]) (C := RX1) (ci := 1) (T := TX1) (N := 8) (fs := mo_f h' w) (wf := mo_w h' d') S hKm (fun _ h => h) J.symm (mm_watched l D h' d' w v hv hM) (lw_V q284 q285 q286 q17 q287) (by decide +kernel) rfl ⟨Nat.le_of_ble_eq_true rfl, Nat.le_of_ble_eq_true rfl⟩ rfl rfl rfl (Nat.le_of_ble_eq_true rfl) hl.1 dL_law_412 ⟨Nat.le_of_ble_eq_true rfl, Nat.le_of_ble_eq_true rfl⟩ (fun r2 w1 H locs hp2 J => ?_)
  refine lv_icmp_eq (tgt := 443) hx hb dL_law_415 (by decide) (fun _ => ?_) (fun c_ => absurd (hp1.1.trans hp2.1.symm) c_)
  exact K u1 w1 v H locs ⟨hv, hp1.2, hp2.2⟩ J.symm
set_option maxHeartbeats 4000000 in
set_option maxRecDepth 100000 in
theorem lc_heldBy (C : lw_C p s m c b L xs D d d') (hi : i + 4 ≤ L) (I : lw_I u w v) (J : lj D (eh_w h d u) (mo_w h' d' w) (fun q : Nat => s.heap.size ≤ q) s.heap H locs) (hl : lv_has ls 4 [(0, .ref b), (1, .ref (h 100)), (2, .ref (h' 100)), (3, .int (nI i))]) (K : ∀ (u w : gS) (v : eV) (H : Heap) (locs : List Loc), lw_I u w v → lj D (eh_w h d u) (mo_w h' d' w) (fun q : Nat => s.heap.size ≤ q) s.heap H locs → W p l e room_1 s m #[Value.ref b] below meth c H locs 17 391 Q (F0 m 443 ls [])) : W p l e room_1 s m #[Value.ref b] below meth c H locs 17 391 Q (F0 m 420 ls []) := by
  obtain ⟨S, hX, hbl, hKe, hKm, hL⟩ := C
  have hx := S.1
  have hb := S.2.1
  obtain ⟨hv, ⟨sp, pl, hR⟩, hM⟩ := I
  refine lv_aload_n hx hb dL_law_420 rfl (lv_at hl 1 rfl) ?_
  refine lv_aload_n hx hb dL_law_421 rfl (lv_at hl 0 rfl) ?_
  refine lv_iload_n hx hb dL_law_422 rfl (lv_at hl 3 rfl) ?_
  refine lv_iconst (v := nI 1) hx hb dL_law_423 (by decide) ?_
  refine lv_iadd hx hb dL_law_424 ?_
  refine lw_ld (n := i + 1) (x := xs (i + 1)) hx hb hX hbl J.2.2.2.2.2 (nI_add i 1) (by omega) hL rfl dL_law_425 ?_
  refine gk_cj (n := 1) (As := [.int (xs (i + 1))]) (rest := []) (C := RX0) (ci := 0) (T := TX0) (N := 15) (fs := eh_f h u) (wf := eh_w h d) S hKe (fun _ h => h) J (me_heldBy l D h d u v sp pl (xs (i + 1)) hv hR) (lw_V q183 q184 q185 q16 q186) (by decide +kernel) rfl ⟨Nat.le_of_ble_eq_true rfl, Nat.le_of_ble_eq_true rfl⟩ rfl rfl rfl (Nat.le_of_ble_eq_true rfl) hl.1 dL_law_426 ⟨Nat.le_of_ble_eq_true rfl, Nat.le_of_ble_eq_true rfl⟩ (fun r1 u1 H locs hp1 J => ?_)
  refine lv_aload_n hx hb dL_law_429 rfl (lv_at hl 2 rfl) ?_
  refine lv_aload_n hx hb dL_law_430 rfl (lv_at hl 0 rfl) ?_
  refine lv_iload_n hx hb dL_law_431 rfl (lv_at hl 3 rfl) ?_
  refine lv_iconst (v := nI 1) hx hb dL_law_432 (by decide) ?_
  refine lv_iadd hx hb dL_law_433 ?_
  refine lw_ld (n := i + 1) (x := xs (i + 1)) hx hb hX hbl J.2.2.2.2.2 (nI_add i 1) (by omega) hL rfl dL_law_434 ?_
  refine gk_cj (n := 1) (As := [.int (xs (i + 1))]) (rest := [.int r1]) (C := RX1) (ci := 1) (T := TX1) (N := 8) (fs := mo_f h' w) (wf := mo_w h' d') S hKm (fun _ h => h) J.symm (mm_heldBy l D h' d' w v (xs (i + 1)) hv hM) (lw_V q288 q289 q290 q17 q291) (by decide +kernel) rfl ⟨Nat.le_of_ble_eq_true rfl, Nat.le_of_ble_eq_true rfl⟩ rfl rfl rfl (Nat.le_of_ble_eq_true rfl) hl.1 dL_law_435 ⟨Nat.le_of_ble_eq_true rfl, Nat.le_of_ble_eq_true rfl⟩ (fun r2 w1 H locs hp2 J => ?_)
  refine lv_icmp_eq (tgt := 443) hx hb dL_law_438 (by decide) (fun _ => ?_) (fun c_ => absurd (hp1.1.trans hp2.1.symm) c_)
  exact K u1 w1 v H locs ⟨hv, hp1.2, hp2.2⟩ J.symm
end LC
end
section
set_option maxHeartbeats 4000000 in
set_option maxRecDepth 100000 in
/-- THE LAW'S LOOP: at its head, with i ints read, the two sides hold one value -/
theorem law_loop {p : Program} {l : Launch} {e : Env} {s : State} {m : MethodId} {below : List Frame} {meth : Method} {c : Code} {D : va_G} {b L : Nat} {xs : Nat → Int32} {h h' : Nat → Nat} {d d' : Nat → ClassId} (hL : L ≤ 256) (C0 : lw_At p s m meth c b L xs) (hKe : va_K D vwCl (eh_t d) s) (hKm : va_K D vwCl (mo_t d') s) :
    ∀ (n i : Nat) (u w : gS) (v : eV), i ≤ L → L + 1 ≤ i + n → lw_I u w v → ∀ (H : Heap) (locs : List Loc), lj D (eh_w h d u) (mo_w h' d' w) (fun q : Nat => s.heap.size ≤ q) s.heap H locs → ∀ (ls : Array Slot), lv_has ls 4 [(0, .ref b), (1, .ref (h 100)), (2, .ref (h' 100)), (3, .int (nI i))] → W p l e room_1 s m #[Value.ref b] below meth c H locs 17 391 (lw_Z below #[Value.ref b] s) (F0 m 18 ls []) := by
  obtain ⟨hx, hb, hr, hml, hown, hts0, hX, hbl, hlocks, hgv⟩ := C0
  have hts : ∀ w ∈ lw_all, w.before #[Value.ref b] s = true := fun w h => hts0 w (lw_all_tbl h)
  have hC : lw_C p s m c b L xs D d d' := ⟨⟨hx, hb, hml, hown, hts⟩, hX, hbl, hKe, hKm, hL⟩
  have hbA : ¬ (fun q : Nat => s.heap.size ≤ q) b := Nat.not_le.mpr hbl
  intro n
  induction n with
  | zero =>
    intro i u w v h1 h2
    exact absurd h2 (by omega)
  | succ n ih =>
    intro i u w v hiL hin I H locs J ls hl
    refine lv_iload_n hx hb dL_law_18 rfl (lv_at hl 3 rfl) ?_
    refine lv_aload_n hx hb dL_law_19 rfl (lv_at hl 0 rfl) ?_
    refine va_slen hx hb hX hbl hbA J.2.2.2.2.2 dL_law_20 ?_
    refine lv_iconst (v := nI 4) hx hb dL_law_21 (by decide) ?_
    refine lv_isub hx hb dL_law_22 ?_
    refine lv_icmp_gt (tgt := 449) hx hb dL_law_23 (by decide) (fun c1 => ?_) (fun c1 => ?_)
    · refine lv_iconst (v := 1) hx hb dL_law_449 (by decide) ?_
      refine va_forget (fun q hq => J.2.2.2.2.2.2.2 q hq) ?_
      refine W.widen (k := 600000) (n := 7290000) (Nat.le_of_ble_eq_true rfl) (Nat.le_of_ble_eq_true rfl) ?_
      exact lw_ret hx hb hr hlocks dL_law_450
    · have hi4 : i + 4 ≤ L := by
        rcases Nat.lt_or_ge L (i + 4) with q | q
        · refine absurd (show nI L - nI 4 < nI i from Int32.lt_iff_toInt_lt.mpr ?_) c1
          rw [pk_sub_toInt (by omega) (by omega), nI_toInt (by omega)]
          omega
        · exact q
      refine lv_aload_n hx hb dL_law_26 rfl (lv_at hl 0 rfl) ?_
      refine lv_iload_n hx hb dL_law_27 rfl (lv_at hl 3 rfl) ?_
      refine lw_ld (n := i) (x := xs i) hx hb hX hbl J.2.2.2.2.2 rfl (by omega) hL rfl dL_law_28 ?_
      refine lv_bipush (v := nI 15) hx hb dL_law_29 (by decide) ?_
      refine lv_iand hx hb dL_law_31 ?_
      obtain ⟨k, hk, ek⟩ := pk_andE (xs i) (m := nI 15) 4 (by decide)
      refine gk_tv ek ?_
      have K : ∀ (u w : gS) (v : eV) (H : Heap) (locs : List Loc), lw_I u w v → lj D (eh_w h d u) (mo_w h' d' w) (fun q : Nat => s.heap.size ≤ q) s.heap H locs → W p l e room_1 s m #[Value.ref b] below meth c H locs 17 391 (lw_Z below #[Value.ref b] s) (F0 m 443 ls []) := by
        intro u w v H locs I J
        refine lv_iinc (v := nI (i + 4)) (lv' := [(3, .int (nI (i + 4))), (0, .ref b), (1, .ref (h 100)), (2, .ref (h' 100))]) hx hb dL_law_443 hl (k := 3) rfl (nI_add i 4) (by decide) rfl (fun ls hl => ?_)
        refine lv_goto (tgt := 18) hx hb dL_law_446 (by decide) ?_
        exact ih (i + 4) u w v hi4 (by omega) I H locs J ls (lv_sub hl [1, 2, 3, 0] rfl)
      rcases (show k = 0 ∨ k = 1 ∨ k = 2 ∨ k = 3 ∨ k = 4 ∨ k = 5 ∨ k = 6 ∨ k = 7 ∨ k = 8 ∨ k = 9 ∨ k = 10 ∨ k = 11 ∨ k = 12 ∨ k = 13 ∨ k = 14 ∨ k = 15 by omega) with rfl | rfl | rfl | rfl | rfl | rfl | rfl | rfl | rfl | rfl | rfl | rfl | rfl | rfl | rfl | rfl
      · refine lv_tableIn (off := 76) (tgt := 108) hx hb dL_law_32 (by decide +kernel) (by decide +kernel) (by decide +kernel) (by decide) ?_
        exact lc_make hC hi4 I J hl K
      · refine lv_tableIn (off := 109) (tgt := 141) hx hb dL_law_32 (by decide +kernel) (by decide +kernel) (by decide +kernel) (by decide) ?_
        exact lc_point hC hi4 I J hl K
      · refine lv_tableIn (off := 152) (tgt := 184) hx hb dL_law_32 (by decide +kernel) (by decide +kernel) (by decide +kernel) (by decide) ?_
        exact lc_root hC hi4 I J hl K
      · refine lv_tableIn (off := 185) (tgt := 217) hx hb dL_law_32 (by decide +kernel) (by decide +kernel) (by decide +kernel) (by decide) ?_
        exact lc_watch hC hi4 I J hl K
      · refine lv_tableIn (off := 208) (tgt := 240) hx hb dL_law_32 (by decide +kernel) (by decide +kernel) (by decide +kernel) (by decide) ?_
        exact lc_clean hC hi4 I J hl K
      · refine lv_tableIn (off := 221) (tgt := 253) hx hb dL_law_32 (by decide +kernel) (by decide +kernel) (by decide +kernel) (by decide) ?_
        exact lc_take hC hi4 I J hl K
      · refine lv_tableIn (off := 244) (tgt := 276) hx hb dL_law_32 (by decide +kernel) (by decide +kernel) (by decide +kernel) (by decide) ?_
        exact lc_objects hC hi4 I J hl K
      · refine lv_tableIn (off := 257) (tgt := 289) hx hb dL_law_32 (by decide +kernel) (by decide +kernel) (by decide +kernel) (by decide) ?_
        exact lc_there hC hi4 I J hl K
      · refine lv_tableIn (off := 270) (tgt := 302) hx hb dL_law_32 (by decide +kernel) (by decide +kernel) (by decide +kernel) (by decide) ?_
        exact lc_alive hC hi4 I J hl K
      · refine lv_tableIn (off := 283) (tgt := 315) hx hb dL_law_32 (by decide +kernel) (by decide +kernel) (by decide +kernel) (by decide) ?_
        exact lc_field hC hi4 I J hl K
      · refine lv_tableIn (off := 316) (tgt := 348) hx hb dL_law_32 (by decide +kernel) (by decide +kernel) (by decide +kernel) (by decide) ?_
        exact lc_kind hC hi4 I J hl K
      · refine lv_tableIn (off := 339) (tgt := 371) hx hb dL_law_32 (by decide +kernel) (by decide +kernel) (by decide +kernel) (by decide) ?_
        exact lc_rootOf hC hi4 I J hl K
      · refine lv_tableIn (off := 362) (tgt := 394) hx hb dL_law_32 (by decide +kernel) (by decide +kernel) (by decide +kernel) (by decide) ?_
        exact lc_queued hC hi4 I J hl K
      · refine lv_tableIn (off := 375) (tgt := 407) hx hb dL_law_32 (by decide +kernel) (by decide +kernel) (by decide +kernel) (by decide) ?_
        exact lc_watched hC hi4 I J hl K
      · refine lv_tableIn (off := 388) (tgt := 420) hx hb dL_law_32 (by decide +kernel) (by decide +kernel) (by decide +kernel) (by decide) ?_
        exact lc_heldBy hC hi4 I J hl K
      · refine lv_tableOut (tgt := 443) hx hb dL_law_32 (by decide +kernel) (by decide) ?_
        exact K u w v H locs I J
set_option maxHeartbeats 4000000 in
set_option maxRecDepth 100000 in
/-- THE LAW, from its entry -/
theorem whole_start {p : Program} {e : Env} {s : State} {m : MethodId} {below : List Frame} {meth : Method} {c : Code} (l : Launch) {b L : Nat} {xs : Nat → Int32} (hL : L ≤ 256) (C0 : lw_At p s m meth c b L xs) : W p l e room_1 s m #[Value.ref b] below meth c s.heap [] 0 0 (lw_Z below #[Value.ref b] s) (entryFrame m ([Value.ref b] : List Value).toArray 4) := by
  obtain ⟨hx, hb, hr, hml, hown, hts0, hX, hbl, hlocks, hgv⟩ := id C0
  have hts : ∀ w ∈ lw_all, w.before #[Value.ref b] s = true := fun w h => hts0 w (lw_all_tbl h)
  have hA : ∀ q : Nat, s.heap.size ≤ q → (fun q : Nat => s.heap.size ≤ q) q := fun _ h => h
  obtain ⟨c0, iS0, hKn0⟩ := u_known (C := RX0) (T := TX0) (N := 15) (n := 15) hts in_X0 (hts _ q19)
  obtain ⟨c1, iS1, hKn1⟩ := u_known (C := RX1) (T := TX1) (N := 8) (n := 8) hts in_X1 (hts _ q188)
  obtain ⟨D, hKc⟩ : ∃ D : va_G, ∀ (k : Nat) (q : vw_C), vwCl[k]? = some q → u_Kn s q.1 q.2.1 q.2.2 (D.1 k) (D.2 k) := by
    refine ⟨(fun k => if k = 0 then c0 else c1, fun k => if k = 0 then iS0 else iS1), ?_⟩
    intro k q hq
    match k, hq with
    | 0, hq => cases hq; exact hKn0
    | 1, hq => cases hq; exact hKn1
    | k + 2, hq => simp [vwCl] at hq
  have hS : va_S (fun q : Nat => s.heap.size ≤ q) s.heap s.heap [] := va_S.rf
  have hK : va_K D vwCl [] s := ⟨hKc, fun k q h => by simp at h⟩
  have hP : va_P D vwCl [] s.heap := fun k q h => by simp at h
  have hD : va_D (fun q : Nat => s.heap.size ≤ q) [] := ⟨fun i j p q h => by simp at h, fun k q h => by simp at h⟩
  have hl := lv_entry ([.ref b]) (n := 4) (Nat.le_of_ble_eq_true rfl)
  rw [lg_entry_eq]
  generalize (lg_sl ([.ref b]) ++ List.replicate (4 - (lg_sl ([.ref b])).length) Slot.unset).toArray = ls at hl ⊢
  have hl : lv_has ls 4 [(0, .ref b)] := hl
  refine va_new (ci := 0) (fs := [.int (nI 0), .int (nI 0), .null, .int (nI 0), .int (nI 0), .null, .null, .null, .null, .null, .int (nI 0), .int (nI 0), .null, .null, .int (nI 0)]) (C := RX0) (T := TX0) (N := 15) hx hb hts in_X0 tyX0 tyX0_ok hown (hts _ q18) (hts _ q19) (hts _ q16) hK hP hD hS hA rfl (fun j hj => by rcases (show j = 0 ∨ j = 1 ∨ j = 2 ∨ j = 3 ∨ j = 4 ∨ j = 5 ∨ j = 6 ∨ j = 7 ∨ j = 8 ∨ j = 9 ∨ j = 10 ∨ j = 11 ∨ j = 12 ∨ j = 13 ∨ j = 14 by omega) with rfl | rfl | rfl | rfl | rfl | rfl | rfl | rfl | rfl | rfl | rfl | rfl | rfl | rfl | rfl <;> rfl) (Nat.le_of_ble_eq_true rfl) (Nat.le_of_ble_eq_true rfl) dL_law_0 (fun a0 H hP hD hS => ?_)
  have hP : va_P D vwCl [(a0, .inr (0, [.int (nI 0), .int (nI 0), .null, .int (nI 0), .int (nI 0), .null, .null, .null, .null, .null, .int (nI 0), .int (nI 0), .null, .null, .int (nI 0)]))] H := hP
  have hD : va_D (fun q : Nat => s.heap.size ≤ q) [(a0, .inr (0, [.int (nI 0), .int (nI 0), .null, .int (nI 0), .int (nI 0), .null, .null, .null, .null, .null, .int (nI 0), .int (nI 0), .null, .null, .int (nI 0)]))] := hD
  refine W.widen (k := 1) (n := 15) (Nat.le_of_ble_eq_true rfl) (Nat.le_of_ble_eq_true rfl) ?_
  refine lv_dup hx hb dL_law_3 rfl ?_
  have hFc := va_free (wc := [(a0, .inr (0, [.int (nI 0), .int (nI 0), .null, .int (nI 0), .int (nI 0), .null, .null, .null, .null, .null, .int (nI 0), .int (nI 0), .null, .null, .int (nI 0)]))]) hD hS hA [0] rfl
  refine va_callv (va_runI (As := []) (rest := [.ref a0]) ⟨hx, hb, hml, hown, hts⟩ (me_init l D a0 H.size) (cwI 0 hts (lw_meth q22) rfl rfl rfl (hts _ q16) (hts _ q20) (hts _ q21) rfl (by decide +kernel) ⟨Nat.le_of_ble_eq_true rfl, Nat.le_of_ble_eq_true rfl⟩) ⟨fun a U g mk q => by obtain ⟨q0, q1, qP, qK, qD⟩ := q; exact ⟨q0, q1, qP, va_K.moved (u := U) (U := U.calling g mk a) (Vm.Alike.refl U.vm) qK, qD⟩, fun U hU hW => ⟨rfl, by rw [hU], by rw [hU]; exact hP, va_K.moved hW.alike hK, hD.weaken (fun _ _ _ _ => trivial)⟩⟩ rfl rfl hl.1 rfl (lv_room (Nat.le_of_ble_eq_true rfl)) dL_law_4 ⟨Nat.le_of_ble_eq_true rfl, Nat.le_of_ble_eq_true rfl⟩) hS (fun q _ h => hFc q h) hFc (fun x t H1 locs ht hvm hw hB hz1 hk1 hS => ?_)
  obtain ⟨h, d, u⟩ := x
  obtain ⟨hP1, hKe, hD1⟩ := hB
  rw [ht] at hP1
  have hKe : va_K D vwCl (eh_t d) s := va_K.moved hvm.symm hKe
  have hP : va_P D vwCl (eh_w h d u) H1 := hP1
  have hD : va_D (fun q : Nat => s.heap.size ≤ q) (eh_w h d u) := hD1.weaken (fun _ _ _ h => hFc _ h)
  have h100 : h 100 = a0 := hw.1
  have hR : eh_RR u v_0 := hw.2
  generalize H1 = H at hP hS ⊢
  refine W.widen (k := 9) (n := 259) (Nat.le_of_ble_eq_true rfl) (Nat.le_of_ble_eq_true rfl) ?_
  refine lv_astore_n (lv' := [(1, .ref a0), (0, .ref b)]) hx hb dL_law_7 rfl hl (by decide) rfl (fun ls hl => ?_)
  refine va_new (ci := 1) (fs := [.null, .null, .null, .null, .null, .null, .int (nI 0), .null]) (C := RX1) (T := TX1) (N := 8) hx hb hts in_X1 tyX1 tyX1_ok hown (hts _ q187) (hts _ q188) (hts _ q17) hK hP hD hS hA rfl (fun j hj => by rcases (show j = 0 ∨ j = 1 ∨ j = 2 ∨ j = 3 ∨ j = 4 ∨ j = 5 ∨ j = 6 ∨ j = 7 by omega) with rfl | rfl | rfl | rfl | rfl | rfl | rfl | rfl <;> rfl) (Nat.le_of_ble_eq_true rfl) (Nat.le_of_ble_eq_true rfl) dL_law_8 (fun a1 H hP hD hS => ?_)
  refine W.widen (k := 10) (n := 267) (Nat.le_of_ble_eq_true rfl) (Nat.le_of_ble_eq_true rfl) ?_
  refine lv_dup hx hb dL_law_11 rfl ?_
  have hPc := hP.sub (ws' := [(a1, .inr (1, [.null, .null, .null, .null, .null, .null, .int (nI 0), .null]))]) [9] rfl
  have hDc := hD.sub (ws' := [(a1, .inr (1, [.null, .null, .null, .null, .null, .null, .int (nI 0), .null]))]) [9] (by decide) rfl
  have hFc := va_free (wc := [(a1, .inr (1, [.null, .null, .null, .null, .null, .null, .int (nI 0), .null]))]) hD hS hA [9] rfl
  refine va_callv (va_runI (As := []) (rest := [.ref a1]) ⟨hx, hb, hml, hown, hts⟩ (mm_init l D a1 H.size) (cwI 0 hts (lw_meth q191) rfl rfl rfl (hts _ q17) (hts _ q189) (hts _ q190) rfl (by decide +kernel) ⟨Nat.le_of_ble_eq_true rfl, Nat.le_of_ble_eq_true rfl⟩) ⟨fun a U g mk q => by obtain ⟨q0, q1, qP, qK, qD⟩ := q; exact ⟨q0, q1, qP, va_K.moved (u := U) (U := U.calling g mk a) (Vm.Alike.refl U.vm) qK, qD⟩, fun U hU hW => ⟨rfl, by rw [hU], by rw [hU]; exact hPc, va_K.moved hW.alike hK, hDc.weaken (fun _ _ _ _ => trivial)⟩⟩ rfl rfl hl.1 rfl (lv_room (Nat.le_of_ble_eq_true rfl)) dL_law_12 ⟨Nat.le_of_ble_eq_true rfl, Nat.le_of_ble_eq_true rfl⟩) hS (fun q _ h => hFc q h) hFc (fun x t H1 locs ht hvm hw hB hz1 hk1 hS => ?_)
  obtain ⟨h', d', w⟩ := x
  obtain ⟨hP1, hKm, hD1⟩ := hB
  rw [ht] at hP1
  have hKm : va_K D vwCl (mo_t d') s := va_K.moved hvm.symm hKm
  have g100 : h' 100 = a1 := hw.1
  have hM : mo_R w v_0 := hw.2
  obtain ⟨hP, hD⟩ := va_join (wr := eh_w h d u) (w1 := mo_w h' d' w) hP hD [9] [0, 1, 2, 3, 4, 5, 6, 7, 8] rfl rfl (by decide) (by decide) hk1 hFc hP1 hD1
  have J := lj_of hP hD hS
  generalize H1 = H at J ⊢
  refine W.widen (k := 17) (n := 391) (Nat.le_of_ble_eq_true rfl) (Nat.le_of_ble_eq_true rfl) ?_
  refine lv_astore_n (lv' := [(2, .ref a1), (1, .ref a0), (0, .ref b)]) hx hb dL_law_15 rfl hl (by decide) rfl (fun ls hl => ?_)
  refine lv_iconst (v := nI 0) hx hb dL_law_16 (by decide) ?_
  refine lv_istore_n (lv' := [(3, .int (nI 0)), (2, .ref a1), (1, .ref a0), (0, .ref b)]) hx hb dL_law_17 rfl hl (by decide) rfl (fun ls hl => ?_)
  have hl : lv_has ls 4 [(0, .ref b), (1, .ref (h 100)), (2, .ref (h' 100)), (3, .int (nI 0))] := by
    rw [h100, g100]
    exact lv_sub hl [3, 2, 1, 0] rfl
  exact law_loop hL C0 hKe hKm (L + 1) 0 u w v_0 (Nat.zero_le L) (by omega) ⟨v_0_inv, hR, hM⟩ H locs J ls hl
set_option maxHeartbeats 4000000 in
theorem lw_walk (l : Launch) (b : Addr) (xs : List Int32) : MetFree l x (headSpec (Jvm.Cond.code x code maxLocals ret :: tables_1) room_1) (lw_P b xs) (fun _ _ _ _ _ => True) lw_Q := by
  refine MetFree.of_bodyS (code := code) (maxLocals := maxLocals) (ret := ret) (by decide) ?_ ?_
  · intro args s m h hn
    obtain ⟨meth, c, h1, h2, h3, h4, h5, h6, -, -⟩ := Cond.code_spec hn (atoms_spec (ws := Jvm.Cond.code x code maxLocals ret :: tables_1) h _ List.mem_cons_self)
    exact ⟨meth, c, h1, h2, h3, h4, h5, h6⟩
  · intro p e s m args below meth c s₁ B hml0 hP _
    obtain ⟨rfl, hx, hbd, hgv⟩ := hP
    obtain ⟨scr, harrAt, hlist, hof, hsmall⟩ := hx
    obtain ⟨hcb, hkn, -, -⟩ := State.arrayAt?_spec harrAt
    have hown : s.vm.findClass R_law = some m.cls := findClass_of_methodNamed B.named
    have hts0 : ∀ c ∈ (Jvm.Cond.code x code maxLocals ret :: tables_1), c.before #[Value.ref b] s = true := atoms_spec (ws := Jvm.Cond.code x code maxLocals ret :: tables_1) B.pre
    have hts : ∀ w ∈ lw_tbl, w.before #[Value.ref b] s = true := k2_hts_sels lw_privs (fun w hw => hts0 w (List.mem_cons_of_mem _ hw)) lw_privs_ok
    have hml : c.maxLocals = 4 := B.maxLocals_eq (hts0 _ List.mem_cons_self)
    have X₀ : Stand p l e room_1 s m #[Value.ref b] below meth c s₁ [] 0 0 := Stand.of_body B
    have hh0 : s₁.heap = s.heap := by rw [B.state]; rfl
    have hsz : scr.slots.size = xs.length := by rw [← Array.length_toList, hlist, List.length_map]
    have hval : ∀ j : Nat, j < xs.length → scr.slots[j]? = some (.int (xs.getD j 0)) := fun j hj => by
      rw [← Array.getElem?_toList, hlist]
      simp [hj]
    have hbl : b < s.heap.size := (Array.getElem?_eq_some_iff.mp hcb).1
    have hX : va_X b xs.length (fun j => xs.getD j 0) s s.heap := ⟨scr, hcb, hof, hkn, hsz, hval⟩
    have K : W p l e room_1 s m #[Value.ref b] below meth c s₁.heap [] 0 0 (lw_Z below #[Value.ref b] s) (entryFrame m ([Value.ref b] : List Value).toArray 4) := by
      rw [hh0]
      exact whole_start l hbd ⟨B.exec, B.bytes, B.returns, hml, hown, hts, hX, hbl, B.notSynchronized, hgv⟩
    obtain ⟨t, a1, o, b1, b2, b3⟩ := K s₁ rfl X₀
    exact ⟨t, o, a1, b1, b2, b3⟩
theorem lw_pre_spec {args : Array Value} {s : State} (h : (Jvm.Cond.and given_1 narrow_1).before args s = true) (hr : rest_1_c.before args s = true) : ∃ (b : Addr) (xs : List Int32), lw_P b xs args s := by
  have hs := flat_of_before _ h
  have hq := flat_of_before _ hr
  have hc : (Cond.count 1).before args s = true := hs _ (by decide +kernel)
  have harr : (Cond.arrayOf (.arg 0) .int).before args s = true := hs _ (by decide +kernel)
  have hle : (Cond.le (.length (.arg 0)) (.int 256)).before args s = true := hs _ (by decide +kernel)
  have hlen : (Cond.isInt (.length (.arg 0))).before args s = true := hq _ (by decide +kernel)
  have hall : (Cond.all (.arg 0) (.isInt (.elem (.arg 0) (.index 0)))).before args s = true := hq _ (by decide +kernel)
  obtain ⟨b, xs, hb, hx⟩ := State.ints_of_pre rfl harr hlen hall
  have hsm : xs.length < 2 ^ 31 := hx.choose_spec.2.2.2
  have hev : (Term.length (.arg 0)).eval args s none [] s = some (.int xs.length.toInt32) := hx.length_eval hb
  have hv := Cond.le_ints hev (show (Term.int 256).eval args s none [] s = some (.int 256) from rfl)
  have hd : xs.length.toInt32 ≤ 256 := by
    simpa [Cond.before, Cond.holds, hv] using hle
  have hN : xs.length ≤ 256 := (Int32.ofNat_le_ofNat hsm (by decide)).mp (show Int32.ofNat xs.length ≤ Int32.ofNat 256 from hd)
  exact ⟨b, xs, Cond.one_arg hc (show args[0]? = some (.ref b) from hb), hx, hN, h⟩
theorem lw_comes (l : Launch) : Comes l x (Jvm.Cond.code x code maxLocals ret :: tables_1) room_1 (fun tb e args s => Calls_1 tb e args s ∧ rest_1 tb e args s ∧ Pre_1 tb e args s)
    (fun _ _ args s o t => lw_Q args s o t) := by
  intro p e ha hc hk s m args below hf hfit hheap happ hpre
  obtain ⟨b, xs, hP⟩ := lw_pre_spec hpre.2.2 hpre.2.1
  obtain ⟨k, o, h1, h2, h3, hQ⟩ := lw_walk l b xs p e ha hc hk s m args below hf ((Spec.applies_iff_loose hf).mp happ).1 hP trivial
  exact ⟨k, o, h1, h2, h3, hQ⟩
theorem lw_frame {s t : State} {o : Outcome} {args : Array Value} (h : Framed s o t [] 600000 7290000) :
    Framed s o t (fieldLocs frame_1_writes args s ++ arrayLocs frame_1_arrays args s ++ staticLocs frame_1_statics s) 600000 7290000 := h
theorem lw_limb (L : Cond) (hL : ∀ (args : Array Value) (s t : State), L.after args s (.returned (some (.int 1))) t = true) :
    ArmFor flags0 classFile x code maxLocals ret World_1 tables_1 room_1 Calls_1 rest_1 Pre_1
      (fun tb e a s o t => postC L tb e a s o t ∧ Framed s o t (fieldLocs frame_1_writes a s ++ arrayLocs frame_1_arrays a s ++ staticLocs frame_1_statics s) 600000 7290000) := by
  intro l _ _ _ p e ha hc hk s m args below hf hfit hheap happ hpre
  obtain ⟨k, o, h1, h2, h3, rfl, hF⟩ := lw_comes l p e ha hc hk s m args below hf hfit hheap happ hpre
  exact ⟨k, _, h1, h2, h3, hL args s _, lw_frame hF⟩
theorem i_vc : Claimed_1_1 ∧ Claimed_1_2 := ⟨lw_limb limb_1_1 (fun args s t => by simp [limb_1_1, Cond.after, Cond.holds, Cond.value]), lw_limb limb_1_2 (fun args s t => Cond.after_iff.mpr (by
  first | (rw [show limb_1_2 = Cond.eq .result (.int 1) from rfl, Cond.eq_ints (x := 1) (y := 1) rfl rfl]; simp; done) | (simp [limb_1_2, Cond.value, Term.eval]; done)))⟩
end
