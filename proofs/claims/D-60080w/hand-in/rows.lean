section
-- ===== PART A: goes FIRST, ahead of the names: the tables' words, and 'selects' of the private methods out of them =====
/-- a private method of a class that the tables say can be made, by its rows of tables_1 -/
def lw_okq (q : MethodName × Nat) : Prop := (q.1.cls ≠ "java/lang/invoke/MethodHandle" ∧ q.1.cls ≠ "java/lang/invoke/VarHandle") ∧ Cond.instantiable q.1.cls q.2 ∈ tables_1 ∧ Cond.privateMethod q.1 ∈ tables_1 ∧ Cond.instanceMethod q.1 ∈ tables_1
set_option maxRecDepth 100000
theorem lw_t1 {w : Cond} (h : w ∈ tables_1_1) : w ∈ tables_1 := List.mem_append_left _ h
theorem lw_t2 {w : Cond} (h : w ∈ tables_1_2) : w ∈ tables_1 := List.mem_append_right _ h
theorem lw_p0 : lw_okq (⟨"RoundArchive", "inRange", "(I)Z"⟩, 23) := ⟨⟨by decide +kernel, by decide +kernel⟩, lw_t1 (List.mem_of_getElem? (i := 4) rfl), lw_t1 (List.mem_of_getElem? (i := 96) rfl), lw_t1 (List.mem_of_getElem? (i := 97) rfl)⟩
theorem lw_p1 : lw_okq (⟨"RoundArchive", "addMoment", "(I)V"⟩, 23) := ⟨⟨by decide +kernel, by decide +kernel⟩, lw_t1 (List.mem_of_getElem? (i := 4) rfl), lw_t1 (List.mem_of_getElem? (i := 101) rfl), lw_t1 (List.mem_of_getElem? (i := 102) rfl)⟩
theorem lw_p2 : lw_okq (⟨"RoundArchive", "closeStep", "()V"⟩, 23) := ⟨⟨by decide +kernel, by decide +kernel⟩, lw_t1 (List.mem_of_getElem? (i := 4) rfl), lw_t1 (List.mem_of_getElem? (i := 105) rfl), lw_t1 (List.mem_of_getElem? (i := 106) rfl)⟩
theorem lw_p3 : lw_okq (⟨"RoundArchive", "addStep", "(II)V"⟩, 23) := ⟨⟨by decide +kernel, by decide +kernel⟩, lw_t1 (List.mem_of_getElem? (i := 4) rfl), lw_t1 (List.mem_of_getElem? (i := 112) rfl), lw_t1 (List.mem_of_getElem? (i := 113) rfl)⟩
theorem lw_p4 : lw_okq (⟨"RoundArchive", "closeRow", "(I)V"⟩, 23) := ⟨⟨by decide +kernel, by decide +kernel⟩, lw_t1 (List.mem_of_getElem? (i := 4) rfl), lw_t1 (List.mem_of_getElem? (i := 116) rfl), lw_t1 (List.mem_of_getElem? (i := 117) rfl)⟩
theorem lw_p5 : lw_okq (⟨"RoundArchive", "rowValue", "(I)I"⟩, 23) := ⟨⟨by decide +kernel, by decide +kernel⟩, lw_t1 (List.mem_of_getElem? (i := 4) rfl), lw_t1 (List.mem_of_getElem? (i := 120) rfl), lw_t1 (List.mem_of_getElem? (i := 121) rfl)⟩
theorem lw_p6 : lw_okq (⟨"RoundArchive", "firstKept", "(I)I"⟩, 23) := ⟨⟨by decide +kernel, by decide +kernel⟩, lw_t1 (List.mem_of_getElem? (i := 4) rfl), lw_t1 (List.mem_of_getElem? (i := 152) rfl), lw_t1 (List.mem_of_getElem? (i := 153) rfl)⟩
theorem lw_p7 : lw_okq (⟨"RoundArchiveModel", "step", "(I)I"⟩, 10) := ⟨⟨by decide +kernel, by decide +kernel⟩, lw_t1 (List.mem_of_getElem? (i := 171) rfl), lw_t1 (List.mem_of_getElem? (i := 235) rfl), lw_t1 (List.mem_of_getElem? (i := 236) rfl)⟩
theorem lw_p8 : lw_okq (⟨"RoundArchiveModel", "floor", "(II)I"⟩, 10) := ⟨⟨by decide +kernel, by decide +kernel⟩, lw_t1 (List.mem_of_getElem? (i := 171) rfl), lw_t1 (List.mem_of_getElem? (i := 239) rfl), lw_t2 (List.mem_of_getElem? (i := 0) rfl)⟩
theorem lw_p9 : lw_okq (⟨"RoundArchiveModel", "made", "(II)I"⟩, 10) := ⟨⟨by decide +kernel, by decide +kernel⟩, lw_t1 (List.mem_of_getElem? (i := 171) rfl), lw_t2 (List.mem_of_getElem? (i := 12) rfl), lw_t2 (List.mem_of_getElem? (i := 13) rfl)⟩
def lw_privs_1 : List (MethodName × Nat) := [(⟨"RoundArchive", "inRange", "(I)Z"⟩, 23), (⟨"RoundArchive", "addMoment", "(I)V"⟩, 23), (⟨"RoundArchive", "closeStep", "()V"⟩, 23), (⟨"RoundArchive", "addStep", "(II)V"⟩, 23), (⟨"RoundArchive", "closeRow", "(I)V"⟩, 23), (⟨"RoundArchive", "rowValue", "(I)I"⟩, 23), (⟨"RoundArchive", "firstKept", "(I)I"⟩, 23), (⟨"RoundArchiveModel", "step", "(I)I"⟩, 10), (⟨"RoundArchiveModel", "floor", "(II)I"⟩, 10), (⟨"RoundArchiveModel", "made", "(II)I"⟩, 10)]
theorem lw_r1 : ∀ q ∈ lw_privs_1, lw_okq q := List.forall_mem_cons.mpr ⟨lw_p0, List.forall_mem_cons.mpr ⟨lw_p1, List.forall_mem_cons.mpr ⟨lw_p2, List.forall_mem_cons.mpr ⟨lw_p3, List.forall_mem_cons.mpr ⟨lw_p4, List.forall_mem_cons.mpr ⟨lw_p5, List.forall_mem_cons.mpr ⟨lw_p6, List.forall_mem_cons.mpr ⟨lw_p7, List.forall_mem_cons.mpr ⟨lw_p8, List.forall_mem_cons.mpr ⟨lw_p9, fun _ h => absurd h List.not_mem_nil⟩⟩⟩⟩⟩⟩⟩⟩⟩⟩
def lw_privs : List (MethodName × Nat) := lw_privs_1
def lw_tbl : List Cond := k2_sels lw_privs ++ tables_1
theorem lw_privs_ok : ∀ q ∈ lw_privs, lw_okq q := lw_r1
-- ===== ONE list of words for every method: the tables' words that hold all through a run =====
def lw_all : List Cond := lw_tbl.filter goodWord
/-- a word of the tables by its place: claim/WORDS.tsv -/
theorem lw_w {w : Cond} (i : Nat) (h : lw_tbl[i]? = some w) (g : goodWord w = true) : w ∈ lw_all := List.mem_filter.mpr ⟨List.mem_of_getElem? h, g⟩
theorem lw_all_tbl {w : Cond} (h : w ∈ lw_all) : w ∈ lw_tbl := (List.mem_filter.mp h).1
theorem lw_self : GoodIn lw_all lw_all := fun w h => ⟨h, good_of_word (List.mem_filter.mp h).2⟩
/-- a class's field words, by their places -/
theorem lw_in (ws : List Cond) (ps : List Nat) (hp : ws = ps.filterMap (fun i => lw_tbl[i]?)) (hg : ws.all goodWord = true) : ∀ w ∈ ws, w ∈ lw_all := by
  intro w h
  have h1 := List.all_eq_true.mp hg w h
  rw [hp] at h
  obtain ⟨i, -, hi⟩ := List.mem_filterMap.mp h
  exact lw_w i hi h1
/-- the words of a contract for the method y with code b, L locals, answer r -/
abbrev ws_ (y : MethodName) (b : ByteArray) (L : Nat) (r : Option FieldType) : List Cond := Cond.code y b L r :: lw_all
theorem lw_meth {y : MethodName} {b : ByteArray} {L : Nat} {r : Option FieldType} (h : Cond.code y b L r ∈ lw_all) : GoodIn lw_all (ws_ y b L r) := by
  intro w hw
  rcases List.mem_cons.mp hw with e | e
  · rw [e]
    exact lw_self _ h
  · exact lw_self _ e
theorem lw_app {a c : List Cond} (ha : ∀ w ∈ a, w ∈ lw_all) (hc : GoodIn lw_all c) : GoodIn lw_all (a ++ c) := by
  intro w hw
  rcases List.mem_append.mp hw with e | e
  · exact lw_self w (ha w e)
  · exact hc w e
/-- what a call through an object asks: cwV n hts (lw_V ..) -/
theorem lw_V {own : String} {idx : Nat} {C : String} {y : MethodName} {b : ByteArray} {L : Nat} {r : Option FieldType} (h1 : Cond.methodLink own idx y ∈ lw_all) (h2 : Cond.instanceMethod y ∈ lw_all) (h3 : Cond.selects C y y ∈ lw_all) (h4 : Cond.initialized C ∈ lw_all) (h5 : Cond.code y b L r ∈ lw_all) : GoodIn lw_all (wsV own idx C y (ws_ y b L r)) := by
  refine lw_app ?_ (lw_meth h5)
  intro w hw
  simp only [List.mem_cons, List.not_mem_nil, or_false] at hw
  rcases hw with e | e | e | e
  · rw [e]; exact h1
  · rw [e]; exact h2
  · rw [e]; exact h3
  · rw [e]; exact h4
/-- what a static call asks: va_cwS n hts (lw_S ..) -/
theorem lw_S {own : String} {idx : Nat} {y : MethodName} {b : ByteArray} {L : Nat} {r : Option FieldType} (h1 : Cond.methodLink own idx y ∈ lw_all) (h2 : Cond.static y ∈ lw_all) (h3 : Cond.initialized y.cls ∈ lw_all) (h4 : Cond.code y b L r ∈ lw_all) : GoodIn lw_all (va_wsS own idx y (ws_ y b L r)) := by
  refine lw_app ?_ (lw_meth h4)
  intro w hw
  simp only [List.mem_cons, List.not_mem_nil, or_false] at hw
  rcases hw with e | e | e
  · rw [e]; exact h1
  · rw [e]; exact h2
  · rw [e]; exact h3
/-- the words of a contract for a method WITH HANDLERS (hh: its table) -/
abbrev wsW_ (y : MethodName) (b : ByteArray) (L : Nat) (r : Option FieldType) (hh : List (Nat × Nat × Nat × Nat)) : List Cond := Cond.codeWith y b L r hh :: lw_all
theorem lw_methW {y : MethodName} {b : ByteArray} {L : Nat} {r : Option FieldType} {hh : List (Nat × Nat × Nat × Nat)} (h : Cond.codeWith y b L r hh ∈ lw_all) : GoodIn lw_all (wsW_ y b L r hh) := by
  intro w hw
  rcases List.mem_cons.mp hw with e | e
  · rw [e]
    exact lw_self _ h
  · exact lw_self _ e
/-- any list of words by their places (lw_in), good -/
theorem lw_good {ws : List Cond} (h : ∀ w ∈ ws, w ∈ lw_all) : GoodIn lw_all ws := fun w hw => lw_self w (h w hw)
/-- what a call of a method with handlers asks: vx_cwVW n hts (lw_VW ..), vx_cwSW n hts (lw_SW ..) -/
theorem lw_VW {own : String} {idx : Nat} {C : String} {y : MethodName} {b : ByteArray} {L : Nat} {r : Option FieldType} {hh : List (Nat × Nat × Nat × Nat)} (h1 : Cond.methodLink own idx y ∈ lw_all) (h2 : Cond.instanceMethod y ∈ lw_all) (h3 : Cond.selects C y y ∈ lw_all) (h4 : Cond.initialized C ∈ lw_all) (h5 : Cond.codeWith y b L r hh ∈ lw_all) : GoodIn lw_all (wsV own idx C y (wsW_ y b L r hh)) := by
  refine lw_app ?_ (lw_methW h5)
  intro w hw
  simp only [List.mem_cons, List.not_mem_nil, or_false] at hw
  rcases hw with e | e | e | e
  · rw [e]; exact h1
  · rw [e]; exact h2
  · rw [e]; exact h3
  · rw [e]; exact h4
theorem lw_SW {own : String} {idx : Nat} {y : MethodName} {b : ByteArray} {L : Nat} {r : Option FieldType} {hh : List (Nat × Nat × Nat × Nat)} (h1 : Cond.methodLink own idx y ∈ lw_all) (h2 : Cond.static y ∈ lw_all) (h3 : Cond.initialized y.cls ∈ lw_all) (h4 : Cond.codeWith y b L r hh ∈ lw_all) : GoodIn lw_all (va_wsS own idx y (wsW_ y b L r hh)) := by
  refine lw_app ?_ (lw_methW h4)
  intro w hw
  simp only [List.mem_cons, List.not_mem_nil, or_false] at hw
  rcases hw with e | e | e
  · rw [e]; exact h1
  · rw [e]; exact h2
  · rw [e]; exact h3
/-- a word by its place in its run of the tables -/
theorem lw_at {r : List Cond} (hr : ∀ w ∈ r, w ∈ lw_tbl) {w : Cond} (i : Nat) (h : r[i]? = some w) : w ∈ lw_tbl := hr w (List.mem_of_getElem? h)
theorem lw_g {w : Cond} (h : w ∈ lw_tbl) (g : goodWord w = true) : w ∈ lw_all := List.mem_filter.mpr ⟨h, g⟩
theorem lw_ms : ∀ w ∈ k2_sels lw_privs, w ∈ lw_tbl := fun w h => show w ∈ k2_sels lw_privs ++ tables_1 from List.mem_append_left _ h
theorem lw_m1 : ∀ w ∈ tables_1_1, w ∈ lw_tbl := fun w h => show w ∈ k2_sels lw_privs ++ tables_1 from List.mem_append_right (k2_sels lw_privs) (show w ∈ tables_1 from List.mem_append_left _ h)
theorem lw_m2 : ∀ w ∈ tables_1_2, w ∈ lw_tbl := fun w h => show w ∈ k2_sels lw_privs ++ tables_1 from List.mem_append_right (k2_sels lw_privs) (show w ∈ tables_1 from List.mem_append_right _ h)
theorem qs0 : (Cond.selects "RoundArchive" ⟨"RoundArchive", "inRange", "(I)Z"⟩ ⟨"RoundArchive", "inRange", "(I)Z"⟩) ∈ lw_all := lw_g (lw_at lw_ms 0 rfl) rfl
theorem qs1 : (Cond.selects "RoundArchive" ⟨"RoundArchive", "addMoment", "(I)V"⟩ ⟨"RoundArchive", "addMoment", "(I)V"⟩) ∈ lw_all := lw_g (lw_at lw_ms 1 rfl) rfl
theorem qs2 : (Cond.selects "RoundArchive" ⟨"RoundArchive", "closeStep", "()V"⟩ ⟨"RoundArchive", "closeStep", "()V"⟩) ∈ lw_all := lw_g (lw_at lw_ms 2 rfl) rfl
theorem qs3 : (Cond.selects "RoundArchive" ⟨"RoundArchive", "addStep", "(II)V"⟩ ⟨"RoundArchive", "addStep", "(II)V"⟩) ∈ lw_all := lw_g (lw_at lw_ms 3 rfl) rfl
theorem qs4 : (Cond.selects "RoundArchive" ⟨"RoundArchive", "closeRow", "(I)V"⟩ ⟨"RoundArchive", "closeRow", "(I)V"⟩) ∈ lw_all := lw_g (lw_at lw_ms 4 rfl) rfl
theorem qs5 : (Cond.selects "RoundArchive" ⟨"RoundArchive", "rowValue", "(I)I"⟩ ⟨"RoundArchive", "rowValue", "(I)I"⟩) ∈ lw_all := lw_g (lw_at lw_ms 5 rfl) rfl
theorem qs6 : (Cond.selects "RoundArchive" ⟨"RoundArchive", "firstKept", "(I)I"⟩ ⟨"RoundArchive", "firstKept", "(I)I"⟩) ∈ lw_all := lw_g (lw_at lw_ms 6 rfl) rfl
theorem qs7 : (Cond.selects "RoundArchiveModel" ⟨"RoundArchiveModel", "step", "(I)I"⟩ ⟨"RoundArchiveModel", "step", "(I)I"⟩) ∈ lw_all := lw_g (lw_at lw_ms 7 rfl) rfl
theorem qs8 : (Cond.selects "RoundArchiveModel" ⟨"RoundArchiveModel", "floor", "(II)I"⟩ ⟨"RoundArchiveModel", "floor", "(II)I"⟩) ∈ lw_all := lw_g (lw_at lw_ms 8 rfl) rfl
theorem qs9 : (Cond.selects "RoundArchiveModel" ⟨"RoundArchiveModel", "made", "(II)I"⟩ ⟨"RoundArchiveModel", "made", "(II)I"⟩) ∈ lw_all := lw_g (lw_at lw_ms 9 rfl) rfl
end
section
/-! RoundArchive -/
set_option maxRecDepth 100000
def RX1 : String := "RoundArchive"
def TX1 : u_T := fun k => match k with
  | 0 => ("RoundArchive", "counter", "Z", true)
  | 1 => ("RoundArchive", "width", "I", true)
  | 2 => ("RoundArchive", "heartbeat", "I", true)
  | 3 => ("RoundArchive", "time", "I", false)
  | 4 => ("RoundArchive", "wheel", "I", false)
  | 5 => ("RoundArchive", "recent", "[I", true)
  | 6 => ("RoundArchive", "filled", "I", false)
  | 7 => ("RoundArchive", "unknownMoments", "I", false)
  | 8 => ("RoundArchive", "momentSum", "I", false)
  | 9 => ("RoundArchive", "stepCount", "I", false)
  | 10 => ("RoundArchive", "lastValue", "I", false)
  | 11 => ("RoundArchive", "span", "[B", true)
  | 12 => ("RoundArchive", "rule", "[B", true)
  | 13 => ("RoundArchive", "tolerance", "[B", true)
  | 14 => ("RoundArchive", "room", "[B", true)
  | 15 => ("RoundArchive", "stepsIn", "[B", true)
  | 16 => ("RoundArchive", "knownIn", "[B", true)
  | 17 => ("RoundArchive", "sum", "[I", true)
  | 18 => ("RoundArchive", "low", "[I", true)
  | 19 => ("RoundArchive", "high", "[I", true)
  | 20 => ("RoundArchive", "last", "[I", true)
  | 21 => ("RoundArchive", "rowCount", "[I", true)
  | _ => ("RoundArchive", "kept", "[I", true)
def tyX1 : Nat → FieldType := fun k => match k with
  | 0 => .boolean
  | 1 => .int
  | 2 => .int
  | 3 => .int
  | 4 => .int
  | 5 => .array .int
  | 6 => .int
  | 7 => .int
  | 8 => .int
  | 9 => .int
  | 10 => .int
  | 11 => .array .byte
  | 12 => .array .byte
  | 13 => .array .byte
  | 14 => .array .byte
  | 15 => .array .byte
  | 16 => .array .byte
  | 17 => .array .int
  | 18 => .array .int
  | 19 => .array .int
  | 20 => .array .int
  | 21 => .array .int
  | _ => .array .int
abbrev wsX10 : List Cond := u_ws RX1 TX1 23
set_option maxRecDepth 100000 in
theorem nmX1 : ∀ a, a < 23 → ∀ b, b < 23 → a ≠ b → (TX1 a).2.1 ≠ (TX1 b).2.1 := by decide +kernel
set_option maxRecDepth 100000 in
theorem tyX1_ok : ∀ k, k < 23 → parseFieldDescriptor (TX1 k).2.2.1 = some (tyX1 k) := by decide +kernel
abbrev cX1_init : ByteArray := prog_1_method_1_code
def yX1_init : MethodName := ⟨RX1, "<init>", "(III)V"⟩
theorem dX1_init_0 : decode cX1_init 0 = .ok (.aload_n 0, 1) := by decide +kernel
theorem dX1_init_1 : decode cX1_init 1 = .ok (.invokespecial 1, 3) := by decide +kernel
theorem dX1_init_4 : decode cX1_init 4 = .ok (.aload_n 0, 1) := by decide +kernel
theorem dX1_init_5 : decode cX1_init 5 = .ok (.bipush 32, 2) := by decide +kernel
theorem dX1_init_7 : decode cX1_init 7 = .ok (.newarray .int, 2) := by decide +kernel
theorem dX1_init_9 : decode cX1_init 9 = .ok (.putfield 7, 3) := by decide +kernel
theorem dX1_init_12 : decode cX1_init 12 = .ok (.aload_n 0, 1) := by decide +kernel
theorem dX1_init_13 : decode cX1_init 13 = .ok (.iconst 2, 1) := by decide +kernel
theorem dX1_init_14 : decode cX1_init 14 = .ok (.newarray .byte, 2) := by decide +kernel
theorem dX1_init_16 : decode cX1_init 16 = .ok (.putfield 13, 3) := by decide +kernel
theorem dX1_init_19 : decode cX1_init 19 = .ok (.aload_n 0, 1) := by decide +kernel
theorem dX1_init_20 : decode cX1_init 20 = .ok (.iconst 2, 1) := by decide +kernel
theorem dX1_init_21 : decode cX1_init 21 = .ok (.newarray .byte, 2) := by decide +kernel
theorem dX1_init_23 : decode cX1_init 23 = .ok (.putfield 17, 3) := by decide +kernel
theorem dX1_init_26 : decode cX1_init 26 = .ok (.aload_n 0, 1) := by decide +kernel
theorem dX1_init_27 : decode cX1_init 27 = .ok (.iconst 2, 1) := by decide +kernel
theorem dX1_init_28 : decode cX1_init 28 = .ok (.newarray .byte, 2) := by decide +kernel
theorem dX1_init_30 : decode cX1_init 30 = .ok (.putfield 20, 3) := by decide +kernel
theorem dX1_init_33 : decode cX1_init 33 = .ok (.aload_n 0, 1) := by decide +kernel
theorem dX1_init_34 : decode cX1_init 34 = .ok (.iconst 2, 1) := by decide +kernel
theorem dX1_init_35 : decode cX1_init 35 = .ok (.newarray .byte, 2) := by decide +kernel
theorem dX1_init_37 : decode cX1_init 37 = .ok (.putfield 23, 3) := by decide +kernel
theorem dX1_init_40 : decode cX1_init 40 = .ok (.aload_n 0, 1) := by decide +kernel
theorem dX1_init_41 : decode cX1_init 41 = .ok (.iconst 2, 1) := by decide +kernel
theorem dX1_init_42 : decode cX1_init 42 = .ok (.newarray .byte, 2) := by decide +kernel
theorem dX1_init_44 : decode cX1_init 44 = .ok (.putfield 26, 3) := by decide +kernel
theorem dX1_init_47 : decode cX1_init 47 = .ok (.aload_n 0, 1) := by decide +kernel
theorem dX1_init_48 : decode cX1_init 48 = .ok (.iconst 2, 1) := by decide +kernel
theorem dX1_init_49 : decode cX1_init 49 = .ok (.newarray .byte, 2) := by decide +kernel
theorem dX1_init_51 : decode cX1_init 51 = .ok (.putfield 29, 3) := by decide +kernel
theorem dX1_init_54 : decode cX1_init 54 = .ok (.aload_n 0, 1) := by decide +kernel
theorem dX1_init_55 : decode cX1_init 55 = .ok (.iconst 2, 1) := by decide +kernel
theorem dX1_init_56 : decode cX1_init 56 = .ok (.newarray .int, 2) := by decide +kernel
theorem dX1_init_58 : decode cX1_init 58 = .ok (.putfield 32, 3) := by decide +kernel
theorem dX1_init_61 : decode cX1_init 61 = .ok (.aload_n 0, 1) := by decide +kernel
theorem dX1_init_62 : decode cX1_init 62 = .ok (.iconst 2, 1) := by decide +kernel
theorem dX1_init_63 : decode cX1_init 63 = .ok (.newarray .int, 2) := by decide +kernel
theorem dX1_init_65 : decode cX1_init 65 = .ok (.putfield 35, 3) := by decide +kernel
theorem dX1_init_68 : decode cX1_init 68 = .ok (.aload_n 0, 1) := by decide +kernel
theorem dX1_init_69 : decode cX1_init 69 = .ok (.iconst 2, 1) := by decide +kernel
theorem dX1_init_70 : decode cX1_init 70 = .ok (.newarray .int, 2) := by decide +kernel
theorem dX1_init_72 : decode cX1_init 72 = .ok (.putfield 38, 3) := by decide +kernel
theorem dX1_init_75 : decode cX1_init 75 = .ok (.aload_n 0, 1) := by decide +kernel
theorem dX1_init_76 : decode cX1_init 76 = .ok (.iconst 2, 1) := by decide +kernel
theorem dX1_init_77 : decode cX1_init 77 = .ok (.newarray .int, 2) := by decide +kernel
theorem dX1_init_79 : decode cX1_init 79 = .ok (.putfield 41, 3) := by decide +kernel
theorem dX1_init_82 : decode cX1_init 82 = .ok (.aload_n 0, 1) := by decide +kernel
theorem dX1_init_83 : decode cX1_init 83 = .ok (.iconst 2, 1) := by decide +kernel
theorem dX1_init_84 : decode cX1_init 84 = .ok (.newarray .int, 2) := by decide +kernel
theorem dX1_init_86 : decode cX1_init 86 = .ok (.putfield 44, 3) := by decide +kernel
theorem dX1_init_89 : decode cX1_init 89 = .ok (.aload_n 0, 1) := by decide +kernel
theorem dX1_init_90 : decode cX1_init 90 = .ok (.bipush 16, 2) := by decide +kernel
theorem dX1_init_92 : decode cX1_init 92 = .ok (.newarray .int, 2) := by decide +kernel
theorem dX1_init_94 : decode cX1_init 94 = .ok (.putfield 47, 3) := by decide +kernel
theorem dX1_init_97 : decode cX1_init 97 = .ok (.aload_n 0, 1) := by decide +kernel
theorem dX1_init_98 : decode cX1_init 98 = .ok (.iload_n 1, 1) := by decide +kernel
theorem dX1_init_99 : decode cX1_init 99 = .ok (.iconst 1, 1) := by decide +kernel
theorem dX1_init_100 : decode cX1_init 100 = .ok (.if_icmp .lt 7, 3) := by decide +kernel
theorem dX1_init_103 : decode cX1_init 103 = .ok (.iconst 1, 1) := by decide +kernel
theorem dX1_init_104 : decode cX1_init 104 = .ok (.goto 4, 3) := by decide +kernel
theorem dX1_init_107 : decode cX1_init 107 = .ok (.iconst 0, 1) := by decide +kernel
theorem dX1_init_108 : decode cX1_init 108 = .ok (.putfield 50, 3) := by decide +kernel
theorem dX1_init_111 : decode cX1_init 111 = .ok (.aload_n 0, 1) := by decide +kernel
theorem dX1_init_112 : decode cX1_init 112 = .ok (.iload_n 2, 1) := by decide +kernel
theorem dX1_init_113 : decode cX1_init 113 = .ok (.iconst 1, 1) := by decide +kernel
theorem dX1_init_114 : decode cX1_init 114 = .ok (.if_icmp .ge 7, 3) := by decide +kernel
theorem dX1_init_117 : decode cX1_init 117 = .ok (.iconst 1, 1) := by decide +kernel
theorem dX1_init_118 : decode cX1_init 118 = .ok (.goto 15, 3) := by decide +kernel
theorem dX1_init_121 : decode cX1_init 121 = .ok (.iload_n 2, 1) := by decide +kernel
theorem dX1_init_122 : decode cX1_init 122 = .ok (.bipush 6, 2) := by decide +kernel
theorem dX1_init_124 : decode cX1_init 124 = .ok (.if_icmp .le 8, 3) := by decide +kernel
theorem dX1_init_127 : decode cX1_init 127 = .ok (.bipush 6, 2) := by decide +kernel
theorem dX1_init_129 : decode cX1_init 129 = .ok (.goto 4, 3) := by decide +kernel
theorem dX1_init_132 : decode cX1_init 132 = .ok (.iload_n 2, 1) := by decide +kernel
theorem dX1_init_133 : decode cX1_init 133 = .ok (.putfield 54, 3) := by decide +kernel
theorem dX1_init_136 : decode cX1_init 136 = .ok (.aload_n 0, 1) := by decide +kernel
theorem dX1_init_137 : decode cX1_init 137 = .ok (.iload_n 3, 1) := by decide +kernel
theorem dX1_init_138 : decode cX1_init 138 = .ok (.iconst 1, 1) := by decide +kernel
theorem dX1_init_139 : decode cX1_init 139 = .ok (.if_icmp .ge 7, 3) := by decide +kernel
theorem dX1_init_142 : decode cX1_init 142 = .ok (.iconst 1, 1) := by decide +kernel
theorem dX1_init_143 : decode cX1_init 143 = .ok (.goto 15, 3) := by decide +kernel
theorem dX1_init_146 : decode cX1_init 146 = .ok (.iload_n 3, 1) := by decide +kernel
theorem dX1_init_147 : decode cX1_init 147 = .ok (.bipush 30, 2) := by decide +kernel
theorem dX1_init_149 : decode cX1_init 149 = .ok (.if_icmp .le 8, 3) := by decide +kernel
theorem dX1_init_152 : decode cX1_init 152 = .ok (.bipush 30, 2) := by decide +kernel
theorem dX1_init_154 : decode cX1_init 154 = .ok (.goto 4, 3) := by decide +kernel
theorem dX1_init_157 : decode cX1_init 157 = .ok (.iload_n 3, 1) := by decide +kernel
theorem dX1_init_158 : decode cX1_init 158 = .ok (.putfield 58, 3) := by decide +kernel
theorem dX1_init_161 : decode cX1_init 161 = .ok (.aload_n 0, 1) := by decide +kernel
theorem dX1_init_162 : decode cX1_init 162 = .ok (.ldc 61, 2) := by decide +kernel
theorem dX1_init_164 : decode cX1_init 164 = .ok (.putfield 62, 3) := by decide +kernel
theorem dX1_init_167 : decode cX1_init 167 = .ok (.iconst 0, 1) := by decide +kernel
theorem dX1_init_168 : decode cX1_init 168 = .ok (.istore 4, 2) := by decide +kernel
theorem dX1_init_170 : decode cX1_init 170 = .ok (.iload 4, 2) := by decide +kernel
theorem dX1_init_172 : decode cX1_init 172 = .ok (.iconst 2, 1) := by decide +kernel
theorem dX1_init_173 : decode cX1_init 173 = .ok (.if_icmp .ge 25, 3) := by decide +kernel
theorem dX1_init_176 : decode cX1_init 176 = .ok (.aload_n 0, 1) := by decide +kernel
theorem dX1_init_177 : decode cX1_init 177 = .ok (.getfield 13, 3) := by decide +kernel
theorem dX1_init_180 : decode cX1_init 180 = .ok (.iload 4, 2) := by decide +kernel
theorem dX1_init_182 : decode cX1_init 182 = .ok (.iconst 1, 1) := by decide +kernel
theorem dX1_init_183 : decode cX1_init 183 = .ok (.bastore, 1) := by decide +kernel
theorem dX1_init_184 : decode cX1_init 184 = .ok (.aload_n 0, 1) := by decide +kernel
theorem dX1_init_185 : decode cX1_init 185 = .ok (.getfield 23, 3) := by decide +kernel
theorem dX1_init_188 : decode cX1_init 188 = .ok (.iload 4, 2) := by decide +kernel
theorem dX1_init_190 : decode cX1_init 190 = .ok (.iconst 4, 1) := by decide +kernel
theorem dX1_init_191 : decode cX1_init 191 = .ok (.bastore, 1) := by decide +kernel
theorem dX1_init_192 : decode cX1_init 192 = .ok (.iinc 4 1, 3) := by decide +kernel
theorem dX1_init_195 : decode cX1_init 195 = .ok (.goto (-25), 3) := by decide +kernel
theorem dX1_init_198 : decode cX1_init 198 = .ok (.return_, 1) := by decide +kernel
abbrev cX1_shape : ByteArray := prog_1_method_4_code
def yX1_shape : MethodName := ⟨RX1, "shape", "(II)Z"⟩
theorem dX1_shape_0 : decode cX1_shape 0 = .ok (.iload_n 2, 1) := by decide +kernel
theorem dX1_shape_1 : decode cX1_shape 1 = .ok (.bipush 7, 2) := by decide +kernel
theorem dX1_shape_3 : decode cX1_shape 3 = .ok (.iand, 1) := by decide +kernel
theorem dX1_shape_4 : decode cX1_shape 4 = .ok (.istore_n 3, 1) := by decide +kernel
theorem dX1_shape_5 : decode cX1_shape 5 = .ok (.iload_n 2, 1) := by decide +kernel
theorem dX1_shape_6 : decode cX1_shape 6 = .ok (.iconst 3, 1) := by decide +kernel
theorem dX1_shape_7 : decode cX1_shape 7 = .ok (.ishr, 1) := by decide +kernel
theorem dX1_shape_8 : decode cX1_shape 8 = .ok (.bipush 7, 2) := by decide +kernel
theorem dX1_shape_10 : decode cX1_shape 10 = .ok (.iand, 1) := by decide +kernel
theorem dX1_shape_11 : decode cX1_shape 11 = .ok (.istore 4, 2) := by decide +kernel
theorem dX1_shape_13 : decode cX1_shape 13 = .ok (.iload_n 2, 1) := by decide +kernel
theorem dX1_shape_14 : decode cX1_shape 14 = .ok (.bipush 6, 2) := by decide +kernel
theorem dX1_shape_16 : decode cX1_shape 16 = .ok (.ishr, 1) := by decide +kernel
theorem dX1_shape_17 : decode cX1_shape 17 = .ok (.bipush 7, 2) := by decide +kernel
theorem dX1_shape_19 : decode cX1_shape 19 = .ok (.iand, 1) := by decide +kernel
theorem dX1_shape_20 : decode cX1_shape 20 = .ok (.istore 5, 2) := by decide +kernel
theorem dX1_shape_22 : decode cX1_shape 22 = .ok (.iload_n 2, 1) := by decide +kernel
theorem dX1_shape_23 : decode cX1_shape 23 = .ok (.bipush 9, 2) := by decide +kernel
theorem dX1_shape_25 : decode cX1_shape 25 = .ok (.ishr, 1) := by decide +kernel
theorem dX1_shape_26 : decode cX1_shape 26 = .ok (.istore 6, 2) := by decide +kernel
theorem dX1_shape_28 : decode cX1_shape 28 = .ok (.iload_n 3, 1) := by decide +kernel
theorem dX1_shape_29 : decode cX1_shape 29 = .ok (.iconst 1, 1) := by decide +kernel
theorem dX1_shape_30 : decode cX1_shape 30 = .ok (.if_icmp .lt 25, 3) := by decide +kernel
theorem dX1_shape_33 : decode cX1_shape 33 = .ok (.iload_n 3, 1) := by decide +kernel
theorem dX1_shape_34 : decode cX1_shape 34 = .ok (.iconst 4, 1) := by decide +kernel
theorem dX1_shape_35 : decode cX1_shape 35 = .ok (.if_icmp .gt 20, 3) := by decide +kernel
theorem dX1_shape_38 : decode cX1_shape 38 = .ok (.iload 6, 2) := by decide +kernel
theorem dX1_shape_40 : decode cX1_shape 40 = .ok (.iconst 1, 1) := by decide +kernel
theorem dX1_shape_41 : decode cX1_shape 41 = .ok (.if_icmp .lt 14, 3) := by decide +kernel
theorem dX1_shape_44 : decode cX1_shape 44 = .ok (.iload 6, 2) := by decide +kernel
theorem dX1_shape_46 : decode cX1_shape 46 = .ok (.bipush 8, 2) := by decide +kernel
theorem dX1_shape_48 : decode cX1_shape 48 = .ok (.if_icmp .gt 7, 3) := by decide +kernel
theorem dX1_shape_51 : decode cX1_shape 51 = .ok (.iconst 1, 1) := by decide +kernel
theorem dX1_shape_52 : decode cX1_shape 52 = .ok (.goto 4, 3) := by decide +kernel
theorem dX1_shape_55 : decode cX1_shape 55 = .ok (.iconst 0, 1) := by decide +kernel
theorem dX1_shape_56 : decode cX1_shape 56 = .ok (.istore 7, 2) := by decide +kernel
theorem dX1_shape_58 : decode cX1_shape 58 = .ok (.iload_n 1, 1) := by decide +kernel
theorem dX1_shape_59 : decode cX1_shape 59 = .ok (.invokestatic 65, 3) := by decide +kernel
theorem dX1_shape_62 : decode cX1_shape 62 = .ok (.ifCond .eq 27, 3) := by decide +kernel
theorem dX1_shape_65 : decode cX1_shape 65 = .ok (.iload 7, 2) := by decide +kernel
theorem dX1_shape_67 : decode cX1_shape 67 = .ok (.ifCond .eq 22, 3) := by decide +kernel
theorem dX1_shape_70 : decode cX1_shape 70 = .ok (.iload 4, 2) := by decide +kernel
theorem dX1_shape_72 : decode cX1_shape 72 = .ok (.iconst 3, 1) := by decide +kernel
theorem dX1_shape_73 : decode cX1_shape 73 = .ok (.if_icmp .gt 16, 3) := by decide +kernel
theorem dX1_shape_76 : decode cX1_shape 76 = .ok (.iload 5, 2) := by decide +kernel
theorem dX1_shape_78 : decode cX1_shape 78 = .ok (.iconst 3, 1) := by decide +kernel
theorem dX1_shape_79 : decode cX1_shape 79 = .ok (.if_icmp .gt 10, 3) := by decide +kernel
theorem dX1_shape_82 : decode cX1_shape 82 = .ok (.aload_n 0, 1) := by decide +kernel
theorem dX1_shape_83 : decode cX1_shape 83 = .ok (.getfield 69, 3) := by decide +kernel
theorem dX1_shape_86 : decode cX1_shape 86 = .ok (.ifCond .le 5, 3) := by decide +kernel
theorem dX1_shape_89 : decode cX1_shape 89 = .ok (.iconst 0, 1) := by decide +kernel
theorem dX1_shape_90 : decode cX1_shape 90 = .ok (.ireturn, 1) := by decide +kernel
theorem dX1_shape_91 : decode cX1_shape 91 = .ok (.aload_n 0, 1) := by decide +kernel
theorem dX1_shape_92 : decode cX1_shape 92 = .ok (.getfield 13, 3) := by decide +kernel
theorem dX1_shape_95 : decode cX1_shape 95 = .ok (.iload_n 1, 1) := by decide +kernel
theorem dX1_shape_96 : decode cX1_shape 96 = .ok (.iload_n 3, 1) := by decide +kernel
theorem dX1_shape_97 : decode cX1_shape 97 = .ok (.i2b, 1) := by decide +kernel
theorem dX1_shape_98 : decode cX1_shape 98 = .ok (.bastore, 1) := by decide +kernel
theorem dX1_shape_99 : decode cX1_shape 99 = .ok (.aload_n 0, 1) := by decide +kernel
theorem dX1_shape_100 : decode cX1_shape 100 = .ok (.getfield 17, 3) := by decide +kernel
theorem dX1_shape_103 : decode cX1_shape 103 = .ok (.iload_n 1, 1) := by decide +kernel
theorem dX1_shape_104 : decode cX1_shape 104 = .ok (.iload 4, 2) := by decide +kernel
theorem dX1_shape_106 : decode cX1_shape 106 = .ok (.i2b, 1) := by decide +kernel
theorem dX1_shape_107 : decode cX1_shape 107 = .ok (.bastore, 1) := by decide +kernel
theorem dX1_shape_108 : decode cX1_shape 108 = .ok (.aload_n 0, 1) := by decide +kernel
theorem dX1_shape_109 : decode cX1_shape 109 = .ok (.getfield 20, 3) := by decide +kernel
theorem dX1_shape_112 : decode cX1_shape 112 = .ok (.iload_n 1, 1) := by decide +kernel
theorem dX1_shape_113 : decode cX1_shape 113 = .ok (.iload 5, 2) := by decide +kernel
theorem dX1_shape_115 : decode cX1_shape 115 = .ok (.i2b, 1) := by decide +kernel
theorem dX1_shape_116 : decode cX1_shape 116 = .ok (.bastore, 1) := by decide +kernel
theorem dX1_shape_117 : decode cX1_shape 117 = .ok (.aload_n 0, 1) := by decide +kernel
theorem dX1_shape_118 : decode cX1_shape 118 = .ok (.getfield 23, 3) := by decide +kernel
theorem dX1_shape_121 : decode cX1_shape 121 = .ok (.iload_n 1, 1) := by decide +kernel
theorem dX1_shape_122 : decode cX1_shape 122 = .ok (.iload 6, 2) := by decide +kernel
theorem dX1_shape_124 : decode cX1_shape 124 = .ok (.i2b, 1) := by decide +kernel
theorem dX1_shape_125 : decode cX1_shape 125 = .ok (.bastore, 1) := by decide +kernel
theorem dX1_shape_126 : decode cX1_shape 126 = .ok (.iconst 1, 1) := by decide +kernel
theorem dX1_shape_127 : decode cX1_shape 127 = .ok (.ireturn, 1) := by decide +kernel
abbrev cX1_isArchive : ByteArray := prog_1_method_2_code
def yX1_isArchive : MethodName := ⟨RX1, "isArchive", "(I)Z"⟩
theorem dX1_isArchive_0 : decode cX1_isArchive 0 = .ok (.iload_n 0, 1) := by decide +kernel
theorem dX1_isArchive_1 : decode cX1_isArchive 1 = .ok (.ifCond .eq 8, 3) := by decide +kernel
theorem dX1_isArchive_4 : decode cX1_isArchive 4 = .ok (.iload_n 0, 1) := by decide +kernel
theorem dX1_isArchive_5 : decode cX1_isArchive 5 = .ok (.iconst 1, 1) := by decide +kernel
theorem dX1_isArchive_6 : decode cX1_isArchive 6 = .ok (.if_icmp .ne 7, 3) := by decide +kernel
theorem dX1_isArchive_9 : decode cX1_isArchive 9 = .ok (.iconst 1, 1) := by decide +kernel
theorem dX1_isArchive_10 : decode cX1_isArchive 10 = .ok (.goto 4, 3) := by decide +kernel
theorem dX1_isArchive_13 : decode cX1_isArchive 13 = .ok (.iconst 0, 1) := by decide +kernel
theorem dX1_isArchive_14 : decode cX1_isArchive 14 = .ok (.ireturn, 1) := by decide +kernel
abbrev cX1_update : ByteArray := prog_1_method_5_code
def yX1_update : MethodName := ⟨RX1, "update", "(II)Z"⟩
theorem dX1_update_0 : decode cX1_update 0 = .ok (.iload_n 1, 1) := by decide +kernel
theorem dX1_update_1 : decode cX1_update 1 = .ok (.aload_n 0, 1) := by decide +kernel
theorem dX1_update_2 : decode cX1_update 2 = .ok (.getfield 69, 3) := by decide +kernel
theorem dX1_update_5 : decode cX1_update 5 = .ok (.if_icmp .le 18, 3) := by decide +kernel
theorem dX1_update_8 : decode cX1_update 8 = .ok (.iload_n 1, 1) := by decide +kernel
theorem dX1_update_9 : decode cX1_update 9 = .ok (.sipush 240, 3) := by decide +kernel
theorem dX1_update_12 : decode cX1_update 12 = .ok (.if_icmp .gt 11, 3) := by decide +kernel
theorem dX1_update_15 : decode cX1_update 15 = .ok (.aload_n 0, 1) := by decide +kernel
theorem dX1_update_16 : decode cX1_update 16 = .ok (.iload_n 2, 1) := by decide +kernel
theorem dX1_update_17 : decode cX1_update 17 = .ok (.invokevirtual 72, 3) := by decide +kernel
theorem dX1_update_20 : decode cX1_update 20 = .ok (.ifCond .ne 5, 3) := by decide +kernel
theorem dX1_update_23 : decode cX1_update 23 = .ok (.iconst 0, 1) := by decide +kernel
theorem dX1_update_24 : decode cX1_update 24 = .ok (.ireturn, 1) := by decide +kernel
theorem dX1_update_25 : decode cX1_update 25 = .ok (.iload_n 1, 1) := by decide +kernel
theorem dX1_update_26 : decode cX1_update 26 = .ok (.aload_n 0, 1) := by decide +kernel
theorem dX1_update_27 : decode cX1_update 27 = .ok (.getfield 69, 3) := by decide +kernel
theorem dX1_update_30 : decode cX1_update 30 = .ok (.isub, 1) := by decide +kernel
theorem dX1_update_31 : decode cX1_update 31 = .ok (.istore_n 3, 1) := by decide +kernel
theorem dX1_update_32 : decode cX1_update 32 = .ok (.iload_n 3, 1) := by decide +kernel
theorem dX1_update_33 : decode cX1_update 33 = .ok (.aload_n 0, 1) := by decide +kernel
theorem dX1_update_34 : decode cX1_update 34 = .ok (.getfield 58, 3) := by decide +kernel
theorem dX1_update_37 : decode cX1_update 37 = .ok (.if_icmp .le 7, 3) := by decide +kernel
theorem dX1_update_40 : decode cX1_update 40 = .ok (.iconst 1, 1) := by decide +kernel
theorem dX1_update_41 : decode cX1_update 41 = .ok (.goto 4, 3) := by decide +kernel
theorem dX1_update_44 : decode cX1_update 44 = .ok (.iconst 0, 1) := by decide +kernel
theorem dX1_update_45 : decode cX1_update 45 = .ok (.istore 4, 2) := by decide +kernel
theorem dX1_update_47 : decode cX1_update 47 = .ok (.aload_n 0, 1) := by decide +kernel
theorem dX1_update_48 : decode cX1_update 48 = .ok (.getfield 50, 3) := by decide +kernel
theorem dX1_update_51 : decode cX1_update 51 = .ok (.ifCond .eq 20, 3) := by decide +kernel
theorem dX1_update_54 : decode cX1_update 54 = .ok (.iload_n 2, 1) := by decide +kernel
theorem dX1_update_55 : decode cX1_update 55 = .ok (.aload_n 0, 1) := by decide +kernel
theorem dX1_update_56 : decode cX1_update 56 = .ok (.getfield 75, 3) := by decide +kernel
theorem dX1_update_59 : decode cX1_update 59 = .ok (.isub, 1) := by decide +kernel
theorem dX1_update_60 : decode cX1_update 60 = .ok (.sipush 256, 3) := by decide +kernel
theorem dX1_update_63 : decode cX1_update 63 = .ok (.iadd, 1) := by decide +kernel
theorem dX1_update_64 : decode cX1_update 64 = .ok (.sipush 255, 3) := by decide +kernel
theorem dX1_update_67 : decode cX1_update 67 = .ok (.iand, 1) := by decide +kernel
theorem dX1_update_68 : decode cX1_update 68 = .ok (.goto 4, 3) := by decide +kernel
theorem dX1_update_71 : decode cX1_update 71 = .ok (.iconst 0, 1) := by decide +kernel
theorem dX1_update_72 : decode cX1_update 72 = .ok (.istore 5, 2) := by decide +kernel
theorem dX1_update_74 : decode cX1_update 74 = .ok (.iconst 1, 1) := by decide +kernel
theorem dX1_update_75 : decode cX1_update 75 = .ok (.istore 6, 2) := by decide +kernel
theorem dX1_update_77 : decode cX1_update 77 = .ok (.iload 6, 2) := by decide +kernel
theorem dX1_update_79 : decode cX1_update 79 = .ok (.iload_n 3, 1) := by decide +kernel
theorem dX1_update_80 : decode cX1_update 80 = .ok (.if_icmp .gt 56, 3) := by decide +kernel
theorem dX1_update_83 : decode cX1_update 83 = .ok (.iload_n 2, 1) := by decide +kernel
theorem dX1_update_84 : decode cX1_update 84 = .ok (.istore 7, 2) := by decide +kernel
theorem dX1_update_86 : decode cX1_update 86 = .ok (.iload 4, 2) := by decide +kernel
theorem dX1_update_88 : decode cX1_update 88 = .ok (.ifCond .eq 10, 3) := by decide +kernel
theorem dX1_update_91 : decode cX1_update 91 = .ok (.ldc 78, 2) := by decide +kernel
theorem dX1_update_93 : decode cX1_update 93 = .ok (.istore 7, 2) := by decide +kernel
theorem dX1_update_95 : decode cX1_update 95 = .ok (.goto 29, 3) := by decide +kernel
theorem dX1_update_98 : decode cX1_update 98 = .ok (.aload_n 0, 1) := by decide +kernel
theorem dX1_update_99 : decode cX1_update 99 = .ok (.getfield 50, 3) := by decide +kernel
theorem dX1_update_102 : decode cX1_update 102 = .ok (.ifCond .eq 22, 3) := by decide +kernel
theorem dX1_update_105 : decode cX1_update 105 = .ok (.iload 5, 2) := by decide +kernel
theorem dX1_update_107 : decode cX1_update 107 = .ok (.iload 6, 2) := by decide +kernel
theorem dX1_update_109 : decode cX1_update 109 = .ok (.imul, 1) := by decide +kernel
theorem dX1_update_110 : decode cX1_update 110 = .ok (.iload_n 3, 1) := by decide +kernel
theorem dX1_update_111 : decode cX1_update 111 = .ok (.idiv, 1) := by decide +kernel
theorem dX1_update_112 : decode cX1_update 112 = .ok (.iload 5, 2) := by decide +kernel
theorem dX1_update_114 : decode cX1_update 114 = .ok (.iload 6, 2) := by decide +kernel
theorem dX1_update_116 : decode cX1_update 116 = .ok (.iconst 1, 1) := by decide +kernel
theorem dX1_update_117 : decode cX1_update 117 = .ok (.isub, 1) := by decide +kernel
theorem dX1_update_118 : decode cX1_update 118 = .ok (.imul, 1) := by decide +kernel
theorem dX1_update_119 : decode cX1_update 119 = .ok (.iload_n 3, 1) := by decide +kernel
theorem dX1_update_120 : decode cX1_update 120 = .ok (.idiv, 1) := by decide +kernel
theorem dX1_update_121 : decode cX1_update 121 = .ok (.isub, 1) := by decide +kernel
theorem dX1_update_122 : decode cX1_update 122 = .ok (.istore 7, 2) := by decide +kernel
theorem dX1_update_124 : decode cX1_update 124 = .ok (.aload_n 0, 1) := by decide +kernel
theorem dX1_update_125 : decode cX1_update 125 = .ok (.iload 7, 2) := by decide +kernel
theorem dX1_update_127 : decode cX1_update 127 = .ok (.invokevirtual 79, 3) := by decide +kernel
theorem dX1_update_130 : decode cX1_update 130 = .ok (.iinc 6 1, 3) := by decide +kernel
theorem dX1_update_133 : decode cX1_update 133 = .ok (.goto (-56), 3) := by decide +kernel
theorem dX1_update_136 : decode cX1_update 136 = .ok (.aload_n 0, 1) := by decide +kernel
theorem dX1_update_137 : decode cX1_update 137 = .ok (.iload_n 2, 1) := by decide +kernel
theorem dX1_update_138 : decode cX1_update 138 = .ok (.putfield 75, 3) := by decide +kernel
theorem dX1_update_141 : decode cX1_update 141 = .ok (.iconst 1, 1) := by decide +kernel
theorem dX1_update_142 : decode cX1_update 142 = .ok (.ireturn, 1) := by decide +kernel
abbrev cX1_inRange : ByteArray := prog_1_method_6_code
def yX1_inRange : MethodName := ⟨RX1, "inRange", "(I)Z"⟩
theorem dX1_inRange_0 : decode cX1_inRange 0 = .ok (.aload_n 0, 1) := by decide +kernel
theorem dX1_inRange_1 : decode cX1_inRange 1 = .ok (.getfield 50, 3) := by decide +kernel
theorem dX1_inRange_4 : decode cX1_inRange 4 = .ok (.ifCond .eq 22, 3) := by decide +kernel
theorem dX1_inRange_7 : decode cX1_inRange 7 = .ok (.iload_n 1, 1) := by decide +kernel
theorem dX1_inRange_8 : decode cX1_inRange 8 = .ok (.ifCond .lt 14, 3) := by decide +kernel
theorem dX1_inRange_11 : decode cX1_inRange 11 = .ok (.iload_n 1, 1) := by decide +kernel
theorem dX1_inRange_12 : decode cX1_inRange 12 = .ok (.sipush 255, 3) := by decide +kernel
theorem dX1_inRange_15 : decode cX1_inRange 15 = .ok (.if_icmp .gt 7, 3) := by decide +kernel
theorem dX1_inRange_18 : decode cX1_inRange 18 = .ok (.iconst 1, 1) := by decide +kernel
theorem dX1_inRange_19 : decode cX1_inRange 19 = .ok (.goto 26, 3) := by decide +kernel
theorem dX1_inRange_22 : decode cX1_inRange 22 = .ok (.iconst 0, 1) := by decide +kernel
theorem dX1_inRange_23 : decode cX1_inRange 23 = .ok (.goto 22, 3) := by decide +kernel
theorem dX1_inRange_26 : decode cX1_inRange 26 = .ok (.iload_n 1, 1) := by decide +kernel
theorem dX1_inRange_27 : decode cX1_inRange 27 = .ok (.sipush (-1000), 3) := by decide +kernel
theorem dX1_inRange_30 : decode cX1_inRange 30 = .ok (.if_icmp .lt 14, 3) := by decide +kernel
theorem dX1_inRange_33 : decode cX1_inRange 33 = .ok (.iload_n 1, 1) := by decide +kernel
theorem dX1_inRange_34 : decode cX1_inRange 34 = .ok (.sipush 1000, 3) := by decide +kernel
theorem dX1_inRange_37 : decode cX1_inRange 37 = .ok (.if_icmp .gt 7, 3) := by decide +kernel
theorem dX1_inRange_40 : decode cX1_inRange 40 = .ok (.iconst 1, 1) := by decide +kernel
theorem dX1_inRange_41 : decode cX1_inRange 41 = .ok (.goto 4, 3) := by decide +kernel
theorem dX1_inRange_44 : decode cX1_inRange 44 = .ok (.iconst 0, 1) := by decide +kernel
theorem dX1_inRange_45 : decode cX1_inRange 45 = .ok (.ireturn, 1) := by decide +kernel
abbrev cX1_addMoment : ByteArray := prog_1_method_7_code
def yX1_addMoment : MethodName := ⟨RX1, "addMoment", "(I)V"⟩
theorem dX1_addMoment_0 : decode cX1_addMoment 0 = .ok (.aload_n 0, 1) := by decide +kernel
theorem dX1_addMoment_1 : decode cX1_addMoment 1 = .ok (.dup, 1) := by decide +kernel
theorem dX1_addMoment_2 : decode cX1_addMoment 2 = .ok (.getfield 69, 3) := by decide +kernel
theorem dX1_addMoment_5 : decode cX1_addMoment 5 = .ok (.iconst 1, 1) := by decide +kernel
theorem dX1_addMoment_6 : decode cX1_addMoment 6 = .ok (.iadd, 1) := by decide +kernel
theorem dX1_addMoment_7 : decode cX1_addMoment 7 = .ok (.putfield 69, 3) := by decide +kernel
theorem dX1_addMoment_10 : decode cX1_addMoment 10 = .ok (.aload_n 0, 1) := by decide +kernel
theorem dX1_addMoment_11 : decode cX1_addMoment 11 = .ok (.getfield 7, 3) := by decide +kernel
theorem dX1_addMoment_14 : decode cX1_addMoment 14 = .ok (.aload_n 0, 1) := by decide +kernel
theorem dX1_addMoment_15 : decode cX1_addMoment 15 = .ok (.getfield 69, 3) := by decide +kernel
theorem dX1_addMoment_18 : decode cX1_addMoment 18 = .ok (.bipush 31, 2) := by decide +kernel
theorem dX1_addMoment_20 : decode cX1_addMoment 20 = .ok (.iand, 1) := by decide +kernel
theorem dX1_addMoment_21 : decode cX1_addMoment 21 = .ok (.iload_n 1, 1) := by decide +kernel
theorem dX1_addMoment_22 : decode cX1_addMoment 22 = .ok (.iastore, 1) := by decide +kernel
theorem dX1_addMoment_23 : decode cX1_addMoment 23 = .ok (.iload_n 1, 1) := by decide +kernel
theorem dX1_addMoment_24 : decode cX1_addMoment 24 = .ok (.ldc 78, 2) := by decide +kernel
theorem dX1_addMoment_26 : decode cX1_addMoment 26 = .ok (.if_icmp .ne 16, 3) := by decide +kernel
theorem dX1_addMoment_29 : decode cX1_addMoment 29 = .ok (.aload_n 0, 1) := by decide +kernel
theorem dX1_addMoment_30 : decode cX1_addMoment 30 = .ok (.dup, 1) := by decide +kernel
theorem dX1_addMoment_31 : decode cX1_addMoment 31 = .ok (.getfield 83, 3) := by decide +kernel
theorem dX1_addMoment_34 : decode cX1_addMoment 34 = .ok (.iconst 1, 1) := by decide +kernel
theorem dX1_addMoment_35 : decode cX1_addMoment 35 = .ok (.iadd, 1) := by decide +kernel
theorem dX1_addMoment_36 : decode cX1_addMoment 36 = .ok (.putfield 83, 3) := by decide +kernel
theorem dX1_addMoment_39 : decode cX1_addMoment 39 = .ok (.goto 13, 3) := by decide +kernel
theorem dX1_addMoment_42 : decode cX1_addMoment 42 = .ok (.aload_n 0, 1) := by decide +kernel
theorem dX1_addMoment_43 : decode cX1_addMoment 43 = .ok (.dup, 1) := by decide +kernel
theorem dX1_addMoment_44 : decode cX1_addMoment 44 = .ok (.getfield 86, 3) := by decide +kernel
theorem dX1_addMoment_47 : decode cX1_addMoment 47 = .ok (.iload_n 1, 1) := by decide +kernel
theorem dX1_addMoment_48 : decode cX1_addMoment 48 = .ok (.iadd, 1) := by decide +kernel
theorem dX1_addMoment_49 : decode cX1_addMoment 49 = .ok (.putfield 86, 3) := by decide +kernel
theorem dX1_addMoment_52 : decode cX1_addMoment 52 = .ok (.aload_n 0, 1) := by decide +kernel
theorem dX1_addMoment_53 : decode cX1_addMoment 53 = .ok (.dup, 1) := by decide +kernel
theorem dX1_addMoment_54 : decode cX1_addMoment 54 = .ok (.getfield 89, 3) := by decide +kernel
theorem dX1_addMoment_57 : decode cX1_addMoment 57 = .ok (.iconst 1, 1) := by decide +kernel
theorem dX1_addMoment_58 : decode cX1_addMoment 58 = .ok (.iadd, 1) := by decide +kernel
theorem dX1_addMoment_59 : decode cX1_addMoment 59 = .ok (.putfield 89, 3) := by decide +kernel
theorem dX1_addMoment_62 : decode cX1_addMoment 62 = .ok (.aload_n 0, 1) := by decide +kernel
theorem dX1_addMoment_63 : decode cX1_addMoment 63 = .ok (.getfield 89, 3) := by decide +kernel
theorem dX1_addMoment_66 : decode cX1_addMoment 66 = .ok (.aload_n 0, 1) := by decide +kernel
theorem dX1_addMoment_67 : decode cX1_addMoment 67 = .ok (.getfield 54, 3) := by decide +kernel
theorem dX1_addMoment_70 : decode cX1_addMoment 70 = .ok (.if_icmp .ne 7, 3) := by decide +kernel
theorem dX1_addMoment_73 : decode cX1_addMoment 73 = .ok (.aload_n 0, 1) := by decide +kernel
theorem dX1_addMoment_74 : decode cX1_addMoment 74 = .ok (.invokevirtual 92, 3) := by decide +kernel
theorem dX1_addMoment_77 : decode cX1_addMoment 77 = .ok (.return_, 1) := by decide +kernel
abbrev cX1_closeStep : ByteArray := prog_1_method_8_code
def yX1_closeStep : MethodName := ⟨RX1, "closeStep", "()V"⟩
theorem dX1_closeStep_0 : decode cX1_closeStep 0 = .ok (.ldc 78, 2) := by decide +kernel
theorem dX1_closeStep_2 : decode cX1_closeStep 2 = .ok (.istore_n 1, 1) := by decide +kernel
theorem dX1_closeStep_3 : decode cX1_closeStep 3 = .ok (.iconst 2, 1) := by decide +kernel
theorem dX1_closeStep_4 : decode cX1_closeStep 4 = .ok (.aload_n 0, 1) := by decide +kernel
theorem dX1_closeStep_5 : decode cX1_closeStep 5 = .ok (.getfield 83, 3) := by decide +kernel
theorem dX1_closeStep_8 : decode cX1_closeStep 8 = .ok (.imul, 1) := by decide +kernel
theorem dX1_closeStep_9 : decode cX1_closeStep 9 = .ok (.aload_n 0, 1) := by decide +kernel
theorem dX1_closeStep_10 : decode cX1_closeStep 10 = .ok (.getfield 54, 3) := by decide +kernel
theorem dX1_closeStep_13 : decode cX1_closeStep 13 = .ok (.if_icmp .gt 20, 3) := by decide +kernel
theorem dX1_closeStep_16 : decode cX1_closeStep 16 = .ok (.aload_n 0, 1) := by decide +kernel
theorem dX1_closeStep_17 : decode cX1_closeStep 17 = .ok (.getfield 86, 3) := by decide +kernel
theorem dX1_closeStep_20 : decode cX1_closeStep 20 = .ok (.aload_n 0, 1) := by decide +kernel
theorem dX1_closeStep_21 : decode cX1_closeStep 21 = .ok (.getfield 54, 3) := by decide +kernel
theorem dX1_closeStep_24 : decode cX1_closeStep 24 = .ok (.aload_n 0, 1) := by decide +kernel
theorem dX1_closeStep_25 : decode cX1_closeStep 25 = .ok (.getfield 83, 3) := by decide +kernel
theorem dX1_closeStep_28 : decode cX1_closeStep 28 = .ok (.isub, 1) := by decide +kernel
theorem dX1_closeStep_29 : decode cX1_closeStep 29 = .ok (.invokestatic 95, 3) := by decide +kernel
theorem dX1_closeStep_32 : decode cX1_closeStep 32 = .ok (.istore_n 1, 1) := by decide +kernel
theorem dX1_closeStep_33 : decode cX1_closeStep 33 = .ok (.aload_n 0, 1) := by decide +kernel
theorem dX1_closeStep_34 : decode cX1_closeStep 34 = .ok (.iload_n 1, 1) := by decide +kernel
theorem dX1_closeStep_35 : decode cX1_closeStep 35 = .ok (.putfield 62, 3) := by decide +kernel
theorem dX1_closeStep_38 : decode cX1_closeStep 38 = .ok (.aload_n 0, 1) := by decide +kernel
theorem dX1_closeStep_39 : decode cX1_closeStep 39 = .ok (.dup, 1) := by decide +kernel
theorem dX1_closeStep_40 : decode cX1_closeStep 40 = .ok (.getfield 99, 3) := by decide +kernel
theorem dX1_closeStep_43 : decode cX1_closeStep 43 = .ok (.iconst 1, 1) := by decide +kernel
theorem dX1_closeStep_44 : decode cX1_closeStep 44 = .ok (.iadd, 1) := by decide +kernel
theorem dX1_closeStep_45 : decode cX1_closeStep 45 = .ok (.putfield 99, 3) := by decide +kernel
theorem dX1_closeStep_48 : decode cX1_closeStep 48 = .ok (.aload_n 0, 1) := by decide +kernel
theorem dX1_closeStep_49 : decode cX1_closeStep 49 = .ok (.iconst 0, 1) := by decide +kernel
theorem dX1_closeStep_50 : decode cX1_closeStep 50 = .ok (.putfield 89, 3) := by decide +kernel
theorem dX1_closeStep_53 : decode cX1_closeStep 53 = .ok (.aload_n 0, 1) := by decide +kernel
theorem dX1_closeStep_54 : decode cX1_closeStep 54 = .ok (.iconst 0, 1) := by decide +kernel
theorem dX1_closeStep_55 : decode cX1_closeStep 55 = .ok (.putfield 83, 3) := by decide +kernel
theorem dX1_closeStep_58 : decode cX1_closeStep 58 = .ok (.aload_n 0, 1) := by decide +kernel
theorem dX1_closeStep_59 : decode cX1_closeStep 59 = .ok (.iconst 0, 1) := by decide +kernel
theorem dX1_closeStep_60 : decode cX1_closeStep 60 = .ok (.putfield 86, 3) := by decide +kernel
theorem dX1_closeStep_63 : decode cX1_closeStep 63 = .ok (.aload_n 0, 1) := by decide +kernel
theorem dX1_closeStep_64 : decode cX1_closeStep 64 = .ok (.iconst 0, 1) := by decide +kernel
theorem dX1_closeStep_65 : decode cX1_closeStep 65 = .ok (.iload_n 1, 1) := by decide +kernel
theorem dX1_closeStep_66 : decode cX1_closeStep 66 = .ok (.invokevirtual 102, 3) := by decide +kernel
theorem dX1_closeStep_69 : decode cX1_closeStep 69 = .ok (.aload_n 0, 1) := by decide +kernel
theorem dX1_closeStep_70 : decode cX1_closeStep 70 = .ok (.iconst 1, 1) := by decide +kernel
theorem dX1_closeStep_71 : decode cX1_closeStep 71 = .ok (.iload_n 1, 1) := by decide +kernel
theorem dX1_closeStep_72 : decode cX1_closeStep 72 = .ok (.invokevirtual 102, 3) := by decide +kernel
theorem dX1_closeStep_75 : decode cX1_closeStep 75 = .ok (.return_, 1) := by decide +kernel
abbrev cX1_floor : ByteArray := prog_1_method_3_code
def yX1_floor : MethodName := ⟨RX1, "floor", "(II)I"⟩
theorem dX1_floor_0 : decode cX1_floor 0 = .ok (.iload_n 1, 1) := by decide +kernel
theorem dX1_floor_1 : decode cX1_floor 1 = .ok (.ifCond .le 9, 3) := by decide +kernel
theorem dX1_floor_4 : decode cX1_floor 4 = .ok (.iload_n 0, 1) := by decide +kernel
theorem dX1_floor_5 : decode cX1_floor 5 = .ok (.iload_n 1, 1) := by decide +kernel
theorem dX1_floor_6 : decode cX1_floor 6 = .ok (.idiv, 1) := by decide +kernel
theorem dX1_floor_7 : decode cX1_floor 7 = .ok (.goto 4, 3) := by decide +kernel
theorem dX1_floor_10 : decode cX1_floor 10 = .ok (.iconst 0, 1) := by decide +kernel
theorem dX1_floor_11 : decode cX1_floor 11 = .ok (.istore_n 2, 1) := by decide +kernel
theorem dX1_floor_12 : decode cX1_floor 12 = .ok (.iload_n 2, 1) := by decide +kernel
theorem dX1_floor_13 : decode cX1_floor 13 = .ok (.iload_n 1, 1) := by decide +kernel
theorem dX1_floor_14 : decode cX1_floor 14 = .ok (.imul, 1) := by decide +kernel
theorem dX1_floor_15 : decode cX1_floor 15 = .ok (.iload_n 0, 1) := by decide +kernel
theorem dX1_floor_16 : decode cX1_floor 16 = .ok (.if_icmp .le 9, 3) := by decide +kernel
theorem dX1_floor_19 : decode cX1_floor 19 = .ok (.iload_n 2, 1) := by decide +kernel
theorem dX1_floor_20 : decode cX1_floor 20 = .ok (.iconst 1, 1) := by decide +kernel
theorem dX1_floor_21 : decode cX1_floor 21 = .ok (.isub, 1) := by decide +kernel
theorem dX1_floor_22 : decode cX1_floor 22 = .ok (.goto 4, 3) := by decide +kernel
theorem dX1_floor_25 : decode cX1_floor 25 = .ok (.iload_n 2, 1) := by decide +kernel
theorem dX1_floor_26 : decode cX1_floor 26 = .ok (.ireturn, 1) := by decide +kernel
abbrev cX1_addStep : ByteArray := prog_1_method_9_code
def yX1_addStep : MethodName := ⟨RX1, "addStep", "(II)V"⟩
theorem dX1_addStep_0 : decode cX1_addStep 0 = .ok (.iload_n 2, 1) := by decide +kernel
theorem dX1_addStep_1 : decode cX1_addStep 1 = .ok (.ldc 78, 2) := by decide +kernel
theorem dX1_addStep_3 : decode cX1_addStep 3 = .ok (.if_icmp .eq 118, 3) := by decide +kernel
theorem dX1_addStep_6 : decode cX1_addStep 6 = .ok (.aload_n 0, 1) := by decide +kernel
theorem dX1_addStep_7 : decode cX1_addStep 7 = .ok (.getfield 29, 3) := by decide +kernel
theorem dX1_addStep_10 : decode cX1_addStep 10 = .ok (.iload_n 1, 1) := by decide +kernel
theorem dX1_addStep_11 : decode cX1_addStep 11 = .ok (.baload, 1) := by decide +kernel
theorem dX1_addStep_12 : decode cX1_addStep 12 = .ok (.ifCond .ne 7, 3) := by decide +kernel
theorem dX1_addStep_15 : decode cX1_addStep 15 = .ok (.iconst 1, 1) := by decide +kernel
theorem dX1_addStep_16 : decode cX1_addStep 16 = .ok (.goto 4, 3) := by decide +kernel
theorem dX1_addStep_19 : decode cX1_addStep 19 = .ok (.iconst 0, 1) := by decide +kernel
theorem dX1_addStep_20 : decode cX1_addStep 20 = .ok (.istore_n 3, 1) := by decide +kernel
theorem dX1_addStep_21 : decode cX1_addStep 21 = .ok (.aload_n 0, 1) := by decide +kernel
theorem dX1_addStep_22 : decode cX1_addStep 22 = .ok (.getfield 32, 3) := by decide +kernel
theorem dX1_addStep_25 : decode cX1_addStep 25 = .ok (.iload_n 1, 1) := by decide +kernel
theorem dX1_addStep_26 : decode cX1_addStep 26 = .ok (.iload_n 3, 1) := by decide +kernel
theorem dX1_addStep_27 : decode cX1_addStep 27 = .ok (.ifCond .eq 7, 3) := by decide +kernel
theorem dX1_addStep_30 : decode cX1_addStep 30 = .ok (.iload_n 2, 1) := by decide +kernel
theorem dX1_addStep_31 : decode cX1_addStep 31 = .ok (.goto 11, 3) := by decide +kernel
theorem dX1_addStep_34 : decode cX1_addStep 34 = .ok (.aload_n 0, 1) := by decide +kernel
theorem dX1_addStep_35 : decode cX1_addStep 35 = .ok (.getfield 32, 3) := by decide +kernel
theorem dX1_addStep_38 : decode cX1_addStep 38 = .ok (.iload_n 1, 1) := by decide +kernel
theorem dX1_addStep_39 : decode cX1_addStep 39 = .ok (.iaload, 1) := by decide +kernel
theorem dX1_addStep_40 : decode cX1_addStep 40 = .ok (.iload_n 2, 1) := by decide +kernel
theorem dX1_addStep_41 : decode cX1_addStep 41 = .ok (.iadd, 1) := by decide +kernel
theorem dX1_addStep_42 : decode cX1_addStep 42 = .ok (.iastore, 1) := by decide +kernel
theorem dX1_addStep_43 : decode cX1_addStep 43 = .ok (.aload_n 0, 1) := by decide +kernel
theorem dX1_addStep_44 : decode cX1_addStep 44 = .ok (.getfield 35, 3) := by decide +kernel
theorem dX1_addStep_47 : decode cX1_addStep 47 = .ok (.iload_n 1, 1) := by decide +kernel
theorem dX1_addStep_48 : decode cX1_addStep 48 = .ok (.iload_n 3, 1) := by decide +kernel
theorem dX1_addStep_49 : decode cX1_addStep 49 = .ok (.ifCond .ne 13, 3) := by decide +kernel
theorem dX1_addStep_52 : decode cX1_addStep 52 = .ok (.iload_n 2, 1) := by decide +kernel
theorem dX1_addStep_53 : decode cX1_addStep 53 = .ok (.aload_n 0, 1) := by decide +kernel
theorem dX1_addStep_54 : decode cX1_addStep 54 = .ok (.getfield 35, 3) := by decide +kernel
theorem dX1_addStep_57 : decode cX1_addStep 57 = .ok (.iload_n 1, 1) := by decide +kernel
theorem dX1_addStep_58 : decode cX1_addStep 58 = .ok (.iaload, 1) := by decide +kernel
theorem dX1_addStep_59 : decode cX1_addStep 59 = .ok (.if_icmp .ge 7, 3) := by decide +kernel
theorem dX1_addStep_62 : decode cX1_addStep 62 = .ok (.iload_n 2, 1) := by decide +kernel
theorem dX1_addStep_63 : decode cX1_addStep 63 = .ok (.goto 9, 3) := by decide +kernel
theorem dX1_addStep_66 : decode cX1_addStep 66 = .ok (.aload_n 0, 1) := by decide +kernel
theorem dX1_addStep_67 : decode cX1_addStep 67 = .ok (.getfield 35, 3) := by decide +kernel
theorem dX1_addStep_70 : decode cX1_addStep 70 = .ok (.iload_n 1, 1) := by decide +kernel
theorem dX1_addStep_71 : decode cX1_addStep 71 = .ok (.iaload, 1) := by decide +kernel
theorem dX1_addStep_72 : decode cX1_addStep 72 = .ok (.iastore, 1) := by decide +kernel
theorem dX1_addStep_73 : decode cX1_addStep 73 = .ok (.aload_n 0, 1) := by decide +kernel
theorem dX1_addStep_74 : decode cX1_addStep 74 = .ok (.getfield 38, 3) := by decide +kernel
theorem dX1_addStep_77 : decode cX1_addStep 77 = .ok (.iload_n 1, 1) := by decide +kernel
theorem dX1_addStep_78 : decode cX1_addStep 78 = .ok (.iload_n 3, 1) := by decide +kernel
theorem dX1_addStep_79 : decode cX1_addStep 79 = .ok (.ifCond .ne 13, 3) := by decide +kernel
theorem dX1_addStep_82 : decode cX1_addStep 82 = .ok (.iload_n 2, 1) := by decide +kernel
theorem dX1_addStep_83 : decode cX1_addStep 83 = .ok (.aload_n 0, 1) := by decide +kernel
theorem dX1_addStep_84 : decode cX1_addStep 84 = .ok (.getfield 38, 3) := by decide +kernel
theorem dX1_addStep_87 : decode cX1_addStep 87 = .ok (.iload_n 1, 1) := by decide +kernel
theorem dX1_addStep_88 : decode cX1_addStep 88 = .ok (.iaload, 1) := by decide +kernel
theorem dX1_addStep_89 : decode cX1_addStep 89 = .ok (.if_icmp .le 7, 3) := by decide +kernel
theorem dX1_addStep_92 : decode cX1_addStep 92 = .ok (.iload_n 2, 1) := by decide +kernel
theorem dX1_addStep_93 : decode cX1_addStep 93 = .ok (.goto 9, 3) := by decide +kernel
theorem dX1_addStep_96 : decode cX1_addStep 96 = .ok (.aload_n 0, 1) := by decide +kernel
theorem dX1_addStep_97 : decode cX1_addStep 97 = .ok (.getfield 38, 3) := by decide +kernel
theorem dX1_addStep_100 : decode cX1_addStep 100 = .ok (.iload_n 1, 1) := by decide +kernel
theorem dX1_addStep_101 : decode cX1_addStep 101 = .ok (.iaload, 1) := by decide +kernel
theorem dX1_addStep_102 : decode cX1_addStep 102 = .ok (.iastore, 1) := by decide +kernel
theorem dX1_addStep_103 : decode cX1_addStep 103 = .ok (.aload_n 0, 1) := by decide +kernel
theorem dX1_addStep_104 : decode cX1_addStep 104 = .ok (.getfield 41, 3) := by decide +kernel
theorem dX1_addStep_107 : decode cX1_addStep 107 = .ok (.iload_n 1, 1) := by decide +kernel
theorem dX1_addStep_108 : decode cX1_addStep 108 = .ok (.iload_n 2, 1) := by decide +kernel
theorem dX1_addStep_109 : decode cX1_addStep 109 = .ok (.iastore, 1) := by decide +kernel
theorem dX1_addStep_110 : decode cX1_addStep 110 = .ok (.aload_n 0, 1) := by decide +kernel
theorem dX1_addStep_111 : decode cX1_addStep 111 = .ok (.getfield 29, 3) := by decide +kernel
theorem dX1_addStep_114 : decode cX1_addStep 114 = .ok (.iload_n 1, 1) := by decide +kernel
theorem dX1_addStep_115 : decode cX1_addStep 115 = .ok (.dup2, 1) := by decide +kernel
theorem dX1_addStep_116 : decode cX1_addStep 116 = .ok (.baload, 1) := by decide +kernel
theorem dX1_addStep_117 : decode cX1_addStep 117 = .ok (.iconst 1, 1) := by decide +kernel
theorem dX1_addStep_118 : decode cX1_addStep 118 = .ok (.iadd, 1) := by decide +kernel
theorem dX1_addStep_119 : decode cX1_addStep 119 = .ok (.i2b, 1) := by decide +kernel
theorem dX1_addStep_120 : decode cX1_addStep 120 = .ok (.bastore, 1) := by decide +kernel
theorem dX1_addStep_121 : decode cX1_addStep 121 = .ok (.aload_n 0, 1) := by decide +kernel
theorem dX1_addStep_122 : decode cX1_addStep 122 = .ok (.getfield 26, 3) := by decide +kernel
theorem dX1_addStep_125 : decode cX1_addStep 125 = .ok (.iload_n 1, 1) := by decide +kernel
theorem dX1_addStep_126 : decode cX1_addStep 126 = .ok (.dup2, 1) := by decide +kernel
theorem dX1_addStep_127 : decode cX1_addStep 127 = .ok (.baload, 1) := by decide +kernel
theorem dX1_addStep_128 : decode cX1_addStep 128 = .ok (.iconst 1, 1) := by decide +kernel
theorem dX1_addStep_129 : decode cX1_addStep 129 = .ok (.iadd, 1) := by decide +kernel
theorem dX1_addStep_130 : decode cX1_addStep 130 = .ok (.i2b, 1) := by decide +kernel
theorem dX1_addStep_131 : decode cX1_addStep 131 = .ok (.bastore, 1) := by decide +kernel
theorem dX1_addStep_132 : decode cX1_addStep 132 = .ok (.aload_n 0, 1) := by decide +kernel
theorem dX1_addStep_133 : decode cX1_addStep 133 = .ok (.getfield 26, 3) := by decide +kernel
theorem dX1_addStep_136 : decode cX1_addStep 136 = .ok (.iload_n 1, 1) := by decide +kernel
theorem dX1_addStep_137 : decode cX1_addStep 137 = .ok (.baload, 1) := by decide +kernel
theorem dX1_addStep_138 : decode cX1_addStep 138 = .ok (.aload_n 0, 1) := by decide +kernel
theorem dX1_addStep_139 : decode cX1_addStep 139 = .ok (.getfield 13, 3) := by decide +kernel
theorem dX1_addStep_142 : decode cX1_addStep 142 = .ok (.iload_n 1, 1) := by decide +kernel
theorem dX1_addStep_143 : decode cX1_addStep 143 = .ok (.baload, 1) := by decide +kernel
theorem dX1_addStep_144 : decode cX1_addStep 144 = .ok (.if_icmp .ne 8, 3) := by decide +kernel
theorem dX1_addStep_147 : decode cX1_addStep 147 = .ok (.aload_n 0, 1) := by decide +kernel
theorem dX1_addStep_148 : decode cX1_addStep 148 = .ok (.iload_n 1, 1) := by decide +kernel
theorem dX1_addStep_149 : decode cX1_addStep 149 = .ok (.invokevirtual 106, 3) := by decide +kernel
theorem dX1_addStep_152 : decode cX1_addStep 152 = .ok (.return_, 1) := by decide +kernel
abbrev cX1_closeRow : ByteArray := prog_1_method_10_code
def yX1_closeRow : MethodName := ⟨RX1, "closeRow", "(I)V"⟩
theorem dX1_closeRow_0 : decode cX1_closeRow 0 = .ok (.aload_n 0, 1) := by decide +kernel
theorem dX1_closeRow_1 : decode cX1_closeRow 1 = .ok (.getfield 47, 3) := by decide +kernel
theorem dX1_closeRow_4 : decode cX1_closeRow 4 = .ok (.iload_n 1, 1) := by decide +kernel
theorem dX1_closeRow_5 : decode cX1_closeRow 5 = .ok (.bipush 8, 2) := by decide +kernel
theorem dX1_closeRow_7 : decode cX1_closeRow 7 = .ok (.imul, 1) := by decide +kernel
theorem dX1_closeRow_8 : decode cX1_closeRow 8 = .ok (.aload_n 0, 1) := by decide +kernel
theorem dX1_closeRow_9 : decode cX1_closeRow 9 = .ok (.getfield 44, 3) := by decide +kernel
theorem dX1_closeRow_12 : decode cX1_closeRow 12 = .ok (.iload_n 1, 1) := by decide +kernel
theorem dX1_closeRow_13 : decode cX1_closeRow 13 = .ok (.iaload, 1) := by decide +kernel
theorem dX1_closeRow_14 : decode cX1_closeRow 14 = .ok (.bipush 7, 2) := by decide +kernel
theorem dX1_closeRow_16 : decode cX1_closeRow 16 = .ok (.iand, 1) := by decide +kernel
theorem dX1_closeRow_17 : decode cX1_closeRow 17 = .ok (.iadd, 1) := by decide +kernel
theorem dX1_closeRow_18 : decode cX1_closeRow 18 = .ok (.aload_n 0, 1) := by decide +kernel
theorem dX1_closeRow_19 : decode cX1_closeRow 19 = .ok (.iload_n 1, 1) := by decide +kernel
theorem dX1_closeRow_20 : decode cX1_closeRow 20 = .ok (.invokevirtual 109, 3) := by decide +kernel
theorem dX1_closeRow_23 : decode cX1_closeRow 23 = .ok (.iastore, 1) := by decide +kernel
theorem dX1_closeRow_24 : decode cX1_closeRow 24 = .ok (.aload_n 0, 1) := by decide +kernel
theorem dX1_closeRow_25 : decode cX1_closeRow 25 = .ok (.getfield 44, 3) := by decide +kernel
theorem dX1_closeRow_28 : decode cX1_closeRow 28 = .ok (.iload_n 1, 1) := by decide +kernel
theorem dX1_closeRow_29 : decode cX1_closeRow 29 = .ok (.dup2, 1) := by decide +kernel
theorem dX1_closeRow_30 : decode cX1_closeRow 30 = .ok (.iaload, 1) := by decide +kernel
theorem dX1_closeRow_31 : decode cX1_closeRow 31 = .ok (.iconst 1, 1) := by decide +kernel
theorem dX1_closeRow_32 : decode cX1_closeRow 32 = .ok (.iadd, 1) := by decide +kernel
theorem dX1_closeRow_33 : decode cX1_closeRow 33 = .ok (.iastore, 1) := by decide +kernel
theorem dX1_closeRow_34 : decode cX1_closeRow 34 = .ok (.aload_n 0, 1) := by decide +kernel
theorem dX1_closeRow_35 : decode cX1_closeRow 35 = .ok (.getfield 26, 3) := by decide +kernel
theorem dX1_closeRow_38 : decode cX1_closeRow 38 = .ok (.iload_n 1, 1) := by decide +kernel
theorem dX1_closeRow_39 : decode cX1_closeRow 39 = .ok (.iconst 0, 1) := by decide +kernel
theorem dX1_closeRow_40 : decode cX1_closeRow 40 = .ok (.bastore, 1) := by decide +kernel
theorem dX1_closeRow_41 : decode cX1_closeRow 41 = .ok (.aload_n 0, 1) := by decide +kernel
theorem dX1_closeRow_42 : decode cX1_closeRow 42 = .ok (.getfield 29, 3) := by decide +kernel
theorem dX1_closeRow_45 : decode cX1_closeRow 45 = .ok (.iload_n 1, 1) := by decide +kernel
theorem dX1_closeRow_46 : decode cX1_closeRow 46 = .ok (.iconst 0, 1) := by decide +kernel
theorem dX1_closeRow_47 : decode cX1_closeRow 47 = .ok (.bastore, 1) := by decide +kernel
theorem dX1_closeRow_48 : decode cX1_closeRow 48 = .ok (.return_, 1) := by decide +kernel
abbrev cX1_rowValue : ByteArray := prog_1_method_11_code
def yX1_rowValue : MethodName := ⟨RX1, "rowValue", "(I)I"⟩
theorem dX1_rowValue_0 : decode cX1_rowValue 0 = .ok (.aload_n 0, 1) := by decide +kernel
theorem dX1_rowValue_1 : decode cX1_rowValue 1 = .ok (.getfield 29, 3) := by decide +kernel
theorem dX1_rowValue_4 : decode cX1_rowValue 4 = .ok (.iload_n 1, 1) := by decide +kernel
theorem dX1_rowValue_5 : decode cX1_rowValue 5 = .ok (.baload, 1) := by decide +kernel
theorem dX1_rowValue_6 : decode cX1_rowValue 6 = .ok (.ifCond .eq 25, 3) := by decide +kernel
theorem dX1_rowValue_9 : decode cX1_rowValue 9 = .ok (.aload_n 0, 1) := by decide +kernel
theorem dX1_rowValue_10 : decode cX1_rowValue 10 = .ok (.getfield 13, 3) := by decide +kernel
theorem dX1_rowValue_13 : decode cX1_rowValue 13 = .ok (.iload_n 1, 1) := by decide +kernel
theorem dX1_rowValue_14 : decode cX1_rowValue 14 = .ok (.baload, 1) := by decide +kernel
theorem dX1_rowValue_15 : decode cX1_rowValue 15 = .ok (.aload_n 0, 1) := by decide +kernel
theorem dX1_rowValue_16 : decode cX1_rowValue 16 = .ok (.getfield 29, 3) := by decide +kernel
theorem dX1_rowValue_19 : decode cX1_rowValue 19 = .ok (.iload_n 1, 1) := by decide +kernel
theorem dX1_rowValue_20 : decode cX1_rowValue 20 = .ok (.baload, 1) := by decide +kernel
theorem dX1_rowValue_21 : decode cX1_rowValue 21 = .ok (.isub, 1) := by decide +kernel
theorem dX1_rowValue_22 : decode cX1_rowValue 22 = .ok (.aload_n 0, 1) := by decide +kernel
theorem dX1_rowValue_23 : decode cX1_rowValue 23 = .ok (.getfield 20, 3) := by decide +kernel
theorem dX1_rowValue_26 : decode cX1_rowValue 26 = .ok (.iload_n 1, 1) := by decide +kernel
theorem dX1_rowValue_27 : decode cX1_rowValue 27 = .ok (.baload, 1) := by decide +kernel
theorem dX1_rowValue_28 : decode cX1_rowValue 28 = .ok (.if_icmp .le 6, 3) := by decide +kernel
theorem dX1_rowValue_31 : decode cX1_rowValue 31 = .ok (.ldc 78, 2) := by decide +kernel
theorem dX1_rowValue_33 : decode cX1_rowValue 33 = .ok (.ireturn, 1) := by decide +kernel
theorem dX1_rowValue_34 : decode cX1_rowValue 34 = .ok (.aload_n 0, 1) := by decide +kernel
theorem dX1_rowValue_35 : decode cX1_rowValue 35 = .ok (.getfield 17, 3) := by decide +kernel
theorem dX1_rowValue_38 : decode cX1_rowValue 38 = .ok (.iload_n 1, 1) := by decide +kernel
theorem dX1_rowValue_39 : decode cX1_rowValue 39 = .ok (.baload, 1) := by decide +kernel
theorem dX1_rowValue_40 : decode cX1_rowValue 40 = .ok (.ifCond .ne 19, 3) := by decide +kernel
theorem dX1_rowValue_43 : decode cX1_rowValue 43 = .ok (.aload_n 0, 1) := by decide +kernel
theorem dX1_rowValue_44 : decode cX1_rowValue 44 = .ok (.getfield 32, 3) := by decide +kernel
theorem dX1_rowValue_47 : decode cX1_rowValue 47 = .ok (.iload_n 1, 1) := by decide +kernel
theorem dX1_rowValue_48 : decode cX1_rowValue 48 = .ok (.iaload, 1) := by decide +kernel
theorem dX1_rowValue_49 : decode cX1_rowValue 49 = .ok (.aload_n 0, 1) := by decide +kernel
theorem dX1_rowValue_50 : decode cX1_rowValue 50 = .ok (.getfield 29, 3) := by decide +kernel
theorem dX1_rowValue_53 : decode cX1_rowValue 53 = .ok (.iload_n 1, 1) := by decide +kernel
theorem dX1_rowValue_54 : decode cX1_rowValue 54 = .ok (.baload, 1) := by decide +kernel
theorem dX1_rowValue_55 : decode cX1_rowValue 55 = .ok (.invokestatic 95, 3) := by decide +kernel
theorem dX1_rowValue_58 : decode cX1_rowValue 58 = .ok (.ireturn, 1) := by decide +kernel
theorem dX1_rowValue_59 : decode cX1_rowValue 59 = .ok (.aload_n 0, 1) := by decide +kernel
theorem dX1_rowValue_60 : decode cX1_rowValue 60 = .ok (.getfield 17, 3) := by decide +kernel
theorem dX1_rowValue_63 : decode cX1_rowValue 63 = .ok (.iload_n 1, 1) := by decide +kernel
theorem dX1_rowValue_64 : decode cX1_rowValue 64 = .ok (.baload, 1) := by decide +kernel
theorem dX1_rowValue_65 : decode cX1_rowValue 65 = .ok (.iconst 1, 1) := by decide +kernel
theorem dX1_rowValue_66 : decode cX1_rowValue 66 = .ok (.if_icmp .ne 10, 3) := by decide +kernel
theorem dX1_rowValue_69 : decode cX1_rowValue 69 = .ok (.aload_n 0, 1) := by decide +kernel
theorem dX1_rowValue_70 : decode cX1_rowValue 70 = .ok (.getfield 35, 3) := by decide +kernel
theorem dX1_rowValue_73 : decode cX1_rowValue 73 = .ok (.iload_n 1, 1) := by decide +kernel
theorem dX1_rowValue_74 : decode cX1_rowValue 74 = .ok (.iaload, 1) := by decide +kernel
theorem dX1_rowValue_75 : decode cX1_rowValue 75 = .ok (.ireturn, 1) := by decide +kernel
theorem dX1_rowValue_76 : decode cX1_rowValue 76 = .ok (.aload_n 0, 1) := by decide +kernel
theorem dX1_rowValue_77 : decode cX1_rowValue 77 = .ok (.getfield 17, 3) := by decide +kernel
theorem dX1_rowValue_80 : decode cX1_rowValue 80 = .ok (.iload_n 1, 1) := by decide +kernel
theorem dX1_rowValue_81 : decode cX1_rowValue 81 = .ok (.baload, 1) := by decide +kernel
theorem dX1_rowValue_82 : decode cX1_rowValue 82 = .ok (.iconst 2, 1) := by decide +kernel
theorem dX1_rowValue_83 : decode cX1_rowValue 83 = .ok (.if_icmp .ne 12, 3) := by decide +kernel
theorem dX1_rowValue_86 : decode cX1_rowValue 86 = .ok (.aload_n 0, 1) := by decide +kernel
theorem dX1_rowValue_87 : decode cX1_rowValue 87 = .ok (.getfield 38, 3) := by decide +kernel
theorem dX1_rowValue_90 : decode cX1_rowValue 90 = .ok (.iload_n 1, 1) := by decide +kernel
theorem dX1_rowValue_91 : decode cX1_rowValue 91 = .ok (.iaload, 1) := by decide +kernel
theorem dX1_rowValue_92 : decode cX1_rowValue 92 = .ok (.goto 9, 3) := by decide +kernel
theorem dX1_rowValue_95 : decode cX1_rowValue 95 = .ok (.aload_n 0, 1) := by decide +kernel
theorem dX1_rowValue_96 : decode cX1_rowValue 96 = .ok (.getfield 41, 3) := by decide +kernel
theorem dX1_rowValue_99 : decode cX1_rowValue 99 = .ok (.iload_n 1, 1) := by decide +kernel
theorem dX1_rowValue_100 : decode cX1_rowValue 100 = .ok (.iaload, 1) := by decide +kernel
theorem dX1_rowValue_101 : decode cX1_rowValue 101 = .ok (.ireturn, 1) := by decide +kernel
abbrev cX1_lastTime : ByteArray := prog_1_method_12_code
def yX1_lastTime : MethodName := ⟨RX1, "lastTime", "()I"⟩
theorem dX1_lastTime_0 : decode cX1_lastTime 0 = .ok (.aload_n 0, 1) := by decide +kernel
theorem dX1_lastTime_1 : decode cX1_lastTime 1 = .ok (.getfield 69, 3) := by decide +kernel
theorem dX1_lastTime_4 : decode cX1_lastTime 4 = .ok (.ireturn, 1) := by decide +kernel
abbrev cX1_moment : ByteArray := prog_1_method_13_code
def yX1_moment : MethodName := ⟨RX1, "moment", "(I)I"⟩
theorem dX1_moment_0 : decode cX1_moment 0 = .ok (.iload_n 1, 1) := by decide +kernel
theorem dX1_moment_1 : decode cX1_moment 1 = .ok (.iconst 1, 1) := by decide +kernel
theorem dX1_moment_2 : decode cX1_moment 2 = .ok (.if_icmp .lt 22, 3) := by decide +kernel
theorem dX1_moment_5 : decode cX1_moment 5 = .ok (.iload_n 1, 1) := by decide +kernel
theorem dX1_moment_6 : decode cX1_moment 6 = .ok (.aload_n 0, 1) := by decide +kernel
theorem dX1_moment_7 : decode cX1_moment 7 = .ok (.getfield 69, 3) := by decide +kernel
theorem dX1_moment_10 : decode cX1_moment 10 = .ok (.if_icmp .gt 14, 3) := by decide +kernel
theorem dX1_moment_13 : decode cX1_moment 13 = .ok (.iload_n 1, 1) := by decide +kernel
theorem dX1_moment_14 : decode cX1_moment 14 = .ok (.aload_n 0, 1) := by decide +kernel
theorem dX1_moment_15 : decode cX1_moment 15 = .ok (.getfield 69, 3) := by decide +kernel
theorem dX1_moment_18 : decode cX1_moment 18 = .ok (.bipush 30, 2) := by decide +kernel
theorem dX1_moment_20 : decode cX1_moment 20 = .ok (.isub, 1) := by decide +kernel
theorem dX1_moment_21 : decode cX1_moment 21 = .ok (.if_icmp .ge 6, 3) := by decide +kernel
theorem dX1_moment_24 : decode cX1_moment 24 = .ok (.ldc 61, 2) := by decide +kernel
theorem dX1_moment_26 : decode cX1_moment 26 = .ok (.ireturn, 1) := by decide +kernel
theorem dX1_moment_27 : decode cX1_moment 27 = .ok (.aload_n 0, 1) := by decide +kernel
theorem dX1_moment_28 : decode cX1_moment 28 = .ok (.getfield 7, 3) := by decide +kernel
theorem dX1_moment_31 : decode cX1_moment 31 = .ok (.iload_n 1, 1) := by decide +kernel
theorem dX1_moment_32 : decode cX1_moment 32 = .ok (.bipush 31, 2) := by decide +kernel
theorem dX1_moment_34 : decode cX1_moment 34 = .ok (.iand, 1) := by decide +kernel
theorem dX1_moment_35 : decode cX1_moment 35 = .ok (.iaload, 1) := by decide +kernel
theorem dX1_moment_36 : decode cX1_moment 36 = .ok (.ireturn, 1) := by decide +kernel
abbrev cX1_steps : ByteArray := prog_1_method_14_code
def yX1_steps : MethodName := ⟨RX1, "steps", "()I"⟩
theorem dX1_steps_0 : decode cX1_steps 0 = .ok (.aload_n 0, 1) := by decide +kernel
theorem dX1_steps_1 : decode cX1_steps 1 = .ok (.getfield 99, 3) := by decide +kernel
theorem dX1_steps_4 : decode cX1_steps 4 = .ok (.ireturn, 1) := by decide +kernel
abbrev cX1_lastStep : ByteArray := prog_1_method_15_code
def yX1_lastStep : MethodName := ⟨RX1, "lastStep", "()I"⟩
theorem dX1_lastStep_0 : decode cX1_lastStep 0 = .ok (.aload_n 0, 1) := by decide +kernel
theorem dX1_lastStep_1 : decode cX1_lastStep 1 = .ok (.getfield 62, 3) := by decide +kernel
theorem dX1_lastStep_4 : decode cX1_lastStep 4 = .ok (.ireturn, 1) := by decide +kernel
abbrev cX1_rows : ByteArray := prog_1_method_16_code
def yX1_rows : MethodName := ⟨RX1, "rows", "(I)I"⟩
theorem dX1_rows_0 : decode cX1_rows 0 = .ok (.iload_n 1, 1) := by decide +kernel
theorem dX1_rows_1 : decode cX1_rows 1 = .ok (.invokestatic 65, 3) := by decide +kernel
theorem dX1_rows_4 : decode cX1_rows 4 = .ok (.ifCond .eq 12, 3) := by decide +kernel
theorem dX1_rows_7 : decode cX1_rows 7 = .ok (.aload_n 0, 1) := by decide +kernel
theorem dX1_rows_8 : decode cX1_rows 8 = .ok (.getfield 44, 3) := by decide +kernel
theorem dX1_rows_11 : decode cX1_rows 11 = .ok (.iload_n 1, 1) := by decide +kernel
theorem dX1_rows_12 : decode cX1_rows 12 = .ok (.iaload, 1) := by decide +kernel
theorem dX1_rows_13 : decode cX1_rows 13 = .ok (.goto 4, 3) := by decide +kernel
theorem dX1_rows_16 : decode cX1_rows 16 = .ok (.iconst 0, 1) := by decide +kernel
theorem dX1_rows_17 : decode cX1_rows 17 = .ok (.ireturn, 1) := by decide +kernel
abbrev cX1_row : ByteArray := prog_1_method_17_code
def yX1_row : MethodName := ⟨RX1, "row", "(II)I"⟩
theorem dX1_row_0 : decode cX1_row 0 = .ok (.iload_n 1, 1) := by decide +kernel
theorem dX1_row_1 : decode cX1_row 1 = .ok (.invokestatic 65, 3) := by decide +kernel
theorem dX1_row_4 : decode cX1_row 4 = .ok (.ifCond .eq 34, 3) := by decide +kernel
theorem dX1_row_7 : decode cX1_row 7 = .ok (.iload_n 2, 1) := by decide +kernel
theorem dX1_row_8 : decode cX1_row 8 = .ok (.ifCond .lt 30, 3) := by decide +kernel
theorem dX1_row_11 : decode cX1_row 11 = .ok (.iload_n 2, 1) := by decide +kernel
theorem dX1_row_12 : decode cX1_row 12 = .ok (.aload_n 0, 1) := by decide +kernel
theorem dX1_row_13 : decode cX1_row 13 = .ok (.getfield 44, 3) := by decide +kernel
theorem dX1_row_16 : decode cX1_row 16 = .ok (.iload_n 1, 1) := by decide +kernel
theorem dX1_row_17 : decode cX1_row 17 = .ok (.iaload, 1) := by decide +kernel
theorem dX1_row_18 : decode cX1_row 18 = .ok (.if_icmp .ge 20, 3) := by decide +kernel
theorem dX1_row_21 : decode cX1_row 21 = .ok (.iload_n 2, 1) := by decide +kernel
theorem dX1_row_22 : decode cX1_row 22 = .ok (.aload_n 0, 1) := by decide +kernel
theorem dX1_row_23 : decode cX1_row 23 = .ok (.getfield 44, 3) := by decide +kernel
theorem dX1_row_26 : decode cX1_row 26 = .ok (.iload_n 1, 1) := by decide +kernel
theorem dX1_row_27 : decode cX1_row 27 = .ok (.iaload, 1) := by decide +kernel
theorem dX1_row_28 : decode cX1_row 28 = .ok (.aload_n 0, 1) := by decide +kernel
theorem dX1_row_29 : decode cX1_row 29 = .ok (.getfield 23, 3) := by decide +kernel
theorem dX1_row_32 : decode cX1_row 32 = .ok (.iload_n 1, 1) := by decide +kernel
theorem dX1_row_33 : decode cX1_row 33 = .ok (.baload, 1) := by decide +kernel
theorem dX1_row_34 : decode cX1_row 34 = .ok (.isub, 1) := by decide +kernel
theorem dX1_row_35 : decode cX1_row 35 = .ok (.if_icmp .ge 6, 3) := by decide +kernel
theorem dX1_row_38 : decode cX1_row 38 = .ok (.ldc 61, 2) := by decide +kernel
theorem dX1_row_40 : decode cX1_row 40 = .ok (.ireturn, 1) := by decide +kernel
theorem dX1_row_41 : decode cX1_row 41 = .ok (.aload_n 0, 1) := by decide +kernel
theorem dX1_row_42 : decode cX1_row 42 = .ok (.getfield 47, 3) := by decide +kernel
theorem dX1_row_45 : decode cX1_row 45 = .ok (.iload_n 1, 1) := by decide +kernel
theorem dX1_row_46 : decode cX1_row 46 = .ok (.bipush 8, 2) := by decide +kernel
theorem dX1_row_48 : decode cX1_row 48 = .ok (.imul, 1) := by decide +kernel
theorem dX1_row_49 : decode cX1_row 49 = .ok (.iload_n 2, 1) := by decide +kernel
theorem dX1_row_50 : decode cX1_row 50 = .ok (.bipush 7, 2) := by decide +kernel
theorem dX1_row_52 : decode cX1_row 52 = .ok (.iand, 1) := by decide +kernel
theorem dX1_row_53 : decode cX1_row 53 = .ok (.iadd, 1) := by decide +kernel
theorem dX1_row_54 : decode cX1_row 54 = .ok (.iaload, 1) := by decide +kernel
theorem dX1_row_55 : decode cX1_row 55 = .ok (.ireturn, 1) := by decide +kernel
abbrev cX1_peak : ByteArray := prog_1_method_18_code
def yX1_peak : MethodName := ⟨RX1, "peak", "(I)I"⟩
theorem dX1_peak_0 : decode cX1_peak 0 = .ok (.iload_n 1, 1) := by decide +kernel
theorem dX1_peak_1 : decode cX1_peak 1 = .ok (.invokestatic 65, 3) := by decide +kernel
theorem dX1_peak_4 : decode cX1_peak 4 = .ok (.ifCond .ne 6, 3) := by decide +kernel
theorem dX1_peak_7 : decode cX1_peak 7 = .ok (.ldc 61, 2) := by decide +kernel
theorem dX1_peak_9 : decode cX1_peak 9 = .ok (.ireturn, 1) := by decide +kernel
theorem dX1_peak_10 : decode cX1_peak 10 = .ok (.ldc 78, 2) := by decide +kernel
theorem dX1_peak_12 : decode cX1_peak 12 = .ok (.istore_n 2, 1) := by decide +kernel
theorem dX1_peak_13 : decode cX1_peak 13 = .ok (.aload_n 0, 1) := by decide +kernel
theorem dX1_peak_14 : decode cX1_peak 14 = .ok (.iload_n 1, 1) := by decide +kernel
theorem dX1_peak_15 : decode cX1_peak 15 = .ok (.invokevirtual 113, 3) := by decide +kernel
theorem dX1_peak_18 : decode cX1_peak 18 = .ok (.istore_n 3, 1) := by decide +kernel
theorem dX1_peak_19 : decode cX1_peak 19 = .ok (.iload_n 3, 1) := by decide +kernel
theorem dX1_peak_20 : decode cX1_peak 20 = .ok (.aload_n 0, 1) := by decide +kernel
theorem dX1_peak_21 : decode cX1_peak 21 = .ok (.getfield 44, 3) := by decide +kernel
theorem dX1_peak_24 : decode cX1_peak 24 = .ok (.iload_n 1, 1) := by decide +kernel
theorem dX1_peak_25 : decode cX1_peak 25 = .ok (.iaload, 1) := by decide +kernel
theorem dX1_peak_26 : decode cX1_peak 26 = .ok (.if_icmp .ge 34, 3) := by decide +kernel
theorem dX1_peak_29 : decode cX1_peak 29 = .ok (.aload_n 0, 1) := by decide +kernel
theorem dX1_peak_30 : decode cX1_peak 30 = .ok (.getfield 47, 3) := by decide +kernel
theorem dX1_peak_33 : decode cX1_peak 33 = .ok (.iload_n 1, 1) := by decide +kernel
theorem dX1_peak_34 : decode cX1_peak 34 = .ok (.bipush 8, 2) := by decide +kernel
theorem dX1_peak_36 : decode cX1_peak 36 = .ok (.imul, 1) := by decide +kernel
theorem dX1_peak_37 : decode cX1_peak 37 = .ok (.iload_n 3, 1) := by decide +kernel
theorem dX1_peak_38 : decode cX1_peak 38 = .ok (.bipush 7, 2) := by decide +kernel
theorem dX1_peak_40 : decode cX1_peak 40 = .ok (.iand, 1) := by decide +kernel
theorem dX1_peak_41 : decode cX1_peak 41 = .ok (.iadd, 1) := by decide +kernel
theorem dX1_peak_42 : decode cX1_peak 42 = .ok (.iaload, 1) := by decide +kernel
theorem dX1_peak_43 : decode cX1_peak 43 = .ok (.istore 4, 2) := by decide +kernel
theorem dX1_peak_45 : decode cX1_peak 45 = .ok (.iload 4, 2) := by decide +kernel
theorem dX1_peak_47 : decode cX1_peak 47 = .ok (.iload_n 2, 1) := by decide +kernel
theorem dX1_peak_48 : decode cX1_peak 48 = .ok (.if_icmp .le 6, 3) := by decide +kernel
theorem dX1_peak_51 : decode cX1_peak 51 = .ok (.iload 4, 2) := by decide +kernel
theorem dX1_peak_53 : decode cX1_peak 53 = .ok (.istore_n 2, 1) := by decide +kernel
theorem dX1_peak_54 : decode cX1_peak 54 = .ok (.iinc 3 1, 3) := by decide +kernel
theorem dX1_peak_57 : decode cX1_peak 57 = .ok (.goto (-38), 3) := by decide +kernel
theorem dX1_peak_60 : decode cX1_peak 60 = .ok (.iload_n 2, 1) := by decide +kernel
theorem dX1_peak_61 : decode cX1_peak 61 = .ok (.ireturn, 1) := by decide +kernel
abbrev cX1_firstKept : ByteArray := prog_1_method_19_code
def yX1_firstKept : MethodName := ⟨RX1, "firstKept", "(I)I"⟩
theorem dX1_firstKept_0 : decode cX1_firstKept 0 = .ok (.aload_n 0, 1) := by decide +kernel
theorem dX1_firstKept_1 : decode cX1_firstKept 1 = .ok (.getfield 44, 3) := by decide +kernel
theorem dX1_firstKept_4 : decode cX1_firstKept 4 = .ok (.iload_n 1, 1) := by decide +kernel
theorem dX1_firstKept_5 : decode cX1_firstKept 5 = .ok (.iaload, 1) := by decide +kernel
theorem dX1_firstKept_6 : decode cX1_firstKept 6 = .ok (.aload_n 0, 1) := by decide +kernel
theorem dX1_firstKept_7 : decode cX1_firstKept 7 = .ok (.getfield 23, 3) := by decide +kernel
theorem dX1_firstKept_10 : decode cX1_firstKept 10 = .ok (.iload_n 1, 1) := by decide +kernel
theorem dX1_firstKept_11 : decode cX1_firstKept 11 = .ok (.baload, 1) := by decide +kernel
theorem dX1_firstKept_12 : decode cX1_firstKept 12 = .ok (.isub, 1) := by decide +kernel
theorem dX1_firstKept_13 : decode cX1_firstKept 13 = .ok (.istore_n 2, 1) := by decide +kernel
theorem dX1_firstKept_14 : decode cX1_firstKept 14 = .ok (.iload_n 2, 1) := by decide +kernel
theorem dX1_firstKept_15 : decode cX1_firstKept 15 = .ok (.ifCond .ge 7, 3) := by decide +kernel
theorem dX1_firstKept_18 : decode cX1_firstKept 18 = .ok (.iconst 0, 1) := by decide +kernel
theorem dX1_firstKept_19 : decode cX1_firstKept 19 = .ok (.goto 4, 3) := by decide +kernel
theorem dX1_firstKept_22 : decode cX1_firstKept 22 = .ok (.iload_n 2, 1) := by decide +kernel
theorem dX1_firstKept_23 : decode cX1_firstKept 23 = .ok (.ireturn, 1) := by decide +kernel
abbrev cX1_known : ByteArray := prog_1_method_20_code
def yX1_known : MethodName := ⟨RX1, "known", "(I)I"⟩
theorem dX1_known_0 : decode cX1_known 0 = .ok (.iload_n 1, 1) := by decide +kernel
theorem dX1_known_1 : decode cX1_known 1 = .ok (.invokestatic 65, 3) := by decide +kernel
theorem dX1_known_4 : decode cX1_known 4 = .ok (.ifCond .ne 5, 3) := by decide +kernel
theorem dX1_known_7 : decode cX1_known 7 = .ok (.iconst 0, 1) := by decide +kernel
theorem dX1_known_8 : decode cX1_known 8 = .ok (.ireturn, 1) := by decide +kernel
theorem dX1_known_9 : decode cX1_known 9 = .ok (.iconst 0, 1) := by decide +kernel
theorem dX1_known_10 : decode cX1_known 10 = .ok (.istore_n 2, 1) := by decide +kernel
theorem dX1_known_11 : decode cX1_known 11 = .ok (.aload_n 0, 1) := by decide +kernel
theorem dX1_known_12 : decode cX1_known 12 = .ok (.iload_n 1, 1) := by decide +kernel
theorem dX1_known_13 : decode cX1_known 13 = .ok (.invokevirtual 113, 3) := by decide +kernel
theorem dX1_known_16 : decode cX1_known 16 = .ok (.istore_n 3, 1) := by decide +kernel
theorem dX1_known_17 : decode cX1_known 17 = .ok (.iload_n 3, 1) := by decide +kernel
theorem dX1_known_18 : decode cX1_known 18 = .ok (.aload_n 0, 1) := by decide +kernel
theorem dX1_known_19 : decode cX1_known 19 = .ok (.getfield 44, 3) := by decide +kernel
theorem dX1_known_22 : decode cX1_known 22 = .ok (.iload_n 1, 1) := by decide +kernel
theorem dX1_known_23 : decode cX1_known 23 = .ok (.iaload, 1) := by decide +kernel
theorem dX1_known_24 : decode cX1_known 24 = .ok (.if_icmp .ge 31, 3) := by decide +kernel
theorem dX1_known_27 : decode cX1_known 27 = .ok (.aload_n 0, 1) := by decide +kernel
theorem dX1_known_28 : decode cX1_known 28 = .ok (.getfield 47, 3) := by decide +kernel
theorem dX1_known_31 : decode cX1_known 31 = .ok (.iload_n 1, 1) := by decide +kernel
theorem dX1_known_32 : decode cX1_known 32 = .ok (.bipush 8, 2) := by decide +kernel
theorem dX1_known_34 : decode cX1_known 34 = .ok (.imul, 1) := by decide +kernel
theorem dX1_known_35 : decode cX1_known 35 = .ok (.iload_n 3, 1) := by decide +kernel
theorem dX1_known_36 : decode cX1_known 36 = .ok (.bipush 7, 2) := by decide +kernel
theorem dX1_known_38 : decode cX1_known 38 = .ok (.iand, 1) := by decide +kernel
theorem dX1_known_39 : decode cX1_known 39 = .ok (.iadd, 1) := by decide +kernel
theorem dX1_known_40 : decode cX1_known 40 = .ok (.iaload, 1) := by decide +kernel
theorem dX1_known_41 : decode cX1_known 41 = .ok (.ldc 78, 2) := by decide +kernel
theorem dX1_known_43 : decode cX1_known 43 = .ok (.if_icmp .eq 6, 3) := by decide +kernel
theorem dX1_known_46 : decode cX1_known 46 = .ok (.iinc 2 1, 3) := by decide +kernel
theorem dX1_known_49 : decode cX1_known 49 = .ok (.iinc 3 1, 3) := by decide +kernel
theorem dX1_known_52 : decode cX1_known 52 = .ok (.goto (-35), 3) := by decide +kernel
theorem dX1_known_55 : decode cX1_known 55 = .ok (.iload_n 2, 1) := by decide +kernel
theorem dX1_known_56 : decode cX1_known 56 = .ok (.ireturn, 1) := by decide +kernel
abbrev cX1_pending : ByteArray := prog_1_method_21_code
def yX1_pending : MethodName := ⟨RX1, "pending", "()I"⟩
theorem dX1_pending_0 : decode cX1_pending 0 = .ok (.aload_n 0, 1) := by decide +kernel
theorem dX1_pending_1 : decode cX1_pending 1 = .ok (.getfield 89, 3) := by decide +kernel
theorem dX1_pending_4 : decode cX1_pending 4 = .ok (.ireturn, 1) := by decide +kernel
abbrev cX1_pendingSum : ByteArray := prog_1_method_22_code
def yX1_pendingSum : MethodName := ⟨RX1, "pendingSum", "()I"⟩
theorem dX1_pendingSum_0 : decode cX1_pendingSum 0 = .ok (.aload_n 0, 1) := by decide +kernel
theorem dX1_pendingSum_1 : decode cX1_pendingSum 1 = .ok (.getfield 86, 3) := by decide +kernel
theorem dX1_pendingSum_4 : decode cX1_pendingSum 4 = .ok (.ireturn, 1) := by decide +kernel
theorem q11 : (Jvm.Cond.initialized "RoundArchive") ∈ lw_all := lw_g (lw_at lw_m1 1 rfl) rfl
theorem q14 : (Jvm.Cond.instantiable "RoundArchive" (23 : Nat)) ∈ lw_all := lw_g (lw_at lw_m1 4 rfl) rfl
theorem q16 : (Jvm.Cond.instanceMethod ({ cls := "RoundArchive", name := "<init>", desc := "(III)V" } : Jvm.MethodName)) ∈ lw_all := lw_g (lw_at lw_m1 6 rfl) rfl
theorem q17 : (Jvm.Cond.code ({ cls := "RoundArchive", name := "<init>", desc := "(III)V" } : Jvm.MethodName) prog_1_method_1_code (5 : Nat) (Option.none : Option Jvm.ClassFile.FieldType)) ∈ lw_all := lw_g (lw_at lw_m1 7 rfl) rfl
theorem q18 : (Jvm.Cond.methodLink "RoundArchive" (1 : Nat) ({ cls := "java/lang/Object", name := "<init>", desc := "()V" } : Jvm.MethodName)) ∈ lw_all := lw_g (lw_at lw_m1 8 rfl) rfl
theorem q21 : (Jvm.Cond.constant "RoundArchive" (61 : Nat) (-200000 : Int32)) ∈ lw_all := lw_g (lw_at lw_m1 11 rfl) rfl
theorem q22 : (Jvm.Cond.fieldLink "RoundArchive" (50 : Nat) "RoundArchive" "counter" "Z") ∈ lw_all := lw_g (lw_at lw_m1 12 rfl) rfl
theorem q23 : (Jvm.Cond.fieldLink "RoundArchive" (54 : Nat) "RoundArchive" "width" "I") ∈ lw_all := lw_g (lw_at lw_m1 13 rfl) rfl
theorem q24 : (Jvm.Cond.fieldLink "RoundArchive" (58 : Nat) "RoundArchive" "heartbeat" "I") ∈ lw_all := lw_g (lw_at lw_m1 14 rfl) rfl
theorem q25 : (Jvm.Cond.fieldLink "RoundArchive" (69 : Nat) "RoundArchive" "time" "I") ∈ lw_all := lw_g (lw_at lw_m1 15 rfl) rfl
theorem q26 : (Jvm.Cond.fieldLink "RoundArchive" (75 : Nat) "RoundArchive" "wheel" "I") ∈ lw_all := lw_g (lw_at lw_m1 16 rfl) rfl
theorem q27 : (Jvm.Cond.fieldLink "RoundArchive" (7 : Nat) "RoundArchive" "recent" "[I") ∈ lw_all := lw_g (lw_at lw_m1 17 rfl) rfl
theorem q28 : (Jvm.Cond.fieldLink "RoundArchive" (89 : Nat) "RoundArchive" "filled" "I") ∈ lw_all := lw_g (lw_at lw_m1 18 rfl) rfl
theorem q29 : (Jvm.Cond.fieldLink "RoundArchive" (83 : Nat) "RoundArchive" "unknownMoments" "I") ∈ lw_all := lw_g (lw_at lw_m1 19 rfl) rfl
theorem q30 : (Jvm.Cond.fieldLink "RoundArchive" (86 : Nat) "RoundArchive" "momentSum" "I") ∈ lw_all := lw_g (lw_at lw_m1 20 rfl) rfl
theorem q31 : (Jvm.Cond.fieldLink "RoundArchive" (99 : Nat) "RoundArchive" "stepCount" "I") ∈ lw_all := lw_g (lw_at lw_m1 21 rfl) rfl
theorem q32 : (Jvm.Cond.fieldLink "RoundArchive" (62 : Nat) "RoundArchive" "lastValue" "I") ∈ lw_all := lw_g (lw_at lw_m1 22 rfl) rfl
theorem q33 : (Jvm.Cond.fieldLink "RoundArchive" (13 : Nat) "RoundArchive" "span" "[B") ∈ lw_all := lw_g (lw_at lw_m1 23 rfl) rfl
theorem q34 : (Jvm.Cond.fieldLink "RoundArchive" (17 : Nat) "RoundArchive" "rule" "[B") ∈ lw_all := lw_g (lw_at lw_m1 24 rfl) rfl
theorem q35 : (Jvm.Cond.fieldLink "RoundArchive" (20 : Nat) "RoundArchive" "tolerance" "[B") ∈ lw_all := lw_g (lw_at lw_m1 25 rfl) rfl
theorem q36 : (Jvm.Cond.fieldLink "RoundArchive" (23 : Nat) "RoundArchive" "room" "[B") ∈ lw_all := lw_g (lw_at lw_m1 26 rfl) rfl
theorem q37 : (Jvm.Cond.fieldLink "RoundArchive" (26 : Nat) "RoundArchive" "stepsIn" "[B") ∈ lw_all := lw_g (lw_at lw_m1 27 rfl) rfl
theorem q38 : (Jvm.Cond.fieldLink "RoundArchive" (29 : Nat) "RoundArchive" "knownIn" "[B") ∈ lw_all := lw_g (lw_at lw_m1 28 rfl) rfl
theorem q39 : (Jvm.Cond.fieldLink "RoundArchive" (32 : Nat) "RoundArchive" "sum" "[I") ∈ lw_all := lw_g (lw_at lw_m1 29 rfl) rfl
theorem q40 : (Jvm.Cond.fieldLink "RoundArchive" (35 : Nat) "RoundArchive" "low" "[I") ∈ lw_all := lw_g (lw_at lw_m1 30 rfl) rfl
theorem q41 : (Jvm.Cond.fieldLink "RoundArchive" (38 : Nat) "RoundArchive" "high" "[I") ∈ lw_all := lw_g (lw_at lw_m1 31 rfl) rfl
theorem q42 : (Jvm.Cond.fieldLink "RoundArchive" (41 : Nat) "RoundArchive" "last" "[I") ∈ lw_all := lw_g (lw_at lw_m1 32 rfl) rfl
theorem q43 : (Jvm.Cond.fieldLink "RoundArchive" (44 : Nat) "RoundArchive" "rowCount" "[I") ∈ lw_all := lw_g (lw_at lw_m1 33 rfl) rfl
theorem q44 : (Jvm.Cond.fieldLink "RoundArchive" (47 : Nat) "RoundArchive" "kept" "[I") ∈ lw_all := lw_g (lw_at lw_m1 34 rfl) rfl
theorem q45 : (Jvm.Cond.laysFinal "RoundArchive" "RoundArchive" "counter" "Z") ∈ lw_all := lw_g (lw_at lw_m1 35 rfl) rfl
theorem q46 : (Jvm.Cond.soleField "RoundArchive" "counter") ∈ lw_all := lw_g (lw_at lw_m1 36 rfl) rfl
theorem q47 : (Jvm.Cond.laysFinal "RoundArchive" "RoundArchive" "width" "I") ∈ lw_all := lw_g (lw_at lw_m1 37 rfl) rfl
theorem q48 : (Jvm.Cond.soleField "RoundArchive" "width") ∈ lw_all := lw_g (lw_at lw_m1 38 rfl) rfl
theorem q49 : (Jvm.Cond.laysFinal "RoundArchive" "RoundArchive" "heartbeat" "I") ∈ lw_all := lw_g (lw_at lw_m1 39 rfl) rfl
theorem q50 : (Jvm.Cond.soleField "RoundArchive" "heartbeat") ∈ lw_all := lw_g (lw_at lw_m1 40 rfl) rfl
theorem q51 : (Jvm.Cond.lays "RoundArchive" "RoundArchive" "time" "I") ∈ lw_all := lw_g (lw_at lw_m1 41 rfl) rfl
theorem q52 : (Jvm.Cond.soleField "RoundArchive" "time") ∈ lw_all := lw_g (lw_at lw_m1 42 rfl) rfl
theorem q53 : (Jvm.Cond.lays "RoundArchive" "RoundArchive" "wheel" "I") ∈ lw_all := lw_g (lw_at lw_m1 43 rfl) rfl
theorem q54 : (Jvm.Cond.soleField "RoundArchive" "wheel") ∈ lw_all := lw_g (lw_at lw_m1 44 rfl) rfl
theorem q55 : (Jvm.Cond.laysFinal "RoundArchive" "RoundArchive" "recent" "[I") ∈ lw_all := lw_g (lw_at lw_m1 45 rfl) rfl
theorem q56 : (Jvm.Cond.soleField "RoundArchive" "recent") ∈ lw_all := lw_g (lw_at lw_m1 46 rfl) rfl
theorem q57 : (Jvm.Cond.lays "RoundArchive" "RoundArchive" "filled" "I") ∈ lw_all := lw_g (lw_at lw_m1 47 rfl) rfl
theorem q58 : (Jvm.Cond.soleField "RoundArchive" "filled") ∈ lw_all := lw_g (lw_at lw_m1 48 rfl) rfl
theorem q59 : (Jvm.Cond.lays "RoundArchive" "RoundArchive" "unknownMoments" "I") ∈ lw_all := lw_g (lw_at lw_m1 49 rfl) rfl
theorem q60 : (Jvm.Cond.soleField "RoundArchive" "unknownMoments") ∈ lw_all := lw_g (lw_at lw_m1 50 rfl) rfl
theorem q61 : (Jvm.Cond.lays "RoundArchive" "RoundArchive" "momentSum" "I") ∈ lw_all := lw_g (lw_at lw_m1 51 rfl) rfl
theorem q62 : (Jvm.Cond.soleField "RoundArchive" "momentSum") ∈ lw_all := lw_g (lw_at lw_m1 52 rfl) rfl
theorem q63 : (Jvm.Cond.lays "RoundArchive" "RoundArchive" "stepCount" "I") ∈ lw_all := lw_g (lw_at lw_m1 53 rfl) rfl
theorem q64 : (Jvm.Cond.soleField "RoundArchive" "stepCount") ∈ lw_all := lw_g (lw_at lw_m1 54 rfl) rfl
theorem q65 : (Jvm.Cond.lays "RoundArchive" "RoundArchive" "lastValue" "I") ∈ lw_all := lw_g (lw_at lw_m1 55 rfl) rfl
theorem q66 : (Jvm.Cond.soleField "RoundArchive" "lastValue") ∈ lw_all := lw_g (lw_at lw_m1 56 rfl) rfl
theorem q67 : (Jvm.Cond.laysFinal "RoundArchive" "RoundArchive" "span" "[B") ∈ lw_all := lw_g (lw_at lw_m1 57 rfl) rfl
theorem q68 : (Jvm.Cond.soleField "RoundArchive" "span") ∈ lw_all := lw_g (lw_at lw_m1 58 rfl) rfl
theorem q69 : (Jvm.Cond.laysFinal "RoundArchive" "RoundArchive" "rule" "[B") ∈ lw_all := lw_g (lw_at lw_m1 59 rfl) rfl
theorem q70 : (Jvm.Cond.soleField "RoundArchive" "rule") ∈ lw_all := lw_g (lw_at lw_m1 60 rfl) rfl
theorem q71 : (Jvm.Cond.laysFinal "RoundArchive" "RoundArchive" "tolerance" "[B") ∈ lw_all := lw_g (lw_at lw_m1 61 rfl) rfl
theorem q72 : (Jvm.Cond.soleField "RoundArchive" "tolerance") ∈ lw_all := lw_g (lw_at lw_m1 62 rfl) rfl
theorem q73 : (Jvm.Cond.laysFinal "RoundArchive" "RoundArchive" "room" "[B") ∈ lw_all := lw_g (lw_at lw_m1 63 rfl) rfl
theorem q74 : (Jvm.Cond.soleField "RoundArchive" "room") ∈ lw_all := lw_g (lw_at lw_m1 64 rfl) rfl
theorem q75 : (Jvm.Cond.laysFinal "RoundArchive" "RoundArchive" "stepsIn" "[B") ∈ lw_all := lw_g (lw_at lw_m1 65 rfl) rfl
theorem q76 : (Jvm.Cond.soleField "RoundArchive" "stepsIn") ∈ lw_all := lw_g (lw_at lw_m1 66 rfl) rfl
theorem q77 : (Jvm.Cond.laysFinal "RoundArchive" "RoundArchive" "knownIn" "[B") ∈ lw_all := lw_g (lw_at lw_m1 67 rfl) rfl
theorem q78 : (Jvm.Cond.soleField "RoundArchive" "knownIn") ∈ lw_all := lw_g (lw_at lw_m1 68 rfl) rfl
theorem q79 : (Jvm.Cond.laysFinal "RoundArchive" "RoundArchive" "sum" "[I") ∈ lw_all := lw_g (lw_at lw_m1 69 rfl) rfl
theorem q80 : (Jvm.Cond.soleField "RoundArchive" "sum") ∈ lw_all := lw_g (lw_at lw_m1 70 rfl) rfl
theorem q81 : (Jvm.Cond.laysFinal "RoundArchive" "RoundArchive" "low" "[I") ∈ lw_all := lw_g (lw_at lw_m1 71 rfl) rfl
theorem q82 : (Jvm.Cond.soleField "RoundArchive" "low") ∈ lw_all := lw_g (lw_at lw_m1 72 rfl) rfl
theorem q83 : (Jvm.Cond.laysFinal "RoundArchive" "RoundArchive" "high" "[I") ∈ lw_all := lw_g (lw_at lw_m1 73 rfl) rfl
theorem q84 : (Jvm.Cond.soleField "RoundArchive" "high") ∈ lw_all := lw_g (lw_at lw_m1 74 rfl) rfl
theorem q85 : (Jvm.Cond.laysFinal "RoundArchive" "RoundArchive" "last" "[I") ∈ lw_all := lw_g (lw_at lw_m1 75 rfl) rfl
theorem q86 : (Jvm.Cond.soleField "RoundArchive" "last") ∈ lw_all := lw_g (lw_at lw_m1 76 rfl) rfl
theorem q87 : (Jvm.Cond.laysFinal "RoundArchive" "RoundArchive" "rowCount" "[I") ∈ lw_all := lw_g (lw_at lw_m1 77 rfl) rfl
theorem q88 : (Jvm.Cond.soleField "RoundArchive" "rowCount") ∈ lw_all := lw_g (lw_at lw_m1 78 rfl) rfl
theorem q89 : (Jvm.Cond.laysFinal "RoundArchive" "RoundArchive" "kept" "[I") ∈ lw_all := lw_g (lw_at lw_m1 79 rfl) rfl
theorem q90 : (Jvm.Cond.soleField "RoundArchive" "kept") ∈ lw_all := lw_g (lw_at lw_m1 80 rfl) rfl
theorem q91 : (Jvm.Cond.superclass "RoundArchive" "java/lang/Object") ∈ lw_all := lw_g (lw_at lw_m1 81 rfl) rfl
theorem q95 : (Jvm.Cond.instanceMethod ({ cls := "RoundArchive", name := "shape", desc := "(II)Z" } : Jvm.MethodName)) ∈ lw_all := lw_g (lw_at lw_m1 85 rfl) rfl
theorem q96 : (Jvm.Cond.selects "RoundArchive" ({ cls := "RoundArchive", name := "shape", desc := "(II)Z" } : Jvm.MethodName) ({ cls := "RoundArchive", name := "shape", desc := "(II)Z" } : Jvm.MethodName)) ∈ lw_all := lw_g (lw_at lw_m1 86 rfl) rfl
theorem q97 : (Jvm.Cond.code ({ cls := "RoundArchive", name := "shape", desc := "(II)Z" } : Jvm.MethodName) prog_1_method_4_code (8 : Nat) (Option.some Jvm.ClassFile.FieldType.boolean)) ∈ lw_all := lw_g (lw_at lw_m1 87 rfl) rfl
theorem q98 : (Jvm.Cond.methodLink "RoundArchive" (65 : Nat) ({ cls := "RoundArchive", name := "isArchive", desc := "(I)Z" } : Jvm.MethodName)) ∈ lw_all := lw_g (lw_at lw_m1 88 rfl) rfl
theorem q99 : (Jvm.Cond.static ({ cls := "RoundArchive", name := "isArchive", desc := "(I)Z" } : Jvm.MethodName)) ∈ lw_all := lw_g (lw_at lw_m1 89 rfl) rfl
theorem q100 : (Jvm.Cond.code ({ cls := "RoundArchive", name := "isArchive", desc := "(I)Z" } : Jvm.MethodName) prog_1_method_2_code (1 : Nat) (Option.some Jvm.ClassFile.FieldType.boolean)) ∈ lw_all := lw_g (lw_at lw_m1 90 rfl) rfl
theorem q102 : (Jvm.Cond.instanceMethod ({ cls := "RoundArchive", name := "update", desc := "(II)Z" } : Jvm.MethodName)) ∈ lw_all := lw_g (lw_at lw_m1 92 rfl) rfl
theorem q103 : (Jvm.Cond.selects "RoundArchive" ({ cls := "RoundArchive", name := "update", desc := "(II)Z" } : Jvm.MethodName) ({ cls := "RoundArchive", name := "update", desc := "(II)Z" } : Jvm.MethodName)) ∈ lw_all := lw_g (lw_at lw_m1 93 rfl) rfl
theorem q104 : (Jvm.Cond.code ({ cls := "RoundArchive", name := "update", desc := "(II)Z" } : Jvm.MethodName) prog_1_method_5_code (8 : Nat) (Option.some Jvm.ClassFile.FieldType.boolean)) ∈ lw_all := lw_g (lw_at lw_m1 94 rfl) rfl
theorem q105 : (Jvm.Cond.methodLink "RoundArchive" (72 : Nat) ({ cls := "RoundArchive", name := "inRange", desc := "(I)Z" } : Jvm.MethodName)) ∈ lw_all := lw_g (lw_at lw_m1 95 rfl) rfl
theorem q106 : (Jvm.Cond.privateMethod ({ cls := "RoundArchive", name := "inRange", desc := "(I)Z" } : Jvm.MethodName)) ∈ lw_tbl := lw_at lw_m1 96 rfl
theorem q107 : (Jvm.Cond.instanceMethod ({ cls := "RoundArchive", name := "inRange", desc := "(I)Z" } : Jvm.MethodName)) ∈ lw_all := lw_g (lw_at lw_m1 97 rfl) rfl
theorem q108 : (Jvm.Cond.code ({ cls := "RoundArchive", name := "inRange", desc := "(I)Z" } : Jvm.MethodName) prog_1_method_6_code (2 : Nat) (Option.some Jvm.ClassFile.FieldType.boolean)) ∈ lw_all := lw_g (lw_at lw_m1 98 rfl) rfl
theorem q109 : (Jvm.Cond.constant "RoundArchive" (78 : Nat) (-100000 : Int32)) ∈ lw_all := lw_g (lw_at lw_m1 99 rfl) rfl
theorem q110 : (Jvm.Cond.methodLink "RoundArchive" (79 : Nat) ({ cls := "RoundArchive", name := "addMoment", desc := "(I)V" } : Jvm.MethodName)) ∈ lw_all := lw_g (lw_at lw_m1 100 rfl) rfl
theorem q111 : (Jvm.Cond.privateMethod ({ cls := "RoundArchive", name := "addMoment", desc := "(I)V" } : Jvm.MethodName)) ∈ lw_tbl := lw_at lw_m1 101 rfl
theorem q112 : (Jvm.Cond.instanceMethod ({ cls := "RoundArchive", name := "addMoment", desc := "(I)V" } : Jvm.MethodName)) ∈ lw_all := lw_g (lw_at lw_m1 102 rfl) rfl
theorem q113 : (Jvm.Cond.code ({ cls := "RoundArchive", name := "addMoment", desc := "(I)V" } : Jvm.MethodName) prog_1_method_7_code (2 : Nat) (Option.none : Option Jvm.ClassFile.FieldType)) ∈ lw_all := lw_g (lw_at lw_m1 103 rfl) rfl
theorem q114 : (Jvm.Cond.methodLink "RoundArchive" (92 : Nat) ({ cls := "RoundArchive", name := "closeStep", desc := "()V" } : Jvm.MethodName)) ∈ lw_all := lw_g (lw_at lw_m1 104 rfl) rfl
theorem q115 : (Jvm.Cond.privateMethod ({ cls := "RoundArchive", name := "closeStep", desc := "()V" } : Jvm.MethodName)) ∈ lw_tbl := lw_at lw_m1 105 rfl
theorem q116 : (Jvm.Cond.instanceMethod ({ cls := "RoundArchive", name := "closeStep", desc := "()V" } : Jvm.MethodName)) ∈ lw_all := lw_g (lw_at lw_m1 106 rfl) rfl
theorem q117 : (Jvm.Cond.code ({ cls := "RoundArchive", name := "closeStep", desc := "()V" } : Jvm.MethodName) prog_1_method_8_code (2 : Nat) (Option.none : Option Jvm.ClassFile.FieldType)) ∈ lw_all := lw_g (lw_at lw_m1 107 rfl) rfl
theorem q118 : (Jvm.Cond.methodLink "RoundArchive" (95 : Nat) ({ cls := "RoundArchive", name := "floor", desc := "(II)I" } : Jvm.MethodName)) ∈ lw_all := lw_g (lw_at lw_m1 108 rfl) rfl
theorem q119 : (Jvm.Cond.static ({ cls := "RoundArchive", name := "floor", desc := "(II)I" } : Jvm.MethodName)) ∈ lw_all := lw_g (lw_at lw_m1 109 rfl) rfl
theorem q120 : (Jvm.Cond.code ({ cls := "RoundArchive", name := "floor", desc := "(II)I" } : Jvm.MethodName) prog_1_method_3_code (3 : Nat) (Option.some Jvm.ClassFile.FieldType.int)) ∈ lw_all := lw_g (lw_at lw_m1 110 rfl) rfl
theorem q121 : (Jvm.Cond.methodLink "RoundArchive" (102 : Nat) ({ cls := "RoundArchive", name := "addStep", desc := "(II)V" } : Jvm.MethodName)) ∈ lw_all := lw_g (lw_at lw_m1 111 rfl) rfl
theorem q122 : (Jvm.Cond.privateMethod ({ cls := "RoundArchive", name := "addStep", desc := "(II)V" } : Jvm.MethodName)) ∈ lw_tbl := lw_at lw_m1 112 rfl
theorem q123 : (Jvm.Cond.instanceMethod ({ cls := "RoundArchive", name := "addStep", desc := "(II)V" } : Jvm.MethodName)) ∈ lw_all := lw_g (lw_at lw_m1 113 rfl) rfl
theorem q124 : (Jvm.Cond.code ({ cls := "RoundArchive", name := "addStep", desc := "(II)V" } : Jvm.MethodName) prog_1_method_9_code (4 : Nat) (Option.none : Option Jvm.ClassFile.FieldType)) ∈ lw_all := lw_g (lw_at lw_m1 114 rfl) rfl
theorem q125 : (Jvm.Cond.methodLink "RoundArchive" (106 : Nat) ({ cls := "RoundArchive", name := "closeRow", desc := "(I)V" } : Jvm.MethodName)) ∈ lw_all := lw_g (lw_at lw_m1 115 rfl) rfl
theorem q126 : (Jvm.Cond.privateMethod ({ cls := "RoundArchive", name := "closeRow", desc := "(I)V" } : Jvm.MethodName)) ∈ lw_tbl := lw_at lw_m1 116 rfl
theorem q127 : (Jvm.Cond.instanceMethod ({ cls := "RoundArchive", name := "closeRow", desc := "(I)V" } : Jvm.MethodName)) ∈ lw_all := lw_g (lw_at lw_m1 117 rfl) rfl
theorem q128 : (Jvm.Cond.code ({ cls := "RoundArchive", name := "closeRow", desc := "(I)V" } : Jvm.MethodName) prog_1_method_10_code (2 : Nat) (Option.none : Option Jvm.ClassFile.FieldType)) ∈ lw_all := lw_g (lw_at lw_m1 118 rfl) rfl
theorem q129 : (Jvm.Cond.methodLink "RoundArchive" (109 : Nat) ({ cls := "RoundArchive", name := "rowValue", desc := "(I)I" } : Jvm.MethodName)) ∈ lw_all := lw_g (lw_at lw_m1 119 rfl) rfl
theorem q130 : (Jvm.Cond.privateMethod ({ cls := "RoundArchive", name := "rowValue", desc := "(I)I" } : Jvm.MethodName)) ∈ lw_tbl := lw_at lw_m1 120 rfl
theorem q131 : (Jvm.Cond.instanceMethod ({ cls := "RoundArchive", name := "rowValue", desc := "(I)I" } : Jvm.MethodName)) ∈ lw_all := lw_g (lw_at lw_m1 121 rfl) rfl
theorem q132 : (Jvm.Cond.code ({ cls := "RoundArchive", name := "rowValue", desc := "(I)I" } : Jvm.MethodName) prog_1_method_11_code (2 : Nat) (Option.some Jvm.ClassFile.FieldType.int)) ∈ lw_all := lw_g (lw_at lw_m1 122 rfl) rfl
theorem q134 : (Jvm.Cond.instanceMethod ({ cls := "RoundArchive", name := "lastTime", desc := "()I" } : Jvm.MethodName)) ∈ lw_all := lw_g (lw_at lw_m1 124 rfl) rfl
theorem q135 : (Jvm.Cond.selects "RoundArchive" ({ cls := "RoundArchive", name := "lastTime", desc := "()I" } : Jvm.MethodName) ({ cls := "RoundArchive", name := "lastTime", desc := "()I" } : Jvm.MethodName)) ∈ lw_all := lw_g (lw_at lw_m1 125 rfl) rfl
theorem q136 : (Jvm.Cond.code ({ cls := "RoundArchive", name := "lastTime", desc := "()I" } : Jvm.MethodName) prog_1_method_12_code (1 : Nat) (Option.some Jvm.ClassFile.FieldType.int)) ∈ lw_all := lw_g (lw_at lw_m1 126 rfl) rfl
theorem q138 : (Jvm.Cond.instanceMethod ({ cls := "RoundArchive", name := "moment", desc := "(I)I" } : Jvm.MethodName)) ∈ lw_all := lw_g (lw_at lw_m1 128 rfl) rfl
theorem q139 : (Jvm.Cond.selects "RoundArchive" ({ cls := "RoundArchive", name := "moment", desc := "(I)I" } : Jvm.MethodName) ({ cls := "RoundArchive", name := "moment", desc := "(I)I" } : Jvm.MethodName)) ∈ lw_all := lw_g (lw_at lw_m1 129 rfl) rfl
theorem q140 : (Jvm.Cond.code ({ cls := "RoundArchive", name := "moment", desc := "(I)I" } : Jvm.MethodName) prog_1_method_13_code (2 : Nat) (Option.some Jvm.ClassFile.FieldType.int)) ∈ lw_all := lw_g (lw_at lw_m1 130 rfl) rfl
theorem q142 : (Jvm.Cond.instanceMethod ({ cls := "RoundArchive", name := "steps", desc := "()I" } : Jvm.MethodName)) ∈ lw_all := lw_g (lw_at lw_m1 132 rfl) rfl
theorem q143 : (Jvm.Cond.selects "RoundArchive" ({ cls := "RoundArchive", name := "steps", desc := "()I" } : Jvm.MethodName) ({ cls := "RoundArchive", name := "steps", desc := "()I" } : Jvm.MethodName)) ∈ lw_all := lw_g (lw_at lw_m1 133 rfl) rfl
theorem q144 : (Jvm.Cond.code ({ cls := "RoundArchive", name := "steps", desc := "()I" } : Jvm.MethodName) prog_1_method_14_code (1 : Nat) (Option.some Jvm.ClassFile.FieldType.int)) ∈ lw_all := lw_g (lw_at lw_m1 134 rfl) rfl
theorem q146 : (Jvm.Cond.instanceMethod ({ cls := "RoundArchive", name := "lastStep", desc := "()I" } : Jvm.MethodName)) ∈ lw_all := lw_g (lw_at lw_m1 136 rfl) rfl
theorem q147 : (Jvm.Cond.selects "RoundArchive" ({ cls := "RoundArchive", name := "lastStep", desc := "()I" } : Jvm.MethodName) ({ cls := "RoundArchive", name := "lastStep", desc := "()I" } : Jvm.MethodName)) ∈ lw_all := lw_g (lw_at lw_m1 137 rfl) rfl
theorem q148 : (Jvm.Cond.code ({ cls := "RoundArchive", name := "lastStep", desc := "()I" } : Jvm.MethodName) prog_1_method_15_code (1 : Nat) (Option.some Jvm.ClassFile.FieldType.int)) ∈ lw_all := lw_g (lw_at lw_m1 138 rfl) rfl
theorem q150 : (Jvm.Cond.instanceMethod ({ cls := "RoundArchive", name := "rows", desc := "(I)I" } : Jvm.MethodName)) ∈ lw_all := lw_g (lw_at lw_m1 140 rfl) rfl
theorem q151 : (Jvm.Cond.selects "RoundArchive" ({ cls := "RoundArchive", name := "rows", desc := "(I)I" } : Jvm.MethodName) ({ cls := "RoundArchive", name := "rows", desc := "(I)I" } : Jvm.MethodName)) ∈ lw_all := lw_g (lw_at lw_m1 141 rfl) rfl
theorem q152 : (Jvm.Cond.code ({ cls := "RoundArchive", name := "rows", desc := "(I)I" } : Jvm.MethodName) prog_1_method_16_code (2 : Nat) (Option.some Jvm.ClassFile.FieldType.int)) ∈ lw_all := lw_g (lw_at lw_m1 142 rfl) rfl
theorem q154 : (Jvm.Cond.instanceMethod ({ cls := "RoundArchive", name := "row", desc := "(II)I" } : Jvm.MethodName)) ∈ lw_all := lw_g (lw_at lw_m1 144 rfl) rfl
theorem q155 : (Jvm.Cond.selects "RoundArchive" ({ cls := "RoundArchive", name := "row", desc := "(II)I" } : Jvm.MethodName) ({ cls := "RoundArchive", name := "row", desc := "(II)I" } : Jvm.MethodName)) ∈ lw_all := lw_g (lw_at lw_m1 145 rfl) rfl
theorem q156 : (Jvm.Cond.code ({ cls := "RoundArchive", name := "row", desc := "(II)I" } : Jvm.MethodName) prog_1_method_17_code (3 : Nat) (Option.some Jvm.ClassFile.FieldType.int)) ∈ lw_all := lw_g (lw_at lw_m1 146 rfl) rfl
theorem q158 : (Jvm.Cond.instanceMethod ({ cls := "RoundArchive", name := "peak", desc := "(I)I" } : Jvm.MethodName)) ∈ lw_all := lw_g (lw_at lw_m1 148 rfl) rfl
theorem q159 : (Jvm.Cond.selects "RoundArchive" ({ cls := "RoundArchive", name := "peak", desc := "(I)I" } : Jvm.MethodName) ({ cls := "RoundArchive", name := "peak", desc := "(I)I" } : Jvm.MethodName)) ∈ lw_all := lw_g (lw_at lw_m1 149 rfl) rfl
theorem q160 : (Jvm.Cond.code ({ cls := "RoundArchive", name := "peak", desc := "(I)I" } : Jvm.MethodName) prog_1_method_18_code (5 : Nat) (Option.some Jvm.ClassFile.FieldType.int)) ∈ lw_all := lw_g (lw_at lw_m1 150 rfl) rfl
theorem q161 : (Jvm.Cond.methodLink "RoundArchive" (113 : Nat) ({ cls := "RoundArchive", name := "firstKept", desc := "(I)I" } : Jvm.MethodName)) ∈ lw_all := lw_g (lw_at lw_m1 151 rfl) rfl
theorem q162 : (Jvm.Cond.privateMethod ({ cls := "RoundArchive", name := "firstKept", desc := "(I)I" } : Jvm.MethodName)) ∈ lw_tbl := lw_at lw_m1 152 rfl
theorem q163 : (Jvm.Cond.instanceMethod ({ cls := "RoundArchive", name := "firstKept", desc := "(I)I" } : Jvm.MethodName)) ∈ lw_all := lw_g (lw_at lw_m1 153 rfl) rfl
theorem q164 : (Jvm.Cond.code ({ cls := "RoundArchive", name := "firstKept", desc := "(I)I" } : Jvm.MethodName) prog_1_method_19_code (3 : Nat) (Option.some Jvm.ClassFile.FieldType.int)) ∈ lw_all := lw_g (lw_at lw_m1 154 rfl) rfl
theorem q166 : (Jvm.Cond.instanceMethod ({ cls := "RoundArchive", name := "known", desc := "(I)I" } : Jvm.MethodName)) ∈ lw_all := lw_g (lw_at lw_m1 156 rfl) rfl
theorem q167 : (Jvm.Cond.selects "RoundArchive" ({ cls := "RoundArchive", name := "known", desc := "(I)I" } : Jvm.MethodName) ({ cls := "RoundArchive", name := "known", desc := "(I)I" } : Jvm.MethodName)) ∈ lw_all := lw_g (lw_at lw_m1 157 rfl) rfl
theorem q168 : (Jvm.Cond.code ({ cls := "RoundArchive", name := "known", desc := "(I)I" } : Jvm.MethodName) prog_1_method_20_code (4 : Nat) (Option.some Jvm.ClassFile.FieldType.int)) ∈ lw_all := lw_g (lw_at lw_m1 158 rfl) rfl
theorem q170 : (Jvm.Cond.instanceMethod ({ cls := "RoundArchive", name := "pending", desc := "()I" } : Jvm.MethodName)) ∈ lw_all := lw_g (lw_at lw_m1 160 rfl) rfl
theorem q171 : (Jvm.Cond.selects "RoundArchive" ({ cls := "RoundArchive", name := "pending", desc := "()I" } : Jvm.MethodName) ({ cls := "RoundArchive", name := "pending", desc := "()I" } : Jvm.MethodName)) ∈ lw_all := lw_g (lw_at lw_m1 161 rfl) rfl
theorem q172 : (Jvm.Cond.code ({ cls := "RoundArchive", name := "pending", desc := "()I" } : Jvm.MethodName) prog_1_method_21_code (1 : Nat) (Option.some Jvm.ClassFile.FieldType.int)) ∈ lw_all := lw_g (lw_at lw_m1 162 rfl) rfl
theorem q174 : (Jvm.Cond.instanceMethod ({ cls := "RoundArchive", name := "pendingSum", desc := "()I" } : Jvm.MethodName)) ∈ lw_all := lw_g (lw_at lw_m1 164 rfl) rfl
theorem q175 : (Jvm.Cond.selects "RoundArchive" ({ cls := "RoundArchive", name := "pendingSum", desc := "()I" } : Jvm.MethodName) ({ cls := "RoundArchive", name := "pendingSum", desc := "()I" } : Jvm.MethodName)) ∈ lw_all := lw_g (lw_at lw_m1 165 rfl) rfl
theorem q176 : (Jvm.Cond.code ({ cls := "RoundArchive", name := "pendingSum", desc := "()I" } : Jvm.MethodName) prog_1_method_22_code (1 : Nat) (Option.some Jvm.ClassFile.FieldType.int)) ∈ lw_all := lw_g (lw_at lw_m1 166 rfl) rfl
theorem in_X1 : ∀ w ∈ wsX10, w ∈ lw_all := lw_in wsX10 [45, 47, 49, 51, 53, 55, 57, 59, 61, 63, 65, 67, 69, 71, 73, 75, 77, 79, 81, 83, 85, 87, 89] (by decide +kernel) (by decide +kernel)
end
section
/-! RoundArchiveModel -/
set_option maxRecDepth 100000
def RX2 : String := "RoundArchiveModel"
def TX2 : u_T := fun k => match k with
  | 0 => ("RoundArchiveModel", "wheel", "Z", false)
  | 1 => ("RoundArchiveModel", "wide", "I", false)
  | 2 => ("RoundArchiveModel", "beat", "I", false)
  | 3 => ("RoundArchiveModel", "span", "[I", false)
  | 4 => ("RoundArchiveModel", "rule", "[I", false)
  | 5 => ("RoundArchiveModel", "bear", "[I", false)
  | 6 => ("RoundArchiveModel", "room", "[I", false)
  | 7 => ("RoundArchiveModel", "last", "I", false)
  | 8 => ("RoundArchiveModel", "state", "I", false)
  | _ => ("RoundArchiveModel", "value", "[I", false)
def tyX2 : Nat → FieldType := fun k => match k with
  | 0 => .boolean
  | 1 => .int
  | 2 => .int
  | 3 => .array .int
  | 4 => .array .int
  | 5 => .array .int
  | 6 => .array .int
  | 7 => .int
  | 8 => .int
  | _ => .array .int
abbrev wsX20 : List Cond := u_ws RX2 TX2 10
theorem nmX2 : ∀ a, a < 10 → ∀ b, b < 10 → a ≠ b → (TX2 a).2.1 ≠ (TX2 b).2.1 := by decide +kernel
theorem tyX2_ok : ∀ k, k < 10 → parseFieldDescriptor (TX2 k).2.2.1 = some (tyX2 k) := by decide +kernel
abbrev cX2_init : ByteArray := prog_3_method_1_code
def yX2_init : MethodName := ⟨RX2, "<init>", "(III)V"⟩
theorem dX2_init_0 : decode cX2_init 0 = .ok (.aload_n 0, 1) := by decide +kernel
theorem dX2_init_1 : decode cX2_init 1 = .ok (.invokespecial 1, 3) := by decide +kernel
theorem dX2_init_4 : decode cX2_init 4 = .ok (.aload_n 0, 1) := by decide +kernel
theorem dX2_init_5 : decode cX2_init 5 = .ok (.iconst 2, 1) := by decide +kernel
theorem dX2_init_6 : decode cX2_init 6 = .ok (.newarray .int, 2) := by decide +kernel
theorem dX2_init_8 : decode cX2_init 8 = .ok (.putfield 7, 3) := by decide +kernel
theorem dX2_init_11 : decode cX2_init 11 = .ok (.aload_n 0, 1) := by decide +kernel
theorem dX2_init_12 : decode cX2_init 12 = .ok (.iconst 2, 1) := by decide +kernel
theorem dX2_init_13 : decode cX2_init 13 = .ok (.newarray .int, 2) := by decide +kernel
theorem dX2_init_15 : decode cX2_init 15 = .ok (.putfield 13, 3) := by decide +kernel
theorem dX2_init_18 : decode cX2_init 18 = .ok (.aload_n 0, 1) := by decide +kernel
theorem dX2_init_19 : decode cX2_init 19 = .ok (.iconst 2, 1) := by decide +kernel
theorem dX2_init_20 : decode cX2_init 20 = .ok (.newarray .int, 2) := by decide +kernel
theorem dX2_init_22 : decode cX2_init 22 = .ok (.putfield 16, 3) := by decide +kernel
theorem dX2_init_25 : decode cX2_init 25 = .ok (.aload_n 0, 1) := by decide +kernel
theorem dX2_init_26 : decode cX2_init 26 = .ok (.iconst 2, 1) := by decide +kernel
theorem dX2_init_27 : decode cX2_init 27 = .ok (.newarray .int, 2) := by decide +kernel
theorem dX2_init_29 : decode cX2_init 29 = .ok (.putfield 19, 3) := by decide +kernel
theorem dX2_init_32 : decode cX2_init 32 = .ok (.aload_n 0, 1) := by decide +kernel
theorem dX2_init_33 : decode cX2_init 33 = .ok (.sipush 241, 3) := by decide +kernel
theorem dX2_init_36 : decode cX2_init 36 = .ok (.newarray .int, 2) := by decide +kernel
theorem dX2_init_38 : decode cX2_init 38 = .ok (.putfield 22, 3) := by decide +kernel
theorem dX2_init_41 : decode cX2_init 41 = .ok (.aload_n 0, 1) := by decide +kernel
theorem dX2_init_42 : decode cX2_init 42 = .ok (.iload_n 1, 1) := by decide +kernel
theorem dX2_init_43 : decode cX2_init 43 = .ok (.iconst 1, 1) := by decide +kernel
theorem dX2_init_44 : decode cX2_init 44 = .ok (.if_icmp .lt 7, 3) := by decide +kernel
theorem dX2_init_47 : decode cX2_init 47 = .ok (.iconst 1, 1) := by decide +kernel
theorem dX2_init_48 : decode cX2_init 48 = .ok (.goto 4, 3) := by decide +kernel
theorem dX2_init_51 : decode cX2_init 51 = .ok (.iconst 0, 1) := by decide +kernel
theorem dX2_init_52 : decode cX2_init 52 = .ok (.putfield 25, 3) := by decide +kernel
theorem dX2_init_55 : decode cX2_init 55 = .ok (.aload_n 0, 1) := by decide +kernel
theorem dX2_init_56 : decode cX2_init 56 = .ok (.iload_n 2, 1) := by decide +kernel
theorem dX2_init_57 : decode cX2_init 57 = .ok (.iconst 1, 1) := by decide +kernel
theorem dX2_init_58 : decode cX2_init 58 = .ok (.if_icmp .ge 7, 3) := by decide +kernel
theorem dX2_init_61 : decode cX2_init 61 = .ok (.iconst 1, 1) := by decide +kernel
theorem dX2_init_62 : decode cX2_init 62 = .ok (.goto 15, 3) := by decide +kernel
theorem dX2_init_65 : decode cX2_init 65 = .ok (.iload_n 2, 1) := by decide +kernel
theorem dX2_init_66 : decode cX2_init 66 = .ok (.bipush 6, 2) := by decide +kernel
theorem dX2_init_68 : decode cX2_init 68 = .ok (.if_icmp .le 8, 3) := by decide +kernel
theorem dX2_init_71 : decode cX2_init 71 = .ok (.bipush 6, 2) := by decide +kernel
theorem dX2_init_73 : decode cX2_init 73 = .ok (.goto 4, 3) := by decide +kernel
theorem dX2_init_76 : decode cX2_init 76 = .ok (.iload_n 2, 1) := by decide +kernel
theorem dX2_init_77 : decode cX2_init 77 = .ok (.putfield 29, 3) := by decide +kernel
theorem dX2_init_80 : decode cX2_init 80 = .ok (.aload_n 0, 1) := by decide +kernel
theorem dX2_init_81 : decode cX2_init 81 = .ok (.iload_n 3, 1) := by decide +kernel
theorem dX2_init_82 : decode cX2_init 82 = .ok (.iconst 1, 1) := by decide +kernel
theorem dX2_init_83 : decode cX2_init 83 = .ok (.if_icmp .ge 7, 3) := by decide +kernel
theorem dX2_init_86 : decode cX2_init 86 = .ok (.iconst 1, 1) := by decide +kernel
theorem dX2_init_87 : decode cX2_init 87 = .ok (.goto 15, 3) := by decide +kernel
theorem dX2_init_90 : decode cX2_init 90 = .ok (.iload_n 3, 1) := by decide +kernel
theorem dX2_init_91 : decode cX2_init 91 = .ok (.bipush 30, 2) := by decide +kernel
theorem dX2_init_93 : decode cX2_init 93 = .ok (.if_icmp .le 8, 3) := by decide +kernel
theorem dX2_init_96 : decode cX2_init 96 = .ok (.bipush 30, 2) := by decide +kernel
theorem dX2_init_98 : decode cX2_init 98 = .ok (.goto 4, 3) := by decide +kernel
theorem dX2_init_101 : decode cX2_init 101 = .ok (.iload_n 3, 1) := by decide +kernel
theorem dX2_init_102 : decode cX2_init 102 = .ok (.putfield 33, 3) := by decide +kernel
theorem dX2_init_105 : decode cX2_init 105 = .ok (.iconst 0, 1) := by decide +kernel
theorem dX2_init_106 : decode cX2_init 106 = .ok (.istore 4, 2) := by decide +kernel
theorem dX2_init_108 : decode cX2_init 108 = .ok (.iload 4, 2) := by decide +kernel
theorem dX2_init_110 : decode cX2_init 110 = .ok (.iconst 2, 1) := by decide +kernel
theorem dX2_init_111 : decode cX2_init 111 = .ok (.if_icmp .ge 25, 3) := by decide +kernel
theorem dX2_init_114 : decode cX2_init 114 = .ok (.aload_n 0, 1) := by decide +kernel
theorem dX2_init_115 : decode cX2_init 115 = .ok (.getfield 7, 3) := by decide +kernel
theorem dX2_init_118 : decode cX2_init 118 = .ok (.iload 4, 2) := by decide +kernel
theorem dX2_init_120 : decode cX2_init 120 = .ok (.iconst 1, 1) := by decide +kernel
theorem dX2_init_121 : decode cX2_init 121 = .ok (.iastore, 1) := by decide +kernel
theorem dX2_init_122 : decode cX2_init 122 = .ok (.aload_n 0, 1) := by decide +kernel
theorem dX2_init_123 : decode cX2_init 123 = .ok (.getfield 19, 3) := by decide +kernel
theorem dX2_init_126 : decode cX2_init 126 = .ok (.iload 4, 2) := by decide +kernel
theorem dX2_init_128 : decode cX2_init 128 = .ok (.iconst 4, 1) := by decide +kernel
theorem dX2_init_129 : decode cX2_init 129 = .ok (.iastore, 1) := by decide +kernel
theorem dX2_init_130 : decode cX2_init 130 = .ok (.iinc 4 1, 3) := by decide +kernel
theorem dX2_init_133 : decode cX2_init 133 = .ok (.goto (-25), 3) := by decide +kernel
theorem dX2_init_136 : decode cX2_init 136 = .ok (.return_, 1) := by decide +kernel
abbrev cX2_shape : ByteArray := prog_3_method_2_code
def yX2_shape : MethodName := ⟨RX2, "shape", "(II)Z"⟩
theorem dX2_shape_0 : decode cX2_shape 0 = .ok (.iload_n 2, 1) := by decide +kernel
theorem dX2_shape_1 : decode cX2_shape 1 = .ok (.bipush 7, 2) := by decide +kernel
theorem dX2_shape_3 : decode cX2_shape 3 = .ok (.iand, 1) := by decide +kernel
theorem dX2_shape_4 : decode cX2_shape 4 = .ok (.istore_n 3, 1) := by decide +kernel
theorem dX2_shape_5 : decode cX2_shape 5 = .ok (.iload_n 2, 1) := by decide +kernel
theorem dX2_shape_6 : decode cX2_shape 6 = .ok (.iconst 3, 1) := by decide +kernel
theorem dX2_shape_7 : decode cX2_shape 7 = .ok (.ishr, 1) := by decide +kernel
theorem dX2_shape_8 : decode cX2_shape 8 = .ok (.bipush 7, 2) := by decide +kernel
theorem dX2_shape_10 : decode cX2_shape 10 = .ok (.iand, 1) := by decide +kernel
theorem dX2_shape_11 : decode cX2_shape 11 = .ok (.istore 4, 2) := by decide +kernel
theorem dX2_shape_13 : decode cX2_shape 13 = .ok (.iload_n 2, 1) := by decide +kernel
theorem dX2_shape_14 : decode cX2_shape 14 = .ok (.bipush 6, 2) := by decide +kernel
theorem dX2_shape_16 : decode cX2_shape 16 = .ok (.ishr, 1) := by decide +kernel
theorem dX2_shape_17 : decode cX2_shape 17 = .ok (.bipush 7, 2) := by decide +kernel
theorem dX2_shape_19 : decode cX2_shape 19 = .ok (.iand, 1) := by decide +kernel
theorem dX2_shape_20 : decode cX2_shape 20 = .ok (.istore 5, 2) := by decide +kernel
theorem dX2_shape_22 : decode cX2_shape 22 = .ok (.iload_n 2, 1) := by decide +kernel
theorem dX2_shape_23 : decode cX2_shape 23 = .ok (.bipush 9, 2) := by decide +kernel
theorem dX2_shape_25 : decode cX2_shape 25 = .ok (.ishr, 1) := by decide +kernel
theorem dX2_shape_26 : decode cX2_shape 26 = .ok (.istore 6, 2) := by decide +kernel
theorem dX2_shape_28 : decode cX2_shape 28 = .ok (.iload_n 1, 1) := by decide +kernel
theorem dX2_shape_29 : decode cX2_shape 29 = .ok (.ifCond .eq 8, 3) := by decide +kernel
theorem dX2_shape_32 : decode cX2_shape 32 = .ok (.iload_n 1, 1) := by decide +kernel
theorem dX2_shape_33 : decode cX2_shape 33 = .ok (.iconst 1, 1) := by decide +kernel
theorem dX2_shape_34 : decode cX2_shape 34 = .ok (.if_icmp .ne 45, 3) := by decide +kernel
theorem dX2_shape_37 : decode cX2_shape 37 = .ok (.aload_n 0, 1) := by decide +kernel
theorem dX2_shape_38 : decode cX2_shape 38 = .ok (.getfield 36, 3) := by decide +kernel
theorem dX2_shape_41 : decode cX2_shape 41 = .ok (.ifCond .gt 38, 3) := by decide +kernel
theorem dX2_shape_44 : decode cX2_shape 44 = .ok (.iload_n 3, 1) := by decide +kernel
theorem dX2_shape_45 : decode cX2_shape 45 = .ok (.iconst 1, 1) := by decide +kernel
theorem dX2_shape_46 : decode cX2_shape 46 = .ok (.if_icmp .lt 33, 3) := by decide +kernel
theorem dX2_shape_49 : decode cX2_shape 49 = .ok (.iload_n 3, 1) := by decide +kernel
theorem dX2_shape_50 : decode cX2_shape 50 = .ok (.iconst 4, 1) := by decide +kernel
theorem dX2_shape_51 : decode cX2_shape 51 = .ok (.if_icmp .gt 28, 3) := by decide +kernel
theorem dX2_shape_54 : decode cX2_shape 54 = .ok (.iload 4, 2) := by decide +kernel
theorem dX2_shape_56 : decode cX2_shape 56 = .ok (.iconst 3, 1) := by decide +kernel
theorem dX2_shape_57 : decode cX2_shape 57 = .ok (.if_icmp .gt 22, 3) := by decide +kernel
theorem dX2_shape_60 : decode cX2_shape 60 = .ok (.iload 5, 2) := by decide +kernel
theorem dX2_shape_62 : decode cX2_shape 62 = .ok (.iconst 3, 1) := by decide +kernel
theorem dX2_shape_63 : decode cX2_shape 63 = .ok (.if_icmp .gt 16, 3) := by decide +kernel
theorem dX2_shape_66 : decode cX2_shape 66 = .ok (.iload 6, 2) := by decide +kernel
theorem dX2_shape_68 : decode cX2_shape 68 = .ok (.iconst 1, 1) := by decide +kernel
theorem dX2_shape_69 : decode cX2_shape 69 = .ok (.if_icmp .lt 10, 3) := by decide +kernel
theorem dX2_shape_72 : decode cX2_shape 72 = .ok (.iload 6, 2) := by decide +kernel
theorem dX2_shape_74 : decode cX2_shape 74 = .ok (.bipush 8, 2) := by decide +kernel
theorem dX2_shape_76 : decode cX2_shape 76 = .ok (.if_icmp .le 5, 3) := by decide +kernel
theorem dX2_shape_79 : decode cX2_shape 79 = .ok (.iconst 0, 1) := by decide +kernel
theorem dX2_shape_80 : decode cX2_shape 80 = .ok (.ireturn, 1) := by decide +kernel
theorem dX2_shape_81 : decode cX2_shape 81 = .ok (.aload_n 0, 1) := by decide +kernel
theorem dX2_shape_82 : decode cX2_shape 82 = .ok (.getfield 7, 3) := by decide +kernel
theorem dX2_shape_85 : decode cX2_shape 85 = .ok (.iload_n 1, 1) := by decide +kernel
theorem dX2_shape_86 : decode cX2_shape 86 = .ok (.iload_n 3, 1) := by decide +kernel
theorem dX2_shape_87 : decode cX2_shape 87 = .ok (.iastore, 1) := by decide +kernel
theorem dX2_shape_88 : decode cX2_shape 88 = .ok (.aload_n 0, 1) := by decide +kernel
theorem dX2_shape_89 : decode cX2_shape 89 = .ok (.getfield 13, 3) := by decide +kernel
theorem dX2_shape_92 : decode cX2_shape 92 = .ok (.iload_n 1, 1) := by decide +kernel
theorem dX2_shape_93 : decode cX2_shape 93 = .ok (.iload 4, 2) := by decide +kernel
theorem dX2_shape_95 : decode cX2_shape 95 = .ok (.iastore, 1) := by decide +kernel
theorem dX2_shape_96 : decode cX2_shape 96 = .ok (.aload_n 0, 1) := by decide +kernel
theorem dX2_shape_97 : decode cX2_shape 97 = .ok (.getfield 16, 3) := by decide +kernel
theorem dX2_shape_100 : decode cX2_shape 100 = .ok (.iload_n 1, 1) := by decide +kernel
theorem dX2_shape_101 : decode cX2_shape 101 = .ok (.iload 5, 2) := by decide +kernel
theorem dX2_shape_103 : decode cX2_shape 103 = .ok (.iastore, 1) := by decide +kernel
theorem dX2_shape_104 : decode cX2_shape 104 = .ok (.aload_n 0, 1) := by decide +kernel
theorem dX2_shape_105 : decode cX2_shape 105 = .ok (.getfield 19, 3) := by decide +kernel
theorem dX2_shape_108 : decode cX2_shape 108 = .ok (.iload_n 1, 1) := by decide +kernel
theorem dX2_shape_109 : decode cX2_shape 109 = .ok (.iload 6, 2) := by decide +kernel
theorem dX2_shape_111 : decode cX2_shape 111 = .ok (.iastore, 1) := by decide +kernel
theorem dX2_shape_112 : decode cX2_shape 112 = .ok (.iconst 1, 1) := by decide +kernel
theorem dX2_shape_113 : decode cX2_shape 113 = .ok (.ireturn, 1) := by decide +kernel
abbrev cX2_update : ByteArray := prog_3_method_3_code
def yX2_update : MethodName := ⟨RX2, "update", "(II)Z"⟩
theorem dX2_update_0 : decode cX2_update 0 = .ok (.aload_n 0, 1) := by decide +kernel
theorem dX2_update_1 : decode cX2_update 1 = .ok (.getfield 25, 3) := by decide +kernel
theorem dX2_update_4 : decode cX2_update 4 = .ok (.ifCond .eq 22, 3) := by decide +kernel
theorem dX2_update_7 : decode cX2_update 7 = .ok (.iload_n 2, 1) := by decide +kernel
theorem dX2_update_8 : decode cX2_update 8 = .ok (.ifCond .lt 14, 3) := by decide +kernel
theorem dX2_update_11 : decode cX2_update 11 = .ok (.iload_n 2, 1) := by decide +kernel
theorem dX2_update_12 : decode cX2_update 12 = .ok (.sipush 255, 3) := by decide +kernel
theorem dX2_update_15 : decode cX2_update 15 = .ok (.if_icmp .gt 7, 3) := by decide +kernel
theorem dX2_update_18 : decode cX2_update 18 = .ok (.iconst 1, 1) := by decide +kernel
theorem dX2_update_19 : decode cX2_update 19 = .ok (.goto 26, 3) := by decide +kernel
theorem dX2_update_22 : decode cX2_update 22 = .ok (.iconst 0, 1) := by decide +kernel
theorem dX2_update_23 : decode cX2_update 23 = .ok (.goto 22, 3) := by decide +kernel
theorem dX2_update_26 : decode cX2_update 26 = .ok (.iload_n 2, 1) := by decide +kernel
theorem dX2_update_27 : decode cX2_update 27 = .ok (.sipush (-1000), 3) := by decide +kernel
theorem dX2_update_30 : decode cX2_update 30 = .ok (.if_icmp .lt 14, 3) := by decide +kernel
theorem dX2_update_33 : decode cX2_update 33 = .ok (.iload_n 2, 1) := by decide +kernel
theorem dX2_update_34 : decode cX2_update 34 = .ok (.sipush 1000, 3) := by decide +kernel
theorem dX2_update_37 : decode cX2_update 37 = .ok (.if_icmp .gt 7, 3) := by decide +kernel
theorem dX2_update_40 : decode cX2_update 40 = .ok (.iconst 1, 1) := by decide +kernel
theorem dX2_update_41 : decode cX2_update 41 = .ok (.goto 4, 3) := by decide +kernel
theorem dX2_update_44 : decode cX2_update 44 = .ok (.iconst 0, 1) := by decide +kernel
theorem dX2_update_45 : decode cX2_update 45 = .ok (.istore_n 3, 1) := by decide +kernel
theorem dX2_update_46 : decode cX2_update 46 = .ok (.iload_n 1, 1) := by decide +kernel
theorem dX2_update_47 : decode cX2_update 47 = .ok (.iconst 1, 1) := by decide +kernel
theorem dX2_update_48 : decode cX2_update 48 = .ok (.if_icmp .lt 22, 3) := by decide +kernel
theorem dX2_update_51 : decode cX2_update 51 = .ok (.iload_n 1, 1) := by decide +kernel
theorem dX2_update_52 : decode cX2_update 52 = .ok (.sipush 240, 3) := by decide +kernel
theorem dX2_update_55 : decode cX2_update 55 = .ok (.if_icmp .gt 15, 3) := by decide +kernel
theorem dX2_update_58 : decode cX2_update 58 = .ok (.iload_n 1, 1) := by decide +kernel
theorem dX2_update_59 : decode cX2_update 59 = .ok (.aload_n 0, 1) := by decide +kernel
theorem dX2_update_60 : decode cX2_update 60 = .ok (.getfield 36, 3) := by decide +kernel
theorem dX2_update_63 : decode cX2_update 63 = .ok (.if_icmp .le 7, 3) := by decide +kernel
theorem dX2_update_66 : decode cX2_update 66 = .ok (.iload_n 3, 1) := by decide +kernel
theorem dX2_update_67 : decode cX2_update 67 = .ok (.ifCond .ne 5, 3) := by decide +kernel
theorem dX2_update_70 : decode cX2_update 70 = .ok (.iconst 0, 1) := by decide +kernel
theorem dX2_update_71 : decode cX2_update 71 = .ok (.ireturn, 1) := by decide +kernel
theorem dX2_update_72 : decode cX2_update 72 = .ok (.iload_n 1, 1) := by decide +kernel
theorem dX2_update_73 : decode cX2_update 73 = .ok (.aload_n 0, 1) := by decide +kernel
theorem dX2_update_74 : decode cX2_update 74 = .ok (.getfield 36, 3) := by decide +kernel
theorem dX2_update_77 : decode cX2_update 77 = .ok (.isub, 1) := by decide +kernel
theorem dX2_update_78 : decode cX2_update 78 = .ok (.istore 4, 2) := by decide +kernel
theorem dX2_update_80 : decode cX2_update 80 = .ok (.iload_n 2, 1) := by decide +kernel
theorem dX2_update_81 : decode cX2_update 81 = .ok (.aload_n 0, 1) := by decide +kernel
theorem dX2_update_82 : decode cX2_update 82 = .ok (.getfield 39, 3) := by decide +kernel
theorem dX2_update_85 : decode cX2_update 85 = .ok (.isub, 1) := by decide +kernel
theorem dX2_update_86 : decode cX2_update 86 = .ok (.sipush 256, 3) := by decide +kernel
theorem dX2_update_89 : decode cX2_update 89 = .ok (.iadd, 1) := by decide +kernel
theorem dX2_update_90 : decode cX2_update 90 = .ok (.sipush 256, 3) := by decide +kernel
theorem dX2_update_93 : decode cX2_update 93 = .ok (.irem, 1) := by decide +kernel
theorem dX2_update_94 : decode cX2_update 94 = .ok (.istore 5, 2) := by decide +kernel
theorem dX2_update_96 : decode cX2_update 96 = .ok (.iconst 1, 1) := by decide +kernel
theorem dX2_update_97 : decode cX2_update 97 = .ok (.istore 6, 2) := by decide +kernel
theorem dX2_update_99 : decode cX2_update 99 = .ok (.iload 6, 2) := by decide +kernel
theorem dX2_update_101 : decode cX2_update 101 = .ok (.iload 4, 2) := by decide +kernel
theorem dX2_update_103 : decode cX2_update 103 = .ok (.if_icmp .gt 69, 3) := by decide +kernel
theorem dX2_update_106 : decode cX2_update 106 = .ok (.aload_n 0, 1) := by decide +kernel
theorem dX2_update_107 : decode cX2_update 107 = .ok (.getfield 25, 3) := by decide +kernel
theorem dX2_update_110 : decode cX2_update 110 = .ok (.ifCond .eq 25, 3) := by decide +kernel
theorem dX2_update_113 : decode cX2_update 113 = .ok (.iload 5, 2) := by decide +kernel
theorem dX2_update_115 : decode cX2_update 115 = .ok (.iload 6, 2) := by decide +kernel
theorem dX2_update_117 : decode cX2_update 117 = .ok (.imul, 1) := by decide +kernel
theorem dX2_update_118 : decode cX2_update 118 = .ok (.iload 4, 2) := by decide +kernel
theorem dX2_update_120 : decode cX2_update 120 = .ok (.idiv, 1) := by decide +kernel
theorem dX2_update_121 : decode cX2_update 121 = .ok (.iload 5, 2) := by decide +kernel
theorem dX2_update_123 : decode cX2_update 123 = .ok (.iload 6, 2) := by decide +kernel
theorem dX2_update_125 : decode cX2_update 125 = .ok (.iconst 1, 1) := by decide +kernel
theorem dX2_update_126 : decode cX2_update 126 = .ok (.isub, 1) := by decide +kernel
theorem dX2_update_127 : decode cX2_update 127 = .ok (.imul, 1) := by decide +kernel
theorem dX2_update_128 : decode cX2_update 128 = .ok (.iload 4, 2) := by decide +kernel
theorem dX2_update_130 : decode cX2_update 130 = .ok (.idiv, 1) := by decide +kernel
theorem dX2_update_131 : decode cX2_update 131 = .ok (.isub, 1) := by decide +kernel
theorem dX2_update_132 : decode cX2_update 132 = .ok (.goto 4, 3) := by decide +kernel
theorem dX2_update_135 : decode cX2_update 135 = .ok (.iload_n 2, 1) := by decide +kernel
theorem dX2_update_136 : decode cX2_update 136 = .ok (.istore 7, 2) := by decide +kernel
theorem dX2_update_138 : decode cX2_update 138 = .ok (.aload_n 0, 1) := by decide +kernel
theorem dX2_update_139 : decode cX2_update 139 = .ok (.getfield 22, 3) := by decide +kernel
theorem dX2_update_142 : decode cX2_update 142 = .ok (.aload_n 0, 1) := by decide +kernel
theorem dX2_update_143 : decode cX2_update 143 = .ok (.getfield 36, 3) := by decide +kernel
theorem dX2_update_146 : decode cX2_update 146 = .ok (.iload 6, 2) := by decide +kernel
theorem dX2_update_148 : decode cX2_update 148 = .ok (.iadd, 1) := by decide +kernel
theorem dX2_update_149 : decode cX2_update 149 = .ok (.iload 4, 2) := by decide +kernel
theorem dX2_update_151 : decode cX2_update 151 = .ok (.aload_n 0, 1) := by decide +kernel
theorem dX2_update_152 : decode cX2_update 152 = .ok (.getfield 33, 3) := by decide +kernel
theorem dX2_update_155 : decode cX2_update 155 = .ok (.if_icmp .le 8, 3) := by decide +kernel
theorem dX2_update_158 : decode cX2_update 158 = .ok (.ldc 42, 2) := by decide +kernel
theorem dX2_update_160 : decode cX2_update 160 = .ok (.goto 5, 3) := by decide +kernel
theorem dX2_update_163 : decode cX2_update 163 = .ok (.iload 7, 2) := by decide +kernel
theorem dX2_update_165 : decode cX2_update 165 = .ok (.iastore, 1) := by decide +kernel
theorem dX2_update_166 : decode cX2_update 166 = .ok (.iinc 6 1, 3) := by decide +kernel
theorem dX2_update_169 : decode cX2_update 169 = .ok (.goto (-70), 3) := by decide +kernel
theorem dX2_update_172 : decode cX2_update 172 = .ok (.aload_n 0, 1) := by decide +kernel
theorem dX2_update_173 : decode cX2_update 173 = .ok (.aload_n 0, 1) := by decide +kernel
theorem dX2_update_174 : decode cX2_update 174 = .ok (.getfield 25, 3) := by decide +kernel
theorem dX2_update_177 : decode cX2_update 177 = .ok (.ifCond .eq 7, 3) := by decide +kernel
theorem dX2_update_180 : decode cX2_update 180 = .ok (.iload_n 2, 1) := by decide +kernel
theorem dX2_update_181 : decode cX2_update 181 = .ok (.goto 4, 3) := by decide +kernel
theorem dX2_update_184 : decode cX2_update 184 = .ok (.iconst 0, 1) := by decide +kernel
theorem dX2_update_185 : decode cX2_update 185 = .ok (.putfield 39, 3) := by decide +kernel
theorem dX2_update_188 : decode cX2_update 188 = .ok (.aload_n 0, 1) := by decide +kernel
theorem dX2_update_189 : decode cX2_update 189 = .ok (.iload_n 1, 1) := by decide +kernel
theorem dX2_update_190 : decode cX2_update 190 = .ok (.putfield 36, 3) := by decide +kernel
theorem dX2_update_193 : decode cX2_update 193 = .ok (.iconst 1, 1) := by decide +kernel
theorem dX2_update_194 : decode cX2_update 194 = .ok (.ireturn, 1) := by decide +kernel
abbrev cX2_lastTime : ByteArray := prog_3_method_4_code
def yX2_lastTime : MethodName := ⟨RX2, "lastTime", "()I"⟩
theorem dX2_lastTime_0 : decode cX2_lastTime 0 = .ok (.aload_n 0, 1) := by decide +kernel
theorem dX2_lastTime_1 : decode cX2_lastTime 1 = .ok (.getfield 36, 3) := by decide +kernel
theorem dX2_lastTime_4 : decode cX2_lastTime 4 = .ok (.ireturn, 1) := by decide +kernel
abbrev cX2_moment : ByteArray := prog_3_method_5_code
def yX2_moment : MethodName := ⟨RX2, "moment", "(I)I"⟩
theorem dX2_moment_0 : decode cX2_moment 0 = .ok (.iload_n 1, 1) := by decide +kernel
theorem dX2_moment_1 : decode cX2_moment 1 = .ok (.iconst 1, 1) := by decide +kernel
theorem dX2_moment_2 : decode cX2_moment 2 = .ok (.if_icmp .lt 22, 3) := by decide +kernel
theorem dX2_moment_5 : decode cX2_moment 5 = .ok (.iload_n 1, 1) := by decide +kernel
theorem dX2_moment_6 : decode cX2_moment 6 = .ok (.aload_n 0, 1) := by decide +kernel
theorem dX2_moment_7 : decode cX2_moment 7 = .ok (.getfield 36, 3) := by decide +kernel
theorem dX2_moment_10 : decode cX2_moment 10 = .ok (.if_icmp .gt 14, 3) := by decide +kernel
theorem dX2_moment_13 : decode cX2_moment 13 = .ok (.aload_n 0, 1) := by decide +kernel
theorem dX2_moment_14 : decode cX2_moment 14 = .ok (.getfield 36, 3) := by decide +kernel
theorem dX2_moment_17 : decode cX2_moment 17 = .ok (.iload_n 1, 1) := by decide +kernel
theorem dX2_moment_18 : decode cX2_moment 18 = .ok (.isub, 1) := by decide +kernel
theorem dX2_moment_19 : decode cX2_moment 19 = .ok (.bipush 30, 2) := by decide +kernel
theorem dX2_moment_21 : decode cX2_moment 21 = .ok (.if_icmp .le 8, 3) := by decide +kernel
theorem dX2_moment_24 : decode cX2_moment 24 = .ok (.ldc 43, 2) := by decide +kernel
theorem dX2_moment_26 : decode cX2_moment 26 = .ok (.goto 9, 3) := by decide +kernel
theorem dX2_moment_29 : decode cX2_moment 29 = .ok (.aload_n 0, 1) := by decide +kernel
theorem dX2_moment_30 : decode cX2_moment 30 = .ok (.getfield 22, 3) := by decide +kernel
theorem dX2_moment_33 : decode cX2_moment 33 = .ok (.iload_n 1, 1) := by decide +kernel
theorem dX2_moment_34 : decode cX2_moment 34 = .ok (.iaload, 1) := by decide +kernel
theorem dX2_moment_35 : decode cX2_moment 35 = .ok (.ireturn, 1) := by decide +kernel
abbrev cX2_steps : ByteArray := prog_3_method_6_code
def yX2_steps : MethodName := ⟨RX2, "steps", "()I"⟩
theorem dX2_steps_0 : decode cX2_steps 0 = .ok (.aload_n 0, 1) := by decide +kernel
theorem dX2_steps_1 : decode cX2_steps 1 = .ok (.getfield 36, 3) := by decide +kernel
theorem dX2_steps_4 : decode cX2_steps 4 = .ok (.aload_n 0, 1) := by decide +kernel
theorem dX2_steps_5 : decode cX2_steps 5 = .ok (.getfield 29, 3) := by decide +kernel
theorem dX2_steps_8 : decode cX2_steps 8 = .ok (.idiv, 1) := by decide +kernel
theorem dX2_steps_9 : decode cX2_steps 9 = .ok (.ireturn, 1) := by decide +kernel
abbrev cX2_lastStep : ByteArray := prog_3_method_9_code
def yX2_lastStep : MethodName := ⟨RX2, "lastStep", "()I"⟩
theorem dX2_lastStep_0 : decode cX2_lastStep 0 = .ok (.aload_n 0, 1) := by decide +kernel
theorem dX2_lastStep_1 : decode cX2_lastStep 1 = .ok (.invokevirtual 48, 3) := by decide +kernel
theorem dX2_lastStep_4 : decode cX2_lastStep 4 = .ok (.istore_n 1, 1) := by decide +kernel
theorem dX2_lastStep_5 : decode cX2_lastStep 5 = .ok (.iload_n 1, 1) := by decide +kernel
theorem dX2_lastStep_6 : decode cX2_lastStep 6 = .ok (.ifCond .ne 8, 3) := by decide +kernel
theorem dX2_lastStep_9 : decode cX2_lastStep 9 = .ok (.ldc 43, 2) := by decide +kernel
theorem dX2_lastStep_11 : decode cX2_lastStep 11 = .ok (.goto 10, 3) := by decide +kernel
theorem dX2_lastStep_14 : decode cX2_lastStep 14 = .ok (.aload_n 0, 1) := by decide +kernel
theorem dX2_lastStep_15 : decode cX2_lastStep 15 = .ok (.iload_n 1, 1) := by decide +kernel
theorem dX2_lastStep_16 : decode cX2_lastStep 16 = .ok (.iconst 1, 1) := by decide +kernel
theorem dX2_lastStep_17 : decode cX2_lastStep 17 = .ok (.isub, 1) := by decide +kernel
theorem dX2_lastStep_18 : decode cX2_lastStep 18 = .ok (.invokevirtual 52, 3) := by decide +kernel
theorem dX2_lastStep_21 : decode cX2_lastStep 21 = .ok (.ireturn, 1) := by decide +kernel
abbrev cX2_step : ByteArray := prog_3_method_8_code
def yX2_step : MethodName := ⟨RX2, "step", "(I)I"⟩
theorem dX2_step_0 : decode cX2_step 0 = .ok (.iconst 0, 1) := by decide +kernel
theorem dX2_step_1 : decode cX2_step 1 = .ok (.istore_n 2, 1) := by decide +kernel
theorem dX2_step_2 : decode cX2_step 2 = .ok (.iconst 0, 1) := by decide +kernel
theorem dX2_step_3 : decode cX2_step 3 = .ok (.istore_n 3, 1) := by decide +kernel
theorem dX2_step_4 : decode cX2_step 4 = .ok (.iload_n 1, 1) := by decide +kernel
theorem dX2_step_5 : decode cX2_step 5 = .ok (.aload_n 0, 1) := by decide +kernel
theorem dX2_step_6 : decode cX2_step 6 = .ok (.getfield 29, 3) := by decide +kernel
theorem dX2_step_9 : decode cX2_step 9 = .ok (.imul, 1) := by decide +kernel
theorem dX2_step_10 : decode cX2_step 10 = .ok (.iconst 1, 1) := by decide +kernel
theorem dX2_step_11 : decode cX2_step 11 = .ok (.iadd, 1) := by decide +kernel
theorem dX2_step_12 : decode cX2_step 12 = .ok (.istore 4, 2) := by decide +kernel
theorem dX2_step_14 : decode cX2_step 14 = .ok (.iload 4, 2) := by decide +kernel
theorem dX2_step_16 : decode cX2_step 16 = .ok (.iload_n 1, 1) := by decide +kernel
theorem dX2_step_17 : decode cX2_step 17 = .ok (.iconst 1, 1) := by decide +kernel
theorem dX2_step_18 : decode cX2_step 18 = .ok (.iadd, 1) := by decide +kernel
theorem dX2_step_19 : decode cX2_step 19 = .ok (.aload_n 0, 1) := by decide +kernel
theorem dX2_step_20 : decode cX2_step 20 = .ok (.getfield 29, 3) := by decide +kernel
theorem dX2_step_23 : decode cX2_step 23 = .ok (.imul, 1) := by decide +kernel
theorem dX2_step_24 : decode cX2_step 24 = .ok (.if_icmp .gt 42, 3) := by decide +kernel
theorem dX2_step_27 : decode cX2_step 27 = .ok (.iload 4, 2) := by decide +kernel
theorem dX2_step_29 : decode cX2_step 29 = .ok (.sipush 240, 3) := by decide +kernel
theorem dX2_step_32 : decode cX2_step 32 = .ok (.if_icmp .gt 34, 3) := by decide +kernel
theorem dX2_step_35 : decode cX2_step 35 = .ok (.aload_n 0, 1) := by decide +kernel
theorem dX2_step_36 : decode cX2_step 36 = .ok (.getfield 22, 3) := by decide +kernel
theorem dX2_step_39 : decode cX2_step 39 = .ok (.iload 4, 2) := by decide +kernel
theorem dX2_step_41 : decode cX2_step 41 = .ok (.iaload, 1) := by decide +kernel
theorem dX2_step_42 : decode cX2_step 42 = .ok (.ldc 42, 2) := by decide +kernel
theorem dX2_step_44 : decode cX2_step 44 = .ok (.if_icmp .eq 16, 3) := by decide +kernel
theorem dX2_step_47 : decode cX2_step 47 = .ok (.iload_n 2, 1) := by decide +kernel
theorem dX2_step_48 : decode cX2_step 48 = .ok (.aload_n 0, 1) := by decide +kernel
theorem dX2_step_49 : decode cX2_step 49 = .ok (.getfield 22, 3) := by decide +kernel
theorem dX2_step_52 : decode cX2_step 52 = .ok (.iload 4, 2) := by decide +kernel
theorem dX2_step_54 : decode cX2_step 54 = .ok (.iaload, 1) := by decide +kernel
theorem dX2_step_55 : decode cX2_step 55 = .ok (.iadd, 1) := by decide +kernel
theorem dX2_step_56 : decode cX2_step 56 = .ok (.istore_n 2, 1) := by decide +kernel
theorem dX2_step_57 : decode cX2_step 57 = .ok (.iinc 3 1, 3) := by decide +kernel
theorem dX2_step_60 : decode cX2_step 60 = .ok (.iinc 4 1, 3) := by decide +kernel
theorem dX2_step_63 : decode cX2_step 63 = .ok (.goto (-49), 3) := by decide +kernel
theorem dX2_step_66 : decode cX2_step 66 = .ok (.iconst 2, 1) := by decide +kernel
theorem dX2_step_67 : decode cX2_step 67 = .ok (.aload_n 0, 1) := by decide +kernel
theorem dX2_step_68 : decode cX2_step 68 = .ok (.getfield 29, 3) := by decide +kernel
theorem dX2_step_71 : decode cX2_step 71 = .ok (.iload_n 3, 1) := by decide +kernel
theorem dX2_step_72 : decode cX2_step 72 = .ok (.isub, 1) := by decide +kernel
theorem dX2_step_73 : decode cX2_step 73 = .ok (.imul, 1) := by decide +kernel
theorem dX2_step_74 : decode cX2_step 74 = .ok (.aload_n 0, 1) := by decide +kernel
theorem dX2_step_75 : decode cX2_step 75 = .ok (.getfield 29, 3) := by decide +kernel
theorem dX2_step_78 : decode cX2_step 78 = .ok (.if_icmp .gt 12, 3) := by decide +kernel
theorem dX2_step_81 : decode cX2_step 81 = .ok (.aload_n 0, 1) := by decide +kernel
theorem dX2_step_82 : decode cX2_step 82 = .ok (.iload_n 2, 1) := by decide +kernel
theorem dX2_step_83 : decode cX2_step 83 = .ok (.iload_n 3, 1) := by decide +kernel
theorem dX2_step_84 : decode cX2_step 84 = .ok (.invokevirtual 44, 3) := by decide +kernel
theorem dX2_step_87 : decode cX2_step 87 = .ok (.goto 5, 3) := by decide +kernel
theorem dX2_step_90 : decode cX2_step 90 = .ok (.ldc 42, 2) := by decide +kernel
theorem dX2_step_92 : decode cX2_step 92 = .ok (.ireturn, 1) := by decide +kernel
abbrev cX2_floor : ByteArray := prog_3_method_7_code
def yX2_floor : MethodName := ⟨RX2, "floor", "(II)I"⟩
theorem dX2_floor_0 : decode cX2_floor 0 = .ok (.iload_n 2, 1) := by decide +kernel
theorem dX2_floor_1 : decode cX2_floor 1 = .ok (.ifCond .le 9, 3) := by decide +kernel
theorem dX2_floor_4 : decode cX2_floor 4 = .ok (.iload_n 1, 1) := by decide +kernel
theorem dX2_floor_5 : decode cX2_floor 5 = .ok (.iload_n 2, 1) := by decide +kernel
theorem dX2_floor_6 : decode cX2_floor 6 = .ok (.idiv, 1) := by decide +kernel
theorem dX2_floor_7 : decode cX2_floor 7 = .ok (.goto 4, 3) := by decide +kernel
theorem dX2_floor_10 : decode cX2_floor 10 = .ok (.iconst 0, 1) := by decide +kernel
theorem dX2_floor_11 : decode cX2_floor 11 = .ok (.istore_n 3, 1) := by decide +kernel
theorem dX2_floor_12 : decode cX2_floor 12 = .ok (.iload_n 2, 1) := by decide +kernel
theorem dX2_floor_13 : decode cX2_floor 13 = .ok (.ifCond .le 15, 3) := by decide +kernel
theorem dX2_floor_16 : decode cX2_floor 16 = .ok (.iload_n 1, 1) := by decide +kernel
theorem dX2_floor_17 : decode cX2_floor 17 = .ok (.iload_n 2, 1) := by decide +kernel
theorem dX2_floor_18 : decode cX2_floor 18 = .ok (.irem, 1) := by decide +kernel
theorem dX2_floor_19 : decode cX2_floor 19 = .ok (.ifCond .ge 9, 3) := by decide +kernel
theorem dX2_floor_22 : decode cX2_floor 22 = .ok (.iload_n 3, 1) := by decide +kernel
theorem dX2_floor_23 : decode cX2_floor 23 = .ok (.iconst 1, 1) := by decide +kernel
theorem dX2_floor_24 : decode cX2_floor 24 = .ok (.isub, 1) := by decide +kernel
theorem dX2_floor_25 : decode cX2_floor 25 = .ok (.goto 4, 3) := by decide +kernel
theorem dX2_floor_28 : decode cX2_floor 28 = .ok (.iload_n 3, 1) := by decide +kernel
theorem dX2_floor_29 : decode cX2_floor 29 = .ok (.ireturn, 1) := by decide +kernel
abbrev cX2_rows : ByteArray := prog_3_method_10_code
def yX2_rows : MethodName := ⟨RX2, "rows", "(I)I"⟩
theorem dX2_rows_0 : decode cX2_rows 0 = .ok (.iload_n 1, 1) := by decide +kernel
theorem dX2_rows_1 : decode cX2_rows 1 = .ok (.ifCond .eq 8, 3) := by decide +kernel
theorem dX2_rows_4 : decode cX2_rows 4 = .ok (.iload_n 1, 1) := by decide +kernel
theorem dX2_rows_5 : decode cX2_rows 5 = .ok (.iconst 1, 1) := by decide +kernel
theorem dX2_rows_6 : decode cX2_rows 6 = .ok (.if_icmp .ne 17, 3) := by decide +kernel
theorem dX2_rows_9 : decode cX2_rows 9 = .ok (.aload_n 0, 1) := by decide +kernel
theorem dX2_rows_10 : decode cX2_rows 10 = .ok (.invokevirtual 48, 3) := by decide +kernel
theorem dX2_rows_13 : decode cX2_rows 13 = .ok (.aload_n 0, 1) := by decide +kernel
theorem dX2_rows_14 : decode cX2_rows 14 = .ok (.getfield 7, 3) := by decide +kernel
theorem dX2_rows_17 : decode cX2_rows 17 = .ok (.iload_n 1, 1) := by decide +kernel
theorem dX2_rows_18 : decode cX2_rows 18 = .ok (.iaload, 1) := by decide +kernel
theorem dX2_rows_19 : decode cX2_rows 19 = .ok (.idiv, 1) := by decide +kernel
theorem dX2_rows_20 : decode cX2_rows 20 = .ok (.goto 4, 3) := by decide +kernel
theorem dX2_rows_23 : decode cX2_rows 23 = .ok (.iconst 0, 1) := by decide +kernel
theorem dX2_rows_24 : decode cX2_rows 24 = .ok (.ireturn, 1) := by decide +kernel
abbrev cX2_row : ByteArray := prog_3_method_11_code
def yX2_row : MethodName := ⟨RX2, "row", "(II)I"⟩
theorem dX2_row_0 : decode cX2_row 0 = .ok (.aload_n 0, 1) := by decide +kernel
theorem dX2_row_1 : decode cX2_row 1 = .ok (.iload_n 1, 1) := by decide +kernel
theorem dX2_row_2 : decode cX2_row 2 = .ok (.invokevirtual 56, 3) := by decide +kernel
theorem dX2_row_5 : decode cX2_row 5 = .ok (.istore_n 3, 1) := by decide +kernel
theorem dX2_row_6 : decode cX2_row 6 = .ok (.iload_n 2, 1) := by decide +kernel
theorem dX2_row_7 : decode cX2_row 7 = .ok (.ifCond .lt 22, 3) := by decide +kernel
theorem dX2_row_10 : decode cX2_row 10 = .ok (.iload_n 2, 1) := by decide +kernel
theorem dX2_row_11 : decode cX2_row 11 = .ok (.iload_n 3, 1) := by decide +kernel
theorem dX2_row_12 : decode cX2_row 12 = .ok (.if_icmp .ge 17, 3) := by decide +kernel
theorem dX2_row_15 : decode cX2_row 15 = .ok (.iload_n 2, 1) := by decide +kernel
theorem dX2_row_16 : decode cX2_row 16 = .ok (.iload_n 3, 1) := by decide +kernel
theorem dX2_row_17 : decode cX2_row 17 = .ok (.aload_n 0, 1) := by decide +kernel
theorem dX2_row_18 : decode cX2_row 18 = .ok (.getfield 19, 3) := by decide +kernel
theorem dX2_row_21 : decode cX2_row 21 = .ok (.iload_n 1, 1) := by decide +kernel
theorem dX2_row_22 : decode cX2_row 22 = .ok (.iconst 1, 1) := by decide +kernel
theorem dX2_row_23 : decode cX2_row 23 = .ok (.iand, 1) := by decide +kernel
theorem dX2_row_24 : decode cX2_row 24 = .ok (.iaload, 1) := by decide +kernel
theorem dX2_row_25 : decode cX2_row 25 = .ok (.isub, 1) := by decide +kernel
theorem dX2_row_26 : decode cX2_row 26 = .ok (.if_icmp .ge 8, 3) := by decide +kernel
theorem dX2_row_29 : decode cX2_row 29 = .ok (.ldc 43, 2) := by decide +kernel
theorem dX2_row_31 : decode cX2_row 31 = .ok (.goto 9, 3) := by decide +kernel
theorem dX2_row_34 : decode cX2_row 34 = .ok (.aload_n 0, 1) := by decide +kernel
theorem dX2_row_35 : decode cX2_row 35 = .ok (.iload_n 1, 1) := by decide +kernel
theorem dX2_row_36 : decode cX2_row 36 = .ok (.iload_n 2, 1) := by decide +kernel
theorem dX2_row_37 : decode cX2_row 37 = .ok (.invokevirtual 59, 3) := by decide +kernel
theorem dX2_row_40 : decode cX2_row 40 = .ok (.ireturn, 1) := by decide +kernel
abbrev cX2_made : ByteArray := prog_3_method_12_code
def yX2_made : MethodName := ⟨RX2, "made", "(II)I"⟩
theorem dX2_made_0 : decode cX2_made 0 = .ok (.iconst 0, 1) := by decide +kernel
theorem dX2_made_1 : decode cX2_made 1 = .ok (.istore_n 3, 1) := by decide +kernel
theorem dX2_made_2 : decode cX2_made 2 = .ok (.iconst 0, 1) := by decide +kernel
theorem dX2_made_3 : decode cX2_made 3 = .ok (.istore 4, 2) := by decide +kernel
theorem dX2_made_5 : decode cX2_made 5 = .ok (.iconst 0, 1) := by decide +kernel
theorem dX2_made_6 : decode cX2_made 6 = .ok (.istore 5, 2) := by decide +kernel
theorem dX2_made_8 : decode cX2_made 8 = .ok (.iconst 0, 1) := by decide +kernel
theorem dX2_made_9 : decode cX2_made 9 = .ok (.istore 6, 2) := by decide +kernel
theorem dX2_made_11 : decode cX2_made 11 = .ok (.iconst 0, 1) := by decide +kernel
theorem dX2_made_12 : decode cX2_made 12 = .ok (.istore 7, 2) := by decide +kernel
theorem dX2_made_14 : decode cX2_made 14 = .ok (.iload_n 2, 1) := by decide +kernel
theorem dX2_made_15 : decode cX2_made 15 = .ok (.aload_n 0, 1) := by decide +kernel
theorem dX2_made_16 : decode cX2_made 16 = .ok (.getfield 7, 3) := by decide +kernel
theorem dX2_made_19 : decode cX2_made 19 = .ok (.iload_n 1, 1) := by decide +kernel
theorem dX2_made_20 : decode cX2_made 20 = .ok (.iaload, 1) := by decide +kernel
theorem dX2_made_21 : decode cX2_made 21 = .ok (.imul, 1) := by decide +kernel
theorem dX2_made_22 : decode cX2_made 22 = .ok (.istore 8, 2) := by decide +kernel
theorem dX2_made_24 : decode cX2_made 24 = .ok (.iload 8, 2) := by decide +kernel
theorem dX2_made_26 : decode cX2_made 26 = .ok (.iload_n 2, 1) := by decide +kernel
theorem dX2_made_27 : decode cX2_made 27 = .ok (.iconst 1, 1) := by decide +kernel
theorem dX2_made_28 : decode cX2_made 28 = .ok (.iadd, 1) := by decide +kernel
theorem dX2_made_29 : decode cX2_made 29 = .ok (.aload_n 0, 1) := by decide +kernel
theorem dX2_made_30 : decode cX2_made 30 = .ok (.getfield 7, 3) := by decide +kernel
theorem dX2_made_33 : decode cX2_made 33 = .ok (.iload_n 1, 1) := by decide +kernel
theorem dX2_made_34 : decode cX2_made 34 = .ok (.iaload, 1) := by decide +kernel
theorem dX2_made_35 : decode cX2_made 35 = .ok (.imul, 1) := by decide +kernel
theorem dX2_made_36 : decode cX2_made 36 = .ok (.if_icmp .ge 78, 3) := by decide +kernel
theorem dX2_made_39 : decode cX2_made 39 = .ok (.aload_n 0, 1) := by decide +kernel
theorem dX2_made_40 : decode cX2_made 40 = .ok (.iload 8, 2) := by decide +kernel
theorem dX2_made_42 : decode cX2_made 42 = .ok (.invokevirtual 52, 3) := by decide +kernel
theorem dX2_made_45 : decode cX2_made 45 = .ok (.istore 9, 2) := by decide +kernel
theorem dX2_made_47 : decode cX2_made 47 = .ok (.iload 9, 2) := by decide +kernel
theorem dX2_made_49 : decode cX2_made 49 = .ok (.ldc 42, 2) := by decide +kernel
theorem dX2_made_51 : decode cX2_made 51 = .ok (.if_icmp .eq 57, 3) := by decide +kernel
theorem dX2_made_54 : decode cX2_made 54 = .ok (.iload_n 3, 1) := by decide +kernel
theorem dX2_made_55 : decode cX2_made 55 = .ok (.ifCond .eq 10, 3) := by decide +kernel
theorem dX2_made_58 : decode cX2_made 58 = .ok (.iload 9, 2) := by decide +kernel
theorem dX2_made_60 : decode cX2_made 60 = .ok (.iload 5, 2) := by decide +kernel
theorem dX2_made_62 : decode cX2_made 62 = .ok (.if_icmp .ge 8, 3) := by decide +kernel
theorem dX2_made_65 : decode cX2_made 65 = .ok (.iload 9, 2) := by decide +kernel
theorem dX2_made_67 : decode cX2_made 67 = .ok (.goto 5, 3) := by decide +kernel
theorem dX2_made_70 : decode cX2_made 70 = .ok (.iload 5, 2) := by decide +kernel
theorem dX2_made_72 : decode cX2_made 72 = .ok (.istore 5, 2) := by decide +kernel
theorem dX2_made_74 : decode cX2_made 74 = .ok (.iload_n 3, 1) := by decide +kernel
theorem dX2_made_75 : decode cX2_made 75 = .ok (.ifCond .eq 10, 3) := by decide +kernel
theorem dX2_made_78 : decode cX2_made 78 = .ok (.iload 9, 2) := by decide +kernel
theorem dX2_made_80 : decode cX2_made 80 = .ok (.iload 6, 2) := by decide +kernel
theorem dX2_made_82 : decode cX2_made 82 = .ok (.if_icmp .le 8, 3) := by decide +kernel
theorem dX2_made_85 : decode cX2_made 85 = .ok (.iload 9, 2) := by decide +kernel
theorem dX2_made_87 : decode cX2_made 87 = .ok (.goto 5, 3) := by decide +kernel
theorem dX2_made_90 : decode cX2_made 90 = .ok (.iload 6, 2) := by decide +kernel
theorem dX2_made_92 : decode cX2_made 92 = .ok (.istore 6, 2) := by decide +kernel
theorem dX2_made_94 : decode cX2_made 94 = .ok (.iload 9, 2) := by decide +kernel
theorem dX2_made_96 : decode cX2_made 96 = .ok (.istore 7, 2) := by decide +kernel
theorem dX2_made_98 : decode cX2_made 98 = .ok (.iload 4, 2) := by decide +kernel
theorem dX2_made_100 : decode cX2_made 100 = .ok (.iload 9, 2) := by decide +kernel
theorem dX2_made_102 : decode cX2_made 102 = .ok (.iadd, 1) := by decide +kernel
theorem dX2_made_103 : decode cX2_made 103 = .ok (.istore 4, 2) := by decide +kernel
theorem dX2_made_105 : decode cX2_made 105 = .ok (.iinc 3 1, 3) := by decide +kernel
theorem dX2_made_108 : decode cX2_made 108 = .ok (.iinc 8 1, 3) := by decide +kernel
theorem dX2_made_111 : decode cX2_made 111 = .ok (.goto (-87), 3) := by decide +kernel
theorem dX2_made_114 : decode cX2_made 114 = .ok (.iload_n 3, 1) := by decide +kernel
theorem dX2_made_115 : decode cX2_made 115 = .ok (.ifCond .eq 20, 3) := by decide +kernel
theorem dX2_made_118 : decode cX2_made 118 = .ok (.aload_n 0, 1) := by decide +kernel
theorem dX2_made_119 : decode cX2_made 119 = .ok (.getfield 7, 3) := by decide +kernel
theorem dX2_made_122 : decode cX2_made 122 = .ok (.iload_n 1, 1) := by decide +kernel
theorem dX2_made_123 : decode cX2_made 123 = .ok (.iaload, 1) := by decide +kernel
theorem dX2_made_124 : decode cX2_made 124 = .ok (.iload_n 3, 1) := by decide +kernel
theorem dX2_made_125 : decode cX2_made 125 = .ok (.isub, 1) := by decide +kernel
theorem dX2_made_126 : decode cX2_made 126 = .ok (.aload_n 0, 1) := by decide +kernel
theorem dX2_made_127 : decode cX2_made 127 = .ok (.getfield 16, 3) := by decide +kernel
theorem dX2_made_130 : decode cX2_made 130 = .ok (.iload_n 1, 1) := by decide +kernel
theorem dX2_made_131 : decode cX2_made 131 = .ok (.iaload, 1) := by decide +kernel
theorem dX2_made_132 : decode cX2_made 132 = .ok (.if_icmp .le 6, 3) := by decide +kernel
theorem dX2_made_135 : decode cX2_made 135 = .ok (.ldc 42, 2) := by decide +kernel
theorem dX2_made_137 : decode cX2_made 137 = .ok (.ireturn, 1) := by decide +kernel
theorem dX2_made_138 : decode cX2_made 138 = .ok (.aload_n 0, 1) := by decide +kernel
theorem dX2_made_139 : decode cX2_made 139 = .ok (.getfield 13, 3) := by decide +kernel
theorem dX2_made_142 : decode cX2_made 142 = .ok (.iload_n 1, 1) := by decide +kernel
theorem dX2_made_143 : decode cX2_made 143 = .ok (.iaload, 1) := by decide +kernel
theorem dX2_made_144 : decode cX2_made 144 = .ok (.ifCond .ne 13, 3) := by decide +kernel
theorem dX2_made_147 : decode cX2_made 147 = .ok (.aload_n 0, 1) := by decide +kernel
theorem dX2_made_148 : decode cX2_made 148 = .ok (.iload 4, 2) := by decide +kernel
theorem dX2_made_150 : decode cX2_made 150 = .ok (.iload_n 3, 1) := by decide +kernel
theorem dX2_made_151 : decode cX2_made 151 = .ok (.invokevirtual 44, 3) := by decide +kernel
theorem dX2_made_154 : decode cX2_made 154 = .ok (.goto 35, 3) := by decide +kernel
theorem dX2_made_157 : decode cX2_made 157 = .ok (.aload_n 0, 1) := by decide +kernel
theorem dX2_made_158 : decode cX2_made 158 = .ok (.getfield 13, 3) := by decide +kernel
theorem dX2_made_161 : decode cX2_made 161 = .ok (.iload_n 1, 1) := by decide +kernel
theorem dX2_made_162 : decode cX2_made 162 = .ok (.iaload, 1) := by decide +kernel
theorem dX2_made_163 : decode cX2_made 163 = .ok (.iconst 1, 1) := by decide +kernel
theorem dX2_made_164 : decode cX2_made 164 = .ok (.if_icmp .ne 8, 3) := by decide +kernel
theorem dX2_made_167 : decode cX2_made 167 = .ok (.iload 5, 2) := by decide +kernel
theorem dX2_made_169 : decode cX2_made 169 = .ok (.goto 20, 3) := by decide +kernel
theorem dX2_made_172 : decode cX2_made 172 = .ok (.aload_n 0, 1) := by decide +kernel
theorem dX2_made_173 : decode cX2_made 173 = .ok (.getfield 13, 3) := by decide +kernel
theorem dX2_made_176 : decode cX2_made 176 = .ok (.iload_n 1, 1) := by decide +kernel
theorem dX2_made_177 : decode cX2_made 177 = .ok (.iaload, 1) := by decide +kernel
theorem dX2_made_178 : decode cX2_made 178 = .ok (.iconst 2, 1) := by decide +kernel
theorem dX2_made_179 : decode cX2_made 179 = .ok (.if_icmp .ne 8, 3) := by decide +kernel
theorem dX2_made_182 : decode cX2_made 182 = .ok (.iload 6, 2) := by decide +kernel
theorem dX2_made_184 : decode cX2_made 184 = .ok (.goto 5, 3) := by decide +kernel
theorem dX2_made_187 : decode cX2_made 187 = .ok (.iload 7, 2) := by decide +kernel
theorem dX2_made_189 : decode cX2_made 189 = .ok (.ireturn, 1) := by decide +kernel
abbrev cX2_peak : ByteArray := prog_3_method_13_code
def yX2_peak : MethodName := ⟨RX2, "peak", "(I)I"⟩
theorem dX2_peak_0 : decode cX2_peak 0 = .ok (.iload_n 1, 1) := by decide +kernel
theorem dX2_peak_1 : decode cX2_peak 1 = .ok (.ifCond .eq 11, 3) := by decide +kernel
theorem dX2_peak_4 : decode cX2_peak 4 = .ok (.iload_n 1, 1) := by decide +kernel
theorem dX2_peak_5 : decode cX2_peak 5 = .ok (.iconst 1, 1) := by decide +kernel
theorem dX2_peak_6 : decode cX2_peak 6 = .ok (.if_icmp .eq 6, 3) := by decide +kernel
theorem dX2_peak_9 : decode cX2_peak 9 = .ok (.ldc 43, 2) := by decide +kernel
theorem dX2_peak_11 : decode cX2_peak 11 = .ok (.ireturn, 1) := by decide +kernel
theorem dX2_peak_12 : decode cX2_peak 12 = .ok (.ldc 42, 2) := by decide +kernel
theorem dX2_peak_14 : decode cX2_peak 14 = .ok (.istore_n 2, 1) := by decide +kernel
theorem dX2_peak_15 : decode cX2_peak 15 = .ok (.aload_n 0, 1) := by decide +kernel
theorem dX2_peak_16 : decode cX2_peak 16 = .ok (.iload_n 1, 1) := by decide +kernel
theorem dX2_peak_17 : decode cX2_peak 17 = .ok (.invokevirtual 56, 3) := by decide +kernel
theorem dX2_peak_20 : decode cX2_peak 20 = .ok (.istore_n 3, 1) := by decide +kernel
theorem dX2_peak_21 : decode cX2_peak 21 = .ok (.iconst 0, 1) := by decide +kernel
theorem dX2_peak_22 : decode cX2_peak 22 = .ok (.istore 4, 2) := by decide +kernel
theorem dX2_peak_24 : decode cX2_peak 24 = .ok (.iload 4, 2) := by decide +kernel
theorem dX2_peak_26 : decode cX2_peak 26 = .ok (.iload_n 3, 1) := by decide +kernel
theorem dX2_peak_27 : decode cX2_peak 27 = .ok (.if_icmp .ge 31, 3) := by decide +kernel
theorem dX2_peak_30 : decode cX2_peak 30 = .ok (.aload_n 0, 1) := by decide +kernel
theorem dX2_peak_31 : decode cX2_peak 31 = .ok (.iload_n 1, 1) := by decide +kernel
theorem dX2_peak_32 : decode cX2_peak 32 = .ok (.iload 4, 2) := by decide +kernel
theorem dX2_peak_34 : decode cX2_peak 34 = .ok (.invokevirtual 62, 3) := by decide +kernel
theorem dX2_peak_37 : decode cX2_peak 37 = .ok (.istore 5, 2) := by decide +kernel
theorem dX2_peak_39 : decode cX2_peak 39 = .ok (.iload 5, 2) := by decide +kernel
theorem dX2_peak_41 : decode cX2_peak 41 = .ok (.iload_n 2, 1) := by decide +kernel
theorem dX2_peak_42 : decode cX2_peak 42 = .ok (.if_icmp .le 8, 3) := by decide +kernel
theorem dX2_peak_45 : decode cX2_peak 45 = .ok (.iload 5, 2) := by decide +kernel
theorem dX2_peak_47 : decode cX2_peak 47 = .ok (.goto 4, 3) := by decide +kernel
theorem dX2_peak_50 : decode cX2_peak 50 = .ok (.iload_n 2, 1) := by decide +kernel
theorem dX2_peak_51 : decode cX2_peak 51 = .ok (.istore_n 2, 1) := by decide +kernel
theorem dX2_peak_52 : decode cX2_peak 52 = .ok (.iinc 4 1, 3) := by decide +kernel
theorem dX2_peak_55 : decode cX2_peak 55 = .ok (.goto (-31), 3) := by decide +kernel
theorem dX2_peak_58 : decode cX2_peak 58 = .ok (.iload_n 2, 1) := by decide +kernel
theorem dX2_peak_59 : decode cX2_peak 59 = .ok (.ireturn, 1) := by decide +kernel
abbrev cX2_known : ByteArray := prog_3_method_14_code
def yX2_known : MethodName := ⟨RX2, "known", "(I)I"⟩
theorem dX2_known_0 : decode cX2_known 0 = .ok (.iconst 0, 1) := by decide +kernel
theorem dX2_known_1 : decode cX2_known 1 = .ok (.istore_n 2, 1) := by decide +kernel
theorem dX2_known_2 : decode cX2_known 2 = .ok (.aload_n 0, 1) := by decide +kernel
theorem dX2_known_3 : decode cX2_known 3 = .ok (.iload_n 1, 1) := by decide +kernel
theorem dX2_known_4 : decode cX2_known 4 = .ok (.invokevirtual 56, 3) := by decide +kernel
theorem dX2_known_7 : decode cX2_known 7 = .ok (.istore_n 3, 1) := by decide +kernel
theorem dX2_known_8 : decode cX2_known 8 = .ok (.iconst 0, 1) := by decide +kernel
theorem dX2_known_9 : decode cX2_known 9 = .ok (.istore 4, 2) := by decide +kernel
theorem dX2_known_11 : decode cX2_known 11 = .ok (.iload 4, 2) := by decide +kernel
theorem dX2_known_13 : decode cX2_known 13 = .ok (.iload_n 3, 1) := by decide +kernel
theorem dX2_known_14 : decode cX2_known 14 = .ok (.if_icmp .ge 29, 3) := by decide +kernel
theorem dX2_known_17 : decode cX2_known 17 = .ok (.iload_n 2, 1) := by decide +kernel
theorem dX2_known_18 : decode cX2_known 18 = .ok (.aload_n 0, 1) := by decide +kernel
theorem dX2_known_19 : decode cX2_known 19 = .ok (.iload_n 1, 1) := by decide +kernel
theorem dX2_known_20 : decode cX2_known 20 = .ok (.iload 4, 2) := by decide +kernel
theorem dX2_known_22 : decode cX2_known 22 = .ok (.invokevirtual 62, 3) := by decide +kernel
theorem dX2_known_25 : decode cX2_known 25 = .ok (.ldc 42, 2) := by decide +kernel
theorem dX2_known_27 : decode cX2_known 27 = .ok (.if_icmp .le 7, 3) := by decide +kernel
theorem dX2_known_30 : decode cX2_known 30 = .ok (.iconst 1, 1) := by decide +kernel
theorem dX2_known_31 : decode cX2_known 31 = .ok (.goto 4, 3) := by decide +kernel
theorem dX2_known_34 : decode cX2_known 34 = .ok (.iconst 0, 1) := by decide +kernel
theorem dX2_known_35 : decode cX2_known 35 = .ok (.iadd, 1) := by decide +kernel
theorem dX2_known_36 : decode cX2_known 36 = .ok (.istore_n 2, 1) := by decide +kernel
theorem dX2_known_37 : decode cX2_known 37 = .ok (.iinc 4 1, 3) := by decide +kernel
theorem dX2_known_40 : decode cX2_known 40 = .ok (.goto (-29), 3) := by decide +kernel
theorem dX2_known_43 : decode cX2_known 43 = .ok (.iload_n 2, 1) := by decide +kernel
theorem dX2_known_44 : decode cX2_known 44 = .ok (.ireturn, 1) := by decide +kernel
abbrev cX2_pending : ByteArray := prog_3_method_15_code
def yX2_pending : MethodName := ⟨RX2, "pending", "()I"⟩
theorem dX2_pending_0 : decode cX2_pending 0 = .ok (.aload_n 0, 1) := by decide +kernel
theorem dX2_pending_1 : decode cX2_pending 1 = .ok (.getfield 36, 3) := by decide +kernel
theorem dX2_pending_4 : decode cX2_pending 4 = .ok (.aload_n 0, 1) := by decide +kernel
theorem dX2_pending_5 : decode cX2_pending 5 = .ok (.getfield 29, 3) := by decide +kernel
theorem dX2_pending_8 : decode cX2_pending 8 = .ok (.irem, 1) := by decide +kernel
theorem dX2_pending_9 : decode cX2_pending 9 = .ok (.ireturn, 1) := by decide +kernel
abbrev cX2_pendingSum : ByteArray := prog_3_method_16_code
def yX2_pendingSum : MethodName := ⟨RX2, "pendingSum", "()I"⟩
theorem dX2_pendingSum_0 : decode cX2_pendingSum 0 = .ok (.iconst 0, 1) := by decide +kernel
theorem dX2_pendingSum_1 : decode cX2_pendingSum 1 = .ok (.istore_n 1, 1) := by decide +kernel
theorem dX2_pendingSum_2 : decode cX2_pendingSum 2 = .ok (.aload_n 0, 1) := by decide +kernel
theorem dX2_pendingSum_3 : decode cX2_pendingSum 3 = .ok (.getfield 36, 3) := by decide +kernel
theorem dX2_pendingSum_6 : decode cX2_pendingSum 6 = .ok (.aload_n 0, 1) := by decide +kernel
theorem dX2_pendingSum_7 : decode cX2_pendingSum 7 = .ok (.getfield 36, 3) := by decide +kernel
theorem dX2_pendingSum_10 : decode cX2_pendingSum 10 = .ok (.aload_n 0, 1) := by decide +kernel
theorem dX2_pendingSum_11 : decode cX2_pendingSum 11 = .ok (.getfield 29, 3) := by decide +kernel
theorem dX2_pendingSum_14 : decode cX2_pendingSum 14 = .ok (.irem, 1) := by decide +kernel
theorem dX2_pendingSum_15 : decode cX2_pendingSum 15 = .ok (.isub, 1) := by decide +kernel
theorem dX2_pendingSum_16 : decode cX2_pendingSum 16 = .ok (.iconst 1, 1) := by decide +kernel
theorem dX2_pendingSum_17 : decode cX2_pendingSum 17 = .ok (.iadd, 1) := by decide +kernel
theorem dX2_pendingSum_18 : decode cX2_pendingSum 18 = .ok (.istore_n 2, 1) := by decide +kernel
theorem dX2_pendingSum_19 : decode cX2_pendingSum 19 = .ok (.iload_n 2, 1) := by decide +kernel
theorem dX2_pendingSum_20 : decode cX2_pendingSum 20 = .ok (.aload_n 0, 1) := by decide +kernel
theorem dX2_pendingSum_21 : decode cX2_pendingSum 21 = .ok (.getfield 36, 3) := by decide +kernel
theorem dX2_pendingSum_24 : decode cX2_pendingSum 24 = .ok (.if_icmp .gt 33, 3) := by decide +kernel
theorem dX2_pendingSum_27 : decode cX2_pendingSum 27 = .ok (.iload_n 1, 1) := by decide +kernel
theorem dX2_pendingSum_28 : decode cX2_pendingSum 28 = .ok (.aload_n 0, 1) := by decide +kernel
theorem dX2_pendingSum_29 : decode cX2_pendingSum 29 = .ok (.getfield 22, 3) := by decide +kernel
theorem dX2_pendingSum_32 : decode cX2_pendingSum 32 = .ok (.iload_n 2, 1) := by decide +kernel
theorem dX2_pendingSum_33 : decode cX2_pendingSum 33 = .ok (.iaload, 1) := by decide +kernel
theorem dX2_pendingSum_34 : decode cX2_pendingSum 34 = .ok (.ldc 42, 2) := by decide +kernel
theorem dX2_pendingSum_36 : decode cX2_pendingSum 36 = .ok (.if_icmp .eq 12, 3) := by decide +kernel
theorem dX2_pendingSum_39 : decode cX2_pendingSum 39 = .ok (.aload_n 0, 1) := by decide +kernel
theorem dX2_pendingSum_40 : decode cX2_pendingSum 40 = .ok (.getfield 22, 3) := by decide +kernel
theorem dX2_pendingSum_43 : decode cX2_pendingSum 43 = .ok (.iload_n 2, 1) := by decide +kernel
theorem dX2_pendingSum_44 : decode cX2_pendingSum 44 = .ok (.iaload, 1) := by decide +kernel
theorem dX2_pendingSum_45 : decode cX2_pendingSum 45 = .ok (.goto 4, 3) := by decide +kernel
theorem dX2_pendingSum_48 : decode cX2_pendingSum 48 = .ok (.iconst 0, 1) := by decide +kernel
theorem dX2_pendingSum_49 : decode cX2_pendingSum 49 = .ok (.iadd, 1) := by decide +kernel
theorem dX2_pendingSum_50 : decode cX2_pendingSum 50 = .ok (.istore_n 1, 1) := by decide +kernel
theorem dX2_pendingSum_51 : decode cX2_pendingSum 51 = .ok (.iinc 2 1, 3) := by decide +kernel
theorem dX2_pendingSum_54 : decode cX2_pendingSum 54 = .ok (.goto (-35), 3) := by decide +kernel
theorem dX2_pendingSum_57 : decode cX2_pendingSum 57 = .ok (.iload_n 1, 1) := by decide +kernel
theorem dX2_pendingSum_58 : decode cX2_pendingSum 58 = .ok (.ireturn, 1) := by decide +kernel
theorem q12 : (Jvm.Cond.initialized "RoundArchiveModel") ∈ lw_all := lw_g (lw_at lw_m1 2 rfl) rfl
theorem q181 : (Jvm.Cond.instantiable "RoundArchiveModel" (10 : Nat)) ∈ lw_all := lw_g (lw_at lw_m1 171 rfl) rfl
theorem q183 : (Jvm.Cond.instanceMethod ({ cls := "RoundArchiveModel", name := "<init>", desc := "(III)V" } : Jvm.MethodName)) ∈ lw_all := lw_g (lw_at lw_m1 173 rfl) rfl
theorem q184 : (Jvm.Cond.code ({ cls := "RoundArchiveModel", name := "<init>", desc := "(III)V" } : Jvm.MethodName) prog_3_method_1_code (5 : Nat) (Option.none : Option Jvm.ClassFile.FieldType)) ∈ lw_all := lw_g (lw_at lw_m1 174 rfl) rfl
theorem q185 : (Jvm.Cond.methodLink "RoundArchiveModel" (1 : Nat) ({ cls := "java/lang/Object", name := "<init>", desc := "()V" } : Jvm.MethodName)) ∈ lw_all := lw_g (lw_at lw_m1 175 rfl) rfl
theorem q186 : (Jvm.Cond.fieldLink "RoundArchiveModel" (25 : Nat) "RoundArchiveModel" "wheel" "Z") ∈ lw_all := lw_g (lw_at lw_m1 176 rfl) rfl
theorem q187 : (Jvm.Cond.fieldLink "RoundArchiveModel" (29 : Nat) "RoundArchiveModel" "wide" "I") ∈ lw_all := lw_g (lw_at lw_m1 177 rfl) rfl
theorem q188 : (Jvm.Cond.fieldLink "RoundArchiveModel" (33 : Nat) "RoundArchiveModel" "beat" "I") ∈ lw_all := lw_g (lw_at lw_m1 178 rfl) rfl
theorem q189 : (Jvm.Cond.fieldLink "RoundArchiveModel" (7 : Nat) "RoundArchiveModel" "span" "[I") ∈ lw_all := lw_g (lw_at lw_m1 179 rfl) rfl
theorem q190 : (Jvm.Cond.fieldLink "RoundArchiveModel" (13 : Nat) "RoundArchiveModel" "rule" "[I") ∈ lw_all := lw_g (lw_at lw_m1 180 rfl) rfl
theorem q191 : (Jvm.Cond.fieldLink "RoundArchiveModel" (16 : Nat) "RoundArchiveModel" "bear" "[I") ∈ lw_all := lw_g (lw_at lw_m1 181 rfl) rfl
theorem q192 : (Jvm.Cond.fieldLink "RoundArchiveModel" (19 : Nat) "RoundArchiveModel" "room" "[I") ∈ lw_all := lw_g (lw_at lw_m1 182 rfl) rfl
theorem q193 : (Jvm.Cond.fieldLink "RoundArchiveModel" (36 : Nat) "RoundArchiveModel" "last" "I") ∈ lw_all := lw_g (lw_at lw_m1 183 rfl) rfl
theorem q194 : (Jvm.Cond.fieldLink "RoundArchiveModel" (39 : Nat) "RoundArchiveModel" "state" "I") ∈ lw_all := lw_g (lw_at lw_m1 184 rfl) rfl
theorem q195 : (Jvm.Cond.fieldLink "RoundArchiveModel" (22 : Nat) "RoundArchiveModel" "value" "[I") ∈ lw_all := lw_g (lw_at lw_m1 185 rfl) rfl
theorem q196 : (Jvm.Cond.lays "RoundArchiveModel" "RoundArchiveModel" "wheel" "Z") ∈ lw_all := lw_g (lw_at lw_m1 186 rfl) rfl
theorem q197 : (Jvm.Cond.soleField "RoundArchiveModel" "wheel") ∈ lw_all := lw_g (lw_at lw_m1 187 rfl) rfl
theorem q198 : (Jvm.Cond.lays "RoundArchiveModel" "RoundArchiveModel" "wide" "I") ∈ lw_all := lw_g (lw_at lw_m1 188 rfl) rfl
theorem q199 : (Jvm.Cond.soleField "RoundArchiveModel" "wide") ∈ lw_all := lw_g (lw_at lw_m1 189 rfl) rfl
theorem q200 : (Jvm.Cond.lays "RoundArchiveModel" "RoundArchiveModel" "beat" "I") ∈ lw_all := lw_g (lw_at lw_m1 190 rfl) rfl
theorem q201 : (Jvm.Cond.soleField "RoundArchiveModel" "beat") ∈ lw_all := lw_g (lw_at lw_m1 191 rfl) rfl
theorem q202 : (Jvm.Cond.lays "RoundArchiveModel" "RoundArchiveModel" "span" "[I") ∈ lw_all := lw_g (lw_at lw_m1 192 rfl) rfl
theorem q203 : (Jvm.Cond.soleField "RoundArchiveModel" "span") ∈ lw_all := lw_g (lw_at lw_m1 193 rfl) rfl
theorem q204 : (Jvm.Cond.lays "RoundArchiveModel" "RoundArchiveModel" "rule" "[I") ∈ lw_all := lw_g (lw_at lw_m1 194 rfl) rfl
theorem q205 : (Jvm.Cond.soleField "RoundArchiveModel" "rule") ∈ lw_all := lw_g (lw_at lw_m1 195 rfl) rfl
theorem q206 : (Jvm.Cond.lays "RoundArchiveModel" "RoundArchiveModel" "bear" "[I") ∈ lw_all := lw_g (lw_at lw_m1 196 rfl) rfl
theorem q207 : (Jvm.Cond.soleField "RoundArchiveModel" "bear") ∈ lw_all := lw_g (lw_at lw_m1 197 rfl) rfl
theorem q208 : (Jvm.Cond.lays "RoundArchiveModel" "RoundArchiveModel" "room" "[I") ∈ lw_all := lw_g (lw_at lw_m1 198 rfl) rfl
theorem q209 : (Jvm.Cond.soleField "RoundArchiveModel" "room") ∈ lw_all := lw_g (lw_at lw_m1 199 rfl) rfl
theorem q210 : (Jvm.Cond.lays "RoundArchiveModel" "RoundArchiveModel" "last" "I") ∈ lw_all := lw_g (lw_at lw_m1 200 rfl) rfl
theorem q211 : (Jvm.Cond.soleField "RoundArchiveModel" "last") ∈ lw_all := lw_g (lw_at lw_m1 201 rfl) rfl
theorem q212 : (Jvm.Cond.lays "RoundArchiveModel" "RoundArchiveModel" "state" "I") ∈ lw_all := lw_g (lw_at lw_m1 202 rfl) rfl
theorem q213 : (Jvm.Cond.soleField "RoundArchiveModel" "state") ∈ lw_all := lw_g (lw_at lw_m1 203 rfl) rfl
theorem q214 : (Jvm.Cond.lays "RoundArchiveModel" "RoundArchiveModel" "value" "[I") ∈ lw_all := lw_g (lw_at lw_m1 204 rfl) rfl
theorem q215 : (Jvm.Cond.soleField "RoundArchiveModel" "value") ∈ lw_all := lw_g (lw_at lw_m1 205 rfl) rfl
theorem q216 : (Jvm.Cond.superclass "RoundArchiveModel" "java/lang/Object") ∈ lw_all := lw_g (lw_at lw_m1 206 rfl) rfl
theorem q218 : (Jvm.Cond.instanceMethod ({ cls := "RoundArchiveModel", name := "shape", desc := "(II)Z" } : Jvm.MethodName)) ∈ lw_all := lw_g (lw_at lw_m1 208 rfl) rfl
theorem q219 : (Jvm.Cond.selects "RoundArchiveModel" ({ cls := "RoundArchiveModel", name := "shape", desc := "(II)Z" } : Jvm.MethodName) ({ cls := "RoundArchiveModel", name := "shape", desc := "(II)Z" } : Jvm.MethodName)) ∈ lw_all := lw_g (lw_at lw_m1 209 rfl) rfl
theorem q220 : (Jvm.Cond.code ({ cls := "RoundArchiveModel", name := "shape", desc := "(II)Z" } : Jvm.MethodName) prog_3_method_2_code (7 : Nat) (Option.some Jvm.ClassFile.FieldType.boolean)) ∈ lw_all := lw_g (lw_at lw_m1 210 rfl) rfl
theorem q222 : (Jvm.Cond.instanceMethod ({ cls := "RoundArchiveModel", name := "update", desc := "(II)Z" } : Jvm.MethodName)) ∈ lw_all := lw_g (lw_at lw_m1 212 rfl) rfl
theorem q223 : (Jvm.Cond.selects "RoundArchiveModel" ({ cls := "RoundArchiveModel", name := "update", desc := "(II)Z" } : Jvm.MethodName) ({ cls := "RoundArchiveModel", name := "update", desc := "(II)Z" } : Jvm.MethodName)) ∈ lw_all := lw_g (lw_at lw_m1 213 rfl) rfl
theorem q224 : (Jvm.Cond.code ({ cls := "RoundArchiveModel", name := "update", desc := "(II)Z" } : Jvm.MethodName) prog_3_method_3_code (8 : Nat) (Option.some Jvm.ClassFile.FieldType.boolean)) ∈ lw_all := lw_g (lw_at lw_m1 214 rfl) rfl
theorem q225 : (Jvm.Cond.constant "RoundArchiveModel" (42 : Nat) (-100000 : Int32)) ∈ lw_all := lw_g (lw_at lw_m1 215 rfl) rfl
theorem q227 : (Jvm.Cond.instanceMethod ({ cls := "RoundArchiveModel", name := "lastTime", desc := "()I" } : Jvm.MethodName)) ∈ lw_all := lw_g (lw_at lw_m1 217 rfl) rfl
theorem q228 : (Jvm.Cond.selects "RoundArchiveModel" ({ cls := "RoundArchiveModel", name := "lastTime", desc := "()I" } : Jvm.MethodName) ({ cls := "RoundArchiveModel", name := "lastTime", desc := "()I" } : Jvm.MethodName)) ∈ lw_all := lw_g (lw_at lw_m1 218 rfl) rfl
theorem q229 : (Jvm.Cond.code ({ cls := "RoundArchiveModel", name := "lastTime", desc := "()I" } : Jvm.MethodName) prog_3_method_4_code (1 : Nat) (Option.some Jvm.ClassFile.FieldType.int)) ∈ lw_all := lw_g (lw_at lw_m1 219 rfl) rfl
theorem q231 : (Jvm.Cond.instanceMethod ({ cls := "RoundArchiveModel", name := "moment", desc := "(I)I" } : Jvm.MethodName)) ∈ lw_all := lw_g (lw_at lw_m1 221 rfl) rfl
theorem q232 : (Jvm.Cond.selects "RoundArchiveModel" ({ cls := "RoundArchiveModel", name := "moment", desc := "(I)I" } : Jvm.MethodName) ({ cls := "RoundArchiveModel", name := "moment", desc := "(I)I" } : Jvm.MethodName)) ∈ lw_all := lw_g (lw_at lw_m1 222 rfl) rfl
theorem q233 : (Jvm.Cond.code ({ cls := "RoundArchiveModel", name := "moment", desc := "(I)I" } : Jvm.MethodName) prog_3_method_5_code (2 : Nat) (Option.some Jvm.ClassFile.FieldType.int)) ∈ lw_all := lw_g (lw_at lw_m1 223 rfl) rfl
theorem q234 : (Jvm.Cond.constant "RoundArchiveModel" (43 : Nat) (-200000 : Int32)) ∈ lw_all := lw_g (lw_at lw_m1 224 rfl) rfl
theorem q236 : (Jvm.Cond.instanceMethod ({ cls := "RoundArchiveModel", name := "steps", desc := "()I" } : Jvm.MethodName)) ∈ lw_all := lw_g (lw_at lw_m1 226 rfl) rfl
theorem q237 : (Jvm.Cond.selects "RoundArchiveModel" ({ cls := "RoundArchiveModel", name := "steps", desc := "()I" } : Jvm.MethodName) ({ cls := "RoundArchiveModel", name := "steps", desc := "()I" } : Jvm.MethodName)) ∈ lw_all := lw_g (lw_at lw_m1 227 rfl) rfl
theorem q238 : (Jvm.Cond.code ({ cls := "RoundArchiveModel", name := "steps", desc := "()I" } : Jvm.MethodName) prog_3_method_6_code (1 : Nat) (Option.some Jvm.ClassFile.FieldType.int)) ∈ lw_all := lw_g (lw_at lw_m1 228 rfl) rfl
theorem q240 : (Jvm.Cond.instanceMethod ({ cls := "RoundArchiveModel", name := "lastStep", desc := "()I" } : Jvm.MethodName)) ∈ lw_all := lw_g (lw_at lw_m1 230 rfl) rfl
theorem q241 : (Jvm.Cond.selects "RoundArchiveModel" ({ cls := "RoundArchiveModel", name := "lastStep", desc := "()I" } : Jvm.MethodName) ({ cls := "RoundArchiveModel", name := "lastStep", desc := "()I" } : Jvm.MethodName)) ∈ lw_all := lw_g (lw_at lw_m1 231 rfl) rfl
theorem q242 : (Jvm.Cond.code ({ cls := "RoundArchiveModel", name := "lastStep", desc := "()I" } : Jvm.MethodName) prog_3_method_9_code (2 : Nat) (Option.some Jvm.ClassFile.FieldType.int)) ∈ lw_all := lw_g (lw_at lw_m1 232 rfl) rfl
theorem q243 : (Jvm.Cond.methodLink "RoundArchiveModel" (48 : Nat) ({ cls := "RoundArchiveModel", name := "steps", desc := "()I" } : Jvm.MethodName)) ∈ lw_all := lw_g (lw_at lw_m1 233 rfl) rfl
theorem q244 : (Jvm.Cond.methodLink "RoundArchiveModel" (52 : Nat) ({ cls := "RoundArchiveModel", name := "step", desc := "(I)I" } : Jvm.MethodName)) ∈ lw_all := lw_g (lw_at lw_m1 234 rfl) rfl
theorem q245 : (Jvm.Cond.privateMethod ({ cls := "RoundArchiveModel", name := "step", desc := "(I)I" } : Jvm.MethodName)) ∈ lw_tbl := lw_at lw_m1 235 rfl
theorem q246 : (Jvm.Cond.instanceMethod ({ cls := "RoundArchiveModel", name := "step", desc := "(I)I" } : Jvm.MethodName)) ∈ lw_all := lw_g (lw_at lw_m1 236 rfl) rfl
theorem q247 : (Jvm.Cond.code ({ cls := "RoundArchiveModel", name := "step", desc := "(I)I" } : Jvm.MethodName) prog_3_method_8_code (5 : Nat) (Option.some Jvm.ClassFile.FieldType.int)) ∈ lw_all := lw_g (lw_at lw_m1 237 rfl) rfl
theorem q248 : (Jvm.Cond.methodLink "RoundArchiveModel" (44 : Nat) ({ cls := "RoundArchiveModel", name := "floor", desc := "(II)I" } : Jvm.MethodName)) ∈ lw_all := lw_g (lw_at lw_m1 238 rfl) rfl
theorem q249 : (Jvm.Cond.privateMethod ({ cls := "RoundArchiveModel", name := "floor", desc := "(II)I" } : Jvm.MethodName)) ∈ lw_tbl := lw_at lw_m1 239 rfl
theorem q250 : (Jvm.Cond.instanceMethod ({ cls := "RoundArchiveModel", name := "floor", desc := "(II)I" } : Jvm.MethodName)) ∈ lw_all := lw_g (lw_at lw_m2 0 rfl) rfl
theorem q251 : (Jvm.Cond.code ({ cls := "RoundArchiveModel", name := "floor", desc := "(II)I" } : Jvm.MethodName) prog_3_method_7_code (4 : Nat) (Option.some Jvm.ClassFile.FieldType.int)) ∈ lw_all := lw_g (lw_at lw_m2 1 rfl) rfl
theorem q253 : (Jvm.Cond.instanceMethod ({ cls := "RoundArchiveModel", name := "rows", desc := "(I)I" } : Jvm.MethodName)) ∈ lw_all := lw_g (lw_at lw_m2 3 rfl) rfl
theorem q254 : (Jvm.Cond.selects "RoundArchiveModel" ({ cls := "RoundArchiveModel", name := "rows", desc := "(I)I" } : Jvm.MethodName) ({ cls := "RoundArchiveModel", name := "rows", desc := "(I)I" } : Jvm.MethodName)) ∈ lw_all := lw_g (lw_at lw_m2 4 rfl) rfl
theorem q255 : (Jvm.Cond.code ({ cls := "RoundArchiveModel", name := "rows", desc := "(I)I" } : Jvm.MethodName) prog_3_method_10_code (2 : Nat) (Option.some Jvm.ClassFile.FieldType.int)) ∈ lw_all := lw_g (lw_at lw_m2 5 rfl) rfl
theorem q257 : (Jvm.Cond.instanceMethod ({ cls := "RoundArchiveModel", name := "row", desc := "(II)I" } : Jvm.MethodName)) ∈ lw_all := lw_g (lw_at lw_m2 7 rfl) rfl
theorem q258 : (Jvm.Cond.selects "RoundArchiveModel" ({ cls := "RoundArchiveModel", name := "row", desc := "(II)I" } : Jvm.MethodName) ({ cls := "RoundArchiveModel", name := "row", desc := "(II)I" } : Jvm.MethodName)) ∈ lw_all := lw_g (lw_at lw_m2 8 rfl) rfl
theorem q259 : (Jvm.Cond.code ({ cls := "RoundArchiveModel", name := "row", desc := "(II)I" } : Jvm.MethodName) prog_3_method_11_code (4 : Nat) (Option.some Jvm.ClassFile.FieldType.int)) ∈ lw_all := lw_g (lw_at lw_m2 9 rfl) rfl
theorem q260 : (Jvm.Cond.methodLink "RoundArchiveModel" (56 : Nat) ({ cls := "RoundArchiveModel", name := "rows", desc := "(I)I" } : Jvm.MethodName)) ∈ lw_all := lw_g (lw_at lw_m2 10 rfl) rfl
theorem q261 : (Jvm.Cond.methodLink "RoundArchiveModel" (59 : Nat) ({ cls := "RoundArchiveModel", name := "made", desc := "(II)I" } : Jvm.MethodName)) ∈ lw_all := lw_g (lw_at lw_m2 11 rfl) rfl
theorem q262 : (Jvm.Cond.privateMethod ({ cls := "RoundArchiveModel", name := "made", desc := "(II)I" } : Jvm.MethodName)) ∈ lw_tbl := lw_at lw_m2 12 rfl
theorem q263 : (Jvm.Cond.instanceMethod ({ cls := "RoundArchiveModel", name := "made", desc := "(II)I" } : Jvm.MethodName)) ∈ lw_all := lw_g (lw_at lw_m2 13 rfl) rfl
theorem q264 : (Jvm.Cond.code ({ cls := "RoundArchiveModel", name := "made", desc := "(II)I" } : Jvm.MethodName) prog_3_method_12_code (10 : Nat) (Option.some Jvm.ClassFile.FieldType.int)) ∈ lw_all := lw_g (lw_at lw_m2 14 rfl) rfl
theorem q266 : (Jvm.Cond.instanceMethod ({ cls := "RoundArchiveModel", name := "peak", desc := "(I)I" } : Jvm.MethodName)) ∈ lw_all := lw_g (lw_at lw_m2 16 rfl) rfl
theorem q267 : (Jvm.Cond.selects "RoundArchiveModel" ({ cls := "RoundArchiveModel", name := "peak", desc := "(I)I" } : Jvm.MethodName) ({ cls := "RoundArchiveModel", name := "peak", desc := "(I)I" } : Jvm.MethodName)) ∈ lw_all := lw_g (lw_at lw_m2 17 rfl) rfl
theorem q268 : (Jvm.Cond.code ({ cls := "RoundArchiveModel", name := "peak", desc := "(I)I" } : Jvm.MethodName) prog_3_method_13_code (6 : Nat) (Option.some Jvm.ClassFile.FieldType.int)) ∈ lw_all := lw_g (lw_at lw_m2 18 rfl) rfl
theorem q269 : (Jvm.Cond.methodLink "RoundArchiveModel" (62 : Nat) ({ cls := "RoundArchiveModel", name := "row", desc := "(II)I" } : Jvm.MethodName)) ∈ lw_all := lw_g (lw_at lw_m2 19 rfl) rfl
theorem q271 : (Jvm.Cond.instanceMethod ({ cls := "RoundArchiveModel", name := "known", desc := "(I)I" } : Jvm.MethodName)) ∈ lw_all := lw_g (lw_at lw_m2 21 rfl) rfl
theorem q272 : (Jvm.Cond.selects "RoundArchiveModel" ({ cls := "RoundArchiveModel", name := "known", desc := "(I)I" } : Jvm.MethodName) ({ cls := "RoundArchiveModel", name := "known", desc := "(I)I" } : Jvm.MethodName)) ∈ lw_all := lw_g (lw_at lw_m2 22 rfl) rfl
theorem q273 : (Jvm.Cond.code ({ cls := "RoundArchiveModel", name := "known", desc := "(I)I" } : Jvm.MethodName) prog_3_method_14_code (5 : Nat) (Option.some Jvm.ClassFile.FieldType.int)) ∈ lw_all := lw_g (lw_at lw_m2 23 rfl) rfl
theorem q275 : (Jvm.Cond.instanceMethod ({ cls := "RoundArchiveModel", name := "pending", desc := "()I" } : Jvm.MethodName)) ∈ lw_all := lw_g (lw_at lw_m2 25 rfl) rfl
theorem q276 : (Jvm.Cond.selects "RoundArchiveModel" ({ cls := "RoundArchiveModel", name := "pending", desc := "()I" } : Jvm.MethodName) ({ cls := "RoundArchiveModel", name := "pending", desc := "()I" } : Jvm.MethodName)) ∈ lw_all := lw_g (lw_at lw_m2 26 rfl) rfl
theorem q277 : (Jvm.Cond.code ({ cls := "RoundArchiveModel", name := "pending", desc := "()I" } : Jvm.MethodName) prog_3_method_15_code (1 : Nat) (Option.some Jvm.ClassFile.FieldType.int)) ∈ lw_all := lw_g (lw_at lw_m2 27 rfl) rfl
theorem q279 : (Jvm.Cond.instanceMethod ({ cls := "RoundArchiveModel", name := "pendingSum", desc := "()I" } : Jvm.MethodName)) ∈ lw_all := lw_g (lw_at lw_m2 29 rfl) rfl
theorem q280 : (Jvm.Cond.selects "RoundArchiveModel" ({ cls := "RoundArchiveModel", name := "pendingSum", desc := "()I" } : Jvm.MethodName) ({ cls := "RoundArchiveModel", name := "pendingSum", desc := "()I" } : Jvm.MethodName)) ∈ lw_all := lw_g (lw_at lw_m2 30 rfl) rfl
theorem q281 : (Jvm.Cond.code ({ cls := "RoundArchiveModel", name := "pendingSum", desc := "()I" } : Jvm.MethodName) prog_3_method_16_code (3 : Nat) (Option.some Jvm.ClassFile.FieldType.int)) ∈ lw_all := lw_g (lw_at lw_m2 31 rfl) rfl
theorem in_X2 : ∀ w ∈ wsX20, w ∈ lw_all := lw_in wsX20 [196, 198, 200, 202, 204, 206, 208, 210, 212, 214] (by decide +kernel) (by decide +kernel)
end
section
/-! RoundArchiveLaw -/
set_option maxRecDepth 100000
def RX0 : String := "RoundArchiveLaw"
abbrev cX0_cell : ByteArray := method_2_code
def yX0_cell : MethodName := ⟨RX0, "cell", "([II)I"⟩
theorem dX0_cell_0 : decode cX0_cell 0 = .ok (.iload_n 1, 1) := by decide +kernel
theorem dX0_cell_1 : decode cX0_cell 1 = .ok (.aload_n 0, 1) := by decide +kernel
theorem dX0_cell_2 : decode cX0_cell 2 = .ok (.arraylength, 1) := by decide +kernel
theorem dX0_cell_3 : decode cX0_cell 3 = .ok (.if_icmp .ge 9, 3) := by decide +kernel
theorem dX0_cell_6 : decode cX0_cell 6 = .ok (.aload_n 0, 1) := by decide +kernel
theorem dX0_cell_7 : decode cX0_cell 7 = .ok (.iload_n 1, 1) := by decide +kernel
theorem dX0_cell_8 : decode cX0_cell 8 = .ok (.iaload, 1) := by decide +kernel
theorem dX0_cell_9 : decode cX0_cell 9 = .ok (.goto 4, 3) := by decide +kernel
theorem dX0_cell_12 : decode cX0_cell 12 = .ok (.iconst 0, 1) := by decide +kernel
theorem dX0_cell_13 : decode cX0_cell 13 = .ok (.ireturn, 1) := by decide +kernel
theorem q10 : (Jvm.Cond.initialized "RoundArchiveLaw") ∈ lw_all := lw_g (lw_at lw_m1 0 rfl) rfl
theorem q13 : (Jvm.Cond.classLink "RoundArchiveLaw" (7 : Nat) "RoundArchive") ∈ lw_all := lw_g (lw_at lw_m1 3 rfl) rfl
theorem q15 : (Jvm.Cond.methodLink "RoundArchiveLaw" (15 : Nat) ({ cls := "RoundArchive", name := "<init>", desc := "(III)V" } : Jvm.MethodName)) ∈ lw_all := lw_g (lw_at lw_m1 5 rfl) rfl
theorem q94 : (Jvm.Cond.methodLink "RoundArchiveLaw" (21 : Nat) ({ cls := "RoundArchive", name := "shape", desc := "(II)Z" } : Jvm.MethodName)) ∈ lw_all := lw_g (lw_at lw_m1 84 rfl) rfl
theorem q101 : (Jvm.Cond.methodLink "RoundArchiveLaw" (26 : Nat) ({ cls := "RoundArchive", name := "update", desc := "(II)Z" } : Jvm.MethodName)) ∈ lw_all := lw_g (lw_at lw_m1 91 rfl) rfl
theorem q133 : (Jvm.Cond.methodLink "RoundArchiveLaw" (30 : Nat) ({ cls := "RoundArchive", name := "lastTime", desc := "()I" } : Jvm.MethodName)) ∈ lw_all := lw_g (lw_at lw_m1 123 rfl) rfl
theorem q137 : (Jvm.Cond.methodLink "RoundArchiveLaw" (35 : Nat) ({ cls := "RoundArchive", name := "moment", desc := "(I)I" } : Jvm.MethodName)) ∈ lw_all := lw_g (lw_at lw_m1 127 rfl) rfl
theorem q141 : (Jvm.Cond.methodLink "RoundArchiveLaw" (40 : Nat) ({ cls := "RoundArchive", name := "steps", desc := "()I" } : Jvm.MethodName)) ∈ lw_all := lw_g (lw_at lw_m1 131 rfl) rfl
theorem q145 : (Jvm.Cond.methodLink "RoundArchiveLaw" (44 : Nat) ({ cls := "RoundArchive", name := "lastStep", desc := "()I" } : Jvm.MethodName)) ∈ lw_all := lw_g (lw_at lw_m1 135 rfl) rfl
theorem q149 : (Jvm.Cond.methodLink "RoundArchiveLaw" (48 : Nat) ({ cls := "RoundArchive", name := "rows", desc := "(I)I" } : Jvm.MethodName)) ∈ lw_all := lw_g (lw_at lw_m1 139 rfl) rfl
theorem q153 : (Jvm.Cond.methodLink "RoundArchiveLaw" (52 : Nat) ({ cls := "RoundArchive", name := "row", desc := "(II)I" } : Jvm.MethodName)) ∈ lw_all := lw_g (lw_at lw_m1 143 rfl) rfl
theorem q157 : (Jvm.Cond.methodLink "RoundArchiveLaw" (57 : Nat) ({ cls := "RoundArchive", name := "peak", desc := "(I)I" } : Jvm.MethodName)) ∈ lw_all := lw_g (lw_at lw_m1 147 rfl) rfl
theorem q165 : (Jvm.Cond.methodLink "RoundArchiveLaw" (61 : Nat) ({ cls := "RoundArchive", name := "known", desc := "(I)I" } : Jvm.MethodName)) ∈ lw_all := lw_g (lw_at lw_m1 155 rfl) rfl
theorem q169 : (Jvm.Cond.methodLink "RoundArchiveLaw" (65 : Nat) ({ cls := "RoundArchive", name := "pending", desc := "()I" } : Jvm.MethodName)) ∈ lw_all := lw_g (lw_at lw_m1 159 rfl) rfl
theorem q173 : (Jvm.Cond.methodLink "RoundArchiveLaw" (69 : Nat) ({ cls := "RoundArchive", name := "pendingSum", desc := "()I" } : Jvm.MethodName)) ∈ lw_all := lw_g (lw_at lw_m1 163 rfl) rfl
theorem q177 : (Jvm.Cond.methodLink "RoundArchiveLaw" (9 : Nat) ({ cls := "RoundArchiveLaw", name := "cell", desc := "([II)I" } : Jvm.MethodName)) ∈ lw_all := lw_g (lw_at lw_m1 167 rfl) rfl
theorem q178 : (Jvm.Cond.static ({ cls := "RoundArchiveLaw", name := "cell", desc := "([II)I" } : Jvm.MethodName)) ∈ lw_all := lw_g (lw_at lw_m1 168 rfl) rfl
theorem q179 : (Jvm.Cond.code ({ cls := "RoundArchiveLaw", name := "cell", desc := "([II)I" } : Jvm.MethodName) method_2_code (2 : Nat) (Option.some Jvm.ClassFile.FieldType.int)) ∈ lw_all := lw_g (lw_at lw_m1 169 rfl) rfl
theorem q180 : (Jvm.Cond.classLink "RoundArchiveLaw" (18 : Nat) "RoundArchiveModel") ∈ lw_all := lw_g (lw_at lw_m1 170 rfl) rfl
theorem q182 : (Jvm.Cond.methodLink "RoundArchiveLaw" (20 : Nat) ({ cls := "RoundArchiveModel", name := "<init>", desc := "(III)V" } : Jvm.MethodName)) ∈ lw_all := lw_g (lw_at lw_m1 172 rfl) rfl
theorem q217 : (Jvm.Cond.methodLink "RoundArchiveLaw" (25 : Nat) ({ cls := "RoundArchiveModel", name := "shape", desc := "(II)Z" } : Jvm.MethodName)) ∈ lw_all := lw_g (lw_at lw_m1 207 rfl) rfl
theorem q221 : (Jvm.Cond.methodLink "RoundArchiveLaw" (29 : Nat) ({ cls := "RoundArchiveModel", name := "update", desc := "(II)Z" } : Jvm.MethodName)) ∈ lw_all := lw_g (lw_at lw_m1 211 rfl) rfl
theorem q226 : (Jvm.Cond.methodLink "RoundArchiveLaw" (34 : Nat) ({ cls := "RoundArchiveModel", name := "lastTime", desc := "()I" } : Jvm.MethodName)) ∈ lw_all := lw_g (lw_at lw_m1 216 rfl) rfl
theorem q230 : (Jvm.Cond.methodLink "RoundArchiveLaw" (39 : Nat) ({ cls := "RoundArchiveModel", name := "moment", desc := "(I)I" } : Jvm.MethodName)) ∈ lw_all := lw_g (lw_at lw_m1 220 rfl) rfl
theorem q235 : (Jvm.Cond.methodLink "RoundArchiveLaw" (43 : Nat) ({ cls := "RoundArchiveModel", name := "steps", desc := "()I" } : Jvm.MethodName)) ∈ lw_all := lw_g (lw_at lw_m1 225 rfl) rfl
theorem q239 : (Jvm.Cond.methodLink "RoundArchiveLaw" (47 : Nat) ({ cls := "RoundArchiveModel", name := "lastStep", desc := "()I" } : Jvm.MethodName)) ∈ lw_all := lw_g (lw_at lw_m1 229 rfl) rfl
theorem q252 : (Jvm.Cond.methodLink "RoundArchiveLaw" (51 : Nat) ({ cls := "RoundArchiveModel", name := "rows", desc := "(I)I" } : Jvm.MethodName)) ∈ lw_all := lw_g (lw_at lw_m2 2 rfl) rfl
theorem q256 : (Jvm.Cond.methodLink "RoundArchiveLaw" (56 : Nat) ({ cls := "RoundArchiveModel", name := "row", desc := "(II)I" } : Jvm.MethodName)) ∈ lw_all := lw_g (lw_at lw_m2 6 rfl) rfl
theorem q265 : (Jvm.Cond.methodLink "RoundArchiveLaw" (60 : Nat) ({ cls := "RoundArchiveModel", name := "peak", desc := "(I)I" } : Jvm.MethodName)) ∈ lw_all := lw_g (lw_at lw_m2 15 rfl) rfl
theorem q270 : (Jvm.Cond.methodLink "RoundArchiveLaw" (64 : Nat) ({ cls := "RoundArchiveModel", name := "known", desc := "(I)I" } : Jvm.MethodName)) ∈ lw_all := lw_g (lw_at lw_m2 20 rfl) rfl
theorem q274 : (Jvm.Cond.methodLink "RoundArchiveLaw" (68 : Nat) ({ cls := "RoundArchiveModel", name := "pending", desc := "()I" } : Jvm.MethodName)) ∈ lw_all := lw_g (lw_at lw_m2 24 rfl) rfl
theorem q278 : (Jvm.Cond.methodLink "RoundArchiveLaw" (72 : Nat) ({ cls := "RoundArchiveModel", name := "pendingSum", desc := "()I" } : Jvm.MethodName)) ∈ lw_all := lw_g (lw_at lw_m2 28 rfl) rfl
/-! java/lang/Object -/
set_option maxRecDepth 100000
def RJ0 : String := "java/lang/Object"
abbrev cJ0_init : ByteArray := object_method_1_code
def yJ0_init : MethodName := ⟨RJ0, "<init>", "()V"⟩
theorem dJ0_init_0 : decode cJ0_init 0 = .ok (.return_, 1) := by decide +kernel
theorem q19 : (Jvm.Cond.instanceMethod ({ cls := "java/lang/Object", name := "<init>", desc := "()V" } : Jvm.MethodName)) ∈ lw_all := lw_g (lw_at lw_m1 9 rfl) rfl
theorem q20 : (Jvm.Cond.code ({ cls := "java/lang/Object", name := "<init>", desc := "()V" } : Jvm.MethodName) object_method_1_code (1 : Nat) (Option.none : Option Jvm.ClassFile.FieldType)) ∈ lw_all := lw_g (lw_at lw_m1 10 rfl) rfl
theorem q92 : (Jvm.Cond.arrayClass Jvm.ClassFile.FieldType.int) ∈ lw_all := lw_g (lw_at lw_m1 82 rfl) rfl
set_option maxRecDepth 100000
theorem q93 : (Jvm.Cond.arrayClass Jvm.ClassFile.FieldType.byte) ∈ lw_all := lw_g (lw_at lw_m1 83 rfl) rfl
/-! the law's own entry -/
set_option maxRecDepth 100000
abbrev cL_law : ByteArray := code
theorem dL_law_0 : decode cL_law 0 = .ok (.new 7, 3) := by decide +kernel
theorem dL_law_3 : decode cL_law 3 = .ok (.dup, 1) := by decide +kernel
theorem dL_law_4 : decode cL_law 4 = .ok (.aload_n 0, 1) := by decide +kernel
theorem dL_law_5 : decode cL_law 5 = .ok (.iconst 0, 1) := by decide +kernel
theorem dL_law_6 : decode cL_law 6 = .ok (.invokestatic 9, 3) := by decide +kernel
theorem dL_law_9 : decode cL_law 9 = .ok (.aload_n 0, 1) := by decide +kernel
theorem dL_law_10 : decode cL_law 10 = .ok (.iconst 1, 1) := by decide +kernel
theorem dL_law_11 : decode cL_law 11 = .ok (.invokestatic 9, 3) := by decide +kernel
theorem dL_law_14 : decode cL_law 14 = .ok (.aload_n 0, 1) := by decide +kernel
theorem dL_law_15 : decode cL_law 15 = .ok (.iconst 2, 1) := by decide +kernel
theorem dL_law_16 : decode cL_law 16 = .ok (.invokestatic 9, 3) := by decide +kernel
theorem dL_law_19 : decode cL_law 19 = .ok (.invokespecial 15, 3) := by decide +kernel
theorem dL_law_22 : decode cL_law 22 = .ok (.astore_n 1, 1) := by decide +kernel
theorem dL_law_23 : decode cL_law 23 = .ok (.new 18, 3) := by decide +kernel
theorem dL_law_26 : decode cL_law 26 = .ok (.dup, 1) := by decide +kernel
theorem dL_law_27 : decode cL_law 27 = .ok (.aload_n 0, 1) := by decide +kernel
theorem dL_law_28 : decode cL_law 28 = .ok (.iconst 0, 1) := by decide +kernel
theorem dL_law_29 : decode cL_law 29 = .ok (.invokestatic 9, 3) := by decide +kernel
theorem dL_law_32 : decode cL_law 32 = .ok (.aload_n 0, 1) := by decide +kernel
theorem dL_law_33 : decode cL_law 33 = .ok (.iconst 1, 1) := by decide +kernel
theorem dL_law_34 : decode cL_law 34 = .ok (.invokestatic 9, 3) := by decide +kernel
theorem dL_law_37 : decode cL_law 37 = .ok (.aload_n 0, 1) := by decide +kernel
theorem dL_law_38 : decode cL_law 38 = .ok (.iconst 2, 1) := by decide +kernel
theorem dL_law_39 : decode cL_law 39 = .ok (.invokestatic 9, 3) := by decide +kernel
theorem dL_law_42 : decode cL_law 42 = .ok (.invokespecial 20, 3) := by decide +kernel
theorem dL_law_45 : decode cL_law 45 = .ok (.astore_n 2, 1) := by decide +kernel
theorem dL_law_46 : decode cL_law 46 = .ok (.iconst 3, 1) := by decide +kernel
theorem dL_law_47 : decode cL_law 47 = .ok (.istore_n 3, 1) := by decide +kernel
theorem dL_law_48 : decode cL_law 48 = .ok (.iload_n 3, 1) := by decide +kernel
theorem dL_law_49 : decode cL_law 49 = .ok (.aload_n 0, 1) := by decide +kernel
theorem dL_law_50 : decode cL_law 50 = .ok (.arraylength, 1) := by decide +kernel
theorem dL_law_51 : decode cL_law 51 = .ok (.iconst 3, 1) := by decide +kernel
theorem dL_law_52 : decode cL_law 52 = .ok (.isub, 1) := by decide +kernel
theorem dL_law_53 : decode cL_law 53 = .ok (.if_icmp .gt 333, 3) := by decide +kernel
theorem dL_law_56 : decode cL_law 56 = .ok (.aload_n 0, 1) := by decide +kernel
theorem dL_law_57 : decode cL_law 57 = .ok (.iload_n 3, 1) := by decide +kernel
theorem dL_law_58 : decode cL_law 58 = .ok (.iaload, 1) := by decide +kernel
theorem dL_law_59 : decode cL_law 59 = .ok (.bipush 15, 2) := by decide +kernel
theorem dL_law_61 : decode cL_law 61 = .ok (.iand, 1) := by decide +kernel
theorem dL_law_62 : decode cL_law 62 = .ok (.tableswitch 318 0 11 #[62, 95, 128, 141, 164, 177, 190, 213, 246, 269, 292, 305], 62) := by decide +kernel
theorem dL_law_124 : decode cL_law 124 = .ok (.aload_n 1, 1) := by decide +kernel
theorem dL_law_125 : decode cL_law 125 = .ok (.aload_n 0, 1) := by decide +kernel
theorem dL_law_126 : decode cL_law 126 = .ok (.iload_n 3, 1) := by decide +kernel
theorem dL_law_127 : decode cL_law 127 = .ok (.iconst 1, 1) := by decide +kernel
theorem dL_law_128 : decode cL_law 128 = .ok (.iadd, 1) := by decide +kernel
theorem dL_law_129 : decode cL_law 129 = .ok (.iaload, 1) := by decide +kernel
theorem dL_law_130 : decode cL_law 130 = .ok (.aload_n 0, 1) := by decide +kernel
theorem dL_law_131 : decode cL_law 131 = .ok (.iload_n 3, 1) := by decide +kernel
theorem dL_law_132 : decode cL_law 132 = .ok (.iconst 2, 1) := by decide +kernel
theorem dL_law_133 : decode cL_law 133 = .ok (.iadd, 1) := by decide +kernel
theorem dL_law_134 : decode cL_law 134 = .ok (.iaload, 1) := by decide +kernel
theorem dL_law_135 : decode cL_law 135 = .ok (.invokevirtual 21, 3) := by decide +kernel
theorem dL_law_138 : decode cL_law 138 = .ok (.aload_n 2, 1) := by decide +kernel
theorem dL_law_139 : decode cL_law 139 = .ok (.aload_n 0, 1) := by decide +kernel
theorem dL_law_140 : decode cL_law 140 = .ok (.iload_n 3, 1) := by decide +kernel
theorem dL_law_141 : decode cL_law 141 = .ok (.iconst 1, 1) := by decide +kernel
theorem dL_law_142 : decode cL_law 142 = .ok (.iadd, 1) := by decide +kernel
theorem dL_law_143 : decode cL_law 143 = .ok (.iaload, 1) := by decide +kernel
theorem dL_law_144 : decode cL_law 144 = .ok (.aload_n 0, 1) := by decide +kernel
theorem dL_law_145 : decode cL_law 145 = .ok (.iload_n 3, 1) := by decide +kernel
theorem dL_law_146 : decode cL_law 146 = .ok (.iconst 2, 1) := by decide +kernel
theorem dL_law_147 : decode cL_law 147 = .ok (.iadd, 1) := by decide +kernel
theorem dL_law_148 : decode cL_law 148 = .ok (.iaload, 1) := by decide +kernel
theorem dL_law_149 : decode cL_law 149 = .ok (.invokevirtual 25, 3) := by decide +kernel
theorem dL_law_152 : decode cL_law 152 = .ok (.if_icmp .eq 228, 3) := by decide +kernel
theorem dL_law_155 : decode cL_law 155 = .ok (.iconst 0, 1) := by decide +kernel
theorem dL_law_156 : decode cL_law 156 = .ok (.ireturn, 1) := by decide +kernel
theorem dL_law_157 : decode cL_law 157 = .ok (.aload_n 1, 1) := by decide +kernel
theorem dL_law_158 : decode cL_law 158 = .ok (.aload_n 0, 1) := by decide +kernel
theorem dL_law_159 : decode cL_law 159 = .ok (.iload_n 3, 1) := by decide +kernel
theorem dL_law_160 : decode cL_law 160 = .ok (.iconst 1, 1) := by decide +kernel
theorem dL_law_161 : decode cL_law 161 = .ok (.iadd, 1) := by decide +kernel
theorem dL_law_162 : decode cL_law 162 = .ok (.iaload, 1) := by decide +kernel
theorem dL_law_163 : decode cL_law 163 = .ok (.aload_n 0, 1) := by decide +kernel
theorem dL_law_164 : decode cL_law 164 = .ok (.iload_n 3, 1) := by decide +kernel
theorem dL_law_165 : decode cL_law 165 = .ok (.iconst 2, 1) := by decide +kernel
theorem dL_law_166 : decode cL_law 166 = .ok (.iadd, 1) := by decide +kernel
theorem dL_law_167 : decode cL_law 167 = .ok (.iaload, 1) := by decide +kernel
theorem dL_law_168 : decode cL_law 168 = .ok (.invokevirtual 26, 3) := by decide +kernel
theorem dL_law_171 : decode cL_law 171 = .ok (.aload_n 2, 1) := by decide +kernel
theorem dL_law_172 : decode cL_law 172 = .ok (.aload_n 0, 1) := by decide +kernel
theorem dL_law_173 : decode cL_law 173 = .ok (.iload_n 3, 1) := by decide +kernel
theorem dL_law_174 : decode cL_law 174 = .ok (.iconst 1, 1) := by decide +kernel
theorem dL_law_175 : decode cL_law 175 = .ok (.iadd, 1) := by decide +kernel
theorem dL_law_176 : decode cL_law 176 = .ok (.iaload, 1) := by decide +kernel
theorem dL_law_177 : decode cL_law 177 = .ok (.aload_n 0, 1) := by decide +kernel
theorem dL_law_178 : decode cL_law 178 = .ok (.iload_n 3, 1) := by decide +kernel
theorem dL_law_179 : decode cL_law 179 = .ok (.iconst 2, 1) := by decide +kernel
theorem dL_law_180 : decode cL_law 180 = .ok (.iadd, 1) := by decide +kernel
theorem dL_law_181 : decode cL_law 181 = .ok (.iaload, 1) := by decide +kernel
theorem dL_law_182 : decode cL_law 182 = .ok (.invokevirtual 29, 3) := by decide +kernel
theorem dL_law_185 : decode cL_law 185 = .ok (.if_icmp .eq 195, 3) := by decide +kernel
theorem dL_law_188 : decode cL_law 188 = .ok (.iconst 0, 1) := by decide +kernel
theorem dL_law_189 : decode cL_law 189 = .ok (.ireturn, 1) := by decide +kernel
theorem dL_law_190 : decode cL_law 190 = .ok (.aload_n 1, 1) := by decide +kernel
theorem dL_law_191 : decode cL_law 191 = .ok (.invokevirtual 30, 3) := by decide +kernel
theorem dL_law_194 : decode cL_law 194 = .ok (.aload_n 2, 1) := by decide +kernel
theorem dL_law_195 : decode cL_law 195 = .ok (.invokevirtual 34, 3) := by decide +kernel
theorem dL_law_198 : decode cL_law 198 = .ok (.if_icmp .eq 182, 3) := by decide +kernel
theorem dL_law_201 : decode cL_law 201 = .ok (.iconst 0, 1) := by decide +kernel
theorem dL_law_202 : decode cL_law 202 = .ok (.ireturn, 1) := by decide +kernel
theorem dL_law_203 : decode cL_law 203 = .ok (.aload_n 1, 1) := by decide +kernel
theorem dL_law_204 : decode cL_law 204 = .ok (.aload_n 0, 1) := by decide +kernel
theorem dL_law_205 : decode cL_law 205 = .ok (.iload_n 3, 1) := by decide +kernel
theorem dL_law_206 : decode cL_law 206 = .ok (.iconst 1, 1) := by decide +kernel
theorem dL_law_207 : decode cL_law 207 = .ok (.iadd, 1) := by decide +kernel
theorem dL_law_208 : decode cL_law 208 = .ok (.iaload, 1) := by decide +kernel
theorem dL_law_209 : decode cL_law 209 = .ok (.invokevirtual 35, 3) := by decide +kernel
theorem dL_law_212 : decode cL_law 212 = .ok (.aload_n 2, 1) := by decide +kernel
theorem dL_law_213 : decode cL_law 213 = .ok (.aload_n 0, 1) := by decide +kernel
theorem dL_law_214 : decode cL_law 214 = .ok (.iload_n 3, 1) := by decide +kernel
theorem dL_law_215 : decode cL_law 215 = .ok (.iconst 1, 1) := by decide +kernel
theorem dL_law_216 : decode cL_law 216 = .ok (.iadd, 1) := by decide +kernel
theorem dL_law_217 : decode cL_law 217 = .ok (.iaload, 1) := by decide +kernel
theorem dL_law_218 : decode cL_law 218 = .ok (.invokevirtual 39, 3) := by decide +kernel
theorem dL_law_221 : decode cL_law 221 = .ok (.if_icmp .eq 159, 3) := by decide +kernel
theorem dL_law_224 : decode cL_law 224 = .ok (.iconst 0, 1) := by decide +kernel
theorem dL_law_225 : decode cL_law 225 = .ok (.ireturn, 1) := by decide +kernel
theorem dL_law_226 : decode cL_law 226 = .ok (.aload_n 1, 1) := by decide +kernel
theorem dL_law_227 : decode cL_law 227 = .ok (.invokevirtual 40, 3) := by decide +kernel
theorem dL_law_230 : decode cL_law 230 = .ok (.aload_n 2, 1) := by decide +kernel
theorem dL_law_231 : decode cL_law 231 = .ok (.invokevirtual 43, 3) := by decide +kernel
theorem dL_law_234 : decode cL_law 234 = .ok (.if_icmp .eq 146, 3) := by decide +kernel
theorem dL_law_237 : decode cL_law 237 = .ok (.iconst 0, 1) := by decide +kernel
theorem dL_law_238 : decode cL_law 238 = .ok (.ireturn, 1) := by decide +kernel
theorem dL_law_239 : decode cL_law 239 = .ok (.aload_n 1, 1) := by decide +kernel
theorem dL_law_240 : decode cL_law 240 = .ok (.invokevirtual 44, 3) := by decide +kernel
theorem dL_law_243 : decode cL_law 243 = .ok (.aload_n 2, 1) := by decide +kernel
theorem dL_law_244 : decode cL_law 244 = .ok (.invokevirtual 47, 3) := by decide +kernel
theorem dL_law_247 : decode cL_law 247 = .ok (.if_icmp .eq 133, 3) := by decide +kernel
theorem dL_law_250 : decode cL_law 250 = .ok (.iconst 0, 1) := by decide +kernel
theorem dL_law_251 : decode cL_law 251 = .ok (.ireturn, 1) := by decide +kernel
theorem dL_law_252 : decode cL_law 252 = .ok (.aload_n 1, 1) := by decide +kernel
theorem dL_law_253 : decode cL_law 253 = .ok (.aload_n 0, 1) := by decide +kernel
theorem dL_law_254 : decode cL_law 254 = .ok (.iload_n 3, 1) := by decide +kernel
theorem dL_law_255 : decode cL_law 255 = .ok (.iconst 1, 1) := by decide +kernel
theorem dL_law_256 : decode cL_law 256 = .ok (.iadd, 1) := by decide +kernel
theorem dL_law_257 : decode cL_law 257 = .ok (.iaload, 1) := by decide +kernel
theorem dL_law_258 : decode cL_law 258 = .ok (.invokevirtual 48, 3) := by decide +kernel
theorem dL_law_261 : decode cL_law 261 = .ok (.aload_n 2, 1) := by decide +kernel
theorem dL_law_262 : decode cL_law 262 = .ok (.aload_n 0, 1) := by decide +kernel
theorem dL_law_263 : decode cL_law 263 = .ok (.iload_n 3, 1) := by decide +kernel
theorem dL_law_264 : decode cL_law 264 = .ok (.iconst 1, 1) := by decide +kernel
theorem dL_law_265 : decode cL_law 265 = .ok (.iadd, 1) := by decide +kernel
theorem dL_law_266 : decode cL_law 266 = .ok (.iaload, 1) := by decide +kernel
theorem dL_law_267 : decode cL_law 267 = .ok (.invokevirtual 51, 3) := by decide +kernel
theorem dL_law_270 : decode cL_law 270 = .ok (.if_icmp .eq 110, 3) := by decide +kernel
theorem dL_law_273 : decode cL_law 273 = .ok (.iconst 0, 1) := by decide +kernel
theorem dL_law_274 : decode cL_law 274 = .ok (.ireturn, 1) := by decide +kernel
theorem dL_law_275 : decode cL_law 275 = .ok (.aload_n 1, 1) := by decide +kernel
theorem dL_law_276 : decode cL_law 276 = .ok (.aload_n 0, 1) := by decide +kernel
theorem dL_law_277 : decode cL_law 277 = .ok (.iload_n 3, 1) := by decide +kernel
theorem dL_law_278 : decode cL_law 278 = .ok (.iconst 1, 1) := by decide +kernel
theorem dL_law_279 : decode cL_law 279 = .ok (.iadd, 1) := by decide +kernel
theorem dL_law_280 : decode cL_law 280 = .ok (.iaload, 1) := by decide +kernel
theorem dL_law_281 : decode cL_law 281 = .ok (.aload_n 0, 1) := by decide +kernel
theorem dL_law_282 : decode cL_law 282 = .ok (.iload_n 3, 1) := by decide +kernel
theorem dL_law_283 : decode cL_law 283 = .ok (.iconst 2, 1) := by decide +kernel
theorem dL_law_284 : decode cL_law 284 = .ok (.iadd, 1) := by decide +kernel
theorem dL_law_285 : decode cL_law 285 = .ok (.iaload, 1) := by decide +kernel
theorem dL_law_286 : decode cL_law 286 = .ok (.invokevirtual 52, 3) := by decide +kernel
theorem dL_law_289 : decode cL_law 289 = .ok (.aload_n 2, 1) := by decide +kernel
theorem dL_law_290 : decode cL_law 290 = .ok (.aload_n 0, 1) := by decide +kernel
theorem dL_law_291 : decode cL_law 291 = .ok (.iload_n 3, 1) := by decide +kernel
theorem dL_law_292 : decode cL_law 292 = .ok (.iconst 1, 1) := by decide +kernel
theorem dL_law_293 : decode cL_law 293 = .ok (.iadd, 1) := by decide +kernel
theorem dL_law_294 : decode cL_law 294 = .ok (.iaload, 1) := by decide +kernel
theorem dL_law_295 : decode cL_law 295 = .ok (.aload_n 0, 1) := by decide +kernel
theorem dL_law_296 : decode cL_law 296 = .ok (.iload_n 3, 1) := by decide +kernel
theorem dL_law_297 : decode cL_law 297 = .ok (.iconst 2, 1) := by decide +kernel
theorem dL_law_298 : decode cL_law 298 = .ok (.iadd, 1) := by decide +kernel
theorem dL_law_299 : decode cL_law 299 = .ok (.iaload, 1) := by decide +kernel
theorem dL_law_300 : decode cL_law 300 = .ok (.invokevirtual 56, 3) := by decide +kernel
theorem dL_law_303 : decode cL_law 303 = .ok (.if_icmp .eq 77, 3) := by decide +kernel
theorem dL_law_306 : decode cL_law 306 = .ok (.iconst 0, 1) := by decide +kernel
theorem dL_law_307 : decode cL_law 307 = .ok (.ireturn, 1) := by decide +kernel
theorem dL_law_308 : decode cL_law 308 = .ok (.aload_n 1, 1) := by decide +kernel
theorem dL_law_309 : decode cL_law 309 = .ok (.aload_n 0, 1) := by decide +kernel
theorem dL_law_310 : decode cL_law 310 = .ok (.iload_n 3, 1) := by decide +kernel
theorem dL_law_311 : decode cL_law 311 = .ok (.iconst 1, 1) := by decide +kernel
theorem dL_law_312 : decode cL_law 312 = .ok (.iadd, 1) := by decide +kernel
theorem dL_law_313 : decode cL_law 313 = .ok (.iaload, 1) := by decide +kernel
theorem dL_law_314 : decode cL_law 314 = .ok (.invokevirtual 57, 3) := by decide +kernel
theorem dL_law_317 : decode cL_law 317 = .ok (.aload_n 2, 1) := by decide +kernel
theorem dL_law_318 : decode cL_law 318 = .ok (.aload_n 0, 1) := by decide +kernel
theorem dL_law_319 : decode cL_law 319 = .ok (.iload_n 3, 1) := by decide +kernel
theorem dL_law_320 : decode cL_law 320 = .ok (.iconst 1, 1) := by decide +kernel
theorem dL_law_321 : decode cL_law 321 = .ok (.iadd, 1) := by decide +kernel
theorem dL_law_322 : decode cL_law 322 = .ok (.iaload, 1) := by decide +kernel
theorem dL_law_323 : decode cL_law 323 = .ok (.invokevirtual 60, 3) := by decide +kernel
theorem dL_law_326 : decode cL_law 326 = .ok (.if_icmp .eq 54, 3) := by decide +kernel
theorem dL_law_329 : decode cL_law 329 = .ok (.iconst 0, 1) := by decide +kernel
theorem dL_law_330 : decode cL_law 330 = .ok (.ireturn, 1) := by decide +kernel
theorem dL_law_331 : decode cL_law 331 = .ok (.aload_n 1, 1) := by decide +kernel
theorem dL_law_332 : decode cL_law 332 = .ok (.aload_n 0, 1) := by decide +kernel
theorem dL_law_333 : decode cL_law 333 = .ok (.iload_n 3, 1) := by decide +kernel
theorem dL_law_334 : decode cL_law 334 = .ok (.iconst 1, 1) := by decide +kernel
theorem dL_law_335 : decode cL_law 335 = .ok (.iadd, 1) := by decide +kernel
theorem dL_law_336 : decode cL_law 336 = .ok (.iaload, 1) := by decide +kernel
theorem dL_law_337 : decode cL_law 337 = .ok (.invokevirtual 61, 3) := by decide +kernel
theorem dL_law_340 : decode cL_law 340 = .ok (.aload_n 2, 1) := by decide +kernel
theorem dL_law_341 : decode cL_law 341 = .ok (.aload_n 0, 1) := by decide +kernel
theorem dL_law_342 : decode cL_law 342 = .ok (.iload_n 3, 1) := by decide +kernel
theorem dL_law_343 : decode cL_law 343 = .ok (.iconst 1, 1) := by decide +kernel
theorem dL_law_344 : decode cL_law 344 = .ok (.iadd, 1) := by decide +kernel
theorem dL_law_345 : decode cL_law 345 = .ok (.iaload, 1) := by decide +kernel
theorem dL_law_346 : decode cL_law 346 = .ok (.invokevirtual 64, 3) := by decide +kernel
theorem dL_law_349 : decode cL_law 349 = .ok (.if_icmp .eq 31, 3) := by decide +kernel
theorem dL_law_352 : decode cL_law 352 = .ok (.iconst 0, 1) := by decide +kernel
theorem dL_law_353 : decode cL_law 353 = .ok (.ireturn, 1) := by decide +kernel
theorem dL_law_354 : decode cL_law 354 = .ok (.aload_n 1, 1) := by decide +kernel
theorem dL_law_355 : decode cL_law 355 = .ok (.invokevirtual 65, 3) := by decide +kernel
theorem dL_law_358 : decode cL_law 358 = .ok (.aload_n 2, 1) := by decide +kernel
theorem dL_law_359 : decode cL_law 359 = .ok (.invokevirtual 68, 3) := by decide +kernel
theorem dL_law_362 : decode cL_law 362 = .ok (.if_icmp .eq 18, 3) := by decide +kernel
theorem dL_law_365 : decode cL_law 365 = .ok (.iconst 0, 1) := by decide +kernel
theorem dL_law_366 : decode cL_law 366 = .ok (.ireturn, 1) := by decide +kernel
theorem dL_law_367 : decode cL_law 367 = .ok (.aload_n 1, 1) := by decide +kernel
theorem dL_law_368 : decode cL_law 368 = .ok (.invokevirtual 69, 3) := by decide +kernel
theorem dL_law_371 : decode cL_law 371 = .ok (.aload_n 2, 1) := by decide +kernel
theorem dL_law_372 : decode cL_law 372 = .ok (.invokevirtual 72, 3) := by decide +kernel
theorem dL_law_375 : decode cL_law 375 = .ok (.if_icmp .eq 5, 3) := by decide +kernel
theorem dL_law_378 : decode cL_law 378 = .ok (.iconst 0, 1) := by decide +kernel
theorem dL_law_379 : decode cL_law 379 = .ok (.ireturn, 1) := by decide +kernel
theorem dL_law_380 : decode cL_law 380 = .ok (.iinc 3 3, 3) := by decide +kernel
theorem dL_law_383 : decode cL_law 383 = .ok (.goto (-335), 3) := by decide +kernel
theorem dL_law_386 : decode cL_law 386 = .ok (.iconst 1, 1) := by decide +kernel
theorem dL_law_387 : decode cL_law 387 = .ok (.ireturn, 1) := by decide +kernel
end
section
/-! states of the two objects: scalars and arrays by the number of their field; the worlds; cuts at joins and loop heads -/
abbrev SS : Type := (Nat → Int32) × (Nat → Nat → Int32)
def sv (st : SS) (k : Nat) (x : Int32) : SS := (va_up st.1 k x, st.2)
def sa (st : SS) (k : Nat) (f : Nat → Int32) : SS := (st.1, va_up st.2 k f)
abbrev clsL : List vw_C := [(RX1, TX1, 23), (RX2, TX2, 10)]
def xw (h : Nat → Nat) (cI cB : ClassId) (st : SS) : va_W := [(h 0, .inr (0, [.int (st.1 0), .int (st.1 1), .int (st.1 2), .int (st.1 3), .int (st.1 4), .ref (h 1), .int (st.1 6), .int (st.1 7), .int (st.1 8), .int (st.1 9), .int (st.1 10), .ref (h 2), .ref (h 3), .ref (h 4), .ref (h 5), .ref (h 6), .ref (h 7), .ref (h 8), .ref (h 9), .ref (h 10), .ref (h 11), .ref (h 12), .ref (h 13)])), (h 1, .inl (cI, 32, .inl (st.2 5))), (h 2, .inl (cB, 2, .inl (st.2 11))), (h 3, .inl (cB, 2, .inl (st.2 12))), (h 4, .inl (cB, 2, .inl (st.2 13))), (h 5, .inl (cB, 2, .inl (st.2 14))), (h 6, .inl (cB, 2, .inl (st.2 15))), (h 7, .inl (cB, 2, .inl (st.2 16))), (h 8, .inl (cI, 2, .inl (st.2 17))), (h 9, .inl (cI, 2, .inl (st.2 18))), (h 10, .inl (cI, 2, .inl (st.2 19))), (h 11, .inl (cI, 2, .inl (st.2 20))), (h 12, .inl (cI, 2, .inl (st.2 21))), (h 13, .inl (cI, 16, .inl (st.2 22)))]
def mw (g : Nat → Nat) (cI : ClassId) (st : SS) : va_W := [(g 0, .inr (1, [.int (st.1 0), .int (st.1 1), .int (st.1 2), .ref (g 1), .ref (g 2), .ref (g 3), .ref (g 4), .int (st.1 7), .int (st.1 8), .ref (g 5)])), (g 1, .inl (cI, 2, .inl (st.2 3))), (g 2, .inl (cI, 2, .inl (st.2 4))), (g 3, .inl (cI, 2, .inl (st.2 5))), (g 4, .inl (cI, 2, .inl (st.2 6))), (g 5, .inl (cI, 241, .inl (st.2 9)))]
/-! reading a state behind writes; a write of a field, of an array, in the worlds -/
theorem sv_s {st : SS} {k : Nat} {x : Int32} : (sv st k x).1 k = x := va_up_self st.1 k x
theorem sv_n {st : SS} {k j : Nat} {x : Int32} (h : j ≠ k) : (sv st k x).1 j = st.1 j := va_up_ne st.1 x h
theorem sv_2 {st : SS} {k : Nat} {x : Int32} : (sv st k x).2 = st.2 := rfl
theorem sa_1 {st : SS} {k : Nat} {f : Nat → Int32} : (sa st k f).1 = st.1 := rfl
theorem sa_s {st : SS} {k : Nat} {f : Nat → Int32} : (sa st k f).2 k = f := va_up_self st.2 k f
theorem sa_n {st : SS} {k j : Nat} {f : Nat → Int32} (h : j ≠ k) : (sa st k f).2 j = st.2 j := va_up_ne st.2 f h
theorem xw_s0 {h : Nat → Nat} {cI cB : ClassId} {st : SS} {x : Int32} : (xw h cI cB st).set 0 (h 0, .inr (0, List.set [.int (st.1 0), .int (st.1 1), .int (st.1 2), .int (st.1 3), .int (st.1 4), .ref (h 1), .int (st.1 6), .int (st.1 7), .int (st.1 8), .int (st.1 9), .int (st.1 10), .ref (h 2), .ref (h 3), .ref (h 4), .ref (h 5), .ref (h 6), .ref (h 7), .ref (h 8), .ref (h 9), .ref (h 10), .ref (h 11), .ref (h 12), .ref (h 13)] 0 (.int x))) = xw h cI cB (sv st 0 x) := rfl
theorem xw_s1 {h : Nat → Nat} {cI cB : ClassId} {st : SS} {x : Int32} : (xw h cI cB st).set 0 (h 0, .inr (0, List.set [.int (st.1 0), .int (st.1 1), .int (st.1 2), .int (st.1 3), .int (st.1 4), .ref (h 1), .int (st.1 6), .int (st.1 7), .int (st.1 8), .int (st.1 9), .int (st.1 10), .ref (h 2), .ref (h 3), .ref (h 4), .ref (h 5), .ref (h 6), .ref (h 7), .ref (h 8), .ref (h 9), .ref (h 10), .ref (h 11), .ref (h 12), .ref (h 13)] 1 (.int x))) = xw h cI cB (sv st 1 x) := rfl
theorem xw_s2 {h : Nat → Nat} {cI cB : ClassId} {st : SS} {x : Int32} : (xw h cI cB st).set 0 (h 0, .inr (0, List.set [.int (st.1 0), .int (st.1 1), .int (st.1 2), .int (st.1 3), .int (st.1 4), .ref (h 1), .int (st.1 6), .int (st.1 7), .int (st.1 8), .int (st.1 9), .int (st.1 10), .ref (h 2), .ref (h 3), .ref (h 4), .ref (h 5), .ref (h 6), .ref (h 7), .ref (h 8), .ref (h 9), .ref (h 10), .ref (h 11), .ref (h 12), .ref (h 13)] 2 (.int x))) = xw h cI cB (sv st 2 x) := rfl
theorem xw_s3 {h : Nat → Nat} {cI cB : ClassId} {st : SS} {x : Int32} : (xw h cI cB st).set 0 (h 0, .inr (0, List.set [.int (st.1 0), .int (st.1 1), .int (st.1 2), .int (st.1 3), .int (st.1 4), .ref (h 1), .int (st.1 6), .int (st.1 7), .int (st.1 8), .int (st.1 9), .int (st.1 10), .ref (h 2), .ref (h 3), .ref (h 4), .ref (h 5), .ref (h 6), .ref (h 7), .ref (h 8), .ref (h 9), .ref (h 10), .ref (h 11), .ref (h 12), .ref (h 13)] 3 (.int x))) = xw h cI cB (sv st 3 x) := rfl
theorem xw_s4 {h : Nat → Nat} {cI cB : ClassId} {st : SS} {x : Int32} : (xw h cI cB st).set 0 (h 0, .inr (0, List.set [.int (st.1 0), .int (st.1 1), .int (st.1 2), .int (st.1 3), .int (st.1 4), .ref (h 1), .int (st.1 6), .int (st.1 7), .int (st.1 8), .int (st.1 9), .int (st.1 10), .ref (h 2), .ref (h 3), .ref (h 4), .ref (h 5), .ref (h 6), .ref (h 7), .ref (h 8), .ref (h 9), .ref (h 10), .ref (h 11), .ref (h 12), .ref (h 13)] 4 (.int x))) = xw h cI cB (sv st 4 x) := rfl
theorem xw_s6 {h : Nat → Nat} {cI cB : ClassId} {st : SS} {x : Int32} : (xw h cI cB st).set 0 (h 0, .inr (0, List.set [.int (st.1 0), .int (st.1 1), .int (st.1 2), .int (st.1 3), .int (st.1 4), .ref (h 1), .int (st.1 6), .int (st.1 7), .int (st.1 8), .int (st.1 9), .int (st.1 10), .ref (h 2), .ref (h 3), .ref (h 4), .ref (h 5), .ref (h 6), .ref (h 7), .ref (h 8), .ref (h 9), .ref (h 10), .ref (h 11), .ref (h 12), .ref (h 13)] 6 (.int x))) = xw h cI cB (sv st 6 x) := rfl
theorem xw_s7 {h : Nat → Nat} {cI cB : ClassId} {st : SS} {x : Int32} : (xw h cI cB st).set 0 (h 0, .inr (0, List.set [.int (st.1 0), .int (st.1 1), .int (st.1 2), .int (st.1 3), .int (st.1 4), .ref (h 1), .int (st.1 6), .int (st.1 7), .int (st.1 8), .int (st.1 9), .int (st.1 10), .ref (h 2), .ref (h 3), .ref (h 4), .ref (h 5), .ref (h 6), .ref (h 7), .ref (h 8), .ref (h 9), .ref (h 10), .ref (h 11), .ref (h 12), .ref (h 13)] 7 (.int x))) = xw h cI cB (sv st 7 x) := rfl
theorem xw_s8 {h : Nat → Nat} {cI cB : ClassId} {st : SS} {x : Int32} : (xw h cI cB st).set 0 (h 0, .inr (0, List.set [.int (st.1 0), .int (st.1 1), .int (st.1 2), .int (st.1 3), .int (st.1 4), .ref (h 1), .int (st.1 6), .int (st.1 7), .int (st.1 8), .int (st.1 9), .int (st.1 10), .ref (h 2), .ref (h 3), .ref (h 4), .ref (h 5), .ref (h 6), .ref (h 7), .ref (h 8), .ref (h 9), .ref (h 10), .ref (h 11), .ref (h 12), .ref (h 13)] 8 (.int x))) = xw h cI cB (sv st 8 x) := rfl
theorem xw_s9 {h : Nat → Nat} {cI cB : ClassId} {st : SS} {x : Int32} : (xw h cI cB st).set 0 (h 0, .inr (0, List.set [.int (st.1 0), .int (st.1 1), .int (st.1 2), .int (st.1 3), .int (st.1 4), .ref (h 1), .int (st.1 6), .int (st.1 7), .int (st.1 8), .int (st.1 9), .int (st.1 10), .ref (h 2), .ref (h 3), .ref (h 4), .ref (h 5), .ref (h 6), .ref (h 7), .ref (h 8), .ref (h 9), .ref (h 10), .ref (h 11), .ref (h 12), .ref (h 13)] 9 (.int x))) = xw h cI cB (sv st 9 x) := rfl
theorem xw_s10 {h : Nat → Nat} {cI cB : ClassId} {st : SS} {x : Int32} : (xw h cI cB st).set 0 (h 0, .inr (0, List.set [.int (st.1 0), .int (st.1 1), .int (st.1 2), .int (st.1 3), .int (st.1 4), .ref (h 1), .int (st.1 6), .int (st.1 7), .int (st.1 8), .int (st.1 9), .int (st.1 10), .ref (h 2), .ref (h 3), .ref (h 4), .ref (h 5), .ref (h 6), .ref (h 7), .ref (h 8), .ref (h 9), .ref (h 10), .ref (h 11), .ref (h 12), .ref (h 13)] 10 (.int x))) = xw h cI cB (sv st 10 x) := rfl
theorem xw_a1 {h : Nat → Nat} {cI cB : ClassId} {st : SS} {f : Nat → Int32} : (xw h cI cB st).set 1 (h 1, .inl (cI, 32, .inl f)) = xw h cI cB (sa st 5 f) := rfl
theorem xw_a2 {h : Nat → Nat} {cI cB : ClassId} {st : SS} {f : Nat → Int32} : (xw h cI cB st).set 2 (h 2, .inl (cB, 2, .inl f)) = xw h cI cB (sa st 11 f) := rfl
theorem xw_a3 {h : Nat → Nat} {cI cB : ClassId} {st : SS} {f : Nat → Int32} : (xw h cI cB st).set 3 (h 3, .inl (cB, 2, .inl f)) = xw h cI cB (sa st 12 f) := rfl
theorem xw_a4 {h : Nat → Nat} {cI cB : ClassId} {st : SS} {f : Nat → Int32} : (xw h cI cB st).set 4 (h 4, .inl (cB, 2, .inl f)) = xw h cI cB (sa st 13 f) := rfl
theorem xw_a5 {h : Nat → Nat} {cI cB : ClassId} {st : SS} {f : Nat → Int32} : (xw h cI cB st).set 5 (h 5, .inl (cB, 2, .inl f)) = xw h cI cB (sa st 14 f) := rfl
theorem xw_a6 {h : Nat → Nat} {cI cB : ClassId} {st : SS} {f : Nat → Int32} : (xw h cI cB st).set 6 (h 6, .inl (cB, 2, .inl f)) = xw h cI cB (sa st 15 f) := rfl
theorem xw_a7 {h : Nat → Nat} {cI cB : ClassId} {st : SS} {f : Nat → Int32} : (xw h cI cB st).set 7 (h 7, .inl (cB, 2, .inl f)) = xw h cI cB (sa st 16 f) := rfl
theorem xw_a8 {h : Nat → Nat} {cI cB : ClassId} {st : SS} {f : Nat → Int32} : (xw h cI cB st).set 8 (h 8, .inl (cI, 2, .inl f)) = xw h cI cB (sa st 17 f) := rfl
theorem xw_a9 {h : Nat → Nat} {cI cB : ClassId} {st : SS} {f : Nat → Int32} : (xw h cI cB st).set 9 (h 9, .inl (cI, 2, .inl f)) = xw h cI cB (sa st 18 f) := rfl
theorem xw_a10 {h : Nat → Nat} {cI cB : ClassId} {st : SS} {f : Nat → Int32} : (xw h cI cB st).set 10 (h 10, .inl (cI, 2, .inl f)) = xw h cI cB (sa st 19 f) := rfl
theorem xw_a11 {h : Nat → Nat} {cI cB : ClassId} {st : SS} {f : Nat → Int32} : (xw h cI cB st).set 11 (h 11, .inl (cI, 2, .inl f)) = xw h cI cB (sa st 20 f) := rfl
theorem xw_a12 {h : Nat → Nat} {cI cB : ClassId} {st : SS} {f : Nat → Int32} : (xw h cI cB st).set 12 (h 12, .inl (cI, 2, .inl f)) = xw h cI cB (sa st 21 f) := rfl
theorem xw_a13 {h : Nat → Nat} {cI cB : ClassId} {st : SS} {f : Nat → Int32} : (xw h cI cB st).set 13 (h 13, .inl (cI, 16, .inl f)) = xw h cI cB (sa st 22 f) := rfl
theorem mw_s0 {g : Nat → Nat} {cI : ClassId} {st : SS} {x : Int32} : (mw g cI st).set 0 (g 0, .inr (1, List.set [.int (st.1 0), .int (st.1 1), .int (st.1 2), .ref (g 1), .ref (g 2), .ref (g 3), .ref (g 4), .int (st.1 7), .int (st.1 8), .ref (g 5)] 0 (.int x))) = mw g cI (sv st 0 x) := rfl
theorem mw_s1 {g : Nat → Nat} {cI : ClassId} {st : SS} {x : Int32} : (mw g cI st).set 0 (g 0, .inr (1, List.set [.int (st.1 0), .int (st.1 1), .int (st.1 2), .ref (g 1), .ref (g 2), .ref (g 3), .ref (g 4), .int (st.1 7), .int (st.1 8), .ref (g 5)] 1 (.int x))) = mw g cI (sv st 1 x) := rfl
theorem mw_s2 {g : Nat → Nat} {cI : ClassId} {st : SS} {x : Int32} : (mw g cI st).set 0 (g 0, .inr (1, List.set [.int (st.1 0), .int (st.1 1), .int (st.1 2), .ref (g 1), .ref (g 2), .ref (g 3), .ref (g 4), .int (st.1 7), .int (st.1 8), .ref (g 5)] 2 (.int x))) = mw g cI (sv st 2 x) := rfl
theorem mw_s7 {g : Nat → Nat} {cI : ClassId} {st : SS} {x : Int32} : (mw g cI st).set 0 (g 0, .inr (1, List.set [.int (st.1 0), .int (st.1 1), .int (st.1 2), .ref (g 1), .ref (g 2), .ref (g 3), .ref (g 4), .int (st.1 7), .int (st.1 8), .ref (g 5)] 7 (.int x))) = mw g cI (sv st 7 x) := rfl
theorem mw_s8 {g : Nat → Nat} {cI : ClassId} {st : SS} {x : Int32} : (mw g cI st).set 0 (g 0, .inr (1, List.set [.int (st.1 0), .int (st.1 1), .int (st.1 2), .ref (g 1), .ref (g 2), .ref (g 3), .ref (g 4), .int (st.1 7), .int (st.1 8), .ref (g 5)] 8 (.int x))) = mw g cI (sv st 8 x) := rfl
theorem mw_a1 {g : Nat → Nat} {cI : ClassId} {st : SS} {f : Nat → Int32} : (mw g cI st).set 1 (g 1, .inl (cI, 2, .inl f)) = mw g cI (sa st 3 f) := rfl
theorem mw_a2 {g : Nat → Nat} {cI : ClassId} {st : SS} {f : Nat → Int32} : (mw g cI st).set 2 (g 2, .inl (cI, 2, .inl f)) = mw g cI (sa st 4 f) := rfl
theorem mw_a3 {g : Nat → Nat} {cI : ClassId} {st : SS} {f : Nat → Int32} : (mw g cI st).set 3 (g 3, .inl (cI, 2, .inl f)) = mw g cI (sa st 5 f) := rfl
theorem mw_a4 {g : Nat → Nat} {cI : ClassId} {st : SS} {f : Nat → Int32} : (mw g cI st).set 4 (g 4, .inl (cI, 2, .inl f)) = mw g cI (sa st 6 f) := rfl
theorem mw_a5 {g : Nat → Nat} {cI : ClassId} {st : SS} {f : Nat → Int32} : (mw g cI st).set 5 (g 5, .inl (cI, 241, .inl f)) = mw g cI (sa st 9 f) := rfl
/-- what a query asks of its start, and a mutator -/
abbrev qQ (D : va_G) (ws : va_W) (tys : List (ClassId × FieldType)) : State → Prop := fun U => va_P D clsL ws U.heap ∧ va_K D clsL tys U
abbrev qM (D : va_G) (ws : va_W) (tys : List (ClassId × FieldType)) (sz : Nat) : State → Prop := fun U => U.heap.size = sz ∧ va_P D clsL ws U.heap ∧ va_K D clsL tys U ∧ va_D (fun _ => True) ws
/-- the world behind a mutator -/
abbrev qB (D : va_G) (w : SS → va_W) (tys : List (ClassId × FieldType)) (A : Nat → Prop) (u : SS) (t : State) : Prop := va_P D clsL (w u) t.heap ∧ va_K D clsL tys t ∧ va_D A (w u)
theorem qb_blind {av : List Value} {D : va_G} {ws : va_W} {tys : List (ClassId × FieldType)} : FrameBlind (va_Pc av (qQ D ws tys)) := fun a U g mk q => by
  obtain ⟨q0, qP, qK⟩ := q
  exact ⟨q0, qP, va_K.moved (u := U) (U := U.calling g mk a) (Vm.Alike.refl U.vm) qK⟩
theorem mb_blind {av : List Value} {D : va_G} {ws : va_W} {tys : List (ClassId × FieldType)} {sz : Nat} : FrameBlind (va_Pc av (qM D ws tys sz)) := fun a U g mk q => by
  obtain ⟨q0, q1, qP, qK, qD⟩ := q
  exact ⟨q0, q1, qP, va_K.moved (u := U) (U := U.calling g mk a) (Vm.Alike.refl U.vm) qK, qD⟩
theorem tb_blind {av : List Value} : FrameBlind (va_Pc av (fun _ => True)) := fun a U g mk q => ⟨q.1, trivial⟩
section PH
variable {p : Program} {l : Launch} {e : Env} {R : Room} {s : State} {m : MethodId} {args : Array Value} {below : List Frame} {meth : Method} {c : Code} {H : Heap} {locs : List Loc} {cells slots : Nat} {Q : State → Prop} {pc : Nat} {ls : Array Slot} {st0 : List Value}
/-- a join: the number on the stack's top gets a name -/
theorem ph_cut {J : Nat} {rest : List Value} (E : Int32) (h2 : ∀ z : Int32, z = E → W p l e R s m args below meth c H locs cells slots Q (F0 m J ls (.int z :: rest))) (h1 : (∀ z : Int32, z = E → W p l e R s m args below meth c H locs cells slots Q (F0 m J ls (.int z :: rest))) → W p l e R s m args below meth c H locs cells slots Q (F0 m pc ls st0)) : W p l e R s m args below meth c H locs cells slots Q (F0 m pc ls st0) := h1 h2
/-- a join: a fact -/
theorem ph_cut0 {J : Nat} {rest : List Value} (P : Prop) (h2 : P → W p l e R s m args below meth c H locs cells slots Q (F0 m J ls rest)) (h1 : (P → W p l e R s m args below meth c H locs cells slots Q (F0 m J ls rest)) → W p l e R s m args below meth c H locs cells slots Q (F0 m pc ls st0)) : W p l e R s m args below meth c H locs cells slots Q (F0 m pc ls st0) := h1 h2
/-- a join: a number in a slot gets a name -/
theorem ph_cutL {J nL : Nat} {rest : List Value} (lv : Int32 → List (Nat × Value)) (E : Int32) (h2 : ∀ (z : Int32), z = E → ∀ (ls' : Array Slot), lv_has ls' nL (lv z) → W p l e R s m args below meth c H locs cells slots Q (F0 m J ls' rest)) (h1 : (∀ (z : Int32), z = E → ∀ (ls' : Array Slot), lv_has ls' nL (lv z) → W p l e R s m args below meth c H locs cells slots Q (F0 m J ls' rest)) → W p l e R s m args below meth c H locs cells slots Q (F0 m pc ls st0)) : W p l e R s m args below meth c H locs cells slots Q (F0 m pc ls st0) := h1 h2
/-- a loop that leaves the heap alone: n falls -/
theorem lp_cut {σ : Type} {J nL : Nat} (lv : σ → List (Nat × Value)) (I : Nat → σ → Prop) (step : ∀ (n : Nat) (x : σ), I n x → (∀ (n' : Nat) (y : σ), n' < n → I n' y → ∀ ls' : Array Slot, lv_has ls' nL (lv y) → W p l e R s m args below meth c H locs cells slots Q (F0 m J ls' [])) → ∀ ls' : Array Slot, lv_has ls' nL (lv x) → W p l e R s m args below meth c H locs cells slots Q (F0 m J ls' [])) : ∀ (n : Nat) (x : σ), I n x → ∀ ls' : Array Slot, lv_has ls' nL (lv x) → W p l e R s m args below meth c H locs cells slots Q (F0 m J ls' []) := by
  intro n
  induction n using Nat.strongRecOn with
  | _ n ih =>
    intro x hI ls' hl
    exact step n x hI (fun n' y h hy ls2 hl2 => ih n' h y hy ls2 hl2) ls' hl
/-- a loop that writes the world's cells -/
theorem lp_cutM {σ : Type} {J nL : Nat} {D : va_G} {cl : List vw_C} {A : Nat → Prop} {H0 : Heap} (w : σ → va_W) (lv : σ → List (Nat × Value)) (I : Nat → σ → Prop) (step : ∀ (n : Nat) (x : σ), I n x → (∀ (n' : Nat) (y : σ), n' < n → I n' y → ∀ (H : Heap) (locs : List Loc) (ls' : Array Slot), va_P D cl (w y) H → va_D A (w y) → va_S A H0 H locs → lv_has ls' nL (lv y) → W p l e R s m args below meth c H locs cells slots Q (F0 m J ls' [])) → ∀ (H : Heap) (locs : List Loc) (ls' : Array Slot), va_P D cl (w x) H → va_D A (w x) → va_S A H0 H locs → lv_has ls' nL (lv x) → W p l e R s m args below meth c H locs cells slots Q (F0 m J ls' [])) : ∀ (n : Nat) (x : σ), I n x → ∀ (H : Heap) (locs : List Loc) (ls' : Array Slot), va_P D cl (w x) H → va_D A (w x) → va_S A H0 H locs → lv_has ls' nL (lv x) → W p l e R s m args below meth c H locs cells slots Q (F0 m J ls' []) := by
  intro n
  induction n using Nat.strongRecOn with
  | _ n ih =>
    intro x hI H locs ls' hP hD hS hl
    exact step n x hI (fun n' y h hy H2 l2 ls2 a1 a2 a3 a4 => ih n' h y hy H2 l2 ls2 a1 a2 a3 a4) H locs ls' hP hD hS hl
end PH
/-- the archives' numbers -/
def arO (a : Int32) : Prop := a = 0 ∨ a = 1
theorem in32 (x : Int32) : vp_in (x &&& 31) 32 := pk_andIn x 5 (by decide) (by decide)
theorem in2 {a : Int32} (h : arO a) : vp_in a 2 := by
  rcases h with rfl | rfl
  · exact vp_in_nI (n := 0) (by decide) (by decide)
  · exact vp_in_nI (n := 1) (by decide) (by decide)
theorem in16 {a : Int32} (h : arO a) (x : Int32) : vp_in (a * 8 + (x &&& 7)) 16 := by
  obtain ⟨j, hj, e⟩ := pk_andE x 3 (m := 7) (by decide)
  rw [e]
  rcases h with rfl | rfl
  · rw [show (0 : Int32) * 8 = nI 0 by decide, nI_add]
    exact vp_in_nI (by omega) (by decide)
  · rw [show (1 : Int32) * 8 = nI 8 by decide, nI_add]
    exact vp_in_nI (by omega) (by decide)
theorem in1 (x : Int32) : vp_in (x &&& 1) 2 := pk_andIn x 1 (by decide) (by decide)
end
section
/-! the pure mirrors of the methods: the same tests in the same order as the bytecode -/
def x_isA (a : Int32) : Int32 := if a = 0 then 1 else if a = 1 then 1 else 0
def x_floor (n d : Int32) : Int32 := if (if d ≤ 0 then 0 else n / d) * d ≤ n then (if d ≤ 0 then 0 else n / d) else (if d ≤ 0 then 0 else n / d) - 1
def x_sized (sp rm : Int32) : Int32 := if sp < 1 then 0 else if 4 < sp then 0 else if rm < 1 then 0 else if 8 < rm then 0 else 1
def x_shSet (st : SS) (a p : Int32) : SS := sa (sa (sa (sa st 11 (upd (st.2 11) a.toNatClampNeg (vp_nar .byte (p &&& 7).toInt8.toInt32))) 12 (upd (st.2 12) a.toNatClampNeg (vp_nar .byte ((p >>> (3 &&& 31)) &&& 7).toInt8.toInt32))) 13 (upd (st.2 13) a.toNatClampNeg (vp_nar .byte ((p >>> (6 &&& 31)) &&& 7).toInt8.toInt32))) 14 (upd (st.2 14) a.toNatClampNeg (vp_nar .byte (p >>> (9 &&& 31)).toInt8.toInt32))
def x_shape (st : SS) (a p : Int32) : Int32 × SS := if x_isA a = 0 then (0, st) else if x_sized (p &&& 7) (p >>> (9 &&& 31)) = 0 then (0, st) else if (3 : Int32) < (p >>> (3 &&& 31)) &&& 7 then (0, st) else if (3 : Int32) < (p >>> (6 &&& 31)) &&& 7 then (0, st) else if st.1 3 ≤ 0 then (1, x_shSet st a p) else (0, st)
def x_inRange (st : SS) (v : Int32) : Int32 := if st.1 0 = 0 then (if v < -1000 then 0 else if 1000 < v then 0 else 1) else (if v < 0 then 0 else if 255 < v then 0 else 1)
def x_rowValue (st : SS) (a : Int32) : Int32 := if st.2 16 a.toNatClampNeg = 0 then -100000 else if st.2 11 a.toNatClampNeg - st.2 16 a.toNatClampNeg ≤ st.2 13 a.toNatClampNeg then (if st.2 12 a.toNatClampNeg = 0 then x_floor (st.2 17 a.toNatClampNeg) (st.2 16 a.toNatClampNeg) else if st.2 12 a.toNatClampNeg = 1 then st.2 18 a.toNatClampNeg else if st.2 12 a.toNatClampNeg = 2 then st.2 19 a.toNatClampNeg else st.2 20 a.toNatClampNeg) else -100000
def x_closeRow (st : SS) (a : Int32) : SS := sa (sa (sa (sa st 22 (upd (st.2 22) (a * 8 + (st.2 21 a.toNatClampNeg &&& 7)).toNatClampNeg (x_rowValue st a))) 21 (upd (st.2 21) a.toNatClampNeg (st.2 21 a.toNatClampNeg + 1))) 15 (upd (st.2 15) a.toNatClampNeg (vp_nar .byte 0))) 16 (upd (st.2 16) a.toNatClampNeg (vp_nar .byte 0))
def x_first (k : Int32) : Int32 := if k = 0 then 1 else 0
def x_known1 (st : SS) (a v : Int32) : SS := sa (sa (sa (sa (sa st 17 (upd (st.2 17) a.toNatClampNeg (if x_first (st.2 16 a.toNatClampNeg) = 0 then st.2 17 a.toNatClampNeg + v else v))) 18 (upd (st.2 18) a.toNatClampNeg (if x_first (st.2 16 a.toNatClampNeg) = 0 then (if st.2 18 a.toNatClampNeg ≤ v then st.2 18 a.toNatClampNeg else v) else v))) 19 (upd (st.2 19) a.toNatClampNeg (if x_first (st.2 16 a.toNatClampNeg) = 0 then (if v ≤ st.2 19 a.toNatClampNeg then st.2 19 a.toNatClampNeg else v) else v))) 20 (upd (st.2 20) a.toNatClampNeg v)) 16 (upd (st.2 16) a.toNatClampNeg (vp_nar .byte (st.2 16 a.toNatClampNeg + 1).toInt8.toInt32))
def x_tail (st : SS) (g15 g11 : Nat → Int32) (a : Int32) : SS := if upd g15 a.toNatClampNeg (vp_nar .byte (g15 a.toNatClampNeg + 1).toInt8.toInt32) a.toNatClampNeg = g11 a.toNatClampNeg then x_closeRow (sa st 15 (upd g15 a.toNatClampNeg (vp_nar .byte (g15 a.toNatClampNeg + 1).toInt8.toInt32))) a else sa st 15 (upd g15 a.toNatClampNeg (vp_nar .byte (g15 a.toNatClampNeg + 1).toInt8.toInt32))
def x_addStep (st : SS) (a v : Int32) : SS := if v = -100000 then x_tail st (st.2 15) (st.2 11) a else x_tail (x_known1 st a v) (st.2 15) (st.2 11) a
def x_stepVal (st : SS) : Int32 := if st.1 1 < 2 * st.1 7 then -100000 else x_floor (st.1 8) (st.1 1 - st.1 7)
def x_closeStep (st : SS) : SS := x_addStep (x_addStep (sv (sv (sv (sv (sv st 10 (x_stepVal st)) 9 (st.1 9 + 1)) 6 0) 7 0) 8 0) 0 (x_stepVal st)) 1 (x_stepVal st)
def x_am1 (st : SS) (v : Int32) : SS := sa (sv st 3 (st.1 3 + 1)) 5 (upd (st.2 5) ((st.1 3 + 1) &&& 31).toNatClampNeg v)
def x_am2 (st : SS) (v : Int32) : SS := if v = -100000 then sv (sv (x_am1 st v) 7 (st.1 7 + 1)) 6 (st.1 6 + 1) else sv (sv (x_am1 st v) 8 (st.1 8 + v)) 6 (st.1 6 + 1)
def x_addMoment (st : SS) (v : Int32) : SS := if st.1 6 + 1 = st.1 1 then x_closeStep (x_am2 st v) else x_am2 st v
def x_uval (st : SS) (v lost gone moments j : Int32) : Int32 := if lost = 0 then (if st.1 0 = 0 then v else gone * j / moments - gone * (j - 1) / moments) else -100000
def x_ulp (v lost gone moments : Int32) : Nat → Int32 → SS → SS
  | 0, _, st => st
  | n + 1, j, st => x_ulp v lost gone moments n (j + 1) (x_addMoment st (x_uval st v lost gone moments j))
def x_lost (st : SS) (t : Int32) : Int32 := if t - st.1 3 ≤ st.1 2 then 0 else 1
def x_gone (st : SS) (v : Int32) : Int32 := if st.1 0 = 0 then 0 else (v - st.1 4 + 256) &&& 255
def x_update (st : SS) (t v : Int32) : Int32 × SS := if t ≤ st.1 3 then (0, st) else if 240 < t then (0, st) else if x_inRange st v = 0 then (0, st) else (1, sv (x_ulp v (x_lost st t) (x_gone st v) (t - st.1 3) (t - st.1 3).toNatClampNeg 1 st) 4 v)
def x_moment (st : SS) (t : Int32) : Int32 := if t < 1 then -200000 else if st.1 3 < t then -200000 else if st.1 3 - 30 ≤ t then st.2 5 (t &&& 31).toNatClampNeg else -200000
def x_rows (st : SS) (a : Int32) : Int32 := if x_isA a = 0 then 0 else st.2 21 a.toNatClampNeg
def x_row (st : SS) (a r : Int32) : Int32 := if x_isA a = 0 then -200000 else if r < 0 then -200000 else if st.2 21 a.toNatClampNeg ≤ r then -200000 else if st.2 21 a.toNatClampNeg - st.2 14 a.toNatClampNeg ≤ r then st.2 22 (a * 8 + (r &&& 7)).toNatClampNeg else -200000
def x_firstKept (st : SS) (a : Int32) : Int32 := if 0 ≤ st.2 21 a.toNatClampNeg - st.2 14 a.toNatClampNeg then st.2 21 a.toNatClampNeg - st.2 14 a.toNatClampNeg else 0
def x_pkL (st : SS) (a : Int32) : Nat → Int32 → Int32 → Int32
  | 0, _, b => b
  | n + 1, r, b => x_pkL st a n (r + 1) (if st.2 22 (a * 8 + (r &&& 7)).toNatClampNeg ≤ b then b else st.2 22 (a * 8 + (r &&& 7)).toNatClampNeg)
def x_knL (st : SS) (a : Int32) : Nat → Int32 → Int32 → Int32
  | 0, _, b => b
  | n + 1, r, b => x_knL st a n (r + 1) (if st.2 22 (a * 8 + (r &&& 7)).toNatClampNeg = -100000 then b else b + 1)
def x_peak (st : SS) (a : Int32) (N F : Nat) : Int32 := if x_isA a = 0 then -200000 else x_pkL st a (N - F) (nI F) (-100000)
def x_known (st : SS) (a : Int32) (N F : Nat) : Int32 := if x_isA a = 0 then 0 else x_knL st a (N - F) (nI F) 0
theorem x_isA_ok {a : Int32} (h : ¬ x_isA a = 0) : arO a := by
  unfold x_isA at h
  split at h
  · exact Or.inl (by assumption)
  · split at h
    · exact Or.inr (by assumption)
    · exact absurd rfl h
theorem x_isA_b (a : Int32) : x_isA a = 0 ∨ x_isA a = 1 := by
  unfold x_isA
  split
  · exact Or.inr rfl
  · split
    · exact Or.inr rfl
    · exact Or.inl rfl
end
section
/-! the model: its mirrors, and what its steps and rows are (over the array of moments) -/
def m_floor (n d : Int32) : Int32 := if d ≤ 0 then (if d ≤ 0 then 0 else n / d) else if 0 ≤ n - n / d * d then (if d ≤ 0 then 0 else n / d) else (if d ≤ 0 then 0 else n / d) - 1
def m_shSet (st : SS) (a p : Int32) : SS := sa (sa (sa (sa st 3 (upd (st.2 3) a.toNatClampNeg (p &&& 7))) 4 (upd (st.2 4) a.toNatClampNeg ((p >>> (3 &&& 31)) &&& 7))) 5 (upd (st.2 5) a.toNatClampNeg ((p >>> (6 &&& 31)) &&& 7))) 6 (upd (st.2 6) a.toNatClampNeg (p >>> (9 &&& 31)))
def m_shB (st : SS) (a p : Int32) : Int32 × SS := if 0 < st.1 7 then (0, st) else if p &&& 7 < 1 then (0, st) else if (4 : Int32) < p &&& 7 then (0, st) else if (3 : Int32) < (p >>> (3 &&& 31)) &&& 7 then (0, st) else if (3 : Int32) < (p >>> (6 &&& 31)) &&& 7 then (0, st) else if p >>> (9 &&& 31) < 1 then (0, st) else if p >>> (9 &&& 31) ≤ 8 then (1, m_shSet st a p) else (0, st)
def m_shape (st : SS) (a p : Int32) : Int32 × SS := if x_isA a = 0 then (0, st) else m_shB st a p
def m_fits (st : SS) (v : Int32) : Int32 := if st.1 0 = 0 then (if v < -1000 then 0 else if 1000 < v then 0 else 1) else (if v < 0 then 0 else if 255 < v then 0 else 1)
def m_d (st : SS) (v : Int32) : Int32 := v - st.1 8 + 256 - (v - st.1 8 + 256) / 256 * 256
def m_share (st : SS) (v d passed j : Int32) : Int32 := if st.1 0 = 0 then v else d * j / passed - d * (j - 1) / passed
def m_uval (st : SS) (v d passed j : Int32) : Int32 := if passed ≤ st.1 2 then m_share st v d passed j else -100000
def m_ulp (v d passed : Int32) : Nat → Int32 → SS → SS
  | 0, _, st => st
  | n + 1, j, st => m_ulp v d passed n (j + 1) (sa st 9 (upd (st.2 9) (st.1 7 + j).toNatClampNeg (m_uval st v d passed j)))
def m_end (st : SS) (t v : Int32) : SS := sv (sv st 8 (if st.1 0 = 0 then 0 else v)) 7 t
def m_update (st : SS) (t v : Int32) : Int32 × SS := if t < 1 then (0, st) else if 240 < t then (0, st) else if t ≤ st.1 7 then (0, st) else if m_fits st v = 0 then (0, st) else (1, m_end (m_ulp v (m_d st v) (t - st.1 7) (t - st.1 7).toNatClampNeg 1 st) t v)
def m_moment (st : SS) (t : Int32) : Int32 := if t < 1 then -200000 else if st.1 7 < t then -200000 else if st.1 7 - t ≤ 30 then st.2 9 t.toNatClampNeg else -200000
/-- the known moments lo + 1 .. lo + n: their sum, their number -/
def kS (h : Nat → Int32) (lo : Nat) : Nat → Int32
  | 0 => 0
  | n + 1 => if h (lo + n + 1) = -100000 then kS h lo n else kS h lo n + h (lo + n + 1)
def kC (h : Nat → Int32) (lo : Nat) : Nat → Nat
  | 0 => 0
  | n + 1 => if h (lo + n + 1) = -100000 then kC h lo n else kC h lo n + 1
def stepV (h : Nat → Int32) (w K : Nat) : Int32 := if nI w < 2 * (nI w - nI (kC h (K * w) w)) then -100000 else m_floor (kS h (K * w) w) (nI (kC h (K * w) w))
/-- the known steps lo .. lo + n - 1: number, sum, low, high, last -/
def rF (s : Nat → Int32) (lo : Nat) : Nat → Nat × Int32 × Int32 × Int32 × Int32
  | 0 => (0, 0, 0, 0, 0)
  | i + 1 => if s (lo + i) = -100000 then rF s lo i else ((rF s lo i).1 + 1, (rF s lo i).2.1 + s (lo + i), (if (rF s lo i).1 = 0 then s (lo + i) else if (rF s lo i).2.2.1 ≤ s (lo + i) then (rF s lo i).2.2.1 else s (lo + i)), (if (rF s lo i).1 = 0 then s (lo + i) else if s (lo + i) ≤ (rF s lo i).2.2.2.1 then (rF s lo i).2.2.2.1 else s (lo + i)), s (lo + i))
def rowF (f : Nat × Int32 × Int32 × Int32 × Int32) (sp : Nat) (rule bear : Int32) : Int32 := if f.1 = 0 then -100000 else if nI sp - nI f.1 ≤ bear then (if rule = 0 then m_floor f.2.1 (nI f.1) else if rule = 1 then f.2.2.1 else if rule = 2 then f.2.2.2.1 else f.2.2.2.2) else -100000
def rowV (s : Nat → Int32) (sp : Nat) (rule bear : Int32) (r : Nat) : Int32 := rowF (rF s (r * sp) sp) sp rule bear
/-- the model's numbers: w wide, T moments, sp the spans -/
def mI (st : SS) (w T : Nat) (sp : Nat → Nat) : Prop := st.1 1 = nI w ∧ 1 ≤ w ∧ w ≤ 6 ∧ st.1 7 = nI T ∧ T ≤ 240 ∧ ∀ i : Nat, i < 2 → st.2 3 i = nI (sp i) ∧ 1 ≤ sp i ∧ sp i ≤ 4
def m_rows (st : SS) (a : Int32) : Int32 := if x_isA a = 0 then 0 else st.1 7 / st.1 1 / st.2 3 a.toNatClampNeg
def m_row (st : SS) (w : Nat) (sp : Nat → Nat) (a r : Int32) : Int32 := if r < 0 then -200000 else if m_rows st a ≤ r then -200000 else if m_rows st a - st.2 6 (a &&& 1).toNatClampNeg ≤ r then rowV (stepV (st.2 9) w) (sp a.toNatClampNeg) (st.2 4 a.toNatClampNeg) (st.2 5 a.toNatClampNeg) r.toNatClampNeg else -200000
def m_pkL (g : Int32 → Int32) : Nat → Int32 → Int32 → Int32
  | 0, _, b => b
  | n + 1, r, b => m_pkL g n (r + 1) (if g r ≤ b then b else g r)
def m_knL (g : Int32 → Int32) : Nat → Int32 → Int32 → Int32
  | 0, _, b => b
  | n + 1, r, b => m_knL g n (r + 1) (b + (if g r ≤ -100000 then 0 else 1))
def m_peak (st : SS) (w : Nat) (sp : Nat → Nat) (a : Int32) : Int32 := if x_isA a = 0 then -200000 else m_pkL (m_row st w sp a) (m_rows st a).toNatClampNeg 0 (-100000)
def m_known (st : SS) (w : Nat) (sp : Nat → Nat) (a : Int32) : Int32 := m_knL (m_row st w sp a) (m_rows st a).toNatClampNeg 0 0
def m_lastStep (st : SS) (w : Nat) : Int32 := if st.1 7 / st.1 1 = 0 then -200000 else stepV (st.2 9) w (st.1 7 / st.1 1 - 1).toNatClampNeg
def m_pend (st : SS) : Int32 := st.1 7 - st.1 7 / st.1 1 * st.1 1
def m_pendSum (st : SS) (w T : Nat) : Int32 := kS (st.2 9) (T / w * w) (T % w)
theorem m_steps_e {st : SS} {w T : Nat} {sp : Nat → Nat} (h : mI st w T sp) : st.1 7 / st.1 1 = nI (T / w) := by
  obtain ⟨h1, h2, h3, h4, h5, h6⟩ := h
  rw [h1, h4]
  exact pk_div (by omega) (by omega) (by omega)
theorem m_w_ne {st : SS} {w T : Nat} {sp : Nat → Nat} (h : mI st w T sp) : ¬ st.1 1 = 0 := by
  obtain ⟨h1, h2, h3, -⟩ := h
  rw [h1]
  exact nI_ne0 (by omega) (by omega)
theorem ar_ix {a : Int32} (h : arO a) : a.toNatClampNeg < 2 := by
  rcases h with rfl | rfl <;> decide
theorem ar_nI {a : Int32} (h : arO a) : a = nI a.toNatClampNeg := by
  rcases h with rfl | rfl <;> decide
theorem m_sp_ne {st : SS} {w T : Nat} {sp : Nat → Nat} (h : mI st w T sp) {a : Int32} (ha : arO a) : ¬ st.2 3 a.toNatClampNeg = 0 := by
  obtain ⟨h1, h2, h3⟩ := h.2.2.2.2.2 _ (ar_ix ha)
  rw [h1]
  exact nI_ne0 (by omega) (by omega)
theorem ar_isA {a : Int32} (h : arO a) : ¬ x_isA a = 0 := by
  rcases h with rfl | rfl <;> decide
theorem isA_no {a : Int32} (h0 : ¬ a = 0) (h1 : ¬ a = 1) : x_isA a = 0 := by
  unfold x_isA
  rw [if_neg h0, if_neg h1]
theorem m_rows_e {st : SS} {w T : Nat} {sp : Nat → Nat} (h : mI st w T sp) {a : Int32} (ha : arO a) : m_rows st a = nI (T / w / sp a.toNatClampNeg) := by
  obtain ⟨h1, h2, h3⟩ := h.2.2.2.2.2 _ (ar_ix ha)
  unfold m_rows
  rw [if_neg (ar_isA ha), m_steps_e h, h1]
  have := h.2.2.2.2.1
  have h9 : T / w ≤ T := Nat.div_le_self T w
  exact pk_div (by omega) (by omega) (by omega)
theorem m_rows_no {st : SS} {a : Int32} (h : x_isA a = 0) : m_rows st a = 0 := by
  unfold m_rows
  rw [if_pos h]
theorem nI0 {n : Nat} (h : n < 2 ^ 31) : nI n = 0 ↔ n = 0 := by
  rw [← nI_0]
  exact nI_eq h (by decide)
theorem if0 {n : Nat} (h : n < 2 ^ 31) {A B : Int32} : (if nI n = 0 then A else B) = (if n = 0 then A else B) := by
  by_cases q : n = 0
  · rw [if_pos q, if_pos ((nI0 h).mpr q)]
  · rw [if_neg q, if_neg (fun z => q ((nI0 h).mp z))]
theorem rF_le (s : Nat → Int32) (lo i : Nat) : (rF s lo i).1 ≤ i := by
  induction i with
  | zero => exact Nat.le_refl 0
  | succ i ih =>
    rw [rF]
    split
    · omega
    · show (rF s lo i).1 + 1 ≤ i + 1
      omega
theorem m_row_ok {st : SS} {w T : Nat} {sp : Nat → Nat} (h : mI st w T sp) {a rr : Int32} (c1 : ¬ rr < 0) (c2 : ¬ m_rows st a ≤ rr) : arO a ∧ rr = nI rr.toNatClampNeg ∧ (rr.toNatClampNeg + 1) * sp a.toNatClampNeg * w ≤ 240 ∧ rr.toNatClampNeg < T / w / sp a.toNatClampNeg := by
  obtain ⟨j, hj, rfl⟩ := nI_of c1
  rw [nI_clamp hj]
  by_cases q : x_isA a = 0
  · rw [m_rows_no q] at c2
    exact absurd (nI_pos' hj) c2
  · have ha := x_isA_ok q
    rw [m_rows_e h ha] at c2
    obtain ⟨h1, h2, h3⟩ := h.2.2.2.2.2 _ (ar_ix ha)
    obtain ⟨-, g2, g3, -, g5, -⟩ := h
    have h9 : j < T / w / sp a.toNatClampNeg := by
      rcases Nat.lt_or_ge j (T / w / sp a.toNatClampNeg) with z | z
      · exact z
      · exact absurd (nI_le z hj) c2
    refine ⟨ha, rfl, ?_, h9⟩
    have k1 : (j + 1) * sp a.toNatClampNeg ≤ T / w := (Nat.le_div_iff_mul_le (by omega)).mp h9
    have k2 : (j + 1) * sp a.toNatClampNeg * w ≤ T := (Nat.le_div_iff_mul_le (by omega)).mp k1
    omega
theorem m_rows_n {st : SS} {w T : Nat} {sp : Nat → Nat} (h : mI st w T sp) (a : Int32) : ∃ N : Nat, N ≤ 240 ∧ m_rows st a = nI N := by
  by_cases q : x_isA a = 0
  · exact ⟨0, by omega, by rw [m_rows_no q]; exact nI_0.symm⟩
  · refine ⟨T / w / sp a.toNatClampNeg, ?_, m_rows_e h (x_isA_ok q)⟩
    have h1 := h.2.2.2.2.1
    have h2 : T / w ≤ T := Nat.div_le_self T w
    have h3 : T / w / sp a.toNatClampNeg ≤ T / w := Nat.div_le_self _ _
    omega
end
section
set_option maxHeartbeats 4000000 in
set_option maxRecDepth 100000 in
theorem mX1_isArchive (l : Launch) (a : Int32)  : Met l yX1_isArchive (ws_ yX1_isArchive cX1_isArchive 1 (some .boolean)) ({ frames := 0, cells := 0, slots := 0, locals := 0 }) (va_Pc [.int a] (fun _ => True)) (vp_Si (fun ans => ans = x_isA a)) 0 0 (fun _ => False) := by
  refine Met.ofW (cc := cX1_isArchive) (maxL := 1) (ret := some .boolean) (by decide) rfl ?_
  intro p e s m args below meth c s₁ B hml hv
  obtain ⟨rfl, -⟩ := hv
  have hx := B.exec
  have hb := B.bytes
  have hr := B.returns
  have hts := atoms_spec (ws := ws_ yX1_isArchive cX1_isArchive 1 (some .boolean)) B.pre
  have hts : ∀ w ∈ lw_all, w.before _ s = true := fun w h => hts w (List.mem_cons_of_mem _ h)
  have hown : s.vm.findClass RX1 = some m.cls := findClass_of_methodNamed B.named
  have hlocks := B.notSynchronized
  have hl := lv_entry ([.int a]) (n := 1) (Nat.le_of_ble_eq_true rfl)
  rw [lg_entry_eq]
  generalize (lg_sl ([.int a]) ++ List.replicate (1 - (lg_sl ([.int a])).length) Slot.unset).toArray = ls at hl ⊢
  have hl : lv_has ls 1 [(0, .int a)] := hl
  refine lv_iload_n hx hb dX1_isArchive_0 rfl (lv_at hl 0 rfl) ?_
  refine lv_if_eq (tgt := 9) hx hb dX1_isArchive_1 (by decide) (fun c_1 => ?_) (fun c_1 => ?_)
  · refine lv_iconst (v := 1) hx hb dX1_isArchive_9 (by decide) ?_
    refine lv_goto (tgt := 14) hx hb dX1_isArchive_10 (by decide) ?_
    exact W.zret (v := 1) hx hb hr rfl (fun t ht hW => ⟨_, rfl, (by show 1 = x_isA a; (rw [x_isA, if_pos c_1]); try rfl), ht⟩) (fun _ h => absurd h List.not_mem_nil) dX1_isArchive_14
  · refine lv_iload_n hx hb dX1_isArchive_4 rfl (lv_at hl 0 rfl) ?_
    refine lv_iconst (v := 1) hx hb dX1_isArchive_5 (by decide) ?_
    refine lv_icmp_ne (tgt := 13) hx hb dX1_isArchive_6 (by decide) (fun c_2 => ?_) (fun c_2 => ?_)
    · refine lv_iconst (v := 0) hx hb dX1_isArchive_13 (by decide) ?_
      exact W.zret (v := 0) hx hb hr rfl (fun t ht hW => ⟨_, rfl, (by show 0 = x_isA a; (rw [x_isA, if_neg c_1, if_neg c_2]); try rfl), ht⟩) (fun _ h => absurd h List.not_mem_nil) dX1_isArchive_14
    · refine lv_iconst (v := 1) hx hb dX1_isArchive_9 (by decide) ?_
      refine lv_goto (tgt := 14) hx hb dX1_isArchive_10 (by decide) ?_
      exact W.zret (v := 1) hx hb hr rfl (fun t ht hW => ⟨_, rfl, (by show 1 = x_isA a; (rw [x_isA, if_neg c_1, if_pos c_2]); try rfl), ht⟩) (fun _ h => absurd h List.not_mem_nil) dX1_isArchive_14

set_option maxHeartbeats 4000000 in
set_option maxRecDepth 100000 in
theorem mX1_floor (l : Launch) (n d : Int32)  : Met l yX1_floor (ws_ yX1_floor cX1_floor 3 (some .int)) ({ frames := 0, cells := 0, slots := 0, locals := 0 }) (va_Pc [.int n, .int d] (fun _ => True)) (vp_Si (fun ans => ans = x_floor n d)) 0 0 (fun _ => False) := by
  refine Met.ofW (cc := cX1_floor) (maxL := 3) (ret := some .int) (by decide) rfl ?_
  intro p e s m args below meth c s₁ B hml hv
  obtain ⟨rfl, -⟩ := hv
  have hx := B.exec
  have hb := B.bytes
  have hr := B.returns
  have hts := atoms_spec (ws := ws_ yX1_floor cX1_floor 3 (some .int)) B.pre
  have hts : ∀ w ∈ lw_all, w.before _ s = true := fun w h => hts w (List.mem_cons_of_mem _ h)
  have hown : s.vm.findClass RX1 = some m.cls := findClass_of_methodNamed B.named
  have hlocks := B.notSynchronized
  have hl := lv_entry ([.int n, .int d]) (n := 3) (Nat.le_of_ble_eq_true rfl)
  rw [lg_entry_eq]
  generalize (lg_sl ([.int n, .int d]) ++ List.replicate (3 - (lg_sl ([.int n, .int d])).length) Slot.unset).toArray = ls at hl ⊢
  have hl : lv_has ls 3 [(0, .int n), (1, .int d)] := hl
  refine lv_iload_n hx hb dX1_floor_0 rfl (lv_at hl 1 rfl) ?_
  refine ph_cut (J := 11) (rest := []) (if d ≤ 0 then 0 else n / d) (fun z_1 ez_1 => ?_) (fun hJ_1 => ?_)
  · refine lv_istore_n (lv' := [(2, .int z_1), (0, .int n), (1, .int d)]) hx hb dX1_floor_11 rfl hl (by decide) rfl (fun ls hl => ?_)
    refine lv_iload_n hx hb dX1_floor_12 rfl (lv_at hl 0 rfl) ?_
    refine lv_iload_n hx hb dX1_floor_13 rfl (lv_at hl 2 rfl) ?_
    refine lv_imul hx hb dX1_floor_14 ?_
    refine lv_iload_n hx hb dX1_floor_15 rfl (lv_at hl 1 rfl) ?_
    refine lv_icmp_le (tgt := 25) hx hb dX1_floor_16 (by decide) (fun c_2 => ?_) (fun c_2 => ?_)
    · refine lv_iload_n hx hb dX1_floor_25 rfl (lv_at hl 0 rfl) ?_
      exact W.iret (v := z_1) hx hb hr (fun t ht hW => ⟨_, rfl, (by show z_1 = x_floor n d; subst ez_1; (rw [x_floor, if_pos c_2]); try rfl), ht⟩) (fun _ h => absurd h List.not_mem_nil) dX1_floor_26
    · refine lv_iload_n hx hb dX1_floor_19 rfl (lv_at hl 0 rfl) ?_
      refine lv_iconst (v := 1) hx hb dX1_floor_20 (by decide) ?_
      refine lv_isub hx hb dX1_floor_21 ?_
      refine lv_goto (tgt := 26) hx hb dX1_floor_22 (by decide) ?_
      exact W.iret (v := z_1 - 1) hx hb hr (fun t ht hW => ⟨_, rfl, (by show z_1 - 1 = x_floor n d; subst ez_1; (rw [x_floor, if_neg c_2]); try rfl), ht⟩) (fun _ h => absurd h List.not_mem_nil) dX1_floor_26
  · refine lv_if_le (tgt := 10) hx hb dX1_floor_1 (by decide) (fun c_3 => ?_) (fun c_3 => ?_)
    · refine lv_iconst (v := 0) hx hb dX1_floor_10 (by decide) ?_
      exact hJ_1 _ (by rw [if_pos c_3])
    · refine lv_iload_n hx hb dX1_floor_4 rfl (lv_at hl 0 rfl) ?_
      refine lv_iload_n hx hb dX1_floor_5 rfl (lv_at hl 1 rfl) ?_
      refine lv_idiv hx hb dX1_floor_6 (fun q0 => c_3 (by rw [q0]; decide)) ?_
      refine lv_goto (tgt := 11) hx hb dX1_floor_7 (by decide) ?_
      exact hJ_1 _ (by rw [if_neg c_3])

set_option maxHeartbeats 4000000 in
set_option maxRecDepth 100000 in
theorem mX1_inRange (l : Launch) (dC : Nat → ClassId) (dI : Nat → Nat → Nat) (h : Nat → Nat) (cI cB : ClassId) (st : SS) (v : Int32)  : Met l yX1_inRange (ws_ yX1_inRange cX1_inRange 2 (some .boolean)) ({ frames := 0, cells := 0, slots := 0, locals := 0 }) (va_Pc [.ref (h 0), .int v] (qQ (dC, dI) (xw h cI cB st) [(cI, .int), (cB, .byte)])) (vp_Si (fun ans => ans = x_inRange st v)) 0 0 (fun _ => False) := by
  refine Met.ofW (cc := cX1_inRange) (maxL := 2) (ret := some .boolean) (by decide) rfl ?_
  intro p e s m args below meth c s₁ B hml hv
  obtain ⟨rfl, hP, hK⟩ := hv
  have hx := B.exec
  have hb := B.bytes
  have hr := B.returns
  have hts := atoms_spec (ws := ws_ yX1_inRange cX1_inRange 2 (some .boolean)) B.pre
  have hts : ∀ w ∈ lw_all, w.before _ s = true := fun w h => hts w (List.mem_cons_of_mem _ h)
  have hown : s.vm.findClass RX1 = some m.cls := findClass_of_methodNamed B.named
  have hlocks := B.notSynchronized
  have hl := lv_entry ([.ref (h 0), .int v]) (n := 2) (Nat.le_of_ble_eq_true rfl)
  rw [lg_entry_eq]
  generalize (lg_sl ([.ref (h 0), .int v]) ++ List.replicate (2 - (lg_sl ([.ref (h 0), .int v])).length) Slot.unset).toArray = ls at hl ⊢
  have hl : lv_has ls 2 [(0, .ref (h 0)), (1, .int v)] := hl
  refine lv_aload_n hx hb dX1_inRange_0 rfl (lv_at hl 0 rfl) ?_
  refine va_get (D := (dC, dI)) (ci := 0) (v := .int (st.1 0)) (C := RX1) (T := TX1) (N := 23) hx hb hts in_X1 hown hK hP 0 rfl rfl 0 (by decide) (hts _ q22) (fun _ h9 => h9) rfl dX1_inRange_1 ?_
  refine lv_if_eq (tgt := 26) hx hb dX1_inRange_4 (by decide) (fun c_1 => ?_) (fun c_1 => ?_)
  · refine lv_iload_n hx hb dX1_inRange_26 rfl (lv_at hl 1 rfl) ?_
    refine lv_sipush (v := (-1000)) hx hb dX1_inRange_27 (by decide) ?_
    refine lv_icmp_lt (tgt := 44) hx hb dX1_inRange_30 (by decide) (fun c_2 => ?_) (fun c_2 => ?_)
    · refine lv_iconst (v := 0) hx hb dX1_inRange_44 (by decide) ?_
      exact W.zret (v := 0) hx hb hr rfl (fun t ht hW => ⟨_, rfl, (by show 0 = x_inRange st v; (rw [x_inRange, if_pos c_1, if_pos c_2]); try rfl), ht⟩) (fun _ h => absurd h List.not_mem_nil) dX1_inRange_45
    · refine lv_iload_n hx hb dX1_inRange_33 rfl (lv_at hl 1 rfl) ?_
      refine lv_sipush (v := 1000) hx hb dX1_inRange_34 (by decide) ?_
      refine lv_icmp_gt (tgt := 44) hx hb dX1_inRange_37 (by decide) (fun c_3 => ?_) (fun c_3 => ?_)
      · refine lv_iconst (v := 0) hx hb dX1_inRange_44 (by decide) ?_
        exact W.zret (v := 0) hx hb hr rfl (fun t ht hW => ⟨_, rfl, (by show 0 = x_inRange st v; (rw [x_inRange, if_pos c_1, if_neg c_2, if_pos c_3]); try rfl), ht⟩) (fun _ h => absurd h List.not_mem_nil) dX1_inRange_45
      · refine lv_iconst (v := 1) hx hb dX1_inRange_40 (by decide) ?_
        refine lv_goto (tgt := 45) hx hb dX1_inRange_41 (by decide) ?_
        exact W.zret (v := 1) hx hb hr rfl (fun t ht hW => ⟨_, rfl, (by show 1 = x_inRange st v; (rw [x_inRange, if_pos c_1, if_neg c_2, if_neg c_3]); try rfl), ht⟩) (fun _ h => absurd h List.not_mem_nil) dX1_inRange_45
  · refine lv_iload_n hx hb dX1_inRange_7 rfl (lv_at hl 1 rfl) ?_
    refine lv_if_lt (tgt := 22) hx hb dX1_inRange_8 (by decide) (fun c_4 => ?_) (fun c_4 => ?_)
    · refine lv_iconst (v := 0) hx hb dX1_inRange_22 (by decide) ?_
      refine lv_goto (tgt := 45) hx hb dX1_inRange_23 (by decide) ?_
      exact W.zret (v := 0) hx hb hr rfl (fun t ht hW => ⟨_, rfl, (by show 0 = x_inRange st v; (rw [x_inRange, if_neg c_1, if_pos c_4]); try rfl), ht⟩) (fun _ h => absurd h List.not_mem_nil) dX1_inRange_45
    · refine lv_iload_n hx hb dX1_inRange_11 rfl (lv_at hl 1 rfl) ?_
      refine lv_sipush (v := 255) hx hb dX1_inRange_12 (by decide) ?_
      refine lv_icmp_gt (tgt := 22) hx hb dX1_inRange_15 (by decide) (fun c_5 => ?_) (fun c_5 => ?_)
      · refine lv_iconst (v := 0) hx hb dX1_inRange_22 (by decide) ?_
        refine lv_goto (tgt := 45) hx hb dX1_inRange_23 (by decide) ?_
        exact W.zret (v := 0) hx hb hr rfl (fun t ht hW => ⟨_, rfl, (by show 0 = x_inRange st v; (rw [x_inRange, if_neg c_1, if_neg c_4, if_pos c_5]); try rfl), ht⟩) (fun _ h => absurd h List.not_mem_nil) dX1_inRange_45
      · refine lv_iconst (v := 1) hx hb dX1_inRange_18 (by decide) ?_
        refine lv_goto (tgt := 45) hx hb dX1_inRange_19 (by decide) ?_
        exact W.zret (v := 1) hx hb hr rfl (fun t ht hW => ⟨_, rfl, (by show 1 = x_inRange st v; (rw [x_inRange, if_neg c_1, if_neg c_4, if_neg c_5]); try rfl), ht⟩) (fun _ h => absurd h List.not_mem_nil) dX1_inRange_45

set_option maxHeartbeats 4000000 in
set_option maxRecDepth 100000 in
theorem mX1_rowValue (l : Launch) (dC : Nat → ClassId) (dI : Nat → Nat → Nat) (h : Nat → Nat) (cI cB : ClassId) (st : SS) (a : Int32) (ha : arO a) : Met l yX1_rowValue (ws_ yX1_rowValue cX1_rowValue 2 (some .int)) ({ frames := 1, cells := 0, slots := 0, locals := 22 }) (va_Pc [.ref (h 0), .int a] (qQ (dC, dI) (xw h cI cB st) [(cI, .int), (cB, .byte)])) (vp_Si (fun ans => ans = x_rowValue st a)) 0 0 (fun _ => False) := by
  refine Met.ofW (cc := cX1_rowValue) (maxL := 2) (ret := some .int) (by decide) rfl ?_
  intro p e s m args below meth c s₁ B hml hv
  obtain ⟨rfl, hP, hK⟩ := hv
  have hx := B.exec
  have hb := B.bytes
  have hr := B.returns
  have hts := atoms_spec (ws := ws_ yX1_rowValue cX1_rowValue 2 (some .int)) B.pre
  have hts : ∀ w ∈ lw_all, w.before _ s = true := fun w h => hts w (List.mem_cons_of_mem _ h)
  have hown : s.vm.findClass RX1 = some m.cls := findClass_of_methodNamed B.named
  have hlocks := B.notSynchronized
  have hl := lv_entry ([.ref (h 0), .int a]) (n := 2) (Nat.le_of_ble_eq_true rfl)
  rw [lg_entry_eq]
  generalize (lg_sl ([.ref (h 0), .int a]) ++ List.replicate (2 - (lg_sl ([.ref (h 0), .int a])).length) Slot.unset).toArray = ls at hl ⊢
  have hl : lv_has ls 2 [(0, .ref (h 0)), (1, .int a)] := hl
  refine lv_aload_n hx hb dX1_rowValue_0 rfl (lv_at hl 0 rfl) ?_
  refine va_get (D := (dC, dI)) (ci := 0) (v := .ref (h 7)) (C := RX1) (T := TX1) (N := 23) hx hb hts in_X1 hown hK hP 0 rfl rfl 16 (by decide) (hts _ q38) (fun _ h9 => h9) rfl dX1_rowValue_1 ?_
  refine lv_iload_n hx hb dX1_rowValue_4 rfl (lv_at hl 1 rfl) ?_
  refine va_bald (f := st.2 16) hx hb hK hP 7 1 rfl rfl (in2 ha) dX1_rowValue_5 ?_
  refine lv_if_eq (tgt := 31) hx hb dX1_rowValue_6 (by decide) (fun c_1 => ?_) (fun c_1 => ?_)
  · refine lv_ldc hx hb hown (hts _ q109) dX1_rowValue_31 ?_
    exact W.iret (v := (-100000)) hx hb hr (fun t ht hW => ⟨_, rfl, (by show (-100000) = x_rowValue st a; (rw [x_rowValue, if_pos c_1]); try rfl), ht⟩) (fun _ h => absurd h List.not_mem_nil) dX1_rowValue_33
  · refine lv_aload_n hx hb dX1_rowValue_9 rfl (lv_at hl 0 rfl) ?_
    refine va_get (D := (dC, dI)) (ci := 0) (v := .ref (h 2)) (C := RX1) (T := TX1) (N := 23) hx hb hts in_X1 hown hK hP 0 rfl rfl 11 (by decide) (hts _ q33) (fun _ h9 => h9) rfl dX1_rowValue_10 ?_
    refine lv_iload_n hx hb dX1_rowValue_13 rfl (lv_at hl 1 rfl) ?_
    refine va_bald (f := st.2 11) hx hb hK hP 2 1 rfl rfl (in2 ha) dX1_rowValue_14 ?_
    refine lv_aload_n hx hb dX1_rowValue_15 rfl (lv_at hl 0 rfl) ?_
    refine va_get (D := (dC, dI)) (ci := 0) (v := .ref (h 7)) (C := RX1) (T := TX1) (N := 23) hx hb hts in_X1 hown hK hP 0 rfl rfl 16 (by decide) (hts _ q38) (fun _ h9 => h9) rfl dX1_rowValue_16 ?_
    refine lv_iload_n hx hb dX1_rowValue_19 rfl (lv_at hl 1 rfl) ?_
    refine va_bald (f := st.2 16) hx hb hK hP 7 1 rfl rfl (in2 ha) dX1_rowValue_20 ?_
    refine lv_isub hx hb dX1_rowValue_21 ?_
    refine lv_aload_n hx hb dX1_rowValue_22 rfl (lv_at hl 0 rfl) ?_
    refine va_get (D := (dC, dI)) (ci := 0) (v := .ref (h 4)) (C := RX1) (T := TX1) (N := 23) hx hb hts in_X1 hown hK hP 0 rfl rfl 13 (by decide) (hts _ q35) (fun _ h9 => h9) rfl dX1_rowValue_23 ?_
    refine lv_iload_n hx hb dX1_rowValue_26 rfl (lv_at hl 1 rfl) ?_
    refine va_bald (f := st.2 13) hx hb hK hP 4 1 rfl rfl (in2 ha) dX1_rowValue_27 ?_
    refine lv_icmp_le (tgt := 34) hx hb dX1_rowValue_28 (by decide) (fun c_2 => ?_) (fun c_2 => ?_)
    · refine lv_aload_n hx hb dX1_rowValue_34 rfl (lv_at hl 0 rfl) ?_
      refine va_get (D := (dC, dI)) (ci := 0) (v := .ref (h 3)) (C := RX1) (T := TX1) (N := 23) hx hb hts in_X1 hown hK hP 0 rfl rfl 12 (by decide) (hts _ q34) (fun _ h9 => h9) rfl dX1_rowValue_35 ?_
      refine lv_iload_n hx hb dX1_rowValue_38 rfl (lv_at hl 1 rfl) ?_
      refine va_bald (f := st.2 12) hx hb hK hP 3 1 rfl rfl (in2 ha) dX1_rowValue_39 ?_
      refine lv_if_ne (tgt := 59) hx hb dX1_rowValue_40 (by decide) (fun c_3 => ?_) (fun c_3 => ?_)
      · refine lv_aload_n hx hb dX1_rowValue_59 rfl (lv_at hl 0 rfl) ?_
        refine va_get (D := (dC, dI)) (ci := 0) (v := .ref (h 3)) (C := RX1) (T := TX1) (N := 23) hx hb hts in_X1 hown hK hP 0 rfl rfl 12 (by decide) (hts _ q34) (fun _ h9 => h9) rfl dX1_rowValue_60 ?_
        refine lv_iload_n hx hb dX1_rowValue_63 rfl (lv_at hl 1 rfl) ?_
        refine va_bald (f := st.2 12) hx hb hK hP 3 1 rfl rfl (in2 ha) dX1_rowValue_64 ?_
        refine lv_iconst (v := 1) hx hb dX1_rowValue_65 (by decide) ?_
        refine lv_icmp_ne (tgt := 76) hx hb dX1_rowValue_66 (by decide) (fun c_4 => ?_) (fun c_4 => ?_)
        · refine lv_aload_n hx hb dX1_rowValue_76 rfl (lv_at hl 0 rfl) ?_
          refine va_get (D := (dC, dI)) (ci := 0) (v := .ref (h 3)) (C := RX1) (T := TX1) (N := 23) hx hb hts in_X1 hown hK hP 0 rfl rfl 12 (by decide) (hts _ q34) (fun _ h9 => h9) rfl dX1_rowValue_77 ?_
          refine lv_iload_n hx hb dX1_rowValue_80 rfl (lv_at hl 1 rfl) ?_
          refine va_bald (f := st.2 12) hx hb hK hP 3 1 rfl rfl (in2 ha) dX1_rowValue_81 ?_
          refine lv_iconst (v := 2) hx hb dX1_rowValue_82 (by decide) ?_
          refine lv_icmp_ne (tgt := 95) hx hb dX1_rowValue_83 (by decide) (fun c_5 => ?_) (fun c_5 => ?_)
          · refine lv_aload_n hx hb dX1_rowValue_95 rfl (lv_at hl 0 rfl) ?_
            refine va_get (D := (dC, dI)) (ci := 0) (v := .ref (h 11)) (C := RX1) (T := TX1) (N := 23) hx hb hts in_X1 hown hK hP 0 rfl rfl 20 (by decide) (hts _ q42) (fun _ h9 => h9) rfl dX1_rowValue_96 ?_
            refine lv_iload_n hx hb dX1_rowValue_99 rfl (lv_at hl 1 rfl) ?_
            refine va_iald (f := st.2 20) hx hb hK hP 11 0 rfl rfl (in2 ha) dX1_rowValue_100 ?_
            exact W.iret (v := (st.2 20) a.toNatClampNeg) hx hb hr (fun t ht hW => ⟨_, rfl, (by show (st.2 20) a.toNatClampNeg = x_rowValue st a; (rw [x_rowValue, if_neg c_1, if_pos c_2, if_neg c_3, if_neg c_4, if_neg c_5]); try rfl), ht⟩) (fun _ h => absurd h List.not_mem_nil) dX1_rowValue_101
          · refine lv_aload_n hx hb dX1_rowValue_86 rfl (lv_at hl 0 rfl) ?_
            refine va_get (D := (dC, dI)) (ci := 0) (v := .ref (h 10)) (C := RX1) (T := TX1) (N := 23) hx hb hts in_X1 hown hK hP 0 rfl rfl 19 (by decide) (hts _ q41) (fun _ h9 => h9) rfl dX1_rowValue_87 ?_
            refine lv_iload_n hx hb dX1_rowValue_90 rfl (lv_at hl 1 rfl) ?_
            refine va_iald (f := st.2 19) hx hb hK hP 10 0 rfl rfl (in2 ha) dX1_rowValue_91 ?_
            refine lv_goto (tgt := 101) hx hb dX1_rowValue_92 (by decide) ?_
            exact W.iret (v := (st.2 19) a.toNatClampNeg) hx hb hr (fun t ht hW => ⟨_, rfl, (by show (st.2 19) a.toNatClampNeg = x_rowValue st a; (rw [x_rowValue, if_neg c_1, if_pos c_2, if_neg c_3, if_neg c_4, if_pos c_5]); try rfl), ht⟩) (fun _ h => absurd h List.not_mem_nil) dX1_rowValue_101
        · refine lv_aload_n hx hb dX1_rowValue_69 rfl (lv_at hl 0 rfl) ?_
          refine va_get (D := (dC, dI)) (ci := 0) (v := .ref (h 9)) (C := RX1) (T := TX1) (N := 23) hx hb hts in_X1 hown hK hP 0 rfl rfl 18 (by decide) (hts _ q40) (fun _ h9 => h9) rfl dX1_rowValue_70 ?_
          refine lv_iload_n hx hb dX1_rowValue_73 rfl (lv_at hl 1 rfl) ?_
          refine va_iald (f := st.2 18) hx hb hK hP 9 0 rfl rfl (in2 ha) dX1_rowValue_74 ?_
          exact W.iret (v := (st.2 18) a.toNatClampNeg) hx hb hr (fun t ht hW => ⟨_, rfl, (by show (st.2 18) a.toNatClampNeg = x_rowValue st a; (rw [x_rowValue, if_neg c_1, if_pos c_2, if_neg c_3, if_pos c_4]); try rfl), ht⟩) (fun _ h => absurd h List.not_mem_nil) dX1_rowValue_75
      · refine lv_aload_n hx hb dX1_rowValue_43 rfl (lv_at hl 0 rfl) ?_
        refine va_get (D := (dC, dI)) (ci := 0) (v := .ref (h 8)) (C := RX1) (T := TX1) (N := 23) hx hb hts in_X1 hown hK hP 0 rfl rfl 17 (by decide) (hts _ q39) (fun _ h9 => h9) rfl dX1_rowValue_44 ?_
        refine lv_iload_n hx hb dX1_rowValue_47 rfl (lv_at hl 1 rfl) ?_
        refine va_iald (f := st.2 17) hx hb hK hP 8 0 rfl rfl (in2 ha) dX1_rowValue_48 ?_
        refine lv_aload_n hx hb dX1_rowValue_49 rfl (lv_at hl 0 rfl) ?_
        refine va_get (D := (dC, dI)) (ci := 0) (v := .ref (h 7)) (C := RX1) (T := TX1) (N := 23) hx hb hts in_X1 hown hK hP 0 rfl rfl 16 (by decide) (hts _ q38) (fun _ h9 => h9) rfl dX1_rowValue_50 ?_
        refine lv_iload_n hx hb dX1_rowValue_53 rfl (lv_at hl 1 rfl) ?_
        refine va_bald (f := st.2 16) hx hb hK hP 7 1 rfl rfl (in2 ha) dX1_rowValue_54 ?_
        refine vp_callSi (W.runS (As := [.int ((st.2 17) a.toNatClampNeg), .int ((st.2 16) a.toNatClampNeg)]) (rest := []) ⟨hx, hb, hml, hown, hts⟩ (mX1_floor l ((st.2 17) a.toNatClampNeg) ((st.2 16) a.toNatClampNeg)) (va_cwS 2 hts (lw_S q118 q119 q11 q120) rfl rfl rfl (by decide +kernel) ⟨Nat.le_of_ble_eq_true rfl, Nat.le_of_ble_eq_true rfl⟩) ⟨tb_blind, fun U hU hW => ⟨rfl, trivial⟩⟩ rfl rfl hl.1 rfl (lv_room (Nat.le_of_ble_eq_true rfl)) dX1_rowValue_55 ⟨Nat.le_of_ble_eq_true rfl, Nat.le_of_ble_eq_true rfl⟩) (fun r_6 hr_6 => ?_)
        have hr_6 : r_6 = x_floor ((st.2 17) a.toNatClampNeg) ((st.2 16) a.toNatClampNeg) := hr_6
        subst hr_6
        exact W.iret (v := x_floor ((st.2 17) a.toNatClampNeg) ((st.2 16) a.toNatClampNeg)) hx hb hr (fun t ht hW => ⟨_, rfl, (by show x_floor ((st.2 17) a.toNatClampNeg) ((st.2 16) a.toNatClampNeg) = x_rowValue st a; (rw [x_rowValue, if_neg c_1, if_pos c_2, if_pos c_3]); try rfl), ht⟩) (fun _ h => absurd h List.not_mem_nil) dX1_rowValue_58
    · refine lv_ldc hx hb hown (hts _ q109) dX1_rowValue_31 ?_
      exact W.iret (v := (-100000)) hx hb hr (fun t ht hW => ⟨_, rfl, (by show (-100000) = x_rowValue st a; (rw [x_rowValue, if_neg c_1, if_neg c_2]); try rfl), ht⟩) (fun _ h => absurd h List.not_mem_nil) dX1_rowValue_33

set_option maxHeartbeats 4000000 in
set_option maxRecDepth 100000 in
theorem mX1_lastTime (l : Launch) (dC : Nat → ClassId) (dI : Nat → Nat → Nat) (h : Nat → Nat) (cI cB : ClassId) (st : SS)  : Met l yX1_lastTime (ws_ yX1_lastTime cX1_lastTime 1 (some .int)) ({ frames := 0, cells := 0, slots := 0, locals := 0 }) (va_Pc [.ref (h 0)] (qQ (dC, dI) (xw h cI cB st) [(cI, .int), (cB, .byte)])) (vp_Si (fun ans => ans = st.1 3)) 0 0 (fun _ => False) := by
  refine Met.ofW (cc := cX1_lastTime) (maxL := 1) (ret := some .int) (by decide) rfl ?_
  intro p e s m args below meth c s₁ B hml hv
  obtain ⟨rfl, hP, hK⟩ := hv
  have hx := B.exec
  have hb := B.bytes
  have hr := B.returns
  have hts := atoms_spec (ws := ws_ yX1_lastTime cX1_lastTime 1 (some .int)) B.pre
  have hts : ∀ w ∈ lw_all, w.before _ s = true := fun w h => hts w (List.mem_cons_of_mem _ h)
  have hown : s.vm.findClass RX1 = some m.cls := findClass_of_methodNamed B.named
  have hlocks := B.notSynchronized
  have hl := lv_entry ([.ref (h 0)]) (n := 1) (Nat.le_of_ble_eq_true rfl)
  rw [lg_entry_eq]
  generalize (lg_sl ([.ref (h 0)]) ++ List.replicate (1 - (lg_sl ([.ref (h 0)])).length) Slot.unset).toArray = ls at hl ⊢
  have hl : lv_has ls 1 [(0, .ref (h 0))] := hl
  refine lv_aload_n hx hb dX1_lastTime_0 rfl (lv_at hl 0 rfl) ?_
  refine va_get (D := (dC, dI)) (ci := 0) (v := .int (st.1 3)) (C := RX1) (T := TX1) (N := 23) hx hb hts in_X1 hown hK hP 0 rfl rfl 3 (by decide) (hts _ q25) (fun _ h9 => h9) rfl dX1_lastTime_1 ?_
  exact W.iret (v := st.1 3) hx hb hr (fun t ht hW => ⟨_, rfl, (show st.1 3 = st.1 3 from rfl), ht⟩) (fun _ h => absurd h List.not_mem_nil) dX1_lastTime_4

set_option maxHeartbeats 4000000 in
set_option maxRecDepth 100000 in
theorem mX1_steps (l : Launch) (dC : Nat → ClassId) (dI : Nat → Nat → Nat) (h : Nat → Nat) (cI cB : ClassId) (st : SS)  : Met l yX1_steps (ws_ yX1_steps cX1_steps 1 (some .int)) ({ frames := 0, cells := 0, slots := 0, locals := 0 }) (va_Pc [.ref (h 0)] (qQ (dC, dI) (xw h cI cB st) [(cI, .int), (cB, .byte)])) (vp_Si (fun ans => ans = st.1 9)) 0 0 (fun _ => False) := by
  refine Met.ofW (cc := cX1_steps) (maxL := 1) (ret := some .int) (by decide) rfl ?_
  intro p e s m args below meth c s₁ B hml hv
  obtain ⟨rfl, hP, hK⟩ := hv
  have hx := B.exec
  have hb := B.bytes
  have hr := B.returns
  have hts := atoms_spec (ws := ws_ yX1_steps cX1_steps 1 (some .int)) B.pre
  have hts : ∀ w ∈ lw_all, w.before _ s = true := fun w h => hts w (List.mem_cons_of_mem _ h)
  have hown : s.vm.findClass RX1 = some m.cls := findClass_of_methodNamed B.named
  have hlocks := B.notSynchronized
  have hl := lv_entry ([.ref (h 0)]) (n := 1) (Nat.le_of_ble_eq_true rfl)
  rw [lg_entry_eq]
  generalize (lg_sl ([.ref (h 0)]) ++ List.replicate (1 - (lg_sl ([.ref (h 0)])).length) Slot.unset).toArray = ls at hl ⊢
  have hl : lv_has ls 1 [(0, .ref (h 0))] := hl
  refine lv_aload_n hx hb dX1_steps_0 rfl (lv_at hl 0 rfl) ?_
  refine va_get (D := (dC, dI)) (ci := 0) (v := .int (st.1 9)) (C := RX1) (T := TX1) (N := 23) hx hb hts in_X1 hown hK hP 0 rfl rfl 9 (by decide) (hts _ q31) (fun _ h9 => h9) rfl dX1_steps_1 ?_
  exact W.iret (v := st.1 9) hx hb hr (fun t ht hW => ⟨_, rfl, (show st.1 9 = st.1 9 from rfl), ht⟩) (fun _ h => absurd h List.not_mem_nil) dX1_steps_4

set_option maxHeartbeats 4000000 in
set_option maxRecDepth 100000 in
theorem mX1_lastStep (l : Launch) (dC : Nat → ClassId) (dI : Nat → Nat → Nat) (h : Nat → Nat) (cI cB : ClassId) (st : SS)  : Met l yX1_lastStep (ws_ yX1_lastStep cX1_lastStep 1 (some .int)) ({ frames := 0, cells := 0, slots := 0, locals := 0 }) (va_Pc [.ref (h 0)] (qQ (dC, dI) (xw h cI cB st) [(cI, .int), (cB, .byte)])) (vp_Si (fun ans => ans = st.1 10)) 0 0 (fun _ => False) := by
  refine Met.ofW (cc := cX1_lastStep) (maxL := 1) (ret := some .int) (by decide) rfl ?_
  intro p e s m args below meth c s₁ B hml hv
  obtain ⟨rfl, hP, hK⟩ := hv
  have hx := B.exec
  have hb := B.bytes
  have hr := B.returns
  have hts := atoms_spec (ws := ws_ yX1_lastStep cX1_lastStep 1 (some .int)) B.pre
  have hts : ∀ w ∈ lw_all, w.before _ s = true := fun w h => hts w (List.mem_cons_of_mem _ h)
  have hown : s.vm.findClass RX1 = some m.cls := findClass_of_methodNamed B.named
  have hlocks := B.notSynchronized
  have hl := lv_entry ([.ref (h 0)]) (n := 1) (Nat.le_of_ble_eq_true rfl)
  rw [lg_entry_eq]
  generalize (lg_sl ([.ref (h 0)]) ++ List.replicate (1 - (lg_sl ([.ref (h 0)])).length) Slot.unset).toArray = ls at hl ⊢
  have hl : lv_has ls 1 [(0, .ref (h 0))] := hl
  refine lv_aload_n hx hb dX1_lastStep_0 rfl (lv_at hl 0 rfl) ?_
  refine va_get (D := (dC, dI)) (ci := 0) (v := .int (st.1 10)) (C := RX1) (T := TX1) (N := 23) hx hb hts in_X1 hown hK hP 0 rfl rfl 10 (by decide) (hts _ q32) (fun _ h9 => h9) rfl dX1_lastStep_1 ?_
  exact W.iret (v := st.1 10) hx hb hr (fun t ht hW => ⟨_, rfl, (show st.1 10 = st.1 10 from rfl), ht⟩) (fun _ h => absurd h List.not_mem_nil) dX1_lastStep_4

set_option maxHeartbeats 4000000 in
set_option maxRecDepth 100000 in
theorem mX1_pending (l : Launch) (dC : Nat → ClassId) (dI : Nat → Nat → Nat) (h : Nat → Nat) (cI cB : ClassId) (st : SS)  : Met l yX1_pending (ws_ yX1_pending cX1_pending 1 (some .int)) ({ frames := 0, cells := 0, slots := 0, locals := 0 }) (va_Pc [.ref (h 0)] (qQ (dC, dI) (xw h cI cB st) [(cI, .int), (cB, .byte)])) (vp_Si (fun ans => ans = st.1 6)) 0 0 (fun _ => False) := by
  refine Met.ofW (cc := cX1_pending) (maxL := 1) (ret := some .int) (by decide) rfl ?_
  intro p e s m args below meth c s₁ B hml hv
  obtain ⟨rfl, hP, hK⟩ := hv
  have hx := B.exec
  have hb := B.bytes
  have hr := B.returns
  have hts := atoms_spec (ws := ws_ yX1_pending cX1_pending 1 (some .int)) B.pre
  have hts : ∀ w ∈ lw_all, w.before _ s = true := fun w h => hts w (List.mem_cons_of_mem _ h)
  have hown : s.vm.findClass RX1 = some m.cls := findClass_of_methodNamed B.named
  have hlocks := B.notSynchronized
  have hl := lv_entry ([.ref (h 0)]) (n := 1) (Nat.le_of_ble_eq_true rfl)
  rw [lg_entry_eq]
  generalize (lg_sl ([.ref (h 0)]) ++ List.replicate (1 - (lg_sl ([.ref (h 0)])).length) Slot.unset).toArray = ls at hl ⊢
  have hl : lv_has ls 1 [(0, .ref (h 0))] := hl
  refine lv_aload_n hx hb dX1_pending_0 rfl (lv_at hl 0 rfl) ?_
  refine va_get (D := (dC, dI)) (ci := 0) (v := .int (st.1 6)) (C := RX1) (T := TX1) (N := 23) hx hb hts in_X1 hown hK hP 0 rfl rfl 6 (by decide) (hts _ q28) (fun _ h9 => h9) rfl dX1_pending_1 ?_
  exact W.iret (v := st.1 6) hx hb hr (fun t ht hW => ⟨_, rfl, (show st.1 6 = st.1 6 from rfl), ht⟩) (fun _ h => absurd h List.not_mem_nil) dX1_pending_4

set_option maxHeartbeats 4000000 in
set_option maxRecDepth 100000 in
theorem mX1_pendingSum (l : Launch) (dC : Nat → ClassId) (dI : Nat → Nat → Nat) (h : Nat → Nat) (cI cB : ClassId) (st : SS)  : Met l yX1_pendingSum (ws_ yX1_pendingSum cX1_pendingSum 1 (some .int)) ({ frames := 0, cells := 0, slots := 0, locals := 0 }) (va_Pc [.ref (h 0)] (qQ (dC, dI) (xw h cI cB st) [(cI, .int), (cB, .byte)])) (vp_Si (fun ans => ans = st.1 8)) 0 0 (fun _ => False) := by
  refine Met.ofW (cc := cX1_pendingSum) (maxL := 1) (ret := some .int) (by decide) rfl ?_
  intro p e s m args below meth c s₁ B hml hv
  obtain ⟨rfl, hP, hK⟩ := hv
  have hx := B.exec
  have hb := B.bytes
  have hr := B.returns
  have hts := atoms_spec (ws := ws_ yX1_pendingSum cX1_pendingSum 1 (some .int)) B.pre
  have hts : ∀ w ∈ lw_all, w.before _ s = true := fun w h => hts w (List.mem_cons_of_mem _ h)
  have hown : s.vm.findClass RX1 = some m.cls := findClass_of_methodNamed B.named
  have hlocks := B.notSynchronized
  have hl := lv_entry ([.ref (h 0)]) (n := 1) (Nat.le_of_ble_eq_true rfl)
  rw [lg_entry_eq]
  generalize (lg_sl ([.ref (h 0)]) ++ List.replicate (1 - (lg_sl ([.ref (h 0)])).length) Slot.unset).toArray = ls at hl ⊢
  have hl : lv_has ls 1 [(0, .ref (h 0))] := hl
  refine lv_aload_n hx hb dX1_pendingSum_0 rfl (lv_at hl 0 rfl) ?_
  refine va_get (D := (dC, dI)) (ci := 0) (v := .int (st.1 8)) (C := RX1) (T := TX1) (N := 23) hx hb hts in_X1 hown hK hP 0 rfl rfl 8 (by decide) (hts _ q30) (fun _ h9 => h9) rfl dX1_pendingSum_1 ?_
  exact W.iret (v := st.1 8) hx hb hr (fun t ht hW => ⟨_, rfl, (show st.1 8 = st.1 8 from rfl), ht⟩) (fun _ h => absurd h List.not_mem_nil) dX1_pendingSum_4

set_option maxHeartbeats 4000000 in
set_option maxRecDepth 100000 in
theorem mX1_moment (l : Launch) (dC : Nat → ClassId) (dI : Nat → Nat → Nat) (h : Nat → Nat) (cI cB : ClassId) (st : SS) (tt : Int32)  : Met l yX1_moment (ws_ yX1_moment cX1_moment 2 (some .int)) ({ frames := 0, cells := 0, slots := 0, locals := 0 }) (va_Pc [.ref (h 0), .int tt] (qQ (dC, dI) (xw h cI cB st) [(cI, .int), (cB, .byte)])) (vp_Si (fun ans => ans = x_moment st tt)) 0 0 (fun _ => False) := by
  refine Met.ofW (cc := cX1_moment) (maxL := 2) (ret := some .int) (by decide) rfl ?_
  intro p e s m args below meth c s₁ B hml hv
  obtain ⟨rfl, hP, hK⟩ := hv
  have hx := B.exec
  have hb := B.bytes
  have hr := B.returns
  have hts := atoms_spec (ws := ws_ yX1_moment cX1_moment 2 (some .int)) B.pre
  have hts : ∀ w ∈ lw_all, w.before _ s = true := fun w h => hts w (List.mem_cons_of_mem _ h)
  have hown : s.vm.findClass RX1 = some m.cls := findClass_of_methodNamed B.named
  have hlocks := B.notSynchronized
  have hl := lv_entry ([.ref (h 0), .int tt]) (n := 2) (Nat.le_of_ble_eq_true rfl)
  rw [lg_entry_eq]
  generalize (lg_sl ([.ref (h 0), .int tt]) ++ List.replicate (2 - (lg_sl ([.ref (h 0), .int tt])).length) Slot.unset).toArray = ls at hl ⊢
  have hl : lv_has ls 2 [(0, .ref (h 0)), (1, .int tt)] := hl
  refine lv_iload_n hx hb dX1_moment_0 rfl (lv_at hl 1 rfl) ?_
  refine lv_iconst (v := 1) hx hb dX1_moment_1 (by decide) ?_
  refine lv_icmp_lt (tgt := 24) hx hb dX1_moment_2 (by decide) (fun c_1 => ?_) (fun c_1 => ?_)
  · refine lv_ldc hx hb hown (hts _ q21) dX1_moment_24 ?_
    exact W.iret (v := (-200000)) hx hb hr (fun t ht hW => ⟨_, rfl, (by show (-200000) = x_moment st tt; (rw [x_moment, if_pos c_1]); try rfl), ht⟩) (fun _ h => absurd h List.not_mem_nil) dX1_moment_26
  · refine lv_iload_n hx hb dX1_moment_5 rfl (lv_at hl 1 rfl) ?_
    refine lv_aload_n hx hb dX1_moment_6 rfl (lv_at hl 0 rfl) ?_
    refine va_get (D := (dC, dI)) (ci := 0) (v := .int (st.1 3)) (C := RX1) (T := TX1) (N := 23) hx hb hts in_X1 hown hK hP 0 rfl rfl 3 (by decide) (hts _ q25) (fun _ h9 => h9) rfl dX1_moment_7 ?_
    refine lv_icmp_gt (tgt := 24) hx hb dX1_moment_10 (by decide) (fun c_2 => ?_) (fun c_2 => ?_)
    · refine lv_ldc hx hb hown (hts _ q21) dX1_moment_24 ?_
      exact W.iret (v := (-200000)) hx hb hr (fun t ht hW => ⟨_, rfl, (by show (-200000) = x_moment st tt; (rw [x_moment, if_neg c_1, if_pos c_2]); try rfl), ht⟩) (fun _ h => absurd h List.not_mem_nil) dX1_moment_26
    · refine lv_iload_n hx hb dX1_moment_13 rfl (lv_at hl 1 rfl) ?_
      refine lv_aload_n hx hb dX1_moment_14 rfl (lv_at hl 0 rfl) ?_
      refine va_get (D := (dC, dI)) (ci := 0) (v := .int (st.1 3)) (C := RX1) (T := TX1) (N := 23) hx hb hts in_X1 hown hK hP 0 rfl rfl 3 (by decide) (hts _ q25) (fun _ h9 => h9) rfl dX1_moment_15 ?_
      refine lv_bipush (v := 30) hx hb dX1_moment_18 (by decide) ?_
      refine lv_isub hx hb dX1_moment_20 ?_
      refine lv_icmp_ge (tgt := 27) hx hb dX1_moment_21 (by decide) (fun c_3 => ?_) (fun c_3 => ?_)
      · refine lv_aload_n hx hb dX1_moment_27 rfl (lv_at hl 0 rfl) ?_
        refine va_get (D := (dC, dI)) (ci := 0) (v := .ref (h 1)) (C := RX1) (T := TX1) (N := 23) hx hb hts in_X1 hown hK hP 0 rfl rfl 5 (by decide) (hts _ q27) (fun _ h9 => h9) rfl dX1_moment_28 ?_
        refine lv_iload_n hx hb dX1_moment_31 rfl (lv_at hl 1 rfl) ?_
        refine lv_bipush (v := 31) hx hb dX1_moment_32 (by decide) ?_
        refine lv_iand hx hb dX1_moment_34 ?_
        refine va_iald (f := st.2 5) hx hb hK hP 1 0 rfl rfl (in32 _) dX1_moment_35 ?_
        exact W.iret (v := (st.2 5) (tt &&& 31).toNatClampNeg) hx hb hr (fun t ht hW => ⟨_, rfl, (by show (st.2 5) (tt &&& 31).toNatClampNeg = x_moment st tt; (rw [x_moment, if_neg c_1, if_neg c_2, if_pos c_3]); try rfl), ht⟩) (fun _ h => absurd h List.not_mem_nil) dX1_moment_36
      · refine lv_ldc hx hb hown (hts _ q21) dX1_moment_24 ?_
        exact W.iret (v := (-200000)) hx hb hr (fun t ht hW => ⟨_, rfl, (by show (-200000) = x_moment st tt; (rw [x_moment, if_neg c_1, if_neg c_2, if_neg c_3]); try rfl), ht⟩) (fun _ h => absurd h List.not_mem_nil) dX1_moment_26

set_option maxHeartbeats 4000000 in
set_option maxRecDepth 100000 in
theorem mX1_rows (l : Launch) (dC : Nat → ClassId) (dI : Nat → Nat → Nat) (h : Nat → Nat) (cI cB : ClassId) (st : SS) (a : Int32)  : Met l yX1_rows (ws_ yX1_rows cX1_rows 2 (some .int)) ({ frames := 1, cells := 0, slots := 0, locals := 20 }) (va_Pc [.ref (h 0), .int a] (qQ (dC, dI) (xw h cI cB st) [(cI, .int), (cB, .byte)])) (vp_Si (fun ans => ans = x_rows st a)) 0 0 (fun _ => False) := by
  refine Met.ofW (cc := cX1_rows) (maxL := 2) (ret := some .int) (by decide) rfl ?_
  intro p e s m args below meth c s₁ B hml hv
  obtain ⟨rfl, hP, hK⟩ := hv
  have hx := B.exec
  have hb := B.bytes
  have hr := B.returns
  have hts := atoms_spec (ws := ws_ yX1_rows cX1_rows 2 (some .int)) B.pre
  have hts : ∀ w ∈ lw_all, w.before _ s = true := fun w h => hts w (List.mem_cons_of_mem _ h)
  have hown : s.vm.findClass RX1 = some m.cls := findClass_of_methodNamed B.named
  have hlocks := B.notSynchronized
  have hl := lv_entry ([.ref (h 0), .int a]) (n := 2) (Nat.le_of_ble_eq_true rfl)
  rw [lg_entry_eq]
  generalize (lg_sl ([.ref (h 0), .int a]) ++ List.replicate (2 - (lg_sl ([.ref (h 0), .int a])).length) Slot.unset).toArray = ls at hl ⊢
  have hl : lv_has ls 2 [(0, .ref (h 0)), (1, .int a)] := hl
  refine lv_iload_n hx hb dX1_rows_0 rfl (lv_at hl 1 rfl) ?_
  refine vp_callSi (W.runS (As := [.int a]) (rest := []) ⟨hx, hb, hml, hown, hts⟩ (mX1_isArchive l a) (va_cwS 1 hts (lw_S q98 q99 q11 q100) rfl rfl rfl (by decide +kernel) ⟨Nat.le_of_ble_eq_true rfl, Nat.le_of_ble_eq_true rfl⟩) ⟨tb_blind, fun U hU hW => ⟨rfl, trivial⟩⟩ rfl rfl hl.1 rfl (lv_room (Nat.le_of_ble_eq_true rfl)) dX1_rows_1 ⟨Nat.le_of_ble_eq_true rfl, Nat.le_of_ble_eq_true rfl⟩) (fun r_1 hr_1 => ?_)
  have hr_1 : r_1 = x_isA a := hr_1
  subst hr_1
  refine lv_if_eq (tgt := 16) hx hb dX1_rows_4 (by decide) (fun c_2 => ?_) (fun c_2 => ?_)
  · refine lv_iconst (v := 0) hx hb dX1_rows_16 (by decide) ?_
    exact W.iret (v := 0) hx hb hr (fun t ht hW => ⟨_, rfl, (by show 0 = x_rows st a; (rw [x_rows, if_pos c_2]); try rfl), ht⟩) (fun _ h => absurd h List.not_mem_nil) dX1_rows_17
  · have ha : arO a := x_isA_ok c_2
    refine lv_aload_n hx hb dX1_rows_7 rfl (lv_at hl 0 rfl) ?_
    refine va_get (D := (dC, dI)) (ci := 0) (v := .ref (h 12)) (C := RX1) (T := TX1) (N := 23) hx hb hts in_X1 hown hK hP 0 rfl rfl 21 (by decide) (hts _ q43) (fun _ h9 => h9) rfl dX1_rows_8 ?_
    refine lv_iload_n hx hb dX1_rows_11 rfl (lv_at hl 1 rfl) ?_
    refine va_iald (f := st.2 21) hx hb hK hP 12 0 rfl rfl (in2 ha) dX1_rows_12 ?_
    refine lv_goto (tgt := 17) hx hb dX1_rows_13 (by decide) ?_
    exact W.iret (v := (st.2 21) a.toNatClampNeg) hx hb hr (fun t ht hW => ⟨_, rfl, (by show (st.2 21) a.toNatClampNeg = x_rows st a; (rw [x_rows, if_neg c_2]); try rfl), ht⟩) (fun _ h => absurd h List.not_mem_nil) dX1_rows_17

set_option maxHeartbeats 4000000 in
set_option maxRecDepth 100000 in
theorem mX1_row (l : Launch) (dC : Nat → ClassId) (dI : Nat → Nat → Nat) (h : Nat → Nat) (cI cB : ClassId) (st : SS) (a r : Int32)  : Met l yX1_row (ws_ yX1_row cX1_row 3 (some .int)) ({ frames := 1, cells := 0, slots := 0, locals := 20 }) (va_Pc [.ref (h 0), .int a, .int r] (qQ (dC, dI) (xw h cI cB st) [(cI, .int), (cB, .byte)])) (vp_Si (fun ans => ans = x_row st a r)) 0 0 (fun _ => False) := by
  refine Met.ofW (cc := cX1_row) (maxL := 3) (ret := some .int) (by decide) rfl ?_
  intro p e s m args below meth c s₁ B hml hv
  obtain ⟨rfl, hP, hK⟩ := hv
  have hx := B.exec
  have hb := B.bytes
  have hr := B.returns
  have hts := atoms_spec (ws := ws_ yX1_row cX1_row 3 (some .int)) B.pre
  have hts : ∀ w ∈ lw_all, w.before _ s = true := fun w h => hts w (List.mem_cons_of_mem _ h)
  have hown : s.vm.findClass RX1 = some m.cls := findClass_of_methodNamed B.named
  have hlocks := B.notSynchronized
  have hl := lv_entry ([.ref (h 0), .int a, .int r]) (n := 3) (Nat.le_of_ble_eq_true rfl)
  rw [lg_entry_eq]
  generalize (lg_sl ([.ref (h 0), .int a, .int r]) ++ List.replicate (3 - (lg_sl ([.ref (h 0), .int a, .int r])).length) Slot.unset).toArray = ls at hl ⊢
  have hl : lv_has ls 3 [(0, .ref (h 0)), (1, .int a), (2, .int r)] := hl
  refine lv_iload_n hx hb dX1_row_0 rfl (lv_at hl 1 rfl) ?_
  refine vp_callSi (W.runS (As := [.int a]) (rest := []) ⟨hx, hb, hml, hown, hts⟩ (mX1_isArchive l a) (va_cwS 1 hts (lw_S q98 q99 q11 q100) rfl rfl rfl (by decide +kernel) ⟨Nat.le_of_ble_eq_true rfl, Nat.le_of_ble_eq_true rfl⟩) ⟨tb_blind, fun U hU hW => ⟨rfl, trivial⟩⟩ rfl rfl hl.1 rfl (lv_room (Nat.le_of_ble_eq_true rfl)) dX1_row_1 ⟨Nat.le_of_ble_eq_true rfl, Nat.le_of_ble_eq_true rfl⟩) (fun r_1 hr_1 => ?_)
  have hr_1 : r_1 = x_isA a := hr_1
  subst hr_1
  refine lv_if_eq (tgt := 38) hx hb dX1_row_4 (by decide) (fun c_2 => ?_) (fun c_2 => ?_)
  · refine lv_ldc hx hb hown (hts _ q21) dX1_row_38 ?_
    exact W.iret (v := (-200000)) hx hb hr (fun t ht hW => ⟨_, rfl, (by show (-200000) = x_row st a r; (rw [x_row, if_pos c_2]); try rfl), ht⟩) (fun _ h => absurd h List.not_mem_nil) dX1_row_40
  · have ha : arO a := x_isA_ok c_2
    refine lv_iload_n hx hb dX1_row_7 rfl (lv_at hl 2 rfl) ?_
    refine lv_if_lt (tgt := 38) hx hb dX1_row_8 (by decide) (fun c_3 => ?_) (fun c_3 => ?_)
    · refine lv_ldc hx hb hown (hts _ q21) dX1_row_38 ?_
      exact W.iret (v := (-200000)) hx hb hr (fun t ht hW => ⟨_, rfl, (by show (-200000) = x_row st a r; (rw [x_row, if_neg c_2, if_pos c_3]); try rfl), ht⟩) (fun _ h => absurd h List.not_mem_nil) dX1_row_40
    · refine lv_iload_n hx hb dX1_row_11 rfl (lv_at hl 2 rfl) ?_
      refine lv_aload_n hx hb dX1_row_12 rfl (lv_at hl 0 rfl) ?_
      refine va_get (D := (dC, dI)) (ci := 0) (v := .ref (h 12)) (C := RX1) (T := TX1) (N := 23) hx hb hts in_X1 hown hK hP 0 rfl rfl 21 (by decide) (hts _ q43) (fun _ h9 => h9) rfl dX1_row_13 ?_
      refine lv_iload_n hx hb dX1_row_16 rfl (lv_at hl 1 rfl) ?_
      refine va_iald (f := st.2 21) hx hb hK hP 12 0 rfl rfl (in2 ha) dX1_row_17 ?_
      refine lv_icmp_ge (tgt := 38) hx hb dX1_row_18 (by decide) (fun c_4 => ?_) (fun c_4 => ?_)
      · refine lv_ldc hx hb hown (hts _ q21) dX1_row_38 ?_
        exact W.iret (v := (-200000)) hx hb hr (fun t ht hW => ⟨_, rfl, (by show (-200000) = x_row st a r; (rw [x_row, if_neg c_2, if_neg c_3, if_pos c_4]); try rfl), ht⟩) (fun _ h => absurd h List.not_mem_nil) dX1_row_40
      · refine lv_iload_n hx hb dX1_row_21 rfl (lv_at hl 2 rfl) ?_
        refine lv_aload_n hx hb dX1_row_22 rfl (lv_at hl 0 rfl) ?_
        refine va_get (D := (dC, dI)) (ci := 0) (v := .ref (h 12)) (C := RX1) (T := TX1) (N := 23) hx hb hts in_X1 hown hK hP 0 rfl rfl 21 (by decide) (hts _ q43) (fun _ h9 => h9) rfl dX1_row_23 ?_
        refine lv_iload_n hx hb dX1_row_26 rfl (lv_at hl 1 rfl) ?_
        refine va_iald (f := st.2 21) hx hb hK hP 12 0 rfl rfl (in2 ha) dX1_row_27 ?_
        refine lv_aload_n hx hb dX1_row_28 rfl (lv_at hl 0 rfl) ?_
        refine va_get (D := (dC, dI)) (ci := 0) (v := .ref (h 5)) (C := RX1) (T := TX1) (N := 23) hx hb hts in_X1 hown hK hP 0 rfl rfl 14 (by decide) (hts _ q36) (fun _ h9 => h9) rfl dX1_row_29 ?_
        refine lv_iload_n hx hb dX1_row_32 rfl (lv_at hl 1 rfl) ?_
        refine va_bald (f := st.2 14) hx hb hK hP 5 1 rfl rfl (in2 ha) dX1_row_33 ?_
        refine lv_isub hx hb dX1_row_34 ?_
        refine lv_icmp_ge (tgt := 41) hx hb dX1_row_35 (by decide) (fun c_5 => ?_) (fun c_5 => ?_)
        · refine lv_aload_n hx hb dX1_row_41 rfl (lv_at hl 0 rfl) ?_
          refine va_get (D := (dC, dI)) (ci := 0) (v := .ref (h 13)) (C := RX1) (T := TX1) (N := 23) hx hb hts in_X1 hown hK hP 0 rfl rfl 22 (by decide) (hts _ q44) (fun _ h9 => h9) rfl dX1_row_42 ?_
          refine lv_iload_n hx hb dX1_row_45 rfl (lv_at hl 1 rfl) ?_
          refine lv_bipush (v := 8) hx hb dX1_row_46 (by decide) ?_
          refine lv_imul hx hb dX1_row_48 ?_
          refine lv_iload_n hx hb dX1_row_49 rfl (lv_at hl 2 rfl) ?_
          refine lv_bipush (v := 7) hx hb dX1_row_50 (by decide) ?_
          refine lv_iand hx hb dX1_row_52 ?_
          refine lv_iadd hx hb dX1_row_53 ?_
          refine va_iald (f := st.2 22) hx hb hK hP 13 0 rfl rfl (in16 ha _) dX1_row_54 ?_
          exact W.iret (v := (st.2 22) ((a * 8) + (r &&& 7)).toNatClampNeg) hx hb hr (fun t ht hW => ⟨_, rfl, (by show (st.2 22) ((a * 8) + (r &&& 7)).toNatClampNeg = x_row st a r; (rw [x_row, if_neg c_2, if_neg c_3, if_neg c_4, if_pos c_5]); try rfl), ht⟩) (fun _ h => absurd h List.not_mem_nil) dX1_row_55
        · refine lv_ldc hx hb hown (hts _ q21) dX1_row_38 ?_
          exact W.iret (v := (-200000)) hx hb hr (fun t ht hW => ⟨_, rfl, (by show (-200000) = x_row st a r; (rw [x_row, if_neg c_2, if_neg c_3, if_neg c_4, if_neg c_5]); try rfl), ht⟩) (fun _ h => absurd h List.not_mem_nil) dX1_row_40

set_option maxHeartbeats 4000000 in
set_option maxRecDepth 100000 in
theorem mX1_firstKept (l : Launch) (dC : Nat → ClassId) (dI : Nat → Nat → Nat) (h : Nat → Nat) (cI cB : ClassId) (st : SS) (a : Int32) (ha : arO a) : Met l yX1_firstKept (ws_ yX1_firstKept cX1_firstKept 3 (some .int)) ({ frames := 0, cells := 0, slots := 0, locals := 0 }) (va_Pc [.ref (h 0), .int a] (qQ (dC, dI) (xw h cI cB st) [(cI, .int), (cB, .byte)])) (vp_Si (fun ans => ans = x_firstKept st a)) 0 0 (fun _ => False) := by
  refine Met.ofW (cc := cX1_firstKept) (maxL := 3) (ret := some .int) (by decide) rfl ?_
  intro p e s m args below meth c s₁ B hml hv
  obtain ⟨rfl, hP, hK⟩ := hv
  have hx := B.exec
  have hb := B.bytes
  have hr := B.returns
  have hts := atoms_spec (ws := ws_ yX1_firstKept cX1_firstKept 3 (some .int)) B.pre
  have hts : ∀ w ∈ lw_all, w.before _ s = true := fun w h => hts w (List.mem_cons_of_mem _ h)
  have hown : s.vm.findClass RX1 = some m.cls := findClass_of_methodNamed B.named
  have hlocks := B.notSynchronized
  have hl := lv_entry ([.ref (h 0), .int a]) (n := 3) (Nat.le_of_ble_eq_true rfl)
  rw [lg_entry_eq]
  generalize (lg_sl ([.ref (h 0), .int a]) ++ List.replicate (3 - (lg_sl ([.ref (h 0), .int a])).length) Slot.unset).toArray = ls at hl ⊢
  have hl : lv_has ls 3 [(0, .ref (h 0)), (1, .int a)] := hl
  refine lv_aload_n hx hb dX1_firstKept_0 rfl (lv_at hl 0 rfl) ?_
  refine va_get (D := (dC, dI)) (ci := 0) (v := .ref (h 12)) (C := RX1) (T := TX1) (N := 23) hx hb hts in_X1 hown hK hP 0 rfl rfl 21 (by decide) (hts _ q43) (fun _ h9 => h9) rfl dX1_firstKept_1 ?_
  refine lv_iload_n hx hb dX1_firstKept_4 rfl (lv_at hl 1 rfl) ?_
  refine va_iald (f := st.2 21) hx hb hK hP 12 0 rfl rfl (in2 ha) dX1_firstKept_5 ?_
  refine lv_aload_n hx hb dX1_firstKept_6 rfl (lv_at hl 0 rfl) ?_
  refine va_get (D := (dC, dI)) (ci := 0) (v := .ref (h 5)) (C := RX1) (T := TX1) (N := 23) hx hb hts in_X1 hown hK hP 0 rfl rfl 14 (by decide) (hts _ q36) (fun _ h9 => h9) rfl dX1_firstKept_7 ?_
  refine lv_iload_n hx hb dX1_firstKept_10 rfl (lv_at hl 1 rfl) ?_
  refine va_bald (f := st.2 14) hx hb hK hP 5 1 rfl rfl (in2 ha) dX1_firstKept_11 ?_
  refine lv_isub hx hb dX1_firstKept_12 ?_
  refine lv_istore_n (lv' := [(2, .int (((st.2 21) a.toNatClampNeg) - ((st.2 14) a.toNatClampNeg))), (0, .ref (h 0)), (1, .int a)]) hx hb dX1_firstKept_13 rfl hl (by decide) rfl (fun ls hl => ?_)
  refine lv_iload_n hx hb dX1_firstKept_14 rfl (lv_at hl 0 rfl) ?_
  refine lv_if_ge (tgt := 22) hx hb dX1_firstKept_15 (by decide) (fun c_1 => ?_) (fun c_1 => ?_)
  · refine lv_iload_n hx hb dX1_firstKept_22 rfl (lv_at hl 0 rfl) ?_
    exact W.iret (v := ((st.2 21) a.toNatClampNeg) - ((st.2 14) a.toNatClampNeg)) hx hb hr (fun t ht hW => ⟨_, rfl, (by show ((st.2 21) a.toNatClampNeg) - ((st.2 14) a.toNatClampNeg) = x_firstKept st a; (rw [x_firstKept, if_pos c_1]); try rfl), ht⟩) (fun _ h => absurd h List.not_mem_nil) dX1_firstKept_23
  · refine lv_iconst (v := 0) hx hb dX1_firstKept_18 (by decide) ?_
    refine lv_goto (tgt := 23) hx hb dX1_firstKept_19 (by decide) ?_
    exact W.iret (v := 0) hx hb hr (fun t ht hW => ⟨_, rfl, (by show 0 = x_firstKept st a; (rw [x_firstKept, if_neg c_1]); try rfl), ht⟩) (fun _ h => absurd h List.not_mem_nil) dX1_firstKept_23

set_option maxHeartbeats 4000000 in
set_option maxRecDepth 100000 in
theorem mX1_peak (l : Launch) (dC : Nat → ClassId) (dI : Nat → Nat → Nat) (h : Nat → Nat) (cI cB : ClassId) (st : SS) (a : Int32) (N F : Nat) (hyp : arO a → st.2 21 a.toNatClampNeg = nI N ∧ x_firstKept st a = nI F ∧ F ≤ N ∧ N < 2 ^ 30) : Met l yX1_peak (ws_ yX1_peak cX1_peak 5 (some .int)) ({ frames := 1, cells := 0, slots := 0, locals := 22 }) (va_Pc [.ref (h 0), .int a] (qQ (dC, dI) (xw h cI cB st) [(cI, .int), (cB, .byte)])) (vp_Si (fun ans => ans = x_peak st a N F)) 0 0 (fun _ => False) := by
  refine Met.ofW (cc := cX1_peak) (maxL := 5) (ret := some .int) (by decide) rfl ?_
  intro p e s m args below meth c s₁ B hml hv
  obtain ⟨rfl, hP, hK⟩ := hv
  have hx := B.exec
  have hb := B.bytes
  have hr := B.returns
  have hts := atoms_spec (ws := ws_ yX1_peak cX1_peak 5 (some .int)) B.pre
  have hts : ∀ w ∈ lw_all, w.before _ s = true := fun w h => hts w (List.mem_cons_of_mem _ h)
  have hown : s.vm.findClass RX1 = some m.cls := findClass_of_methodNamed B.named
  have hlocks := B.notSynchronized
  have hl := lv_entry ([.ref (h 0), .int a]) (n := 5) (Nat.le_of_ble_eq_true rfl)
  rw [lg_entry_eq]
  generalize (lg_sl ([.ref (h 0), .int a]) ++ List.replicate (5 - (lg_sl ([.ref (h 0), .int a])).length) Slot.unset).toArray = ls at hl ⊢
  have hl : lv_has ls 5 [(0, .ref (h 0)), (1, .int a)] := hl
  refine lv_iload_n hx hb dX1_peak_0 rfl (lv_at hl 1 rfl) ?_
  refine vp_callSi (W.runS (As := [.int a]) (rest := []) ⟨hx, hb, hml, hown, hts⟩ (mX1_isArchive l a) (va_cwS 1 hts (lw_S q98 q99 q11 q100) rfl rfl rfl (by decide +kernel) ⟨Nat.le_of_ble_eq_true rfl, Nat.le_of_ble_eq_true rfl⟩) ⟨tb_blind, fun U hU hW => ⟨rfl, trivial⟩⟩ rfl rfl hl.1 rfl (lv_room (Nat.le_of_ble_eq_true rfl)) dX1_peak_1 ⟨Nat.le_of_ble_eq_true rfl, Nat.le_of_ble_eq_true rfl⟩) (fun r_1 hr_1 => ?_)
  have hr_1 : r_1 = x_isA a := hr_1
  subst hr_1
  refine lv_if_ne (tgt := 10) hx hb dX1_peak_4 (by decide) (fun c_2 => ?_) (fun c_2 => ?_)
  · have ha : arO a := x_isA_ok c_2
    obtain ⟨hN, hF, hFN, hNb⟩ := hyp ha
    refine lv_ldc hx hb hown (hts _ q109) dX1_peak_10 ?_
    refine lv_istore_n (lv' := [(2, .int (-100000)), (0, .ref (h 0)), (1, .int a)]) hx hb dX1_peak_12 rfl hl (by decide) rfl (fun ls hl => ?_)
    refine lv_aload_n hx hb dX1_peak_13 rfl (lv_at hl 1 rfl) ?_
    refine lv_iload_n hx hb dX1_peak_14 rfl (lv_at hl 2 rfl) ?_
    refine vp_callSi (W.runV (As := [.int a]) (rest := []) ⟨hx, hb, hml, hown, hts⟩ (mX1_firstKept l dC dI h cI cB st a ha) (cwV 1 hts (lw_V q161 q163 qs6 q11 q164) rfl rfl rfl (by decide +kernel) ⟨Nat.le_of_ble_eq_true rfl, Nat.le_of_ble_eq_true rfl⟩) ⟨qb_blind, va_recv hK hP (ci := 0) (q0 := 0) rfl rfl, fun U hU hW => ⟨rfl, by rw [hU]; exact hP, va_K.moved hW.alike hK⟩⟩ rfl rfl hl.1 rfl (lv_room (Nat.le_of_ble_eq_true rfl)) dX1_peak_15 ⟨Nat.le_of_ble_eq_true rfl, Nat.le_of_ble_eq_true rfl⟩) (fun r_3 hr_3 => ?_)
    have hr_3 : r_3 = x_firstKept st a := hr_3
    subst hr_3
    refine lv_istore_n (lv' := [(3, .int (x_firstKept st a)), (2, .int (-100000)), (0, .ref (h 0)), (1, .int a)]) hx hb dX1_peak_18 rfl hl (by decide) rfl (fun ls hl => ?_)
    refine lp_cut (σ := Int32 × Int32) (nL := 5) (lv := fun x => [(0, .ref (h 0)), (1, .int a), (2, .int x.1), (3, .int x.2)]) (I := fun n x => ∃ K : Nat, x.2 = nI K ∧ K + n = N ∧ x_pkL st a n x.2 x.1 = x_pkL st a (N - F) (nI F) (-100000)) ?_ (N - F) ((-100000), x_firstKept st a) ⟨F, hF, by omega, by rw [hF]⟩ ls (lv_sub hl [2, 3, 1, 0] rfl)
    intro n x hI ih ls hl
    obtain ⟨b, r⟩ := x
    have hl : lv_has ls 5 [(0, .ref (h 0)), (1, .int a), (2, .int b), (3, .int r)] := hl
    obtain ⟨K, eK, eN, eR⟩ := hI
    have eK : r = nI K := eK
    have eR : x_pkL st a n r b = _ := eR
    refine lv_iload_n hx hb dX1_peak_19 rfl (lv_at hl 3 rfl) ?_
    refine lv_aload_n hx hb dX1_peak_20 rfl (lv_at hl 0 rfl) ?_
    refine va_get (D := (dC, dI)) (ci := 0) (v := .ref (h 12)) (C := RX1) (T := TX1) (N := 23) hx hb hts in_X1 hown hK hP 0 rfl rfl 21 (by decide) (hts _ q43) (fun _ h9 => h9) rfl dX1_peak_21 ?_
    refine lv_iload_n hx hb dX1_peak_24 rfl (lv_at hl 1 rfl) ?_
    refine va_iald (f := st.2 21) hx hb hK hP 12 0 rfl rfl (in2 ha) dX1_peak_25 ?_
    refine lv_icmp_ge (tgt := 60) hx hb dX1_peak_26 (by decide) (fun c_4 => ?_) (fun c_4 => ?_)
    · have n0 : n = 0 := by rw [hN, eK] at c_4; have := (nI_leI (by omega) (by omega)).mp c_4; omega
      refine lv_iload_n hx hb dX1_peak_60 rfl (lv_at hl 2 rfl) ?_
      exact W.iret (v := b) hx hb hr (fun t ht hW => ⟨_, rfl, (by show b = x_peak st a N F; have e0 : n = 0 := n0; subst e0; rw [x_peak, if_neg (ar_isA ha)]; exact eR), ht⟩) (fun _ h => absurd h List.not_mem_nil) dX1_peak_61
    · obtain ⟨n, rfl⟩ : ∃ n1, n = n1 + 1 := ⟨n - 1, by rw [hN, eK] at c_4; have : ¬ N ≤ K := fun q => c_4 (nI_le q (by omega)); omega⟩
      refine lv_aload_n hx hb dX1_peak_29 rfl (lv_at hl 0 rfl) ?_
      refine va_get (D := (dC, dI)) (ci := 0) (v := .ref (h 13)) (C := RX1) (T := TX1) (N := 23) hx hb hts in_X1 hown hK hP 0 rfl rfl 22 (by decide) (hts _ q44) (fun _ h9 => h9) rfl dX1_peak_30 ?_
      refine lv_iload_n hx hb dX1_peak_33 rfl (lv_at hl 1 rfl) ?_
      refine lv_bipush (v := 8) hx hb dX1_peak_34 (by decide) ?_
      refine lv_imul hx hb dX1_peak_36 ?_
      refine lv_iload_n hx hb dX1_peak_37 rfl (lv_at hl 3 rfl) ?_
      refine lv_bipush (v := 7) hx hb dX1_peak_38 (by decide) ?_
      refine lv_iand hx hb dX1_peak_40 ?_
      refine lv_iadd hx hb dX1_peak_41 ?_
      refine va_iald (f := st.2 22) hx hb hK hP 13 0 rfl rfl (in16 ha _) dX1_peak_42 ?_
      refine lv_istore (lv' := [(4, .int ((st.2 22) ((a * 8) + (r &&& 7)).toNatClampNeg)), (0, .ref (h 0)), (1, .int a), (2, .int b), (3, .int r)]) hx hb dX1_peak_43 hl (by decide) rfl (fun ls hl => ?_)
      refine lv_iload hx hb dX1_peak_45 (lv_at hl 0 rfl) ?_
      refine lv_iload_n hx hb dX1_peak_47 rfl (lv_at hl 3 rfl) ?_
      refine ph_cutL (J := 54) (nL := 5) (rest := []) (fun z => [(0, .ref (h 0)), (1, .int a), (2, .int z), (3, .int r), (4, .int ((st.2 22) ((a * 8) + (r &&& 7)).toNatClampNeg))]) (if ((st.2 22) ((a * 8) + (r &&& 7)).toNatClampNeg) ≤ b then b else (st.2 22) ((a * 8) + (r &&& 7)).toNatClampNeg) (fun z_5 ez_5 ls hl => ?_) (fun hJ_5 => ?_)
      · have hl : lv_has ls 5 [(0, .ref (h 0)), (1, .int a), (2, .int z_5), (3, .int r), (4, .int ((st.2 22) ((a * 8) + (r &&& 7)).toNatClampNeg))] := hl
        refine lv_iinc (v := r + 1) (lv' := [(3, .int (r + 1)), (0, .ref (h 0)), (1, .int a), (2, .int z_5), (4, .int ((st.2 22) ((a * 8) + (r &&& 7)).toNatClampNeg))]) hx hb dX1_peak_54 hl (k := 3) rfl rfl (by decide) rfl (fun ls hl => ?_)
        refine lv_goto (tgt := 19) hx hb dX1_peak_57 (by decide) ?_
        exact ih n (z_5, r + 1) (Nat.lt_succ_self _) ⟨K + 1, by show r + 1 = nI (K + 1); rw [eK]; exact nI_1 K, by omega, by rw [← eR]; subst ez_5; exact (by rw [x_pkL])⟩ ls (lv_sub hl [1, 2, 3, 0] rfl)
      · refine lv_icmp_le (tgt := 54) hx hb dX1_peak_48 (by decide) (fun c_6 => ?_) (fun c_6 => ?_)
        · exact hJ_5 _ (by rw [if_pos c_6]) _ (lv_sub hl [1, 2, 3, 4, 0] rfl)
        · refine lv_iload hx hb dX1_peak_51 (lv_at hl 0 rfl) ?_
          refine lv_istore_n (lv' := [(2, .int ((st.2 22) ((a * 8) + (r &&& 7)).toNatClampNeg)), (4, .int ((st.2 22) ((a * 8) + (r &&& 7)).toNatClampNeg)), (0, .ref (h 0)), (1, .int a), (3, .int r)]) hx hb dX1_peak_53 rfl hl (by decide) rfl (fun ls hl => ?_)
          exact hJ_5 _ (by rw [if_neg c_6]) _ (lv_sub hl [2, 3, 0, 4, 1] rfl)
  · refine lv_ldc hx hb hown (hts _ q21) dX1_peak_7 ?_
    exact W.iret (v := (-200000)) hx hb hr (fun t ht hW => ⟨_, rfl, (by show (-200000) = x_peak st a N F; (rw [x_peak, if_pos c_2]); try rfl), ht⟩) (fun _ h => absurd h List.not_mem_nil) dX1_peak_9

set_option maxHeartbeats 4000000 in
set_option maxRecDepth 100000 in
theorem mX1_known (l : Launch) (dC : Nat → ClassId) (dI : Nat → Nat → Nat) (h : Nat → Nat) (cI cB : ClassId) (st : SS) (a : Int32) (N F : Nat) (hyp : arO a → st.2 21 a.toNatClampNeg = nI N ∧ x_firstKept st a = nI F ∧ F ≤ N ∧ N < 2 ^ 30) : Met l yX1_known (ws_ yX1_known cX1_known 4 (some .int)) ({ frames := 1, cells := 0, slots := 0, locals := 22 }) (va_Pc [.ref (h 0), .int a] (qQ (dC, dI) (xw h cI cB st) [(cI, .int), (cB, .byte)])) (vp_Si (fun ans => ans = x_known st a N F)) 0 0 (fun _ => False) := by
  refine Met.ofW (cc := cX1_known) (maxL := 4) (ret := some .int) (by decide) rfl ?_
  intro p e s m args below meth c s₁ B hml hv
  obtain ⟨rfl, hP, hK⟩ := hv
  have hx := B.exec
  have hb := B.bytes
  have hr := B.returns
  have hts := atoms_spec (ws := ws_ yX1_known cX1_known 4 (some .int)) B.pre
  have hts : ∀ w ∈ lw_all, w.before _ s = true := fun w h => hts w (List.mem_cons_of_mem _ h)
  have hown : s.vm.findClass RX1 = some m.cls := findClass_of_methodNamed B.named
  have hlocks := B.notSynchronized
  have hl := lv_entry ([.ref (h 0), .int a]) (n := 4) (Nat.le_of_ble_eq_true rfl)
  rw [lg_entry_eq]
  generalize (lg_sl ([.ref (h 0), .int a]) ++ List.replicate (4 - (lg_sl ([.ref (h 0), .int a])).length) Slot.unset).toArray = ls at hl ⊢
  have hl : lv_has ls 4 [(0, .ref (h 0)), (1, .int a)] := hl
  refine lv_iload_n hx hb dX1_known_0 rfl (lv_at hl 1 rfl) ?_
  refine vp_callSi (W.runS (As := [.int a]) (rest := []) ⟨hx, hb, hml, hown, hts⟩ (mX1_isArchive l a) (va_cwS 1 hts (lw_S q98 q99 q11 q100) rfl rfl rfl (by decide +kernel) ⟨Nat.le_of_ble_eq_true rfl, Nat.le_of_ble_eq_true rfl⟩) ⟨tb_blind, fun U hU hW => ⟨rfl, trivial⟩⟩ rfl rfl hl.1 rfl (lv_room (Nat.le_of_ble_eq_true rfl)) dX1_known_1 ⟨Nat.le_of_ble_eq_true rfl, Nat.le_of_ble_eq_true rfl⟩) (fun r_1 hr_1 => ?_)
  have hr_1 : r_1 = x_isA a := hr_1
  subst hr_1
  refine lv_if_ne (tgt := 9) hx hb dX1_known_4 (by decide) (fun c_2 => ?_) (fun c_2 => ?_)
  · have ha : arO a := x_isA_ok c_2
    obtain ⟨hN, hF, hFN, hNb⟩ := hyp ha
    refine lv_iconst (v := 0) hx hb dX1_known_9 (by decide) ?_
    refine lv_istore_n (lv' := [(2, .int 0), (0, .ref (h 0)), (1, .int a)]) hx hb dX1_known_10 rfl hl (by decide) rfl (fun ls hl => ?_)
    refine lv_aload_n hx hb dX1_known_11 rfl (lv_at hl 1 rfl) ?_
    refine lv_iload_n hx hb dX1_known_12 rfl (lv_at hl 2 rfl) ?_
    refine vp_callSi (W.runV (As := [.int a]) (rest := []) ⟨hx, hb, hml, hown, hts⟩ (mX1_firstKept l dC dI h cI cB st a ha) (cwV 1 hts (lw_V q161 q163 qs6 q11 q164) rfl rfl rfl (by decide +kernel) ⟨Nat.le_of_ble_eq_true rfl, Nat.le_of_ble_eq_true rfl⟩) ⟨qb_blind, va_recv hK hP (ci := 0) (q0 := 0) rfl rfl, fun U hU hW => ⟨rfl, by rw [hU]; exact hP, va_K.moved hW.alike hK⟩⟩ rfl rfl hl.1 rfl (lv_room (Nat.le_of_ble_eq_true rfl)) dX1_known_13 ⟨Nat.le_of_ble_eq_true rfl, Nat.le_of_ble_eq_true rfl⟩) (fun r_3 hr_3 => ?_)
    have hr_3 : r_3 = x_firstKept st a := hr_3
    subst hr_3
    refine lv_istore_n (lv' := [(3, .int (x_firstKept st a)), (2, .int 0), (0, .ref (h 0)), (1, .int a)]) hx hb dX1_known_16 rfl hl (by decide) rfl (fun ls hl => ?_)
    refine lp_cut (σ := Int32 × Int32) (nL := 4) (lv := fun x => [(0, .ref (h 0)), (1, .int a), (2, .int x.1), (3, .int x.2)]) (I := fun n x => ∃ K : Nat, x.2 = nI K ∧ K + n = N ∧ x_knL st a n x.2 x.1 = x_knL st a (N - F) (nI F) 0) ?_ (N - F) (0, x_firstKept st a) ⟨F, hF, by omega, by rw [hF]⟩ ls (lv_sub hl [2, 3, 1, 0] rfl)
    intro n x hI ih ls hl
    obtain ⟨b, r⟩ := x
    have hl : lv_has ls 4 [(0, .ref (h 0)), (1, .int a), (2, .int b), (3, .int r)] := hl
    obtain ⟨K, eK, eN, eR⟩ := hI
    have eK : r = nI K := eK
    have eR : x_knL st a n r b = _ := eR
    refine lv_iload_n hx hb dX1_known_17 rfl (lv_at hl 3 rfl) ?_
    refine lv_aload_n hx hb dX1_known_18 rfl (lv_at hl 0 rfl) ?_
    refine va_get (D := (dC, dI)) (ci := 0) (v := .ref (h 12)) (C := RX1) (T := TX1) (N := 23) hx hb hts in_X1 hown hK hP 0 rfl rfl 21 (by decide) (hts _ q43) (fun _ h9 => h9) rfl dX1_known_19 ?_
    refine lv_iload_n hx hb dX1_known_22 rfl (lv_at hl 1 rfl) ?_
    refine va_iald (f := st.2 21) hx hb hK hP 12 0 rfl rfl (in2 ha) dX1_known_23 ?_
    refine lv_icmp_ge (tgt := 55) hx hb dX1_known_24 (by decide) (fun c_4 => ?_) (fun c_4 => ?_)
    · have n0 : n = 0 := by rw [hN, eK] at c_4; have := (nI_leI (by omega) (by omega)).mp c_4; omega
      refine lv_iload_n hx hb dX1_known_55 rfl (lv_at hl 2 rfl) ?_
      exact W.iret (v := b) hx hb hr (fun t ht hW => ⟨_, rfl, (by show b = x_known st a N F; have e0 : n = 0 := n0; subst e0; rw [x_known, if_neg (ar_isA ha)]; exact eR), ht⟩) (fun _ h => absurd h List.not_mem_nil) dX1_known_56
    · obtain ⟨n, rfl⟩ : ∃ n1, n = n1 + 1 := ⟨n - 1, by rw [hN, eK] at c_4; have : ¬ N ≤ K := fun q => c_4 (nI_le q (by omega)); omega⟩
      refine lv_aload_n hx hb dX1_known_27 rfl (lv_at hl 0 rfl) ?_
      refine va_get (D := (dC, dI)) (ci := 0) (v := .ref (h 13)) (C := RX1) (T := TX1) (N := 23) hx hb hts in_X1 hown hK hP 0 rfl rfl 22 (by decide) (hts _ q44) (fun _ h9 => h9) rfl dX1_known_28 ?_
      refine lv_iload_n hx hb dX1_known_31 rfl (lv_at hl 1 rfl) ?_
      refine lv_bipush (v := 8) hx hb dX1_known_32 (by decide) ?_
      refine lv_imul hx hb dX1_known_34 ?_
      refine lv_iload_n hx hb dX1_known_35 rfl (lv_at hl 3 rfl) ?_
      refine lv_bipush (v := 7) hx hb dX1_known_36 (by decide) ?_
      refine lv_iand hx hb dX1_known_38 ?_
      refine lv_iadd hx hb dX1_known_39 ?_
      refine va_iald (f := st.2 22) hx hb hK hP 13 0 rfl rfl (in16 ha _) dX1_known_40 ?_
      refine lv_ldc hx hb hown (hts _ q109) dX1_known_41 ?_
      refine ph_cutL (J := 49) (nL := 4) (rest := []) (fun z => [(0, .ref (h 0)), (1, .int a), (2, .int z), (3, .int r)]) (if ((st.2 22) ((a * 8) + (r &&& 7)).toNatClampNeg) = (-100000) then b else b + 1) (fun z_5 ez_5 ls hl => ?_) (fun hJ_5 => ?_)
      · have hl : lv_has ls 4 [(0, .ref (h 0)), (1, .int a), (2, .int z_5), (3, .int r)] := hl
        refine lv_iinc (v := r + 1) (lv' := [(3, .int (r + 1)), (0, .ref (h 0)), (1, .int a), (2, .int z_5)]) hx hb dX1_known_49 hl (k := 3) rfl rfl (by decide) rfl (fun ls hl => ?_)
        refine lv_goto (tgt := 17) hx hb dX1_known_52 (by decide) ?_
        exact ih n (z_5, r + 1) (Nat.lt_succ_self _) ⟨K + 1, by show r + 1 = nI (K + 1); rw [eK]; exact nI_1 K, by omega, by rw [← eR]; subst ez_5; exact (by rw [x_knL])⟩ ls (lv_sub hl [1, 2, 3, 0] rfl)
      · refine lv_icmp_eq (tgt := 49) hx hb dX1_known_43 (by decide) (fun c_6 => ?_) (fun c_6 => ?_)
        · exact hJ_5 _ (by rw [if_pos c_6]) _ (lv_sub hl [0, 1, 2, 3] rfl)
        · refine lv_iinc (v := b + 1) (lv' := [(2, .int (b + 1)), (0, .ref (h 0)), (1, .int a), (3, .int r)]) hx hb dX1_known_46 hl (k := 2) rfl rfl (by decide) rfl (fun ls hl => ?_)
          exact hJ_5 _ (by rw [if_neg c_6]) _ (lv_sub hl [1, 2, 0, 3] rfl)
  · refine lv_iconst (v := 0) hx hb dX1_known_7 (by decide) ?_
    exact W.iret (v := 0) hx hb hr (fun t ht hW => ⟨_, rfl, (by show 0 = x_known st a N F; (rw [x_known, if_pos c_2]); try rfl), ht⟩) (fun _ h => absurd h List.not_mem_nil) dX1_known_8
end
section
set_option maxHeartbeats 4000000 in
set_option maxRecDepth 100000 in
theorem mX1_closeRow (l : Launch) (dC : Nat → ClassId) (dI : Nat → Nat → Nat) (h : Nat → Nat) (cI cB : ClassId) (st : SS) (a : Int32) (ha : arO a) (sz : Nat) : Met l yX1_closeRow (ws_ yX1_closeRow cX1_closeRow 2 (none)) ({ frames := 2, cells := 0, slots := 0, locals := 43 }) (va_Pc [.ref (h 0), .int a] (qM (dC, dI) (xw h cI cB st) [(cI, .int), (cB, .byte)] sz)) (va_Qv (fun u : SS => u = x_closeRow st a) (qB (dC, dI) (xw h cI cB) [(cI, .int), (cB, .byte)] (va_A (xw h cI cB st) sz)) (va_A (xw h cI cB st) sz)) 0 0 (va_A (xw h cI cB st) sz) := by
  refine Met.ofW (cc := cX1_closeRow) (maxL := 2) (ret := none) (by decide) rfl ?_
  intro p e s m args below meth c s₁ B hml hv
  obtain ⟨rfl, hsz, hP, hK, hD0⟩ := hv
  have hx := B.exec
  have hb := B.bytes
  have hr := B.returns
  have hts := atoms_spec (ws := ws_ yX1_closeRow cX1_closeRow 2 (none)) B.pre
  have hts : ∀ w ∈ lw_all, w.before _ s = true := fun w h => hts w (List.mem_cons_of_mem _ h)
  have hown : s.vm.findClass RX1 = some m.cls := findClass_of_methodNamed B.named
  have hlocks := B.notSynchronized
  subst hsz
  have hD := hD0.self (sz := s.heap.size)
  generalize hAe : va_A (xw h cI cB st) s.heap.size = A at hD ⊢
  have hA : ∀ q : Nat, s.heap.size ≤ q → A q := fun q h => by rw [← hAe]; exact Or.inr h
  have hS : va_S A s.heap s.heap [] := va_S.rf
  have hl := lv_entry ([.ref (h 0), .int a]) (n := 2) (Nat.le_of_ble_eq_true rfl)
  rw [lg_entry_eq]
  generalize (lg_sl ([.ref (h 0), .int a]) ++ List.replicate (2 - (lg_sl ([.ref (h 0), .int a])).length) Slot.unset).toArray = ls at hl ⊢
  have hl : lv_has ls 2 [(0, .ref (h 0)), (1, .int a)] := hl
  refine lv_aload_n hx hb dX1_closeRow_0 rfl (lv_at hl 0 rfl) ?_
  refine va_get (D := (dC, dI)) (ci := 0) (v := .ref (h 13)) (C := RX1) (T := TX1) (N := 23) hx hb hts in_X1 hown hK hP 0 rfl rfl 22 (by decide) (hts _ q44) (fun _ h9 => h9) rfl dX1_closeRow_1 ?_
  refine lv_iload_n hx hb dX1_closeRow_4 rfl (lv_at hl 1 rfl) ?_
  refine lv_bipush (v := 8) hx hb dX1_closeRow_5 (by decide) ?_
  refine lv_imul hx hb dX1_closeRow_7 ?_
  refine lv_aload_n hx hb dX1_closeRow_8 rfl (lv_at hl 0 rfl) ?_
  refine va_get (D := (dC, dI)) (ci := 0) (v := .ref (h 12)) (C := RX1) (T := TX1) (N := 23) hx hb hts in_X1 hown hK hP 0 rfl rfl 21 (by decide) (hts _ q43) (fun _ h9 => h9) rfl dX1_closeRow_9 ?_
  refine lv_iload_n hx hb dX1_closeRow_12 rfl (lv_at hl 1 rfl) ?_
  refine va_iald (f := st.2 21) hx hb hK hP 12 0 rfl rfl (in2 ha) dX1_closeRow_13 ?_
  refine lv_bipush (v := 7) hx hb dX1_closeRow_14 (by decide) ?_
  refine lv_iand hx hb dX1_closeRow_16 ?_
  refine lv_iadd hx hb dX1_closeRow_17 ?_
  refine lv_aload_n hx hb dX1_closeRow_18 rfl (lv_at hl 0 rfl) ?_
  refine lv_iload_n hx hb dX1_closeRow_19 rfl (lv_at hl 1 rfl) ?_
  refine vp_callSi (W.runV (As := [.int a]) (rest := [.int ((a * 8) + (((st.2 21) a.toNatClampNeg) &&& 7)), .ref (h 13)]) ⟨hx, hb, hml, hown, hts⟩ (mX1_rowValue l dC dI h cI cB st a ha) (cwV 1 hts (lw_V q129 q131 qs5 q11 q132) rfl rfl rfl (by decide +kernel) ⟨Nat.le_of_ble_eq_true rfl, Nat.le_of_ble_eq_true rfl⟩) ⟨qb_blind, va_recv hK hP (ci := 0) (q0 := 0) rfl rfl, fun U hU hW => ⟨rfl, by rw [hU]; exact hP, va_K.moved hW.alike hK⟩⟩ rfl rfl hl.1 rfl (lv_room (Nat.le_of_ble_eq_true rfl)) dX1_closeRow_20 ⟨Nat.le_of_ble_eq_true rfl, Nat.le_of_ble_eq_true rfl⟩) (fun r_1 hr_1 => ?_)
  have hr_1 : r_1 = x_rowValue st a := hr_1
  subst hr_1
  refine va_iast (f := st.2 22) hx hb hK hP hD hS 13 0 rfl rfl (in16 ha _) dX1_closeRow_23 (fun H locs hP hD hS => ?_)
  obtain ⟨s_2, es_2⟩ : ∃ z : SS, z = sa st 22 (upd (st.2 22) ((a * 8) + (((st.2 21) a.toNatClampNeg) &&& 7)).toNatClampNeg (x_rowValue st a)) := ⟨_, rfl⟩
  have hP : va_P (dC, dI) clsL (xw h cI cB s_2) H := by rw [es_2, ← xw_a13]; exact hP
  have hD : va_D A (xw h cI cB s_2) := by rw [es_2, ← xw_a13]; exact hD
  refine lv_aload_n hx hb dX1_closeRow_24 rfl (lv_at hl 0 rfl) ?_
  refine va_get (D := (dC, dI)) (ci := 0) (v := .ref (h 12)) (C := RX1) (T := TX1) (N := 23) hx hb hts in_X1 hown hK hP 0 rfl rfl 21 (by decide) (hts _ q43) (fun _ h9 => h9) rfl dX1_closeRow_25 ?_
  refine lv_iload_n hx hb dX1_closeRow_28 rfl (lv_at hl 1 rfl) ?_
  refine lv_dup2_11 hx hb dX1_closeRow_29 rfl rfl ?_
  refine va_iald (f := st.2 21) hx hb hK hP 12 0 (by rw [← show s_2.2 21 = st.2 21 from by rw [es_2, sa_n (by decide)]]; rfl) rfl (in2 ha) dX1_closeRow_30 ?_
  refine lv_iconst (v := 1) hx hb dX1_closeRow_31 (by decide) ?_
  refine lv_iadd hx hb dX1_closeRow_32 ?_
  refine va_iast (f := st.2 21) hx hb hK hP hD hS 12 0 (by rw [← show s_2.2 21 = st.2 21 from by rw [es_2, sa_n (by decide)]]; rfl) rfl (in2 ha) dX1_closeRow_33 (fun H locs hP hD hS => ?_)
  obtain ⟨s_3, es_3⟩ : ∃ z : SS, z = sa s_2 21 (upd (st.2 21) a.toNatClampNeg (((st.2 21) a.toNatClampNeg) + 1)) := ⟨_, rfl⟩
  have hP : va_P (dC, dI) clsL (xw h cI cB s_3) H := by rw [es_3, ← xw_a12]; exact hP
  have hD : va_D A (xw h cI cB s_3) := by rw [es_3, ← xw_a12]; exact hD
  refine lv_aload_n hx hb dX1_closeRow_34 rfl (lv_at hl 0 rfl) ?_
  refine va_get (D := (dC, dI)) (ci := 0) (v := .ref (h 6)) (C := RX1) (T := TX1) (N := 23) hx hb hts in_X1 hown hK hP 0 rfl rfl 15 (by decide) (hts _ q37) (fun _ h9 => h9) rfl dX1_closeRow_35 ?_
  refine lv_iload_n hx hb dX1_closeRow_38 rfl (lv_at hl 1 rfl) ?_
  refine lv_iconst (v := 0) hx hb dX1_closeRow_39 (by decide) ?_
  refine va_bast (f := st.2 15) hx hb hK hP hD hS 6 1 (by rw [← show s_3.2 15 = st.2 15 from by rw [es_3, sa_n (by decide), es_2, sa_n (by decide)]]; rfl) rfl (in2 ha) dX1_closeRow_40 (fun H locs hP hD hS => ?_)
  obtain ⟨s_4, es_4⟩ : ∃ z : SS, z = sa s_3 15 (upd (st.2 15) a.toNatClampNeg (vp_nar .byte 0)) := ⟨_, rfl⟩
  have hP : va_P (dC, dI) clsL (xw h cI cB s_4) H := by rw [es_4, ← xw_a6]; exact hP
  have hD : va_D A (xw h cI cB s_4) := by rw [es_4, ← xw_a6]; exact hD
  refine lv_aload_n hx hb dX1_closeRow_41 rfl (lv_at hl 0 rfl) ?_
  refine va_get (D := (dC, dI)) (ci := 0) (v := .ref (h 7)) (C := RX1) (T := TX1) (N := 23) hx hb hts in_X1 hown hK hP 0 rfl rfl 16 (by decide) (hts _ q38) (fun _ h9 => h9) rfl dX1_closeRow_42 ?_
  refine lv_iload_n hx hb dX1_closeRow_45 rfl (lv_at hl 1 rfl) ?_
  refine lv_iconst (v := 0) hx hb dX1_closeRow_46 (by decide) ?_
  refine va_bast (f := st.2 16) hx hb hK hP hD hS 7 1 (by rw [← show s_4.2 16 = st.2 16 from by rw [es_4, sa_n (by decide), es_3, sa_n (by decide), es_2, sa_n (by decide)]]; rfl) rfl (in2 ha) dX1_closeRow_47 (fun H locs hP hD hS => ?_)
  obtain ⟨s_5, es_5⟩ : ∃ z : SS, z = sa s_4 16 (upd (st.2 16) a.toNatClampNeg (vp_nar .byte 0)) := ⟨_, rfl⟩
  have hP : va_P (dC, dI) clsL (xw h cI cB s_5) H := by rw [es_5, ← xw_a7]; exact hP
  have hD : va_D A (xw h cI cB s_5) := by rw [es_5, ← xw_a7]; exact hD
  exact W.vret hx hb hr (fun t ht hW => ⟨⟨s_5, rfl, (by show s_5 = x_closeRow st a; rw [es_5, es_4, es_3, es_2]; (rw [x_closeRow]); try rfl), by rw [ht]; exact hP, va_K.moved hW.alike hK, hD⟩, hS.F ht⟩) hS.2.2 dX1_closeRow_48

set_option maxHeartbeats 4000000 in
set_option maxRecDepth 100000 in
theorem mX1_addStep (l : Launch) (dC : Nat → ClassId) (dI : Nat → Nat → Nat) (h : Nat → Nat) (cI cB : ClassId) (st : SS) (a v : Int32) (ha : arO a) (sz : Nat) : Met l yX1_addStep (ws_ yX1_addStep cX1_addStep 4 (none)) ({ frames := 3, cells := 0, slots := 0, locals := 64 }) (va_Pc [.ref (h 0), .int a, .int v] (qM (dC, dI) (xw h cI cB st) [(cI, .int), (cB, .byte)] sz)) (va_Qv (fun u : SS => u = x_addStep st a v) (qB (dC, dI) (xw h cI cB) [(cI, .int), (cB, .byte)] (va_A (xw h cI cB st) sz)) (va_A (xw h cI cB st) sz)) 0 0 (va_A (xw h cI cB st) sz) := by
  refine Met.ofW (cc := cX1_addStep) (maxL := 4) (ret := none) (by decide) rfl ?_
  intro p e s m args below meth c s₁ B hml hv
  obtain ⟨rfl, hsz, hP, hK, hD0⟩ := hv
  have hx := B.exec
  have hb := B.bytes
  have hr := B.returns
  have hts := atoms_spec (ws := ws_ yX1_addStep cX1_addStep 4 (none)) B.pre
  have hts : ∀ w ∈ lw_all, w.before _ s = true := fun w h => hts w (List.mem_cons_of_mem _ h)
  have hown : s.vm.findClass RX1 = some m.cls := findClass_of_methodNamed B.named
  have hlocks := B.notSynchronized
  subst hsz
  have hD := hD0.self (sz := s.heap.size)
  generalize hAe : va_A (xw h cI cB st) s.heap.size = A at hD ⊢
  have hA : ∀ q : Nat, s.heap.size ≤ q → A q := fun q h => by rw [← hAe]; exact Or.inr h
  have hS : va_S A s.heap s.heap [] := va_S.rf
  have hl := lv_entry ([.ref (h 0), .int a, .int v]) (n := 4) (Nat.le_of_ble_eq_true rfl)
  rw [lg_entry_eq]
  generalize (lg_sl ([.ref (h 0), .int a, .int v]) ++ List.replicate (4 - (lg_sl ([.ref (h 0), .int a, .int v])).length) Slot.unset).toArray = ls at hl ⊢
  have hl : lv_has ls 4 [(0, .ref (h 0)), (1, .int a), (2, .int v)] := hl
  refine lv_iload_n hx hb dX1_addStep_0 rfl (lv_at hl 2 rfl) ?_
  refine lv_ldc hx hb hown (hts _ q109) dX1_addStep_1 ?_
  refine lv_icmp_eq (tgt := 121) hx hb dX1_addStep_3 (by decide) (fun c_1 => ?_) (fun c_1 => ?_)
  · refine lv_aload_n hx hb dX1_addStep_121 rfl (lv_at hl 0 rfl) ?_
    refine va_get (D := (dC, dI)) (ci := 0) (v := .ref (h 6)) (C := RX1) (T := TX1) (N := 23) hx hb hts in_X1 hown hK hP 0 rfl rfl 15 (by decide) (hts _ q37) (fun _ h9 => h9) rfl dX1_addStep_122 ?_
    refine lv_iload_n hx hb dX1_addStep_125 rfl (lv_at hl 1 rfl) ?_
    refine lv_dup2_11 hx hb dX1_addStep_126 rfl rfl ?_
    refine va_bald (f := st.2 15) hx hb hK hP 6 1 rfl rfl (in2 ha) dX1_addStep_127 ?_
    refine lv_iconst (v := 1) hx hb dX1_addStep_128 (by decide) ?_
    refine lv_iadd hx hb dX1_addStep_129 ?_
    refine lv_i2b (v := (((st.2 15) a.toNatClampNeg) + 1).toInt8.toInt32) hx hb dX1_addStep_130 rfl ?_
    refine va_bast (f := st.2 15) hx hb hK hP hD hS 6 1 rfl rfl (in2 ha) dX1_addStep_131 (fun H locs hP hD hS => ?_)
    obtain ⟨s_2, es_2⟩ : ∃ z : SS, z = sa st 15 (upd (st.2 15) a.toNatClampNeg (vp_nar .byte ((((st.2 15) a.toNatClampNeg) + 1).toInt8.toInt32))) := ⟨_, rfl⟩
    have hP : va_P (dC, dI) clsL (xw h cI cB s_2) H := by rw [es_2, ← xw_a6]; exact hP
    have hD : va_D A (xw h cI cB s_2) := by rw [es_2, ← xw_a6]; exact hD
    refine lv_aload_n hx hb dX1_addStep_132 rfl (lv_at hl 0 rfl) ?_
    refine va_get (D := (dC, dI)) (ci := 0) (v := .ref (h 6)) (C := RX1) (T := TX1) (N := 23) hx hb hts in_X1 hown hK hP 0 rfl rfl 15 (by decide) (hts _ q37) (fun _ h9 => h9) rfl dX1_addStep_133 ?_
    refine lv_iload_n hx hb dX1_addStep_136 rfl (lv_at hl 1 rfl) ?_
    refine va_bald (f := upd (st.2 15) a.toNatClampNeg (vp_nar .byte ((((st.2 15) a.toNatClampNeg) + 1).toInt8.toInt32))) hx hb hK hP 6 1 (by rw [← show s_2.2 15 = upd (st.2 15) a.toNatClampNeg (vp_nar .byte ((((st.2 15) a.toNatClampNeg) + 1).toInt8.toInt32)) from by rw [es_2, sa_s]]; rfl) rfl (in2 ha) dX1_addStep_137 ?_
    refine lv_aload_n hx hb dX1_addStep_138 rfl (lv_at hl 0 rfl) ?_
    refine va_get (D := (dC, dI)) (ci := 0) (v := .ref (h 2)) (C := RX1) (T := TX1) (N := 23) hx hb hts in_X1 hown hK hP 0 rfl rfl 11 (by decide) (hts _ q33) (fun _ h9 => h9) rfl dX1_addStep_139 ?_
    refine lv_iload_n hx hb dX1_addStep_142 rfl (lv_at hl 1 rfl) ?_
    refine va_bald (f := st.2 11) hx hb hK hP 2 1 (by rw [← show s_2.2 11 = st.2 11 from by rw [es_2, sa_n (by decide)]]; rfl) rfl (in2 ha) dX1_addStep_143 ?_
    refine lv_icmp_ne (tgt := 152) hx hb dX1_addStep_144 (by decide) (fun c_3 => ?_) (fun c_3 => ?_)
    · exact W.vret hx hb hr (fun t ht hW => ⟨⟨s_2, rfl, (by show s_2 = x_addStep st a v; rw [es_2]; rw [x_addStep, if_pos c_1, x_tail, if_neg c_3]), by rw [ht]; exact hP, va_K.moved hW.alike hK, hD⟩, hS.F ht⟩) hS.2.2 dX1_addStep_152
    · refine lv_aload_n hx hb dX1_addStep_147 rfl (lv_at hl 0 rfl) ?_
      refine lv_iload_n hx hb dX1_addStep_148 rfl (lv_at hl 1 rfl) ?_
      have hFc := va_free (wc := xw h cI cB s_2) hD hS hA [0, 1, 2, 3, 4, 5, 6, 7, 8, 9, 10, 11, 12, 13] rfl
      refine va_callv (va_runV (As := [.int a]) (rest := []) ⟨hx, hb, hml, hown, hts⟩ (mX1_closeRow l dC dI h cI cB s_2 a ha _) (cwV 1 hts (lw_V q125 q127 qs4 q11 q128) rfl rfl rfl (by decide +kernel) ⟨Nat.le_of_ble_eq_true rfl, Nat.le_of_ble_eq_true rfl⟩) ⟨mb_blind, va_recv hK hP (ci := 0) (q0 := 0) rfl rfl, fun U hU hW => ⟨rfl, by rw [hU], by rw [hU]; exact hP, va_K.moved hW.alike hK, hD.weaken (fun _ _ _ _ => trivial)⟩⟩ rfl rfl hl.1 rfl (lv_room (Nat.le_of_ble_eq_true rfl)) dX1_addStep_149 ⟨Nat.le_of_ble_eq_true rfl, Nat.le_of_ble_eq_true rfl⟩) hS (fun q _ h => hFc q h) hFc (fun u_4 t H locs ht hvm hw_4 hB hz1 hk1 hS => ?_)
      obtain ⟨hP, hK1, hD1⟩ := hB
      rw [ht] at hP
      have hD := hD1.weaken (B := A) (fun k q _ h => hFc q.1 h)
      have hw_4 : u_4 = x_closeRow s_2 a := hw_4
      exact W.vret hx hb hr (fun t ht hW => ⟨⟨u_4, rfl, (by show u_4 = x_addStep st a v; rw [hw_4, es_2]; rw [x_addStep, if_pos c_1, x_tail, if_pos c_3]), by rw [ht]; exact hP, va_K.moved hW.alike hK, hD⟩, hS.F ht⟩) hS.2.2 dX1_addStep_152
  · refine lv_aload_n hx hb dX1_addStep_6 rfl (lv_at hl 0 rfl) ?_
    refine va_get (D := (dC, dI)) (ci := 0) (v := .ref (h 7)) (C := RX1) (T := TX1) (N := 23) hx hb hts in_X1 hown hK hP 0 rfl rfl 16 (by decide) (hts _ q38) (fun _ h9 => h9) rfl dX1_addStep_7 ?_
    refine lv_iload_n hx hb dX1_addStep_10 rfl (lv_at hl 1 rfl) ?_
    refine va_bald (f := st.2 16) hx hb hK hP 7 1 rfl rfl (in2 ha) dX1_addStep_11 ?_
    refine ph_cut (J := 20) (rest := []) (if ((st.2 16) a.toNatClampNeg) = 0 then 1 else 0) (fun z_5 ez_5 => ?_) (fun hJ_5 => ?_)
    · refine lv_istore_n (lv' := [(3, .int z_5), (0, .ref (h 0)), (1, .int a), (2, .int v)]) hx hb dX1_addStep_20 rfl hl (by decide) rfl (fun ls hl => ?_)
      refine lv_aload_n hx hb dX1_addStep_21 rfl (lv_at hl 1 rfl) ?_
      refine va_get (D := (dC, dI)) (ci := 0) (v := .ref (h 8)) (C := RX1) (T := TX1) (N := 23) hx hb hts in_X1 hown hK hP 0 rfl rfl 17 (by decide) (hts _ q39) (fun _ h9 => h9) rfl dX1_addStep_22 ?_
      refine lv_iload_n hx hb dX1_addStep_25 rfl (lv_at hl 2 rfl) ?_
      refine lv_iload_n hx hb dX1_addStep_26 rfl (lv_at hl 0 rfl) ?_
      refine ph_cut (J := 42) (rest := [.int a, .ref (h 8)]) (if z_5 = 0 then ((st.2 17) a.toNatClampNeg) + v else v) (fun z_6 ez_6 => ?_) (fun hJ_6 => ?_)
      · refine va_iast (f := st.2 17) hx hb hK hP hD hS 8 0 rfl rfl (in2 ha) dX1_addStep_42 (fun H locs hP hD hS => ?_)
        obtain ⟨s_7, es_7⟩ : ∃ z : SS, z = sa st 17 (upd (st.2 17) a.toNatClampNeg z_6) := ⟨_, rfl⟩
        have hP : va_P (dC, dI) clsL (xw h cI cB s_7) H := by rw [es_7, ← xw_a8]; exact hP
        have hD : va_D A (xw h cI cB s_7) := by rw [es_7, ← xw_a8]; exact hD
        refine lv_aload_n hx hb dX1_addStep_43 rfl (lv_at hl 1 rfl) ?_
        refine va_get (D := (dC, dI)) (ci := 0) (v := .ref (h 9)) (C := RX1) (T := TX1) (N := 23) hx hb hts in_X1 hown hK hP 0 rfl rfl 18 (by decide) (hts _ q40) (fun _ h9 => h9) rfl dX1_addStep_44 ?_
        refine lv_iload_n hx hb dX1_addStep_47 rfl (lv_at hl 2 rfl) ?_
        refine lv_iload_n hx hb dX1_addStep_48 rfl (lv_at hl 0 rfl) ?_
        refine ph_cut (J := 72) (rest := [.int a, .ref (h 9)]) (if z_5 = 0 then (if ((st.2 18) a.toNatClampNeg) ≤ v then (st.2 18) a.toNatClampNeg else v) else v) (fun z_8 ez_8 => ?_) (fun hJ_8 => ?_)
        · refine va_iast (f := st.2 18) hx hb hK hP hD hS 9 0 (by rw [← show s_7.2 18 = st.2 18 from by rw [es_7, sa_n (by decide)]]; rfl) rfl (in2 ha) dX1_addStep_72 (fun H locs hP hD hS => ?_)
          obtain ⟨s_9, es_9⟩ : ∃ z : SS, z = sa s_7 18 (upd (st.2 18) a.toNatClampNeg z_8) := ⟨_, rfl⟩
          have hP : va_P (dC, dI) clsL (xw h cI cB s_9) H := by rw [es_9, ← xw_a9]; exact hP
          have hD : va_D A (xw h cI cB s_9) := by rw [es_9, ← xw_a9]; exact hD
          refine lv_aload_n hx hb dX1_addStep_73 rfl (lv_at hl 1 rfl) ?_
          refine va_get (D := (dC, dI)) (ci := 0) (v := .ref (h 10)) (C := RX1) (T := TX1) (N := 23) hx hb hts in_X1 hown hK hP 0 rfl rfl 19 (by decide) (hts _ q41) (fun _ h9 => h9) rfl dX1_addStep_74 ?_
          refine lv_iload_n hx hb dX1_addStep_77 rfl (lv_at hl 2 rfl) ?_
          refine lv_iload_n hx hb dX1_addStep_78 rfl (lv_at hl 0 rfl) ?_
          refine ph_cut (J := 102) (rest := [.int a, .ref (h 10)]) (if z_5 = 0 then (if v ≤ ((st.2 19) a.toNatClampNeg) then (st.2 19) a.toNatClampNeg else v) else v) (fun z_10 ez_10 => ?_) (fun hJ_10 => ?_)
          · refine va_iast (f := st.2 19) hx hb hK hP hD hS 10 0 (by rw [← show s_9.2 19 = st.2 19 from by rw [es_9, sa_n (by decide), es_7, sa_n (by decide)]]; rfl) rfl (in2 ha) dX1_addStep_102 (fun H locs hP hD hS => ?_)
            obtain ⟨s_11, es_11⟩ : ∃ z : SS, z = sa s_9 19 (upd (st.2 19) a.toNatClampNeg z_10) := ⟨_, rfl⟩
            have hP : va_P (dC, dI) clsL (xw h cI cB s_11) H := by rw [es_11, ← xw_a10]; exact hP
            have hD : va_D A (xw h cI cB s_11) := by rw [es_11, ← xw_a10]; exact hD
            refine lv_aload_n hx hb dX1_addStep_103 rfl (lv_at hl 1 rfl) ?_
            refine va_get (D := (dC, dI)) (ci := 0) (v := .ref (h 11)) (C := RX1) (T := TX1) (N := 23) hx hb hts in_X1 hown hK hP 0 rfl rfl 20 (by decide) (hts _ q42) (fun _ h9 => h9) rfl dX1_addStep_104 ?_
            refine lv_iload_n hx hb dX1_addStep_107 rfl (lv_at hl 2 rfl) ?_
            refine lv_iload_n hx hb dX1_addStep_108 rfl (lv_at hl 3 rfl) ?_
            refine va_iast (f := st.2 20) hx hb hK hP hD hS 11 0 (by rw [← show s_11.2 20 = st.2 20 from by rw [es_11, sa_n (by decide), es_9, sa_n (by decide), es_7, sa_n (by decide)]]; rfl) rfl (in2 ha) dX1_addStep_109 (fun H locs hP hD hS => ?_)
            obtain ⟨s_12, es_12⟩ : ∃ z : SS, z = sa s_11 20 (upd (st.2 20) a.toNatClampNeg v) := ⟨_, rfl⟩
            have hP : va_P (dC, dI) clsL (xw h cI cB s_12) H := by rw [es_12, ← xw_a11]; exact hP
            have hD : va_D A (xw h cI cB s_12) := by rw [es_12, ← xw_a11]; exact hD
            refine lv_aload_n hx hb dX1_addStep_110 rfl (lv_at hl 1 rfl) ?_
            refine va_get (D := (dC, dI)) (ci := 0) (v := .ref (h 7)) (C := RX1) (T := TX1) (N := 23) hx hb hts in_X1 hown hK hP 0 rfl rfl 16 (by decide) (hts _ q38) (fun _ h9 => h9) rfl dX1_addStep_111 ?_
            refine lv_iload_n hx hb dX1_addStep_114 rfl (lv_at hl 2 rfl) ?_
            refine lv_dup2_11 hx hb dX1_addStep_115 rfl rfl ?_
            refine va_bald (f := st.2 16) hx hb hK hP 7 1 (by rw [← show s_12.2 16 = st.2 16 from by rw [es_12, sa_n (by decide), es_11, sa_n (by decide), es_9, sa_n (by decide), es_7, sa_n (by decide)]]; rfl) rfl (in2 ha) dX1_addStep_116 ?_
            refine lv_iconst (v := 1) hx hb dX1_addStep_117 (by decide) ?_
            refine lv_iadd hx hb dX1_addStep_118 ?_
            refine lv_i2b (v := (((st.2 16) a.toNatClampNeg) + 1).toInt8.toInt32) hx hb dX1_addStep_119 rfl ?_
            refine va_bast (f := st.2 16) hx hb hK hP hD hS 7 1 (by rw [← show s_12.2 16 = st.2 16 from by rw [es_12, sa_n (by decide), es_11, sa_n (by decide), es_9, sa_n (by decide), es_7, sa_n (by decide)]]; rfl) rfl (in2 ha) dX1_addStep_120 (fun H locs hP hD hS => ?_)
            obtain ⟨s_13, es_13⟩ : ∃ z : SS, z = sa s_12 16 (upd (st.2 16) a.toNatClampNeg (vp_nar .byte ((((st.2 16) a.toNatClampNeg) + 1).toInt8.toInt32))) := ⟨_, rfl⟩
            have hP : va_P (dC, dI) clsL (xw h cI cB s_13) H := by rw [es_13, ← xw_a7]; exact hP
            have hD : va_D A (xw h cI cB s_13) := by rw [es_13, ← xw_a7]; exact hD
            refine lv_aload_n hx hb dX1_addStep_121 rfl (lv_at hl 1 rfl) ?_
            refine va_get (D := (dC, dI)) (ci := 0) (v := .ref (h 6)) (C := RX1) (T := TX1) (N := 23) hx hb hts in_X1 hown hK hP 0 rfl rfl 15 (by decide) (hts _ q37) (fun _ h9 => h9) rfl dX1_addStep_122 ?_
            refine lv_iload_n hx hb dX1_addStep_125 rfl (lv_at hl 2 rfl) ?_
            refine lv_dup2_11 hx hb dX1_addStep_126 rfl rfl ?_
            refine va_bald (f := st.2 15) hx hb hK hP 6 1 (by rw [← show s_13.2 15 = st.2 15 from by rw [es_13, sa_n (by decide), es_12, sa_n (by decide), es_11, sa_n (by decide), es_9, sa_n (by decide), es_7, sa_n (by decide)]]; rfl) rfl (in2 ha) dX1_addStep_127 ?_
            refine lv_iconst (v := 1) hx hb dX1_addStep_128 (by decide) ?_
            refine lv_iadd hx hb dX1_addStep_129 ?_
            refine lv_i2b (v := (((st.2 15) a.toNatClampNeg) + 1).toInt8.toInt32) hx hb dX1_addStep_130 rfl ?_
            refine va_bast (f := st.2 15) hx hb hK hP hD hS 6 1 (by rw [← show s_13.2 15 = st.2 15 from by rw [es_13, sa_n (by decide), es_12, sa_n (by decide), es_11, sa_n (by decide), es_9, sa_n (by decide), es_7, sa_n (by decide)]]; rfl) rfl (in2 ha) dX1_addStep_131 (fun H locs hP hD hS => ?_)
            obtain ⟨s_14, es_14⟩ : ∃ z : SS, z = sa s_13 15 (upd (st.2 15) a.toNatClampNeg (vp_nar .byte ((((st.2 15) a.toNatClampNeg) + 1).toInt8.toInt32))) := ⟨_, rfl⟩
            have hP : va_P (dC, dI) clsL (xw h cI cB s_14) H := by rw [es_14, ← xw_a6]; exact hP
            have hD : va_D A (xw h cI cB s_14) := by rw [es_14, ← xw_a6]; exact hD
            refine lv_aload_n hx hb dX1_addStep_132 rfl (lv_at hl 1 rfl) ?_
            refine va_get (D := (dC, dI)) (ci := 0) (v := .ref (h 6)) (C := RX1) (T := TX1) (N := 23) hx hb hts in_X1 hown hK hP 0 rfl rfl 15 (by decide) (hts _ q37) (fun _ h9 => h9) rfl dX1_addStep_133 ?_
            refine lv_iload_n hx hb dX1_addStep_136 rfl (lv_at hl 2 rfl) ?_
            refine va_bald (f := upd (st.2 15) a.toNatClampNeg (vp_nar .byte ((((st.2 15) a.toNatClampNeg) + 1).toInt8.toInt32))) hx hb hK hP 6 1 (by rw [← show s_14.2 15 = upd (st.2 15) a.toNatClampNeg (vp_nar .byte ((((st.2 15) a.toNatClampNeg) + 1).toInt8.toInt32)) from by rw [es_14, sa_s]]; rfl) rfl (in2 ha) dX1_addStep_137 ?_
            refine lv_aload_n hx hb dX1_addStep_138 rfl (lv_at hl 1 rfl) ?_
            refine va_get (D := (dC, dI)) (ci := 0) (v := .ref (h 2)) (C := RX1) (T := TX1) (N := 23) hx hb hts in_X1 hown hK hP 0 rfl rfl 11 (by decide) (hts _ q33) (fun _ h9 => h9) rfl dX1_addStep_139 ?_
            refine lv_iload_n hx hb dX1_addStep_142 rfl (lv_at hl 2 rfl) ?_
            refine va_bald (f := st.2 11) hx hb hK hP 2 1 (by rw [← show s_14.2 11 = st.2 11 from by rw [es_14, sa_n (by decide), es_13, sa_n (by decide), es_12, sa_n (by decide), es_11, sa_n (by decide), es_9, sa_n (by decide), es_7, sa_n (by decide)]]; rfl) rfl (in2 ha) dX1_addStep_143 ?_
            refine lv_icmp_ne (tgt := 152) hx hb dX1_addStep_144 (by decide) (fun c_15 => ?_) (fun c_15 => ?_)
            · exact W.vret hx hb hr (fun t ht hW => ⟨⟨s_14, rfl, (by show s_14 = x_addStep st a v; rw [es_14, es_13, es_12, es_11, es_9, es_7]; subst ez_10; subst ez_8; subst ez_6; subst ez_5; rw [x_addStep, if_neg c_1, x_tail, if_neg c_15, x_known1, x_first]), by rw [ht]; exact hP, va_K.moved hW.alike hK, hD⟩, hS.F ht⟩) hS.2.2 dX1_addStep_152
            · refine lv_aload_n hx hb dX1_addStep_147 rfl (lv_at hl 1 rfl) ?_
              refine lv_iload_n hx hb dX1_addStep_148 rfl (lv_at hl 2 rfl) ?_
              have hFc := va_free (wc := xw h cI cB s_14) hD hS hA [0, 1, 2, 3, 4, 5, 6, 7, 8, 9, 10, 11, 12, 13] rfl
              refine va_callv (va_runV (As := [.int a]) (rest := []) ⟨hx, hb, hml, hown, hts⟩ (mX1_closeRow l dC dI h cI cB s_14 a ha _) (cwV 1 hts (lw_V q125 q127 qs4 q11 q128) rfl rfl rfl (by decide +kernel) ⟨Nat.le_of_ble_eq_true rfl, Nat.le_of_ble_eq_true rfl⟩) ⟨mb_blind, va_recv hK hP (ci := 0) (q0 := 0) rfl rfl, fun U hU hW => ⟨rfl, by rw [hU], by rw [hU]; exact hP, va_K.moved hW.alike hK, hD.weaken (fun _ _ _ _ => trivial)⟩⟩ rfl rfl hl.1 rfl (lv_room (Nat.le_of_ble_eq_true rfl)) dX1_addStep_149 ⟨Nat.le_of_ble_eq_true rfl, Nat.le_of_ble_eq_true rfl⟩) hS (fun q _ h => hFc q h) hFc (fun u_16 t H locs ht hvm hw_16 hB hz1 hk1 hS => ?_)
              obtain ⟨hP, hK1, hD1⟩ := hB
              rw [ht] at hP
              have hD := hD1.weaken (B := A) (fun k q _ h => hFc q.1 h)
              have hw_16 : u_16 = x_closeRow s_14 a := hw_16
              exact W.vret hx hb hr (fun t ht hW => ⟨⟨u_16, rfl, (by show u_16 = x_addStep st a v; rw [hw_16, es_14, es_13, es_12, es_11, es_9, es_7]; subst ez_10; subst ez_8; subst ez_6; subst ez_5; rw [x_addStep, if_neg c_1, x_tail, if_pos c_15, x_known1, x_first]), by rw [ht]; exact hP, va_K.moved hW.alike hK, hD⟩, hS.F ht⟩) hS.2.2 dX1_addStep_152
          · refine lv_if_ne (tgt := 92) hx hb dX1_addStep_79 (by decide) (fun c_17 => ?_) (fun c_17 => ?_)
            · refine lv_iload_n hx hb dX1_addStep_92 rfl (lv_at hl 3 rfl) ?_
              refine lv_goto (tgt := 102) hx hb dX1_addStep_93 (by decide) ?_
              exact hJ_10 _ (by rw [if_neg c_17])
            · refine lv_iload_n hx hb dX1_addStep_82 rfl (lv_at hl 3 rfl) ?_
              refine lv_aload_n hx hb dX1_addStep_83 rfl (lv_at hl 1 rfl) ?_
              refine va_get (D := (dC, dI)) (ci := 0) (v := .ref (h 10)) (C := RX1) (T := TX1) (N := 23) hx hb hts in_X1 hown hK hP 0 rfl rfl 19 (by decide) (hts _ q41) (fun _ h9 => h9) rfl dX1_addStep_84 ?_
              refine lv_iload_n hx hb dX1_addStep_87 rfl (lv_at hl 2 rfl) ?_
              refine va_iald (f := st.2 19) hx hb hK hP 10 0 (by rw [← show s_9.2 19 = st.2 19 from by rw [es_9, sa_n (by decide), es_7, sa_n (by decide)]]; rfl) rfl (in2 ha) dX1_addStep_88 ?_
              refine lv_icmp_le (tgt := 96) hx hb dX1_addStep_89 (by decide) (fun c_18 => ?_) (fun c_18 => ?_)
              · refine lv_aload_n hx hb dX1_addStep_96 rfl (lv_at hl 1 rfl) ?_
                refine va_get (D := (dC, dI)) (ci := 0) (v := .ref (h 10)) (C := RX1) (T := TX1) (N := 23) hx hb hts in_X1 hown hK hP 0 rfl rfl 19 (by decide) (hts _ q41) (fun _ h9 => h9) rfl dX1_addStep_97 ?_
                refine lv_iload_n hx hb dX1_addStep_100 rfl (lv_at hl 2 rfl) ?_
                refine va_iald (f := st.2 19) hx hb hK hP 10 0 (by rw [← show s_9.2 19 = st.2 19 from by rw [es_9, sa_n (by decide), es_7, sa_n (by decide)]]; rfl) rfl (in2 ha) dX1_addStep_101 ?_
                exact hJ_10 _ (by rw [if_pos c_17, if_pos c_18])
              · refine lv_iload_n hx hb dX1_addStep_92 rfl (lv_at hl 3 rfl) ?_
                refine lv_goto (tgt := 102) hx hb dX1_addStep_93 (by decide) ?_
                exact hJ_10 _ (by rw [if_pos c_17, if_neg c_18])
        · refine lv_if_ne (tgt := 62) hx hb dX1_addStep_49 (by decide) (fun c_19 => ?_) (fun c_19 => ?_)
          · refine lv_iload_n hx hb dX1_addStep_62 rfl (lv_at hl 3 rfl) ?_
            refine lv_goto (tgt := 72) hx hb dX1_addStep_63 (by decide) ?_
            exact hJ_8 _ (by rw [if_neg c_19])
          · refine lv_iload_n hx hb dX1_addStep_52 rfl (lv_at hl 3 rfl) ?_
            refine lv_aload_n hx hb dX1_addStep_53 rfl (lv_at hl 1 rfl) ?_
            refine va_get (D := (dC, dI)) (ci := 0) (v := .ref (h 9)) (C := RX1) (T := TX1) (N := 23) hx hb hts in_X1 hown hK hP 0 rfl rfl 18 (by decide) (hts _ q40) (fun _ h9 => h9) rfl dX1_addStep_54 ?_
            refine lv_iload_n hx hb dX1_addStep_57 rfl (lv_at hl 2 rfl) ?_
            refine va_iald (f := st.2 18) hx hb hK hP 9 0 (by rw [← show s_7.2 18 = st.2 18 from by rw [es_7, sa_n (by decide)]]; rfl) rfl (in2 ha) dX1_addStep_58 ?_
            refine lv_icmp_ge (tgt := 66) hx hb dX1_addStep_59 (by decide) (fun c_20 => ?_) (fun c_20 => ?_)
            · refine lv_aload_n hx hb dX1_addStep_66 rfl (lv_at hl 1 rfl) ?_
              refine va_get (D := (dC, dI)) (ci := 0) (v := .ref (h 9)) (C := RX1) (T := TX1) (N := 23) hx hb hts in_X1 hown hK hP 0 rfl rfl 18 (by decide) (hts _ q40) (fun _ h9 => h9) rfl dX1_addStep_67 ?_
              refine lv_iload_n hx hb dX1_addStep_70 rfl (lv_at hl 2 rfl) ?_
              refine va_iald (f := st.2 18) hx hb hK hP 9 0 (by rw [← show s_7.2 18 = st.2 18 from by rw [es_7, sa_n (by decide)]]; rfl) rfl (in2 ha) dX1_addStep_71 ?_
              exact hJ_8 _ (by rw [if_pos c_19, if_pos c_20])
            · refine lv_iload_n hx hb dX1_addStep_62 rfl (lv_at hl 3 rfl) ?_
              refine lv_goto (tgt := 72) hx hb dX1_addStep_63 (by decide) ?_
              exact hJ_8 _ (by rw [if_pos c_19, if_neg c_20])
      · refine lv_if_eq (tgt := 34) hx hb dX1_addStep_27 (by decide) (fun c_21 => ?_) (fun c_21 => ?_)
        · refine lv_aload_n hx hb dX1_addStep_34 rfl (lv_at hl 1 rfl) ?_
          refine va_get (D := (dC, dI)) (ci := 0) (v := .ref (h 8)) (C := RX1) (T := TX1) (N := 23) hx hb hts in_X1 hown hK hP 0 rfl rfl 17 (by decide) (hts _ q39) (fun _ h9 => h9) rfl dX1_addStep_35 ?_
          refine lv_iload_n hx hb dX1_addStep_38 rfl (lv_at hl 2 rfl) ?_
          refine va_iald (f := st.2 17) hx hb hK hP 8 0 rfl rfl (in2 ha) dX1_addStep_39 ?_
          refine lv_iload_n hx hb dX1_addStep_40 rfl (lv_at hl 3 rfl) ?_
          refine lv_iadd hx hb dX1_addStep_41 ?_
          exact hJ_6 _ (by rw [if_pos c_21])
        · refine lv_iload_n hx hb dX1_addStep_30 rfl (lv_at hl 3 rfl) ?_
          refine lv_goto (tgt := 42) hx hb dX1_addStep_31 (by decide) ?_
          exact hJ_6 _ (by rw [if_neg c_21])
    · refine lv_if_ne (tgt := 19) hx hb dX1_addStep_12 (by decide) (fun c_22 => ?_) (fun c_22 => ?_)
      · refine lv_iconst (v := 0) hx hb dX1_addStep_19 (by decide) ?_
        exact hJ_5 _ (by rw [if_neg c_22])
      · refine lv_iconst (v := 1) hx hb dX1_addStep_15 (by decide) ?_
        refine lv_goto (tgt := 20) hx hb dX1_addStep_16 (by decide) ?_
        exact hJ_5 _ (by rw [if_pos c_22])

set_option maxHeartbeats 4000000 in
set_option maxRecDepth 100000 in
theorem mX1_closeStep (l : Launch) (dC : Nat → ClassId) (dI : Nat → Nat → Nat) (h : Nat → Nat) (cI cB : ClassId) (st : SS)  (sz : Nat) : Met l yX1_closeStep (ws_ yX1_closeStep cX1_closeStep 2 (none)) ({ frames := 4, cells := 0, slots := 0, locals := 87 }) (va_Pc [.ref (h 0)] (qM (dC, dI) (xw h cI cB st) [(cI, .int), (cB, .byte)] sz)) (va_Qv (fun u : SS => u = x_closeStep st) (qB (dC, dI) (xw h cI cB) [(cI, .int), (cB, .byte)] (va_A (xw h cI cB st) sz)) (va_A (xw h cI cB st) sz)) 0 0 (va_A (xw h cI cB st) sz) := by
  refine Met.ofW (cc := cX1_closeStep) (maxL := 2) (ret := none) (by decide) rfl ?_
  intro p e s m args below meth c s₁ B hml hv
  obtain ⟨rfl, hsz, hP, hK, hD0⟩ := hv
  have hx := B.exec
  have hb := B.bytes
  have hr := B.returns
  have hts := atoms_spec (ws := ws_ yX1_closeStep cX1_closeStep 2 (none)) B.pre
  have hts : ∀ w ∈ lw_all, w.before _ s = true := fun w h => hts w (List.mem_cons_of_mem _ h)
  have hown : s.vm.findClass RX1 = some m.cls := findClass_of_methodNamed B.named
  have hlocks := B.notSynchronized
  subst hsz
  have hD := hD0.self (sz := s.heap.size)
  generalize hAe : va_A (xw h cI cB st) s.heap.size = A at hD ⊢
  have hA : ∀ q : Nat, s.heap.size ≤ q → A q := fun q h => by rw [← hAe]; exact Or.inr h
  have hS : va_S A s.heap s.heap [] := va_S.rf
  have hl := lv_entry ([.ref (h 0)]) (n := 2) (Nat.le_of_ble_eq_true rfl)
  rw [lg_entry_eq]
  generalize (lg_sl ([.ref (h 0)]) ++ List.replicate (2 - (lg_sl ([.ref (h 0)])).length) Slot.unset).toArray = ls at hl ⊢
  have hl : lv_has ls 2 [(0, .ref (h 0))] := hl
  refine lv_ldc hx hb hown (hts _ q109) dX1_closeStep_0 ?_
  refine lv_istore_n (lv' := [(1, .int (-100000)), (0, .ref (h 0))]) hx hb dX1_closeStep_2 rfl hl (by decide) rfl (fun ls hl => ?_)
  refine lv_iconst (v := 2) hx hb dX1_closeStep_3 (by decide) ?_
  refine lv_aload_n hx hb dX1_closeStep_4 rfl (lv_at hl 1 rfl) ?_
  refine va_get (D := (dC, dI)) (ci := 0) (v := .int (st.1 7)) (C := RX1) (T := TX1) (N := 23) hx hb hts in_X1 hown hK hP 0 rfl rfl 7 (by decide) (hts _ q29) (fun _ h9 => h9) rfl dX1_closeStep_5 ?_
  refine lv_imul hx hb dX1_closeStep_8 ?_
  refine lv_aload_n hx hb dX1_closeStep_9 rfl (lv_at hl 1 rfl) ?_
  refine va_get (D := (dC, dI)) (ci := 0) (v := .int (st.1 1)) (C := RX1) (T := TX1) (N := 23) hx hb hts in_X1 hown hK hP 0 rfl rfl 1 (by decide) (hts _ q23) (fun _ h9 => h9) rfl dX1_closeStep_10 ?_
  refine ph_cutL (J := 33) (nL := 2) (rest := []) (fun z => [(0, .ref (h 0)), (1, .int z)]) (if (st.1 1) < (2 * (st.1 7)) then (-100000) else x_floor (st.1 8) ((st.1 1) - (st.1 7))) (fun z_1 ez_1 ls hl => ?_) (fun hJ_1 => ?_)
  · have hl : lv_has ls 2 [(0, .ref (h 0)), (1, .int z_1)] := hl
    refine lv_aload_n hx hb dX1_closeStep_33 rfl (lv_at hl 0 rfl) ?_
    refine lv_iload_n hx hb dX1_closeStep_34 rfl (lv_at hl 1 rfl) ?_
    refine va_put (D := (dC, dI)) (ci := 0) (v := .int z_1) (ty := .int) (C := RX1) (T := TX1) (N := 23) hx hb hts in_X1 tyX1 tyX1_ok nmX1 hown hK hP hD hS 0 rfl rfl 10 (by decide) (hts _ q32) (fun _ h9 => h9) rfl (by decide +kernel) rfl rfl (Nat.le_of_ble_eq_true rfl) dX1_closeStep_35 (fun H locs hP hD hS => ?_)
    obtain ⟨s_2, es_2⟩ : ∃ z : SS, z = sv st 10 z_1 := ⟨_, rfl⟩
    have hP : va_P (dC, dI) clsL (xw h cI cB s_2) H := by rw [es_2, ← xw_s10]; exact hP
    have hD : va_D A (xw h cI cB s_2) := by rw [es_2, ← xw_s10]; exact hD
    refine lv_aload_n hx hb dX1_closeStep_38 rfl (lv_at hl 0 rfl) ?_
    refine lv_dup hx hb dX1_closeStep_39 rfl ?_
    refine va_get (D := (dC, dI)) (ci := 0) (v := .int (st.1 9)) (C := RX1) (T := TX1) (N := 23) hx hb hts in_X1 hown hK hP 0 rfl rfl 9 (by decide) (hts _ q31) (fun _ h9 => h9) (congrArg (fun z => some (Value.int z)) (show s_2.1 9 = st.1 9 from by rw [es_2, sv_n (by decide)])) dX1_closeStep_40 ?_
    refine lv_iconst (v := 1) hx hb dX1_closeStep_43 (by decide) ?_
    refine lv_iadd hx hb dX1_closeStep_44 ?_
    refine va_put (D := (dC, dI)) (ci := 0) (v := .int ((st.1 9) + 1)) (ty := .int) (C := RX1) (T := TX1) (N := 23) hx hb hts in_X1 tyX1 tyX1_ok nmX1 hown hK hP hD hS 0 rfl rfl 9 (by decide) (hts _ q31) (fun _ h9 => h9) rfl (by decide +kernel) rfl rfl (Nat.le_of_ble_eq_true rfl) dX1_closeStep_45 (fun H locs hP hD hS => ?_)
    obtain ⟨s_3, es_3⟩ : ∃ z : SS, z = sv s_2 9 ((st.1 9) + 1) := ⟨_, rfl⟩
    have hP : va_P (dC, dI) clsL (xw h cI cB s_3) H := by rw [es_3, ← xw_s9]; exact hP
    have hD : va_D A (xw h cI cB s_3) := by rw [es_3, ← xw_s9]; exact hD
    refine lv_aload_n hx hb dX1_closeStep_48 rfl (lv_at hl 0 rfl) ?_
    refine lv_iconst (v := 0) hx hb dX1_closeStep_49 (by decide) ?_
    refine va_put (D := (dC, dI)) (ci := 0) (v := .int 0) (ty := .int) (C := RX1) (T := TX1) (N := 23) hx hb hts in_X1 tyX1 tyX1_ok nmX1 hown hK hP hD hS 0 rfl rfl 6 (by decide) (hts _ q28) (fun _ h9 => h9) rfl (by decide +kernel) rfl rfl (Nat.le_of_ble_eq_true rfl) dX1_closeStep_50 (fun H locs hP hD hS => ?_)
    obtain ⟨s_4, es_4⟩ : ∃ z : SS, z = sv s_3 6 0 := ⟨_, rfl⟩
    have hP : va_P (dC, dI) clsL (xw h cI cB s_4) H := by rw [es_4, ← xw_s6]; exact hP
    have hD : va_D A (xw h cI cB s_4) := by rw [es_4, ← xw_s6]; exact hD
    refine lv_aload_n hx hb dX1_closeStep_53 rfl (lv_at hl 0 rfl) ?_
    refine lv_iconst (v := 0) hx hb dX1_closeStep_54 (by decide) ?_
    refine va_put (D := (dC, dI)) (ci := 0) (v := .int 0) (ty := .int) (C := RX1) (T := TX1) (N := 23) hx hb hts in_X1 tyX1 tyX1_ok nmX1 hown hK hP hD hS 0 rfl rfl 7 (by decide) (hts _ q29) (fun _ h9 => h9) rfl (by decide +kernel) rfl rfl (Nat.le_of_ble_eq_true rfl) dX1_closeStep_55 (fun H locs hP hD hS => ?_)
    obtain ⟨s_5, es_5⟩ : ∃ z : SS, z = sv s_4 7 0 := ⟨_, rfl⟩
    have hP : va_P (dC, dI) clsL (xw h cI cB s_5) H := by rw [es_5, ← xw_s7]; exact hP
    have hD : va_D A (xw h cI cB s_5) := by rw [es_5, ← xw_s7]; exact hD
    refine lv_aload_n hx hb dX1_closeStep_58 rfl (lv_at hl 0 rfl) ?_
    refine lv_iconst (v := 0) hx hb dX1_closeStep_59 (by decide) ?_
    refine va_put (D := (dC, dI)) (ci := 0) (v := .int 0) (ty := .int) (C := RX1) (T := TX1) (N := 23) hx hb hts in_X1 tyX1 tyX1_ok nmX1 hown hK hP hD hS 0 rfl rfl 8 (by decide) (hts _ q30) (fun _ h9 => h9) rfl (by decide +kernel) rfl rfl (Nat.le_of_ble_eq_true rfl) dX1_closeStep_60 (fun H locs hP hD hS => ?_)
    obtain ⟨s_6, es_6⟩ : ∃ z : SS, z = sv s_5 8 0 := ⟨_, rfl⟩
    have hP : va_P (dC, dI) clsL (xw h cI cB s_6) H := by rw [es_6, ← xw_s8]; exact hP
    have hD : va_D A (xw h cI cB s_6) := by rw [es_6, ← xw_s8]; exact hD
    refine lv_aload_n hx hb dX1_closeStep_63 rfl (lv_at hl 0 rfl) ?_
    refine lv_iconst (v := 0) hx hb dX1_closeStep_64 (by decide) ?_
    refine lv_iload_n hx hb dX1_closeStep_65 rfl (lv_at hl 1 rfl) ?_
    have hFc := va_free (wc := xw h cI cB s_6) hD hS hA [0, 1, 2, 3, 4, 5, 6, 7, 8, 9, 10, 11, 12, 13] rfl
    refine va_callv (va_runV (As := [.int 0, .int z_1]) (rest := []) ⟨hx, hb, hml, hown, hts⟩ (mX1_addStep l dC dI h cI cB s_6 0 z_1 (Or.inl rfl) _) (cwV 2 hts (lw_V q121 q123 qs3 q11 q124) rfl rfl rfl (by decide +kernel) ⟨Nat.le_of_ble_eq_true rfl, Nat.le_of_ble_eq_true rfl⟩) ⟨mb_blind, va_recv hK hP (ci := 0) (q0 := 0) rfl rfl, fun U hU hW => ⟨rfl, by rw [hU], by rw [hU]; exact hP, va_K.moved hW.alike hK, hD.weaken (fun _ _ _ _ => trivial)⟩⟩ rfl rfl hl.1 rfl (lv_room (Nat.le_of_ble_eq_true rfl)) dX1_closeStep_66 ⟨Nat.le_of_ble_eq_true rfl, Nat.le_of_ble_eq_true rfl⟩) hS (fun q _ h => hFc q h) hFc (fun u_7 t H locs ht hvm hw_7 hB hz1 hk1 hS => ?_)
    obtain ⟨hP, hK1, hD1⟩ := hB
    rw [ht] at hP
    have hD := hD1.weaken (B := A) (fun k q _ h => hFc q.1 h)
    have hw_7 : u_7 = x_addStep s_6 0 z_1 := hw_7
    refine lv_aload_n hx hb dX1_closeStep_69 rfl (lv_at hl 0 rfl) ?_
    refine lv_iconst (v := 1) hx hb dX1_closeStep_70 (by decide) ?_
    refine lv_iload_n hx hb dX1_closeStep_71 rfl (lv_at hl 1 rfl) ?_
    have hFc := va_free (wc := xw h cI cB u_7) hD hS hA [0, 1, 2, 3, 4, 5, 6, 7, 8, 9, 10, 11, 12, 13] rfl
    refine va_callv (va_runV (As := [.int 1, .int z_1]) (rest := []) ⟨hx, hb, hml, hown, hts⟩ (mX1_addStep l dC dI h cI cB u_7 1 z_1 (Or.inr rfl) _) (cwV 2 hts (lw_V q121 q123 qs3 q11 q124) rfl rfl rfl (by decide +kernel) ⟨Nat.le_of_ble_eq_true rfl, Nat.le_of_ble_eq_true rfl⟩) ⟨mb_blind, va_recv hK hP (ci := 0) (q0 := 0) rfl rfl, fun U hU hW => ⟨rfl, by rw [hU], by rw [hU]; exact hP, va_K.moved hW.alike hK, hD.weaken (fun _ _ _ _ => trivial)⟩⟩ rfl rfl hl.1 rfl (lv_room (Nat.le_of_ble_eq_true rfl)) dX1_closeStep_72 ⟨Nat.le_of_ble_eq_true rfl, Nat.le_of_ble_eq_true rfl⟩) hS (fun q _ h => hFc q h) hFc (fun u_8 t H locs ht hvm hw_8 hB hz1 hk1 hS => ?_)
    obtain ⟨hP, hK1, hD1⟩ := hB
    rw [ht] at hP
    have hD := hD1.weaken (B := A) (fun k q _ h => hFc q.1 h)
    have hw_8 : u_8 = x_addStep u_7 1 z_1 := hw_8
    exact W.vret hx hb hr (fun t ht hW => ⟨⟨u_8, rfl, (by show u_8 = x_closeStep st; rw [hw_8, hw_7, es_6, es_5, es_4, es_3, es_2]; subst ez_1; rw [x_closeStep, x_stepVal]), by rw [ht]; exact hP, va_K.moved hW.alike hK, hD⟩, hS.F ht⟩) hS.2.2 dX1_closeStep_75
  · refine lv_icmp_gt (tgt := 33) hx hb dX1_closeStep_13 (by decide) (fun c_9 => ?_) (fun c_9 => ?_)
    · exact hJ_1 _ (by rw [if_pos c_9]) _ (lv_sub hl [1, 0] rfl)
    · refine lv_aload_n hx hb dX1_closeStep_16 rfl (lv_at hl 1 rfl) ?_
      refine va_get (D := (dC, dI)) (ci := 0) (v := .int (st.1 8)) (C := RX1) (T := TX1) (N := 23) hx hb hts in_X1 hown hK hP 0 rfl rfl 8 (by decide) (hts _ q30) (fun _ h9 => h9) rfl dX1_closeStep_17 ?_
      refine lv_aload_n hx hb dX1_closeStep_20 rfl (lv_at hl 1 rfl) ?_
      refine va_get (D := (dC, dI)) (ci := 0) (v := .int (st.1 1)) (C := RX1) (T := TX1) (N := 23) hx hb hts in_X1 hown hK hP 0 rfl rfl 1 (by decide) (hts _ q23) (fun _ h9 => h9) rfl dX1_closeStep_21 ?_
      refine lv_aload_n hx hb dX1_closeStep_24 rfl (lv_at hl 1 rfl) ?_
      refine va_get (D := (dC, dI)) (ci := 0) (v := .int (st.1 7)) (C := RX1) (T := TX1) (N := 23) hx hb hts in_X1 hown hK hP 0 rfl rfl 7 (by decide) (hts _ q29) (fun _ h9 => h9) rfl dX1_closeStep_25 ?_
      refine lv_isub hx hb dX1_closeStep_28 ?_
      refine vp_callSi (W.runS (As := [.int (st.1 8), .int ((st.1 1) - (st.1 7))]) (rest := []) ⟨hx, hb, hml, hown, hts⟩ (mX1_floor l (st.1 8) ((st.1 1) - (st.1 7))) (va_cwS 2 hts (lw_S q118 q119 q11 q120) rfl rfl rfl (by decide +kernel) ⟨Nat.le_of_ble_eq_true rfl, Nat.le_of_ble_eq_true rfl⟩) ⟨tb_blind, fun U hU hW => ⟨rfl, trivial⟩⟩ rfl rfl hl.1 rfl (lv_room (Nat.le_of_ble_eq_true rfl)) dX1_closeStep_29 ⟨Nat.le_of_ble_eq_true rfl, Nat.le_of_ble_eq_true rfl⟩) (fun r_10 hr_10 => ?_)
      have hr_10 : r_10 = x_floor (st.1 8) ((st.1 1) - (st.1 7)) := hr_10
      subst hr_10
      refine lv_istore_n (lv' := [(1, .int (x_floor (st.1 8) ((st.1 1) - (st.1 7)))), (0, .ref (h 0))]) hx hb dX1_closeStep_32 rfl hl (by decide) rfl (fun ls hl => ?_)
      exact hJ_1 _ (by rw [if_neg c_9]) _ (lv_sub hl [1, 0] rfl)

set_option maxHeartbeats 4000000 in
set_option maxRecDepth 100000 in
theorem mX1_addMoment (l : Launch) (dC : Nat → ClassId) (dI : Nat → Nat → Nat) (h : Nat → Nat) (cI cB : ClassId) (st : SS) (v : Int32)  (sz : Nat) : Met l yX1_addMoment (ws_ yX1_addMoment cX1_addMoment 2 (none)) ({ frames := 5, cells := 0, slots := 0, locals := 108 }) (va_Pc [.ref (h 0), .int v] (qM (dC, dI) (xw h cI cB st) [(cI, .int), (cB, .byte)] sz)) (va_Qv (fun u : SS => u = x_addMoment st v) (qB (dC, dI) (xw h cI cB) [(cI, .int), (cB, .byte)] (va_A (xw h cI cB st) sz)) (va_A (xw h cI cB st) sz)) 0 0 (va_A (xw h cI cB st) sz) := by
  refine Met.ofW (cc := cX1_addMoment) (maxL := 2) (ret := none) (by decide) rfl ?_
  intro p e s m args below meth c s₁ B hml hv
  obtain ⟨rfl, hsz, hP, hK, hD0⟩ := hv
  have hx := B.exec
  have hb := B.bytes
  have hr := B.returns
  have hts := atoms_spec (ws := ws_ yX1_addMoment cX1_addMoment 2 (none)) B.pre
  have hts : ∀ w ∈ lw_all, w.before _ s = true := fun w h => hts w (List.mem_cons_of_mem _ h)
  have hown : s.vm.findClass RX1 = some m.cls := findClass_of_methodNamed B.named
  have hlocks := B.notSynchronized
  subst hsz
  have hD := hD0.self (sz := s.heap.size)
  generalize hAe : va_A (xw h cI cB st) s.heap.size = A at hD ⊢
  have hA : ∀ q : Nat, s.heap.size ≤ q → A q := fun q h => by rw [← hAe]; exact Or.inr h
  have hS : va_S A s.heap s.heap [] := va_S.rf
  have hl := lv_entry ([.ref (h 0), .int v]) (n := 2) (Nat.le_of_ble_eq_true rfl)
  rw [lg_entry_eq]
  generalize (lg_sl ([.ref (h 0), .int v]) ++ List.replicate (2 - (lg_sl ([.ref (h 0), .int v])).length) Slot.unset).toArray = ls at hl ⊢
  have hl : lv_has ls 2 [(0, .ref (h 0)), (1, .int v)] := hl
  refine lv_aload_n hx hb dX1_addMoment_0 rfl (lv_at hl 0 rfl) ?_
  refine lv_dup hx hb dX1_addMoment_1 rfl ?_
  refine va_get (D := (dC, dI)) (ci := 0) (v := .int (st.1 3)) (C := RX1) (T := TX1) (N := 23) hx hb hts in_X1 hown hK hP 0 rfl rfl 3 (by decide) (hts _ q25) (fun _ h9 => h9) rfl dX1_addMoment_2 ?_
  refine lv_iconst (v := 1) hx hb dX1_addMoment_5 (by decide) ?_
  refine lv_iadd hx hb dX1_addMoment_6 ?_
  refine va_put (D := (dC, dI)) (ci := 0) (v := .int ((st.1 3) + 1)) (ty := .int) (C := RX1) (T := TX1) (N := 23) hx hb hts in_X1 tyX1 tyX1_ok nmX1 hown hK hP hD hS 0 rfl rfl 3 (by decide) (hts _ q25) (fun _ h9 => h9) rfl (by decide +kernel) rfl rfl (Nat.le_of_ble_eq_true rfl) dX1_addMoment_7 (fun H locs hP hD hS => ?_)
  obtain ⟨s_1, es_1⟩ : ∃ z : SS, z = sv st 3 ((st.1 3) + 1) := ⟨_, rfl⟩
  have hP : va_P (dC, dI) clsL (xw h cI cB s_1) H := by rw [es_1, ← xw_s3]; exact hP
  have hD : va_D A (xw h cI cB s_1) := by rw [es_1, ← xw_s3]; exact hD
  refine lv_aload_n hx hb dX1_addMoment_10 rfl (lv_at hl 0 rfl) ?_
  refine va_get (D := (dC, dI)) (ci := 0) (v := .ref (h 1)) (C := RX1) (T := TX1) (N := 23) hx hb hts in_X1 hown hK hP 0 rfl rfl 5 (by decide) (hts _ q27) (fun _ h9 => h9) rfl dX1_addMoment_11 ?_
  refine lv_aload_n hx hb dX1_addMoment_14 rfl (lv_at hl 0 rfl) ?_
  refine va_get (D := (dC, dI)) (ci := 0) (v := .int ((st.1 3) + 1)) (C := RX1) (T := TX1) (N := 23) hx hb hts in_X1 hown hK hP 0 rfl rfl 3 (by decide) (hts _ q25) (fun _ h9 => h9) (congrArg (fun z => some (Value.int z)) (show s_1.1 3 = (st.1 3) + 1 from by rw [es_1, sv_s])) dX1_addMoment_15 ?_
  refine lv_bipush (v := 31) hx hb dX1_addMoment_18 (by decide) ?_
  refine lv_iand hx hb dX1_addMoment_20 ?_
  refine lv_iload_n hx hb dX1_addMoment_21 rfl (lv_at hl 1 rfl) ?_
  refine va_iast (f := st.2 5) hx hb hK hP hD hS 1 0 (by rw [← show s_1.2 5 = st.2 5 from by rw [es_1, sv_2]]; rfl) rfl (in32 _) dX1_addMoment_22 (fun H locs hP hD hS => ?_)
  obtain ⟨s_2, es_2⟩ : ∃ z : SS, z = sa s_1 5 (upd (st.2 5) (((st.1 3) + 1) &&& 31).toNatClampNeg v) := ⟨_, rfl⟩
  have hP : va_P (dC, dI) clsL (xw h cI cB s_2) H := by rw [es_2, ← xw_a1]; exact hP
  have hD : va_D A (xw h cI cB s_2) := by rw [es_2, ← xw_a1]; exact hD
  refine lv_iload_n hx hb dX1_addMoment_23 rfl (lv_at hl 1 rfl) ?_
  refine lv_ldc hx hb hown (hts _ q109) dX1_addMoment_24 ?_
  refine lv_icmp_ne (tgt := 42) hx hb dX1_addMoment_26 (by decide) (fun c_3 => ?_) (fun c_3 => ?_)
  · refine lv_aload_n hx hb dX1_addMoment_42 rfl (lv_at hl 0 rfl) ?_
    refine lv_dup hx hb dX1_addMoment_43 rfl ?_
    refine va_get (D := (dC, dI)) (ci := 0) (v := .int (st.1 8)) (C := RX1) (T := TX1) (N := 23) hx hb hts in_X1 hown hK hP 0 rfl rfl 8 (by decide) (hts _ q30) (fun _ h9 => h9) (congrArg (fun z => some (Value.int z)) (show s_2.1 8 = st.1 8 from by rw [es_2, sa_1, es_1, sv_n (by decide)])) dX1_addMoment_44 ?_
    refine lv_iload_n hx hb dX1_addMoment_47 rfl (lv_at hl 1 rfl) ?_
    refine lv_iadd hx hb dX1_addMoment_48 ?_
    refine va_put (D := (dC, dI)) (ci := 0) (v := .int ((st.1 8) + v)) (ty := .int) (C := RX1) (T := TX1) (N := 23) hx hb hts in_X1 tyX1 tyX1_ok nmX1 hown hK hP hD hS 0 rfl rfl 8 (by decide) (hts _ q30) (fun _ h9 => h9) rfl (by decide +kernel) rfl rfl (Nat.le_of_ble_eq_true rfl) dX1_addMoment_49 (fun H locs hP hD hS => ?_)
    obtain ⟨s_4, es_4⟩ : ∃ z : SS, z = sv s_2 8 ((st.1 8) + v) := ⟨_, rfl⟩
    have hP : va_P (dC, dI) clsL (xw h cI cB s_4) H := by rw [es_4, ← xw_s8]; exact hP
    have hD : va_D A (xw h cI cB s_4) := by rw [es_4, ← xw_s8]; exact hD
    refine lv_aload_n hx hb dX1_addMoment_52 rfl (lv_at hl 0 rfl) ?_
    refine lv_dup hx hb dX1_addMoment_53 rfl ?_
    refine va_get (D := (dC, dI)) (ci := 0) (v := .int (st.1 6)) (C := RX1) (T := TX1) (N := 23) hx hb hts in_X1 hown hK hP 0 rfl rfl 6 (by decide) (hts _ q28) (fun _ h9 => h9) (congrArg (fun z => some (Value.int z)) (show s_4.1 6 = st.1 6 from by rw [es_4, sv_n (by decide), es_2, sa_1, es_1, sv_n (by decide)])) dX1_addMoment_54 ?_
    refine lv_iconst (v := 1) hx hb dX1_addMoment_57 (by decide) ?_
    refine lv_iadd hx hb dX1_addMoment_58 ?_
    refine va_put (D := (dC, dI)) (ci := 0) (v := .int ((st.1 6) + 1)) (ty := .int) (C := RX1) (T := TX1) (N := 23) hx hb hts in_X1 tyX1 tyX1_ok nmX1 hown hK hP hD hS 0 rfl rfl 6 (by decide) (hts _ q28) (fun _ h9 => h9) rfl (by decide +kernel) rfl rfl (Nat.le_of_ble_eq_true rfl) dX1_addMoment_59 (fun H locs hP hD hS => ?_)
    obtain ⟨s_5, es_5⟩ : ∃ z : SS, z = sv s_4 6 ((st.1 6) + 1) := ⟨_, rfl⟩
    have hP : va_P (dC, dI) clsL (xw h cI cB s_5) H := by rw [es_5, ← xw_s6]; exact hP
    have hD : va_D A (xw h cI cB s_5) := by rw [es_5, ← xw_s6]; exact hD
    refine lv_aload_n hx hb dX1_addMoment_62 rfl (lv_at hl 0 rfl) ?_
    refine va_get (D := (dC, dI)) (ci := 0) (v := .int ((st.1 6) + 1)) (C := RX1) (T := TX1) (N := 23) hx hb hts in_X1 hown hK hP 0 rfl rfl 6 (by decide) (hts _ q28) (fun _ h9 => h9) (congrArg (fun z => some (Value.int z)) (show s_5.1 6 = (st.1 6) + 1 from by rw [es_5, sv_s])) dX1_addMoment_63 ?_
    refine lv_aload_n hx hb dX1_addMoment_66 rfl (lv_at hl 0 rfl) ?_
    refine va_get (D := (dC, dI)) (ci := 0) (v := .int (st.1 1)) (C := RX1) (T := TX1) (N := 23) hx hb hts in_X1 hown hK hP 0 rfl rfl 1 (by decide) (hts _ q23) (fun _ h9 => h9) (congrArg (fun z => some (Value.int z)) (show s_5.1 1 = st.1 1 from by rw [es_5, sv_n (by decide), es_4, sv_n (by decide), es_2, sa_1, es_1, sv_n (by decide)])) dX1_addMoment_67 ?_
    refine lv_icmp_ne (tgt := 77) hx hb dX1_addMoment_70 (by decide) (fun c_6 => ?_) (fun c_6 => ?_)
    · exact W.vret hx hb hr (fun t ht hW => ⟨⟨s_5, rfl, (by show s_5 = x_addMoment st v; rw [es_5, es_4, es_2, es_1]; rw [x_addMoment, if_neg c_6, x_am2, if_neg c_3, x_am1]), by rw [ht]; exact hP, va_K.moved hW.alike hK, hD⟩, hS.F ht⟩) hS.2.2 dX1_addMoment_77
    · refine lv_aload_n hx hb dX1_addMoment_73 rfl (lv_at hl 0 rfl) ?_
      have hFc := va_free (wc := xw h cI cB s_5) hD hS hA [0, 1, 2, 3, 4, 5, 6, 7, 8, 9, 10, 11, 12, 13] rfl
      refine va_callv (va_runV (As := []) (rest := []) ⟨hx, hb, hml, hown, hts⟩ (mX1_closeStep l dC dI h cI cB s_5  _) (cwV 0 hts (lw_V q114 q116 qs2 q11 q117) rfl rfl rfl (by decide +kernel) ⟨Nat.le_of_ble_eq_true rfl, Nat.le_of_ble_eq_true rfl⟩) ⟨mb_blind, va_recv hK hP (ci := 0) (q0 := 0) rfl rfl, fun U hU hW => ⟨rfl, by rw [hU], by rw [hU]; exact hP, va_K.moved hW.alike hK, hD.weaken (fun _ _ _ _ => trivial)⟩⟩ rfl rfl hl.1 rfl (lv_room (Nat.le_of_ble_eq_true rfl)) dX1_addMoment_74 ⟨Nat.le_of_ble_eq_true rfl, Nat.le_of_ble_eq_true rfl⟩) hS (fun q _ h => hFc q h) hFc (fun u_7 t H locs ht hvm hw_7 hB hz1 hk1 hS => ?_)
      obtain ⟨hP, hK1, hD1⟩ := hB
      rw [ht] at hP
      have hD := hD1.weaken (B := A) (fun k q _ h => hFc q.1 h)
      have hw_7 : u_7 = x_closeStep s_5 := hw_7
      exact W.vret hx hb hr (fun t ht hW => ⟨⟨u_7, rfl, (by show u_7 = x_addMoment st v; rw [hw_7, es_5, es_4, es_2, es_1]; rw [x_addMoment, if_pos c_6, x_am2, if_neg c_3, x_am1]), by rw [ht]; exact hP, va_K.moved hW.alike hK, hD⟩, hS.F ht⟩) hS.2.2 dX1_addMoment_77
  · refine lv_aload_n hx hb dX1_addMoment_29 rfl (lv_at hl 0 rfl) ?_
    refine lv_dup hx hb dX1_addMoment_30 rfl ?_
    refine va_get (D := (dC, dI)) (ci := 0) (v := .int (st.1 7)) (C := RX1) (T := TX1) (N := 23) hx hb hts in_X1 hown hK hP 0 rfl rfl 7 (by decide) (hts _ q29) (fun _ h9 => h9) (congrArg (fun z => some (Value.int z)) (show s_2.1 7 = st.1 7 from by rw [es_2, sa_1, es_1, sv_n (by decide)])) dX1_addMoment_31 ?_
    refine lv_iconst (v := 1) hx hb dX1_addMoment_34 (by decide) ?_
    refine lv_iadd hx hb dX1_addMoment_35 ?_
    refine va_put (D := (dC, dI)) (ci := 0) (v := .int ((st.1 7) + 1)) (ty := .int) (C := RX1) (T := TX1) (N := 23) hx hb hts in_X1 tyX1 tyX1_ok nmX1 hown hK hP hD hS 0 rfl rfl 7 (by decide) (hts _ q29) (fun _ h9 => h9) rfl (by decide +kernel) rfl rfl (Nat.le_of_ble_eq_true rfl) dX1_addMoment_36 (fun H locs hP hD hS => ?_)
    obtain ⟨s_8, es_8⟩ : ∃ z : SS, z = sv s_2 7 ((st.1 7) + 1) := ⟨_, rfl⟩
    have hP : va_P (dC, dI) clsL (xw h cI cB s_8) H := by rw [es_8, ← xw_s7]; exact hP
    have hD : va_D A (xw h cI cB s_8) := by rw [es_8, ← xw_s7]; exact hD
    refine lv_goto (tgt := 52) hx hb dX1_addMoment_39 (by decide) ?_
    refine lv_aload_n hx hb dX1_addMoment_52 rfl (lv_at hl 0 rfl) ?_
    refine lv_dup hx hb dX1_addMoment_53 rfl ?_
    refine va_get (D := (dC, dI)) (ci := 0) (v := .int (st.1 6)) (C := RX1) (T := TX1) (N := 23) hx hb hts in_X1 hown hK hP 0 rfl rfl 6 (by decide) (hts _ q28) (fun _ h9 => h9) (congrArg (fun z => some (Value.int z)) (show s_8.1 6 = st.1 6 from by rw [es_8, sv_n (by decide), es_2, sa_1, es_1, sv_n (by decide)])) dX1_addMoment_54 ?_
    refine lv_iconst (v := 1) hx hb dX1_addMoment_57 (by decide) ?_
    refine lv_iadd hx hb dX1_addMoment_58 ?_
    refine va_put (D := (dC, dI)) (ci := 0) (v := .int ((st.1 6) + 1)) (ty := .int) (C := RX1) (T := TX1) (N := 23) hx hb hts in_X1 tyX1 tyX1_ok nmX1 hown hK hP hD hS 0 rfl rfl 6 (by decide) (hts _ q28) (fun _ h9 => h9) rfl (by decide +kernel) rfl rfl (Nat.le_of_ble_eq_true rfl) dX1_addMoment_59 (fun H locs hP hD hS => ?_)
    obtain ⟨s_9, es_9⟩ : ∃ z : SS, z = sv s_8 6 ((st.1 6) + 1) := ⟨_, rfl⟩
    have hP : va_P (dC, dI) clsL (xw h cI cB s_9) H := by rw [es_9, ← xw_s6]; exact hP
    have hD : va_D A (xw h cI cB s_9) := by rw [es_9, ← xw_s6]; exact hD
    refine lv_aload_n hx hb dX1_addMoment_62 rfl (lv_at hl 0 rfl) ?_
    refine va_get (D := (dC, dI)) (ci := 0) (v := .int ((st.1 6) + 1)) (C := RX1) (T := TX1) (N := 23) hx hb hts in_X1 hown hK hP 0 rfl rfl 6 (by decide) (hts _ q28) (fun _ h9 => h9) (congrArg (fun z => some (Value.int z)) (show s_9.1 6 = (st.1 6) + 1 from by rw [es_9, sv_s])) dX1_addMoment_63 ?_
    refine lv_aload_n hx hb dX1_addMoment_66 rfl (lv_at hl 0 rfl) ?_
    refine va_get (D := (dC, dI)) (ci := 0) (v := .int (st.1 1)) (C := RX1) (T := TX1) (N := 23) hx hb hts in_X1 hown hK hP 0 rfl rfl 1 (by decide) (hts _ q23) (fun _ h9 => h9) (congrArg (fun z => some (Value.int z)) (show s_9.1 1 = st.1 1 from by rw [es_9, sv_n (by decide), es_8, sv_n (by decide), es_2, sa_1, es_1, sv_n (by decide)])) dX1_addMoment_67 ?_
    refine lv_icmp_ne (tgt := 77) hx hb dX1_addMoment_70 (by decide) (fun c_10 => ?_) (fun c_10 => ?_)
    · exact W.vret hx hb hr (fun t ht hW => ⟨⟨s_9, rfl, (by show s_9 = x_addMoment st v; rw [es_9, es_8, es_2, es_1]; rw [x_addMoment, if_neg c_10, x_am2, if_pos c_3, x_am1]), by rw [ht]; exact hP, va_K.moved hW.alike hK, hD⟩, hS.F ht⟩) hS.2.2 dX1_addMoment_77
    · refine lv_aload_n hx hb dX1_addMoment_73 rfl (lv_at hl 0 rfl) ?_
      have hFc := va_free (wc := xw h cI cB s_9) hD hS hA [0, 1, 2, 3, 4, 5, 6, 7, 8, 9, 10, 11, 12, 13] rfl
      refine va_callv (va_runV (As := []) (rest := []) ⟨hx, hb, hml, hown, hts⟩ (mX1_closeStep l dC dI h cI cB s_9  _) (cwV 0 hts (lw_V q114 q116 qs2 q11 q117) rfl rfl rfl (by decide +kernel) ⟨Nat.le_of_ble_eq_true rfl, Nat.le_of_ble_eq_true rfl⟩) ⟨mb_blind, va_recv hK hP (ci := 0) (q0 := 0) rfl rfl, fun U hU hW => ⟨rfl, by rw [hU], by rw [hU]; exact hP, va_K.moved hW.alike hK, hD.weaken (fun _ _ _ _ => trivial)⟩⟩ rfl rfl hl.1 rfl (lv_room (Nat.le_of_ble_eq_true rfl)) dX1_addMoment_74 ⟨Nat.le_of_ble_eq_true rfl, Nat.le_of_ble_eq_true rfl⟩) hS (fun q _ h => hFc q h) hFc (fun u_11 t H locs ht hvm hw_11 hB hz1 hk1 hS => ?_)
      obtain ⟨hP, hK1, hD1⟩ := hB
      rw [ht] at hP
      have hD := hD1.weaken (B := A) (fun k q _ h => hFc q.1 h)
      have hw_11 : u_11 = x_closeStep s_9 := hw_11
      exact W.vret hx hb hr (fun t ht hW => ⟨⟨u_11, rfl, (by show u_11 = x_addMoment st v; rw [hw_11, es_9, es_8, es_2, es_1]; rw [x_addMoment, if_pos c_10, x_am2, if_pos c_3, x_am1]), by rw [ht]; exact hP, va_K.moved hW.alike hK, hD⟩, hS.F ht⟩) hS.2.2 dX1_addMoment_77
end
section
theorem x_mom {st : SS} {tt : Int32} {T : Nat} (hT : st.1 3 = nI T) (hT2 : T ≤ 240) (c1 : ¬ tt ≤ st.1 3) (c2 : ¬ 240 < tt) : ∃ Mn : Nat, tt - st.1 3 = nI Mn ∧ 1 ≤ Mn ∧ Mn ≤ 240 := by
  have p0 : ¬ tt < 0 := fun q => c1 (by
    rw [hT]
    have h1 := nI_pos' (n := T) (by omega)
    rw [Int32.le_iff_toInt_le] at h1 ⊢
    rw [Int32.lt_iff_toInt_lt] at q
    omega)
  obtain ⟨j, hj, rfl⟩ := nI_of p0
  rw [hT] at c1 ⊢
  have h1 : ¬ j ≤ T := fun q => c1 (nI_le q (by omega))
  have h2 : ¬ 240 < j := fun q => c2 (nI_lt q hj)
  exact ⟨j - T, pk_sub (by omega), by omega, by omega⟩

set_option maxHeartbeats 4000000 in
set_option maxRecDepth 100000 in
theorem mX1_shape (l : Launch) (dC : Nat → ClassId) (dI : Nat → Nat → Nat) (h : Nat → Nat) (cI cB : ClassId) (st : SS) (a pk : Int32)  (sz : Nat) : Met l yX1_shape (ws_ yX1_shape cX1_shape 8 (some .boolean)) ({ frames := 1, cells := 0, slots := 0, locals := 20 }) (va_Pc [.ref (h 0), .int a, .int pk] (qM (dC, dI) (xw h cI cB st) [(cI, .int), (cB, .byte)] sz)) (va_Qi (fun (ans : Int32) (u : SS) => (ans, u) = x_shape st a pk) (qB (dC, dI) (xw h cI cB) [(cI, .int), (cB, .byte)] (va_A (xw h cI cB st) sz)) (va_A (xw h cI cB st) sz)) 0 0 (va_A (xw h cI cB st) sz) := by
  refine Met.ofW (cc := cX1_shape) (maxL := 8) (ret := some .boolean) (by decide) rfl ?_
  intro p e s m args below meth c s₁ B hml hv
  obtain ⟨rfl, hsz, hP, hK, hD0⟩ := hv
  have hx := B.exec
  have hb := B.bytes
  have hr := B.returns
  have hts := atoms_spec (ws := ws_ yX1_shape cX1_shape 8 (some .boolean)) B.pre
  have hts : ∀ w ∈ lw_all, w.before _ s = true := fun w h => hts w (List.mem_cons_of_mem _ h)
  have hown : s.vm.findClass RX1 = some m.cls := findClass_of_methodNamed B.named
  have hlocks := B.notSynchronized
  subst hsz
  have hD := hD0.self (sz := s.heap.size)
  generalize hAe : va_A (xw h cI cB st) s.heap.size = A at hD ⊢
  have hA : ∀ q : Nat, s.heap.size ≤ q → A q := fun q h => by rw [← hAe]; exact Or.inr h
  have hS : va_S A s.heap s.heap [] := va_S.rf
  have hl := lv_entry ([.ref (h 0), .int a, .int pk]) (n := 8) (Nat.le_of_ble_eq_true rfl)
  rw [lg_entry_eq]
  generalize (lg_sl ([.ref (h 0), .int a, .int pk]) ++ List.replicate (8 - (lg_sl ([.ref (h 0), .int a, .int pk])).length) Slot.unset).toArray = ls at hl ⊢
  have hl : lv_has ls 8 [(0, .ref (h 0)), (1, .int a), (2, .int pk)] := hl
  refine lv_iload_n hx hb dX1_shape_0 rfl (lv_at hl 2 rfl) ?_
  refine lv_bipush (v := 7) hx hb dX1_shape_1 (by decide) ?_
  refine lv_iand hx hb dX1_shape_3 ?_
  refine lv_istore_n (lv' := [(3, .int (pk &&& 7)), (0, .ref (h 0)), (1, .int a), (2, .int pk)]) hx hb dX1_shape_4 rfl hl (by decide) rfl (fun ls hl => ?_)
  refine lv_iload_n hx hb dX1_shape_5 rfl (lv_at hl 3 rfl) ?_
  refine lv_iconst (v := 3) hx hb dX1_shape_6 (by decide) ?_
  refine lv_ishr hx hb dX1_shape_7 ?_
  refine lv_bipush (v := 7) hx hb dX1_shape_8 (by decide) ?_
  refine lv_iand hx hb dX1_shape_10 ?_
  refine lv_istore (lv' := [(4, .int ((pk >>> (3 &&& 31)) &&& 7)), (3, .int (pk &&& 7)), (0, .ref (h 0)), (1, .int a), (2, .int pk)]) hx hb dX1_shape_11 hl (by decide) rfl (fun ls hl => ?_)
  refine lv_iload_n hx hb dX1_shape_13 rfl (lv_at hl 4 rfl) ?_
  refine lv_bipush (v := 6) hx hb dX1_shape_14 (by decide) ?_
  refine lv_ishr hx hb dX1_shape_16 ?_
  refine lv_bipush (v := 7) hx hb dX1_shape_17 (by decide) ?_
  refine lv_iand hx hb dX1_shape_19 ?_
  refine lv_istore (lv' := [(5, .int ((pk >>> (6 &&& 31)) &&& 7)), (4, .int ((pk >>> (3 &&& 31)) &&& 7)), (3, .int (pk &&& 7)), (0, .ref (h 0)), (1, .int a), (2, .int pk)]) hx hb dX1_shape_20 hl (by decide) rfl (fun ls hl => ?_)
  refine lv_iload_n hx hb dX1_shape_22 rfl (lv_at hl 5 rfl) ?_
  refine lv_bipush (v := 9) hx hb dX1_shape_23 (by decide) ?_
  refine lv_ishr hx hb dX1_shape_25 ?_
  refine lv_istore (lv' := [(6, .int (pk >>> (9 &&& 31))), (5, .int ((pk >>> (6 &&& 31)) &&& 7)), (4, .int ((pk >>> (3 &&& 31)) &&& 7)), (3, .int (pk &&& 7)), (0, .ref (h 0)), (1, .int a), (2, .int pk)]) hx hb dX1_shape_26 hl (by decide) rfl (fun ls hl => ?_)
  refine lv_iload_n hx hb dX1_shape_28 rfl (lv_at hl 3 rfl) ?_
  refine lv_iconst (v := 1) hx hb dX1_shape_29 (by decide) ?_
  refine ph_cut (J := 56) (rest := []) (if (pk &&& 7) < 1 then 0 else (if (4 : Int32) < (pk &&& 7) then 0 else (if (pk >>> (9 &&& 31)) < 1 then 0 else (if (8 : Int32) < (pk >>> (9 &&& 31)) then 0 else 1)))) (fun z_1 ez_1 => ?_) (fun hJ_1 => ?_)
  · refine lv_istore (lv' := [(7, .int z_1), (6, .int (pk >>> (9 &&& 31))), (5, .int ((pk >>> (6 &&& 31)) &&& 7)), (4, .int ((pk >>> (3 &&& 31)) &&& 7)), (3, .int (pk &&& 7)), (0, .ref (h 0)), (1, .int a), (2, .int pk)]) hx hb dX1_shape_56 hl (by decide) rfl (fun ls hl => ?_)
    refine lv_iload_n hx hb dX1_shape_58 rfl (lv_at hl 6 rfl) ?_
    refine vp_callSi (W.runS (As := [.int a]) (rest := []) ⟨hx, hb, hml, hown, hts⟩ (mX1_isArchive l a) (va_cwS 1 hts (lw_S q98 q99 q11 q100) rfl rfl rfl (by decide +kernel) ⟨Nat.le_of_ble_eq_true rfl, Nat.le_of_ble_eq_true rfl⟩) ⟨tb_blind, fun U hU hW => ⟨rfl, trivial⟩⟩ rfl rfl hl.1 rfl (lv_room (Nat.le_of_ble_eq_true rfl)) dX1_shape_59 ⟨Nat.le_of_ble_eq_true rfl, Nat.le_of_ble_eq_true rfl⟩) (fun r_2 hr_2 => ?_)
    have hr_2 : r_2 = x_isA a := hr_2
    subst hr_2
    refine lv_if_eq (tgt := 89) hx hb dX1_shape_62 (by decide) (fun c_3 => ?_) (fun c_3 => ?_)
    · refine lv_iconst (v := 0) hx hb dX1_shape_89 (by decide) ?_
      exact W.zret (v := 0) hx hb hr rfl (fun t ht hW => ⟨⟨0, st, rfl, (by show (0, st) = x_shape st a pk; subst ez_1; (rw [x_shape, x_sized, if_pos c_3]); try rfl), by rw [ht]; exact hP, va_K.moved hW.alike hK, hD⟩, hS.F ht⟩) hS.2.2 dX1_shape_90
    · have ha : arO a := x_isA_ok c_3
      refine lv_iload hx hb dX1_shape_65 (lv_at hl 0 rfl) ?_
      refine lv_if_eq (tgt := 89) hx hb dX1_shape_67 (by decide) (fun c_4 => ?_) (fun c_4 => ?_)
      · refine lv_iconst (v := 0) hx hb dX1_shape_89 (by decide) ?_
        exact W.zret (v := 0) hx hb hr rfl (fun t ht hW => ⟨⟨0, st, rfl, (by show (0, st) = x_shape st a pk; subst ez_1; (rw [x_shape, x_sized, if_neg c_3, if_pos c_4]); try rfl), by rw [ht]; exact hP, va_K.moved hW.alike hK, hD⟩, hS.F ht⟩) hS.2.2 dX1_shape_90
      · refine lv_iload hx hb dX1_shape_70 (lv_at hl 3 rfl) ?_
        refine lv_iconst (v := 3) hx hb dX1_shape_72 (by decide) ?_
        refine lv_icmp_gt (tgt := 89) hx hb dX1_shape_73 (by decide) (fun c_5 => ?_) (fun c_5 => ?_)
        · refine lv_iconst (v := 0) hx hb dX1_shape_89 (by decide) ?_
          exact W.zret (v := 0) hx hb hr rfl (fun t ht hW => ⟨⟨0, st, rfl, (by show (0, st) = x_shape st a pk; subst ez_1; (rw [x_shape, x_sized, if_neg c_3, if_neg c_4, if_pos c_5]); try rfl), by rw [ht]; exact hP, va_K.moved hW.alike hK, hD⟩, hS.F ht⟩) hS.2.2 dX1_shape_90
        · refine lv_iload hx hb dX1_shape_76 (lv_at hl 2 rfl) ?_
          refine lv_iconst (v := 3) hx hb dX1_shape_78 (by decide) ?_
          refine lv_icmp_gt (tgt := 89) hx hb dX1_shape_79 (by decide) (fun c_6 => ?_) (fun c_6 => ?_)
          · refine lv_iconst (v := 0) hx hb dX1_shape_89 (by decide) ?_
            exact W.zret (v := 0) hx hb hr rfl (fun t ht hW => ⟨⟨0, st, rfl, (by show (0, st) = x_shape st a pk; subst ez_1; (rw [x_shape, x_sized, if_neg c_3, if_neg c_4, if_neg c_5, if_pos c_6]); try rfl), by rw [ht]; exact hP, va_K.moved hW.alike hK, hD⟩, hS.F ht⟩) hS.2.2 dX1_shape_90
          · refine lv_aload_n hx hb dX1_shape_82 rfl (lv_at hl 5 rfl) ?_
            refine va_get (D := (dC, dI)) (ci := 0) (v := .int (st.1 3)) (C := RX1) (T := TX1) (N := 23) hx hb hts in_X1 hown hK hP 0 rfl rfl 3 (by decide) (hts _ q25) (fun _ h9 => h9) rfl dX1_shape_83 ?_
            refine lv_if_le (tgt := 91) hx hb dX1_shape_86 (by decide) (fun c_7 => ?_) (fun c_7 => ?_)
            · refine lv_aload_n hx hb dX1_shape_91 rfl (lv_at hl 5 rfl) ?_
              refine va_get (D := (dC, dI)) (ci := 0) (v := .ref (h 2)) (C := RX1) (T := TX1) (N := 23) hx hb hts in_X1 hown hK hP 0 rfl rfl 11 (by decide) (hts _ q33) (fun _ h9 => h9) rfl dX1_shape_92 ?_
              refine lv_iload_n hx hb dX1_shape_95 rfl (lv_at hl 6 rfl) ?_
              refine lv_iload_n hx hb dX1_shape_96 rfl (lv_at hl 4 rfl) ?_
              refine lv_i2b (v := (pk &&& 7).toInt8.toInt32) hx hb dX1_shape_97 rfl ?_
              refine va_bast (f := st.2 11) hx hb hK hP hD hS 2 1 rfl rfl (in2 ha) dX1_shape_98 (fun H locs hP hD hS => ?_)
              obtain ⟨s_8, es_8⟩ : ∃ z : SS, z = sa st 11 (upd (st.2 11) a.toNatClampNeg (vp_nar .byte ((pk &&& 7).toInt8.toInt32))) := ⟨_, rfl⟩
              have hP : va_P (dC, dI) clsL (xw h cI cB s_8) H := by rw [es_8, ← xw_a2]; exact hP
              have hD : va_D A (xw h cI cB s_8) := by rw [es_8, ← xw_a2]; exact hD
              refine lv_aload_n hx hb dX1_shape_99 rfl (lv_at hl 5 rfl) ?_
              refine va_get (D := (dC, dI)) (ci := 0) (v := .ref (h 3)) (C := RX1) (T := TX1) (N := 23) hx hb hts in_X1 hown hK hP 0 rfl rfl 12 (by decide) (hts _ q34) (fun _ h9 => h9) rfl dX1_shape_100 ?_
              refine lv_iload_n hx hb dX1_shape_103 rfl (lv_at hl 6 rfl) ?_
              refine lv_iload hx hb dX1_shape_104 (lv_at hl 3 rfl) ?_
              refine lv_i2b (v := ((pk >>> (3 &&& 31)) &&& 7).toInt8.toInt32) hx hb dX1_shape_106 rfl ?_
              refine va_bast (f := st.2 12) hx hb hK hP hD hS 3 1 (by rw [← show s_8.2 12 = st.2 12 from by rw [es_8, sa_n (by decide)]]; rfl) rfl (in2 ha) dX1_shape_107 (fun H locs hP hD hS => ?_)
              obtain ⟨s_9, es_9⟩ : ∃ z : SS, z = sa s_8 12 (upd (st.2 12) a.toNatClampNeg (vp_nar .byte (((pk >>> (3 &&& 31)) &&& 7).toInt8.toInt32))) := ⟨_, rfl⟩
              have hP : va_P (dC, dI) clsL (xw h cI cB s_9) H := by rw [es_9, ← xw_a3]; exact hP
              have hD : va_D A (xw h cI cB s_9) := by rw [es_9, ← xw_a3]; exact hD
              refine lv_aload_n hx hb dX1_shape_108 rfl (lv_at hl 5 rfl) ?_
              refine va_get (D := (dC, dI)) (ci := 0) (v := .ref (h 4)) (C := RX1) (T := TX1) (N := 23) hx hb hts in_X1 hown hK hP 0 rfl rfl 13 (by decide) (hts _ q35) (fun _ h9 => h9) rfl dX1_shape_109 ?_
              refine lv_iload_n hx hb dX1_shape_112 rfl (lv_at hl 6 rfl) ?_
              refine lv_iload hx hb dX1_shape_113 (lv_at hl 2 rfl) ?_
              refine lv_i2b (v := ((pk >>> (6 &&& 31)) &&& 7).toInt8.toInt32) hx hb dX1_shape_115 rfl ?_
              refine va_bast (f := st.2 13) hx hb hK hP hD hS 4 1 (by rw [← show s_9.2 13 = st.2 13 from by rw [es_9, sa_n (by decide), es_8, sa_n (by decide)]]; rfl) rfl (in2 ha) dX1_shape_116 (fun H locs hP hD hS => ?_)
              obtain ⟨s_10, es_10⟩ : ∃ z : SS, z = sa s_9 13 (upd (st.2 13) a.toNatClampNeg (vp_nar .byte (((pk >>> (6 &&& 31)) &&& 7).toInt8.toInt32))) := ⟨_, rfl⟩
              have hP : va_P (dC, dI) clsL (xw h cI cB s_10) H := by rw [es_10, ← xw_a4]; exact hP
              have hD : va_D A (xw h cI cB s_10) := by rw [es_10, ← xw_a4]; exact hD
              refine lv_aload_n hx hb dX1_shape_117 rfl (lv_at hl 5 rfl) ?_
              refine va_get (D := (dC, dI)) (ci := 0) (v := .ref (h 5)) (C := RX1) (T := TX1) (N := 23) hx hb hts in_X1 hown hK hP 0 rfl rfl 14 (by decide) (hts _ q36) (fun _ h9 => h9) rfl dX1_shape_118 ?_
              refine lv_iload_n hx hb dX1_shape_121 rfl (lv_at hl 6 rfl) ?_
              refine lv_iload hx hb dX1_shape_122 (lv_at hl 1 rfl) ?_
              refine lv_i2b (v := (pk >>> (9 &&& 31)).toInt8.toInt32) hx hb dX1_shape_124 rfl ?_
              refine va_bast (f := st.2 14) hx hb hK hP hD hS 5 1 (by rw [← show s_10.2 14 = st.2 14 from by rw [es_10, sa_n (by decide), es_9, sa_n (by decide), es_8, sa_n (by decide)]]; rfl) rfl (in2 ha) dX1_shape_125 (fun H locs hP hD hS => ?_)
              obtain ⟨s_11, es_11⟩ : ∃ z : SS, z = sa s_10 14 (upd (st.2 14) a.toNatClampNeg (vp_nar .byte ((pk >>> (9 &&& 31)).toInt8.toInt32))) := ⟨_, rfl⟩
              have hP : va_P (dC, dI) clsL (xw h cI cB s_11) H := by rw [es_11, ← xw_a5]; exact hP
              have hD : va_D A (xw h cI cB s_11) := by rw [es_11, ← xw_a5]; exact hD
              refine lv_iconst (v := 1) hx hb dX1_shape_126 (by decide) ?_
              exact W.zret (v := 1) hx hb hr rfl (fun t ht hW => ⟨⟨1, s_11, rfl, (by show (1, s_11) = x_shape st a pk; rw [es_11, es_10, es_9, es_8]; subst ez_1; (rw [x_shape, x_sized, if_neg c_3, if_neg c_4, if_neg c_5, if_neg c_6, if_pos c_7]); try rfl), by rw [ht]; exact hP, va_K.moved hW.alike hK, hD⟩, hS.F ht⟩) hS.2.2 dX1_shape_127
            · refine lv_iconst (v := 0) hx hb dX1_shape_89 (by decide) ?_
              exact W.zret (v := 0) hx hb hr rfl (fun t ht hW => ⟨⟨0, st, rfl, (by show (0, st) = x_shape st a pk; subst ez_1; (rw [x_shape, x_sized, if_neg c_3, if_neg c_4, if_neg c_5, if_neg c_6, if_neg c_7]); try rfl), by rw [ht]; exact hP, va_K.moved hW.alike hK, hD⟩, hS.F ht⟩) hS.2.2 dX1_shape_90
  · refine lv_icmp_lt (tgt := 55) hx hb dX1_shape_30 (by decide) (fun c_12 => ?_) (fun c_12 => ?_)
    · refine lv_iconst (v := 0) hx hb dX1_shape_55 (by decide) ?_
      exact hJ_1 _ (by rw [if_pos c_12])
    · refine lv_iload_n hx hb dX1_shape_33 rfl (lv_at hl 3 rfl) ?_
      refine lv_iconst (v := 4) hx hb dX1_shape_34 (by decide) ?_
      refine lv_icmp_gt (tgt := 55) hx hb dX1_shape_35 (by decide) (fun c_13 => ?_) (fun c_13 => ?_)
      · refine lv_iconst (v := 0) hx hb dX1_shape_55 (by decide) ?_
        exact hJ_1 _ (by rw [if_neg c_12, if_pos c_13])
      · refine lv_iload hx hb dX1_shape_38 (lv_at hl 0 rfl) ?_
        refine lv_iconst (v := 1) hx hb dX1_shape_40 (by decide) ?_
        refine lv_icmp_lt (tgt := 55) hx hb dX1_shape_41 (by decide) (fun c_14 => ?_) (fun c_14 => ?_)
        · refine lv_iconst (v := 0) hx hb dX1_shape_55 (by decide) ?_
          exact hJ_1 _ (by rw [if_neg c_12, if_neg c_13, if_pos c_14])
        · refine lv_iload hx hb dX1_shape_44 (lv_at hl 0 rfl) ?_
          refine lv_bipush (v := 8) hx hb dX1_shape_46 (by decide) ?_
          refine lv_icmp_gt (tgt := 55) hx hb dX1_shape_48 (by decide) (fun c_15 => ?_) (fun c_15 => ?_)
          · refine lv_iconst (v := 0) hx hb dX1_shape_55 (by decide) ?_
            exact hJ_1 _ (by rw [if_neg c_12, if_neg c_13, if_neg c_14, if_pos c_15])
          · refine lv_iconst (v := 1) hx hb dX1_shape_51 (by decide) ?_
            refine lv_goto (tgt := 56) hx hb dX1_shape_52 (by decide) ?_
            exact hJ_1 _ (by rw [if_neg c_12, if_neg c_13, if_neg c_14, if_neg c_15])

set_option maxHeartbeats 4000000 in
set_option maxRecDepth 100000 in
theorem mX1_update (l : Launch) (dC : Nat → ClassId) (dI : Nat → Nat → Nat) (h : Nat → Nat) (cI cB : ClassId) (st : SS) (tt v : Int32) (T : Nat) (hT : st.1 3 = nI T) (hT2 : T ≤ 240) (sz : Nat) : Met l yX1_update (ws_ yX1_update cX1_update 8 (some .boolean)) ({ frames := 6, cells := 0, slots := 0, locals := 129 }) (va_Pc [.ref (h 0), .int tt, .int v] (qM (dC, dI) (xw h cI cB st) [(cI, .int), (cB, .byte)] sz)) (va_Qi (fun (ans : Int32) (u : SS) => (ans, u) = x_update st tt v) (qB (dC, dI) (xw h cI cB) [(cI, .int), (cB, .byte)] (va_A (xw h cI cB st) sz)) (va_A (xw h cI cB st) sz)) 0 0 (va_A (xw h cI cB st) sz) := by
  refine Met.ofW (cc := cX1_update) (maxL := 8) (ret := some .boolean) (by decide) rfl ?_
  intro p e s m args below meth c s₁ B hml hv
  obtain ⟨rfl, hsz, hP, hK, hD0⟩ := hv
  have hx := B.exec
  have hb := B.bytes
  have hr := B.returns
  have hts := atoms_spec (ws := ws_ yX1_update cX1_update 8 (some .boolean)) B.pre
  have hts : ∀ w ∈ lw_all, w.before _ s = true := fun w h => hts w (List.mem_cons_of_mem _ h)
  have hown : s.vm.findClass RX1 = some m.cls := findClass_of_methodNamed B.named
  have hlocks := B.notSynchronized
  subst hsz
  have hD := hD0.self (sz := s.heap.size)
  generalize hAe : va_A (xw h cI cB st) s.heap.size = A at hD ⊢
  have hA : ∀ q : Nat, s.heap.size ≤ q → A q := fun q h => by rw [← hAe]; exact Or.inr h
  have hS : va_S A s.heap s.heap [] := va_S.rf
  have hl := lv_entry ([.ref (h 0), .int tt, .int v]) (n := 8) (Nat.le_of_ble_eq_true rfl)
  rw [lg_entry_eq]
  generalize (lg_sl ([.ref (h 0), .int tt, .int v]) ++ List.replicate (8 - (lg_sl ([.ref (h 0), .int tt, .int v])).length) Slot.unset).toArray = ls at hl ⊢
  have hl : lv_has ls 8 [(0, .ref (h 0)), (1, .int tt), (2, .int v)] := hl
  refine lv_iload_n hx hb dX1_update_0 rfl (lv_at hl 1 rfl) ?_
  refine lv_aload_n hx hb dX1_update_1 rfl (lv_at hl 0 rfl) ?_
  refine va_get (D := (dC, dI)) (ci := 0) (v := .int (st.1 3)) (C := RX1) (T := TX1) (N := 23) hx hb hts in_X1 hown hK hP 0 rfl rfl 3 (by decide) (hts _ q25) (fun _ h9 => h9) rfl dX1_update_2 ?_
  refine lv_icmp_le (tgt := 23) hx hb dX1_update_5 (by decide) (fun c_1 => ?_) (fun c_1 => ?_)
  · refine lv_iconst (v := 0) hx hb dX1_update_23 (by decide) ?_
    exact W.zret (v := 0) hx hb hr rfl (fun t ht hW => ⟨⟨0, st, rfl, (by show (0, st) = x_update st tt v; (rw [x_update, if_pos c_1]); try rfl), by rw [ht]; exact hP, va_K.moved hW.alike hK, hD⟩, hS.F ht⟩) hS.2.2 dX1_update_24
  · refine lv_iload_n hx hb dX1_update_8 rfl (lv_at hl 1 rfl) ?_
    refine lv_sipush (v := 240) hx hb dX1_update_9 (by decide) ?_
    refine lv_icmp_gt (tgt := 23) hx hb dX1_update_12 (by decide) (fun c_2 => ?_) (fun c_2 => ?_)
    · refine lv_iconst (v := 0) hx hb dX1_update_23 (by decide) ?_
      exact W.zret (v := 0) hx hb hr rfl (fun t ht hW => ⟨⟨0, st, rfl, (by show (0, st) = x_update st tt v; (rw [x_update, if_neg c_1, if_pos c_2]); try rfl), by rw [ht]; exact hP, va_K.moved hW.alike hK, hD⟩, hS.F ht⟩) hS.2.2 dX1_update_24
    · refine lv_aload_n hx hb dX1_update_15 rfl (lv_at hl 0 rfl) ?_
      refine lv_iload_n hx hb dX1_update_16 rfl (lv_at hl 2 rfl) ?_
      refine vp_callSi (W.runV (As := [.int v]) (rest := []) ⟨hx, hb, hml, hown, hts⟩ (mX1_inRange l dC dI h cI cB st v) (cwV 1 hts (lw_V q105 q107 qs0 q11 q108) rfl rfl rfl (by decide +kernel) ⟨Nat.le_of_ble_eq_true rfl, Nat.le_of_ble_eq_true rfl⟩) ⟨qb_blind, va_recv hK hP (ci := 0) (q0 := 0) rfl rfl, fun U hU hW => ⟨rfl, by rw [hU]; exact hP, va_K.moved hW.alike hK⟩⟩ rfl rfl hl.1 rfl (lv_room (Nat.le_of_ble_eq_true rfl)) dX1_update_17 ⟨Nat.le_of_ble_eq_true rfl, Nat.le_of_ble_eq_true rfl⟩) (fun r_3 hr_3 => ?_)
      have hr_3 : r_3 = x_inRange st v := hr_3
      subst hr_3
      refine lv_if_ne (tgt := 25) hx hb dX1_update_20 (by decide) (fun c_4 => ?_) (fun c_4 => ?_)
      · refine lv_iload_n hx hb dX1_update_25 rfl (lv_at hl 1 rfl) ?_
        refine lv_aload_n hx hb dX1_update_26 rfl (lv_at hl 0 rfl) ?_
        refine va_get (D := (dC, dI)) (ci := 0) (v := .int (st.1 3)) (C := RX1) (T := TX1) (N := 23) hx hb hts in_X1 hown hK hP 0 rfl rfl 3 (by decide) (hts _ q25) (fun _ h9 => h9) rfl dX1_update_27 ?_
        refine lv_isub hx hb dX1_update_30 ?_
        refine lv_istore_n (lv' := [(3, .int (tt - (st.1 3))), (0, .ref (h 0)), (1, .int tt), (2, .int v)]) hx hb dX1_update_31 rfl hl (by decide) rfl (fun ls hl => ?_)
        refine lv_iload_n hx hb dX1_update_32 rfl (lv_at hl 0 rfl) ?_
        refine lv_aload_n hx hb dX1_update_33 rfl (lv_at hl 1 rfl) ?_
        refine va_get (D := (dC, dI)) (ci := 0) (v := .int (st.1 2)) (C := RX1) (T := TX1) (N := 23) hx hb hts in_X1 hown hK hP 0 rfl rfl 2 (by decide) (hts _ q24) (fun _ h9 => h9) rfl dX1_update_34 ?_
        refine ph_cut (J := 45) (rest := []) (if (tt - (st.1 3)) ≤ (st.1 2) then 0 else 1) (fun z_5 ez_5 => ?_) (fun hJ_5 => ?_)
        · refine lv_istore (lv' := [(4, .int z_5), (3, .int (tt - (st.1 3))), (0, .ref (h 0)), (1, .int tt), (2, .int v)]) hx hb dX1_update_45 hl (by decide) rfl (fun ls hl => ?_)
          refine lv_aload_n hx hb dX1_update_47 rfl (lv_at hl 2 rfl) ?_
          refine va_get (D := (dC, dI)) (ci := 0) (v := .int (st.1 0)) (C := RX1) (T := TX1) (N := 23) hx hb hts in_X1 hown hK hP 0 rfl rfl 0 (by decide) (hts _ q22) (fun _ h9 => h9) rfl dX1_update_48 ?_
          refine ph_cut (J := 72) (rest := []) (if (st.1 0) = 0 then 0 else ((v - (st.1 4)) + 256) &&& 255) (fun z_6 ez_6 => ?_) (fun hJ_6 => ?_)
          · refine lv_istore (lv' := [(5, .int z_6), (4, .int z_5), (3, .int (tt - (st.1 3))), (0, .ref (h 0)), (1, .int tt), (2, .int v)]) hx hb dX1_update_72 hl (by decide) rfl (fun ls hl => ?_)
            refine lv_iconst (v := 1) hx hb dX1_update_74 (by decide) ?_
            refine lv_istore (lv' := [(6, .int 1), (5, .int z_6), (4, .int z_5), (3, .int (tt - (st.1 3))), (0, .ref (h 0)), (1, .int tt), (2, .int v)]) hx hb dX1_update_75 hl (by decide) rfl (fun ls hl => ?_)
            obtain ⟨Mn, eM, hM1, hM2⟩ : ∃ Mn : Nat, tt - (st.1 3) = nI Mn ∧ 1 ≤ Mn ∧ Mn ≤ 240 := x_mom hT hT2 c_1 c_2
            have hM0 : ¬ tt - (st.1 3) = 0 := by rw [eM]; exact nI_ne0 (by omega) (by omega)
            refine lp_cutM (σ := SS × Int32) (nL := 8) (w := fun x => xw h cI cB x.1) (lv := fun x => [(0, .ref (h 0)), (1, .int tt), (2, .int v), (3, .int (tt - (st.1 3))), (4, .int z_5), (5, .int z_6), (6, .int x.2)]) (I := fun n x => ∃ K : Nat, x.2 = nI K ∧ K + n = Mn + 1 ∧ x_ulp v z_5 z_6 (tt - (st.1 3)) n x.2 x.1 = x_ulp v z_5 z_6 (tt - (st.1 3)) Mn 1 st) ?_ Mn (st, 1) ⟨1, rfl, by omega, rfl⟩ _ _ ls hP hD hS (lv_sub hl [4, 5, 6, 3, 2, 1, 0] rfl)
            intro n x hI ih H locs ls hP hD hS hl
            obtain ⟨st1, j⟩ := x
            have hP : va_P (dC, dI) clsL (xw h cI cB st1) H := hP
            have hD : va_D A (xw h cI cB st1) := hD
            have hl : lv_has ls 8 [(0, .ref (h 0)), (1, .int tt), (2, .int v), (3, .int (tt - (st.1 3))), (4, .int z_5), (5, .int z_6), (6, .int j)] := hl
            obtain ⟨K, eK, eN, eR⟩ := hI
            have eK : j = nI K := eK
            have eR : x_ulp v z_5 z_6 (tt - (st.1 3)) n j st1 = x_ulp v z_5 z_6 (tt - (st.1 3)) Mn 1 st := eR
            refine lv_iload hx hb dX1_update_77 (lv_at hl 6 rfl) ?_
            refine lv_iload_n hx hb dX1_update_79 rfl (lv_at hl 3 rfl) ?_
            refine lv_icmp_gt (tgt := 136) hx hb dX1_update_80 (by decide) (fun c_7 => ?_) (fun c_7 => ?_)
            · have n0 : n = 0 := by rw [eM, eK] at c_7; have := (nI_ltI (by omega) (by omega)).mp c_7; omega
              subst n0
              have eR : st1 = x_ulp v z_5 z_6 (tt - (st.1 3)) Mn 1 st := eR
              refine lv_aload_n hx hb dX1_update_136 rfl (lv_at hl 0 rfl) ?_
              refine lv_iload_n hx hb dX1_update_137 rfl (lv_at hl 2 rfl) ?_
              refine va_put (D := (dC, dI)) (ci := 0) (v := .int v) (ty := .int) (C := RX1) (T := TX1) (N := 23) hx hb hts in_X1 tyX1 tyX1_ok nmX1 hown hK hP hD hS 0 rfl rfl 4 (by decide) (hts _ q26) (fun _ h9 => h9) rfl (by decide +kernel) rfl rfl (Nat.le_of_ble_eq_true rfl) dX1_update_138 (fun H locs hP hD hS => ?_)
              obtain ⟨s_8, es_8⟩ : ∃ z : SS, z = sv st1 4 v := ⟨_, rfl⟩
              have hP : va_P (dC, dI) clsL (xw h cI cB s_8) H := by rw [es_8, ← xw_s4]; exact hP
              have hD : va_D A (xw h cI cB s_8) := by rw [es_8, ← xw_s4]; exact hD
              refine lv_iconst (v := 1) hx hb dX1_update_141 (by decide) ?_
              exact W.zret (v := 1) hx hb hr rfl (fun t ht hW => ⟨⟨1, s_8, rfl, (by show (1, s_8) = x_update st tt v; rw [es_8]; rw [x_update, if_neg c_1, if_neg c_2, if_neg c_4, eR]; subst ez_6; subst ez_5; rw [x_lost, x_gone, eM, nI_clamp (by omega)]), by rw [ht]; exact hP, va_K.moved hW.alike hK, hD⟩, hS.F ht⟩) hS.2.2 dX1_update_142
            · obtain ⟨n, rfl⟩ : ∃ n1, n = n1 + 1 := ⟨n - 1, by rw [eM, eK] at c_7; have : ¬ Mn < K := fun q => c_7 (nI_lt q (by omega)); omega⟩
              refine lv_iload_n hx hb dX1_update_83 rfl (lv_at hl 2 rfl) ?_
              refine lv_istore (lv' := [(7, .int v), (0, .ref (h 0)), (1, .int tt), (2, .int v), (3, .int (tt - (st.1 3))), (4, .int z_5), (5, .int z_6), (6, .int j)]) hx hb dX1_update_84 hl (by decide) rfl (fun ls hl => ?_)
              refine lv_iload hx hb dX1_update_86 (lv_at hl 5 rfl) ?_
              refine ph_cutL (J := 124) (nL := 8) (rest := []) (fun z => [(0, .ref (h 0)), (1, .int tt), (2, .int v), (3, .int (tt - (st.1 3))), (4, .int z_5), (5, .int z_6), (6, .int j), (7, .int z)]) (if z_5 = 0 then (if (st1.1 0) = 0 then v else ((z_6 * j) / (tt - (st.1 3))) - ((z_6 * (j - 1)) / (tt - (st.1 3)))) else (-100000)) (fun z_9 ez_9 ls hl => ?_) (fun hJ_9 => ?_)
              · have hl : lv_has ls 8 [(0, .ref (h 0)), (1, .int tt), (2, .int v), (3, .int (tt - (st.1 3))), (4, .int z_5), (5, .int z_6), (6, .int j), (7, .int z_9)] := hl
                refine lv_aload_n hx hb dX1_update_124 rfl (lv_at hl 0 rfl) ?_
                refine lv_iload hx hb dX1_update_125 (lv_at hl 7 rfl) ?_
                have hFc := va_free (wc := xw h cI cB st1) hD hS hA [0, 1, 2, 3, 4, 5, 6, 7, 8, 9, 10, 11, 12, 13] rfl
                refine va_callv (va_runV (As := [.int z_9]) (rest := []) ⟨hx, hb, hml, hown, hts⟩ (mX1_addMoment l dC dI h cI cB st1 z_9 _) (cwV 1 hts (lw_V q110 q112 qs1 q11 q113) rfl rfl rfl (by decide +kernel) ⟨Nat.le_of_ble_eq_true rfl, Nat.le_of_ble_eq_true rfl⟩) ⟨mb_blind, va_recv hK hP (ci := 0) (q0 := 0) rfl rfl, fun U hU hW => ⟨rfl, by rw [hU], by rw [hU]; exact hP, va_K.moved hW.alike hK, hD.weaken (fun _ _ _ _ => trivial)⟩⟩ rfl rfl hl.1 rfl (lv_room (Nat.le_of_ble_eq_true rfl)) dX1_update_127 ⟨Nat.le_of_ble_eq_true rfl, Nat.le_of_ble_eq_true rfl⟩) hS (fun q _ h => hFc q h) hFc (fun u_10 t H locs ht hvm hw_10 hB hz1 hk1 hS => ?_)
                obtain ⟨hP, hK1, hD1⟩ := hB
                rw [ht] at hP
                have hD := hD1.weaken (B := A) (fun k q _ h => hFc q.1 h)
                have hw_10 : u_10 = x_addMoment st1 z_9 := hw_10
                refine lv_iinc (v := j + 1) (lv' := [(6, .int (j + 1)), (0, .ref (h 0)), (1, .int tt), (2, .int v), (3, .int (tt - (st.1 3))), (4, .int z_5), (5, .int z_6), (7, .int z_9)]) hx hb dX1_update_130 hl (k := 6) rfl rfl (by decide) rfl (fun ls hl => ?_)
                refine lv_goto (tgt := 77) hx hb dX1_update_133 (by decide) ?_
                exact ih n (u_10, j + 1) (Nat.lt_succ_self _) ⟨K + 1, by show j + 1 = nI (K + 1); rw [eK]; exact nI_1 K, by omega, by rw [← eR, x_ulp, x_uval]; show x_ulp v z_5 z_6 (tt - (st.1 3)) n (j + 1) u_10 = _; rw [hw_10, ez_9]⟩ _ _ ls hP hD hS (lv_sub hl [1, 2, 3, 4, 5, 6, 0] rfl)
              · refine lv_if_eq (tgt := 98) hx hb dX1_update_88 (by decide) (fun c_11 => ?_) (fun c_11 => ?_)
                · refine lv_aload_n hx hb dX1_update_98 rfl (lv_at hl 1 rfl) ?_
                  refine va_get (D := (dC, dI)) (ci := 0) (v := .int (st1.1 0)) (C := RX1) (T := TX1) (N := 23) hx hb hts in_X1 hown hK hP 0 rfl rfl 0 (by decide) (hts _ q22) (fun _ h9 => h9) rfl dX1_update_99 ?_
                  refine lv_if_eq (tgt := 124) hx hb dX1_update_102 (by decide) (fun c_12 => ?_) (fun c_12 => ?_)
                  · exact hJ_9 _ (by rw [if_pos c_11, if_pos c_12]) _ (lv_sub hl [1, 2, 3, 4, 5, 6, 7, 0] rfl)
                  · refine lv_iload hx hb dX1_update_105 (lv_at hl 6 rfl) ?_
                    refine lv_iload hx hb dX1_update_107 (lv_at hl 7 rfl) ?_
                    refine lv_imul hx hb dX1_update_109 ?_
                    refine lv_iload_n hx hb dX1_update_110 rfl (lv_at hl 4 rfl) ?_
                    refine lv_idiv hx hb dX1_update_111 hM0 ?_
                    refine lv_iload hx hb dX1_update_112 (lv_at hl 6 rfl) ?_
                    refine lv_iload hx hb dX1_update_114 (lv_at hl 7 rfl) ?_
                    refine lv_iconst (v := 1) hx hb dX1_update_116 (by decide) ?_
                    refine lv_isub hx hb dX1_update_117 ?_
                    refine lv_imul hx hb dX1_update_118 ?_
                    refine lv_iload_n hx hb dX1_update_119 rfl (lv_at hl 4 rfl) ?_
                    refine lv_idiv hx hb dX1_update_120 hM0 ?_
                    refine lv_isub hx hb dX1_update_121 ?_
                    refine lv_istore (lv' := [(7, .int (((z_6 * j) / (tt - (st.1 3))) - ((z_6 * (j - 1)) / (tt - (st.1 3))))), (0, .ref (h 0)), (1, .int tt), (2, .int v), (3, .int (tt - (st.1 3))), (4, .int z_5), (5, .int z_6), (6, .int j)]) hx hb dX1_update_122 hl (by decide) rfl (fun ls hl => ?_)
                    exact hJ_9 _ (by rw [if_pos c_11, if_neg c_12]) _ (lv_sub hl [1, 2, 3, 4, 5, 6, 7, 0] rfl)
                · refine lv_ldc hx hb hown (hts _ q109) dX1_update_91 ?_
                  refine lv_istore (lv' := [(7, .int (-100000)), (0, .ref (h 0)), (1, .int tt), (2, .int v), (3, .int (tt - (st.1 3))), (4, .int z_5), (5, .int z_6), (6, .int j)]) hx hb dX1_update_93 hl (by decide) rfl (fun ls hl => ?_)
                  refine lv_goto (tgt := 124) hx hb dX1_update_95 (by decide) ?_
                  exact hJ_9 _ (by rw [if_neg c_11]) _ (lv_sub hl [1, 2, 3, 4, 5, 6, 7, 0] rfl)
          · refine lv_if_eq (tgt := 71) hx hb dX1_update_51 (by decide) (fun c_13 => ?_) (fun c_13 => ?_)
            · refine lv_iconst (v := 0) hx hb dX1_update_71 (by decide) ?_
              exact hJ_6 _ (by rw [if_pos c_13])
            · refine lv_iload_n hx hb dX1_update_54 rfl (lv_at hl 4 rfl) ?_
              refine lv_aload_n hx hb dX1_update_55 rfl (lv_at hl 2 rfl) ?_
              refine va_get (D := (dC, dI)) (ci := 0) (v := .int (st.1 4)) (C := RX1) (T := TX1) (N := 23) hx hb hts in_X1 hown hK hP 0 rfl rfl 4 (by decide) (hts _ q26) (fun _ h9 => h9) rfl dX1_update_56 ?_
              refine lv_isub hx hb dX1_update_59 ?_
              refine lv_sipush (v := 256) hx hb dX1_update_60 (by decide) ?_
              refine lv_iadd hx hb dX1_update_63 ?_
              refine lv_sipush (v := 255) hx hb dX1_update_64 (by decide) ?_
              refine lv_iand hx hb dX1_update_67 ?_
              refine lv_goto (tgt := 72) hx hb dX1_update_68 (by decide) ?_
              exact hJ_6 _ (by rw [if_neg c_13])
        · refine lv_icmp_le (tgt := 44) hx hb dX1_update_37 (by decide) (fun c_14 => ?_) (fun c_14 => ?_)
          · refine lv_iconst (v := 0) hx hb dX1_update_44 (by decide) ?_
            exact hJ_5 _ (by rw [if_pos c_14])
          · refine lv_iconst (v := 1) hx hb dX1_update_40 (by decide) ?_
            refine lv_goto (tgt := 45) hx hb dX1_update_41 (by decide) ?_
            exact hJ_5 _ (by rw [if_neg c_14])
      · refine lv_iconst (v := 0) hx hb dX1_update_23 (by decide) ?_
        exact W.zret (v := 0) hx hb hr rfl (fun t ht hW => ⟨⟨0, st, rfl, (by show (0, st) = x_update st tt v; (rw [x_update, if_neg c_1, if_neg c_2, if_pos c_4]); try rfl), by rw [ht]; exact hP, va_K.moved hW.alike hK, hD⟩, hS.F ht⟩) hS.2.2 dX1_update_24
end
section
theorem m_in241 {st : SS} {tt : Int32} {T : Nat} (hT : st.1 7 = nI T) (hT2 : T ≤ 240) (c1 : ¬ tt < 1) (c2 : ¬ st.1 7 < tt) : vp_in tt 241 := by
  rw [vp_in_iff]
  rw [hT, Int32.lt_iff_toInt_lt, nI_toInt (by omega)] at c2
  rw [Int32.lt_iff_toInt_lt] at c1
  have h1 : (1 : Int32).toInt = 1 := by decide
  omega

set_option maxHeartbeats 4000000 in
set_option maxRecDepth 100000 in
theorem mX2_floor (l : Launch) (dC : Nat → ClassId) (dI : Nat → Nat → Nat) (g : Nat → Nat) (cI : ClassId) (st : SS) (n d : Int32)  : Met l yX2_floor (ws_ yX2_floor cX2_floor 4 (some .int)) ({ frames := 0, cells := 0, slots := 0, locals := 0 }) (va_Pc [.ref (g 0), .int n, .int d] (qQ (dC, dI) (mw g cI st) [(cI, .int)])) (vp_Si (fun ans => ans = m_floor n d)) 0 0 (fun _ => False) := by
  refine Met.ofW (cc := cX2_floor) (maxL := 4) (ret := some .int) (by decide) rfl ?_
  intro p e s m args below meth c s₁ B hml hv
  obtain ⟨rfl, hP, hK⟩ := hv
  have hx := B.exec
  have hb := B.bytes
  have hr := B.returns
  have hts := atoms_spec (ws := ws_ yX2_floor cX2_floor 4 (some .int)) B.pre
  have hts : ∀ w ∈ lw_all, w.before _ s = true := fun w h => hts w (List.mem_cons_of_mem _ h)
  have hown : s.vm.findClass RX2 = some m.cls := findClass_of_methodNamed B.named
  have hlocks := B.notSynchronized
  have hl := lv_entry ([.ref (g 0), .int n, .int d]) (n := 4) (Nat.le_of_ble_eq_true rfl)
  rw [lg_entry_eq]
  generalize (lg_sl ([.ref (g 0), .int n, .int d]) ++ List.replicate (4 - (lg_sl ([.ref (g 0), .int n, .int d])).length) Slot.unset).toArray = ls at hl ⊢
  have hl : lv_has ls 4 [(0, .ref (g 0)), (1, .int n), (2, .int d)] := hl
  refine lv_iload_n hx hb dX2_floor_0 rfl (lv_at hl 2 rfl) ?_
  refine ph_cut (J := 11) (rest := []) (if d ≤ 0 then 0 else n / d) (fun z_1 ez_1 => ?_) (fun hJ_1 => ?_)
  · refine lv_istore_n (lv' := [(3, .int z_1), (0, .ref (g 0)), (1, .int n), (2, .int d)]) hx hb dX2_floor_11 rfl hl (by decide) rfl (fun ls hl => ?_)
    refine lv_iload_n hx hb dX2_floor_12 rfl (lv_at hl 3 rfl) ?_
    refine lv_if_le (tgt := 28) hx hb dX2_floor_13 (by decide) (fun c_2 => ?_) (fun c_2 => ?_)
    · refine lv_iload_n hx hb dX2_floor_28 rfl (lv_at hl 0 rfl) ?_
      exact W.iret (v := z_1) hx hb hr (fun t ht hW => ⟨_, rfl, (by show z_1 = m_floor n d; subst ez_1; simp only [m_floor, if_pos c_2]), ht⟩) (fun _ h => absurd h List.not_mem_nil) dX2_floor_29
    · refine lv_iload_n hx hb dX2_floor_16 rfl (lv_at hl 2 rfl) ?_
      refine lv_iload_n hx hb dX2_floor_17 rfl (lv_at hl 3 rfl) ?_
      refine lv_irem hx hb dX2_floor_18 (fun q0 => c_2 (by rw [q0]; decide)) ?_
      refine lv_if_ge (tgt := 28) hx hb dX2_floor_19 (by decide) (fun c_3 => ?_) (fun c_3 => ?_)
      · refine lv_iload_n hx hb dX2_floor_28 rfl (lv_at hl 0 rfl) ?_
        exact W.iret (v := z_1) hx hb hr (fun t ht hW => ⟨_, rfl, (by show z_1 = m_floor n d; subst ez_1; simp only [m_floor, if_neg c_2, if_pos c_3]), ht⟩) (fun _ h => absurd h List.not_mem_nil) dX2_floor_29
      · refine lv_iload_n hx hb dX2_floor_22 rfl (lv_at hl 0 rfl) ?_
        refine lv_iconst (v := 1) hx hb dX2_floor_23 (by decide) ?_
        refine lv_isub hx hb dX2_floor_24 ?_
        refine lv_goto (tgt := 29) hx hb dX2_floor_25 (by decide) ?_
        exact W.iret (v := z_1 - 1) hx hb hr (fun t ht hW => ⟨_, rfl, (by show z_1 - 1 = m_floor n d; subst ez_1; simp only [m_floor, if_neg c_2, if_neg c_3]), ht⟩) (fun _ h => absurd h List.not_mem_nil) dX2_floor_29
  · refine lv_if_le (tgt := 10) hx hb dX2_floor_1 (by decide) (fun c_4 => ?_) (fun c_4 => ?_)
    · refine lv_iconst (v := 0) hx hb dX2_floor_10 (by decide) ?_
      exact hJ_1 _ (by rw [if_pos c_4])
    · refine lv_iload_n hx hb dX2_floor_4 rfl (lv_at hl 1 rfl) ?_
      refine lv_iload_n hx hb dX2_floor_5 rfl (lv_at hl 2 rfl) ?_
      refine lv_idiv hx hb dX2_floor_6 (fun q0 => c_4 (by rw [q0]; decide)) ?_
      refine lv_goto (tgt := 11) hx hb dX2_floor_7 (by decide) ?_
      exact hJ_1 _ (by rw [if_neg c_4])

set_option maxHeartbeats 4000000 in
set_option maxRecDepth 100000 in
theorem mX2_lastTime (l : Launch) (dC : Nat → ClassId) (dI : Nat → Nat → Nat) (g : Nat → Nat) (cI : ClassId) (st : SS)  : Met l yX2_lastTime (ws_ yX2_lastTime cX2_lastTime 1 (some .int)) ({ frames := 0, cells := 0, slots := 0, locals := 0 }) (va_Pc [.ref (g 0)] (qQ (dC, dI) (mw g cI st) [(cI, .int)])) (vp_Si (fun ans => ans = st.1 7)) 0 0 (fun _ => False) := by
  refine Met.ofW (cc := cX2_lastTime) (maxL := 1) (ret := some .int) (by decide) rfl ?_
  intro p e s m args below meth c s₁ B hml hv
  obtain ⟨rfl, hP, hK⟩ := hv
  have hx := B.exec
  have hb := B.bytes
  have hr := B.returns
  have hts := atoms_spec (ws := ws_ yX2_lastTime cX2_lastTime 1 (some .int)) B.pre
  have hts : ∀ w ∈ lw_all, w.before _ s = true := fun w h => hts w (List.mem_cons_of_mem _ h)
  have hown : s.vm.findClass RX2 = some m.cls := findClass_of_methodNamed B.named
  have hlocks := B.notSynchronized
  have hl := lv_entry ([.ref (g 0)]) (n := 1) (Nat.le_of_ble_eq_true rfl)
  rw [lg_entry_eq]
  generalize (lg_sl ([.ref (g 0)]) ++ List.replicate (1 - (lg_sl ([.ref (g 0)])).length) Slot.unset).toArray = ls at hl ⊢
  have hl : lv_has ls 1 [(0, .ref (g 0))] := hl
  refine lv_aload_n hx hb dX2_lastTime_0 rfl (lv_at hl 0 rfl) ?_
  refine va_get (D := (dC, dI)) (ci := 1) (v := .int (st.1 7)) (C := RX2) (T := TX2) (N := 10) hx hb hts in_X2 hown hK hP 0 rfl rfl 7 (by decide) (hts _ q193) (fun _ h9 => h9) rfl dX2_lastTime_1 ?_
  exact W.iret (v := st.1 7) hx hb hr (fun t ht hW => ⟨_, rfl, (show st.1 7 = st.1 7 from rfl), ht⟩) (fun _ h => absurd h List.not_mem_nil) dX2_lastTime_4

set_option maxHeartbeats 4000000 in
set_option maxRecDepth 100000 in
theorem mX2_moment (l : Launch) (dC : Nat → ClassId) (dI : Nat → Nat → Nat) (g : Nat → Nat) (cI : ClassId) (st : SS) (tt : Int32) (T : Nat) (hT : st.1 7 = nI T) (hT2 : T ≤ 240) : Met l yX2_moment (ws_ yX2_moment cX2_moment 2 (some .int)) ({ frames := 0, cells := 0, slots := 0, locals := 0 }) (va_Pc [.ref (g 0), .int tt] (qQ (dC, dI) (mw g cI st) [(cI, .int)])) (vp_Si (fun ans => ans = m_moment st tt)) 0 0 (fun _ => False) := by
  refine Met.ofW (cc := cX2_moment) (maxL := 2) (ret := some .int) (by decide) rfl ?_
  intro p e s m args below meth c s₁ B hml hv
  obtain ⟨rfl, hP, hK⟩ := hv
  have hx := B.exec
  have hb := B.bytes
  have hr := B.returns
  have hts := atoms_spec (ws := ws_ yX2_moment cX2_moment 2 (some .int)) B.pre
  have hts : ∀ w ∈ lw_all, w.before _ s = true := fun w h => hts w (List.mem_cons_of_mem _ h)
  have hown : s.vm.findClass RX2 = some m.cls := findClass_of_methodNamed B.named
  have hlocks := B.notSynchronized
  have hl := lv_entry ([.ref (g 0), .int tt]) (n := 2) (Nat.le_of_ble_eq_true rfl)
  rw [lg_entry_eq]
  generalize (lg_sl ([.ref (g 0), .int tt]) ++ List.replicate (2 - (lg_sl ([.ref (g 0), .int tt])).length) Slot.unset).toArray = ls at hl ⊢
  have hl : lv_has ls 2 [(0, .ref (g 0)), (1, .int tt)] := hl
  refine lv_iload_n hx hb dX2_moment_0 rfl (lv_at hl 1 rfl) ?_
  refine lv_iconst (v := 1) hx hb dX2_moment_1 (by decide) ?_
  refine lv_icmp_lt (tgt := 24) hx hb dX2_moment_2 (by decide) (fun c_1 => ?_) (fun c_1 => ?_)
  · refine lv_ldc hx hb hown (hts _ q234) dX2_moment_24 ?_
    refine lv_goto (tgt := 35) hx hb dX2_moment_26 (by decide) ?_
    exact W.iret (v := (-200000)) hx hb hr (fun t ht hW => ⟨_, rfl, (by show (-200000) = m_moment st tt; (rw [m_moment, if_pos c_1]); try rfl), ht⟩) (fun _ h => absurd h List.not_mem_nil) dX2_moment_35
  · refine lv_iload_n hx hb dX2_moment_5 rfl (lv_at hl 1 rfl) ?_
    refine lv_aload_n hx hb dX2_moment_6 rfl (lv_at hl 0 rfl) ?_
    refine va_get (D := (dC, dI)) (ci := 1) (v := .int (st.1 7)) (C := RX2) (T := TX2) (N := 10) hx hb hts in_X2 hown hK hP 0 rfl rfl 7 (by decide) (hts _ q193) (fun _ h9 => h9) rfl dX2_moment_7 ?_
    refine lv_icmp_gt (tgt := 24) hx hb dX2_moment_10 (by decide) (fun c_2 => ?_) (fun c_2 => ?_)
    · refine lv_ldc hx hb hown (hts _ q234) dX2_moment_24 ?_
      refine lv_goto (tgt := 35) hx hb dX2_moment_26 (by decide) ?_
      exact W.iret (v := (-200000)) hx hb hr (fun t ht hW => ⟨_, rfl, (by show (-200000) = m_moment st tt; (rw [m_moment, if_neg c_1, if_pos c_2]); try rfl), ht⟩) (fun _ h => absurd h List.not_mem_nil) dX2_moment_35
    · refine lv_aload_n hx hb dX2_moment_13 rfl (lv_at hl 0 rfl) ?_
      refine va_get (D := (dC, dI)) (ci := 1) (v := .int (st.1 7)) (C := RX2) (T := TX2) (N := 10) hx hb hts in_X2 hown hK hP 0 rfl rfl 7 (by decide) (hts _ q193) (fun _ h9 => h9) rfl dX2_moment_14 ?_
      refine lv_iload_n hx hb dX2_moment_17 rfl (lv_at hl 1 rfl) ?_
      refine lv_isub hx hb dX2_moment_18 ?_
      refine lv_bipush (v := 30) hx hb dX2_moment_19 (by decide) ?_
      refine lv_icmp_le (tgt := 29) hx hb dX2_moment_21 (by decide) (fun c_3 => ?_) (fun c_3 => ?_)
      · refine lv_aload_n hx hb dX2_moment_29 rfl (lv_at hl 0 rfl) ?_
        refine va_get (D := (dC, dI)) (ci := 1) (v := .ref (g 5)) (C := RX2) (T := TX2) (N := 10) hx hb hts in_X2 hown hK hP 0 rfl rfl 9 (by decide) (hts _ q195) (fun _ h9 => h9) rfl dX2_moment_30 ?_
        refine lv_iload_n hx hb dX2_moment_33 rfl (lv_at hl 1 rfl) ?_
        refine va_iald (f := st.2 9) hx hb hK hP 5 0 rfl rfl (m_in241 hT hT2 c_1 c_2) dX2_moment_34 ?_
        exact W.iret (v := (st.2 9) tt.toNatClampNeg) hx hb hr (fun t ht hW => ⟨_, rfl, (by show (st.2 9) tt.toNatClampNeg = m_moment st tt; (rw [m_moment, if_neg c_1, if_neg c_2, if_pos c_3]); try rfl), ht⟩) (fun _ h => absurd h List.not_mem_nil) dX2_moment_35
      · refine lv_ldc hx hb hown (hts _ q234) dX2_moment_24 ?_
        refine lv_goto (tgt := 35) hx hb dX2_moment_26 (by decide) ?_
        exact W.iret (v := (-200000)) hx hb hr (fun t ht hW => ⟨_, rfl, (by show (-200000) = m_moment st tt; (rw [m_moment, if_neg c_1, if_neg c_2, if_neg c_3]); try rfl), ht⟩) (fun _ h => absurd h List.not_mem_nil) dX2_moment_35

set_option maxHeartbeats 4000000 in
set_option maxRecDepth 100000 in
theorem mX2_steps (l : Launch) (dC : Nat → ClassId) (dI : Nat → Nat → Nat) (g : Nat → Nat) (cI : ClassId) (st : SS) (hw : ¬ st.1 1 = 0) : Met l yX2_steps (ws_ yX2_steps cX2_steps 1 (some .int)) ({ frames := 0, cells := 0, slots := 0, locals := 0 }) (va_Pc [.ref (g 0)] (qQ (dC, dI) (mw g cI st) [(cI, .int)])) (vp_Si (fun ans => ans = st.1 7 / st.1 1)) 0 0 (fun _ => False) := by
  refine Met.ofW (cc := cX2_steps) (maxL := 1) (ret := some .int) (by decide) rfl ?_
  intro p e s m args below meth c s₁ B hml hv
  obtain ⟨rfl, hP, hK⟩ := hv
  have hx := B.exec
  have hb := B.bytes
  have hr := B.returns
  have hts := atoms_spec (ws := ws_ yX2_steps cX2_steps 1 (some .int)) B.pre
  have hts : ∀ w ∈ lw_all, w.before _ s = true := fun w h => hts w (List.mem_cons_of_mem _ h)
  have hown : s.vm.findClass RX2 = some m.cls := findClass_of_methodNamed B.named
  have hlocks := B.notSynchronized
  have hl := lv_entry ([.ref (g 0)]) (n := 1) (Nat.le_of_ble_eq_true rfl)
  rw [lg_entry_eq]
  generalize (lg_sl ([.ref (g 0)]) ++ List.replicate (1 - (lg_sl ([.ref (g 0)])).length) Slot.unset).toArray = ls at hl ⊢
  have hl : lv_has ls 1 [(0, .ref (g 0))] := hl
  refine lv_aload_n hx hb dX2_steps_0 rfl (lv_at hl 0 rfl) ?_
  refine va_get (D := (dC, dI)) (ci := 1) (v := .int (st.1 7)) (C := RX2) (T := TX2) (N := 10) hx hb hts in_X2 hown hK hP 0 rfl rfl 7 (by decide) (hts _ q193) (fun _ h9 => h9) rfl dX2_steps_1 ?_
  refine lv_aload_n hx hb dX2_steps_4 rfl (lv_at hl 0 rfl) ?_
  refine va_get (D := (dC, dI)) (ci := 1) (v := .int (st.1 1)) (C := RX2) (T := TX2) (N := 10) hx hb hts in_X2 hown hK hP 0 rfl rfl 1 (by decide) (hts _ q187) (fun _ h9 => h9) rfl dX2_steps_5 ?_
  refine lv_idiv hx hb dX2_steps_8 hw ?_
  exact W.iret (v := (st.1 7) / (st.1 1)) hx hb hr (fun t ht hW => ⟨_, rfl, (show (st.1 7) / (st.1 1) = st.1 7 / st.1 1 from rfl), ht⟩) (fun _ h => absurd h List.not_mem_nil) dX2_steps_9

set_option maxHeartbeats 4000000 in
set_option maxRecDepth 100000 in
theorem mX2_pending (l : Launch) (dC : Nat → ClassId) (dI : Nat → Nat → Nat) (g : Nat → Nat) (cI : ClassId) (st : SS) (hw : ¬ st.1 1 = 0) : Met l yX2_pending (ws_ yX2_pending cX2_pending 1 (some .int)) ({ frames := 0, cells := 0, slots := 0, locals := 0 }) (va_Pc [.ref (g 0)] (qQ (dC, dI) (mw g cI st) [(cI, .int)])) (vp_Si (fun ans => ans = m_pend st)) 0 0 (fun _ => False) := by
  refine Met.ofW (cc := cX2_pending) (maxL := 1) (ret := some .int) (by decide) rfl ?_
  intro p e s m args below meth c s₁ B hml hv
  obtain ⟨rfl, hP, hK⟩ := hv
  have hx := B.exec
  have hb := B.bytes
  have hr := B.returns
  have hts := atoms_spec (ws := ws_ yX2_pending cX2_pending 1 (some .int)) B.pre
  have hts : ∀ w ∈ lw_all, w.before _ s = true := fun w h => hts w (List.mem_cons_of_mem _ h)
  have hown : s.vm.findClass RX2 = some m.cls := findClass_of_methodNamed B.named
  have hlocks := B.notSynchronized
  have hl := lv_entry ([.ref (g 0)]) (n := 1) (Nat.le_of_ble_eq_true rfl)
  rw [lg_entry_eq]
  generalize (lg_sl ([.ref (g 0)]) ++ List.replicate (1 - (lg_sl ([.ref (g 0)])).length) Slot.unset).toArray = ls at hl ⊢
  have hl : lv_has ls 1 [(0, .ref (g 0))] := hl
  refine lv_aload_n hx hb dX2_pending_0 rfl (lv_at hl 0 rfl) ?_
  refine va_get (D := (dC, dI)) (ci := 1) (v := .int (st.1 7)) (C := RX2) (T := TX2) (N := 10) hx hb hts in_X2 hown hK hP 0 rfl rfl 7 (by decide) (hts _ q193) (fun _ h9 => h9) rfl dX2_pending_1 ?_
  refine lv_aload_n hx hb dX2_pending_4 rfl (lv_at hl 0 rfl) ?_
  refine va_get (D := (dC, dI)) (ci := 1) (v := .int (st.1 1)) (C := RX2) (T := TX2) (N := 10) hx hb hts in_X2 hown hK hP 0 rfl rfl 1 (by decide) (hts _ q187) (fun _ h9 => h9) rfl dX2_pending_5 ?_
  refine lv_irem hx hb dX2_pending_8 hw ?_
  exact W.iret (v := (st.1 7) - (st.1 7) / (st.1 1) * (st.1 1)) hx hb hr (fun t ht hW => ⟨_, rfl, (by show (st.1 7) - (st.1 7) / (st.1 1) * (st.1 1) = m_pend st; (rw [m_pend]); try rfl), ht⟩) (fun _ h => absurd h List.not_mem_nil) dX2_pending_9

set_option maxHeartbeats 4000000 in
set_option maxRecDepth 100000 in
theorem mX2_step (l : Launch) (dC : Nat → ClassId) (dI : Nat → Nat → Nat) (g : Nat → Nat) (cI : ClassId) (st : SS) (kk : Int32) (w K : Nat) (hw : st.1 1 = nI w) (hw1 : 1 ≤ w) (hw2 : w ≤ 6) (hk : kk = nI K) (hK2 : (K + 1) * w ≤ 240) : Met l yX2_step (ws_ yX2_step cX2_step 5 (some .int)) ({ frames := 1, cells := 0, slots := 0, locals := 23 }) (va_Pc [.ref (g 0), .int kk] (qQ (dC, dI) (mw g cI st) [(cI, .int)])) (vp_Si (fun ans => ans = stepV (st.2 9) w K)) 0 0 (fun _ => False) := by
  refine Met.ofW (cc := cX2_step) (maxL := 5) (ret := some .int) (by decide) rfl ?_
  intro p e s m args below meth c s₁ B hml hv
  obtain ⟨rfl, hP, hK⟩ := hv
  have hx := B.exec
  have hb := B.bytes
  have hr := B.returns
  have hts := atoms_spec (ws := ws_ yX2_step cX2_step 5 (some .int)) B.pre
  have hts : ∀ w ∈ lw_all, w.before _ s = true := fun w h => hts w (List.mem_cons_of_mem _ h)
  have hown : s.vm.findClass RX2 = some m.cls := findClass_of_methodNamed B.named
  have hlocks := B.notSynchronized
  have hl := lv_entry ([.ref (g 0), .int kk]) (n := 5) (Nat.le_of_ble_eq_true rfl)
  rw [lg_entry_eq]
  generalize (lg_sl ([.ref (g 0), .int kk]) ++ List.replicate (5 - (lg_sl ([.ref (g 0), .int kk])).length) Slot.unset).toArray = ls at hl ⊢
  have hl : lv_has ls 5 [(0, .ref (g 0)), (1, .int kk)] := hl
  refine lv_iconst (v := 0) hx hb dX2_step_0 (by decide) ?_
  refine lv_istore_n (lv' := [(2, .int 0), (0, .ref (g 0)), (1, .int kk)]) hx hb dX2_step_1 rfl hl (by decide) rfl (fun ls hl => ?_)
  refine lv_iconst (v := 0) hx hb dX2_step_2 (by decide) ?_
  refine lv_istore_n (lv' := [(3, .int 0), (2, .int 0), (0, .ref (g 0)), (1, .int kk)]) hx hb dX2_step_3 rfl hl (by decide) rfl (fun ls hl => ?_)
  refine lv_iload_n hx hb dX2_step_4 rfl (lv_at hl 3 rfl) ?_
  refine lv_aload_n hx hb dX2_step_5 rfl (lv_at hl 2 rfl) ?_
  refine va_get (D := (dC, dI)) (ci := 1) (v := .int (st.1 1)) (C := RX2) (T := TX2) (N := 10) hx hb hts in_X2 hown hK hP 0 rfl rfl 1 (by decide) (hts _ q187) (fun _ h9 => h9) rfl dX2_step_6 ?_
  refine lv_imul hx hb dX2_step_9 ?_
  refine lv_iconst (v := 1) hx hb dX2_step_10 (by decide) ?_
  refine lv_iadd hx hb dX2_step_11 ?_
  refine lv_istore (lv' := [(4, .int ((kk * (st.1 1)) + 1)), (3, .int 0), (2, .int 0), (0, .ref (g 0)), (1, .int kk)]) hx hb dX2_step_12 hl (by decide) rfl (fun ls hl => ?_)
  refine lp_cut (σ := Int32 × Int32 × Int32) (nL := 5) (lv := fun x => [(0, .ref (g 0)), (1, .int kk), (2, .int x.1), (3, .int x.2.1), (4, .int x.2.2)]) (I := fun n x => ∃ i : Nat, i + n = w ∧ x.2.2 = nI (K * w + i + 1) ∧ x.1 = kS (st.2 9) (K * w) i ∧ x.2.1 = nI (kC (st.2 9) (K * w) i)) ?_ w (0, 0, (kk * (st.1 1)) + 1) ⟨0, by omega, by show kk * st.1 1 + 1 = _; rw [hk, hw, pk_mul]; exact nI_1 _, rfl, rfl⟩ ls (lv_sub hl [3, 4, 2, 1, 0] rfl)
  intro n x hI ih ls hl
  obtain ⟨sm, ct, tt⟩ := x
  have hl : lv_has ls 5 [(0, .ref (g 0)), (1, .int kk), (2, .int sm), (3, .int ct), (4, .int tt)] := hl
  obtain ⟨i, eN, eT, eS, eC⟩ := hI
  have eT : tt = nI (K * w + i + 1) := eT
  have eS : sm = kS (st.2 9) (K * w) i := eS
  have eC : ct = nI (kC (st.2 9) (K * w) i) := eC
  have eB : (kk + 1) * st.1 1 = nI ((K + 1) * w) := by rw [hk, hw, nI_1, pk_mul]
  have eX : (K + 1) * w = K * w + w := Nat.succ_mul K w
  refine lv_iload hx hb dX2_step_14 (lv_at hl 4 rfl) ?_
  refine lv_iload_n hx hb dX2_step_16 rfl (lv_at hl 1 rfl) ?_
  refine lv_iconst (v := 1) hx hb dX2_step_17 (by decide) ?_
  refine lv_iadd hx hb dX2_step_18 ?_
  refine lv_aload_n hx hb dX2_step_19 rfl (lv_at hl 0 rfl) ?_
  refine va_get (D := (dC, dI)) (ci := 1) (v := .int (st.1 1)) (C := RX2) (T := TX2) (N := 10) hx hb hts in_X2 hown hK hP 0 rfl rfl 1 (by decide) (hts _ q187) (fun _ h9 => h9) rfl dX2_step_20 ?_
  refine lv_imul hx hb dX2_step_23 ?_
  refine lv_icmp_gt (tgt := 66) hx hb dX2_step_24 (by decide) (fun c_1 => ?_) (fun c_1 => ?_)
  · have n0 : n = 0 := by rw [eB, eT] at c_1; have := (nI_ltI (by omega) (by omega)).mp c_1; omega
    refine lv_iconst (v := 2) hx hb dX2_step_66 (by decide) ?_
    refine lv_aload_n hx hb dX2_step_67 rfl (lv_at hl 0 rfl) ?_
    refine va_get (D := (dC, dI)) (ci := 1) (v := .int (st.1 1)) (C := RX2) (T := TX2) (N := 10) hx hb hts in_X2 hown hK hP 0 rfl rfl 1 (by decide) (hts _ q187) (fun _ h9 => h9) rfl dX2_step_68 ?_
    refine lv_iload_n hx hb dX2_step_71 rfl (lv_at hl 3 rfl) ?_
    refine lv_isub hx hb dX2_step_72 ?_
    refine lv_imul hx hb dX2_step_73 ?_
    refine lv_aload_n hx hb dX2_step_74 rfl (lv_at hl 0 rfl) ?_
    refine va_get (D := (dC, dI)) (ci := 1) (v := .int (st.1 1)) (C := RX2) (T := TX2) (N := 10) hx hb hts in_X2 hown hK hP 0 rfl rfl 1 (by decide) (hts _ q187) (fun _ h9 => h9) rfl dX2_step_75 ?_
    refine lv_icmp_gt (tgt := 90) hx hb dX2_step_78 (by decide) (fun c_2 => ?_) (fun c_2 => ?_)
    · refine lv_ldc hx hb hown (hts _ q225) dX2_step_90 ?_
      exact W.iret (v := (-100000)) hx hb hr (fun t ht hW => ⟨_, rfl, (by show (-100000) = stepV (st.2 9) w K; have e0 : n = 0 := n0; have e1 : i = w := (by omega); subst e1; rw [stepV, if_pos (by rw [← hw, ← eC]; exact c_2)]), ht⟩) (fun _ h => absurd h List.not_mem_nil) dX2_step_92
    · refine lv_aload_n hx hb dX2_step_81 rfl (lv_at hl 0 rfl) ?_
      refine lv_iload_n hx hb dX2_step_82 rfl (lv_at hl 2 rfl) ?_
      refine lv_iload_n hx hb dX2_step_83 rfl (lv_at hl 3 rfl) ?_
      refine vp_callSi (W.runV (As := [.int sm, .int ct]) (rest := []) ⟨hx, hb, hml, hown, hts⟩ (mX2_floor l dC dI g cI st sm ct) (cwV 2 hts (lw_V q248 q250 qs8 q12 q251) rfl rfl rfl (by decide +kernel) ⟨Nat.le_of_ble_eq_true rfl, Nat.le_of_ble_eq_true rfl⟩) ⟨qb_blind, va_recv hK hP (ci := 1) (q0 := 0) rfl rfl, fun U hU hW => ⟨rfl, by rw [hU]; exact hP, va_K.moved hW.alike hK⟩⟩ rfl rfl hl.1 rfl (lv_room (Nat.le_of_ble_eq_true rfl)) dX2_step_84 ⟨Nat.le_of_ble_eq_true rfl, Nat.le_of_ble_eq_true rfl⟩) (fun r_3 hr_3 => ?_)
      have hr_3 : r_3 = m_floor sm ct := hr_3
      subst hr_3
      refine lv_goto (tgt := 92) hx hb dX2_step_87 (by decide) ?_
      exact W.iret (v := m_floor sm ct) hx hb hr (fun t ht hW => ⟨_, rfl, (by show m_floor sm ct = stepV (st.2 9) w K; have e0 : n = 0 := n0; have e1 : i = w := (by omega); subst e1; rw [stepV, if_neg (by rw [← hw, ← eC]; exact c_2), eS, eC]), ht⟩) (fun _ h => absurd h List.not_mem_nil) dX2_step_92
  · obtain ⟨n, rfl⟩ : ∃ n1, n = n1 + 1 := ⟨n - 1, by rw [eB, eT] at c_1; have : ¬ (K + 1) * w < K * w + i + 1 := fun q => c_1 (nI_lt q (by omega)); omega⟩
    have eT2 : (st.2 9) (K * w + i + 1) = (st.2 9) tt.toNatClampNeg := by rw [eT, nI_clamp (by omega)]
    refine lv_iload hx hb dX2_step_27 (lv_at hl 4 rfl) ?_
    refine lv_sipush (v := 240) hx hb dX2_step_29 (by decide) ?_
    refine lv_icmp_gt (tgt := 66) hx hb dX2_step_32 (by decide) (fun c_4 => ?_) (fun c_4 => ?_)
    · exact absurd c_4 (by rw [eT]; exact fun q => absurd ((nI_ltI (a := 240) (by omega) (by omega)).mp q) (by omega))
    · refine lv_aload_n hx hb dX2_step_35 rfl (lv_at hl 0 rfl) ?_
      refine va_get (D := (dC, dI)) (ci := 1) (v := .ref (g 5)) (C := RX2) (T := TX2) (N := 10) hx hb hts in_X2 hown hK hP 0 rfl rfl 9 (by decide) (hts _ q195) (fun _ h9 => h9) rfl dX2_step_36 ?_
      refine lv_iload hx hb dX2_step_39 (lv_at hl 4 rfl) ?_
      refine va_iald (f := st.2 9) hx hb hK hP 5 0 rfl rfl (by rw [eT]; exact vp_in_nI (by omega) (by decide)) dX2_step_41 ?_
      refine lv_ldc hx hb hown (hts _ q225) dX2_step_42 ?_
      refine lv_icmp_eq (tgt := 60) hx hb dX2_step_44 (by decide) (fun c_5 => ?_) (fun c_5 => ?_)
      · refine lv_iinc (v := tt + 1) (lv' := [(4, .int (tt + 1)), (0, .ref (g 0)), (1, .int kk), (2, .int sm), (3, .int ct)]) hx hb dX2_step_60 hl (k := 4) rfl rfl (by decide) rfl (fun ls hl => ?_)
        refine lv_goto (tgt := 14) hx hb dX2_step_63 (by decide) ?_
        exact ih n (sm, ct, tt + 1) (Nat.lt_succ_self _) ⟨i + 1, by omega, by show tt + 1 = _; rw [eT]; exact nI_1 _, by show _ = kS _ _ (i + 1); rw [kS, eT2, if_pos c_5, eS], by show _ = nI (kC _ _ (i + 1)); rw [kC, eT2, if_pos c_5, eC]⟩ ls (lv_sub hl [1, 2, 3, 4, 0] rfl)
      · refine lv_iload_n hx hb dX2_step_47 rfl (lv_at hl 2 rfl) ?_
        refine lv_aload_n hx hb dX2_step_48 rfl (lv_at hl 0 rfl) ?_
        refine va_get (D := (dC, dI)) (ci := 1) (v := .ref (g 5)) (C := RX2) (T := TX2) (N := 10) hx hb hts in_X2 hown hK hP 0 rfl rfl 9 (by decide) (hts _ q195) (fun _ h9 => h9) rfl dX2_step_49 ?_
        refine lv_iload hx hb dX2_step_52 (lv_at hl 4 rfl) ?_
        refine va_iald (f := st.2 9) hx hb hK hP 5 0 rfl rfl (by rw [eT]; exact vp_in_nI (by omega) (by decide)) dX2_step_54 ?_
        refine lv_iadd hx hb dX2_step_55 ?_
        refine lv_istore_n (lv' := [(2, .int (sm + ((st.2 9) tt.toNatClampNeg))), (0, .ref (g 0)), (1, .int kk), (3, .int ct), (4, .int tt)]) hx hb dX2_step_56 rfl hl (by decide) rfl (fun ls hl => ?_)
        refine lv_iinc (v := ct + 1) (lv' := [(3, .int (ct + 1)), (2, .int (sm + ((st.2 9) tt.toNatClampNeg))), (0, .ref (g 0)), (1, .int kk), (4, .int tt)]) hx hb dX2_step_57 hl (k := 3) rfl rfl (by decide) rfl (fun ls hl => ?_)
        refine lv_iinc (v := tt + 1) (lv' := [(4, .int (tt + 1)), (3, .int (ct + 1)), (2, .int (sm + ((st.2 9) tt.toNatClampNeg))), (0, .ref (g 0)), (1, .int kk)]) hx hb dX2_step_60 hl (k := 4) rfl rfl (by decide) rfl (fun ls hl => ?_)
        refine lv_goto (tgt := 14) hx hb dX2_step_63 (by decide) ?_
        exact ih n (sm + ((st.2 9) tt.toNatClampNeg), ct + 1, tt + 1) (Nat.lt_succ_self _) ⟨i + 1, by omega, by show tt + 1 = _; rw [eT]; exact nI_1 _, by show _ = kS _ _ (i + 1); rw [kS, eT2, if_neg c_5, eS], by show _ = nI (kC _ _ (i + 1)); rw [kC, eT2, if_neg c_5, eC]; exact nI_1 _⟩ ls (lv_sub hl [3, 4, 2, 1, 0] rfl)

set_option maxHeartbeats 4000000 in
set_option maxRecDepth 100000 in
theorem mX2_made (l : Launch) (dC : Nat → ClassId) (dI : Nat → Nat → Nat) (g : Nat → Nat) (cI : ClassId) (st : SS) (a rr : Int32) (ha : arO a) (w N Rr : Nat) (hw : st.1 1 = nI w) (hw1 : 1 ≤ w) (hw2 : w ≤ 6) (hN : st.2 3 a.toNatClampNeg = nI N) (hN1 : 1 ≤ N) (hN2 : N ≤ 4) (hr2 : rr = nI Rr) (hR : (Rr + 1) * N * w ≤ 240) : Met l yX2_made (ws_ yX2_made cX2_made 10 (some .int)) ({ frames := 2, cells := 0, slots := 0, locals := 47 }) (va_Pc [.ref (g 0), .int a, .int rr] (qQ (dC, dI) (mw g cI st) [(cI, .int)])) (vp_Si (fun ans => ans = rowV (stepV (st.2 9) w) N (st.2 4 a.toNatClampNeg) (st.2 5 a.toNatClampNeg) Rr)) 0 0 (fun _ => False) := by
  refine Met.ofW (cc := cX2_made) (maxL := 10) (ret := some .int) (by decide) rfl ?_
  intro p e s m args below meth c s₁ B hml hv
  obtain ⟨rfl, hP, hK⟩ := hv
  have hx := B.exec
  have hb := B.bytes
  have hr := B.returns
  have hts := atoms_spec (ws := ws_ yX2_made cX2_made 10 (some .int)) B.pre
  have hts : ∀ w ∈ lw_all, w.before _ s = true := fun w h => hts w (List.mem_cons_of_mem _ h)
  have hown : s.vm.findClass RX2 = some m.cls := findClass_of_methodNamed B.named
  have hlocks := B.notSynchronized
  have hl := lv_entry ([.ref (g 0), .int a, .int rr]) (n := 10) (Nat.le_of_ble_eq_true rfl)
  rw [lg_entry_eq]
  generalize (lg_sl ([.ref (g 0), .int a, .int rr]) ++ List.replicate (10 - (lg_sl ([.ref (g 0), .int a, .int rr])).length) Slot.unset).toArray = ls at hl ⊢
  have hl : lv_has ls 10 [(0, .ref (g 0)), (1, .int a), (2, .int rr)] := hl
  refine lv_iconst (v := 0) hx hb dX2_made_0 (by decide) ?_
  refine lv_istore_n (lv' := [(3, .int 0), (0, .ref (g 0)), (1, .int a), (2, .int rr)]) hx hb dX2_made_1 rfl hl (by decide) rfl (fun ls hl => ?_)
  refine lv_iconst (v := 0) hx hb dX2_made_2 (by decide) ?_
  refine lv_istore (lv' := [(4, .int 0), (3, .int 0), (0, .ref (g 0)), (1, .int a), (2, .int rr)]) hx hb dX2_made_3 hl (by decide) rfl (fun ls hl => ?_)
  refine lv_iconst (v := 0) hx hb dX2_made_5 (by decide) ?_
  refine lv_istore (lv' := [(5, .int 0), (4, .int 0), (3, .int 0), (0, .ref (g 0)), (1, .int a), (2, .int rr)]) hx hb dX2_made_6 hl (by decide) rfl (fun ls hl => ?_)
  refine lv_iconst (v := 0) hx hb dX2_made_8 (by decide) ?_
  refine lv_istore (lv' := [(6, .int 0), (5, .int 0), (4, .int 0), (3, .int 0), (0, .ref (g 0)), (1, .int a), (2, .int rr)]) hx hb dX2_made_9 hl (by decide) rfl (fun ls hl => ?_)
  refine lv_iconst (v := 0) hx hb dX2_made_11 (by decide) ?_
  refine lv_istore (lv' := [(7, .int 0), (6, .int 0), (5, .int 0), (4, .int 0), (3, .int 0), (0, .ref (g 0)), (1, .int a), (2, .int rr)]) hx hb dX2_made_12 hl (by decide) rfl (fun ls hl => ?_)
  refine lv_iload_n hx hb dX2_made_14 rfl (lv_at hl 7 rfl) ?_
  refine lv_aload_n hx hb dX2_made_15 rfl (lv_at hl 5 rfl) ?_
  refine va_get (D := (dC, dI)) (ci := 1) (v := .ref (g 1)) (C := RX2) (T := TX2) (N := 10) hx hb hts in_X2 hown hK hP 0 rfl rfl 3 (by decide) (hts _ q189) (fun _ h9 => h9) rfl dX2_made_16 ?_
  refine lv_iload_n hx hb dX2_made_19 rfl (lv_at hl 6 rfl) ?_
  refine va_iald (f := st.2 3) hx hb hK hP 1 0 rfl rfl (in2 ha) dX2_made_20 ?_
  refine lv_imul hx hb dX2_made_21 ?_
  refine lv_istore (lv' := [(8, .int (rr * ((st.2 3) a.toNatClampNeg))), (7, .int 0), (6, .int 0), (5, .int 0), (4, .int 0), (3, .int 0), (0, .ref (g 0)), (1, .int a), (2, .int rr)]) hx hb dX2_made_22 hl (by decide) rfl (fun ls hl => ?_)
  refine lp_cut (σ := Int32 × Int32 × Int32 × Int32 × Int32 × Int32) (nL := 10) (lv := fun x => [(0, .ref (g 0)), (1, .int a), (2, .int rr), (3, .int x.1), (4, .int x.2.1), (5, .int x.2.2.1), (6, .int x.2.2.2.1), (7, .int x.2.2.2.2.1), (8, .int x.2.2.2.2.2)]) (I := fun n x => ∃ i : Nat, i + n = N ∧ x.2.2.2.2.2 = nI (Rr * N + i) ∧ x.1 = nI (rF (stepV (st.2 9) w) (Rr * N) i).1 ∧ x.2.1 = (rF (stepV (st.2 9) w) (Rr * N) i).2.1 ∧ x.2.2.1 = (rF (stepV (st.2 9) w) (Rr * N) i).2.2.1 ∧ x.2.2.2.1 = (rF (stepV (st.2 9) w) (Rr * N) i).2.2.2.1 ∧ x.2.2.2.2.1 = (rF (stepV (st.2 9) w) (Rr * N) i).2.2.2.2) ?_ N (0, 0, 0, 0, 0, rr * ((st.2 3) a.toNatClampNeg)) ⟨0, by omega, by show rr * st.2 3 a.toNatClampNeg = _; rw [hr2, hN, pk_mul]; rfl, rfl, rfl, rfl, rfl, rfl⟩ ls (lv_sub hl [6, 7, 8, 5, 4, 3, 2, 1, 0] rfl)
  intro n x hI ih ls hl
  obtain ⟨ct, sm, lw, hg, en, k8⟩ := x
  have hl : lv_has ls 10 [(0, .ref (g 0)), (1, .int a), (2, .int rr), (3, .int ct), (4, .int sm), (5, .int lw), (6, .int hg), (7, .int en), (8, .int k8)] := hl
  obtain ⟨i, eN, eK, eC, eS, eL, eH, eE⟩ := hI
  have eK : k8 = nI (Rr * N + i) := eK
  have eC : ct = nI (rF (stepV (st.2 9) w) (Rr * N) i).1 := eC
  have eS : sm = (rF (stepV (st.2 9) w) (Rr * N) i).2.1 := eS
  have eL : lw = (rF (stepV (st.2 9) w) (Rr * N) i).2.2.1 := eL
  have eH : hg = (rF (stepV (st.2 9) w) (Rr * N) i).2.2.2.1 := eH
  have eE : en = (rF (stepV (st.2 9) w) (Rr * N) i).2.2.2.2 := eE
  have eB : (rr + 1) * st.2 3 a.toNatClampNeg = nI ((Rr + 1) * N) := by rw [hr2, hN, nI_1, pk_mul]
  have eX : (Rr + 1) * N = Rr * N + N := Nat.succ_mul Rr N
  have hb3 := rF_le (stepV (st.2 9) w) (Rr * N) i
  have hb4 : (rF (stepV (st.2 9) w) (Rr * N) i).1 < 2 ^ 31 := by omega
  have f0 : ct = 0 ↔ (rF (stepV (st.2 9) w) (Rr * N) i).1 = 0 := by rw [eC]; exact nI0 hb4
  have hQ : (Rr + 1) * N ≤ 240 := Nat.le_trans (Nat.le_mul_of_pos_right _ (by omega)) hR
  refine lv_iload hx hb dX2_made_24 (lv_at hl 8 rfl) ?_
  refine lv_iload_n hx hb dX2_made_26 rfl (lv_at hl 2 rfl) ?_
  refine lv_iconst (v := 1) hx hb dX2_made_27 (by decide) ?_
  refine lv_iadd hx hb dX2_made_28 ?_
  refine lv_aload_n hx hb dX2_made_29 rfl (lv_at hl 0 rfl) ?_
  refine va_get (D := (dC, dI)) (ci := 1) (v := .ref (g 1)) (C := RX2) (T := TX2) (N := 10) hx hb hts in_X2 hown hK hP 0 rfl rfl 3 (by decide) (hts _ q189) (fun _ h9 => h9) rfl dX2_made_30 ?_
  refine lv_iload_n hx hb dX2_made_33 rfl (lv_at hl 1 rfl) ?_
  refine va_iald (f := st.2 3) hx hb hK hP 1 0 rfl rfl (in2 ha) dX2_made_34 ?_
  refine lv_imul hx hb dX2_made_35 ?_
  refine lv_icmp_ge (tgt := 114) hx hb dX2_made_36 (by decide) (fun c_1 => ?_) (fun c_1 => ?_)
  · have n0 : n = 0 := by rw [eB, eK] at c_1; have := (nI_leI (by omega) (by omega)).mp c_1; omega
    refine lv_iload_n hx hb dX2_made_114 rfl (lv_at hl 3 rfl) ?_
    refine lv_if_eq (tgt := 135) hx hb dX2_made_115 (by decide) (fun c_2 => ?_) (fun c_2 => ?_)
    · refine lv_ldc hx hb hown (hts _ q225) dX2_made_135 ?_
      exact W.iret (v := (-100000)) hx hb hr (fun t ht hW => ⟨_, rfl, (by show (-100000) = rowV (stepV (st.2 9) w) N (st.2 4 a.toNatClampNeg) (st.2 5 a.toNatClampNeg) Rr; have e1 : i = N := (by omega); subst e1; rw [rowV, rowF, if_pos (f0.mp c_2)]), ht⟩) (fun _ h => absurd h List.not_mem_nil) dX2_made_137
    · refine lv_aload_n hx hb dX2_made_118 rfl (lv_at hl 0 rfl) ?_
      refine va_get (D := (dC, dI)) (ci := 1) (v := .ref (g 1)) (C := RX2) (T := TX2) (N := 10) hx hb hts in_X2 hown hK hP 0 rfl rfl 3 (by decide) (hts _ q189) (fun _ h9 => h9) rfl dX2_made_119 ?_
      refine lv_iload_n hx hb dX2_made_122 rfl (lv_at hl 1 rfl) ?_
      refine va_iald (f := st.2 3) hx hb hK hP 1 0 rfl rfl (in2 ha) dX2_made_123 ?_
      refine lv_iload_n hx hb dX2_made_124 rfl (lv_at hl 3 rfl) ?_
      refine lv_isub hx hb dX2_made_125 ?_
      refine lv_aload_n hx hb dX2_made_126 rfl (lv_at hl 0 rfl) ?_
      refine va_get (D := (dC, dI)) (ci := 1) (v := .ref (g 3)) (C := RX2) (T := TX2) (N := 10) hx hb hts in_X2 hown hK hP 0 rfl rfl 5 (by decide) (hts _ q191) (fun _ h9 => h9) rfl dX2_made_127 ?_
      refine lv_iload_n hx hb dX2_made_130 rfl (lv_at hl 1 rfl) ?_
      refine va_iald (f := st.2 5) hx hb hK hP 3 0 rfl rfl (in2 ha) dX2_made_131 ?_
      refine lv_icmp_le (tgt := 138) hx hb dX2_made_132 (by decide) (fun c_3 => ?_) (fun c_3 => ?_)
      · refine lv_aload_n hx hb dX2_made_138 rfl (lv_at hl 0 rfl) ?_
        refine va_get (D := (dC, dI)) (ci := 1) (v := .ref (g 2)) (C := RX2) (T := TX2) (N := 10) hx hb hts in_X2 hown hK hP 0 rfl rfl 4 (by decide) (hts _ q190) (fun _ h9 => h9) rfl dX2_made_139 ?_
        refine lv_iload_n hx hb dX2_made_142 rfl (lv_at hl 1 rfl) ?_
        refine va_iald (f := st.2 4) hx hb hK hP 2 0 rfl rfl (in2 ha) dX2_made_143 ?_
        refine lv_if_ne (tgt := 157) hx hb dX2_made_144 (by decide) (fun c_4 => ?_) (fun c_4 => ?_)
        · refine lv_aload_n hx hb dX2_made_157 rfl (lv_at hl 0 rfl) ?_
          refine va_get (D := (dC, dI)) (ci := 1) (v := .ref (g 2)) (C := RX2) (T := TX2) (N := 10) hx hb hts in_X2 hown hK hP 0 rfl rfl 4 (by decide) (hts _ q190) (fun _ h9 => h9) rfl dX2_made_158 ?_
          refine lv_iload_n hx hb dX2_made_161 rfl (lv_at hl 1 rfl) ?_
          refine va_iald (f := st.2 4) hx hb hK hP 2 0 rfl rfl (in2 ha) dX2_made_162 ?_
          refine lv_iconst (v := 1) hx hb dX2_made_163 (by decide) ?_
          refine lv_icmp_ne (tgt := 172) hx hb dX2_made_164 (by decide) (fun c_5 => ?_) (fun c_5 => ?_)
          · refine lv_aload_n hx hb dX2_made_172 rfl (lv_at hl 0 rfl) ?_
            refine va_get (D := (dC, dI)) (ci := 1) (v := .ref (g 2)) (C := RX2) (T := TX2) (N := 10) hx hb hts in_X2 hown hK hP 0 rfl rfl 4 (by decide) (hts _ q190) (fun _ h9 => h9) rfl dX2_made_173 ?_
            refine lv_iload_n hx hb dX2_made_176 rfl (lv_at hl 1 rfl) ?_
            refine va_iald (f := st.2 4) hx hb hK hP 2 0 rfl rfl (in2 ha) dX2_made_177 ?_
            refine lv_iconst (v := 2) hx hb dX2_made_178 (by decide) ?_
            refine lv_icmp_ne (tgt := 187) hx hb dX2_made_179 (by decide) (fun c_6 => ?_) (fun c_6 => ?_)
            · refine lv_iload hx hb dX2_made_187 (lv_at hl 7 rfl) ?_
              exact W.iret (v := en) hx hb hr (fun t ht hW => ⟨_, rfl, (by show en = rowV (stepV (st.2 9) w) N (st.2 4 a.toNatClampNeg) (st.2 5 a.toNatClampNeg) Rr; have e1 : i = N := (by omega); subst e1; rw [rowV, rowF, if_neg (fun q => c_2 (f0.mpr q)), if_pos (by rw [← hN, ← eC]; exact c_3), if_neg c_4, if_neg c_5, if_neg c_6, eE]), ht⟩) (fun _ h => absurd h List.not_mem_nil) dX2_made_189
            · refine lv_iload hx hb dX2_made_182 (lv_at hl 6 rfl) ?_
              refine lv_goto (tgt := 189) hx hb dX2_made_184 (by decide) ?_
              exact W.iret (v := hg) hx hb hr (fun t ht hW => ⟨_, rfl, (by show hg = rowV (stepV (st.2 9) w) N (st.2 4 a.toNatClampNeg) (st.2 5 a.toNatClampNeg) Rr; have e1 : i = N := (by omega); subst e1; rw [rowV, rowF, if_neg (fun q => c_2 (f0.mpr q)), if_pos (by rw [← hN, ← eC]; exact c_3), if_neg c_4, if_neg c_5, if_pos c_6, eH]), ht⟩) (fun _ h => absurd h List.not_mem_nil) dX2_made_189
          · refine lv_iload hx hb dX2_made_167 (lv_at hl 5 rfl) ?_
            refine lv_goto (tgt := 189) hx hb dX2_made_169 (by decide) ?_
            exact W.iret (v := lw) hx hb hr (fun t ht hW => ⟨_, rfl, (by show lw = rowV (stepV (st.2 9) w) N (st.2 4 a.toNatClampNeg) (st.2 5 a.toNatClampNeg) Rr; have e1 : i = N := (by omega); subst e1; rw [rowV, rowF, if_neg (fun q => c_2 (f0.mpr q)), if_pos (by rw [← hN, ← eC]; exact c_3), if_neg c_4, if_pos c_5, eL]), ht⟩) (fun _ h => absurd h List.not_mem_nil) dX2_made_189
        · refine lv_aload_n hx hb dX2_made_147 rfl (lv_at hl 0 rfl) ?_
          refine lv_iload hx hb dX2_made_148 (lv_at hl 4 rfl) ?_
          refine lv_iload_n hx hb dX2_made_150 rfl (lv_at hl 3 rfl) ?_
          refine vp_callSi (W.runV (As := [.int sm, .int ct]) (rest := []) ⟨hx, hb, hml, hown, hts⟩ (mX2_floor l dC dI g cI st sm ct) (cwV 2 hts (lw_V q248 q250 qs8 q12 q251) rfl rfl rfl (by decide +kernel) ⟨Nat.le_of_ble_eq_true rfl, Nat.le_of_ble_eq_true rfl⟩) ⟨qb_blind, va_recv hK hP (ci := 1) (q0 := 0) rfl rfl, fun U hU hW => ⟨rfl, by rw [hU]; exact hP, va_K.moved hW.alike hK⟩⟩ rfl rfl hl.1 rfl (lv_room (Nat.le_of_ble_eq_true rfl)) dX2_made_151 ⟨Nat.le_of_ble_eq_true rfl, Nat.le_of_ble_eq_true rfl⟩) (fun r_7 hr_7 => ?_)
          have hr_7 : r_7 = m_floor sm ct := hr_7
          subst hr_7
          refine lv_goto (tgt := 189) hx hb dX2_made_154 (by decide) ?_
          exact W.iret (v := m_floor sm ct) hx hb hr (fun t ht hW => ⟨_, rfl, (by show m_floor sm ct = rowV (stepV (st.2 9) w) N (st.2 4 a.toNatClampNeg) (st.2 5 a.toNatClampNeg) Rr; have e1 : i = N := (by omega); subst e1; rw [rowV, rowF, if_neg (fun q => c_2 (f0.mpr q)), if_pos (by rw [← hN, ← eC]; exact c_3), if_pos c_4, eS, eC]), ht⟩) (fun _ h => absurd h List.not_mem_nil) dX2_made_189
      · refine lv_ldc hx hb hown (hts _ q225) dX2_made_135 ?_
        exact W.iret (v := (-100000)) hx hb hr (fun t ht hW => ⟨_, rfl, (by show (-100000) = rowV (stepV (st.2 9) w) N (st.2 4 a.toNatClampNeg) (st.2 5 a.toNatClampNeg) Rr; have e1 : i = N := (by omega); subst e1; rw [rowV, rowF, if_neg (fun q => c_2 (f0.mpr q)), if_neg (by rw [← hN, ← eC]; exact c_3)]), ht⟩) (fun _ h => absurd h List.not_mem_nil) dX2_made_137
  · obtain ⟨n, rfl⟩ : ∃ n1, n = n1 + 1 := ⟨n - 1, by rw [eB, eK] at c_1; have : ¬ (Rr + 1) * N ≤ Rr * N + i := fun q => c_1 (nI_le q (by omega)); omega⟩
    have hKK : (Rr * N + i + 1) * w ≤ 240 := Nat.le_trans (Nat.mul_le_mul_right w (show Rr * N + i + 1 ≤ (Rr + 1) * N by omega)) hR
    refine lv_aload_n hx hb dX2_made_39 rfl (lv_at hl 0 rfl) ?_
    refine lv_iload hx hb dX2_made_40 (lv_at hl 8 rfl) ?_
    refine vp_callSi (W.runV (As := [.int k8]) (rest := []) ⟨hx, hb, hml, hown, hts⟩ (mX2_step l dC dI g cI st k8 w (Rr * N + i) hw hw1 hw2 eK hKK) (cwV 1 hts (lw_V q244 q246 qs7 q12 q247) rfl rfl rfl (by decide +kernel) ⟨Nat.le_of_ble_eq_true rfl, Nat.le_of_ble_eq_true rfl⟩) ⟨qb_blind, va_recv hK hP (ci := 1) (q0 := 0) rfl rfl, fun U hU hW => ⟨rfl, by rw [hU]; exact hP, va_K.moved hW.alike hK⟩⟩ rfl rfl hl.1 rfl (lv_room (Nat.le_of_ble_eq_true rfl)) dX2_made_42 ⟨Nat.le_of_ble_eq_true rfl, Nat.le_of_ble_eq_true rfl⟩) (fun r_8 hr_8 => ?_)
    have hr_8 : r_8 = stepV (st.2 9) w (Rr * N + i) := hr_8
    subst hr_8
    refine lv_istore (lv' := [(9, .int (stepV (st.2 9) w (Rr * N + i))), (0, .ref (g 0)), (1, .int a), (2, .int rr), (3, .int ct), (4, .int sm), (5, .int lw), (6, .int hg), (7, .int en), (8, .int k8)]) hx hb dX2_made_45 hl (by decide) rfl (fun ls hl => ?_)
    refine lv_iload hx hb dX2_made_47 (lv_at hl 0 rfl) ?_
    refine lv_ldc hx hb hown (hts _ q225) dX2_made_49 ?_
    refine lv_icmp_eq (tgt := 108) hx hb dX2_made_51 (by decide) (fun c_9 => ?_) (fun c_9 => ?_)
    · refine lv_iinc (v := k8 + 1) (lv' := [(8, .int (k8 + 1)), (9, .int (stepV (st.2 9) w (Rr * N + i))), (0, .ref (g 0)), (1, .int a), (2, .int rr), (3, .int ct), (4, .int sm), (5, .int lw), (6, .int hg), (7, .int en)]) hx hb dX2_made_108 hl (k := 9) rfl rfl (by decide) rfl (fun ls hl => ?_)
      refine lv_goto (tgt := 24) hx hb dX2_made_111 (by decide) ?_
      exact ih n (ct, sm, lw, hg, en, k8 + 1) (Nat.lt_succ_self _) ⟨i + 1, by omega, by show k8 + 1 = _; rw [eK]; exact nI_1 _, by show _ = _; rw [rF, if_pos c_9]; exact eC, by show _ = _; rw [rF, if_pos c_9]; exact eS, by show _ = _; rw [rF, if_pos c_9]; exact eL, by show _ = _; rw [rF, if_pos c_9]; exact eH, by show _ = _; rw [rF, if_pos c_9]; exact eE⟩ ls (lv_sub hl [2, 3, 4, 5, 6, 7, 8, 9, 0] rfl)
    · refine lv_iload_n hx hb dX2_made_54 rfl (lv_at hl 4 rfl) ?_
      refine ph_cut (J := 72) (rest := []) (if ct = 0 then stepV (st.2 9) w (Rr * N + i) else (if lw ≤ (stepV (st.2 9) w (Rr * N + i)) then lw else stepV (st.2 9) w (Rr * N + i))) (fun z_10 ez_10 => ?_) (fun hJ_10 => ?_)
      · refine lv_istore (lv' := [(5, .int z_10), (9, .int (stepV (st.2 9) w (Rr * N + i))), (0, .ref (g 0)), (1, .int a), (2, .int rr), (3, .int ct), (4, .int sm), (6, .int hg), (7, .int en), (8, .int k8)]) hx hb dX2_made_72 hl (by decide) rfl (fun ls hl => ?_)
        refine lv_iload_n hx hb dX2_made_74 rfl (lv_at hl 5 rfl) ?_
        refine ph_cut (J := 92) (rest := []) (if ct = 0 then stepV (st.2 9) w (Rr * N + i) else (if (stepV (st.2 9) w (Rr * N + i)) ≤ hg then hg else stepV (st.2 9) w (Rr * N + i))) (fun z_11 ez_11 => ?_) (fun hJ_11 => ?_)
        · refine lv_istore (lv' := [(6, .int z_11), (5, .int z_10), (9, .int (stepV (st.2 9) w (Rr * N + i))), (0, .ref (g 0)), (1, .int a), (2, .int rr), (3, .int ct), (4, .int sm), (7, .int en), (8, .int k8)]) hx hb dX2_made_92 hl (by decide) rfl (fun ls hl => ?_)
          refine lv_iload hx hb dX2_made_94 (lv_at hl 2 rfl) ?_
          refine lv_istore (lv' := [(7, .int (stepV (st.2 9) w (Rr * N + i))), (6, .int z_11), (5, .int z_10), (9, .int (stepV (st.2 9) w (Rr * N + i))), (0, .ref (g 0)), (1, .int a), (2, .int rr), (3, .int ct), (4, .int sm), (8, .int k8)]) hx hb dX2_made_96 hl (by decide) rfl (fun ls hl => ?_)
          refine lv_iload hx hb dX2_made_98 (lv_at hl 8 rfl) ?_
          refine lv_iload hx hb dX2_made_100 (lv_at hl 3 rfl) ?_
          refine lv_iadd hx hb dX2_made_102 ?_
          refine lv_istore (lv' := [(4, .int (sm + (stepV (st.2 9) w (Rr * N + i)))), (7, .int (stepV (st.2 9) w (Rr * N + i))), (6, .int z_11), (5, .int z_10), (9, .int (stepV (st.2 9) w (Rr * N + i))), (0, .ref (g 0)), (1, .int a), (2, .int rr), (3, .int ct), (8, .int k8)]) hx hb dX2_made_103 hl (by decide) rfl (fun ls hl => ?_)
          refine lv_iinc (v := ct + 1) (lv' := [(3, .int (ct + 1)), (4, .int (sm + (stepV (st.2 9) w (Rr * N + i)))), (7, .int (stepV (st.2 9) w (Rr * N + i))), (6, .int z_11), (5, .int z_10), (9, .int (stepV (st.2 9) w (Rr * N + i))), (0, .ref (g 0)), (1, .int a), (2, .int rr), (8, .int k8)]) hx hb dX2_made_105 hl (k := 8) rfl rfl (by decide) rfl (fun ls hl => ?_)
          refine lv_iinc (v := k8 + 1) (lv' := [(8, .int (k8 + 1)), (3, .int (ct + 1)), (4, .int (sm + (stepV (st.2 9) w (Rr * N + i)))), (7, .int (stepV (st.2 9) w (Rr * N + i))), (6, .int z_11), (5, .int z_10), (9, .int (stepV (st.2 9) w (Rr * N + i))), (0, .ref (g 0)), (1, .int a), (2, .int rr)]) hx hb dX2_made_108 hl (k := 9) rfl rfl (by decide) rfl (fun ls hl => ?_)
          refine lv_goto (tgt := 24) hx hb dX2_made_111 (by decide) ?_
          exact ih n (ct + 1, sm + (stepV (st.2 9) w (Rr * N + i)), z_10, z_11, stepV (st.2 9) w (Rr * N + i), k8 + 1) (Nat.lt_succ_self _) ⟨i + 1, by omega, by show k8 + 1 = _; rw [eK]; exact nI_1 _, by show ct + 1 = _; rw [rF, if_neg c_9, eC]; exact nI_1 _, by show _ = _; rw [rF, if_neg c_9, eS], by show _ = _; rw [rF, if_neg c_9, ez_10, eC, eL, if0 hb4], by show _ = _; rw [rF, if_neg c_9, ez_11, eC, eH, if0 hb4], by show _ = _; rw [rF, if_neg c_9]⟩ ls (lv_sub hl [7, 8, 9, 1, 2, 5, 4, 3, 0] rfl)
        · refine lv_if_eq (tgt := 85) hx hb dX2_made_75 (by decide) (fun c_12 => ?_) (fun c_12 => ?_)
          · refine lv_iload hx hb dX2_made_85 (lv_at hl 1 rfl) ?_
            refine lv_goto (tgt := 92) hx hb dX2_made_87 (by decide) ?_
            exact hJ_11 _ (by rw [if_pos c_12])
          · refine lv_iload hx hb dX2_made_78 (lv_at hl 1 rfl) ?_
            refine lv_iload hx hb dX2_made_80 (lv_at hl 7 rfl) ?_
            refine lv_icmp_le (tgt := 90) hx hb dX2_made_82 (by decide) (fun c_13 => ?_) (fun c_13 => ?_)
            · refine lv_iload hx hb dX2_made_90 (lv_at hl 7 rfl) ?_
              exact hJ_11 _ (by rw [if_neg c_12, if_pos c_13])
            · refine lv_iload hx hb dX2_made_85 (lv_at hl 1 rfl) ?_
              refine lv_goto (tgt := 92) hx hb dX2_made_87 (by decide) ?_
              exact hJ_11 _ (by rw [if_neg c_12, if_neg c_13])
      · refine lv_if_eq (tgt := 65) hx hb dX2_made_55 (by decide) (fun c_14 => ?_) (fun c_14 => ?_)
        · refine lv_iload hx hb dX2_made_65 (lv_at hl 0 rfl) ?_
          refine lv_goto (tgt := 72) hx hb dX2_made_67 (by decide) ?_
          exact hJ_10 _ (by rw [if_pos c_14])
        · refine lv_iload hx hb dX2_made_58 (lv_at hl 0 rfl) ?_
          refine lv_iload hx hb dX2_made_60 (lv_at hl 6 rfl) ?_
          refine lv_icmp_ge (tgt := 70) hx hb dX2_made_62 (by decide) (fun c_15 => ?_) (fun c_15 => ?_)
          · refine lv_iload hx hb dX2_made_70 (lv_at hl 6 rfl) ?_
            exact hJ_10 _ (by rw [if_neg c_14, if_pos c_15])
          · refine lv_iload hx hb dX2_made_65 (lv_at hl 0 rfl) ?_
            refine lv_goto (tgt := 72) hx hb dX2_made_67 (by decide) ?_
            exact hJ_10 _ (by rw [if_neg c_14, if_neg c_15])
end
section
theorem ps_if {c : Prop} [Decidable c] {x v : Int32} : x + (if c then 0 else v) = if c then x else x + v := by
  split
  · exact Int32.add_zero x
  · rfl
theorem ps_start {st : SS} {w T : Nat} {sp : Nat → Nat} (h : mI st w T sp) : st.1 7 - (st.1 7 - st.1 7 / st.1 1 * st.1 1) + 1 = nI (T / w * w + 0 + 1) := by
  obtain ⟨g1, g2, g3, g4, g5, -⟩ := h
  have e1 : w * (T / w) + T % w = T := Nat.div_add_mod T w
  have e2 : w * (T / w) = T / w * w := Nat.mul_comm _ _
  rw [g4, g1, pk_rem (by omega) (by omega) (by omega), pk_sub (by omega), nI_1]
  congr 1
  omega

theorem m_last_ok {st : SS} {w T : Nat} {sp : Nat → Nat} (h : mI st w T sp) (c : ¬ st.1 7 / st.1 1 = 0) : st.1 7 / st.1 1 - 1 = nI (st.1 7 / st.1 1 - 1).toNatClampNeg ∧ ((st.1 7 / st.1 1 - 1).toNatClampNeg + 1) * w ≤ 240 := by
  rw [m_steps_e h] at c ⊢
  obtain ⟨-, g2, g3, -, g5, -⟩ := h
  have h1 : T / w ≤ T := Nat.div_le_self T w
  have h2 : ¬ T / w = 0 := fun q => c (by rw [q]; exact nI_0)
  obtain ⟨k, hk⟩ : ∃ k, T / w = k + 1 := ⟨T / w - 1, (Nat.sub_add_cancel (Nat.pos_of_ne_zero h2)).symm⟩
  rw [hk, nI_pred, nI_clamp (by omega), ← hk]
  refine ⟨rfl, ?_⟩
  have := Nat.div_mul_le_self T w
  omega

set_option maxHeartbeats 4000000 in
set_option maxRecDepth 100000 in
theorem mX2_rows (l : Launch) (dC : Nat → ClassId) (dI : Nat → Nat → Nat) (g : Nat → Nat) (cI : ClassId) (st : SS) (a : Int32) (hw : ¬ st.1 1 = 0) (hs : arO a → ¬ st.2 3 a.toNatClampNeg = 0) : Met l yX2_rows (ws_ yX2_rows cX2_rows 2 (some .int)) ({ frames := 1, cells := 0, slots := 0, locals := 20 }) (va_Pc [.ref (g 0), .int a] (qQ (dC, dI) (mw g cI st) [(cI, .int)])) (vp_Si (fun ans => ans = m_rows st a)) 0 0 (fun _ => False) := by
  refine Met.ofW (cc := cX2_rows) (maxL := 2) (ret := some .int) (by decide) rfl ?_
  intro p e s m args below meth c s₁ B hml hv
  obtain ⟨rfl, hP, hK⟩ := hv
  have hx := B.exec
  have hb := B.bytes
  have hr := B.returns
  have hts := atoms_spec (ws := ws_ yX2_rows cX2_rows 2 (some .int)) B.pre
  have hts : ∀ w ∈ lw_all, w.before _ s = true := fun w h => hts w (List.mem_cons_of_mem _ h)
  have hown : s.vm.findClass RX2 = some m.cls := findClass_of_methodNamed B.named
  have hlocks := B.notSynchronized
  have hl := lv_entry ([.ref (g 0), .int a]) (n := 2) (Nat.le_of_ble_eq_true rfl)
  rw [lg_entry_eq]
  generalize (lg_sl ([.ref (g 0), .int a]) ++ List.replicate (2 - (lg_sl ([.ref (g 0), .int a])).length) Slot.unset).toArray = ls at hl ⊢
  have hl : lv_has ls 2 [(0, .ref (g 0)), (1, .int a)] := hl
  refine lv_iload_n hx hb dX2_rows_0 rfl (lv_at hl 1 rfl) ?_
  refine ph_cut0 (J := 9) (rest := []) (arO a) (fun ha => ?_) (fun hJ_1 => ?_)
  · refine lv_aload_n hx hb dX2_rows_9 rfl (lv_at hl 0 rfl) ?_
    refine vp_callSi (W.runV (As := []) (rest := []) ⟨hx, hb, hml, hown, hts⟩ (mX2_steps l dC dI g cI st  hw) (cwV 0 hts (lw_V q243 q236 q237 q12 q238) rfl rfl rfl (by decide +kernel) ⟨Nat.le_of_ble_eq_true rfl, Nat.le_of_ble_eq_true rfl⟩) ⟨qb_blind, va_recv hK hP (ci := 1) (q0 := 0) rfl rfl, fun U hU hW => ⟨rfl, by rw [hU]; exact hP, va_K.moved hW.alike hK⟩⟩ rfl rfl hl.1 rfl (lv_room (Nat.le_of_ble_eq_true rfl)) dX2_rows_10 ⟨Nat.le_of_ble_eq_true rfl, Nat.le_of_ble_eq_true rfl⟩) (fun r_2 hr_2 => ?_)
    have hr_2 : r_2 = st.1 7 / st.1 1 := hr_2
    subst hr_2
    refine lv_aload_n hx hb dX2_rows_13 rfl (lv_at hl 0 rfl) ?_
    refine va_get (D := (dC, dI)) (ci := 1) (v := .ref (g 1)) (C := RX2) (T := TX2) (N := 10) hx hb hts in_X2 hown hK hP 0 rfl rfl 3 (by decide) (hts _ q189) (fun _ h9 => h9) rfl dX2_rows_14 ?_
    refine lv_iload_n hx hb dX2_rows_17 rfl (lv_at hl 1 rfl) ?_
    refine va_iald (f := st.2 3) hx hb hK hP 1 0 rfl rfl (in2 ha) dX2_rows_18 ?_
    refine lv_idiv hx hb dX2_rows_19 (hs ha) ?_
    refine lv_goto (tgt := 24) hx hb dX2_rows_20 (by decide) ?_
    exact W.iret (v := (st.1 7 / st.1 1) / ((st.2 3) a.toNatClampNeg)) hx hb hr (fun t ht hW => ⟨_, rfl, (by show (st.1 7 / st.1 1) / ((st.2 3) a.toNatClampNeg) = m_rows st a; (rw [m_rows, if_neg (ar_isA ha)]); try rfl), ht⟩) (fun _ h => absurd h List.not_mem_nil) dX2_rows_24
  · refine lv_if_eq (tgt := 9) hx hb dX2_rows_1 (by decide) (fun c_3 => ?_) (fun c_3 => ?_)
    · exact hJ_1 (by first | exact Or.inl (by assumption) | exact Or.inr (by assumption))
    · refine lv_iload_n hx hb dX2_rows_4 rfl (lv_at hl 1 rfl) ?_
      refine lv_iconst (v := 1) hx hb dX2_rows_5 (by decide) ?_
      refine lv_icmp_ne (tgt := 23) hx hb dX2_rows_6 (by decide) (fun c_4 => ?_) (fun c_4 => ?_)
      · refine lv_iconst (v := 0) hx hb dX2_rows_23 (by decide) ?_
        exact W.iret (v := 0) hx hb hr (fun t ht hW => ⟨_, rfl, (by show 0 = m_rows st a; (rw [m_rows, if_pos (isA_no c_3 c_4)]); try rfl), ht⟩) (fun _ h => absurd h List.not_mem_nil) dX2_rows_24
      · exact hJ_1 (by first | exact Or.inl (by assumption) | exact Or.inr (by assumption))

set_option maxHeartbeats 4000000 in
set_option maxRecDepth 100000 in
theorem mX2_row (l : Launch) (dC : Nat → ClassId) (dI : Nat → Nat → Nat) (g : Nat → Nat) (cI : ClassId) (st : SS) (a rr : Int32) (w T : Nat) (sp : Nat → Nat) (hI : mI st w T sp) : Met l yX2_row (ws_ yX2_row cX2_row 4 (some .int)) ({ frames := 3, cells := 0, slots := 0, locals := 76 }) (va_Pc [.ref (g 0), .int a, .int rr] (qQ (dC, dI) (mw g cI st) [(cI, .int)])) (vp_Si (fun ans => ans = m_row st w sp a rr)) 0 0 (fun _ => False) := by
  refine Met.ofW (cc := cX2_row) (maxL := 4) (ret := some .int) (by decide) rfl ?_
  intro p e s m args below meth c s₁ B hml hv
  obtain ⟨rfl, hP, hK⟩ := hv
  have hx := B.exec
  have hb := B.bytes
  have hr := B.returns
  have hts := atoms_spec (ws := ws_ yX2_row cX2_row 4 (some .int)) B.pre
  have hts : ∀ w ∈ lw_all, w.before _ s = true := fun w h => hts w (List.mem_cons_of_mem _ h)
  have hown : s.vm.findClass RX2 = some m.cls := findClass_of_methodNamed B.named
  have hlocks := B.notSynchronized
  have hl := lv_entry ([.ref (g 0), .int a, .int rr]) (n := 4) (Nat.le_of_ble_eq_true rfl)
  rw [lg_entry_eq]
  generalize (lg_sl ([.ref (g 0), .int a, .int rr]) ++ List.replicate (4 - (lg_sl ([.ref (g 0), .int a, .int rr])).length) Slot.unset).toArray = ls at hl ⊢
  have hl : lv_has ls 4 [(0, .ref (g 0)), (1, .int a), (2, .int rr)] := hl
  refine lv_aload_n hx hb dX2_row_0 rfl (lv_at hl 0 rfl) ?_
  refine lv_iload_n hx hb dX2_row_1 rfl (lv_at hl 1 rfl) ?_
  refine vp_callSi (W.runV (As := [.int a]) (rest := []) ⟨hx, hb, hml, hown, hts⟩ (mX2_rows l dC dI g cI st a (m_w_ne hI) (fun ha => m_sp_ne hI ha)) (cwV 1 hts (lw_V q260 q253 q254 q12 q255) rfl rfl rfl (by decide +kernel) ⟨Nat.le_of_ble_eq_true rfl, Nat.le_of_ble_eq_true rfl⟩) ⟨qb_blind, va_recv hK hP (ci := 1) (q0 := 0) rfl rfl, fun U hU hW => ⟨rfl, by rw [hU]; exact hP, va_K.moved hW.alike hK⟩⟩ rfl rfl hl.1 rfl (lv_room (Nat.le_of_ble_eq_true rfl)) dX2_row_2 ⟨Nat.le_of_ble_eq_true rfl, Nat.le_of_ble_eq_true rfl⟩) (fun r_1 hr_1 => ?_)
  have hr_1 : r_1 = m_rows st a := hr_1
  subst hr_1
  refine lv_istore_n (lv' := [(3, .int (m_rows st a)), (0, .ref (g 0)), (1, .int a), (2, .int rr)]) hx hb dX2_row_5 rfl hl (by decide) rfl (fun ls hl => ?_)
  refine lv_iload_n hx hb dX2_row_6 rfl (lv_at hl 3 rfl) ?_
  refine lv_if_lt (tgt := 29) hx hb dX2_row_7 (by decide) (fun c_2 => ?_) (fun c_2 => ?_)
  · refine lv_ldc hx hb hown (hts _ q234) dX2_row_29 ?_
    refine lv_goto (tgt := 40) hx hb dX2_row_31 (by decide) ?_
    exact W.iret (v := (-200000)) hx hb hr (fun t ht hW => ⟨_, rfl, (by show (-200000) = m_row st w sp a rr; (rw [m_row, if_pos c_2]); try rfl), ht⟩) (fun _ h => absurd h List.not_mem_nil) dX2_row_40
  · refine lv_iload_n hx hb dX2_row_10 rfl (lv_at hl 3 rfl) ?_
    refine lv_iload_n hx hb dX2_row_11 rfl (lv_at hl 0 rfl) ?_
    refine lv_icmp_ge (tgt := 29) hx hb dX2_row_12 (by decide) (fun c_3 => ?_) (fun c_3 => ?_)
    · refine lv_ldc hx hb hown (hts _ q234) dX2_row_29 ?_
      refine lv_goto (tgt := 40) hx hb dX2_row_31 (by decide) ?_
      exact W.iret (v := (-200000)) hx hb hr (fun t ht hW => ⟨_, rfl, (by show (-200000) = m_row st w sp a rr; (rw [m_row, if_neg c_2, if_pos c_3]); try rfl), ht⟩) (fun _ h => absurd h List.not_mem_nil) dX2_row_40
    · refine lv_iload_n hx hb dX2_row_15 rfl (lv_at hl 3 rfl) ?_
      refine lv_iload_n hx hb dX2_row_16 rfl (lv_at hl 0 rfl) ?_
      refine lv_aload_n hx hb dX2_row_17 rfl (lv_at hl 1 rfl) ?_
      refine va_get (D := (dC, dI)) (ci := 1) (v := .ref (g 4)) (C := RX2) (T := TX2) (N := 10) hx hb hts in_X2 hown hK hP 0 rfl rfl 6 (by decide) (hts _ q192) (fun _ h9 => h9) rfl dX2_row_18 ?_
      refine lv_iload_n hx hb dX2_row_21 rfl (lv_at hl 2 rfl) ?_
      refine lv_iconst (v := 1) hx hb dX2_row_22 (by decide) ?_
      refine lv_iand hx hb dX2_row_23 ?_
      refine va_iald (f := st.2 6) hx hb hK hP 4 0 rfl rfl (in1 _) dX2_row_24 ?_
      refine lv_isub hx hb dX2_row_25 ?_
      refine lv_icmp_ge (tgt := 34) hx hb dX2_row_26 (by decide) (fun c_4 => ?_) (fun c_4 => ?_)
      · have hm := m_row_ok hI c_2 c_3
        have hsp := hI.2.2.2.2.2 _ (ar_ix hm.1)
        refine lv_aload_n hx hb dX2_row_34 rfl (lv_at hl 1 rfl) ?_
        refine lv_iload_n hx hb dX2_row_35 rfl (lv_at hl 2 rfl) ?_
        refine lv_iload_n hx hb dX2_row_36 rfl (lv_at hl 3 rfl) ?_
        refine vp_callSi (W.runV (As := [.int a, .int rr]) (rest := []) ⟨hx, hb, hml, hown, hts⟩ (mX2_made l dC dI g cI st a rr hm.1 w (sp a.toNatClampNeg) rr.toNatClampNeg hI.1 hI.2.1 hI.2.2.1 hsp.1 hsp.2.1 hsp.2.2 hm.2.1 hm.2.2.1) (cwV 2 hts (lw_V q261 q263 qs9 q12 q264) rfl rfl rfl (by decide +kernel) ⟨Nat.le_of_ble_eq_true rfl, Nat.le_of_ble_eq_true rfl⟩) ⟨qb_blind, va_recv hK hP (ci := 1) (q0 := 0) rfl rfl, fun U hU hW => ⟨rfl, by rw [hU]; exact hP, va_K.moved hW.alike hK⟩⟩ rfl rfl hl.1 rfl (lv_room (Nat.le_of_ble_eq_true rfl)) dX2_row_37 ⟨Nat.le_of_ble_eq_true rfl, Nat.le_of_ble_eq_true rfl⟩) (fun r_5 hr_5 => ?_)
        have hr_5 : r_5 = rowV (stepV (st.2 9) w) (sp a.toNatClampNeg) (st.2 4 a.toNatClampNeg) (st.2 5 a.toNatClampNeg) rr.toNatClampNeg := hr_5
        subst hr_5
        exact W.iret (v := rowV (stepV (st.2 9) w) (sp a.toNatClampNeg) (st.2 4 a.toNatClampNeg) (st.2 5 a.toNatClampNeg) rr.toNatClampNeg) hx hb hr (fun t ht hW => ⟨_, rfl, (by show rowV (stepV (st.2 9) w) (sp a.toNatClampNeg) (st.2 4 a.toNatClampNeg) (st.2 5 a.toNatClampNeg) rr.toNatClampNeg = m_row st w sp a rr; (rw [m_row, if_neg c_2, if_neg c_3, if_pos c_4]); try rfl), ht⟩) (fun _ h => absurd h List.not_mem_nil) dX2_row_40
      · refine lv_ldc hx hb hown (hts _ q234) dX2_row_29 ?_
        refine lv_goto (tgt := 40) hx hb dX2_row_31 (by decide) ?_
        exact W.iret (v := (-200000)) hx hb hr (fun t ht hW => ⟨_, rfl, (by show (-200000) = m_row st w sp a rr; (rw [m_row, if_neg c_2, if_neg c_3, if_neg c_4]); try rfl), ht⟩) (fun _ h => absurd h List.not_mem_nil) dX2_row_40

set_option maxHeartbeats 4000000 in
set_option maxRecDepth 100000 in
theorem mX2_peak (l : Launch) (dC : Nat → ClassId) (dI : Nat → Nat → Nat) (g : Nat → Nat) (cI : ClassId) (st : SS) (a : Int32) (w T : Nat) (sp : Nat → Nat) (hI : mI st w T sp) : Met l yX2_peak (ws_ yX2_peak cX2_peak 6 (some .int)) ({ frames := 4, cells := 0, slots := 0, locals := 99 }) (va_Pc [.ref (g 0), .int a] (qQ (dC, dI) (mw g cI st) [(cI, .int)])) (vp_Si (fun ans => ans = m_peak st w sp a)) 0 0 (fun _ => False) := by
  refine Met.ofW (cc := cX2_peak) (maxL := 6) (ret := some .int) (by decide) rfl ?_
  intro p e s m args below meth c s₁ B hml hv
  obtain ⟨rfl, hP, hK⟩ := hv
  have hx := B.exec
  have hb := B.bytes
  have hr := B.returns
  have hts := atoms_spec (ws := ws_ yX2_peak cX2_peak 6 (some .int)) B.pre
  have hts : ∀ w ∈ lw_all, w.before _ s = true := fun w h => hts w (List.mem_cons_of_mem _ h)
  have hown : s.vm.findClass RX2 = some m.cls := findClass_of_methodNamed B.named
  have hlocks := B.notSynchronized
  have hl := lv_entry ([.ref (g 0), .int a]) (n := 6) (Nat.le_of_ble_eq_true rfl)
  rw [lg_entry_eq]
  generalize (lg_sl ([.ref (g 0), .int a]) ++ List.replicate (6 - (lg_sl ([.ref (g 0), .int a])).length) Slot.unset).toArray = ls at hl ⊢
  have hl : lv_has ls 6 [(0, .ref (g 0)), (1, .int a)] := hl
  refine lv_iload_n hx hb dX2_peak_0 rfl (lv_at hl 1 rfl) ?_
  refine ph_cut0 (J := 12) (rest := []) (arO a) (fun ha => ?_) (fun hJ_1 => ?_)
  · refine lv_ldc hx hb hown (hts _ q225) dX2_peak_12 ?_
    refine lv_istore_n (lv' := [(2, .int (-100000)), (0, .ref (g 0)), (1, .int a)]) hx hb dX2_peak_14 rfl hl (by decide) rfl (fun ls hl => ?_)
    refine lv_aload_n hx hb dX2_peak_15 rfl (lv_at hl 1 rfl) ?_
    refine lv_iload_n hx hb dX2_peak_16 rfl (lv_at hl 2 rfl) ?_
    refine vp_callSi (W.runV (As := [.int a]) (rest := []) ⟨hx, hb, hml, hown, hts⟩ (mX2_rows l dC dI g cI st a (m_w_ne hI) (fun ha => m_sp_ne hI ha)) (cwV 1 hts (lw_V q260 q253 q254 q12 q255) rfl rfl rfl (by decide +kernel) ⟨Nat.le_of_ble_eq_true rfl, Nat.le_of_ble_eq_true rfl⟩) ⟨qb_blind, va_recv hK hP (ci := 1) (q0 := 0) rfl rfl, fun U hU hW => ⟨rfl, by rw [hU]; exact hP, va_K.moved hW.alike hK⟩⟩ rfl rfl hl.1 rfl (lv_room (Nat.le_of_ble_eq_true rfl)) dX2_peak_17 ⟨Nat.le_of_ble_eq_true rfl, Nat.le_of_ble_eq_true rfl⟩) (fun r_2 hr_2 => ?_)
    have hr_2 : r_2 = m_rows st a := hr_2
    subst hr_2
    refine lv_istore_n (lv' := [(3, .int (m_rows st a)), (2, .int (-100000)), (0, .ref (g 0)), (1, .int a)]) hx hb dX2_peak_20 rfl hl (by decide) rfl (fun ls hl => ?_)
    refine lv_iconst (v := 0) hx hb dX2_peak_21 (by decide) ?_
    refine lv_istore (lv' := [(4, .int 0), (3, .int (m_rows st a)), (2, .int (-100000)), (0, .ref (g 0)), (1, .int a)]) hx hb dX2_peak_22 hl (by decide) rfl (fun ls hl => ?_)
    obtain ⟨Nn, hNn, eNn⟩ := m_rows_n hI a
    refine lp_cut (σ := Int32 × Int32) (nL := 6) (lv := fun x => [(0, .ref (g 0)), (1, .int a), (2, .int x.1), (3, .int (m_rows st a)), (4, .int x.2)]) (I := fun n x => ∃ K : Nat, x.2 = nI K ∧ K + n = Nn ∧ m_pkL (m_row st w sp a) n x.2 x.1 = m_pkL (m_row st w sp a) Nn 0 (-100000)) ?_ Nn ((-100000), 0) ⟨0, rfl, by omega, rfl⟩ ls (lv_sub hl [3, 4, 2, 1, 0] rfl)
    intro n x hI2 ih ls hl
    obtain ⟨b, r⟩ := x
    have hl : lv_has ls 6 [(0, .ref (g 0)), (1, .int a), (2, .int b), (3, .int (m_rows st a)), (4, .int r)] := hl
    obtain ⟨K, eK, eN, eR⟩ := hI2
    have eK : r = nI K := eK
    have eR : m_pkL (m_row st w sp a) n r b = _ := eR
    refine lv_iload hx hb dX2_peak_24 (lv_at hl 4 rfl) ?_
    refine lv_iload_n hx hb dX2_peak_26 rfl (lv_at hl 3 rfl) ?_
    refine lv_icmp_ge (tgt := 58) hx hb dX2_peak_27 (by decide) (fun c_3 => ?_) (fun c_3 => ?_)
    · have n0 : n = 0 := by rw [eNn, eK] at c_3; have := (nI_leI (by omega) (by omega)).mp c_3; omega
      refine lv_iload_n hx hb dX2_peak_58 rfl (lv_at hl 2 rfl) ?_
      exact W.iret (v := b) hx hb hr (fun t ht hW => ⟨_, rfl, (by show b = m_peak st w sp a; have e0 : n = 0 := n0; subst e0; rw [m_peak, if_neg (ar_isA ha), eNn, nI_clamp (by omega)]; exact eR), ht⟩) (fun _ h => absurd h List.not_mem_nil) dX2_peak_59
    · obtain ⟨n, rfl⟩ : ∃ n1, n = n1 + 1 := ⟨n - 1, by rw [eNn, eK] at c_3; have : ¬ Nn ≤ K := fun q => c_3 (nI_le q (by omega)); omega⟩
      refine lv_aload_n hx hb dX2_peak_30 rfl (lv_at hl 0 rfl) ?_
      refine lv_iload_n hx hb dX2_peak_31 rfl (lv_at hl 1 rfl) ?_
      refine lv_iload hx hb dX2_peak_32 (lv_at hl 4 rfl) ?_
      refine vp_callSi (W.runV (As := [.int a, .int r]) (rest := []) ⟨hx, hb, hml, hown, hts⟩ (mX2_row l dC dI g cI st a r w T sp hI) (cwV 2 hts (lw_V q269 q257 q258 q12 q259) rfl rfl rfl (by decide +kernel) ⟨Nat.le_of_ble_eq_true rfl, Nat.le_of_ble_eq_true rfl⟩) ⟨qb_blind, va_recv hK hP (ci := 1) (q0 := 0) rfl rfl, fun U hU hW => ⟨rfl, by rw [hU]; exact hP, va_K.moved hW.alike hK⟩⟩ rfl rfl hl.1 rfl (lv_room (Nat.le_of_ble_eq_true rfl)) dX2_peak_34 ⟨Nat.le_of_ble_eq_true rfl, Nat.le_of_ble_eq_true rfl⟩) (fun r_4 hr_4 => ?_)
      have hr_4 : r_4 = m_row st w sp a r := hr_4
      subst hr_4
      refine lv_istore (lv' := [(5, .int (m_row st w sp a r)), (0, .ref (g 0)), (1, .int a), (2, .int b), (3, .int (m_rows st a)), (4, .int r)]) hx hb dX2_peak_37 hl (by decide) rfl (fun ls hl => ?_)
      refine lv_iload hx hb dX2_peak_39 (lv_at hl 0 rfl) ?_
      refine lv_iload_n hx hb dX2_peak_41 rfl (lv_at hl 3 rfl) ?_
      refine ph_cut (J := 51) (rest := []) (if (m_row st w sp a r) ≤ b then b else m_row st w sp a r) (fun z_5 ez_5 => ?_) (fun hJ_5 => ?_)
      · refine lv_istore_n (lv' := [(2, .int z_5), (5, .int (m_row st w sp a r)), (0, .ref (g 0)), (1, .int a), (3, .int (m_rows st a)), (4, .int r)]) hx hb dX2_peak_51 rfl hl (by decide) rfl (fun ls hl => ?_)
        refine lv_iinc (v := r + 1) (lv' := [(4, .int (r + 1)), (2, .int z_5), (5, .int (m_row st w sp a r)), (0, .ref (g 0)), (1, .int a), (3, .int (m_rows st a))]) hx hb dX2_peak_52 hl (k := 5) rfl rfl (by decide) rfl (fun ls hl => ?_)
        refine lv_goto (tgt := 24) hx hb dX2_peak_55 (by decide) ?_
        exact ih n (z_5, r + 1) (Nat.lt_succ_self _) ⟨K + 1, by show r + 1 = nI (K + 1); rw [eK]; exact nI_1 K, by omega, by rw [← eR]; subst ez_5; exact (by rw [m_pkL])⟩ ls (lv_sub hl [3, 4, 1, 5, 0] rfl)
      · refine lv_icmp_le (tgt := 50) hx hb dX2_peak_42 (by decide) (fun c_6 => ?_) (fun c_6 => ?_)
        · refine lv_iload_n hx hb dX2_peak_50 rfl (lv_at hl 3 rfl) ?_
          exact hJ_5 _ (by rw [if_pos c_6])
        · refine lv_iload hx hb dX2_peak_45 (lv_at hl 0 rfl) ?_
          refine lv_goto (tgt := 51) hx hb dX2_peak_47 (by decide) ?_
          exact hJ_5 _ (by rw [if_neg c_6])
  · refine lv_if_eq (tgt := 12) hx hb dX2_peak_1 (by decide) (fun c_7 => ?_) (fun c_7 => ?_)
    · exact hJ_1 (by first | exact Or.inl (by assumption) | exact Or.inr (by assumption))
    · refine lv_iload_n hx hb dX2_peak_4 rfl (lv_at hl 1 rfl) ?_
      refine lv_iconst (v := 1) hx hb dX2_peak_5 (by decide) ?_
      refine lv_icmp_eq (tgt := 12) hx hb dX2_peak_6 (by decide) (fun c_8 => ?_) (fun c_8 => ?_)
      · exact hJ_1 (by first | exact Or.inl (by assumption) | exact Or.inr (by assumption))
      · refine lv_ldc hx hb hown (hts _ q234) dX2_peak_9 ?_
        exact W.iret (v := (-200000)) hx hb hr (fun t ht hW => ⟨_, rfl, (by show (-200000) = m_peak st w sp a; (rw [m_peak, if_pos (isA_no c_7 c_8)]); try rfl), ht⟩) (fun _ h => absurd h List.not_mem_nil) dX2_peak_11

set_option maxHeartbeats 4000000 in
set_option maxRecDepth 100000 in
theorem mX2_known (l : Launch) (dC : Nat → ClassId) (dI : Nat → Nat → Nat) (g : Nat → Nat) (cI : ClassId) (st : SS) (a : Int32) (w T : Nat) (sp : Nat → Nat) (hI : mI st w T sp) : Met l yX2_known (ws_ yX2_known cX2_known 5 (some .int)) ({ frames := 4, cells := 0, slots := 0, locals := 99 }) (va_Pc [.ref (g 0), .int a] (qQ (dC, dI) (mw g cI st) [(cI, .int)])) (vp_Si (fun ans => ans = m_known st w sp a)) 0 0 (fun _ => False) := by
  refine Met.ofW (cc := cX2_known) (maxL := 5) (ret := some .int) (by decide) rfl ?_
  intro p e s m args below meth c s₁ B hml hv
  obtain ⟨rfl, hP, hK⟩ := hv
  have hx := B.exec
  have hb := B.bytes
  have hr := B.returns
  have hts := atoms_spec (ws := ws_ yX2_known cX2_known 5 (some .int)) B.pre
  have hts : ∀ w ∈ lw_all, w.before _ s = true := fun w h => hts w (List.mem_cons_of_mem _ h)
  have hown : s.vm.findClass RX2 = some m.cls := findClass_of_methodNamed B.named
  have hlocks := B.notSynchronized
  have hl := lv_entry ([.ref (g 0), .int a]) (n := 5) (Nat.le_of_ble_eq_true rfl)
  rw [lg_entry_eq]
  generalize (lg_sl ([.ref (g 0), .int a]) ++ List.replicate (5 - (lg_sl ([.ref (g 0), .int a])).length) Slot.unset).toArray = ls at hl ⊢
  have hl : lv_has ls 5 [(0, .ref (g 0)), (1, .int a)] := hl
  refine lv_iconst (v := 0) hx hb dX2_known_0 (by decide) ?_
  refine lv_istore_n (lv' := [(2, .int 0), (0, .ref (g 0)), (1, .int a)]) hx hb dX2_known_1 rfl hl (by decide) rfl (fun ls hl => ?_)
  refine lv_aload_n hx hb dX2_known_2 rfl (lv_at hl 1 rfl) ?_
  refine lv_iload_n hx hb dX2_known_3 rfl (lv_at hl 2 rfl) ?_
  refine vp_callSi (W.runV (As := [.int a]) (rest := []) ⟨hx, hb, hml, hown, hts⟩ (mX2_rows l dC dI g cI st a (m_w_ne hI) (fun ha => m_sp_ne hI ha)) (cwV 1 hts (lw_V q260 q253 q254 q12 q255) rfl rfl rfl (by decide +kernel) ⟨Nat.le_of_ble_eq_true rfl, Nat.le_of_ble_eq_true rfl⟩) ⟨qb_blind, va_recv hK hP (ci := 1) (q0 := 0) rfl rfl, fun U hU hW => ⟨rfl, by rw [hU]; exact hP, va_K.moved hW.alike hK⟩⟩ rfl rfl hl.1 rfl (lv_room (Nat.le_of_ble_eq_true rfl)) dX2_known_4 ⟨Nat.le_of_ble_eq_true rfl, Nat.le_of_ble_eq_true rfl⟩) (fun r_1 hr_1 => ?_)
  have hr_1 : r_1 = m_rows st a := hr_1
  subst hr_1
  refine lv_istore_n (lv' := [(3, .int (m_rows st a)), (2, .int 0), (0, .ref (g 0)), (1, .int a)]) hx hb dX2_known_7 rfl hl (by decide) rfl (fun ls hl => ?_)
  refine lv_iconst (v := 0) hx hb dX2_known_8 (by decide) ?_
  refine lv_istore (lv' := [(4, .int 0), (3, .int (m_rows st a)), (2, .int 0), (0, .ref (g 0)), (1, .int a)]) hx hb dX2_known_9 hl (by decide) rfl (fun ls hl => ?_)
  obtain ⟨Nn, hNn, eNn⟩ := m_rows_n hI a
  refine lp_cut (σ := Int32 × Int32) (nL := 5) (lv := fun x => [(0, .ref (g 0)), (1, .int a), (2, .int x.1), (3, .int (m_rows st a)), (4, .int x.2)]) (I := fun n x => ∃ K : Nat, x.2 = nI K ∧ K + n = Nn ∧ m_knL (m_row st w sp a) n x.2 x.1 = m_knL (m_row st w sp a) Nn 0 0) ?_ Nn (0, 0) ⟨0, rfl, by omega, rfl⟩ ls (lv_sub hl [3, 4, 2, 1, 0] rfl)
  intro n x hI2 ih ls hl
  obtain ⟨b, r⟩ := x
  have hl : lv_has ls 5 [(0, .ref (g 0)), (1, .int a), (2, .int b), (3, .int (m_rows st a)), (4, .int r)] := hl
  obtain ⟨K, eK, eN, eR⟩ := hI2
  have eK : r = nI K := eK
  have eR : m_knL (m_row st w sp a) n r b = _ := eR
  refine lv_iload hx hb dX2_known_11 (lv_at hl 4 rfl) ?_
  refine lv_iload_n hx hb dX2_known_13 rfl (lv_at hl 3 rfl) ?_
  refine lv_icmp_ge (tgt := 43) hx hb dX2_known_14 (by decide) (fun c_2 => ?_) (fun c_2 => ?_)
  · have n0 : n = 0 := by rw [eNn, eK] at c_2; have := (nI_leI (by omega) (by omega)).mp c_2; omega
    refine lv_iload_n hx hb dX2_known_43 rfl (lv_at hl 2 rfl) ?_
    exact W.iret (v := b) hx hb hr (fun t ht hW => ⟨_, rfl, (by show b = m_known st w sp a; have e0 : n = 0 := n0; subst e0; rw [m_known, eNn, nI_clamp (by omega)]; exact eR), ht⟩) (fun _ h => absurd h List.not_mem_nil) dX2_known_44
  · obtain ⟨n, rfl⟩ : ∃ n1, n = n1 + 1 := ⟨n - 1, by rw [eNn, eK] at c_2; have : ¬ Nn ≤ K := fun q => c_2 (nI_le q (by omega)); omega⟩
    refine lv_iload_n hx hb dX2_known_17 rfl (lv_at hl 2 rfl) ?_
    refine lv_aload_n hx hb dX2_known_18 rfl (lv_at hl 0 rfl) ?_
    refine lv_iload_n hx hb dX2_known_19 rfl (lv_at hl 1 rfl) ?_
    refine lv_iload hx hb dX2_known_20 (lv_at hl 4 rfl) ?_
    refine vp_callSi (W.runV (As := [.int a, .int r]) (rest := [.int b]) ⟨hx, hb, hml, hown, hts⟩ (mX2_row l dC dI g cI st a r w T sp hI) (cwV 2 hts (lw_V q269 q257 q258 q12 q259) rfl rfl rfl (by decide +kernel) ⟨Nat.le_of_ble_eq_true rfl, Nat.le_of_ble_eq_true rfl⟩) ⟨qb_blind, va_recv hK hP (ci := 1) (q0 := 0) rfl rfl, fun U hU hW => ⟨rfl, by rw [hU]; exact hP, va_K.moved hW.alike hK⟩⟩ rfl rfl hl.1 rfl (lv_room (Nat.le_of_ble_eq_true rfl)) dX2_known_22 ⟨Nat.le_of_ble_eq_true rfl, Nat.le_of_ble_eq_true rfl⟩) (fun r_3 hr_3 => ?_)
    have hr_3 : r_3 = m_row st w sp a r := hr_3
    subst hr_3
    refine lv_ldc hx hb hown (hts _ q225) dX2_known_25 ?_
    refine ph_cut (J := 35) (rest := [.int b]) (if (m_row st w sp a r) ≤ (-100000) then 0 else 1) (fun z_4 ez_4 => ?_) (fun hJ_4 => ?_)
    · refine lv_iadd hx hb dX2_known_35 ?_
      refine lv_istore_n (lv' := [(2, .int (b + z_4)), (0, .ref (g 0)), (1, .int a), (3, .int (m_rows st a)), (4, .int r)]) hx hb dX2_known_36 rfl hl (by decide) rfl (fun ls hl => ?_)
      refine lv_iinc (v := r + 1) (lv' := [(4, .int (r + 1)), (2, .int (b + z_4)), (0, .ref (g 0)), (1, .int a), (3, .int (m_rows st a))]) hx hb dX2_known_37 hl (k := 4) rfl rfl (by decide) rfl (fun ls hl => ?_)
      refine lv_goto (tgt := 11) hx hb dX2_known_40 (by decide) ?_
      exact ih n (b + z_4, r + 1) (Nat.lt_succ_self _) ⟨K + 1, by show r + 1 = nI (K + 1); rw [eK]; exact nI_1 K, by omega, by rw [← eR]; subst ez_4; exact (by rw [m_knL])⟩ ls (lv_sub hl [2, 3, 1, 4, 0] rfl)
    · refine lv_icmp_le (tgt := 34) hx hb dX2_known_27 (by decide) (fun c_5 => ?_) (fun c_5 => ?_)
      · refine lv_iconst (v := 0) hx hb dX2_known_34 (by decide) ?_
        exact hJ_4 _ (by rw [if_pos c_5])
      · refine lv_iconst (v := 1) hx hb dX2_known_30 (by decide) ?_
        refine lv_goto (tgt := 35) hx hb dX2_known_31 (by decide) ?_
        exact hJ_4 _ (by rw [if_neg c_5])

set_option maxHeartbeats 4000000 in
set_option maxRecDepth 100000 in
theorem mX2_lastStep (l : Launch) (dC : Nat → ClassId) (dI : Nat → Nat → Nat) (g : Nat → Nat) (cI : ClassId) (st : SS) (w T : Nat) (sp : Nat → Nat) (hI : mI st w T sp) : Met l yX2_lastStep (ws_ yX2_lastStep cX2_lastStep 2 (some .int)) ({ frames := 2, cells := 0, slots := 0, locals := 47 }) (va_Pc [.ref (g 0)] (qQ (dC, dI) (mw g cI st) [(cI, .int)])) (vp_Si (fun ans => ans = m_lastStep st w)) 0 0 (fun _ => False) := by
  refine Met.ofW (cc := cX2_lastStep) (maxL := 2) (ret := some .int) (by decide) rfl ?_
  intro p e s m args below meth c s₁ B hml hv
  obtain ⟨rfl, hP, hK⟩ := hv
  have hx := B.exec
  have hb := B.bytes
  have hr := B.returns
  have hts := atoms_spec (ws := ws_ yX2_lastStep cX2_lastStep 2 (some .int)) B.pre
  have hts : ∀ w ∈ lw_all, w.before _ s = true := fun w h => hts w (List.mem_cons_of_mem _ h)
  have hown : s.vm.findClass RX2 = some m.cls := findClass_of_methodNamed B.named
  have hlocks := B.notSynchronized
  have hl := lv_entry ([.ref (g 0)]) (n := 2) (Nat.le_of_ble_eq_true rfl)
  rw [lg_entry_eq]
  generalize (lg_sl ([.ref (g 0)]) ++ List.replicate (2 - (lg_sl ([.ref (g 0)])).length) Slot.unset).toArray = ls at hl ⊢
  have hl : lv_has ls 2 [(0, .ref (g 0))] := hl
  refine lv_aload_n hx hb dX2_lastStep_0 rfl (lv_at hl 0 rfl) ?_
  refine vp_callSi (W.runV (As := []) (rest := []) ⟨hx, hb, hml, hown, hts⟩ (mX2_steps l dC dI g cI st  (m_w_ne hI)) (cwV 0 hts (lw_V q243 q236 q237 q12 q238) rfl rfl rfl (by decide +kernel) ⟨Nat.le_of_ble_eq_true rfl, Nat.le_of_ble_eq_true rfl⟩) ⟨qb_blind, va_recv hK hP (ci := 1) (q0 := 0) rfl rfl, fun U hU hW => ⟨rfl, by rw [hU]; exact hP, va_K.moved hW.alike hK⟩⟩ rfl rfl hl.1 rfl (lv_room (Nat.le_of_ble_eq_true rfl)) dX2_lastStep_1 ⟨Nat.le_of_ble_eq_true rfl, Nat.le_of_ble_eq_true rfl⟩) (fun r_1 hr_1 => ?_)
  have hr_1 : r_1 = st.1 7 / st.1 1 := hr_1
  subst hr_1
  refine lv_istore_n (lv' := [(1, .int (st.1 7 / st.1 1)), (0, .ref (g 0))]) hx hb dX2_lastStep_4 rfl hl (by decide) rfl (fun ls hl => ?_)
  refine lv_iload_n hx hb dX2_lastStep_5 rfl (lv_at hl 0 rfl) ?_
  refine lv_if_ne (tgt := 14) hx hb dX2_lastStep_6 (by decide) (fun c_2 => ?_) (fun c_2 => ?_)
  · obtain ⟨hk1, hk2⟩ := m_last_ok hI c_2
    refine lv_aload_n hx hb dX2_lastStep_14 rfl (lv_at hl 1 rfl) ?_
    refine lv_iload_n hx hb dX2_lastStep_15 rfl (lv_at hl 0 rfl) ?_
    refine lv_iconst (v := 1) hx hb dX2_lastStep_16 (by decide) ?_
    refine lv_isub hx hb dX2_lastStep_17 ?_
    refine vp_callSi (W.runV (As := [.int ((st.1 7 / st.1 1) - 1)]) (rest := []) ⟨hx, hb, hml, hown, hts⟩ (mX2_step l dC dI g cI st ((st.1 7 / st.1 1) - 1) w (st.1 7 / st.1 1 - 1).toNatClampNeg hI.1 hI.2.1 hI.2.2.1 hk1 hk2) (cwV 1 hts (lw_V q244 q246 qs7 q12 q247) rfl rfl rfl (by decide +kernel) ⟨Nat.le_of_ble_eq_true rfl, Nat.le_of_ble_eq_true rfl⟩) ⟨qb_blind, va_recv hK hP (ci := 1) (q0 := 0) rfl rfl, fun U hU hW => ⟨rfl, by rw [hU]; exact hP, va_K.moved hW.alike hK⟩⟩ rfl rfl hl.1 rfl (lv_room (Nat.le_of_ble_eq_true rfl)) dX2_lastStep_18 ⟨Nat.le_of_ble_eq_true rfl, Nat.le_of_ble_eq_true rfl⟩) (fun r_3 hr_3 => ?_)
    have hr_3 : r_3 = stepV (st.2 9) w (st.1 7 / st.1 1 - 1).toNatClampNeg := hr_3
    subst hr_3
    exact W.iret (v := stepV (st.2 9) w (st.1 7 / st.1 1 - 1).toNatClampNeg) hx hb hr (fun t ht hW => ⟨_, rfl, (by show stepV (st.2 9) w (st.1 7 / st.1 1 - 1).toNatClampNeg = m_lastStep st w; (rw [m_lastStep, if_neg c_2]); try rfl), ht⟩) (fun _ h => absurd h List.not_mem_nil) dX2_lastStep_21
  · refine lv_ldc hx hb hown (hts _ q234) dX2_lastStep_9 ?_
    refine lv_goto (tgt := 21) hx hb dX2_lastStep_11 (by decide) ?_
    exact W.iret (v := (-200000)) hx hb hr (fun t ht hW => ⟨_, rfl, (by show (-200000) = m_lastStep st w; (rw [m_lastStep, if_pos c_2]); try rfl), ht⟩) (fun _ h => absurd h List.not_mem_nil) dX2_lastStep_21

set_option maxHeartbeats 4000000 in
set_option maxRecDepth 100000 in
theorem mX2_pendingSum (l : Launch) (dC : Nat → ClassId) (dI : Nat → Nat → Nat) (g : Nat → Nat) (cI : ClassId) (st : SS) (w T : Nat) (sp : Nat → Nat) (hI : mI st w T sp) : Met l yX2_pendingSum (ws_ yX2_pendingSum cX2_pendingSum 3 (some .int)) ({ frames := 0, cells := 0, slots := 0, locals := 0 }) (va_Pc [.ref (g 0)] (qQ (dC, dI) (mw g cI st) [(cI, .int)])) (vp_Si (fun ans => ans = m_pendSum st w T)) 0 0 (fun _ => False) := by
  refine Met.ofW (cc := cX2_pendingSum) (maxL := 3) (ret := some .int) (by decide) rfl ?_
  intro p e s m args below meth c s₁ B hml hv
  obtain ⟨rfl, hP, hK⟩ := hv
  have hx := B.exec
  have hb := B.bytes
  have hr := B.returns
  have hts := atoms_spec (ws := ws_ yX2_pendingSum cX2_pendingSum 3 (some .int)) B.pre
  have hts : ∀ w ∈ lw_all, w.before _ s = true := fun w h => hts w (List.mem_cons_of_mem _ h)
  have hown : s.vm.findClass RX2 = some m.cls := findClass_of_methodNamed B.named
  have hlocks := B.notSynchronized
  have hl := lv_entry ([.ref (g 0)]) (n := 3) (Nat.le_of_ble_eq_true rfl)
  rw [lg_entry_eq]
  generalize (lg_sl ([.ref (g 0)]) ++ List.replicate (3 - (lg_sl ([.ref (g 0)])).length) Slot.unset).toArray = ls at hl ⊢
  have hl : lv_has ls 3 [(0, .ref (g 0))] := hl
  refine lv_iconst (v := 0) hx hb dX2_pendingSum_0 (by decide) ?_
  refine lv_istore_n (lv' := [(1, .int 0), (0, .ref (g 0))]) hx hb dX2_pendingSum_1 rfl hl (by decide) rfl (fun ls hl => ?_)
  refine lv_aload_n hx hb dX2_pendingSum_2 rfl (lv_at hl 1 rfl) ?_
  refine va_get (D := (dC, dI)) (ci := 1) (v := .int (st.1 7)) (C := RX2) (T := TX2) (N := 10) hx hb hts in_X2 hown hK hP 0 rfl rfl 7 (by decide) (hts _ q193) (fun _ h9 => h9) rfl dX2_pendingSum_3 ?_
  refine lv_aload_n hx hb dX2_pendingSum_6 rfl (lv_at hl 1 rfl) ?_
  refine va_get (D := (dC, dI)) (ci := 1) (v := .int (st.1 7)) (C := RX2) (T := TX2) (N := 10) hx hb hts in_X2 hown hK hP 0 rfl rfl 7 (by decide) (hts _ q193) (fun _ h9 => h9) rfl dX2_pendingSum_7 ?_
  refine lv_aload_n hx hb dX2_pendingSum_10 rfl (lv_at hl 1 rfl) ?_
  refine va_get (D := (dC, dI)) (ci := 1) (v := .int (st.1 1)) (C := RX2) (T := TX2) (N := 10) hx hb hts in_X2 hown hK hP 0 rfl rfl 1 (by decide) (hts _ q187) (fun _ h9 => h9) rfl dX2_pendingSum_11 ?_
  refine lv_irem hx hb dX2_pendingSum_14 (m_w_ne hI) ?_
  refine lv_isub hx hb dX2_pendingSum_15 ?_
  refine lv_iconst (v := 1) hx hb dX2_pendingSum_16 (by decide) ?_
  refine lv_iadd hx hb dX2_pendingSum_17 ?_
  refine lv_istore_n (lv' := [(2, .int (((st.1 7) - ((st.1 7) - (st.1 7) / (st.1 1) * (st.1 1))) + 1)), (1, .int 0), (0, .ref (g 0))]) hx hb dX2_pendingSum_18 rfl hl (by decide) rfl (fun ls hl => ?_)
  refine lp_cut (σ := Int32 × Int32) (nL := 3) (lv := fun x => [(0, .ref (g 0)), (1, .int x.1), (2, .int x.2)]) (I := fun n x => ∃ i : Nat, i + n = T % w ∧ x.2 = nI (T / w * w + i + 1) ∧ x.1 = kS (st.2 9) (T / w * w) i) ?_ (T % w) (0, ((st.1 7) - ((st.1 7) - (st.1 7) / (st.1 1) * (st.1 1))) + 1) ⟨0, by omega, ps_start hI, rfl⟩ ls (lv_sub hl [2, 1, 0] rfl)
  intro n x hI2 ih ls hl
  obtain ⟨sm, tt⟩ := x
  have hl : lv_has ls 3 [(0, .ref (g 0)), (1, .int sm), (2, .int tt)] := hl
  obtain ⟨i, eN, eT, eS⟩ := hI2
  have eT : tt = nI (T / w * w + i + 1) := eT
  have eS : sm = kS (st.2 9) (T / w * w) i := eS
  have eX : w * (T / w) + T % w = T := Nat.div_add_mod T w
  have eY : w * (T / w) = T / w * w := Nat.mul_comm _ _
  have hT := hI.2.2.2.1
  have hT2 := hI.2.2.2.2.1
  refine lv_iload_n hx hb dX2_pendingSum_19 rfl (lv_at hl 2 rfl) ?_
  refine lv_aload_n hx hb dX2_pendingSum_20 rfl (lv_at hl 0 rfl) ?_
  refine va_get (D := (dC, dI)) (ci := 1) (v := .int (st.1 7)) (C := RX2) (T := TX2) (N := 10) hx hb hts in_X2 hown hK hP 0 rfl rfl 7 (by decide) (hts _ q193) (fun _ h9 => h9) rfl dX2_pendingSum_21 ?_
  refine lv_icmp_gt (tgt := 57) hx hb dX2_pendingSum_24 (by decide) (fun c_1 => ?_) (fun c_1 => ?_)
  · have n0 : n = 0 := by rw [hT, eT] at c_1; have := (nI_ltI (by omega) (by omega)).mp c_1; omega
    refine lv_iload_n hx hb dX2_pendingSum_57 rfl (lv_at hl 1 rfl) ?_
    exact W.iret (v := sm) hx hb hr (fun t ht hW => ⟨_, rfl, (by show sm = m_pendSum st w T; have e0 : n = 0 := n0; have e1 : i = T % w := (by omega); subst e1; rw [m_pendSum]; exact eS), ht⟩) (fun _ h => absurd h List.not_mem_nil) dX2_pendingSum_58
  · obtain ⟨n, rfl⟩ : ∃ n1, n = n1 + 1 := ⟨n - 1, by rw [hT, eT] at c_1; have : ¬ T < T / w * w + i + 1 := fun q => c_1 (nI_lt q (by omega)); omega⟩
    have eT2 : (st.2 9) (T / w * w + i + 1) = (st.2 9) tt.toNatClampNeg := by rw [eT, nI_clamp (by omega)]
    refine lv_iload_n hx hb dX2_pendingSum_27 rfl (lv_at hl 1 rfl) ?_
    refine lv_aload_n hx hb dX2_pendingSum_28 rfl (lv_at hl 0 rfl) ?_
    refine va_get (D := (dC, dI)) (ci := 1) (v := .ref (g 5)) (C := RX2) (T := TX2) (N := 10) hx hb hts in_X2 hown hK hP 0 rfl rfl 9 (by decide) (hts _ q195) (fun _ h9 => h9) rfl dX2_pendingSum_29 ?_
    refine lv_iload_n hx hb dX2_pendingSum_32 rfl (lv_at hl 2 rfl) ?_
    refine va_iald (f := st.2 9) hx hb hK hP 5 0 rfl rfl (by rw [eT]; exact vp_in_nI (by omega) (by decide)) dX2_pendingSum_33 ?_
    refine lv_ldc hx hb hown (hts _ q225) dX2_pendingSum_34 ?_
    refine ph_cut (J := 49) (rest := [.int sm]) (if ((st.2 9) tt.toNatClampNeg) = (-100000) then 0 else (st.2 9) tt.toNatClampNeg) (fun z_2 ez_2 => ?_) (fun hJ_2 => ?_)
    · refine lv_iadd hx hb dX2_pendingSum_49 ?_
      refine lv_istore_n (lv' := [(1, .int (sm + z_2)), (0, .ref (g 0)), (2, .int tt)]) hx hb dX2_pendingSum_50 rfl hl (by decide) rfl (fun ls hl => ?_)
      refine lv_iinc (v := tt + 1) (lv' := [(2, .int (tt + 1)), (1, .int (sm + z_2)), (0, .ref (g 0))]) hx hb dX2_pendingSum_51 hl (k := 2) rfl rfl (by decide) rfl (fun ls hl => ?_)
      refine lv_goto (tgt := 19) hx hb dX2_pendingSum_54 (by decide) ?_
      exact ih n (sm + z_2, tt + 1) (Nat.lt_succ_self _) ⟨i + 1, by omega, by show tt + 1 = _; rw [eT]; exact nI_1 _, by show sm + z_2 = kS _ _ (i + 1); rw [kS, eT2, ez_2, eS]; exact ps_if⟩ ls (lv_sub hl [2, 1, 0] rfl)
    · refine lv_icmp_eq (tgt := 48) hx hb dX2_pendingSum_36 (by decide) (fun c_3 => ?_) (fun c_3 => ?_)
      · refine lv_iconst (v := 0) hx hb dX2_pendingSum_48 (by decide) ?_
        exact hJ_2 _ (by rw [if_pos c_3])
      · refine lv_aload_n hx hb dX2_pendingSum_39 rfl (lv_at hl 0 rfl) ?_
        refine va_get (D := (dC, dI)) (ci := 1) (v := .ref (g 5)) (C := RX2) (T := TX2) (N := 10) hx hb hts in_X2 hown hK hP 0 rfl rfl 9 (by decide) (hts _ q195) (fun _ h9 => h9) rfl dX2_pendingSum_40 ?_
        refine lv_iload_n hx hb dX2_pendingSum_43 rfl (lv_at hl 2 rfl) ?_
        refine va_iald (f := st.2 9) hx hb hK hP 5 0 rfl rfl (by rw [eT]; exact vp_in_nI (by omega) (by decide)) dX2_pendingSum_44 ?_
        refine lv_goto (tgt := 49) hx hb dX2_pendingSum_45 (by decide) ?_
        exact hJ_2 _ (by rw [if_neg c_3])
end
section
theorem m_mom {st : SS} {tt : Int32} {T : Nat} (hT : st.1 7 = nI T) (hT2 : T ≤ 240) (c1 : ¬ tt ≤ st.1 7) (c2 : ¬ 240 < tt) : ∃ Mn : Nat, tt - st.1 7 = nI Mn ∧ 1 ≤ Mn ∧ T + Mn ≤ 240 := by
  have p0 : ¬ tt < 0 := fun q => c1 (by
    rw [hT]
    have h1 := nI_pos' (n := T) (by omega)
    rw [Int32.le_iff_toInt_le] at h1 ⊢
    rw [Int32.lt_iff_toInt_lt] at q
    omega)
  obtain ⟨j, hj, rfl⟩ := nI_of p0
  rw [hT] at c1 ⊢
  have h1 : ¬ j ≤ T := fun q => c1 (nI_le q (by omega))
  have h2 : ¬ 240 < j := fun q => c2 (nI_lt q hj)
  exact ⟨j - T, pk_sub (by omega), by omega, by omega⟩

set_option maxHeartbeats 4000000 in
set_option maxRecDepth 100000 in
theorem mX2_shape (l : Launch) (dC : Nat → ClassId) (dI : Nat → Nat → Nat) (g : Nat → Nat) (cI : ClassId) (st : SS) (a pk : Int32)  (sz : Nat) : Met l yX2_shape (ws_ yX2_shape cX2_shape 7 (some .boolean)) ({ frames := 0, cells := 0, slots := 0, locals := 0 }) (va_Pc [.ref (g 0), .int a, .int pk] (qM (dC, dI) (mw g cI st) [(cI, .int)] sz)) (va_Qi (fun (ans : Int32) (u : SS) => (ans, u) = m_shape st a pk) (qB (dC, dI) (mw g cI) [(cI, .int)] (va_A (mw g cI st) sz)) (va_A (mw g cI st) sz)) 0 0 (va_A (mw g cI st) sz) := by
  refine Met.ofW (cc := cX2_shape) (maxL := 7) (ret := some .boolean) (by decide) rfl ?_
  intro p e s m args below meth c s₁ B hml hv
  obtain ⟨rfl, hsz, hP, hK, hD0⟩ := hv
  have hx := B.exec
  have hb := B.bytes
  have hr := B.returns
  have hts := atoms_spec (ws := ws_ yX2_shape cX2_shape 7 (some .boolean)) B.pre
  have hts : ∀ w ∈ lw_all, w.before _ s = true := fun w h => hts w (List.mem_cons_of_mem _ h)
  have hown : s.vm.findClass RX2 = some m.cls := findClass_of_methodNamed B.named
  have hlocks := B.notSynchronized
  subst hsz
  have hD := hD0.self (sz := s.heap.size)
  generalize hAe : va_A (mw g cI st) s.heap.size = A at hD ⊢
  have hA : ∀ q : Nat, s.heap.size ≤ q → A q := fun q h => by rw [← hAe]; exact Or.inr h
  have hS : va_S A s.heap s.heap [] := va_S.rf
  have hl := lv_entry ([.ref (g 0), .int a, .int pk]) (n := 7) (Nat.le_of_ble_eq_true rfl)
  rw [lg_entry_eq]
  generalize (lg_sl ([.ref (g 0), .int a, .int pk]) ++ List.replicate (7 - (lg_sl ([.ref (g 0), .int a, .int pk])).length) Slot.unset).toArray = ls at hl ⊢
  have hl : lv_has ls 7 [(0, .ref (g 0)), (1, .int a), (2, .int pk)] := hl
  refine lv_iload_n hx hb dX2_shape_0 rfl (lv_at hl 2 rfl) ?_
  refine lv_bipush (v := 7) hx hb dX2_shape_1 (by decide) ?_
  refine lv_iand hx hb dX2_shape_3 ?_
  refine lv_istore_n (lv' := [(3, .int (pk &&& 7)), (0, .ref (g 0)), (1, .int a), (2, .int pk)]) hx hb dX2_shape_4 rfl hl (by decide) rfl (fun ls hl => ?_)
  refine lv_iload_n hx hb dX2_shape_5 rfl (lv_at hl 3 rfl) ?_
  refine lv_iconst (v := 3) hx hb dX2_shape_6 (by decide) ?_
  refine lv_ishr hx hb dX2_shape_7 ?_
  refine lv_bipush (v := 7) hx hb dX2_shape_8 (by decide) ?_
  refine lv_iand hx hb dX2_shape_10 ?_
  refine lv_istore (lv' := [(4, .int ((pk >>> (3 &&& 31)) &&& 7)), (3, .int (pk &&& 7)), (0, .ref (g 0)), (1, .int a), (2, .int pk)]) hx hb dX2_shape_11 hl (by decide) rfl (fun ls hl => ?_)
  refine lv_iload_n hx hb dX2_shape_13 rfl (lv_at hl 4 rfl) ?_
  refine lv_bipush (v := 6) hx hb dX2_shape_14 (by decide) ?_
  refine lv_ishr hx hb dX2_shape_16 ?_
  refine lv_bipush (v := 7) hx hb dX2_shape_17 (by decide) ?_
  refine lv_iand hx hb dX2_shape_19 ?_
  refine lv_istore (lv' := [(5, .int ((pk >>> (6 &&& 31)) &&& 7)), (4, .int ((pk >>> (3 &&& 31)) &&& 7)), (3, .int (pk &&& 7)), (0, .ref (g 0)), (1, .int a), (2, .int pk)]) hx hb dX2_shape_20 hl (by decide) rfl (fun ls hl => ?_)
  refine lv_iload_n hx hb dX2_shape_22 rfl (lv_at hl 5 rfl) ?_
  refine lv_bipush (v := 9) hx hb dX2_shape_23 (by decide) ?_
  refine lv_ishr hx hb dX2_shape_25 ?_
  refine lv_istore (lv' := [(6, .int (pk >>> (9 &&& 31))), (5, .int ((pk >>> (6 &&& 31)) &&& 7)), (4, .int ((pk >>> (3 &&& 31)) &&& 7)), (3, .int (pk &&& 7)), (0, .ref (g 0)), (1, .int a), (2, .int pk)]) hx hb dX2_shape_26 hl (by decide) rfl (fun ls hl => ?_)
  refine lv_iload_n hx hb dX2_shape_28 rfl (lv_at hl 5 rfl) ?_
  refine ph_cut0 (J := 37) (rest := []) (arO a) (fun ha => ?_) (fun hJ_1 => ?_)
  · refine lv_aload_n hx hb dX2_shape_37 rfl (lv_at hl 4 rfl) ?_
    refine va_get (D := (dC, dI)) (ci := 1) (v := .int (st.1 7)) (C := RX2) (T := TX2) (N := 10) hx hb hts in_X2 hown hK hP 0 rfl rfl 7 (by decide) (hts _ q193) (fun _ h9 => h9) rfl dX2_shape_38 ?_
    refine lv_if_gt (tgt := 79) hx hb dX2_shape_41 (by decide) (fun c_2 => ?_) (fun c_2 => ?_)
    · refine lv_iconst (v := 0) hx hb dX2_shape_79 (by decide) ?_
      exact W.zret (v := 0) hx hb hr rfl (fun t ht hW => ⟨⟨0, st, rfl, (by show (0, st) = m_shape st a pk; rw [m_shape, if_neg (ar_isA ha), m_shB, if_pos c_2]), by rw [ht]; exact hP, va_K.moved hW.alike hK, hD⟩, hS.F ht⟩) hS.2.2 dX2_shape_80
    · refine lv_iload_n hx hb dX2_shape_44 rfl (lv_at hl 3 rfl) ?_
      refine lv_iconst (v := 1) hx hb dX2_shape_45 (by decide) ?_
      refine lv_icmp_lt (tgt := 79) hx hb dX2_shape_46 (by decide) (fun c_3 => ?_) (fun c_3 => ?_)
      · refine lv_iconst (v := 0) hx hb dX2_shape_79 (by decide) ?_
        exact W.zret (v := 0) hx hb hr rfl (fun t ht hW => ⟨⟨0, st, rfl, (by show (0, st) = m_shape st a pk; rw [m_shape, if_neg (ar_isA ha), m_shB, if_neg c_2, if_pos c_3]), by rw [ht]; exact hP, va_K.moved hW.alike hK, hD⟩, hS.F ht⟩) hS.2.2 dX2_shape_80
      · refine lv_iload_n hx hb dX2_shape_49 rfl (lv_at hl 3 rfl) ?_
        refine lv_iconst (v := 4) hx hb dX2_shape_50 (by decide) ?_
        refine lv_icmp_gt (tgt := 79) hx hb dX2_shape_51 (by decide) (fun c_4 => ?_) (fun c_4 => ?_)
        · refine lv_iconst (v := 0) hx hb dX2_shape_79 (by decide) ?_
          exact W.zret (v := 0) hx hb hr rfl (fun t ht hW => ⟨⟨0, st, rfl, (by show (0, st) = m_shape st a pk; rw [m_shape, if_neg (ar_isA ha), m_shB, if_neg c_2, if_neg c_3, if_pos c_4]), by rw [ht]; exact hP, va_K.moved hW.alike hK, hD⟩, hS.F ht⟩) hS.2.2 dX2_shape_80
        · refine lv_iload hx hb dX2_shape_54 (lv_at hl 2 rfl) ?_
          refine lv_iconst (v := 3) hx hb dX2_shape_56 (by decide) ?_
          refine lv_icmp_gt (tgt := 79) hx hb dX2_shape_57 (by decide) (fun c_5 => ?_) (fun c_5 => ?_)
          · refine lv_iconst (v := 0) hx hb dX2_shape_79 (by decide) ?_
            exact W.zret (v := 0) hx hb hr rfl (fun t ht hW => ⟨⟨0, st, rfl, (by show (0, st) = m_shape st a pk; rw [m_shape, if_neg (ar_isA ha), m_shB, if_neg c_2, if_neg c_3, if_neg c_4, if_pos c_5]), by rw [ht]; exact hP, va_K.moved hW.alike hK, hD⟩, hS.F ht⟩) hS.2.2 dX2_shape_80
          · refine lv_iload hx hb dX2_shape_60 (lv_at hl 1 rfl) ?_
            refine lv_iconst (v := 3) hx hb dX2_shape_62 (by decide) ?_
            refine lv_icmp_gt (tgt := 79) hx hb dX2_shape_63 (by decide) (fun c_6 => ?_) (fun c_6 => ?_)
            · refine lv_iconst (v := 0) hx hb dX2_shape_79 (by decide) ?_
              exact W.zret (v := 0) hx hb hr rfl (fun t ht hW => ⟨⟨0, st, rfl, (by show (0, st) = m_shape st a pk; rw [m_shape, if_neg (ar_isA ha), m_shB, if_neg c_2, if_neg c_3, if_neg c_4, if_neg c_5, if_pos c_6]), by rw [ht]; exact hP, va_K.moved hW.alike hK, hD⟩, hS.F ht⟩) hS.2.2 dX2_shape_80
            · refine lv_iload hx hb dX2_shape_66 (lv_at hl 0 rfl) ?_
              refine lv_iconst (v := 1) hx hb dX2_shape_68 (by decide) ?_
              refine lv_icmp_lt (tgt := 79) hx hb dX2_shape_69 (by decide) (fun c_7 => ?_) (fun c_7 => ?_)
              · refine lv_iconst (v := 0) hx hb dX2_shape_79 (by decide) ?_
                exact W.zret (v := 0) hx hb hr rfl (fun t ht hW => ⟨⟨0, st, rfl, (by show (0, st) = m_shape st a pk; rw [m_shape, if_neg (ar_isA ha), m_shB, if_neg c_2, if_neg c_3, if_neg c_4, if_neg c_5, if_neg c_6, if_pos c_7]), by rw [ht]; exact hP, va_K.moved hW.alike hK, hD⟩, hS.F ht⟩) hS.2.2 dX2_shape_80
              · refine lv_iload hx hb dX2_shape_72 (lv_at hl 0 rfl) ?_
                refine lv_bipush (v := 8) hx hb dX2_shape_74 (by decide) ?_
                refine lv_icmp_le (tgt := 81) hx hb dX2_shape_76 (by decide) (fun c_8 => ?_) (fun c_8 => ?_)
                · refine lv_aload_n hx hb dX2_shape_81 rfl (lv_at hl 4 rfl) ?_
                  refine va_get (D := (dC, dI)) (ci := 1) (v := .ref (g 1)) (C := RX2) (T := TX2) (N := 10) hx hb hts in_X2 hown hK hP 0 rfl rfl 3 (by decide) (hts _ q189) (fun _ h9 => h9) rfl dX2_shape_82 ?_
                  refine lv_iload_n hx hb dX2_shape_85 rfl (lv_at hl 5 rfl) ?_
                  refine lv_iload_n hx hb dX2_shape_86 rfl (lv_at hl 3 rfl) ?_
                  refine va_iast (f := st.2 3) hx hb hK hP hD hS 1 0 rfl rfl (in2 ha) dX2_shape_87 (fun H locs hP hD hS => ?_)
                  obtain ⟨s_9, es_9⟩ : ∃ z : SS, z = sa st 3 (upd (st.2 3) a.toNatClampNeg (pk &&& 7)) := ⟨_, rfl⟩
                  have hP : va_P (dC, dI) clsL (mw g cI s_9) H := by rw [es_9, ← mw_a1]; exact hP
                  have hD : va_D A (mw g cI s_9) := by rw [es_9, ← mw_a1]; exact hD
                  refine lv_aload_n hx hb dX2_shape_88 rfl (lv_at hl 4 rfl) ?_
                  refine va_get (D := (dC, dI)) (ci := 1) (v := .ref (g 2)) (C := RX2) (T := TX2) (N := 10) hx hb hts in_X2 hown hK hP 0 rfl rfl 4 (by decide) (hts _ q190) (fun _ h9 => h9) rfl dX2_shape_89 ?_
                  refine lv_iload_n hx hb dX2_shape_92 rfl (lv_at hl 5 rfl) ?_
                  refine lv_iload hx hb dX2_shape_93 (lv_at hl 2 rfl) ?_
                  refine va_iast (f := st.2 4) hx hb hK hP hD hS 2 0 (by rw [← show s_9.2 4 = st.2 4 from by rw [es_9, sa_n (by decide)]]; rfl) rfl (in2 ha) dX2_shape_95 (fun H locs hP hD hS => ?_)
                  obtain ⟨s_10, es_10⟩ : ∃ z : SS, z = sa s_9 4 (upd (st.2 4) a.toNatClampNeg ((pk >>> (3 &&& 31)) &&& 7)) := ⟨_, rfl⟩
                  have hP : va_P (dC, dI) clsL (mw g cI s_10) H := by rw [es_10, ← mw_a2]; exact hP
                  have hD : va_D A (mw g cI s_10) := by rw [es_10, ← mw_a2]; exact hD
                  refine lv_aload_n hx hb dX2_shape_96 rfl (lv_at hl 4 rfl) ?_
                  refine va_get (D := (dC, dI)) (ci := 1) (v := .ref (g 3)) (C := RX2) (T := TX2) (N := 10) hx hb hts in_X2 hown hK hP 0 rfl rfl 5 (by decide) (hts _ q191) (fun _ h9 => h9) rfl dX2_shape_97 ?_
                  refine lv_iload_n hx hb dX2_shape_100 rfl (lv_at hl 5 rfl) ?_
                  refine lv_iload hx hb dX2_shape_101 (lv_at hl 1 rfl) ?_
                  refine va_iast (f := st.2 5) hx hb hK hP hD hS 3 0 (by rw [← show s_10.2 5 = st.2 5 from by rw [es_10, sa_n (by decide), es_9, sa_n (by decide)]]; rfl) rfl (in2 ha) dX2_shape_103 (fun H locs hP hD hS => ?_)
                  obtain ⟨s_11, es_11⟩ : ∃ z : SS, z = sa s_10 5 (upd (st.2 5) a.toNatClampNeg ((pk >>> (6 &&& 31)) &&& 7)) := ⟨_, rfl⟩
                  have hP : va_P (dC, dI) clsL (mw g cI s_11) H := by rw [es_11, ← mw_a3]; exact hP
                  have hD : va_D A (mw g cI s_11) := by rw [es_11, ← mw_a3]; exact hD
                  refine lv_aload_n hx hb dX2_shape_104 rfl (lv_at hl 4 rfl) ?_
                  refine va_get (D := (dC, dI)) (ci := 1) (v := .ref (g 4)) (C := RX2) (T := TX2) (N := 10) hx hb hts in_X2 hown hK hP 0 rfl rfl 6 (by decide) (hts _ q192) (fun _ h9 => h9) rfl dX2_shape_105 ?_
                  refine lv_iload_n hx hb dX2_shape_108 rfl (lv_at hl 5 rfl) ?_
                  refine lv_iload hx hb dX2_shape_109 (lv_at hl 0 rfl) ?_
                  refine va_iast (f := st.2 6) hx hb hK hP hD hS 4 0 (by rw [← show s_11.2 6 = st.2 6 from by rw [es_11, sa_n (by decide), es_10, sa_n (by decide), es_9, sa_n (by decide)]]; rfl) rfl (in2 ha) dX2_shape_111 (fun H locs hP hD hS => ?_)
                  obtain ⟨s_12, es_12⟩ : ∃ z : SS, z = sa s_11 6 (upd (st.2 6) a.toNatClampNeg (pk >>> (9 &&& 31))) := ⟨_, rfl⟩
                  have hP : va_P (dC, dI) clsL (mw g cI s_12) H := by rw [es_12, ← mw_a4]; exact hP
                  have hD : va_D A (mw g cI s_12) := by rw [es_12, ← mw_a4]; exact hD
                  refine lv_iconst (v := 1) hx hb dX2_shape_112 (by decide) ?_
                  exact W.zret (v := 1) hx hb hr rfl (fun t ht hW => ⟨⟨1, s_12, rfl, (by show (1, s_12) = m_shape st a pk; rw [es_12, es_11, es_10, es_9]; rw [m_shape, if_neg (ar_isA ha), m_shB, if_neg c_2, if_neg c_3, if_neg c_4, if_neg c_5, if_neg c_6, if_neg c_7, if_pos c_8, m_shSet]), by rw [ht]; exact hP, va_K.moved hW.alike hK, hD⟩, hS.F ht⟩) hS.2.2 dX2_shape_113
                · refine lv_iconst (v := 0) hx hb dX2_shape_79 (by decide) ?_
                  exact W.zret (v := 0) hx hb hr rfl (fun t ht hW => ⟨⟨0, st, rfl, (by show (0, st) = m_shape st a pk; rw [m_shape, if_neg (ar_isA ha), m_shB, if_neg c_2, if_neg c_3, if_neg c_4, if_neg c_5, if_neg c_6, if_neg c_7, if_neg c_8]), by rw [ht]; exact hP, va_K.moved hW.alike hK, hD⟩, hS.F ht⟩) hS.2.2 dX2_shape_80
  · refine lv_if_eq (tgt := 37) hx hb dX2_shape_29 (by decide) (fun c_13 => ?_) (fun c_13 => ?_)
    · exact hJ_1 (by first | exact Or.inl (by assumption) | exact Or.inr (by assumption))
    · refine lv_iload_n hx hb dX2_shape_32 rfl (lv_at hl 5 rfl) ?_
      refine lv_iconst (v := 1) hx hb dX2_shape_33 (by decide) ?_
      refine lv_icmp_ne (tgt := 79) hx hb dX2_shape_34 (by decide) (fun c_14 => ?_) (fun c_14 => ?_)
      · refine lv_iconst (v := 0) hx hb dX2_shape_79 (by decide) ?_
        exact W.zret (v := 0) hx hb hr rfl (fun t ht hW => ⟨⟨0, st, rfl, (by show (0, st) = m_shape st a pk; rw [m_shape, if_pos (isA_no c_13 c_14)]), by rw [ht]; exact hP, va_K.moved hW.alike hK, hD⟩, hS.F ht⟩) hS.2.2 dX2_shape_80
      · exact hJ_1 (by first | exact Or.inl (by assumption) | exact Or.inr (by assumption))

set_option maxHeartbeats 4000000 in
set_option maxRecDepth 100000 in
theorem mX2_update (l : Launch) (dC : Nat → ClassId) (dI : Nat → Nat → Nat) (g : Nat → Nat) (cI : ClassId) (st : SS) (tt v : Int32) (T : Nat) (hT : st.1 7 = nI T) (hT2 : T ≤ 240) (sz : Nat) : Met l yX2_update (ws_ yX2_update cX2_update 8 (some .boolean)) ({ frames := 0, cells := 0, slots := 0, locals := 0 }) (va_Pc [.ref (g 0), .int tt, .int v] (qM (dC, dI) (mw g cI st) [(cI, .int)] sz)) (va_Qi (fun (ans : Int32) (u : SS) => (ans, u) = m_update st tt v) (qB (dC, dI) (mw g cI) [(cI, .int)] (va_A (mw g cI st) sz)) (va_A (mw g cI st) sz)) 0 0 (va_A (mw g cI st) sz) := by
  refine Met.ofW (cc := cX2_update) (maxL := 8) (ret := some .boolean) (by decide) rfl ?_
  intro p e s m args below meth c s₁ B hml hv
  obtain ⟨rfl, hsz, hP, hK, hD0⟩ := hv
  have hx := B.exec
  have hb := B.bytes
  have hr := B.returns
  have hts := atoms_spec (ws := ws_ yX2_update cX2_update 8 (some .boolean)) B.pre
  have hts : ∀ w ∈ lw_all, w.before _ s = true := fun w h => hts w (List.mem_cons_of_mem _ h)
  have hown : s.vm.findClass RX2 = some m.cls := findClass_of_methodNamed B.named
  have hlocks := B.notSynchronized
  subst hsz
  have hD := hD0.self (sz := s.heap.size)
  generalize hAe : va_A (mw g cI st) s.heap.size = A at hD ⊢
  have hA : ∀ q : Nat, s.heap.size ≤ q → A q := fun q h => by rw [← hAe]; exact Or.inr h
  have hS : va_S A s.heap s.heap [] := va_S.rf
  have hl := lv_entry ([.ref (g 0), .int tt, .int v]) (n := 8) (Nat.le_of_ble_eq_true rfl)
  rw [lg_entry_eq]
  generalize (lg_sl ([.ref (g 0), .int tt, .int v]) ++ List.replicate (8 - (lg_sl ([.ref (g 0), .int tt, .int v])).length) Slot.unset).toArray = ls at hl ⊢
  have hl : lv_has ls 8 [(0, .ref (g 0)), (1, .int tt), (2, .int v)] := hl
  refine lv_aload_n hx hb dX2_update_0 rfl (lv_at hl 0 rfl) ?_
  refine va_get (D := (dC, dI)) (ci := 1) (v := .int (st.1 0)) (C := RX2) (T := TX2) (N := 10) hx hb hts in_X2 hown hK hP 0 rfl rfl 0 (by decide) (hts _ q186) (fun _ h9 => h9) rfl dX2_update_1 ?_
  refine ph_cut (J := 45) (rest := []) (if (st.1 0) = 0 then (if v < (-1000) then 0 else (if (1000 : Int32) < v then 0 else 1)) else (if v < 0 then 0 else (if (255 : Int32) < v then 0 else 1))) (fun z_1 ez_1 => ?_) (fun hJ_1 => ?_)
  · refine lv_istore_n (lv' := [(3, .int z_1), (0, .ref (g 0)), (1, .int tt), (2, .int v)]) hx hb dX2_update_45 rfl hl (by decide) rfl (fun ls hl => ?_)
    refine lv_iload_n hx hb dX2_update_46 rfl (lv_at hl 2 rfl) ?_
    refine lv_iconst (v := 1) hx hb dX2_update_47 (by decide) ?_
    refine lv_icmp_lt (tgt := 70) hx hb dX2_update_48 (by decide) (fun c_2 => ?_) (fun c_2 => ?_)
    · refine lv_iconst (v := 0) hx hb dX2_update_70 (by decide) ?_
      exact W.zret (v := 0) hx hb hr rfl (fun t ht hW => ⟨⟨0, st, rfl, (by show (0, st) = m_update st tt v; subst ez_1; rw [m_update, m_fits, if_pos c_2]), by rw [ht]; exact hP, va_K.moved hW.alike hK, hD⟩, hS.F ht⟩) hS.2.2 dX2_update_71
    · refine lv_iload_n hx hb dX2_update_51 rfl (lv_at hl 2 rfl) ?_
      refine lv_sipush (v := 240) hx hb dX2_update_52 (by decide) ?_
      refine lv_icmp_gt (tgt := 70) hx hb dX2_update_55 (by decide) (fun c_3 => ?_) (fun c_3 => ?_)
      · refine lv_iconst (v := 0) hx hb dX2_update_70 (by decide) ?_
        exact W.zret (v := 0) hx hb hr rfl (fun t ht hW => ⟨⟨0, st, rfl, (by show (0, st) = m_update st tt v; subst ez_1; rw [m_update, m_fits, if_neg c_2, if_pos c_3]), by rw [ht]; exact hP, va_K.moved hW.alike hK, hD⟩, hS.F ht⟩) hS.2.2 dX2_update_71
      · refine lv_iload_n hx hb dX2_update_58 rfl (lv_at hl 2 rfl) ?_
        refine lv_aload_n hx hb dX2_update_59 rfl (lv_at hl 1 rfl) ?_
        refine va_get (D := (dC, dI)) (ci := 1) (v := .int (st.1 7)) (C := RX2) (T := TX2) (N := 10) hx hb hts in_X2 hown hK hP 0 rfl rfl 7 (by decide) (hts _ q193) (fun _ h9 => h9) rfl dX2_update_60 ?_
        refine lv_icmp_le (tgt := 70) hx hb dX2_update_63 (by decide) (fun c_4 => ?_) (fun c_4 => ?_)
        · refine lv_iconst (v := 0) hx hb dX2_update_70 (by decide) ?_
          exact W.zret (v := 0) hx hb hr rfl (fun t ht hW => ⟨⟨0, st, rfl, (by show (0, st) = m_update st tt v; subst ez_1; rw [m_update, m_fits, if_neg c_2, if_neg c_3, if_pos c_4]), by rw [ht]; exact hP, va_K.moved hW.alike hK, hD⟩, hS.F ht⟩) hS.2.2 dX2_update_71
        · refine lv_iload_n hx hb dX2_update_66 rfl (lv_at hl 0 rfl) ?_
          refine lv_if_ne (tgt := 72) hx hb dX2_update_67 (by decide) (fun c_5 => ?_) (fun c_5 => ?_)
          · refine lv_iload_n hx hb dX2_update_72 rfl (lv_at hl 2 rfl) ?_
            refine lv_aload_n hx hb dX2_update_73 rfl (lv_at hl 1 rfl) ?_
            refine va_get (D := (dC, dI)) (ci := 1) (v := .int (st.1 7)) (C := RX2) (T := TX2) (N := 10) hx hb hts in_X2 hown hK hP 0 rfl rfl 7 (by decide) (hts _ q193) (fun _ h9 => h9) rfl dX2_update_74 ?_
            refine lv_isub hx hb dX2_update_77 ?_
            refine lv_istore (lv' := [(4, .int (tt - (st.1 7))), (3, .int z_1), (0, .ref (g 0)), (1, .int tt), (2, .int v)]) hx hb dX2_update_78 hl (by decide) rfl (fun ls hl => ?_)
            refine lv_iload_n hx hb dX2_update_80 rfl (lv_at hl 4 rfl) ?_
            refine lv_aload_n hx hb dX2_update_81 rfl (lv_at hl 2 rfl) ?_
            refine va_get (D := (dC, dI)) (ci := 1) (v := .int (st.1 8)) (C := RX2) (T := TX2) (N := 10) hx hb hts in_X2 hown hK hP 0 rfl rfl 8 (by decide) (hts _ q194) (fun _ h9 => h9) rfl dX2_update_82 ?_
            refine lv_isub hx hb dX2_update_85 ?_
            refine lv_sipush (v := 256) hx hb dX2_update_86 (by decide) ?_
            refine lv_iadd hx hb dX2_update_89 ?_
            refine lv_sipush (v := 256) hx hb dX2_update_90 (by decide) ?_
            refine lv_irem hx hb dX2_update_93 (by decide) ?_
            refine lv_istore (lv' := [(5, .int (((v - (st.1 8)) + 256) - ((v - (st.1 8)) + 256) / 256 * 256)), (4, .int (tt - (st.1 7))), (3, .int z_1), (0, .ref (g 0)), (1, .int tt), (2, .int v)]) hx hb dX2_update_94 hl (by decide) rfl (fun ls hl => ?_)
            refine lv_iconst (v := 1) hx hb dX2_update_96 (by decide) ?_
            refine lv_istore (lv' := [(6, .int 1), (5, .int (((v - (st.1 8)) + 256) - ((v - (st.1 8)) + 256) / 256 * 256)), (4, .int (tt - (st.1 7))), (3, .int z_1), (0, .ref (g 0)), (1, .int tt), (2, .int v)]) hx hb dX2_update_97 hl (by decide) rfl (fun ls hl => ?_)
            obtain ⟨Mn, eM, hM1, hM2⟩ : ∃ Mn : Nat, tt - (st.1 7) = nI Mn ∧ 1 ≤ Mn ∧ T + Mn ≤ 240 := m_mom hT hT2 c_4 c_3
            have hM0 : ¬ tt - (st.1 7) = 0 := by rw [eM]; exact nI_ne0 (by omega) (by omega)
            refine lp_cutM (σ := SS × Int32) (nL := 8) (w := fun x => mw g cI x.1) (lv := fun x => [(0, .ref (g 0)), (1, .int tt), (2, .int v), (3, .int z_1), (4, .int (tt - (st.1 7))), (5, .int (((v - (st.1 8)) + 256) - ((v - (st.1 8)) + 256) / 256 * 256)), (6, .int x.2)]) (I := fun n x => ∃ K : Nat, x.2 = nI K ∧ K + n = Mn + 1 ∧ x.1.1 7 = nI T ∧ m_ulp v (((v - (st.1 8)) + 256) - ((v - (st.1 8)) + 256) / 256 * 256) (tt - (st.1 7)) n x.2 x.1 = m_ulp v (((v - (st.1 8)) + 256) - ((v - (st.1 8)) + 256) / 256 * 256) (tt - (st.1 7)) Mn 1 st) ?_ Mn (st, 1) ⟨1, rfl, by omega, hT, rfl⟩ _ _ ls hP hD hS (lv_sub hl [4, 5, 6, 3, 2, 1, 0] rfl)
            intro n x hI ih H locs ls hP hD hS hl
            obtain ⟨st1, j⟩ := x
            have hP : va_P (dC, dI) clsL (mw g cI st1) H := hP
            have hD : va_D A (mw g cI st1) := hD
            have hl : lv_has ls 8 [(0, .ref (g 0)), (1, .int tt), (2, .int v), (3, .int z_1), (4, .int (tt - (st.1 7))), (5, .int (((v - (st.1 8)) + 256) - ((v - (st.1 8)) + 256) / 256 * 256)), (6, .int j)] := hl
            obtain ⟨K, eK, eN, e7, eR⟩ := hI
            have eK : j = nI K := eK
            have e7 : st1.1 7 = nI T := e7
            have eR : m_ulp v (((v - (st.1 8)) + 256) - ((v - (st.1 8)) + 256) / 256 * 256) (tt - (st.1 7)) n j st1 = m_ulp v (((v - (st.1 8)) + 256) - ((v - (st.1 8)) + 256) / 256 * 256) (tt - (st.1 7)) Mn 1 st := eR
            refine lv_iload hx hb dX2_update_99 (lv_at hl 6 rfl) ?_
            refine lv_iload hx hb dX2_update_101 (lv_at hl 4 rfl) ?_
            refine lv_icmp_gt (tgt := 172) hx hb dX2_update_103 (by decide) (fun c_6 => ?_) (fun c_6 => ?_)
            · have n0 : n = 0 := by rw [eM, eK] at c_6; have := (nI_ltI (by omega) (by omega)).mp c_6; omega
              subst n0
              have eR : st1 = m_ulp v (((v - (st.1 8)) + 256) - ((v - (st.1 8)) + 256) / 256 * 256) (tt - (st.1 7)) Mn 1 st := eR
              refine lv_aload_n hx hb dX2_update_172 rfl (lv_at hl 0 rfl) ?_
              refine lv_aload_n hx hb dX2_update_173 rfl (lv_at hl 0 rfl) ?_
              refine va_get (D := (dC, dI)) (ci := 1) (v := .int (st1.1 0)) (C := RX2) (T := TX2) (N := 10) hx hb hts in_X2 hown hK hP 0 rfl rfl 0 (by decide) (hts _ q186) (fun _ h9 => h9) rfl dX2_update_174 ?_
              refine ph_cut (J := 185) (rest := [.ref (g 0)]) (if (st1.1 0) = 0 then 0 else v) (fun z_7 ez_7 => ?_) (fun hJ_7 => ?_)
              · refine va_put (D := (dC, dI)) (ci := 1) (v := .int z_7) (ty := .int) (C := RX2) (T := TX2) (N := 10) hx hb hts in_X2 tyX2 tyX2_ok nmX2 hown hK hP hD hS 0 rfl rfl 8 (by decide) (hts _ q194) (fun _ h9 => h9) rfl (by decide +kernel) rfl rfl (Nat.le_of_ble_eq_true rfl) dX2_update_185 (fun H locs hP hD hS => ?_)
                obtain ⟨s_8, es_8⟩ : ∃ z : SS, z = sv st1 8 z_7 := ⟨_, rfl⟩
                have hP : va_P (dC, dI) clsL (mw g cI s_8) H := by rw [es_8, ← mw_s8]; exact hP
                have hD : va_D A (mw g cI s_8) := by rw [es_8, ← mw_s8]; exact hD
                refine lv_aload_n hx hb dX2_update_188 rfl (lv_at hl 0 rfl) ?_
                refine lv_iload_n hx hb dX2_update_189 rfl (lv_at hl 1 rfl) ?_
                refine va_put (D := (dC, dI)) (ci := 1) (v := .int tt) (ty := .int) (C := RX2) (T := TX2) (N := 10) hx hb hts in_X2 tyX2 tyX2_ok nmX2 hown hK hP hD hS 0 rfl rfl 7 (by decide) (hts _ q193) (fun _ h9 => h9) rfl (by decide +kernel) rfl rfl (Nat.le_of_ble_eq_true rfl) dX2_update_190 (fun H locs hP hD hS => ?_)
                obtain ⟨s_9, es_9⟩ : ∃ z : SS, z = sv s_8 7 tt := ⟨_, rfl⟩
                have hP : va_P (dC, dI) clsL (mw g cI s_9) H := by rw [es_9, ← mw_s7]; exact hP
                have hD : va_D A (mw g cI s_9) := by rw [es_9, ← mw_s7]; exact hD
                refine lv_iconst (v := 1) hx hb dX2_update_193 (by decide) ?_
                exact W.zret (v := 1) hx hb hr rfl (fun t ht hW => ⟨⟨1, s_9, rfl, (by show (1, s_9) = m_update st tt v; rw [es_9, es_8]; subst ez_7; subst ez_1; rw [m_update, m_fits, if_neg c_2, if_neg c_3, if_neg c_4, if_neg c_5, m_end, m_d, eR, eM, nI_clamp (by omega)]), by rw [ht]; exact hP, va_K.moved hW.alike hK, hD⟩, hS.F ht⟩) hS.2.2 dX2_update_194
              · refine lv_if_eq (tgt := 184) hx hb dX2_update_177 (by decide) (fun c_10 => ?_) (fun c_10 => ?_)
                · refine lv_iconst (v := 0) hx hb dX2_update_184 (by decide) ?_
                  exact hJ_7 _ (by rw [if_pos c_10])
                · refine lv_iload_n hx hb dX2_update_180 rfl (lv_at hl 2 rfl) ?_
                  refine lv_goto (tgt := 185) hx hb dX2_update_181 (by decide) ?_
                  exact hJ_7 _ (by rw [if_neg c_10])
            · obtain ⟨n, rfl⟩ : ∃ n1, n = n1 + 1 := ⟨n - 1, by rw [eM, eK] at c_6; have : ¬ Mn < K := fun q => c_6 (nI_lt q (by omega)); omega⟩
              have hix : vp_in (st1.1 7 + j) 241 := by rw [e7, eK, nI_add]; exact vp_in_nI (by omega) (by decide)
              refine lv_aload_n hx hb dX2_update_106 rfl (lv_at hl 0 rfl) ?_
              refine va_get (D := (dC, dI)) (ci := 1) (v := .int (st1.1 0)) (C := RX2) (T := TX2) (N := 10) hx hb hts in_X2 hown hK hP 0 rfl rfl 0 (by decide) (hts _ q186) (fun _ h9 => h9) rfl dX2_update_107 ?_
              refine ph_cut (J := 136) (rest := []) (if (st1.1 0) = 0 then v else (((((v - (st.1 8)) + 256) - ((v - (st.1 8)) + 256) / 256 * 256) * j) / (tt - (st.1 7))) - (((((v - (st.1 8)) + 256) - ((v - (st.1 8)) + 256) / 256 * 256) * (j - 1)) / (tt - (st.1 7)))) (fun z_11 ez_11 => ?_) (fun hJ_11 => ?_)
              · refine lv_istore (lv' := [(7, .int z_11), (0, .ref (g 0)), (1, .int tt), (2, .int v), (3, .int z_1), (4, .int (tt - (st.1 7))), (5, .int (((v - (st.1 8)) + 256) - ((v - (st.1 8)) + 256) / 256 * 256)), (6, .int j)]) hx hb dX2_update_136 hl (by decide) rfl (fun ls hl => ?_)
                refine lv_aload_n hx hb dX2_update_138 rfl (lv_at hl 1 rfl) ?_
                refine va_get (D := (dC, dI)) (ci := 1) (v := .ref (g 5)) (C := RX2) (T := TX2) (N := 10) hx hb hts in_X2 hown hK hP 0 rfl rfl 9 (by decide) (hts _ q195) (fun _ h9 => h9) rfl dX2_update_139 ?_
                refine lv_aload_n hx hb dX2_update_142 rfl (lv_at hl 1 rfl) ?_
                refine va_get (D := (dC, dI)) (ci := 1) (v := .int (st1.1 7)) (C := RX2) (T := TX2) (N := 10) hx hb hts in_X2 hown hK hP 0 rfl rfl 7 (by decide) (hts _ q193) (fun _ h9 => h9) rfl dX2_update_143 ?_
                refine lv_iload hx hb dX2_update_146 (lv_at hl 7 rfl) ?_
                refine lv_iadd hx hb dX2_update_148 ?_
                refine lv_iload hx hb dX2_update_149 (lv_at hl 5 rfl) ?_
                refine lv_aload_n hx hb dX2_update_151 rfl (lv_at hl 1 rfl) ?_
                refine va_get (D := (dC, dI)) (ci := 1) (v := .int (st1.1 2)) (C := RX2) (T := TX2) (N := 10) hx hb hts in_X2 hown hK hP 0 rfl rfl 2 (by decide) (hts _ q188) (fun _ h9 => h9) rfl dX2_update_152 ?_
                refine ph_cut (J := 165) (rest := [.int ((st1.1 7) + j), .ref (g 5)]) (if (tt - (st.1 7)) ≤ (st1.1 2) then z_11 else (-100000)) (fun z_12 ez_12 => ?_) (fun hJ_12 => ?_)
                · refine va_iast (f := st1.2 9) hx hb hK hP hD hS 5 0 rfl rfl hix dX2_update_165 (fun H locs hP hD hS => ?_)
                  obtain ⟨s_13, es_13⟩ : ∃ z : SS, z = sa st1 9 (upd (st1.2 9) ((st1.1 7) + j).toNatClampNeg z_12) := ⟨_, rfl⟩
                  have hP : va_P (dC, dI) clsL (mw g cI s_13) H := by rw [es_13, ← mw_a5]; exact hP
                  have hD : va_D A (mw g cI s_13) := by rw [es_13, ← mw_a5]; exact hD
                  refine lv_iinc (v := j + 1) (lv' := [(6, .int (j + 1)), (7, .int z_11), (0, .ref (g 0)), (1, .int tt), (2, .int v), (3, .int z_1), (4, .int (tt - (st.1 7))), (5, .int (((v - (st.1 8)) + 256) - ((v - (st.1 8)) + 256) / 256 * 256))]) hx hb dX2_update_166 hl (k := 7) rfl rfl (by decide) rfl (fun ls hl => ?_)
                  refine lv_goto (tgt := 99) hx hb dX2_update_169 (by decide) ?_
                  exact ih n (s_13, j + 1) (Nat.lt_succ_self _) ⟨K + 1, by show j + 1 = nI (K + 1); rw [eK]; exact nI_1 K, by omega, by show s_13.1 7 = nI T; rw [es_13, sa_1]; exact e7, by rw [← eR, m_ulp, m_uval, m_share]; show m_ulp v (((v - (st.1 8)) + 256) - ((v - (st.1 8)) + 256) / 256 * 256) (tt - (st.1 7)) n (j + 1) s_13 = _; rw [es_13, ez_12, ez_11]⟩ _ _ ls hP hD hS (lv_sub hl [2, 3, 4, 5, 6, 7, 0] rfl)
                · refine lv_icmp_le (tgt := 163) hx hb dX2_update_155 (by decide) (fun c_14 => ?_) (fun c_14 => ?_)
                  · refine lv_iload hx hb dX2_update_163 (lv_at hl 0 rfl) ?_
                    exact hJ_12 _ (by rw [if_pos c_14])
                  · refine lv_ldc hx hb hown (hts _ q225) dX2_update_158 ?_
                    refine lv_goto (tgt := 165) hx hb dX2_update_160 (by decide) ?_
                    exact hJ_12 _ (by rw [if_neg c_14])
              · refine lv_if_eq (tgt := 135) hx hb dX2_update_110 (by decide) (fun c_15 => ?_) (fun c_15 => ?_)
                · refine lv_iload_n hx hb dX2_update_135 rfl (lv_at hl 2 rfl) ?_
                  exact hJ_11 _ (by rw [if_pos c_15])
                · refine lv_iload hx hb dX2_update_113 (lv_at hl 5 rfl) ?_
                  refine lv_iload hx hb dX2_update_115 (lv_at hl 6 rfl) ?_
                  refine lv_imul hx hb dX2_update_117 ?_
                  refine lv_iload hx hb dX2_update_118 (lv_at hl 4 rfl) ?_
                  refine lv_idiv hx hb dX2_update_120 hM0 ?_
                  refine lv_iload hx hb dX2_update_121 (lv_at hl 5 rfl) ?_
                  refine lv_iload hx hb dX2_update_123 (lv_at hl 6 rfl) ?_
                  refine lv_iconst (v := 1) hx hb dX2_update_125 (by decide) ?_
                  refine lv_isub hx hb dX2_update_126 ?_
                  refine lv_imul hx hb dX2_update_127 ?_
                  refine lv_iload hx hb dX2_update_128 (lv_at hl 4 rfl) ?_
                  refine lv_idiv hx hb dX2_update_130 hM0 ?_
                  refine lv_isub hx hb dX2_update_131 ?_
                  refine lv_goto (tgt := 136) hx hb dX2_update_132 (by decide) ?_
                  exact hJ_11 _ (by rw [if_neg c_15])
          · refine lv_iconst (v := 0) hx hb dX2_update_70 (by decide) ?_
            exact W.zret (v := 0) hx hb hr rfl (fun t ht hW => ⟨⟨0, st, rfl, (by show (0, st) = m_update st tt v; subst ez_1; rw [m_update, m_fits, if_neg c_2, if_neg c_3, if_neg c_4, if_pos c_5]), by rw [ht]; exact hP, va_K.moved hW.alike hK, hD⟩, hS.F ht⟩) hS.2.2 dX2_update_71
  · refine lv_if_eq (tgt := 26) hx hb dX2_update_4 (by decide) (fun c_16 => ?_) (fun c_16 => ?_)
    · refine lv_iload_n hx hb dX2_update_26 rfl (lv_at hl 2 rfl) ?_
      refine lv_sipush (v := (-1000)) hx hb dX2_update_27 (by decide) ?_
      refine lv_icmp_lt (tgt := 44) hx hb dX2_update_30 (by decide) (fun c_17 => ?_) (fun c_17 => ?_)
      · refine lv_iconst (v := 0) hx hb dX2_update_44 (by decide) ?_
        exact hJ_1 _ (by rw [if_pos c_16, if_pos c_17])
      · refine lv_iload_n hx hb dX2_update_33 rfl (lv_at hl 2 rfl) ?_
        refine lv_sipush (v := 1000) hx hb dX2_update_34 (by decide) ?_
        refine lv_icmp_gt (tgt := 44) hx hb dX2_update_37 (by decide) (fun c_18 => ?_) (fun c_18 => ?_)
        · refine lv_iconst (v := 0) hx hb dX2_update_44 (by decide) ?_
          exact hJ_1 _ (by rw [if_pos c_16, if_neg c_17, if_pos c_18])
        · refine lv_iconst (v := 1) hx hb dX2_update_40 (by decide) ?_
          refine lv_goto (tgt := 45) hx hb dX2_update_41 (by decide) ?_
          exact hJ_1 _ (by rw [if_pos c_16, if_neg c_17, if_neg c_18])
    · refine lv_iload_n hx hb dX2_update_7 rfl (lv_at hl 2 rfl) ?_
      refine lv_if_lt (tgt := 22) hx hb dX2_update_8 (by decide) (fun c_19 => ?_) (fun c_19 => ?_)
      · refine lv_iconst (v := 0) hx hb dX2_update_22 (by decide) ?_
        refine lv_goto (tgt := 45) hx hb dX2_update_23 (by decide) ?_
        exact hJ_1 _ (by rw [if_neg c_16, if_pos c_19])
      · refine lv_iload_n hx hb dX2_update_11 rfl (lv_at hl 2 rfl) ?_
        refine lv_sipush (v := 255) hx hb dX2_update_12 (by decide) ?_
        refine lv_icmp_gt (tgt := 22) hx hb dX2_update_15 (by decide) (fun c_20 => ?_) (fun c_20 => ?_)
        · refine lv_iconst (v := 0) hx hb dX2_update_22 (by decide) ?_
          refine lv_goto (tgt := 45) hx hb dX2_update_23 (by decide) ?_
          exact hJ_1 _ (by rw [if_neg c_16, if_neg c_19, if_pos c_20])
        · refine lv_iconst (v := 1) hx hb dX2_update_18 (by decide) ?_
          refine lv_goto (tgt := 45) hx hb dX2_update_19 (by decide) ?_
          exact hJ_1 _ (by rw [if_neg c_16, if_neg c_19, if_neg c_20])
end
section
/-! the two constructors: the worlds that they leave -/
theorem nar01 {c : Prop} [Decidable c] {z : Int32} (h : z = if c then 0 else 1) : narrow .boolean (.int z) = .int z := by
  subst h
  split <;> rfl
theorem fit01 {c : Prop} [Decidable c] {z : Int32} (h : z = if c then 0 else 1) : fits .boolean (.int z) = true := by
  subst h
  split <;> rfl
def f0 : Nat → Int32 := fun _ => 0
def aX (l : List Nat) : Nat → Nat := fun k => l.getD k 0
def xS (v0 v1 v2 v3 v4 v6 v7 v8 v9 v10 : Int32) (f5 f11 f12 f13 f14 f15 f16 f17 f18 f19 f20 f21 f22 : Nat → Int32) : SS := (fun k => [v0, v1, v2, v3, v4, 0, v6, v7, v8, v9, v10].getD k 0, fun k => [f0, f0, f0, f0, f0, f5, f0, f0, f0, f0, f0, f11, f12, f13, f14, f15, f16, f17, f18, f19, f20, f21, f22].getD k f0)
def mS (v0 v1 v2 v7 v8 : Int32) (f3 f4 f5 f6 f9 : Nat → Int32) : SS := (fun k => [v0, v1, v2, 0, 0, 0, 0, v7, v8].getD k 0, fun k => [f0, f0, f0, f3, f4, f5, f6, f0, f0, f9].getD k f0)
theorem xw_mk (a0 a1 a2 a3 a4 a5 a6 a7 a8 a9 a10 a11 a12 a13 : Nat) (cI cB : ClassId) (v0 v1 v2 v3 v4 v6 v7 v8 v9 v10 : Int32) (f5 f11 f12 f13 f14 f15 f16 f17 f18 f19 f20 f21 f22 : Nat → Int32) : ([(a0, .inr (0, [.int v0, .int v1, .int v2, .int v3, .int v4, .ref a1, .int v6, .int v7, .int v8, .int v9, .int v10, .ref a2, .ref a3, .ref a4, .ref a5, .ref a6, .ref a7, .ref a8, .ref a9, .ref a10, .ref a11, .ref a12, .ref a13])), (a1, .inl (cI, 32, .inl f5)), (a2, .inl (cB, 2, .inl f11)), (a3, .inl (cB, 2, .inl f12)), (a4, .inl (cB, 2, .inl f13)), (a5, .inl (cB, 2, .inl f14)), (a6, .inl (cB, 2, .inl f15)), (a7, .inl (cB, 2, .inl f16)), (a8, .inl (cI, 2, .inl f17)), (a9, .inl (cI, 2, .inl f18)), (a10, .inl (cI, 2, .inl f19)), (a11, .inl (cI, 2, .inl f20)), (a12, .inl (cI, 2, .inl f21)), (a13, .inl (cI, 16, .inl f22))] : va_W) = xw (aX [a0, a1, a2, a3, a4, a5, a6, a7, a8, a9, a10, a11, a12, a13]) cI cB (xS v0 v1 v2 v3 v4 v6 v7 v8 v9 v10 f5 f11 f12 f13 f14 f15 f16 f17 f18 f19 f20 f21 f22) := rfl
theorem mw_mk (a0 a1 a2 a3 a4 a5 : Nat) (cI : ClassId) (v0 v1 v2 v7 v8 : Int32) (f3 f4 f5 f6 f9 : Nat → Int32) : ([(a0, .inr (1, [.int v0, .int v1, .int v2, .ref a1, .ref a2, .ref a3, .ref a4, .int v7, .int v8, .ref a5])), (a1, .inl (cI, 2, .inl f3)), (a2, .inl (cI, 2, .inl f4)), (a3, .inl (cI, 2, .inl f5)), (a4, .inl (cI, 2, .inl f6)), (a5, .inl (cI, 241, .inl f9))] : va_W) = mw (aX [a0, a1, a2, a3, a4, a5]) cI (mS v0 v1 v2 v7 v8 f3 f4 f5 f6 f9) := rfl
def i_width (w : Int32) : Int32 := if 1 ≤ w then (if w ≤ 6 then w else 6) else 1
def i_beat (w : Int32) : Int32 := if 1 ≤ w then (if w ≤ 30 then w else 30) else 1
def i_kind (k : Int32) : Int32 := if k < 1 then 0 else 1
def f2b (x : Int32) : Nat → Int32 := upd (upd f0 (0 : Int32).toNatClampNeg (vp_nar .byte x)) (1 : Int32).toNatClampNeg (vp_nar .byte x)
def f2i (x : Int32) : Nat → Int32 := upd (upd f0 (0 : Int32).toNatClampNeg x) (1 : Int32).toNatClampNeg x
def x_init (ki wi he : Int32) : SS := xS (i_kind ki) (i_width wi) (i_beat he) 0 0 0 0 0 0 (-200000) f0 (f2b 1) f0 f0 (f2b 4) f0 f0 f0 f0 f0 f0 f0 f0
def m_init (ki wi he : Int32) : SS := mS (i_kind ki) (i_width wi) (i_beat he) 0 0 (f2i 1) f0 f0 (f2i 4) f0

set_option maxHeartbeats 4000000 in
set_option maxRecDepth 100000 in
theorem mX1_init (l : Launch) (dC : Nat → ClassId) (dI : Nat → Nat → Nat) (a0 : Nat) (ki wi he : Int32) (sz : Nat) : Met l yX1_init (ws_ yX1_init cX1_init 5 none) ({ frames := 1, cells := 13, slots := 70, locals := 12 }) (va_Pc [.ref a0, .int ki, .int wi, .int he] (qM (dC, dI) [(a0, .inr (0, [.int 0, .int 0, .int 0, .int 0, .int 0, .null, .int 0, .int 0, .int 0, .int 0, .int 0, .null, .null, .null, .null, .null, .null, .null, .null, .null, .null, .null, .null]))] [] sz)) (va_Qv (fun u : (Nat → Nat) × ClassId × ClassId => u.1 0 = a0) (fun (u : (Nat → Nat) × ClassId × ClassId) (t : State) => va_P (dC, dI) clsL (xw u.1 u.2.1 u.2.2 (x_init ki wi he)) t.heap ∧ va_K (dC, dI) clsL [(u.2.1, .int), (u.2.2, .byte)] t ∧ va_D (va_A [(a0, .inr (0, [.int 0, .int 0, .int 0, .int 0, .int 0, .null, .int 0, .int 0, .int 0, .int 0, .int 0, .null, .null, .null, .null, .null, .null, .null, .null, .null, .null, .null, .null]))] sz) (xw u.1 u.2.1 u.2.2 (x_init ki wi he))) (va_A [(a0, .inr (0, [.int 0, .int 0, .int 0, .int 0, .int 0, .null, .int 0, .int 0, .int 0, .int 0, .int 0, .null, .null, .null, .null, .null, .null, .null, .null, .null, .null, .null, .null]))] sz)) 13 70 (va_A [(a0, .inr (0, [.int 0, .int 0, .int 0, .int 0, .int 0, .null, .int 0, .int 0, .int 0, .int 0, .int 0, .null, .null, .null, .null, .null, .null, .null, .null, .null, .null, .null, .null]))] sz) := by
  refine Met.ofW (cc := cX1_init) (maxL := 5) (ret := none) (by decide) rfl ?_
  intro p e s m args below meth c s₁ B hml hv
  obtain ⟨rfl, hsz, hP, hK, hD0⟩ := hv
  have hx := B.exec
  have hb := B.bytes
  have hr := B.returns
  have hts := atoms_spec (ws := ws_ yX1_init cX1_init 5 none) B.pre
  have hts : ∀ w ∈ lw_all, w.before _ s = true := fun w h => hts w (List.mem_cons_of_mem _ h)
  have hown : s.vm.findClass RX1 = some m.cls := findClass_of_methodNamed B.named
  have hlocks := B.notSynchronized
  have hin : meth.name = "<init>" := (name_of_methodNamed B.named B.method).1
  subst hsz
  have hD := hD0.self (sz := s.heap.size)
  generalize hAe : va_A [(a0, .inr (0, [.int 0, .int 0, .int 0, .int 0, .int 0, .null, .int 0, .int 0, .int 0, .int 0, .int 0, .null, .null, .null, .null, .null, .null, .null, .null, .null, .null, .null, .null]))] s.heap.size = A at hD ⊢
  have hA : ∀ q : Nat, s.heap.size ≤ q → A q := fun q h => by rw [← hAe]; exact Or.inr h
  have hS : va_S A s.heap s.heap [] := va_S.rf
  have hl := lv_entry ([.ref a0, .int ki, .int wi, .int he]) (n := 5) (Nat.le_of_ble_eq_true rfl)
  rw [lg_entry_eq]
  generalize (lg_sl ([.ref a0, .int ki, .int wi, .int he]) ++ List.replicate (5 - (lg_sl ([.ref a0, .int ki, .int wi, .int he])).length) Slot.unset).toArray = ls at hl ⊢
  have hl : lv_has ls 5 [(0, .ref a0), (1, .int ki), (2, .int wi), (3, .int he)] := hl
  refine lv_aload_n hx hb dX1_init_0 rfl (lv_at hl 0 rfl) ?_
  refine W.objInit hx hb hown (hts _ q18) (hts _ q19) (hts _ q20) rfl (by rw [hml]; exact hl.1) rfl dX1_init_1 (Nat.le_of_ble_eq_true rfl) (Nat.le_of_ble_eq_true rfl) ?_
  refine W.eq (g2 := F0 m 4 ls []) rfl ?_
  refine lv_aload_n hx hb dX1_init_4 rfl (lv_at hl 0 rfl) ?_
  refine lv_bipush (v := 32) hx hb dX1_init_5 (by decide) ?_
  refine va_newa (atype := .int) (ty := .int) (a0 := (32, .inl f0)) (N' := 32) hx hb (hts _ q92) rfl hK hP hD hS hA (fun _ => rfl) (by decide) (by decide) (by decide) (Nat.le_of_ble_eq_true rfl) (Nat.le_of_ble_eq_true rfl) dX1_init_7 (fun q_1 c_1 H hK hP hD hS => ?_)
  have hK : va_K (dC, dI) clsL [(c_1, .int)] s := hK
  have hP : va_P (dC, dI) clsL [(a0, .inr (0, [.int 0, .int 0, .int 0, .int 0, .int 0, .null, .int 0, .int 0, .int 0, .int 0, .int 0, .null, .null, .null, .null, .null, .null, .null, .null, .null, .null, .null, .null])), (q_1, .inl (c_1, 32, .inl f0))] H := hP
  have hD : va_D A [(a0, .inr (0, [.int 0, .int 0, .int 0, .int 0, .int 0, .null, .int 0, .int 0, .int 0, .int 0, .int 0, .null, .null, .null, .null, .null, .null, .null, .null, .null, .null, .null, .null])), (q_1, .inl (c_1, 32, .inl f0))] := hD
  refine W.widen (k := 1) (n := 32) (by decide) (by decide) ?_
  refine va_putF (D := (dC, dI)) (ci := 0) (v := .ref q_1) (ty := .array .int) (C := RX1) (T := TX1) (N := 23) hx hb hts in_X1 tyX1 tyX1_ok nmX1 hown hK hP hD hS 0 rfl rfl 5 (by decide) (hts _ q27) (fun _ h9 => h9) rfl hin rfl (by decide +kernel) rfl rfl (Nat.le_of_ble_eq_true rfl) dX1_init_9 (fun H locs hP hD hS => ?_)
  have hP : va_P (dC, dI) clsL [(a0, .inr (0, [.int 0, .int 0, .int 0, .int 0, .int 0, .ref q_1, .int 0, .int 0, .int 0, .int 0, .int 0, .null, .null, .null, .null, .null, .null, .null, .null, .null, .null, .null, .null])), (q_1, .inl (c_1, 32, .inl f0))] H := hP
  have hD : va_D A [(a0, .inr (0, [.int 0, .int 0, .int 0, .int 0, .int 0, .ref q_1, .int 0, .int 0, .int 0, .int 0, .int 0, .null, .null, .null, .null, .null, .null, .null, .null, .null, .null, .null, .null])), (q_1, .inl (c_1, 32, .inl f0))] := hD
  refine lv_aload_n hx hb dX1_init_12 rfl (lv_at hl 0 rfl) ?_
  refine lv_iconst (v := 2) hx hb dX1_init_13 (by decide) ?_
  refine va_newa (atype := .byte) (ty := .byte) (a0 := (2, .inl f0)) (N' := 2) hx hb (hts _ q93) rfl hK hP hD hS hA (fun _ => rfl) (by decide) (by decide) (by decide) (Nat.le_of_ble_eq_true rfl) (Nat.le_of_ble_eq_true rfl) dX1_init_14 (fun q_2 c_2 H hK hP hD hS => ?_)
  have hK : va_K (dC, dI) clsL [(c_1, .int), (c_2, .byte)] s := hK
  have hP : va_P (dC, dI) clsL [(a0, .inr (0, [.int 0, .int 0, .int 0, .int 0, .int 0, .ref q_1, .int 0, .int 0, .int 0, .int 0, .int 0, .null, .null, .null, .null, .null, .null, .null, .null, .null, .null, .null, .null])), (q_1, .inl (c_1, 32, .inl f0)), (q_2, .inl (c_2, 2, .inl f0))] H := hP
  have hD : va_D A [(a0, .inr (0, [.int 0, .int 0, .int 0, .int 0, .int 0, .ref q_1, .int 0, .int 0, .int 0, .int 0, .int 0, .null, .null, .null, .null, .null, .null, .null, .null, .null, .null, .null, .null])), (q_1, .inl (c_1, 32, .inl f0)), (q_2, .inl (c_2, 2, .inl f0))] := hD
  refine W.widen (k := 2) (n := 34) (by decide) (by decide) ?_
  refine va_putF (D := (dC, dI)) (ci := 0) (v := .ref q_2) (ty := .array .byte) (C := RX1) (T := TX1) (N := 23) hx hb hts in_X1 tyX1 tyX1_ok nmX1 hown hK hP hD hS 0 rfl rfl 11 (by decide) (hts _ q33) (fun _ h9 => h9) rfl hin rfl (by decide +kernel) rfl rfl (Nat.le_of_ble_eq_true rfl) dX1_init_16 (fun H locs hP hD hS => ?_)
  have hP : va_P (dC, dI) clsL [(a0, .inr (0, [.int 0, .int 0, .int 0, .int 0, .int 0, .ref q_1, .int 0, .int 0, .int 0, .int 0, .int 0, .ref q_2, .null, .null, .null, .null, .null, .null, .null, .null, .null, .null, .null])), (q_1, .inl (c_1, 32, .inl f0)), (q_2, .inl (c_2, 2, .inl f0))] H := hP
  have hD : va_D A [(a0, .inr (0, [.int 0, .int 0, .int 0, .int 0, .int 0, .ref q_1, .int 0, .int 0, .int 0, .int 0, .int 0, .ref q_2, .null, .null, .null, .null, .null, .null, .null, .null, .null, .null, .null])), (q_1, .inl (c_1, 32, .inl f0)), (q_2, .inl (c_2, 2, .inl f0))] := hD
  refine lv_aload_n hx hb dX1_init_19 rfl (lv_at hl 0 rfl) ?_
  refine lv_iconst (v := 2) hx hb dX1_init_20 (by decide) ?_
  refine va_newa (atype := .byte) (ty := .byte) (a0 := (2, .inl f0)) (N' := 2) hx hb (hts _ q93) rfl hK hP hD hS hA (fun _ => rfl) (by decide) (by decide) (by decide) (Nat.le_of_ble_eq_true rfl) (Nat.le_of_ble_eq_true rfl) dX1_init_21 (fun q_3 c_3 H hK hP hD hS => ?_)
  have hP : va_P (dC, dI) clsL [(a0, .inr (0, [.int 0, .int 0, .int 0, .int 0, .int 0, .ref q_1, .int 0, .int 0, .int 0, .int 0, .int 0, .ref q_2, .null, .null, .null, .null, .null, .null, .null, .null, .null, .null, .null])), (q_1, .inl (c_1, 32, .inl f0)), (q_2, .inl (c_2, 2, .inl f0)), (q_3, .inl (c_3, 2, .inl f0))] H := hP
  have hD : va_D A [(a0, .inr (0, [.int 0, .int 0, .int 0, .int 0, .int 0, .ref q_1, .int 0, .int 0, .int 0, .int 0, .int 0, .ref q_2, .null, .null, .null, .null, .null, .null, .null, .null, .null, .null, .null])), (q_1, .inl (c_1, 32, .inl f0)), (q_2, .inl (c_2, 2, .inl f0)), (q_3, .inl (c_3, 2, .inl f0))] := hD
  have ec_3 : c_3 = c_2 := Option.some.inj ((va_nm_byte (hK.2 2 _ rfl).2).symm.trans (va_nm_byte (hK.2 1 _ rfl).2))
  rw [ec_3] at hP hD
  have hK := hK.sub (tys' := [(c_1, .int), (c_2, .byte)]) [0, 1] rfl
  refine W.widen (k := 3) (n := 36) (by decide) (by decide) ?_
  refine va_putF (D := (dC, dI)) (ci := 0) (v := .ref q_3) (ty := .array .byte) (C := RX1) (T := TX1) (N := 23) hx hb hts in_X1 tyX1 tyX1_ok nmX1 hown hK hP hD hS 0 rfl rfl 12 (by decide) (hts _ q34) (fun _ h9 => h9) rfl hin rfl (by decide +kernel) rfl rfl (Nat.le_of_ble_eq_true rfl) dX1_init_23 (fun H locs hP hD hS => ?_)
  have hP : va_P (dC, dI) clsL [(a0, .inr (0, [.int 0, .int 0, .int 0, .int 0, .int 0, .ref q_1, .int 0, .int 0, .int 0, .int 0, .int 0, .ref q_2, .ref q_3, .null, .null, .null, .null, .null, .null, .null, .null, .null, .null])), (q_1, .inl (c_1, 32, .inl f0)), (q_2, .inl (c_2, 2, .inl f0)), (q_3, .inl (c_2, 2, .inl f0))] H := hP
  have hD : va_D A [(a0, .inr (0, [.int 0, .int 0, .int 0, .int 0, .int 0, .ref q_1, .int 0, .int 0, .int 0, .int 0, .int 0, .ref q_2, .ref q_3, .null, .null, .null, .null, .null, .null, .null, .null, .null, .null])), (q_1, .inl (c_1, 32, .inl f0)), (q_2, .inl (c_2, 2, .inl f0)), (q_3, .inl (c_2, 2, .inl f0))] := hD
  refine lv_aload_n hx hb dX1_init_26 rfl (lv_at hl 0 rfl) ?_
  refine lv_iconst (v := 2) hx hb dX1_init_27 (by decide) ?_
  refine va_newa (atype := .byte) (ty := .byte) (a0 := (2, .inl f0)) (N' := 2) hx hb (hts _ q93) rfl hK hP hD hS hA (fun _ => rfl) (by decide) (by decide) (by decide) (Nat.le_of_ble_eq_true rfl) (Nat.le_of_ble_eq_true rfl) dX1_init_28 (fun q_4 c_4 H hK hP hD hS => ?_)
  have hP : va_P (dC, dI) clsL [(a0, .inr (0, [.int 0, .int 0, .int 0, .int 0, .int 0, .ref q_1, .int 0, .int 0, .int 0, .int 0, .int 0, .ref q_2, .ref q_3, .null, .null, .null, .null, .null, .null, .null, .null, .null, .null])), (q_1, .inl (c_1, 32, .inl f0)), (q_2, .inl (c_2, 2, .inl f0)), (q_3, .inl (c_2, 2, .inl f0)), (q_4, .inl (c_4, 2, .inl f0))] H := hP
  have hD : va_D A [(a0, .inr (0, [.int 0, .int 0, .int 0, .int 0, .int 0, .ref q_1, .int 0, .int 0, .int 0, .int 0, .int 0, .ref q_2, .ref q_3, .null, .null, .null, .null, .null, .null, .null, .null, .null, .null])), (q_1, .inl (c_1, 32, .inl f0)), (q_2, .inl (c_2, 2, .inl f0)), (q_3, .inl (c_2, 2, .inl f0)), (q_4, .inl (c_4, 2, .inl f0))] := hD
  have ec_4 : c_4 = c_2 := Option.some.inj ((va_nm_byte (hK.2 2 _ rfl).2).symm.trans (va_nm_byte (hK.2 1 _ rfl).2))
  rw [ec_4] at hP hD
  have hK := hK.sub (tys' := [(c_1, .int), (c_2, .byte)]) [0, 1] rfl
  refine W.widen (k := 4) (n := 38) (by decide) (by decide) ?_
  refine va_putF (D := (dC, dI)) (ci := 0) (v := .ref q_4) (ty := .array .byte) (C := RX1) (T := TX1) (N := 23) hx hb hts in_X1 tyX1 tyX1_ok nmX1 hown hK hP hD hS 0 rfl rfl 13 (by decide) (hts _ q35) (fun _ h9 => h9) rfl hin rfl (by decide +kernel) rfl rfl (Nat.le_of_ble_eq_true rfl) dX1_init_30 (fun H locs hP hD hS => ?_)
  have hP : va_P (dC, dI) clsL [(a0, .inr (0, [.int 0, .int 0, .int 0, .int 0, .int 0, .ref q_1, .int 0, .int 0, .int 0, .int 0, .int 0, .ref q_2, .ref q_3, .ref q_4, .null, .null, .null, .null, .null, .null, .null, .null, .null])), (q_1, .inl (c_1, 32, .inl f0)), (q_2, .inl (c_2, 2, .inl f0)), (q_3, .inl (c_2, 2, .inl f0)), (q_4, .inl (c_2, 2, .inl f0))] H := hP
  have hD : va_D A [(a0, .inr (0, [.int 0, .int 0, .int 0, .int 0, .int 0, .ref q_1, .int 0, .int 0, .int 0, .int 0, .int 0, .ref q_2, .ref q_3, .ref q_4, .null, .null, .null, .null, .null, .null, .null, .null, .null])), (q_1, .inl (c_1, 32, .inl f0)), (q_2, .inl (c_2, 2, .inl f0)), (q_3, .inl (c_2, 2, .inl f0)), (q_4, .inl (c_2, 2, .inl f0))] := hD
  refine lv_aload_n hx hb dX1_init_33 rfl (lv_at hl 0 rfl) ?_
  refine lv_iconst (v := 2) hx hb dX1_init_34 (by decide) ?_
  refine va_newa (atype := .byte) (ty := .byte) (a0 := (2, .inl f0)) (N' := 2) hx hb (hts _ q93) rfl hK hP hD hS hA (fun _ => rfl) (by decide) (by decide) (by decide) (Nat.le_of_ble_eq_true rfl) (Nat.le_of_ble_eq_true rfl) dX1_init_35 (fun q_5 c_5 H hK hP hD hS => ?_)
  have hP : va_P (dC, dI) clsL [(a0, .inr (0, [.int 0, .int 0, .int 0, .int 0, .int 0, .ref q_1, .int 0, .int 0, .int 0, .int 0, .int 0, .ref q_2, .ref q_3, .ref q_4, .null, .null, .null, .null, .null, .null, .null, .null, .null])), (q_1, .inl (c_1, 32, .inl f0)), (q_2, .inl (c_2, 2, .inl f0)), (q_3, .inl (c_2, 2, .inl f0)), (q_4, .inl (c_2, 2, .inl f0)), (q_5, .inl (c_5, 2, .inl f0))] H := hP
  have hD : va_D A [(a0, .inr (0, [.int 0, .int 0, .int 0, .int 0, .int 0, .ref q_1, .int 0, .int 0, .int 0, .int 0, .int 0, .ref q_2, .ref q_3, .ref q_4, .null, .null, .null, .null, .null, .null, .null, .null, .null])), (q_1, .inl (c_1, 32, .inl f0)), (q_2, .inl (c_2, 2, .inl f0)), (q_3, .inl (c_2, 2, .inl f0)), (q_4, .inl (c_2, 2, .inl f0)), (q_5, .inl (c_5, 2, .inl f0))] := hD
  have ec_5 : c_5 = c_2 := Option.some.inj ((va_nm_byte (hK.2 2 _ rfl).2).symm.trans (va_nm_byte (hK.2 1 _ rfl).2))
  rw [ec_5] at hP hD
  have hK := hK.sub (tys' := [(c_1, .int), (c_2, .byte)]) [0, 1] rfl
  refine W.widen (k := 5) (n := 40) (by decide) (by decide) ?_
  refine va_putF (D := (dC, dI)) (ci := 0) (v := .ref q_5) (ty := .array .byte) (C := RX1) (T := TX1) (N := 23) hx hb hts in_X1 tyX1 tyX1_ok nmX1 hown hK hP hD hS 0 rfl rfl 14 (by decide) (hts _ q36) (fun _ h9 => h9) rfl hin rfl (by decide +kernel) rfl rfl (Nat.le_of_ble_eq_true rfl) dX1_init_37 (fun H locs hP hD hS => ?_)
  have hP : va_P (dC, dI) clsL [(a0, .inr (0, [.int 0, .int 0, .int 0, .int 0, .int 0, .ref q_1, .int 0, .int 0, .int 0, .int 0, .int 0, .ref q_2, .ref q_3, .ref q_4, .ref q_5, .null, .null, .null, .null, .null, .null, .null, .null])), (q_1, .inl (c_1, 32, .inl f0)), (q_2, .inl (c_2, 2, .inl f0)), (q_3, .inl (c_2, 2, .inl f0)), (q_4, .inl (c_2, 2, .inl f0)), (q_5, .inl (c_2, 2, .inl f0))] H := hP
  have hD : va_D A [(a0, .inr (0, [.int 0, .int 0, .int 0, .int 0, .int 0, .ref q_1, .int 0, .int 0, .int 0, .int 0, .int 0, .ref q_2, .ref q_3, .ref q_4, .ref q_5, .null, .null, .null, .null, .null, .null, .null, .null])), (q_1, .inl (c_1, 32, .inl f0)), (q_2, .inl (c_2, 2, .inl f0)), (q_3, .inl (c_2, 2, .inl f0)), (q_4, .inl (c_2, 2, .inl f0)), (q_5, .inl (c_2, 2, .inl f0))] := hD
  refine lv_aload_n hx hb dX1_init_40 rfl (lv_at hl 0 rfl) ?_
  refine lv_iconst (v := 2) hx hb dX1_init_41 (by decide) ?_
  refine va_newa (atype := .byte) (ty := .byte) (a0 := (2, .inl f0)) (N' := 2) hx hb (hts _ q93) rfl hK hP hD hS hA (fun _ => rfl) (by decide) (by decide) (by decide) (Nat.le_of_ble_eq_true rfl) (Nat.le_of_ble_eq_true rfl) dX1_init_42 (fun q_6 c_6 H hK hP hD hS => ?_)
  have hP : va_P (dC, dI) clsL [(a0, .inr (0, [.int 0, .int 0, .int 0, .int 0, .int 0, .ref q_1, .int 0, .int 0, .int 0, .int 0, .int 0, .ref q_2, .ref q_3, .ref q_4, .ref q_5, .null, .null, .null, .null, .null, .null, .null, .null])), (q_1, .inl (c_1, 32, .inl f0)), (q_2, .inl (c_2, 2, .inl f0)), (q_3, .inl (c_2, 2, .inl f0)), (q_4, .inl (c_2, 2, .inl f0)), (q_5, .inl (c_2, 2, .inl f0)), (q_6, .inl (c_6, 2, .inl f0))] H := hP
  have hD : va_D A [(a0, .inr (0, [.int 0, .int 0, .int 0, .int 0, .int 0, .ref q_1, .int 0, .int 0, .int 0, .int 0, .int 0, .ref q_2, .ref q_3, .ref q_4, .ref q_5, .null, .null, .null, .null, .null, .null, .null, .null])), (q_1, .inl (c_1, 32, .inl f0)), (q_2, .inl (c_2, 2, .inl f0)), (q_3, .inl (c_2, 2, .inl f0)), (q_4, .inl (c_2, 2, .inl f0)), (q_5, .inl (c_2, 2, .inl f0)), (q_6, .inl (c_6, 2, .inl f0))] := hD
  have ec_6 : c_6 = c_2 := Option.some.inj ((va_nm_byte (hK.2 2 _ rfl).2).symm.trans (va_nm_byte (hK.2 1 _ rfl).2))
  rw [ec_6] at hP hD
  have hK := hK.sub (tys' := [(c_1, .int), (c_2, .byte)]) [0, 1] rfl
  refine W.widen (k := 6) (n := 42) (by decide) (by decide) ?_
  refine va_putF (D := (dC, dI)) (ci := 0) (v := .ref q_6) (ty := .array .byte) (C := RX1) (T := TX1) (N := 23) hx hb hts in_X1 tyX1 tyX1_ok nmX1 hown hK hP hD hS 0 rfl rfl 15 (by decide) (hts _ q37) (fun _ h9 => h9) rfl hin rfl (by decide +kernel) rfl rfl (Nat.le_of_ble_eq_true rfl) dX1_init_44 (fun H locs hP hD hS => ?_)
  have hP : va_P (dC, dI) clsL [(a0, .inr (0, [.int 0, .int 0, .int 0, .int 0, .int 0, .ref q_1, .int 0, .int 0, .int 0, .int 0, .int 0, .ref q_2, .ref q_3, .ref q_4, .ref q_5, .ref q_6, .null, .null, .null, .null, .null, .null, .null])), (q_1, .inl (c_1, 32, .inl f0)), (q_2, .inl (c_2, 2, .inl f0)), (q_3, .inl (c_2, 2, .inl f0)), (q_4, .inl (c_2, 2, .inl f0)), (q_5, .inl (c_2, 2, .inl f0)), (q_6, .inl (c_2, 2, .inl f0))] H := hP
  have hD : va_D A [(a0, .inr (0, [.int 0, .int 0, .int 0, .int 0, .int 0, .ref q_1, .int 0, .int 0, .int 0, .int 0, .int 0, .ref q_2, .ref q_3, .ref q_4, .ref q_5, .ref q_6, .null, .null, .null, .null, .null, .null, .null])), (q_1, .inl (c_1, 32, .inl f0)), (q_2, .inl (c_2, 2, .inl f0)), (q_3, .inl (c_2, 2, .inl f0)), (q_4, .inl (c_2, 2, .inl f0)), (q_5, .inl (c_2, 2, .inl f0)), (q_6, .inl (c_2, 2, .inl f0))] := hD
  refine lv_aload_n hx hb dX1_init_47 rfl (lv_at hl 0 rfl) ?_
  refine lv_iconst (v := 2) hx hb dX1_init_48 (by decide) ?_
  refine va_newa (atype := .byte) (ty := .byte) (a0 := (2, .inl f0)) (N' := 2) hx hb (hts _ q93) rfl hK hP hD hS hA (fun _ => rfl) (by decide) (by decide) (by decide) (Nat.le_of_ble_eq_true rfl) (Nat.le_of_ble_eq_true rfl) dX1_init_49 (fun q_7 c_7 H hK hP hD hS => ?_)
  have hP : va_P (dC, dI) clsL [(a0, .inr (0, [.int 0, .int 0, .int 0, .int 0, .int 0, .ref q_1, .int 0, .int 0, .int 0, .int 0, .int 0, .ref q_2, .ref q_3, .ref q_4, .ref q_5, .ref q_6, .null, .null, .null, .null, .null, .null, .null])), (q_1, .inl (c_1, 32, .inl f0)), (q_2, .inl (c_2, 2, .inl f0)), (q_3, .inl (c_2, 2, .inl f0)), (q_4, .inl (c_2, 2, .inl f0)), (q_5, .inl (c_2, 2, .inl f0)), (q_6, .inl (c_2, 2, .inl f0)), (q_7, .inl (c_7, 2, .inl f0))] H := hP
  have hD : va_D A [(a0, .inr (0, [.int 0, .int 0, .int 0, .int 0, .int 0, .ref q_1, .int 0, .int 0, .int 0, .int 0, .int 0, .ref q_2, .ref q_3, .ref q_4, .ref q_5, .ref q_6, .null, .null, .null, .null, .null, .null, .null])), (q_1, .inl (c_1, 32, .inl f0)), (q_2, .inl (c_2, 2, .inl f0)), (q_3, .inl (c_2, 2, .inl f0)), (q_4, .inl (c_2, 2, .inl f0)), (q_5, .inl (c_2, 2, .inl f0)), (q_6, .inl (c_2, 2, .inl f0)), (q_7, .inl (c_7, 2, .inl f0))] := hD
  have ec_7 : c_7 = c_2 := Option.some.inj ((va_nm_byte (hK.2 2 _ rfl).2).symm.trans (va_nm_byte (hK.2 1 _ rfl).2))
  rw [ec_7] at hP hD
  have hK := hK.sub (tys' := [(c_1, .int), (c_2, .byte)]) [0, 1] rfl
  refine W.widen (k := 7) (n := 44) (by decide) (by decide) ?_
  refine va_putF (D := (dC, dI)) (ci := 0) (v := .ref q_7) (ty := .array .byte) (C := RX1) (T := TX1) (N := 23) hx hb hts in_X1 tyX1 tyX1_ok nmX1 hown hK hP hD hS 0 rfl rfl 16 (by decide) (hts _ q38) (fun _ h9 => h9) rfl hin rfl (by decide +kernel) rfl rfl (Nat.le_of_ble_eq_true rfl) dX1_init_51 (fun H locs hP hD hS => ?_)
  have hP : va_P (dC, dI) clsL [(a0, .inr (0, [.int 0, .int 0, .int 0, .int 0, .int 0, .ref q_1, .int 0, .int 0, .int 0, .int 0, .int 0, .ref q_2, .ref q_3, .ref q_4, .ref q_5, .ref q_6, .ref q_7, .null, .null, .null, .null, .null, .null])), (q_1, .inl (c_1, 32, .inl f0)), (q_2, .inl (c_2, 2, .inl f0)), (q_3, .inl (c_2, 2, .inl f0)), (q_4, .inl (c_2, 2, .inl f0)), (q_5, .inl (c_2, 2, .inl f0)), (q_6, .inl (c_2, 2, .inl f0)), (q_7, .inl (c_2, 2, .inl f0))] H := hP
  have hD : va_D A [(a0, .inr (0, [.int 0, .int 0, .int 0, .int 0, .int 0, .ref q_1, .int 0, .int 0, .int 0, .int 0, .int 0, .ref q_2, .ref q_3, .ref q_4, .ref q_5, .ref q_6, .ref q_7, .null, .null, .null, .null, .null, .null])), (q_1, .inl (c_1, 32, .inl f0)), (q_2, .inl (c_2, 2, .inl f0)), (q_3, .inl (c_2, 2, .inl f0)), (q_4, .inl (c_2, 2, .inl f0)), (q_5, .inl (c_2, 2, .inl f0)), (q_6, .inl (c_2, 2, .inl f0)), (q_7, .inl (c_2, 2, .inl f0))] := hD
  refine lv_aload_n hx hb dX1_init_54 rfl (lv_at hl 0 rfl) ?_
  refine lv_iconst (v := 2) hx hb dX1_init_55 (by decide) ?_
  refine va_newa (atype := .int) (ty := .int) (a0 := (2, .inl f0)) (N' := 2) hx hb (hts _ q92) rfl hK hP hD hS hA (fun _ => rfl) (by decide) (by decide) (by decide) (Nat.le_of_ble_eq_true rfl) (Nat.le_of_ble_eq_true rfl) dX1_init_56 (fun q_8 c_8 H hK hP hD hS => ?_)
  have hP : va_P (dC, dI) clsL [(a0, .inr (0, [.int 0, .int 0, .int 0, .int 0, .int 0, .ref q_1, .int 0, .int 0, .int 0, .int 0, .int 0, .ref q_2, .ref q_3, .ref q_4, .ref q_5, .ref q_6, .ref q_7, .null, .null, .null, .null, .null, .null])), (q_1, .inl (c_1, 32, .inl f0)), (q_2, .inl (c_2, 2, .inl f0)), (q_3, .inl (c_2, 2, .inl f0)), (q_4, .inl (c_2, 2, .inl f0)), (q_5, .inl (c_2, 2, .inl f0)), (q_6, .inl (c_2, 2, .inl f0)), (q_7, .inl (c_2, 2, .inl f0)), (q_8, .inl (c_8, 2, .inl f0))] H := hP
  have hD : va_D A [(a0, .inr (0, [.int 0, .int 0, .int 0, .int 0, .int 0, .ref q_1, .int 0, .int 0, .int 0, .int 0, .int 0, .ref q_2, .ref q_3, .ref q_4, .ref q_5, .ref q_6, .ref q_7, .null, .null, .null, .null, .null, .null])), (q_1, .inl (c_1, 32, .inl f0)), (q_2, .inl (c_2, 2, .inl f0)), (q_3, .inl (c_2, 2, .inl f0)), (q_4, .inl (c_2, 2, .inl f0)), (q_5, .inl (c_2, 2, .inl f0)), (q_6, .inl (c_2, 2, .inl f0)), (q_7, .inl (c_2, 2, .inl f0)), (q_8, .inl (c_8, 2, .inl f0))] := hD
  have ec_8 : c_8 = c_1 := Option.some.inj ((va_nm_int (hK.2 2 _ rfl).2).symm.trans (va_nm_int (hK.2 0 _ rfl).2))
  rw [ec_8] at hP hD
  have hK := hK.sub (tys' := [(c_1, .int), (c_2, .byte)]) [0, 1] rfl
  refine W.widen (k := 8) (n := 46) (by decide) (by decide) ?_
  refine va_putF (D := (dC, dI)) (ci := 0) (v := .ref q_8) (ty := .array .int) (C := RX1) (T := TX1) (N := 23) hx hb hts in_X1 tyX1 tyX1_ok nmX1 hown hK hP hD hS 0 rfl rfl 17 (by decide) (hts _ q39) (fun _ h9 => h9) rfl hin rfl (by decide +kernel) rfl rfl (Nat.le_of_ble_eq_true rfl) dX1_init_58 (fun H locs hP hD hS => ?_)
  have hP : va_P (dC, dI) clsL [(a0, .inr (0, [.int 0, .int 0, .int 0, .int 0, .int 0, .ref q_1, .int 0, .int 0, .int 0, .int 0, .int 0, .ref q_2, .ref q_3, .ref q_4, .ref q_5, .ref q_6, .ref q_7, .ref q_8, .null, .null, .null, .null, .null])), (q_1, .inl (c_1, 32, .inl f0)), (q_2, .inl (c_2, 2, .inl f0)), (q_3, .inl (c_2, 2, .inl f0)), (q_4, .inl (c_2, 2, .inl f0)), (q_5, .inl (c_2, 2, .inl f0)), (q_6, .inl (c_2, 2, .inl f0)), (q_7, .inl (c_2, 2, .inl f0)), (q_8, .inl (c_1, 2, .inl f0))] H := hP
  have hD : va_D A [(a0, .inr (0, [.int 0, .int 0, .int 0, .int 0, .int 0, .ref q_1, .int 0, .int 0, .int 0, .int 0, .int 0, .ref q_2, .ref q_3, .ref q_4, .ref q_5, .ref q_6, .ref q_7, .ref q_8, .null, .null, .null, .null, .null])), (q_1, .inl (c_1, 32, .inl f0)), (q_2, .inl (c_2, 2, .inl f0)), (q_3, .inl (c_2, 2, .inl f0)), (q_4, .inl (c_2, 2, .inl f0)), (q_5, .inl (c_2, 2, .inl f0)), (q_6, .inl (c_2, 2, .inl f0)), (q_7, .inl (c_2, 2, .inl f0)), (q_8, .inl (c_1, 2, .inl f0))] := hD
  refine lv_aload_n hx hb dX1_init_61 rfl (lv_at hl 0 rfl) ?_
  refine lv_iconst (v := 2) hx hb dX1_init_62 (by decide) ?_
  refine va_newa (atype := .int) (ty := .int) (a0 := (2, .inl f0)) (N' := 2) hx hb (hts _ q92) rfl hK hP hD hS hA (fun _ => rfl) (by decide) (by decide) (by decide) (Nat.le_of_ble_eq_true rfl) (Nat.le_of_ble_eq_true rfl) dX1_init_63 (fun q_9 c_9 H hK hP hD hS => ?_)
  have hP : va_P (dC, dI) clsL [(a0, .inr (0, [.int 0, .int 0, .int 0, .int 0, .int 0, .ref q_1, .int 0, .int 0, .int 0, .int 0, .int 0, .ref q_2, .ref q_3, .ref q_4, .ref q_5, .ref q_6, .ref q_7, .ref q_8, .null, .null, .null, .null, .null])), (q_1, .inl (c_1, 32, .inl f0)), (q_2, .inl (c_2, 2, .inl f0)), (q_3, .inl (c_2, 2, .inl f0)), (q_4, .inl (c_2, 2, .inl f0)), (q_5, .inl (c_2, 2, .inl f0)), (q_6, .inl (c_2, 2, .inl f0)), (q_7, .inl (c_2, 2, .inl f0)), (q_8, .inl (c_1, 2, .inl f0)), (q_9, .inl (c_9, 2, .inl f0))] H := hP
  have hD : va_D A [(a0, .inr (0, [.int 0, .int 0, .int 0, .int 0, .int 0, .ref q_1, .int 0, .int 0, .int 0, .int 0, .int 0, .ref q_2, .ref q_3, .ref q_4, .ref q_5, .ref q_6, .ref q_7, .ref q_8, .null, .null, .null, .null, .null])), (q_1, .inl (c_1, 32, .inl f0)), (q_2, .inl (c_2, 2, .inl f0)), (q_3, .inl (c_2, 2, .inl f0)), (q_4, .inl (c_2, 2, .inl f0)), (q_5, .inl (c_2, 2, .inl f0)), (q_6, .inl (c_2, 2, .inl f0)), (q_7, .inl (c_2, 2, .inl f0)), (q_8, .inl (c_1, 2, .inl f0)), (q_9, .inl (c_9, 2, .inl f0))] := hD
  have ec_9 : c_9 = c_1 := Option.some.inj ((va_nm_int (hK.2 2 _ rfl).2).symm.trans (va_nm_int (hK.2 0 _ rfl).2))
  rw [ec_9] at hP hD
  have hK := hK.sub (tys' := [(c_1, .int), (c_2, .byte)]) [0, 1] rfl
  refine W.widen (k := 9) (n := 48) (by decide) (by decide) ?_
  refine va_putF (D := (dC, dI)) (ci := 0) (v := .ref q_9) (ty := .array .int) (C := RX1) (T := TX1) (N := 23) hx hb hts in_X1 tyX1 tyX1_ok nmX1 hown hK hP hD hS 0 rfl rfl 18 (by decide) (hts _ q40) (fun _ h9 => h9) rfl hin rfl (by decide +kernel) rfl rfl (Nat.le_of_ble_eq_true rfl) dX1_init_65 (fun H locs hP hD hS => ?_)
  have hP : va_P (dC, dI) clsL [(a0, .inr (0, [.int 0, .int 0, .int 0, .int 0, .int 0, .ref q_1, .int 0, .int 0, .int 0, .int 0, .int 0, .ref q_2, .ref q_3, .ref q_4, .ref q_5, .ref q_6, .ref q_7, .ref q_8, .ref q_9, .null, .null, .null, .null])), (q_1, .inl (c_1, 32, .inl f0)), (q_2, .inl (c_2, 2, .inl f0)), (q_3, .inl (c_2, 2, .inl f0)), (q_4, .inl (c_2, 2, .inl f0)), (q_5, .inl (c_2, 2, .inl f0)), (q_6, .inl (c_2, 2, .inl f0)), (q_7, .inl (c_2, 2, .inl f0)), (q_8, .inl (c_1, 2, .inl f0)), (q_9, .inl (c_1, 2, .inl f0))] H := hP
  have hD : va_D A [(a0, .inr (0, [.int 0, .int 0, .int 0, .int 0, .int 0, .ref q_1, .int 0, .int 0, .int 0, .int 0, .int 0, .ref q_2, .ref q_3, .ref q_4, .ref q_5, .ref q_6, .ref q_7, .ref q_8, .ref q_9, .null, .null, .null, .null])), (q_1, .inl (c_1, 32, .inl f0)), (q_2, .inl (c_2, 2, .inl f0)), (q_3, .inl (c_2, 2, .inl f0)), (q_4, .inl (c_2, 2, .inl f0)), (q_5, .inl (c_2, 2, .inl f0)), (q_6, .inl (c_2, 2, .inl f0)), (q_7, .inl (c_2, 2, .inl f0)), (q_8, .inl (c_1, 2, .inl f0)), (q_9, .inl (c_1, 2, .inl f0))] := hD
  refine lv_aload_n hx hb dX1_init_68 rfl (lv_at hl 0 rfl) ?_
  refine lv_iconst (v := 2) hx hb dX1_init_69 (by decide) ?_
  refine va_newa (atype := .int) (ty := .int) (a0 := (2, .inl f0)) (N' := 2) hx hb (hts _ q92) rfl hK hP hD hS hA (fun _ => rfl) (by decide) (by decide) (by decide) (Nat.le_of_ble_eq_true rfl) (Nat.le_of_ble_eq_true rfl) dX1_init_70 (fun q_10 c_10 H hK hP hD hS => ?_)
  have hP : va_P (dC, dI) clsL [(a0, .inr (0, [.int 0, .int 0, .int 0, .int 0, .int 0, .ref q_1, .int 0, .int 0, .int 0, .int 0, .int 0, .ref q_2, .ref q_3, .ref q_4, .ref q_5, .ref q_6, .ref q_7, .ref q_8, .ref q_9, .null, .null, .null, .null])), (q_1, .inl (c_1, 32, .inl f0)), (q_2, .inl (c_2, 2, .inl f0)), (q_3, .inl (c_2, 2, .inl f0)), (q_4, .inl (c_2, 2, .inl f0)), (q_5, .inl (c_2, 2, .inl f0)), (q_6, .inl (c_2, 2, .inl f0)), (q_7, .inl (c_2, 2, .inl f0)), (q_8, .inl (c_1, 2, .inl f0)), (q_9, .inl (c_1, 2, .inl f0)), (q_10, .inl (c_10, 2, .inl f0))] H := hP
  have hD : va_D A [(a0, .inr (0, [.int 0, .int 0, .int 0, .int 0, .int 0, .ref q_1, .int 0, .int 0, .int 0, .int 0, .int 0, .ref q_2, .ref q_3, .ref q_4, .ref q_5, .ref q_6, .ref q_7, .ref q_8, .ref q_9, .null, .null, .null, .null])), (q_1, .inl (c_1, 32, .inl f0)), (q_2, .inl (c_2, 2, .inl f0)), (q_3, .inl (c_2, 2, .inl f0)), (q_4, .inl (c_2, 2, .inl f0)), (q_5, .inl (c_2, 2, .inl f0)), (q_6, .inl (c_2, 2, .inl f0)), (q_7, .inl (c_2, 2, .inl f0)), (q_8, .inl (c_1, 2, .inl f0)), (q_9, .inl (c_1, 2, .inl f0)), (q_10, .inl (c_10, 2, .inl f0))] := hD
  have ec_10 : c_10 = c_1 := Option.some.inj ((va_nm_int (hK.2 2 _ rfl).2).symm.trans (va_nm_int (hK.2 0 _ rfl).2))
  rw [ec_10] at hP hD
  have hK := hK.sub (tys' := [(c_1, .int), (c_2, .byte)]) [0, 1] rfl
  refine W.widen (k := 10) (n := 50) (by decide) (by decide) ?_
  refine va_putF (D := (dC, dI)) (ci := 0) (v := .ref q_10) (ty := .array .int) (C := RX1) (T := TX1) (N := 23) hx hb hts in_X1 tyX1 tyX1_ok nmX1 hown hK hP hD hS 0 rfl rfl 19 (by decide) (hts _ q41) (fun _ h9 => h9) rfl hin rfl (by decide +kernel) rfl rfl (Nat.le_of_ble_eq_true rfl) dX1_init_72 (fun H locs hP hD hS => ?_)
  have hP : va_P (dC, dI) clsL [(a0, .inr (0, [.int 0, .int 0, .int 0, .int 0, .int 0, .ref q_1, .int 0, .int 0, .int 0, .int 0, .int 0, .ref q_2, .ref q_3, .ref q_4, .ref q_5, .ref q_6, .ref q_7, .ref q_8, .ref q_9, .ref q_10, .null, .null, .null])), (q_1, .inl (c_1, 32, .inl f0)), (q_2, .inl (c_2, 2, .inl f0)), (q_3, .inl (c_2, 2, .inl f0)), (q_4, .inl (c_2, 2, .inl f0)), (q_5, .inl (c_2, 2, .inl f0)), (q_6, .inl (c_2, 2, .inl f0)), (q_7, .inl (c_2, 2, .inl f0)), (q_8, .inl (c_1, 2, .inl f0)), (q_9, .inl (c_1, 2, .inl f0)), (q_10, .inl (c_1, 2, .inl f0))] H := hP
  have hD : va_D A [(a0, .inr (0, [.int 0, .int 0, .int 0, .int 0, .int 0, .ref q_1, .int 0, .int 0, .int 0, .int 0, .int 0, .ref q_2, .ref q_3, .ref q_4, .ref q_5, .ref q_6, .ref q_7, .ref q_8, .ref q_9, .ref q_10, .null, .null, .null])), (q_1, .inl (c_1, 32, .inl f0)), (q_2, .inl (c_2, 2, .inl f0)), (q_3, .inl (c_2, 2, .inl f0)), (q_4, .inl (c_2, 2, .inl f0)), (q_5, .inl (c_2, 2, .inl f0)), (q_6, .inl (c_2, 2, .inl f0)), (q_7, .inl (c_2, 2, .inl f0)), (q_8, .inl (c_1, 2, .inl f0)), (q_9, .inl (c_1, 2, .inl f0)), (q_10, .inl (c_1, 2, .inl f0))] := hD
  refine lv_aload_n hx hb dX1_init_75 rfl (lv_at hl 0 rfl) ?_
  refine lv_iconst (v := 2) hx hb dX1_init_76 (by decide) ?_
  refine va_newa (atype := .int) (ty := .int) (a0 := (2, .inl f0)) (N' := 2) hx hb (hts _ q92) rfl hK hP hD hS hA (fun _ => rfl) (by decide) (by decide) (by decide) (Nat.le_of_ble_eq_true rfl) (Nat.le_of_ble_eq_true rfl) dX1_init_77 (fun q_11 c_11 H hK hP hD hS => ?_)
  have hP : va_P (dC, dI) clsL [(a0, .inr (0, [.int 0, .int 0, .int 0, .int 0, .int 0, .ref q_1, .int 0, .int 0, .int 0, .int 0, .int 0, .ref q_2, .ref q_3, .ref q_4, .ref q_5, .ref q_6, .ref q_7, .ref q_8, .ref q_9, .ref q_10, .null, .null, .null])), (q_1, .inl (c_1, 32, .inl f0)), (q_2, .inl (c_2, 2, .inl f0)), (q_3, .inl (c_2, 2, .inl f0)), (q_4, .inl (c_2, 2, .inl f0)), (q_5, .inl (c_2, 2, .inl f0)), (q_6, .inl (c_2, 2, .inl f0)), (q_7, .inl (c_2, 2, .inl f0)), (q_8, .inl (c_1, 2, .inl f0)), (q_9, .inl (c_1, 2, .inl f0)), (q_10, .inl (c_1, 2, .inl f0)), (q_11, .inl (c_11, 2, .inl f0))] H := hP
  have hD : va_D A [(a0, .inr (0, [.int 0, .int 0, .int 0, .int 0, .int 0, .ref q_1, .int 0, .int 0, .int 0, .int 0, .int 0, .ref q_2, .ref q_3, .ref q_4, .ref q_5, .ref q_6, .ref q_7, .ref q_8, .ref q_9, .ref q_10, .null, .null, .null])), (q_1, .inl (c_1, 32, .inl f0)), (q_2, .inl (c_2, 2, .inl f0)), (q_3, .inl (c_2, 2, .inl f0)), (q_4, .inl (c_2, 2, .inl f0)), (q_5, .inl (c_2, 2, .inl f0)), (q_6, .inl (c_2, 2, .inl f0)), (q_7, .inl (c_2, 2, .inl f0)), (q_8, .inl (c_1, 2, .inl f0)), (q_9, .inl (c_1, 2, .inl f0)), (q_10, .inl (c_1, 2, .inl f0)), (q_11, .inl (c_11, 2, .inl f0))] := hD
  have ec_11 : c_11 = c_1 := Option.some.inj ((va_nm_int (hK.2 2 _ rfl).2).symm.trans (va_nm_int (hK.2 0 _ rfl).2))
  rw [ec_11] at hP hD
  have hK := hK.sub (tys' := [(c_1, .int), (c_2, .byte)]) [0, 1] rfl
  refine W.widen (k := 11) (n := 52) (by decide) (by decide) ?_
  refine va_putF (D := (dC, dI)) (ci := 0) (v := .ref q_11) (ty := .array .int) (C := RX1) (T := TX1) (N := 23) hx hb hts in_X1 tyX1 tyX1_ok nmX1 hown hK hP hD hS 0 rfl rfl 20 (by decide) (hts _ q42) (fun _ h9 => h9) rfl hin rfl (by decide +kernel) rfl rfl (Nat.le_of_ble_eq_true rfl) dX1_init_79 (fun H locs hP hD hS => ?_)
  have hP : va_P (dC, dI) clsL [(a0, .inr (0, [.int 0, .int 0, .int 0, .int 0, .int 0, .ref q_1, .int 0, .int 0, .int 0, .int 0, .int 0, .ref q_2, .ref q_3, .ref q_4, .ref q_5, .ref q_6, .ref q_7, .ref q_8, .ref q_9, .ref q_10, .ref q_11, .null, .null])), (q_1, .inl (c_1, 32, .inl f0)), (q_2, .inl (c_2, 2, .inl f0)), (q_3, .inl (c_2, 2, .inl f0)), (q_4, .inl (c_2, 2, .inl f0)), (q_5, .inl (c_2, 2, .inl f0)), (q_6, .inl (c_2, 2, .inl f0)), (q_7, .inl (c_2, 2, .inl f0)), (q_8, .inl (c_1, 2, .inl f0)), (q_9, .inl (c_1, 2, .inl f0)), (q_10, .inl (c_1, 2, .inl f0)), (q_11, .inl (c_1, 2, .inl f0))] H := hP
  have hD : va_D A [(a0, .inr (0, [.int 0, .int 0, .int 0, .int 0, .int 0, .ref q_1, .int 0, .int 0, .int 0, .int 0, .int 0, .ref q_2, .ref q_3, .ref q_4, .ref q_5, .ref q_6, .ref q_7, .ref q_8, .ref q_9, .ref q_10, .ref q_11, .null, .null])), (q_1, .inl (c_1, 32, .inl f0)), (q_2, .inl (c_2, 2, .inl f0)), (q_3, .inl (c_2, 2, .inl f0)), (q_4, .inl (c_2, 2, .inl f0)), (q_5, .inl (c_2, 2, .inl f0)), (q_6, .inl (c_2, 2, .inl f0)), (q_7, .inl (c_2, 2, .inl f0)), (q_8, .inl (c_1, 2, .inl f0)), (q_9, .inl (c_1, 2, .inl f0)), (q_10, .inl (c_1, 2, .inl f0)), (q_11, .inl (c_1, 2, .inl f0))] := hD
  refine lv_aload_n hx hb dX1_init_82 rfl (lv_at hl 0 rfl) ?_
  refine lv_iconst (v := 2) hx hb dX1_init_83 (by decide) ?_
  refine va_newa (atype := .int) (ty := .int) (a0 := (2, .inl f0)) (N' := 2) hx hb (hts _ q92) rfl hK hP hD hS hA (fun _ => rfl) (by decide) (by decide) (by decide) (Nat.le_of_ble_eq_true rfl) (Nat.le_of_ble_eq_true rfl) dX1_init_84 (fun q_12 c_12 H hK hP hD hS => ?_)
  have hP : va_P (dC, dI) clsL [(a0, .inr (0, [.int 0, .int 0, .int 0, .int 0, .int 0, .ref q_1, .int 0, .int 0, .int 0, .int 0, .int 0, .ref q_2, .ref q_3, .ref q_4, .ref q_5, .ref q_6, .ref q_7, .ref q_8, .ref q_9, .ref q_10, .ref q_11, .null, .null])), (q_1, .inl (c_1, 32, .inl f0)), (q_2, .inl (c_2, 2, .inl f0)), (q_3, .inl (c_2, 2, .inl f0)), (q_4, .inl (c_2, 2, .inl f0)), (q_5, .inl (c_2, 2, .inl f0)), (q_6, .inl (c_2, 2, .inl f0)), (q_7, .inl (c_2, 2, .inl f0)), (q_8, .inl (c_1, 2, .inl f0)), (q_9, .inl (c_1, 2, .inl f0)), (q_10, .inl (c_1, 2, .inl f0)), (q_11, .inl (c_1, 2, .inl f0)), (q_12, .inl (c_12, 2, .inl f0))] H := hP
  have hD : va_D A [(a0, .inr (0, [.int 0, .int 0, .int 0, .int 0, .int 0, .ref q_1, .int 0, .int 0, .int 0, .int 0, .int 0, .ref q_2, .ref q_3, .ref q_4, .ref q_5, .ref q_6, .ref q_7, .ref q_8, .ref q_9, .ref q_10, .ref q_11, .null, .null])), (q_1, .inl (c_1, 32, .inl f0)), (q_2, .inl (c_2, 2, .inl f0)), (q_3, .inl (c_2, 2, .inl f0)), (q_4, .inl (c_2, 2, .inl f0)), (q_5, .inl (c_2, 2, .inl f0)), (q_6, .inl (c_2, 2, .inl f0)), (q_7, .inl (c_2, 2, .inl f0)), (q_8, .inl (c_1, 2, .inl f0)), (q_9, .inl (c_1, 2, .inl f0)), (q_10, .inl (c_1, 2, .inl f0)), (q_11, .inl (c_1, 2, .inl f0)), (q_12, .inl (c_12, 2, .inl f0))] := hD
  have ec_12 : c_12 = c_1 := Option.some.inj ((va_nm_int (hK.2 2 _ rfl).2).symm.trans (va_nm_int (hK.2 0 _ rfl).2))
  rw [ec_12] at hP hD
  have hK := hK.sub (tys' := [(c_1, .int), (c_2, .byte)]) [0, 1] rfl
  refine W.widen (k := 12) (n := 54) (by decide) (by decide) ?_
  refine va_putF (D := (dC, dI)) (ci := 0) (v := .ref q_12) (ty := .array .int) (C := RX1) (T := TX1) (N := 23) hx hb hts in_X1 tyX1 tyX1_ok nmX1 hown hK hP hD hS 0 rfl rfl 21 (by decide) (hts _ q43) (fun _ h9 => h9) rfl hin rfl (by decide +kernel) rfl rfl (Nat.le_of_ble_eq_true rfl) dX1_init_86 (fun H locs hP hD hS => ?_)
  have hP : va_P (dC, dI) clsL [(a0, .inr (0, [.int 0, .int 0, .int 0, .int 0, .int 0, .ref q_1, .int 0, .int 0, .int 0, .int 0, .int 0, .ref q_2, .ref q_3, .ref q_4, .ref q_5, .ref q_6, .ref q_7, .ref q_8, .ref q_9, .ref q_10, .ref q_11, .ref q_12, .null])), (q_1, .inl (c_1, 32, .inl f0)), (q_2, .inl (c_2, 2, .inl f0)), (q_3, .inl (c_2, 2, .inl f0)), (q_4, .inl (c_2, 2, .inl f0)), (q_5, .inl (c_2, 2, .inl f0)), (q_6, .inl (c_2, 2, .inl f0)), (q_7, .inl (c_2, 2, .inl f0)), (q_8, .inl (c_1, 2, .inl f0)), (q_9, .inl (c_1, 2, .inl f0)), (q_10, .inl (c_1, 2, .inl f0)), (q_11, .inl (c_1, 2, .inl f0)), (q_12, .inl (c_1, 2, .inl f0))] H := hP
  have hD : va_D A [(a0, .inr (0, [.int 0, .int 0, .int 0, .int 0, .int 0, .ref q_1, .int 0, .int 0, .int 0, .int 0, .int 0, .ref q_2, .ref q_3, .ref q_4, .ref q_5, .ref q_6, .ref q_7, .ref q_8, .ref q_9, .ref q_10, .ref q_11, .ref q_12, .null])), (q_1, .inl (c_1, 32, .inl f0)), (q_2, .inl (c_2, 2, .inl f0)), (q_3, .inl (c_2, 2, .inl f0)), (q_4, .inl (c_2, 2, .inl f0)), (q_5, .inl (c_2, 2, .inl f0)), (q_6, .inl (c_2, 2, .inl f0)), (q_7, .inl (c_2, 2, .inl f0)), (q_8, .inl (c_1, 2, .inl f0)), (q_9, .inl (c_1, 2, .inl f0)), (q_10, .inl (c_1, 2, .inl f0)), (q_11, .inl (c_1, 2, .inl f0)), (q_12, .inl (c_1, 2, .inl f0))] := hD
  refine lv_aload_n hx hb dX1_init_89 rfl (lv_at hl 0 rfl) ?_
  refine lv_bipush (v := 16) hx hb dX1_init_90 (by decide) ?_
  refine va_newa (atype := .int) (ty := .int) (a0 := (16, .inl f0)) (N' := 16) hx hb (hts _ q92) rfl hK hP hD hS hA (fun _ => rfl) (by decide) (by decide) (by decide) (Nat.le_of_ble_eq_true rfl) (Nat.le_of_ble_eq_true rfl) dX1_init_92 (fun q_13 c_13 H hK hP hD hS => ?_)
  have hP : va_P (dC, dI) clsL [(a0, .inr (0, [.int 0, .int 0, .int 0, .int 0, .int 0, .ref q_1, .int 0, .int 0, .int 0, .int 0, .int 0, .ref q_2, .ref q_3, .ref q_4, .ref q_5, .ref q_6, .ref q_7, .ref q_8, .ref q_9, .ref q_10, .ref q_11, .ref q_12, .null])), (q_1, .inl (c_1, 32, .inl f0)), (q_2, .inl (c_2, 2, .inl f0)), (q_3, .inl (c_2, 2, .inl f0)), (q_4, .inl (c_2, 2, .inl f0)), (q_5, .inl (c_2, 2, .inl f0)), (q_6, .inl (c_2, 2, .inl f0)), (q_7, .inl (c_2, 2, .inl f0)), (q_8, .inl (c_1, 2, .inl f0)), (q_9, .inl (c_1, 2, .inl f0)), (q_10, .inl (c_1, 2, .inl f0)), (q_11, .inl (c_1, 2, .inl f0)), (q_12, .inl (c_1, 2, .inl f0)), (q_13, .inl (c_13, 16, .inl f0))] H := hP
  have hD : va_D A [(a0, .inr (0, [.int 0, .int 0, .int 0, .int 0, .int 0, .ref q_1, .int 0, .int 0, .int 0, .int 0, .int 0, .ref q_2, .ref q_3, .ref q_4, .ref q_5, .ref q_6, .ref q_7, .ref q_8, .ref q_9, .ref q_10, .ref q_11, .ref q_12, .null])), (q_1, .inl (c_1, 32, .inl f0)), (q_2, .inl (c_2, 2, .inl f0)), (q_3, .inl (c_2, 2, .inl f0)), (q_4, .inl (c_2, 2, .inl f0)), (q_5, .inl (c_2, 2, .inl f0)), (q_6, .inl (c_2, 2, .inl f0)), (q_7, .inl (c_2, 2, .inl f0)), (q_8, .inl (c_1, 2, .inl f0)), (q_9, .inl (c_1, 2, .inl f0)), (q_10, .inl (c_1, 2, .inl f0)), (q_11, .inl (c_1, 2, .inl f0)), (q_12, .inl (c_1, 2, .inl f0)), (q_13, .inl (c_13, 16, .inl f0))] := hD
  have ec_13 : c_13 = c_1 := Option.some.inj ((va_nm_int (hK.2 2 _ rfl).2).symm.trans (va_nm_int (hK.2 0 _ rfl).2))
  rw [ec_13] at hP hD
  have hK := hK.sub (tys' := [(c_1, .int), (c_2, .byte)]) [0, 1] rfl
  refine W.widen (k := 13) (n := 70) (by decide) (by decide) ?_
  refine va_putF (D := (dC, dI)) (ci := 0) (v := .ref q_13) (ty := .array .int) (C := RX1) (T := TX1) (N := 23) hx hb hts in_X1 tyX1 tyX1_ok nmX1 hown hK hP hD hS 0 rfl rfl 22 (by decide) (hts _ q44) (fun _ h9 => h9) rfl hin rfl (by decide +kernel) rfl rfl (Nat.le_of_ble_eq_true rfl) dX1_init_94 (fun H locs hP hD hS => ?_)
  have hP : va_P (dC, dI) clsL [(a0, .inr (0, [.int 0, .int 0, .int 0, .int 0, .int 0, .ref q_1, .int 0, .int 0, .int 0, .int 0, .int 0, .ref q_2, .ref q_3, .ref q_4, .ref q_5, .ref q_6, .ref q_7, .ref q_8, .ref q_9, .ref q_10, .ref q_11, .ref q_12, .ref q_13])), (q_1, .inl (c_1, 32, .inl f0)), (q_2, .inl (c_2, 2, .inl f0)), (q_3, .inl (c_2, 2, .inl f0)), (q_4, .inl (c_2, 2, .inl f0)), (q_5, .inl (c_2, 2, .inl f0)), (q_6, .inl (c_2, 2, .inl f0)), (q_7, .inl (c_2, 2, .inl f0)), (q_8, .inl (c_1, 2, .inl f0)), (q_9, .inl (c_1, 2, .inl f0)), (q_10, .inl (c_1, 2, .inl f0)), (q_11, .inl (c_1, 2, .inl f0)), (q_12, .inl (c_1, 2, .inl f0)), (q_13, .inl (c_1, 16, .inl f0))] H := hP
  have hD : va_D A [(a0, .inr (0, [.int 0, .int 0, .int 0, .int 0, .int 0, .ref q_1, .int 0, .int 0, .int 0, .int 0, .int 0, .ref q_2, .ref q_3, .ref q_4, .ref q_5, .ref q_6, .ref q_7, .ref q_8, .ref q_9, .ref q_10, .ref q_11, .ref q_12, .ref q_13])), (q_1, .inl (c_1, 32, .inl f0)), (q_2, .inl (c_2, 2, .inl f0)), (q_3, .inl (c_2, 2, .inl f0)), (q_4, .inl (c_2, 2, .inl f0)), (q_5, .inl (c_2, 2, .inl f0)), (q_6, .inl (c_2, 2, .inl f0)), (q_7, .inl (c_2, 2, .inl f0)), (q_8, .inl (c_1, 2, .inl f0)), (q_9, .inl (c_1, 2, .inl f0)), (q_10, .inl (c_1, 2, .inl f0)), (q_11, .inl (c_1, 2, .inl f0)), (q_12, .inl (c_1, 2, .inl f0)), (q_13, .inl (c_1, 16, .inl f0))] := hD
  refine lv_aload_n hx hb dX1_init_97 rfl (lv_at hl 0 rfl) ?_
  refine lv_iload_n hx hb dX1_init_98 rfl (lv_at hl 1 rfl) ?_
  refine lv_iconst (v := 1) hx hb dX1_init_99 (by decide) ?_
  refine ph_cut (J := 108) (rest := [.ref a0]) (if ki < 1 then 0 else 1) (fun z_14 ez_14 => ?_) (fun hJ_14 => ?_)
  · refine va_putF (D := (dC, dI)) (ci := 0) (v := .int z_14) (ty := .boolean) (C := RX1) (T := TX1) (N := 23) hx hb hts in_X1 tyX1 tyX1_ok nmX1 hown hK hP hD hS 0 rfl rfl 0 (by decide) (hts _ q22) (fun _ h9 => h9) rfl hin rfl (by decide +kernel) (nar01 ez_14) (fit01 ez_14) (Nat.le_of_ble_eq_true rfl) dX1_init_108 (fun H locs hP hD hS => ?_)
    have hP : va_P (dC, dI) clsL [(a0, .inr (0, [.int z_14, .int 0, .int 0, .int 0, .int 0, .ref q_1, .int 0, .int 0, .int 0, .int 0, .int 0, .ref q_2, .ref q_3, .ref q_4, .ref q_5, .ref q_6, .ref q_7, .ref q_8, .ref q_9, .ref q_10, .ref q_11, .ref q_12, .ref q_13])), (q_1, .inl (c_1, 32, .inl f0)), (q_2, .inl (c_2, 2, .inl f0)), (q_3, .inl (c_2, 2, .inl f0)), (q_4, .inl (c_2, 2, .inl f0)), (q_5, .inl (c_2, 2, .inl f0)), (q_6, .inl (c_2, 2, .inl f0)), (q_7, .inl (c_2, 2, .inl f0)), (q_8, .inl (c_1, 2, .inl f0)), (q_9, .inl (c_1, 2, .inl f0)), (q_10, .inl (c_1, 2, .inl f0)), (q_11, .inl (c_1, 2, .inl f0)), (q_12, .inl (c_1, 2, .inl f0)), (q_13, .inl (c_1, 16, .inl f0))] H := hP
    have hD : va_D A [(a0, .inr (0, [.int z_14, .int 0, .int 0, .int 0, .int 0, .ref q_1, .int 0, .int 0, .int 0, .int 0, .int 0, .ref q_2, .ref q_3, .ref q_4, .ref q_5, .ref q_6, .ref q_7, .ref q_8, .ref q_9, .ref q_10, .ref q_11, .ref q_12, .ref q_13])), (q_1, .inl (c_1, 32, .inl f0)), (q_2, .inl (c_2, 2, .inl f0)), (q_3, .inl (c_2, 2, .inl f0)), (q_4, .inl (c_2, 2, .inl f0)), (q_5, .inl (c_2, 2, .inl f0)), (q_6, .inl (c_2, 2, .inl f0)), (q_7, .inl (c_2, 2, .inl f0)), (q_8, .inl (c_1, 2, .inl f0)), (q_9, .inl (c_1, 2, .inl f0)), (q_10, .inl (c_1, 2, .inl f0)), (q_11, .inl (c_1, 2, .inl f0)), (q_12, .inl (c_1, 2, .inl f0)), (q_13, .inl (c_1, 16, .inl f0))] := hD
    refine lv_aload_n hx hb dX1_init_111 rfl (lv_at hl 0 rfl) ?_
    refine lv_iload_n hx hb dX1_init_112 rfl (lv_at hl 2 rfl) ?_
    refine lv_iconst (v := 1) hx hb dX1_init_113 (by decide) ?_
    refine ph_cut (J := 133) (rest := [.ref a0]) (if (1 : Int32) ≤ wi then (if wi ≤ 6 then wi else 6) else 1) (fun z_15 ez_15 => ?_) (fun hJ_15 => ?_)
    · refine va_putF (D := (dC, dI)) (ci := 0) (v := .int z_15) (ty := .int) (C := RX1) (T := TX1) (N := 23) hx hb hts in_X1 tyX1 tyX1_ok nmX1 hown hK hP hD hS 0 rfl rfl 1 (by decide) (hts _ q23) (fun _ h9 => h9) rfl hin rfl (by decide +kernel) rfl rfl (Nat.le_of_ble_eq_true rfl) dX1_init_133 (fun H locs hP hD hS => ?_)
      have hP : va_P (dC, dI) clsL [(a0, .inr (0, [.int z_14, .int z_15, .int 0, .int 0, .int 0, .ref q_1, .int 0, .int 0, .int 0, .int 0, .int 0, .ref q_2, .ref q_3, .ref q_4, .ref q_5, .ref q_6, .ref q_7, .ref q_8, .ref q_9, .ref q_10, .ref q_11, .ref q_12, .ref q_13])), (q_1, .inl (c_1, 32, .inl f0)), (q_2, .inl (c_2, 2, .inl f0)), (q_3, .inl (c_2, 2, .inl f0)), (q_4, .inl (c_2, 2, .inl f0)), (q_5, .inl (c_2, 2, .inl f0)), (q_6, .inl (c_2, 2, .inl f0)), (q_7, .inl (c_2, 2, .inl f0)), (q_8, .inl (c_1, 2, .inl f0)), (q_9, .inl (c_1, 2, .inl f0)), (q_10, .inl (c_1, 2, .inl f0)), (q_11, .inl (c_1, 2, .inl f0)), (q_12, .inl (c_1, 2, .inl f0)), (q_13, .inl (c_1, 16, .inl f0))] H := hP
      have hD : va_D A [(a0, .inr (0, [.int z_14, .int z_15, .int 0, .int 0, .int 0, .ref q_1, .int 0, .int 0, .int 0, .int 0, .int 0, .ref q_2, .ref q_3, .ref q_4, .ref q_5, .ref q_6, .ref q_7, .ref q_8, .ref q_9, .ref q_10, .ref q_11, .ref q_12, .ref q_13])), (q_1, .inl (c_1, 32, .inl f0)), (q_2, .inl (c_2, 2, .inl f0)), (q_3, .inl (c_2, 2, .inl f0)), (q_4, .inl (c_2, 2, .inl f0)), (q_5, .inl (c_2, 2, .inl f0)), (q_6, .inl (c_2, 2, .inl f0)), (q_7, .inl (c_2, 2, .inl f0)), (q_8, .inl (c_1, 2, .inl f0)), (q_9, .inl (c_1, 2, .inl f0)), (q_10, .inl (c_1, 2, .inl f0)), (q_11, .inl (c_1, 2, .inl f0)), (q_12, .inl (c_1, 2, .inl f0)), (q_13, .inl (c_1, 16, .inl f0))] := hD
      refine lv_aload_n hx hb dX1_init_136 rfl (lv_at hl 0 rfl) ?_
      refine lv_iload_n hx hb dX1_init_137 rfl (lv_at hl 3 rfl) ?_
      refine lv_iconst (v := 1) hx hb dX1_init_138 (by decide) ?_
      refine ph_cut (J := 158) (rest := [.ref a0]) (if (1 : Int32) ≤ he then (if he ≤ 30 then he else 30) else 1) (fun z_16 ez_16 => ?_) (fun hJ_16 => ?_)
      · refine va_putF (D := (dC, dI)) (ci := 0) (v := .int z_16) (ty := .int) (C := RX1) (T := TX1) (N := 23) hx hb hts in_X1 tyX1 tyX1_ok nmX1 hown hK hP hD hS 0 rfl rfl 2 (by decide) (hts _ q24) (fun _ h9 => h9) rfl hin rfl (by decide +kernel) rfl rfl (Nat.le_of_ble_eq_true rfl) dX1_init_158 (fun H locs hP hD hS => ?_)
        have hP : va_P (dC, dI) clsL [(a0, .inr (0, [.int z_14, .int z_15, .int z_16, .int 0, .int 0, .ref q_1, .int 0, .int 0, .int 0, .int 0, .int 0, .ref q_2, .ref q_3, .ref q_4, .ref q_5, .ref q_6, .ref q_7, .ref q_8, .ref q_9, .ref q_10, .ref q_11, .ref q_12, .ref q_13])), (q_1, .inl (c_1, 32, .inl f0)), (q_2, .inl (c_2, 2, .inl f0)), (q_3, .inl (c_2, 2, .inl f0)), (q_4, .inl (c_2, 2, .inl f0)), (q_5, .inl (c_2, 2, .inl f0)), (q_6, .inl (c_2, 2, .inl f0)), (q_7, .inl (c_2, 2, .inl f0)), (q_8, .inl (c_1, 2, .inl f0)), (q_9, .inl (c_1, 2, .inl f0)), (q_10, .inl (c_1, 2, .inl f0)), (q_11, .inl (c_1, 2, .inl f0)), (q_12, .inl (c_1, 2, .inl f0)), (q_13, .inl (c_1, 16, .inl f0))] H := hP
        have hD : va_D A [(a0, .inr (0, [.int z_14, .int z_15, .int z_16, .int 0, .int 0, .ref q_1, .int 0, .int 0, .int 0, .int 0, .int 0, .ref q_2, .ref q_3, .ref q_4, .ref q_5, .ref q_6, .ref q_7, .ref q_8, .ref q_9, .ref q_10, .ref q_11, .ref q_12, .ref q_13])), (q_1, .inl (c_1, 32, .inl f0)), (q_2, .inl (c_2, 2, .inl f0)), (q_3, .inl (c_2, 2, .inl f0)), (q_4, .inl (c_2, 2, .inl f0)), (q_5, .inl (c_2, 2, .inl f0)), (q_6, .inl (c_2, 2, .inl f0)), (q_7, .inl (c_2, 2, .inl f0)), (q_8, .inl (c_1, 2, .inl f0)), (q_9, .inl (c_1, 2, .inl f0)), (q_10, .inl (c_1, 2, .inl f0)), (q_11, .inl (c_1, 2, .inl f0)), (q_12, .inl (c_1, 2, .inl f0)), (q_13, .inl (c_1, 16, .inl f0))] := hD
        refine lv_aload_n hx hb dX1_init_161 rfl (lv_at hl 0 rfl) ?_
        refine lv_ldc hx hb hown (hts _ q21) dX1_init_162 ?_
        refine va_put (D := (dC, dI)) (ci := 0) (v := .int (-200000)) (ty := .int) (C := RX1) (T := TX1) (N := 23) hx hb hts in_X1 tyX1 tyX1_ok nmX1 hown hK hP hD hS 0 rfl rfl 10 (by decide) (hts _ q32) (fun _ h9 => h9) rfl (by decide +kernel) rfl rfl (Nat.le_of_ble_eq_true rfl) dX1_init_164 (fun H locs hP hD hS => ?_)
        have hP : va_P (dC, dI) clsL [(a0, .inr (0, [.int z_14, .int z_15, .int z_16, .int 0, .int 0, .ref q_1, .int 0, .int 0, .int 0, .int 0, .int (-200000), .ref q_2, .ref q_3, .ref q_4, .ref q_5, .ref q_6, .ref q_7, .ref q_8, .ref q_9, .ref q_10, .ref q_11, .ref q_12, .ref q_13])), (q_1, .inl (c_1, 32, .inl f0)), (q_2, .inl (c_2, 2, .inl f0)), (q_3, .inl (c_2, 2, .inl f0)), (q_4, .inl (c_2, 2, .inl f0)), (q_5, .inl (c_2, 2, .inl f0)), (q_6, .inl (c_2, 2, .inl f0)), (q_7, .inl (c_2, 2, .inl f0)), (q_8, .inl (c_1, 2, .inl f0)), (q_9, .inl (c_1, 2, .inl f0)), (q_10, .inl (c_1, 2, .inl f0)), (q_11, .inl (c_1, 2, .inl f0)), (q_12, .inl (c_1, 2, .inl f0)), (q_13, .inl (c_1, 16, .inl f0))] H := hP
        have hD : va_D A [(a0, .inr (0, [.int z_14, .int z_15, .int z_16, .int 0, .int 0, .ref q_1, .int 0, .int 0, .int 0, .int 0, .int (-200000), .ref q_2, .ref q_3, .ref q_4, .ref q_5, .ref q_6, .ref q_7, .ref q_8, .ref q_9, .ref q_10, .ref q_11, .ref q_12, .ref q_13])), (q_1, .inl (c_1, 32, .inl f0)), (q_2, .inl (c_2, 2, .inl f0)), (q_3, .inl (c_2, 2, .inl f0)), (q_4, .inl (c_2, 2, .inl f0)), (q_5, .inl (c_2, 2, .inl f0)), (q_6, .inl (c_2, 2, .inl f0)), (q_7, .inl (c_2, 2, .inl f0)), (q_8, .inl (c_1, 2, .inl f0)), (q_9, .inl (c_1, 2, .inl f0)), (q_10, .inl (c_1, 2, .inl f0)), (q_11, .inl (c_1, 2, .inl f0)), (q_12, .inl (c_1, 2, .inl f0)), (q_13, .inl (c_1, 16, .inl f0))] := hD
        refine lv_iconst (v := 0) hx hb dX1_init_167 (by decide) ?_
        refine lv_istore (lv' := [(4, .int 0), (0, .ref a0), (1, .int ki), (2, .int wi), (3, .int he)]) hx hb dX1_init_168 hl (by decide) rfl (fun ls hl => ?_)
        refine lv_iload hx hb dX1_init_170 (lv_at hl 0 rfl) ?_
        refine lv_iconst (v := 2) hx hb dX1_init_172 (by decide) ?_
        refine lv_icmp_ge (tgt := 198) hx hb dX1_init_173 (by decide) (fun c_17 => ?_) (fun c_17 => ?_)
        · exact absurd c_17 (by decide)
        · refine lv_aload_n hx hb dX1_init_176 rfl (lv_at hl 1 rfl) ?_
          refine va_get (D := (dC, dI)) (ci := 0) (v := .ref q_2) (C := RX1) (T := TX1) (N := 23) hx hb hts in_X1 hown hK hP 0 rfl rfl 11 (by decide) (hts _ q33) (fun _ h9 => h9) rfl dX1_init_177 ?_
          refine lv_iload hx hb dX1_init_180 (lv_at hl 0 rfl) ?_
          refine lv_iconst (v := 1) hx hb dX1_init_182 (by decide) ?_
          refine va_bast (f := f0) hx hb hK hP hD hS 2 1 rfl rfl (in2 (Or.inl rfl)) dX1_init_183 (fun H locs hP hD hS => ?_)
          have hP : va_P (dC, dI) clsL [(a0, .inr (0, [.int z_14, .int z_15, .int z_16, .int 0, .int 0, .ref q_1, .int 0, .int 0, .int 0, .int 0, .int (-200000), .ref q_2, .ref q_3, .ref q_4, .ref q_5, .ref q_6, .ref q_7, .ref q_8, .ref q_9, .ref q_10, .ref q_11, .ref q_12, .ref q_13])), (q_1, .inl (c_1, 32, .inl f0)), (q_2, .inl (c_2, 2, .inl (upd f0 (0 : Int32).toNatClampNeg (vp_nar .byte 1)))), (q_3, .inl (c_2, 2, .inl f0)), (q_4, .inl (c_2, 2, .inl f0)), (q_5, .inl (c_2, 2, .inl f0)), (q_6, .inl (c_2, 2, .inl f0)), (q_7, .inl (c_2, 2, .inl f0)), (q_8, .inl (c_1, 2, .inl f0)), (q_9, .inl (c_1, 2, .inl f0)), (q_10, .inl (c_1, 2, .inl f0)), (q_11, .inl (c_1, 2, .inl f0)), (q_12, .inl (c_1, 2, .inl f0)), (q_13, .inl (c_1, 16, .inl f0))] H := hP
          have hD : va_D A [(a0, .inr (0, [.int z_14, .int z_15, .int z_16, .int 0, .int 0, .ref q_1, .int 0, .int 0, .int 0, .int 0, .int (-200000), .ref q_2, .ref q_3, .ref q_4, .ref q_5, .ref q_6, .ref q_7, .ref q_8, .ref q_9, .ref q_10, .ref q_11, .ref q_12, .ref q_13])), (q_1, .inl (c_1, 32, .inl f0)), (q_2, .inl (c_2, 2, .inl (upd f0 (0 : Int32).toNatClampNeg (vp_nar .byte 1)))), (q_3, .inl (c_2, 2, .inl f0)), (q_4, .inl (c_2, 2, .inl f0)), (q_5, .inl (c_2, 2, .inl f0)), (q_6, .inl (c_2, 2, .inl f0)), (q_7, .inl (c_2, 2, .inl f0)), (q_8, .inl (c_1, 2, .inl f0)), (q_9, .inl (c_1, 2, .inl f0)), (q_10, .inl (c_1, 2, .inl f0)), (q_11, .inl (c_1, 2, .inl f0)), (q_12, .inl (c_1, 2, .inl f0)), (q_13, .inl (c_1, 16, .inl f0))] := hD
          refine lv_aload_n hx hb dX1_init_184 rfl (lv_at hl 1 rfl) ?_
          refine va_get (D := (dC, dI)) (ci := 0) (v := .ref q_5) (C := RX1) (T := TX1) (N := 23) hx hb hts in_X1 hown hK hP 0 rfl rfl 14 (by decide) (hts _ q36) (fun _ h9 => h9) rfl dX1_init_185 ?_
          refine lv_iload hx hb dX1_init_188 (lv_at hl 0 rfl) ?_
          refine lv_iconst (v := 4) hx hb dX1_init_190 (by decide) ?_
          refine va_bast (f := f0) hx hb hK hP hD hS 5 1 rfl rfl (in2 (Or.inl rfl)) dX1_init_191 (fun H locs hP hD hS => ?_)
          have hP : va_P (dC, dI) clsL [(a0, .inr (0, [.int z_14, .int z_15, .int z_16, .int 0, .int 0, .ref q_1, .int 0, .int 0, .int 0, .int 0, .int (-200000), .ref q_2, .ref q_3, .ref q_4, .ref q_5, .ref q_6, .ref q_7, .ref q_8, .ref q_9, .ref q_10, .ref q_11, .ref q_12, .ref q_13])), (q_1, .inl (c_1, 32, .inl f0)), (q_2, .inl (c_2, 2, .inl (upd f0 (0 : Int32).toNatClampNeg (vp_nar .byte 1)))), (q_3, .inl (c_2, 2, .inl f0)), (q_4, .inl (c_2, 2, .inl f0)), (q_5, .inl (c_2, 2, .inl (upd f0 (0 : Int32).toNatClampNeg (vp_nar .byte 4)))), (q_6, .inl (c_2, 2, .inl f0)), (q_7, .inl (c_2, 2, .inl f0)), (q_8, .inl (c_1, 2, .inl f0)), (q_9, .inl (c_1, 2, .inl f0)), (q_10, .inl (c_1, 2, .inl f0)), (q_11, .inl (c_1, 2, .inl f0)), (q_12, .inl (c_1, 2, .inl f0)), (q_13, .inl (c_1, 16, .inl f0))] H := hP
          have hD : va_D A [(a0, .inr (0, [.int z_14, .int z_15, .int z_16, .int 0, .int 0, .ref q_1, .int 0, .int 0, .int 0, .int 0, .int (-200000), .ref q_2, .ref q_3, .ref q_4, .ref q_5, .ref q_6, .ref q_7, .ref q_8, .ref q_9, .ref q_10, .ref q_11, .ref q_12, .ref q_13])), (q_1, .inl (c_1, 32, .inl f0)), (q_2, .inl (c_2, 2, .inl (upd f0 (0 : Int32).toNatClampNeg (vp_nar .byte 1)))), (q_3, .inl (c_2, 2, .inl f0)), (q_4, .inl (c_2, 2, .inl f0)), (q_5, .inl (c_2, 2, .inl (upd f0 (0 : Int32).toNatClampNeg (vp_nar .byte 4)))), (q_6, .inl (c_2, 2, .inl f0)), (q_7, .inl (c_2, 2, .inl f0)), (q_8, .inl (c_1, 2, .inl f0)), (q_9, .inl (c_1, 2, .inl f0)), (q_10, .inl (c_1, 2, .inl f0)), (q_11, .inl (c_1, 2, .inl f0)), (q_12, .inl (c_1, 2, .inl f0)), (q_13, .inl (c_1, 16, .inl f0))] := hD
          refine lv_iinc (v := 1) (lv' := [(4, .int 1), (0, .ref a0), (1, .int ki), (2, .int wi), (3, .int he)]) hx hb dX1_init_192 hl (k := 0) rfl (by decide) (by decide) rfl (fun ls hl => ?_)
          refine lv_goto (tgt := 170) hx hb dX1_init_195 (by decide) ?_
          refine lv_iload hx hb dX1_init_170 (lv_at hl 0 rfl) ?_
          refine lv_iconst (v := 2) hx hb dX1_init_172 (by decide) ?_
          refine lv_icmp_ge (tgt := 198) hx hb dX1_init_173 (by decide) (fun c_18 => ?_) (fun c_18 => ?_)
          · exact absurd c_18 (by decide)
          · refine lv_aload_n hx hb dX1_init_176 rfl (lv_at hl 1 rfl) ?_
            refine va_get (D := (dC, dI)) (ci := 0) (v := .ref q_2) (C := RX1) (T := TX1) (N := 23) hx hb hts in_X1 hown hK hP 0 rfl rfl 11 (by decide) (hts _ q33) (fun _ h9 => h9) rfl dX1_init_177 ?_
            refine lv_iload hx hb dX1_init_180 (lv_at hl 0 rfl) ?_
            refine lv_iconst (v := 1) hx hb dX1_init_182 (by decide) ?_
            refine va_bast (f := upd f0 (0 : Int32).toNatClampNeg (vp_nar .byte 1)) hx hb hK hP hD hS 2 1 rfl rfl (in2 (Or.inr rfl)) dX1_init_183 (fun H locs hP hD hS => ?_)
            have hP : va_P (dC, dI) clsL [(a0, .inr (0, [.int z_14, .int z_15, .int z_16, .int 0, .int 0, .ref q_1, .int 0, .int 0, .int 0, .int 0, .int (-200000), .ref q_2, .ref q_3, .ref q_4, .ref q_5, .ref q_6, .ref q_7, .ref q_8, .ref q_9, .ref q_10, .ref q_11, .ref q_12, .ref q_13])), (q_1, .inl (c_1, 32, .inl f0)), (q_2, .inl (c_2, 2, .inl (upd (upd f0 (0 : Int32).toNatClampNeg (vp_nar .byte 1)) (1 : Int32).toNatClampNeg (vp_nar .byte 1)))), (q_3, .inl (c_2, 2, .inl f0)), (q_4, .inl (c_2, 2, .inl f0)), (q_5, .inl (c_2, 2, .inl (upd f0 (0 : Int32).toNatClampNeg (vp_nar .byte 4)))), (q_6, .inl (c_2, 2, .inl f0)), (q_7, .inl (c_2, 2, .inl f0)), (q_8, .inl (c_1, 2, .inl f0)), (q_9, .inl (c_1, 2, .inl f0)), (q_10, .inl (c_1, 2, .inl f0)), (q_11, .inl (c_1, 2, .inl f0)), (q_12, .inl (c_1, 2, .inl f0)), (q_13, .inl (c_1, 16, .inl f0))] H := hP
            have hD : va_D A [(a0, .inr (0, [.int z_14, .int z_15, .int z_16, .int 0, .int 0, .ref q_1, .int 0, .int 0, .int 0, .int 0, .int (-200000), .ref q_2, .ref q_3, .ref q_4, .ref q_5, .ref q_6, .ref q_7, .ref q_8, .ref q_9, .ref q_10, .ref q_11, .ref q_12, .ref q_13])), (q_1, .inl (c_1, 32, .inl f0)), (q_2, .inl (c_2, 2, .inl (upd (upd f0 (0 : Int32).toNatClampNeg (vp_nar .byte 1)) (1 : Int32).toNatClampNeg (vp_nar .byte 1)))), (q_3, .inl (c_2, 2, .inl f0)), (q_4, .inl (c_2, 2, .inl f0)), (q_5, .inl (c_2, 2, .inl (upd f0 (0 : Int32).toNatClampNeg (vp_nar .byte 4)))), (q_6, .inl (c_2, 2, .inl f0)), (q_7, .inl (c_2, 2, .inl f0)), (q_8, .inl (c_1, 2, .inl f0)), (q_9, .inl (c_1, 2, .inl f0)), (q_10, .inl (c_1, 2, .inl f0)), (q_11, .inl (c_1, 2, .inl f0)), (q_12, .inl (c_1, 2, .inl f0)), (q_13, .inl (c_1, 16, .inl f0))] := hD
            refine lv_aload_n hx hb dX1_init_184 rfl (lv_at hl 1 rfl) ?_
            refine va_get (D := (dC, dI)) (ci := 0) (v := .ref q_5) (C := RX1) (T := TX1) (N := 23) hx hb hts in_X1 hown hK hP 0 rfl rfl 14 (by decide) (hts _ q36) (fun _ h9 => h9) rfl dX1_init_185 ?_
            refine lv_iload hx hb dX1_init_188 (lv_at hl 0 rfl) ?_
            refine lv_iconst (v := 4) hx hb dX1_init_190 (by decide) ?_
            refine va_bast (f := upd f0 (0 : Int32).toNatClampNeg (vp_nar .byte 4)) hx hb hK hP hD hS 5 1 rfl rfl (in2 (Or.inr rfl)) dX1_init_191 (fun H locs hP hD hS => ?_)
            have hP : va_P (dC, dI) clsL [(a0, .inr (0, [.int z_14, .int z_15, .int z_16, .int 0, .int 0, .ref q_1, .int 0, .int 0, .int 0, .int 0, .int (-200000), .ref q_2, .ref q_3, .ref q_4, .ref q_5, .ref q_6, .ref q_7, .ref q_8, .ref q_9, .ref q_10, .ref q_11, .ref q_12, .ref q_13])), (q_1, .inl (c_1, 32, .inl f0)), (q_2, .inl (c_2, 2, .inl (upd (upd f0 (0 : Int32).toNatClampNeg (vp_nar .byte 1)) (1 : Int32).toNatClampNeg (vp_nar .byte 1)))), (q_3, .inl (c_2, 2, .inl f0)), (q_4, .inl (c_2, 2, .inl f0)), (q_5, .inl (c_2, 2, .inl (upd (upd f0 (0 : Int32).toNatClampNeg (vp_nar .byte 4)) (1 : Int32).toNatClampNeg (vp_nar .byte 4)))), (q_6, .inl (c_2, 2, .inl f0)), (q_7, .inl (c_2, 2, .inl f0)), (q_8, .inl (c_1, 2, .inl f0)), (q_9, .inl (c_1, 2, .inl f0)), (q_10, .inl (c_1, 2, .inl f0)), (q_11, .inl (c_1, 2, .inl f0)), (q_12, .inl (c_1, 2, .inl f0)), (q_13, .inl (c_1, 16, .inl f0))] H := hP
            have hD : va_D A [(a0, .inr (0, [.int z_14, .int z_15, .int z_16, .int 0, .int 0, .ref q_1, .int 0, .int 0, .int 0, .int 0, .int (-200000), .ref q_2, .ref q_3, .ref q_4, .ref q_5, .ref q_6, .ref q_7, .ref q_8, .ref q_9, .ref q_10, .ref q_11, .ref q_12, .ref q_13])), (q_1, .inl (c_1, 32, .inl f0)), (q_2, .inl (c_2, 2, .inl (upd (upd f0 (0 : Int32).toNatClampNeg (vp_nar .byte 1)) (1 : Int32).toNatClampNeg (vp_nar .byte 1)))), (q_3, .inl (c_2, 2, .inl f0)), (q_4, .inl (c_2, 2, .inl f0)), (q_5, .inl (c_2, 2, .inl (upd (upd f0 (0 : Int32).toNatClampNeg (vp_nar .byte 4)) (1 : Int32).toNatClampNeg (vp_nar .byte 4)))), (q_6, .inl (c_2, 2, .inl f0)), (q_7, .inl (c_2, 2, .inl f0)), (q_8, .inl (c_1, 2, .inl f0)), (q_9, .inl (c_1, 2, .inl f0)), (q_10, .inl (c_1, 2, .inl f0)), (q_11, .inl (c_1, 2, .inl f0)), (q_12, .inl (c_1, 2, .inl f0)), (q_13, .inl (c_1, 16, .inl f0))] := hD
            refine lv_iinc (v := 2) (lv' := [(4, .int 2), (0, .ref a0), (1, .int ki), (2, .int wi), (3, .int he)]) hx hb dX1_init_192 hl (k := 0) rfl (by decide) (by decide) rfl (fun ls hl => ?_)
            refine lv_goto (tgt := 170) hx hb dX1_init_195 (by decide) ?_
            refine lv_iload hx hb dX1_init_170 (lv_at hl 0 rfl) ?_
            refine lv_iconst (v := 2) hx hb dX1_init_172 (by decide) ?_
            refine lv_icmp_ge (tgt := 198) hx hb dX1_init_173 (by decide) (fun c_19 => ?_) (fun c_19 => ?_)
            · rw [xw_mk] at hP hD
              rw [ez_14, ez_15, ez_16] at hP hD
              exact W.vret hx hb hr (fun t ht hW => ⟨⟨(aX [a0, q_1, q_2, q_3, q_4, q_5, q_6, q_7, q_8, q_9, q_10, q_11, q_12, q_13], c_1, c_2), rfl, rfl, by rw [ht]; exact hP, va_K.moved hW.alike hK, hD⟩, hS.F ht⟩) hS.2.2 dX1_init_198
            · exact absurd c_19 (by decide)
      · refine lv_icmp_ge (tgt := 146) hx hb dX1_init_139 (by decide) (fun c_20 => ?_) (fun c_20 => ?_)
        · refine lv_iload_n hx hb dX1_init_146 rfl (lv_at hl 3 rfl) ?_
          refine lv_bipush (v := 30) hx hb dX1_init_147 (by decide) ?_
          refine lv_icmp_le (tgt := 157) hx hb dX1_init_149 (by decide) (fun c_21 => ?_) (fun c_21 => ?_)
          · refine lv_iload_n hx hb dX1_init_157 rfl (lv_at hl 3 rfl) ?_
            exact hJ_16 _ (by rw [if_pos c_20, if_pos c_21])
          · refine lv_bipush (v := 30) hx hb dX1_init_152 (by decide) ?_
            refine lv_goto (tgt := 158) hx hb dX1_init_154 (by decide) ?_
            exact hJ_16 _ (by rw [if_pos c_20, if_neg c_21])
        · refine lv_iconst (v := 1) hx hb dX1_init_142 (by decide) ?_
          refine lv_goto (tgt := 158) hx hb dX1_init_143 (by decide) ?_
          exact hJ_16 _ (by rw [if_neg c_20])
    · refine lv_icmp_ge (tgt := 121) hx hb dX1_init_114 (by decide) (fun c_22 => ?_) (fun c_22 => ?_)
      · refine lv_iload_n hx hb dX1_init_121 rfl (lv_at hl 2 rfl) ?_
        refine lv_bipush (v := 6) hx hb dX1_init_122 (by decide) ?_
        refine lv_icmp_le (tgt := 132) hx hb dX1_init_124 (by decide) (fun c_23 => ?_) (fun c_23 => ?_)
        · refine lv_iload_n hx hb dX1_init_132 rfl (lv_at hl 2 rfl) ?_
          exact hJ_15 _ (by rw [if_pos c_22, if_pos c_23])
        · refine lv_bipush (v := 6) hx hb dX1_init_127 (by decide) ?_
          refine lv_goto (tgt := 133) hx hb dX1_init_129 (by decide) ?_
          exact hJ_15 _ (by rw [if_pos c_22, if_neg c_23])
      · refine lv_iconst (v := 1) hx hb dX1_init_117 (by decide) ?_
        refine lv_goto (tgt := 133) hx hb dX1_init_118 (by decide) ?_
        exact hJ_15 _ (by rw [if_neg c_22])
  · refine lv_icmp_lt (tgt := 107) hx hb dX1_init_100 (by decide) (fun c_24 => ?_) (fun c_24 => ?_)
    · refine lv_iconst (v := 0) hx hb dX1_init_107 (by decide) ?_
      exact hJ_14 _ (by rw [if_pos c_24])
    · refine lv_iconst (v := 1) hx hb dX1_init_103 (by decide) ?_
      refine lv_goto (tgt := 108) hx hb dX1_init_104 (by decide) ?_
      exact hJ_14 _ (by rw [if_neg c_24])

set_option maxHeartbeats 4000000 in
set_option maxRecDepth 100000 in
theorem mX2_init (l : Launch) (dC : Nat → ClassId) (dI : Nat → Nat → Nat) (a0 : Nat) (ki wi he : Int32) (sz : Nat) : Met l yX2_init (ws_ yX2_init cX2_init 5 none) ({ frames := 1, cells := 5, slots := 249, locals := 12 }) (va_Pc [.ref a0, .int ki, .int wi, .int he] (qM (dC, dI) [(a0, .inr (1, [.int 0, .int 0, .int 0, .null, .null, .null, .null, .int 0, .int 0, .null]))] [] sz)) (va_Qv (fun u : (Nat → Nat) × ClassId => u.1 0 = a0) (fun (u : (Nat → Nat) × ClassId) (t : State) => va_P (dC, dI) clsL (mw u.1 u.2 (m_init ki wi he)) t.heap ∧ va_K (dC, dI) clsL [(u.2, .int)] t ∧ va_D (va_A [(a0, .inr (1, [.int 0, .int 0, .int 0, .null, .null, .null, .null, .int 0, .int 0, .null]))] sz) (mw u.1 u.2 (m_init ki wi he))) (va_A [(a0, .inr (1, [.int 0, .int 0, .int 0, .null, .null, .null, .null, .int 0, .int 0, .null]))] sz)) 5 249 (va_A [(a0, .inr (1, [.int 0, .int 0, .int 0, .null, .null, .null, .null, .int 0, .int 0, .null]))] sz) := by
  refine Met.ofW (cc := cX2_init) (maxL := 5) (ret := none) (by decide) rfl ?_
  intro p e s m args below meth c s₁ B hml hv
  obtain ⟨rfl, hsz, hP, hK, hD0⟩ := hv
  have hx := B.exec
  have hb := B.bytes
  have hr := B.returns
  have hts := atoms_spec (ws := ws_ yX2_init cX2_init 5 none) B.pre
  have hts : ∀ w ∈ lw_all, w.before _ s = true := fun w h => hts w (List.mem_cons_of_mem _ h)
  have hown : s.vm.findClass RX2 = some m.cls := findClass_of_methodNamed B.named
  have hlocks := B.notSynchronized
  have hin : meth.name = "<init>" := (name_of_methodNamed B.named B.method).1
  subst hsz
  have hD := hD0.self (sz := s.heap.size)
  generalize hAe : va_A [(a0, .inr (1, [.int 0, .int 0, .int 0, .null, .null, .null, .null, .int 0, .int 0, .null]))] s.heap.size = A at hD ⊢
  have hA : ∀ q : Nat, s.heap.size ≤ q → A q := fun q h => by rw [← hAe]; exact Or.inr h
  have hS : va_S A s.heap s.heap [] := va_S.rf
  have hl := lv_entry ([.ref a0, .int ki, .int wi, .int he]) (n := 5) (Nat.le_of_ble_eq_true rfl)
  rw [lg_entry_eq]
  generalize (lg_sl ([.ref a0, .int ki, .int wi, .int he]) ++ List.replicate (5 - (lg_sl ([.ref a0, .int ki, .int wi, .int he])).length) Slot.unset).toArray = ls at hl ⊢
  have hl : lv_has ls 5 [(0, .ref a0), (1, .int ki), (2, .int wi), (3, .int he)] := hl
  refine lv_aload_n hx hb dX2_init_0 rfl (lv_at hl 0 rfl) ?_
  refine W.objInit hx hb hown (hts _ q185) (hts _ q19) (hts _ q20) rfl (by rw [hml]; exact hl.1) rfl dX2_init_1 (Nat.le_of_ble_eq_true rfl) (Nat.le_of_ble_eq_true rfl) ?_
  refine W.eq (g2 := F0 m 4 ls []) rfl ?_
  refine lv_aload_n hx hb dX2_init_4 rfl (lv_at hl 0 rfl) ?_
  refine lv_iconst (v := 2) hx hb dX2_init_5 (by decide) ?_
  refine va_newa (atype := .int) (ty := .int) (a0 := (2, .inl f0)) (N' := 2) hx hb (hts _ q92) rfl hK hP hD hS hA (fun _ => rfl) (by decide) (by decide) (by decide) (Nat.le_of_ble_eq_true rfl) (Nat.le_of_ble_eq_true rfl) dX2_init_6 (fun q_1 c_1 H hK hP hD hS => ?_)
  have hK : va_K (dC, dI) clsL [(c_1, .int)] s := hK
  have hP : va_P (dC, dI) clsL [(a0, .inr (1, [.int 0, .int 0, .int 0, .null, .null, .null, .null, .int 0, .int 0, .null])), (q_1, .inl (c_1, 2, .inl f0))] H := hP
  have hD : va_D A [(a0, .inr (1, [.int 0, .int 0, .int 0, .null, .null, .null, .null, .int 0, .int 0, .null])), (q_1, .inl (c_1, 2, .inl f0))] := hD
  refine W.widen (k := 1) (n := 2) (by decide) (by decide) ?_
  refine va_put (D := (dC, dI)) (ci := 1) (v := .ref q_1) (ty := .array .int) (C := RX2) (T := TX2) (N := 10) hx hb hts in_X2 tyX2 tyX2_ok nmX2 hown hK hP hD hS 0 rfl rfl 3 (by decide) (hts _ q189) (fun _ h9 => h9) rfl (by decide +kernel) rfl rfl (Nat.le_of_ble_eq_true rfl) dX2_init_8 (fun H locs hP hD hS => ?_)
  have hP : va_P (dC, dI) clsL [(a0, .inr (1, [.int 0, .int 0, .int 0, .ref q_1, .null, .null, .null, .int 0, .int 0, .null])), (q_1, .inl (c_1, 2, .inl f0))] H := hP
  have hD : va_D A [(a0, .inr (1, [.int 0, .int 0, .int 0, .ref q_1, .null, .null, .null, .int 0, .int 0, .null])), (q_1, .inl (c_1, 2, .inl f0))] := hD
  refine lv_aload_n hx hb dX2_init_11 rfl (lv_at hl 0 rfl) ?_
  refine lv_iconst (v := 2) hx hb dX2_init_12 (by decide) ?_
  refine va_newa (atype := .int) (ty := .int) (a0 := (2, .inl f0)) (N' := 2) hx hb (hts _ q92) rfl hK hP hD hS hA (fun _ => rfl) (by decide) (by decide) (by decide) (Nat.le_of_ble_eq_true rfl) (Nat.le_of_ble_eq_true rfl) dX2_init_13 (fun q_2 c_2 H hK hP hD hS => ?_)
  have hP : va_P (dC, dI) clsL [(a0, .inr (1, [.int 0, .int 0, .int 0, .ref q_1, .null, .null, .null, .int 0, .int 0, .null])), (q_1, .inl (c_1, 2, .inl f0)), (q_2, .inl (c_2, 2, .inl f0))] H := hP
  have hD : va_D A [(a0, .inr (1, [.int 0, .int 0, .int 0, .ref q_1, .null, .null, .null, .int 0, .int 0, .null])), (q_1, .inl (c_1, 2, .inl f0)), (q_2, .inl (c_2, 2, .inl f0))] := hD
  have ec_2 : c_2 = c_1 := Option.some.inj ((va_nm_int (hK.2 1 _ rfl).2).symm.trans (va_nm_int (hK.2 0 _ rfl).2))
  rw [ec_2] at hP hD
  have hK := hK.sub (tys' := [(c_1, .int)]) [0] rfl
  refine W.widen (k := 2) (n := 4) (by decide) (by decide) ?_
  refine va_put (D := (dC, dI)) (ci := 1) (v := .ref q_2) (ty := .array .int) (C := RX2) (T := TX2) (N := 10) hx hb hts in_X2 tyX2 tyX2_ok nmX2 hown hK hP hD hS 0 rfl rfl 4 (by decide) (hts _ q190) (fun _ h9 => h9) rfl (by decide +kernel) rfl rfl (Nat.le_of_ble_eq_true rfl) dX2_init_15 (fun H locs hP hD hS => ?_)
  have hP : va_P (dC, dI) clsL [(a0, .inr (1, [.int 0, .int 0, .int 0, .ref q_1, .ref q_2, .null, .null, .int 0, .int 0, .null])), (q_1, .inl (c_1, 2, .inl f0)), (q_2, .inl (c_1, 2, .inl f0))] H := hP
  have hD : va_D A [(a0, .inr (1, [.int 0, .int 0, .int 0, .ref q_1, .ref q_2, .null, .null, .int 0, .int 0, .null])), (q_1, .inl (c_1, 2, .inl f0)), (q_2, .inl (c_1, 2, .inl f0))] := hD
  refine lv_aload_n hx hb dX2_init_18 rfl (lv_at hl 0 rfl) ?_
  refine lv_iconst (v := 2) hx hb dX2_init_19 (by decide) ?_
  refine va_newa (atype := .int) (ty := .int) (a0 := (2, .inl f0)) (N' := 2) hx hb (hts _ q92) rfl hK hP hD hS hA (fun _ => rfl) (by decide) (by decide) (by decide) (Nat.le_of_ble_eq_true rfl) (Nat.le_of_ble_eq_true rfl) dX2_init_20 (fun q_3 c_3 H hK hP hD hS => ?_)
  have hP : va_P (dC, dI) clsL [(a0, .inr (1, [.int 0, .int 0, .int 0, .ref q_1, .ref q_2, .null, .null, .int 0, .int 0, .null])), (q_1, .inl (c_1, 2, .inl f0)), (q_2, .inl (c_1, 2, .inl f0)), (q_3, .inl (c_3, 2, .inl f0))] H := hP
  have hD : va_D A [(a0, .inr (1, [.int 0, .int 0, .int 0, .ref q_1, .ref q_2, .null, .null, .int 0, .int 0, .null])), (q_1, .inl (c_1, 2, .inl f0)), (q_2, .inl (c_1, 2, .inl f0)), (q_3, .inl (c_3, 2, .inl f0))] := hD
  have ec_3 : c_3 = c_1 := Option.some.inj ((va_nm_int (hK.2 1 _ rfl).2).symm.trans (va_nm_int (hK.2 0 _ rfl).2))
  rw [ec_3] at hP hD
  have hK := hK.sub (tys' := [(c_1, .int)]) [0] rfl
  refine W.widen (k := 3) (n := 6) (by decide) (by decide) ?_
  refine va_put (D := (dC, dI)) (ci := 1) (v := .ref q_3) (ty := .array .int) (C := RX2) (T := TX2) (N := 10) hx hb hts in_X2 tyX2 tyX2_ok nmX2 hown hK hP hD hS 0 rfl rfl 5 (by decide) (hts _ q191) (fun _ h9 => h9) rfl (by decide +kernel) rfl rfl (Nat.le_of_ble_eq_true rfl) dX2_init_22 (fun H locs hP hD hS => ?_)
  have hP : va_P (dC, dI) clsL [(a0, .inr (1, [.int 0, .int 0, .int 0, .ref q_1, .ref q_2, .ref q_3, .null, .int 0, .int 0, .null])), (q_1, .inl (c_1, 2, .inl f0)), (q_2, .inl (c_1, 2, .inl f0)), (q_3, .inl (c_1, 2, .inl f0))] H := hP
  have hD : va_D A [(a0, .inr (1, [.int 0, .int 0, .int 0, .ref q_1, .ref q_2, .ref q_3, .null, .int 0, .int 0, .null])), (q_1, .inl (c_1, 2, .inl f0)), (q_2, .inl (c_1, 2, .inl f0)), (q_3, .inl (c_1, 2, .inl f0))] := hD
  refine lv_aload_n hx hb dX2_init_25 rfl (lv_at hl 0 rfl) ?_
  refine lv_iconst (v := 2) hx hb dX2_init_26 (by decide) ?_
  refine va_newa (atype := .int) (ty := .int) (a0 := (2, .inl f0)) (N' := 2) hx hb (hts _ q92) rfl hK hP hD hS hA (fun _ => rfl) (by decide) (by decide) (by decide) (Nat.le_of_ble_eq_true rfl) (Nat.le_of_ble_eq_true rfl) dX2_init_27 (fun q_4 c_4 H hK hP hD hS => ?_)
  have hP : va_P (dC, dI) clsL [(a0, .inr (1, [.int 0, .int 0, .int 0, .ref q_1, .ref q_2, .ref q_3, .null, .int 0, .int 0, .null])), (q_1, .inl (c_1, 2, .inl f0)), (q_2, .inl (c_1, 2, .inl f0)), (q_3, .inl (c_1, 2, .inl f0)), (q_4, .inl (c_4, 2, .inl f0))] H := hP
  have hD : va_D A [(a0, .inr (1, [.int 0, .int 0, .int 0, .ref q_1, .ref q_2, .ref q_3, .null, .int 0, .int 0, .null])), (q_1, .inl (c_1, 2, .inl f0)), (q_2, .inl (c_1, 2, .inl f0)), (q_3, .inl (c_1, 2, .inl f0)), (q_4, .inl (c_4, 2, .inl f0))] := hD
  have ec_4 : c_4 = c_1 := Option.some.inj ((va_nm_int (hK.2 1 _ rfl).2).symm.trans (va_nm_int (hK.2 0 _ rfl).2))
  rw [ec_4] at hP hD
  have hK := hK.sub (tys' := [(c_1, .int)]) [0] rfl
  refine W.widen (k := 4) (n := 8) (by decide) (by decide) ?_
  refine va_put (D := (dC, dI)) (ci := 1) (v := .ref q_4) (ty := .array .int) (C := RX2) (T := TX2) (N := 10) hx hb hts in_X2 tyX2 tyX2_ok nmX2 hown hK hP hD hS 0 rfl rfl 6 (by decide) (hts _ q192) (fun _ h9 => h9) rfl (by decide +kernel) rfl rfl (Nat.le_of_ble_eq_true rfl) dX2_init_29 (fun H locs hP hD hS => ?_)
  have hP : va_P (dC, dI) clsL [(a0, .inr (1, [.int 0, .int 0, .int 0, .ref q_1, .ref q_2, .ref q_3, .ref q_4, .int 0, .int 0, .null])), (q_1, .inl (c_1, 2, .inl f0)), (q_2, .inl (c_1, 2, .inl f0)), (q_3, .inl (c_1, 2, .inl f0)), (q_4, .inl (c_1, 2, .inl f0))] H := hP
  have hD : va_D A [(a0, .inr (1, [.int 0, .int 0, .int 0, .ref q_1, .ref q_2, .ref q_3, .ref q_4, .int 0, .int 0, .null])), (q_1, .inl (c_1, 2, .inl f0)), (q_2, .inl (c_1, 2, .inl f0)), (q_3, .inl (c_1, 2, .inl f0)), (q_4, .inl (c_1, 2, .inl f0))] := hD
  refine lv_aload_n hx hb dX2_init_32 rfl (lv_at hl 0 rfl) ?_
  refine lv_sipush (v := 241) hx hb dX2_init_33 (by decide) ?_
  refine va_newa (atype := .int) (ty := .int) (a0 := (241, .inl f0)) (N' := 241) hx hb (hts _ q92) rfl hK hP hD hS hA (fun _ => rfl) (by decide) (by decide) (by decide) (Nat.le_of_ble_eq_true rfl) (Nat.le_of_ble_eq_true rfl) dX2_init_36 (fun q_5 c_5 H hK hP hD hS => ?_)
  have hP : va_P (dC, dI) clsL [(a0, .inr (1, [.int 0, .int 0, .int 0, .ref q_1, .ref q_2, .ref q_3, .ref q_4, .int 0, .int 0, .null])), (q_1, .inl (c_1, 2, .inl f0)), (q_2, .inl (c_1, 2, .inl f0)), (q_3, .inl (c_1, 2, .inl f0)), (q_4, .inl (c_1, 2, .inl f0)), (q_5, .inl (c_5, 241, .inl f0))] H := hP
  have hD : va_D A [(a0, .inr (1, [.int 0, .int 0, .int 0, .ref q_1, .ref q_2, .ref q_3, .ref q_4, .int 0, .int 0, .null])), (q_1, .inl (c_1, 2, .inl f0)), (q_2, .inl (c_1, 2, .inl f0)), (q_3, .inl (c_1, 2, .inl f0)), (q_4, .inl (c_1, 2, .inl f0)), (q_5, .inl (c_5, 241, .inl f0))] := hD
  have ec_5 : c_5 = c_1 := Option.some.inj ((va_nm_int (hK.2 1 _ rfl).2).symm.trans (va_nm_int (hK.2 0 _ rfl).2))
  rw [ec_5] at hP hD
  have hK := hK.sub (tys' := [(c_1, .int)]) [0] rfl
  refine W.widen (k := 5) (n := 249) (by decide) (by decide) ?_
  refine va_put (D := (dC, dI)) (ci := 1) (v := .ref q_5) (ty := .array .int) (C := RX2) (T := TX2) (N := 10) hx hb hts in_X2 tyX2 tyX2_ok nmX2 hown hK hP hD hS 0 rfl rfl 9 (by decide) (hts _ q195) (fun _ h9 => h9) rfl (by decide +kernel) rfl rfl (Nat.le_of_ble_eq_true rfl) dX2_init_38 (fun H locs hP hD hS => ?_)
  have hP : va_P (dC, dI) clsL [(a0, .inr (1, [.int 0, .int 0, .int 0, .ref q_1, .ref q_2, .ref q_3, .ref q_4, .int 0, .int 0, .ref q_5])), (q_1, .inl (c_1, 2, .inl f0)), (q_2, .inl (c_1, 2, .inl f0)), (q_3, .inl (c_1, 2, .inl f0)), (q_4, .inl (c_1, 2, .inl f0)), (q_5, .inl (c_1, 241, .inl f0))] H := hP
  have hD : va_D A [(a0, .inr (1, [.int 0, .int 0, .int 0, .ref q_1, .ref q_2, .ref q_3, .ref q_4, .int 0, .int 0, .ref q_5])), (q_1, .inl (c_1, 2, .inl f0)), (q_2, .inl (c_1, 2, .inl f0)), (q_3, .inl (c_1, 2, .inl f0)), (q_4, .inl (c_1, 2, .inl f0)), (q_5, .inl (c_1, 241, .inl f0))] := hD
  refine lv_aload_n hx hb dX2_init_41 rfl (lv_at hl 0 rfl) ?_
  refine lv_iload_n hx hb dX2_init_42 rfl (lv_at hl 1 rfl) ?_
  refine lv_iconst (v := 1) hx hb dX2_init_43 (by decide) ?_
  refine ph_cut (J := 52) (rest := [.ref a0]) (if ki < 1 then 0 else 1) (fun z_6 ez_6 => ?_) (fun hJ_6 => ?_)
  · refine va_put (D := (dC, dI)) (ci := 1) (v := .int z_6) (ty := .boolean) (C := RX2) (T := TX2) (N := 10) hx hb hts in_X2 tyX2 tyX2_ok nmX2 hown hK hP hD hS 0 rfl rfl 0 (by decide) (hts _ q186) (fun _ h9 => h9) rfl (by decide +kernel) (nar01 ez_6) (fit01 ez_6) (Nat.le_of_ble_eq_true rfl) dX2_init_52 (fun H locs hP hD hS => ?_)
    have hP : va_P (dC, dI) clsL [(a0, .inr (1, [.int z_6, .int 0, .int 0, .ref q_1, .ref q_2, .ref q_3, .ref q_4, .int 0, .int 0, .ref q_5])), (q_1, .inl (c_1, 2, .inl f0)), (q_2, .inl (c_1, 2, .inl f0)), (q_3, .inl (c_1, 2, .inl f0)), (q_4, .inl (c_1, 2, .inl f0)), (q_5, .inl (c_1, 241, .inl f0))] H := hP
    have hD : va_D A [(a0, .inr (1, [.int z_6, .int 0, .int 0, .ref q_1, .ref q_2, .ref q_3, .ref q_4, .int 0, .int 0, .ref q_5])), (q_1, .inl (c_1, 2, .inl f0)), (q_2, .inl (c_1, 2, .inl f0)), (q_3, .inl (c_1, 2, .inl f0)), (q_4, .inl (c_1, 2, .inl f0)), (q_5, .inl (c_1, 241, .inl f0))] := hD
    refine lv_aload_n hx hb dX2_init_55 rfl (lv_at hl 0 rfl) ?_
    refine lv_iload_n hx hb dX2_init_56 rfl (lv_at hl 2 rfl) ?_
    refine lv_iconst (v := 1) hx hb dX2_init_57 (by decide) ?_
    refine ph_cut (J := 77) (rest := [.ref a0]) (if (1 : Int32) ≤ wi then (if wi ≤ 6 then wi else 6) else 1) (fun z_7 ez_7 => ?_) (fun hJ_7 => ?_)
    · refine va_put (D := (dC, dI)) (ci := 1) (v := .int z_7) (ty := .int) (C := RX2) (T := TX2) (N := 10) hx hb hts in_X2 tyX2 tyX2_ok nmX2 hown hK hP hD hS 0 rfl rfl 1 (by decide) (hts _ q187) (fun _ h9 => h9) rfl (by decide +kernel) rfl rfl (Nat.le_of_ble_eq_true rfl) dX2_init_77 (fun H locs hP hD hS => ?_)
      have hP : va_P (dC, dI) clsL [(a0, .inr (1, [.int z_6, .int z_7, .int 0, .ref q_1, .ref q_2, .ref q_3, .ref q_4, .int 0, .int 0, .ref q_5])), (q_1, .inl (c_1, 2, .inl f0)), (q_2, .inl (c_1, 2, .inl f0)), (q_3, .inl (c_1, 2, .inl f0)), (q_4, .inl (c_1, 2, .inl f0)), (q_5, .inl (c_1, 241, .inl f0))] H := hP
      have hD : va_D A [(a0, .inr (1, [.int z_6, .int z_7, .int 0, .ref q_1, .ref q_2, .ref q_3, .ref q_4, .int 0, .int 0, .ref q_5])), (q_1, .inl (c_1, 2, .inl f0)), (q_2, .inl (c_1, 2, .inl f0)), (q_3, .inl (c_1, 2, .inl f0)), (q_4, .inl (c_1, 2, .inl f0)), (q_5, .inl (c_1, 241, .inl f0))] := hD
      refine lv_aload_n hx hb dX2_init_80 rfl (lv_at hl 0 rfl) ?_
      refine lv_iload_n hx hb dX2_init_81 rfl (lv_at hl 3 rfl) ?_
      refine lv_iconst (v := 1) hx hb dX2_init_82 (by decide) ?_
      refine ph_cut (J := 102) (rest := [.ref a0]) (if (1 : Int32) ≤ he then (if he ≤ 30 then he else 30) else 1) (fun z_8 ez_8 => ?_) (fun hJ_8 => ?_)
      · refine va_put (D := (dC, dI)) (ci := 1) (v := .int z_8) (ty := .int) (C := RX2) (T := TX2) (N := 10) hx hb hts in_X2 tyX2 tyX2_ok nmX2 hown hK hP hD hS 0 rfl rfl 2 (by decide) (hts _ q188) (fun _ h9 => h9) rfl (by decide +kernel) rfl rfl (Nat.le_of_ble_eq_true rfl) dX2_init_102 (fun H locs hP hD hS => ?_)
        have hP : va_P (dC, dI) clsL [(a0, .inr (1, [.int z_6, .int z_7, .int z_8, .ref q_1, .ref q_2, .ref q_3, .ref q_4, .int 0, .int 0, .ref q_5])), (q_1, .inl (c_1, 2, .inl f0)), (q_2, .inl (c_1, 2, .inl f0)), (q_3, .inl (c_1, 2, .inl f0)), (q_4, .inl (c_1, 2, .inl f0)), (q_5, .inl (c_1, 241, .inl f0))] H := hP
        have hD : va_D A [(a0, .inr (1, [.int z_6, .int z_7, .int z_8, .ref q_1, .ref q_2, .ref q_3, .ref q_4, .int 0, .int 0, .ref q_5])), (q_1, .inl (c_1, 2, .inl f0)), (q_2, .inl (c_1, 2, .inl f0)), (q_3, .inl (c_1, 2, .inl f0)), (q_4, .inl (c_1, 2, .inl f0)), (q_5, .inl (c_1, 241, .inl f0))] := hD
        refine lv_iconst (v := 0) hx hb dX2_init_105 (by decide) ?_
        refine lv_istore (lv' := [(4, .int 0), (0, .ref a0), (1, .int ki), (2, .int wi), (3, .int he)]) hx hb dX2_init_106 hl (by decide) rfl (fun ls hl => ?_)
        refine lv_iload hx hb dX2_init_108 (lv_at hl 0 rfl) ?_
        refine lv_iconst (v := 2) hx hb dX2_init_110 (by decide) ?_
        refine lv_icmp_ge (tgt := 136) hx hb dX2_init_111 (by decide) (fun c_9 => ?_) (fun c_9 => ?_)
        · exact absurd c_9 (by decide)
        · refine lv_aload_n hx hb dX2_init_114 rfl (lv_at hl 1 rfl) ?_
          refine va_get (D := (dC, dI)) (ci := 1) (v := .ref q_1) (C := RX2) (T := TX2) (N := 10) hx hb hts in_X2 hown hK hP 0 rfl rfl 3 (by decide) (hts _ q189) (fun _ h9 => h9) rfl dX2_init_115 ?_
          refine lv_iload hx hb dX2_init_118 (lv_at hl 0 rfl) ?_
          refine lv_iconst (v := 1) hx hb dX2_init_120 (by decide) ?_
          refine va_iast (f := f0) hx hb hK hP hD hS 1 0 rfl rfl (in2 (Or.inl rfl)) dX2_init_121 (fun H locs hP hD hS => ?_)
          have hP : va_P (dC, dI) clsL [(a0, .inr (1, [.int z_6, .int z_7, .int z_8, .ref q_1, .ref q_2, .ref q_3, .ref q_4, .int 0, .int 0, .ref q_5])), (q_1, .inl (c_1, 2, .inl (upd f0 (0 : Int32).toNatClampNeg 1))), (q_2, .inl (c_1, 2, .inl f0)), (q_3, .inl (c_1, 2, .inl f0)), (q_4, .inl (c_1, 2, .inl f0)), (q_5, .inl (c_1, 241, .inl f0))] H := hP
          have hD : va_D A [(a0, .inr (1, [.int z_6, .int z_7, .int z_8, .ref q_1, .ref q_2, .ref q_3, .ref q_4, .int 0, .int 0, .ref q_5])), (q_1, .inl (c_1, 2, .inl (upd f0 (0 : Int32).toNatClampNeg 1))), (q_2, .inl (c_1, 2, .inl f0)), (q_3, .inl (c_1, 2, .inl f0)), (q_4, .inl (c_1, 2, .inl f0)), (q_5, .inl (c_1, 241, .inl f0))] := hD
          refine lv_aload_n hx hb dX2_init_122 rfl (lv_at hl 1 rfl) ?_
          refine va_get (D := (dC, dI)) (ci := 1) (v := .ref q_4) (C := RX2) (T := TX2) (N := 10) hx hb hts in_X2 hown hK hP 0 rfl rfl 6 (by decide) (hts _ q192) (fun _ h9 => h9) rfl dX2_init_123 ?_
          refine lv_iload hx hb dX2_init_126 (lv_at hl 0 rfl) ?_
          refine lv_iconst (v := 4) hx hb dX2_init_128 (by decide) ?_
          refine va_iast (f := f0) hx hb hK hP hD hS 4 0 rfl rfl (in2 (Or.inl rfl)) dX2_init_129 (fun H locs hP hD hS => ?_)
          have hP : va_P (dC, dI) clsL [(a0, .inr (1, [.int z_6, .int z_7, .int z_8, .ref q_1, .ref q_2, .ref q_3, .ref q_4, .int 0, .int 0, .ref q_5])), (q_1, .inl (c_1, 2, .inl (upd f0 (0 : Int32).toNatClampNeg 1))), (q_2, .inl (c_1, 2, .inl f0)), (q_3, .inl (c_1, 2, .inl f0)), (q_4, .inl (c_1, 2, .inl (upd f0 (0 : Int32).toNatClampNeg 4))), (q_5, .inl (c_1, 241, .inl f0))] H := hP
          have hD : va_D A [(a0, .inr (1, [.int z_6, .int z_7, .int z_8, .ref q_1, .ref q_2, .ref q_3, .ref q_4, .int 0, .int 0, .ref q_5])), (q_1, .inl (c_1, 2, .inl (upd f0 (0 : Int32).toNatClampNeg 1))), (q_2, .inl (c_1, 2, .inl f0)), (q_3, .inl (c_1, 2, .inl f0)), (q_4, .inl (c_1, 2, .inl (upd f0 (0 : Int32).toNatClampNeg 4))), (q_5, .inl (c_1, 241, .inl f0))] := hD
          refine lv_iinc (v := 1) (lv' := [(4, .int 1), (0, .ref a0), (1, .int ki), (2, .int wi), (3, .int he)]) hx hb dX2_init_130 hl (k := 0) rfl (by decide) (by decide) rfl (fun ls hl => ?_)
          refine lv_goto (tgt := 108) hx hb dX2_init_133 (by decide) ?_
          refine lv_iload hx hb dX2_init_108 (lv_at hl 0 rfl) ?_
          refine lv_iconst (v := 2) hx hb dX2_init_110 (by decide) ?_
          refine lv_icmp_ge (tgt := 136) hx hb dX2_init_111 (by decide) (fun c_10 => ?_) (fun c_10 => ?_)
          · exact absurd c_10 (by decide)
          · refine lv_aload_n hx hb dX2_init_114 rfl (lv_at hl 1 rfl) ?_
            refine va_get (D := (dC, dI)) (ci := 1) (v := .ref q_1) (C := RX2) (T := TX2) (N := 10) hx hb hts in_X2 hown hK hP 0 rfl rfl 3 (by decide) (hts _ q189) (fun _ h9 => h9) rfl dX2_init_115 ?_
            refine lv_iload hx hb dX2_init_118 (lv_at hl 0 rfl) ?_
            refine lv_iconst (v := 1) hx hb dX2_init_120 (by decide) ?_
            refine va_iast (f := upd f0 (0 : Int32).toNatClampNeg 1) hx hb hK hP hD hS 1 0 rfl rfl (in2 (Or.inr rfl)) dX2_init_121 (fun H locs hP hD hS => ?_)
            have hP : va_P (dC, dI) clsL [(a0, .inr (1, [.int z_6, .int z_7, .int z_8, .ref q_1, .ref q_2, .ref q_3, .ref q_4, .int 0, .int 0, .ref q_5])), (q_1, .inl (c_1, 2, .inl (upd (upd f0 (0 : Int32).toNatClampNeg 1) (1 : Int32).toNatClampNeg 1))), (q_2, .inl (c_1, 2, .inl f0)), (q_3, .inl (c_1, 2, .inl f0)), (q_4, .inl (c_1, 2, .inl (upd f0 (0 : Int32).toNatClampNeg 4))), (q_5, .inl (c_1, 241, .inl f0))] H := hP
            have hD : va_D A [(a0, .inr (1, [.int z_6, .int z_7, .int z_8, .ref q_1, .ref q_2, .ref q_3, .ref q_4, .int 0, .int 0, .ref q_5])), (q_1, .inl (c_1, 2, .inl (upd (upd f0 (0 : Int32).toNatClampNeg 1) (1 : Int32).toNatClampNeg 1))), (q_2, .inl (c_1, 2, .inl f0)), (q_3, .inl (c_1, 2, .inl f0)), (q_4, .inl (c_1, 2, .inl (upd f0 (0 : Int32).toNatClampNeg 4))), (q_5, .inl (c_1, 241, .inl f0))] := hD
            refine lv_aload_n hx hb dX2_init_122 rfl (lv_at hl 1 rfl) ?_
            refine va_get (D := (dC, dI)) (ci := 1) (v := .ref q_4) (C := RX2) (T := TX2) (N := 10) hx hb hts in_X2 hown hK hP 0 rfl rfl 6 (by decide) (hts _ q192) (fun _ h9 => h9) rfl dX2_init_123 ?_
            refine lv_iload hx hb dX2_init_126 (lv_at hl 0 rfl) ?_
            refine lv_iconst (v := 4) hx hb dX2_init_128 (by decide) ?_
            refine va_iast (f := upd f0 (0 : Int32).toNatClampNeg 4) hx hb hK hP hD hS 4 0 rfl rfl (in2 (Or.inr rfl)) dX2_init_129 (fun H locs hP hD hS => ?_)
            have hP : va_P (dC, dI) clsL [(a0, .inr (1, [.int z_6, .int z_7, .int z_8, .ref q_1, .ref q_2, .ref q_3, .ref q_4, .int 0, .int 0, .ref q_5])), (q_1, .inl (c_1, 2, .inl (upd (upd f0 (0 : Int32).toNatClampNeg 1) (1 : Int32).toNatClampNeg 1))), (q_2, .inl (c_1, 2, .inl f0)), (q_3, .inl (c_1, 2, .inl f0)), (q_4, .inl (c_1, 2, .inl (upd (upd f0 (0 : Int32).toNatClampNeg 4) (1 : Int32).toNatClampNeg 4))), (q_5, .inl (c_1, 241, .inl f0))] H := hP
            have hD : va_D A [(a0, .inr (1, [.int z_6, .int z_7, .int z_8, .ref q_1, .ref q_2, .ref q_3, .ref q_4, .int 0, .int 0, .ref q_5])), (q_1, .inl (c_1, 2, .inl (upd (upd f0 (0 : Int32).toNatClampNeg 1) (1 : Int32).toNatClampNeg 1))), (q_2, .inl (c_1, 2, .inl f0)), (q_3, .inl (c_1, 2, .inl f0)), (q_4, .inl (c_1, 2, .inl (upd (upd f0 (0 : Int32).toNatClampNeg 4) (1 : Int32).toNatClampNeg 4))), (q_5, .inl (c_1, 241, .inl f0))] := hD
            refine lv_iinc (v := 2) (lv' := [(4, .int 2), (0, .ref a0), (1, .int ki), (2, .int wi), (3, .int he)]) hx hb dX2_init_130 hl (k := 0) rfl (by decide) (by decide) rfl (fun ls hl => ?_)
            refine lv_goto (tgt := 108) hx hb dX2_init_133 (by decide) ?_
            refine lv_iload hx hb dX2_init_108 (lv_at hl 0 rfl) ?_
            refine lv_iconst (v := 2) hx hb dX2_init_110 (by decide) ?_
            refine lv_icmp_ge (tgt := 136) hx hb dX2_init_111 (by decide) (fun c_11 => ?_) (fun c_11 => ?_)
            · rw [mw_mk] at hP hD
              rw [ez_6, ez_7, ez_8] at hP hD
              exact W.vret hx hb hr (fun t ht hW => ⟨⟨(aX [a0, q_1, q_2, q_3, q_4, q_5], c_1), rfl, rfl, by rw [ht]; exact hP, va_K.moved hW.alike hK, hD⟩, hS.F ht⟩) hS.2.2 dX2_init_136
            · exact absurd c_11 (by decide)
      · refine lv_icmp_ge (tgt := 90) hx hb dX2_init_83 (by decide) (fun c_12 => ?_) (fun c_12 => ?_)
        · refine lv_iload_n hx hb dX2_init_90 rfl (lv_at hl 3 rfl) ?_
          refine lv_bipush (v := 30) hx hb dX2_init_91 (by decide) ?_
          refine lv_icmp_le (tgt := 101) hx hb dX2_init_93 (by decide) (fun c_13 => ?_) (fun c_13 => ?_)
          · refine lv_iload_n hx hb dX2_init_101 rfl (lv_at hl 3 rfl) ?_
            exact hJ_8 _ (by rw [if_pos c_12, if_pos c_13])
          · refine lv_bipush (v := 30) hx hb dX2_init_96 (by decide) ?_
            refine lv_goto (tgt := 102) hx hb dX2_init_98 (by decide) ?_
            exact hJ_8 _ (by rw [if_pos c_12, if_neg c_13])
        · refine lv_iconst (v := 1) hx hb dX2_init_86 (by decide) ?_
          refine lv_goto (tgt := 102) hx hb dX2_init_87 (by decide) ?_
          exact hJ_8 _ (by rw [if_neg c_12])
    · refine lv_icmp_ge (tgt := 65) hx hb dX2_init_58 (by decide) (fun c_14 => ?_) (fun c_14 => ?_)
      · refine lv_iload_n hx hb dX2_init_65 rfl (lv_at hl 2 rfl) ?_
        refine lv_bipush (v := 6) hx hb dX2_init_66 (by decide) ?_
        refine lv_icmp_le (tgt := 76) hx hb dX2_init_68 (by decide) (fun c_15 => ?_) (fun c_15 => ?_)
        · refine lv_iload_n hx hb dX2_init_76 rfl (lv_at hl 2 rfl) ?_
          exact hJ_7 _ (by rw [if_pos c_14, if_pos c_15])
        · refine lv_bipush (v := 6) hx hb dX2_init_71 (by decide) ?_
          refine lv_goto (tgt := 77) hx hb dX2_init_73 (by decide) ?_
          exact hJ_7 _ (by rw [if_pos c_14, if_neg c_15])
      · refine lv_iconst (v := 1) hx hb dX2_init_61 (by decide) ?_
        refine lv_goto (tgt := 77) hx hb dX2_init_62 (by decide) ?_
        exact hJ_7 _ (by rw [if_neg c_14])
  · refine lv_icmp_lt (tgt := 51) hx hb dX2_init_44 (by decide) (fun c_16 => ?_) (fun c_16 => ?_)
    · refine lv_iconst (v := 0) hx hb dX2_init_51 (by decide) ?_
      exact hJ_6 _ (by rw [if_pos c_16])
    · refine lv_iconst (v := 1) hx hb dX2_init_47 (by decide) ?_
      refine lv_goto (tgt := 52) hx hb dX2_init_48 (by decide) ?_
      exact hJ_6 _ (by rw [if_neg c_16])
end
section
/-! numbers: division rounded down, bytes, masks -/
theorem bm {x : Int} (h1 : -2147483648 ≤ x) (h2 : x < 2147483648) : x.bmod (2 ^ 32) = x := Int.bmod_eq_of_le (m := 4294967296) (n := x) (by omega) (by omega)
theorem td_r (n d : Int) (hd : 0 < d) : n.tdiv d * d + n.tmod d = n ∧ n.tmod d < d ∧ -d < n.tmod d ∧ (0 ≤ n → 0 ≤ n.tmod d) ∧ (n ≤ 0 → n.tmod d ≤ 0) := by
  refine ⟨by rw [Int.mul_comm]; exact Int.mul_tdiv_add_tmod n d, Int.tmod_lt_of_pos n hd, Int.lt_tmod_of_pos n hd, Int.tmod_nonneg d, fun h => ?_⟩
  have h1 := Int.tmod_nonneg (a := -n) d (by omega)
  rw [Int.neg_tmod] at h1
  omega
theorem fl_unique {n d q r : Int} (hd : 0 < d) (h : q * d + r = n) (h0 : 0 ≤ r) (h1 : r < d) : n / d = q :=
  ((Int.ediv_emod_unique (a := n) (b := d) (r := r) (q := q) hd).mpr ⟨by rw [Int.mul_comm d q]; omega, h0, h1⟩).1
theorem fl_core (n d : Int32) (hd : 0 < d.toInt) : (n / d).toInt = n.toInt.tdiv d.toInt ∧ (n / d * d).toInt = n.toInt.tdiv d.toInt * d.toInt ∧ (n - n / d * d).toInt = n.toInt - n.toInt.tdiv d.toInt * d.toInt := by
  have hne : d ≠ -1 := fun h => by rw [h] at hd; exact absurd hd (by decide)
  have hq : (n / d).toInt = n.toInt.tdiv d.toInt := Int32.toInt_div_of_ne_right n d hne
  obtain ⟨r1, r2, r3, r4, r5⟩ := td_r n.toInt d.toInt hd
  have n1 := n.le_toInt
  have n2 := n.toInt_lt
  have d2 := d.toInt_lt
  have hqd : (n / d * d).toInt = n.toInt.tdiv d.toInt * d.toInt := by
    rw [Int32.toInt_mul, hq, bm]
    · rcases Int.le_total 0 n.toInt with h | h
      · have := r4 h
        omega
      · have := r5 h
        omega
    · rcases Int.le_total 0 n.toInt with h | h
      · have := r4 h
        omega
      · have := r5 h
        omega
  refine ⟨hq, hqd, ?_⟩
  rw [Int32.toInt_sub, hqd, bm]
  · omega
  · omega
theorem fl_low {q d r n : Int} (h : q * d + r = n) (hq : -2147483648 ≤ q) (hn : -2147483648 ≤ n) (hd : 0 < d) (hr : r < 0) : -2147483648 ≤ q - 1 := by
  rcases Int.lt_or_le (-2147483648) q with h1 | h1
  · omega
  · have e : q = -2147483648 := by omega
    subst e
    omega
theorem fl_dec (n d : Int32) (hd : 0 < d.toInt) (hr : ¬ 0 ≤ n.toInt - n.toInt.tdiv d.toInt * d.toInt) : (n / d - 1).toInt = n.toInt / d.toInt := by
  obtain ⟨h1, h2, h3⟩ := fl_core n d hd
  obtain ⟨r1, r2, r3, r4, r5⟩ := td_r n.toInt d.toInt hd
  have q1 := (n / d).le_toInt
  have q2 := (n / d).toInt_lt
  rw [h1] at q1 q2
  have n1 := n.le_toInt
  have lo := fl_low r1 (by omega) (by omega) hd (by omega)
  have one : (1 : Int32).toInt = 1 := by decide
  rw [Int32.toInt_sub, h1, one, bm lo (by omega)]
  exact (fl_unique (q := n.toInt.tdiv d.toInt - 1) (r := n.toInt.tmod d.toInt + d.toInt) hd (by rw [Int.sub_mul]; omega) (by omega) (by omega)).symm
theorem fl_same (n d : Int32) (hd : 0 < d.toInt) (hr : 0 ≤ n.toInt - n.toInt.tdiv d.toInt * d.toInt) : (n / d).toInt = n.toInt / d.toInt := by
  obtain ⟨h1, h2, h3⟩ := fl_core n d hd
  obtain ⟨r1, r2, r3, r4, r5⟩ := td_r n.toInt d.toInt hd
  rw [h1]
  exact (fl_unique (q := n.toInt.tdiv d.toInt) (r := n.toInt.tmod d.toInt) hd (by omega) (by omega) (by omega)).symm
theorem pos_nle {d : Int32} (hd : 0 < d.toInt) : ¬ d ≤ 0 := by
  rw [Int32.le_iff_toInt_le]
  have : (0 : Int32).toInt = 0 := by decide
  omega
theorem m_floor_toInt (n d : Int32) (hd : 0 < d.toInt) : (m_floor n d).toInt = n.toInt / d.toInt := by
  obtain ⟨h1, h2, h3⟩ := fl_core n d hd
  have z : (0 : Int32).toInt = 0 := by decide
  simp only [m_floor, if_neg (pos_nle hd)]
  split
  · rename_i h
    rw [Int32.le_iff_toInt_le, h3, z] at h
    exact fl_same n d hd h
  · rename_i h
    rw [Int32.le_iff_toInt_le, h3, z] at h
    exact fl_dec n d hd h
theorem x_floor_toInt (n d : Int32) (hd : 0 < d.toInt) : (x_floor n d).toInt = n.toInt / d.toInt := by
  obtain ⟨h1, h2, h3⟩ := fl_core n d hd
  simp only [x_floor, if_neg (pos_nle hd)]
  split
  · rename_i h
    rw [Int32.le_iff_toInt_le, h2] at h
    exact fl_same n d hd (by omega)
  · rename_i h
    rw [Int32.le_iff_toInt_le, h2] at h
    exact fl_dec n d hd (by omega)
theorem x_m_floor (n d : Int32) (hd : 0 < d.toInt) : x_floor n d = m_floor n d := Int32.toInt_inj.mp (by rw [x_floor_toInt n d hd, m_floor_toInt n d hd])
theorem by16 : ∀ n : Nat, n < 16 → vp_nar .byte (nI n).toInt8.toInt32 = nI n := by decide
theorem ix31 {T : Nat} (h : T < 1000) : ((nI T + 1) &&& 31).toNatClampNeg = (T + 1) % 32 := by
  rw [nI_1, pk_andN (n := T + 1) (by omega) (m := 31) 5 (by decide), nI_clamp (by omega)]
theorem ix31' {T : Nat} (h : T < 1000) : (nI T &&& 31).toNatClampNeg = T % 32 := by
  rw [pk_andN (n := T) (by omega) (m := 31) 5 (by decide), nI_clamp (by omega)]
theorem ix8 {a r : Nat} (ha : a < 2) (hr : r < 1000) : (nI a * 8 + (nI r &&& 7)).toNatClampNeg = a * 8 + r % 8 := by
  rw [pk_andN (n := r) (by omega) (m := 7) 3 (by decide), show (8 : Int32) = nI 8 from rfl, pk_mul, nI_add, nI_clamp (by omega)]
theorem nI_pos0 {n : Nat} (h0 : 0 < n) (h : n < 2 ^ 31) : 0 < (nI n).toInt := by
  rw [nI_toInt h]
  omega
end
section
/-! one archive of the object: what its arrays hold behind S steps -/
def K5 (x : SS) (a : Nat) (f : Nat × Int32 × Int32 × Int32 × Int32) : Prop := x.2 16 a = nI f.1 ∧ (f.1 ≠ 0 → x.2 17 a = f.2.1 ∧ x.2 18 a = f.2.2.1 ∧ x.2 19 a = f.2.2.2.1 ∧ x.2 20 a = f.2.2.2.2)
def AR (x : SS) (a : Nat) (s : Nat → Int32) (S sp : Nat) (rl tl : Int32) : Prop := x.2 11 a = nI sp ∧ x.2 12 a = rl ∧ x.2 13 a = tl ∧ x.2 15 a = nI (S % sp) ∧ K5 x a (rF s (S / sp * sp) (S % sp)) ∧ x.2 21 a = nI (S / sp) ∧ ∀ r : Nat, r < S / sp → S / sp ≤ r + 8 → x.2 22 (a * 8 + r % 8) = rowV s sp rl tl r
theorem kn16 {x : SS} {a v : Int32} : (x_known1 x a v).2 16 = upd (x.2 16) a.toNatClampNeg (vp_nar .byte (x.2 16 a.toNatClampNeg + 1).toInt8.toInt32) := by
  rw [x_known1, sa_s]
theorem kn20 {x : SS} {a v : Int32} : (x_known1 x a v).2 20 = upd (x.2 20) a.toNatClampNeg v := by
  rw [x_known1, sa_n (by decide), sa_s]
theorem kn19 {x : SS} {a v : Int32} : (x_known1 x a v).2 19 = upd (x.2 19) a.toNatClampNeg (if x_first (x.2 16 a.toNatClampNeg) = 0 then (if v ≤ x.2 19 a.toNatClampNeg then x.2 19 a.toNatClampNeg else v) else v) := by
  rw [x_known1, sa_n (by decide), sa_n (by decide), sa_s]
theorem kn18 {x : SS} {a v : Int32} : (x_known1 x a v).2 18 = upd (x.2 18) a.toNatClampNeg (if x_first (x.2 16 a.toNatClampNeg) = 0 then (if x.2 18 a.toNatClampNeg ≤ v then x.2 18 a.toNatClampNeg else v) else v) := by
  rw [x_known1, sa_n (by decide), sa_n (by decide), sa_n (by decide), sa_s]
theorem kn17 {x : SS} {a v : Int32} : (x_known1 x a v).2 17 = upd (x.2 17) a.toNatClampNeg (if x_first (x.2 16 a.toNatClampNeg) = 0 then x.2 17 a.toNatClampNeg + v else v) := by
  rw [x_known1, sa_n (by decide), sa_n (by decide), sa_n (by decide), sa_n (by decide), sa_s]
theorem kn_o {x : SS} {a v : Int32} {k : Nat} (h6 : k ≠ 16) (h7 : k ≠ 17) (h8 : k ≠ 18) (h9 : k ≠ 19) (h0 : k ≠ 20) : (x_known1 x a v).2 k = x.2 k := by
  rw [x_known1, sa_n h6, sa_n h0, sa_n h9, sa_n h8, sa_n h7]
theorem cr22 {x : SS} {a : Int32} : (x_closeRow x a).2 22 = upd (x.2 22) (a * 8 + (x.2 21 a.toNatClampNeg &&& 7)).toNatClampNeg (x_rowValue x a) := by
  rw [x_closeRow, sa_n (by decide), sa_n (by decide), sa_n (by decide), sa_s]
theorem cr21 {x : SS} {a : Int32} : (x_closeRow x a).2 21 = upd (x.2 21) a.toNatClampNeg (x.2 21 a.toNatClampNeg + 1) := by
  rw [x_closeRow, sa_n (by decide), sa_n (by decide), sa_s]
theorem cr15 {x : SS} {a : Int32} : (x_closeRow x a).2 15 = upd (x.2 15) a.toNatClampNeg (vp_nar .byte 0) := by
  rw [x_closeRow, sa_n (by decide), sa_s]
theorem cr16 {x : SS} {a : Int32} : (x_closeRow x a).2 16 = upd (x.2 16) a.toNatClampNeg (vp_nar .byte 0) := by
  rw [x_closeRow, sa_s]
theorem cr_o {x : SS} {a : Int32} {k : Nat} (h5 : k ≠ 15) (h6 : k ≠ 16) (h1 : k ≠ 21) (h2 : k ≠ 22) : (x_closeRow x a).2 k = x.2 k := by
  rw [x_closeRow, sa_n h6, sa_n h5, sa_n h1, sa_n h2]
theorem rF_zero (s : Nat → Int32) (lo i : Nat) (h : (rF s lo i).1 = 0) : rF s lo i = (0, 0, 0, 0, 0) := by
  induction i with
  | zero => rfl
  | succ i ih =>
    rw [rF] at h ⊢
    split
    · rename_i c
      rw [if_pos c] at h
      exact ih h
    · rename_i c
      rw [if_neg c] at h
      exact absurd h (Nat.succ_ne_zero _)
theorem first1 {n : Nat} (h : n = 0) : ¬ x_first (nI n) = 0 := by
  subst h
  decide
theorem first0 {n : Nat} (h : n ≠ 0) (hn : n < 2 ^ 31) : x_first (nI n) = 0 := by
  rw [x_first, if_neg (fun q => h ((nI0 hn).mp q))]
theorem K5_step {x : SS} {a : Nat} {s : Nat → Int32} {lo i : Nat} {v : Int32} (ha : a < 2) (hi : i ≤ 8) (h : K5 x a (rF s lo i)) (hv : v = s (lo + i)) : K5 (if v = -100000 then x else x_known1 x (nI a) v) a (rF s lo (i + 1)) := by
  by_cases c : v = -100000
  · rw [if_pos c, rF, if_pos (by rw [← hv]; exact c)]
    exact h
  · rw [if_neg c, rF, if_neg (by rw [← hv]; exact c)]
    have ea : (nI a).toNatClampNeg = a := nI_clamp (by omega)
    obtain ⟨h16, hr⟩ := h
    have hb := rF_le s lo i
    refine ⟨?_, fun _ => ?_⟩
    · show (x_known1 x (nI a) v).2 16 a = nI ((rF s lo i).1 + 1)
      rw [kn16, ea, pk_us, h16, nI_1, by16 _ (by omega)]
    · show (x_known1 x (nI a) v).2 17 a = (rF s lo i).2.1 + s (lo + i) ∧ (x_known1 x (nI a) v).2 18 a = (if (rF s lo i).1 = 0 then s (lo + i) else if (rF s lo i).2.2.1 ≤ s (lo + i) then (rF s lo i).2.2.1 else s (lo + i)) ∧ (x_known1 x (nI a) v).2 19 a = (if (rF s lo i).1 = 0 then s (lo + i) else if s (lo + i) ≤ (rF s lo i).2.2.2.1 then (rF s lo i).2.2.2.1 else s (lo + i)) ∧ (x_known1 x (nI a) v).2 20 a = s (lo + i)
      rw [kn17, kn18, kn19, kn20, ea, pk_us, pk_us, pk_us, pk_us, h16, ← hv]
      by_cases z : (rF s lo i).1 = 0
      · rw [if_neg (first1 z), if_neg (first1 z), if_neg (first1 z), if_pos z, if_pos z, rF_zero s lo i z]
        exact ⟨(Int32.zero_add v).symm, rfl, rfl, rfl⟩
      · obtain ⟨g1, g2, g3, g4⟩ := hr z
        rw [if_pos (first0 z (by omega)), if_pos (first0 z (by omega)), if_pos (first0 z (by omega)), if_neg z, if_neg z, g1, g2, g3]
        exact ⟨rfl, rfl, rfl, rfl⟩
theorem row_val {z : SS} {a : Nat} {f : Nat × Int32 × Int32 × Int32 × Int32} {sp : Nat} {rl tl : Int32} (ha : a < 2) (h1 : z.2 11 a = nI sp) (h2 : z.2 12 a = rl) (h3 : z.2 13 a = tl) (h4 : K5 z a f) (hf : f.1 ≤ 8) : x_rowValue z (nI a) = rowF f sp rl tl := by
  have ea : (nI a).toNatClampNeg = a := nI_clamp (by omega)
  rw [x_rowValue, rowF, ea, h1, h2, h3, h4.1, if0 (by omega)]
  by_cases q : f.1 = 0
  · rw [if_pos q, if_pos q]
  · obtain ⟨g1, g2, g3, g4⟩ := h4.2 q
    rw [if_neg q, if_neg q, g1, g2, g3, g4, x_m_floor _ _ (nI_pos0 (by omega) (by omega))]
theorem dm_step {S sp : Nat} (hsp : 1 ≤ sp) (h : S % sp + 1 = sp) : (S + 1) / sp = S / sp + 1 ∧ (S + 1) % sp = 0 := by
  have e := Nat.div_add_mod S sp
  have e2 : S + 1 = sp * (S / sp + 1) := by rw [Nat.mul_add, Nat.mul_one]; omega
  rw [e2]
  exact ⟨Nat.mul_div_cancel_left _ (by omega), Nat.mul_mod_right _ _⟩
theorem dm_stay {S sp : Nat} (hsp : 1 ≤ sp) (h : ¬ S % sp + 1 = sp) : (S + 1) / sp = S / sp ∧ (S + 1) % sp = S % sp + 1 := by
  have e := Nat.div_add_mod S sp
  have l := Nat.mod_lt S (show sp > 0 by omega)
  have e2 : S + 1 = sp * (S / sp) + (S % sp + 1) := by omega
  constructor
  · conv => lhs; rw [e2]
    rw [Nat.mul_add_div (by omega), Nat.div_eq_of_lt (show S % sp + 1 < sp by omega), Nat.add_zero]
  · conv => lhs; rw [e2]
    rw [Nat.mul_add_mod, Nat.mod_eq_of_lt (show S % sp + 1 < sp by omega)]
theorem ky_o {x : SS} {a v : Int32} {k : Nat} (h6 : k ≠ 16) (h7 : k ≠ 17) (h8 : k ≠ 18) (h9 : k ≠ 19) (h0 : k ≠ 20) : (if v = -100000 then x else x_known1 x a v).2 k = x.2 k := by
  split
  · rfl
  · exact kn_o h6 h7 h8 h9 h0
theorem as_tail (x : SS) (a v : Int32) : x_addStep x a v = x_tail (if v = -100000 then x else x_known1 x a v) (x.2 15) (x.2 11) a := by
  rw [x_addStep]
  split <;> rfl
theorem r8_ne {r q : Nat} (h1 : r < q) (h2 : q ≤ r + 7) : r % 8 ≠ q % 8 := by omega
theorem AR_step {x : SS} {a : Nat} {s : Nat → Int32} {S sp : Nat} {rl tl v : Int32} (ha : a < 2) (hsp : 1 ≤ sp) (hsp4 : sp ≤ 4) (hS : S ≤ 240) (h : AR x a s S sp rl tl) (hv : v = s S) : AR (x_addStep x (nI a) v) a s (S + 1) sp rl tl := by
  have ea : (nI a).toNatClampNeg = a := nI_clamp (by omega)
  obtain ⟨h11, h12, h13, h15, h5, h21, h22⟩ := h
  have e := Nat.div_add_mod S sp
  have e' : S / sp * sp = sp * (S / sp) := Nat.mul_comm _ _
  have l := Nat.mod_lt S (show sp > 0 by omega)
  have lq : S / sp ≤ S := Nat.div_le_self S sp
  have hy5 := K5_step ha (show S % sp ≤ 8 by omega) h5 (show v = s (S / sp * sp + S % sp) by rw [hv]; congr 1; omega)
  rw [as_tail]
  have y11 : (if v = -100000 then x else x_known1 x (nI a) v).2 11 = x.2 11 := ky_o (by decide) (by decide) (by decide) (by decide) (by decide)
  have y12 : (if v = -100000 then x else x_known1 x (nI a) v).2 12 = x.2 12 := ky_o (by decide) (by decide) (by decide) (by decide) (by decide)
  have y13 : (if v = -100000 then x else x_known1 x (nI a) v).2 13 = x.2 13 := ky_o (by decide) (by decide) (by decide) (by decide) (by decide)
  have y21 : (if v = -100000 then x else x_known1 x (nI a) v).2 21 = x.2 21 := ky_o (by decide) (by decide) (by decide) (by decide) (by decide)
  have y22 : (if v = -100000 then x else x_known1 x (nI a) v).2 22 = x.2 22 := ky_o (by decide) (by decide) (by decide) (by decide) (by decide)
  generalize (if v = -100000 then x else x_known1 x (nI a) v) = y at hy5 y11 y12 y13 y21 y22 ⊢
  have en : vp_nar .byte (x.2 15 a + 1).toInt8.toInt32 = nI (S % sp + 1) := by rw [h15, nI_1, by16 _ (by omega)]
  rw [x_tail, ea, en, pk_us, h11]
  by_cases c : S % sp + 1 = sp
  · obtain ⟨d1, d2⟩ := dm_step hsp c
    rw [if_pos (by rw [c])]
    generalize hz : sa y 15 (upd (x.2 15) a (nI (S % sp + 1))) = z
    have z_o : ∀ k : Nat, k ≠ 15 → z.2 k = y.2 k := fun k hk => by rw [← hz, sa_n hk]
    have zK : K5 z a (rF s (S / sp * sp) (S % sp + 1)) := by
      unfold K5
      rw [z_o 16 (by decide), z_o 17 (by decide), z_o 18 (by decide), z_o 19 (by decide), z_o 20 (by decide)]
      exact hy5
    have hrv : x_rowValue z (nI a) = rowV s sp rl tl (S / sp) := by
      rw [rowV]
      rw [c] at zK
      exact row_val ha (by rw [z_o 11 (by decide), y11]; exact h11) (by rw [z_o 12 (by decide), y12]; exact h12) (by rw [z_o 13 (by decide), y13]; exact h13) zK (Nat.le_trans (rF_le _ _ _) (by omega))
    have z21 : z.2 21 a = nI (S / sp) := by rw [z_o 21 (by decide), y21]; exact h21
    have n0 : vp_nar .byte 0 = 0 := by decide
    refine ⟨?_, ?_, ?_, ?_, ?_, ?_, ?_⟩
    · rw [cr_o (by decide) (by decide) (by decide) (by decide), z_o 11 (by decide), y11]; exact h11
    · rw [cr_o (by decide) (by decide) (by decide) (by decide), z_o 12 (by decide), y12]; exact h12
    · rw [cr_o (by decide) (by decide) (by decide) (by decide), z_o 13 (by decide), y13]; exact h13
    · rw [cr15, ea, pk_us, d2, n0]; exact nI_0.symm
    · rw [d2]
      refine ⟨?_, fun q => absurd rfl q⟩
      rw [cr16, ea, pk_us, n0]
      exact nI_0.symm
    · rw [cr21, ea, pk_us, z21, d1]
      exact nI_1 _
    · intro r hr1 hr2
      rw [d1] at hr1 hr2
      rw [cr22, ea, z21, ix8 ha (by omega), hrv]
      by_cases hq : r = S / sp
      · rw [hq, pk_us]
      · rw [pk_un (by have := r8_ne (show r < S / sp by omega) (by omega); omega), z_o 22 (by decide), y22]
        exact h22 r (by omega) (by omega)
  · obtain ⟨d1, d2⟩ := dm_stay hsp c
    rw [if_neg (fun q => c ((nI_eq (by omega) (by omega)).mp q))]
    refine ⟨?_, ?_, ?_, ?_, ?_, ?_, ?_⟩
    · rw [sa_n (by decide), y11]; exact h11
    · rw [sa_n (by decide), y12]; exact h12
    · rw [sa_n (by decide), y13]; exact h13
    · rw [sa_s, pk_us, d2]
    · rw [d1, d2]
      unfold K5
      rw [sa_n (by decide), sa_n (by decide), sa_n (by decide), sa_n (by decide), sa_n (by decide)]
      exact hy5
    · rw [sa_n (by decide), y21, d1]; exact h21
    · intro r hr1 hr2
      rw [d1] at hr1 hr2
      rw [sa_n (by decide), y22]
      exact h22 r hr1 hr2
/-- what a step of the archive a leaves alone -/
theorem tail_o {y : SS} {g15 g11 : Nat → Int32} {a : Int32} {k : Nat} (h5 : k ≠ 15) (h6 : k ≠ 16) (h1 : k ≠ 21) (h2 : k ≠ 22) : (x_tail y g15 g11 a).2 k = y.2 k := by
  rw [x_tail]
  split
  · rw [cr_o h5 h6 h1 h2, sa_n h5]
  · rw [sa_n h5]
theorem addStep_o {x : SS} {a v : Int32} {k : Nat} (h : k < 15 ∨ 22 < k) : (x_addStep x a v).2 k = x.2 k := by
  rw [as_tail, tail_o (by omega) (by omega) (by omega) (by omega)]
  exact ky_o (by omega) (by omega) (by omega) (by omega) (by omega)
theorem addStep_1 (x : SS) (a v : Int32) : (x_addStep x a v).1 = x.1 := by
  have kn : (if v = -100000 then x else x_known1 x a v).1 = x.1 := by
    split
    · rfl
    · rfl
  rw [as_tail, x_tail]
  split
  · exact kn
  · exact kn
theorem ky_b {x : SS} {a : Nat} {v : Int32} (ha : a < 2) {b k : Nat} (hb : b ≠ a) : (if v = -100000 then x else x_known1 x (nI a) v).2 k b = x.2 k b := by
  have ea : (nI a).toNatClampNeg = a := nI_clamp (by omega)
  split
  · rfl
  · by_cases h6 : k = 16
    · rw [h6, kn16, ea, pk_un hb]
    · by_cases h7 : k = 17
      · rw [h7, kn17, ea, pk_un hb]
      · by_cases h8 : k = 18
        · rw [h8, kn18, ea, pk_un hb]
        · by_cases h9 : k = 19
          · rw [h9, kn19, ea, pk_un hb]
          · by_cases h0 : k = 20
            · rw [h0, kn20, ea, pk_un hb]
            · rw [kn_o h6 h7 h8 h9 h0]
theorem addStep_b {x : SS} {a : Nat} {v : Int32} (ha : a < 2) {b k : Nat} (hb : b ≠ a) (hk : k ≠ 22) : (x_addStep x (nI a) v).2 k b = x.2 k b := by
  have ea : (nI a).toNatClampNeg = a := nI_clamp (by omega)
  rw [as_tail, ← ky_b (x := x) (v := v) ha (k := k) hb]
  have y15 : (if v = -100000 then x else x_known1 x (nI a) v).2 15 = x.2 15 := ky_o (by decide) (by decide) (by decide) (by decide) (by decide)
  generalize (if v = -100000 then x else x_known1 x (nI a) v) = y at y15 ⊢
  rw [x_tail, ea, ← y15]
  split
  · by_cases h5 : k = 15
    · rw [h5, cr15, ea, pk_un hb, sa_s, pk_un hb]
    · by_cases h6 : k = 16
      · rw [h6, cr16, ea, pk_un hb, sa_n (by decide)]
      · by_cases h1 : k = 21
        · rw [h1, cr21, ea, pk_un hb, sa_n (by decide)]
        · rw [cr_o h5 h6 h1 hk, sa_n h5]
  · by_cases h5 : k = 15
    · rw [h5, sa_s, pk_un hb]
    · rw [sa_n h5]
theorem addStep_22 {x : SS} {a : Nat} {v : Int32} (ha : a < 2) {b j : Nat} (hb : b ≠ a) (hj : j < 8) : (x_addStep x (nI a) v).2 22 (b * 8 + j) = x.2 22 (b * 8 + j) := by
  have y22 : (if v = -100000 then x else x_known1 x (nI a) v).2 22 = x.2 22 := ky_o (by decide) (by decide) (by decide) (by decide) (by decide)
  rw [as_tail, ← y22]
  generalize (if v = -100000 then x else x_known1 x (nI a) v) = y
  rw [x_tail]
  split
  · rw [cr22, sa_n (by decide)]
    obtain ⟨i, hi, e⟩ := pk_andE ((sa y 15 (upd (x.2 15) (nI a).toNatClampNeg (vp_nar .byte (x.2 15 (nI a).toNatClampNeg + 1).toInt8.toInt32))).2 21 (nI a).toNatClampNeg) (m := 7) 3 (by decide)
    rw [e, show (8 : Int32) = nI 8 from rfl, pk_mul, nI_add, nI_clamp (by omega)]
    exact pk_un (by omega)
  · rw [sa_n (by decide)]
theorem AR_other {x : SS} {a b : Nat} {s : Nat → Int32} {S sp : Nat} {rl tl v : Int32} (ha : a < 2) (hb : b ≠ a) (h : AR x b s S sp rl tl) : AR (x_addStep x (nI a) v) b s S sp rl tl := by
  unfold AR K5 at h ⊢
  rw [addStep_b ha hb (by decide), addStep_b ha hb (by decide), addStep_b ha hb (by decide), addStep_b ha hb (by decide), addStep_b ha hb (by decide), addStep_b ha hb (by decide), addStep_b ha hb (by decide), addStep_b ha hb (by decide), addStep_b ha hb (by decide), addStep_b ha hb (by decide)]
  obtain ⟨h1, h2, h3, h4, h5, h6, h7⟩ := h
  exact ⟨h1, h2, h3, h4, h5, h6, fun r r1 r2 => by rw [addStep_22 ha hb (by omega)]; exact h7 r r1 r2⟩
/-- an archive looks at its own cells alone -/
theorem AR_ext {x y : SS} {a : Nat} {s : Nat → Int32} {S sp : Nat} {rl tl : Int32} (h : AR x a s S sp rl tl) (hx : ∀ k : Nat, 11 ≤ k → y.2 k = x.2 k) : AR y a s S sp rl tl := by
  unfold AR K5 at h ⊢
  rw [hx 11 (by decide), hx 12 (by decide), hx 13 (by decide), hx 15 (by decide), hx 16 (by decide), hx 17 (by decide), hx 18 (by decide), hx 19 (by decide), hx 20 (by decide), hx 21 (by decide), hx 22 (by decide)]
  exact h
theorem rF_congr {s s' : Nat → Int32} {lo n : Nat} (h : ∀ k : Nat, k < lo + n → s k = s' k) : rF s lo n = rF s' lo n := by
  induction n with
  | zero => rfl
  | succ n ih =>
    rw [rF, rF, ih (fun k hk => h k (by omega)), h (lo + n) (by omega)]
theorem rowV_congr {s s' : Nat → Int32} {sp r : Nat} {rl tl : Int32} (h : ∀ k : Nat, k < (r + 1) * sp → s k = s' k) : rowV s sp rl tl r = rowV s' sp rl tl r := by
  rw [rowV, rowV, rF_congr (fun k hk => h k (by rw [Nat.succ_mul]; exact hk))]
theorem AR_congr {x : SS} {a : Nat} {s s' : Nat → Int32} {S sp : Nat} {rl tl : Int32} (hs : ∀ k : Nat, k < S → s k = s' k) (h : AR x a s S sp rl tl) : AR x a s' S sp rl tl := by
  obtain ⟨h1, h2, h3, h4, h5, h6, h7⟩ := h
  have e := Nat.div_add_mod S sp
  have e' : S / sp * sp = sp * (S / sp) := Nat.mul_comm _ _
  refine ⟨h1, h2, h3, h4, ?_, h6, fun r r1 r2 => ?_⟩
  · rw [← rF_congr (fun k hk => hs k (by omega))]
    exact h5
  · rw [← rowV_congr (fun k hk => hs k ?_)]
    · exact h7 r r1 r2
    · have : (r + 1) * sp ≤ S / sp * sp := Nat.mul_le_mul_right sp r1
      omega
end
section
/-! the object behind T moments h 1 .. h T -/
theorem kC_le (h : Nat → Int32) (lo n : Nat) : kC h lo n ≤ n := by
  induction n with
  | zero => exact Nat.le_refl 0
  | succ n ih =>
    rw [kC]
    split <;> omega
theorem kS_congr {h h' : Nat → Int32} {lo n : Nat} (e : ∀ t : Nat, t ≤ lo + n → h t = h' t) : kS h lo n = kS h' lo n := by
  induction n with
  | zero => rfl
  | succ n ih => rw [kS, kS, ih (fun t ht => e t (by omega)), e (lo + n + 1) (by omega)]
theorem kC_congr {h h' : Nat → Int32} {lo n : Nat} (e : ∀ t : Nat, t ≤ lo + n → h t = h' t) : kC h lo n = kC h' lo n := by
  induction n with
  | zero => rfl
  | succ n ih => rw [kC, kC, ih (fun t ht => e t (by omega)), e (lo + n + 1) (by omega)]
theorem stepV_congr {h h' : Nat → Int32} {w K : Nat} (e : ∀ t : Nat, t ≤ K * w + w → h t = h' t) : stepV h w K = stepV h' w K := by
  rw [stepV, stepV, kS_congr e, kC_congr e]
def XJ (x : SS) (h : Nat → Int32) (w T : Nat) (sp : Nat → Nat) (rl tl : Nat → Int32) : Prop := x.1 1 = nI w ∧ x.1 3 = nI T ∧ (∀ t : Nat, 1 ≤ t → t ≤ T → T < t + 32 → x.2 5 (t % 32) = h t) ∧ x.1 6 = nI (T % w) ∧ x.1 7 = nI (T % w - kC h (T / w * w) (T % w)) ∧ x.1 8 = kS h (T / w * w) (T % w) ∧ x.1 9 = nI (T / w) ∧ x.1 10 = (if T / w = 0 then -200000 else stepV h w (T / w - 1)) ∧ ∀ a : Nat, a < 2 → AR x a (stepV h w) (T / w) (sp a) (rl a) (tl a)
theorem am_1 {x : SS} {v : Int32} {k : Nat} (h3 : k ≠ 3) (h6 : k ≠ 6) (h7 : k ≠ 7) (h8 : k ≠ 8) : (x_am2 x v).1 k = x.1 k := by
  rw [x_am2]
  split
  · rw [sv_n h6, sv_n h7, x_am1, sa_1, sv_n h3]
  · rw [sv_n h6, sv_n h8, x_am1, sa_1, sv_n h3]
theorem am_3 {x : SS} {v : Int32} : (x_am2 x v).1 3 = x.1 3 + 1 := by
  rw [x_am2]
  split
  · rw [sv_n (by decide), sv_n (by decide), x_am1, sa_1, sv_s]
  · rw [sv_n (by decide), sv_n (by decide), x_am1, sa_1, sv_s]
theorem am_6 {x : SS} {v : Int32} : (x_am2 x v).1 6 = x.1 6 + 1 := by
  rw [x_am2]
  split
  · rw [sv_s]
  · rw [sv_s]
theorem am_7 {x : SS} {v : Int32} : (x_am2 x v).1 7 = if v = -100000 then x.1 7 + 1 else x.1 7 := by
  rw [x_am2]
  split
  · rw [sv_n (by decide), sv_s]
  · rw [sv_n (by decide), sv_n (by decide), x_am1, sa_1, sv_n (by decide)]
theorem am_8 {x : SS} {v : Int32} : (x_am2 x v).1 8 = if v = -100000 then x.1 8 else x.1 8 + v := by
  rw [x_am2]
  split
  · rw [sv_n (by decide), sv_n (by decide), x_am1, sa_1, sv_n (by decide)]
  · rw [sv_n (by decide), sv_s]
theorem am_a5 {x : SS} {v : Int32} : (x_am2 x v).2 5 = upd (x.2 5) ((x.1 3 + 1) &&& 31).toNatClampNeg v := by
  rw [x_am2]
  split
  · rw [sv_2, sv_2, x_am1, sa_s]
  · rw [sv_2, sv_2, x_am1, sa_s]
theorem am_a {x : SS} {v : Int32} {k : Nat} (h5 : k ≠ 5) : (x_am2 x v).2 k = x.2 k := by
  rw [x_am2]
  split
  · rw [sv_2, sv_2, x_am1, sa_n h5, sv_2]
  · rw [sv_2, sv_2, x_am1, sa_n h5, sv_2]
theorem cs_1 (y : SS) : (x_closeStep y).1 = (sv (sv (sv (sv (sv y 10 (x_stepVal y)) 9 (y.1 9 + 1)) 6 0) 7 0) 8 0).1 := by
  rw [x_closeStep, addStep_1, addStep_1]
theorem cs_a {y : SS} {k : Nat} (h : k < 15 ∨ 22 < k) : (x_closeStep y).2 k = y.2 k := by
  rw [x_closeStep, addStep_o h, addStep_o h]
  rfl
/-- what an update leaves alone -/
theorem addMoment_1 {x : SS} {v : Int32} {k : Nat} (h3 : k < 3 ∨ k = 4) : (x_addMoment x v).1 k = x.1 k := by
  have y := am_1 (x := x) (v := v) (k := k) (by omega) (by omega) (by omega) (by omega)
  rw [x_addMoment]
  split
  · rw [cs_1, sv_n (by omega), sv_n (by omega), sv_n (by omega), sv_n (by omega), sv_n (by omega)]
    exact y
  · exact y
theorem addMoment_a {x : SS} {v : Int32} {k : Nat} (h : 6 ≤ k ∧ k < 15) : (x_addMoment x v).2 k = x.2 k := by
  have y := am_a (x := x) (v := v) (k := k) (by omega)
  rw [x_addMoment]
  split
  · rw [cs_a (Or.inl h.2)]
    exact y
  · exact y
theorem stepVal_eq {y : SS} {w C : Nat} {S : Int32} (hw1 : 1 ≤ w) (hw2 : w ≤ 6) (hC : C ≤ w) (h1 : y.1 1 = nI w) (h7 : y.1 7 = nI (w - C)) (h8 : y.1 8 = S) : x_stepVal y = if nI w < 2 * (nI w - nI C) then -100000 else m_floor S (nI C) := by
  rw [x_stepVal, h1, h7, h8, pk_sub hC, pk_sub (by omega), show w - (w - C) = C by omega]
  by_cases q : nI w < 2 * nI (w - C)
  · rw [if_pos q, if_pos q]
  · rw [if_neg q, if_neg q]
    rw [show (2 : Int32) = nI 2 from rfl, pk_mul] at q
    have q2 : ¬ w < 2 * (w - C) := fun z => q (nI_lt z (by omega))
    exact x_m_floor _ _ (nI_pos0 (by omega) (by omega))
theorem addMoment_XJ {x : SS} {h : Nat → Int32} {w T : Nat} {sp : Nat → Nat} {rl tl : Nat → Int32} {v : Int32} (hw1 : 1 ≤ w) (hw2 : w ≤ 6) (hsp : ∀ a : Nat, a < 2 → 1 ≤ sp a ∧ sp a ≤ 4) (hT : T < 240) (H : XJ x h w T sp rl tl) : XJ (x_addMoment x v) (upd h (T + 1) v) w (T + 1) sp rl tl := by
  obtain ⟨h1, h3, hR, h6, h7, h8, h9, h10, hA⟩ := H
  have hh : ∀ t : Nat, t ≤ T → h t = upd h (T + 1) v t := fun t ht => (pk_un (by omega)).symm
  have hv : upd h (T + 1) v (T + 1) = v := pk_us
  have e := Nat.div_add_mod T w
  have e' : T / w * w = w * (T / w) := Nat.mul_comm _ _
  have l := Nat.mod_lt T (show w > 0 by omega)
  have lq : T / w ≤ T := Nat.div_le_self T w
  have hcl := kC_le h (T / w * w) (T % w)
  have eS : kS h (T / w * w) (T % w) = kS (upd h (T + 1) v) (T / w * w) (T % w) := kS_congr (fun t ht => hh t (by omega))
  have eC : kC h (T / w * w) (T % w) = kC (upd h (T + 1) v) (T / w * w) (T % w) := kC_congr (fun t ht => hh t (by omega))
  have eT : T / w * w + T % w + 1 = T + 1 := by omega
  have hs : ∀ k : Nat, k < T / w → stepV h w k = stepV (upd h (T + 1) v) w k := fun k hk => stepV_congr (fun t ht => hh t (by
    have : (k + 1) * w ≤ T / w * w := Nat.mul_le_mul_right w hk
    rw [Nat.succ_mul] at this
    omega))
  -- the state behind x_am2
  have y1 : (x_am2 x v).1 1 = nI w := by rw [am_1 (by decide) (by decide) (by decide) (by decide)]; exact h1
  have y3 : (x_am2 x v).1 3 = nI (T + 1) := by rw [am_3, h3]; exact nI_1 T
  have y6 : (x_am2 x v).1 6 = nI (T % w + 1) := by rw [am_6, h6]; exact nI_1 _
  have y7 : (x_am2 x v).1 7 = nI (T % w + 1 - kC (upd h (T + 1) v) (T / w * w) (T % w + 1)) := by
    rw [am_7, kC, eT, hv, ← eC, h7]
    split
    · rw [nI_1]; congr 1; omega
    · congr 1; omega
  have y8 : (x_am2 x v).1 8 = kS (upd h (T + 1) v) (T / w * w) (T % w + 1) := by
    rw [am_8, kS, eT, hv, ← eS, h8]
  have y9 : (x_am2 x v).1 9 = nI (T / w) := by rw [am_1 (by decide) (by decide) (by decide) (by decide)]; exact h9
  have y10 : (x_am2 x v).1 10 = (if T / w = 0 then -200000 else stepV h w (T / w - 1)) := by rw [am_1 (by decide) (by decide) (by decide) (by decide)]; exact h10
  have yR : ∀ t : Nat, 1 ≤ t → t ≤ T + 1 → T + 1 < t + 32 → (x_am2 x v).2 5 (t % 32) = upd h (T + 1) v t := fun t t1 t2 t3 => by
    rw [am_a5, h3, ix31 (by omega)]
    by_cases c : t = T + 1
    · rw [c, pk_us, pk_us]
    · rw [pk_un (show t % 32 ≠ (T + 1) % 32 by omega), pk_un c]
      exact hR t t1 (by omega) (by omega)
  have yA : ∀ a : Nat, a < 2 → AR (x_am2 x v) a (stepV (upd h (T + 1) v) w) (T / w) (sp a) (rl a) (tl a) := fun a ha => AR_ext (AR_congr hs (hA a ha)) (fun k hk => am_a (by omega))
  rw [x_addMoment, h6, h1]
  generalize hy : x_am2 x v = y at y1 y3 y6 y7 y8 y9 y10 yR yA ⊢
  by_cases c : T % w + 1 = w
  · obtain ⟨d1, d2⟩ := dm_step hw1 c
    rw [if_pos (by rw [nI_1, c])]
    rw [c] at y7 y8
    have hval : x_stepVal y = stepV (upd h (T + 1) v) w (T / w) := stepVal_eq hw1 hw2 (kC_le _ _ _) y1 y7 y8
    have hz : (0 : Int32) = nI 0 := nI_0.symm
    have ho : (1 : Int32) = nI 1 := rfl
    refine ⟨?_, ?_, ?_, ?_, ?_, ?_, ?_, ?_, ?_⟩
    · rw [cs_1, sv_n (by decide), sv_n (by decide), sv_n (by decide), sv_n (by decide), sv_n (by decide)]; exact y1
    · rw [cs_1, sv_n (by decide), sv_n (by decide), sv_n (by decide), sv_n (by decide), sv_n (by decide)]; exact y3
    · intro t t1 t2 t3
      rw [cs_a (by decide)]
      exact yR t t1 t2 t3
    · rw [cs_1, sv_n (by decide), sv_n (by decide), sv_s, d2]; exact hz
    · rw [cs_1, sv_n (by decide), sv_s, d2]; exact hz
    · rw [cs_1, sv_s, d2]; rfl
    · rw [cs_1, sv_n (by decide), sv_n (by decide), sv_n (by decide), sv_s, y9, d1]; exact nI_1 _
    · rw [cs_1, sv_n (by decide), sv_n (by decide), sv_n (by decide), sv_n (by decide), sv_s, d1, if_neg (Nat.succ_ne_zero _), hval]; rfl
    · intro a ha
      rw [x_closeStep, d1, hval, hz, ho]
      generalize hu : sv (sv (sv (sv (sv y 10 (stepV (upd h (T + 1) v) w (T / w))) 9 (y.1 9 + nI 1)) 6 (nI 0)) 7 (nI 0)) 8 (nI 0) = u
      have uA : ∀ b : Nat, b < 2 → AR u b (stepV (upd h (T + 1) v) w) (T / w) (sp b) (rl b) (tl b) := fun b hb => AR_ext (yA b hb) (fun k _ => by rw [← hu]; rfl)
      rcases (show a = 0 ∨ a = 1 by omega) with rfl | rfl
      · exact AR_other (by decide) (by decide) (AR_step (by decide) (hsp 0 ha).1 (hsp 0 ha).2 (by omega) (uA 0 ha) rfl)
      · exact AR_step (by decide) (hsp 1 ha).1 (hsp 1 ha).2 (by omega) (AR_other (by decide) (by decide) (uA 1 ha)) rfl
  · obtain ⟨d1, d2⟩ := dm_stay hw1 c
    rw [if_neg (fun q => c ((nI_eq (by omega) (by omega)).mp (by rw [← nI_1]; exact q)))]
    refine ⟨y1, y3, yR, ?_, ?_, ?_, ?_, ?_, ?_⟩
    · rw [d2]; exact y6
    · rw [d1, d2]; exact y7
    · rw [d1, d2]; exact y8
    · rw [d1]; exact y9
    · rw [d1, y10]
      by_cases z : T / w = 0
      · rw [if_pos z, if_pos z]
      · rw [if_neg z, if_neg z]
        exact hs _ (Nat.sub_one_lt z)
    · intro a ha
      rw [d1]
      exact yA a ha
end
section
/-! the range of steps and rows; the answers agree -/
def inR (z : Int32) : Prop := -1000 ≤ z.toInt ∧ z.toInt ≤ 1000
def bd (z : Int32) : Prop := z = -100000 ∨ inR z
theorem add_toInt {a b : Int32} (h1 : -2147483648 ≤ a.toInt + b.toInt) (h2 : a.toInt + b.toInt < 2147483648) : (a + b).toInt = a.toInt + b.toInt := by
  rw [Int32.toInt_add, bm h1 h2]
theorem kS_bd {h : Nat → Int32} {lo n : Nat} (hn : n ≤ 6) (hb : ∀ t : Nat, lo < t → t ≤ lo + n → bd (h t)) : -1000 * (kC h lo n : Int) ≤ (kS h lo n).toInt ∧ (kS h lo n).toInt ≤ 1000 * (kC h lo n : Int) := by
  induction n with
  | zero =>
    show -1000 * ((0 : Nat) : Int) ≤ (0 : Int32).toInt ∧ (0 : Int32).toInt ≤ 1000 * ((0 : Nat) : Int)
    decide
  | succ n ih =>
    obtain ⟨i1, i2⟩ := ih (by omega) (fun t t1 t2 => hb t t1 (by omega))
    have hc := kC_le h lo n
    rw [kS, kC]
    split
    · exact ⟨i1, i2⟩
    · rename_i c
      rcases hb (lo + n + 1) (by omega) (by omega) with q | ⟨q1, q2⟩
      · exact absurd q c
      · rw [add_toInt (by omega) (by omega)]
        constructor <;> omega
theorem floor_bd {n : Int32} {k : Nat} (hk : 1 ≤ k) (hk2 : k ≤ 1000) (h1 : -1000 * (k : Int) ≤ n.toInt) (h2 : n.toInt ≤ 1000 * (k : Int)) : inR (m_floor n (nI k)) := by
  unfold inR
  rw [m_floor_toInt _ _ (nI_pos0 (by omega) (by omega)), nI_toInt (by omega)]
  exact ⟨Int.le_ediv_of_mul_le (by omega) h1, Int.ediv_le_of_le_mul (by omega) h2⟩
theorem stepV_bd {h : Nat → Int32} {w K : Nat} (hw1 : 1 ≤ w) (hw2 : w ≤ 6) (hb : ∀ t : Nat, K * w < t → t ≤ K * w + w → bd (h t)) : bd (stepV h w K) := by
  have hc := kC_le h (K * w) w
  obtain ⟨b1, b2⟩ := kS_bd hw2 hb
  rw [stepV]
  split
  · exact Or.inl rfl
  · rename_i q
    rw [pk_sub hc, show (2 : Int32) = nI 2 from rfl, pk_mul] at q
    have q2 : ¬ w < 2 * (w - kC h (K * w) w) := fun z => q (nI_lt z (by omega))
    exact Or.inr (floor_bd (by omega) (by omega) b1 b2)
theorem rF_bd {s : Nat → Int32} {lo i : Nat} (hi : i ≤ 8) (hb : ∀ k : Nat, lo ≤ k → k < lo + i → bd (s k)) : (-1000 * ((rF s lo i).1 : Int) ≤ (rF s lo i).2.1.toInt ∧ (rF s lo i).2.1.toInt ≤ 1000 * ((rF s lo i).1 : Int)) ∧ ((rF s lo i).1 ≠ 0 → inR (rF s lo i).2.2.1 ∧ inR (rF s lo i).2.2.2.1 ∧ inR (rF s lo i).2.2.2.2) := by
  induction i with
  | zero =>
    refine ⟨?_, fun q => absurd rfl q⟩
    show -1000 * ((0 : Nat) : Int) ≤ (0 : Int32).toInt ∧ (0 : Int32).toInt ≤ 1000 * ((0 : Nat) : Int)
    decide
  | succ i ih =>
    obtain ⟨⟨i1, i2⟩, i3⟩ := ih (by omega) (fun k k1 k2 => hb k k1 (by omega))
    have hc := rF_le s lo i
    by_cases c : s (lo + i) = -100000
    · rw [rF, if_pos c]
      exact ⟨⟨i1, i2⟩, i3⟩
    · rw [rF, if_neg c]
      have hv : inR (s (lo + i)) := by
        rcases hb (lo + i) (by omega) (by omega) with q | q
        · exact absurd q c
        · exact q
      refine ⟨?_, fun _ => ⟨?_, ?_, hv⟩⟩
      · show -1000 * (((rF s lo i).1 + 1 : Nat) : Int) ≤ ((rF s lo i).2.1 + s (lo + i)).toInt ∧ ((rF s lo i).2.1 + s (lo + i)).toInt ≤ 1000 * (((rF s lo i).1 + 1 : Nat) : Int)
        obtain ⟨v1, v2⟩ := hv
        rw [add_toInt (by omega) (by omega)]
        constructor <;> omega
      · show inR (if (rF s lo i).1 = 0 then s (lo + i) else if (rF s lo i).2.2.1 ≤ s (lo + i) then (rF s lo i).2.2.1 else s (lo + i))
        by_cases z : (rF s lo i).1 = 0
        · rw [if_pos z]; exact hv
        · rw [if_neg z]
          split
          · exact (i3 z).1
          · exact hv
      · show inR (if (rF s lo i).1 = 0 then s (lo + i) else if s (lo + i) ≤ (rF s lo i).2.2.2.1 then (rF s lo i).2.2.2.1 else s (lo + i))
        by_cases z : (rF s lo i).1 = 0
        · rw [if_pos z]; exact hv
        · rw [if_neg z]
          split
          · exact (i3 z).2.1
          · exact hv
theorem rowV_bd {s : Nat → Int32} {sp r : Nat} {rl tl : Int32} (hsp : sp ≤ 4) (hb : ∀ k : Nat, r * sp ≤ k → k < r * sp + sp → bd (s k)) : bd (rowV s sp rl tl r) := by
  obtain ⟨⟨b1, b2⟩, b3⟩ := rF_bd (s := s) (lo := r * sp) (i := sp) (by omega) hb
  have hc := rF_le s (r * sp) sp
  rw [rowV, rowF]
  by_cases z : (rF s (r * sp) sp).1 = 0
  · rw [if_pos z]; exact Or.inl rfl
  · obtain ⟨c1, c2, c3⟩ := b3 z
    rw [if_neg z]
    split
    · split
      · exact Or.inr (floor_bd (by omega) (by omega) b1 b2)
      · split
        · exact Or.inr c1
        · split
          · exact Or.inr c2
          · exact Or.inr c3
    · exact Or.inl rfl
/-- the two objects agree -/
def Rl (x m : SS) (w T : Nat) (sp rm : Nat → Nat) : Prop := mI m w T sp ∧ XJ x (m.2 9) w T sp (m.2 4) (m.2 5) ∧ x.1 0 = m.1 0 ∧ x.1 2 = m.1 2 ∧ (¬ m.1 0 = 0 → x.1 4 = m.1 8 ∧ ∃ k : Nat, k ≤ 255 ∧ m.1 8 = nI k) ∧ (∀ a : Nat, a < 2 → 1 ≤ rm a ∧ rm a ≤ 8 ∧ x.2 14 a = nI (rm a) ∧ m.2 6 a = nI (rm a)) ∧ ∀ t : Nat, 1 ≤ t → t ≤ T → bd (m.2 9 t)
section ANS
variable {x m : SS} {w T : Nat} {sp rm : Nat → Nat}
theorem an_time (R : Rl x m w T sp rm) : x.1 3 = m.1 7 := by
  rw [R.2.1.2.1, R.1.2.2.2.1]
theorem an_steps (R : Rl x m w T sp rm) : x.1 9 = m.1 7 / m.1 1 := by
  rw [m_steps_e R.1]
  exact R.2.1.2.2.2.2.2.2.1
theorem an_pend (R : Rl x m w T sp rm) : x.1 6 = m_pend m := by
  obtain ⟨g1, g2, g3, g4, g5, -⟩ := R.1
  rw [m_pend, g1, g4, pk_rem (by omega) (by omega) (by omega)]
  exact R.2.1.2.2.2.1
theorem an_pendSum (R : Rl x m w T sp rm) : x.1 8 = m_pendSum m w T := R.2.1.2.2.2.2.2.1
theorem an_last (R : Rl x m w T sp rm) : x.1 10 = m_lastStep m w := by
  have hT := R.1.2.2.2.2.1
  have lq : T / w ≤ T := Nat.div_le_self T w
  rw [R.2.1.2.2.2.2.2.2.2.1, m_lastStep, m_steps_e R.1, if0 (by omega)]
  by_cases z : T / w = 0
  · rw [if_pos z, if_pos z]
  · rw [if_neg z, if_neg z]
    obtain ⟨k, hk⟩ : ∃ k, T / w = k + 1 := ⟨T / w - 1, (Nat.sub_add_cancel (Nat.pos_of_ne_zero z)).symm⟩
    rw [hk, nI_pred, nI_clamp (by omega)]
    rfl
theorem an_moment (R : Rl x m w T sp rm) (t : Int32) : x_moment x t = m_moment m t := by
  have hT := R.1.2.2.2.2.1
  have e7 := R.1.2.2.2.1
  have e3 := R.2.1.2.1
  rw [x_moment, m_moment, e3, e7]
  by_cases c1 : t < 1
  · rw [if_pos c1, if_pos c1]
  · rw [if_neg c1, if_neg c1]
    by_cases c2 : nI T < t
    · rw [if_pos c2, if_pos c2]
    · rw [if_neg c2, if_neg c2]
      have p0 : ¬ t < 0 := fun q => c1 (by
        rw [Int32.lt_iff_toInt_lt] at q ⊢
        have z0 : (0 : Int32).toInt = 0 := by decide
        have z1 : (1 : Int32).toInt = 1 := by decide
        omega)
      obtain ⟨j, hj, rfl⟩ := nI_of p0
      have j2 : j ≤ T := by
        rcases Nat.lt_or_ge T j with q | q
        · exact absurd (nI_lt q hj) c2
        · exact q
      have j1 : 1 ≤ j := by
        rcases Nat.eq_zero_or_pos j with q | q
        · subst q
          exact absurd (show nI 0 < 1 by decide) c1
        · exact q
      have k1 : nI T - 30 ≤ nI j ↔ T ≤ j + 30 := by
        rw [Int32.le_iff_toInt_le, show (30 : Int32) = nI 30 from rfl, pk_sub_toInt (by omega) (by omega), nI_toInt (by omega)]
        omega
      have k2 : nI T - nI j ≤ 30 ↔ T ≤ j + 30 := by
        rw [pk_sub j2, show (30 : Int32) = nI 30 from rfl, nI_leI (by omega) (by omega)]
        omega
      by_cases c3 : T ≤ j + 30
      · rw [if_pos (k1.mpr c3), if_pos (k2.mpr c3), ix31' (by omega), nI_clamp (by omega)]
        exact R.2.1.2.2.1 j j1 j2 (by omega)
      · rw [if_neg (fun q => c3 (k1.mp q)), if_neg (fun q => c3 (k2.mp q))]
theorem an_rc (R : Rl x m w T sp rm) {a : Int32} (ha : arO a) : x.2 21 a.toNatClampNeg = nI (T / w / sp a.toNatClampNeg) := (R.2.1.2.2.2.2.2.2.2.2 _ (ar_ix ha)).2.2.2.2.2.1
theorem an_rows (R : Rl x m w T sp rm) (a : Int32) : x_rows x a = m_rows m a := by
  by_cases q : x_isA a = 0
  · rw [m_rows_no q, x_rows, if_pos q]
  · rw [m_rows_e R.1 (x_isA_ok q), x_rows, if_neg q]
    exact an_rc R (x_isA_ok q)
theorem ar_and {a : Int32} (ha : arO a) : a &&& 1 = a := by
  rcases ha with rfl | rfl <;> decide
theorem rows_le (R : Rl x m w T sp rm) (a : Nat) : T / w / sp a ≤ 240 := by
  have hT := R.1.2.2.2.2.1
  have l1 : T / w ≤ T := Nat.div_le_self T w
  have l2 : T / w / sp a ≤ T / w := Nat.div_le_self _ _
  omega
/-- a kept row -/
theorem an_kept (R : Rl x m w T sp rm) {a : Int32} (ha : arO a) {j : Nat} (h1 : j < T / w / sp a.toNatClampNeg) (h2 : T / w / sp a.toNatClampNeg ≤ j + rm a.toNatClampNeg) : x.2 22 (a * 8 + (nI j &&& 7)).toNatClampNeg = rowV (stepV (m.2 9) w) (sp a.toNatClampNeg) (m.2 4 a.toNatClampNeg) (m.2 5 a.toNatClampNeg) j := by
  have hr := R.2.2.2.2.2.1 _ (ar_ix ha)
  have hN := rows_le R a.toNatClampNeg
  have e := (R.2.1.2.2.2.2.2.2.2.2 _ (ar_ix ha)).2.2.2.2.2.2 j h1 (by omega)
  have ea := ar_nI ha
  have i8 : (a * 8 + (nI j &&& 7)).toNatClampNeg = a.toNatClampNeg * 8 + j % 8 := by
    conv => lhs; rw [ea]
    exact ix8 (a := a.toNatClampNeg) (r := j) (ar_ix ha) (by omega)
  rw [← e, i8]
theorem an_row (R : Rl x m w T sp rm) (a r : Int32) : x_row x a r = m_row m w sp a r := by
  rw [x_row, m_row]
  by_cases q : x_isA a = 0
  · rw [if_pos q, m_rows_no q]
    by_cases c : r < 0
    · rw [if_pos c]
    · rw [if_neg c, if_pos (by
        rw [Int32.lt_iff_toInt_lt] at c
        rw [Int32.le_iff_toInt_le]
        omega)]
  · have ha := x_isA_ok q
    have hr := R.2.2.2.2.2.1 _ (ar_ix ha)
    have hN := rows_le R a.toNatClampNeg
    rw [if_neg q, m_rows_e R.1 ha, an_rc R ha, ar_and ha, hr.2.2.1, hr.2.2.2]
    by_cases c1 : r < 0
    · rw [if_pos c1, if_pos c1]
    · rw [if_neg c1, if_neg c1]
      by_cases c2 : nI (T / w / sp a.toNatClampNeg) ≤ r
      · rw [if_pos c2, if_pos c2]
      · rw [if_neg c2, if_neg c2]
        by_cases c3 : nI (T / w / sp a.toNatClampNeg) - nI (rm a.toNatClampNeg) ≤ r
        · rw [if_pos c3, if_pos c3]
          obtain ⟨j, hj, rfl⟩ := nI_of c1
          have j1 : j < T / w / sp a.toNatClampNeg := by
            rcases Nat.lt_or_ge j (T / w / sp a.toNatClampNeg) with z | z
            · exact z
            · exact absurd (nI_le z hj) c2
          rw [Int32.le_iff_toInt_le, pk_sub_toInt (by omega) (by omega), nI_toInt hj] at c3
          rw [nI_clamp hj]
          exact an_kept R ha j1 (by omega)
        · rw [if_neg c3, if_neg c3]
/-- the first row that is kept -/
theorem an_first (R : Rl x m w T sp rm) {a : Int32} (ha : arO a) : x_firstKept x a = nI (T / w / sp a.toNatClampNeg - rm a.toNatClampNeg) := by
  have hr := R.2.2.2.2.2.1 _ (ar_ix ha)
  have hN := rows_le R a.toNatClampNeg
  rw [x_firstKept, an_rc R ha, hr.2.2.1]
  by_cases c : rm a.toNatClampNeg ≤ T / w / sp a.toNatClampNeg
  · rw [pk_sub c, if_pos (nI_pos' (by omega))]
  · rw [if_neg (fun q => by
      have z := pk_sneg (a := T / w / sp a.toNatClampNeg) (b := rm a.toNatClampNeg) (by omega) (by omega)
      rw [Int32.lt_iff_toInt_lt] at z
      rw [Int32.le_iff_toInt_le] at q
      omega), show T / w / sp a.toNatClampNeg - rm a.toNatClampNeg = 0 by omega]
    exact nI_0.symm
/-- the model's row: none before the first kept -/
theorem m_row_lo (R : Rl x m w T sp rm) {a : Int32} (ha : arO a) {j : Nat} (h : j < T / w / sp a.toNatClampNeg - rm a.toNatClampNeg) : m_row m w sp a (nI j) = -200000 := by
  have hr := R.2.2.2.2.2.1 _ (ar_ix ha)
  have hN := rows_le R a.toNatClampNeg
  rw [m_row, m_rows_e R.1 ha, ar_and ha, hr.2.2.2, if_neg (nI_pos (by omega)), if_neg (nI_ge (by omega) (by omega)), if_neg]
  rw [pk_sub (by omega)]
  exact nI_ge h (by omega)
theorem m_row_hi (R : Rl x m w T sp rm) {a : Int32} (ha : arO a) {j : Nat} (h1 : j < T / w / sp a.toNatClampNeg) (h2 : T / w / sp a.toNatClampNeg ≤ j + rm a.toNatClampNeg) : m_row m w sp a (nI j) = rowV (stepV (m.2 9) w) (sp a.toNatClampNeg) (m.2 4 a.toNatClampNeg) (m.2 5 a.toNatClampNeg) j := by
  have hr := R.2.2.2.2.2.1 _ (ar_ix ha)
  have hN := rows_le R a.toNatClampNeg
  rw [m_row, m_rows_e R.1 ha, ar_and ha, hr.2.2.2, if_neg (nI_pos (by omega)), if_neg (nI_ge h1 (by omega)), if_pos, nI_clamp (by omega)]
  rw [Int32.le_iff_toInt_le, pk_sub_toInt (by omega) (by omega), nI_toInt (by omega)]
  omega
theorem row_bd (R : Rl x m w T sp rm) {a : Int32} (ha : arO a) {j : Nat} (h1 : j < T / w / sp a.toNatClampNeg) : bd (rowV (stepV (m.2 9) w) (sp a.toNatClampNeg) (m.2 4 a.toNatClampNeg) (m.2 5 a.toNatClampNeg) j) := by
  obtain ⟨-, g2, g3, -, g5, g6⟩ := R.1
  obtain ⟨-, s1, s2⟩ := g6 _ (ar_ix ha)
  have k1 : (j + 1) * sp a.toNatClampNeg ≤ T / w := (Nat.le_div_iff_mul_le (by omega)).mp h1
  rw [Nat.succ_mul] at k1
  refine rowV_bd s2 (fun k k2 k3 => stepV_bd g2 g3 (fun t t1 t2 => R.2.2.2.2.2.2 t (by omega) ?_))
  have k4 : (k + 1) * w ≤ T := (Nat.le_div_iff_mul_le (by omega)).mp (show k + 1 ≤ T / w by omega)
  rw [Nat.succ_mul] at k4
  omega
theorem m_pkL_add (g : Int32 → Int32) : ∀ (n1 n2 r : Nat) (b : Int32), m_pkL g (n1 + n2) (nI r) b = m_pkL g n2 (nI (r + n1)) (m_pkL g n1 (nI r) b) := by
  intro n1
  induction n1 with
  | zero => intro n2 r b; rw [Nat.zero_add]; rfl
  | succ n1 ih =>
    intro n2 r b
    rw [show n1 + 1 + n2 = (n1 + n2) + 1 by omega, m_pkL, m_pkL, nI_1, ih, show r + 1 + n1 = r + (n1 + 1) by omega]
theorem m_knL_add (g : Int32 → Int32) : ∀ (n1 n2 r : Nat) (b : Int32), m_knL g (n1 + n2) (nI r) b = m_knL g n2 (nI (r + n1)) (m_knL g n1 (nI r) b) := by
  intro n1
  induction n1 with
  | zero => intro n2 r b; rw [Nat.zero_add]; rfl
  | succ n1 ih =>
    intro n2 r b
    rw [show n1 + 1 + n2 = (n1 + n2) + 1 by omega, m_knL, m_knL, nI_1, ih, show r + 1 + n1 = r + (n1 + 1) by omega]
theorem m_pkL_lo (g : Int32 → Int32) : ∀ (n r : Nat), (∀ k : Nat, k < r + n → r ≤ k → g (nI k) = -200000) → m_pkL g n (nI r) (-100000) = -100000 := by
  intro n
  induction n with
  | zero => intro r _; rfl
  | succ n ih =>
    intro r h
    rw [m_pkL, h r (by omega) (Nat.le_refl r), if_pos (by decide), nI_1]
    exact ih (r + 1) (fun k k1 k2 => h k (by omega) (by omega))
theorem m_knL_lo (g : Int32 → Int32) : ∀ (n r : Nat) (b : Int32), (∀ k : Nat, k < r + n → r ≤ k → g (nI k) = -200000) → m_knL g n (nI r) b = b := by
  intro n
  induction n with
  | zero => intro r b _; rfl
  | succ n ih =>
    intro r b h
    rw [m_knL, h r (by omega) (Nat.le_refl r), if_pos (by decide), nI_1, Int32.add_zero]
    exact ih (r + 1) b (fun k k1 k2 => h k (by omega) (by omega))
theorem pkL_eq {x : SS} {a : Int32} (g : Int32 → Int32) : ∀ (n r : Nat) (b : Int32), (∀ k : Nat, k < r + n → r ≤ k → g (nI k) = x.2 22 (a * 8 + (nI k &&& 7)).toNatClampNeg) → x_pkL x a n (nI r) b = m_pkL g n (nI r) b := by
  intro n
  induction n with
  | zero => intro r b _; rfl
  | succ n ih =>
    intro r b h
    rw [x_pkL, m_pkL, h r (by omega) (Nat.le_refl r), nI_1]
    exact ih (r + 1) _ (fun k k1 k2 => h k (by omega) (by omega))
theorem kn_one {v b : Int32} (h : bd v) : (if v = -100000 then b else b + 1) = b + (if v ≤ -100000 then 0 else 1) := by
  by_cases c : v = -100000
  · rw [if_pos c, if_pos (by rw [c]; decide), Int32.add_zero]
  · rw [if_neg c, if_neg]
    rcases h with q | ⟨q, -⟩
    · exact absurd q c
    · rw [Int32.le_iff_toInt_le]
      have z : (-100000 : Int32).toInt = -100000 := by decide
      omega
theorem knL_eq {x : SS} {a : Int32} (g : Int32 → Int32) : ∀ (n r : Nat) (b : Int32), (∀ k : Nat, k < r + n → r ≤ k → g (nI k) = x.2 22 (a * 8 + (nI k &&& 7)).toNatClampNeg ∧ bd (g (nI k))) → x_knL x a n (nI r) b = m_knL g n (nI r) b := by
  intro n
  induction n with
  | zero => intro r b _; rfl
  | succ n ih =>
    intro r b h
    obtain ⟨h1, h2⟩ := h r (by omega) (Nat.le_refl r)
    rw [x_knL, m_knL, ← h1, kn_one h2, nI_1]
    exact ih (r + 1) _ (fun k k1 k2 => h k (by omega) (by omega))
theorem an_peak (R : Rl x m w T sp rm) (a : Int32) : x_peak x a (T / w / sp a.toNatClampNeg) (T / w / sp a.toNatClampNeg - rm a.toNatClampNeg) = m_peak m w sp a := by
  rw [x_peak, m_peak]
  by_cases q : x_isA a = 0
  · rw [if_pos q, if_pos q]
  · have ha := x_isA_ok q
    have hN := rows_le R a.toNatClampNeg
    rw [if_neg q, if_neg q, m_rows_e R.1 ha, nI_clamp (by omega)]
    generalize hF : T / w / sp a.toNatClampNeg - rm a.toNatClampNeg = F
    have e : T / w / sp a.toNatClampNeg = F + (T / w / sp a.toNatClampNeg - F) := (Nat.add_sub_of_le (by rw [← hF]; exact Nat.sub_le _ _)).symm
    have lo := m_pkL_lo (m_row m w sp a) F 0 (fun k k1 _ => m_row_lo R ha (by omega))
    conv => rhs; rw [e, show (0 : Int32) = nI 0 from nI_0.symm, m_pkL_add, lo, Nat.zero_add]
    exact pkL_eq (m_row m w sp a) _ F _ (fun k k1 k2 => by
      rw [m_row_hi R ha (by omega) (by omega)]
      exact (an_kept R ha (by omega) (by omega)).symm)
theorem an_known (R : Rl x m w T sp rm) (a : Int32) : x_known x a (T / w / sp a.toNatClampNeg) (T / w / sp a.toNatClampNeg - rm a.toNatClampNeg) = m_known m w sp a := by
  rw [x_known, m_known]
  by_cases q : x_isA a = 0
  · rw [if_pos q, m_rows_no q]
    rfl
  · have ha := x_isA_ok q
    have hN := rows_le R a.toNatClampNeg
    rw [if_neg q, m_rows_e R.1 ha, nI_clamp (by omega)]
    generalize hF : T / w / sp a.toNatClampNeg - rm a.toNatClampNeg = F
    have e : T / w / sp a.toNatClampNeg = F + (T / w / sp a.toNatClampNeg - F) := (Nat.add_sub_of_le (by rw [← hF]; exact Nat.sub_le _ _)).symm
    have lo := m_knL_lo (m_row m w sp a) F 0 0 (fun k k1 _ => m_row_lo R ha (by omega))
    rw [← nI_0] at lo ⊢
    conv => rhs; rw [e, m_knL_add, lo, Nat.zero_add]
    exact knL_eq (m_row m w sp a) _ F _ (fun k k1 k2 => by
      rw [m_row_hi R ha (by omega) (by omega)]
      exact ⟨(an_kept R ha (by omega) (by omega)).symm, row_bd R ha (by omega)⟩)
end ANS
end
section
/-! the two objects stay in step: shape, update, the start -/
theorem as_0 {x : SS} {h : Nat → Int32} {w : Nat} {sp : Nat → Nat} {rl tl : Nat → Int32} (X : XJ x h w 0 sp rl tl) {b : Nat} (hb : b < 2) : x.2 15 b = nI 0 ∧ x.2 16 b = nI 0 ∧ x.2 21 b = nI 0 := by
  obtain ⟨-, -, -, h15, h5, h21, -⟩ := X.2.2.2.2.2.2.2.2 b hb
  rw [Nat.zero_div, Nat.zero_mod] at h15
  rw [Nat.zero_div, Nat.zero_div] at h21
  have h16 := h5.1
  rw [Nat.zero_div, Nat.zero_div, Nat.zero_mul, Nat.zero_mod] at h16
  exact ⟨h15, h16, h21⟩
theorem AR_0 {x : SS} {a : Nat} {s : Nat → Int32} {sp : Nat} {rl tl : Int32} (h1 : x.2 11 a = nI sp) (h2 : x.2 12 a = rl) (h3 : x.2 13 a = tl) (h4 : x.2 15 a = nI 0) (h5 : x.2 16 a = nI 0) (h6 : x.2 21 a = nI 0) : AR x a s 0 sp rl tl := by
  unfold AR
  rw [Nat.zero_mod, Nat.zero_div, Nat.zero_mul]
  exact ⟨h1, h2, h3, h4, ⟨h5, fun q => absurd rfl q⟩, h6, fun r hr => absurd hr (Nat.not_lt_zero r)⟩
theorem small_of {z : Int32} {lo hi : Nat} (h1 : ¬ z < nI lo) (h2 : ¬ nI hi < z) (hh : hi < 2 ^ 31) (hl : lo < 2 ^ 31) : ∃ j : Nat, lo ≤ j ∧ j ≤ hi ∧ z = nI j := by
  have p0 : ¬ z < 0 := fun q => h1 (by
    rw [Int32.lt_iff_toInt_lt] at q ⊢
    rw [nI_toInt hl]
    have z0 : (0 : Int32).toInt = 0 := by decide
    omega)
  obtain ⟨j, hj, rfl⟩ := nI_of p0
  refine ⟨j, ?_, ?_, rfl⟩
  · rcases Nat.lt_or_ge j lo with q | q
    · exact absurd (nI_lt q hl) h1
    · exact q
  · rcases Nat.lt_or_ge hi j with q | q
    · exact absurd (nI_lt q hj) h2
    · exact q
theorem and_nn (y : Int32) : ¬ y &&& 7 < nI 0 := by
  obtain ⟨j, hj, e⟩ := pk_andE y (m := 7) 3 (by decide)
  rw [e]
  exact nI_pos (by omega)
section SHP
variable {x m : SS} {w T : Nat} {sp rm : Nat → Nat}
theorem sh_set {a p : Int32} (ha : arO a) (R : Rl x m w 0 sp rm) (c1 : ¬ p &&& 7 < 1) (c2 : ¬ (4 : Int32) < p &&& 7) (c3 : ¬ (3 : Int32) < (p >>> (3 &&& 31)) &&& 7) (c4 : ¬ (3 : Int32) < (p >>> (6 &&& 31)) &&& 7) (c5 : ¬ p >>> (9 &&& 31) < 1) (c6 : p >>> (9 &&& 31) ≤ 8) : ∃ sp' rm' : Nat → Nat, Rl (x_shSet x a p) (m_shSet m a p) w 0 sp' rm' := by
  obtain ⟨A, A1, A2, eA⟩ := small_of (lo := 1) (hi := 4) c1 c2 (by decide) (by decide)
  obtain ⟨B, B1, B2, eB⟩ := small_of (lo := 0) (hi := 3) (and_nn _) c3 (by decide) (by decide)
  obtain ⟨C, C1, C2, eC⟩ := small_of (lo := 0) (hi := 3) (and_nn _) c4 (by decide) (by decide)
  have c6' : ¬ nI 8 < p >>> (9 &&& 31) := fun q => by
    rw [Int32.lt_iff_toInt_lt] at q
    rw [Int32.le_iff_toInt_le] at c6
    have z : (nI 8).toInt = (8 : Int32).toInt := rfl
    omega
  obtain ⟨D, D1, D2, eD⟩ := small_of (lo := 1) (hi := 8) c5 c6' (by decide) (by decide)
  obtain ⟨I, X, r0, r2, r4, rR, rB⟩ := R
  have hi := ar_ix ha
  have q15 := fun b hb => as_0 X (b := b) hb
  obtain ⟨g1, g2, g3, g4, g5, g6⟩ := I
  have X0 := X
  obtain ⟨x1, x3, xR, x6, x7, x8, x9, x10, xA⟩ := X
  refine ⟨fun b => if b = a.toNatClampNeg then A else sp b, fun b => if b = a.toNatClampNeg then D else rm b, ⟨g1, g2, g3, g4, g5, ?_⟩, ?_, r0, r2, r4, ?_, fun t t1 t2 => absurd t1 (by omega)⟩
  · intro b hb
    show (m_shSet m a p).2 3 b = nI (if b = a.toNatClampNeg then A else sp b) ∧ 1 ≤ (if b = a.toNatClampNeg then A else sp b) ∧ (if b = a.toNatClampNeg then A else sp b) ≤ 4
    rw [m_shSet, sa_n (by decide), sa_n (by decide), sa_n (by decide), sa_s, eA]
    by_cases q : b = a.toNatClampNeg
    · rw [if_pos q, q, pk_us]
      exact ⟨rfl, A1, A2⟩
    · rw [if_neg q, pk_un q]
      exact g6 b hb
  · refine ⟨x1, x3, ?_, x6, x7, x8, x9, x10, ?_⟩
    · intro t t1 t2
      exact absurd t1 (by omega)
    · intro b hb
      obtain ⟨o11, o12, o13, -⟩ := xA b hb
      obtain ⟨o15, o16, o21⟩ := q15 b hb
      rw [Nat.zero_div]
      have e4 : (m_shSet m a p).2 4 = upd (m.2 4) a.toNatClampNeg (nI B) := by rw [m_shSet, sa_n (by decide), sa_n (by decide), sa_s, eB]
      have e5 : (m_shSet m a p).2 5 = upd (m.2 5) a.toNatClampNeg (nI C) := by rw [m_shSet, sa_n (by decide), sa_s, eC]
      have n11 : (x_shSet x a p).2 11 = upd (x.2 11) a.toNatClampNeg (nI A) := by rw [x_shSet, sa_n (by decide), sa_n (by decide), sa_n (by decide), sa_s, eA, by16 _ (by omega)]
      have n12 : (x_shSet x a p).2 12 = upd (x.2 12) a.toNatClampNeg (nI B) := by rw [x_shSet, sa_n (by decide), sa_n (by decide), sa_s, eB, by16 _ (by omega)]
      have n13 : (x_shSet x a p).2 13 = upd (x.2 13) a.toNatClampNeg (nI C) := by rw [x_shSet, sa_n (by decide), sa_s, eC, by16 _ (by omega)]
      rw [e4, e5]
      by_cases q : b = a.toNatClampNeg
      · refine AR_0 ?_ ?_ ?_ o15 o16 o21
        · show _ = nI (if b = a.toNatClampNeg then A else sp b)
          rw [n11, if_pos q, q, pk_us]
        · rw [n12, q, pk_us, pk_us]
        · rw [n13, q, pk_us, pk_us]
      · refine AR_0 ?_ ?_ ?_ o15 o16 o21
        · show _ = nI (if b = a.toNatClampNeg then A else sp b)
          rw [n11, if_neg q, pk_un q]; exact o11
        · rw [n12, pk_un q, pk_un q]; exact o12
        · rw [n13, pk_un q, pk_un q]; exact o13
  · intro b hb
    have n14 : (x_shSet x a p).2 14 = upd (x.2 14) a.toNatClampNeg (nI D) := by rw [x_shSet, sa_s, eD, by16 _ (by omega)]
    have e6 : (m_shSet m a p).2 6 = upd (m.2 6) a.toNatClampNeg (nI D) := by rw [m_shSet, sa_s, eD]
    rw [n14, e6]
    show 1 ≤ (if b = a.toNatClampNeg then D else rm b) ∧ (if b = a.toNatClampNeg then D else rm b) ≤ 8 ∧ upd (x.2 14) a.toNatClampNeg (nI D) b = nI (if b = a.toNatClampNeg then D else rm b) ∧ upd (m.2 6) a.toNatClampNeg (nI D) b = nI (if b = a.toNatClampNeg then D else rm b)
    by_cases q : b = a.toNatClampNeg
    · rw [if_pos q, q, pk_us, pk_us]
      exact ⟨D1, D2, rfl, rfl⟩
    · rw [if_neg q, pk_un q, pk_un q]
      exact rR b hb
theorem sh_eq (R : Rl x m w T sp rm) (a p : Int32) : (x_shape x a p).1 = (m_shape m a p).1 ∧ ∃ sp' rm' : Nat → Nat, Rl (x_shape x a p).2 (m_shape m a p).2 w T sp' rm' := by
  have no : ∀ {P : Int32 × SS} {Q : Int32 × SS}, P = (0, x) → Q = (0, m) → P.1 = Q.1 ∧ ∃ sp' rm' : Nat → Nat, Rl P.2 Q.2 w T sp' rm' := fun h1 h2 => by
    rw [h1, h2]
    exact ⟨rfl, sp, rm, R⟩
  have e3 := R.2.1.2.1
  have e7 := R.1.2.2.2.1
  have hT := R.1.2.2.2.2.1
  by_cases q : x_isA a = 0
  · exact no (by rw [x_shape, if_pos q]) (by rw [m_shape, if_pos q])
  · rcases Nat.eq_zero_or_pos T with t0 | t0
    · subst t0
      have n7 : ¬ 0 < m.1 7 := by rw [e7]; decide
      have l3 : x.1 3 ≤ 0 := by rw [e3]; decide
      rw [m_shape, if_neg q, m_shB, if_neg n7]
      rw [x_shape, if_neg q]
      by_cases c1 : p &&& 7 < 1
      · exact no (by rw [if_pos (by rw [x_sized, if_pos c1])]) (by rw [if_pos c1])
      · by_cases c2 : (4 : Int32) < p &&& 7
        · exact no (by rw [if_pos (by rw [x_sized, if_neg c1, if_pos c2])]) (by rw [if_neg c1, if_pos c2])
        · by_cases c3 : (3 : Int32) < (p >>> (3 &&& 31)) &&& 7
          · refine no ?_ (by rw [if_neg c1, if_neg c2, if_pos c3])
            by_cases z : x_sized (p &&& 7) (p >>> (9 &&& 31)) = 0
            · rw [if_pos z]
            · rw [if_neg z, if_pos c3]
          · by_cases c4 : (3 : Int32) < (p >>> (6 &&& 31)) &&& 7
            · refine no ?_ (by rw [if_neg c1, if_neg c2, if_neg c3, if_pos c4])
              by_cases z : x_sized (p &&& 7) (p >>> (9 &&& 31)) = 0
              · rw [if_pos z]
              · rw [if_neg z, if_neg c3, if_pos c4]
            · by_cases c5 : p >>> (9 &&& 31) < 1
              · exact no (by rw [if_pos (by rw [x_sized, if_neg c1, if_neg c2, if_pos c5])]) (by rw [if_neg c1, if_neg c2, if_neg c3, if_neg c4, if_pos c5])
              · by_cases c6 : p >>> (9 &&& 31) ≤ 8
                · have c6' : ¬ (8 : Int32) < p >>> (9 &&& 31) := fun z => by
                    rw [Int32.lt_iff_toInt_lt] at z
                    rw [Int32.le_iff_toInt_le] at c6
                    omega
                  rw [if_neg c1, if_neg c2, if_neg c3, if_neg c4, if_neg c5, if_pos c6, if_neg (by rw [x_sized, if_neg c1, if_neg c2, if_neg c5, if_neg c6']; decide), if_neg c3, if_neg c4, if_pos l3]
                  exact ⟨rfl, sh_set (x_isA_ok q) R c1 c2 c3 c4 c5 c6⟩
                · have c6' : (8 : Int32) < p >>> (9 &&& 31) := by
                    rw [Int32.lt_iff_toInt_lt]
                    rw [Int32.le_iff_toInt_le] at c6
                    omega
                  exact no (by rw [if_pos (by rw [x_sized, if_neg c1, if_neg c2, if_neg c5, if_pos c6'])]) (by rw [if_neg c1, if_neg c2, if_neg c3, if_neg c4, if_neg c5, if_neg c6])
    · refine no ?_ (by rw [m_shape, if_neg q, m_shB, if_pos (by rw [e7, ← nI_0]; exact nI_lt t0 (by omega))])
      have l3 : ¬ x.1 3 ≤ 0 := by rw [e3]; exact nI_nle t0 (by omega)
      rw [x_shape, if_neg q]
      by_cases z : x_sized (p &&& 7) (p >>> (9 &&& 31)) = 0
      · rw [if_pos z]
      · by_cases z2 : (3 : Int32) < (p >>> (3 &&& 31)) &&& 7
        · rw [if_neg z, if_pos z2]
        · by_cases z3 : (3 : Int32) < (p >>> (6 &&& 31)) &&& 7
          · rw [if_neg z, if_neg z2, if_pos z3]
          · rw [if_neg z, if_neg z2, if_neg z3, if_neg l3]
end SHP
end
section
/-! update keeps the two objects in step -/
theorem XJ_sv4 {x : SS} {h : Nat → Int32} {w T : Nat} {sp : Nat → Nat} {rl tl : Nat → Int32} {v : Int32} (X : XJ x h w T sp rl tl) : XJ (sv x 4 v) h w T sp rl tl := by
  obtain ⟨x1, x3, xR, x6, x7, x8, x9, x10, xA⟩ := X
  exact ⟨by rw [sv_n (by decide)]; exact x1, by rw [sv_n (by decide)]; exact x3, xR, by rw [sv_n (by decide)]; exact x6, by rw [sv_n (by decide)]; exact x7, by rw [sv_n (by decide)]; exact x8, by rw [sv_n (by decide)]; exact x9, by rw [sv_n (by decide)]; exact x10, fun a ha => AR_ext (xA a ha) (fun k _ => rfl)⟩
/-- what the loops of the two updates do -/
theorem ulp_eq {m : SS} {w T Mn : Nat} {sp : Nat → Nat} {v lost gone d mom : Int32} (hw1 : 1 ≤ w) (hw2 : w ≤ 6) (hsp : ∀ a : Nat, a < 2 → 1 ≤ sp a ∧ sp a ≤ 4) (e7 : m.1 7 = nI T) (hM : T + Mn ≤ 240)
    (hval : ∀ (j : Nat) (x' m' : SS), 1 ≤ j → j ≤ Mn → x'.1 0 = m.1 0 → m'.1 = m.1 → x_uval x' v lost gone mom (nI j) = m_uval m' v d mom (nI j) ∧ bd (m_uval m' v d mom (nI j))) :
    ∀ (n J : Nat) (x' m' : SS), J + n = Mn + 1 → 1 ≤ J → XJ x' (m'.2 9) w (T + J - 1) sp (m.2 4) (m.2 5) → x'.1 0 = m.1 0 → m'.1 = m.1 → (∀ k : Nat, k ≠ 9 → m'.2 k = m.2 k) → (∀ t : Nat, 1 ≤ t → t ≤ T + J - 1 → bd (m'.2 9 t)) →
      XJ (x_ulp v lost gone mom n (nI J) x') ((m_ulp v d mom n (nI J) m').2 9) w (T + Mn) sp (m.2 4) (m.2 5) ∧ (x_ulp v lost gone mom n (nI J) x').1 0 = m.1 0 ∧ (x_ulp v lost gone mom n (nI J) x').1 2 = x'.1 2 ∧ (x_ulp v lost gone mom n (nI J) x').2 14 = x'.2 14 ∧ (m_ulp v d mom n (nI J) m').1 = m.1 ∧ (∀ k : Nat, k ≠ 9 → (m_ulp v d mom n (nI J) m').2 k = m.2 k) ∧ ∀ t : Nat, 1 ≤ t → t ≤ T + Mn → bd ((m_ulp v d mom n (nI J) m').2 9 t) := by
  intro n
  induction n with
  | zero =>
    intro J x' m' hJ hJ1 X h0 hm hk hb
    rw [x_ulp, m_ulp]
    have e : T + J - 1 = T + Mn := by omega
    rw [e] at X hb
    exact ⟨X, h0, rfl, rfl, hm, hk, hb⟩
  | succ n ih =>
    intro J x' m' hJ hJ1 X h0 hm hk hb
    obtain ⟨v1, v2⟩ := hval J x' m' hJ1 (by omega) h0 hm
    rw [x_ulp, m_ulp, nI_1, v1]
    have ei : (m'.1 7 + nI J).toNatClampNeg = T + J := by rw [hm, e7, nI_add, nI_clamp (by omega)]
    rw [ei]
    generalize hy : sa m' 9 (upd (m'.2 9) (T + J) (m_uval m' v d mom (nI J))) = m''
    have y9 : m''.2 9 = upd (m'.2 9) (T + J) (m_uval m' v d mom (nI J)) := by rw [← hy, sa_s]
    have X2 := addMoment_XJ (v := m_uval m' v d mom (nI J)) hw1 hw2 hsp (show T + J - 1 < 240 by omega) X
    rw [show T + J - 1 + 1 = T + J by omega, ← y9] at X2
    obtain ⟨r1, r2, r3, r4, r5, r6, r7⟩ := ih (J + 1) (x_addMoment x' (m_uval m' v d mom (nI J))) m'' (by omega) (by omega) X2 (by rw [addMoment_1 (by decide)]; exact h0) (by rw [← hy, sa_1]; exact hm) (fun k hk9 => by rw [← hy, sa_n hk9]; exact hk k hk9) (fun t t1 t2 => by
      rw [y9]
      by_cases c : t = T + J
      · rw [c, pk_us]; exact v2
      · rw [pk_un c]; exact hb t t1 (by omega))
    exact ⟨r1, r2, by rw [r3, addMoment_1 (by decide)], by rw [r4, addMoment_a (by decide)], r5, r6, r7⟩
theorem fits_v {m : SS} {v : Int32} (h : ¬ m_fits m v = 0) : (m.1 0 = 0 → inR v) ∧ (¬ m.1 0 = 0 → ∃ V : Nat, V ≤ 255 ∧ v = nI V) := by
  rw [m_fits] at h
  constructor
  · intro q
    rw [if_pos q] at h
    by_cases c1 : v < -1000
    · rw [if_pos c1] at h; exact absurd rfl h
    · by_cases c2 : 1000 < v
      · rw [if_neg c1, if_pos c2] at h; exact absurd rfl h
      · rw [Int32.lt_iff_toInt_lt] at c1 c2
        have z1 : (-1000 : Int32).toInt = -1000 := by decide
        have z2 : (1000 : Int32).toInt = 1000 := by decide
        exact ⟨by omega, by omega⟩
  · intro q
    rw [if_neg q] at h
    by_cases c1 : v < 0
    · rw [if_pos c1] at h; exact absurd rfl h
    · by_cases c2 : 255 < v
      · rw [if_neg c1, if_pos c2] at h; exact absurd rfl h
      · obtain ⟨V, -, V2, e⟩ := small_of (lo := 0) (hi := 255) c1 c2 (by decide) (by decide)
        exact ⟨V, V2, e⟩
theorem gone_eq {V k : Nat} (hV : V ≤ 255) (hk : k ≤ 255) : ∃ D : Nat, D ≤ 255 ∧ (nI V - nI k + 256) &&& 255 = nI D ∧ nI V - nI k + 256 - (nI V - nI k + 256) / 256 * 256 = nI D := by
  have e : nI V - nI k + 256 = nI (V + 256 - k) := by
    refine Int32.toInt_inj.mp ?_
    have z : (256 : Int32).toInt = 256 := by decide
    have s := pk_sub_toInt (a := V) (b := k) (by omega) (by omega)
    rw [add_toInt (by omega) (by omega), s, z, nI_toInt (by omega)]
    omega
  refine ⟨(V + 256 - k) % 256, by omega, ?_, ?_⟩
  · rw [e]
    exact pk_andN (n := V + 256 - k) (by omega) (m := 255) 8 (by decide)
  · rw [e]
    exact pk_rem (a := V + 256 - k) (d := 256) (by omega) (by decide) (by decide)
theorem share_bd {D J Mn : Nat} (hD : D ≤ 255) (h1 : 1 ≤ J) (h2 : J ≤ Mn) (hM : Mn ≤ 240) : inR (nI D * nI J / nI Mn - nI D * (nI J - 1) / nI Mn) := by
  obtain ⟨j, rfl⟩ : ∃ j, J = j + 1 := ⟨J - 1, by omega⟩
  have b1 : D * (j + 1) ≤ Mn * D := by rw [Nat.mul_comm Mn D]; exact Nat.mul_le_mul_left D h2
  have b2 : D * j ≤ Mn * D := Nat.le_trans (Nat.mul_le_mul_left D (Nat.le_succ j)) b1
  have c1 : D * (j + 1) / Mn ≤ D := Nat.div_le_of_le_mul b1
  have c2 : D * j / Mn ≤ D := Nat.div_le_of_le_mul b2
  have m1 : D * (j + 1) ≤ 255 * 240 := Nat.mul_le_mul hD (by omega)
  have m2 : D * j ≤ 255 * 240 := Nat.mul_le_mul hD (by omega)
  rw [nI_pred, pk_mul, pk_mul, pk_div (by omega) (by omega) (by omega), pk_div (by omega) (by omega) (by omega)]
  unfold inR
  generalize D * (j + 1) / Mn = g at c1 ⊢
  generalize D * j / Mn = h at c2 ⊢
  rw [pk_sub_toInt (by omega) (by omega)]
  constructor <;> omega
section UPD
variable {x m : SS} {w T : Nat} {sp rm : Nat → Nat}
theorem up_val {v : Int32} {Mn : Nat} (R : Rl x m w T sp rm) (hf : ¬ m_fits m v = 0) (tt : Int32) (eM : tt - nI T = nI Mn) (hM2 : Mn ≤ 240) : ∀ (j : Nat) (x' m' : SS), 1 ≤ j → j ≤ Mn → x'.1 0 = m.1 0 → m'.1 = m.1 → x_uval x' v (x_lost x tt) (x_gone x v) (tt - nI T) (nI j) = m_uval m' v (m_d m v) (tt - nI T) (nI j) ∧ bd (m_uval m' v (m_d m v) (tt - nI T) (nI j)) := by
  intro j x' m' j1 j2 h0 hm
  obtain ⟨f1, f2⟩ := fits_v hf
  have e3 := R.2.1.2.1
  rw [x_uval, m_uval, m_share, hm, h0, x_lost, e3, R.2.2.2.1]
  by_cases c : tt - nI T ≤ m.1 2
  · rw [if_pos c, if_pos c, if_pos rfl]
    by_cases q : m.1 0 = 0
    · rw [if_pos q, if_pos q]
      exact ⟨rfl, Or.inr (f1 q)⟩
    · rw [if_neg q, if_neg q]
      obtain ⟨V, hV, eV⟩ := f2 q
      obtain ⟨r4, k, hk, ek⟩ := R.2.2.2.2.1 q
      obtain ⟨D, hD, d1, d2⟩ := gone_eq hV hk
      have g1 : x_gone x v = nI D := by rw [x_gone, R.2.2.1, if_neg q, r4, ek, eV]; exact d1
      have g2 : m_d m v = nI D := by rw [m_d, ek, eV]; exact d2
      rw [g1, g2, eM]
      exact ⟨rfl, Or.inr (share_bd hD j1 j2 hM2)⟩
  · rw [if_neg c, if_neg c, if_neg (by decide)]
    exact ⟨rfl, Or.inl rfl⟩
theorem up_eq (R : Rl x m w T sp rm) (tt v : Int32) : (x_update x tt v).1 = (m_update m tt v).1 ∧ ∃ T' : Nat, Rl (x_update x tt v).2 (m_update m tt v).2 w T' sp rm := by
  have no : ∀ {P : Int32 × SS} {Q : Int32 × SS}, P = (0, x) → Q = (0, m) → P.1 = Q.1 ∧ ∃ T' : Nat, Rl P.2 Q.2 w T' sp rm := fun h1 h2 => by
    rw [h1, h2]
    exact ⟨rfl, T, R⟩
  have e3 := R.2.1.2.1
  have e7 := R.1.2.2.2.1
  have hT := R.1.2.2.2.2.1
  have hif : x_inRange x v = m_fits m v := by rw [x_inRange, m_fits, R.2.2.1]
  by_cases c1 : tt ≤ x.1 3
  · refine no (by rw [x_update, if_pos c1]) ?_
    rw [m_update]
    by_cases d1 : tt < 1
    · rw [if_pos d1]
    · by_cases d2 : 240 < tt
      · rw [if_neg d1, if_pos d2]
      · rw [if_neg d1, if_neg d2, if_pos (by rw [e7, ← e3]; exact c1)]
  · have d1 : ¬ tt < 1 := fun q => c1 (by
      rw [e3]
      have h1 := nI_pos' (n := T) (by omega)
      rw [Int32.le_iff_toInt_le] at h1 ⊢
      rw [Int32.lt_iff_toInt_lt] at q
      have z0 : (0 : Int32).toInt = 0 := by decide
      have z1 : (1 : Int32).toInt = 1 := by decide
      omega)
    have d3 : ¬ tt ≤ m.1 7 := by rw [e7, ← e3]; exact c1
    by_cases c2 : 240 < tt
    · exact no (by rw [x_update, if_neg c1, if_pos c2]) (by rw [m_update, if_neg d1, if_pos c2])
    · by_cases c3 : m_fits m v = 0
      · exact no (by rw [x_update, if_neg c1, if_neg c2, hif, if_pos c3]) (by rw [m_update, if_neg d1, if_neg c2, if_neg d3, if_pos c3])
      · rw [x_update, if_neg c1, if_neg c2, hif, if_neg c3, m_update, if_neg d1, if_neg c2, if_neg d3, if_neg c3]
        obtain ⟨Mn, eM, M1, M2⟩ := m_mom e7 hT d3 c2
        refine ⟨rfl, T + Mn, ?_⟩
        show Rl (sv (x_ulp v (x_lost x tt) (x_gone x v) (tt - x.1 3) (tt - x.1 3).toNatClampNeg 1 x) 4 v) (m_end (m_ulp v (m_d m v) (tt - m.1 7) (tt - m.1 7).toNatClampNeg 1 m) tt v) w (T + Mn) sp rm
        obtain ⟨I, X, r0, r2, r4, rR, rB⟩ := id R
        obtain ⟨g1, g2, g3, g4, g5, g6⟩ := I
        rw [e7] at eM
        have ett : tt = nI (T + Mn) := by
          have h9 : tt = tt - nI T + nI T := by
            rw [Int32.sub_add_cancel]
          rw [h9, eM, nI_add]
          congr 1
          omega
        obtain ⟨u1, u2, u3, u4, u5, u6, u7⟩ := ulp_eq (m := m) (T := T) (Mn := Mn) (sp := sp) (v := v) (lost := x_lost x tt) (gone := x_gone x v) (d := m_d m v) (mom := tt - nI T) g2 g3 (fun a ha => (g6 a ha).2) e7 M2 (up_val R c3 tt eM (by omega)) Mn 1 x m (by omega) (by omega) X r0 rfl (fun _ _ => rfl) rB
        rw [e3, e7, eM, nI_clamp (by omega), show (1 : Int32) = nI 1 from rfl]
        rw [eM] at u1 u2 u3 u4 u5 u6 u7
        generalize x_ulp v (x_lost x tt) (x_gone x v) (nI Mn) Mn (nI 1) x = x2 at u1 u2 u3 u4 ⊢
        generalize m_ulp v (m_d m v) (nI Mn) Mn (nI 1) m = m2 at u1 u5 u6 u7 ⊢
        have n_2 : (m_end m2 tt v).2 = m2.2 := rfl
        have n_1 : ∀ k : Nat, k ≠ 7 → k ≠ 8 → (m_end m2 tt v).1 k = m.1 k := fun k h7 h8 => by rw [m_end, sv_n h7, sv_n h8, u5]
        have n_7 : (m_end m2 tt v).1 7 = nI (T + Mn) := by rw [m_end, sv_s]; exact ett
        have n_8 : (m_end m2 tt v).1 8 = if m.1 0 = 0 then 0 else v := by rw [m_end, sv_n (by decide), sv_s, u5]
        refine ⟨⟨?_, g2, g3, n_7, M2, ?_⟩, ?_, ?_, ?_, ?_, ?_, ?_⟩
        · rw [n_1 1 (by decide) (by decide)]; exact g1
        · intro i hi
          rw [n_2, u6 3 (by decide)]; exact g6 i hi
        · rw [n_2, u6 4 (by decide), u6 5 (by decide)]
          exact XJ_sv4 u1
        · rw [sv_n (by decide), u2, n_1 0 (by decide) (by decide)]
        · rw [sv_n (by decide), u3, n_1 2 (by decide) (by decide)]; exact r2
        · intro q
          rw [n_1 0 (by decide) (by decide)] at q
          rw [sv_s, n_8, if_neg q]
          obtain ⟨V, hV, eV⟩ := (fits_v c3).2 q
          exact ⟨rfl, V, hV, eV⟩
        · intro a ha
          rw [n_2, u6 6 (by decide), sv_2, u4]
          exact rR a ha
        · intro t t1 t2
          rw [n_2]
          exact u7 t t1 t2
end UPD
end
section
/-! the two objects at their start -/
theorem i_width_ok (wi : Int32) : ∃ w : Nat, 1 ≤ w ∧ w ≤ 6 ∧ i_width wi = nI w := by
  rw [i_width]
  by_cases c1 : 1 ≤ wi
  · rw [if_pos c1]
    by_cases c2 : wi ≤ 6
    · rw [if_pos c2]
      refine small_of (lo := 1) (hi := 6) (z := wi) (fun q => ?_) (fun q => ?_) (by decide) (by decide)
      · rw [Int32.le_iff_toInt_le] at c1
        rw [Int32.lt_iff_toInt_lt] at q
        have z : (nI 1).toInt = (1 : Int32).toInt := rfl
        omega
      · rw [Int32.le_iff_toInt_le] at c2
        rw [Int32.lt_iff_toInt_lt] at q
        have z : (nI 6).toInt = (6 : Int32).toInt := rfl
        omega
    · rw [if_neg c2]
      exact ⟨6, by decide, by decide, rfl⟩
  · rw [if_neg c1]
    exact ⟨1, by decide, by decide, rfl⟩
theorem f2b_1 : ∀ a : Nat, a < 2 → f2b 1 a = nI 1 := by decide
theorem f2b_4 : ∀ a : Nat, a < 2 → f2b 4 a = nI 4 := by decide
theorem f2i_1 : ∀ a : Nat, a < 2 → f2i 1 a = nI 1 := by decide
theorem f2i_4 : ∀ a : Nat, a < 2 → f2i 4 a = nI 4 := by decide
theorem f0_0 (a : Nat) : f0 a = nI 0 := nI_0.symm
theorem start_Rl (ki wi he : Int32) : ∃ (w T : Nat) (sp rm : Nat → Nat), Rl (x_init ki wi he) (m_init ki wi he) w T sp rm := by
  obtain ⟨w, w1, w2, ew⟩ := i_width_ok wi
  refine ⟨w, 0, fun _ => 1, fun _ => 4, ⟨ew, w1, w2, nI_0.symm, by decide, fun i hi => ⟨f2i_1 i hi, (show 1 ≤ 1 by decide), (show 1 ≤ 4 by decide)⟩⟩, ⟨ew, nI_0.symm, fun t t1 t2 => absurd t1 (by omega), ?_, ?_, ?_, ?_, ?_, ?_⟩, rfl, rfl, fun _ => ⟨rfl, 0, by decide, nI_0.symm⟩, fun a ha => ⟨(show 1 ≤ 4 by decide), (show 4 ≤ 8 by decide), f2b_4 a ha, f2i_4 a ha⟩, fun t t1 t2 => absurd t1 (by omega)⟩
  · rw [Nat.zero_mod]; exact nI_0.symm
  · rw [Nat.zero_mod, Nat.zero_sub]; exact nI_0.symm
  · rw [Nat.zero_mod]; rfl
  · rw [Nat.zero_div]; exact nI_0.symm
  · rw [Nat.zero_div, if_pos rfl]; rfl
  · intro a ha
    rw [Nat.zero_div]
    exact AR_0 (f2b_1 a ha) rfl rfl (f0_0 a) (f0_0 a) (f0_0 a)
end
section
/-! the law's own helper: a cell of the script -/
theorem cb_blind {av : List Value} {b L : Nat} {xs : Nat → Int32} : FrameBlind (va_Pc av (fun U => va_X b L xs U U.heap)) := fun a U g mk q => ⟨q.1, va_X.moved (u := U) (U := U.calling g mk a) (Vm.Alike.refl U.vm) q.2⟩
def cellV (L : Nat) (xs : Nat → Int32) (k : Int32) : Int32 := if nI L ≤ k then 0 else xs k.toNatClampNeg
set_option maxHeartbeats 4000000 in
set_option maxRecDepth 100000 in
theorem mX0_cell (l : Launch) (b L : Nat) (xs : Nat → Int32) (k : Int32) (hk : ¬ k < 0) (hL : L < 2 ^ 31) : Met l yX0_cell (ws_ yX0_cell cX0_cell 2 (some .int)) ({ frames := 0, cells := 0, slots := 0, locals := 0 }) (va_Pc [.ref b, .int k] (fun U => va_X b L xs U U.heap)) (vp_Si (fun ans => ans = cellV L xs k)) 0 0 (fun _ => False) := by
  refine Met.ofW (cc := cX0_cell) (maxL := 2) (ret := some .int) (by decide) rfl ?_
  intro p e s m args below meth c s₁ B hml hv
  obtain ⟨rfl, hX⟩ := hv
  have hx := B.exec
  have hb := B.bytes
  have hr := B.returns
  have hlocks := B.notSynchronized
  have hbl : b < s.heap.size := by
    obtain ⟨scr, h1, -⟩ := hX
    exact (Array.getElem?_eq_some_iff.mp h1).1
  have hbA : ¬ (fun _ : Nat => False) b := id
  have hS : va_S (fun _ : Nat => False) s.heap s.heap [] := va_S.rf
  have hl := lv_entry ([.ref b, .int k]) (n := 2) (Nat.le_of_ble_eq_true rfl)
  rw [lg_entry_eq]
  generalize (lg_sl ([.ref b, .int k]) ++ List.replicate (2 - (lg_sl ([.ref b, .int k])).length) Slot.unset).toArray = ls at hl ⊢
  have hl : lv_has ls 2 [(0, .ref b), (1, .int k)] := hl
  refine lv_iload_n hx hb dX0_cell_0 rfl (lv_at hl 1 rfl) ?_
  refine lv_aload_n hx hb dX0_cell_1 rfl (lv_at hl 0 rfl) ?_
  refine va_slen hx hb hX hbl hbA hS dX0_cell_2 ?_
  refine lv_icmp_ge (tgt := 12) hx hb dX0_cell_3 (by decide) (fun c_1 => ?_) (fun c_1 => ?_)
  · have c_1 : nI L ≤ k := c_1
    refine lv_iconst (v := 0) hx hb dX0_cell_12 (by decide) ?_
    exact W.iret (v := 0) hx hb hr (fun t ht hW => ⟨_, rfl, (by show 0 = cellV L xs k; rw [cellV, if_pos c_1]), ht⟩) (fun _ h => absurd h List.not_mem_nil) dX0_cell_13
  · have c_1 : ¬ nI L ≤ k := c_1
    have hin : vp_in k L := by
      rw [vp_in_iff]
      rw [Int32.le_iff_toInt_le, nI_toInt hL] at c_1
      rw [Int32.lt_iff_toInt_lt] at hk
      have z0 : (0 : Int32).toInt = 0 := by decide
      omega
    refine lv_aload_n hx hb dX0_cell_6 rfl (lv_at hl 0 rfl) ?_
    refine lv_iload_n hx hb dX0_cell_7 rfl (lv_at hl 1 rfl) ?_
    refine va_sld hx hb hX hbl hbA hS hin dX0_cell_8 ?_
    refine lv_goto (tgt := 13) hx hb dX0_cell_9 (by decide) ?_
    exact W.iret (v := xs k.toNatClampNeg) hx hb hr (fun t ht hW => ⟨_, rfl, (by show xs k.toNatClampNeg = cellV L xs k; rw [cellV, if_neg c_1]), ht⟩) (fun _ h => absurd h List.not_mem_nil) dX0_cell_13
end
section
/-! THE CLAIM OUT OF ONE WALK OF THE LAW'S BODY. Your part is whole_start (and what it stands on); all else here is the same for every law, but numbers. -/
def R_law : String := "RoundArchiveLaw"
def lw_P (b : Addr) (xs : List Int32) (args : Array Value) (s : State) : Prop := args = #[.ref b] ∧ s.IntsAt b xs ∧ xs.length ≤ 195 ∧ (Jvm.Cond.and given_1 narrow_1).before args s = true
def lw_Q (_ : Array Value) (s : State) (o : Outcome) (t : State) : Prop := o = .returned (some (.int 1)) ∧ Framed s o t [] 600000 7290000
def lw_Z (below : List Frame) (a : Array Value) (s : State) : State → Prop := fun t => ∃ o, t.status = .running ∧ Ended t below o ∧ lw_Q a s o t
/-- the law's own end, with 1 on the stack, nothing written that was there before, its room as the claim has it -/
theorem lw_ret {p : Program} {l : Launch} {e : Env} {s : State} {m : MethodId} {below : List Frame} {meth : Method} {c : Code} {b : Nat} (hx : p.tables.exec = Jvm.exec) (hb : c.code = code) (hr : meth.sig.returnType = ret) (hlocks : meth.locks = false) {pc : Nat} {H : Heap} {ls : Array Slot} (hdg : decode code pc = .ok (.ireturn, 1)) : W p l e room_1 s m #[Value.ref b] below meth c H [] 600000 7290000 (lw_Z below #[Value.ref b] s) (F0 m pc ls [.int 1]) := by
  intro T hT X
  obtain ⟨fs, hret, hrun, hended, hW, hframe⟩ := X.leave (v := some (.int 1)) (hlocks := hlocks) (fun h => by rw [hr] at h; cases h)
  have hmeth' : T.vm.method? m = some meth := X.method'
  refine ⟨T.setFrames fs, ?_, .returned (some (.int 1)), hrun, hended, rfl, ⟨_, rfl⟩, hW, hframe⟩
  jvm_step X.here [X.here.top, hx, hb, hdg, hmeth', hr, ret, narrow_b1]
  (try refine ⟨rfl, ?_⟩); (try refine ⟨rfl, ?_⟩)
  first | (intro acts; rw [hret _ acts rfl rfl rfl]) | rw [hret _ _ rfl rfl rfl]
  exact Steps.refl _
/-- what holds at the law's entry: the machine, the code, the tables' words (any of lw_tbl by 'hts w (by decide +kernel)'), the script of L ints xs at the cell b, what the Statement gives of the start (any of its parts by flat_of_before) -/
def lw_At (p : Program) (s : State) (m : MethodId) (meth : Method) (c : Code) (b L : Nat) (xs : Nat → Int32) : Prop :=
  p.tables.exec = Jvm.exec ∧ c.code = code ∧ meth.sig.returnType = ret ∧ c.maxLocals = 4 ∧ s.vm.findClass R_law = some m.cls ∧ (∀ w ∈ lw_tbl, w.before #[Value.ref b] s = true) ∧ va_X b L xs s s.heap ∧ b < s.heap.size ∧ meth.locks = false ∧ (Jvm.Cond.and given_1 narrow_1).before #[Value.ref b] s = true
/-- the two objects agree -/
def Rel (x m : SS) : Prop := ∃ (w T : Nat) (sp rm : Nat → Nat), Rl x m w T sp rm
theorem an_hyp {x m : SS} {w T : Nat} {sp rm : Nat → Nat} {a : Int32} (R : Rl x m w T sp rm) : arO a → x.2 21 a.toNatClampNeg = nI (T / w / sp a.toNatClampNeg) ∧ x_firstKept x a = nI (T / w / sp a.toNatClampNeg - rm a.toNatClampNeg) ∧ T / w / sp a.toNatClampNeg - rm a.toNatClampNeg ≤ T / w / sp a.toNatClampNeg ∧ T / w / sp a.toNatClampNeg < 2 ^ 30 := fun ha => ⟨an_rc R ha, an_first R ha, Nat.sub_le _ _, Nat.lt_of_le_of_lt (rows_le R _) (by decide)⟩
theorem lw_ix {i L : Nat} (k : Nat) (h : i + k < L) (hL : L ≤ 195) : vp_in (nI i + nI k) L := by
  rw [nI_add]
  exact vp_in_nI h (by omega)
theorem sw_out {j : Nat} (hj : j < 16) (h : 12 ≤ j) : (nI j).toInt < 0 ∨ 11 < (nI j).toInt := by
  rw [nI_toInt (by omega)]
  omega
end
section
set_option maxHeartbeats 4000000 in
set_option maxRecDepth 100000 in
/-- THE LAW'S LOOP at its head: the two objects agree -/
theorem law_loop {p : Program} {l : Launch} {e : Env} {s : State} {m : MethodId} {below : List Frame} {meth : Method} {c : Code} {dC : Nat → ClassId} {dI : Nat → Nat → Nat} {b L : Nat} {xs : Nat → Int32} (hL : L ≤ 195) (C0 : lw_At p s m meth c b L xs) (h g : Nat → Nat) (cI cB : ClassId) (hK : va_K (dC, dI) clsL [(cI, .int), (cB, .byte)] s) :
    ∀ (n i : Nat) (xt mt : SS) (x3 : Int32) (H : Heap) (locs : List Loc) (ls : Array Slot), Rel xt mt → x3 = nI i → 3 ≤ i → i ≤ L + 3 → L + 4 ≤ i + n → va_P (dC, dI) clsL (xw h cI cB xt ++ mw g cI mt) H → va_D (fun q : Nat => s.heap.size ≤ q) (xw h cI cB xt ++ mw g cI mt) → va_S (fun q : Nat => s.heap.size ≤ q) s.heap H locs → lv_has ls 4 [(0, .ref b), (1, .ref (h 0)), (2, .ref (g 0)), (3, .int x3)] → W p l e room_1 s m #[Value.ref b] below meth c H locs 20 352 (lw_Z below #[Value.ref b] s) (F0 m 48 ls []) := by
  obtain ⟨hx, hb, hr, hml, hown, hts0, hX, hbl, hlocks, hgv⟩ := C0
  have hts : ∀ w ∈ lw_all, w.before #[Value.ref b] s = true := fun w h => hts0 w (lw_all_tbl h)
  have hA : ∀ q : Nat, s.heap.size ≤ q → (fun q : Nat => s.heap.size ≤ q) q := fun _ h => h
  have hbA : ¬ (fun q : Nat => s.heap.size ≤ q) b := Nat.not_le.mpr hbl
  have hKm := hK.sub (tys' := [(cI, .int)]) [0] rfl
  intro n
  induction n with
  | zero =>
    intro i xt mt x3 H locs ls _ _ _ h1 h2
    exact absurd h2 (by omega)
  | succ n ih =>
    intro i xt mt x3 H locs ls hR ex3 i3 iL iN hP hD hS hl
    refine lv_iload_n hx hb dL_law_48 rfl (lv_at hl 3 rfl) ?_
    refine lv_aload_n hx hb dL_law_49 rfl (lv_at hl 0 rfl) ?_
    refine va_slen hx hb hX hbl hbA hS dL_law_50 ?_
    refine lv_iconst (v := 3) hx hb dL_law_51 (by decide) ?_
    refine lv_isub hx hb dL_law_52 ?_
    have eI : (Int32.ofNat L - 3).toInt = (L : Int) - 3 := pk_sub_toInt (a := L) (b := 3) (by omega) (by decide)
    refine lv_icmp_gt (tgt := 386) hx hb dL_law_53 (by decide) (fun c_0 => ?_) (fun c_0 => ?_)
    · refine lv_iconst (v := 1) hx hb dL_law_386 (by decide) ?_
      refine va_forget (fun q hq => hS.2.2 q hq) ?_
      refine W.widen (k := 600000) (n := 7290000) (Nat.le_of_ble_eq_true rfl) (Nat.le_of_ble_eq_true rfl) ?_
      exact lw_ret hx hb hr hlocks dL_law_387
    · have hlt : i + 3 ≤ L := by
        rw [Int32.lt_iff_toInt_lt, eI, ex3, nI_toInt (by omega)] at c_0
        omega
      have hin0 : vp_in x3 L := by rw [ex3]; exact vp_in_nI (by omega) (by omega)
      have hin1 : vp_in (x3 + 1) L := by rw [ex3]; exact lw_ix 1 (by omega) hL
      have hin2 : vp_in (x3 + 2) L := by rw [ex3]; exact lw_ix 2 (by omega) hL
      have hC : ∀ (xt mt : SS) (H : Heap) (locs : List Loc), Rel xt mt → va_P (dC, dI) clsL (xw h cI cB xt ++ mw g cI mt) H → va_D (fun q : Nat => s.heap.size ≤ q) (xw h cI cB xt ++ mw g cI mt) → va_S (fun q : Nat => s.heap.size ≤ q) s.heap H locs → W p l e room_1 s m #[Value.ref b] below meth c H locs 20 352 (lw_Z below #[Value.ref b] s) (F0 m 380 ls []) := by
        intro xt mt H locs hR hP hD hS
        refine lv_iinc (v := x3 + 3) (lv' := [(3, .int (x3 + 3)), (0, .ref b), (1, .ref (h 0)), (2, .ref (g 0))]) hx hb dL_law_380 hl (k := 3) rfl rfl (by decide) rfl (fun ls hl => ?_)
        refine lv_goto (tgt := 48) hx hb dL_law_383 (by decide) ?_
        exact ih (i + 3) xt mt (x3 + 3) H locs ls hR (by rw [ex3]; exact nI_add i 3) (by omega) (by omega) (by omega) hP hD hS (lv_sub hl [1, 2, 3, 0] rfl)
      have hPx := hP.sub (ws' := xw h cI cB xt) [0, 1, 2, 3, 4, 5, 6, 7, 8, 9, 10, 11, 12, 13] rfl
      have hPm := hP.sub (ws' := mw g cI mt) [14, 15, 16, 17, 18, 19] rfl
      obtain ⟨w, T, sp, rm, R⟩ := id hR
      refine lv_aload_n hx hb dL_law_56 rfl (lv_at hl 0 rfl) ?_
      refine lv_iload_n hx hb dL_law_57 rfl (lv_at hl 3 rfl) ?_
      refine va_sld hx hb hX hbl hbA hS hin0 dL_law_58 ?_
      refine lv_bipush (v := 15) hx hb dL_law_59 (by decide) ?_
      refine lv_iand hx hb dL_law_61 ?_
      obtain ⟨j, hj, ej⟩ := pk_andE (xs x3.toNatClampNeg) (m := 15) 4 (by decide)
      refine lv_topi (fun z ez => ?_)
      rw [ej] at ez
      subst ez
      by_cases z0 : j = 0
      · subst z0
        refine lv_tableIn (off := 62) (tgt := 124) hx hb dL_law_62 (by decide) (by decide) (by decide) (by decide) ?_
        refine lv_aload_n hx hb dL_law_124 rfl (lv_at hl 1 rfl) ?_
        refine lv_aload_n hx hb dL_law_125 rfl (lv_at hl 0 rfl) ?_
        refine lv_iload_n hx hb dL_law_126 rfl (lv_at hl 3 rfl) ?_
        refine lv_iconst (v := 1) hx hb dL_law_127 (by decide) ?_
        refine lv_iadd hx hb dL_law_128 ?_
        refine va_sld hx hb hX hbl hbA hS hin1 dL_law_129 ?_
        refine lv_aload_n hx hb dL_law_130 rfl (lv_at hl 0 rfl) ?_
        refine lv_iload_n hx hb dL_law_131 rfl (lv_at hl 3 rfl) ?_
        refine lv_iconst (v := 2) hx hb dL_law_132 (by decide) ?_
        refine lv_iadd hx hb dL_law_133 ?_
        refine va_sld hx hb hX hbl hbA hS hin2 dL_law_134 ?_
        have hDx := hD.sub (ws' := xw h cI cB xt) [0, 1, 2, 3, 4, 5, 6, 7, 8, 9, 10, 11, 12, 13] (by decide) rfl
        have hFx := va_free (wc := xw h cI cB xt) hD hS hA [0, 1, 2, 3, 4, 5, 6, 7, 8, 9, 10, 11, 12, 13] rfl
        refine va_calli (va_runV (As := [.int (xs (x3 + 1).toNatClampNeg), .int (xs (x3 + 2).toNatClampNeg)]) (rest := []) ⟨hx, hb, hml, hown, hts⟩ (mX1_shape l dC dI h cI cB xt (xs (x3 + 1).toNatClampNeg) (xs (x3 + 2).toNatClampNeg) _) (cwV 2 hts (lw_V q94 q95 q96 q11 q97) rfl rfl rfl (by decide +kernel) ⟨Nat.le_of_ble_eq_true rfl, Nat.le_of_ble_eq_true rfl⟩) ⟨mb_blind, va_recv hK hPx (ci := 0) (q0 := 0) rfl rfl, fun U hU hW => ⟨rfl, by rw [hU], by rw [hU]; exact hPx, va_K.moved hW.alike hK, hDx.weaken (fun _ _ _ _ => trivial)⟩⟩ rfl rfl hl.1 rfl (lv_room (Nat.le_of_ble_eq_true rfl)) dL_law_135 ⟨Nat.le_of_ble_eq_true rfl, Nat.le_of_ble_eq_true rfl⟩) hS (fun q _ h => hFx q h) hFx (fun r1 u1 t H1 locs ht hvm hw1 hB hz1 hk1 hS => ?_)
        obtain ⟨hP1, -, hD1⟩ := hB
        rw [ht] at hP1
        obtain ⟨hP, hD⟩ := va_join (wr := mw g cI mt) (w1 := xw h cI cB u1) hP hD [0, 1, 2, 3, 4, 5, 6, 7, 8, 9, 10, 11, 12, 13] [14, 15, 16, 17, 18, 19] rfl rfl (by decide) (by decide) hk1 hFx hP1 hD1
        refine lv_aload_n hx hb dL_law_138 rfl (lv_at hl 2 rfl) ?_
        refine lv_aload_n hx hb dL_law_139 rfl (lv_at hl 0 rfl) ?_
        refine lv_iload_n hx hb dL_law_140 rfl (lv_at hl 3 rfl) ?_
        refine lv_iconst (v := 1) hx hb dL_law_141 (by decide) ?_
        refine lv_iadd hx hb dL_law_142 ?_
        refine va_sld hx hb hX hbl hbA hS hin1 dL_law_143 ?_
        refine lv_aload_n hx hb dL_law_144 rfl (lv_at hl 0 rfl) ?_
        refine lv_iload_n hx hb dL_law_145 rfl (lv_at hl 3 rfl) ?_
        refine lv_iconst (v := 2) hx hb dL_law_146 (by decide) ?_
        refine lv_iadd hx hb dL_law_147 ?_
        refine va_sld hx hb hX hbl hbA hS hin2 dL_law_148 ?_
        have hPm := hP.sub (ws' := mw g cI mt) [0, 1, 2, 3, 4, 5] rfl
        have hDm := hD.sub (ws' := mw g cI mt) [0, 1, 2, 3, 4, 5] (by decide) rfl
        have hFm := va_free (wc := mw g cI mt) hD hS hA [0, 1, 2, 3, 4, 5] rfl
        refine va_calli (va_runV (As := [.int (xs (x3 + 1).toNatClampNeg), .int (xs (x3 + 2).toNatClampNeg)]) (rest := [.int r1]) ⟨hx, hb, hml, hown, hts⟩ (mX2_shape l dC dI g cI mt (xs (x3 + 1).toNatClampNeg) (xs (x3 + 2).toNatClampNeg) _) (cwV 2 hts (lw_V q217 q218 q219 q12 q220) rfl rfl rfl (by decide +kernel) ⟨Nat.le_of_ble_eq_true rfl, Nat.le_of_ble_eq_true rfl⟩) ⟨mb_blind, va_recv hKm hPm (ci := 1) (q0 := 0) rfl rfl, fun U hU hW => ⟨rfl, by rw [hU], by rw [hU]; exact hPm, va_K.moved hW.alike hKm, hDm.weaken (fun _ _ _ _ => trivial)⟩⟩ rfl rfl hl.1 rfl (lv_room (Nat.le_of_ble_eq_true rfl)) dL_law_149 ⟨Nat.le_of_ble_eq_true rfl, Nat.le_of_ble_eq_true rfl⟩) hS (fun q _ h => hFm q h) hFm (fun r2 u2 t2 H2 locs ht2 hvm2 hw2 hB2 hz2 hk2 hS => ?_)
        obtain ⟨hP2, -, hD2⟩ := hB2
        rw [ht2] at hP2
        obtain ⟨hP, hD⟩ := va_join (wr := xw h cI cB u1) (w1 := mw g cI u2) hP hD [0, 1, 2, 3, 4, 5] [6, 7, 8, 9, 10, 11, 12, 13, 14, 15, 16, 17, 18, 19] rfl rfl (by decide) (by decide) hk2 hFm hP2 hD2
        refine W.widen (k := 20) (n := 352) (by decide) (by decide) ?_
        refine lv_icmp_eq (tgt := 380) hx hb dL_law_152 (by decide) (fun c_1 => ?_) (fun c_1 => ?_)
        · have hw1 : (r1, u1) = x_shape xt (xs (x3 + 1).toNatClampNeg) (xs (x3 + 2).toNatClampNeg) := hw1
          have hw2 : (r2, u2) = m_shape mt (xs (x3 + 1).toNatClampNeg) (xs (x3 + 2).toNatClampNeg) := hw2
          have e1 : u1 = (x_shape xt (xs (x3 + 1).toNatClampNeg) (xs (x3 + 2).toNatClampNeg)).2 := congrArg Prod.snd hw1
          have e2 : u2 = (m_shape mt (xs (x3 + 1).toNatClampNeg) (xs (x3 + 2).toNatClampNeg)).2 := congrArg Prod.snd hw2
          obtain ⟨-, sp2, rm2, R2⟩ := sh_eq R (xs (x3 + 1).toNatClampNeg) (xs (x3 + 2).toNatClampNeg)
          rw [← e1, ← e2] at R2
          exact hC u1 u2 H2 locs ⟨w, T, sp2, rm2, R2⟩ hP hD hS
        · exact absurd ((show r1 = (x_shape xt (xs (x3 + 1).toNatClampNeg) (xs (x3 + 2).toNatClampNeg)).1 from congrArg Prod.fst hw1).trans (((sh_eq R (xs (x3 + 1).toNatClampNeg) (xs (x3 + 2).toNatClampNeg)).1).trans (show r2 = (m_shape mt (xs (x3 + 1).toNatClampNeg) (xs (x3 + 2).toNatClampNeg)).1 from congrArg Prod.fst hw2).symm)) c_1
      by_cases z1 : j = 1
      · subst z1
        refine lv_tableIn (off := 95) (tgt := 157) hx hb dL_law_62 (by decide) (by decide) (by decide) (by decide) ?_
        refine lv_aload_n hx hb dL_law_157 rfl (lv_at hl 1 rfl) ?_
        refine lv_aload_n hx hb dL_law_158 rfl (lv_at hl 0 rfl) ?_
        refine lv_iload_n hx hb dL_law_159 rfl (lv_at hl 3 rfl) ?_
        refine lv_iconst (v := 1) hx hb dL_law_160 (by decide) ?_
        refine lv_iadd hx hb dL_law_161 ?_
        refine va_sld hx hb hX hbl hbA hS hin1 dL_law_162 ?_
        refine lv_aload_n hx hb dL_law_163 rfl (lv_at hl 0 rfl) ?_
        refine lv_iload_n hx hb dL_law_164 rfl (lv_at hl 3 rfl) ?_
        refine lv_iconst (v := 2) hx hb dL_law_165 (by decide) ?_
        refine lv_iadd hx hb dL_law_166 ?_
        refine va_sld hx hb hX hbl hbA hS hin2 dL_law_167 ?_
        have hDx := hD.sub (ws' := xw h cI cB xt) [0, 1, 2, 3, 4, 5, 6, 7, 8, 9, 10, 11, 12, 13] (by decide) rfl
        have hFx := va_free (wc := xw h cI cB xt) hD hS hA [0, 1, 2, 3, 4, 5, 6, 7, 8, 9, 10, 11, 12, 13] rfl
        refine va_calli (va_runV (As := [.int (xs (x3 + 1).toNatClampNeg), .int (xs (x3 + 2).toNatClampNeg)]) (rest := []) ⟨hx, hb, hml, hown, hts⟩ (mX1_update l dC dI h cI cB xt (xs (x3 + 1).toNatClampNeg) (xs (x3 + 2).toNatClampNeg) T R.2.1.2.1 R.1.2.2.2.2.1 _) (cwV 2 hts (lw_V q101 q102 q103 q11 q104) rfl rfl rfl (by decide +kernel) ⟨Nat.le_of_ble_eq_true rfl, Nat.le_of_ble_eq_true rfl⟩) ⟨mb_blind, va_recv hK hPx (ci := 0) (q0 := 0) rfl rfl, fun U hU hW => ⟨rfl, by rw [hU], by rw [hU]; exact hPx, va_K.moved hW.alike hK, hDx.weaken (fun _ _ _ _ => trivial)⟩⟩ rfl rfl hl.1 rfl (lv_room (Nat.le_of_ble_eq_true rfl)) dL_law_168 ⟨Nat.le_of_ble_eq_true rfl, Nat.le_of_ble_eq_true rfl⟩) hS (fun q _ h => hFx q h) hFx (fun r1 u1 t H1 locs ht hvm hw1 hB hz1 hk1 hS => ?_)
        obtain ⟨hP1, -, hD1⟩ := hB
        rw [ht] at hP1
        obtain ⟨hP, hD⟩ := va_join (wr := mw g cI mt) (w1 := xw h cI cB u1) hP hD [0, 1, 2, 3, 4, 5, 6, 7, 8, 9, 10, 11, 12, 13] [14, 15, 16, 17, 18, 19] rfl rfl (by decide) (by decide) hk1 hFx hP1 hD1
        refine lv_aload_n hx hb dL_law_171 rfl (lv_at hl 2 rfl) ?_
        refine lv_aload_n hx hb dL_law_172 rfl (lv_at hl 0 rfl) ?_
        refine lv_iload_n hx hb dL_law_173 rfl (lv_at hl 3 rfl) ?_
        refine lv_iconst (v := 1) hx hb dL_law_174 (by decide) ?_
        refine lv_iadd hx hb dL_law_175 ?_
        refine va_sld hx hb hX hbl hbA hS hin1 dL_law_176 ?_
        refine lv_aload_n hx hb dL_law_177 rfl (lv_at hl 0 rfl) ?_
        refine lv_iload_n hx hb dL_law_178 rfl (lv_at hl 3 rfl) ?_
        refine lv_iconst (v := 2) hx hb dL_law_179 (by decide) ?_
        refine lv_iadd hx hb dL_law_180 ?_
        refine va_sld hx hb hX hbl hbA hS hin2 dL_law_181 ?_
        have hPm := hP.sub (ws' := mw g cI mt) [0, 1, 2, 3, 4, 5] rfl
        have hDm := hD.sub (ws' := mw g cI mt) [0, 1, 2, 3, 4, 5] (by decide) rfl
        have hFm := va_free (wc := mw g cI mt) hD hS hA [0, 1, 2, 3, 4, 5] rfl
        refine va_calli (va_runV (As := [.int (xs (x3 + 1).toNatClampNeg), .int (xs (x3 + 2).toNatClampNeg)]) (rest := [.int r1]) ⟨hx, hb, hml, hown, hts⟩ (mX2_update l dC dI g cI mt (xs (x3 + 1).toNatClampNeg) (xs (x3 + 2).toNatClampNeg) T R.1.2.2.2.1 R.1.2.2.2.2.1 _) (cwV 2 hts (lw_V q221 q222 q223 q12 q224) rfl rfl rfl (by decide +kernel) ⟨Nat.le_of_ble_eq_true rfl, Nat.le_of_ble_eq_true rfl⟩) ⟨mb_blind, va_recv hKm hPm (ci := 1) (q0 := 0) rfl rfl, fun U hU hW => ⟨rfl, by rw [hU], by rw [hU]; exact hPm, va_K.moved hW.alike hKm, hDm.weaken (fun _ _ _ _ => trivial)⟩⟩ rfl rfl hl.1 rfl (lv_room (Nat.le_of_ble_eq_true rfl)) dL_law_182 ⟨Nat.le_of_ble_eq_true rfl, Nat.le_of_ble_eq_true rfl⟩) hS (fun q _ h => hFm q h) hFm (fun r2 u2 t2 H2 locs ht2 hvm2 hw2 hB2 hz2 hk2 hS => ?_)
        obtain ⟨hP2, -, hD2⟩ := hB2
        rw [ht2] at hP2
        obtain ⟨hP, hD⟩ := va_join (wr := xw h cI cB u1) (w1 := mw g cI u2) hP hD [0, 1, 2, 3, 4, 5] [6, 7, 8, 9, 10, 11, 12, 13, 14, 15, 16, 17, 18, 19] rfl rfl (by decide) (by decide) hk2 hFm hP2 hD2
        refine W.widen (k := 20) (n := 352) (by decide) (by decide) ?_
        refine lv_icmp_eq (tgt := 380) hx hb dL_law_185 (by decide) (fun c_1 => ?_) (fun c_1 => ?_)
        · have hw1 : (r1, u1) = x_update xt (xs (x3 + 1).toNatClampNeg) (xs (x3 + 2).toNatClampNeg) := hw1
          have hw2 : (r2, u2) = m_update mt (xs (x3 + 1).toNatClampNeg) (xs (x3 + 2).toNatClampNeg) := hw2
          have e1 : u1 = (x_update xt (xs (x3 + 1).toNatClampNeg) (xs (x3 + 2).toNatClampNeg)).2 := congrArg Prod.snd hw1
          have e2 : u2 = (m_update mt (xs (x3 + 1).toNatClampNeg) (xs (x3 + 2).toNatClampNeg)).2 := congrArg Prod.snd hw2
          obtain ⟨-, T2, R2⟩ := up_eq R (xs (x3 + 1).toNatClampNeg) (xs (x3 + 2).toNatClampNeg)
          rw [← e1, ← e2] at R2
          exact hC u1 u2 H2 locs ⟨w, T2, sp, rm, R2⟩ hP hD hS
        · exact absurd ((show r1 = (x_update xt (xs (x3 + 1).toNatClampNeg) (xs (x3 + 2).toNatClampNeg)).1 from congrArg Prod.fst hw1).trans (((up_eq R (xs (x3 + 1).toNatClampNeg) (xs (x3 + 2).toNatClampNeg)).1).trans (show r2 = (m_update mt (xs (x3 + 1).toNatClampNeg) (xs (x3 + 2).toNatClampNeg)).1 from congrArg Prod.fst hw2).symm)) c_1
      by_cases z2 : j = 2
      · subst z2
        refine lv_tableIn (off := 128) (tgt := 190) hx hb dL_law_62 (by decide) (by decide) (by decide) (by decide) ?_
        refine lv_aload_n hx hb dL_law_190 rfl (lv_at hl 1 rfl) ?_
        refine vp_callSi (W.runV (As := []) (rest := []) ⟨hx, hb, hml, hown, hts⟩ (mX1_lastTime l dC dI h cI cB xt) (cwV 0 hts (lw_V q133 q134 q135 q11 q136) rfl rfl rfl (by decide +kernel) ⟨Nat.le_of_ble_eq_true rfl, Nat.le_of_ble_eq_true rfl⟩) ⟨qb_blind, va_recv hK hPx (ci := 0) (q0 := 0) rfl rfl, fun U hU hW => ⟨rfl, by rw [hU]; exact hPx, va_K.moved hW.alike hK⟩⟩ rfl rfl hl.1 rfl (lv_room (Nat.le_of_ble_eq_true rfl)) dL_law_191 ⟨Nat.le_of_ble_eq_true rfl, Nat.le_of_ble_eq_true rfl⟩) (fun r1 hr1 => ?_)
        refine lv_aload_n hx hb dL_law_194 rfl (lv_at hl 2 rfl) ?_
        refine vp_callSi (W.runV (As := []) (rest := [.int r1]) ⟨hx, hb, hml, hown, hts⟩ (mX2_lastTime l dC dI g cI mt) (cwV 0 hts (lw_V q226 q227 q228 q12 q229) rfl rfl rfl (by decide +kernel) ⟨Nat.le_of_ble_eq_true rfl, Nat.le_of_ble_eq_true rfl⟩) ⟨qb_blind, va_recv hKm hPm (ci := 1) (q0 := 0) rfl rfl, fun U hU hW => ⟨rfl, by rw [hU]; exact hPm, va_K.moved hW.alike hKm⟩⟩ rfl rfl hl.1 rfl (lv_room (Nat.le_of_ble_eq_true rfl)) dL_law_195 ⟨Nat.le_of_ble_eq_true rfl, Nat.le_of_ble_eq_true rfl⟩) (fun r2 hr2 => ?_)
        refine lv_icmp_eq (tgt := 380) hx hb dL_law_198 (by decide) (fun c_1 => ?_) (fun c_1 => ?_)
        · exact hC xt mt H locs ⟨w, T, sp, rm, R⟩ hP hD hS
        · exact absurd ((show r1 = xt.1 3 from hr1).trans ((an_time R).trans (show r2 = mt.1 7 from hr2).symm)) c_1
      by_cases z3 : j = 3
      · subst z3
        refine lv_tableIn (off := 141) (tgt := 203) hx hb dL_law_62 (by decide) (by decide) (by decide) (by decide) ?_
        refine lv_aload_n hx hb dL_law_203 rfl (lv_at hl 1 rfl) ?_
        refine lv_aload_n hx hb dL_law_204 rfl (lv_at hl 0 rfl) ?_
        refine lv_iload_n hx hb dL_law_205 rfl (lv_at hl 3 rfl) ?_
        refine lv_iconst (v := 1) hx hb dL_law_206 (by decide) ?_
        refine lv_iadd hx hb dL_law_207 ?_
        refine va_sld hx hb hX hbl hbA hS hin1 dL_law_208 ?_
        refine vp_callSi (W.runV (As := [.int (xs (x3 + 1).toNatClampNeg)]) (rest := []) ⟨hx, hb, hml, hown, hts⟩ (mX1_moment l dC dI h cI cB xt (xs (x3 + 1).toNatClampNeg)) (cwV 1 hts (lw_V q137 q138 q139 q11 q140) rfl rfl rfl (by decide +kernel) ⟨Nat.le_of_ble_eq_true rfl, Nat.le_of_ble_eq_true rfl⟩) ⟨qb_blind, va_recv hK hPx (ci := 0) (q0 := 0) rfl rfl, fun U hU hW => ⟨rfl, by rw [hU]; exact hPx, va_K.moved hW.alike hK⟩⟩ rfl rfl hl.1 rfl (lv_room (Nat.le_of_ble_eq_true rfl)) dL_law_209 ⟨Nat.le_of_ble_eq_true rfl, Nat.le_of_ble_eq_true rfl⟩) (fun r1 hr1 => ?_)
        refine lv_aload_n hx hb dL_law_212 rfl (lv_at hl 2 rfl) ?_
        refine lv_aload_n hx hb dL_law_213 rfl (lv_at hl 0 rfl) ?_
        refine lv_iload_n hx hb dL_law_214 rfl (lv_at hl 3 rfl) ?_
        refine lv_iconst (v := 1) hx hb dL_law_215 (by decide) ?_
        refine lv_iadd hx hb dL_law_216 ?_
        refine va_sld hx hb hX hbl hbA hS hin1 dL_law_217 ?_
        refine vp_callSi (W.runV (As := [.int (xs (x3 + 1).toNatClampNeg)]) (rest := [.int r1]) ⟨hx, hb, hml, hown, hts⟩ (mX2_moment l dC dI g cI mt (xs (x3 + 1).toNatClampNeg) T R.1.2.2.2.1 R.1.2.2.2.2.1) (cwV 1 hts (lw_V q230 q231 q232 q12 q233) rfl rfl rfl (by decide +kernel) ⟨Nat.le_of_ble_eq_true rfl, Nat.le_of_ble_eq_true rfl⟩) ⟨qb_blind, va_recv hKm hPm (ci := 1) (q0 := 0) rfl rfl, fun U hU hW => ⟨rfl, by rw [hU]; exact hPm, va_K.moved hW.alike hKm⟩⟩ rfl rfl hl.1 rfl (lv_room (Nat.le_of_ble_eq_true rfl)) dL_law_218 ⟨Nat.le_of_ble_eq_true rfl, Nat.le_of_ble_eq_true rfl⟩) (fun r2 hr2 => ?_)
        refine lv_icmp_eq (tgt := 380) hx hb dL_law_221 (by decide) (fun c_1 => ?_) (fun c_1 => ?_)
        · exact hC xt mt H locs ⟨w, T, sp, rm, R⟩ hP hD hS
        · exact absurd ((show r1 = x_moment xt (xs (x3 + 1).toNatClampNeg) from hr1).trans ((an_moment R (xs (x3 + 1).toNatClampNeg)).trans (show r2 = m_moment mt (xs (x3 + 1).toNatClampNeg) from hr2).symm)) c_1
      by_cases z4 : j = 4
      · subst z4
        refine lv_tableIn (off := 164) (tgt := 226) hx hb dL_law_62 (by decide) (by decide) (by decide) (by decide) ?_
        refine lv_aload_n hx hb dL_law_226 rfl (lv_at hl 1 rfl) ?_
        refine vp_callSi (W.runV (As := []) (rest := []) ⟨hx, hb, hml, hown, hts⟩ (mX1_steps l dC dI h cI cB xt) (cwV 0 hts (lw_V q141 q142 q143 q11 q144) rfl rfl rfl (by decide +kernel) ⟨Nat.le_of_ble_eq_true rfl, Nat.le_of_ble_eq_true rfl⟩) ⟨qb_blind, va_recv hK hPx (ci := 0) (q0 := 0) rfl rfl, fun U hU hW => ⟨rfl, by rw [hU]; exact hPx, va_K.moved hW.alike hK⟩⟩ rfl rfl hl.1 rfl (lv_room (Nat.le_of_ble_eq_true rfl)) dL_law_227 ⟨Nat.le_of_ble_eq_true rfl, Nat.le_of_ble_eq_true rfl⟩) (fun r1 hr1 => ?_)
        refine lv_aload_n hx hb dL_law_230 rfl (lv_at hl 2 rfl) ?_
        refine vp_callSi (W.runV (As := []) (rest := [.int r1]) ⟨hx, hb, hml, hown, hts⟩ (mX2_steps l dC dI g cI mt (m_w_ne R.1)) (cwV 0 hts (lw_V q235 q236 q237 q12 q238) rfl rfl rfl (by decide +kernel) ⟨Nat.le_of_ble_eq_true rfl, Nat.le_of_ble_eq_true rfl⟩) ⟨qb_blind, va_recv hKm hPm (ci := 1) (q0 := 0) rfl rfl, fun U hU hW => ⟨rfl, by rw [hU]; exact hPm, va_K.moved hW.alike hKm⟩⟩ rfl rfl hl.1 rfl (lv_room (Nat.le_of_ble_eq_true rfl)) dL_law_231 ⟨Nat.le_of_ble_eq_true rfl, Nat.le_of_ble_eq_true rfl⟩) (fun r2 hr2 => ?_)
        refine lv_icmp_eq (tgt := 380) hx hb dL_law_234 (by decide) (fun c_1 => ?_) (fun c_1 => ?_)
        · exact hC xt mt H locs ⟨w, T, sp, rm, R⟩ hP hD hS
        · exact absurd ((show r1 = xt.1 9 from hr1).trans ((an_steps R).trans (show r2 = mt.1 7 / mt.1 1 from hr2).symm)) c_1
      by_cases z5 : j = 5
      · subst z5
        refine lv_tableIn (off := 177) (tgt := 239) hx hb dL_law_62 (by decide) (by decide) (by decide) (by decide) ?_
        refine lv_aload_n hx hb dL_law_239 rfl (lv_at hl 1 rfl) ?_
        refine vp_callSi (W.runV (As := []) (rest := []) ⟨hx, hb, hml, hown, hts⟩ (mX1_lastStep l dC dI h cI cB xt) (cwV 0 hts (lw_V q145 q146 q147 q11 q148) rfl rfl rfl (by decide +kernel) ⟨Nat.le_of_ble_eq_true rfl, Nat.le_of_ble_eq_true rfl⟩) ⟨qb_blind, va_recv hK hPx (ci := 0) (q0 := 0) rfl rfl, fun U hU hW => ⟨rfl, by rw [hU]; exact hPx, va_K.moved hW.alike hK⟩⟩ rfl rfl hl.1 rfl (lv_room (Nat.le_of_ble_eq_true rfl)) dL_law_240 ⟨Nat.le_of_ble_eq_true rfl, Nat.le_of_ble_eq_true rfl⟩) (fun r1 hr1 => ?_)
        refine lv_aload_n hx hb dL_law_243 rfl (lv_at hl 2 rfl) ?_
        refine vp_callSi (W.runV (As := []) (rest := [.int r1]) ⟨hx, hb, hml, hown, hts⟩ (mX2_lastStep l dC dI g cI mt w T sp R.1) (cwV 0 hts (lw_V q239 q240 q241 q12 q242) rfl rfl rfl (by decide +kernel) ⟨Nat.le_of_ble_eq_true rfl, Nat.le_of_ble_eq_true rfl⟩) ⟨qb_blind, va_recv hKm hPm (ci := 1) (q0 := 0) rfl rfl, fun U hU hW => ⟨rfl, by rw [hU]; exact hPm, va_K.moved hW.alike hKm⟩⟩ rfl rfl hl.1 rfl (lv_room (Nat.le_of_ble_eq_true rfl)) dL_law_244 ⟨Nat.le_of_ble_eq_true rfl, Nat.le_of_ble_eq_true rfl⟩) (fun r2 hr2 => ?_)
        refine lv_icmp_eq (tgt := 380) hx hb dL_law_247 (by decide) (fun c_1 => ?_) (fun c_1 => ?_)
        · exact hC xt mt H locs ⟨w, T, sp, rm, R⟩ hP hD hS
        · exact absurd ((show r1 = xt.1 10 from hr1).trans ((an_last R).trans (show r2 = m_lastStep mt w from hr2).symm)) c_1
      by_cases z6 : j = 6
      · subst z6
        refine lv_tableIn (off := 190) (tgt := 252) hx hb dL_law_62 (by decide) (by decide) (by decide) (by decide) ?_
        refine lv_aload_n hx hb dL_law_252 rfl (lv_at hl 1 rfl) ?_
        refine lv_aload_n hx hb dL_law_253 rfl (lv_at hl 0 rfl) ?_
        refine lv_iload_n hx hb dL_law_254 rfl (lv_at hl 3 rfl) ?_
        refine lv_iconst (v := 1) hx hb dL_law_255 (by decide) ?_
        refine lv_iadd hx hb dL_law_256 ?_
        refine va_sld hx hb hX hbl hbA hS hin1 dL_law_257 ?_
        refine vp_callSi (W.runV (As := [.int (xs (x3 + 1).toNatClampNeg)]) (rest := []) ⟨hx, hb, hml, hown, hts⟩ (mX1_rows l dC dI h cI cB xt (xs (x3 + 1).toNatClampNeg)) (cwV 1 hts (lw_V q149 q150 q151 q11 q152) rfl rfl rfl (by decide +kernel) ⟨Nat.le_of_ble_eq_true rfl, Nat.le_of_ble_eq_true rfl⟩) ⟨qb_blind, va_recv hK hPx (ci := 0) (q0 := 0) rfl rfl, fun U hU hW => ⟨rfl, by rw [hU]; exact hPx, va_K.moved hW.alike hK⟩⟩ rfl rfl hl.1 rfl (lv_room (Nat.le_of_ble_eq_true rfl)) dL_law_258 ⟨Nat.le_of_ble_eq_true rfl, Nat.le_of_ble_eq_true rfl⟩) (fun r1 hr1 => ?_)
        refine lv_aload_n hx hb dL_law_261 rfl (lv_at hl 2 rfl) ?_
        refine lv_aload_n hx hb dL_law_262 rfl (lv_at hl 0 rfl) ?_
        refine lv_iload_n hx hb dL_law_263 rfl (lv_at hl 3 rfl) ?_
        refine lv_iconst (v := 1) hx hb dL_law_264 (by decide) ?_
        refine lv_iadd hx hb dL_law_265 ?_
        refine va_sld hx hb hX hbl hbA hS hin1 dL_law_266 ?_
        refine vp_callSi (W.runV (As := [.int (xs (x3 + 1).toNatClampNeg)]) (rest := [.int r1]) ⟨hx, hb, hml, hown, hts⟩ (mX2_rows l dC dI g cI mt (xs (x3 + 1).toNatClampNeg) (m_w_ne R.1) (fun ha => m_sp_ne R.1 ha)) (cwV 1 hts (lw_V q252 q253 q254 q12 q255) rfl rfl rfl (by decide +kernel) ⟨Nat.le_of_ble_eq_true rfl, Nat.le_of_ble_eq_true rfl⟩) ⟨qb_blind, va_recv hKm hPm (ci := 1) (q0 := 0) rfl rfl, fun U hU hW => ⟨rfl, by rw [hU]; exact hPm, va_K.moved hW.alike hKm⟩⟩ rfl rfl hl.1 rfl (lv_room (Nat.le_of_ble_eq_true rfl)) dL_law_267 ⟨Nat.le_of_ble_eq_true rfl, Nat.le_of_ble_eq_true rfl⟩) (fun r2 hr2 => ?_)
        refine lv_icmp_eq (tgt := 380) hx hb dL_law_270 (by decide) (fun c_1 => ?_) (fun c_1 => ?_)
        · exact hC xt mt H locs ⟨w, T, sp, rm, R⟩ hP hD hS
        · exact absurd ((show r1 = x_rows xt (xs (x3 + 1).toNatClampNeg) from hr1).trans ((an_rows R (xs (x3 + 1).toNatClampNeg)).trans (show r2 = m_rows mt (xs (x3 + 1).toNatClampNeg) from hr2).symm)) c_1
      by_cases z7 : j = 7
      · subst z7
        refine lv_tableIn (off := 213) (tgt := 275) hx hb dL_law_62 (by decide) (by decide) (by decide) (by decide) ?_
        refine lv_aload_n hx hb dL_law_275 rfl (lv_at hl 1 rfl) ?_
        refine lv_aload_n hx hb dL_law_276 rfl (lv_at hl 0 rfl) ?_
        refine lv_iload_n hx hb dL_law_277 rfl (lv_at hl 3 rfl) ?_
        refine lv_iconst (v := 1) hx hb dL_law_278 (by decide) ?_
        refine lv_iadd hx hb dL_law_279 ?_
        refine va_sld hx hb hX hbl hbA hS hin1 dL_law_280 ?_
        refine lv_aload_n hx hb dL_law_281 rfl (lv_at hl 0 rfl) ?_
        refine lv_iload_n hx hb dL_law_282 rfl (lv_at hl 3 rfl) ?_
        refine lv_iconst (v := 2) hx hb dL_law_283 (by decide) ?_
        refine lv_iadd hx hb dL_law_284 ?_
        refine va_sld hx hb hX hbl hbA hS hin2 dL_law_285 ?_
        refine vp_callSi (W.runV (As := [.int (xs (x3 + 1).toNatClampNeg), .int (xs (x3 + 2).toNatClampNeg)]) (rest := []) ⟨hx, hb, hml, hown, hts⟩ (mX1_row l dC dI h cI cB xt (xs (x3 + 1).toNatClampNeg) (xs (x3 + 2).toNatClampNeg)) (cwV 2 hts (lw_V q153 q154 q155 q11 q156) rfl rfl rfl (by decide +kernel) ⟨Nat.le_of_ble_eq_true rfl, Nat.le_of_ble_eq_true rfl⟩) ⟨qb_blind, va_recv hK hPx (ci := 0) (q0 := 0) rfl rfl, fun U hU hW => ⟨rfl, by rw [hU]; exact hPx, va_K.moved hW.alike hK⟩⟩ rfl rfl hl.1 rfl (lv_room (Nat.le_of_ble_eq_true rfl)) dL_law_286 ⟨Nat.le_of_ble_eq_true rfl, Nat.le_of_ble_eq_true rfl⟩) (fun r1 hr1 => ?_)
        refine lv_aload_n hx hb dL_law_289 rfl (lv_at hl 2 rfl) ?_
        refine lv_aload_n hx hb dL_law_290 rfl (lv_at hl 0 rfl) ?_
        refine lv_iload_n hx hb dL_law_291 rfl (lv_at hl 3 rfl) ?_
        refine lv_iconst (v := 1) hx hb dL_law_292 (by decide) ?_
        refine lv_iadd hx hb dL_law_293 ?_
        refine va_sld hx hb hX hbl hbA hS hin1 dL_law_294 ?_
        refine lv_aload_n hx hb dL_law_295 rfl (lv_at hl 0 rfl) ?_
        refine lv_iload_n hx hb dL_law_296 rfl (lv_at hl 3 rfl) ?_
        refine lv_iconst (v := 2) hx hb dL_law_297 (by decide) ?_
        refine lv_iadd hx hb dL_law_298 ?_
        refine va_sld hx hb hX hbl hbA hS hin2 dL_law_299 ?_
        refine vp_callSi (W.runV (As := [.int (xs (x3 + 1).toNatClampNeg), .int (xs (x3 + 2).toNatClampNeg)]) (rest := [.int r1]) ⟨hx, hb, hml, hown, hts⟩ (mX2_row l dC dI g cI mt (xs (x3 + 1).toNatClampNeg) (xs (x3 + 2).toNatClampNeg) w T sp R.1) (cwV 2 hts (lw_V q256 q257 q258 q12 q259) rfl rfl rfl (by decide +kernel) ⟨Nat.le_of_ble_eq_true rfl, Nat.le_of_ble_eq_true rfl⟩) ⟨qb_blind, va_recv hKm hPm (ci := 1) (q0 := 0) rfl rfl, fun U hU hW => ⟨rfl, by rw [hU]; exact hPm, va_K.moved hW.alike hKm⟩⟩ rfl rfl hl.1 rfl (lv_room (Nat.le_of_ble_eq_true rfl)) dL_law_300 ⟨Nat.le_of_ble_eq_true rfl, Nat.le_of_ble_eq_true rfl⟩) (fun r2 hr2 => ?_)
        refine lv_icmp_eq (tgt := 380) hx hb dL_law_303 (by decide) (fun c_1 => ?_) (fun c_1 => ?_)
        · exact hC xt mt H locs ⟨w, T, sp, rm, R⟩ hP hD hS
        · exact absurd ((show r1 = x_row xt (xs (x3 + 1).toNatClampNeg) (xs (x3 + 2).toNatClampNeg) from hr1).trans ((an_row R (xs (x3 + 1).toNatClampNeg) (xs (x3 + 2).toNatClampNeg)).trans (show r2 = m_row mt w sp (xs (x3 + 1).toNatClampNeg) (xs (x3 + 2).toNatClampNeg) from hr2).symm)) c_1
      by_cases z8 : j = 8
      · subst z8
        refine lv_tableIn (off := 246) (tgt := 308) hx hb dL_law_62 (by decide) (by decide) (by decide) (by decide) ?_
        refine lv_aload_n hx hb dL_law_308 rfl (lv_at hl 1 rfl) ?_
        refine lv_aload_n hx hb dL_law_309 rfl (lv_at hl 0 rfl) ?_
        refine lv_iload_n hx hb dL_law_310 rfl (lv_at hl 3 rfl) ?_
        refine lv_iconst (v := 1) hx hb dL_law_311 (by decide) ?_
        refine lv_iadd hx hb dL_law_312 ?_
        refine va_sld hx hb hX hbl hbA hS hin1 dL_law_313 ?_
        refine vp_callSi (W.runV (As := [.int (xs (x3 + 1).toNatClampNeg)]) (rest := []) ⟨hx, hb, hml, hown, hts⟩ (mX1_peak l dC dI h cI cB xt (xs (x3 + 1).toNatClampNeg) (T / w / sp (xs (x3 + 1).toNatClampNeg).toNatClampNeg) (T / w / sp (xs (x3 + 1).toNatClampNeg).toNatClampNeg - rm (xs (x3 + 1).toNatClampNeg).toNatClampNeg) (an_hyp R)) (cwV 1 hts (lw_V q157 q158 q159 q11 q160) rfl rfl rfl (by decide +kernel) ⟨Nat.le_of_ble_eq_true rfl, Nat.le_of_ble_eq_true rfl⟩) ⟨qb_blind, va_recv hK hPx (ci := 0) (q0 := 0) rfl rfl, fun U hU hW => ⟨rfl, by rw [hU]; exact hPx, va_K.moved hW.alike hK⟩⟩ rfl rfl hl.1 rfl (lv_room (Nat.le_of_ble_eq_true rfl)) dL_law_314 ⟨Nat.le_of_ble_eq_true rfl, Nat.le_of_ble_eq_true rfl⟩) (fun r1 hr1 => ?_)
        refine lv_aload_n hx hb dL_law_317 rfl (lv_at hl 2 rfl) ?_
        refine lv_aload_n hx hb dL_law_318 rfl (lv_at hl 0 rfl) ?_
        refine lv_iload_n hx hb dL_law_319 rfl (lv_at hl 3 rfl) ?_
        refine lv_iconst (v := 1) hx hb dL_law_320 (by decide) ?_
        refine lv_iadd hx hb dL_law_321 ?_
        refine va_sld hx hb hX hbl hbA hS hin1 dL_law_322 ?_
        refine vp_callSi (W.runV (As := [.int (xs (x3 + 1).toNatClampNeg)]) (rest := [.int r1]) ⟨hx, hb, hml, hown, hts⟩ (mX2_peak l dC dI g cI mt (xs (x3 + 1).toNatClampNeg) w T sp R.1) (cwV 1 hts (lw_V q265 q266 q267 q12 q268) rfl rfl rfl (by decide +kernel) ⟨Nat.le_of_ble_eq_true rfl, Nat.le_of_ble_eq_true rfl⟩) ⟨qb_blind, va_recv hKm hPm (ci := 1) (q0 := 0) rfl rfl, fun U hU hW => ⟨rfl, by rw [hU]; exact hPm, va_K.moved hW.alike hKm⟩⟩ rfl rfl hl.1 rfl (lv_room (Nat.le_of_ble_eq_true rfl)) dL_law_323 ⟨Nat.le_of_ble_eq_true rfl, Nat.le_of_ble_eq_true rfl⟩) (fun r2 hr2 => ?_)
        refine lv_icmp_eq (tgt := 380) hx hb dL_law_326 (by decide) (fun c_1 => ?_) (fun c_1 => ?_)
        · exact hC xt mt H locs ⟨w, T, sp, rm, R⟩ hP hD hS
        · exact absurd ((show r1 = x_peak xt (xs (x3 + 1).toNatClampNeg) (T / w / sp (xs (x3 + 1).toNatClampNeg).toNatClampNeg) (T / w / sp (xs (x3 + 1).toNatClampNeg).toNatClampNeg - rm (xs (x3 + 1).toNatClampNeg).toNatClampNeg) from hr1).trans ((an_peak R (xs (x3 + 1).toNatClampNeg)).trans (show r2 = m_peak mt w sp (xs (x3 + 1).toNatClampNeg) from hr2).symm)) c_1
      by_cases z9 : j = 9
      · subst z9
        refine lv_tableIn (off := 269) (tgt := 331) hx hb dL_law_62 (by decide) (by decide) (by decide) (by decide) ?_
        refine lv_aload_n hx hb dL_law_331 rfl (lv_at hl 1 rfl) ?_
        refine lv_aload_n hx hb dL_law_332 rfl (lv_at hl 0 rfl) ?_
        refine lv_iload_n hx hb dL_law_333 rfl (lv_at hl 3 rfl) ?_
        refine lv_iconst (v := 1) hx hb dL_law_334 (by decide) ?_
        refine lv_iadd hx hb dL_law_335 ?_
        refine va_sld hx hb hX hbl hbA hS hin1 dL_law_336 ?_
        refine vp_callSi (W.runV (As := [.int (xs (x3 + 1).toNatClampNeg)]) (rest := []) ⟨hx, hb, hml, hown, hts⟩ (mX1_known l dC dI h cI cB xt (xs (x3 + 1).toNatClampNeg) (T / w / sp (xs (x3 + 1).toNatClampNeg).toNatClampNeg) (T / w / sp (xs (x3 + 1).toNatClampNeg).toNatClampNeg - rm (xs (x3 + 1).toNatClampNeg).toNatClampNeg) (an_hyp R)) (cwV 1 hts (lw_V q165 q166 q167 q11 q168) rfl rfl rfl (by decide +kernel) ⟨Nat.le_of_ble_eq_true rfl, Nat.le_of_ble_eq_true rfl⟩) ⟨qb_blind, va_recv hK hPx (ci := 0) (q0 := 0) rfl rfl, fun U hU hW => ⟨rfl, by rw [hU]; exact hPx, va_K.moved hW.alike hK⟩⟩ rfl rfl hl.1 rfl (lv_room (Nat.le_of_ble_eq_true rfl)) dL_law_337 ⟨Nat.le_of_ble_eq_true rfl, Nat.le_of_ble_eq_true rfl⟩) (fun r1 hr1 => ?_)
        refine lv_aload_n hx hb dL_law_340 rfl (lv_at hl 2 rfl) ?_
        refine lv_aload_n hx hb dL_law_341 rfl (lv_at hl 0 rfl) ?_
        refine lv_iload_n hx hb dL_law_342 rfl (lv_at hl 3 rfl) ?_
        refine lv_iconst (v := 1) hx hb dL_law_343 (by decide) ?_
        refine lv_iadd hx hb dL_law_344 ?_
        refine va_sld hx hb hX hbl hbA hS hin1 dL_law_345 ?_
        refine vp_callSi (W.runV (As := [.int (xs (x3 + 1).toNatClampNeg)]) (rest := [.int r1]) ⟨hx, hb, hml, hown, hts⟩ (mX2_known l dC dI g cI mt (xs (x3 + 1).toNatClampNeg) w T sp R.1) (cwV 1 hts (lw_V q270 q271 q272 q12 q273) rfl rfl rfl (by decide +kernel) ⟨Nat.le_of_ble_eq_true rfl, Nat.le_of_ble_eq_true rfl⟩) ⟨qb_blind, va_recv hKm hPm (ci := 1) (q0 := 0) rfl rfl, fun U hU hW => ⟨rfl, by rw [hU]; exact hPm, va_K.moved hW.alike hKm⟩⟩ rfl rfl hl.1 rfl (lv_room (Nat.le_of_ble_eq_true rfl)) dL_law_346 ⟨Nat.le_of_ble_eq_true rfl, Nat.le_of_ble_eq_true rfl⟩) (fun r2 hr2 => ?_)
        refine lv_icmp_eq (tgt := 380) hx hb dL_law_349 (by decide) (fun c_1 => ?_) (fun c_1 => ?_)
        · exact hC xt mt H locs ⟨w, T, sp, rm, R⟩ hP hD hS
        · exact absurd ((show r1 = x_known xt (xs (x3 + 1).toNatClampNeg) (T / w / sp (xs (x3 + 1).toNatClampNeg).toNatClampNeg) (T / w / sp (xs (x3 + 1).toNatClampNeg).toNatClampNeg - rm (xs (x3 + 1).toNatClampNeg).toNatClampNeg) from hr1).trans ((an_known R (xs (x3 + 1).toNatClampNeg)).trans (show r2 = m_known mt w sp (xs (x3 + 1).toNatClampNeg) from hr2).symm)) c_1
      by_cases z10 : j = 10
      · subst z10
        refine lv_tableIn (off := 292) (tgt := 354) hx hb dL_law_62 (by decide) (by decide) (by decide) (by decide) ?_
        refine lv_aload_n hx hb dL_law_354 rfl (lv_at hl 1 rfl) ?_
        refine vp_callSi (W.runV (As := []) (rest := []) ⟨hx, hb, hml, hown, hts⟩ (mX1_pending l dC dI h cI cB xt) (cwV 0 hts (lw_V q169 q170 q171 q11 q172) rfl rfl rfl (by decide +kernel) ⟨Nat.le_of_ble_eq_true rfl, Nat.le_of_ble_eq_true rfl⟩) ⟨qb_blind, va_recv hK hPx (ci := 0) (q0 := 0) rfl rfl, fun U hU hW => ⟨rfl, by rw [hU]; exact hPx, va_K.moved hW.alike hK⟩⟩ rfl rfl hl.1 rfl (lv_room (Nat.le_of_ble_eq_true rfl)) dL_law_355 ⟨Nat.le_of_ble_eq_true rfl, Nat.le_of_ble_eq_true rfl⟩) (fun r1 hr1 => ?_)
        refine lv_aload_n hx hb dL_law_358 rfl (lv_at hl 2 rfl) ?_
        refine vp_callSi (W.runV (As := []) (rest := [.int r1]) ⟨hx, hb, hml, hown, hts⟩ (mX2_pending l dC dI g cI mt (m_w_ne R.1)) (cwV 0 hts (lw_V q274 q275 q276 q12 q277) rfl rfl rfl (by decide +kernel) ⟨Nat.le_of_ble_eq_true rfl, Nat.le_of_ble_eq_true rfl⟩) ⟨qb_blind, va_recv hKm hPm (ci := 1) (q0 := 0) rfl rfl, fun U hU hW => ⟨rfl, by rw [hU]; exact hPm, va_K.moved hW.alike hKm⟩⟩ rfl rfl hl.1 rfl (lv_room (Nat.le_of_ble_eq_true rfl)) dL_law_359 ⟨Nat.le_of_ble_eq_true rfl, Nat.le_of_ble_eq_true rfl⟩) (fun r2 hr2 => ?_)
        refine lv_icmp_eq (tgt := 380) hx hb dL_law_362 (by decide) (fun c_1 => ?_) (fun c_1 => ?_)
        · exact hC xt mt H locs ⟨w, T, sp, rm, R⟩ hP hD hS
        · exact absurd ((show r1 = xt.1 6 from hr1).trans ((an_pend R).trans (show r2 = m_pend mt from hr2).symm)) c_1
      by_cases z11 : j = 11
      · subst z11
        refine lv_tableIn (off := 305) (tgt := 367) hx hb dL_law_62 (by decide) (by decide) (by decide) (by decide) ?_
        refine lv_aload_n hx hb dL_law_367 rfl (lv_at hl 1 rfl) ?_
        refine vp_callSi (W.runV (As := []) (rest := []) ⟨hx, hb, hml, hown, hts⟩ (mX1_pendingSum l dC dI h cI cB xt) (cwV 0 hts (lw_V q173 q174 q175 q11 q176) rfl rfl rfl (by decide +kernel) ⟨Nat.le_of_ble_eq_true rfl, Nat.le_of_ble_eq_true rfl⟩) ⟨qb_blind, va_recv hK hPx (ci := 0) (q0 := 0) rfl rfl, fun U hU hW => ⟨rfl, by rw [hU]; exact hPx, va_K.moved hW.alike hK⟩⟩ rfl rfl hl.1 rfl (lv_room (Nat.le_of_ble_eq_true rfl)) dL_law_368 ⟨Nat.le_of_ble_eq_true rfl, Nat.le_of_ble_eq_true rfl⟩) (fun r1 hr1 => ?_)
        refine lv_aload_n hx hb dL_law_371 rfl (lv_at hl 2 rfl) ?_
        refine vp_callSi (W.runV (As := []) (rest := [.int r1]) ⟨hx, hb, hml, hown, hts⟩ (mX2_pendingSum l dC dI g cI mt w T sp R.1) (cwV 0 hts (lw_V q278 q279 q280 q12 q281) rfl rfl rfl (by decide +kernel) ⟨Nat.le_of_ble_eq_true rfl, Nat.le_of_ble_eq_true rfl⟩) ⟨qb_blind, va_recv hKm hPm (ci := 1) (q0 := 0) rfl rfl, fun U hU hW => ⟨rfl, by rw [hU]; exact hPm, va_K.moved hW.alike hKm⟩⟩ rfl rfl hl.1 rfl (lv_room (Nat.le_of_ble_eq_true rfl)) dL_law_372 ⟨Nat.le_of_ble_eq_true rfl, Nat.le_of_ble_eq_true rfl⟩) (fun r2 hr2 => ?_)
        refine lv_icmp_eq (tgt := 380) hx hb dL_law_375 (by decide) (fun c_1 => ?_) (fun c_1 => ?_)
        · exact hC xt mt H locs ⟨w, T, sp, rm, R⟩ hP hD hS
        · exact absurd ((show r1 = xt.1 8 from hr1).trans ((an_pendSum R).trans (show r2 = m_pendSum mt w T from hr2).symm)) c_1
      refine lv_tableOut (tgt := 380) hx hb dL_law_62 (sw_out hj (by omega)) (by decide) ?_
      exact hC xt mt H locs hR hP hD hS
end
section
set_option maxHeartbeats 4000000 in
set_option maxRecDepth 100000 in
/-- from the entry, for every script of at most 195 ints, the law comes to its end with true -/
theorem whole_start {p : Program} {e : Env} {s : State} {m : MethodId} {below : List Frame} {meth : Method} {c : Code} (l : Launch) {b L : Nat} {xs : Nat → Int32} (hL : L ≤ 195) (C0 : lw_At p s m meth c b L xs) : W p l e room_1 s m #[Value.ref b] below meth c s.heap [] 0 0 (lw_Z below #[Value.ref b] s) (entryFrame m ([Value.ref b] : List Value).toArray 4) := by
  obtain ⟨hx, hb, hr, hml, hown, hts0, hX, hbl, hlocks, hgv⟩ := id C0
  have hts : ∀ w ∈ lw_all, w.before #[Value.ref b] s = true := fun w h => hts0 w (lw_all_tbl h)
  have hA : ∀ q : Nat, s.heap.size ≤ q → (fun q : Nat => s.heap.size ≤ q) q := fun _ h => h
  have hbA : ¬ (fun q : Nat => s.heap.size ≤ q) b := Nat.not_le.mpr hbl
  obtain ⟨c0_, iS0, hKn0⟩ := u_known (C := RX1) (T := TX1) (N := 23) (n := 23) hts in_X1 (hts _ q14)
  obtain ⟨c1_, iS1, hKn1⟩ := u_known (C := RX2) (T := TX2) (N := 10) (n := 10) hts in_X2 (hts _ q181)
  obtain ⟨dC, dI, hKc⟩ : ∃ (dC : Nat → ClassId) (dI : Nat → Nat → Nat), ∀ (k : Nat) (q : vw_C), clsL[k]? = some q → u_Kn s q.1 q.2.1 q.2.2 (dC k) (dI k) := by
    refine ⟨fun k => if k = 0 then c0_ else c1_, fun k => if k = 0 then iS0 else iS1, ?_⟩
    intro k q hq
    match k, hq with
    | 0, hq => cases hq; exact hKn0
    | 1, hq => cases hq; exact hKn1
    | k + 2, hq => simp [clsL] at hq
  have hS : va_S (fun q : Nat => s.heap.size ≤ q) s.heap s.heap [] := va_S.rf
  have hK : va_K (dC, dI) clsL [] s := ⟨hKc, fun k q h => by simp at h⟩
  have hP : va_P (dC, dI) clsL [] s.heap := fun k q h => by simp at h
  have hD : va_D (fun q : Nat => s.heap.size ≤ q) [] := ⟨fun i j p q h => by simp at h, fun k q h => by simp at h⟩
  have hl := lv_entry ([.ref b]) (n := 4) (Nat.le_of_ble_eq_true rfl)
  rw [lg_entry_eq]
  generalize (lg_sl ([.ref b]) ++ List.replicate (4 - (lg_sl ([.ref b])).length) Slot.unset).toArray = ls at hl ⊢
  have hl : lv_has ls 4 [(0, .ref b)] := hl
  refine va_new (ci := 0) (fs := [.int 0, .int 0, .int 0, .int 0, .int 0, .null, .int 0, .int 0, .int 0, .int 0, .int 0, .null, .null, .null, .null, .null, .null, .null, .null, .null, .null, .null, .null]) (C := RX1) (T := TX1) (N := 23) hx hb hts in_X1 tyX1 tyX1_ok hown (hts _ q13) (hts _ q14) (hts _ q11) hK hP hD hS hA rfl (fun j hj => by rcases (show j = 0 ∨ j = 1 ∨ j = 2 ∨ j = 3 ∨ j = 4 ∨ j = 5 ∨ j = 6 ∨ j = 7 ∨ j = 8 ∨ j = 9 ∨ j = 10 ∨ j = 11 ∨ j = 12 ∨ j = 13 ∨ j = 14 ∨ j = 15 ∨ j = 16 ∨ j = 17 ∨ j = 18 ∨ j = 19 ∨ j = 20 ∨ j = 21 ∨ j = 22 by omega) with rfl | rfl | rfl | rfl | rfl | rfl | rfl | rfl | rfl | rfl | rfl | rfl | rfl | rfl | rfl | rfl | rfl | rfl | rfl | rfl | rfl | rfl | rfl <;> rfl) (Nat.le_of_ble_eq_true rfl) (Nat.le_of_ble_eq_true rfl) dL_law_0 (fun q H hP hD hS => ?_)
  have hP : va_P (dC, dI) clsL [(q, .inr (0, [.int 0, .int 0, .int 0, .int 0, .int 0, .null, .int 0, .int 0, .int 0, .int 0, .int 0, .null, .null, .null, .null, .null, .null, .null, .null, .null, .null, .null, .null]))] H := hP
  have hD : va_D (fun q : Nat => s.heap.size ≤ q) [(q, .inr (0, [.int 0, .int 0, .int 0, .int 0, .int 0, .null, .int 0, .int 0, .int 0, .int 0, .int 0, .null, .null, .null, .null, .null, .null, .null, .null, .null, .null, .null, .null]))] := hD
  refine W.widen (k := 1) (n := 23) (by decide) (by decide) ?_
  refine lv_dup hx hb dL_law_3 rfl ?_
  refine lv_aload_n hx hb dL_law_4 rfl (lv_at hl 0 rfl) ?_
  refine lv_iconst (v := 0) hx hb dL_law_5 (by decide) ?_
  refine vp_callSi (W.runS (As := [.ref b, .int 0]) (rest := [.ref q, .ref q]) ⟨hx, hb, hml, hown, hts⟩ (mX0_cell l b L xs 0 (by decide) (by omega)) (va_cwS 2 hts (lw_S q177 q178 q10 q179) rfl rfl rfl (by decide +kernel) ⟨Nat.le_of_ble_eq_true rfl, Nat.le_of_ble_eq_true rfl⟩) ⟨cb_blind, fun U hU hW => ⟨rfl, by show va_X b L xs U U.heap; rw [hU]; exact (hX.kept (hS.2.1 b hbl hbA)).moved hW.alike⟩⟩ rfl rfl hl.1 rfl (lv_room (Nat.le_of_ble_eq_true rfl)) dL_law_6 ⟨Nat.le_of_ble_eq_true rfl, Nat.le_of_ble_eq_true rfl⟩) (fun ra0 hra0 => ?_)
  have hra0 : ra0 = cellV L xs 0 := hra0
  subst hra0
  refine lv_aload_n hx hb dL_law_9 rfl (lv_at hl 0 rfl) ?_
  refine lv_iconst (v := 1) hx hb dL_law_10 (by decide) ?_
  refine vp_callSi (W.runS (As := [.ref b, .int 1]) (rest := [.int (cellV L xs 0), .ref q, .ref q]) ⟨hx, hb, hml, hown, hts⟩ (mX0_cell l b L xs 1 (by decide) (by omega)) (va_cwS 2 hts (lw_S q177 q178 q10 q179) rfl rfl rfl (by decide +kernel) ⟨Nat.le_of_ble_eq_true rfl, Nat.le_of_ble_eq_true rfl⟩) ⟨cb_blind, fun U hU hW => ⟨rfl, by show va_X b L xs U U.heap; rw [hU]; exact (hX.kept (hS.2.1 b hbl hbA)).moved hW.alike⟩⟩ rfl rfl hl.1 rfl (lv_room (Nat.le_of_ble_eq_true rfl)) dL_law_11 ⟨Nat.le_of_ble_eq_true rfl, Nat.le_of_ble_eq_true rfl⟩) (fun ra1 hra1 => ?_)
  have hra1 : ra1 = cellV L xs 1 := hra1
  subst hra1
  refine lv_aload_n hx hb dL_law_14 rfl (lv_at hl 0 rfl) ?_
  refine lv_iconst (v := 2) hx hb dL_law_15 (by decide) ?_
  refine vp_callSi (W.runS (As := [.ref b, .int 2]) (rest := [.int (cellV L xs 1), .int (cellV L xs 0), .ref q, .ref q]) ⟨hx, hb, hml, hown, hts⟩ (mX0_cell l b L xs 2 (by decide) (by omega)) (va_cwS 2 hts (lw_S q177 q178 q10 q179) rfl rfl rfl (by decide +kernel) ⟨Nat.le_of_ble_eq_true rfl, Nat.le_of_ble_eq_true rfl⟩) ⟨cb_blind, fun U hU hW => ⟨rfl, by show va_X b L xs U U.heap; rw [hU]; exact (hX.kept (hS.2.1 b hbl hbA)).moved hW.alike⟩⟩ rfl rfl hl.1 rfl (lv_room (Nat.le_of_ble_eq_true rfl)) dL_law_16 ⟨Nat.le_of_ble_eq_true rfl, Nat.le_of_ble_eq_true rfl⟩) (fun ra2 hra2 => ?_)
  have hra2 : ra2 = cellV L xs 2 := hra2
  subst hra2
  have hFc := va_free (wc := [(q, .inr (0, [.int 0, .int 0, .int 0, .int 0, .int 0, .null, .int 0, .int 0, .int 0, .int 0, .int 0, .null, .null, .null, .null, .null, .null, .null, .null, .null, .null, .null, .null]))]) hD hS hA [0] rfl
  refine va_callv (va_runI (As := [.int (cellV L xs 0), .int (cellV L xs 1), .int (cellV L xs 2)]) (rest := [.ref q]) ⟨hx, hb, hml, hown, hts⟩ (mX1_init l dC dI q (cellV L xs 0) (cellV L xs 1) (cellV L xs 2) _) (cwI 3 hts (lw_meth q17) rfl rfl rfl (hts _ q11) (hts _ q15) (hts _ q16) rfl (by decide +kernel) ⟨Nat.le_of_ble_eq_true rfl, Nat.le_of_ble_eq_true rfl⟩) ⟨mb_blind, fun U hU hW => ⟨rfl, by rw [hU], by rw [hU]; exact hP, va_K.moved hW.alike hK, hD.weaken (fun _ _ _ _ => trivial)⟩⟩ rfl rfl hl.1 rfl (lv_room (Nat.le_of_ble_eq_true rfl)) dL_law_19 ⟨Nat.le_of_ble_eq_true rfl, Nat.le_of_ble_eq_true rfl⟩) hS (fun q _ h => hFc q h) hFc (fun u t H1 locs ht hvm hw hB hz1 hk1 hS => ?_)
  obtain ⟨h, cI, cB⟩ := u
  have hw : h 0 = q := hw
  subst hw
  obtain ⟨hP1, hK1, hD1⟩ := hB
  have hP : va_P (dC, dI) clsL (xw h cI cB (x_init (cellV L xs 0) (cellV L xs 1) (cellV L xs 2))) H1 := by rw [← ht]; exact hP1
  have hK : va_K (dC, dI) clsL [(cI, .int), (cB, .byte)] s := va_K.moved hvm.symm hK1
  have hD : va_D (fun q : Nat => s.heap.size ≤ q) (xw h cI cB (x_init (cellV L xs 0) (cellV L xs 1) (cellV L xs 2))) := hD1.weaken (B := (fun q : Nat => s.heap.size ≤ q)) (fun k q _ h => hFc q.1 h)
  refine W.widen (k := 14) (n := 93) (by decide) (by decide) ?_
  refine lv_astore_n (lv' := [(1, .ref (h 0)), (0, .ref b)]) hx hb dL_law_22 rfl hl (by decide) rfl (fun ls hl => ?_)
  refine va_new (ci := 1) (fs := [.int 0, .int 0, .int 0, .null, .null, .null, .null, .int 0, .int 0, .null]) (C := RX2) (T := TX2) (N := 10) hx hb hts in_X2 tyX2 tyX2_ok hown (hts _ q180) (hts _ q181) (hts _ q12) hK hP hD hS hA rfl (fun j hj => by rcases (show j = 0 ∨ j = 1 ∨ j = 2 ∨ j = 3 ∨ j = 4 ∨ j = 5 ∨ j = 6 ∨ j = 7 ∨ j = 8 ∨ j = 9 by omega) with rfl | rfl | rfl | rfl | rfl | rfl | rfl | rfl | rfl | rfl <;> rfl) (Nat.le_of_ble_eq_true rfl) (Nat.le_of_ble_eq_true rfl) dL_law_23 (fun q H hP hD hS => ?_)
  have hP : va_P (dC, dI) clsL (xw h cI cB (x_init (cellV L xs 0) (cellV L xs 1) (cellV L xs 2)) ++ [(q, .inr (1, [.int 0, .int 0, .int 0, .null, .null, .null, .null, .int 0, .int 0, .null]))]) H := hP
  have hD : va_D (fun q : Nat => s.heap.size ≤ q) (xw h cI cB (x_init (cellV L xs 0) (cellV L xs 1) (cellV L xs 2)) ++ [(q, .inr (1, [.int 0, .int 0, .int 0, .null, .null, .null, .null, .int 0, .int 0, .null]))]) := hD
  refine W.widen (k := 15) (n := 103) (by decide) (by decide) ?_
  refine lv_dup hx hb dL_law_26 rfl ?_
  refine lv_aload_n hx hb dL_law_27 rfl (lv_at hl 1 rfl) ?_
  refine lv_iconst (v := 0) hx hb dL_law_28 (by decide) ?_
  refine vp_callSi (W.runS (As := [.ref b, .int 0]) (rest := [.ref q, .ref q]) ⟨hx, hb, hml, hown, hts⟩ (mX0_cell l b L xs 0 (by decide) (by omega)) (va_cwS 2 hts (lw_S q177 q178 q10 q179) rfl rfl rfl (by decide +kernel) ⟨Nat.le_of_ble_eq_true rfl, Nat.le_of_ble_eq_true rfl⟩) ⟨cb_blind, fun U hU hW => ⟨rfl, by show va_X b L xs U U.heap; rw [hU]; exact (hX.kept (hS.2.1 b hbl hbA)).moved hW.alike⟩⟩ rfl rfl hl.1 rfl (lv_room (Nat.le_of_ble_eq_true rfl)) dL_law_29 ⟨Nat.le_of_ble_eq_true rfl, Nat.le_of_ble_eq_true rfl⟩) (fun rb0 hrb0 => ?_)
  have hrb0 : rb0 = cellV L xs 0 := hrb0
  subst hrb0
  refine lv_aload_n hx hb dL_law_32 rfl (lv_at hl 1 rfl) ?_
  refine lv_iconst (v := 1) hx hb dL_law_33 (by decide) ?_
  refine vp_callSi (W.runS (As := [.ref b, .int 1]) (rest := [.int (cellV L xs 0), .ref q, .ref q]) ⟨hx, hb, hml, hown, hts⟩ (mX0_cell l b L xs 1 (by decide) (by omega)) (va_cwS 2 hts (lw_S q177 q178 q10 q179) rfl rfl rfl (by decide +kernel) ⟨Nat.le_of_ble_eq_true rfl, Nat.le_of_ble_eq_true rfl⟩) ⟨cb_blind, fun U hU hW => ⟨rfl, by show va_X b L xs U U.heap; rw [hU]; exact (hX.kept (hS.2.1 b hbl hbA)).moved hW.alike⟩⟩ rfl rfl hl.1 rfl (lv_room (Nat.le_of_ble_eq_true rfl)) dL_law_34 ⟨Nat.le_of_ble_eq_true rfl, Nat.le_of_ble_eq_true rfl⟩) (fun rb1 hrb1 => ?_)
  have hrb1 : rb1 = cellV L xs 1 := hrb1
  subst hrb1
  refine lv_aload_n hx hb dL_law_37 rfl (lv_at hl 1 rfl) ?_
  refine lv_iconst (v := 2) hx hb dL_law_38 (by decide) ?_
  refine vp_callSi (W.runS (As := [.ref b, .int 2]) (rest := [.int (cellV L xs 1), .int (cellV L xs 0), .ref q, .ref q]) ⟨hx, hb, hml, hown, hts⟩ (mX0_cell l b L xs 2 (by decide) (by omega)) (va_cwS 2 hts (lw_S q177 q178 q10 q179) rfl rfl rfl (by decide +kernel) ⟨Nat.le_of_ble_eq_true rfl, Nat.le_of_ble_eq_true rfl⟩) ⟨cb_blind, fun U hU hW => ⟨rfl, by show va_X b L xs U U.heap; rw [hU]; exact (hX.kept (hS.2.1 b hbl hbA)).moved hW.alike⟩⟩ rfl rfl hl.1 rfl (lv_room (Nat.le_of_ble_eq_true rfl)) dL_law_39 ⟨Nat.le_of_ble_eq_true rfl, Nat.le_of_ble_eq_true rfl⟩) (fun rb2 hrb2 => ?_)
  have hrb2 : rb2 = cellV L xs 2 := hrb2
  subst hrb2
  have hPc := hP.sub (ws' := [(q, .inr (1, [.int 0, .int 0, .int 0, .null, .null, .null, .null, .int 0, .int 0, .null]))]) [14] rfl
  have hDc := hD.sub (ws' := [(q, .inr (1, [.int 0, .int 0, .int 0, .null, .null, .null, .null, .int 0, .int 0, .null]))]) [14] (by decide) rfl
  have hKc0 := hK.sub (tys' := []) [] rfl
  have hFc := va_free (wc := [(q, .inr (1, [.int 0, .int 0, .int 0, .null, .null, .null, .null, .int 0, .int 0, .null]))]) hD hS hA [14] rfl
  refine va_callv (va_runI (As := [.int (cellV L xs 0), .int (cellV L xs 1), .int (cellV L xs 2)]) (rest := [.ref q]) ⟨hx, hb, hml, hown, hts⟩ (mX2_init l dC dI q (cellV L xs 0) (cellV L xs 1) (cellV L xs 2) _) (cwI 3 hts (lw_meth q184) rfl rfl rfl (hts _ q12) (hts _ q182) (hts _ q183) rfl (by decide +kernel) ⟨Nat.le_of_ble_eq_true rfl, Nat.le_of_ble_eq_true rfl⟩) ⟨mb_blind, fun U hU hW => ⟨rfl, by rw [hU], by rw [hU]; exact hPc, va_K.moved hW.alike hKc0, hDc.weaken (fun _ _ _ _ => trivial)⟩⟩ rfl rfl hl.1 rfl (lv_room (Nat.le_of_ble_eq_true rfl)) dL_law_42 ⟨Nat.le_of_ble_eq_true rfl, Nat.le_of_ble_eq_true rfl⟩) hS (fun q _ h => hFc q h) hFc (fun u t H2 locs ht hvm hw hB hz1 hk1 hS => ?_)
  obtain ⟨g, cJ⟩ := u
  have hw : g 0 = q := hw
  subst hw
  obtain ⟨hP1, hK1, hD1⟩ := hB
  rw [ht] at hP1
  have hK2 : va_K (dC, dI) clsL [(cJ, .int)] s := va_K.moved hvm.symm hK1
  have ec : cJ = cI := Option.some.inj ((va_nm_int (hK2.2 0 _ rfl).2).symm.trans (va_nm_int (hK.2 0 _ rfl).2))
  obtain ⟨hP, hD⟩ := va_join (wr := xw h cI cB (x_init (cellV L xs 0) (cellV L xs 1) (cellV L xs 2))) (w1 := mw g cJ (m_init (cellV L xs 0) (cellV L xs 1) (cellV L xs 2))) hP hD [14] [0, 1, 2, 3, 4, 5, 6, 7, 8, 9, 10, 11, 12, 13] rfl rfl (by decide) (by decide) hk1 hFc hP1 hD1
  rw [ec] at hP hD
  refine W.widen (k := 20) (n := 352) (by decide) (by decide) ?_
  refine lv_astore_n (lv' := [(2, .ref (g 0)), (1, .ref (h 0)), (0, .ref b)]) hx hb dL_law_45 rfl hl (by decide) rfl (fun ls hl => ?_)
  refine lv_iconst (v := 3) hx hb dL_law_46 (by decide) ?_
  refine lv_istore_n (lv' := [(3, .int 3), (2, .ref (g 0)), (1, .ref (h 0)), (0, .ref b)]) hx hb dL_law_47 rfl hl (by decide) rfl (fun ls hl => ?_)
  exact law_loop hL C0 h g cI cB hK (L + 1) 3 (x_init (cellV L xs 0) (cellV L xs 1) (cellV L xs 2)) (m_init (cellV L xs 0) (cellV L xs 1) (cellV L xs 2)) 3 H2 _ ls (start_Rl _ _ _) rfl (by decide) (by omega) (by omega) hP hD hS (lv_sub hl [3, 2, 1, 0] rfl)
end
section
set_option maxHeartbeats 4000000 in
theorem lw_walk (l : Launch) (b : Addr) (xs : List Int32) : MetFree l x (headSpec (Jvm.Cond.code x code maxLocals ret :: tables_1) room_1) (lw_P b xs) (fun _ _ _ _ _ => True) lw_Q := by
  refine MetFree.of_bodyS (code := code) (maxLocals := maxLocals) (ret := ret) (by decide) ?_ ?_
  · intro args s m h hn
    obtain ⟨meth, c, h1, h2, h3, h4, h5, h6, -, -⟩ := Cond.code_spec hn (atoms_spec (ws := Jvm.Cond.code x code maxLocals ret :: tables_1) h _ List.mem_cons_self)
    exact ⟨meth, c, h1, h2, h3, h4, h5, h6⟩
  · intro p e s m args below meth c s₁ B hml0 hP _
    obtain ⟨rfl, hx, hbd, hgv⟩ := hP
    obtain ⟨scr, harrAt, hlist, hof, hsmall⟩ := hx
    obtain ⟨hcb, hkn, -, -⟩ := State.arrayAt?_spec harrAt
    have hown : s.vm.findClass R_law = some m.cls := findClass_of_methodNamed B.named
    have hts0 : ∀ c ∈ (Jvm.Cond.code x code maxLocals ret :: tables_1), c.before #[Value.ref b] s = true := atoms_spec (ws := Jvm.Cond.code x code maxLocals ret :: tables_1) B.pre
    have hts : ∀ w ∈ lw_tbl, w.before #[Value.ref b] s = true := k2_hts_sels lw_privs (fun w hw => hts0 w (List.mem_cons_of_mem _ hw)) lw_privs_ok
    have hml : c.maxLocals = 4 := B.maxLocals_eq (hts0 _ List.mem_cons_self)
    have X₀ : Stand p l e room_1 s m #[Value.ref b] below meth c s₁ [] 0 0 := Stand.of_body B
    have hh0 : s₁.heap = s.heap := by rw [B.state]; rfl
    have hsz : scr.slots.size = xs.length := by rw [← Array.length_toList, hlist, List.length_map]
    have hval : ∀ j : Nat, j < xs.length → scr.slots[j]? = some (.int (xs.getD j 0)) := fun j hj => by
      rw [← Array.getElem?_toList, hlist]
      simp [hj]
    have hbl : b < s.heap.size := (Array.getElem?_eq_some_iff.mp hcb).1
    have hX : va_X b xs.length (fun j => xs.getD j 0) s s.heap := ⟨scr, hcb, hof, hkn, hsz, hval⟩
    have K : W p l e room_1 s m #[Value.ref b] below meth c s₁.heap [] 0 0 (lw_Z below #[Value.ref b] s) (entryFrame m ([Value.ref b] : List Value).toArray 4) := by
      rw [hh0]
      exact whole_start l hbd ⟨B.exec, B.bytes, B.returns, hml, hown, hts, hX, hbl, B.notSynchronized, hgv⟩
    obtain ⟨t, a1, o, b1, b2, b3⟩ := K s₁ rfl X₀
    exact ⟨t, o, a1, b1, b2, b3⟩
theorem lw_pre_spec {args : Array Value} {s : State} (h : (Jvm.Cond.and given_1 narrow_1).before args s = true) (hr : rest_1_c.before args s = true) : ∃ (b : Addr) (xs : List Int32), lw_P b xs args s := by
  have hs := flat_of_before _ h
  have hq := flat_of_before _ hr
  have hc : (Cond.count 1).before args s = true := hs _ (by decide +kernel)
  have harr : (Cond.arrayOf (.arg 0) .int).before args s = true := hs _ (by decide +kernel)
  have hle : (Cond.le (.length (.arg 0)) (.int 195)).before args s = true := hs _ (by decide +kernel)
  have hlen : (Cond.isInt (.length (.arg 0))).before args s = true := hq _ (by decide +kernel)
  have hall : (Cond.all (.arg 0) (.isInt (.elem (.arg 0) (.index 0)))).before args s = true := hq _ (by decide +kernel)
  obtain ⟨b, xs, hb, hx⟩ := State.ints_of_pre rfl harr hlen hall
  have hsm : xs.length < 2 ^ 31 := hx.choose_spec.2.2.2
  have hev : (Term.length (.arg 0)).eval args s none [] s = some (.int xs.length.toInt32) := hx.length_eval hb
  have hv := Cond.le_ints hev (show (Term.int 195).eval args s none [] s = some (.int 195) from rfl)
  have hd : xs.length.toInt32 ≤ 195 := by
    simpa [Cond.before, Cond.holds, hv] using hle
  have hN : xs.length ≤ 195 := (Int32.ofNat_le_ofNat hsm (by decide)).mp (show Int32.ofNat xs.length ≤ Int32.ofNat 195 from hd)
  exact ⟨b, xs, Cond.one_arg hc (show args[0]? = some (.ref b) from hb), hx, hN, h⟩
theorem lw_comes (l : Launch) : Comes l x (Jvm.Cond.code x code maxLocals ret :: tables_1) room_1 (fun tb e args s => Calls_1 tb e args s ∧ rest_1 tb e args s ∧ Pre_1 tb e args s)
    (fun _ _ args s o t => lw_Q args s o t) := by
  intro p e ha hc hk s m args below hf hfit hheap happ hpre
  obtain ⟨b, xs, hP⟩ := lw_pre_spec hpre.2.2 hpre.2.1
  obtain ⟨k, o, h1, h2, h3, hQ⟩ := lw_walk l b xs p e ha hc hk s m args below hf ((Spec.applies_iff_loose hf).mp happ).1 hP trivial
  exact ⟨k, o, h1, h2, h3, hQ⟩
theorem lw_frame {s t : State} {o : Outcome} {args : Array Value} (h : Framed s o t [] 600000 7290000) :
    Framed s o t (fieldLocs frame_1_writes args s ++ arrayLocs frame_1_arrays args s ++ staticLocs frame_1_statics s) 600000 7290000 := h
theorem lw_limb (L : Cond) (hL : ∀ (args : Array Value) (s t : State), L.after args s (.returned (some (.int 1))) t = true) :
    ArmFor flags0 classFile x code maxLocals ret World_1 tables_1 room_1 Calls_1 rest_1 Pre_1
      (fun tb e a s o t => postC L tb e a s o t ∧ Framed s o t (fieldLocs frame_1_writes a s ++ arrayLocs frame_1_arrays a s ++ staticLocs frame_1_statics s) 600000 7290000) := by
  intro l _ _ _ p e ha hc hk s m args below hf hfit hheap happ hpre
  obtain ⟨k, o, h1, h2, h3, rfl, hF⟩ := lw_comes l p e ha hc hk s m args below hf hfit hheap happ hpre
  exact ⟨k, _, h1, h2, h3, hL args s _, lw_frame hF⟩
theorem i_vc : Claimed_1_1 ∧ Claimed_1_2 := ⟨lw_limb limb_1_1 (fun args s t => by simp [limb_1_1, Cond.after, Cond.holds, Cond.value]), lw_limb limb_1_2 (fun args s t => Cond.after_iff.mpr (by
  first | (rw [show limb_1_2 = Cond.eq .result (.int 1) from rfl, Cond.eq_ints (x := 1) (y := 1) rfl rfl]; simp; done) | (simp [limb_1_2, Cond.value, Term.eval]; done)))⟩
end
