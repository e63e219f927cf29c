section
-- ===== PART A: goes FIRST, ahead of the names: the tables' words, and 'selects' of the private methods out of them =====
/-- a private method of a class that the tables say can be made, by its rows of tables_1 -/
def lw_okq (q : MethodName × Nat) : Prop := (q.1.cls ≠ "java/lang/invoke/MethodHandle" ∧ q.1.cls ≠ "java/lang/invoke/VarHandle") ∧ Cond.instantiable q.1.cls q.2 ∈ tables_1 ∧ Cond.privateMethod q.1 ∈ tables_1 ∧ Cond.instanceMethod q.1 ∈ tables_1
set_option maxRecDepth 100000
theorem lw_p0 : lw_okq (⟨"RgaText", "textLength", "(I)I"⟩, 9) := ⟨⟨by decide +kernel, by decide +kernel⟩, List.mem_of_getElem? (i := 4) rfl, List.mem_of_getElem? (i := 49) rfl, List.mem_of_getElem? (i := 50) rfl⟩
theorem lw_p1 : lw_okq (⟨"RgaText", "shows", "(II)Z"⟩, 9) := ⟨⟨by decide +kernel, by decide +kernel⟩, List.mem_of_getElem? (i := 4) rfl, List.mem_of_getElem? (i := 56) rfl, List.mem_of_getElem? (i := 57) rfl⟩
theorem lw_p2 : lw_okq (⟨"RgaText", "shownAt", "(II)I"⟩, 9) := ⟨⟨by decide +kernel, by decide +kernel⟩, List.mem_of_getElem? (i := 4) rfl, List.mem_of_getElem? (i := 60) rfl, List.mem_of_getElem? (i := 61) rfl⟩
theorem lw_p3 : lw_okq (⟨"RgaText", "linkBehind", "(III)V"⟩, 9) := ⟨⟨by decide +kernel, by decide +kernel⟩, List.mem_of_getElem? (i := 4) rfl, List.mem_of_getElem? (i := 64) rfl, List.mem_of_getElem? (i := 65) rfl⟩
theorem lw_p4 : lw_okq (⟨"RgaText", "integrate", "(II)V"⟩, 9) := ⟨⟨by decide +kernel, by decide +kernel⟩, List.mem_of_getElem? (i := 4) rfl, List.mem_of_getElem? (i := 76) rfl, List.mem_of_getElem? (i := 77) rfl⟩
theorem lw_p5 : lw_okq (⟨"RgaText", "ahead", "(II)Z"⟩, 9) := ⟨⟨by decide +kernel, by decide +kernel⟩, List.mem_of_getElem? (i := 4) rfl, List.mem_of_getElem? (i := 80) rfl, List.mem_of_getElem? (i := 81) rfl⟩
theorem lw_p6 : lw_okq (⟨"RgaText", "unknown", "(II)Z"⟩, 9) := ⟨⟨by decide +kernel, by decide +kernel⟩, List.mem_of_getElem? (i := 4) rfl, List.mem_of_getElem? (i := 100) rfl, List.mem_of_getElem? (i := 101) rfl⟩
theorem lw_p7 : lw_okq (⟨"RgaText", "countBefore", "(IIZ)I"⟩, 9) := ⟨⟨by decide +kernel, by decide +kernel⟩, List.mem_of_getElem? (i := 4) rfl, List.mem_of_getElem? (i := 104) rfl, List.mem_of_getElem? (i := 105) rfl⟩
theorem lw_p8 : lw_okq (⟨"RgaText", "nextShown", "(II)I"⟩, 9) := ⟨⟨by decide +kernel, by decide +kernel⟩, List.mem_of_getElem? (i := 4) rfl, List.mem_of_getElem? (i := 120) rfl, List.mem_of_getElem? (i := 121) rfl⟩
theorem lw_p9 : lw_okq (⟨"RgaTextModel", "isReplica", "(I)Z"⟩, 11) := ⟨⟨by decide +kernel, by decide +kernel⟩, List.mem_of_getElem? (i := 124) rfl, List.mem_of_getElem? (i := 169) rfl, List.mem_of_getElem? (i := 170) rfl⟩
theorem lw_p10 : lw_okq (⟨"RgaTextModel", "isShown", "(II)Z"⟩, 11) := ⟨⟨by decide +kernel, by decide +kernel⟩, List.mem_of_getElem? (i := 124) rfl, List.mem_of_getElem? (i := 177) rfl, List.mem_of_getElem? (i := 178) rfl⟩
theorem lw_p11 : lw_okq (⟨"RgaTextModel", "isKnown", "(II)Z"⟩, 11) := ⟨⟨by decide +kernel, by decide +kernel⟩, List.mem_of_getElem? (i := 124) rfl, List.mem_of_getElem? (i := 181) rfl, List.mem_of_getElem? (i := 182) rfl⟩
theorem lw_p12 : lw_okq (⟨"RgaTextModel", "arrange", "(I)V"⟩, 11) := ⟨⟨by decide +kernel, by decide +kernel⟩, List.mem_of_getElem? (i := 124) rfl, List.mem_of_getElem? (i := 189) rfl, List.mem_of_getElem? (i := 190) rfl⟩
theorem lw_p13 : lw_okq (⟨"RgaTextModel", "rankOf", "(II)I"⟩, 11) := ⟨⟨by decide +kernel, by decide +kernel⟩, List.mem_of_getElem? (i := 124) rfl, List.mem_of_getElem? (i := 193) rfl, List.mem_of_getElem? (i := 194) rfl⟩
theorem lw_p14 : lw_okq (⟨"RgaTextModel", "before", "(II)Z"⟩, 11) := ⟨⟨by decide +kernel, by decide +kernel⟩, List.mem_of_getElem? (i := 124) rfl, List.mem_of_getElem? (i := 197) rfl, List.mem_of_getElem? (i := 198) rfl⟩
theorem lw_p15 : lw_okq (⟨"RgaTextModel", "branch", "(II)I"⟩, 11) := ⟨⟨by decide +kernel, by decide +kernel⟩, List.mem_of_getElem? (i := 124) rfl, List.mem_of_getElem? (i := 201) rfl, List.mem_of_getElem? (i := 202) rfl⟩
def lw_privs_1 : List (MethodName × Nat) := [(⟨"RgaText", "textLength", "(I)I"⟩, 9), (⟨"RgaText", "shows", "(II)Z"⟩, 9), (⟨"RgaText", "shownAt", "(II)I"⟩, 9), (⟨"RgaText", "linkBehind", "(III)V"⟩, 9), (⟨"RgaText", "integrate", "(II)V"⟩, 9), (⟨"RgaText", "ahead", "(II)Z"⟩, 9), (⟨"RgaText", "unknown", "(II)Z"⟩, 9), (⟨"RgaText", "countBefore", "(IIZ)I"⟩, 9), (⟨"RgaText", "nextShown", "(II)I"⟩, 9), (⟨"RgaTextModel", "isReplica", "(I)Z"⟩, 11), (⟨"RgaTextModel", "isShown", "(II)Z"⟩, 11), (⟨"RgaTextModel", "isKnown", "(II)Z"⟩, 11), (⟨"RgaTextModel", "arrange", "(I)V"⟩, 11), (⟨"RgaTextModel", "rankOf", "(II)I"⟩, 11), (⟨"RgaTextModel", "before", "(II)Z"⟩, 11), (⟨"RgaTextModel", "branch", "(II)I"⟩, 11)]
theorem lw_r1 : ∀ q ∈ lw_privs_1, lw_okq q := List.forall_mem_cons.mpr ⟨lw_p0, List.forall_mem_cons.mpr ⟨lw_p1, List.forall_mem_cons.mpr ⟨lw_p2, List.forall_mem_cons.mpr ⟨lw_p3, List.forall_mem_cons.mpr ⟨lw_p4, List.forall_mem_cons.mpr ⟨lw_p5, List.forall_mem_cons.mpr ⟨lw_p6, List.forall_mem_cons.mpr ⟨lw_p7, List.forall_mem_cons.mpr ⟨lw_p8, List.forall_mem_cons.mpr ⟨lw_p9, List.forall_mem_cons.mpr ⟨lw_p10, List.forall_mem_cons.mpr ⟨lw_p11, List.forall_mem_cons.mpr ⟨lw_p12, List.forall_mem_cons.mpr ⟨lw_p13, List.forall_mem_cons.mpr ⟨lw_p14, List.forall_mem_cons.mpr ⟨lw_p15, fun _ h => absurd h List.not_mem_nil⟩⟩⟩⟩⟩⟩⟩⟩⟩⟩⟩⟩⟩⟩⟩⟩
def lw_privs : List (MethodName × Nat) := lw_privs_1
def lw_tbl : List Cond := k2_sels lw_privs ++ tables_1
theorem lw_privs_ok : ∀ q ∈ lw_privs, lw_okq q := lw_r1
-- ===== ONE list of words for every method: the tables' words that hold all through a run =====
def lw_all : List Cond := lw_tbl.filter goodWord
/-- a word of the tables by its place: claim/WORDS.tsv -/
theorem lw_w {w : Cond} (i : Nat) (h : lw_tbl[i]? = some w) (g : goodWord w = true) : w ∈ lw_all := List.mem_filter.mpr ⟨List.mem_of_getElem? h, g⟩
theorem lw_all_tbl {w : Cond} (h : w ∈ lw_all) : w ∈ lw_tbl := (List.mem_filter.mp h).1
theorem lw_self : GoodIn lw_all lw_all := fun w h => ⟨h, good_of_word (List.mem_filter.mp h).2⟩
/-- a class's field words, by their places -/
theorem lw_in (ws : List Cond) (ps : List Nat) (hp : ws = ps.filterMap (fun i => lw_tbl[i]?)) (hg : ws.all goodWord = true) : ∀ w ∈ ws, w ∈ lw_all := by
  intro w h
  have h1 := List.all_eq_true.mp hg w h
  rw [hp] at h
  obtain ⟨i, -, hi⟩ := List.mem_filterMap.mp h
  exact lw_w i hi h1
/-- the words of a contract for the method y with code b, L locals, answer r -/
abbrev ws_ (y : MethodName) (b : ByteArray) (L : Nat) (r : Option FieldType) : List Cond := Cond.code y b L r :: lw_all
theorem lw_meth {y : MethodName} {b : ByteArray} {L : Nat} {r : Option FieldType} (h : Cond.code y b L r ∈ lw_all) : GoodIn lw_all (ws_ y b L r) := by
  intro w hw
  rcases List.mem_cons.mp hw with e | e
  · rw [e]
    exact lw_self _ h
  · exact lw_self _ e
theorem lw_app {a c : List Cond} (ha : ∀ w ∈ a, w ∈ lw_all) (hc : GoodIn lw_all c) : GoodIn lw_all (a ++ c) := by
  intro w hw
  rcases List.mem_append.mp hw with e | e
  · exact lw_self w (ha w e)
  · exact hc w e
/-- what a call through an object asks: cwV n hts (lw_V ..) -/
theorem lw_V {own : String} {idx : Nat} {C : String} {y : MethodName} {b : ByteArray} {L : Nat} {r : Option FieldType} (h1 : Cond.methodLink own idx y ∈ lw_all) (h2 : Cond.instanceMethod y ∈ lw_all) (h3 : Cond.selects C y y ∈ lw_all) (h4 : Cond.initialized C ∈ lw_all) (h5 : Cond.code y b L r ∈ lw_all) : GoodIn lw_all (wsV own idx C y (ws_ y b L r)) := by
  refine lw_app ?_ (lw_meth h5)
  intro w hw
  simp only [List.mem_cons, List.not_mem_nil, or_false] at hw
  rcases hw with e | e | e | e
  · rw [e]; exact h1
  · rw [e]; exact h2
  · rw [e]; exact h3
  · rw [e]; exact h4
/-- what a static call asks: va_cwS n hts (lw_S ..) -/
theorem lw_S {own : String} {idx : Nat} {y : MethodName} {b : ByteArray} {L : Nat} {r : Option FieldType} (h1 : Cond.methodLink own idx y ∈ lw_all) (h2 : Cond.static y ∈ lw_all) (h3 : Cond.initialized y.cls ∈ lw_all) (h4 : Cond.code y b L r ∈ lw_all) : GoodIn lw_all (va_wsS own idx y (ws_ y b L r)) := by
  refine lw_app ?_ (lw_meth h4)
  intro w hw
  simp only [List.mem_cons, List.not_mem_nil, or_false] at hw
  rcases hw with e | e | e
  · rw [e]; exact h1
  · rw [e]; exact h2
  · rw [e]; exact h3
/-- the words of a contract for a method WITH HANDLERS (hh: its table) -/
abbrev wsW_ (y : MethodName) (b : ByteArray) (L : Nat) (r : Option FieldType) (hh : List (Nat × Nat × Nat × Nat)) : List Cond := Cond.codeWith y b L r hh :: lw_all
theorem lw_methW {y : MethodName} {b : ByteArray} {L : Nat} {r : Option FieldType} {hh : List (Nat × Nat × Nat × Nat)} (h : Cond.codeWith y b L r hh ∈ lw_all) : GoodIn lw_all (wsW_ y b L r hh) := by
  intro w hw
  rcases List.mem_cons.mp hw with e | e
  · rw [e]
    exact lw_self _ h
  · exact lw_self _ e
/-- any list of words by their places (lw_in), good -/
theorem lw_good {ws : List Cond} (h : ∀ w ∈ ws, w ∈ lw_all) : GoodIn lw_all ws := fun w hw => lw_self w (h w hw)
/-- what a call of a method with handlers asks: vx_cwVW n hts (lw_VW ..), vx_cwSW n hts (lw_SW ..) -/
theorem lw_VW {own : String} {idx : Nat} {C : String} {y : MethodName} {b : ByteArray} {L : Nat} {r : Option FieldType} {hh : List (Nat × Nat × Nat × Nat)} (h1 : Cond.methodLink own idx y ∈ lw_all) (h2 : Cond.instanceMethod y ∈ lw_all) (h3 : Cond.selects C y y ∈ lw_all) (h4 : Cond.initialized C ∈ lw_all) (h5 : Cond.codeWith y b L r hh ∈ lw_all) : GoodIn lw_all (wsV own idx C y (wsW_ y b L r hh)) := by
  refine lw_app ?_ (lw_methW h5)
  intro w hw
  simp only [List.mem_cons, List.not_mem_nil, or_false] at hw
  rcases hw with e | e | e | e
  · rw [e]; exact h1
  · rw [e]; exact h2
  · rw [e]; exact h3
  · rw [e]; exact h4
theorem lw_SW {own : String} {idx : Nat} {y : MethodName} {b : ByteArray} {L : Nat} {r : Option FieldType} {hh : List (Nat × Nat × Nat × Nat)} (h1 : Cond.methodLink own idx y ∈ lw_all) (h2 : Cond.static y ∈ lw_all) (h3 : Cond.initialized y.cls ∈ lw_all) (h4 : Cond.codeWith y b L r hh ∈ lw_all) : GoodIn lw_all (va_wsS own idx y (wsW_ y b L r hh)) := by
  refine lw_app ?_ (lw_methW h4)
  intro w hw
  simp only [List.mem_cons, List.not_mem_nil, or_false] at hw
  rcases hw with e | e | e
  · rw [e]; exact h1
  · rw [e]; exact h2
  · rw [e]; exact h3
/-- a word by its place in its run of the tables -/
theorem lw_at {r : List Cond} (hr : ∀ w ∈ r, w ∈ lw_tbl) {w : Cond} (i : Nat) (h : r[i]? = some w) : w ∈ lw_tbl := hr w (List.mem_of_getElem? h)
theorem lw_g {w : Cond} (h : w ∈ lw_tbl) (g : goodWord w = true) : w ∈ lw_all := List.mem_filter.mpr ⟨h, g⟩
theorem lw_ms : ∀ w ∈ k2_sels lw_privs, w ∈ lw_tbl := fun w h => show w ∈ k2_sels lw_privs ++ tables_1 from List.mem_append_left _ h
theorem lw_m0 : ∀ w ∈ tables_1, w ∈ lw_tbl := fun w h => show w ∈ k2_sels lw_privs ++ tables_1 from List.mem_append_right (k2_sels lw_privs) h
theorem qs0 : (Cond.selects "RgaText" ⟨"RgaText", "textLength", "(I)I"⟩ ⟨"RgaText", "textLength", "(I)I"⟩) ∈ lw_all := lw_g (lw_at lw_ms 0 rfl) rfl
theorem qs1 : (Cond.selects "RgaText" ⟨"RgaText", "shows", "(II)Z"⟩ ⟨"RgaText", "shows", "(II)Z"⟩) ∈ lw_all := lw_g (lw_at lw_ms 1 rfl) rfl
theorem qs2 : (Cond.selects "RgaText" ⟨"RgaText", "shownAt", "(II)I"⟩ ⟨"RgaText", "shownAt", "(II)I"⟩) ∈ lw_all := lw_g (lw_at lw_ms 2 rfl) rfl
theorem qs3 : (Cond.selects "RgaText" ⟨"RgaText", "linkBehind", "(III)V"⟩ ⟨"RgaText", "linkBehind", "(III)V"⟩) ∈ lw_all := lw_g (lw_at lw_ms 3 rfl) rfl
theorem qs4 : (Cond.selects "RgaText" ⟨"RgaText", "integrate", "(II)V"⟩ ⟨"RgaText", "integrate", "(II)V"⟩) ∈ lw_all := lw_g (lw_at lw_ms 4 rfl) rfl
theorem qs5 : (Cond.selects "RgaText" ⟨"RgaText", "ahead", "(II)Z"⟩ ⟨"RgaText", "ahead", "(II)Z"⟩) ∈ lw_all := lw_g (lw_at lw_ms 5 rfl) rfl
theorem qs6 : (Cond.selects "RgaText" ⟨"RgaText", "unknown", "(II)Z"⟩ ⟨"RgaText", "unknown", "(II)Z"⟩) ∈ lw_all := lw_g (lw_at lw_ms 6 rfl) rfl
theorem qs7 : (Cond.selects "RgaText" ⟨"RgaText", "countBefore", "(IIZ)I"⟩ ⟨"RgaText", "countBefore", "(IIZ)I"⟩) ∈ lw_all := lw_g (lw_at lw_ms 7 rfl) rfl
theorem qs8 : (Cond.selects "RgaText" ⟨"RgaText", "nextShown", "(II)I"⟩ ⟨"RgaText", "nextShown", "(II)I"⟩) ∈ lw_all := lw_g (lw_at lw_ms 8 rfl) rfl
theorem qs9 : (Cond.selects "RgaTextModel" ⟨"RgaTextModel", "isReplica", "(I)Z"⟩ ⟨"RgaTextModel", "isReplica", "(I)Z"⟩) ∈ lw_all := lw_g (lw_at lw_ms 9 rfl) rfl
theorem qs10 : (Cond.selects "RgaTextModel" ⟨"RgaTextModel", "isShown", "(II)Z"⟩ ⟨"RgaTextModel", "isShown", "(II)Z"⟩) ∈ lw_all := lw_g (lw_at lw_ms 10 rfl) rfl
theorem qs11 : (Cond.selects "RgaTextModel" ⟨"RgaTextModel", "isKnown", "(II)Z"⟩ ⟨"RgaTextModel", "isKnown", "(II)Z"⟩) ∈ lw_all := lw_g (lw_at lw_ms 11 rfl) rfl
theorem qs12 : (Cond.selects "RgaTextModel" ⟨"RgaTextModel", "arrange", "(I)V"⟩ ⟨"RgaTextModel", "arrange", "(I)V"⟩) ∈ lw_all := lw_g (lw_at lw_ms 12 rfl) rfl
theorem qs13 : (Cond.selects "RgaTextModel" ⟨"RgaTextModel", "rankOf", "(II)I"⟩ ⟨"RgaTextModel", "rankOf", "(II)I"⟩) ∈ lw_all := lw_g (lw_at lw_ms 13 rfl) rfl
theorem qs14 : (Cond.selects "RgaTextModel" ⟨"RgaTextModel", "before", "(II)Z"⟩ ⟨"RgaTextModel", "before", "(II)Z"⟩) ∈ lw_all := lw_g (lw_at lw_ms 14 rfl) rfl
theorem qs15 : (Cond.selects "RgaTextModel" ⟨"RgaTextModel", "branch", "(II)I"⟩ ⟨"RgaTextModel", "branch", "(II)I"⟩) ∈ lw_all := lw_g (lw_at lw_ms 15 rfl) rfl
end
section
set_option maxRecDepth 100000
/-! RgaText -/
def RX0 : String := "RgaText"
def TX0 : u_T := fun k => match k with
  | 0 => ("RgaText", "elements", "I", false)
  | 1 => ("RgaText", "letter", "[I", true)
  | 2 => ("RgaText", "stamp", "[I", true)
  | 3 => ("RgaText", "origin", "[I", true)
  | 4 => ("RgaText", "behind", "[I", true)
  | 5 => ("RgaText", "clock", "[I", true)
  | 6 => ("RgaText", "knows", "[J", true)
  | 7 => ("RgaText", "gone", "[J", true)
  | _ => ("RgaText", "next", "[I", true)
def tyX0 : Nat → FieldType := fun k => match k with
  | 0 => .int
  | 1 => .array .int
  | 2 => .array .int
  | 3 => .array .int
  | 4 => .array .int
  | 5 => .array .int
  | 6 => .array .long
  | 7 => .array .long
  | _ => .array .int
abbrev wsX00 : List Cond := u_ws RX0 TX0 9
theorem nmX0 : ∀ a, a < 9 → ∀ b, b < 9 → a ≠ b → (TX0 a).2.1 ≠ (TX0 b).2.1 := by decide +kernel
theorem tyX0_ok : ∀ k, k < 9 → parseFieldDescriptor (TX0 k).2.2.1 = some (tyX0 k) := by decide +kernel
abbrev cX0_init : ByteArray := prog_1_method_1_code
def yX0_init : MethodName := ⟨RX0, "<init>", "()V"⟩
theorem dX0_init_0 : decode cX0_init 0 = .ok (.aload_n 0, 1) := by decide +kernel
theorem dX0_init_1 : decode cX0_init 1 = .ok (.invokespecial 1, 3) := by decide +kernel
theorem dX0_init_4 : decode cX0_init 4 = .ok (.aload_n 0, 1) := by decide +kernel
theorem dX0_init_5 : decode cX0_init 5 = .ok (.bipush 40, 2) := by decide +kernel
theorem dX0_init_7 : decode cX0_init 7 = .ok (.newarray .int, 2) := by decide +kernel
theorem dX0_init_9 : decode cX0_init 9 = .ok (.putfield 7, 3) := by decide +kernel
theorem dX0_init_12 : decode cX0_init 12 = .ok (.aload_n 0, 1) := by decide +kernel
theorem dX0_init_13 : decode cX0_init 13 = .ok (.bipush 40, 2) := by decide +kernel
theorem dX0_init_15 : decode cX0_init 15 = .ok (.newarray .int, 2) := by decide +kernel
theorem dX0_init_17 : decode cX0_init 17 = .ok (.putfield 13, 3) := by decide +kernel
theorem dX0_init_20 : decode cX0_init 20 = .ok (.aload_n 0, 1) := by decide +kernel
theorem dX0_init_21 : decode cX0_init 21 = .ok (.bipush 40, 2) := by decide +kernel
theorem dX0_init_23 : decode cX0_init 23 = .ok (.newarray .int, 2) := by decide +kernel
theorem dX0_init_25 : decode cX0_init 25 = .ok (.putfield 16, 3) := by decide +kernel
theorem dX0_init_28 : decode cX0_init 28 = .ok (.aload_n 0, 1) := by decide +kernel
theorem dX0_init_29 : decode cX0_init 29 = .ok (.bipush 40, 2) := by decide +kernel
theorem dX0_init_31 : decode cX0_init 31 = .ok (.newarray .int, 2) := by decide +kernel
theorem dX0_init_33 : decode cX0_init 33 = .ok (.putfield 19, 3) := by decide +kernel
theorem dX0_init_36 : decode cX0_init 36 = .ok (.aload_n 0, 1) := by decide +kernel
theorem dX0_init_37 : decode cX0_init 37 = .ok (.iconst 3, 1) := by decide +kernel
theorem dX0_init_38 : decode cX0_init 38 = .ok (.newarray .int, 2) := by decide +kernel
theorem dX0_init_40 : decode cX0_init 40 = .ok (.putfield 22, 3) := by decide +kernel
theorem dX0_init_43 : decode cX0_init 43 = .ok (.aload_n 0, 1) := by decide +kernel
theorem dX0_init_44 : decode cX0_init 44 = .ok (.iconst 3, 1) := by decide +kernel
theorem dX0_init_45 : decode cX0_init 45 = .ok (.newarray .long, 2) := by decide +kernel
theorem dX0_init_47 : decode cX0_init 47 = .ok (.putfield 25, 3) := by decide +kernel
theorem dX0_init_50 : decode cX0_init 50 = .ok (.aload_n 0, 1) := by decide +kernel
theorem dX0_init_51 : decode cX0_init 51 = .ok (.iconst 3, 1) := by decide +kernel
theorem dX0_init_52 : decode cX0_init 52 = .ok (.newarray .long, 2) := by decide +kernel
theorem dX0_init_54 : decode cX0_init 54 = .ok (.putfield 29, 3) := by decide +kernel
theorem dX0_init_57 : decode cX0_init 57 = .ok (.aload_n 0, 1) := by decide +kernel
theorem dX0_init_58 : decode cX0_init 58 = .ok (.bipush 123, 2) := by decide +kernel
theorem dX0_init_60 : decode cX0_init 60 = .ok (.newarray .int, 2) := by decide +kernel
theorem dX0_init_62 : decode cX0_init 62 = .ok (.putfield 32, 3) := by decide +kernel
theorem dX0_init_65 : decode cX0_init 65 = .ok (.iconst 0, 1) := by decide +kernel
theorem dX0_init_66 : decode cX0_init 66 = .ok (.istore_n 1, 1) := by decide +kernel
theorem dX0_init_67 : decode cX0_init 67 = .ok (.iload_n 1, 1) := by decide +kernel
theorem dX0_init_68 : decode cX0_init 68 = .ok (.bipush 123, 2) := by decide +kernel
theorem dX0_init_70 : decode cX0_init 70 = .ok (.if_icmp .ge 16, 3) := by decide +kernel
theorem dX0_init_73 : decode cX0_init 73 = .ok (.aload_n 0, 1) := by decide +kernel
theorem dX0_init_74 : decode cX0_init 74 = .ok (.getfield 32, 3) := by decide +kernel
theorem dX0_init_77 : decode cX0_init 77 = .ok (.iload_n 1, 1) := by decide +kernel
theorem dX0_init_78 : decode cX0_init 78 = .ok (.iconst (-1), 1) := by decide +kernel
theorem dX0_init_79 : decode cX0_init 79 = .ok (.iastore, 1) := by decide +kernel
theorem dX0_init_80 : decode cX0_init 80 = .ok (.iinc 1 1, 3) := by decide +kernel
theorem dX0_init_83 : decode cX0_init 83 = .ok (.goto (-16), 3) := by decide +kernel
theorem dX0_init_86 : decode cX0_init 86 = .ok (.return_, 1) := by decide +kernel
abbrev cX0_insert : ByteArray := prog_1_method_10_code
def yX0_insert : MethodName := ⟨RX0, "insert", "(III)I"⟩
theorem dX0_insert_0 : decode cX0_insert 0 = .ok (.iload_n 1, 1) := by decide +kernel
theorem dX0_insert_1 : decode cX0_insert 1 = .ok (.invokestatic 54, 3) := by decide +kernel
theorem dX0_insert_4 : decode cX0_insert 4 = .ok (.ifCond .eq 5, 3) := by decide +kernel
theorem dX0_insert_7 : decode cX0_insert 7 = .ok (.iconst (-1), 1) := by decide +kernel
theorem dX0_insert_8 : decode cX0_insert 8 = .ok (.ireturn, 1) := by decide +kernel
theorem dX0_insert_9 : decode cX0_insert 9 = .ok (.aload_n 0, 1) := by decide +kernel
theorem dX0_insert_10 : decode cX0_insert 10 = .ok (.iload_n 1, 1) := by decide +kernel
theorem dX0_insert_11 : decode cX0_insert 11 = .ok (.invokevirtual 58, 3) := by decide +kernel
theorem dX0_insert_14 : decode cX0_insert 14 = .ok (.istore 4, 2) := by decide +kernel
theorem dX0_insert_16 : decode cX0_insert 16 = .ok (.iload_n 2, 1) := by decide +kernel
theorem dX0_insert_17 : decode cX0_insert 17 = .ok (.ifCond .lt 9, 3) := by decide +kernel
theorem dX0_insert_20 : decode cX0_insert 20 = .ok (.iload_n 2, 1) := by decide +kernel
theorem dX0_insert_21 : decode cX0_insert 21 = .ok (.iload 4, 2) := by decide +kernel
theorem dX0_insert_23 : decode cX0_insert 23 = .ok (.if_icmp .le 6, 3) := by decide +kernel
theorem dX0_insert_26 : decode cX0_insert 26 = .ok (.bipush (-2), 2) := by decide +kernel
theorem dX0_insert_28 : decode cX0_insert 28 = .ok (.ireturn, 1) := by decide +kernel
theorem dX0_insert_29 : decode cX0_insert 29 = .ok (.aload_n 0, 1) := by decide +kernel
theorem dX0_insert_30 : decode cX0_insert 30 = .ok (.getfield 43, 3) := by decide +kernel
theorem dX0_insert_33 : decode cX0_insert 33 = .ok (.bipush 40, 2) := by decide +kernel
theorem dX0_insert_35 : decode cX0_insert 35 = .ok (.if_icmp .lt 6, 3) := by decide +kernel
theorem dX0_insert_38 : decode cX0_insert 38 = .ok (.bipush (-3), 2) := by decide +kernel
theorem dX0_insert_40 : decode cX0_insert 40 = .ok (.ireturn, 1) := by decide +kernel
theorem dX0_insert_41 : decode cX0_insert 41 = .ok (.aload_n 0, 1) := by decide +kernel
theorem dX0_insert_42 : decode cX0_insert 42 = .ok (.getfield 43, 3) := by decide +kernel
theorem dX0_insert_45 : decode cX0_insert 45 = .ok (.istore 5, 2) := by decide +kernel
theorem dX0_insert_47 : decode cX0_insert 47 = .ok (.aload_n 0, 1) := by decide +kernel
theorem dX0_insert_48 : decode cX0_insert 48 = .ok (.iload_n 1, 1) := by decide +kernel
theorem dX0_insert_49 : decode cX0_insert 49 = .ok (.iload_n 2, 1) := by decide +kernel
theorem dX0_insert_50 : decode cX0_insert 50 = .ok (.iconst 1, 1) := by decide +kernel
theorem dX0_insert_51 : decode cX0_insert 51 = .ok (.isub, 1) := by decide +kernel
theorem dX0_insert_52 : decode cX0_insert 52 = .ok (.invokevirtual 62, 3) := by decide +kernel
theorem dX0_insert_55 : decode cX0_insert 55 = .ok (.istore 6, 2) := by decide +kernel
theorem dX0_insert_57 : decode cX0_insert 57 = .ok (.aload_n 0, 1) := by decide +kernel
theorem dX0_insert_58 : decode cX0_insert 58 = .ok (.getfield 7, 3) := by decide +kernel
theorem dX0_insert_61 : decode cX0_insert 61 = .ok (.iload 5, 2) := by decide +kernel
theorem dX0_insert_63 : decode cX0_insert 63 = .ok (.iload_n 3, 1) := by decide +kernel
theorem dX0_insert_64 : decode cX0_insert 64 = .ok (.sipush 255, 3) := by decide +kernel
theorem dX0_insert_67 : decode cX0_insert 67 = .ok (.iand, 1) := by decide +kernel
theorem dX0_insert_68 : decode cX0_insert 68 = .ok (.iastore, 1) := by decide +kernel
theorem dX0_insert_69 : decode cX0_insert 69 = .ok (.aload_n 0, 1) := by decide +kernel
theorem dX0_insert_70 : decode cX0_insert 70 = .ok (.getfield 16, 3) := by decide +kernel
theorem dX0_insert_73 : decode cX0_insert 73 = .ok (.iload 5, 2) := by decide +kernel
theorem dX0_insert_75 : decode cX0_insert 75 = .ok (.iload_n 1, 1) := by decide +kernel
theorem dX0_insert_76 : decode cX0_insert 76 = .ok (.iastore, 1) := by decide +kernel
theorem dX0_insert_77 : decode cX0_insert 77 = .ok (.aload_n 0, 1) := by decide +kernel
theorem dX0_insert_78 : decode cX0_insert 78 = .ok (.getfield 19, 3) := by decide +kernel
theorem dX0_insert_81 : decode cX0_insert 81 = .ok (.iload 5, 2) := by decide +kernel
theorem dX0_insert_83 : decode cX0_insert 83 = .ok (.iload 6, 2) := by decide +kernel
theorem dX0_insert_85 : decode cX0_insert 85 = .ok (.ifCond .ge 8, 3) := by decide +kernel
theorem dX0_insert_88 : decode cX0_insert 88 = .ok (.bipush 40, 2) := by decide +kernel
theorem dX0_insert_90 : decode cX0_insert 90 = .ok (.goto 5, 3) := by decide +kernel
theorem dX0_insert_93 : decode cX0_insert 93 = .ok (.iload 6, 2) := by decide +kernel
theorem dX0_insert_95 : decode cX0_insert 95 = .ok (.iastore, 1) := by decide +kernel
theorem dX0_insert_96 : decode cX0_insert 96 = .ok (.aload_n 0, 1) := by decide +kernel
theorem dX0_insert_97 : decode cX0_insert 97 = .ok (.getfield 22, 3) := by decide +kernel
theorem dX0_insert_100 : decode cX0_insert 100 = .ok (.iload_n 1, 1) := by decide +kernel
theorem dX0_insert_101 : decode cX0_insert 101 = .ok (.dup2, 1) := by decide +kernel
theorem dX0_insert_102 : decode cX0_insert 102 = .ok (.iaload, 1) := by decide +kernel
theorem dX0_insert_103 : decode cX0_insert 103 = .ok (.iconst 1, 1) := by decide +kernel
theorem dX0_insert_104 : decode cX0_insert 104 = .ok (.iadd, 1) := by decide +kernel
theorem dX0_insert_105 : decode cX0_insert 105 = .ok (.iastore, 1) := by decide +kernel
theorem dX0_insert_106 : decode cX0_insert 106 = .ok (.aload_n 0, 1) := by decide +kernel
theorem dX0_insert_107 : decode cX0_insert 107 = .ok (.getfield 13, 3) := by decide +kernel
theorem dX0_insert_110 : decode cX0_insert 110 = .ok (.iload 5, 2) := by decide +kernel
theorem dX0_insert_112 : decode cX0_insert 112 = .ok (.aload_n 0, 1) := by decide +kernel
theorem dX0_insert_113 : decode cX0_insert 113 = .ok (.getfield 22, 3) := by decide +kernel
theorem dX0_insert_116 : decode cX0_insert 116 = .ok (.iload_n 1, 1) := by decide +kernel
theorem dX0_insert_117 : decode cX0_insert 117 = .ok (.iaload, 1) := by decide +kernel
theorem dX0_insert_118 : decode cX0_insert 118 = .ok (.iastore, 1) := by decide +kernel
theorem dX0_insert_119 : decode cX0_insert 119 = .ok (.aload_n 0, 1) := by decide +kernel
theorem dX0_insert_120 : decode cX0_insert 120 = .ok (.dup, 1) := by decide +kernel
theorem dX0_insert_121 : decode cX0_insert 121 = .ok (.getfield 43, 3) := by decide +kernel
theorem dX0_insert_124 : decode cX0_insert 124 = .ok (.iconst 1, 1) := by decide +kernel
theorem dX0_insert_125 : decode cX0_insert 125 = .ok (.iadd, 1) := by decide +kernel
theorem dX0_insert_126 : decode cX0_insert 126 = .ok (.putfield 43, 3) := by decide +kernel
theorem dX0_insert_129 : decode cX0_insert 129 = .ok (.aload_n 0, 1) := by decide +kernel
theorem dX0_insert_130 : decode cX0_insert 130 = .ok (.iload_n 1, 1) := by decide +kernel
theorem dX0_insert_131 : decode cX0_insert 131 = .ok (.aload_n 0, 1) := by decide +kernel
theorem dX0_insert_132 : decode cX0_insert 132 = .ok (.getfield 19, 3) := by decide +kernel
theorem dX0_insert_135 : decode cX0_insert 135 = .ok (.iload 5, 2) := by decide +kernel
theorem dX0_insert_137 : decode cX0_insert 137 = .ok (.iaload, 1) := by decide +kernel
theorem dX0_insert_138 : decode cX0_insert 138 = .ok (.iload 5, 2) := by decide +kernel
theorem dX0_insert_140 : decode cX0_insert 140 = .ok (.invokevirtual 50, 3) := by decide +kernel
theorem dX0_insert_143 : decode cX0_insert 143 = .ok (.aload_n 0, 1) := by decide +kernel
theorem dX0_insert_144 : decode cX0_insert 144 = .ok (.getfield 25, 3) := by decide +kernel
theorem dX0_insert_147 : decode cX0_insert 147 = .ok (.iload_n 1, 1) := by decide +kernel
theorem dX0_insert_148 : decode cX0_insert 148 = .ok (.dup2, 1) := by decide +kernel
theorem dX0_insert_149 : decode cX0_insert 149 = .ok (.laload, 1) := by decide +kernel
theorem dX0_insert_150 : decode cX0_insert 150 = .ok (.lconst 1, 1) := by decide +kernel
theorem dX0_insert_151 : decode cX0_insert 151 = .ok (.iload 5, 2) := by decide +kernel
theorem dX0_insert_153 : decode cX0_insert 153 = .ok (.lshl, 1) := by decide +kernel
theorem dX0_insert_154 : decode cX0_insert 154 = .ok (.lor, 1) := by decide +kernel
theorem dX0_insert_155 : decode cX0_insert 155 = .ok (.lastore, 1) := by decide +kernel
theorem dX0_insert_156 : decode cX0_insert 156 = .ok (.iload 5, 2) := by decide +kernel
theorem dX0_insert_158 : decode cX0_insert 158 = .ok (.ireturn, 1) := by decide +kernel
abbrev cX0_bad : ByteArray := prog_1_method_2_code
def yX0_bad : MethodName := ⟨RX0, "bad", "(I)Z"⟩
theorem dX0_bad_0 : decode cX0_bad 0 = .ok (.iload_n 0, 1) := by decide +kernel
theorem dX0_bad_1 : decode cX0_bad 1 = .ok (.ifCond .lt 8, 3) := by decide +kernel
theorem dX0_bad_4 : decode cX0_bad 4 = .ok (.iload_n 0, 1) := by decide +kernel
theorem dX0_bad_5 : decode cX0_bad 5 = .ok (.iconst 2, 1) := by decide +kernel
theorem dX0_bad_6 : decode cX0_bad 6 = .ok (.if_icmp .le 7, 3) := by decide +kernel
theorem dX0_bad_9 : decode cX0_bad 9 = .ok (.iconst 1, 1) := by decide +kernel
theorem dX0_bad_10 : decode cX0_bad 10 = .ok (.goto 4, 3) := by decide +kernel
theorem dX0_bad_13 : decode cX0_bad 13 = .ok (.iconst 0, 1) := by decide +kernel
theorem dX0_bad_14 : decode cX0_bad 14 = .ok (.ireturn, 1) := by decide +kernel
abbrev cX0_textLength : ByteArray := prog_1_method_7_code
def yX0_textLength : MethodName := ⟨RX0, "textLength", "(I)I"⟩
theorem dX0_textLength_0 : decode cX0_textLength 0 = .ok (.iconst 0, 1) := by decide +kernel
theorem dX0_textLength_1 : decode cX0_textLength 1 = .ok (.istore_n 2, 1) := by decide +kernel
theorem dX0_textLength_2 : decode cX0_textLength 2 = .ok (.iconst 0, 1) := by decide +kernel
theorem dX0_textLength_3 : decode cX0_textLength 3 = .ok (.istore_n 3, 1) := by decide +kernel
theorem dX0_textLength_4 : decode cX0_textLength 4 = .ok (.iload_n 3, 1) := by decide +kernel
theorem dX0_textLength_5 : decode cX0_textLength 5 = .ok (.aload_n 0, 1) := by decide +kernel
theorem dX0_textLength_6 : decode cX0_textLength 6 = .ok (.getfield 43, 3) := by decide +kernel
theorem dX0_textLength_9 : decode cX0_textLength 9 = .ok (.if_icmp .ge 34, 3) := by decide +kernel
theorem dX0_textLength_12 : decode cX0_textLength 12 = .ok (.aload_n 0, 1) := by decide +kernel
theorem dX0_textLength_13 : decode cX0_textLength 13 = .ok (.getfield 25, 3) := by decide +kernel
theorem dX0_textLength_16 : decode cX0_textLength 16 = .ok (.iload_n 1, 1) := by decide +kernel
theorem dX0_textLength_17 : decode cX0_textLength 17 = .ok (.laload, 1) := by decide +kernel
theorem dX0_textLength_18 : decode cX0_textLength 18 = .ok (.iload_n 3, 1) := by decide +kernel
theorem dX0_textLength_19 : decode cX0_textLength 19 = .ok (.invokestatic 35, 3) := by decide +kernel
theorem dX0_textLength_22 : decode cX0_textLength 22 = .ok (.ifCond .eq 15, 3) := by decide +kernel
theorem dX0_textLength_25 : decode cX0_textLength 25 = .ok (.aload_n 0, 1) := by decide +kernel
theorem dX0_textLength_26 : decode cX0_textLength 26 = .ok (.iload_n 1, 1) := by decide +kernel
theorem dX0_textLength_27 : decode cX0_textLength 27 = .ok (.iload_n 3, 1) := by decide +kernel
theorem dX0_textLength_28 : decode cX0_textLength 28 = .ok (.invokevirtual 39, 3) := by decide +kernel
theorem dX0_textLength_31 : decode cX0_textLength 31 = .ok (.ifCond .eq 6, 3) := by decide +kernel
theorem dX0_textLength_34 : decode cX0_textLength 34 = .ok (.iinc 2 1, 3) := by decide +kernel
theorem dX0_textLength_37 : decode cX0_textLength 37 = .ok (.iinc 3 1, 3) := by decide +kernel
theorem dX0_textLength_40 : decode cX0_textLength 40 = .ok (.goto (-36), 3) := by decide +kernel
theorem dX0_textLength_43 : decode cX0_textLength 43 = .ok (.iload_n 2, 1) := by decide +kernel
theorem dX0_textLength_44 : decode cX0_textLength 44 = .ok (.ireturn, 1) := by decide +kernel
abbrev cX0_in : ByteArray := prog_1_method_3_code
def yX0_in : MethodName := ⟨RX0, "in", "(JI)Z"⟩
theorem dX0_in_0 : decode cX0_in 0 = .ok (.lload_n 0, 1) := by decide +kernel
theorem dX0_in_1 : decode cX0_in 1 = .ok (.iload_n 2, 1) := by decide +kernel
theorem dX0_in_2 : decode cX0_in 2 = .ok (.lushr, 1) := by decide +kernel
theorem dX0_in_3 : decode cX0_in 3 = .ok (.lconst 1, 1) := by decide +kernel
theorem dX0_in_4 : decode cX0_in 4 = .ok (.land, 1) := by decide +kernel
theorem dX0_in_5 : decode cX0_in 5 = .ok (.lconst 1, 1) := by decide +kernel
theorem dX0_in_6 : decode cX0_in 6 = .ok (.lcmp, 1) := by decide +kernel
theorem dX0_in_7 : decode cX0_in 7 = .ok (.ifCond .ne 7, 3) := by decide +kernel
theorem dX0_in_10 : decode cX0_in 10 = .ok (.iconst 1, 1) := by decide +kernel
theorem dX0_in_11 : decode cX0_in 11 = .ok (.goto 4, 3) := by decide +kernel
theorem dX0_in_14 : decode cX0_in 14 = .ok (.iconst 0, 1) := by decide +kernel
theorem dX0_in_15 : decode cX0_in 15 = .ok (.ireturn, 1) := by decide +kernel
abbrev cX0_shows : ByteArray := prog_1_method_5_code
def yX0_shows : MethodName := ⟨RX0, "shows", "(II)Z"⟩
theorem dX0_shows_0 : decode cX0_shows 0 = .ok (.aload_n 0, 1) := by decide +kernel
theorem dX0_shows_1 : decode cX0_shows 1 = .ok (.getfield 29, 3) := by decide +kernel
theorem dX0_shows_4 : decode cX0_shows 4 = .ok (.iload_n 1, 1) := by decide +kernel
theorem dX0_shows_5 : decode cX0_shows 5 = .ok (.laload, 1) := by decide +kernel
theorem dX0_shows_6 : decode cX0_shows 6 = .ok (.iload_n 2, 1) := by decide +kernel
theorem dX0_shows_7 : decode cX0_shows 7 = .ok (.invokestatic 35, 3) := by decide +kernel
theorem dX0_shows_10 : decode cX0_shows 10 = .ok (.ifCond .ne 7, 3) := by decide +kernel
theorem dX0_shows_13 : decode cX0_shows 13 = .ok (.iconst 1, 1) := by decide +kernel
theorem dX0_shows_14 : decode cX0_shows 14 = .ok (.goto 4, 3) := by decide +kernel
theorem dX0_shows_17 : decode cX0_shows 17 = .ok (.iconst 0, 1) := by decide +kernel
theorem dX0_shows_18 : decode cX0_shows 18 = .ok (.ireturn, 1) := by decide +kernel
abbrev cX0_shownAt : ByteArray := prog_1_method_6_code
def yX0_shownAt : MethodName := ⟨RX0, "shownAt", "(II)I"⟩
theorem dX0_shownAt_0 : decode cX0_shownAt 0 = .ok (.iload_n 2, 1) := by decide +kernel
theorem dX0_shownAt_1 : decode cX0_shownAt 1 = .ok (.ifCond .ge 5, 3) := by decide +kernel
theorem dX0_shownAt_4 : decode cX0_shownAt 4 = .ok (.iconst (-1), 1) := by decide +kernel
theorem dX0_shownAt_5 : decode cX0_shownAt 5 = .ok (.ireturn, 1) := by decide +kernel
theorem dX0_shownAt_6 : decode cX0_shownAt 6 = .ok (.iload_n 2, 1) := by decide +kernel
theorem dX0_shownAt_7 : decode cX0_shownAt 7 = .ok (.istore_n 3, 1) := by decide +kernel
theorem dX0_shownAt_8 : decode cX0_shownAt 8 = .ok (.aload_n 0, 1) := by decide +kernel
theorem dX0_shownAt_9 : decode cX0_shownAt 9 = .ok (.getfield 32, 3) := by decide +kernel
theorem dX0_shownAt_12 : decode cX0_shownAt 12 = .ok (.iload_n 1, 1) := by decide +kernel
theorem dX0_shownAt_13 : decode cX0_shownAt 13 = .ok (.bipush 41, 2) := by decide +kernel
theorem dX0_shownAt_15 : decode cX0_shownAt 15 = .ok (.imul, 1) := by decide +kernel
theorem dX0_shownAt_16 : decode cX0_shownAt 16 = .ok (.bipush 40, 2) := by decide +kernel
theorem dX0_shownAt_18 : decode cX0_shownAt 18 = .ok (.iadd, 1) := by decide +kernel
theorem dX0_shownAt_19 : decode cX0_shownAt 19 = .ok (.iaload, 1) := by decide +kernel
theorem dX0_shownAt_20 : decode cX0_shownAt 20 = .ok (.istore 4, 2) := by decide +kernel
theorem dX0_shownAt_22 : decode cX0_shownAt 22 = .ok (.iconst 0, 1) := by decide +kernel
theorem dX0_shownAt_23 : decode cX0_shownAt 23 = .ok (.istore 5, 2) := by decide +kernel
theorem dX0_shownAt_25 : decode cX0_shownAt 25 = .ok (.iload 5, 2) := by decide +kernel
theorem dX0_shownAt_27 : decode cX0_shownAt 27 = .ok (.bipush 40, 2) := by decide +kernel
theorem dX0_shownAt_29 : decode cX0_shownAt 29 = .ok (.if_icmp .ge 48, 3) := by decide +kernel
theorem dX0_shownAt_32 : decode cX0_shownAt 32 = .ok (.iload 4, 2) := by decide +kernel
theorem dX0_shownAt_34 : decode cX0_shownAt 34 = .ok (.ifCond .lt 43, 3) := by decide +kernel
theorem dX0_shownAt_37 : decode cX0_shownAt 37 = .ok (.aload_n 0, 1) := by decide +kernel
theorem dX0_shownAt_38 : decode cX0_shownAt 38 = .ok (.iload_n 1, 1) := by decide +kernel
theorem dX0_shownAt_39 : decode cX0_shownAt 39 = .ok (.iload 4, 2) := by decide +kernel
theorem dX0_shownAt_41 : decode cX0_shownAt 41 = .ok (.invokevirtual 39, 3) := by decide +kernel
theorem dX0_shownAt_44 : decode cX0_shownAt 44 = .ok (.ifCond .eq 13, 3) := by decide +kernel
theorem dX0_shownAt_47 : decode cX0_shownAt 47 = .ok (.iload_n 3, 1) := by decide +kernel
theorem dX0_shownAt_48 : decode cX0_shownAt 48 = .ok (.ifCond .ne 6, 3) := by decide +kernel
theorem dX0_shownAt_51 : decode cX0_shownAt 51 = .ok (.iload 4, 2) := by decide +kernel
theorem dX0_shownAt_53 : decode cX0_shownAt 53 = .ok (.ireturn, 1) := by decide +kernel
theorem dX0_shownAt_54 : decode cX0_shownAt 54 = .ok (.iinc 3 (-1), 3) := by decide +kernel
theorem dX0_shownAt_57 : decode cX0_shownAt 57 = .ok (.aload_n 0, 1) := by decide +kernel
theorem dX0_shownAt_58 : decode cX0_shownAt 58 = .ok (.getfield 32, 3) := by decide +kernel
theorem dX0_shownAt_61 : decode cX0_shownAt 61 = .ok (.iload_n 1, 1) := by decide +kernel
theorem dX0_shownAt_62 : decode cX0_shownAt 62 = .ok (.bipush 41, 2) := by decide +kernel
theorem dX0_shownAt_64 : decode cX0_shownAt 64 = .ok (.imul, 1) := by decide +kernel
theorem dX0_shownAt_65 : decode cX0_shownAt 65 = .ok (.iload 4, 2) := by decide +kernel
theorem dX0_shownAt_67 : decode cX0_shownAt 67 = .ok (.iadd, 1) := by decide +kernel
theorem dX0_shownAt_68 : decode cX0_shownAt 68 = .ok (.iaload, 1) := by decide +kernel
theorem dX0_shownAt_69 : decode cX0_shownAt 69 = .ok (.istore 4, 2) := by decide +kernel
theorem dX0_shownAt_71 : decode cX0_shownAt 71 = .ok (.iinc 5 1, 3) := by decide +kernel
theorem dX0_shownAt_74 : decode cX0_shownAt 74 = .ok (.goto (-49), 3) := by decide +kernel
theorem dX0_shownAt_77 : decode cX0_shownAt 77 = .ok (.iconst (-1), 1) := by decide +kernel
theorem dX0_shownAt_78 : decode cX0_shownAt 78 = .ok (.ireturn, 1) := by decide +kernel
abbrev cX0_linkBehind : ByteArray := prog_1_method_4_code
def yX0_linkBehind : MethodName := ⟨RX0, "linkBehind", "(III)V"⟩
theorem dX0_linkBehind_0 : decode cX0_linkBehind 0 = .ok (.aload_n 0, 1) := by decide +kernel
theorem dX0_linkBehind_1 : decode cX0_linkBehind 1 = .ok (.getfield 32, 3) := by decide +kernel
theorem dX0_linkBehind_4 : decode cX0_linkBehind 4 = .ok (.iload_n 1, 1) := by decide +kernel
theorem dX0_linkBehind_5 : decode cX0_linkBehind 5 = .ok (.bipush 41, 2) := by decide +kernel
theorem dX0_linkBehind_7 : decode cX0_linkBehind 7 = .ok (.imul, 1) := by decide +kernel
theorem dX0_linkBehind_8 : decode cX0_linkBehind 8 = .ok (.iload_n 3, 1) := by decide +kernel
theorem dX0_linkBehind_9 : decode cX0_linkBehind 9 = .ok (.iadd, 1) := by decide +kernel
theorem dX0_linkBehind_10 : decode cX0_linkBehind 10 = .ok (.aload_n 0, 1) := by decide +kernel
theorem dX0_linkBehind_11 : decode cX0_linkBehind 11 = .ok (.getfield 32, 3) := by decide +kernel
theorem dX0_linkBehind_14 : decode cX0_linkBehind 14 = .ok (.iload_n 1, 1) := by decide +kernel
theorem dX0_linkBehind_15 : decode cX0_linkBehind 15 = .ok (.bipush 41, 2) := by decide +kernel
theorem dX0_linkBehind_17 : decode cX0_linkBehind 17 = .ok (.imul, 1) := by decide +kernel
theorem dX0_linkBehind_18 : decode cX0_linkBehind 18 = .ok (.iload_n 2, 1) := by decide +kernel
theorem dX0_linkBehind_19 : decode cX0_linkBehind 19 = .ok (.iadd, 1) := by decide +kernel
theorem dX0_linkBehind_20 : decode cX0_linkBehind 20 = .ok (.iaload, 1) := by decide +kernel
theorem dX0_linkBehind_21 : decode cX0_linkBehind 21 = .ok (.iastore, 1) := by decide +kernel
theorem dX0_linkBehind_22 : decode cX0_linkBehind 22 = .ok (.aload_n 0, 1) := by decide +kernel
theorem dX0_linkBehind_23 : decode cX0_linkBehind 23 = .ok (.getfield 32, 3) := by decide +kernel
theorem dX0_linkBehind_26 : decode cX0_linkBehind 26 = .ok (.iload_n 1, 1) := by decide +kernel
theorem dX0_linkBehind_27 : decode cX0_linkBehind 27 = .ok (.bipush 41, 2) := by decide +kernel
theorem dX0_linkBehind_29 : decode cX0_linkBehind 29 = .ok (.imul, 1) := by decide +kernel
theorem dX0_linkBehind_30 : decode cX0_linkBehind 30 = .ok (.iload_n 2, 1) := by decide +kernel
theorem dX0_linkBehind_31 : decode cX0_linkBehind 31 = .ok (.iadd, 1) := by decide +kernel
theorem dX0_linkBehind_32 : decode cX0_linkBehind 32 = .ok (.iload_n 3, 1) := by decide +kernel
theorem dX0_linkBehind_33 : decode cX0_linkBehind 33 = .ok (.iastore, 1) := by decide +kernel
theorem dX0_linkBehind_34 : decode cX0_linkBehind 34 = .ok (.return_, 1) := by decide +kernel
end
section
set_option maxRecDepth 100000
abbrev cX0_delete : ByteArray := prog_1_method_11_code
def yX0_delete : MethodName := ⟨RX0, "delete", "(II)I"⟩
theorem dX0_delete_0 : decode cX0_delete 0 = .ok (.iload_n 1, 1) := by decide +kernel
theorem dX0_delete_1 : decode cX0_delete 1 = .ok (.invokestatic 54, 3) := by decide +kernel
theorem dX0_delete_4 : decode cX0_delete 4 = .ok (.ifCond .eq 5, 3) := by decide +kernel
theorem dX0_delete_7 : decode cX0_delete 7 = .ok (.iconst (-1), 1) := by decide +kernel
theorem dX0_delete_8 : decode cX0_delete 8 = .ok (.ireturn, 1) := by decide +kernel
theorem dX0_delete_9 : decode cX0_delete 9 = .ok (.aload_n 0, 1) := by decide +kernel
theorem dX0_delete_10 : decode cX0_delete 10 = .ok (.iload_n 1, 1) := by decide +kernel
theorem dX0_delete_11 : decode cX0_delete 11 = .ok (.iload_n 2, 1) := by decide +kernel
theorem dX0_delete_12 : decode cX0_delete 12 = .ok (.invokevirtual 62, 3) := by decide +kernel
theorem dX0_delete_15 : decode cX0_delete 15 = .ok (.istore_n 3, 1) := by decide +kernel
theorem dX0_delete_16 : decode cX0_delete 16 = .ok (.iload_n 3, 1) := by decide +kernel
theorem dX0_delete_17 : decode cX0_delete 17 = .ok (.ifCond .ge 6, 3) := by decide +kernel
theorem dX0_delete_20 : decode cX0_delete 20 = .ok (.bipush (-2), 2) := by decide +kernel
theorem dX0_delete_22 : decode cX0_delete 22 = .ok (.ireturn, 1) := by decide +kernel
theorem dX0_delete_23 : decode cX0_delete 23 = .ok (.aload_n 0, 1) := by decide +kernel
theorem dX0_delete_24 : decode cX0_delete 24 = .ok (.getfield 29, 3) := by decide +kernel
theorem dX0_delete_27 : decode cX0_delete 27 = .ok (.iload_n 1, 1) := by decide +kernel
theorem dX0_delete_28 : decode cX0_delete 28 = .ok (.dup2, 1) := by decide +kernel
theorem dX0_delete_29 : decode cX0_delete 29 = .ok (.laload, 1) := by decide +kernel
theorem dX0_delete_30 : decode cX0_delete 30 = .ok (.lconst 1, 1) := by decide +kernel
theorem dX0_delete_31 : decode cX0_delete 31 = .ok (.iload_n 3, 1) := by decide +kernel
theorem dX0_delete_32 : decode cX0_delete 32 = .ok (.lshl, 1) := by decide +kernel
theorem dX0_delete_33 : decode cX0_delete 33 = .ok (.lor, 1) := by decide +kernel
theorem dX0_delete_34 : decode cX0_delete 34 = .ok (.lastore, 1) := by decide +kernel
theorem dX0_delete_35 : decode cX0_delete 35 = .ok (.iload_n 3, 1) := by decide +kernel
theorem dX0_delete_36 : decode cX0_delete 36 = .ok (.ireturn, 1) := by decide +kernel
abbrev cX0_learn : ByteArray := prog_1_method_12_code
def yX0_learn : MethodName := ⟨RX0, "learn", "(II)I"⟩
theorem dX0_learn_0 : decode cX0_learn 0 = .ok (.iload_n 1, 1) := by decide +kernel
theorem dX0_learn_1 : decode cX0_learn 1 = .ok (.invokestatic 54, 3) := by decide +kernel
theorem dX0_learn_4 : decode cX0_learn 4 = .ok (.ifCond .ne 10, 3) := by decide +kernel
theorem dX0_learn_7 : decode cX0_learn 7 = .ok (.iload_n 2, 1) := by decide +kernel
theorem dX0_learn_8 : decode cX0_learn 8 = .ok (.invokestatic 54, 3) := by decide +kernel
theorem dX0_learn_11 : decode cX0_learn 11 = .ok (.ifCond .eq 5, 3) := by decide +kernel
theorem dX0_learn_14 : decode cX0_learn 14 = .ok (.iconst (-1), 1) := by decide +kernel
theorem dX0_learn_15 : decode cX0_learn 15 = .ok (.ireturn, 1) := by decide +kernel
theorem dX0_learn_16 : decode cX0_learn 16 = .ok (.iload_n 1, 1) := by decide +kernel
theorem dX0_learn_17 : decode cX0_learn 17 = .ok (.iload_n 2, 1) := by decide +kernel
theorem dX0_learn_18 : decode cX0_learn 18 = .ok (.if_icmp .ne 6, 3) := by decide +kernel
theorem dX0_learn_21 : decode cX0_learn 21 = .ok (.bipush (-4), 2) := by decide +kernel
theorem dX0_learn_23 : decode cX0_learn 23 = .ok (.ireturn, 1) := by decide +kernel
theorem dX0_learn_24 : decode cX0_learn 24 = .ok (.iconst 0, 1) := by decide +kernel
theorem dX0_learn_25 : decode cX0_learn 25 = .ok (.istore_n 3, 1) := by decide +kernel
theorem dX0_learn_26 : decode cX0_learn 26 = .ok (.iconst 0, 1) := by decide +kernel
theorem dX0_learn_27 : decode cX0_learn 27 = .ok (.istore 4, 2) := by decide +kernel
theorem dX0_learn_29 : decode cX0_learn 29 = .ok (.iload 4, 2) := by decide +kernel
theorem dX0_learn_31 : decode cX0_learn 31 = .ok (.aload_n 0, 1) := by decide +kernel
theorem dX0_learn_32 : decode cX0_learn 32 = .ok (.getfield 43, 3) := by decide +kernel
theorem dX0_learn_35 : decode cX0_learn 35 = .ok (.if_icmp .ge 91, 3) := by decide +kernel
theorem dX0_learn_38 : decode cX0_learn 38 = .ok (.aload_n 0, 1) := by decide +kernel
theorem dX0_learn_39 : decode cX0_learn 39 = .ok (.getfield 25, 3) := by decide +kernel
theorem dX0_learn_42 : decode cX0_learn 42 = .ok (.iload_n 2, 1) := by decide +kernel
theorem dX0_learn_43 : decode cX0_learn 43 = .ok (.laload, 1) := by decide +kernel
theorem dX0_learn_44 : decode cX0_learn 44 = .ok (.iload 4, 2) := by decide +kernel
theorem dX0_learn_46 : decode cX0_learn 46 = .ok (.invokestatic 35, 3) := by decide +kernel
theorem dX0_learn_49 : decode cX0_learn 49 = .ok (.ifCond .eq 27, 3) := by decide +kernel
theorem dX0_learn_52 : decode cX0_learn 52 = .ok (.aload_n 0, 1) := by decide +kernel
theorem dX0_learn_53 : decode cX0_learn 53 = .ok (.getfield 25, 3) := by decide +kernel
theorem dX0_learn_56 : decode cX0_learn 56 = .ok (.iload_n 1, 1) := by decide +kernel
theorem dX0_learn_57 : decode cX0_learn 57 = .ok (.laload, 1) := by decide +kernel
theorem dX0_learn_58 : decode cX0_learn 58 = .ok (.iload 4, 2) := by decide +kernel
theorem dX0_learn_60 : decode cX0_learn 60 = .ok (.invokestatic 35, 3) := by decide +kernel
theorem dX0_learn_63 : decode cX0_learn 63 = .ok (.ifCond .ne 13, 3) := by decide +kernel
theorem dX0_learn_66 : decode cX0_learn 66 = .ok (.aload_n 0, 1) := by decide +kernel
theorem dX0_learn_67 : decode cX0_learn 67 = .ok (.iload_n 1, 1) := by decide +kernel
theorem dX0_learn_68 : decode cX0_learn 68 = .ok (.iload 4, 2) := by decide +kernel
theorem dX0_learn_70 : decode cX0_learn 70 = .ok (.invokevirtual 66, 3) := by decide +kernel
theorem dX0_learn_73 : decode cX0_learn 73 = .ok (.iinc 3 1, 3) := by decide +kernel
theorem dX0_learn_76 : decode cX0_learn 76 = .ok (.aload_n 0, 1) := by decide +kernel
theorem dX0_learn_77 : decode cX0_learn 77 = .ok (.getfield 29, 3) := by decide +kernel
theorem dX0_learn_80 : decode cX0_learn 80 = .ok (.iload_n 2, 1) := by decide +kernel
theorem dX0_learn_81 : decode cX0_learn 81 = .ok (.laload, 1) := by decide +kernel
theorem dX0_learn_82 : decode cX0_learn 82 = .ok (.iload 4, 2) := by decide +kernel
theorem dX0_learn_84 : decode cX0_learn 84 = .ok (.invokestatic 35, 3) := by decide +kernel
theorem dX0_learn_87 : decode cX0_learn 87 = .ok (.ifCond .eq 33, 3) := by decide +kernel
theorem dX0_learn_90 : decode cX0_learn 90 = .ok (.aload_n 0, 1) := by decide +kernel
theorem dX0_learn_91 : decode cX0_learn 91 = .ok (.getfield 29, 3) := by decide +kernel
theorem dX0_learn_94 : decode cX0_learn 94 = .ok (.iload_n 1, 1) := by decide +kernel
theorem dX0_learn_95 : decode cX0_learn 95 = .ok (.laload, 1) := by decide +kernel
theorem dX0_learn_96 : decode cX0_learn 96 = .ok (.iload 4, 2) := by decide +kernel
theorem dX0_learn_98 : decode cX0_learn 98 = .ok (.invokestatic 35, 3) := by decide +kernel
theorem dX0_learn_101 : decode cX0_learn 101 = .ok (.ifCond .ne 19, 3) := by decide +kernel
theorem dX0_learn_104 : decode cX0_learn 104 = .ok (.aload_n 0, 1) := by decide +kernel
theorem dX0_learn_105 : decode cX0_learn 105 = .ok (.getfield 29, 3) := by decide +kernel
theorem dX0_learn_108 : decode cX0_learn 108 = .ok (.iload_n 1, 1) := by decide +kernel
theorem dX0_learn_109 : decode cX0_learn 109 = .ok (.dup2, 1) := by decide +kernel
theorem dX0_learn_110 : decode cX0_learn 110 = .ok (.laload, 1) := by decide +kernel
theorem dX0_learn_111 : decode cX0_learn 111 = .ok (.lconst 1, 1) := by decide +kernel
theorem dX0_learn_112 : decode cX0_learn 112 = .ok (.iload 4, 2) := by decide +kernel
theorem dX0_learn_114 : decode cX0_learn 114 = .ok (.lshl, 1) := by decide +kernel
theorem dX0_learn_115 : decode cX0_learn 115 = .ok (.lor, 1) := by decide +kernel
theorem dX0_learn_116 : decode cX0_learn 116 = .ok (.lastore, 1) := by decide +kernel
theorem dX0_learn_117 : decode cX0_learn 117 = .ok (.iinc 3 1, 3) := by decide +kernel
theorem dX0_learn_120 : decode cX0_learn 120 = .ok (.iinc 4 1, 3) := by decide +kernel
theorem dX0_learn_123 : decode cX0_learn 123 = .ok (.goto (-94), 3) := by decide +kernel
theorem dX0_learn_126 : decode cX0_learn 126 = .ok (.iload_n 3, 1) := by decide +kernel
theorem dX0_learn_127 : decode cX0_learn 127 = .ok (.ireturn, 1) := by decide +kernel
abbrev cX0_integrate : ByteArray := prog_1_method_9_code
def yX0_integrate : MethodName := ⟨RX0, "integrate", "(II)V"⟩
theorem dX0_integrate_0 : decode cX0_integrate 0 = .ok (.aload_n 0, 1) := by decide +kernel
theorem dX0_integrate_1 : decode cX0_integrate 1 = .ok (.getfield 19, 3) := by decide +kernel
theorem dX0_integrate_4 : decode cX0_integrate 4 = .ok (.iload_n 2, 1) := by decide +kernel
theorem dX0_integrate_5 : decode cX0_integrate 5 = .ok (.iaload, 1) := by decide +kernel
theorem dX0_integrate_6 : decode cX0_integrate 6 = .ok (.istore_n 3, 1) := by decide +kernel
theorem dX0_integrate_7 : decode cX0_integrate 7 = .ok (.aload_n 0, 1) := by decide +kernel
theorem dX0_integrate_8 : decode cX0_integrate 8 = .ok (.getfield 32, 3) := by decide +kernel
theorem dX0_integrate_11 : decode cX0_integrate 11 = .ok (.iload_n 1, 1) := by decide +kernel
theorem dX0_integrate_12 : decode cX0_integrate 12 = .ok (.bipush 41, 2) := by decide +kernel
theorem dX0_integrate_14 : decode cX0_integrate 14 = .ok (.imul, 1) := by decide +kernel
theorem dX0_integrate_15 : decode cX0_integrate 15 = .ok (.iload_n 3, 1) := by decide +kernel
theorem dX0_integrate_16 : decode cX0_integrate 16 = .ok (.iadd, 1) := by decide +kernel
theorem dX0_integrate_17 : decode cX0_integrate 17 = .ok (.iaload, 1) := by decide +kernel
theorem dX0_integrate_18 : decode cX0_integrate 18 = .ok (.istore 4, 2) := by decide +kernel
theorem dX0_integrate_20 : decode cX0_integrate 20 = .ok (.iconst 0, 1) := by decide +kernel
theorem dX0_integrate_21 : decode cX0_integrate 21 = .ok (.istore 5, 2) := by decide +kernel
theorem dX0_integrate_23 : decode cX0_integrate 23 = .ok (.iload 5, 2) := by decide +kernel
theorem dX0_integrate_25 : decode cX0_integrate 25 = .ok (.bipush 40, 2) := by decide +kernel
theorem dX0_integrate_27 : decode cX0_integrate 27 = .ok (.if_icmp .ge 41, 3) := by decide +kernel
theorem dX0_integrate_30 : decode cX0_integrate 30 = .ok (.iload 4, 2) := by decide +kernel
theorem dX0_integrate_32 : decode cX0_integrate 32 = .ok (.ifCond .lt 36, 3) := by decide +kernel
theorem dX0_integrate_35 : decode cX0_integrate 35 = .ok (.aload_n 0, 1) := by decide +kernel
theorem dX0_integrate_36 : decode cX0_integrate 36 = .ok (.iload 4, 2) := by decide +kernel
theorem dX0_integrate_38 : decode cX0_integrate 38 = .ok (.iload_n 2, 1) := by decide +kernel
theorem dX0_integrate_39 : decode cX0_integrate 39 = .ok (.invokevirtual 47, 3) := by decide +kernel
theorem dX0_integrate_42 : decode cX0_integrate 42 = .ok (.ifCond .eq 26, 3) := by decide +kernel
theorem dX0_integrate_45 : decode cX0_integrate 45 = .ok (.iload 4, 2) := by decide +kernel
theorem dX0_integrate_47 : decode cX0_integrate 47 = .ok (.istore_n 3, 1) := by decide +kernel
theorem dX0_integrate_48 : decode cX0_integrate 48 = .ok (.aload_n 0, 1) := by decide +kernel
theorem dX0_integrate_49 : decode cX0_integrate 49 = .ok (.getfield 32, 3) := by decide +kernel
theorem dX0_integrate_52 : decode cX0_integrate 52 = .ok (.iload_n 1, 1) := by decide +kernel
theorem dX0_integrate_53 : decode cX0_integrate 53 = .ok (.bipush 41, 2) := by decide +kernel
theorem dX0_integrate_55 : decode cX0_integrate 55 = .ok (.imul, 1) := by decide +kernel
theorem dX0_integrate_56 : decode cX0_integrate 56 = .ok (.iload 4, 2) := by decide +kernel
theorem dX0_integrate_58 : decode cX0_integrate 58 = .ok (.iadd, 1) := by decide +kernel
theorem dX0_integrate_59 : decode cX0_integrate 59 = .ok (.iaload, 1) := by decide +kernel
theorem dX0_integrate_60 : decode cX0_integrate 60 = .ok (.istore 4, 2) := by decide +kernel
theorem dX0_integrate_62 : decode cX0_integrate 62 = .ok (.iinc 5 1, 3) := by decide +kernel
theorem dX0_integrate_65 : decode cX0_integrate 65 = .ok (.goto (-42), 3) := by decide +kernel
theorem dX0_integrate_68 : decode cX0_integrate 68 = .ok (.aload_n 0, 1) := by decide +kernel
theorem dX0_integrate_69 : decode cX0_integrate 69 = .ok (.iload_n 1, 1) := by decide +kernel
theorem dX0_integrate_70 : decode cX0_integrate 70 = .ok (.iload_n 3, 1) := by decide +kernel
theorem dX0_integrate_71 : decode cX0_integrate 71 = .ok (.iload_n 2, 1) := by decide +kernel
theorem dX0_integrate_72 : decode cX0_integrate 72 = .ok (.invokevirtual 50, 3) := by decide +kernel
theorem dX0_integrate_75 : decode cX0_integrate 75 = .ok (.aload_n 0, 1) := by decide +kernel
theorem dX0_integrate_76 : decode cX0_integrate 76 = .ok (.getfield 25, 3) := by decide +kernel
theorem dX0_integrate_79 : decode cX0_integrate 79 = .ok (.iload_n 1, 1) := by decide +kernel
theorem dX0_integrate_80 : decode cX0_integrate 80 = .ok (.dup2, 1) := by decide +kernel
theorem dX0_integrate_81 : decode cX0_integrate 81 = .ok (.laload, 1) := by decide +kernel
theorem dX0_integrate_82 : decode cX0_integrate 82 = .ok (.lconst 1, 1) := by decide +kernel
theorem dX0_integrate_83 : decode cX0_integrate 83 = .ok (.iload_n 2, 1) := by decide +kernel
theorem dX0_integrate_84 : decode cX0_integrate 84 = .ok (.lshl, 1) := by decide +kernel
theorem dX0_integrate_85 : decode cX0_integrate 85 = .ok (.lor, 1) := by decide +kernel
theorem dX0_integrate_86 : decode cX0_integrate 86 = .ok (.lastore, 1) := by decide +kernel
theorem dX0_integrate_87 : decode cX0_integrate 87 = .ok (.aload_n 0, 1) := by decide +kernel
theorem dX0_integrate_88 : decode cX0_integrate 88 = .ok (.getfield 22, 3) := by decide +kernel
theorem dX0_integrate_91 : decode cX0_integrate 91 = .ok (.iload_n 1, 1) := by decide +kernel
theorem dX0_integrate_92 : decode cX0_integrate 92 = .ok (.iaload, 1) := by decide +kernel
theorem dX0_integrate_93 : decode cX0_integrate 93 = .ok (.aload_n 0, 1) := by decide +kernel
theorem dX0_integrate_94 : decode cX0_integrate 94 = .ok (.getfield 13, 3) := by decide +kernel
theorem dX0_integrate_97 : decode cX0_integrate 97 = .ok (.iload_n 2, 1) := by decide +kernel
theorem dX0_integrate_98 : decode cX0_integrate 98 = .ok (.iaload, 1) := by decide +kernel
theorem dX0_integrate_99 : decode cX0_integrate 99 = .ok (.if_icmp .ge 15, 3) := by decide +kernel
theorem dX0_integrate_102 : decode cX0_integrate 102 = .ok (.aload_n 0, 1) := by decide +kernel
theorem dX0_integrate_103 : decode cX0_integrate 103 = .ok (.getfield 22, 3) := by decide +kernel
theorem dX0_integrate_106 : decode cX0_integrate 106 = .ok (.iload_n 1, 1) := by decide +kernel
theorem dX0_integrate_107 : decode cX0_integrate 107 = .ok (.aload_n 0, 1) := by decide +kernel
theorem dX0_integrate_108 : decode cX0_integrate 108 = .ok (.getfield 13, 3) := by decide +kernel
theorem dX0_integrate_111 : decode cX0_integrate 111 = .ok (.iload_n 2, 1) := by decide +kernel
theorem dX0_integrate_112 : decode cX0_integrate 112 = .ok (.iaload, 1) := by decide +kernel
theorem dX0_integrate_113 : decode cX0_integrate 113 = .ok (.iastore, 1) := by decide +kernel
theorem dX0_integrate_114 : decode cX0_integrate 114 = .ok (.return_, 1) := by decide +kernel
abbrev cX0_ahead : ByteArray := prog_1_method_8_code
def yX0_ahead : MethodName := ⟨RX0, "ahead", "(II)Z"⟩
theorem dX0_ahead_0 : decode cX0_ahead 0 = .ok (.aload_n 0, 1) := by decide +kernel
theorem dX0_ahead_1 : decode cX0_ahead 1 = .ok (.getfield 13, 3) := by decide +kernel
theorem dX0_ahead_4 : decode cX0_ahead 4 = .ok (.iload_n 1, 1) := by decide +kernel
theorem dX0_ahead_5 : decode cX0_ahead 5 = .ok (.iaload, 1) := by decide +kernel
theorem dX0_ahead_6 : decode cX0_ahead 6 = .ok (.aload_n 0, 1) := by decide +kernel
theorem dX0_ahead_7 : decode cX0_ahead 7 = .ok (.getfield 13, 3) := by decide +kernel
theorem dX0_ahead_10 : decode cX0_ahead 10 = .ok (.iload_n 2, 1) := by decide +kernel
theorem dX0_ahead_11 : decode cX0_ahead 11 = .ok (.iaload, 1) := by decide +kernel
theorem dX0_ahead_12 : decode cX0_ahead 12 = .ok (.if_icmp .eq 26, 3) := by decide +kernel
theorem dX0_ahead_15 : decode cX0_ahead 15 = .ok (.aload_n 0, 1) := by decide +kernel
theorem dX0_ahead_16 : decode cX0_ahead 16 = .ok (.getfield 13, 3) := by decide +kernel
theorem dX0_ahead_19 : decode cX0_ahead 19 = .ok (.iload_n 1, 1) := by decide +kernel
theorem dX0_ahead_20 : decode cX0_ahead 20 = .ok (.iaload, 1) := by decide +kernel
theorem dX0_ahead_21 : decode cX0_ahead 21 = .ok (.aload_n 0, 1) := by decide +kernel
theorem dX0_ahead_22 : decode cX0_ahead 22 = .ok (.getfield 13, 3) := by decide +kernel
theorem dX0_ahead_25 : decode cX0_ahead 25 = .ok (.iload_n 2, 1) := by decide +kernel
theorem dX0_ahead_26 : decode cX0_ahead 26 = .ok (.iaload, 1) := by decide +kernel
theorem dX0_ahead_27 : decode cX0_ahead 27 = .ok (.if_icmp .le 7, 3) := by decide +kernel
theorem dX0_ahead_30 : decode cX0_ahead 30 = .ok (.iconst 1, 1) := by decide +kernel
theorem dX0_ahead_31 : decode cX0_ahead 31 = .ok (.goto 27, 3) := by decide +kernel
theorem dX0_ahead_34 : decode cX0_ahead 34 = .ok (.iconst 0, 1) := by decide +kernel
theorem dX0_ahead_35 : decode cX0_ahead 35 = .ok (.goto 23, 3) := by decide +kernel
theorem dX0_ahead_38 : decode cX0_ahead 38 = .ok (.aload_n 0, 1) := by decide +kernel
theorem dX0_ahead_39 : decode cX0_ahead 39 = .ok (.getfield 16, 3) := by decide +kernel
theorem dX0_ahead_42 : decode cX0_ahead 42 = .ok (.iload_n 1, 1) := by decide +kernel
theorem dX0_ahead_43 : decode cX0_ahead 43 = .ok (.iaload, 1) := by decide +kernel
theorem dX0_ahead_44 : decode cX0_ahead 44 = .ok (.aload_n 0, 1) := by decide +kernel
theorem dX0_ahead_45 : decode cX0_ahead 45 = .ok (.getfield 16, 3) := by decide +kernel
theorem dX0_ahead_48 : decode cX0_ahead 48 = .ok (.iload_n 2, 1) := by decide +kernel
theorem dX0_ahead_49 : decode cX0_ahead 49 = .ok (.iaload, 1) := by decide +kernel
theorem dX0_ahead_50 : decode cX0_ahead 50 = .ok (.if_icmp .le 7, 3) := by decide +kernel
theorem dX0_ahead_53 : decode cX0_ahead 53 = .ok (.iconst 1, 1) := by decide +kernel
theorem dX0_ahead_54 : decode cX0_ahead 54 = .ok (.goto 4, 3) := by decide +kernel
theorem dX0_ahead_57 : decode cX0_ahead 57 = .ok (.iconst 0, 1) := by decide +kernel
theorem dX0_ahead_58 : decode cX0_ahead 58 = .ok (.ireturn, 1) := by decide +kernel
abbrev cX0_length : ByteArray := prog_1_method_13_code
def yX0_length : MethodName := ⟨RX0, "length", "(I)I"⟩
theorem dX0_length_0 : decode cX0_length 0 = .ok (.iload_n 1, 1) := by decide +kernel
theorem dX0_length_1 : decode cX0_length 1 = .ok (.invokestatic 54, 3) := by decide +kernel
theorem dX0_length_4 : decode cX0_length 4 = .ok (.ifCond .eq 7, 3) := by decide +kernel
theorem dX0_length_7 : decode cX0_length 7 = .ok (.iconst (-1), 1) := by decide +kernel
theorem dX0_length_8 : decode cX0_length 8 = .ok (.goto 8, 3) := by decide +kernel
theorem dX0_length_11 : decode cX0_length 11 = .ok (.aload_n 0, 1) := by decide +kernel
theorem dX0_length_12 : decode cX0_length 12 = .ok (.iload_n 1, 1) := by decide +kernel
theorem dX0_length_13 : decode cX0_length 13 = .ok (.invokevirtual 58, 3) := by decide +kernel
theorem dX0_length_16 : decode cX0_length 16 = .ok (.ireturn, 1) := by decide +kernel
abbrev cX0_charAt : ByteArray := prog_1_method_14_code
def yX0_charAt : MethodName := ⟨RX0, "charAt", "(II)I"⟩
theorem dX0_charAt_0 : decode cX0_charAt 0 = .ok (.iload_n 1, 1) := by decide +kernel
theorem dX0_charAt_1 : decode cX0_charAt 1 = .ok (.invokestatic 54, 3) := by decide +kernel
theorem dX0_charAt_4 : decode cX0_charAt 4 = .ok (.ifCond .eq 5, 3) := by decide +kernel
theorem dX0_charAt_7 : decode cX0_charAt 7 = .ok (.iconst (-1), 1) := by decide +kernel
theorem dX0_charAt_8 : decode cX0_charAt 8 = .ok (.ireturn, 1) := by decide +kernel
theorem dX0_charAt_9 : decode cX0_charAt 9 = .ok (.aload_n 0, 1) := by decide +kernel
theorem dX0_charAt_10 : decode cX0_charAt 10 = .ok (.iload_n 1, 1) := by decide +kernel
theorem dX0_charAt_11 : decode cX0_charAt 11 = .ok (.iload_n 2, 1) := by decide +kernel
theorem dX0_charAt_12 : decode cX0_charAt 12 = .ok (.invokevirtual 62, 3) := by decide +kernel
theorem dX0_charAt_15 : decode cX0_charAt 15 = .ok (.istore_n 3, 1) := by decide +kernel
theorem dX0_charAt_16 : decode cX0_charAt 16 = .ok (.iload_n 3, 1) := by decide +kernel
theorem dX0_charAt_17 : decode cX0_charAt 17 = .ok (.ifCond .ge 8, 3) := by decide +kernel
theorem dX0_charAt_20 : decode cX0_charAt 20 = .ok (.bipush (-5), 2) := by decide +kernel
theorem dX0_charAt_22 : decode cX0_charAt 22 = .ok (.goto 9, 3) := by decide +kernel
theorem dX0_charAt_25 : decode cX0_charAt 25 = .ok (.aload_n 0, 1) := by decide +kernel
theorem dX0_charAt_26 : decode cX0_charAt 26 = .ok (.getfield 7, 3) := by decide +kernel
theorem dX0_charAt_29 : decode cX0_charAt 29 = .ok (.iload_n 3, 1) := by decide +kernel
theorem dX0_charAt_30 : decode cX0_charAt 30 = .ok (.iaload, 1) := by decide +kernel
theorem dX0_charAt_31 : decode cX0_charAt 31 = .ok (.ireturn, 1) := by decide +kernel
abbrev cX0_elementAt : ByteArray := prog_1_method_15_code
def yX0_elementAt : MethodName := ⟨RX0, "elementAt", "(II)I"⟩
theorem dX0_elementAt_0 : decode cX0_elementAt 0 = .ok (.iload_n 1, 1) := by decide +kernel
theorem dX0_elementAt_1 : decode cX0_elementAt 1 = .ok (.invokestatic 54, 3) := by decide +kernel
theorem dX0_elementAt_4 : decode cX0_elementAt 4 = .ok (.ifCond .eq 5, 3) := by decide +kernel
theorem dX0_elementAt_7 : decode cX0_elementAt 7 = .ok (.iconst (-1), 1) := by decide +kernel
theorem dX0_elementAt_8 : decode cX0_elementAt 8 = .ok (.ireturn, 1) := by decide +kernel
theorem dX0_elementAt_9 : decode cX0_elementAt 9 = .ok (.aload_n 0, 1) := by decide +kernel
theorem dX0_elementAt_10 : decode cX0_elementAt 10 = .ok (.iload_n 1, 1) := by decide +kernel
theorem dX0_elementAt_11 : decode cX0_elementAt 11 = .ok (.iload_n 2, 1) := by decide +kernel
theorem dX0_elementAt_12 : decode cX0_elementAt 12 = .ok (.invokevirtual 62, 3) := by decide +kernel
theorem dX0_elementAt_15 : decode cX0_elementAt 15 = .ok (.istore_n 3, 1) := by decide +kernel
theorem dX0_elementAt_16 : decode cX0_elementAt 16 = .ok (.iload_n 3, 1) := by decide +kernel
theorem dX0_elementAt_17 : decode cX0_elementAt 17 = .ok (.ifCond .ge 8, 3) := by decide +kernel
theorem dX0_elementAt_20 : decode cX0_elementAt 20 = .ok (.bipush (-5), 2) := by decide +kernel
theorem dX0_elementAt_22 : decode cX0_elementAt 22 = .ok (.goto 4, 3) := by decide +kernel
theorem dX0_elementAt_25 : decode cX0_elementAt 25 = .ok (.iload_n 3, 1) := by decide +kernel
theorem dX0_elementAt_26 : decode cX0_elementAt 26 = .ok (.ireturn, 1) := by decide +kernel
abbrev cX0_placeOf : ByteArray := prog_1_method_18_code
def yX0_placeOf : MethodName := ⟨RX0, "placeOf", "(II)I"⟩
theorem dX0_placeOf_0 : decode cX0_placeOf 0 = .ok (.iload_n 1, 1) := by decide +kernel
theorem dX0_placeOf_1 : decode cX0_placeOf 1 = .ok (.invokestatic 54, 3) := by decide +kernel
theorem dX0_placeOf_4 : decode cX0_placeOf 4 = .ok (.ifCond .eq 5, 3) := by decide +kernel
theorem dX0_placeOf_7 : decode cX0_placeOf 7 = .ok (.iconst (-1), 1) := by decide +kernel
theorem dX0_placeOf_8 : decode cX0_placeOf 8 = .ok (.ireturn, 1) := by decide +kernel
theorem dX0_placeOf_9 : decode cX0_placeOf 9 = .ok (.aload_n 0, 1) := by decide +kernel
theorem dX0_placeOf_10 : decode cX0_placeOf 10 = .ok (.iload_n 1, 1) := by decide +kernel
theorem dX0_placeOf_11 : decode cX0_placeOf 11 = .ok (.iload_n 2, 1) := by decide +kernel
theorem dX0_placeOf_12 : decode cX0_placeOf 12 = .ok (.invokevirtual 70, 3) := by decide +kernel
theorem dX0_placeOf_15 : decode cX0_placeOf 15 = .ok (.ifCond .ne 12, 3) := by decide +kernel
theorem dX0_placeOf_18 : decode cX0_placeOf 18 = .ok (.aload_n 0, 1) := by decide +kernel
theorem dX0_placeOf_19 : decode cX0_placeOf 19 = .ok (.iload_n 1, 1) := by decide +kernel
theorem dX0_placeOf_20 : decode cX0_placeOf 20 = .ok (.iload_n 2, 1) := by decide +kernel
theorem dX0_placeOf_21 : decode cX0_placeOf 21 = .ok (.invokevirtual 39, 3) := by decide +kernel
theorem dX0_placeOf_24 : decode cX0_placeOf 24 = .ok (.ifCond .ne 6, 3) := by decide +kernel
theorem dX0_placeOf_27 : decode cX0_placeOf 27 = .ok (.bipush (-5), 2) := by decide +kernel
theorem dX0_placeOf_29 : decode cX0_placeOf 29 = .ok (.ireturn, 1) := by decide +kernel
theorem dX0_placeOf_30 : decode cX0_placeOf 30 = .ok (.aload_n 0, 1) := by decide +kernel
theorem dX0_placeOf_31 : decode cX0_placeOf 31 = .ok (.iload_n 1, 1) := by decide +kernel
theorem dX0_placeOf_32 : decode cX0_placeOf 32 = .ok (.iload_n 2, 1) := by decide +kernel
theorem dX0_placeOf_33 : decode cX0_placeOf 33 = .ok (.iconst 1, 1) := by decide +kernel
theorem dX0_placeOf_34 : decode cX0_placeOf 34 = .ok (.invokevirtual 73, 3) := by decide +kernel
theorem dX0_placeOf_37 : decode cX0_placeOf 37 = .ok (.ireturn, 1) := by decide +kernel
end
section
set_option maxRecDepth 100000
abbrev cX0_unknown : ByteArray := prog_1_method_16_code
def yX0_unknown : MethodName := ⟨RX0, "unknown", "(II)Z"⟩
theorem dX0_unknown_0 : decode cX0_unknown 0 = .ok (.iload_n 2, 1) := by decide +kernel
theorem dX0_unknown_1 : decode cX0_unknown 1 = .ok (.ifCond .lt 24, 3) := by decide +kernel
theorem dX0_unknown_4 : decode cX0_unknown 4 = .ok (.iload_n 2, 1) := by decide +kernel
theorem dX0_unknown_5 : decode cX0_unknown 5 = .ok (.aload_n 0, 1) := by decide +kernel
theorem dX0_unknown_6 : decode cX0_unknown 6 = .ok (.getfield 43, 3) := by decide +kernel
theorem dX0_unknown_9 : decode cX0_unknown 9 = .ok (.if_icmp .ge 16, 3) := by decide +kernel
theorem dX0_unknown_12 : decode cX0_unknown 12 = .ok (.aload_n 0, 1) := by decide +kernel
theorem dX0_unknown_13 : decode cX0_unknown 13 = .ok (.getfield 25, 3) := by decide +kernel
theorem dX0_unknown_16 : decode cX0_unknown 16 = .ok (.iload_n 1, 1) := by decide +kernel
theorem dX0_unknown_17 : decode cX0_unknown 17 = .ok (.laload, 1) := by decide +kernel
theorem dX0_unknown_18 : decode cX0_unknown 18 = .ok (.iload_n 2, 1) := by decide +kernel
theorem dX0_unknown_19 : decode cX0_unknown 19 = .ok (.invokestatic 35, 3) := by decide +kernel
theorem dX0_unknown_22 : decode cX0_unknown 22 = .ok (.ifCond .ne 7, 3) := by decide +kernel
theorem dX0_unknown_25 : decode cX0_unknown 25 = .ok (.iconst 1, 1) := by decide +kernel
theorem dX0_unknown_26 : decode cX0_unknown 26 = .ok (.goto 4, 3) := by decide +kernel
theorem dX0_unknown_29 : decode cX0_unknown 29 = .ok (.iconst 0, 1) := by decide +kernel
theorem dX0_unknown_30 : decode cX0_unknown 30 = .ok (.ireturn, 1) := by decide +kernel
abbrev cX0_countBefore : ByteArray := prog_1_method_17_code
def yX0_countBefore : MethodName := ⟨RX0, "countBefore", "(IIZ)I"⟩
theorem dX0_countBefore_0 : decode cX0_countBefore 0 = .ok (.iconst 0, 1) := by decide +kernel
theorem dX0_countBefore_1 : decode cX0_countBefore 1 = .ok (.istore 4, 2) := by decide +kernel
theorem dX0_countBefore_3 : decode cX0_countBefore 3 = .ok (.aload_n 0, 1) := by decide +kernel
theorem dX0_countBefore_4 : decode cX0_countBefore 4 = .ok (.getfield 32, 3) := by decide +kernel
theorem dX0_countBefore_7 : decode cX0_countBefore 7 = .ok (.iload_n 1, 1) := by decide +kernel
theorem dX0_countBefore_8 : decode cX0_countBefore 8 = .ok (.bipush 41, 2) := by decide +kernel
theorem dX0_countBefore_10 : decode cX0_countBefore 10 = .ok (.imul, 1) := by decide +kernel
theorem dX0_countBefore_11 : decode cX0_countBefore 11 = .ok (.bipush 40, 2) := by decide +kernel
theorem dX0_countBefore_13 : decode cX0_countBefore 13 = .ok (.iadd, 1) := by decide +kernel
theorem dX0_countBefore_14 : decode cX0_countBefore 14 = .ok (.iaload, 1) := by decide +kernel
theorem dX0_countBefore_15 : decode cX0_countBefore 15 = .ok (.istore 5, 2) := by decide +kernel
theorem dX0_countBefore_17 : decode cX0_countBefore 17 = .ok (.iconst 0, 1) := by decide +kernel
theorem dX0_countBefore_18 : decode cX0_countBefore 18 = .ok (.istore 6, 2) := by decide +kernel
theorem dX0_countBefore_20 : decode cX0_countBefore 20 = .ok (.iload 6, 2) := by decide +kernel
theorem dX0_countBefore_22 : decode cX0_countBefore 22 = .ok (.bipush 40, 2) := by decide +kernel
theorem dX0_countBefore_24 : decode cX0_countBefore 24 = .ok (.if_icmp .ge 51, 3) := by decide +kernel
theorem dX0_countBefore_27 : decode cX0_countBefore 27 = .ok (.iload 5, 2) := by decide +kernel
theorem dX0_countBefore_29 : decode cX0_countBefore 29 = .ok (.ifCond .lt 46, 3) := by decide +kernel
theorem dX0_countBefore_32 : decode cX0_countBefore 32 = .ok (.iload 5, 2) := by decide +kernel
theorem dX0_countBefore_34 : decode cX0_countBefore 34 = .ok (.iload_n 2, 1) := by decide +kernel
theorem dX0_countBefore_35 : decode cX0_countBefore 35 = .ok (.if_icmp .eq 40, 3) := by decide +kernel
theorem dX0_countBefore_38 : decode cX0_countBefore 38 = .ok (.iload_n 3, 1) := by decide +kernel
theorem dX0_countBefore_39 : decode cX0_countBefore 39 = .ok (.ifCond .eq 13, 3) := by decide +kernel
theorem dX0_countBefore_42 : decode cX0_countBefore 42 = .ok (.aload_n 0, 1) := by decide +kernel
theorem dX0_countBefore_43 : decode cX0_countBefore 43 = .ok (.iload_n 1, 1) := by decide +kernel
theorem dX0_countBefore_44 : decode cX0_countBefore 44 = .ok (.iload 5, 2) := by decide +kernel
theorem dX0_countBefore_46 : decode cX0_countBefore 46 = .ok (.invokevirtual 39, 3) := by decide +kernel
theorem dX0_countBefore_49 : decode cX0_countBefore 49 = .ok (.ifCond .eq 6, 3) := by decide +kernel
theorem dX0_countBefore_52 : decode cX0_countBefore 52 = .ok (.iinc 4 1, 3) := by decide +kernel
theorem dX0_countBefore_55 : decode cX0_countBefore 55 = .ok (.aload_n 0, 1) := by decide +kernel
theorem dX0_countBefore_56 : decode cX0_countBefore 56 = .ok (.getfield 32, 3) := by decide +kernel
theorem dX0_countBefore_59 : decode cX0_countBefore 59 = .ok (.iload_n 1, 1) := by decide +kernel
theorem dX0_countBefore_60 : decode cX0_countBefore 60 = .ok (.bipush 41, 2) := by decide +kernel
theorem dX0_countBefore_62 : decode cX0_countBefore 62 = .ok (.imul, 1) := by decide +kernel
theorem dX0_countBefore_63 : decode cX0_countBefore 63 = .ok (.iload 5, 2) := by decide +kernel
theorem dX0_countBefore_65 : decode cX0_countBefore 65 = .ok (.iadd, 1) := by decide +kernel
theorem dX0_countBefore_66 : decode cX0_countBefore 66 = .ok (.iaload, 1) := by decide +kernel
theorem dX0_countBefore_67 : decode cX0_countBefore 67 = .ok (.istore 5, 2) := by decide +kernel
theorem dX0_countBefore_69 : decode cX0_countBefore 69 = .ok (.iinc 6 1, 3) := by decide +kernel
theorem dX0_countBefore_72 : decode cX0_countBefore 72 = .ok (.goto (-52), 3) := by decide +kernel
theorem dX0_countBefore_75 : decode cX0_countBefore 75 = .ok (.iload 4, 2) := by decide +kernel
theorem dX0_countBefore_77 : decode cX0_countBefore 77 = .ok (.ireturn, 1) := by decide +kernel
abbrev cX0_known : ByteArray := prog_1_method_19_code
def yX0_known : MethodName := ⟨RX0, "known", "(I)I"⟩
theorem dX0_known_0 : decode cX0_known 0 = .ok (.iload_n 1, 1) := by decide +kernel
theorem dX0_known_1 : decode cX0_known 1 = .ok (.invokestatic 54, 3) := by decide +kernel
theorem dX0_known_4 : decode cX0_known 4 = .ok (.ifCond .eq 5, 3) := by decide +kernel
theorem dX0_known_7 : decode cX0_known 7 = .ok (.iconst (-1), 1) := by decide +kernel
theorem dX0_known_8 : decode cX0_known 8 = .ok (.ireturn, 1) := by decide +kernel
theorem dX0_known_9 : decode cX0_known 9 = .ok (.iconst 0, 1) := by decide +kernel
theorem dX0_known_10 : decode cX0_known 10 = .ok (.istore_n 2, 1) := by decide +kernel
theorem dX0_known_11 : decode cX0_known 11 = .ok (.iconst 0, 1) := by decide +kernel
theorem dX0_known_12 : decode cX0_known 12 = .ok (.istore_n 3, 1) := by decide +kernel
theorem dX0_known_13 : decode cX0_known 13 = .ok (.iload_n 3, 1) := by decide +kernel
theorem dX0_known_14 : decode cX0_known 14 = .ok (.aload_n 0, 1) := by decide +kernel
theorem dX0_known_15 : decode cX0_known 15 = .ok (.getfield 43, 3) := by decide +kernel
theorem dX0_known_18 : decode cX0_known 18 = .ok (.if_icmp .ge 25, 3) := by decide +kernel
theorem dX0_known_21 : decode cX0_known 21 = .ok (.aload_n 0, 1) := by decide +kernel
theorem dX0_known_22 : decode cX0_known 22 = .ok (.getfield 25, 3) := by decide +kernel
theorem dX0_known_25 : decode cX0_known 25 = .ok (.iload_n 1, 1) := by decide +kernel
theorem dX0_known_26 : decode cX0_known 26 = .ok (.laload, 1) := by decide +kernel
theorem dX0_known_27 : decode cX0_known 27 = .ok (.iload_n 3, 1) := by decide +kernel
theorem dX0_known_28 : decode cX0_known 28 = .ok (.invokestatic 35, 3) := by decide +kernel
theorem dX0_known_31 : decode cX0_known 31 = .ok (.ifCond .eq 6, 3) := by decide +kernel
theorem dX0_known_34 : decode cX0_known 34 = .ok (.iinc 2 1, 3) := by decide +kernel
theorem dX0_known_37 : decode cX0_known 37 = .ok (.iinc 3 1, 3) := by decide +kernel
theorem dX0_known_40 : decode cX0_known 40 = .ok (.goto (-27), 3) := by decide +kernel
theorem dX0_known_43 : decode cX0_known 43 = .ok (.iload_n 2, 1) := by decide +kernel
theorem dX0_known_44 : decode cX0_known 44 = .ok (.ireturn, 1) := by decide +kernel
abbrev cX0_rank : ByteArray := prog_1_method_20_code
def yX0_rank : MethodName := ⟨RX0, "rank", "(II)I"⟩
theorem dX0_rank_0 : decode cX0_rank 0 = .ok (.iload_n 1, 1) := by decide +kernel
theorem dX0_rank_1 : decode cX0_rank 1 = .ok (.invokestatic 54, 3) := by decide +kernel
theorem dX0_rank_4 : decode cX0_rank 4 = .ok (.ifCond .eq 5, 3) := by decide +kernel
theorem dX0_rank_7 : decode cX0_rank 7 = .ok (.iconst (-1), 1) := by decide +kernel
theorem dX0_rank_8 : decode cX0_rank 8 = .ok (.ireturn, 1) := by decide +kernel
theorem dX0_rank_9 : decode cX0_rank 9 = .ok (.aload_n 0, 1) := by decide +kernel
theorem dX0_rank_10 : decode cX0_rank 10 = .ok (.iload_n 1, 1) := by decide +kernel
theorem dX0_rank_11 : decode cX0_rank 11 = .ok (.iload_n 2, 1) := by decide +kernel
theorem dX0_rank_12 : decode cX0_rank 12 = .ok (.invokevirtual 70, 3) := by decide +kernel
theorem dX0_rank_15 : decode cX0_rank 15 = .ok (.ifCond .eq 6, 3) := by decide +kernel
theorem dX0_rank_18 : decode cX0_rank 18 = .ok (.bipush (-5), 2) := by decide +kernel
theorem dX0_rank_20 : decode cX0_rank 20 = .ok (.ireturn, 1) := by decide +kernel
theorem dX0_rank_21 : decode cX0_rank 21 = .ok (.aload_n 0, 1) := by decide +kernel
theorem dX0_rank_22 : decode cX0_rank 22 = .ok (.iload_n 1, 1) := by decide +kernel
theorem dX0_rank_23 : decode cX0_rank 23 = .ok (.iload_n 2, 1) := by decide +kernel
theorem dX0_rank_24 : decode cX0_rank 24 = .ok (.iconst 0, 1) := by decide +kernel
theorem dX0_rank_25 : decode cX0_rank 25 = .ok (.invokevirtual 73, 3) := by decide +kernel
theorem dX0_rank_28 : decode cX0_rank 28 = .ok (.ireturn, 1) := by decide +kernel
abbrev cX0_sameText : ByteArray := prog_1_method_22_code
def yX0_sameText : MethodName := ⟨RX0, "sameText", "(II)Z"⟩
theorem dX0_sameText_0 : decode cX0_sameText 0 = .ok (.iload_n 1, 1) := by decide +kernel
theorem dX0_sameText_1 : decode cX0_sameText 1 = .ok (.invokestatic 54, 3) := by decide +kernel
theorem dX0_sameText_4 : decode cX0_sameText 4 = .ok (.ifCond .ne 10, 3) := by decide +kernel
theorem dX0_sameText_7 : decode cX0_sameText 7 = .ok (.iload_n 2, 1) := by decide +kernel
theorem dX0_sameText_8 : decode cX0_sameText 8 = .ok (.invokestatic 54, 3) := by decide +kernel
theorem dX0_sameText_11 : decode cX0_sameText 11 = .ok (.ifCond .eq 5, 3) := by decide +kernel
theorem dX0_sameText_14 : decode cX0_sameText 14 = .ok (.iconst 0, 1) := by decide +kernel
theorem dX0_sameText_15 : decode cX0_sameText 15 = .ok (.ireturn, 1) := by decide +kernel
theorem dX0_sameText_16 : decode cX0_sameText 16 = .ok (.aload_n 0, 1) := by decide +kernel
theorem dX0_sameText_17 : decode cX0_sameText 17 = .ok (.iload_n 1, 1) := by decide +kernel
theorem dX0_sameText_18 : decode cX0_sameText 18 = .ok (.aload_n 0, 1) := by decide +kernel
theorem dX0_sameText_19 : decode cX0_sameText 19 = .ok (.getfield 32, 3) := by decide +kernel
theorem dX0_sameText_22 : decode cX0_sameText 22 = .ok (.iload_n 1, 1) := by decide +kernel
theorem dX0_sameText_23 : decode cX0_sameText 23 = .ok (.bipush 41, 2) := by decide +kernel
theorem dX0_sameText_25 : decode cX0_sameText 25 = .ok (.imul, 1) := by decide +kernel
theorem dX0_sameText_26 : decode cX0_sameText 26 = .ok (.bipush 40, 2) := by decide +kernel
theorem dX0_sameText_28 : decode cX0_sameText 28 = .ok (.iadd, 1) := by decide +kernel
theorem dX0_sameText_29 : decode cX0_sameText 29 = .ok (.iaload, 1) := by decide +kernel
theorem dX0_sameText_30 : decode cX0_sameText 30 = .ok (.invokevirtual 77, 3) := by decide +kernel
theorem dX0_sameText_33 : decode cX0_sameText 33 = .ok (.istore_n 3, 1) := by decide +kernel
theorem dX0_sameText_34 : decode cX0_sameText 34 = .ok (.aload_n 0, 1) := by decide +kernel
theorem dX0_sameText_35 : decode cX0_sameText 35 = .ok (.iload_n 2, 1) := by decide +kernel
theorem dX0_sameText_36 : decode cX0_sameText 36 = .ok (.aload_n 0, 1) := by decide +kernel
theorem dX0_sameText_37 : decode cX0_sameText 37 = .ok (.getfield 32, 3) := by decide +kernel
theorem dX0_sameText_40 : decode cX0_sameText 40 = .ok (.iload_n 2, 1) := by decide +kernel
theorem dX0_sameText_41 : decode cX0_sameText 41 = .ok (.bipush 41, 2) := by decide +kernel
theorem dX0_sameText_43 : decode cX0_sameText 43 = .ok (.imul, 1) := by decide +kernel
theorem dX0_sameText_44 : decode cX0_sameText 44 = .ok (.bipush 40, 2) := by decide +kernel
theorem dX0_sameText_46 : decode cX0_sameText 46 = .ok (.iadd, 1) := by decide +kernel
theorem dX0_sameText_47 : decode cX0_sameText 47 = .ok (.iaload, 1) := by decide +kernel
theorem dX0_sameText_48 : decode cX0_sameText 48 = .ok (.invokevirtual 77, 3) := by decide +kernel
theorem dX0_sameText_51 : decode cX0_sameText 51 = .ok (.istore 4, 2) := by decide +kernel
theorem dX0_sameText_53 : decode cX0_sameText 53 = .ok (.iconst 0, 1) := by decide +kernel
theorem dX0_sameText_54 : decode cX0_sameText 54 = .ok (.istore 5, 2) := by decide +kernel
theorem dX0_sameText_56 : decode cX0_sameText 56 = .ok (.iload 5, 2) := by decide +kernel
theorem dX0_sameText_58 : decode cX0_sameText 58 = .ok (.bipush 40, 2) := by decide +kernel
theorem dX0_sameText_60 : decode cX0_sameText 60 = .ok (.if_icmp .ge 72, 3) := by decide +kernel
theorem dX0_sameText_63 : decode cX0_sameText 63 = .ok (.iload_n 3, 1) := by decide +kernel
theorem dX0_sameText_64 : decode cX0_sameText 64 = .ok (.ifCond .lt 68, 3) := by decide +kernel
theorem dX0_sameText_67 : decode cX0_sameText 67 = .ok (.iload 4, 2) := by decide +kernel
theorem dX0_sameText_69 : decode cX0_sameText 69 = .ok (.ifCond .lt 63, 3) := by decide +kernel
theorem dX0_sameText_72 : decode cX0_sameText 72 = .ok (.aload_n 0, 1) := by decide +kernel
theorem dX0_sameText_73 : decode cX0_sameText 73 = .ok (.getfield 7, 3) := by decide +kernel
theorem dX0_sameText_76 : decode cX0_sameText 76 = .ok (.iload_n 3, 1) := by decide +kernel
theorem dX0_sameText_77 : decode cX0_sameText 77 = .ok (.iaload, 1) := by decide +kernel
theorem dX0_sameText_78 : decode cX0_sameText 78 = .ok (.aload_n 0, 1) := by decide +kernel
theorem dX0_sameText_79 : decode cX0_sameText 79 = .ok (.getfield 7, 3) := by decide +kernel
theorem dX0_sameText_82 : decode cX0_sameText 82 = .ok (.iload 4, 2) := by decide +kernel
theorem dX0_sameText_84 : decode cX0_sameText 84 = .ok (.iaload, 1) := by decide +kernel
theorem dX0_sameText_85 : decode cX0_sameText 85 = .ok (.if_icmp .eq 5, 3) := by decide +kernel
theorem dX0_sameText_88 : decode cX0_sameText 88 = .ok (.iconst 0, 1) := by decide +kernel
theorem dX0_sameText_89 : decode cX0_sameText 89 = .ok (.ireturn, 1) := by decide +kernel
theorem dX0_sameText_90 : decode cX0_sameText 90 = .ok (.aload_n 0, 1) := by decide +kernel
theorem dX0_sameText_91 : decode cX0_sameText 91 = .ok (.iload_n 1, 1) := by decide +kernel
theorem dX0_sameText_92 : decode cX0_sameText 92 = .ok (.aload_n 0, 1) := by decide +kernel
theorem dX0_sameText_93 : decode cX0_sameText 93 = .ok (.getfield 32, 3) := by decide +kernel
theorem dX0_sameText_96 : decode cX0_sameText 96 = .ok (.iload_n 1, 1) := by decide +kernel
theorem dX0_sameText_97 : decode cX0_sameText 97 = .ok (.bipush 41, 2) := by decide +kernel
theorem dX0_sameText_99 : decode cX0_sameText 99 = .ok (.imul, 1) := by decide +kernel
theorem dX0_sameText_100 : decode cX0_sameText 100 = .ok (.iload_n 3, 1) := by decide +kernel
theorem dX0_sameText_101 : decode cX0_sameText 101 = .ok (.iadd, 1) := by decide +kernel
theorem dX0_sameText_102 : decode cX0_sameText 102 = .ok (.iaload, 1) := by decide +kernel
theorem dX0_sameText_103 : decode cX0_sameText 103 = .ok (.invokevirtual 77, 3) := by decide +kernel
theorem dX0_sameText_106 : decode cX0_sameText 106 = .ok (.istore_n 3, 1) := by decide +kernel
theorem dX0_sameText_107 : decode cX0_sameText 107 = .ok (.aload_n 0, 1) := by decide +kernel
theorem dX0_sameText_108 : decode cX0_sameText 108 = .ok (.iload_n 2, 1) := by decide +kernel
theorem dX0_sameText_109 : decode cX0_sameText 109 = .ok (.aload_n 0, 1) := by decide +kernel
theorem dX0_sameText_110 : decode cX0_sameText 110 = .ok (.getfield 32, 3) := by decide +kernel
theorem dX0_sameText_113 : decode cX0_sameText 113 = .ok (.iload_n 2, 1) := by decide +kernel
theorem dX0_sameText_114 : decode cX0_sameText 114 = .ok (.bipush 41, 2) := by decide +kernel
theorem dX0_sameText_116 : decode cX0_sameText 116 = .ok (.imul, 1) := by decide +kernel
theorem dX0_sameText_117 : decode cX0_sameText 117 = .ok (.iload 4, 2) := by decide +kernel
theorem dX0_sameText_119 : decode cX0_sameText 119 = .ok (.iadd, 1) := by decide +kernel
theorem dX0_sameText_120 : decode cX0_sameText 120 = .ok (.iaload, 1) := by decide +kernel
theorem dX0_sameText_121 : decode cX0_sameText 121 = .ok (.invokevirtual 77, 3) := by decide +kernel
theorem dX0_sameText_124 : decode cX0_sameText 124 = .ok (.istore 4, 2) := by decide +kernel
theorem dX0_sameText_126 : decode cX0_sameText 126 = .ok (.iinc 5 1, 3) := by decide +kernel
theorem dX0_sameText_129 : decode cX0_sameText 129 = .ok (.goto (-73), 3) := by decide +kernel
theorem dX0_sameText_132 : decode cX0_sameText 132 = .ok (.iload_n 3, 1) := by decide +kernel
theorem dX0_sameText_133 : decode cX0_sameText 133 = .ok (.ifCond .ge 12, 3) := by decide +kernel
theorem dX0_sameText_136 : decode cX0_sameText 136 = .ok (.iload 4, 2) := by decide +kernel
theorem dX0_sameText_138 : decode cX0_sameText 138 = .ok (.ifCond .ge 7, 3) := by decide +kernel
theorem dX0_sameText_141 : decode cX0_sameText 141 = .ok (.iconst 1, 1) := by decide +kernel
theorem dX0_sameText_142 : decode cX0_sameText 142 = .ok (.goto 4, 3) := by decide +kernel
theorem dX0_sameText_145 : decode cX0_sameText 145 = .ok (.iconst 0, 1) := by decide +kernel
theorem dX0_sameText_146 : decode cX0_sameText 146 = .ok (.ireturn, 1) := by decide +kernel
abbrev cX0_nextShown : ByteArray := prog_1_method_21_code
def yX0_nextShown : MethodName := ⟨RX0, "nextShown", "(II)I"⟩
theorem dX0_nextShown_0 : decode cX0_nextShown 0 = .ok (.iload_n 2, 1) := by decide +kernel
theorem dX0_nextShown_1 : decode cX0_nextShown 1 = .ok (.istore_n 3, 1) := by decide +kernel
theorem dX0_nextShown_2 : decode cX0_nextShown 2 = .ok (.iconst 0, 1) := by decide +kernel
theorem dX0_nextShown_3 : decode cX0_nextShown 3 = .ok (.istore 4, 2) := by decide +kernel
theorem dX0_nextShown_5 : decode cX0_nextShown 5 = .ok (.iload 4, 2) := by decide +kernel
theorem dX0_nextShown_7 : decode cX0_nextShown 7 = .ok (.bipush 40, 2) := by decide +kernel
theorem dX0_nextShown_9 : decode cX0_nextShown 9 = .ok (.if_icmp .ge 36, 3) := by decide +kernel
theorem dX0_nextShown_12 : decode cX0_nextShown 12 = .ok (.iload_n 3, 1) := by decide +kernel
theorem dX0_nextShown_13 : decode cX0_nextShown 13 = .ok (.ifCond .lt 32, 3) := by decide +kernel
theorem dX0_nextShown_16 : decode cX0_nextShown 16 = .ok (.aload_n 0, 1) := by decide +kernel
theorem dX0_nextShown_17 : decode cX0_nextShown 17 = .ok (.iload_n 1, 1) := by decide +kernel
theorem dX0_nextShown_18 : decode cX0_nextShown 18 = .ok (.iload_n 3, 1) := by decide +kernel
theorem dX0_nextShown_19 : decode cX0_nextShown 19 = .ok (.invokevirtual 39, 3) := by decide +kernel
theorem dX0_nextShown_22 : decode cX0_nextShown 22 = .ok (.ifCond .eq 5, 3) := by decide +kernel
theorem dX0_nextShown_25 : decode cX0_nextShown 25 = .ok (.iload_n 3, 1) := by decide +kernel
theorem dX0_nextShown_26 : decode cX0_nextShown 26 = .ok (.ireturn, 1) := by decide +kernel
theorem dX0_nextShown_27 : decode cX0_nextShown 27 = .ok (.aload_n 0, 1) := by decide +kernel
theorem dX0_nextShown_28 : decode cX0_nextShown 28 = .ok (.getfield 32, 3) := by decide +kernel
theorem dX0_nextShown_31 : decode cX0_nextShown 31 = .ok (.iload_n 1, 1) := by decide +kernel
theorem dX0_nextShown_32 : decode cX0_nextShown 32 = .ok (.bipush 41, 2) := by decide +kernel
theorem dX0_nextShown_34 : decode cX0_nextShown 34 = .ok (.imul, 1) := by decide +kernel
theorem dX0_nextShown_35 : decode cX0_nextShown 35 = .ok (.iload_n 3, 1) := by decide +kernel
theorem dX0_nextShown_36 : decode cX0_nextShown 36 = .ok (.iadd, 1) := by decide +kernel
theorem dX0_nextShown_37 : decode cX0_nextShown 37 = .ok (.iaload, 1) := by decide +kernel
theorem dX0_nextShown_38 : decode cX0_nextShown 38 = .ok (.istore_n 3, 1) := by decide +kernel
theorem dX0_nextShown_39 : decode cX0_nextShown 39 = .ok (.iinc 4 1, 3) := by decide +kernel
theorem dX0_nextShown_42 : decode cX0_nextShown 42 = .ok (.goto (-37), 3) := by decide +kernel
theorem dX0_nextShown_45 : decode cX0_nextShown 45 = .ok (.iconst (-1), 1) := by decide +kernel
theorem dX0_nextShown_46 : decode cX0_nextShown 46 = .ok (.ireturn, 1) := by decide +kernel
end
section
set_option maxRecDepth 100000
theorem q17 : (Jvm.Cond.initialized "RgaText") ∈ lw_all := lw_g (lw_at lw_m0 1 rfl) rfl
theorem q20 : (Jvm.Cond.instantiable "RgaText" (9 : Nat)) ∈ lw_all := lw_g (lw_at lw_m0 4 rfl) rfl
theorem q22 : (Jvm.Cond.instanceMethod ({ cls := "RgaText", name := "<init>", desc := "()V" } : Jvm.MethodName)) ∈ lw_all := lw_g (lw_at lw_m0 6 rfl) rfl
theorem q23 : (Jvm.Cond.code ({ cls := "RgaText", name := "<init>", desc := "()V" } : Jvm.MethodName) prog_1_method_1_code (2 : Nat) (Option.none : Option Jvm.ClassFile.FieldType)) ∈ lw_all := lw_g (lw_at lw_m0 7 rfl) rfl
theorem q24 : (Jvm.Cond.methodLink "RgaText" (1 : Nat) ({ cls := "java/lang/Object", name := "<init>", desc := "()V" } : Jvm.MethodName)) ∈ lw_all := lw_g (lw_at lw_m0 8 rfl) rfl
theorem q27 : (Jvm.Cond.fieldLink "RgaText" (43 : Nat) "RgaText" "elements" "I") ∈ lw_all := lw_g (lw_at lw_m0 11 rfl) rfl
theorem q28 : (Jvm.Cond.fieldLink "RgaText" (7 : Nat) "RgaText" "letter" "[I") ∈ lw_all := lw_g (lw_at lw_m0 12 rfl) rfl
theorem q29 : (Jvm.Cond.fieldLink "RgaText" (13 : Nat) "RgaText" "stamp" "[I") ∈ lw_all := lw_g (lw_at lw_m0 13 rfl) rfl
theorem q30 : (Jvm.Cond.fieldLink "RgaText" (16 : Nat) "RgaText" "origin" "[I") ∈ lw_all := lw_g (lw_at lw_m0 14 rfl) rfl
theorem q31 : (Jvm.Cond.fieldLink "RgaText" (19 : Nat) "RgaText" "behind" "[I") ∈ lw_all := lw_g (lw_at lw_m0 15 rfl) rfl
theorem q32 : (Jvm.Cond.fieldLink "RgaText" (22 : Nat) "RgaText" "clock" "[I") ∈ lw_all := lw_g (lw_at lw_m0 16 rfl) rfl
theorem q33 : (Jvm.Cond.fieldLink "RgaText" (25 : Nat) "RgaText" "knows" "[J") ∈ lw_all := lw_g (lw_at lw_m0 17 rfl) rfl
theorem q34 : (Jvm.Cond.fieldLink "RgaText" (29 : Nat) "RgaText" "gone" "[J") ∈ lw_all := lw_g (lw_at lw_m0 18 rfl) rfl
theorem q35 : (Jvm.Cond.fieldLink "RgaText" (32 : Nat) "RgaText" "next" "[I") ∈ lw_all := lw_g (lw_at lw_m0 19 rfl) rfl
theorem q36 : (Jvm.Cond.lays "RgaText" "RgaText" "elements" "I") ∈ lw_all := lw_g (lw_at lw_m0 20 rfl) rfl
theorem q37 : (Jvm.Cond.soleField "RgaText" "elements") ∈ lw_all := lw_g (lw_at lw_m0 21 rfl) rfl
theorem q38 : (Jvm.Cond.laysFinal "RgaText" "RgaText" "letter" "[I") ∈ lw_all := lw_g (lw_at lw_m0 22 rfl) rfl
theorem q39 : (Jvm.Cond.soleField "RgaText" "letter") ∈ lw_all := lw_g (lw_at lw_m0 23 rfl) rfl
theorem q40 : (Jvm.Cond.laysFinal "RgaText" "RgaText" "stamp" "[I") ∈ lw_all := lw_g (lw_at lw_m0 24 rfl) rfl
theorem q41 : (Jvm.Cond.soleField "RgaText" "stamp") ∈ lw_all := lw_g (lw_at lw_m0 25 rfl) rfl
theorem q42 : (Jvm.Cond.laysFinal "RgaText" "RgaText" "origin" "[I") ∈ lw_all := lw_g (lw_at lw_m0 26 rfl) rfl
theorem q43 : (Jvm.Cond.soleField "RgaText" "origin") ∈ lw_all := lw_g (lw_at lw_m0 27 rfl) rfl
theorem q44 : (Jvm.Cond.laysFinal "RgaText" "RgaText" "behind" "[I") ∈ lw_all := lw_g (lw_at lw_m0 28 rfl) rfl
theorem q45 : (Jvm.Cond.soleField "RgaText" "behind") ∈ lw_all := lw_g (lw_at lw_m0 29 rfl) rfl
theorem q46 : (Jvm.Cond.laysFinal "RgaText" "RgaText" "clock" "[I") ∈ lw_all := lw_g (lw_at lw_m0 30 rfl) rfl
theorem q47 : (Jvm.Cond.soleField "RgaText" "clock") ∈ lw_all := lw_g (lw_at lw_m0 31 rfl) rfl
theorem q48 : (Jvm.Cond.laysFinal "RgaText" "RgaText" "knows" "[J") ∈ lw_all := lw_g (lw_at lw_m0 32 rfl) rfl
theorem q49 : (Jvm.Cond.soleField "RgaText" "knows") ∈ lw_all := lw_g (lw_at lw_m0 33 rfl) rfl
theorem q50 : (Jvm.Cond.laysFinal "RgaText" "RgaText" "gone" "[J") ∈ lw_all := lw_g (lw_at lw_m0 34 rfl) rfl
theorem q51 : (Jvm.Cond.soleField "RgaText" "gone") ∈ lw_all := lw_g (lw_at lw_m0 35 rfl) rfl
theorem q52 : (Jvm.Cond.laysFinal "RgaText" "RgaText" "next" "[I") ∈ lw_all := lw_g (lw_at lw_m0 36 rfl) rfl
theorem q53 : (Jvm.Cond.soleField "RgaText" "next") ∈ lw_all := lw_g (lw_at lw_m0 37 rfl) rfl
theorem q54 : (Jvm.Cond.superclass "RgaText" "java/lang/Object") ∈ lw_all := lw_g (lw_at lw_m0 38 rfl) rfl
theorem q58 : (Jvm.Cond.instanceMethod ({ cls := "RgaText", name := "insert", desc := "(III)I" } : Jvm.MethodName)) ∈ lw_all := lw_g (lw_at lw_m0 42 rfl) rfl
theorem q59 : (Jvm.Cond.selects "RgaText" ({ cls := "RgaText", name := "insert", desc := "(III)I" } : Jvm.MethodName) ({ cls := "RgaText", name := "insert", desc := "(III)I" } : Jvm.MethodName)) ∈ lw_all := lw_g (lw_at lw_m0 43 rfl) rfl
theorem q60 : (Jvm.Cond.code ({ cls := "RgaText", name := "insert", desc := "(III)I" } : Jvm.MethodName) prog_1_method_10_code (7 : Nat) (Option.some Jvm.ClassFile.FieldType.int)) ∈ lw_all := lw_g (lw_at lw_m0 44 rfl) rfl
theorem q61 : (Jvm.Cond.methodLink "RgaText" (54 : Nat) ({ cls := "RgaText", name := "bad", desc := "(I)Z" } : Jvm.MethodName)) ∈ lw_all := lw_g (lw_at lw_m0 45 rfl) rfl
theorem q62 : (Jvm.Cond.static ({ cls := "RgaText", name := "bad", desc := "(I)Z" } : Jvm.MethodName)) ∈ lw_all := lw_g (lw_at lw_m0 46 rfl) rfl
theorem q63 : (Jvm.Cond.code ({ cls := "RgaText", name := "bad", desc := "(I)Z" } : Jvm.MethodName) prog_1_method_2_code (1 : Nat) (Option.some Jvm.ClassFile.FieldType.boolean)) ∈ lw_all := lw_g (lw_at lw_m0 47 rfl) rfl
theorem q64 : (Jvm.Cond.methodLink "RgaText" (58 : Nat) ({ cls := "RgaText", name := "textLength", desc := "(I)I" } : Jvm.MethodName)) ∈ lw_all := lw_g (lw_at lw_m0 48 rfl) rfl
theorem q65 : (Jvm.Cond.privateMethod ({ cls := "RgaText", name := "textLength", desc := "(I)I" } : Jvm.MethodName)) ∈ lw_tbl := lw_at lw_m0 49 rfl
theorem q66 : (Jvm.Cond.instanceMethod ({ cls := "RgaText", name := "textLength", desc := "(I)I" } : Jvm.MethodName)) ∈ lw_all := lw_g (lw_at lw_m0 50 rfl) rfl
theorem q67 : (Jvm.Cond.code ({ cls := "RgaText", name := "textLength", desc := "(I)I" } : Jvm.MethodName) prog_1_method_7_code (4 : Nat) (Option.some Jvm.ClassFile.FieldType.int)) ∈ lw_all := lw_g (lw_at lw_m0 51 rfl) rfl
theorem q68 : (Jvm.Cond.methodLink "RgaText" (35 : Nat) ({ cls := "RgaText", name := "in", desc := "(JI)Z" } : Jvm.MethodName)) ∈ lw_all := lw_g (lw_at lw_m0 52 rfl) rfl
theorem q69 : (Jvm.Cond.static ({ cls := "RgaText", name := "in", desc := "(JI)Z" } : Jvm.MethodName)) ∈ lw_all := lw_g (lw_at lw_m0 53 rfl) rfl
theorem q70 : (Jvm.Cond.code ({ cls := "RgaText", name := "in", desc := "(JI)Z" } : Jvm.MethodName) prog_1_method_3_code (3 : Nat) (Option.some Jvm.ClassFile.FieldType.boolean)) ∈ lw_all := lw_g (lw_at lw_m0 54 rfl) rfl
theorem q71 : (Jvm.Cond.methodLink "RgaText" (39 : Nat) ({ cls := "RgaText", name := "shows", desc := "(II)Z" } : Jvm.MethodName)) ∈ lw_all := lw_g (lw_at lw_m0 55 rfl) rfl
theorem q72 : (Jvm.Cond.privateMethod ({ cls := "RgaText", name := "shows", desc := "(II)Z" } : Jvm.MethodName)) ∈ lw_tbl := lw_at lw_m0 56 rfl
theorem q73 : (Jvm.Cond.instanceMethod ({ cls := "RgaText", name := "shows", desc := "(II)Z" } : Jvm.MethodName)) ∈ lw_all := lw_g (lw_at lw_m0 57 rfl) rfl
theorem q74 : (Jvm.Cond.code ({ cls := "RgaText", name := "shows", desc := "(II)Z" } : Jvm.MethodName) prog_1_method_5_code (3 : Nat) (Option.some Jvm.ClassFile.FieldType.boolean)) ∈ lw_all := lw_g (lw_at lw_m0 58 rfl) rfl
theorem q75 : (Jvm.Cond.methodLink "RgaText" (62 : Nat) ({ cls := "RgaText", name := "shownAt", desc := "(II)I" } : Jvm.MethodName)) ∈ lw_all := lw_g (lw_at lw_m0 59 rfl) rfl
theorem q76 : (Jvm.Cond.privateMethod ({ cls := "RgaText", name := "shownAt", desc := "(II)I" } : Jvm.MethodName)) ∈ lw_tbl := lw_at lw_m0 60 rfl
theorem q77 : (Jvm.Cond.instanceMethod ({ cls := "RgaText", name := "shownAt", desc := "(II)I" } : Jvm.MethodName)) ∈ lw_all := lw_g (lw_at lw_m0 61 rfl) rfl
theorem q78 : (Jvm.Cond.code ({ cls := "RgaText", name := "shownAt", desc := "(II)I" } : Jvm.MethodName) prog_1_method_6_code (6 : Nat) (Option.some Jvm.ClassFile.FieldType.int)) ∈ lw_all := lw_g (lw_at lw_m0 62 rfl) rfl
theorem q79 : (Jvm.Cond.methodLink "RgaText" (50 : Nat) ({ cls := "RgaText", name := "linkBehind", desc := "(III)V" } : Jvm.MethodName)) ∈ lw_all := lw_g (lw_at lw_m0 63 rfl) rfl
theorem q80 : (Jvm.Cond.privateMethod ({ cls := "RgaText", name := "linkBehind", desc := "(III)V" } : Jvm.MethodName)) ∈ lw_tbl := lw_at lw_m0 64 rfl
theorem q81 : (Jvm.Cond.instanceMethod ({ cls := "RgaText", name := "linkBehind", desc := "(III)V" } : Jvm.MethodName)) ∈ lw_all := lw_g (lw_at lw_m0 65 rfl) rfl
theorem q82 : (Jvm.Cond.code ({ cls := "RgaText", name := "linkBehind", desc := "(III)V" } : Jvm.MethodName) prog_1_method_4_code (4 : Nat) (Option.none : Option Jvm.ClassFile.FieldType)) ∈ lw_all := lw_g (lw_at lw_m0 66 rfl) rfl
theorem q84 : (Jvm.Cond.instanceMethod ({ cls := "RgaText", name := "delete", desc := "(II)I" } : Jvm.MethodName)) ∈ lw_all := lw_g (lw_at lw_m0 68 rfl) rfl
theorem q85 : (Jvm.Cond.selects "RgaText" ({ cls := "RgaText", name := "delete", desc := "(II)I" } : Jvm.MethodName) ({ cls := "RgaText", name := "delete", desc := "(II)I" } : Jvm.MethodName)) ∈ lw_all := lw_g (lw_at lw_m0 69 rfl) rfl
theorem q86 : (Jvm.Cond.code ({ cls := "RgaText", name := "delete", desc := "(II)I" } : Jvm.MethodName) prog_1_method_11_code (4 : Nat) (Option.some Jvm.ClassFile.FieldType.int)) ∈ lw_all := lw_g (lw_at lw_m0 70 rfl) rfl
theorem q88 : (Jvm.Cond.instanceMethod ({ cls := "RgaText", name := "learn", desc := "(II)I" } : Jvm.MethodName)) ∈ lw_all := lw_g (lw_at lw_m0 72 rfl) rfl
theorem q89 : (Jvm.Cond.selects "RgaText" ({ cls := "RgaText", name := "learn", desc := "(II)I" } : Jvm.MethodName) ({ cls := "RgaText", name := "learn", desc := "(II)I" } : Jvm.MethodName)) ∈ lw_all := lw_g (lw_at lw_m0 73 rfl) rfl
theorem q90 : (Jvm.Cond.code ({ cls := "RgaText", name := "learn", desc := "(II)I" } : Jvm.MethodName) prog_1_method_12_code (5 : Nat) (Option.some Jvm.ClassFile.FieldType.int)) ∈ lw_all := lw_g (lw_at lw_m0 74 rfl) rfl
theorem q91 : (Jvm.Cond.methodLink "RgaText" (66 : Nat) ({ cls := "RgaText", name := "integrate", desc := "(II)V" } : Jvm.MethodName)) ∈ lw_all := lw_g (lw_at lw_m0 75 rfl) rfl
theorem q92 : (Jvm.Cond.privateMethod ({ cls := "RgaText", name := "integrate", desc := "(II)V" } : Jvm.MethodName)) ∈ lw_tbl := lw_at lw_m0 76 rfl
theorem q93 : (Jvm.Cond.instanceMethod ({ cls := "RgaText", name := "integrate", desc := "(II)V" } : Jvm.MethodName)) ∈ lw_all := lw_g (lw_at lw_m0 77 rfl) rfl
theorem q94 : (Jvm.Cond.code ({ cls := "RgaText", name := "integrate", desc := "(II)V" } : Jvm.MethodName) prog_1_method_9_code (6 : Nat) (Option.none : Option Jvm.ClassFile.FieldType)) ∈ lw_all := lw_g (lw_at lw_m0 78 rfl) rfl
theorem q95 : (Jvm.Cond.methodLink "RgaText" (47 : Nat) ({ cls := "RgaText", name := "ahead", desc := "(II)Z" } : Jvm.MethodName)) ∈ lw_all := lw_g (lw_at lw_m0 79 rfl) rfl
theorem q96 : (Jvm.Cond.privateMethod ({ cls := "RgaText", name := "ahead", desc := "(II)Z" } : Jvm.MethodName)) ∈ lw_tbl := lw_at lw_m0 80 rfl
theorem q97 : (Jvm.Cond.instanceMethod ({ cls := "RgaText", name := "ahead", desc := "(II)Z" } : Jvm.MethodName)) ∈ lw_all := lw_g (lw_at lw_m0 81 rfl) rfl
theorem q98 : (Jvm.Cond.code ({ cls := "RgaText", name := "ahead", desc := "(II)Z" } : Jvm.MethodName) prog_1_method_8_code (3 : Nat) (Option.some Jvm.ClassFile.FieldType.boolean)) ∈ lw_all := lw_g (lw_at lw_m0 82 rfl) rfl
theorem q100 : (Jvm.Cond.instanceMethod ({ cls := "RgaText", name := "length", desc := "(I)I" } : Jvm.MethodName)) ∈ lw_all := lw_g (lw_at lw_m0 84 rfl) rfl
theorem q101 : (Jvm.Cond.selects "RgaText" ({ cls := "RgaText", name := "length", desc := "(I)I" } : Jvm.MethodName) ({ cls := "RgaText", name := "length", desc := "(I)I" } : Jvm.MethodName)) ∈ lw_all := lw_g (lw_at lw_m0 85 rfl) rfl
theorem q102 : (Jvm.Cond.code ({ cls := "RgaText", name := "length", desc := "(I)I" } : Jvm.MethodName) prog_1_method_13_code (2 : Nat) (Option.some Jvm.ClassFile.FieldType.int)) ∈ lw_all := lw_g (lw_at lw_m0 86 rfl) rfl
theorem q104 : (Jvm.Cond.instanceMethod ({ cls := "RgaText", name := "charAt", desc := "(II)I" } : Jvm.MethodName)) ∈ lw_all := lw_g (lw_at lw_m0 88 rfl) rfl
theorem q105 : (Jvm.Cond.selects "RgaText" ({ cls := "RgaText", name := "charAt", desc := "(II)I" } : Jvm.MethodName) ({ cls := "RgaText", name := "charAt", desc := "(II)I" } : Jvm.MethodName)) ∈ lw_all := lw_g (lw_at lw_m0 89 rfl) rfl
theorem q106 : (Jvm.Cond.code ({ cls := "RgaText", name := "charAt", desc := "(II)I" } : Jvm.MethodName) prog_1_method_14_code (4 : Nat) (Option.some Jvm.ClassFile.FieldType.int)) ∈ lw_all := lw_g (lw_at lw_m0 90 rfl) rfl
theorem q108 : (Jvm.Cond.instanceMethod ({ cls := "RgaText", name := "elementAt", desc := "(II)I" } : Jvm.MethodName)) ∈ lw_all := lw_g (lw_at lw_m0 92 rfl) rfl
theorem q109 : (Jvm.Cond.selects "RgaText" ({ cls := "RgaText", name := "elementAt", desc := "(II)I" } : Jvm.MethodName) ({ cls := "RgaText", name := "elementAt", desc := "(II)I" } : Jvm.MethodName)) ∈ lw_all := lw_g (lw_at lw_m0 93 rfl) rfl
theorem q110 : (Jvm.Cond.code ({ cls := "RgaText", name := "elementAt", desc := "(II)I" } : Jvm.MethodName) prog_1_method_15_code (4 : Nat) (Option.some Jvm.ClassFile.FieldType.int)) ∈ lw_all := lw_g (lw_at lw_m0 94 rfl) rfl
theorem q112 : (Jvm.Cond.instanceMethod ({ cls := "RgaText", name := "placeOf", desc := "(II)I" } : Jvm.MethodName)) ∈ lw_all := lw_g (lw_at lw_m0 96 rfl) rfl
theorem q113 : (Jvm.Cond.selects "RgaText" ({ cls := "RgaText", name := "placeOf", desc := "(II)I" } : Jvm.MethodName) ({ cls := "RgaText", name := "placeOf", desc := "(II)I" } : Jvm.MethodName)) ∈ lw_all := lw_g (lw_at lw_m0 97 rfl) rfl
theorem q114 : (Jvm.Cond.code ({ cls := "RgaText", name := "placeOf", desc := "(II)I" } : Jvm.MethodName) prog_1_method_18_code (3 : Nat) (Option.some Jvm.ClassFile.FieldType.int)) ∈ lw_all := lw_g (lw_at lw_m0 98 rfl) rfl
theorem q115 : (Jvm.Cond.methodLink "RgaText" (70 : Nat) ({ cls := "RgaText", name := "unknown", desc := "(II)Z" } : Jvm.MethodName)) ∈ lw_all := lw_g (lw_at lw_m0 99 rfl) rfl
theorem q116 : (Jvm.Cond.privateMethod ({ cls := "RgaText", name := "unknown", desc := "(II)Z" } : Jvm.MethodName)) ∈ lw_tbl := lw_at lw_m0 100 rfl
theorem q117 : (Jvm.Cond.instanceMethod ({ cls := "RgaText", name := "unknown", desc := "(II)Z" } : Jvm.MethodName)) ∈ lw_all := lw_g (lw_at lw_m0 101 rfl) rfl
theorem q118 : (Jvm.Cond.code ({ cls := "RgaText", name := "unknown", desc := "(II)Z" } : Jvm.MethodName) prog_1_method_16_code (3 : Nat) (Option.some Jvm.ClassFile.FieldType.boolean)) ∈ lw_all := lw_g (lw_at lw_m0 102 rfl) rfl
theorem q119 : (Jvm.Cond.methodLink "RgaText" (73 : Nat) ({ cls := "RgaText", name := "countBefore", desc := "(IIZ)I" } : Jvm.MethodName)) ∈ lw_all := lw_g (lw_at lw_m0 103 rfl) rfl
theorem q120 : (Jvm.Cond.privateMethod ({ cls := "RgaText", name := "countBefore", desc := "(IIZ)I" } : Jvm.MethodName)) ∈ lw_tbl := lw_at lw_m0 104 rfl
theorem q121 : (Jvm.Cond.instanceMethod ({ cls := "RgaText", name := "countBefore", desc := "(IIZ)I" } : Jvm.MethodName)) ∈ lw_all := lw_g (lw_at lw_m0 105 rfl) rfl
theorem q122 : (Jvm.Cond.code ({ cls := "RgaText", name := "countBefore", desc := "(IIZ)I" } : Jvm.MethodName) prog_1_method_17_code (7 : Nat) (Option.some Jvm.ClassFile.FieldType.int)) ∈ lw_all := lw_g (lw_at lw_m0 106 rfl) rfl
theorem q124 : (Jvm.Cond.instanceMethod ({ cls := "RgaText", name := "known", desc := "(I)I" } : Jvm.MethodName)) ∈ lw_all := lw_g (lw_at lw_m0 108 rfl) rfl
theorem q125 : (Jvm.Cond.selects "RgaText" ({ cls := "RgaText", name := "known", desc := "(I)I" } : Jvm.MethodName) ({ cls := "RgaText", name := "known", desc := "(I)I" } : Jvm.MethodName)) ∈ lw_all := lw_g (lw_at lw_m0 109 rfl) rfl
theorem q126 : (Jvm.Cond.code ({ cls := "RgaText", name := "known", desc := "(I)I" } : Jvm.MethodName) prog_1_method_19_code (4 : Nat) (Option.some Jvm.ClassFile.FieldType.int)) ∈ lw_all := lw_g (lw_at lw_m0 110 rfl) rfl
theorem q128 : (Jvm.Cond.instanceMethod ({ cls := "RgaText", name := "rank", desc := "(II)I" } : Jvm.MethodName)) ∈ lw_all := lw_g (lw_at lw_m0 112 rfl) rfl
theorem q129 : (Jvm.Cond.selects "RgaText" ({ cls := "RgaText", name := "rank", desc := "(II)I" } : Jvm.MethodName) ({ cls := "RgaText", name := "rank", desc := "(II)I" } : Jvm.MethodName)) ∈ lw_all := lw_g (lw_at lw_m0 113 rfl) rfl
theorem q130 : (Jvm.Cond.code ({ cls := "RgaText", name := "rank", desc := "(II)I" } : Jvm.MethodName) prog_1_method_20_code (3 : Nat) (Option.some Jvm.ClassFile.FieldType.int)) ∈ lw_all := lw_g (lw_at lw_m0 114 rfl) rfl
theorem q132 : (Jvm.Cond.instanceMethod ({ cls := "RgaText", name := "sameText", desc := "(II)Z" } : Jvm.MethodName)) ∈ lw_all := lw_g (lw_at lw_m0 116 rfl) rfl
theorem q133 : (Jvm.Cond.selects "RgaText" ({ cls := "RgaText", name := "sameText", desc := "(II)Z" } : Jvm.MethodName) ({ cls := "RgaText", name := "sameText", desc := "(II)Z" } : Jvm.MethodName)) ∈ lw_all := lw_g (lw_at lw_m0 117 rfl) rfl
theorem q134 : (Jvm.Cond.code ({ cls := "RgaText", name := "sameText", desc := "(II)Z" } : Jvm.MethodName) prog_1_method_22_code (6 : Nat) (Option.some Jvm.ClassFile.FieldType.boolean)) ∈ lw_all := lw_g (lw_at lw_m0 118 rfl) rfl
theorem q135 : (Jvm.Cond.methodLink "RgaText" (77 : Nat) ({ cls := "RgaText", name := "nextShown", desc := "(II)I" } : Jvm.MethodName)) ∈ lw_all := lw_g (lw_at lw_m0 119 rfl) rfl
theorem q136 : (Jvm.Cond.privateMethod ({ cls := "RgaText", name := "nextShown", desc := "(II)I" } : Jvm.MethodName)) ∈ lw_tbl := lw_at lw_m0 120 rfl
theorem q137 : (Jvm.Cond.instanceMethod ({ cls := "RgaText", name := "nextShown", desc := "(II)I" } : Jvm.MethodName)) ∈ lw_all := lw_g (lw_at lw_m0 121 rfl) rfl
theorem q138 : (Jvm.Cond.code ({ cls := "RgaText", name := "nextShown", desc := "(II)I" } : Jvm.MethodName) prog_1_method_21_code (5 : Nat) (Option.some Jvm.ClassFile.FieldType.int)) ∈ lw_all := lw_g (lw_at lw_m0 122 rfl) rfl
theorem in_X0 : ∀ w ∈ wsX00, w ∈ lw_all := lw_in wsX00 [36, 38, 40, 42, 44, 46, 48, 50, 52] (by decide +kernel) (by decide +kernel)
end
section
set_option maxRecDepth 100000
/-! RgaTextModel -/
def RX1 : String := "RgaTextModel"
def TX1 : u_T := fun k => match k with
  | 0 => ("RgaTextModel", "elements", "I", false)
  | 1 => ("RgaTextModel", "chars", "[I", true)
  | 2 => ("RgaTextModel", "stamps", "[I", true)
  | 3 => ("RgaTextModel", "origins", "[I", true)
  | 4 => ("RgaTextModel", "parents", "[I", true)
  | 5 => ("RgaTextModel", "above", "[Z", true)
  | 6 => ("RgaTextModel", "knows", "[Z", true)
  | 7 => ("RgaTextModel", "knowsDeleted", "[Z", true)
  | 8 => ("RgaTextModel", "clocks", "[I", true)
  | 9 => ("RgaTextModel", "order", "[I", true)
  | _ => ("RgaTextModel", "ordered", "I", false)
def tyX1 : Nat → FieldType := fun k => match k with
  | 0 => .int
  | 1 => .array .int
  | 2 => .array .int
  | 3 => .array .int
  | 4 => .array .int
  | 5 => .array .boolean
  | 6 => .array .boolean
  | 7 => .array .boolean
  | 8 => .array .int
  | 9 => .array .int
  | _ => .int
abbrev wsX10 : List Cond := u_ws RX1 TX1 11
theorem nmX1 : ∀ a, a < 11 → ∀ b, b < 11 → a ≠ b → (TX1 a).2.1 ≠ (TX1 b).2.1 := by decide +kernel
theorem tyX1_ok : ∀ k, k < 11 → parseFieldDescriptor (TX1 k).2.2.1 = some (tyX1 k) := by decide +kernel
abbrev cX1_init : ByteArray := prog_3_method_1_code
def yX1_init : MethodName := ⟨RX1, "<init>", "()V"⟩
theorem dX1_init_0 : decode cX1_init 0 = .ok (.aload_n 0, 1) := by decide +kernel
theorem dX1_init_1 : decode cX1_init 1 = .ok (.invokespecial 1, 3) := by decide +kernel
theorem dX1_init_4 : decode cX1_init 4 = .ok (.aload_n 0, 1) := by decide +kernel
theorem dX1_init_5 : decode cX1_init 5 = .ok (.bipush 40, 2) := by decide +kernel
theorem dX1_init_7 : decode cX1_init 7 = .ok (.newarray .int, 2) := by decide +kernel
theorem dX1_init_9 : decode cX1_init 9 = .ok (.putfield 7, 3) := by decide +kernel
theorem dX1_init_12 : decode cX1_init 12 = .ok (.aload_n 0, 1) := by decide +kernel
theorem dX1_init_13 : decode cX1_init 13 = .ok (.bipush 40, 2) := by decide +kernel
theorem dX1_init_15 : decode cX1_init 15 = .ok (.newarray .int, 2) := by decide +kernel
theorem dX1_init_17 : decode cX1_init 17 = .ok (.putfield 13, 3) := by decide +kernel
theorem dX1_init_20 : decode cX1_init 20 = .ok (.aload_n 0, 1) := by decide +kernel
theorem dX1_init_21 : decode cX1_init 21 = .ok (.bipush 40, 2) := by decide +kernel
theorem dX1_init_23 : decode cX1_init 23 = .ok (.newarray .int, 2) := by decide +kernel
theorem dX1_init_25 : decode cX1_init 25 = .ok (.putfield 16, 3) := by decide +kernel
theorem dX1_init_28 : decode cX1_init 28 = .ok (.aload_n 0, 1) := by decide +kernel
theorem dX1_init_29 : decode cX1_init 29 = .ok (.bipush 40, 2) := by decide +kernel
theorem dX1_init_31 : decode cX1_init 31 = .ok (.newarray .int, 2) := by decide +kernel
theorem dX1_init_33 : decode cX1_init 33 = .ok (.putfield 19, 3) := by decide +kernel
theorem dX1_init_36 : decode cX1_init 36 = .ok (.aload_n 0, 1) := by decide +kernel
theorem dX1_init_37 : decode cX1_init 37 = .ok (.sipush 1600, 3) := by decide +kernel
theorem dX1_init_40 : decode cX1_init 40 = .ok (.newarray .boolean, 2) := by decide +kernel
theorem dX1_init_42 : decode cX1_init 42 = .ok (.putfield 22, 3) := by decide +kernel
theorem dX1_init_45 : decode cX1_init 45 = .ok (.aload_n 0, 1) := by decide +kernel
theorem dX1_init_46 : decode cX1_init 46 = .ok (.bipush 120, 2) := by decide +kernel
theorem dX1_init_48 : decode cX1_init 48 = .ok (.newarray .boolean, 2) := by decide +kernel
theorem dX1_init_50 : decode cX1_init 50 = .ok (.putfield 26, 3) := by decide +kernel
theorem dX1_init_53 : decode cX1_init 53 = .ok (.aload_n 0, 1) := by decide +kernel
theorem dX1_init_54 : decode cX1_init 54 = .ok (.bipush 120, 2) := by decide +kernel
theorem dX1_init_56 : decode cX1_init 56 = .ok (.newarray .boolean, 2) := by decide +kernel
theorem dX1_init_58 : decode cX1_init 58 = .ok (.putfield 29, 3) := by decide +kernel
theorem dX1_init_61 : decode cX1_init 61 = .ok (.aload_n 0, 1) := by decide +kernel
theorem dX1_init_62 : decode cX1_init 62 = .ok (.iconst 3, 1) := by decide +kernel
theorem dX1_init_63 : decode cX1_init 63 = .ok (.newarray .int, 2) := by decide +kernel
theorem dX1_init_65 : decode cX1_init 65 = .ok (.putfield 32, 3) := by decide +kernel
theorem dX1_init_68 : decode cX1_init 68 = .ok (.aload_n 0, 1) := by decide +kernel
theorem dX1_init_69 : decode cX1_init 69 = .ok (.bipush 40, 2) := by decide +kernel
theorem dX1_init_71 : decode cX1_init 71 = .ok (.newarray .int, 2) := by decide +kernel
theorem dX1_init_73 : decode cX1_init 73 = .ok (.putfield 35, 3) := by decide +kernel
theorem dX1_init_76 : decode cX1_init 76 = .ok (.return_, 1) := by decide +kernel
abbrev cX1_insert : ByteArray := prog_3_method_9_code
def yX1_insert : MethodName := ⟨RX1, "insert", "(III)I"⟩
theorem dX1_insert_0 : decode cX1_insert 0 = .ok (.aload_n 0, 1) := by decide +kernel
theorem dX1_insert_1 : decode cX1_insert 1 = .ok (.iload_n 1, 1) := by decide +kernel
theorem dX1_insert_2 : decode cX1_insert 2 = .ok (.invokevirtual 59, 3) := by decide +kernel
theorem dX1_insert_5 : decode cX1_insert 5 = .ok (.ifCond .ne 5, 3) := by decide +kernel
theorem dX1_insert_8 : decode cX1_insert 8 = .ok (.iconst (-1), 1) := by decide +kernel
theorem dX1_insert_9 : decode cX1_insert 9 = .ok (.ireturn, 1) := by decide +kernel
theorem dX1_insert_10 : decode cX1_insert 10 = .ok (.iload_n 2, 1) := by decide +kernel
theorem dX1_insert_11 : decode cX1_insert 11 = .ok (.ifCond .lt 12, 3) := by decide +kernel
theorem dX1_insert_14 : decode cX1_insert 14 = .ok (.iload_n 2, 1) := by decide +kernel
theorem dX1_insert_15 : decode cX1_insert 15 = .ok (.aload_n 0, 1) := by decide +kernel
theorem dX1_insert_16 : decode cX1_insert 16 = .ok (.iload_n 1, 1) := by decide +kernel
theorem dX1_insert_17 : decode cX1_insert 17 = .ok (.invokevirtual 63, 3) := by decide +kernel
theorem dX1_insert_20 : decode cX1_insert 20 = .ok (.if_icmp .le 6, 3) := by decide +kernel
theorem dX1_insert_23 : decode cX1_insert 23 = .ok (.bipush (-2), 2) := by decide +kernel
theorem dX1_insert_25 : decode cX1_insert 25 = .ok (.ireturn, 1) := by decide +kernel
theorem dX1_insert_26 : decode cX1_insert 26 = .ok (.aload_n 0, 1) := by decide +kernel
theorem dX1_insert_27 : decode cX1_insert 27 = .ok (.getfield 38, 3) := by decide +kernel
theorem dX1_insert_30 : decode cX1_insert 30 = .ok (.bipush 40, 2) := by decide +kernel
theorem dX1_insert_32 : decode cX1_insert 32 = .ok (.if_icmp .ne 6, 3) := by decide +kernel
theorem dX1_insert_35 : decode cX1_insert 35 = .ok (.bipush (-3), 2) := by decide +kernel
theorem dX1_insert_37 : decode cX1_insert 37 = .ok (.ireturn, 1) := by decide +kernel
theorem dX1_insert_38 : decode cX1_insert 38 = .ok (.aload_n 0, 1) := by decide +kernel
theorem dX1_insert_39 : decode cX1_insert 39 = .ok (.getfield 38, 3) := by decide +kernel
theorem dX1_insert_42 : decode cX1_insert 42 = .ok (.istore 4, 2) := by decide +kernel
theorem dX1_insert_44 : decode cX1_insert 44 = .ok (.aload_n 0, 1) := by decide +kernel
theorem dX1_insert_45 : decode cX1_insert 45 = .ok (.getfield 19, 3) := by decide +kernel
theorem dX1_insert_48 : decode cX1_insert 48 = .ok (.iload 4, 2) := by decide +kernel
theorem dX1_insert_50 : decode cX1_insert 50 = .ok (.iload_n 2, 1) := by decide +kernel
theorem dX1_insert_51 : decode cX1_insert 51 = .ok (.ifCond .ne 8, 3) := by decide +kernel
theorem dX1_insert_54 : decode cX1_insert 54 = .ok (.bipush (-5), 2) := by decide +kernel
theorem dX1_insert_56 : decode cX1_insert 56 = .ok (.goto 11, 3) := by decide +kernel
theorem dX1_insert_59 : decode cX1_insert 59 = .ok (.aload_n 0, 1) := by decide +kernel
theorem dX1_insert_60 : decode cX1_insert 60 = .ok (.iload_n 1, 1) := by decide +kernel
theorem dX1_insert_61 : decode cX1_insert 61 = .ok (.iload_n 2, 1) := by decide +kernel
theorem dX1_insert_62 : decode cX1_insert 62 = .ok (.iconst 1, 1) := by decide +kernel
theorem dX1_insert_63 : decode cX1_insert 63 = .ok (.isub, 1) := by decide +kernel
theorem dX1_insert_64 : decode cX1_insert 64 = .ok (.invokevirtual 67, 3) := by decide +kernel
theorem dX1_insert_67 : decode cX1_insert 67 = .ok (.iastore, 1) := by decide +kernel
theorem dX1_insert_68 : decode cX1_insert 68 = .ok (.iconst 0, 1) := by decide +kernel
theorem dX1_insert_69 : decode cX1_insert 69 = .ok (.istore 5, 2) := by decide +kernel
theorem dX1_insert_71 : decode cX1_insert 71 = .ok (.iload 5, 2) := by decide +kernel
theorem dX1_insert_73 : decode cX1_insert 73 = .ok (.bipush 40, 2) := by decide +kernel
theorem dX1_insert_75 : decode cX1_insert 75 = .ok (.if_icmp .ge 65, 3) := by decide +kernel
theorem dX1_insert_78 : decode cX1_insert 78 = .ok (.aload_n 0, 1) := by decide +kernel
theorem dX1_insert_79 : decode cX1_insert 79 = .ok (.getfield 22, 3) := by decide +kernel
theorem dX1_insert_82 : decode cX1_insert 82 = .ok (.iload 4, 2) := by decide +kernel
theorem dX1_insert_84 : decode cX1_insert 84 = .ok (.bipush 40, 2) := by decide +kernel
theorem dX1_insert_86 : decode cX1_insert 86 = .ok (.imul, 1) := by decide +kernel
theorem dX1_insert_87 : decode cX1_insert 87 = .ok (.iload 5, 2) := by decide +kernel
theorem dX1_insert_89 : decode cX1_insert 89 = .ok (.iadd, 1) := by decide +kernel
theorem dX1_insert_90 : decode cX1_insert 90 = .ok (.iload 5, 2) := by decide +kernel
theorem dX1_insert_92 : decode cX1_insert 92 = .ok (.iload 4, 2) := by decide +kernel
theorem dX1_insert_94 : decode cX1_insert 94 = .ok (.if_icmp .eq 34, 3) := by decide +kernel
theorem dX1_insert_97 : decode cX1_insert 97 = .ok (.aload_n 0, 1) := by decide +kernel
theorem dX1_insert_98 : decode cX1_insert 98 = .ok (.getfield 19, 3) := by decide +kernel
theorem dX1_insert_101 : decode cX1_insert 101 = .ok (.iload 4, 2) := by decide +kernel
theorem dX1_insert_103 : decode cX1_insert 103 = .ok (.iaload, 1) := by decide +kernel
theorem dX1_insert_104 : decode cX1_insert 104 = .ok (.ifCond .lt 28, 3) := by decide +kernel
theorem dX1_insert_107 : decode cX1_insert 107 = .ok (.aload_n 0, 1) := by decide +kernel
theorem dX1_insert_108 : decode cX1_insert 108 = .ok (.getfield 22, 3) := by decide +kernel
theorem dX1_insert_111 : decode cX1_insert 111 = .ok (.aload_n 0, 1) := by decide +kernel
theorem dX1_insert_112 : decode cX1_insert 112 = .ok (.getfield 19, 3) := by decide +kernel
theorem dX1_insert_115 : decode cX1_insert 115 = .ok (.iload 4, 2) := by decide +kernel
theorem dX1_insert_117 : decode cX1_insert 117 = .ok (.iaload, 1) := by decide +kernel
theorem dX1_insert_118 : decode cX1_insert 118 = .ok (.bipush 40, 2) := by decide +kernel
theorem dX1_insert_120 : decode cX1_insert 120 = .ok (.imul, 1) := by decide +kernel
theorem dX1_insert_121 : decode cX1_insert 121 = .ok (.iload 5, 2) := by decide +kernel
theorem dX1_insert_123 : decode cX1_insert 123 = .ok (.iadd, 1) := by decide +kernel
theorem dX1_insert_124 : decode cX1_insert 124 = .ok (.baload, 1) := by decide +kernel
theorem dX1_insert_125 : decode cX1_insert 125 = .ok (.ifCond .eq 7, 3) := by decide +kernel
theorem dX1_insert_128 : decode cX1_insert 128 = .ok (.iconst 1, 1) := by decide +kernel
theorem dX1_insert_129 : decode cX1_insert 129 = .ok (.goto 4, 3) := by decide +kernel
theorem dX1_insert_132 : decode cX1_insert 132 = .ok (.iconst 0, 1) := by decide +kernel
theorem dX1_insert_133 : decode cX1_insert 133 = .ok (.bastore, 1) := by decide +kernel
theorem dX1_insert_134 : decode cX1_insert 134 = .ok (.iinc 5 1, 3) := by decide +kernel
theorem dX1_insert_137 : decode cX1_insert 137 = .ok (.goto (-66), 3) := by decide +kernel
theorem dX1_insert_140 : decode cX1_insert 140 = .ok (.aload_n 0, 1) := by decide +kernel
theorem dX1_insert_141 : decode cX1_insert 141 = .ok (.getfield 32, 3) := by decide +kernel
theorem dX1_insert_144 : decode cX1_insert 144 = .ok (.iload_n 1, 1) := by decide +kernel
theorem dX1_insert_145 : decode cX1_insert 145 = .ok (.dup2, 1) := by decide +kernel
theorem dX1_insert_146 : decode cX1_insert 146 = .ok (.iaload, 1) := by decide +kernel
theorem dX1_insert_147 : decode cX1_insert 147 = .ok (.iconst 1, 1) := by decide +kernel
theorem dX1_insert_148 : decode cX1_insert 148 = .ok (.iadd, 1) := by decide +kernel
theorem dX1_insert_149 : decode cX1_insert 149 = .ok (.iastore, 1) := by decide +kernel
theorem dX1_insert_150 : decode cX1_insert 150 = .ok (.aload_n 0, 1) := by decide +kernel
theorem dX1_insert_151 : decode cX1_insert 151 = .ok (.getfield 7, 3) := by decide +kernel
theorem dX1_insert_154 : decode cX1_insert 154 = .ok (.iload 4, 2) := by decide +kernel
theorem dX1_insert_156 : decode cX1_insert 156 = .ok (.iload_n 3, 1) := by decide +kernel
theorem dX1_insert_157 : decode cX1_insert 157 = .ok (.sipush 255, 3) := by decide +kernel
theorem dX1_insert_160 : decode cX1_insert 160 = .ok (.iand, 1) := by decide +kernel
theorem dX1_insert_161 : decode cX1_insert 161 = .ok (.iastore, 1) := by decide +kernel
theorem dX1_insert_162 : decode cX1_insert 162 = .ok (.aload_n 0, 1) := by decide +kernel
theorem dX1_insert_163 : decode cX1_insert 163 = .ok (.getfield 13, 3) := by decide +kernel
theorem dX1_insert_166 : decode cX1_insert 166 = .ok (.iload 4, 2) := by decide +kernel
theorem dX1_insert_168 : decode cX1_insert 168 = .ok (.aload_n 0, 1) := by decide +kernel
theorem dX1_insert_169 : decode cX1_insert 169 = .ok (.getfield 32, 3) := by decide +kernel
theorem dX1_insert_172 : decode cX1_insert 172 = .ok (.iload_n 1, 1) := by decide +kernel
theorem dX1_insert_173 : decode cX1_insert 173 = .ok (.iaload, 1) := by decide +kernel
theorem dX1_insert_174 : decode cX1_insert 174 = .ok (.iastore, 1) := by decide +kernel
theorem dX1_insert_175 : decode cX1_insert 175 = .ok (.aload_n 0, 1) := by decide +kernel
theorem dX1_insert_176 : decode cX1_insert 176 = .ok (.getfield 16, 3) := by decide +kernel
theorem dX1_insert_179 : decode cX1_insert 179 = .ok (.iload 4, 2) := by decide +kernel
theorem dX1_insert_181 : decode cX1_insert 181 = .ok (.iload_n 1, 1) := by decide +kernel
theorem dX1_insert_182 : decode cX1_insert 182 = .ok (.iastore, 1) := by decide +kernel
theorem dX1_insert_183 : decode cX1_insert 183 = .ok (.aload_n 0, 1) := by decide +kernel
theorem dX1_insert_184 : decode cX1_insert 184 = .ok (.getfield 26, 3) := by decide +kernel
theorem dX1_insert_187 : decode cX1_insert 187 = .ok (.iload_n 1, 1) := by decide +kernel
theorem dX1_insert_188 : decode cX1_insert 188 = .ok (.bipush 40, 2) := by decide +kernel
theorem dX1_insert_190 : decode cX1_insert 190 = .ok (.imul, 1) := by decide +kernel
theorem dX1_insert_191 : decode cX1_insert 191 = .ok (.iload 4, 2) := by decide +kernel
theorem dX1_insert_193 : decode cX1_insert 193 = .ok (.iadd, 1) := by decide +kernel
theorem dX1_insert_194 : decode cX1_insert 194 = .ok (.iconst 1, 1) := by decide +kernel
theorem dX1_insert_195 : decode cX1_insert 195 = .ok (.bastore, 1) := by decide +kernel
theorem dX1_insert_196 : decode cX1_insert 196 = .ok (.aload_n 0, 1) := by decide +kernel
theorem dX1_insert_197 : decode cX1_insert 197 = .ok (.dup, 1) := by decide +kernel
theorem dX1_insert_198 : decode cX1_insert 198 = .ok (.getfield 38, 3) := by decide +kernel
theorem dX1_insert_201 : decode cX1_insert 201 = .ok (.iconst 1, 1) := by decide +kernel
theorem dX1_insert_202 : decode cX1_insert 202 = .ok (.iadd, 1) := by decide +kernel
theorem dX1_insert_203 : decode cX1_insert 203 = .ok (.putfield 38, 3) := by decide +kernel
theorem dX1_insert_206 : decode cX1_insert 206 = .ok (.iload 4, 2) := by decide +kernel
theorem dX1_insert_208 : decode cX1_insert 208 = .ok (.ireturn, 1) := by decide +kernel
abbrev cX1_isReplica : ByteArray := prog_3_method_2_code
def yX1_isReplica : MethodName := ⟨RX1, "isReplica", "(I)Z"⟩
theorem dX1_isReplica_0 : decode cX1_isReplica 0 = .ok (.iload_n 1, 1) := by decide +kernel
theorem dX1_isReplica_1 : decode cX1_isReplica 1 = .ok (.ifCond .lt 12, 3) := by decide +kernel
theorem dX1_isReplica_4 : decode cX1_isReplica 4 = .ok (.iload_n 1, 1) := by decide +kernel
theorem dX1_isReplica_5 : decode cX1_isReplica 5 = .ok (.iconst 3, 1) := by decide +kernel
theorem dX1_isReplica_6 : decode cX1_isReplica 6 = .ok (.if_icmp .ge 7, 3) := by decide +kernel
theorem dX1_isReplica_9 : decode cX1_isReplica 9 = .ok (.iconst 1, 1) := by decide +kernel
theorem dX1_isReplica_10 : decode cX1_isReplica 10 = .ok (.goto 4, 3) := by decide +kernel
theorem dX1_isReplica_13 : decode cX1_isReplica 13 = .ok (.iconst 0, 1) := by decide +kernel
theorem dX1_isReplica_14 : decode cX1_isReplica 14 = .ok (.ireturn, 1) := by decide +kernel
abbrev cX1_length : ByteArray := prog_3_method_12_code
def yX1_length : MethodName := ⟨RX1, "length", "(I)I"⟩
theorem dX1_length_0 : decode cX1_length 0 = .ok (.aload_n 0, 1) := by decide +kernel
theorem dX1_length_1 : decode cX1_length 1 = .ok (.iload_n 1, 1) := by decide +kernel
theorem dX1_length_2 : decode cX1_length 2 = .ok (.invokevirtual 59, 3) := by decide +kernel
theorem dX1_length_5 : decode cX1_length 5 = .ok (.ifCond .ne 5, 3) := by decide +kernel
theorem dX1_length_8 : decode cX1_length 8 = .ok (.iconst (-1), 1) := by decide +kernel
theorem dX1_length_9 : decode cX1_length 9 = .ok (.ireturn, 1) := by decide +kernel
theorem dX1_length_10 : decode cX1_length 10 = .ok (.iconst 0, 1) := by decide +kernel
theorem dX1_length_11 : decode cX1_length 11 = .ok (.istore_n 2, 1) := by decide +kernel
theorem dX1_length_12 : decode cX1_length 12 = .ok (.iconst 0, 1) := by decide +kernel
theorem dX1_length_13 : decode cX1_length 13 = .ok (.istore_n 3, 1) := by decide +kernel
theorem dX1_length_14 : decode cX1_length 14 = .ok (.iload_n 3, 1) := by decide +kernel
theorem dX1_length_15 : decode cX1_length 15 = .ok (.aload_n 0, 1) := by decide +kernel
theorem dX1_length_16 : decode cX1_length 16 = .ok (.getfield 38, 3) := by decide +kernel
theorem dX1_length_19 : decode cX1_length 19 = .ok (.if_icmp .ge 21, 3) := by decide +kernel
theorem dX1_length_22 : decode cX1_length 22 = .ok (.aload_n 0, 1) := by decide +kernel
theorem dX1_length_23 : decode cX1_length 23 = .ok (.iload_n 1, 1) := by decide +kernel
theorem dX1_length_24 : decode cX1_length 24 = .ok (.iload_n 3, 1) := by decide +kernel
theorem dX1_length_25 : decode cX1_length 25 = .ok (.invokevirtual 70, 3) := by decide +kernel
theorem dX1_length_28 : decode cX1_length 28 = .ok (.ifCond .eq 6, 3) := by decide +kernel
theorem dX1_length_31 : decode cX1_length 31 = .ok (.iinc 2 1, 3) := by decide +kernel
theorem dX1_length_34 : decode cX1_length 34 = .ok (.iinc 3 1, 3) := by decide +kernel
theorem dX1_length_37 : decode cX1_length 37 = .ok (.goto (-23), 3) := by decide +kernel
theorem dX1_length_40 : decode cX1_length 40 = .ok (.iload_n 2, 1) := by decide +kernel
theorem dX1_length_41 : decode cX1_length 41 = .ok (.ireturn, 1) := by decide +kernel
abbrev cX1_isShown : ByteArray := prog_3_method_4_code
def yX1_isShown : MethodName := ⟨RX1, "isShown", "(II)Z"⟩
theorem dX1_isShown_0 : decode cX1_isShown 0 = .ok (.aload_n 0, 1) := by decide +kernel
theorem dX1_isShown_1 : decode cX1_isShown 1 = .ok (.iload_n 1, 1) := by decide +kernel
theorem dX1_isShown_2 : decode cX1_isShown 2 = .ok (.iload_n 2, 1) := by decide +kernel
theorem dX1_isShown_3 : decode cX1_isShown 3 = .ok (.invokevirtual 42, 3) := by decide +kernel
theorem dX1_isShown_6 : decode cX1_isShown 6 = .ok (.ifCond .eq 21, 3) := by decide +kernel
theorem dX1_isShown_9 : decode cX1_isShown 9 = .ok (.aload_n 0, 1) := by decide +kernel
theorem dX1_isShown_10 : decode cX1_isShown 10 = .ok (.getfield 29, 3) := by decide +kernel
theorem dX1_isShown_13 : decode cX1_isShown 13 = .ok (.iload_n 1, 1) := by decide +kernel
theorem dX1_isShown_14 : decode cX1_isShown 14 = .ok (.bipush 40, 2) := by decide +kernel
theorem dX1_isShown_16 : decode cX1_isShown 16 = .ok (.imul, 1) := by decide +kernel
theorem dX1_isShown_17 : decode cX1_isShown 17 = .ok (.iload_n 2, 1) := by decide +kernel
theorem dX1_isShown_18 : decode cX1_isShown 18 = .ok (.iadd, 1) := by decide +kernel
theorem dX1_isShown_19 : decode cX1_isShown 19 = .ok (.baload, 1) := by decide +kernel
theorem dX1_isShown_20 : decode cX1_isShown 20 = .ok (.ifCond .ne 7, 3) := by decide +kernel
theorem dX1_isShown_23 : decode cX1_isShown 23 = .ok (.iconst 1, 1) := by decide +kernel
theorem dX1_isShown_24 : decode cX1_isShown 24 = .ok (.goto 4, 3) := by decide +kernel
theorem dX1_isShown_27 : decode cX1_isShown 27 = .ok (.iconst 0, 1) := by decide +kernel
theorem dX1_isShown_28 : decode cX1_isShown 28 = .ok (.ireturn, 1) := by decide +kernel
abbrev cX1_isKnown : ByteArray := prog_3_method_3_code
def yX1_isKnown : MethodName := ⟨RX1, "isKnown", "(II)Z"⟩
theorem dX1_isKnown_0 : decode cX1_isKnown 0 = .ok (.iload_n 2, 1) := by decide +kernel
theorem dX1_isKnown_1 : decode cX1_isKnown 1 = .ok (.ifCond .lt 29, 3) := by decide +kernel
theorem dX1_isKnown_4 : decode cX1_isKnown 4 = .ok (.iload_n 2, 1) := by decide +kernel
theorem dX1_isKnown_5 : decode cX1_isKnown 5 = .ok (.aload_n 0, 1) := by decide +kernel
theorem dX1_isKnown_6 : decode cX1_isKnown 6 = .ok (.getfield 38, 3) := by decide +kernel
theorem dX1_isKnown_9 : decode cX1_isKnown 9 = .ok (.if_icmp .ge 21, 3) := by decide +kernel
theorem dX1_isKnown_12 : decode cX1_isKnown 12 = .ok (.aload_n 0, 1) := by decide +kernel
theorem dX1_isKnown_13 : decode cX1_isKnown 13 = .ok (.getfield 26, 3) := by decide +kernel
theorem dX1_isKnown_16 : decode cX1_isKnown 16 = .ok (.iload_n 1, 1) := by decide +kernel
theorem dX1_isKnown_17 : decode cX1_isKnown 17 = .ok (.bipush 40, 2) := by decide +kernel
theorem dX1_isKnown_19 : decode cX1_isKnown 19 = .ok (.imul, 1) := by decide +kernel
theorem dX1_isKnown_20 : decode cX1_isKnown 20 = .ok (.iload_n 2, 1) := by decide +kernel
theorem dX1_isKnown_21 : decode cX1_isKnown 21 = .ok (.iadd, 1) := by decide +kernel
theorem dX1_isKnown_22 : decode cX1_isKnown 22 = .ok (.baload, 1) := by decide +kernel
theorem dX1_isKnown_23 : decode cX1_isKnown 23 = .ok (.ifCond .eq 7, 3) := by decide +kernel
theorem dX1_isKnown_26 : decode cX1_isKnown 26 = .ok (.iconst 1, 1) := by decide +kernel
theorem dX1_isKnown_27 : decode cX1_isKnown 27 = .ok (.goto 4, 3) := by decide +kernel
theorem dX1_isKnown_30 : decode cX1_isKnown 30 = .ok (.iconst 0, 1) := by decide +kernel
theorem dX1_isKnown_31 : decode cX1_isKnown 31 = .ok (.ireturn, 1) := by decide +kernel
abbrev cX1_elementAt : ByteArray := prog_3_method_14_code
def yX1_elementAt : MethodName := ⟨RX1, "elementAt", "(II)I"⟩
theorem dX1_elementAt_0 : decode cX1_elementAt 0 = .ok (.aload_n 0, 1) := by decide +kernel
theorem dX1_elementAt_1 : decode cX1_elementAt 1 = .ok (.iload_n 1, 1) := by decide +kernel
theorem dX1_elementAt_2 : decode cX1_elementAt 2 = .ok (.invokevirtual 59, 3) := by decide +kernel
theorem dX1_elementAt_5 : decode cX1_elementAt 5 = .ok (.ifCond .ne 5, 3) := by decide +kernel
theorem dX1_elementAt_8 : decode cX1_elementAt 8 = .ok (.iconst (-1), 1) := by decide +kernel
theorem dX1_elementAt_9 : decode cX1_elementAt 9 = .ok (.ireturn, 1) := by decide +kernel
theorem dX1_elementAt_10 : decode cX1_elementAt 10 = .ok (.aload_n 0, 1) := by decide +kernel
theorem dX1_elementAt_11 : decode cX1_elementAt 11 = .ok (.iload_n 1, 1) := by decide +kernel
theorem dX1_elementAt_12 : decode cX1_elementAt 12 = .ok (.invokevirtual 73, 3) := by decide +kernel
theorem dX1_elementAt_15 : decode cX1_elementAt 15 = .ok (.iconst 0, 1) := by decide +kernel
theorem dX1_elementAt_16 : decode cX1_elementAt 16 = .ok (.istore_n 3, 1) := by decide +kernel
theorem dX1_elementAt_17 : decode cX1_elementAt 17 = .ok (.iconst 0, 1) := by decide +kernel
theorem dX1_elementAt_18 : decode cX1_elementAt 18 = .ok (.istore 4, 2) := by decide +kernel
theorem dX1_elementAt_20 : decode cX1_elementAt 20 = .ok (.iload 4, 2) := by decide +kernel
theorem dX1_elementAt_22 : decode cX1_elementAt 22 = .ok (.aload_n 0, 1) := by decide +kernel
theorem dX1_elementAt_23 : decode cX1_elementAt 23 = .ok (.getfield 53, 3) := by decide +kernel
theorem dX1_elementAt_26 : decode cX1_elementAt 26 = .ok (.if_icmp .ge 40, 3) := by decide +kernel
theorem dX1_elementAt_29 : decode cX1_elementAt 29 = .ok (.aload_n 0, 1) := by decide +kernel
theorem dX1_elementAt_30 : decode cX1_elementAt 30 = .ok (.iload_n 1, 1) := by decide +kernel
theorem dX1_elementAt_31 : decode cX1_elementAt 31 = .ok (.aload_n 0, 1) := by decide +kernel
theorem dX1_elementAt_32 : decode cX1_elementAt 32 = .ok (.getfield 35, 3) := by decide +kernel
theorem dX1_elementAt_35 : decode cX1_elementAt 35 = .ok (.iload 4, 2) := by decide +kernel
theorem dX1_elementAt_37 : decode cX1_elementAt 37 = .ok (.iaload, 1) := by decide +kernel
theorem dX1_elementAt_38 : decode cX1_elementAt 38 = .ok (.invokevirtual 70, 3) := by decide +kernel
theorem dX1_elementAt_41 : decode cX1_elementAt 41 = .ok (.ifCond .eq 19, 3) := by decide +kernel
theorem dX1_elementAt_44 : decode cX1_elementAt 44 = .ok (.iload_n 3, 1) := by decide +kernel
theorem dX1_elementAt_45 : decode cX1_elementAt 45 = .ok (.iload_n 2, 1) := by decide +kernel
theorem dX1_elementAt_46 : decode cX1_elementAt 46 = .ok (.if_icmp .ne 11, 3) := by decide +kernel
theorem dX1_elementAt_49 : decode cX1_elementAt 49 = .ok (.aload_n 0, 1) := by decide +kernel
theorem dX1_elementAt_50 : decode cX1_elementAt 50 = .ok (.getfield 35, 3) := by decide +kernel
theorem dX1_elementAt_53 : decode cX1_elementAt 53 = .ok (.iload 4, 2) := by decide +kernel
theorem dX1_elementAt_55 : decode cX1_elementAt 55 = .ok (.iaload, 1) := by decide +kernel
theorem dX1_elementAt_56 : decode cX1_elementAt 56 = .ok (.ireturn, 1) := by decide +kernel
theorem dX1_elementAt_57 : decode cX1_elementAt 57 = .ok (.iinc 3 1, 3) := by decide +kernel
theorem dX1_elementAt_60 : decode cX1_elementAt 60 = .ok (.iinc 4 1, 3) := by decide +kernel
theorem dX1_elementAt_63 : decode cX1_elementAt 63 = .ok (.goto (-43), 3) := by decide +kernel
theorem dX1_elementAt_66 : decode cX1_elementAt 66 = .ok (.bipush (-5), 2) := by decide +kernel
theorem dX1_elementAt_68 : decode cX1_elementAt 68 = .ok (.ireturn, 1) := by decide +kernel
end
section
set_option maxRecDepth 100000
abbrev cX1_arrange : ByteArray := prog_3_method_8_code
def yX1_arrange : MethodName := ⟨RX1, "arrange", "(I)V"⟩
theorem dX1_arrange_0 : decode cX1_arrange 0 = .ok (.aload_n 0, 1) := by decide +kernel
theorem dX1_arrange_1 : decode cX1_arrange 1 = .ok (.iconst 0, 1) := by decide +kernel
theorem dX1_arrange_2 : decode cX1_arrange 2 = .ok (.putfield 53, 3) := by decide +kernel
theorem dX1_arrange_5 : decode cX1_arrange 5 = .ok (.iconst 0, 1) := by decide +kernel
theorem dX1_arrange_6 : decode cX1_arrange 6 = .ok (.istore_n 2, 1) := by decide +kernel
theorem dX1_arrange_7 : decode cX1_arrange 7 = .ok (.iload_n 2, 1) := by decide +kernel
theorem dX1_arrange_8 : decode cX1_arrange 8 = .ok (.aload_n 0, 1) := by decide +kernel
theorem dX1_arrange_9 : decode cX1_arrange 9 = .ok (.getfield 38, 3) := by decide +kernel
theorem dX1_arrange_12 : decode cX1_arrange 12 = .ok (.if_icmp .ge 40, 3) := by decide +kernel
theorem dX1_arrange_15 : decode cX1_arrange 15 = .ok (.aload_n 0, 1) := by decide +kernel
theorem dX1_arrange_16 : decode cX1_arrange 16 = .ok (.iload_n 1, 1) := by decide +kernel
theorem dX1_arrange_17 : decode cX1_arrange 17 = .ok (.iload_n 2, 1) := by decide +kernel
theorem dX1_arrange_18 : decode cX1_arrange 18 = .ok (.invokevirtual 42, 3) := by decide +kernel
theorem dX1_arrange_21 : decode cX1_arrange 21 = .ok (.ifCond .eq 25, 3) := by decide +kernel
theorem dX1_arrange_24 : decode cX1_arrange 24 = .ok (.aload_n 0, 1) := by decide +kernel
theorem dX1_arrange_25 : decode cX1_arrange 25 = .ok (.getfield 35, 3) := by decide +kernel
theorem dX1_arrange_28 : decode cX1_arrange 28 = .ok (.aload_n 0, 1) := by decide +kernel
theorem dX1_arrange_29 : decode cX1_arrange 29 = .ok (.iload_n 1, 1) := by decide +kernel
theorem dX1_arrange_30 : decode cX1_arrange 30 = .ok (.iload_n 2, 1) := by decide +kernel
theorem dX1_arrange_31 : decode cX1_arrange 31 = .ok (.invokevirtual 56, 3) := by decide +kernel
theorem dX1_arrange_34 : decode cX1_arrange 34 = .ok (.iload_n 2, 1) := by decide +kernel
theorem dX1_arrange_35 : decode cX1_arrange 35 = .ok (.iastore, 1) := by decide +kernel
theorem dX1_arrange_36 : decode cX1_arrange 36 = .ok (.aload_n 0, 1) := by decide +kernel
theorem dX1_arrange_37 : decode cX1_arrange 37 = .ok (.dup, 1) := by decide +kernel
theorem dX1_arrange_38 : decode cX1_arrange 38 = .ok (.getfield 53, 3) := by decide +kernel
theorem dX1_arrange_41 : decode cX1_arrange 41 = .ok (.iconst 1, 1) := by decide +kernel
theorem dX1_arrange_42 : decode cX1_arrange 42 = .ok (.iadd, 1) := by decide +kernel
theorem dX1_arrange_43 : decode cX1_arrange 43 = .ok (.putfield 53, 3) := by decide +kernel
theorem dX1_arrange_46 : decode cX1_arrange 46 = .ok (.iinc 2 1, 3) := by decide +kernel
theorem dX1_arrange_49 : decode cX1_arrange 49 = .ok (.goto (-42), 3) := by decide +kernel
theorem dX1_arrange_52 : decode cX1_arrange 52 = .ok (.return_, 1) := by decide +kernel
abbrev cX1_rankOf : ByteArray := prog_3_method_7_code
def yX1_rankOf : MethodName := ⟨RX1, "rankOf", "(II)I"⟩
theorem dX1_rankOf_0 : decode cX1_rankOf 0 = .ok (.iconst 0, 1) := by decide +kernel
theorem dX1_rankOf_1 : decode cX1_rankOf 1 = .ok (.istore_n 3, 1) := by decide +kernel
theorem dX1_rankOf_2 : decode cX1_rankOf 2 = .ok (.iconst 0, 1) := by decide +kernel
theorem dX1_rankOf_3 : decode cX1_rankOf 3 = .ok (.istore 4, 2) := by decide +kernel
theorem dX1_rankOf_5 : decode cX1_rankOf 5 = .ok (.iload 4, 2) := by decide +kernel
theorem dX1_rankOf_7 : decode cX1_rankOf 7 = .ok (.aload_n 0, 1) := by decide +kernel
theorem dX1_rankOf_8 : decode cX1_rankOf 8 = .ok (.getfield 38, 3) := by decide +kernel
theorem dX1_rankOf_11 : decode cX1_rankOf 11 = .ok (.if_icmp .ge 38, 3) := by decide +kernel
theorem dX1_rankOf_14 : decode cX1_rankOf 14 = .ok (.iload 4, 2) := by decide +kernel
theorem dX1_rankOf_16 : decode cX1_rankOf 16 = .ok (.iload_n 2, 1) := by decide +kernel
theorem dX1_rankOf_17 : decode cX1_rankOf 17 = .ok (.if_icmp .eq 26, 3) := by decide +kernel
theorem dX1_rankOf_20 : decode cX1_rankOf 20 = .ok (.aload_n 0, 1) := by decide +kernel
theorem dX1_rankOf_21 : decode cX1_rankOf 21 = .ok (.iload_n 1, 1) := by decide +kernel
theorem dX1_rankOf_22 : decode cX1_rankOf 22 = .ok (.iload 4, 2) := by decide +kernel
theorem dX1_rankOf_24 : decode cX1_rankOf 24 = .ok (.invokevirtual 42, 3) := by decide +kernel
theorem dX1_rankOf_27 : decode cX1_rankOf 27 = .ok (.ifCond .eq 16, 3) := by decide +kernel
theorem dX1_rankOf_30 : decode cX1_rankOf 30 = .ok (.aload_n 0, 1) := by decide +kernel
theorem dX1_rankOf_31 : decode cX1_rankOf 31 = .ok (.iload 4, 2) := by decide +kernel
theorem dX1_rankOf_33 : decode cX1_rankOf 33 = .ok (.iload_n 2, 1) := by decide +kernel
theorem dX1_rankOf_34 : decode cX1_rankOf 34 = .ok (.invokevirtual 50, 3) := by decide +kernel
theorem dX1_rankOf_37 : decode cX1_rankOf 37 = .ok (.ifCond .eq 6, 3) := by decide +kernel
theorem dX1_rankOf_40 : decode cX1_rankOf 40 = .ok (.iinc 3 1, 3) := by decide +kernel
theorem dX1_rankOf_43 : decode cX1_rankOf 43 = .ok (.iinc 4 1, 3) := by decide +kernel
theorem dX1_rankOf_46 : decode cX1_rankOf 46 = .ok (.goto (-41), 3) := by decide +kernel
theorem dX1_rankOf_49 : decode cX1_rankOf 49 = .ok (.iload_n 3, 1) := by decide +kernel
theorem dX1_rankOf_50 : decode cX1_rankOf 50 = .ok (.ireturn, 1) := by decide +kernel
abbrev cX1_before : ByteArray := prog_3_method_6_code
def yX1_before : MethodName := ⟨RX1, "before", "(II)Z"⟩
theorem dX1_before_0 : decode cX1_before 0 = .ok (.aload_n 0, 1) := by decide +kernel
theorem dX1_before_1 : decode cX1_before 1 = .ok (.getfield 22, 3) := by decide +kernel
theorem dX1_before_4 : decode cX1_before 4 = .ok (.iload_n 2, 1) := by decide +kernel
theorem dX1_before_5 : decode cX1_before 5 = .ok (.bipush 40, 2) := by decide +kernel
theorem dX1_before_7 : decode cX1_before 7 = .ok (.imul, 1) := by decide +kernel
theorem dX1_before_8 : decode cX1_before 8 = .ok (.iload_n 1, 1) := by decide +kernel
theorem dX1_before_9 : decode cX1_before 9 = .ok (.iadd, 1) := by decide +kernel
theorem dX1_before_10 : decode cX1_before 10 = .ok (.baload, 1) := by decide +kernel
theorem dX1_before_11 : decode cX1_before 11 = .ok (.ifCond .eq 5, 3) := by decide +kernel
theorem dX1_before_14 : decode cX1_before 14 = .ok (.iconst 1, 1) := by decide +kernel
theorem dX1_before_15 : decode cX1_before 15 = .ok (.ireturn, 1) := by decide +kernel
theorem dX1_before_16 : decode cX1_before 16 = .ok (.aload_n 0, 1) := by decide +kernel
theorem dX1_before_17 : decode cX1_before 17 = .ok (.getfield 22, 3) := by decide +kernel
theorem dX1_before_20 : decode cX1_before 20 = .ok (.iload_n 1, 1) := by decide +kernel
theorem dX1_before_21 : decode cX1_before 21 = .ok (.bipush 40, 2) := by decide +kernel
theorem dX1_before_23 : decode cX1_before 23 = .ok (.imul, 1) := by decide +kernel
theorem dX1_before_24 : decode cX1_before 24 = .ok (.iload_n 2, 1) := by decide +kernel
theorem dX1_before_25 : decode cX1_before 25 = .ok (.iadd, 1) := by decide +kernel
theorem dX1_before_26 : decode cX1_before 26 = .ok (.baload, 1) := by decide +kernel
theorem dX1_before_27 : decode cX1_before 27 = .ok (.ifCond .eq 5, 3) := by decide +kernel
theorem dX1_before_30 : decode cX1_before 30 = .ok (.iconst 0, 1) := by decide +kernel
theorem dX1_before_31 : decode cX1_before 31 = .ok (.ireturn, 1) := by decide +kernel
theorem dX1_before_32 : decode cX1_before 32 = .ok (.aload_n 0, 1) := by decide +kernel
theorem dX1_before_33 : decode cX1_before 33 = .ok (.iload_n 1, 1) := by decide +kernel
theorem dX1_before_34 : decode cX1_before 34 = .ok (.iload_n 2, 1) := by decide +kernel
theorem dX1_before_35 : decode cX1_before 35 = .ok (.invokevirtual 46, 3) := by decide +kernel
theorem dX1_before_38 : decode cX1_before 38 = .ok (.istore_n 3, 1) := by decide +kernel
theorem dX1_before_39 : decode cX1_before 39 = .ok (.aload_n 0, 1) := by decide +kernel
theorem dX1_before_40 : decode cX1_before 40 = .ok (.iload_n 2, 1) := by decide +kernel
theorem dX1_before_41 : decode cX1_before 41 = .ok (.iload_n 1, 1) := by decide +kernel
theorem dX1_before_42 : decode cX1_before 42 = .ok (.invokevirtual 46, 3) := by decide +kernel
theorem dX1_before_45 : decode cX1_before 45 = .ok (.istore 4, 2) := by decide +kernel
theorem dX1_before_47 : decode cX1_before 47 = .ok (.aload_n 0, 1) := by decide +kernel
theorem dX1_before_48 : decode cX1_before 48 = .ok (.getfield 13, 3) := by decide +kernel
theorem dX1_before_51 : decode cX1_before 51 = .ok (.iload_n 3, 1) := by decide +kernel
theorem dX1_before_52 : decode cX1_before 52 = .ok (.iaload, 1) := by decide +kernel
theorem dX1_before_53 : decode cX1_before 53 = .ok (.aload_n 0, 1) := by decide +kernel
theorem dX1_before_54 : decode cX1_before 54 = .ok (.getfield 13, 3) := by decide +kernel
theorem dX1_before_57 : decode cX1_before 57 = .ok (.iload 4, 2) := by decide +kernel
theorem dX1_before_59 : decode cX1_before 59 = .ok (.iaload, 1) := by decide +kernel
theorem dX1_before_60 : decode cX1_before 60 = .ok (.if_icmp .gt 35, 3) := by decide +kernel
theorem dX1_before_63 : decode cX1_before 63 = .ok (.aload_n 0, 1) := by decide +kernel
theorem dX1_before_64 : decode cX1_before 64 = .ok (.getfield 13, 3) := by decide +kernel
theorem dX1_before_67 : decode cX1_before 67 = .ok (.iload_n 3, 1) := by decide +kernel
theorem dX1_before_68 : decode cX1_before 68 = .ok (.iaload, 1) := by decide +kernel
theorem dX1_before_69 : decode cX1_before 69 = .ok (.aload_n 0, 1) := by decide +kernel
theorem dX1_before_70 : decode cX1_before 70 = .ok (.getfield 13, 3) := by decide +kernel
theorem dX1_before_73 : decode cX1_before 73 = .ok (.iload 4, 2) := by decide +kernel
theorem dX1_before_75 : decode cX1_before 75 = .ok (.iaload, 1) := by decide +kernel
theorem dX1_before_76 : decode cX1_before 76 = .ok (.if_icmp .ne 23, 3) := by decide +kernel
theorem dX1_before_79 : decode cX1_before 79 = .ok (.aload_n 0, 1) := by decide +kernel
theorem dX1_before_80 : decode cX1_before 80 = .ok (.getfield 16, 3) := by decide +kernel
theorem dX1_before_83 : decode cX1_before 83 = .ok (.iload_n 3, 1) := by decide +kernel
theorem dX1_before_84 : decode cX1_before 84 = .ok (.iaload, 1) := by decide +kernel
theorem dX1_before_85 : decode cX1_before 85 = .ok (.aload_n 0, 1) := by decide +kernel
theorem dX1_before_86 : decode cX1_before 86 = .ok (.getfield 16, 3) := by decide +kernel
theorem dX1_before_89 : decode cX1_before 89 = .ok (.iload 4, 2) := by decide +kernel
theorem dX1_before_91 : decode cX1_before 91 = .ok (.iaload, 1) := by decide +kernel
theorem dX1_before_92 : decode cX1_before 92 = .ok (.if_icmp .le 7, 3) := by decide +kernel
theorem dX1_before_95 : decode cX1_before 95 = .ok (.iconst 1, 1) := by decide +kernel
theorem dX1_before_96 : decode cX1_before 96 = .ok (.goto 4, 3) := by decide +kernel
theorem dX1_before_99 : decode cX1_before 99 = .ok (.iconst 0, 1) := by decide +kernel
theorem dX1_before_100 : decode cX1_before 100 = .ok (.ireturn, 1) := by decide +kernel
abbrev cX1_branch : ByteArray := prog_3_method_5_code
def yX1_branch : MethodName := ⟨RX1, "branch", "(II)I"⟩
theorem dX1_branch_0 : decode cX1_branch 0 = .ok (.iload_n 1, 1) := by decide +kernel
theorem dX1_branch_1 : decode cX1_branch 1 = .ok (.istore_n 3, 1) := by decide +kernel
theorem dX1_branch_2 : decode cX1_branch 2 = .ok (.aload_n 0, 1) := by decide +kernel
theorem dX1_branch_3 : decode cX1_branch 3 = .ok (.getfield 19, 3) := by decide +kernel
theorem dX1_branch_6 : decode cX1_branch 6 = .ok (.iload_n 3, 1) := by decide +kernel
theorem dX1_branch_7 : decode cX1_branch 7 = .ok (.iaload, 1) := by decide +kernel
theorem dX1_branch_8 : decode cX1_branch 8 = .ok (.ifCond .lt 32, 3) := by decide +kernel
theorem dX1_branch_11 : decode cX1_branch 11 = .ok (.aload_n 0, 1) := by decide +kernel
theorem dX1_branch_12 : decode cX1_branch 12 = .ok (.getfield 22, 3) := by decide +kernel
theorem dX1_branch_15 : decode cX1_branch 15 = .ok (.iload_n 2, 1) := by decide +kernel
theorem dX1_branch_16 : decode cX1_branch 16 = .ok (.bipush 40, 2) := by decide +kernel
theorem dX1_branch_18 : decode cX1_branch 18 = .ok (.imul, 1) := by decide +kernel
theorem dX1_branch_19 : decode cX1_branch 19 = .ok (.aload_n 0, 1) := by decide +kernel
theorem dX1_branch_20 : decode cX1_branch 20 = .ok (.getfield 19, 3) := by decide +kernel
theorem dX1_branch_23 : decode cX1_branch 23 = .ok (.iload_n 3, 1) := by decide +kernel
theorem dX1_branch_24 : decode cX1_branch 24 = .ok (.iaload, 1) := by decide +kernel
theorem dX1_branch_25 : decode cX1_branch 25 = .ok (.iadd, 1) := by decide +kernel
theorem dX1_branch_26 : decode cX1_branch 26 = .ok (.baload, 1) := by decide +kernel
theorem dX1_branch_27 : decode cX1_branch 27 = .ok (.ifCond .ne 13, 3) := by decide +kernel
theorem dX1_branch_30 : decode cX1_branch 30 = .ok (.aload_n 0, 1) := by decide +kernel
theorem dX1_branch_31 : decode cX1_branch 31 = .ok (.getfield 19, 3) := by decide +kernel
theorem dX1_branch_34 : decode cX1_branch 34 = .ok (.iload_n 3, 1) := by decide +kernel
theorem dX1_branch_35 : decode cX1_branch 35 = .ok (.iaload, 1) := by decide +kernel
theorem dX1_branch_36 : decode cX1_branch 36 = .ok (.istore_n 3, 1) := by decide +kernel
theorem dX1_branch_37 : decode cX1_branch 37 = .ok (.goto (-35), 3) := by decide +kernel
theorem dX1_branch_40 : decode cX1_branch 40 = .ok (.iload_n 3, 1) := by decide +kernel
theorem dX1_branch_41 : decode cX1_branch 41 = .ok (.ireturn, 1) := by decide +kernel
abbrev cX1_delete : ByteArray := prog_3_method_10_code
def yX1_delete : MethodName := ⟨RX1, "delete", "(II)I"⟩
theorem dX1_delete_0 : decode cX1_delete 0 = .ok (.aload_n 0, 1) := by decide +kernel
theorem dX1_delete_1 : decode cX1_delete 1 = .ok (.iload_n 1, 1) := by decide +kernel
theorem dX1_delete_2 : decode cX1_delete 2 = .ok (.invokevirtual 59, 3) := by decide +kernel
theorem dX1_delete_5 : decode cX1_delete 5 = .ok (.ifCond .ne 5, 3) := by decide +kernel
theorem dX1_delete_8 : decode cX1_delete 8 = .ok (.iconst (-1), 1) := by decide +kernel
theorem dX1_delete_9 : decode cX1_delete 9 = .ok (.ireturn, 1) := by decide +kernel
theorem dX1_delete_10 : decode cX1_delete 10 = .ok (.aload_n 0, 1) := by decide +kernel
theorem dX1_delete_11 : decode cX1_delete 11 = .ok (.iload_n 1, 1) := by decide +kernel
theorem dX1_delete_12 : decode cX1_delete 12 = .ok (.iload_n 2, 1) := by decide +kernel
theorem dX1_delete_13 : decode cX1_delete 13 = .ok (.invokevirtual 67, 3) := by decide +kernel
theorem dX1_delete_16 : decode cX1_delete 16 = .ok (.istore_n 3, 1) := by decide +kernel
theorem dX1_delete_17 : decode cX1_delete 17 = .ok (.iload_n 3, 1) := by decide +kernel
theorem dX1_delete_18 : decode cX1_delete 18 = .ok (.ifCond .ge 6, 3) := by decide +kernel
theorem dX1_delete_21 : decode cX1_delete 21 = .ok (.bipush (-2), 2) := by decide +kernel
theorem dX1_delete_23 : decode cX1_delete 23 = .ok (.ireturn, 1) := by decide +kernel
theorem dX1_delete_24 : decode cX1_delete 24 = .ok (.aload_n 0, 1) := by decide +kernel
theorem dX1_delete_25 : decode cX1_delete 25 = .ok (.getfield 29, 3) := by decide +kernel
theorem dX1_delete_28 : decode cX1_delete 28 = .ok (.iload_n 1, 1) := by decide +kernel
theorem dX1_delete_29 : decode cX1_delete 29 = .ok (.bipush 40, 2) := by decide +kernel
theorem dX1_delete_31 : decode cX1_delete 31 = .ok (.imul, 1) := by decide +kernel
theorem dX1_delete_32 : decode cX1_delete 32 = .ok (.iload_n 3, 1) := by decide +kernel
theorem dX1_delete_33 : decode cX1_delete 33 = .ok (.iadd, 1) := by decide +kernel
theorem dX1_delete_34 : decode cX1_delete 34 = .ok (.iconst 1, 1) := by decide +kernel
theorem dX1_delete_35 : decode cX1_delete 35 = .ok (.bastore, 1) := by decide +kernel
theorem dX1_delete_36 : decode cX1_delete 36 = .ok (.iload_n 3, 1) := by decide +kernel
theorem dX1_delete_37 : decode cX1_delete 37 = .ok (.ireturn, 1) := by decide +kernel
abbrev cX1_learn : ByteArray := prog_3_method_11_code
def yX1_learn : MethodName := ⟨RX1, "learn", "(II)I"⟩
theorem dX1_learn_0 : decode cX1_learn 0 = .ok (.aload_n 0, 1) := by decide +kernel
theorem dX1_learn_1 : decode cX1_learn 1 = .ok (.iload_n 1, 1) := by decide +kernel
theorem dX1_learn_2 : decode cX1_learn 2 = .ok (.invokevirtual 59, 3) := by decide +kernel
theorem dX1_learn_5 : decode cX1_learn 5 = .ok (.ifCond .eq 11, 3) := by decide +kernel
theorem dX1_learn_8 : decode cX1_learn 8 = .ok (.aload_n 0, 1) := by decide +kernel
theorem dX1_learn_9 : decode cX1_learn 9 = .ok (.iload_n 2, 1) := by decide +kernel
theorem dX1_learn_10 : decode cX1_learn 10 = .ok (.invokevirtual 59, 3) := by decide +kernel
theorem dX1_learn_13 : decode cX1_learn 13 = .ok (.ifCond .ne 5, 3) := by decide +kernel
theorem dX1_learn_16 : decode cX1_learn 16 = .ok (.iconst (-1), 1) := by decide +kernel
theorem dX1_learn_17 : decode cX1_learn 17 = .ok (.ireturn, 1) := by decide +kernel
theorem dX1_learn_18 : decode cX1_learn 18 = .ok (.iload_n 1, 1) := by decide +kernel
theorem dX1_learn_19 : decode cX1_learn 19 = .ok (.iload_n 2, 1) := by decide +kernel
theorem dX1_learn_20 : decode cX1_learn 20 = .ok (.if_icmp .ne 6, 3) := by decide +kernel
theorem dX1_learn_23 : decode cX1_learn 23 = .ok (.bipush (-4), 2) := by decide +kernel
theorem dX1_learn_25 : decode cX1_learn 25 = .ok (.ireturn, 1) := by decide +kernel
theorem dX1_learn_26 : decode cX1_learn 26 = .ok (.iconst 0, 1) := by decide +kernel
theorem dX1_learn_27 : decode cX1_learn 27 = .ok (.istore_n 3, 1) := by decide +kernel
theorem dX1_learn_28 : decode cX1_learn 28 = .ok (.iconst 0, 1) := by decide +kernel
theorem dX1_learn_29 : decode cX1_learn 29 = .ok (.istore 4, 2) := by decide +kernel
theorem dX1_learn_31 : decode cX1_learn 31 = .ok (.iload 4, 2) := by decide +kernel
theorem dX1_learn_33 : decode cX1_learn 33 = .ok (.aload_n 0, 1) := by decide +kernel
theorem dX1_learn_34 : decode cX1_learn 34 = .ok (.getfield 38, 3) := by decide +kernel
theorem dX1_learn_37 : decode cX1_learn 37 = .ok (.if_icmp .ge 130, 3) := by decide +kernel
theorem dX1_learn_40 : decode cX1_learn 40 = .ok (.aload_n 0, 1) := by decide +kernel
theorem dX1_learn_41 : decode cX1_learn 41 = .ok (.getfield 26, 3) := by decide +kernel
theorem dX1_learn_44 : decode cX1_learn 44 = .ok (.iload_n 2, 1) := by decide +kernel
theorem dX1_learn_45 : decode cX1_learn 45 = .ok (.bipush 40, 2) := by decide +kernel
theorem dX1_learn_47 : decode cX1_learn 47 = .ok (.imul, 1) := by decide +kernel
theorem dX1_learn_48 : decode cX1_learn 48 = .ok (.iload 4, 2) := by decide +kernel
theorem dX1_learn_50 : decode cX1_learn 50 = .ok (.iadd, 1) := by decide +kernel
theorem dX1_learn_51 : decode cX1_learn 51 = .ok (.baload, 1) := by decide +kernel
theorem dX1_learn_52 : decode cX1_learn 52 = .ok (.ifCond .eq 63, 3) := by decide +kernel
theorem dX1_learn_55 : decode cX1_learn 55 = .ok (.aload_n 0, 1) := by decide +kernel
theorem dX1_learn_56 : decode cX1_learn 56 = .ok (.getfield 26, 3) := by decide +kernel
theorem dX1_learn_59 : decode cX1_learn 59 = .ok (.iload_n 1, 1) := by decide +kernel
theorem dX1_learn_60 : decode cX1_learn 60 = .ok (.bipush 40, 2) := by decide +kernel
theorem dX1_learn_62 : decode cX1_learn 62 = .ok (.imul, 1) := by decide +kernel
theorem dX1_learn_63 : decode cX1_learn 63 = .ok (.iload 4, 2) := by decide +kernel
theorem dX1_learn_65 : decode cX1_learn 65 = .ok (.iadd, 1) := by decide +kernel
theorem dX1_learn_66 : decode cX1_learn 66 = .ok (.baload, 1) := by decide +kernel
theorem dX1_learn_67 : decode cX1_learn 67 = .ok (.ifCond .ne 48, 3) := by decide +kernel
theorem dX1_learn_70 : decode cX1_learn 70 = .ok (.aload_n 0, 1) := by decide +kernel
theorem dX1_learn_71 : decode cX1_learn 71 = .ok (.getfield 26, 3) := by decide +kernel
theorem dX1_learn_74 : decode cX1_learn 74 = .ok (.iload_n 1, 1) := by decide +kernel
theorem dX1_learn_75 : decode cX1_learn 75 = .ok (.bipush 40, 2) := by decide +kernel
theorem dX1_learn_77 : decode cX1_learn 77 = .ok (.imul, 1) := by decide +kernel
theorem dX1_learn_78 : decode cX1_learn 78 = .ok (.iload 4, 2) := by decide +kernel
theorem dX1_learn_80 : decode cX1_learn 80 = .ok (.iadd, 1) := by decide +kernel
theorem dX1_learn_81 : decode cX1_learn 81 = .ok (.iconst 1, 1) := by decide +kernel
theorem dX1_learn_82 : decode cX1_learn 82 = .ok (.bastore, 1) := by decide +kernel
theorem dX1_learn_83 : decode cX1_learn 83 = .ok (.aload_n 0, 1) := by decide +kernel
theorem dX1_learn_84 : decode cX1_learn 84 = .ok (.getfield 32, 3) := by decide +kernel
theorem dX1_learn_87 : decode cX1_learn 87 = .ok (.iload_n 1, 1) := by decide +kernel
theorem dX1_learn_88 : decode cX1_learn 88 = .ok (.iaload, 1) := by decide +kernel
theorem dX1_learn_89 : decode cX1_learn 89 = .ok (.aload_n 0, 1) := by decide +kernel
theorem dX1_learn_90 : decode cX1_learn 90 = .ok (.getfield 13, 3) := by decide +kernel
theorem dX1_learn_93 : decode cX1_learn 93 = .ok (.iload 4, 2) := by decide +kernel
theorem dX1_learn_95 : decode cX1_learn 95 = .ok (.iaload, 1) := by decide +kernel
theorem dX1_learn_96 : decode cX1_learn 96 = .ok (.if_icmp .ge 16, 3) := by decide +kernel
theorem dX1_learn_99 : decode cX1_learn 99 = .ok (.aload_n 0, 1) := by decide +kernel
theorem dX1_learn_100 : decode cX1_learn 100 = .ok (.getfield 32, 3) := by decide +kernel
theorem dX1_learn_103 : decode cX1_learn 103 = .ok (.iload_n 1, 1) := by decide +kernel
theorem dX1_learn_104 : decode cX1_learn 104 = .ok (.aload_n 0, 1) := by decide +kernel
theorem dX1_learn_105 : decode cX1_learn 105 = .ok (.getfield 13, 3) := by decide +kernel
theorem dX1_learn_108 : decode cX1_learn 108 = .ok (.iload 4, 2) := by decide +kernel
theorem dX1_learn_110 : decode cX1_learn 110 = .ok (.iaload, 1) := by decide +kernel
theorem dX1_learn_111 : decode cX1_learn 111 = .ok (.iastore, 1) := by decide +kernel
theorem dX1_learn_112 : decode cX1_learn 112 = .ok (.iinc 3 1, 3) := by decide +kernel
theorem dX1_learn_115 : decode cX1_learn 115 = .ok (.aload_n 0, 1) := by decide +kernel
theorem dX1_learn_116 : decode cX1_learn 116 = .ok (.getfield 29, 3) := by decide +kernel
theorem dX1_learn_119 : decode cX1_learn 119 = .ok (.iload_n 2, 1) := by decide +kernel
theorem dX1_learn_120 : decode cX1_learn 120 = .ok (.bipush 40, 2) := by decide +kernel
theorem dX1_learn_122 : decode cX1_learn 122 = .ok (.imul, 1) := by decide +kernel
theorem dX1_learn_123 : decode cX1_learn 123 = .ok (.iload 4, 2) := by decide +kernel
theorem dX1_learn_125 : decode cX1_learn 125 = .ok (.iadd, 1) := by decide +kernel
theorem dX1_learn_126 : decode cX1_learn 126 = .ok (.baload, 1) := by decide +kernel
theorem dX1_learn_127 : decode cX1_learn 127 = .ok (.ifCond .eq 34, 3) := by decide +kernel
theorem dX1_learn_130 : decode cX1_learn 130 = .ok (.aload_n 0, 1) := by decide +kernel
theorem dX1_learn_131 : decode cX1_learn 131 = .ok (.getfield 29, 3) := by decide +kernel
theorem dX1_learn_134 : decode cX1_learn 134 = .ok (.iload_n 1, 1) := by decide +kernel
theorem dX1_learn_135 : decode cX1_learn 135 = .ok (.bipush 40, 2) := by decide +kernel
theorem dX1_learn_137 : decode cX1_learn 137 = .ok (.imul, 1) := by decide +kernel
theorem dX1_learn_138 : decode cX1_learn 138 = .ok (.iload 4, 2) := by decide +kernel
theorem dX1_learn_140 : decode cX1_learn 140 = .ok (.iadd, 1) := by decide +kernel
theorem dX1_learn_141 : decode cX1_learn 141 = .ok (.baload, 1) := by decide +kernel
theorem dX1_learn_142 : decode cX1_learn 142 = .ok (.ifCond .ne 19, 3) := by decide +kernel
theorem dX1_learn_145 : decode cX1_learn 145 = .ok (.aload_n 0, 1) := by decide +kernel
theorem dX1_learn_146 : decode cX1_learn 146 = .ok (.getfield 29, 3) := by decide +kernel
theorem dX1_learn_149 : decode cX1_learn 149 = .ok (.iload_n 1, 1) := by decide +kernel
theorem dX1_learn_150 : decode cX1_learn 150 = .ok (.bipush 40, 2) := by decide +kernel
theorem dX1_learn_152 : decode cX1_learn 152 = .ok (.imul, 1) := by decide +kernel
theorem dX1_learn_153 : decode cX1_learn 153 = .ok (.iload 4, 2) := by decide +kernel
theorem dX1_learn_155 : decode cX1_learn 155 = .ok (.iadd, 1) := by decide +kernel
theorem dX1_learn_156 : decode cX1_learn 156 = .ok (.iconst 1, 1) := by decide +kernel
theorem dX1_learn_157 : decode cX1_learn 157 = .ok (.bastore, 1) := by decide +kernel
theorem dX1_learn_158 : decode cX1_learn 158 = .ok (.iinc 3 1, 3) := by decide +kernel
theorem dX1_learn_161 : decode cX1_learn 161 = .ok (.iinc 4 1, 3) := by decide +kernel
theorem dX1_learn_164 : decode cX1_learn 164 = .ok (.goto (-133), 3) := by decide +kernel
theorem dX1_learn_167 : decode cX1_learn 167 = .ok (.iload_n 3, 1) := by decide +kernel
theorem dX1_learn_168 : decode cX1_learn 168 = .ok (.ireturn, 1) := by decide +kernel
end
section
set_option maxRecDepth 100000
abbrev cX1_charAt : ByteArray := prog_3_method_13_code
def yX1_charAt : MethodName := ⟨RX1, "charAt", "(II)I"⟩
theorem dX1_charAt_0 : decode cX1_charAt 0 = .ok (.aload_n 0, 1) := by decide +kernel
theorem dX1_charAt_1 : decode cX1_charAt 1 = .ok (.iload_n 1, 1) := by decide +kernel
theorem dX1_charAt_2 : decode cX1_charAt 2 = .ok (.iload_n 2, 1) := by decide +kernel
theorem dX1_charAt_3 : decode cX1_charAt 3 = .ok (.invokevirtual 67, 3) := by decide +kernel
theorem dX1_charAt_6 : decode cX1_charAt 6 = .ok (.istore_n 3, 1) := by decide +kernel
theorem dX1_charAt_7 : decode cX1_charAt 7 = .ok (.iload_n 3, 1) := by decide +kernel
theorem dX1_charAt_8 : decode cX1_charAt 8 = .ok (.ifCond .ge 7, 3) := by decide +kernel
theorem dX1_charAt_11 : decode cX1_charAt 11 = .ok (.iload_n 3, 1) := by decide +kernel
theorem dX1_charAt_12 : decode cX1_charAt 12 = .ok (.goto 9, 3) := by decide +kernel
theorem dX1_charAt_15 : decode cX1_charAt 15 = .ok (.aload_n 0, 1) := by decide +kernel
theorem dX1_charAt_16 : decode cX1_charAt 16 = .ok (.getfield 7, 3) := by decide +kernel
theorem dX1_charAt_19 : decode cX1_charAt 19 = .ok (.iload_n 3, 1) := by decide +kernel
theorem dX1_charAt_20 : decode cX1_charAt 20 = .ok (.iaload, 1) := by decide +kernel
theorem dX1_charAt_21 : decode cX1_charAt 21 = .ok (.ireturn, 1) := by decide +kernel
abbrev cX1_placeOf : ByteArray := prog_3_method_15_code
def yX1_placeOf : MethodName := ⟨RX1, "placeOf", "(II)I"⟩
theorem dX1_placeOf_0 : decode cX1_placeOf 0 = .ok (.aload_n 0, 1) := by decide +kernel
theorem dX1_placeOf_1 : decode cX1_placeOf 1 = .ok (.iload_n 1, 1) := by decide +kernel
theorem dX1_placeOf_2 : decode cX1_placeOf 2 = .ok (.invokevirtual 59, 3) := by decide +kernel
theorem dX1_placeOf_5 : decode cX1_placeOf 5 = .ok (.ifCond .ne 5, 3) := by decide +kernel
theorem dX1_placeOf_8 : decode cX1_placeOf 8 = .ok (.iconst (-1), 1) := by decide +kernel
theorem dX1_placeOf_9 : decode cX1_placeOf 9 = .ok (.ireturn, 1) := by decide +kernel
theorem dX1_placeOf_10 : decode cX1_placeOf 10 = .ok (.aload_n 0, 1) := by decide +kernel
theorem dX1_placeOf_11 : decode cX1_placeOf 11 = .ok (.iload_n 1, 1) := by decide +kernel
theorem dX1_placeOf_12 : decode cX1_placeOf 12 = .ok (.iload_n 2, 1) := by decide +kernel
theorem dX1_placeOf_13 : decode cX1_placeOf 13 = .ok (.invokevirtual 70, 3) := by decide +kernel
theorem dX1_placeOf_16 : decode cX1_placeOf 16 = .ok (.ifCond .ne 6, 3) := by decide +kernel
theorem dX1_placeOf_19 : decode cX1_placeOf 19 = .ok (.bipush (-5), 2) := by decide +kernel
theorem dX1_placeOf_21 : decode cX1_placeOf 21 = .ok (.ireturn, 1) := by decide +kernel
theorem dX1_placeOf_22 : decode cX1_placeOf 22 = .ok (.iconst 0, 1) := by decide +kernel
theorem dX1_placeOf_23 : decode cX1_placeOf 23 = .ok (.istore_n 3, 1) := by decide +kernel
theorem dX1_placeOf_24 : decode cX1_placeOf 24 = .ok (.iconst 0, 1) := by decide +kernel
theorem dX1_placeOf_25 : decode cX1_placeOf 25 = .ok (.istore 4, 2) := by decide +kernel
theorem dX1_placeOf_27 : decode cX1_placeOf 27 = .ok (.iload 4, 2) := by decide +kernel
theorem dX1_placeOf_29 : decode cX1_placeOf 29 = .ok (.aload_n 0, 1) := by decide +kernel
theorem dX1_placeOf_30 : decode cX1_placeOf 30 = .ok (.getfield 38, 3) := by decide +kernel
theorem dX1_placeOf_33 : decode cX1_placeOf 33 = .ok (.if_icmp .ge 38, 3) := by decide +kernel
theorem dX1_placeOf_36 : decode cX1_placeOf 36 = .ok (.iload 4, 2) := by decide +kernel
theorem dX1_placeOf_38 : decode cX1_placeOf 38 = .ok (.iload_n 2, 1) := by decide +kernel
theorem dX1_placeOf_39 : decode cX1_placeOf 39 = .ok (.if_icmp .eq 26, 3) := by decide +kernel
theorem dX1_placeOf_42 : decode cX1_placeOf 42 = .ok (.aload_n 0, 1) := by decide +kernel
theorem dX1_placeOf_43 : decode cX1_placeOf 43 = .ok (.iload_n 1, 1) := by decide +kernel
theorem dX1_placeOf_44 : decode cX1_placeOf 44 = .ok (.iload 4, 2) := by decide +kernel
theorem dX1_placeOf_46 : decode cX1_placeOf 46 = .ok (.invokevirtual 70, 3) := by decide +kernel
theorem dX1_placeOf_49 : decode cX1_placeOf 49 = .ok (.ifCond .eq 16, 3) := by decide +kernel
theorem dX1_placeOf_52 : decode cX1_placeOf 52 = .ok (.aload_n 0, 1) := by decide +kernel
theorem dX1_placeOf_53 : decode cX1_placeOf 53 = .ok (.iload 4, 2) := by decide +kernel
theorem dX1_placeOf_55 : decode cX1_placeOf 55 = .ok (.iload_n 2, 1) := by decide +kernel
theorem dX1_placeOf_56 : decode cX1_placeOf 56 = .ok (.invokevirtual 50, 3) := by decide +kernel
theorem dX1_placeOf_59 : decode cX1_placeOf 59 = .ok (.ifCond .eq 6, 3) := by decide +kernel
theorem dX1_placeOf_62 : decode cX1_placeOf 62 = .ok (.iinc 3 1, 3) := by decide +kernel
theorem dX1_placeOf_65 : decode cX1_placeOf 65 = .ok (.iinc 4 1, 3) := by decide +kernel
theorem dX1_placeOf_68 : decode cX1_placeOf 68 = .ok (.goto (-41), 3) := by decide +kernel
theorem dX1_placeOf_71 : decode cX1_placeOf 71 = .ok (.iload_n 3, 1) := by decide +kernel
theorem dX1_placeOf_72 : decode cX1_placeOf 72 = .ok (.ireturn, 1) := by decide +kernel
abbrev cX1_known : ByteArray := prog_3_method_16_code
def yX1_known : MethodName := ⟨RX1, "known", "(I)I"⟩
theorem dX1_known_0 : decode cX1_known 0 = .ok (.aload_n 0, 1) := by decide +kernel
theorem dX1_known_1 : decode cX1_known 1 = .ok (.iload_n 1, 1) := by decide +kernel
theorem dX1_known_2 : decode cX1_known 2 = .ok (.invokevirtual 59, 3) := by decide +kernel
theorem dX1_known_5 : decode cX1_known 5 = .ok (.ifCond .ne 5, 3) := by decide +kernel
theorem dX1_known_8 : decode cX1_known 8 = .ok (.iconst (-1), 1) := by decide +kernel
theorem dX1_known_9 : decode cX1_known 9 = .ok (.ireturn, 1) := by decide +kernel
theorem dX1_known_10 : decode cX1_known 10 = .ok (.iconst 0, 1) := by decide +kernel
theorem dX1_known_11 : decode cX1_known 11 = .ok (.istore_n 2, 1) := by decide +kernel
theorem dX1_known_12 : decode cX1_known 12 = .ok (.iconst 0, 1) := by decide +kernel
theorem dX1_known_13 : decode cX1_known 13 = .ok (.istore_n 3, 1) := by decide +kernel
theorem dX1_known_14 : decode cX1_known 14 = .ok (.iload_n 3, 1) := by decide +kernel
theorem dX1_known_15 : decode cX1_known 15 = .ok (.aload_n 0, 1) := by decide +kernel
theorem dX1_known_16 : decode cX1_known 16 = .ok (.getfield 38, 3) := by decide +kernel
theorem dX1_known_19 : decode cX1_known 19 = .ok (.if_icmp .ge 21, 3) := by decide +kernel
theorem dX1_known_22 : decode cX1_known 22 = .ok (.aload_n 0, 1) := by decide +kernel
theorem dX1_known_23 : decode cX1_known 23 = .ok (.iload_n 1, 1) := by decide +kernel
theorem dX1_known_24 : decode cX1_known 24 = .ok (.iload_n 3, 1) := by decide +kernel
theorem dX1_known_25 : decode cX1_known 25 = .ok (.invokevirtual 42, 3) := by decide +kernel
theorem dX1_known_28 : decode cX1_known 28 = .ok (.ifCond .eq 6, 3) := by decide +kernel
theorem dX1_known_31 : decode cX1_known 31 = .ok (.iinc 2 1, 3) := by decide +kernel
theorem dX1_known_34 : decode cX1_known 34 = .ok (.iinc 3 1, 3) := by decide +kernel
theorem dX1_known_37 : decode cX1_known 37 = .ok (.goto (-23), 3) := by decide +kernel
theorem dX1_known_40 : decode cX1_known 40 = .ok (.iload_n 2, 1) := by decide +kernel
theorem dX1_known_41 : decode cX1_known 41 = .ok (.ireturn, 1) := by decide +kernel
abbrev cX1_rank : ByteArray := prog_3_method_17_code
def yX1_rank : MethodName := ⟨RX1, "rank", "(II)I"⟩
theorem dX1_rank_0 : decode cX1_rank 0 = .ok (.aload_n 0, 1) := by decide +kernel
theorem dX1_rank_1 : decode cX1_rank 1 = .ok (.iload_n 1, 1) := by decide +kernel
theorem dX1_rank_2 : decode cX1_rank 2 = .ok (.invokevirtual 59, 3) := by decide +kernel
theorem dX1_rank_5 : decode cX1_rank 5 = .ok (.ifCond .ne 5, 3) := by decide +kernel
theorem dX1_rank_8 : decode cX1_rank 8 = .ok (.iconst (-1), 1) := by decide +kernel
theorem dX1_rank_9 : decode cX1_rank 9 = .ok (.ireturn, 1) := by decide +kernel
theorem dX1_rank_10 : decode cX1_rank 10 = .ok (.aload_n 0, 1) := by decide +kernel
theorem dX1_rank_11 : decode cX1_rank 11 = .ok (.iload_n 1, 1) := by decide +kernel
theorem dX1_rank_12 : decode cX1_rank 12 = .ok (.iload_n 2, 1) := by decide +kernel
theorem dX1_rank_13 : decode cX1_rank 13 = .ok (.invokevirtual 42, 3) := by decide +kernel
theorem dX1_rank_16 : decode cX1_rank 16 = .ok (.ifCond .eq 12, 3) := by decide +kernel
theorem dX1_rank_19 : decode cX1_rank 19 = .ok (.aload_n 0, 1) := by decide +kernel
theorem dX1_rank_20 : decode cX1_rank 20 = .ok (.iload_n 1, 1) := by decide +kernel
theorem dX1_rank_21 : decode cX1_rank 21 = .ok (.iload_n 2, 1) := by decide +kernel
theorem dX1_rank_22 : decode cX1_rank 22 = .ok (.invokevirtual 56, 3) := by decide +kernel
theorem dX1_rank_25 : decode cX1_rank 25 = .ok (.goto 5, 3) := by decide +kernel
theorem dX1_rank_28 : decode cX1_rank 28 = .ok (.bipush (-5), 2) := by decide +kernel
theorem dX1_rank_30 : decode cX1_rank 30 = .ok (.ireturn, 1) := by decide +kernel
abbrev cX1_sameText : ByteArray := prog_3_method_18_code
def yX1_sameText : MethodName := ⟨RX1, "sameText", "(II)Z"⟩
theorem dX1_sameText_0 : decode cX1_sameText 0 = .ok (.aload_n 0, 1) := by decide +kernel
theorem dX1_sameText_1 : decode cX1_sameText 1 = .ok (.iload_n 1, 1) := by decide +kernel
theorem dX1_sameText_2 : decode cX1_sameText 2 = .ok (.invokevirtual 59, 3) := by decide +kernel
theorem dX1_sameText_5 : decode cX1_sameText 5 = .ok (.ifCond .eq 24, 3) := by decide +kernel
theorem dX1_sameText_8 : decode cX1_sameText 8 = .ok (.aload_n 0, 1) := by decide +kernel
theorem dX1_sameText_9 : decode cX1_sameText 9 = .ok (.iload_n 2, 1) := by decide +kernel
theorem dX1_sameText_10 : decode cX1_sameText 10 = .ok (.invokevirtual 59, 3) := by decide +kernel
theorem dX1_sameText_13 : decode cX1_sameText 13 = .ok (.ifCond .eq 16, 3) := by decide +kernel
theorem dX1_sameText_16 : decode cX1_sameText 16 = .ok (.aload_n 0, 1) := by decide +kernel
theorem dX1_sameText_17 : decode cX1_sameText 17 = .ok (.iload_n 1, 1) := by decide +kernel
theorem dX1_sameText_18 : decode cX1_sameText 18 = .ok (.invokevirtual 63, 3) := by decide +kernel
theorem dX1_sameText_21 : decode cX1_sameText 21 = .ok (.aload_n 0, 1) := by decide +kernel
theorem dX1_sameText_22 : decode cX1_sameText 22 = .ok (.iload_n 2, 1) := by decide +kernel
theorem dX1_sameText_23 : decode cX1_sameText 23 = .ok (.invokevirtual 63, 3) := by decide +kernel
theorem dX1_sameText_26 : decode cX1_sameText 26 = .ok (.if_icmp .eq 5, 3) := by decide +kernel
theorem dX1_sameText_29 : decode cX1_sameText 29 = .ok (.iconst 0, 1) := by decide +kernel
theorem dX1_sameText_30 : decode cX1_sameText 30 = .ok (.ireturn, 1) := by decide +kernel
theorem dX1_sameText_31 : decode cX1_sameText 31 = .ok (.iconst 0, 1) := by decide +kernel
theorem dX1_sameText_32 : decode cX1_sameText 32 = .ok (.istore_n 3, 1) := by decide +kernel
theorem dX1_sameText_33 : decode cX1_sameText 33 = .ok (.iload_n 3, 1) := by decide +kernel
theorem dX1_sameText_34 : decode cX1_sameText 34 = .ok (.aload_n 0, 1) := by decide +kernel
theorem dX1_sameText_35 : decode cX1_sameText 35 = .ok (.iload_n 1, 1) := by decide +kernel
theorem dX1_sameText_36 : decode cX1_sameText 36 = .ok (.invokevirtual 63, 3) := by decide +kernel
theorem dX1_sameText_39 : decode cX1_sameText 39 = .ok (.if_icmp .ge 26, 3) := by decide +kernel
theorem dX1_sameText_42 : decode cX1_sameText 42 = .ok (.aload_n 0, 1) := by decide +kernel
theorem dX1_sameText_43 : decode cX1_sameText 43 = .ok (.iload_n 1, 1) := by decide +kernel
theorem dX1_sameText_44 : decode cX1_sameText 44 = .ok (.iload_n 3, 1) := by decide +kernel
theorem dX1_sameText_45 : decode cX1_sameText 45 = .ok (.invokevirtual 77, 3) := by decide +kernel
theorem dX1_sameText_48 : decode cX1_sameText 48 = .ok (.aload_n 0, 1) := by decide +kernel
theorem dX1_sameText_49 : decode cX1_sameText 49 = .ok (.iload_n 2, 1) := by decide +kernel
theorem dX1_sameText_50 : decode cX1_sameText 50 = .ok (.iload_n 3, 1) := by decide +kernel
theorem dX1_sameText_51 : decode cX1_sameText 51 = .ok (.invokevirtual 77, 3) := by decide +kernel
theorem dX1_sameText_54 : decode cX1_sameText 54 = .ok (.if_icmp .eq 5, 3) := by decide +kernel
theorem dX1_sameText_57 : decode cX1_sameText 57 = .ok (.iconst 0, 1) := by decide +kernel
theorem dX1_sameText_58 : decode cX1_sameText 58 = .ok (.ireturn, 1) := by decide +kernel
theorem dX1_sameText_59 : decode cX1_sameText 59 = .ok (.iinc 3 1, 3) := by decide +kernel
theorem dX1_sameText_62 : decode cX1_sameText 62 = .ok (.goto (-29), 3) := by decide +kernel
theorem dX1_sameText_65 : decode cX1_sameText 65 = .ok (.iconst 1, 1) := by decide +kernel
theorem dX1_sameText_66 : decode cX1_sameText 66 = .ok (.ireturn, 1) := by decide +kernel
end
section
set_option maxRecDepth 100000
theorem q18 : (Jvm.Cond.initialized "RgaTextModel") ∈ lw_all := lw_g (lw_at lw_m0 2 rfl) rfl
theorem q140 : (Jvm.Cond.instantiable "RgaTextModel" (11 : Nat)) ∈ lw_all := lw_g (lw_at lw_m0 124 rfl) rfl
theorem q142 : (Jvm.Cond.instanceMethod ({ cls := "RgaTextModel", name := "<init>", desc := "()V" } : Jvm.MethodName)) ∈ lw_all := lw_g (lw_at lw_m0 126 rfl) rfl
theorem q143 : (Jvm.Cond.code ({ cls := "RgaTextModel", name := "<init>", desc := "()V" } : Jvm.MethodName) prog_3_method_1_code (1 : Nat) (Option.none : Option Jvm.ClassFile.FieldType)) ∈ lw_all := lw_g (lw_at lw_m0 127 rfl) rfl
theorem q144 : (Jvm.Cond.methodLink "RgaTextModel" (1 : Nat) ({ cls := "java/lang/Object", name := "<init>", desc := "()V" } : Jvm.MethodName)) ∈ lw_all := lw_g (lw_at lw_m0 128 rfl) rfl
theorem q145 : (Jvm.Cond.fieldLink "RgaTextModel" (38 : Nat) "RgaTextModel" "elements" "I") ∈ lw_all := lw_g (lw_at lw_m0 129 rfl) rfl
theorem q146 : (Jvm.Cond.fieldLink "RgaTextModel" (7 : Nat) "RgaTextModel" "chars" "[I") ∈ lw_all := lw_g (lw_at lw_m0 130 rfl) rfl
theorem q147 : (Jvm.Cond.fieldLink "RgaTextModel" (13 : Nat) "RgaTextModel" "stamps" "[I") ∈ lw_all := lw_g (lw_at lw_m0 131 rfl) rfl
theorem q148 : (Jvm.Cond.fieldLink "RgaTextModel" (16 : Nat) "RgaTextModel" "origins" "[I") ∈ lw_all := lw_g (lw_at lw_m0 132 rfl) rfl
theorem q149 : (Jvm.Cond.fieldLink "RgaTextModel" (19 : Nat) "RgaTextModel" "parents" "[I") ∈ lw_all := lw_g (lw_at lw_m0 133 rfl) rfl
theorem q150 : (Jvm.Cond.fieldLink "RgaTextModel" (22 : Nat) "RgaTextModel" "above" "[Z") ∈ lw_all := lw_g (lw_at lw_m0 134 rfl) rfl
theorem q151 : (Jvm.Cond.fieldLink "RgaTextModel" (26 : Nat) "RgaTextModel" "knows" "[Z") ∈ lw_all := lw_g (lw_at lw_m0 135 rfl) rfl
theorem q152 : (Jvm.Cond.fieldLink "RgaTextModel" (29 : Nat) "RgaTextModel" "knowsDeleted" "[Z") ∈ lw_all := lw_g (lw_at lw_m0 136 rfl) rfl
theorem q153 : (Jvm.Cond.fieldLink "RgaTextModel" (32 : Nat) "RgaTextModel" "clocks" "[I") ∈ lw_all := lw_g (lw_at lw_m0 137 rfl) rfl
theorem q154 : (Jvm.Cond.fieldLink "RgaTextModel" (35 : Nat) "RgaTextModel" "order" "[I") ∈ lw_all := lw_g (lw_at lw_m0 138 rfl) rfl
theorem q155 : (Jvm.Cond.fieldLink "RgaTextModel" (53 : Nat) "RgaTextModel" "ordered" "I") ∈ lw_all := lw_g (lw_at lw_m0 139 rfl) rfl
theorem q156 : (Jvm.Cond.lays "RgaTextModel" "RgaTextModel" "elements" "I") ∈ lw_all := lw_g (lw_at lw_m0 140 rfl) rfl
theorem q157 : (Jvm.Cond.soleField "RgaTextModel" "elements") ∈ lw_all := lw_g (lw_at lw_m0 141 rfl) rfl
theorem q158 : (Jvm.Cond.laysFinal "RgaTextModel" "RgaTextModel" "chars" "[I") ∈ lw_all := lw_g (lw_at lw_m0 142 rfl) rfl
theorem q159 : (Jvm.Cond.soleField "RgaTextModel" "chars") ∈ lw_all := lw_g (lw_at lw_m0 143 rfl) rfl
theorem q160 : (Jvm.Cond.laysFinal "RgaTextModel" "RgaTextModel" "stamps" "[I") ∈ lw_all := lw_g (lw_at lw_m0 144 rfl) rfl
theorem q161 : (Jvm.Cond.soleField "RgaTextModel" "stamps") ∈ lw_all := lw_g (lw_at lw_m0 145 rfl) rfl
theorem q162 : (Jvm.Cond.laysFinal "RgaTextModel" "RgaTextModel" "origins" "[I") ∈ lw_all := lw_g (lw_at lw_m0 146 rfl) rfl
theorem q163 : (Jvm.Cond.soleField "RgaTextModel" "origins") ∈ lw_all := lw_g (lw_at lw_m0 147 rfl) rfl
theorem q164 : (Jvm.Cond.laysFinal "RgaTextModel" "RgaTextModel" "parents" "[I") ∈ lw_all := lw_g (lw_at lw_m0 148 rfl) rfl
theorem q165 : (Jvm.Cond.soleField "RgaTextModel" "parents") ∈ lw_all := lw_g (lw_at lw_m0 149 rfl) rfl
theorem q166 : (Jvm.Cond.laysFinal "RgaTextModel" "RgaTextModel" "above" "[Z") ∈ lw_all := lw_g (lw_at lw_m0 150 rfl) rfl
theorem q167 : (Jvm.Cond.soleField "RgaTextModel" "above") ∈ lw_all := lw_g (lw_at lw_m0 151 rfl) rfl
theorem q168 : (Jvm.Cond.laysFinal "RgaTextModel" "RgaTextModel" "knows" "[Z") ∈ lw_all := lw_g (lw_at lw_m0 152 rfl) rfl
theorem q169 : (Jvm.Cond.soleField "RgaTextModel" "knows") ∈ lw_all := lw_g (lw_at lw_m0 153 rfl) rfl
theorem q170 : (Jvm.Cond.laysFinal "RgaTextModel" "RgaTextModel" "knowsDeleted" "[Z") ∈ lw_all := lw_g (lw_at lw_m0 154 rfl) rfl
theorem q171 : (Jvm.Cond.soleField "RgaTextModel" "knowsDeleted") ∈ lw_all := lw_g (lw_at lw_m0 155 rfl) rfl
theorem q172 : (Jvm.Cond.laysFinal "RgaTextModel" "RgaTextModel" "clocks" "[I") ∈ lw_all := lw_g (lw_at lw_m0 156 rfl) rfl
theorem q173 : (Jvm.Cond.soleField "RgaTextModel" "clocks") ∈ lw_all := lw_g (lw_at lw_m0 157 rfl) rfl
theorem q174 : (Jvm.Cond.laysFinal "RgaTextModel" "RgaTextModel" "order" "[I") ∈ lw_all := lw_g (lw_at lw_m0 158 rfl) rfl
theorem q175 : (Jvm.Cond.soleField "RgaTextModel" "order") ∈ lw_all := lw_g (lw_at lw_m0 159 rfl) rfl
theorem q176 : (Jvm.Cond.lays "RgaTextModel" "RgaTextModel" "ordered" "I") ∈ lw_all := lw_g (lw_at lw_m0 160 rfl) rfl
theorem q177 : (Jvm.Cond.soleField "RgaTextModel" "ordered") ∈ lw_all := lw_g (lw_at lw_m0 161 rfl) rfl
theorem q178 : (Jvm.Cond.superclass "RgaTextModel" "java/lang/Object") ∈ lw_all := lw_g (lw_at lw_m0 162 rfl) rfl
theorem q181 : (Jvm.Cond.instanceMethod ({ cls := "RgaTextModel", name := "insert", desc := "(III)I" } : Jvm.MethodName)) ∈ lw_all := lw_g (lw_at lw_m0 165 rfl) rfl
theorem q182 : (Jvm.Cond.selects "RgaTextModel" ({ cls := "RgaTextModel", name := "insert", desc := "(III)I" } : Jvm.MethodName) ({ cls := "RgaTextModel", name := "insert", desc := "(III)I" } : Jvm.MethodName)) ∈ lw_all := lw_g (lw_at lw_m0 166 rfl) rfl
theorem q183 : (Jvm.Cond.code ({ cls := "RgaTextModel", name := "insert", desc := "(III)I" } : Jvm.MethodName) prog_3_method_9_code (6 : Nat) (Option.some Jvm.ClassFile.FieldType.int)) ∈ lw_all := lw_g (lw_at lw_m0 167 rfl) rfl
theorem q184 : (Jvm.Cond.methodLink "RgaTextModel" (59 : Nat) ({ cls := "RgaTextModel", name := "isReplica", desc := "(I)Z" } : Jvm.MethodName)) ∈ lw_all := lw_g (lw_at lw_m0 168 rfl) rfl
theorem q185 : (Jvm.Cond.privateMethod ({ cls := "RgaTextModel", name := "isReplica", desc := "(I)Z" } : Jvm.MethodName)) ∈ lw_tbl := lw_at lw_m0 169 rfl
theorem q186 : (Jvm.Cond.instanceMethod ({ cls := "RgaTextModel", name := "isReplica", desc := "(I)Z" } : Jvm.MethodName)) ∈ lw_all := lw_g (lw_at lw_m0 170 rfl) rfl
theorem q187 : (Jvm.Cond.code ({ cls := "RgaTextModel", name := "isReplica", desc := "(I)Z" } : Jvm.MethodName) prog_3_method_2_code (2 : Nat) (Option.some Jvm.ClassFile.FieldType.boolean)) ∈ lw_all := lw_g (lw_at lw_m0 171 rfl) rfl
theorem q188 : (Jvm.Cond.methodLink "RgaTextModel" (63 : Nat) ({ cls := "RgaTextModel", name := "length", desc := "(I)I" } : Jvm.MethodName)) ∈ lw_all := lw_g (lw_at lw_m0 172 rfl) rfl
theorem q189 : (Jvm.Cond.instanceMethod ({ cls := "RgaTextModel", name := "length", desc := "(I)I" } : Jvm.MethodName)) ∈ lw_all := lw_g (lw_at lw_m0 173 rfl) rfl
theorem q190 : (Jvm.Cond.selects "RgaTextModel" ({ cls := "RgaTextModel", name := "length", desc := "(I)I" } : Jvm.MethodName) ({ cls := "RgaTextModel", name := "length", desc := "(I)I" } : Jvm.MethodName)) ∈ lw_all := lw_g (lw_at lw_m0 174 rfl) rfl
theorem q191 : (Jvm.Cond.code ({ cls := "RgaTextModel", name := "length", desc := "(I)I" } : Jvm.MethodName) prog_3_method_12_code (4 : Nat) (Option.some Jvm.ClassFile.FieldType.int)) ∈ lw_all := lw_g (lw_at lw_m0 175 rfl) rfl
theorem q192 : (Jvm.Cond.methodLink "RgaTextModel" (70 : Nat) ({ cls := "RgaTextModel", name := "isShown", desc := "(II)Z" } : Jvm.MethodName)) ∈ lw_all := lw_g (lw_at lw_m0 176 rfl) rfl
theorem q193 : (Jvm.Cond.privateMethod ({ cls := "RgaTextModel", name := "isShown", desc := "(II)Z" } : Jvm.MethodName)) ∈ lw_tbl := lw_at lw_m0 177 rfl
theorem q194 : (Jvm.Cond.instanceMethod ({ cls := "RgaTextModel", name := "isShown", desc := "(II)Z" } : Jvm.MethodName)) ∈ lw_all := lw_g (lw_at lw_m0 178 rfl) rfl
theorem q195 : (Jvm.Cond.code ({ cls := "RgaTextModel", name := "isShown", desc := "(II)Z" } : Jvm.MethodName) prog_3_method_4_code (3 : Nat) (Option.some Jvm.ClassFile.FieldType.boolean)) ∈ lw_all := lw_g (lw_at lw_m0 179 rfl) rfl
theorem q196 : (Jvm.Cond.methodLink "RgaTextModel" (42 : Nat) ({ cls := "RgaTextModel", name := "isKnown", desc := "(II)Z" } : Jvm.MethodName)) ∈ lw_all := lw_g (lw_at lw_m0 180 rfl) rfl
theorem q197 : (Jvm.Cond.privateMethod ({ cls := "RgaTextModel", name := "isKnown", desc := "(II)Z" } : Jvm.MethodName)) ∈ lw_tbl := lw_at lw_m0 181 rfl
theorem q198 : (Jvm.Cond.instanceMethod ({ cls := "RgaTextModel", name := "isKnown", desc := "(II)Z" } : Jvm.MethodName)) ∈ lw_all := lw_g (lw_at lw_m0 182 rfl) rfl
theorem q199 : (Jvm.Cond.code ({ cls := "RgaTextModel", name := "isKnown", desc := "(II)Z" } : Jvm.MethodName) prog_3_method_3_code (3 : Nat) (Option.some Jvm.ClassFile.FieldType.boolean)) ∈ lw_all := lw_g (lw_at lw_m0 183 rfl) rfl
theorem q200 : (Jvm.Cond.methodLink "RgaTextModel" (67 : Nat) ({ cls := "RgaTextModel", name := "elementAt", desc := "(II)I" } : Jvm.MethodName)) ∈ lw_all := lw_g (lw_at lw_m0 184 rfl) rfl
theorem q201 : (Jvm.Cond.instanceMethod ({ cls := "RgaTextModel", name := "elementAt", desc := "(II)I" } : Jvm.MethodName)) ∈ lw_all := lw_g (lw_at lw_m0 185 rfl) rfl
theorem q202 : (Jvm.Cond.selects "RgaTextModel" ({ cls := "RgaTextModel", name := "elementAt", desc := "(II)I" } : Jvm.MethodName) ({ cls := "RgaTextModel", name := "elementAt", desc := "(II)I" } : Jvm.MethodName)) ∈ lw_all := lw_g (lw_at lw_m0 186 rfl) rfl
theorem q203 : (Jvm.Cond.code ({ cls := "RgaTextModel", name := "elementAt", desc := "(II)I" } : Jvm.MethodName) prog_3_method_14_code (5 : Nat) (Option.some Jvm.ClassFile.FieldType.int)) ∈ lw_all := lw_g (lw_at lw_m0 187 rfl) rfl
theorem q204 : (Jvm.Cond.methodLink "RgaTextModel" (73 : Nat) ({ cls := "RgaTextModel", name := "arrange", desc := "(I)V" } : Jvm.MethodName)) ∈ lw_all := lw_g (lw_at lw_m0 188 rfl) rfl
theorem q205 : (Jvm.Cond.privateMethod ({ cls := "RgaTextModel", name := "arrange", desc := "(I)V" } : Jvm.MethodName)) ∈ lw_tbl := lw_at lw_m0 189 rfl
theorem q206 : (Jvm.Cond.instanceMethod ({ cls := "RgaTextModel", name := "arrange", desc := "(I)V" } : Jvm.MethodName)) ∈ lw_all := lw_g (lw_at lw_m0 190 rfl) rfl
theorem q207 : (Jvm.Cond.code ({ cls := "RgaTextModel", name := "arrange", desc := "(I)V" } : Jvm.MethodName) prog_3_method_8_code (3 : Nat) (Option.none : Option Jvm.ClassFile.FieldType)) ∈ lw_all := lw_g (lw_at lw_m0 191 rfl) rfl
theorem q208 : (Jvm.Cond.methodLink "RgaTextModel" (56 : Nat) ({ cls := "RgaTextModel", name := "rankOf", desc := "(II)I" } : Jvm.MethodName)) ∈ lw_all := lw_g (lw_at lw_m0 192 rfl) rfl
theorem q209 : (Jvm.Cond.privateMethod ({ cls := "RgaTextModel", name := "rankOf", desc := "(II)I" } : Jvm.MethodName)) ∈ lw_tbl := lw_at lw_m0 193 rfl
theorem q210 : (Jvm.Cond.instanceMethod ({ cls := "RgaTextModel", name := "rankOf", desc := "(II)I" } : Jvm.MethodName)) ∈ lw_all := lw_g (lw_at lw_m0 194 rfl) rfl
theorem q211 : (Jvm.Cond.code ({ cls := "RgaTextModel", name := "rankOf", desc := "(II)I" } : Jvm.MethodName) prog_3_method_7_code (5 : Nat) (Option.some Jvm.ClassFile.FieldType.int)) ∈ lw_all := lw_g (lw_at lw_m0 195 rfl) rfl
theorem q212 : (Jvm.Cond.methodLink "RgaTextModel" (50 : Nat) ({ cls := "RgaTextModel", name := "before", desc := "(II)Z" } : Jvm.MethodName)) ∈ lw_all := lw_g (lw_at lw_m0 196 rfl) rfl
theorem q213 : (Jvm.Cond.privateMethod ({ cls := "RgaTextModel", name := "before", desc := "(II)Z" } : Jvm.MethodName)) ∈ lw_tbl := lw_at lw_m0 197 rfl
theorem q214 : (Jvm.Cond.instanceMethod ({ cls := "RgaTextModel", name := "before", desc := "(II)Z" } : Jvm.MethodName)) ∈ lw_all := lw_g (lw_at lw_m0 198 rfl) rfl
theorem q215 : (Jvm.Cond.code ({ cls := "RgaTextModel", name := "before", desc := "(II)Z" } : Jvm.MethodName) prog_3_method_6_code (5 : Nat) (Option.some Jvm.ClassFile.FieldType.boolean)) ∈ lw_all := lw_g (lw_at lw_m0 199 rfl) rfl
theorem q216 : (Jvm.Cond.methodLink "RgaTextModel" (46 : Nat) ({ cls := "RgaTextModel", name := "branch", desc := "(II)I" } : Jvm.MethodName)) ∈ lw_all := lw_g (lw_at lw_m0 200 rfl) rfl
theorem q217 : (Jvm.Cond.privateMethod ({ cls := "RgaTextModel", name := "branch", desc := "(II)I" } : Jvm.MethodName)) ∈ lw_tbl := lw_at lw_m0 201 rfl
theorem q218 : (Jvm.Cond.instanceMethod ({ cls := "RgaTextModel", name := "branch", desc := "(II)I" } : Jvm.MethodName)) ∈ lw_all := lw_g (lw_at lw_m0 202 rfl) rfl
theorem q219 : (Jvm.Cond.code ({ cls := "RgaTextModel", name := "branch", desc := "(II)I" } : Jvm.MethodName) prog_3_method_5_code (4 : Nat) (Option.some Jvm.ClassFile.FieldType.int)) ∈ lw_all := lw_g (lw_at lw_m0 203 rfl) rfl
theorem q221 : (Jvm.Cond.instanceMethod ({ cls := "RgaTextModel", name := "delete", desc := "(II)I" } : Jvm.MethodName)) ∈ lw_all := lw_g (lw_at lw_m0 205 rfl) rfl
theorem q222 : (Jvm.Cond.selects "RgaTextModel" ({ cls := "RgaTextModel", name := "delete", desc := "(II)I" } : Jvm.MethodName) ({ cls := "RgaTextModel", name := "delete", desc := "(II)I" } : Jvm.MethodName)) ∈ lw_all := lw_g (lw_at lw_m0 206 rfl) rfl
theorem q223 : (Jvm.Cond.code ({ cls := "RgaTextModel", name := "delete", desc := "(II)I" } : Jvm.MethodName) prog_3_method_10_code (4 : Nat) (Option.some Jvm.ClassFile.FieldType.int)) ∈ lw_all := lw_g (lw_at lw_m0 207 rfl) rfl
theorem q225 : (Jvm.Cond.instanceMethod ({ cls := "RgaTextModel", name := "learn", desc := "(II)I" } : Jvm.MethodName)) ∈ lw_all := lw_g (lw_at lw_m0 209 rfl) rfl
theorem q226 : (Jvm.Cond.selects "RgaTextModel" ({ cls := "RgaTextModel", name := "learn", desc := "(II)I" } : Jvm.MethodName) ({ cls := "RgaTextModel", name := "learn", desc := "(II)I" } : Jvm.MethodName)) ∈ lw_all := lw_g (lw_at lw_m0 210 rfl) rfl
theorem q227 : (Jvm.Cond.code ({ cls := "RgaTextModel", name := "learn", desc := "(II)I" } : Jvm.MethodName) prog_3_method_11_code (5 : Nat) (Option.some Jvm.ClassFile.FieldType.int)) ∈ lw_all := lw_g (lw_at lw_m0 211 rfl) rfl
theorem q230 : (Jvm.Cond.instanceMethod ({ cls := "RgaTextModel", name := "charAt", desc := "(II)I" } : Jvm.MethodName)) ∈ lw_all := lw_g (lw_at lw_m0 214 rfl) rfl
theorem q231 : (Jvm.Cond.selects "RgaTextModel" ({ cls := "RgaTextModel", name := "charAt", desc := "(II)I" } : Jvm.MethodName) ({ cls := "RgaTextModel", name := "charAt", desc := "(II)I" } : Jvm.MethodName)) ∈ lw_all := lw_g (lw_at lw_m0 215 rfl) rfl
theorem q232 : (Jvm.Cond.code ({ cls := "RgaTextModel", name := "charAt", desc := "(II)I" } : Jvm.MethodName) prog_3_method_13_code (4 : Nat) (Option.some Jvm.ClassFile.FieldType.int)) ∈ lw_all := lw_g (lw_at lw_m0 216 rfl) rfl
theorem q235 : (Jvm.Cond.instanceMethod ({ cls := "RgaTextModel", name := "placeOf", desc := "(II)I" } : Jvm.MethodName)) ∈ lw_all := lw_g (lw_at lw_m0 219 rfl) rfl
theorem q236 : (Jvm.Cond.selects "RgaTextModel" ({ cls := "RgaTextModel", name := "placeOf", desc := "(II)I" } : Jvm.MethodName) ({ cls := "RgaTextModel", name := "placeOf", desc := "(II)I" } : Jvm.MethodName)) ∈ lw_all := lw_g (lw_at lw_m0 220 rfl) rfl
theorem q237 : (Jvm.Cond.code ({ cls := "RgaTextModel", name := "placeOf", desc := "(II)I" } : Jvm.MethodName) prog_3_method_15_code (5 : Nat) (Option.some Jvm.ClassFile.FieldType.int)) ∈ lw_all := lw_g (lw_at lw_m0 221 rfl) rfl
theorem q239 : (Jvm.Cond.instanceMethod ({ cls := "RgaTextModel", name := "known", desc := "(I)I" } : Jvm.MethodName)) ∈ lw_all := lw_g (lw_at lw_m0 223 rfl) rfl
theorem q240 : (Jvm.Cond.selects "RgaTextModel" ({ cls := "RgaTextModel", name := "known", desc := "(I)I" } : Jvm.MethodName) ({ cls := "RgaTextModel", name := "known", desc := "(I)I" } : Jvm.MethodName)) ∈ lw_all := lw_g (lw_at lw_m0 224 rfl) rfl
theorem q241 : (Jvm.Cond.code ({ cls := "RgaTextModel", name := "known", desc := "(I)I" } : Jvm.MethodName) prog_3_method_16_code (4 : Nat) (Option.some Jvm.ClassFile.FieldType.int)) ∈ lw_all := lw_g (lw_at lw_m0 225 rfl) rfl
theorem q243 : (Jvm.Cond.instanceMethod ({ cls := "RgaTextModel", name := "rank", desc := "(II)I" } : Jvm.MethodName)) ∈ lw_all := lw_g (lw_at lw_m0 227 rfl) rfl
theorem q244 : (Jvm.Cond.selects "RgaTextModel" ({ cls := "RgaTextModel", name := "rank", desc := "(II)I" } : Jvm.MethodName) ({ cls := "RgaTextModel", name := "rank", desc := "(II)I" } : Jvm.MethodName)) ∈ lw_all := lw_g (lw_at lw_m0 228 rfl) rfl
theorem q245 : (Jvm.Cond.code ({ cls := "RgaTextModel", name := "rank", desc := "(II)I" } : Jvm.MethodName) prog_3_method_17_code (3 : Nat) (Option.some Jvm.ClassFile.FieldType.int)) ∈ lw_all := lw_g (lw_at lw_m0 229 rfl) rfl
theorem q247 : (Jvm.Cond.instanceMethod ({ cls := "RgaTextModel", name := "sameText", desc := "(II)Z" } : Jvm.MethodName)) ∈ lw_all := lw_g (lw_at lw_m0 231 rfl) rfl
theorem q248 : (Jvm.Cond.selects "RgaTextModel" ({ cls := "RgaTextModel", name := "sameText", desc := "(II)Z" } : Jvm.MethodName) ({ cls := "RgaTextModel", name := "sameText", desc := "(II)Z" } : Jvm.MethodName)) ∈ lw_all := lw_g (lw_at lw_m0 232 rfl) rfl
theorem q249 : (Jvm.Cond.code ({ cls := "RgaTextModel", name := "sameText", desc := "(II)Z" } : Jvm.MethodName) prog_3_method_18_code (4 : Nat) (Option.some Jvm.ClassFile.FieldType.boolean)) ∈ lw_all := lw_g (lw_at lw_m0 233 rfl) rfl
theorem q250 : (Jvm.Cond.methodLink "RgaTextModel" (77 : Nat) ({ cls := "RgaTextModel", name := "charAt", desc := "(II)I" } : Jvm.MethodName)) ∈ lw_all := lw_g (lw_at lw_m0 234 rfl) rfl
theorem in_X1 : ∀ w ∈ wsX10, w ∈ lw_all := lw_in wsX10 [156, 158, 160, 162, 164, 166, 168, 170, 172, 174, 176] (by decide +kernel) (by decide +kernel)
end
section
set_option maxRecDepth 100000
/-! the law's own entry -/
abbrev cL_law : ByteArray := code
theorem dL_law_0 : decode cL_law 0 = .ok (.new 7, 3) := by decide +kernel
theorem dL_law_3 : decode cL_law 3 = .ok (.dup, 1) := by decide +kernel
theorem dL_law_4 : decode cL_law 4 = .ok (.invokespecial 9, 3) := by decide +kernel
theorem dL_law_7 : decode cL_law 7 = .ok (.astore_n 1, 1) := by decide +kernel
theorem dL_law_8 : decode cL_law 8 = .ok (.new 10, 3) := by decide +kernel
theorem dL_law_11 : decode cL_law 11 = .ok (.dup, 1) := by decide +kernel
theorem dL_law_12 : decode cL_law 12 = .ok (.invokespecial 12, 3) := by decide +kernel
theorem dL_law_15 : decode cL_law 15 = .ok (.astore_n 2, 1) := by decide +kernel
theorem dL_law_16 : decode cL_law 16 = .ok (.iconst 0, 1) := by decide +kernel
theorem dL_law_17 : decode cL_law 17 = .ok (.istore_n 3, 1) := by decide +kernel
theorem dL_law_18 : decode cL_law 18 = .ok (.iload_n 3, 1) := by decide +kernel
theorem dL_law_19 : decode cL_law 19 = .ok (.aload_n 0, 1) := by decide +kernel
theorem dL_law_20 : decode cL_law 20 = .ok (.arraylength, 1) := by decide +kernel
theorem dL_law_21 : decode cL_law 21 = .ok (.iconst 4, 1) := by decide +kernel
theorem dL_law_22 : decode cL_law 22 = .ok (.isub, 1) := by decide +kernel
theorem dL_law_23 : decode cL_law 23 = .ok (.if_icmp .gt 391, 3) := by decide +kernel
theorem dL_law_26 : decode cL_law 26 = .ok (.aload_n 0, 1) := by decide +kernel
theorem dL_law_27 : decode cL_law 27 = .ok (.iload_n 3, 1) := by decide +kernel
theorem dL_law_28 : decode cL_law 28 = .ok (.iaload, 1) := by decide +kernel
theorem dL_law_29 : decode cL_law 29 = .ok (.bipush 15, 2) := by decide +kernel
theorem dL_law_31 : decode cL_law 31 = .ok (.iand, 1) := by decide +kernel
theorem dL_law_32 : decode cL_law 32 = .ok (.tableswitch 376 0 9 #[56, 99, 132, 165, 188, 221, 254, 287, 310, 343], 56) := by decide +kernel
theorem dL_law_88 : decode cL_law 88 = .ok (.aload_n 1, 1) := by decide +kernel
theorem dL_law_89 : decode cL_law 89 = .ok (.aload_n 0, 1) := by decide +kernel
theorem dL_law_90 : decode cL_law 90 = .ok (.iload_n 3, 1) := by decide +kernel
theorem dL_law_91 : decode cL_law 91 = .ok (.iconst 1, 1) := by decide +kernel
theorem dL_law_92 : decode cL_law 92 = .ok (.iadd, 1) := by decide +kernel
theorem dL_law_93 : decode cL_law 93 = .ok (.iaload, 1) := by decide +kernel
theorem dL_law_94 : decode cL_law 94 = .ok (.aload_n 0, 1) := by decide +kernel
theorem dL_law_95 : decode cL_law 95 = .ok (.iload_n 3, 1) := by decide +kernel
theorem dL_law_96 : decode cL_law 96 = .ok (.iconst 2, 1) := by decide +kernel
theorem dL_law_97 : decode cL_law 97 = .ok (.iadd, 1) := by decide +kernel
theorem dL_law_98 : decode cL_law 98 = .ok (.iaload, 1) := by decide +kernel
theorem dL_law_99 : decode cL_law 99 = .ok (.aload_n 0, 1) := by decide +kernel
theorem dL_law_100 : decode cL_law 100 = .ok (.iload_n 3, 1) := by decide +kernel
theorem dL_law_101 : decode cL_law 101 = .ok (.iconst 3, 1) := by decide +kernel
theorem dL_law_102 : decode cL_law 102 = .ok (.iadd, 1) := by decide +kernel
theorem dL_law_103 : decode cL_law 103 = .ok (.iaload, 1) := by decide +kernel
theorem dL_law_104 : decode cL_law 104 = .ok (.invokevirtual 13, 3) := by decide +kernel
theorem dL_law_107 : decode cL_law 107 = .ok (.aload_n 2, 1) := by decide +kernel
theorem dL_law_108 : decode cL_law 108 = .ok (.aload_n 0, 1) := by decide +kernel
theorem dL_law_109 : decode cL_law 109 = .ok (.iload_n 3, 1) := by decide +kernel
theorem dL_law_110 : decode cL_law 110 = .ok (.iconst 1, 1) := by decide +kernel
theorem dL_law_111 : decode cL_law 111 = .ok (.iadd, 1) := by decide +kernel
theorem dL_law_112 : decode cL_law 112 = .ok (.iaload, 1) := by decide +kernel
theorem dL_law_113 : decode cL_law 113 = .ok (.aload_n 0, 1) := by decide +kernel
theorem dL_law_114 : decode cL_law 114 = .ok (.iload_n 3, 1) := by decide +kernel
theorem dL_law_115 : decode cL_law 115 = .ok (.iconst 2, 1) := by decide +kernel
theorem dL_law_116 : decode cL_law 116 = .ok (.iadd, 1) := by decide +kernel
theorem dL_law_117 : decode cL_law 117 = .ok (.iaload, 1) := by decide +kernel
theorem dL_law_118 : decode cL_law 118 = .ok (.aload_n 0, 1) := by decide +kernel
theorem dL_law_119 : decode cL_law 119 = .ok (.iload_n 3, 1) := by decide +kernel
theorem dL_law_120 : decode cL_law 120 = .ok (.iconst 3, 1) := by decide +kernel
theorem dL_law_121 : decode cL_law 121 = .ok (.iadd, 1) := by decide +kernel
theorem dL_law_122 : decode cL_law 122 = .ok (.iaload, 1) := by decide +kernel
theorem dL_law_123 : decode cL_law 123 = .ok (.invokevirtual 17, 3) := by decide +kernel
theorem dL_law_126 : decode cL_law 126 = .ok (.if_icmp .eq 282, 3) := by decide +kernel
theorem dL_law_129 : decode cL_law 129 = .ok (.iconst 0, 1) := by decide +kernel
theorem dL_law_130 : decode cL_law 130 = .ok (.ireturn, 1) := by decide +kernel
theorem dL_law_131 : decode cL_law 131 = .ok (.aload_n 1, 1) := by decide +kernel
theorem dL_law_132 : decode cL_law 132 = .ok (.aload_n 0, 1) := by decide +kernel
theorem dL_law_133 : decode cL_law 133 = .ok (.iload_n 3, 1) := by decide +kernel
theorem dL_law_134 : decode cL_law 134 = .ok (.iconst 1, 1) := by decide +kernel
theorem dL_law_135 : decode cL_law 135 = .ok (.iadd, 1) := by decide +kernel
theorem dL_law_136 : decode cL_law 136 = .ok (.iaload, 1) := by decide +kernel
theorem dL_law_137 : decode cL_law 137 = .ok (.aload_n 0, 1) := by decide +kernel
theorem dL_law_138 : decode cL_law 138 = .ok (.iload_n 3, 1) := by decide +kernel
theorem dL_law_139 : decode cL_law 139 = .ok (.iconst 2, 1) := by decide +kernel
theorem dL_law_140 : decode cL_law 140 = .ok (.iadd, 1) := by decide +kernel
theorem dL_law_141 : decode cL_law 141 = .ok (.iaload, 1) := by decide +kernel
theorem dL_law_142 : decode cL_law 142 = .ok (.invokevirtual 18, 3) := by decide +kernel
theorem dL_law_145 : decode cL_law 145 = .ok (.aload_n 2, 1) := by decide +kernel
theorem dL_law_146 : decode cL_law 146 = .ok (.aload_n 0, 1) := by decide +kernel
theorem dL_law_147 : decode cL_law 147 = .ok (.iload_n 3, 1) := by decide +kernel
theorem dL_law_148 : decode cL_law 148 = .ok (.iconst 1, 1) := by decide +kernel
theorem dL_law_149 : decode cL_law 149 = .ok (.iadd, 1) := by decide +kernel
theorem dL_law_150 : decode cL_law 150 = .ok (.iaload, 1) := by decide +kernel
theorem dL_law_151 : decode cL_law 151 = .ok (.aload_n 0, 1) := by decide +kernel
theorem dL_law_152 : decode cL_law 152 = .ok (.iload_n 3, 1) := by decide +kernel
theorem dL_law_153 : decode cL_law 153 = .ok (.iconst 2, 1) := by decide +kernel
theorem dL_law_154 : decode cL_law 154 = .ok (.iadd, 1) := by decide +kernel
theorem dL_law_155 : decode cL_law 155 = .ok (.iaload, 1) := by decide +kernel
theorem dL_law_156 : decode cL_law 156 = .ok (.invokevirtual 22, 3) := by decide +kernel
theorem dL_law_159 : decode cL_law 159 = .ok (.if_icmp .eq 249, 3) := by decide +kernel
theorem dL_law_162 : decode cL_law 162 = .ok (.iconst 0, 1) := by decide +kernel
theorem dL_law_163 : decode cL_law 163 = .ok (.ireturn, 1) := by decide +kernel
theorem dL_law_164 : decode cL_law 164 = .ok (.aload_n 1, 1) := by decide +kernel
theorem dL_law_165 : decode cL_law 165 = .ok (.aload_n 0, 1) := by decide +kernel
theorem dL_law_166 : decode cL_law 166 = .ok (.iload_n 3, 1) := by decide +kernel
theorem dL_law_167 : decode cL_law 167 = .ok (.iconst 1, 1) := by decide +kernel
theorem dL_law_168 : decode cL_law 168 = .ok (.iadd, 1) := by decide +kernel
theorem dL_law_169 : decode cL_law 169 = .ok (.iaload, 1) := by decide +kernel
theorem dL_law_170 : decode cL_law 170 = .ok (.aload_n 0, 1) := by decide +kernel
theorem dL_law_171 : decode cL_law 171 = .ok (.iload_n 3, 1) := by decide +kernel
theorem dL_law_172 : decode cL_law 172 = .ok (.iconst 2, 1) := by decide +kernel
theorem dL_law_173 : decode cL_law 173 = .ok (.iadd, 1) := by decide +kernel
theorem dL_law_174 : decode cL_law 174 = .ok (.iaload, 1) := by decide +kernel
theorem dL_law_175 : decode cL_law 175 = .ok (.invokevirtual 23, 3) := by decide +kernel
theorem dL_law_178 : decode cL_law 178 = .ok (.aload_n 2, 1) := by decide +kernel
theorem dL_law_179 : decode cL_law 179 = .ok (.aload_n 0, 1) := by decide +kernel
theorem dL_law_180 : decode cL_law 180 = .ok (.iload_n 3, 1) := by decide +kernel
theorem dL_law_181 : decode cL_law 181 = .ok (.iconst 1, 1) := by decide +kernel
theorem dL_law_182 : decode cL_law 182 = .ok (.iadd, 1) := by decide +kernel
theorem dL_law_183 : decode cL_law 183 = .ok (.iaload, 1) := by decide +kernel
theorem dL_law_184 : decode cL_law 184 = .ok (.aload_n 0, 1) := by decide +kernel
theorem dL_law_185 : decode cL_law 185 = .ok (.iload_n 3, 1) := by decide +kernel
theorem dL_law_186 : decode cL_law 186 = .ok (.iconst 2, 1) := by decide +kernel
theorem dL_law_187 : decode cL_law 187 = .ok (.iadd, 1) := by decide +kernel
theorem dL_law_188 : decode cL_law 188 = .ok (.iaload, 1) := by decide +kernel
theorem dL_law_189 : decode cL_law 189 = .ok (.invokevirtual 26, 3) := by decide +kernel
theorem dL_law_192 : decode cL_law 192 = .ok (.if_icmp .eq 216, 3) := by decide +kernel
theorem dL_law_195 : decode cL_law 195 = .ok (.iconst 0, 1) := by decide +kernel
theorem dL_law_196 : decode cL_law 196 = .ok (.ireturn, 1) := by decide +kernel
theorem dL_law_197 : decode cL_law 197 = .ok (.aload_n 1, 1) := by decide +kernel
theorem dL_law_198 : decode cL_law 198 = .ok (.aload_n 0, 1) := by decide +kernel
theorem dL_law_199 : decode cL_law 199 = .ok (.iload_n 3, 1) := by decide +kernel
theorem dL_law_200 : decode cL_law 200 = .ok (.iconst 1, 1) := by decide +kernel
theorem dL_law_201 : decode cL_law 201 = .ok (.iadd, 1) := by decide +kernel
theorem dL_law_202 : decode cL_law 202 = .ok (.iaload, 1) := by decide +kernel
theorem dL_law_203 : decode cL_law 203 = .ok (.invokevirtual 27, 3) := by decide +kernel
theorem dL_law_206 : decode cL_law 206 = .ok (.aload_n 2, 1) := by decide +kernel
theorem dL_law_207 : decode cL_law 207 = .ok (.aload_n 0, 1) := by decide +kernel
theorem dL_law_208 : decode cL_law 208 = .ok (.iload_n 3, 1) := by decide +kernel
theorem dL_law_209 : decode cL_law 209 = .ok (.iconst 1, 1) := by decide +kernel
theorem dL_law_210 : decode cL_law 210 = .ok (.iadd, 1) := by decide +kernel
theorem dL_law_211 : decode cL_law 211 = .ok (.iaload, 1) := by decide +kernel
theorem dL_law_212 : decode cL_law 212 = .ok (.invokevirtual 31, 3) := by decide +kernel
theorem dL_law_215 : decode cL_law 215 = .ok (.if_icmp .eq 193, 3) := by decide +kernel
theorem dL_law_218 : decode cL_law 218 = .ok (.iconst 0, 1) := by decide +kernel
theorem dL_law_219 : decode cL_law 219 = .ok (.ireturn, 1) := by decide +kernel
theorem dL_law_220 : decode cL_law 220 = .ok (.aload_n 1, 1) := by decide +kernel
theorem dL_law_221 : decode cL_law 221 = .ok (.aload_n 0, 1) := by decide +kernel
theorem dL_law_222 : decode cL_law 222 = .ok (.iload_n 3, 1) := by decide +kernel
theorem dL_law_223 : decode cL_law 223 = .ok (.iconst 1, 1) := by decide +kernel
theorem dL_law_224 : decode cL_law 224 = .ok (.iadd, 1) := by decide +kernel
theorem dL_law_225 : decode cL_law 225 = .ok (.iaload, 1) := by decide +kernel
theorem dL_law_226 : decode cL_law 226 = .ok (.aload_n 0, 1) := by decide +kernel
theorem dL_law_227 : decode cL_law 227 = .ok (.iload_n 3, 1) := by decide +kernel
theorem dL_law_228 : decode cL_law 228 = .ok (.iconst 2, 1) := by decide +kernel
theorem dL_law_229 : decode cL_law 229 = .ok (.iadd, 1) := by decide +kernel
theorem dL_law_230 : decode cL_law 230 = .ok (.iaload, 1) := by decide +kernel
theorem dL_law_231 : decode cL_law 231 = .ok (.invokevirtual 32, 3) := by decide +kernel
theorem dL_law_234 : decode cL_law 234 = .ok (.aload_n 2, 1) := by decide +kernel
theorem dL_law_235 : decode cL_law 235 = .ok (.aload_n 0, 1) := by decide +kernel
theorem dL_law_236 : decode cL_law 236 = .ok (.iload_n 3, 1) := by decide +kernel
theorem dL_law_237 : decode cL_law 237 = .ok (.iconst 1, 1) := by decide +kernel
theorem dL_law_238 : decode cL_law 238 = .ok (.iadd, 1) := by decide +kernel
theorem dL_law_239 : decode cL_law 239 = .ok (.iaload, 1) := by decide +kernel
theorem dL_law_240 : decode cL_law 240 = .ok (.aload_n 0, 1) := by decide +kernel
theorem dL_law_241 : decode cL_law 241 = .ok (.iload_n 3, 1) := by decide +kernel
theorem dL_law_242 : decode cL_law 242 = .ok (.iconst 2, 1) := by decide +kernel
theorem dL_law_243 : decode cL_law 243 = .ok (.iadd, 1) := by decide +kernel
theorem dL_law_244 : decode cL_law 244 = .ok (.iaload, 1) := by decide +kernel
theorem dL_law_245 : decode cL_law 245 = .ok (.invokevirtual 35, 3) := by decide +kernel
theorem dL_law_248 : decode cL_law 248 = .ok (.if_icmp .eq 160, 3) := by decide +kernel
theorem dL_law_251 : decode cL_law 251 = .ok (.iconst 0, 1) := by decide +kernel
theorem dL_law_252 : decode cL_law 252 = .ok (.ireturn, 1) := by decide +kernel
theorem dL_law_253 : decode cL_law 253 = .ok (.aload_n 1, 1) := by decide +kernel
theorem dL_law_254 : decode cL_law 254 = .ok (.aload_n 0, 1) := by decide +kernel
theorem dL_law_255 : decode cL_law 255 = .ok (.iload_n 3, 1) := by decide +kernel
theorem dL_law_256 : decode cL_law 256 = .ok (.iconst 1, 1) := by decide +kernel
theorem dL_law_257 : decode cL_law 257 = .ok (.iadd, 1) := by decide +kernel
theorem dL_law_258 : decode cL_law 258 = .ok (.iaload, 1) := by decide +kernel
theorem dL_law_259 : decode cL_law 259 = .ok (.aload_n 0, 1) := by decide +kernel
theorem dL_law_260 : decode cL_law 260 = .ok (.iload_n 3, 1) := by decide +kernel
theorem dL_law_261 : decode cL_law 261 = .ok (.iconst 2, 1) := by decide +kernel
theorem dL_law_262 : decode cL_law 262 = .ok (.iadd, 1) := by decide +kernel
theorem dL_law_263 : decode cL_law 263 = .ok (.iaload, 1) := by decide +kernel
theorem dL_law_264 : decode cL_law 264 = .ok (.invokevirtual 36, 3) := by decide +kernel
theorem dL_law_267 : decode cL_law 267 = .ok (.aload_n 2, 1) := by decide +kernel
theorem dL_law_268 : decode cL_law 268 = .ok (.aload_n 0, 1) := by decide +kernel
theorem dL_law_269 : decode cL_law 269 = .ok (.iload_n 3, 1) := by decide +kernel
theorem dL_law_270 : decode cL_law 270 = .ok (.iconst 1, 1) := by decide +kernel
theorem dL_law_271 : decode cL_law 271 = .ok (.iadd, 1) := by decide +kernel
theorem dL_law_272 : decode cL_law 272 = .ok (.iaload, 1) := by decide +kernel
theorem dL_law_273 : decode cL_law 273 = .ok (.aload_n 0, 1) := by decide +kernel
theorem dL_law_274 : decode cL_law 274 = .ok (.iload_n 3, 1) := by decide +kernel
theorem dL_law_275 : decode cL_law 275 = .ok (.iconst 2, 1) := by decide +kernel
theorem dL_law_276 : decode cL_law 276 = .ok (.iadd, 1) := by decide +kernel
theorem dL_law_277 : decode cL_law 277 = .ok (.iaload, 1) := by decide +kernel
theorem dL_law_278 : decode cL_law 278 = .ok (.invokevirtual 39, 3) := by decide +kernel
theorem dL_law_281 : decode cL_law 281 = .ok (.if_icmp .eq 127, 3) := by decide +kernel
theorem dL_law_284 : decode cL_law 284 = .ok (.iconst 0, 1) := by decide +kernel
theorem dL_law_285 : decode cL_law 285 = .ok (.ireturn, 1) := by decide +kernel
theorem dL_law_286 : decode cL_law 286 = .ok (.aload_n 1, 1) := by decide +kernel
theorem dL_law_287 : decode cL_law 287 = .ok (.aload_n 0, 1) := by decide +kernel
theorem dL_law_288 : decode cL_law 288 = .ok (.iload_n 3, 1) := by decide +kernel
theorem dL_law_289 : decode cL_law 289 = .ok (.iconst 1, 1) := by decide +kernel
theorem dL_law_290 : decode cL_law 290 = .ok (.iadd, 1) := by decide +kernel
theorem dL_law_291 : decode cL_law 291 = .ok (.iaload, 1) := by decide +kernel
theorem dL_law_292 : decode cL_law 292 = .ok (.aload_n 0, 1) := by decide +kernel
theorem dL_law_293 : decode cL_law 293 = .ok (.iload_n 3, 1) := by decide +kernel
theorem dL_law_294 : decode cL_law 294 = .ok (.iconst 2, 1) := by decide +kernel
theorem dL_law_295 : decode cL_law 295 = .ok (.iadd, 1) := by decide +kernel
theorem dL_law_296 : decode cL_law 296 = .ok (.iaload, 1) := by decide +kernel
theorem dL_law_297 : decode cL_law 297 = .ok (.invokevirtual 40, 3) := by decide +kernel
theorem dL_law_300 : decode cL_law 300 = .ok (.aload_n 2, 1) := by decide +kernel
theorem dL_law_301 : decode cL_law 301 = .ok (.aload_n 0, 1) := by decide +kernel
theorem dL_law_302 : decode cL_law 302 = .ok (.iload_n 3, 1) := by decide +kernel
theorem dL_law_303 : decode cL_law 303 = .ok (.iconst 1, 1) := by decide +kernel
theorem dL_law_304 : decode cL_law 304 = .ok (.iadd, 1) := by decide +kernel
theorem dL_law_305 : decode cL_law 305 = .ok (.iaload, 1) := by decide +kernel
theorem dL_law_306 : decode cL_law 306 = .ok (.aload_n 0, 1) := by decide +kernel
theorem dL_law_307 : decode cL_law 307 = .ok (.iload_n 3, 1) := by decide +kernel
theorem dL_law_308 : decode cL_law 308 = .ok (.iconst 2, 1) := by decide +kernel
theorem dL_law_309 : decode cL_law 309 = .ok (.iadd, 1) := by decide +kernel
theorem dL_law_310 : decode cL_law 310 = .ok (.iaload, 1) := by decide +kernel
theorem dL_law_311 : decode cL_law 311 = .ok (.invokevirtual 43, 3) := by decide +kernel
theorem dL_law_314 : decode cL_law 314 = .ok (.if_icmp .eq 94, 3) := by decide +kernel
theorem dL_law_317 : decode cL_law 317 = .ok (.iconst 0, 1) := by decide +kernel
theorem dL_law_318 : decode cL_law 318 = .ok (.ireturn, 1) := by decide +kernel
theorem dL_law_319 : decode cL_law 319 = .ok (.aload_n 1, 1) := by decide +kernel
theorem dL_law_320 : decode cL_law 320 = .ok (.aload_n 0, 1) := by decide +kernel
theorem dL_law_321 : decode cL_law 321 = .ok (.iload_n 3, 1) := by decide +kernel
theorem dL_law_322 : decode cL_law 322 = .ok (.iconst 1, 1) := by decide +kernel
theorem dL_law_323 : decode cL_law 323 = .ok (.iadd, 1) := by decide +kernel
theorem dL_law_324 : decode cL_law 324 = .ok (.iaload, 1) := by decide +kernel
theorem dL_law_325 : decode cL_law 325 = .ok (.invokevirtual 44, 3) := by decide +kernel
theorem dL_law_328 : decode cL_law 328 = .ok (.aload_n 2, 1) := by decide +kernel
theorem dL_law_329 : decode cL_law 329 = .ok (.aload_n 0, 1) := by decide +kernel
theorem dL_law_330 : decode cL_law 330 = .ok (.iload_n 3, 1) := by decide +kernel
theorem dL_law_331 : decode cL_law 331 = .ok (.iconst 1, 1) := by decide +kernel
theorem dL_law_332 : decode cL_law 332 = .ok (.iadd, 1) := by decide +kernel
theorem dL_law_333 : decode cL_law 333 = .ok (.iaload, 1) := by decide +kernel
theorem dL_law_334 : decode cL_law 334 = .ok (.invokevirtual 47, 3) := by decide +kernel
theorem dL_law_337 : decode cL_law 337 = .ok (.if_icmp .eq 71, 3) := by decide +kernel
theorem dL_law_340 : decode cL_law 340 = .ok (.iconst 0, 1) := by decide +kernel
theorem dL_law_341 : decode cL_law 341 = .ok (.ireturn, 1) := by decide +kernel
theorem dL_law_342 : decode cL_law 342 = .ok (.aload_n 1, 1) := by decide +kernel
theorem dL_law_343 : decode cL_law 343 = .ok (.aload_n 0, 1) := by decide +kernel
theorem dL_law_344 : decode cL_law 344 = .ok (.iload_n 3, 1) := by decide +kernel
theorem dL_law_345 : decode cL_law 345 = .ok (.iconst 1, 1) := by decide +kernel
theorem dL_law_346 : decode cL_law 346 = .ok (.iadd, 1) := by decide +kernel
theorem dL_law_347 : decode cL_law 347 = .ok (.iaload, 1) := by decide +kernel
theorem dL_law_348 : decode cL_law 348 = .ok (.aload_n 0, 1) := by decide +kernel
theorem dL_law_349 : decode cL_law 349 = .ok (.iload_n 3, 1) := by decide +kernel
theorem dL_law_350 : decode cL_law 350 = .ok (.iconst 2, 1) := by decide +kernel
theorem dL_law_351 : decode cL_law 351 = .ok (.iadd, 1) := by decide +kernel
theorem dL_law_352 : decode cL_law 352 = .ok (.iaload, 1) := by decide +kernel
theorem dL_law_353 : decode cL_law 353 = .ok (.invokevirtual 48, 3) := by decide +kernel
theorem dL_law_356 : decode cL_law 356 = .ok (.aload_n 2, 1) := by decide +kernel
theorem dL_law_357 : decode cL_law 357 = .ok (.aload_n 0, 1) := by decide +kernel
theorem dL_law_358 : decode cL_law 358 = .ok (.iload_n 3, 1) := by decide +kernel
theorem dL_law_359 : decode cL_law 359 = .ok (.iconst 1, 1) := by decide +kernel
theorem dL_law_360 : decode cL_law 360 = .ok (.iadd, 1) := by decide +kernel
theorem dL_law_361 : decode cL_law 361 = .ok (.iaload, 1) := by decide +kernel
theorem dL_law_362 : decode cL_law 362 = .ok (.aload_n 0, 1) := by decide +kernel
theorem dL_law_363 : decode cL_law 363 = .ok (.iload_n 3, 1) := by decide +kernel
theorem dL_law_364 : decode cL_law 364 = .ok (.iconst 2, 1) := by decide +kernel
theorem dL_law_365 : decode cL_law 365 = .ok (.iadd, 1) := by decide +kernel
theorem dL_law_366 : decode cL_law 366 = .ok (.iaload, 1) := by decide +kernel
theorem dL_law_367 : decode cL_law 367 = .ok (.invokevirtual 51, 3) := by decide +kernel
theorem dL_law_370 : decode cL_law 370 = .ok (.if_icmp .eq 38, 3) := by decide +kernel
theorem dL_law_373 : decode cL_law 373 = .ok (.iconst 0, 1) := by decide +kernel
theorem dL_law_374 : decode cL_law 374 = .ok (.ireturn, 1) := by decide +kernel
theorem dL_law_375 : decode cL_law 375 = .ok (.aload_n 1, 1) := by decide +kernel
theorem dL_law_376 : decode cL_law 376 = .ok (.aload_n 0, 1) := by decide +kernel
theorem dL_law_377 : decode cL_law 377 = .ok (.iload_n 3, 1) := by decide +kernel
theorem dL_law_378 : decode cL_law 378 = .ok (.iconst 1, 1) := by decide +kernel
theorem dL_law_379 : decode cL_law 379 = .ok (.iadd, 1) := by decide +kernel
theorem dL_law_380 : decode cL_law 380 = .ok (.iaload, 1) := by decide +kernel
theorem dL_law_381 : decode cL_law 381 = .ok (.aload_n 0, 1) := by decide +kernel
theorem dL_law_382 : decode cL_law 382 = .ok (.iload_n 3, 1) := by decide +kernel
theorem dL_law_383 : decode cL_law 383 = .ok (.iconst 2, 1) := by decide +kernel
theorem dL_law_384 : decode cL_law 384 = .ok (.iadd, 1) := by decide +kernel
theorem dL_law_385 : decode cL_law 385 = .ok (.iaload, 1) := by decide +kernel
theorem dL_law_386 : decode cL_law 386 = .ok (.invokevirtual 52, 3) := by decide +kernel
theorem dL_law_389 : decode cL_law 389 = .ok (.aload_n 2, 1) := by decide +kernel
theorem dL_law_390 : decode cL_law 390 = .ok (.aload_n 0, 1) := by decide +kernel
theorem dL_law_391 : decode cL_law 391 = .ok (.iload_n 3, 1) := by decide +kernel
theorem dL_law_392 : decode cL_law 392 = .ok (.iconst 1, 1) := by decide +kernel
theorem dL_law_393 : decode cL_law 393 = .ok (.iadd, 1) := by decide +kernel
theorem dL_law_394 : decode cL_law 394 = .ok (.iaload, 1) := by decide +kernel
theorem dL_law_395 : decode cL_law 395 = .ok (.aload_n 0, 1) := by decide +kernel
theorem dL_law_396 : decode cL_law 396 = .ok (.iload_n 3, 1) := by decide +kernel
theorem dL_law_397 : decode cL_law 397 = .ok (.iconst 2, 1) := by decide +kernel
theorem dL_law_398 : decode cL_law 398 = .ok (.iadd, 1) := by decide +kernel
theorem dL_law_399 : decode cL_law 399 = .ok (.iaload, 1) := by decide +kernel
theorem dL_law_400 : decode cL_law 400 = .ok (.invokevirtual 56, 3) := by decide +kernel
theorem dL_law_403 : decode cL_law 403 = .ok (.if_icmp .eq 5, 3) := by decide +kernel
theorem dL_law_406 : decode cL_law 406 = .ok (.iconst 0, 1) := by decide +kernel
theorem dL_law_407 : decode cL_law 407 = .ok (.ireturn, 1) := by decide +kernel
theorem dL_law_408 : decode cL_law 408 = .ok (.iinc 3 4, 3) := by decide +kernel
theorem dL_law_411 : decode cL_law 411 = .ok (.goto (-393), 3) := by decide +kernel
theorem dL_law_414 : decode cL_law 414 = .ok (.iconst 1, 1) := by decide +kernel
theorem dL_law_415 : decode cL_law 415 = .ok (.ireturn, 1) := by decide +kernel
end
section
set_option maxRecDepth 100000
theorem q55 : (Jvm.Cond.arrayClass Jvm.ClassFile.FieldType.int) ∈ lw_all := lw_g (lw_at lw_m0 39 rfl) rfl
theorem q56 : (Jvm.Cond.arrayClass Jvm.ClassFile.FieldType.long) ∈ lw_all := lw_g (lw_at lw_m0 40 rfl) rfl
theorem q179 : (Jvm.Cond.arrayClass Jvm.ClassFile.FieldType.boolean) ∈ lw_all := lw_g (lw_at lw_m0 163 rfl) rfl

theorem q16 : (Jvm.Cond.initialized "RgaTextLaw") ∈ lw_all := lw_g (lw_at lw_m0 0 rfl) rfl
theorem q19 : (Jvm.Cond.classLink "RgaTextLaw" (7 : Nat) "RgaText") ∈ lw_all := lw_g (lw_at lw_m0 3 rfl) rfl
theorem q21 : (Jvm.Cond.methodLink "RgaTextLaw" (9 : Nat) ({ cls := "RgaText", name := "<init>", desc := "()V" } : Jvm.MethodName)) ∈ lw_all := lw_g (lw_at lw_m0 5 rfl) rfl
theorem q57 : (Jvm.Cond.methodLink "RgaTextLaw" (13 : Nat) ({ cls := "RgaText", name := "insert", desc := "(III)I" } : Jvm.MethodName)) ∈ lw_all := lw_g (lw_at lw_m0 41 rfl) rfl
theorem q83 : (Jvm.Cond.methodLink "RgaTextLaw" (18 : Nat) ({ cls := "RgaText", name := "delete", desc := "(II)I" } : Jvm.MethodName)) ∈ lw_all := lw_g (lw_at lw_m0 67 rfl) rfl
theorem q87 : (Jvm.Cond.methodLink "RgaTextLaw" (23 : Nat) ({ cls := "RgaText", name := "learn", desc := "(II)I" } : Jvm.MethodName)) ∈ lw_all := lw_g (lw_at lw_m0 71 rfl) rfl
theorem q99 : (Jvm.Cond.methodLink "RgaTextLaw" (27 : Nat) ({ cls := "RgaText", name := "length", desc := "(I)I" } : Jvm.MethodName)) ∈ lw_all := lw_g (lw_at lw_m0 83 rfl) rfl
theorem q103 : (Jvm.Cond.methodLink "RgaTextLaw" (32 : Nat) ({ cls := "RgaText", name := "charAt", desc := "(II)I" } : Jvm.MethodName)) ∈ lw_all := lw_g (lw_at lw_m0 87 rfl) rfl
theorem q107 : (Jvm.Cond.methodLink "RgaTextLaw" (36 : Nat) ({ cls := "RgaText", name := "elementAt", desc := "(II)I" } : Jvm.MethodName)) ∈ lw_all := lw_g (lw_at lw_m0 91 rfl) rfl
theorem q111 : (Jvm.Cond.methodLink "RgaTextLaw" (40 : Nat) ({ cls := "RgaText", name := "placeOf", desc := "(II)I" } : Jvm.MethodName)) ∈ lw_all := lw_g (lw_at lw_m0 95 rfl) rfl
theorem q123 : (Jvm.Cond.methodLink "RgaTextLaw" (44 : Nat) ({ cls := "RgaText", name := "known", desc := "(I)I" } : Jvm.MethodName)) ∈ lw_all := lw_g (lw_at lw_m0 107 rfl) rfl
theorem q127 : (Jvm.Cond.methodLink "RgaTextLaw" (48 : Nat) ({ cls := "RgaText", name := "rank", desc := "(II)I" } : Jvm.MethodName)) ∈ lw_all := lw_g (lw_at lw_m0 111 rfl) rfl
theorem q131 : (Jvm.Cond.methodLink "RgaTextLaw" (52 : Nat) ({ cls := "RgaText", name := "sameText", desc := "(II)Z" } : Jvm.MethodName)) ∈ lw_all := lw_g (lw_at lw_m0 115 rfl) rfl
theorem q139 : (Jvm.Cond.classLink "RgaTextLaw" (10 : Nat) "RgaTextModel") ∈ lw_all := lw_g (lw_at lw_m0 123 rfl) rfl
theorem q141 : (Jvm.Cond.methodLink "RgaTextLaw" (12 : Nat) ({ cls := "RgaTextModel", name := "<init>", desc := "()V" } : Jvm.MethodName)) ∈ lw_all := lw_g (lw_at lw_m0 125 rfl) rfl
theorem q180 : (Jvm.Cond.methodLink "RgaTextLaw" (17 : Nat) ({ cls := "RgaTextModel", name := "insert", desc := "(III)I" } : Jvm.MethodName)) ∈ lw_all := lw_g (lw_at lw_m0 164 rfl) rfl
theorem q220 : (Jvm.Cond.methodLink "RgaTextLaw" (22 : Nat) ({ cls := "RgaTextModel", name := "delete", desc := "(II)I" } : Jvm.MethodName)) ∈ lw_all := lw_g (lw_at lw_m0 204 rfl) rfl
theorem q224 : (Jvm.Cond.methodLink "RgaTextLaw" (26 : Nat) ({ cls := "RgaTextModel", name := "learn", desc := "(II)I" } : Jvm.MethodName)) ∈ lw_all := lw_g (lw_at lw_m0 208 rfl) rfl
theorem q228 : (Jvm.Cond.methodLink "RgaTextLaw" (31 : Nat) ({ cls := "RgaTextModel", name := "length", desc := "(I)I" } : Jvm.MethodName)) ∈ lw_all := lw_g (lw_at lw_m0 212 rfl) rfl
theorem q229 : (Jvm.Cond.methodLink "RgaTextLaw" (35 : Nat) ({ cls := "RgaTextModel", name := "charAt", desc := "(II)I" } : Jvm.MethodName)) ∈ lw_all := lw_g (lw_at lw_m0 213 rfl) rfl
theorem q233 : (Jvm.Cond.methodLink "RgaTextLaw" (39 : Nat) ({ cls := "RgaTextModel", name := "elementAt", desc := "(II)I" } : Jvm.MethodName)) ∈ lw_all := lw_g (lw_at lw_m0 217 rfl) rfl
theorem q234 : (Jvm.Cond.methodLink "RgaTextLaw" (43 : Nat) ({ cls := "RgaTextModel", name := "placeOf", desc := "(II)I" } : Jvm.MethodName)) ∈ lw_all := lw_g (lw_at lw_m0 218 rfl) rfl
theorem q238 : (Jvm.Cond.methodLink "RgaTextLaw" (47 : Nat) ({ cls := "RgaTextModel", name := "known", desc := "(I)I" } : Jvm.MethodName)) ∈ lw_all := lw_g (lw_at lw_m0 222 rfl) rfl
theorem q242 : (Jvm.Cond.methodLink "RgaTextLaw" (51 : Nat) ({ cls := "RgaTextModel", name := "rank", desc := "(II)I" } : Jvm.MethodName)) ∈ lw_all := lw_g (lw_at lw_m0 226 rfl) rfl
theorem q246 : (Jvm.Cond.methodLink "RgaTextLaw" (56 : Nat) ({ cls := "RgaTextModel", name := "sameText", desc := "(II)Z" } : Jvm.MethodName)) ∈ lw_all := lw_g (lw_at lw_m0 230 rfl) rfl

/-! java/lang/Object -/
def RJ0 : String := "java/lang/Object"
abbrev cJ0_init : ByteArray := object_method_1_code
def yJ0_init : MethodName := ⟨RJ0, "<init>", "()V"⟩
theorem dJ0_init_0 : decode cJ0_init 0 = .ok (.return_, 1) := by decide +kernel
theorem q25 : (Jvm.Cond.instanceMethod ({ cls := "java/lang/Object", name := "<init>", desc := "()V" } : Jvm.MethodName)) ∈ lw_all := lw_g (lw_at lw_m0 9 rfl) rfl
theorem q26 : (Jvm.Cond.code ({ cls := "java/lang/Object", name := "<init>", desc := "()V" } : Jvm.MethodName) object_method_1_code (1 : Nat) (Option.none : Option Jvm.ClassFile.FieldType)) ∈ lw_all := lw_g (lw_at lw_m0 10 rfl) rfl
end
section
/-! BASE: the worlds of the two classes, rows over the kit's rows with places as natural numbers, calls with the whole world of one object -/
set_option maxRecDepth 100000
abbrev vwCl : List vw_C := [(RX0, TX0, 9), (RX1, TX1, 11)]
def ra_b (b : Bool) : Int32 := if b = true then 1 else 0
def ra_bt (x : Int64) (k : Nat) : Bool := x.toBitVec.getLsbD k
def ra_or (x : Int64) (k : Nat) : Int64 := x ||| ((1 : Int64) <<< ((nI k).toInt64 &&& 63))
/-- the cells of a RgaText -/
abbrev ra_wX (h q1 q2 q3 q4 q5 q6 q7 q8 : Nat) (cI cL : ClassId) (n : Nat) (fl : Nat → Int32) (S O P C : Nat → Nat) (fk fg : Nat → Int64) (fn : Nat → Int32) : va_W :=
  [(h, .inr (0, [.int (nI n), .ref q1, .ref q2, .ref q3, .ref q4, .ref q5, .ref q6, .ref q7, .ref q8])),
   (q1, .inl (cI, 40, .inl fl)), (q2, .inl (cI, 40, .inl (fun j => nI (S j)))), (q3, .inl (cI, 40, .inl (fun j => nI (O j)))), (q4, .inl (cI, 40, .inl (fun j => nI (P j)))),
   (q5, .inl (cI, 3, .inl (fun j => nI (C j)))), (q6, .inl (cL, 3, .inr (.inl fk))), (q7, .inl (cL, 3, .inr (.inl fg))), (q8, .inl (cI, 123, .inl fn))]
def ra_pm (P : Nat → Nat) : Nat → Int32 := fun j => if P j = 40 then -5 else nI (P j)
def ra_zb (fk : Nat → Int64) : Nat → Int32 := fun j => ra_b (ra_bt (fk (j / 40)) (j % 40))
def ra_zA (AB : Nat → Nat → Bool) : Nat → Int32 := fun j => ra_b (AB (j / 40) (j % 40))
/-- the cells of a RgaTextModel -/
abbrev ra_wM (h q1 q2 q3 q4 q5 q6 q7 q8 q9 : Nat) (cI cZ : ClassId) (n : Nat) (fl : Nat → Int32) (S O P : Nat → Nat) (AB : Nat → Nat → Bool) (fk fg : Nat → Int64) (C : Nat → Nat) (fr : Nat → Int32) (od : Int32) : va_W :=
  [(h, .inr (1, [.int (nI n), .ref q1, .ref q2, .ref q3, .ref q4, .ref q5, .ref q6, .ref q7, .ref q8, .ref q9, .int od])),
   (q1, .inl (cI, 40, .inl fl)), (q2, .inl (cI, 40, .inl (fun j => nI (S j)))), (q3, .inl (cI, 40, .inl (fun j => nI (O j)))), (q4, .inl (cI, 40, .inl (ra_pm P))),
   (q5, .inl (cZ, 1600, .inl (ra_zA AB))), (q6, .inl (cZ, 120, .inl (ra_zb fk))), (q7, .inl (cZ, 120, .inl (ra_zb fg))), (q8, .inl (cI, 3, .inl (fun j => nI (C j)))), (q9, .inl (cI, 40, .inl fr))]
theorem ra_fb {D : va_G} {cl : List vw_C} {av : List Value} {ws : va_W} {tys : List (ClassId × FieldType)} : FrameBlind (va_Pc av (fun U => va_P D cl ws U.heap ∧ va_K D cl tys U)) := fun a U g mk q => by
  obtain ⟨q0, qP, qK⟩ := q
  exact ⟨q0, qP, va_K.moved (u := U) (U := U.calling g mk a) (Vm.Alike.refl U.vm) qK⟩
theorem ra_fbT {av : List Value} : FrameBlind (va_Pc av (fun _ => True)) := fun _ _ _ _ q => q
theorem ra_fbW {D : va_G} {cl : List vw_C} {av : List Value} {ws : va_W} {tys : List (ClassId × FieldType)} {sz : Nat} : FrameBlind (va_Pc av (fun U => U.heap.size = sz ∧ va_P D cl ws U.heap ∧ va_K D cl tys U ∧ va_D (fun _ => True) ws)) := fun a U g mk q => by
  obtain ⟨q0, q1, qP, qK, qD⟩ := q
  exact ⟨q0, q1, qP, va_K.moved (u := U) (U := U.calling g mk a) (Vm.Alike.refl U.vm) qK, qD⟩
/-- a method that only reads: its walk -/
abbrev ra_WR (p : Program) (l : Launch) (e : Env) (s : State) (m : MethodId) (below : List Frame) (meth : Method) (c : Code) (ws : List Cond) (rm : Room) (av : List Value) (post : Int32 → Prop) (pc : Nat) (ls : Array Slot) (st : List Value) : Prop :=
  W p l e (headSpec ws rm).room s m av.toArray below meth c s.heap [] 0 0 (MQ below (vp_Si post) av.toArray s 0 0 (fun _ => False)) (F0 m pc ls st)
/-- a method that writes its world's cells: its walk; the answer an int -/
abbrev ra_WI {S : Type} (p : Program) (l : Launch) (e : Env) (s : State) (m : MethodId) (below : List Frame) (meth : Method) (c : Code) (H : Heap) (locs : List Loc) (ws : List Cond) (rm : Room) (av : List Value) (post : Int32 → S → Prop) (B : S → State → Prop) (A : Nat → Prop) (pc : Nat) (ls : Array Slot) (st : List Value) : Prop :=
  W p l e (headSpec ws rm).room s m av.toArray below meth c H locs 0 0 (MQ below (va_Qi post B A) av.toArray s 0 0 A) (F0 m pc ls st)
abbrev ra_WV {S : Type} (p : Program) (l : Launch) (e : Env) (s : State) (m : MethodId) (below : List Frame) (meth : Method) (c : Code) (H : Heap) (locs : List Loc) (ws : List Cond) (rm : Room) (av : List Value) (post : S → Prop) (B : S → State → Prop) (A : Nat → Prop) (pc : Nat) (ls : Array Slot) (st : List Value) : Prop :=
  W p l e (headSpec ws rm).room s m av.toArray below meth c H locs 0 0 (MQ below (va_Qv post B A) av.toArray s 0 0 A) (F0 m pc ls st)
section RaW
variable {p : Program} {l : Launch} {e : Env} {R : Room} {s : State} {m : MethodId} {args : Array Value} {below : List Frame} {meth : Method} {c : Code} {H : Heap} {locs : List Loc} {cells slots : Nat} {Q : State → Prop}
variable {cc : ByteArray} {pc : Nat} {ls : Array Slot} {rest : List Value} {D : va_G} {cl : List vw_C} {A : Nat → Prop} {a : Nat} {tys : List (ClassId × FieldType)} {ws : va_W} {H0 : Heap}
theorem ra_top {x y : Int32} (h : x = y) (k : W p l e R s m args below meth c H locs cells slots Q (F0 m pc ls (.int y :: rest))) : W p l e R s m args below meth c H locs cells slots Q (F0 m pc ls (.int x :: rest)) := by
  subst h
  exact k
theorem ra_iald (hexec : p.tables.exec = Jvm.exec) (hb : c.code = cc) (hK : va_K D cl tys s) (hP : va_P D cl ws H) (q0 t0 : Nat) {cA : ClassId} {n : Nat} {f : Nat → Int32} (ha : ws[q0]? = some (a, .inl (cA, n, .inl f))) (ht : tys[t0]? = some (cA, .int)) {i : Int32} {k : Nat} (hi : i = nI k) (hk : k < n) (hn : n < 2 ^ 31) {v : Int32} (hv : f k = v) (hdg : decode cc pc = .ok (.iaload, 1))
    (kk : W p l e R s m args below meth c H locs cells slots Q (F0 m (pc + 1) ls (.int v :: rest))) : W p l e R s m args below meth c H locs cells slots Q (F0 m pc ls (.int i :: .ref a :: rest)) := by
  subst hi
  subst hv
  refine va_iald hexec hb hK hP q0 t0 ha ht (vp_in_nI hk hn) hdg ?_
  rw [nI_clamp (Nat.lt_trans hk hn)]
  exact kk
theorem ra_zald (hexec : p.tables.exec = Jvm.exec) (hb : c.code = cc) (hK : va_K D cl tys s) (hP : va_P D cl ws H) (q0 t0 : Nat) {cA : ClassId} {n : Nat} {f : Nat → Int32} (ha : ws[q0]? = some (a, .inl (cA, n, .inl f))) (ht : tys[t0]? = some (cA, .boolean)) {i : Int32} {k : Nat} (hi : i = nI k) (hk : k < n) (hn : n < 2 ^ 31) {v : Int32} (hv : f k = v) (hdg : decode cc pc = .ok (.baload, 1))
    (kk : W p l e R s m args below meth c H locs cells slots Q (F0 m (pc + 1) ls (.int v :: rest))) : W p l e R s m args below meth c H locs cells slots Q (F0 m pc ls (.int i :: .ref a :: rest)) := by
  subst hi
  subst hv
  refine va_zald hexec hb hK hP q0 t0 ha ht (vp_in_nI hk hn) hdg ?_
  rw [nI_clamp (Nat.lt_trans hk hn)]
  exact kk
theorem ra_lald (hexec : p.tables.exec = Jvm.exec) (hb : c.code = cc) (hK : va_K D cl tys s) (hP : va_P D cl ws H) (q0 t0 : Nat) {cA : ClassId} {n : Nat} {f : Nat → Int64} (ha : ws[q0]? = some (a, .inl (cA, n, .inr (.inl f)))) (ht : tys[t0]? = some (cA, .long)) {i : Int32} {k : Nat} (hi : i = nI k) (hk : k < n) (hn : n < 2 ^ 31) {v : Int64} (hv : f k = v) (hdg : decode cc pc = .ok (.laload, 1))
    (kk : W p l e R s m args below meth c H locs cells slots Q (F0 m (pc + 1) ls (.long v :: rest))) : W p l e R s m args below meth c H locs cells slots Q (F0 m pc ls (.int i :: .ref a :: rest)) := by
  subst hi
  subst hv
  refine va_lald hexec hb hK hP q0 t0 ha ht (vp_in_nI hk hn) hdg ?_
  rw [nI_clamp (Nat.lt_trans hk hn)]
  exact kk
theorem ra_iast (hexec : p.tables.exec = Jvm.exec) (hb : c.code = cc) (hK : va_K D cl tys s) (hP : va_P D cl ws H) (hD : va_D A ws) (hS : va_S A H0 H locs) (q0 t0 : Nat) {cA : ClassId} {n : Nat} {f : Nat → Int32} (ha : ws[q0]? = some (a, .inl (cA, n, .inl f))) (ht : tys[t0]? = some (cA, .int)) {i : Int32} {x : Int32} {k : Nat} (hi : i = nI k) (hk : k < n) (hn : n < 2 ^ 31) {f' : Nat → Int32} (hf : upd f k x = f') (hdg : decode cc pc = .ok (.iastore, 1))
    (kk : ∀ (H1 : Heap) (locs1 : List Loc), va_P D cl (ws.set q0 (a, .inl (cA, n, .inl f'))) H1 → va_D A (ws.set q0 (a, .inl (cA, n, .inl f'))) → va_S A H0 H1 locs1 → W p l e R s m args below meth c H1 locs1 cells slots Q (F0 m (pc + 1) ls rest)) : W p l e R s m args below meth c H locs cells slots Q (F0 m pc ls (.int x :: .int i :: .ref a :: rest)) := by
  subst hi
  subst hf
  refine va_iast hexec hb hK hP hD hS q0 t0 ha ht (vp_in_nI hk hn) hdg ?_
  rw [nI_clamp (Nat.lt_trans hk hn)]
  exact kk
theorem ra_zast (hexec : p.tables.exec = Jvm.exec) (hb : c.code = cc) (hK : va_K D cl tys s) (hP : va_P D cl ws H) (hD : va_D A ws) (hS : va_S A H0 H locs) (q0 t0 : Nat) {cA : ClassId} {n : Nat} {f : Nat → Int32} (ha : ws[q0]? = some (a, .inl (cA, n, .inl f))) (ht : tys[t0]? = some (cA, .boolean)) {i : Int32} {x : Int32} {k : Nat} (hi : i = nI k) (hk : k < n) (hn : n < 2 ^ 31) {f' : Nat → Int32} (hf : upd f k (vp_nar .boolean x) = f') (hdg : decode cc pc = .ok (.bastore, 1))
    (kk : ∀ (H1 : Heap) (locs1 : List Loc), va_P D cl (ws.set q0 (a, .inl (cA, n, .inl f'))) H1 → va_D A (ws.set q0 (a, .inl (cA, n, .inl f'))) → va_S A H0 H1 locs1 → W p l e R s m args below meth c H1 locs1 cells slots Q (F0 m (pc + 1) ls rest)) : W p l e R s m args below meth c H locs cells slots Q (F0 m pc ls (.int x :: .int i :: .ref a :: rest)) := by
  subst hi
  subst hf
  refine va_zast hexec hb hK hP hD hS q0 t0 ha ht (vp_in_nI hk hn) hdg ?_
  rw [nI_clamp (Nat.lt_trans hk hn)]
  exact kk
theorem ra_last (hexec : p.tables.exec = Jvm.exec) (hb : c.code = cc) (hK : va_K D cl tys s) (hP : va_P D cl ws H) (hD : va_D A ws) (hS : va_S A H0 H locs) (q0 t0 : Nat) {cA : ClassId} {n : Nat} {f : Nat → Int64} (ha : ws[q0]? = some (a, .inl (cA, n, .inr (.inl f)))) (ht : tys[t0]? = some (cA, .long)) {i : Int32} {x : Int64} {k : Nat} (hi : i = nI k) (hk : k < n) (hn : n < 2 ^ 31) {f' : Nat → Int64} (hf : vp_updL f k x = f') (hdg : decode cc pc = .ok (.lastore, 1))
    (kk : ∀ (H1 : Heap) (locs1 : List Loc), va_P D cl (ws.set q0 (a, .inl (cA, n, .inr (.inl f')))) H1 → va_D A (ws.set q0 (a, .inl (cA, n, .inr (.inl f')))) → va_S A H0 H1 locs1 → W p l e R s m args below meth c H1 locs1 cells slots Q (F0 m (pc + 1) ls rest)) : W p l e R s m args below meth c H locs cells slots Q (F0 m pc ls (.long x :: .int i :: .ref a :: rest)) := by
  subst hi
  subst hf
  refine va_last hexec hb hK hP hD hS q0 t0 ha ht (vp_in_nI hk hn) hdg ?_
  rw [nI_clamp (Nat.lt_trans hk hn)]
  exact kk
variable {y : MethodName} {bytes : ByteArray} {maxL nL n index : Nat} {ret0 : Option FieldType} {wl : List Cond} {rm : Room} {Ts : List Cond} {own Cn : String} {b : Addr} {st0 : List Value}
/-- a call of a method that only reads, through an object whose whole world is ws -/
theorem ra_cV {post : Int32 → Prop} (Sf : CallFix p m c cc nL s args Ts own) (As rest : List Value) (hM : Met l y wl rm (va_Pc (.ref b :: As) (fun U => va_P D cl ws U.heap ∧ va_K D cl tys U)) (vp_Si post) 0 0 (fun _ => False)) (cw : CallW R s args own Cn index y bytes maxL ret0 wl rm 0 0 n) (hP : va_P D cl ws H) (hK : va_K D cl tys s)
    (hrv : ∃ cell : Cell, H[b]? = some cell ∧ cell.vm.isStatics = false ∧ s.vm.findClass Cn = some cell.cls) (hn : As.length = n) (hsize : ls.size = nL) (hst : st0 = As.reverse ++ .ref b :: rest) (hW : (rest.map fun v => v.category).sum ≤ 8) (hdg : decode cc pc = .ok (.invokevirtual index, 3)) (hf : cells ≤ R.cells ∧ slots ≤ R.slots)
    (kk : ∀ r : Int32, post r → W p l e R s m args below meth c H locs cells slots Q (F0 m (pc + 3) ls (.int r :: rest))) : W p l e R s m args below meth c H locs cells slots Q (F0 m pc ls st0) := by
  subst hst
  exact vp_callSi (va_Run.run (va_runV (As := As) (rest := rest) Sf hM cw ⟨ra_fb, hrv, fun U hU hw => ⟨rfl, by rw [hU]; exact hP, va_K.moved hw.alike hK⟩⟩ rfl hn hsize rfl (lv_room hW) hdg hf)) kk
/-- a call of a static method without a world -/
theorem ra_cS {post : Int32 → Prop} (Sf : CallFix p m c cc nL s args Ts own) (As rest : List Value) (hM : Met l y wl rm (va_Pc As (fun _ => True)) (vp_Si post) 0 0 (fun _ => False)) (cw : CallB R s args own index y bytes maxL ret0 wl rm 0 0 n ∧ (Cond.static y).before args s = true)
    (hn : As.length = n) (hsize : ls.size = nL) (hst : st0 = As.reverse ++ rest) (hW : (rest.map fun v => v.category).sum ≤ 8) (hdg : decode cc pc = .ok (.invokestatic index, 3)) (hf : cells ≤ R.cells ∧ slots ≤ R.slots)
    (kk : ∀ r : Int32, post r → W p l e R s m args below meth c H locs cells slots Q (F0 m (pc + 3) ls (.int r :: rest))) : W p l e R s m args below meth c H locs cells slots Q (F0 m pc ls st0) := by
  subst hst
  exact vp_callSi (va_Run.run (va_runS (As := As) (rest := rest) Sf hM cw ⟨ra_fbT, fun U hU hw => ⟨rfl, trivial⟩⟩ rfl hn hsize rfl (lv_room hW) hdg hf)) kk
/-- a call of a method that writes its object's world, which is the whole world here; the answer an int -/
theorem ra_cVi {S : Type} {wf : S → va_W} {post : Int32 → S → Prop} (Sf : CallFix p m c cc nL s args Ts own) (As rest : List Value) (hM : Met l y wl rm (va_Pc (.ref b :: As) (fun U => U.heap.size = H.size ∧ va_P D cl ws U.heap ∧ va_K D cl tys U ∧ va_D (fun _ => True) ws)) (va_Qi post (fun u t => va_P D cl (wf u) t.heap ∧ va_K D cl tys t ∧ va_D (va_A ws H.size) (wf u)) (va_A ws H.size)) 0 0 (va_A ws H.size)) (cw : CallW R s args own Cn index y bytes maxL ret0 wl rm 0 0 n) (hP : va_P D cl ws H) (hK : va_K D cl tys s) (hD : va_D A ws) (hS : va_S A H0 H locs) (hA : ∀ q, H0.size ≤ q → A q)
    (hrv : ∃ cell : Cell, H[b]? = some cell ∧ cell.vm.isStatics = false ∧ s.vm.findClass Cn = some cell.cls) (hn : As.length = n) (hsize : ls.size = nL) (hst : st0 = As.reverse ++ .ref b :: rest) (hW : (rest.map fun v => v.category).sum ≤ 8) (hdg : decode cc pc = .ok (.invokevirtual index, 3)) (hf : cells ≤ R.cells ∧ slots ≤ R.slots)
    (kk : ∀ (r : Int32) (u : S) (H1 : Heap) (locs1 : List Loc), post r u → va_P D cl (wf u) H1 → va_D A (wf u) → va_S A H0 H1 locs1 → W p l e R s m args below meth c H1 locs1 cells slots Q (F0 m (pc + 3) ls (.int r :: rest))) : W p l e R s m args below meth c H locs cells slots Q (F0 m pc ls st0) := by
  subst hst
  have hF : ∀ q, va_A ws H.size q → A q := by
    intro q h
    rcases h with ⟨k, x, h⟩ | h
    · exact hD.2 k (q, x) h
    · exact hA q (Nat.le_trans hS.1 h)
  refine va_calli (va_runV (As := As) (rest := rest) Sf hM cw ⟨ra_fbW, hrv, fun U hU hw => ⟨rfl, by rw [hU], by rw [hU]; exact hP, va_K.moved hw.alike hK, hD.weaken (fun _ _ _ _ => trivial)⟩⟩ rfl hn hsize rfl (lv_room hW) hdg hf) hS (fun q _ h => hF q h) hF (fun r u t H1 locs1 ht hvm hw hB hz1 hk1 hS1 => ?_)
  obtain ⟨hP1, hK1, hD1⟩ := hB
  rw [ht] at hP1
  exact kk r u H1 locs1 hw hP1 (hD1.weaken (fun _ q _ h => hF q.1 h)) hS1
theorem ra_cVv {S : Type} {wf : S → va_W} {post : S → Prop} (Sf : CallFix p m c cc nL s args Ts own) (As rest : List Value) (hM : Met l y wl rm (va_Pc (.ref b :: As) (fun U => U.heap.size = H.size ∧ va_P D cl ws U.heap ∧ va_K D cl tys U ∧ va_D (fun _ => True) ws)) (va_Qv post (fun u t => va_P D cl (wf u) t.heap ∧ va_K D cl tys t ∧ va_D (va_A ws H.size) (wf u)) (va_A ws H.size)) 0 0 (va_A ws H.size)) (cw : CallW R s args own Cn index y bytes maxL ret0 wl rm 0 0 n) (hP : va_P D cl ws H) (hK : va_K D cl tys s) (hD : va_D A ws) (hS : va_S A H0 H locs) (hA : ∀ q, H0.size ≤ q → A q)
    (hrv : ∃ cell : Cell, H[b]? = some cell ∧ cell.vm.isStatics = false ∧ s.vm.findClass Cn = some cell.cls) (hn : As.length = n) (hsize : ls.size = nL) (hst : st0 = As.reverse ++ .ref b :: rest) (hW : (rest.map fun v => v.category).sum ≤ 8) (hdg : decode cc pc = .ok (.invokevirtual index, 3)) (hf : cells ≤ R.cells ∧ slots ≤ R.slots)
    (kk : ∀ (u : S) (H1 : Heap) (locs1 : List Loc), post u → va_P D cl (wf u) H1 → va_D A (wf u) → va_S A H0 H1 locs1 → W p l e R s m args below meth c H1 locs1 cells slots Q (F0 m (pc + 3) ls rest)) : W p l e R s m args below meth c H locs cells slots Q (F0 m pc ls st0) := by
  subst hst
  have hF : ∀ q, va_A ws H.size q → A q := by
    intro q h
    rcases h with ⟨k, x, h⟩ | h
    · exact hD.2 k (q, x) h
    · exact hA q (Nat.le_trans hS.1 h)
  refine va_callv (va_runV (As := As) (rest := rest) Sf hM cw ⟨ra_fbW, hrv, fun U hU hw => ⟨rfl, by rw [hU], by rw [hU]; exact hP, va_K.moved hw.alike hK, hD.weaken (fun _ _ _ _ => trivial)⟩⟩ rfl hn hsize rfl (lv_room hW) hdg hf) hS (fun q _ h => hF q h) hF (fun u t H1 locs1 ht hvm hw hB hz1 hk1 hS1 => ?_)
  obtain ⟨hP1, hK1, hD1⟩ := hB
  rw [ht] at hP1
  exact kk u H1 locs1 hw hP1 (hD1.weaken (fun _ q _ h => hF q.1 h)) hS1
end RaW
/-! numbers -/
theorem ra_inc (i : Nat) : nI i + Int32.ofInt 1 = nI (i + 1) := nI_1 i
theorem ra_dec (i : Nat) : nI (i + 1) + Int32.ofInt (-1) = nI i := pk_m1 i
theorem ra_x41 (r a : Nat) : nI r * 41 + nI a = nI (41 * r + a) := by
  rw [show (41 : Int32) = nI 41 from rfl, pk_mul, nI_add, Nat.mul_comm]
theorem ra_x41h (r : Nat) : nI r * 41 + 40 = nI (41 * r + 40) := ra_x41 r 40
theorem ra_x40 (r a : Nat) : nI r * 40 + nI a = nI (40 * r + a) := by
  rw [show (40 : Int32) = nI 40 from rfl, pk_mul, nI_add, Nat.mul_comm]
theorem ra_updN (f : Nat → Nat) (k v : Nat) : upd (fun j => nI (f j)) k (nI v) = fun j => nI (va_up f k v j) := by
  funext j
  unfold upd va_up
  by_cases h : j = k
  · simp [h]
  · simp [h]
theorem ra_b_ne (b : Bool) : ¬ ra_b b = 0 ↔ b = true := by cases b <;> decide
theorem ra_b_eq (b : Bool) : ra_b b = 0 ↔ b = false := by cases b <;> decide
theorem ra_b_nar (b : Bool) : narrow .boolean (.int (ra_b b)) = .int (ra_b b) := by cases b <;> rfl
theorem ra_ok {r : Int32} (h1 : ¬ r < 0) (h2 : r < 3) : ∃ k, k < 3 ∧ r = nI k := by
  obtain ⟨k, hk, rfl⟩ := nI_of h1
  exact ⟨k, (nI_ltI hk (by decide)).mp h2, rfl⟩
/-! bits -/
theorem ra_cu : ∀ k, k < 64 → ((nI k).toInt64.toUInt64 &&& Int64.toUInt64 63).toNat = k := by decide +kernel
theorem ra_one : ∀ k, k < 64 → ((1 : Int64) <<< ((nI k).toInt64 &&& 63)).toBitVec = BitVec.twoPow 64 k := by decide +kernel
theorem ra_bt_in {w : Int64} {k : Nat} (hk : k < 64) : (w.toUInt64 >>> ((nI k).toInt64.toUInt64 &&& Int64.toUInt64 63)).toInt64 &&& 1 = if ra_bt w k = true then 1 else 0 := by
  have e : (w.toUInt64 >>> ((nI k).toInt64.toUInt64 &&& Int64.toUInt64 63)).toInt64.toBitVec = w.toBitVec >>> k := by
    apply BitVec.eq_of_toNat_eq
    show (w.toUInt64 >>> ((nI k).toInt64.toUInt64 &&& Int64.toUInt64 63)).toNat = _
    rw [UInt64.toNat_shiftRight, ra_cu k hk, Nat.mod_eq_of_lt hk, BitVec.toNat_ushiftRight]
    rfl
  rw [← Int64.toBitVec_inj, Int64.toBitVec_and, e]
  unfold ra_bt
  apply BitVec.eq_of_getLsbD_eq
  intro i hi
  show (w.toBitVec >>> k &&& 1#64).getLsbD i = _
  cases hb : w.toBitVec.getLsbD k with
  | true =>
    rw [if_pos rfl]
    show _ = (1#64).getLsbD i
    rw [BitVec.getLsbD_and, BitVec.getLsbD_ushiftRight]
    by_cases h0 : i = 0
    · subst h0
      simp [hb]
    · simp [BitVec.getLsbD_one, h0]
  | false =>
    rw [if_neg (by decide)]
    show _ = (0#64).getLsbD i
    rw [BitVec.getLsbD_and, BitVec.getLsbD_ushiftRight]
    by_cases h0 : i = 0
    · subst h0
      simp [hb]
    · simp [BitVec.getLsbD_one, h0]
theorem ra_bt_or {w : Int64} {k : Nat} (hk : k < 64) (j : Nat) : ra_bt (ra_or w k) j = (ra_bt w j || decide (k = j)) := by
  unfold ra_bt ra_or
  rw [Int64.toBitVec_or, ra_one k hk, BitVec.getLsbD_or, BitVec.getLsbD_twoPow]
  by_cases h : k = j
  · subst h
    simp [hk]
  · simp [h]
theorem ra_bt_0 (j : Nat) : ra_bt 0 j = false := by
  unfold ra_bt
  simp
theorem ra_zb_upd (f : Nat → Int64) {r a : Nat} (ha : a < 40) : upd (ra_zb f) (40 * r + a) 1 = ra_zb (vp_updL f r (ra_or (f r) a)) := by
  funext j
  unfold upd ra_zb vp_updL
  by_cases h : j / 40 = r
  · by_cases h2 : j % 40 = a
    · rw [if_pos (by omega), if_pos h, h2, ra_bt_or (by omega)]
      simp [ra_b]
    · rw [if_neg (by omega), if_pos h, ra_bt_or (by omega), h]
      have : ¬ a = j % 40 := fun q => h2 q.symm
      simp [this]
  · rw [if_neg (by omega), if_neg h]
theorem ra_zb_at (f : Nat → Int64) {r a : Nat} (ha : a < 40) : ra_zb f (40 * r + a) = ra_b (ra_bt (f r) a) := by
  unfold ra_zb
  rw [show (40 * r + a) / 40 = r by omega, show (40 * r + a) % 40 = a by omega]
theorem ra_zA_at (f : Nat → Nat → Bool) {r a : Nat} (ha : a < 40) : ra_zA f (40 * r + a) = ra_b (f r a) := by
  unfold ra_zA
  rw [show (40 * r + a) / 40 = r by omega, show (40 * r + a) % 40 = a by omega]
theorem ra_ok2 {r : Int32} (h1 : ¬ r < 0) (h2 : r ≤ 2) : ∃ k, k < 3 ∧ r = nI k := by
  obtain ⟨k, hk, rfl⟩ := nI_of h1
  exact ⟨k, by have := (nI_leI (a := k) (b := 2) hk (by decide)).mp h2; omega, rfl⟩
theorem ra_in_t {w : Int64} {k : Nat} (hk : k < 64) (h : ¬ lg_cmp ((w.toUInt64 >>> ((nI k).toInt64.toUInt64 &&& Int64.toUInt64 63)).toInt64 &&& 1) 1 = 0) : ra_bt w k = false := by
  rw [ra_bt_in hk] at h
  cases hb : ra_bt w k with
  | false => rfl
  | true =>
    rw [hb] at h
    exact absurd (by decide) h
theorem ra_in_f {w : Int64} {k : Nat} (hk : k < 64) (h : lg_cmp ((w.toUInt64 >>> ((nI k).toInt64.toUInt64 &&& Int64.toUInt64 63)).toInt64 &&& 1) 1 = 0) : ra_bt w k = true := by
  rw [ra_bt_in hk] at h
  cases hb : ra_bt w k with
  | true => rfl
  | false =>
    rw [hb] at h
    exact absurd h (by decide)
end
section
/-! PURE: lists, chains, counts, answers: no program in sight -/
def ra_hd : List Nat → Int32
  | [] => -1
  | a :: _ => nI a
def ra_ch (fn : Nat → Int32) (b : Nat) : List Nat → Prop
  | [] => True
  | a :: L => a < 40 ∧ fn (b + a) = ra_hd L ∧ ra_ch fn b L
/-- replica rp's list in the array next -/
def ra_ls (fn : Nat → Int32) (rp : Nat) (L : List Nat) : Prop := fn (41 * rp + 40) = ra_hd L ∧ ra_ch fn (41 * rp) L
def ra_cn (f : Nat → Bool) : Nat → Nat
  | 0 => 0
  | k + 1 => ra_cn f k + (if f k = true then 1 else 0)
def ra_key (S O : Nat → Nat) (a : Nat) : Nat := 3 * S a + O a
def ra_sk (key : Nat → Nat) (x : Nat) : List Nat → List Nat
  | [] => [x]
  | b :: L => if key x < key b then b :: ra_sk key x L else x :: b :: L
def ra_dw (sh : Nat → Bool) : List Nat → List Nat
  | [] => []
  | a :: L => if sh a = true then a :: L else ra_dw sh L
def ra_cb (f : Nat → Bool) (a : Nat) : List Nat → Nat
  | [] => 0
  | b :: L => if b = a then 0 else (if f b = true then 1 else 0) + ra_cb f a L
def ra_nth (sh : Nat → Bool) (L : List Nat) (k : Nat) : Option Nat := (L.filter sh)[k]?
def ra_at (sh : Nat → Bool) (L : List Nat) (pl : Int32) : Option Nat := if pl < 0 then none else ra_nth sh L pl.toNatClampNeg
def ra_el (d : Int32) : Option Nat → Int32
  | none => d
  | some a => nI a
def ra_lt (fl : Nat → Int32) (d : Int32) : Option Nat → Int32
  | none => d
  | some a => fl a
def ra_rp (r : Int32) (v : Nat → Int32) : Int32 := if r < 0 ∨ 2 < r then -1 else v r.toNatClampNeg
def ra_sh (fg : Nat → Int64) (rp : Nat) : Nat → Bool := fun a => !(ra_bt (fg rp) a)
def ra_kf (fk fg : Nat → Int64) (rp : Nat) : Nat → Bool := fun a => ra_bt (fk rp) a && !(ra_bt (fg rp) a)
def ra_tx (fl : Nat → Int32) (sh : Nat → Bool) (L : List Nat) : List Int32 := (L.filter sh).map fl
/-- an element that is there and known -/
def ra_kn (n : Nat) (fk : Nat → Int64) (rp : Nat) (x : Int32) : Bool := !decide (x < 0) && decide (x.toNatClampNeg < n) && ra_bt (fk rp) x.toNatClampNeg
theorem ra_rp_bad {r : Int32} {v : Nat → Int32} (h : r < 0 ∨ 2 < r) : ra_rp r v = -1 := if_pos h
theorem ra_rp_ok {k : Nat} {v : Nat → Int32} (h : k < 3) : ra_rp (nI k) v = v k := by
  unfold ra_rp
  rw [if_neg, nI_clamp (by omega)]
  rintro (q | q)
  · exact nI_pos (by omega) q
  · exact absurd ((nI_ltI (a := 2) (by decide) (by omega)).mp q) (by omega)
theorem ra_bad_no {k : Nat} (h : k < 3) : ¬ (nI k < 0 ∨ 2 < nI k) := by
  rintro (q | q)
  · exact nI_pos (by omega) q
  · exact absurd ((nI_ltI (a := 2) (by decide) (by omega)).mp q) (by omega)
theorem ra_kn_t {n k : Nat} {fk : Nat → Int64} {rp : Nat} (h : k < n) (hn : n ≤ 40) (hb : ra_bt (fk rp) k = true) : ra_kn n fk rp (nI k) = true := by
  unfold ra_kn
  rw [nI_clamp (by omega)]
  have : ¬ nI k < 0 := nI_pos (by omega)
  simp [this, h, hb]
theorem ra_kn_neg {n : Nat} {fk : Nat → Int64} {rp : Nat} {x : Int32} (h : x < 0) : ra_kn n fk rp x = false := by
  unfold ra_kn
  simp [h]
theorem ra_kn_big {n : Nat} {fk : Nat → Int64} {rp : Nat} {x : Int32} (hn : n ≤ 40) (h : nI n ≤ x) : ra_kn n fk rp x = false := by
  unfold ra_kn
  by_cases h0 : x < 0
  · simp [h0]
  · obtain ⟨j, hj, rfl⟩ := nI_of h0
    rw [nI_leI (by omega) hj] at h
    rw [nI_clamp hj]
    have : ¬ j < n := by omega
    simp [this]
theorem ra_kn_no {n k : Nat} {fk : Nat → Int64} {rp : Nat} (h : k < n) (hn : n ≤ 40) (hb : ra_bt (fk rp) k = false) : ra_kn n fk rp (nI k) = false := by
  unfold ra_kn
  rw [nI_clamp (by omega)]
  simp [hb]
theorem ra_kn_of {n : Nat} {fk : Nat → Int64} {rp : Nat} {x : Int32} (h : ra_kn n fk rp x = true) : ∃ k, k < n ∧ x = nI k ∧ ra_bt (fk rp) k = true := by
  unfold ra_kn at h
  simp only [Bool.and_eq_true, Bool.not_eq_true', decide_eq_false_iff_not, decide_eq_true_eq] at h
  obtain ⟨⟨h0, h1⟩, h2⟩ := h
  obtain ⟨j, hj, rfl⟩ := nI_of h0
  rw [nI_clamp hj] at h1 h2
  exact ⟨j, h1, rfl, h2⟩
theorem ra_hd_neg {L : List Nat} (hL : ∀ a ∈ L, a < 40) (h : ra_hd L < 0) : L = [] := by
  cases L with
  | nil => rfl
  | cons a L => exact absurd h (nI_pos (by have := hL a List.mem_cons_self; omega))
theorem ra_hd_pos {L : List Nat} (h : ¬ ra_hd L < 0) : ∃ a M, L = a :: M := by
  cases L with
  | nil => exact absurd (show (-1 : Int32) < 0 by decide) h
  | cons a L => exact ⟨a, L, rfl⟩
theorem ra_ch_lt {fn : Nat → Int32} {b : Nat} : ∀ {L : List Nat}, ra_ch fn b L → ∀ a ∈ L, a < 40
  | [], _, a, h => by cases h
  | x :: L, h, a, ha => by
    rcases List.mem_cons.mp ha with rfl | q
    · exact h.1
    · exact ra_ch_lt h.2.2 a q
theorem ra_ch_app {fn : Nat → Int32} {b : Nat} : ∀ {L M : List Nat}, ra_ch fn b (L ++ M) → ra_ch fn b M
  | [], _, h => h
  | _ :: L, _, h => ra_ch_app (L := L) h.2.2
theorem ra_ch_cong {fn f' : Nat → Int32} {b : Nat} : ∀ {L : List Nat}, ra_ch fn b L → (∀ a ∈ L, f' (b + a) = fn (b + a)) → ra_ch f' b L
  | [], _, _ => trivial
  | x :: L, h, q => ⟨h.1, by rw [q x List.mem_cons_self]; exact h.2.1, ra_ch_cong h.2.2 (fun a ha => q a (List.mem_cons_of_mem _ ha))⟩
theorem ra_c2_next {fn : Nat → Int32} {b : Nat} : ∀ {L1 L2 : List Nat} {st : Nat}, fn (b + st) = ra_hd (L1 ++ L2) → ra_ch fn b (L1 ++ L2) → fn (b + L1.getLastD st) = ra_hd L2
  | [], L2, st, h, _ => h
  | a :: L1, L2, st, h, q => by
    rw [List.getLastD_cons]
    exact ra_c2_next (L1 := L1) q.2.1 q.2.2
theorem ra_ls_next {fn : Nat → Int32} {rp : Nat} {L1 L2 : List Nat} (h : ra_ls fn rp (L1 ++ L2)) : fn (41 * rp + L1.getLastD 40) = ra_hd L2 := ra_c2_next h.1 h.2
theorem ra_last_mem : ∀ {L : List Nat} {d : Nat}, L.getLastD d = d ∧ L = [] ∨ L.getLastD d ∈ L
  | [], _ => Or.inl ⟨rfl, rfl⟩
  | a :: L, d => by
    rw [List.getLastD_cons]
    rcases ra_last_mem (L := L) (d := a) with ⟨h, rfl⟩ | h
    · exact Or.inr (by rw [h]; exact List.mem_cons_self)
    · exact Or.inr (List.mem_cons_of_mem _ h)
theorem ra_last_lt {fn : Nat → Int32} {rp : Nat} {L1 L2 : List Nat} (h : ra_ls fn rp (L1 ++ L2)) : L1.getLastD 40 < 41 := by
  rcases ra_last_mem (L := L1) (d := 40) with ⟨q, -⟩ | q
  · omega
  · have := ra_ch_lt h.2 _ (List.mem_append_left L2 q)
    omega
/-- an element put into a chain -/
theorem ra_c2_link {fn : Nat → Int32} {b x : Nat} (hx : x < 40) : ∀ {L1 L2 : List Nat} {st : Nat}, fn (b + st) = ra_hd (L1 ++ L2) → ra_ch fn b (L1 ++ L2) → (L1 ++ L2).Nodup → st ∉ L1 ++ L2 → x ∉ L1 ++ L2 → x ≠ st →
    (upd (upd fn (b + x) (fn (b + L1.getLastD st))) (b + L1.getLastD st) (nI x)) (b + st) = ra_hd (L1 ++ x :: L2) ∧ ra_ch (upd (upd fn (b + x) (fn (b + L1.getLastD st))) (b + L1.getLastD st) (nI x)) b (L1 ++ x :: L2)
  | [], L2, st, h1, h2, hn, hs, hxL, hxs => by
    refine ⟨?_, hx, ?_, ?_⟩
    · show upd _ (b + st) (nI x) (b + st) = nI x
      rw [pk_us]
    · show upd _ (b + st) (nI x) (b + x) = ra_hd L2
      rw [pk_un (by omega), pk_us]
      exact h1
    · refine ra_ch_cong h2 (fun a ha => ?_)
      show upd _ (b + st) (nI x) (b + a) = fn (b + a)
      have e1 : a ≠ st := fun q => hs (q ▸ ha)
      have e2 : a ≠ x := fun q => hxL (q ▸ ha)
      rw [pk_un (by omega), pk_un (by omega)]
  | a :: L1, L2, st, h1, h2, hn, hs, hxL, hxs => by
    rw [List.getLastD_cons]
    have hn' := List.nodup_cons.mp (show (a :: (L1 ++ L2)).Nodup from hn)
    have hxL' : x ∉ L1 ++ L2 := fun q => hxL (List.mem_cons_of_mem _ q)
    have hxa : x ≠ a := fun q => hxL (q ▸ List.mem_cons_self)
    obtain ⟨g1, g2⟩ := ra_c2_link hx (L1 := L1) (L2 := L2) (st := a) h2.2.1 h2.2.2 hn'.2 hn'.1 hxL' hxa
    refine ⟨?_, h2.1, g1, g2⟩
    have e1 : L1.getLastD a ≠ st := by
      rcases ra_last_mem (L := L1) (d := a) with ⟨q, -⟩ | q
      · rw [q]
        exact fun z => hs (z ▸ List.mem_cons_self)
      · exact fun z => hs (z ▸ List.mem_cons_of_mem _ (List.mem_append_left _ q))
    rw [pk_un (by omega), pk_un (by omega)]
    exact h1
theorem ra_ls_link {fn : Nat → Int32} {rp x : Nat} {L1 L2 : List Nat} (h : ra_ls fn rp (L1 ++ L2)) (hx : x < 40) (hn : (L1 ++ L2).Nodup) (hxL : x ∉ L1 ++ L2) : ra_ls (upd (upd fn (41 * rp + x) (fn (41 * rp + L1.getLastD 40))) (41 * rp + L1.getLastD 40) (nI x)) rp (L1 ++ x :: L2) := by
  have h40 : 40 ∉ L1 ++ L2 := fun q => absurd (ra_ch_lt h.2 _ q) (by decide)
  exact ra_c2_link hx h.1 h.2 hn h40 hxL (by omega)
/-- the lists of the other replicas stay -/
theorem ra_ls_other {fn f' : Nat → Int32} {rp r2 : Nat} {L : List Nat} (h : ra_ls fn r2 L) (hne : r2 ≠ rp) (hk : ∀ j, j < 41 * rp ∨ 41 * rp + 41 ≤ j → f' j = fn j) : ra_ls f' r2 L := by
  refine ⟨?_, ra_ch_cong h.2 (fun a ha => hk _ ?_)⟩
  · rw [hk _ (by omega)]
    exact h.1
  · have := ra_ch_lt h.2 a ha
    omega
theorem ra_link_out {fn : Nat → Int32} {rp x a : Nat} {v : Int32} (hx : x < 41) (ha : a < 41) : ∀ j, j < 41 * rp ∨ 41 * rp + 41 ≤ j → upd (upd fn (41 * rp + x) v) (41 * rp + a) (nI x) j = fn j := by
  intro j hj
  rw [pk_un (by omega), pk_un (by omega)]
theorem ra_nth_nil (sh : Nat → Bool) (k : Nat) : ra_nth sh [] k = none := by simp [ra_nth]
theorem ra_nth_f {sh : Nat → Bool} {a : Nat} {L : List Nat} {k : Nat} (h : sh a = false) : ra_nth sh (a :: L) k = ra_nth sh L k := by simp [ra_nth, h]
theorem ra_nth_0 {sh : Nat → Bool} {a : Nat} {L : List Nat} (h : sh a = true) : ra_nth sh (a :: L) 0 = some a := by simp [ra_nth, h]
theorem ra_nth_s {sh : Nat → Bool} {a : Nat} {L : List Nat} {k : Nat} (h : sh a = true) : ra_nth sh (a :: L) (k + 1) = ra_nth sh L k := by simp [ra_nth, h]
theorem ra_nth_mem {sh : Nat → Bool} {L : List Nat} {k a : Nat} (h : ra_nth sh L k = some a) : a ∈ L ∧ sh a = true := List.mem_filter.mp (List.mem_of_getElem? h)
theorem ra_at_mem {sh : Nat → Bool} {L : List Nat} {pl : Int32} {a : Nat} (h : ra_at sh L pl = some a) : a ∈ L ∧ sh a = true := by
  unfold ra_at at h
  by_cases q : pl < 0
  · rw [if_pos q] at h
    cases h
  · rw [if_neg q] at h
    exact ra_nth_mem h
theorem ra_dw_tx (fl : Nat → Int32) (sh : Nat → Bool) : ∀ L : List Nat, ra_tx fl sh (ra_dw sh L) = ra_tx fl sh L
  | [] => rfl
  | a :: L => by
    unfold ra_dw
    by_cases h : sh a = true
    · rw [if_pos h]
    · rw [if_neg h, ra_dw_tx fl sh L]
      simp [ra_tx, h]
theorem ra_dw_len (sh : Nat → Bool) : ∀ L : List Nat, (ra_dw sh L).length ≤ L.length
  | [] => Nat.le_refl _
  | a :: L => by
    unfold ra_dw
    by_cases h : sh a = true
    · rw [if_pos h]
      exact Nat.le_refl _
    · rw [if_neg h]
      have := ra_dw_len sh L
      simp only [List.length_cons]
      omega
theorem ra_dw_ch {fn : Nat → Int32} {b : Nat} (sh : Nat → Bool) : ∀ {L : List Nat}, ra_ch fn b L → ra_ch fn b (ra_dw sh L)
  | [], _ => trivial
  | a :: L, h => by
    unfold ra_dw
    by_cases q : sh a = true
    · rw [if_pos q]
      exact h
    · rw [if_neg q]
      exact ra_dw_ch sh h.2.2
theorem ra_dw_hd {sh : Nat → Bool} : ∀ {L : List Nat} {a : Nat} {M : List Nat}, ra_dw sh L = a :: M → sh a = true
  | [], a, M, h => by cases h
  | x :: L, a, M, h => by
    unfold ra_dw at h
    by_cases q : sh x = true
    · rw [if_pos q] at h
      cases h
      exact q
    · rw [if_neg q] at h
      exact ra_dw_hd h
theorem ra_cn_le (f : Nat → Bool) : ∀ n, ra_cn f n ≤ n
  | 0 => Nat.le_refl _
  | n + 1 => by
    have := ra_cn_le f n
    unfold ra_cn
    split <;> omega
theorem ra_cn_s {f : Nat → Bool} {k : Nat} (h : f k = true) : ra_cn f (k + 1) = ra_cn f k + 1 := by
  rw [ra_cn, if_pos h]
theorem ra_cn_n {f : Nat → Bool} {k : Nat} (h : f k = false) : ra_cn f (k + 1) = ra_cn f k := by
  rw [ra_cn, if_neg (by rw [h]; decide)]
  rfl
theorem ra_cn_cong {f g : Nat → Bool} : ∀ {n : Nat}, (∀ k, k < n → f k = g k) → ra_cn f n = ra_cn g n
  | 0, _ => rfl
  | n + 1, h => by
    rw [ra_cn, ra_cn, ra_cn_cong (fun k hk => h k (by omega)), h n (by omega)]
end
section
/-! PURE 2: what the edits do to the shared state -/
def ra_mx (C : Nat → Nat) (rp v : Nat) : Nat → Nat := if C rp < v then va_up C rp v else C
/-- a list cut behind its k-th shown element -/
def ra_sp (sh : Nat → Bool) : Nat → List Nat → List Nat × List Nat
  | 0, L => ([], L)
  | _ + 1, [] => ([], [])
  | k + 1, b :: L => if sh b = true then (b :: (ra_sp sh k L).1, (ra_sp sh k L).2) else (b :: (ra_sp sh (k + 1) L).1, (ra_sp sh (k + 1) L).2)
theorem ra_sp_app (sh : Nat → Bool) : ∀ (L : List Nat) (k : Nat), (ra_sp sh k L).1 ++ (ra_sp sh k L).2 = L
  | L, 0 => by simp [ra_sp]
  | [], k + 1 => by simp [ra_sp]
  | b :: L, k + 1 => by
    unfold ra_sp
    by_cases h : sh b = true
    · rw [if_pos h]
      show b :: ((ra_sp sh k L).1 ++ (ra_sp sh k L).2) = b :: L
      rw [ra_sp_app sh L k]
    · rw [if_neg h]
      show b :: ((ra_sp sh (k + 1) L).1 ++ (ra_sp sh (k + 1) L).2) = b :: L
      rw [ra_sp_app sh L (k + 1)]
theorem ra_sp_nth (sh : Nat → Bool) : ∀ (L : List Nat) (k d : Nat), k < (L.filter sh).length → ra_nth sh L k = some ((ra_sp sh (k + 1) L).1.getLastD d)
  | [], k, d, h => by simp at h
  | b :: L, k, d, h => by
    unfold ra_sp
    by_cases hb : sh b = true
    · rw [if_pos hb, List.getLastD_cons]
      cases k with
      | zero =>
        rw [ra_nth_0 hb]
        simp [ra_sp]
      | succ k =>
        rw [ra_nth_s hb]
        refine ra_sp_nth sh L k b ?_
        simp only [List.filter_cons, hb, if_true, List.length_cons] at h
        omega
    · have hb' : sh b = false := by simpa using hb
      rw [if_neg hb, ra_nth_f hb', List.getLastD_cons]
      refine ra_sp_nth sh L k b ?_
      simpa [List.filter_cons, hb] using h
/-- where an insert at place k goes: behind the shown element before it -/
theorem ra_sp_at {sh : Nat → Bool} {L : List Nat} {k : Nat} (h : k ≤ (L.filter sh).length) (hk : k < 2 ^ 31) : (ra_el (-1) (ra_at sh L (nI k - 1)) = -1 ∧ (ra_sp sh k L).1 = [] ∧ k = 0) ∨ (ra_el (-1) (ra_at sh L (nI k - 1)) = nI ((ra_sp sh k L).1.getLastD 40) ∧ (ra_sp sh k L).1.getLastD 40 ∈ L ∧ ¬ k = 0 ∧ ra_at sh L (nI k - 1) = some ((ra_sp sh k L).1.getLastD 40)) := by
  cases k with
  | zero =>
    refine Or.inl ⟨?_, by simp [ra_sp], rfl⟩
    rw [ra_at, if_pos (by decide)]
    rfl
  | succ k =>
    have e : ra_at sh L (nI (k + 1) - 1) = some ((ra_sp sh (k + 1) L).1.getLastD 40) := by
      rw [nI_pred, ra_at, if_neg (nI_pos (by omega)), nI_clamp (by omega)]
      exact ra_sp_nth sh L k 40 (by omega)
    exact Or.inr ⟨by rw [e]; rfl, (ra_at_mem e).1, by omega, e⟩
/-- a list cut behind an element -/
def ra_cut (p : Nat) : List Nat → List Nat × List Nat
  | [] => ([], [])
  | b :: L => if b = p then ([b], L) else (b :: (ra_cut p L).1, (ra_cut p L).2)
def ra_ins (key : Nat → Nat) (p x : Nat) (L : List Nat) : List Nat := if p = 40 then ra_sk key x L else (ra_cut p L).1 ++ ra_sk key x (ra_cut p L).2
theorem ra_cut_ok (p : Nat) : ∀ (L : List Nat) (d : Nat), p ∈ L → (ra_cut p L).1 ++ (ra_cut p L).2 = L ∧ (ra_cut p L).1.getLastD d = p
  | [], _, h => by cases h
  | b :: L, d, h => by
    unfold ra_cut
    by_cases hb : b = p
    · rw [if_pos hb]
      exact ⟨rfl, hb⟩
    · rw [if_neg hb]
      have hp : p ∈ L := by
        rcases List.mem_cons.mp h with q | q
        · exact absurd q.symm hb
        · exact q
      obtain ⟨e1, e2⟩ := ra_cut_ok p L b hp
      refine ⟨?_, ?_⟩
      · show b :: ((ra_cut p L).1 ++ (ra_cut p L).2) = b :: L
        rw [e1]
      · show (b :: (ra_cut p L).1).getLastD d = p
        rw [List.getLastD_cons]
        exact e2
/-- the place of an insertion, as a cut of the list -/
theorem ra_ins_cut {key : Nat → Nat} {p x : Nat} {L : List Nat} (h : p = 40 ∨ p ∈ L) (h40 : 40 ∉ L) : ∃ L1 L2, L = L1 ++ L2 ∧ p = L1.getLastD 40 ∧ ra_ins key p x L = L1 ++ ra_sk key x L2 := by
  by_cases hp : p = 40
  · exact ⟨[], L, rfl, hp, by rw [ra_ins, if_pos hp]; rfl⟩
  · have hm : p ∈ L := by
      rcases h with q | q
      · exact absurd q hp
      · exact q
    obtain ⟨e1, e2⟩ := ra_cut_ok p L 40 hm
    exact ⟨_, _, e1.symm, e2.symm, by rw [ra_ins, if_neg hp]⟩
/-! learn, step by step: clocks, known, gone, the learner's list, how many -/
abbrev ra_LS : Type := (Nat → Nat) × (Nat → Int64) × (Nat → Int64) × List Nat × Nat
def ra_l1 (S O P : Nat → Nat) (rt rf i : Nat) (s : ra_LS) : ra_LS :=
  if (ra_bt (s.2.1 rf) i && !(ra_bt (s.2.1 rt) i)) = true then (ra_mx s.1 rt (S i), vp_updL s.2.1 rt (ra_or (s.2.1 rt) i), s.2.2.1, ra_ins (ra_key S O) (P i) i s.2.2.2.1, s.2.2.2.2 + 1) else s
def ra_l2 (rt rf i : Nat) (s : ra_LS) : ra_LS :=
  if (ra_bt (s.2.2.1 rf) i && !(ra_bt (s.2.2.1 rt) i)) = true then (s.1, s.2.1, vp_updL s.2.2.1 rt (ra_or (s.2.2.1 rt) i), s.2.2.2.1, s.2.2.2.2 + 1) else s
def ra_ln (S O P : Nat → Nat) (rt rf : Nat) (s : ra_LS) : Nat → ra_LS
  | 0 => s
  | i + 1 => ra_l2 rt rf i (ra_l1 S O P rt rf i (ra_ln S O P rt rf s i))
theorem ra_l1_y {S O P : Nat → Nat} {rt rf i : Nat} {C : Nat → Nat} {k g : Nat → Int64} {L : List Nat} {t : Nat} (h1 : ra_bt (k rf) i = true) (h2 : ra_bt (k rt) i = false) : ra_l1 S O P rt rf i (C, k, g, L, t) = (ra_mx C rt (S i), vp_updL k rt (ra_or (k rt) i), g, ra_ins (ra_key S O) (P i) i L, t + 1) := by
  unfold ra_l1
  exact if_pos (by show (ra_bt (k rf) i && !(ra_bt (k rt) i)) = true; rw [h1, h2]; rfl)
theorem ra_l1_n {S O P : Nat → Nat} {rt rf i : Nat} {C : Nat → Nat} {k g : Nat → Int64} {L : List Nat} {t : Nat} (h : ra_bt (k rf) i = false ∨ ra_bt (k rt) i = true) : ra_l1 S O P rt rf i (C, k, g, L, t) = (C, k, g, L, t) := by
  unfold ra_l1
  refine if_neg ?_
  show ¬ (ra_bt (k rf) i && !(ra_bt (k rt) i)) = true
  rcases h with h | h <;> rw [h]
  · rw [Bool.false_and]; decide
  · rw [Bool.not_true, Bool.and_false]; decide
theorem ra_l2_y {rt rf i : Nat} {C : Nat → Nat} {k g : Nat → Int64} {L : List Nat} {t : Nat} (h1 : ra_bt (g rf) i = true) (h2 : ra_bt (g rt) i = false) : ra_l2 rt rf i (C, k, g, L, t) = (C, k, vp_updL g rt (ra_or (g rt) i), L, t + 1) := by
  unfold ra_l2
  exact if_pos (by show (ra_bt (g rf) i && !(ra_bt (g rt) i)) = true; rw [h1, h2]; rfl)
theorem ra_l2_n {rt rf i : Nat} {C : Nat → Nat} {k g : Nat → Int64} {L : List Nat} {t : Nat} (h : ra_bt (g rf) i = false ∨ ra_bt (g rt) i = true) : ra_l2 rt rf i (C, k, g, L, t) = (C, k, g, L, t) := by
  unfold ra_l2
  refine if_neg ?_
  show ¬ (ra_bt (g rf) i && !(ra_bt (g rt) i)) = true
  rcases h with h | h <;> rw [h]
  · rw [Bool.false_and]; decide
  · rw [Bool.not_true, Bool.and_false]; decide
/-- what a delete does to the bits -/
def ra_dG (fg : Nat → Int64) (Xl : Nat → List Nat) (r pl : Int32) : Nat → Int64 :=
  if r < 0 ∨ 2 < r then fg else match ra_at (ra_sh fg r.toNatClampNeg) (Xl r.toNatClampNeg) pl with
    | none => fg
    | some a => vp_updL fg r.toNatClampNeg (ra_or (fg r.toNatClampNeg) a)
theorem ra_dG_bad {fg : Nat → Int64} {Xl : Nat → List Nat} {r pl : Int32} (h : r < 0 ∨ 2 < r) : ra_dG fg Xl r pl = fg := if_pos h
theorem ra_dG_none {fg : Nat → Int64} {Xl : Nat → List Nat} {rp : Nat} {pl : Int32} (h : rp < 3) (ho : ra_at (ra_sh fg rp) (Xl rp) pl = none) : ra_dG fg Xl (nI rp) pl = fg := by
  unfold ra_dG
  rw [if_neg (ra_bad_no h), nI_clamp (by omega), ho]
theorem ra_dG_some {fg : Nat → Int64} {Xl : Nat → List Nat} {rp a : Nat} {pl : Int32} (h : rp < 3) (ho : ra_at (ra_sh fg rp) (Xl rp) pl = some a) : ra_dG fg Xl (nI rp) pl = vp_updL fg rp (ra_or (fg rp) a) := by
  unfold ra_dG
  rw [if_neg (ra_bad_no h), nI_clamp (by omega), ho]
/-- when an insert is one, and what it answers when it is none -/
def ra_iE (n : Nat) (fk fg : Nat → Int64) (r pl : Int32) : Prop := ∃ rp k, rp < 3 ∧ r = nI rp ∧ pl = nI k ∧ k ≤ ra_cn (ra_kf fk fg rp) n ∧ n < 40
def ra_iA (n : Nat) (fk fg : Nat → Int64) (r pl : Int32) : Int32 := ra_rp r (fun rp => if pl < 0 ∨ nI (ra_cn (ra_kf fk fg rp) n) < pl then -2 else -3)
def ra_lA (r r2 : Int32) : Int32 := if (r < 0 ∨ 2 < r) ∨ (r2 < 0 ∨ 2 < r2) then -1 else -4
end
section
/-! ORDER: ways from the root, their order, and insertion into a sorted list -/
def ra_path (P : Nat → Nat) (a : Nat) : List Nat := if h : P a < a then ra_path P (P a) ++ [a] else [a]
termination_by a
def ra_lx (key : Nat → Nat) : List Nat → List Nat → Bool
  | [], _ => true
  | _ :: _, [] => false
  | x :: L, y :: M => if x = y then ra_lx key L M else decide (key y < key x)
def ra_bf (S O P : Nat → Nat) (a b : Nat) : Bool := ra_lx (ra_key S O) (ra_path P a) (ra_path P b)
theorem ra_path_cases (P : Nat → Nat) (a : Nat) : (P a < a ∧ ra_path P a = ra_path P (P a) ++ [a]) ∨ (¬ P a < a ∧ ra_path P a = [a]) := by
  by_cases h : P a < a
  · refine Or.inl ⟨h, ?_⟩
    rw [ra_path, dif_pos h]
  · refine Or.inr ⟨h, ?_⟩
    rw [ra_path, dif_neg h]
theorem ra_path_end (P : Nat → Nat) (a : Nat) : ∃ Q, ra_path P a = Q ++ [a] := by
  rcases ra_path_cases P a with ⟨-, h⟩ | ⟨-, h⟩
  · exact ⟨_, h⟩
  · exact ⟨[], h⟩
theorem ra_path_self (P : Nat → Nat) (a : Nat) : a ∈ ra_path P a := by
  obtain ⟨Q, h⟩ := ra_path_end P a
  rw [h]
  simp
theorem ra_path_mem {P : Nat → Nat} {a v : Nat} (h : v ∈ ra_path P a) : v = a ∨ (P a < a ∧ v ∈ ra_path P (P a)) := by
  rcases ra_path_cases P a with ⟨h1, e⟩ | ⟨h1, e⟩
  · rw [e] at h
    rcases List.mem_append.mp h with q | q
    · exact Or.inr ⟨h1, q⟩
    · exact Or.inl (List.mem_singleton.mp q)
  · rw [e] at h
    exact Or.inl (List.mem_singleton.mp h)
theorem ra_path_inj {P : Nat → Nat} {a b : Nat} (h : ra_path P a = ra_path P b) : a = b := by
  obtain ⟨Q, e1⟩ := ra_path_end P a
  obtain ⟨R, e2⟩ := ra_path_end P b
  rw [e1, e2] at h
  have := (List.append_inj' h rfl).2
  simpa using this
theorem ra_path_split {P : Nat → Nat} : ∀ (a : Nat) {w z : List Nat} {v : Nat}, ra_path P a = w ++ v :: z → ra_path P v = w ++ [v] := by
  intro a
  induction a using Nat.strongRecOn with
  | ind a ih =>
    intro w z v hE
    rcases List.eq_nil_or_concat z with rfl | ⟨z', y, rfl⟩
    · obtain ⟨Q, e⟩ := ra_path_end P a
      have h2 : a = v := by
        rw [e] at hE
        have := (List.append_inj' hE rfl).2
        simpa using this
      subst h2
      exact hE
    · have hE2 : ra_path P a = (w ++ v :: z') ++ [y] := by rw [hE]; simp
      rcases ra_path_cases P a with ⟨h1, e⟩ | ⟨h1, e⟩
      · rw [e] at hE2
        exact ih (P a) h1 (List.append_inj' hE2 rfl).1
      · rw [e] at hE2
        have := (List.append_inj' (s₁ := []) (t₁ := [a]) hE2 rfl).1
        simp at this
theorem ra_path_in {P : Nat → Nat} {T : Nat → Prop} (hT : ∀ b, T b → P b < b → T (P b)) : ∀ a, T a → ∀ v, v ∈ ra_path P a → T v := by
  intro a
  induction a using Nat.strongRecOn with
  | ind a ih =>
    intro ha v hv
    rcases ra_path_mem hv with rfl | ⟨h1, h2⟩
    · exact ha
    · exact ih (P a) h1 (hT a ha h1) v h2
theorem ra_path_le {P : Nat → Nat} : ∀ a v, v ∈ ra_path P a → v ≤ a := by
  intro a
  induction a using Nat.strongRecOn with
  | ind a ih =>
    intro v hv
    rcases ra_path_mem hv with rfl | ⟨h1, h2⟩
    · exact Nat.le_refl _
    · have := ih (P a) h1 v h2
      omega
theorem ra_path_key {P key : Nat → Nat} {T : Nat → Prop} (hT : ∀ b, T b → P b < b → T (P b)) (hk : ∀ b, T b → P b < b → key (P b) < key b) : ∀ a, T a → ∀ v, v ∈ ra_path P a → key v ≤ key a := by
  intro a
  induction a using Nat.strongRecOn with
  | ind a ih =>
    intro ha v hv
    rcases ra_path_mem hv with rfl | ⟨h1, h2⟩
    · exact Nat.le_refl _
    · have := ih (P a) h1 (hT a ha h1) v h2
      have := hk a ha h1
      omega
theorem ra_path_cong {P P' : Nat → Nat} : ∀ a, (∀ b, b ≤ a → P' b = P b) → ra_path P' a = ra_path P a := by
  intro a
  induction a using Nat.strongRecOn with
  | ind a ih =>
    intro h
    have e := h a (Nat.le_refl _)
    rcases ra_path_cases P a with ⟨h1, e1⟩ | ⟨h1, e1⟩
    · rcases ra_path_cases P' a with ⟨h2, e2⟩ | ⟨h2, e2⟩
      · rw [e1, e2, e, ih (P a) h1 (fun b hb => h b (by omega))]
      · rw [e] at h2
        exact absurd h1 h2
    · rcases ra_path_cases P' a with ⟨h2, e2⟩ | ⟨h2, e2⟩
      · rw [e] at h2
        exact absurd h2 h1
      · rw [e1, e2]
theorem ra_lx_app (key : Nat → Nat) : ∀ (w A B : List Nat), ra_lx key (w ++ A) (w ++ B) = ra_lx key A B
  | [], _, _ => rfl
  | x :: w, A, B => by
    show (if x = x then ra_lx key (w ++ A) (w ++ B) else _) = _
    rw [if_pos rfl]
    exact ra_lx_app key w A B
theorem ra_lx_pre (key : Nat → Nat) (w B : List Nat) : ra_lx key w (w ++ B) = true := by
  have := ra_lx_app key w [] B
  rw [List.append_nil] at this
  rw [this]
  rfl
theorem ra_lx_ne {key : Nat → Nat} {x y : Nat} {L M : List Nat} (h : x ≠ y) : ra_lx key (x :: L) (y :: M) = decide (key y < key x) := if_neg h
theorem ra_lx_cases {key : Nat → Nat} : ∀ {A B : List Nat}, ra_lx key A B = true → (∃ z, B = A ++ z) ∨ ∃ w u z1 v z2, A = w ++ u :: z1 ∧ B = w ++ v :: z2 ∧ u ≠ v ∧ key v < key u
  | [], B, _ => Or.inl ⟨B, rfl⟩
  | x :: A, [], h => by cases h
  | x :: A, y :: B, h => by
    by_cases e : x = y
    · subst e
      have h' : ra_lx key A B = true := by
        have h2 : (if x = x then ra_lx key A B else decide (key x < key x)) = true := h
        rwa [if_pos rfl] at h2
      rcases ra_lx_cases h' with ⟨z, rfl⟩ | ⟨w, u, z1, v, z2, rfl, rfl, h1, h2⟩
      · exact Or.inl ⟨z, rfl⟩
      · exact Or.inr ⟨x :: w, u, z1, v, z2, rfl, rfl, h1, h2⟩
    · rw [ra_lx_ne e] at h
      exact Or.inr ⟨[], x, A, y, B, rfl, rfl, e, of_decide_eq_true h⟩
theorem ra_lx_anti {key : Nat → Nat} : ∀ {A B : List Nat}, ra_lx key A B = true → ra_lx key B A = true → A = B
  | [], [], _, _ => rfl
  | [], _ :: _, _, h => by cases h
  | _ :: _, [], h, _ => by cases h
  | x :: A, y :: B, h, g => by
    by_cases e : x = y
    · subst e
      have h2 : (if x = x then ra_lx key A B else decide (key x < key x)) = true := h
      have g2 : (if x = x then ra_lx key B A else decide (key x < key x)) = true := g
      rw [if_pos rfl] at h2 g2
      rw [ra_lx_anti h2 g2]
    · rw [ra_lx_ne e] at h
      rw [ra_lx_ne (Ne.symm e)] at g
      have h1 := of_decide_eq_true h
      have g1 := of_decide_eq_true g
      omega
theorem ra_lx_trans {key : Nat → Nat} : ∀ {A B D : List Nat}, ra_lx key A B = true → ra_lx key B D = true → ra_lx key A D = true
  | [], _, _, _, _ => rfl
  | _ :: _, [], _, h, _ => by cases h
  | _ :: _, _ :: _, [], _, g => by cases g
  | x :: A, y :: B, z :: D, h, g => by
    by_cases e : x = y
    · subst e
      have h2 : (if x = x then ra_lx key A B else decide (key x < key x)) = true := h
      rw [if_pos rfl] at h2
      by_cases e2 : x = z
      · subst e2
        have g2 : (if x = x then ra_lx key B D else decide (key x < key x)) = true := g
        rw [if_pos rfl] at g2
        show (if x = x then ra_lx key A D else decide (key x < key x)) = true
        rw [if_pos rfl]
        exact ra_lx_trans h2 g2
      · rw [ra_lx_ne e2] at g ⊢
        exact g
    · rw [ra_lx_ne e] at h
      have h1 := of_decide_eq_true h
      by_cases e2 : y = z
      · subst e2
        rw [ra_lx_ne e]
        exact h
      · rw [ra_lx_ne e2] at g
        have g1 := of_decide_eq_true g
        have e3 : x ≠ z := by
          intro q
          subst q
          omega
        rw [ra_lx_ne e3]
        exact decide_eq_true (by omega)
theorem ra_lx_cong {key key' : Nat → Nat} : ∀ {A B : List Nat}, (∀ a, a ∈ A → key' a = key a) → (∀ b, b ∈ B → key' b = key b) → ra_lx key' A B = ra_lx key A B
  | [], _, _, _ => rfl
  | _ :: _, [], _, _ => rfl
  | x :: A, y :: B, h, g => by
    by_cases e : x = y
    · subst e
      show (if x = x then ra_lx key' A B else _) = (if x = x then ra_lx key A B else _)
      rw [if_pos rfl, if_pos rfl]
      exact ra_lx_cong (fun a ha => h a (List.mem_cons_of_mem _ ha)) (fun b hb => g b (List.mem_cons_of_mem _ hb))
    · rw [ra_lx_ne e, ra_lx_ne e, h x List.mem_cons_self, g y List.mem_cons_self]
/-- an element above another comes first -/
theorem ra_mem_path {P : Nat → Nat} {a b : Nat} (h : a ∈ ra_path P b) : ∃ z, ra_path P b = ra_path P a ++ z := by
  obtain ⟨w, z, e⟩ := List.append_of_mem h
  have e2 := ra_path_split b e
  exact ⟨z, by rw [e, e2]; simp⟩
theorem ra_bf_up {S O P : Nat → Nat} {a b : Nat} (h : a ∈ ra_path P b) : ra_bf S O P a b = true := by
  obtain ⟨z, e⟩ := ra_mem_path h
  unfold ra_bf
  rw [e]
  exact ra_lx_pre _ _ _
theorem ra_bf_anti {S O P : Nat → Nat} {a b : Nat} (h : ra_bf S O P a b = true) (g : ra_bf S O P b a = true) : a = b := ra_path_inj (ra_lx_anti h g)
theorem ra_bf_dn {S O P : Nat → Nat} {a b : Nat} (h : b ∈ ra_path P a) (hne : a ≠ b) : ra_bf S O P a b = false := by
  cases hb : ra_bf S O P a b with
  | false => rfl
  | true => exact absurd (ra_bf_anti hb (ra_bf_up h)) hne
/-- two elements, neither above the other: the branches of their ways decide -/
theorem ra_bf_br {S O P : Nat → Nat} {a b p q : Nat} (hp : p ∈ ra_path P a) (hpb : p ∉ ra_path P b) (hpp : ¬ P p < p ∨ P p ∈ ra_path P b) (hq : q ∈ ra_path P b) (hqa : q ∉ ra_path P a) (hqq : ¬ P q < q ∨ P q ∈ ra_path P a) : ra_bf S O P a b = decide (ra_key S O q < ra_key S O p) := by
  have pre : ∀ {x y r : Nat}, r ∈ ra_path P x → (¬ P r < r ∨ P r ∈ ra_path P y) → ∃ w z t, ra_path P x = w ++ r :: z ∧ ra_path P y = w ++ t := by
    intro x y r hr h
    obtain ⟨w, z, e⟩ := List.append_of_mem hr
    have e2 := ra_path_split x e
    rcases ra_path_cases P r with ⟨h1, e3⟩ | ⟨h1, e3⟩
    · rw [e2] at e3
      have e4 := (List.append_inj' e3 rfl).1
      rcases h with h | h
      · exact absurd h1 h
      · obtain ⟨t, ht⟩ := ra_mem_path h
        exact ⟨w, z, t, e, by rw [ht, e4]⟩
    · rw [e2] at e3
      have e4 := (List.append_inj' (s₂ := []) (t₂ := [r]) e3 rfl).1
      exact ⟨w, z, ra_path P y, e, by rw [e4]; rfl⟩
  obtain ⟨w, z, t, e1, e2⟩ := pre hp hpp
  obtain ⟨w', z', t', e3, e4⟩ := pre hq hqq
  have hw : w = w' := by
    rw [e1] at e4
    rw [e2] at e3
    rcases List.append_eq_append_iff.mp e4 with ⟨d, h1, h2⟩ | ⟨d, h1, h2⟩
    · cases d with
      | nil => simpa using h1.symm
      | cons y d =>
        have hy : p = y := by
          have := (List.cons.inj h2).1
          exact this
        exact absurd (by rw [e2, e3, h1, hy]; simp) hpb
    · rcases List.append_eq_append_iff.mp e3 with ⟨d2, g1, g2⟩ | ⟨d2, g1, g2⟩
      · cases d2 with
        | nil => simpa using g1.symm
        | cons y d2 =>
          have := congrArg List.length h1
          have := congrArg List.length g1
          simp only [List.length_append, List.length_cons] at *
          omega
      · cases d2 with
        | nil => simpa using g1
        | cons y d2 =>
          have hy : q = y := (List.cons.inj g2).1
          exact absurd (by rw [e1, g1, hy]; simp) hqa
  subst hw
  have hne : p ≠ q := fun h => hpb (by rw [h]; exact hq)
  unfold ra_bf
  rw [e1, e3, ra_lx_app, ra_lx_ne hne]
theorem ra_sk_dec (key : Nat → Nat) (x : Nat) : ∀ L : List Nat, ∃ M1 M2, L = M1 ++ M2 ∧ ra_sk key x L = M1 ++ x :: M2 ∧ (∀ b, b ∈ M1 → key x < key b) ∧ (∀ c M, M2 = c :: M → ¬ key x < key c)
  | [] => ⟨[], [], rfl, rfl, fun b h => (by cases h), fun c M h => by cases h⟩
  | b :: L => by
    unfold ra_sk
    by_cases h : key x < key b
    · rw [if_pos h]
      obtain ⟨M1, M2, e1, e2, h1, h2⟩ := ra_sk_dec key x L
      refine ⟨b :: M1, M2, by rw [e1]; rfl, by rw [e2]; rfl, ?_, h2⟩
      intro d hd
      rcases List.mem_cons.mp hd with rfl | q
      · exact h
      · exact h1 d q
    · rw [if_neg h]
      refine ⟨[], b :: L, rfl, rfl, fun b h => (by cases h), ?_⟩
      intro c M e
      cases e
      exact h
/-- the insertion keeps the list sorted -/
theorem ra_ins_so {S O P : Nat → Nat} {x : Nat} {L1 L2 : List Nat} (hso : (L1 ++ L2).Pairwise (fun a b => ra_bf S O P a b = true)) (hnd : (L1 ++ L2).Nodup) (hx : x ∉ L1 ++ L2) (hcl : ∀ b, b ∈ L1 ++ L2 → P b < b → P b ∈ L1 ++ L2) (hky : ∀ b, b ∈ L1 ++ L2 → P b < b → ra_key S O (P b) < ra_key S O b) (hkx : P x < x → ra_key S O (P x) < ra_key S O x) (hinj : ∀ b, b ∈ L1 ++ L2 → ra_key S O b ≠ ra_key S O x) (hpx : (L1 = [] ∧ ¬ P x < x) ∨ (P x < x ∧ ∃ L0, L1 = L0 ++ [P x])) : (L1 ++ ra_sk (ra_key S O) x L2).Pairwise (fun a b => ra_bf S O P a b = true) := by
  obtain ⟨M1, M2, rfl, e2, hM1, hM2⟩ := ra_sk_dec (ra_key S O) x L2
  rw [e2]
  obtain ⟨s1, s2, s3⟩ := List.pairwise_append.mp hso
  obtain ⟨t1, t2, t3⟩ := List.pairwise_append.mp s2
  obtain ⟨n1, n2, n3⟩ := List.nodup_append.mp hnd
  obtain ⟨m1, m2, m3⟩ := List.nodup_append.mp n2
  have hinL : ∀ a, a ∈ L1 ++ (M1 ++ M2) → ∀ v, v ∈ ra_path P a → v ∈ L1 ++ (M1 ++ M2) := ra_path_in (T := fun a => a ∈ L1 ++ (M1 ++ M2)) hcl
  have hkL : ∀ a, a ∈ L1 ++ (M1 ++ M2) → ∀ v, v ∈ ra_path P a → ra_key S O v ≤ ra_key S O a := ra_path_key (T := fun a => a ∈ L1 ++ (M1 ++ M2)) hcl hky
  -- the way to the parent
  obtain ⟨pp, hpath, hpL, hpR, hpk, hpne⟩ : ∃ pp, ra_path P x = pp ++ [x] ∧ (∀ b, b ∈ L1 → ra_lx (ra_key S O) (ra_path P b) pp = true) ∧ (∀ b, b ∈ M1 ++ M2 → ra_lx (ra_key S O) pp (ra_path P b) = true) ∧ (∀ u, u ∈ pp → ra_key S O u < ra_key S O x) ∧ (∀ b, b ∈ M1 ++ M2 → ra_path P b ≠ pp) := by
    rcases hpx with ⟨h1, h2⟩ | ⟨h1, L0, h2⟩
    · refine ⟨[], ?_, ?_, fun _ _ => rfl, fun u h => (by cases h), ?_⟩
      · rcases ra_path_cases P x with ⟨q, -⟩ | ⟨-, q⟩
        · exact absurd q h2
        · exact q
      · intro b hb
        rw [h1] at hb
        cases hb
      · intro b _ h
        obtain ⟨Q, e⟩ := ra_path_end P b
        rw [e] at h
        simp at h
    · have hpm : P x ∈ L1 := by rw [h2]; simp
      refine ⟨ra_path P (P x), ?_, ?_, ?_, ?_, ?_⟩
      · rcases ra_path_cases P x with ⟨-, q⟩ | ⟨q, -⟩
        · exact q
        · exact absurd h1 q
      · intro b hb
        rw [h2] at hb s1
        rcases List.mem_append.mp hb with q | q
        · exact (List.pairwise_append.mp s1).2.2 b q (P x) (by simp)
        · rw [List.mem_singleton.mp q]
          have := ra_lx_pre (ra_key S O) (ra_path P (P x)) []
          rwa [List.append_nil] at this
      · intro b hb
        exact s3 (P x) hpm b hb
      · intro u hu
        have := hkL (P x) (List.mem_append_left _ hpm) u hu
        have := hkx h1
        omega
      · intro b hb h
        have hb2 := ra_path_inj h
        exact n3 (P x) hpm b hb hb2.symm
  have dis : ∀ b, b ∈ M1 → b ∉ M2 := fun b h1 h2 => m3 b h1 b h2 rfl
  have hB : ∀ b, b ∈ M1 → ra_bf S O P b x = true := by
    intro b hb
    have hbL : b ∈ M1 ++ M2 := List.mem_append_left _ hb
    have hbA : b ∈ L1 ++ (M1 ++ M2) := List.mem_append_right _ hbL
    unfold ra_bf
    rw [hpath]
    rcases ra_lx_cases (hpR b hbL) with ⟨z, hz⟩ | ⟨w, u, z1, v, z2, e1, e3, hne, hlt⟩
    · cases z with
      | nil =>
        rw [List.append_nil] at hz
        exact absurd hz (hpne b hbL)
      | cons d z =>
        have hd1 := ra_path_split b hz
        have hdp : d ∈ ra_path P b := by rw [hz]; simp
        have hdL := hinL b hbA d hdp
        have hdx : d ≠ x := fun q => hx (q ▸ hdL)
        have hk : ra_key S O x < ra_key S O d := by
          rcases List.mem_append.mp hdL with q | q
          · have a1 := hpL d q
            have a2 : ra_lx (ra_key S O) pp (ra_path P d) = true := by rw [hd1]; exact ra_lx_pre _ _ _
            have a3 := ra_lx_anti a1 a2
            rw [hd1] at a3
            simp at a3
          · rcases List.mem_append.mp q with q | q
            · exact hM1 d q
            · have a1 := t3 b hb d q
              have a2 := ra_bf_up (S := S) (O := O) hdp
              have a3 := ra_bf_anti a1 a2
              exact absurd (a3 ▸ q) (dis b hb)
        rw [hz, ra_lx_app, ra_lx_ne hdx]
        exact decide_eq_true hk
    · have hv1 := ra_path_split b e3
      have hvp : v ∈ ra_path P b := by rw [e3]; simp
      have hvL := hinL b hbA v hvp
      have hux : ra_key S O u < ra_key S O x := hpk u (by rw [e1]; simp)
      rcases List.mem_append.mp hvL with q | q
      · have a1 := hpL v q
        rw [hv1, e1, ra_lx_app, ra_lx_ne (Ne.symm hne)] at a1
        have := of_decide_eq_true a1
        omega
      · rcases List.mem_append.mp q with q | q
        · have := hM1 v q
          omega
        · have a1 := t3 b hb v q
          have a2 := ra_bf_up (S := S) (O := O) hvp
          have a3 := ra_bf_anti a1 a2
          exact absurd (a3 ▸ q) (dis b hb)
  have hC0 : ∀ c M, M2 = c :: M → ra_bf S O P x c = true := by
    intro c M hc
    have hcM : c ∈ M2 := by rw [hc]; simp
    have hcL : c ∈ M1 ++ M2 := List.mem_append_right _ hcM
    have hcA : c ∈ L1 ++ (M1 ++ M2) := List.mem_append_right _ hcL
    have hkc : ra_key S O c < ra_key S O x := by
      have := hM2 c M hc
      have := hinj c hcA
      omega
    unfold ra_bf
    rw [hpath]
    rcases ra_lx_cases (hpR c hcL) with ⟨z, hz⟩ | ⟨w, u, z1, v, z2, e1, e3, hne, hlt⟩
    · cases z with
      | nil =>
        rw [List.append_nil] at hz
        exact absurd hz (hpne c hcL)
      | cons d z =>
        have hdp : d ∈ ra_path P c := by rw [hz]; simp
        have hdL := hinL c hcA d hdp
        have hdx : x ≠ d := fun q => hx (q ▸ hdL)
        have := hkL c hcA d hdp
        rw [hz, ra_lx_app, ra_lx_ne hdx]
        exact decide_eq_true (by omega)
    · rw [e1, e3, List.append_assoc, ra_lx_app]
      show ra_lx (ra_key S O) (u :: (z1 ++ [x])) (v :: z2) = true
      rw [ra_lx_ne hne]
      exact decide_eq_true hlt
  have hC : ∀ c, c ∈ M2 → ra_bf S O P x c = true := by
    intro c hc
    cases hM : M2 with
    | nil =>
      rw [hM] at hc
      cases hc
    | cons d M =>
      rw [hM] at hc t2
      have h0 := hC0 d M hM
      rcases List.mem_cons.mp hc with rfl | q
      · exact h0
      · exact ra_lx_trans h0 ((List.pairwise_cons.mp t2).1 c q)
  have hA : ∀ b, b ∈ L1 → ra_bf S O P b x = true := by
    intro b hb
    unfold ra_bf
    rw [hpath]
    exact ra_lx_trans (hpL b hb) (ra_lx_pre _ _ _)
  refine List.pairwise_append.mpr ⟨s1, List.pairwise_append.mpr ⟨t1, List.pairwise_cons.mpr ⟨hC, t2⟩, ?_⟩, ?_⟩
  · intro a ha b hb
    rcases List.mem_cons.mp hb with rfl | q
    · exact hB a ha
    · exact t3 a ha b q
  · intro a ha b hb
    rcases List.mem_append.mp hb with q | q
    · exact s3 a ha b (List.mem_append_left _ q)
    · rcases List.mem_cons.mp q with rfl | q
      · exact hA a ha
      · exact s3 a ha b (List.mem_append_right _ q)
end
section
/-! INVARIANT of the shared state, and that the edits keep it -/
def ra_ri (n : Nat) (S O P C : Nat → Nat) (fk fg : Nat → Int64) (L : List Nat) (r : Nat) : Prop :=
  (∀ a, a < 64 → ra_bt (fk r) a = true → a < n ∧ S a ≤ C r ∧ (P a = 40 ∨ ra_bt (fk r) (P a) = true)) ∧
  (∀ a, a < 64 → ra_bt (fg r) a = true → ra_bt (fk r) a = true) ∧
  L.Nodup ∧ (∀ a, a ∈ L ↔ a < n ∧ ra_bt (fk r) a = true) ∧ L.Pairwise (fun a b => ra_bf S O P a b = true)
def ra_in0 (n : Nat) (S O P C : Nat → Nat) (fk fg : Nat → Int64) (Xl : Nat → List Nat) : Prop :=
  n ≤ 40 ∧ (∀ k, S k ≤ n ∧ O k < 3) ∧ (∀ a, a < n → P a = 40 ∨ (P a < a ∧ S (P a) < S a)) ∧
  (∀ a b, a < n → b < n → ra_key S O a = ra_key S O b → a = b) ∧ (∀ r, r < 3 → C r ≤ n) ∧
  (∀ r, r < 3 → ra_ri n S O P C fk fg (Xl r) r)
def ra_inv (n : Nat) (S O P C : Nat → Nat) (fk fg : Nat → Int64) (Xl : Nat → List Nat) : Prop :=
  ra_in0 n S O P C fk fg Xl ∧ ∀ a, a < n → ra_bt (fk (O a)) a = true
theorem ra_upS {α : Type} (f : Nat → α) (k : Nat) (v : α) : va_up f k v k = v := if_pos rfl
theorem ra_upN {α : Type} (f : Nat → α) {k j : Nat} (v : α) (h : j ≠ k) : va_up f k v j = f j := if_neg h
theorem ra_inv_0 : ra_inv 0 (fun _ => 0) (fun _ => 0) (fun _ => 0) (fun _ => 0) (fun _ => 0) (fun _ => 0) (fun _ => []) := by
  refine ⟨⟨by omega, fun k => ⟨Nat.le_refl _, (by show (0 : Nat) < 3; decide)⟩, fun a h => absurd h (Nat.not_lt_zero _), fun a b h => absurd h (Nat.not_lt_zero _), fun r h => Nat.le_refl _, fun r hr => ⟨fun a _ h => ?_, fun a _ h => ?_, List.nodup_nil, fun a => ?_, List.Pairwise.nil⟩⟩, fun a h => absurd h (Nat.not_lt_zero _)⟩
  · rw [ra_bt_0] at h
    cases h
  · rw [ra_bt_0] at h
    cases h
  · constructor
    · intro h
      cases h
    · intro h
      exact absurd h.1 (Nat.not_lt_zero _)
theorem ra_sk_perm (key : Nat → Nat) (x : Nat) (L1 L2 : List Nat) : (L1 ++ ra_sk key x L2).Perm (x :: (L1 ++ L2)) := by
  obtain ⟨M1, M2, e1, e2, -, -⟩ := ra_sk_dec key x L2
  rw [e2, e1, ← List.append_assoc, ← List.append_assoc]
  exact List.perm_middle
theorem ra_mx_le {C : Nat → Nat} {rt v n : Nat} (hC : ∀ r, r < 3 → C r ≤ n) (hv : v ≤ n) : ∀ r, r < 3 → ra_mx C rt v r ≤ n := by
  intro r hr
  unfold ra_mx
  split
  · by_cases e : r = rt
    · subst e
      rw [ra_upS]
      exact hv
    · rw [ra_upN _ _ e]
      exact hC r hr
  · exact hC r hr
theorem ra_mx_ge (C : Nat → Nat) (rt v r : Nat) : C r ≤ ra_mx C rt v r := by
  unfold ra_mx
  split
  · by_cases e : r = rt
    · subst e
      rw [ra_upS]
      omega
    · rw [ra_upN _ _ e]
      exact Nat.le_refl _
  · exact Nat.le_refl _
theorem ra_mx_v (C : Nat → Nat) (rt v : Nat) : v ≤ ra_mx C rt v rt := by
  unfold ra_mx
  split
  · rw [ra_upS]
    exact Nat.le_refl _
  · omega
/-- an element becomes known to a replica -/
theorem ra_in0_add {n : Nat} {S O P C : Nat → Nat} {fk fg : Nat → Int64} {Xl : Nat → List Nat} (h : ra_in0 n S O P C fk fg Xl) {rt x : Nat} (hr : rt < 3) (hx : x < n) (hk : ra_bt (fk rt) x = false) (hp : P x = 40 ∨ ra_bt (fk rt) (P x) = true) {L1 L2 : List Nat} (hL : Xl rt = L1 ++ L2) (hP : P x = L1.getLastD 40) :
    ra_in0 n S O P (ra_mx C rt (S x)) (vp_updL fk rt (ra_or (fk rt) x)) fg (va_up Xl rt (L1 ++ ra_sk (ra_key S O) x L2)) := by
  obtain ⟨h1, h2, h3, h4, h5, h6⟩ := h
  refine ⟨h1, h2, h3, h4, ra_mx_le h5 (h2 x).1, ?_⟩
  intro r hr3
  by_cases e : r = rt
  · subst e
    obtain ⟨a1, a2, a3, a4, a5⟩ := h6 r hr
    rw [hL] at a3 a4 a5
    have hbit : ∀ a, ra_bt (vp_updL fk r (ra_or (fk r) x) r) a = (ra_bt (fk r) a || decide (x = a)) := by
      intro a
      rw [pk_uLs, ra_bt_or (by omega)]
    have hxL : x ∉ L1 ++ L2 := fun q => by
      have := ((a4 x).mp q).2
      rw [hk] at this
      cases this
    have hmono : ∀ a, ra_bt (fk r) a = true → ra_bt (vp_updL fk r (ra_or (fk r) x) r) a = true := fun a q => by rw [hbit, q, Bool.true_or]
    rw [show va_up Xl r (L1 ++ ra_sk (ra_key S O) x L2) r = L1 ++ ra_sk (ra_key S O) x L2 from ra_upS _ _ _]
    have hpar : ∀ b, b < n → P b < b → ra_key S O (P b) < ra_key S O b := by
      intro b hb hlt
      rcases h3 b hb with q | ⟨-, q⟩
      · omega
      · have := (h2 (P b)).2
        unfold ra_key
        omega
    refine ⟨?_, fun a ha hg => hmono a (a2 a ha hg), ?_, ?_, ?_⟩
    · intro a ha hb
      rw [hbit] at hb
      rcases Bool.or_eq_true_iff.mp hb with q | q
      · obtain ⟨b1, b2, b3⟩ := a1 a ha q
        refine ⟨b1, Nat.le_trans b2 (ra_mx_ge _ _ _ _), ?_⟩
        rcases b3 with b3 | b3
        · exact Or.inl b3
        · exact Or.inr (hmono _ b3)
      · have q := of_decide_eq_true q
        subst q
        refine ⟨hx, ra_mx_v _ _ _, ?_⟩
        rcases hp with q | q
        · exact Or.inl q
        · exact Or.inr (hmono _ q)
    · exact (ra_sk_perm (ra_key S O) x L1 L2).nodup_iff.mpr (List.nodup_cons.mpr ⟨hxL, a3⟩)
    · intro a
      rw [(ra_sk_perm (ra_key S O) x L1 L2).mem_iff, List.mem_cons, a4, hbit, Bool.or_eq_true_iff, decide_eq_true_iff]
      constructor
      · rintro (q | ⟨q1, q2⟩)
        · exact ⟨by omega, Or.inr q.symm⟩
        · exact ⟨q1, Or.inl q2⟩
      · rintro ⟨q1, q2 | q2⟩
        · exact Or.inr ⟨q1, q2⟩
        · exact Or.inl q2.symm
    · refine ra_ins_so a5 a3 hxL ?_ ?_ (hpar x hx) ?_ ?_
      · intro b hb hlt
        obtain ⟨b1, b2⟩ := (a4 b).mp hb
        rcases (a1 b (by omega) b2).2.2 with q | q
        · omega
        · exact (a4 _).mpr ⟨by omega, q⟩
      · intro b hb hlt
        exact hpar b ((a4 b).mp hb).1 hlt
      · intro b hb q
        have := h4 b x ((a4 b).mp hb).1 hx q
        exact hxL (this ▸ hb)
      · rcases List.eq_nil_or_concat L1 with q | ⟨L0, y, q⟩
        · subst q
          refine Or.inl ⟨rfl, ?_⟩
          have hP : P x = 40 := hP
          omega
        · rw [List.concat_eq_append] at q
          subst q
          rw [List.getLastD_concat] at hP
          have hy : y < n := ((a4 y).mp (by simp)).1
          refine Or.inr ⟨?_, L0, by rw [hP]⟩
          rcases h3 x hx with q | ⟨q, -⟩
          · omega
          · exact q
  · obtain ⟨a1, a2, a3, a4, a5⟩ := h6 r hr3
    have e1 : vp_updL fk rt (ra_or (fk rt) x) r = fk r := pk_uLn e
    have e2 : va_up Xl rt (L1 ++ ra_sk (ra_key S O) x L2) r = Xl r := ra_upN _ _ e
    rw [e2]
    refine ⟨?_, ?_, a3, ?_, a5⟩
    · intro a ha hb
      rw [e1] at hb ⊢
      obtain ⟨b1, b2, b3⟩ := a1 a ha hb
      exact ⟨b1, Nat.le_trans b2 (ra_mx_ge _ _ _ _), b3⟩
    · rw [e1]
      exact a2
    · rw [e1]
      exact a4
theorem ra_bf_new {S O P : Nat → Nat} {n s o p a b : Nat} (ha : a < n) (hb : b < n) : ra_bf (va_up S n s) (va_up O n o) (va_up P n p) a b = ra_bf S O P a b := by
  unfold ra_bf
  rw [ra_path_cong a (fun c hc => ra_upN P p (by omega)), ra_path_cong b (fun c hc => ra_upN P p (by omega))]
  refine ra_lx_cong (fun c hc => ?_) (fun c hc => ?_)
  · have := ra_path_le a c hc
    unfold ra_key
    rw [ra_upN S s (by omega), ra_upN O o (by omega)]
  · have := ra_path_le b c hc
    unfold ra_key
    rw [ra_upN S s (by omega), ra_upN O o (by omega)]
/-- a new element that nobody knows yet -/
theorem ra_in0_new {n : Nat} {S O P C : Nat → Nat} {fk fg : Nat → Int64} {Xl : Nat → List Nat} (h : ra_inv n S O P C fk fg Xl) (hn : n < 40) {rp p : Nat} (hr : rp < 3) (hp : p = 40 ∨ p ∈ Xl rp) :
    ra_in0 (n + 1) (va_up S n (C rp + 1)) (va_up O n rp) (va_up P n p) (va_up C rp (C rp + 1)) fk fg Xl := by
  obtain ⟨⟨h1, h2, h3, h4, h5, h6⟩, h7⟩ := h
  have hC : ∀ r, C r ≤ va_up C rp (C rp + 1) r := by
    intro r
    by_cases e : r = rp
    · subst e
      rw [ra_upS]
      omega
    · rw [ra_upN _ _ e]
      exact Nat.le_refl _
  have hkn : ∀ a, a < n → ra_key (va_up S n (C rp + 1)) (va_up O n rp) a = ra_key S O a := by
    intro a ha
    unfold ra_key
    rw [ra_upN S _ (by omega), ra_upN O _ (by omega)]
  have hkN : ra_key (va_up S n (C rp + 1)) (va_up O n rp) n = 3 * (C rp + 1) + rp := by
    unfold ra_key
    rw [ra_upS, ra_upS]
  have hnew : ∀ a, a < n → ra_key S O a ≠ 3 * (C rp + 1) + rp := by
    intro a ha q
    unfold ra_key at q
    have o1 := (h2 a).2
    have o2 : O a = rp := by omega
    have o3 : S a = C rp + 1 := by omega
    have b1 := h7 a ha
    rw [o2] at b1
    have := ((h6 rp hr).1 a (by omega) b1).2.1
    omega
  refine ⟨by omega, ?_, ?_, ?_, ?_, ?_⟩
  · intro k
    by_cases e : k = n
    · subst e
      rw [ra_upS, ra_upS]
      exact ⟨by have := h5 rp hr; omega, hr⟩
    · rw [ra_upN _ _ e, ra_upN _ _ e]
      exact ⟨by have := (h2 k).1; omega, (h2 k).2⟩
  · intro a ha
    by_cases e : a = n
    · subst e
      rw [ra_upS P]
      rcases hp with q | q
      · exact Or.inl q
      · obtain ⟨b1, b2⟩ := ((h6 rp hr).2.2.2.1 p).mp q
        refine Or.inr ⟨b1, ?_⟩
        rw [ra_upN S _ (by omega), ra_upS]
        have := ((h6 rp hr).1 p (by omega) b2).2.1
        omega
    · rw [ra_upN P _ e]
      rcases h3 a (by omega) with q | ⟨q1, q2⟩
      · exact Or.inl q
      · refine Or.inr ⟨q1, ?_⟩
        rw [ra_upN S _ (by omega), ra_upN S _ e]
        exact q2
  · intro a b ha hb hk
    by_cases e : a = n
    · by_cases e2 : b = n
      · omega
      · rw [e, hkN, hkn b (by omega)] at hk
        exact absurd hk.symm (hnew b (by omega))
    · by_cases e2 : b = n
      · rw [e2, hkN, hkn a (by omega)] at hk
        exact absurd hk (hnew a (by omega))
      · rw [hkn a (by omega), hkn b (by omega)] at hk
        exact h4 a b (by omega) (by omega) hk
  · intro r hr3
    by_cases e : r = rp
    · subst e
      rw [ra_upS]
      have := h5 r hr
      omega
    · rw [ra_upN _ _ e]
      have := h5 r hr3
      omega
  · intro r hr3
    obtain ⟨a1, a2, a3, a4, a5⟩ := h6 r hr3
    refine ⟨?_, a2, a3, ?_, ?_⟩
    · intro a ha hb
      obtain ⟨b1, b2, b3⟩ := a1 a ha hb
      rw [ra_upN S _ (by omega), ra_upN P _ (by omega)]
      exact ⟨by omega, Nat.le_trans b2 (hC r), b3⟩
    · intro a
      rw [a4]
      constructor
      · rintro ⟨q1, q2⟩
        exact ⟨by omega, q2⟩
      · rintro ⟨q1, q2⟩
        exact ⟨(a1 a (by omega) q2).1, q2⟩
    · refine List.Pairwise.imp_of_mem ?_ a5
      intro a b ha hb q
      rw [ra_bf_new ((a4 a).mp ha).1 ((a4 b).mp hb).1]
      exact q
theorem ra_sk_top {key : Nat → Nat} {x : Nat} {L : List Nat} (h : ∀ b, b ∈ L → key b < key x) : ra_sk key x L = x :: L := by
  cases L with
  | nil => rfl
  | cons b L =>
    unfold ra_sk
    rw [if_neg (by have := h b List.mem_cons_self; omega)]
/-- INSERT keeps the invariant -/
theorem ra_inv_ins {n : Nat} {S O P C : Nat → Nat} {fk fg : Nat → Int64} {Xl : Nat → List Nat} (h : ra_inv n S O P C fk fg Xl) (hn : n < 40) {rp : Nat} (hr : rp < 3) {L1 L2 : List Nat} (hL : Xl rp = L1 ++ L2) :
    ra_inv (n + 1) (va_up S n (C rp + 1)) (va_up O n rp) (va_up P n (L1.getLastD 40)) (va_up C rp (C rp + 1)) (vp_updL fk rp (ra_or (fk rp) n)) fg (va_up Xl rp (L1 ++ n :: L2)) := by
  have h0 := h
  obtain ⟨⟨h1, h2, h3, h4, h5, h6⟩, h7⟩ := h
  obtain ⟨a1, a2, a3, a4, a5⟩ := h6 rp hr
  have hp : L1.getLastD 40 = 40 ∨ L1.getLastD 40 ∈ Xl rp := by
    rcases ra_last_mem (L := L1) (d := 40) with ⟨q, -⟩ | q
    · exact Or.inl q
    · exact Or.inr (by rw [hL]; exact List.mem_append_left _ q)
  have hnk : ra_bt (fk rp) n = false := by
    cases hb : ra_bt (fk rp) n with
    | false => rfl
    | true => exact absurd (a1 n (by omega) hb).1 (Nat.lt_irrefl _)
  have h8 := ra_in0_new h0 hn hr hp
  have h9 := ra_in0_add h8 (rt := rp) (x := n) hr (by omega) hnk (by
    rw [ra_upS]
    rcases hp with q | q
    · exact Or.inl q
    · exact Or.inr ((a4 _).mp q).2) hL (ra_upS _ _ _)
  have e1 : ra_sk (ra_key (va_up S n (C rp + 1)) (va_up O n rp)) n L2 = n :: L2 := by
    refine ra_sk_top ?_
    intro b hb
    obtain ⟨b1, b2⟩ := (a4 b).mp (by rw [hL]; exact List.mem_append_right _ hb)
    have b3 := (a1 b (by omega) b2).2.1
    have b4 := (h2 b).2
    unfold ra_key
    rw [ra_upN S _ (by omega), ra_upN O _ (by omega), ra_upS, ra_upS]
    omega
  have e2 : ra_mx (va_up C rp (C rp + 1)) rp (va_up S n (C rp + 1) n) = va_up C rp (C rp + 1) := by
    unfold ra_mx
    rw [ra_upS, ra_upS]
    exact if_neg (Nat.lt_irrefl _)
  rw [e1, e2] at h9
  refine ⟨h9, ?_⟩
  intro a ha
  by_cases e : a = n
  · subst e
    rw [ra_upS, pk_uLs, ra_bt_or (by omega)]
    simp
  · rw [ra_upN O _ e]
    have := h7 a (by omega)
    by_cases q : O a = rp
    · rw [q, pk_uLs, ra_bt_or (by omega)]
      rw [q] at this
      rw [this, Bool.true_or]
    · rw [pk_uLn q]
      exact this
/-- a deletion becomes known -/
theorem ra_inv_gone {n : Nat} {S O P C : Nat → Nat} {fk fg : Nat → Int64} {Xl : Nat → List Nat} (h : ra_inv n S O P C fk fg Xl) {rt x : Nat} (hx : x < 64) (hk : ra_bt (fk rt) x = true) : ra_inv n S O P C fk (vp_updL fg rt (ra_or (fg rt) x)) Xl := by
  obtain ⟨⟨h1, h2, h3, h4, h5, h6⟩, h7⟩ := h
  refine ⟨⟨h1, h2, h3, h4, h5, ?_⟩, h7⟩
  intro r hr3
  obtain ⟨a1, a2, a3, a4, a5⟩ := h6 r hr3
  refine ⟨a1, ?_, a3, a4, a5⟩
  intro a ha hb
  by_cases e : r = rt
  · subst e
    rw [pk_uLs, ra_bt_or hx] at hb
    rcases Bool.or_eq_true_iff.mp hb with q | q
    · exact a2 a ha q
    · have q := of_decide_eq_true q
      subst q
      exact hk
  · rw [pk_uLn e] at hb
    exact a2 a ha hb
theorem ra_inv_del {n : Nat} {S O P C : Nat → Nat} {fk fg : Nat → Int64} {Xl : Nat → List Nat} (h : ra_inv n S O P C fk fg Xl) (r pl : Int32) : ra_inv n S O P C fk (ra_dG fg Xl r pl) Xl := by
  by_cases hb : r < 0 ∨ 2 < r
  · rw [ra_dG_bad hb]
    exact h
  · obtain ⟨rp, hr3, rfl⟩ := ra_ok2 (fun q => hb (Or.inl q)) (Int32.not_lt.mp (fun q => hb (Or.inr q)))
    cases ho : ra_at (ra_sh fg rp) (Xl rp) pl with
    | none =>
      rw [ra_dG_none hr3 ho]
      exact h
    | some a =>
      rw [ra_dG_some hr3 ho]
      obtain ⟨q1, q2⟩ := ((h.1.2.2.2.2.2 rp hr3).2.2.2.1 a).mp (ra_at_mem ho).1
      exact ra_inv_gone h (by have := h.1.1; omega) q2
/-- what holds at the i-th step of learn -/
def ra_lv (n : Nat) (S O P : Nat → Nat) (fk fg : Nat → Int64) (Xl : Nat → List Nat) (rt rf i : Nat) (s : ra_LS) : Prop :=
  ra_inv n S O P s.1 s.2.1 s.2.2.1 (va_up Xl rt s.2.2.2.1) ∧ (∀ r, r ≠ rt → s.2.1 r = fk r ∧ s.2.2.1 r = fg r) ∧ ∀ j, j < i → ra_bt (fk rf) j = true → ra_bt (s.2.1 rt) j = true
theorem ra_up_id {α : Type} (f : Nat → α) (k : Nat) : va_up f k (f k) = f := by
  funext j
  unfold va_up
  split
  · rename_i h
    rw [h]
  · rfl
theorem ra_ln_inv {n : Nat} {S O P C : Nat → Nat} {fk fg : Nat → Int64} {Xl : Nat → List Nat} (h : ra_inv n S O P C fk fg Xl) {rt rf : Nat} (ht : rt < 3) (hf : rf < 3) (hne : rt ≠ rf) : ∀ i, i ≤ n → ra_lv n S O P fk fg Xl rt rf i (ra_ln S O P rt rf (C, fk, fg, Xl rt, 0) i)
  | 0, _ => by
    refine ⟨?_, fun _ _ => ⟨rfl, rfl⟩, fun j hj => absurd hj (Nat.not_lt_zero _)⟩
    show ra_inv n S O P C fk fg (va_up Xl rt (Xl rt))
    rw [ra_up_id]
    exact h
  | i + 1, hi => by
    have ih := ra_ln_inv h ht hf hne i (by omega)
    rw [ra_ln]
    generalize ra_ln S O P rt rf (C, fk, fg, Xl rt, 0) i = s0 at ih ⊢
    obtain ⟨C1, k1, g1, L, t⟩ := s0
    obtain ⟨i1, i2, i3⟩ := ih
    have i1 : ra_inv n S O P C1 k1 g1 (va_up Xl rt L) := i1
    have i2 : ∀ r, r ≠ rt → k1 r = fk r ∧ g1 r = fg r := i2
    have i3 : ∀ j, j < i → ra_bt (fk rf) j = true → ra_bt (k1 rt) j = true := i3
    have hkf : k1 rf = fk rf := (i2 rf (Ne.symm hne)).1
    have hgf : g1 rf = fg rf := (i2 rf (Ne.symm hne)).2
    have hn40 := i1.1.1
    -- first half
    obtain ⟨C2, k2, L2, t2, e2, j1, j2, j3⟩ : ∃ C2 k2 L2 t2, ra_l1 S O P rt rf i (C1, k1, g1, L, t) = (C2, k2, g1, L2, t2) ∧ ra_inv n S O P C2 k2 g1 (va_up Xl rt L2) ∧ (∀ r, r ≠ rt → k2 r = fk r) ∧ ∀ j, j < i + 1 → ra_bt (fk rf) j = true → ra_bt (k2 rt) j = true := by
      cases b1 : ra_bt (k1 rf) i with
      | false =>
        refine ⟨C1, k1, L, t, ra_l1_n (Or.inl b1), i1, fun r hr => (i2 r hr).1, ?_⟩
        intro j hj hb
        by_cases e : j = i
        · subst e
          rw [hkf, hb] at b1
          cases b1
        · exact i3 j (by omega) hb
      | true =>
        cases b2 : ra_bt (k1 rt) i with
        | true =>
          refine ⟨C1, k1, L, t, ra_l1_n (Or.inr b2), i1, fun r hr => (i2 r hr).1, ?_⟩
          intro j hj hb
          by_cases e : j = i
          · subst e
            exact b2
          · exact i3 j (by omega) hb
        | false =>
          have hpar := ((i1.1.2.2.2.2.2 rf hf).1 i (by omega) b1).2.2
          have hp : P i = 40 ∨ ra_bt (k1 rt) (P i) = true := by
            rcases hpar with q | q
            · exact Or.inl q
            · rcases i1.1.2.2.1 i (by omega) with q2 | ⟨q2, -⟩
              · exact Or.inl q2
              · exact Or.inr (i3 (P i) q2 (by rw [← hkf]; exact q))
          have hmem := (i1.1.2.2.2.2.2 rt ht).2.2.2.1
          rw [ra_upS] at hmem
          have hpm : P i = 40 ∨ P i ∈ L := by
            rcases hp with q | q
            · exact Or.inl q
            · rcases i1.1.2.2.1 i (by omega) with q2 | ⟨q2, -⟩
              · exact Or.inl q2
              · exact Or.inr ((hmem _).mpr ⟨by omega, q⟩)
          obtain ⟨La, Lb, hLab, hPl, hin⟩ := ra_ins_cut (key := ra_key S O) (x := i) hpm (fun q => by have := ((hmem _).mp q).1; omega)
          have hadd := ra_in0_add i1.1 ht (by omega) b2 hp (L1 := La) (L2 := Lb) (by rw [ra_upS]; exact hLab) hPl
          rw [bx_uu, ← hin] at hadd
          refine ⟨_, _, _, _, ra_l1_y b1 b2, ⟨hadd, ?_⟩, ?_, ?_⟩
          · intro a ha
            have := i1.2 a ha
            by_cases q : O a = rt
            · rw [q, pk_uLs, ra_bt_or (by omega)]
              rw [q] at this
              rw [this, Bool.true_or]
            · rw [pk_uLn q]
              exact this
          · intro r hr
            rw [pk_uLn hr]
            exact (i2 r hr).1
          · intro j hj hb
            rw [pk_uLs, ra_bt_or (by omega)]
            by_cases e : j = i
            · subst e
              simp
            · rw [i3 j (by omega) hb, Bool.true_or]
    rw [e2]
    cases b1 : ra_bt (g1 rf) i with
    | false =>
      rw [ra_l2_n (Or.inl b1)]
      exact ⟨j1, fun r hr => ⟨j2 r hr, (i2 r hr).2⟩, j3⟩
    | true =>
      cases b2 : ra_bt (g1 rt) i with
      | true =>
        rw [ra_l2_n (Or.inr b2)]
        exact ⟨j1, fun r hr => ⟨j2 r hr, (i2 r hr).2⟩, j3⟩
      | false =>
        rw [ra_l2_y b1 b2]
        have q1 : ra_bt (k2 rf) i = true := (j1.1.2.2.2.2.2 rf hf).2.1 i (by omega) b1
        rw [j2 rf (Ne.symm hne)] at q1
        refine ⟨ra_inv_gone j1 (by omega) (j3 i (by omega) q1), ?_, j3⟩
        intro r hr
        refine ⟨j2 r hr, ?_⟩
        show vp_updL g1 rt (ra_or (g1 rt) i) r = fg r
        rw [pk_uLn hr]
        exact (i2 r hr).2
end
section
/-! RANKS: counting against places in the sorted list; the table 'above' -/
theorem ra_cn_range (f : Nat → Bool) : ∀ n, ra_cn f n = ((List.range n).filter f).length
  | 0 => rfl
  | n + 1 => by
    rw [ra_cn, ra_cn_range f n, List.range_succ, List.filter_append, List.length_append]
    by_cases h : f n = true
    · simp [h]
    · simp [h]
theorem ra_cn_list {f : Nat → Bool} {n : Nat} {L : List Nat} (hn : L.Nodup) (hm : ∀ a, a ∈ L ↔ a < n ∧ f a = true) : L.length = ra_cn f n := by
  rw [ra_cn_range]
  refine List.Perm.length_eq ((List.perm_ext_iff_of_nodup hn (List.Pairwise.filter f List.nodup_range)).mpr (fun a => ?_))
  rw [hm, List.mem_filter, List.mem_range]
theorem ra_inv_len {n : Nat} {S O P C : Nat → Nat} {fk fg : Nat → Int64} {Xl : Nat → List Nat} (h : ra_inv n S O P C fk fg Xl) {r : Nat} (hr : r < 3) : (Xl r).length = ra_cn (ra_bt (fk r)) n := ra_cn_list (h.1.2.2.2.2.2 r hr).2.2.1 (h.1.2.2.2.2.2 r hr).2.2.2.1
theorem ra_inv_l40 {n : Nat} {S O P C : Nat → Nat} {fk fg : Nat → Int64} {Xl : Nat → List Nat} (h : ra_inv n S O P C fk fg Xl) {r : Nat} (hr : r < 3) : (Xl r).length ≤ 40 := by
  rw [ra_inv_len h hr]
  have := ra_cn_le (ra_bt (fk r)) n
  have := h.1.1
  omega
theorem ra_inv_cnt {n : Nat} {S O P C : Nat → Nat} {fk fg : Nat → Int64} {Xl : Nat → List Nat} (h : ra_inv n S O P C fk fg Xl) {r : Nat} (hr : r < 3) : ((Xl r).filter (ra_sh fg r)).length = ra_cn (ra_kf fk fg r) n := by
  obtain ⟨-, -, a3, a4, -⟩ := h.1.2.2.2.2.2 r hr
  refine ra_cn_list (List.Pairwise.filter _ a3) (fun a => ?_)
  rw [List.mem_filter, a4]
  unfold ra_sh ra_kf
  rw [Bool.and_eq_true]
  exact ⟨fun q => ⟨q.1.1, q.1.2, q.2⟩, fun q => ⟨⟨q.1, q.2.1⟩, q.2.2⟩⟩
theorem ra_cb_app {g : Nat → Bool} {a : Nat} : ∀ {L1 L2 : List Nat}, a ∉ L1 → ra_cb g a (L1 ++ a :: L2) = (L1.filter g).length
  | [], L2, _ => by
    show (if a = a then 0 else _) = 0
    rw [if_pos rfl]
  | b :: L1, L2, h => by
    have hb : ¬ b = a := fun q => h (q ▸ List.mem_cons_self)
    show (if b = a then 0 else (if g b = true then 1 else 0) + ra_cb g a (L1 ++ a :: L2)) = _
    rw [if_neg hb, ra_cb_app (fun q => h (List.mem_cons_of_mem _ q))]
    by_cases q : g b = true
    · simp [q]
      omega
    · simp [q]
theorem ra_rk {n : Nat} {S O P C : Nat → Nat} {fk fg : Nat → Int64} {Xl : Nat → List Nat} (h : ra_inv n S O P C fk fg Xl) {r a : Nat} (hr : r < 3) (ha : a ∈ Xl r) {g G : Nat → Bool} (hG : ∀ k, G k = (ra_bt (fk r) k && g k)) : ra_cn (fun k => (!decide (k = a) && G k) && ra_bf S O P k a) n = ra_cb g a (Xl r) := by
  obtain ⟨-, -, a3, a4, a5⟩ := h.1.2.2.2.2.2 r hr
  obtain ⟨L1, L2, e⟩ := List.append_of_mem ha
  rw [e] at a3 a4 a5 ⊢
  obtain ⟨n1, n2, n3⟩ := List.nodup_append.mp a3
  obtain ⟨s1, s2, s3⟩ := List.pairwise_append.mp a5
  have haL : a ∉ L1 := fun q => n3 a q a List.mem_cons_self rfl
  rw [ra_cb_app haL]
  symm
  refine ra_cn_list (List.Pairwise.filter _ n1) (fun k => ?_)
  rw [List.mem_filter, Bool.and_eq_true, Bool.and_eq_true, hG, Bool.and_eq_true, Bool.not_eq_true', decide_eq_false_iff_not]
  constructor
  · rintro ⟨q1, q2⟩
    obtain ⟨b1, b2⟩ := (a4 k).mp (List.mem_append_left _ q1)
    exact ⟨b1, ⟨fun z => haL (z ▸ q1), b2, q2⟩, s3 k q1 a List.mem_cons_self⟩
  · rintro ⟨q1, ⟨q2, q3, q4⟩, q5⟩
    refine ⟨?_, q4⟩
    rcases List.mem_append.mp ((a4 k).mpr ⟨q1, q3⟩) with z | z
    · exact z
    · rcases List.mem_cons.mp z with z | z
      · exact absurd z q2
      · exact absurd (ra_bf_anti q5 ((List.pairwise_cons.mp s2).1 k z)) q2
theorem ra_cb_idx {L : List Nat} {a : Nat} (hn : L.Nodup) (ha : a ∈ L) : L[ra_cb (fun _ => true) a L]? = some a ∧ ra_cb (fun _ => true) a L < L.length := by
  obtain ⟨L1, L2, e⟩ := List.append_of_mem ha
  rw [e] at hn ⊢
  have haL : a ∉ L1 := fun q => (List.nodup_append.mp hn).2.2 a q a List.mem_cons_self rfl
  rw [ra_cb_app haL]
  have : L1.filter (fun _ => true) = L1 := List.filter_eq_self.mpr (fun _ _ => rfl)
  rw [this]
  simp
theorem ra_idx_cb {L : List Nat} {a j : Nat} (hn : L.Nodup) (h : L[j]? = some a) : ra_cb (fun _ => true) a L = j := by
  obtain ⟨h1, h2⟩ := ra_cb_idx hn (List.mem_of_getElem? h)
  exact (List.getElem?_inj h2 hn).mp (by rw [h1, h])
theorem ra_cb_cong {f g : Nat → Bool} (h : ∀ k, f k = g k) (a : Nat) : ∀ L : List Nat, ra_cb f a L = ra_cb g a L
  | [] => rfl
  | b :: L => by
    show (if b = a then 0 else (if f b = true then 1 else 0) + ra_cb f a L) = (if b = a then 0 else (if g b = true then 1 else 0) + ra_cb g a L)
    rw [h b, ra_cb_cong h a L]
/-! the table 'above' -/
def ra_ab (n : Nat) (P : Nat → Nat) (AB : Nat → Nat → Bool) : Prop := ∀ a, a < n → ∀ b, b < 40 → AB a b = decide (b ∈ ra_path P a)
def ra_abF (n p : Nat) (AB : Nat → Nat → Bool) : Nat → Bool := fun y => decide (y = n) || (!decide (p = 40) && AB p y)
def ra_abk (AB : Nat → Nat → Bool) (n : Nat) (F : Nat → Bool) (k : Nat) : Nat → Nat → Bool := fun x y => if x = n ∧ y < k then F y else AB x y
theorem ra_abk_0 (AB : Nat → Nat → Bool) (n : Nat) (F : Nat → Bool) : ra_abk AB n F 0 = AB := by
  funext x y
  unfold ra_abk
  rw [if_neg (fun q => absurd q.2 (Nat.not_lt_zero _))]
theorem ra_abk_ne {AB : Nat → Nat → Bool} {n : Nat} {F : Nat → Bool} {k x y : Nat} (h : x ≠ n) : ra_abk AB n F k x y = AB x y := if_neg (fun q => h q.1)
theorem ra_abk_s {AB : Nat → Nat → Bool} {n : Nat} {F : Nat → Bool} {k : Nat} (hk : k < 40) {v : Int32} (hv : v = ra_b (F k)) : upd (ra_zA (ra_abk AB n F k)) (40 * n + k) (vp_nar .boolean v) = ra_zA (ra_abk AB n F (k + 1)) := by
  have hnar : vp_nar .boolean (ra_b (F k)) = ra_b (F k) := by cases F k <;> rfl
  rw [hv, hnar]
  funext j
  unfold upd ra_zA ra_abk
  by_cases h : j / 40 = n
  · by_cases h2 : j % 40 = k
    · rw [if_pos (by omega), if_pos ⟨h, by omega⟩, h2]
    · rw [if_neg (by omega)]
      by_cases h3 : j % 40 < k
      · rw [if_pos ⟨h, h3⟩, if_pos ⟨h, by omega⟩]
      · rw [if_neg (fun q => h3 q.2), if_neg (fun q => by have := q.2; omega)]
  · rw [if_neg (by omega), if_neg (fun q => h q.1), if_neg (fun q => h q.1)]
theorem ra_ab_ins {n p : Nat} {P : Nat → Nat} {AB : Nat → Nat → Bool} (h : ra_ab n P AB) (hn : n < 40) (hp : p = 40 ∨ p < n) : ra_ab (n + 1) (va_up P n p) (ra_abk AB n (ra_abF n p AB) 40) := by
  intro a ha b hb
  by_cases e : a = n
  · subst e
    unfold ra_abk
    rw [if_pos ⟨rfl, hb⟩]
    unfold ra_abF
    rcases ra_path_cases (va_up P a p) a with ⟨q1, q2⟩ | ⟨q1, q2⟩
    · rw [ra_upS] at q1 q2
      have e1 : ra_path (va_up P a p) p = ra_path P p := ra_path_cong p (fun c hc => ra_upN P p (by omega))
      rw [q2, e1]
      have e2 : ¬ p = 40 := by omega
      rw [h p q1 b hb, decide_eq_false e2, Bool.not_false, Bool.true_and]
      by_cases z : b = a
      · simp [z]
      · simp [z]
    · rw [ra_upS] at q1
      have e2 : p = 40 := by omega
      rw [q2, decide_eq_true e2, Bool.not_true, Bool.false_and, Bool.or_false]
      simp
  · rw [ra_abk_ne e, h a (by omega) b hb, ra_path_cong a (fun c hc => ra_upN P p (by omega))]
theorem ra_pm_upd (P : Nat → Nat) (n : Nat) {p : Nat} {v : Int32} (hv : v = if p = 40 then -5 else nI p) : upd (ra_pm P) n v = ra_pm (va_up P n p) := by
  funext j
  unfold upd ra_pm va_up
  by_cases h : j = n
  · rw [if_pos h, if_pos h, hv]
  · rw [if_neg h, if_neg h]
theorem ra_nar1 : vp_nar .boolean 1 = 1 := rfl
theorem ra_ab_0 (P : Nat → Nat) (AB : Nat → Nat → Bool) : ra_ab 0 P AB := fun a h => absurd h (Nat.not_lt_zero _)
theorem ra_ge3 {r : Int32} (h : 3 ≤ r) : 2 < r := by
  rw [Int32.le_iff_toInt_le] at h
  rw [Int32.lt_iff_toInt_lt]
  have e3 : (3 : Int32).toInt = 3 := rfl
  have e2 : (2 : Int32).toInt = 2 := rfl
  omega
end
section
/-! TEXTS: plain facts for elementAt and sameText of the model -/
theorem ra_at_none {sh : Nat → Bool} {L : List Nat} {pl : Int32} (h : ∀ k, k < (L.filter sh).length → pl ≠ nI k) : ra_at sh L pl = none := by
  unfold ra_at
  by_cases q : pl < 0
  · rw [if_pos q]
  · rw [if_neg q]
    obtain ⟨j, hj, rfl⟩ := nI_of q
    rw [nI_clamp hj, ra_nth]
    rcases Nat.lt_or_ge j (L.filter sh).length with z | z
    · exact absurd rfl (h j z)
    · exact List.getElem?_eq_none z
theorem ra_at_some {sh : Nat → Bool} {La M : List Nat} {a : Nat} {pl : Int32} (hs : sh a = true) (hl : (La.filter sh).length < 2 ^ 31) (h : nI (La.filter sh).length = pl) : ra_at sh (La ++ a :: M) pl = some a := by
  subst h
  unfold ra_at
  rw [if_neg (nI_pos hl), nI_clamp hl, ra_nth, List.filter_append, List.filter_cons, if_pos hs]
  simp
theorem ra_at_nI {sh : Nat → Bool} {L : List Nat} {k : Nat} (hk : k < 2 ^ 31) : ra_at sh L (nI k) = ra_nth sh L k := by
  unfold ra_at
  rw [if_neg (nI_pos hk), nI_clamp hk]
theorem ra_lt_tx (fl : Nat → Int32) (d : Int32) (sh : Nat → Bool) (L : List Nat) (j : Nat) : ra_lt fl d (ra_nth sh L j) = ((ra_tx fl sh L)[j]?).getD d := by
  unfold ra_tx ra_nth
  rw [List.getElem?_map]
  cases (L.filter sh)[j]? with
  | none => rfl
  | some a => rfl
theorem ra_tx_eq {fl : Nat → Int32} {s1 s2 : Nat → Bool} {L1 L2 : List Nat} (hl : (L1.filter s1).length = (L2.filter s2).length) (h : ∀ j, j < (L1.filter s1).length → ra_lt fl (-5) (ra_nth s1 L1 j) = ra_lt fl (-5) (ra_nth s2 L2 j)) : ra_tx fl s1 L1 = ra_tx fl s2 L2 := by
  have e1 : (ra_tx fl s1 L1).length = (L1.filter s1).length := by simp [ra_tx]
  have e2 : (ra_tx fl s2 L2).length = (L2.filter s2).length := by simp [ra_tx]
  refine List.ext_getElem? (fun j => ?_)
  rcases Nat.lt_or_ge j (L1.filter s1).length with z | z
  · have q := h j z
    rw [ra_lt_tx, ra_lt_tx, List.getElem?_eq_getElem (by omega), List.getElem?_eq_getElem (by omega)] at q
    rw [List.getElem?_eq_getElem (by omega), List.getElem?_eq_getElem (by omega)]
    exact congrArg some q
  · rw [List.getElem?_eq_none (by omega), List.getElem?_eq_none (by omega)]
theorem ra_tx_ne {fl : Nat → Int32} {s1 s2 : Nat → Bool} {L1 L2 : List Nat} {j : Nat} (h : ¬ ra_lt fl (-5) (ra_nth s1 L1 j) = ra_lt fl (-5) (ra_nth s2 L2 j)) : ra_tx fl s1 L1 ≠ ra_tx fl s2 L2 := by
  intro q
  rw [ra_lt_tx, ra_lt_tx, q] at h
  exact h rfl
theorem ra_tx_len {fl : Nat → Int32} {s1 s2 : Nat → Bool} {L1 L2 : List Nat} (h : (L1.filter s1).length ≠ (L2.filter s2).length) : ra_tx fl s1 L1 ≠ ra_tx fl s2 L2 := by
  intro q
  have := congrArg List.length q
  simp [ra_tx] at this
  exact h this
end
section
set_option maxRecDepth 100000
section MX
variable (l : Launch) {dC : Nat → ClassId} {dI : Nat → Nat → Nat} {h q1 q2 q3 q4 q5 q6 q7 q8 : Nat} {cI cL : ClassId} {n : Nat} {fl : Nat → Int32} {S O P C : Nat → Nat} {fk fg : Nat → Int64} {fn : Nat → Int32}
set_option maxHeartbeats 4000000 in
set_option maxRecDepth 100000 in
/-- bad(r) -/
theorem mx_bad (r : Int32) : Met l yX0_bad (ws_ yX0_bad cX0_bad 1 (some .boolean)) ({ frames := 0, cells := 0, slots := 0, locals := 0 }) (va_Pc [.int r] (fun _ => True)) (vp_Si (fun z => (z = 1 ∧ (r < 0 ∨ 2 < r)) ∨ (z = 0 ∧ ∃ k, k < 3 ∧ r = nI k))) 0 0 (fun _ => False) := by
  refine Met.ofW (cc := cX0_bad) (maxL := 1) (ret := some .boolean) (by decide) rfl ?_
  intro p e s m args below meth c s₁ B hml hv
  obtain ⟨rfl, -⟩ := hv
  have hx := B.exec
  have hb := B.bytes
  have hr := B.returns
  have hts := atoms_spec (ws := (ws_ yX0_bad cX0_bad 1 (some .boolean))) B.pre
  have hts : ∀ w ∈ lw_all, w.before _ s = true := fun w h => hts w (List.mem_cons_of_mem _ h)
  have hown : s.vm.findClass RX0 = some m.cls := findClass_of_methodNamed B.named
  have hlocks := B.notSynchronized
  have hl := lv_entry ([.int r]) (n := 1) (Nat.le_of_ble_eq_true rfl)
  rw [lg_entry_eq]
  generalize (lg_sl ([.int r]) ++ List.replicate (1 - (lg_sl ([.int r])).length) Slot.unset).toArray = ls at hl ⊢
  have hl : lv_has ls 1 [(0, .int r)] := hl
  refine lv_iload_n hx hb dX0_bad_0 rfl (lv_at hl 0 rfl) ?_
  refine lv_if_lt (tgt := 9) hx hb dX0_bad_1 (by decide) (fun c_1 => ?_) (fun c_1 => ?_)
  · refine lv_iconst (v := 1) hx hb dX0_bad_9 (by decide) ?_
    refine lv_goto (tgt := 14) hx hb dX0_bad_10 (by decide) ?_
    exact W.zret (v := 1) hx hb hr rfl (fun t ht hW => ⟨_, rfl, Or.inl ⟨rfl, Or.inl c_1⟩, ht⟩) (fun q h => by cases h) dX0_bad_14
  · refine lv_iload_n hx hb dX0_bad_4 rfl (lv_at hl 0 rfl) ?_
    refine lv_iconst (v := 2) hx hb dX0_bad_5 (by decide) ?_
    refine lv_icmp_le (tgt := 13) hx hb dX0_bad_6 (by decide) (fun c_6 => ?_) (fun c_6 => ?_)
    · refine lv_iconst (v := 0) hx hb dX0_bad_13 (by decide) ?_
      exact W.zret (v := 0) hx hb hr rfl (fun t ht hW => ⟨_, rfl, Or.inr ⟨rfl, ra_ok2 c_1 c_6⟩, ht⟩) (fun q h => by cases h) dX0_bad_14
    · refine lv_iconst (v := 1) hx hb dX0_bad_9 (by decide) ?_
      refine lv_goto (tgt := 14) hx hb dX0_bad_10 (by decide) ?_
      exact W.zret (v := 1) hx hb hr rfl (fun t ht hW => ⟨_, rfl, Or.inl ⟨rfl, Or.inr (Int32.not_le.mp c_6)⟩, ht⟩) (fun q h => by cases h) dX0_bad_14
set_option maxHeartbeats 4000000 in
set_option maxRecDepth 100000 in
/-- in(x, k): the bit -/
theorem mx_in (x0 : Int64) (k : Nat) (hk : k < 64) : Met l yX0_in (ws_ yX0_in cX0_in 3 (some .boolean)) ({ frames := 0, cells := 0, slots := 0, locals := 0 }) (va_Pc [.long x0, .int (nI k)] (fun _ => True)) (vp_Si (fun z => z = ra_b (ra_bt x0 k))) 0 0 (fun _ => False) := by
  refine Met.ofW (cc := cX0_in) (maxL := 3) (ret := some .boolean) (by decide) rfl ?_
  intro p e s m args below meth c s₁ B hml hv
  obtain ⟨rfl, -⟩ := hv
  have hx := B.exec
  have hb := B.bytes
  have hr := B.returns
  have hts := atoms_spec (ws := (ws_ yX0_in cX0_in 3 (some .boolean))) B.pre
  have hts : ∀ w ∈ lw_all, w.before _ s = true := fun w h => hts w (List.mem_cons_of_mem _ h)
  have hown : s.vm.findClass RX0 = some m.cls := findClass_of_methodNamed B.named
  have hlocks := B.notSynchronized
  have hl := lv_entry ([.long x0, .int (nI k)]) (n := 3) (Nat.le_of_ble_eq_true rfl)
  rw [lg_entry_eq]
  generalize (lg_sl ([.long x0, .int (nI k)]) ++ List.replicate (3 - (lg_sl ([.long x0, .int (nI k)])).length) Slot.unset).toArray = ls at hl ⊢
  have hl : lv_has ls 3 [(0, .long x0), (2, .int (nI k))] := hl
  refine lv_lload_n hx hb dX0_in_0 rfl (lv_at hl 0 rfl) ?_
  refine lv_iload_n hx hb dX0_in_1 rfl (lv_at hl 1 rfl) ?_
  refine lv_lushr hx hb dX0_in_2 rfl ?_
  refine lv_lconst (v := 1) hx hb dX0_in_3 (by decide) ?_
  refine lv_land hx hb dX0_in_4 ?_
  refine lv_lconst (v := 1) hx hb dX0_in_5 (by decide) ?_
  refine W.lcmp hx hb dX0_in_6 ?_
  refine lv_if_ne (tgt := 14) hx hb dX0_in_7 (by decide) (fun c_7 => ?_) (fun c_7 => ?_)
  · refine lv_iconst (v := 0) hx hb dX0_in_14 (by decide) ?_
    exact W.zret (v := 0) hx hb hr rfl (fun t ht hW => ⟨_, rfl, by rw [ra_in_t hk c_7]; rfl, ht⟩) (fun q h => by cases h) dX0_in_15
  · refine lv_iconst (v := 1) hx hb dX0_in_10 (by decide) ?_
    refine lv_goto (tgt := 15) hx hb dX0_in_11 (by decide) ?_
    exact W.zret (v := 1) hx hb hr rfl (fun t ht hW => ⟨_, rfl, by rw [ra_in_f hk c_7]; rfl, ht⟩) (fun q h => by cases h) dX0_in_15
set_option maxHeartbeats 4000000 in
set_option maxRecDepth 100000 in
/-- shows(rp, a) -/
theorem mx_shows (rp a : Nat) (hr3 : rp < 3) (ha : a < 40) : Met l yX0_shows (ws_ yX0_shows cX0_shows 3 (some .boolean)) ({ frames := 1, cells := 0, slots := 0, locals := 30 }) (va_Pc [.ref h, .int (nI rp), .int (nI a)] (fun U => va_P (dC, dI) vwCl (ra_wX h q1 q2 q3 q4 q5 q6 q7 q8 cI cL n fl S O P C fk fg fn) U.heap ∧ va_K (dC, dI) vwCl [(cI, .int), (cL, .long)] U)) (vp_Si (fun z => z = ra_b (ra_sh fg rp a))) 0 0 (fun _ => False) := by
  refine Met.ofW (cc := cX0_shows) (maxL := 3) (ret := some .boolean) (by decide) rfl ?_
  intro p e s m args below meth c s₁ B hml hv
  obtain ⟨rfl, hP, hK⟩ := hv
  have hx := B.exec
  have hb := B.bytes
  have hr := B.returns
  have hts := atoms_spec (ws := (ws_ yX0_shows cX0_shows 3 (some .boolean))) B.pre
  have hts : ∀ w ∈ lw_all, w.before _ s = true := fun w h => hts w (List.mem_cons_of_mem _ h)
  have hown : s.vm.findClass RX0 = some m.cls := findClass_of_methodNamed B.named
  have hlocks := B.notSynchronized
  have hP : va_P (dC, dI) vwCl (ra_wX h q1 q2 q3 q4 q5 q6 q7 q8 cI cL n fl S O P C fk fg fn) s.heap := hP
  have hl := lv_entry ([.ref h, .int (nI rp), .int (nI a)]) (n := 3) (Nat.le_of_ble_eq_true rfl)
  rw [lg_entry_eq]
  generalize (lg_sl ([.ref h, .int (nI rp), .int (nI a)]) ++ List.replicate (3 - (lg_sl ([.ref h, .int (nI rp), .int (nI a)])).length) Slot.unset).toArray = ls at hl ⊢
  have hl : lv_has ls 3 [(0, .ref h), (1, .int (nI rp)), (2, .int (nI a))] := hl
  refine lv_aload_n hx hb dX0_shows_0 rfl (lv_at hl 0 rfl) ?_
  refine va_get (D := (dC, dI)) (ci := 0) (v := .ref q7) (C := RX0) (T := TX0) (N := 9) hx hb hts in_X0 hown hK hP 0 rfl rfl 7 (by decide) (hts _ q34) (fun _ h9 => h9) rfl dX0_shows_1 ?_
  refine lv_iload_n hx hb dX0_shows_4 rfl (lv_at hl 1 rfl) ?_
  refine ra_lald hx hb hK hP 7 1 rfl rfl (k := rp) rfl (by omega) (by decide) (v := fg rp) rfl dX0_shows_5 ?_
  refine lv_iload_n hx hb dX0_shows_6 rfl (lv_at hl 2 rfl) ?_
  refine ra_cS ⟨hx, hb, hml, hown, hts⟩ [.long (fg rp), .int (nI a)] [] (mx_in l (fg rp) a (by omega)) (va_cwS 2 hts (lw_S q68 q69 q17 q70) rfl rfl rfl (by decide +kernel) ⟨Nat.le_of_ble_eq_true rfl, Nat.le_of_ble_eq_true rfl⟩) rfl hl.1 rfl (Nat.le_of_ble_eq_true rfl) dX0_shows_7 ⟨Nat.le_of_ble_eq_true rfl, Nat.le_of_ble_eq_true rfl⟩ (fun z hz => ?_)
  refine lv_if_ne (tgt := 17) hx hb dX0_shows_10 (by decide) (fun c_10 => ?_) (fun c_10 => ?_)
  · subst hz
    refine lv_iconst (v := 0) hx hb dX0_shows_17 (by decide) ?_
    exact W.zret (v := 0) hx hb hr rfl (fun t ht hW => ⟨_, rfl, by rw [ra_sh, (ra_b_ne _).mp c_10]; rfl, ht⟩) (fun q h => by cases h) dX0_shows_18
  · subst hz
    refine lv_iconst (v := 1) hx hb dX0_shows_13 (by decide) ?_
    refine lv_goto (tgt := 18) hx hb dX0_shows_14 (by decide) ?_
    exact W.zret (v := 1) hx hb hr rfl (fun t ht hW => ⟨_, rfl, by rw [ra_sh, (ra_b_eq _).mp c_10]; rfl, ht⟩) (fun q h => by cases h) dX0_shows_18
set_option maxHeartbeats 4000000 in
set_option maxRecDepth 100000 in
/-- ahead(a, b) -/
theorem mx_ahead (a b : Nat) (ha : a < 40) (hb40 : b < 40) (hSO : ∀ k, S k ≤ 40 ∧ O k < 3) : Met l yX0_ahead (ws_ yX0_ahead cX0_ahead 3 (some .boolean)) ({ frames := 0, cells := 0, slots := 0, locals := 0 }) (va_Pc [.ref h, .int (nI a), .int (nI b)] (fun U => va_P (dC, dI) vwCl (ra_wX h q1 q2 q3 q4 q5 q6 q7 q8 cI cL n fl S O P C fk fg fn) U.heap ∧ va_K (dC, dI) vwCl [(cI, .int), (cL, .long)] U)) (vp_Si (fun z => z = ra_b (decide (ra_key S O b < ra_key S O a)))) 0 0 (fun _ => False) := by
  refine Met.ofW (cc := cX0_ahead) (maxL := 3) (ret := some .boolean) (by decide) rfl ?_
  intro p e s m args below meth c s₁ B hml hv
  obtain ⟨rfl, hP, hK⟩ := hv
  have hx := B.exec
  have hb := B.bytes
  have hr := B.returns
  have hts := atoms_spec (ws := (ws_ yX0_ahead cX0_ahead 3 (some .boolean))) B.pre
  have hts : ∀ w ∈ lw_all, w.before _ s = true := fun w h => hts w (List.mem_cons_of_mem _ h)
  have hown : s.vm.findClass RX0 = some m.cls := findClass_of_methodNamed B.named
  have hlocks := B.notSynchronized
  have hP : va_P (dC, dI) vwCl (ra_wX h q1 q2 q3 q4 q5 q6 q7 q8 cI cL n fl S O P C fk fg fn) s.heap := hP
  have hl := lv_entry ([.ref h, .int (nI a), .int (nI b)]) (n := 3) (Nat.le_of_ble_eq_true rfl)
  rw [lg_entry_eq]
  generalize (lg_sl ([.ref h, .int (nI a), .int (nI b)]) ++ List.replicate (3 - (lg_sl ([.ref h, .int (nI a), .int (nI b)])).length) Slot.unset).toArray = ls at hl ⊢
  have hl : lv_has ls 3 [(0, .ref h), (1, .int (nI a)), (2, .int (nI b))] := hl
  have hSa := hSO a
  have hSb := hSO b
  refine lv_aload_n hx hb dX0_ahead_0 rfl (lv_at hl 0 rfl) ?_
  refine va_get (D := (dC, dI)) (ci := 0) (v := .ref q2) (C := RX0) (T := TX0) (N := 9) hx hb hts in_X0 hown hK hP 0 rfl rfl 2 (by decide) (hts _ q29) (fun _ h9 => h9) rfl dX0_ahead_1 ?_
  refine lv_iload_n hx hb dX0_ahead_4 rfl (lv_at hl 1 rfl) ?_
  refine ra_iald hx hb hK hP 2 0 rfl rfl (k := a) rfl (by omega) (by decide) (v := nI (S a)) rfl dX0_ahead_5 ?_
  refine lv_aload_n hx hb dX0_ahead_6 rfl (lv_at hl 0 rfl) ?_
  refine va_get (D := (dC, dI)) (ci := 0) (v := .ref q2) (C := RX0) (T := TX0) (N := 9) hx hb hts in_X0 hown hK hP 0 rfl rfl 2 (by decide) (hts _ q29) (fun _ h9 => h9) rfl dX0_ahead_7 ?_
  refine lv_iload_n hx hb dX0_ahead_10 rfl (lv_at hl 2 rfl) ?_
  refine ra_iald hx hb hK hP 2 0 rfl rfl (k := b) rfl (by omega) (by decide) (v := nI (S b)) rfl dX0_ahead_11 ?_
  refine lv_icmp_eq (tgt := 38) hx hb dX0_ahead_12 (by decide) (fun c_12 => ?_) (fun c_12 => ?_)
  · refine lv_aload_n hx hb dX0_ahead_38 rfl (lv_at hl 0 rfl) ?_
    refine va_get (D := (dC, dI)) (ci := 0) (v := .ref q3) (C := RX0) (T := TX0) (N := 9) hx hb hts in_X0 hown hK hP 0 rfl rfl 3 (by decide) (hts _ q30) (fun _ h9 => h9) rfl dX0_ahead_39 ?_
    refine lv_iload_n hx hb dX0_ahead_42 rfl (lv_at hl 1 rfl) ?_
    refine ra_iald hx hb hK hP 3 0 rfl rfl (k := a) rfl (by omega) (by decide) (v := nI (O a)) rfl dX0_ahead_43 ?_
    refine lv_aload_n hx hb dX0_ahead_44 rfl (lv_at hl 0 rfl) ?_
    refine va_get (D := (dC, dI)) (ci := 0) (v := .ref q3) (C := RX0) (T := TX0) (N := 9) hx hb hts in_X0 hown hK hP 0 rfl rfl 3 (by decide) (hts _ q30) (fun _ h9 => h9) rfl dX0_ahead_45 ?_
    refine lv_iload_n hx hb dX0_ahead_48 rfl (lv_at hl 2 rfl) ?_
    refine ra_iald hx hb hK hP 3 0 rfl rfl (k := b) rfl (by omega) (by decide) (v := nI (O b)) rfl dX0_ahead_49 ?_
    refine lv_icmp_le (tgt := 57) hx hb dX0_ahead_50 (by decide) (fun c_50 => ?_) (fun c_50 => ?_)
    · refine lv_iconst (v := 0) hx hb dX0_ahead_57 (by decide) ?_
      exact W.zret (v := 0) hx hb hr rfl (fun t ht hW => ⟨_, rfl, by (rw [(nI_eq (by omega) (by omega))] at c_12; rw [(nI_leI (by omega) (by omega))] at c_50); unfold ra_key; rw [decide_eq_false (by omega)]; rfl, ht⟩) (fun q h => by cases h) dX0_ahead_58
    · refine lv_iconst (v := 1) hx hb dX0_ahead_53 (by decide) ?_
      refine lv_goto (tgt := 58) hx hb dX0_ahead_54 (by decide) ?_
      exact W.zret (v := 1) hx hb hr rfl (fun t ht hW => ⟨_, rfl, by (rw [(nI_eq (by omega) (by omega))] at c_12; rw [(nI_leI (by omega) (by omega))] at c_50); unfold ra_key; rw [decide_eq_true (by omega)]; rfl, ht⟩) (fun q h => by cases h) dX0_ahead_58
  · refine lv_aload_n hx hb dX0_ahead_15 rfl (lv_at hl 0 rfl) ?_
    refine va_get (D := (dC, dI)) (ci := 0) (v := .ref q2) (C := RX0) (T := TX0) (N := 9) hx hb hts in_X0 hown hK hP 0 rfl rfl 2 (by decide) (hts _ q29) (fun _ h9 => h9) rfl dX0_ahead_16 ?_
    refine lv_iload_n hx hb dX0_ahead_19 rfl (lv_at hl 1 rfl) ?_
    refine ra_iald hx hb hK hP 2 0 rfl rfl (k := a) rfl (by omega) (by decide) (v := nI (S a)) rfl dX0_ahead_20 ?_
    refine lv_aload_n hx hb dX0_ahead_21 rfl (lv_at hl 0 rfl) ?_
    refine va_get (D := (dC, dI)) (ci := 0) (v := .ref q2) (C := RX0) (T := TX0) (N := 9) hx hb hts in_X0 hown hK hP 0 rfl rfl 2 (by decide) (hts _ q29) (fun _ h9 => h9) rfl dX0_ahead_22 ?_
    refine lv_iload_n hx hb dX0_ahead_25 rfl (lv_at hl 2 rfl) ?_
    refine ra_iald hx hb hK hP 2 0 rfl rfl (k := b) rfl (by omega) (by decide) (v := nI (S b)) rfl dX0_ahead_26 ?_
    refine lv_icmp_le (tgt := 34) hx hb dX0_ahead_27 (by decide) (fun c_27 => ?_) (fun c_27 => ?_)
    · refine lv_iconst (v := 0) hx hb dX0_ahead_34 (by decide) ?_
      refine lv_goto (tgt := 58) hx hb dX0_ahead_35 (by decide) ?_
      exact W.zret (v := 0) hx hb hr rfl (fun t ht hW => ⟨_, rfl, by (rw [(nI_eq (by omega) (by omega))] at c_12; rw [(nI_leI (by omega) (by omega))] at c_27); unfold ra_key; rw [decide_eq_false (by omega)]; rfl, ht⟩) (fun q h => by cases h) dX0_ahead_58
    · refine lv_iconst (v := 1) hx hb dX0_ahead_30 (by decide) ?_
      refine lv_goto (tgt := 58) hx hb dX0_ahead_31 (by decide) ?_
      exact W.zret (v := 1) hx hb hr rfl (fun t ht hW => ⟨_, rfl, by (rw [(nI_eq (by omega) (by omega))] at c_12; rw [(nI_leI (by omega) (by omega))] at c_27); unfold ra_key; rw [decide_eq_true (by omega)]; rfl, ht⟩) (fun q h => by cases h) dX0_ahead_58
set_option maxHeartbeats 4000000 in
set_option maxRecDepth 100000 in
/-- unknown(rp, x) -/
theorem mx_unknown (rp : Nat) (x0 : Int32) (hr3 : rp < 3) (hn : n ≤ 40) : Met l yX0_unknown (ws_ yX0_unknown cX0_unknown 3 (some .boolean)) ({ frames := 1, cells := 0, slots := 0, locals := 30 }) (va_Pc [.ref h, .int (nI rp), .int x0] (fun U => va_P (dC, dI) vwCl (ra_wX h q1 q2 q3 q4 q5 q6 q7 q8 cI cL n fl S O P C fk fg fn) U.heap ∧ va_K (dC, dI) vwCl [(cI, .int), (cL, .long)] U)) (vp_Si (fun z => z = ra_b (!(ra_kn n fk rp x0)))) 0 0 (fun _ => False) := by
  refine Met.ofW (cc := cX0_unknown) (maxL := 3) (ret := some .boolean) (by decide) rfl ?_
  intro p e s m args below meth c s₁ B hml hv
  obtain ⟨rfl, hP, hK⟩ := hv
  have hx := B.exec
  have hb := B.bytes
  have hr := B.returns
  have hts := atoms_spec (ws := (ws_ yX0_unknown cX0_unknown 3 (some .boolean))) B.pre
  have hts : ∀ w ∈ lw_all, w.before _ s = true := fun w h => hts w (List.mem_cons_of_mem _ h)
  have hown : s.vm.findClass RX0 = some m.cls := findClass_of_methodNamed B.named
  have hlocks := B.notSynchronized
  have hP : va_P (dC, dI) vwCl (ra_wX h q1 q2 q3 q4 q5 q6 q7 q8 cI cL n fl S O P C fk fg fn) s.heap := hP
  have hl := lv_entry ([.ref h, .int (nI rp), .int x0]) (n := 3) (Nat.le_of_ble_eq_true rfl)
  rw [lg_entry_eq]
  generalize (lg_sl ([.ref h, .int (nI rp), .int x0]) ++ List.replicate (3 - (lg_sl ([.ref h, .int (nI rp), .int x0])).length) Slot.unset).toArray = ls at hl ⊢
  have hl : lv_has ls 3 [(0, .ref h), (1, .int (nI rp)), (2, .int x0)] := hl
  refine lv_iload_n hx hb dX0_unknown_0 rfl (lv_at hl 2 rfl) ?_
  refine lv_if_lt (tgt := 25) hx hb dX0_unknown_1 (by decide) (fun c_1 => ?_) (fun c_1 => ?_)
  · refine lv_iconst (v := 1) hx hb dX0_unknown_25 (by decide) ?_
    refine lv_goto (tgt := 30) hx hb dX0_unknown_26 (by decide) ?_
    exact W.zret (v := 1) hx hb hr rfl (fun t ht hW => ⟨_, rfl, by rw [ra_kn_neg c_1]; rfl, ht⟩) (fun q h => by cases h) dX0_unknown_30
  · refine lv_iload_n hx hb dX0_unknown_4 rfl (lv_at hl 2 rfl) ?_
    refine lv_aload_n hx hb dX0_unknown_5 rfl (lv_at hl 0 rfl) ?_
    refine va_get (D := (dC, dI)) (ci := 0) (v := .int (nI n)) (C := RX0) (T := TX0) (N := 9) hx hb hts in_X0 hown hK hP 0 rfl rfl 0 (by decide) (hts _ q27) (fun _ h9 => h9) rfl dX0_unknown_6 ?_
    refine lv_icmp_ge (tgt := 25) hx hb dX0_unknown_9 (by decide) (fun c_9 => ?_) (fun c_9 => ?_)
    · refine lv_iconst (v := 1) hx hb dX0_unknown_25 (by decide) ?_
      refine lv_goto (tgt := 30) hx hb dX0_unknown_26 (by decide) ?_
      exact W.zret (v := 1) hx hb hr rfl (fun t ht hW => ⟨_, rfl, by rw [ra_kn_big hn c_9]; rfl, ht⟩) (fun q h => by cases h) dX0_unknown_30
    · obtain ⟨k, hk, rfl⟩ := nI_of c_1
      have hkn : k < n := by rw [nI_leI (by omega) hk] at c_9; omega
      refine lv_aload_n hx hb dX0_unknown_12 rfl (lv_at hl 0 rfl) ?_
      refine va_get (D := (dC, dI)) (ci := 0) (v := .ref q6) (C := RX0) (T := TX0) (N := 9) hx hb hts in_X0 hown hK hP 0 rfl rfl 6 (by decide) (hts _ q33) (fun _ h9 => h9) rfl dX0_unknown_13 ?_
      refine lv_iload_n hx hb dX0_unknown_16 rfl (lv_at hl 1 rfl) ?_
      refine ra_lald hx hb hK hP 6 1 rfl rfl (k := rp) rfl (by omega) (by decide) (v := fk rp) rfl dX0_unknown_17 ?_
      refine lv_iload_n hx hb dX0_unknown_18 rfl (lv_at hl 2 rfl) ?_
      refine ra_cS ⟨hx, hb, hml, hown, hts⟩ [.long (fk rp), .int (nI k)] [] (mx_in l (fk rp) k (by omega)) (va_cwS 2 hts (lw_S q68 q69 q17 q70) rfl rfl rfl (by decide +kernel) ⟨Nat.le_of_ble_eq_true rfl, Nat.le_of_ble_eq_true rfl⟩) rfl hl.1 rfl (Nat.le_of_ble_eq_true rfl) dX0_unknown_19 ⟨Nat.le_of_ble_eq_true rfl, Nat.le_of_ble_eq_true rfl⟩ (fun z hz => ?_)
      refine lv_if_ne (tgt := 29) hx hb dX0_unknown_22 (by decide) (fun c_22 => ?_) (fun c_22 => ?_)
      · refine lv_iconst (v := 0) hx hb dX0_unknown_29 (by decide) ?_
        exact W.zret (v := 0) hx hb hr rfl (fun t ht hW => ⟨_, rfl, by rw [ra_kn_t hkn hn ((ra_b_ne _).mp (hz ▸ c_22))]; rfl, ht⟩) (fun q h => by cases h) dX0_unknown_30
      · refine lv_iconst (v := 1) hx hb dX0_unknown_25 (by decide) ?_
        refine lv_goto (tgt := 30) hx hb dX0_unknown_26 (by decide) ?_
        exact W.zret (v := 1) hx hb hr rfl (fun t ht hW => ⟨_, rfl, by rw [ra_kn_no hkn hn ((ra_b_eq _).mp (hz ▸ c_22))]; rfl, ht⟩) (fun q h => by cases h) dX0_unknown_30
set_option maxHeartbeats 4000000 in
set_option maxRecDepth 100000 in
/-- textLength(rp) -/
theorem mx_textLength (rp : Nat) (hr3 : rp < 3) (hn : n ≤ 40) : Met l yX0_textLength (ws_ yX0_textLength cX0_textLength 4 (some .int)) ({ frames := 2, cells := 0, slots := 0, locals := 60 }) (va_Pc [.ref h, .int (nI rp)] (fun U => va_P (dC, dI) vwCl (ra_wX h q1 q2 q3 q4 q5 q6 q7 q8 cI cL n fl S O P C fk fg fn) U.heap ∧ va_K (dC, dI) vwCl [(cI, .int), (cL, .long)] U)) (vp_Si (fun z => z = nI (ra_cn (ra_kf fk fg rp) n))) 0 0 (fun _ => False) := by
  refine Met.ofW (cc := cX0_textLength) (maxL := 4) (ret := some .int) (by decide) rfl ?_
  intro p e s m args below meth c s₁ B hml hv
  obtain ⟨rfl, hP, hK⟩ := hv
  have hx := B.exec
  have hb := B.bytes
  have hr := B.returns
  have hts := atoms_spec (ws := (ws_ yX0_textLength cX0_textLength 4 (some .int))) B.pre
  have hts : ∀ w ∈ lw_all, w.before _ s = true := fun w h => hts w (List.mem_cons_of_mem _ h)
  have hown : s.vm.findClass RX0 = some m.cls := findClass_of_methodNamed B.named
  have hlocks := B.notSynchronized
  have hP : va_P (dC, dI) vwCl (ra_wX h q1 q2 q3 q4 q5 q6 q7 q8 cI cL n fl S O P C fk fg fn) s.heap := hP
  have hl := lv_entry ([.ref h, .int (nI rp)]) (n := 4) (Nat.le_of_ble_eq_true rfl)
  rw [lg_entry_eq]
  generalize (lg_sl ([.ref h, .int (nI rp)]) ++ List.replicate (4 - (lg_sl ([.ref h, .int (nI rp)])).length) Slot.unset).toArray = ls at hl ⊢
  have hl : lv_has ls 4 [(0, .ref h), (1, .int (nI rp))] := hl
  refine lv_iconst (v := 0) hx hb dX0_textLength_0 (by decide) ?_
  refine lv_istore_n (lv' := [(2, .int 0), (0, .ref h), (1, .int (nI rp))]) hx hb dX0_textLength_1 rfl hl (by decide) rfl (fun ls hl => ?_)
  refine lv_iconst (v := 0) hx hb dX0_textLength_2 (by decide) ?_
  refine lv_istore_n (lv' := [(3, .int 0), (2, .int 0), (0, .ref h), (1, .int (nI rp))]) hx hb dX0_textLength_3 rfl hl (by decide) rfl (fun ls hl => ?_)
  have loop : ∀ (k i : Nat), i ≤ n → n + 1 ≤ i + k → ∀ (ls : Array Slot), lv_has ls 4 [(3, .int (nI i)), (2, .int (nI (ra_cn (ra_kf fk fg rp) i))), (0, .ref h), (1, .int (nI rp))] → ra_WR p l e s m below meth c (ws_ yX0_textLength cX0_textLength 4 (some .int)) ({ frames := 2, cells := 0, slots := 0, locals := 60 }) [.ref h, .int (nI rp)] (fun z => z = nI (ra_cn (ra_kf fk fg rp) n)) 4 ls [] := by
    intro k
    induction k with
    | zero => intro i h1 h2; exact absurd h2 (by omega)
    | succ k ih =>
      intro i h1 h2 ls hl
      refine lv_iload_n hx hb dX0_textLength_4 rfl (lv_at hl 0 rfl) ?_
      refine lv_aload_n hx hb dX0_textLength_5 rfl (lv_at hl 2 rfl) ?_
      refine va_get (D := (dC, dI)) (ci := 0) (v := .int (nI n)) (C := RX0) (T := TX0) (N := 9) hx hb hts in_X0 hown hK hP 0 rfl rfl 0 (by decide) (hts _ q27) (fun _ h9 => h9) rfl dX0_textLength_6 ?_
      refine lv_icmp_ge (tgt := 43) hx hb dX0_textLength_9 (by decide) (fun c_9 => ?_) (fun c_9 => ?_)
      · have hi : i = n := by rw [nI_leI (by omega) (by omega)] at c_9; omega
        subst hi
        refine lv_iload_n hx hb dX0_textLength_43 rfl (lv_at hl 1 rfl) ?_
        exact W.iret (v := nI (ra_cn (ra_kf fk fg rp) i)) hx hb hr (fun t ht hW => ⟨_, rfl, rfl, ht⟩) (fun q h => by cases h) dX0_textLength_44
      · have hi : i < n := by rw [nI_leI (by omega) (by omega)] at c_9; omega
        refine lv_aload_n hx hb dX0_textLength_12 rfl (lv_at hl 2 rfl) ?_
        refine va_get (D := (dC, dI)) (ci := 0) (v := .ref q6) (C := RX0) (T := TX0) (N := 9) hx hb hts in_X0 hown hK hP 0 rfl rfl 6 (by decide) (hts _ q33) (fun _ h9 => h9) rfl dX0_textLength_13 ?_
        refine lv_iload_n hx hb dX0_textLength_16 rfl (lv_at hl 3 rfl) ?_
        refine ra_lald hx hb hK hP 6 1 rfl rfl (k := rp) rfl (by omega) (by decide) (v := fk rp) rfl dX0_textLength_17 ?_
        refine lv_iload_n hx hb dX0_textLength_18 rfl (lv_at hl 0 rfl) ?_
        refine ra_cS ⟨hx, hb, hml, hown, hts⟩ [.long (fk rp), .int (nI i)] [] (mx_in l (fk rp) i (by omega)) (va_cwS 2 hts (lw_S q68 q69 q17 q70) rfl rfl rfl (by decide +kernel) ⟨Nat.le_of_ble_eq_true rfl, Nat.le_of_ble_eq_true rfl⟩) rfl hl.1 rfl (Nat.le_of_ble_eq_true rfl) dX0_textLength_19 ⟨Nat.le_of_ble_eq_true rfl, Nat.le_of_ble_eq_true rfl⟩ (fun z hz => ?_)
        refine lv_if_eq (tgt := 37) hx hb dX0_textLength_22 (by decide) (fun c_22 => ?_) (fun c_22 => ?_)
        · have hc : ra_cn (ra_kf fk fg rp) (i + 1) = ra_cn (ra_kf fk fg rp) i := ra_cn_n (by have q : ra_bt (fk rp) i = false := (ra_b_eq _).mp (hz ▸ c_22); unfold ra_kf; rw [q]; rfl)
          refine lv_iinc (v := nI (i + 1)) (lv' := [(3, .int (nI (i + 1))), (2, .int (nI (ra_cn (ra_kf fk fg rp) i))), (0, .ref h), (1, .int (nI rp))]) hx hb dX0_textLength_37 hl (k := 0) rfl (ra_inc _) (by decide) rfl (fun ls hl => ?_)
          refine lv_goto (tgt := 4) hx hb dX0_textLength_40 (by decide) ?_
          exact ih (i + 1) (by omega) (by omega) ls (by rw [hc]; exact (lv_sub hl [0, 1, 2, 3] rfl))
        · refine lv_aload_n hx hb dX0_textLength_25 rfl (lv_at hl 2 rfl) ?_
          refine lv_iload_n hx hb dX0_textLength_26 rfl (lv_at hl 3 rfl) ?_
          refine lv_iload_n hx hb dX0_textLength_27 rfl (lv_at hl 0 rfl) ?_
          refine ra_cV (Cn := RX0) ⟨hx, hb, hml, hown, hts⟩ [.int (nI rp), .int (nI i)] [] (mx_shows l rp i hr3 (by omega)) (cwV 2 hts (lw_V q71 q73 qs1 q17 q74) rfl rfl rfl (by decide +kernel) ⟨Nat.le_of_ble_eq_true rfl, Nat.le_of_ble_eq_true rfl⟩) hP hK (va_recv hK hP (ci := 0) (q0 := 0) rfl rfl) rfl hl.1 rfl (Nat.le_of_ble_eq_true rfl) dX0_textLength_28 ⟨Nat.le_of_ble_eq_true rfl, Nat.le_of_ble_eq_true rfl⟩ (fun z2 hz2 => ?_)
          refine lv_if_eq (tgt := 37) hx hb dX0_textLength_31 (by decide) (fun c_31 => ?_) (fun c_31 => ?_)
          · have hc : ra_cn (ra_kf fk fg rp) (i + 1) = ra_cn (ra_kf fk fg rp) i := ra_cn_n (by have := (ra_b_eq _).mp (hz2 ▸ c_31); unfold ra_kf; unfold ra_sh at this; rw [this, Bool.and_false])
            refine lv_iinc (v := nI (i + 1)) (lv' := [(3, .int (nI (i + 1))), (2, .int (nI (ra_cn (ra_kf fk fg rp) i))), (0, .ref h), (1, .int (nI rp))]) hx hb dX0_textLength_37 hl (k := 0) rfl (ra_inc _) (by decide) rfl (fun ls hl => ?_)
            refine lv_goto (tgt := 4) hx hb dX0_textLength_40 (by decide) ?_
            exact ih (i + 1) (by omega) (by omega) ls (by rw [hc]; exact (lv_sub hl [0, 1, 2, 3] rfl))
          · have hc : ra_cn (ra_kf fk fg rp) (i + 1) = ra_cn (ra_kf fk fg rp) i + 1 := ra_cn_s (by have q1 := (ra_b_ne _).mp (hz2 ▸ c_31); have q2 := (ra_b_ne _).mp (hz ▸ c_22); unfold ra_kf; unfold ra_sh at q1; rw [q1, q2]; rfl)
            refine lv_iinc (v := nI (ra_cn (ra_kf fk fg rp) i + 1)) (lv' := [(2, .int (nI (ra_cn (ra_kf fk fg rp) i + 1))), (3, .int (nI i)), (0, .ref h), (1, .int (nI rp))]) hx hb dX0_textLength_34 hl (k := 1) rfl (ra_inc _) (by decide) rfl (fun ls hl => ?_)
            refine lv_iinc (v := nI (i + 1)) (lv' := [(3, .int (nI (i + 1))), (2, .int (nI (ra_cn (ra_kf fk fg rp) i + 1))), (0, .ref h), (1, .int (nI rp))]) hx hb dX0_textLength_37 hl (k := 1) rfl (ra_inc _) (by decide) rfl (fun ls hl => ?_)
            refine lv_goto (tgt := 4) hx hb dX0_textLength_40 (by decide) ?_
            exact ih (i + 1) (by omega) (by omega) ls (by rw [hc]; exact (lv_sub hl [0, 1, 2, 3] rfl))
  exact loop (n + 1) 0 (Nat.zero_le _) (by omega) ls (lv_sub hl [0, 1, 2, 3] rfl)
set_option maxHeartbeats 4000000 in
set_option maxRecDepth 100000 in
/-- length(r) -/
theorem mx_length (r : Int32) (hn : n ≤ 40) : Met l yX0_length (ws_ yX0_length cX0_length 2 (some .int)) ({ frames := 3, cells := 0, slots := 0, locals := 90 }) (va_Pc [.ref h, .int r] (fun U => va_P (dC, dI) vwCl (ra_wX h q1 q2 q3 q4 q5 q6 q7 q8 cI cL n fl S O P C fk fg fn) U.heap ∧ va_K (dC, dI) vwCl [(cI, .int), (cL, .long)] U)) (vp_Si (fun z => z = ra_rp r (fun rp => nI (ra_cn (ra_kf fk fg rp) n)))) 0 0 (fun _ => False) := by
  refine Met.ofW (cc := cX0_length) (maxL := 2) (ret := some .int) (by decide) rfl ?_
  intro p e s m args below meth c s₁ B hml hv
  obtain ⟨rfl, hP, hK⟩ := hv
  have hx := B.exec
  have hb := B.bytes
  have hr := B.returns
  have hts := atoms_spec (ws := (ws_ yX0_length cX0_length 2 (some .int))) B.pre
  have hts : ∀ w ∈ lw_all, w.before _ s = true := fun w h => hts w (List.mem_cons_of_mem _ h)
  have hown : s.vm.findClass RX0 = some m.cls := findClass_of_methodNamed B.named
  have hlocks := B.notSynchronized
  have hP : va_P (dC, dI) vwCl (ra_wX h q1 q2 q3 q4 q5 q6 q7 q8 cI cL n fl S O P C fk fg fn) s.heap := hP
  have hl := lv_entry ([.ref h, .int r]) (n := 2) (Nat.le_of_ble_eq_true rfl)
  rw [lg_entry_eq]
  generalize (lg_sl ([.ref h, .int r]) ++ List.replicate (2 - (lg_sl ([.ref h, .int r])).length) Slot.unset).toArray = ls at hl ⊢
  have hl : lv_has ls 2 [(0, .ref h), (1, .int r)] := hl
  refine lv_iload_n hx hb dX0_length_0 rfl (lv_at hl 1 rfl) ?_
  refine ra_cS ⟨hx, hb, hml, hown, hts⟩ [.int r] [] (mx_bad l r) (va_cwS 1 hts (lw_S q61 q62 q17 q63) rfl rfl rfl (by decide +kernel) ⟨Nat.le_of_ble_eq_true rfl, Nat.le_of_ble_eq_true rfl⟩) rfl hl.1 rfl (Nat.le_of_ble_eq_true rfl) dX0_length_1 ⟨Nat.le_of_ble_eq_true rfl, Nat.le_of_ble_eq_true rfl⟩ (fun z hz => ?_)
  refine lv_if_eq (tgt := 11) hx hb dX0_length_4 (by decide) (fun c_4 => ?_) (fun c_4 => ?_)
  · obtain ⟨rp, hr3, rfl⟩ : ∃ k, k < 3 ∧ r = nI k := by
      rcases hz with ⟨q, -⟩ | ⟨-, q⟩
      · exact absurd (q ▸ c_4) (by decide)
      · exact q
    refine lv_aload_n hx hb dX0_length_11 rfl (lv_at hl 0 rfl) ?_
    refine lv_iload_n hx hb dX0_length_12 rfl (lv_at hl 1 rfl) ?_
    refine ra_cV (Cn := RX0) ⟨hx, hb, hml, hown, hts⟩ [.int (nI rp)] [] (mx_textLength l rp hr3 hn) (cwV 1 hts (lw_V q64 q66 qs0 q17 q67) rfl rfl rfl (by decide +kernel) ⟨Nat.le_of_ble_eq_true rfl, Nat.le_of_ble_eq_true rfl⟩) hP hK (va_recv hK hP (ci := 0) (q0 := 0) rfl rfl) rfl hl.1 rfl (Nat.le_of_ble_eq_true rfl) dX0_length_13 ⟨Nat.le_of_ble_eq_true rfl, Nat.le_of_ble_eq_true rfl⟩ (fun z2 hz2 => ?_)
    exact W.iret (v := z2) hx hb hr (fun t ht hW => ⟨_, rfl, hz2.trans (ra_rp_ok (v := fun rp => nI (ra_cn (ra_kf fk fg rp) n)) hr3).symm, ht⟩) (fun q h => by cases h) dX0_length_16
  · have hbd : r < 0 ∨ 2 < r := by
      rcases hz with ⟨-, q⟩ | ⟨q, -⟩
      · exact q
      · exact absurd q c_4
    refine lv_iconst (v := (-1)) hx hb dX0_length_7 (by decide) ?_
    refine lv_goto (tgt := 16) hx hb dX0_length_8 (by decide) ?_
    exact W.iret (v := -1) hx hb hr (fun t ht hW => ⟨_, rfl, (ra_rp_bad hbd).symm, ht⟩) (fun q h => by cases h) dX0_length_16
set_option maxHeartbeats 4000000 in
set_option maxRecDepth 100000 in
/-- known(r) -/
theorem mx_known (r : Int32) (hn : n ≤ 40) : Met l yX0_known (ws_ yX0_known cX0_known 4 (some .int)) ({ frames := 1, cells := 0, slots := 0, locals := 30 }) (va_Pc [.ref h, .int r] (fun U => va_P (dC, dI) vwCl (ra_wX h q1 q2 q3 q4 q5 q6 q7 q8 cI cL n fl S O P C fk fg fn) U.heap ∧ va_K (dC, dI) vwCl [(cI, .int), (cL, .long)] U)) (vp_Si (fun z => z = ra_rp r (fun rp => nI (ra_cn (ra_bt (fk rp)) n)))) 0 0 (fun _ => False) := by
  refine Met.ofW (cc := cX0_known) (maxL := 4) (ret := some .int) (by decide) rfl ?_
  intro p e s m args below meth c s₁ B hml hv
  obtain ⟨rfl, hP, hK⟩ := hv
  have hx := B.exec
  have hb := B.bytes
  have hr := B.returns
  have hts := atoms_spec (ws := (ws_ yX0_known cX0_known 4 (some .int))) B.pre
  have hts : ∀ w ∈ lw_all, w.before _ s = true := fun w h => hts w (List.mem_cons_of_mem _ h)
  have hown : s.vm.findClass RX0 = some m.cls := findClass_of_methodNamed B.named
  have hlocks := B.notSynchronized
  have hP : va_P (dC, dI) vwCl (ra_wX h q1 q2 q3 q4 q5 q6 q7 q8 cI cL n fl S O P C fk fg fn) s.heap := hP
  have hl := lv_entry ([.ref h, .int r]) (n := 4) (Nat.le_of_ble_eq_true rfl)
  rw [lg_entry_eq]
  generalize (lg_sl ([.ref h, .int r]) ++ List.replicate (4 - (lg_sl ([.ref h, .int r])).length) Slot.unset).toArray = ls at hl ⊢
  have hl : lv_has ls 4 [(0, .ref h), (1, .int r)] := hl
  refine lv_iload_n hx hb dX0_known_0 rfl (lv_at hl 1 rfl) ?_
  refine ra_cS ⟨hx, hb, hml, hown, hts⟩ [.int r] [] (mx_bad l r) (va_cwS 1 hts (lw_S q61 q62 q17 q63) rfl rfl rfl (by decide +kernel) ⟨Nat.le_of_ble_eq_true rfl, Nat.le_of_ble_eq_true rfl⟩) rfl hl.1 rfl (Nat.le_of_ble_eq_true rfl) dX0_known_1 ⟨Nat.le_of_ble_eq_true rfl, Nat.le_of_ble_eq_true rfl⟩ (fun z hz => ?_)
  refine lv_if_eq (tgt := 9) hx hb dX0_known_4 (by decide) (fun c_4 => ?_) (fun c_4 => ?_)
  · obtain ⟨rp, hr3, rfl⟩ : ∃ k, k < 3 ∧ r = nI k := by
      rcases hz with ⟨q, -⟩ | ⟨-, q⟩
      · exact absurd (q ▸ c_4) (by decide)
      · exact q
    refine lv_iconst (v := 0) hx hb dX0_known_9 (by decide) ?_
    refine lv_istore_n (lv' := [(2, .int 0), (0, .ref h), (1, .int (nI rp))]) hx hb dX0_known_10 rfl hl (by decide) rfl (fun ls hl => ?_)
    refine lv_iconst (v := 0) hx hb dX0_known_11 (by decide) ?_
    refine lv_istore_n (lv' := [(3, .int 0), (2, .int 0), (0, .ref h), (1, .int (nI rp))]) hx hb dX0_known_12 rfl hl (by decide) rfl (fun ls hl => ?_)
    have loop : ∀ (k i : Nat), i ≤ n → n + 1 ≤ i + k → ∀ (ls : Array Slot), lv_has ls 4 [(3, .int (nI i)), (2, .int (nI (ra_cn (ra_bt (fk rp)) i))), (0, .ref h), (1, .int (nI rp))] → ra_WR p l e s m below meth c (ws_ yX0_known cX0_known 4 (some .int)) ({ frames := 1, cells := 0, slots := 0, locals := 30 }) [.ref h, .int (nI rp)] (fun z => z = ra_rp (nI rp) (fun rp => nI (ra_cn (ra_bt (fk rp)) n))) 13 ls [] := by
      intro k
      induction k with
      | zero => intro i h1 h2; exact absurd h2 (by omega)
      | succ k ih =>
        intro i h1 h2 ls hl
        refine lv_iload_n hx hb dX0_known_13 rfl (lv_at hl 0 rfl) ?_
        refine lv_aload_n hx hb dX0_known_14 rfl (lv_at hl 2 rfl) ?_
        refine va_get (D := (dC, dI)) (ci := 0) (v := .int (nI n)) (C := RX0) (T := TX0) (N := 9) hx hb hts in_X0 hown hK hP 0 rfl rfl 0 (by decide) (hts _ q27) (fun _ h9 => h9) rfl dX0_known_15 ?_
        refine lv_icmp_ge (tgt := 43) hx hb dX0_known_18 (by decide) (fun c_18 => ?_) (fun c_18 => ?_)
        · have hi : i = n := by rw [nI_leI (by omega) (by omega)] at c_18; omega
          subst hi
          refine lv_iload_n hx hb dX0_known_43 rfl (lv_at hl 1 rfl) ?_
          exact W.iret (v := nI (ra_cn (ra_bt (fk rp)) i)) hx hb hr (fun t ht hW => ⟨_, rfl, (ra_rp_ok (v := fun rp => nI (ra_cn (ra_bt (fk rp)) i)) hr3).symm, ht⟩) (fun q h => by cases h) dX0_known_44
        · have hi : i < n := by rw [nI_leI (by omega) (by omega)] at c_18; omega
          refine lv_aload_n hx hb dX0_known_21 rfl (lv_at hl 2 rfl) ?_
          refine va_get (D := (dC, dI)) (ci := 0) (v := .ref q6) (C := RX0) (T := TX0) (N := 9) hx hb hts in_X0 hown hK hP 0 rfl rfl 6 (by decide) (hts _ q33) (fun _ h9 => h9) rfl dX0_known_22 ?_
          refine lv_iload_n hx hb dX0_known_25 rfl (lv_at hl 3 rfl) ?_
          refine ra_lald hx hb hK hP 6 1 rfl rfl (k := rp) rfl (by omega) (by decide) (v := fk rp) rfl dX0_known_26 ?_
          refine lv_iload_n hx hb dX0_known_27 rfl (lv_at hl 0 rfl) ?_
          refine ra_cS ⟨hx, hb, hml, hown, hts⟩ [.long (fk rp), .int (nI i)] [] (mx_in l (fk rp) i (by omega)) (va_cwS 2 hts (lw_S q68 q69 q17 q70) rfl rfl rfl (by decide +kernel) ⟨Nat.le_of_ble_eq_true rfl, Nat.le_of_ble_eq_true rfl⟩) rfl hl.1 rfl (Nat.le_of_ble_eq_true rfl) dX0_known_28 ⟨Nat.le_of_ble_eq_true rfl, Nat.le_of_ble_eq_true rfl⟩ (fun z hz => ?_)
          refine lv_if_eq (tgt := 37) hx hb dX0_known_31 (by decide) (fun c_31 => ?_) (fun c_31 => ?_)
          · have hc : ra_cn (ra_bt (fk rp)) (i + 1) = ra_cn (ra_bt (fk rp)) i := ra_cn_n ((ra_b_eq _).mp (hz ▸ c_31))
            refine lv_iinc (v := nI (i + 1)) (lv' := [(3, .int (nI (i + 1))), (2, .int (nI (ra_cn (ra_bt (fk rp)) i))), (0, .ref h), (1, .int (nI rp))]) hx hb dX0_known_37 hl (k := 0) rfl (ra_inc _) (by decide) rfl (fun ls hl => ?_)
            refine lv_goto (tgt := 13) hx hb dX0_known_40 (by decide) ?_
            exact ih (i + 1) (by omega) (by omega) ls (by rw [hc]; exact (lv_sub hl [0, 1, 2, 3] rfl))
          · have hc : ra_cn (ra_bt (fk rp)) (i + 1) = ra_cn (ra_bt (fk rp)) i + 1 := ra_cn_s ((ra_b_ne _).mp (hz ▸ c_31))
            refine lv_iinc (v := nI (ra_cn (ra_bt (fk rp)) i + 1)) (lv' := [(2, .int (nI (ra_cn (ra_bt (fk rp)) i + 1))), (3, .int (nI i)), (0, .ref h), (1, .int (nI rp))]) hx hb dX0_known_34 hl (k := 1) rfl (ra_inc _) (by decide) rfl (fun ls hl => ?_)
            refine lv_iinc (v := nI (i + 1)) (lv' := [(3, .int (nI (i + 1))), (2, .int (nI (ra_cn (ra_bt (fk rp)) i + 1))), (0, .ref h), (1, .int (nI rp))]) hx hb dX0_known_37 hl (k := 1) rfl (ra_inc _) (by decide) rfl (fun ls hl => ?_)
            refine lv_goto (tgt := 13) hx hb dX0_known_40 (by decide) ?_
            exact ih (i + 1) (by omega) (by omega) ls (by rw [hc]; exact (lv_sub hl [0, 1, 2, 3] rfl))
    exact loop (n + 1) 0 (Nat.zero_le _) (by omega) ls (lv_sub hl [0, 1, 2, 3] rfl)
  · have hbd : r < 0 ∨ 2 < r := by
      rcases hz with ⟨-, q⟩ | ⟨q, -⟩
      · exact q
      · exact absurd q c_4
    refine lv_iconst (v := (-1)) hx hb dX0_known_7 (by decide) ?_
    exact W.iret (v := -1) hx hb hr (fun t ht hW => ⟨_, rfl, (ra_rp_bad hbd).symm, ht⟩) (fun q h => by cases h) dX0_known_8
end MX
end
section
set_option maxRecDepth 100000
section MX
variable (l : Launch) {dC : Nat → ClassId} {dI : Nat → Nat → Nat} {h q1 q2 q3 q4 q5 q6 q7 q8 : Nat} {cI cL : ClassId} {n : Nat} {fl : Nat → Int32} {S O P C : Nat → Nat} {fk fg : Nat → Int64} {fn : Nat → Int32}
set_option maxHeartbeats 4000000 in
set_option maxRecDepth 100000 in
/-- shownAt(rp, pl) -/
theorem mx_shownAt (rp : Nat) (pl : Int32) (hr3 : rp < 3) {Xl : Nat → List Nat} (hF : ∀ rp, rp < 3 → ra_ls fn rp (Xl rp) ∧ (Xl rp).length ≤ 40) : Met l yX0_shownAt (ws_ yX0_shownAt cX0_shownAt 6 (some .int)) ({ frames := 2, cells := 0, slots := 0, locals := 60 }) (va_Pc [.ref h, .int (nI rp), .int pl] (fun U => va_P (dC, dI) vwCl (ra_wX h q1 q2 q3 q4 q5 q6 q7 q8 cI cL n fl S O P C fk fg fn) U.heap ∧ va_K (dC, dI) vwCl [(cI, .int), (cL, .long)] U)) (vp_Si (fun z => z = ra_el (-1) (ra_at (ra_sh fg rp) (Xl rp) pl))) 0 0 (fun _ => False) := by
  refine Met.ofW (cc := cX0_shownAt) (maxL := 6) (ret := some .int) (by decide) rfl ?_
  intro p e s m args below meth c s₁ B hml hv
  obtain ⟨rfl, hP, hK⟩ := hv
  have hx := B.exec
  have hb := B.bytes
  have hr := B.returns
  have hts := atoms_spec (ws := (ws_ yX0_shownAt cX0_shownAt 6 (some .int))) B.pre
  have hts : ∀ w ∈ lw_all, w.before _ s = true := fun w h => hts w (List.mem_cons_of_mem _ h)
  have hown : s.vm.findClass RX0 = some m.cls := findClass_of_methodNamed B.named
  have hlocks := B.notSynchronized
  have hP : va_P (dC, dI) vwCl (ra_wX h q1 q2 q3 q4 q5 q6 q7 q8 cI cL n fl S O P C fk fg fn) s.heap := hP
  have hl := lv_entry ([.ref h, .int (nI rp), .int pl]) (n := 6) (Nat.le_of_ble_eq_true rfl)
  rw [lg_entry_eq]
  generalize (lg_sl ([.ref h, .int (nI rp), .int pl]) ++ List.replicate (6 - (lg_sl ([.ref h, .int (nI rp), .int pl])).length) Slot.unset).toArray = ls at hl ⊢
  have hl : lv_has ls 6 [(0, .ref h), (1, .int (nI rp)), (2, .int pl)] := hl
  refine lv_iload_n hx hb dX0_shownAt_0 rfl (lv_at hl 2 rfl) ?_
  refine lv_if_ge (tgt := 6) hx hb dX0_shownAt_1 (by decide) (fun c_1 => ?_) (fun c_1 => ?_)
  · obtain ⟨k0, hk0, rfl⟩ := nI_of (Int32.not_lt.mpr c_1)
    have hat : ra_at (ra_sh fg rp) (Xl rp) (nI k0) = ra_nth (ra_sh fg rp) (Xl rp) k0 := by rw [ra_at, if_neg (nI_pos hk0), nI_clamp hk0]
    rw [hat]
    refine lv_iload_n hx hb dX0_shownAt_6 rfl (lv_at hl 2 rfl) ?_
    refine lv_istore_n (lv' := [(3, .int (nI k0)), (0, .ref h), (1, .int (nI rp)), (2, .int (nI k0))]) hx hb dX0_shownAt_7 rfl hl (by decide) rfl (fun ls hl => ?_)
    refine lv_aload_n hx hb dX0_shownAt_8 rfl (lv_at hl 1 rfl) ?_
    refine va_get (D := (dC, dI)) (ci := 0) (v := .ref q8) (C := RX0) (T := TX0) (N := 9) hx hb hts in_X0 hown hK hP 0 rfl rfl 8 (by decide) (hts _ q35) (fun _ h9 => h9) rfl dX0_shownAt_9 ?_
    refine lv_iload_n hx hb dX0_shownAt_12 rfl (lv_at hl 2 rfl) ?_
    refine lv_bipush (v := 41) hx hb dX0_shownAt_13 (by decide) ?_
    refine lv_imul hx hb dX0_shownAt_15 ?_
    refine lv_bipush (v := 40) hx hb dX0_shownAt_16 (by decide) ?_
    refine lv_iadd hx hb dX0_shownAt_18 ?_
    refine ra_iald hx hb hK hP 8 0 rfl rfl (k := 41 * rp + 40) (ra_x41h _) (by omega) (by decide) (v := ra_hd (Xl rp)) (hF rp hr3).1.1 dX0_shownAt_19 ?_
    refine lv_istore (lv' := [(4, .int (ra_hd (Xl rp))), (3, .int (nI k0)), (0, .ref h), (1, .int (nI rp)), (2, .int (nI k0))]) hx hb dX0_shownAt_20 hl (by decide) rfl (fun ls hl => ?_)
    refine lv_iconst (v := 0) hx hb dX0_shownAt_22 (by decide) ?_
    refine lv_istore (lv' := [(5, .int 0), (4, .int (ra_hd (Xl rp))), (3, .int (nI k0)), (0, .ref h), (1, .int (nI rp)), (2, .int (nI k0))]) hx hb dX0_shownAt_23 hl (by decide) rfl (fun ls hl => ?_)
    have loop : ∀ (M : List Nat) (i k : Nat), k < 2 ^ 31 → i + M.length ≤ 40 → ra_ch fn (41 * rp) M → ra_nth (ra_sh fg rp) M k = ra_nth (ra_sh fg rp) (Xl rp) k0 → ∀ (ls : Array Slot), lv_has ls 6 [(5, .int (nI i)), (4, .int (ra_hd M)), (3, .int (nI k)), (0, .ref h), (1, .int (nI rp)), (2, .int (nI k0))] → ra_WR p l e s m below meth c (ws_ yX0_shownAt cX0_shownAt 6 (some .int)) ({ frames := 2, cells := 0, slots := 0, locals := 60 }) [.ref h, .int (nI rp), .int (nI k0)] (fun z => z = ra_el (-1) (ra_nth (ra_sh fg rp) (Xl rp) k0)) 25 ls [] := by
      intro M
      induction M with
      | nil =>
        intro i k hk31 hi hc hT ls hl
        have hl : lv_has ls 6 [(5, .int (nI i)), (4, .int (-1)), (3, .int (nI k)), (0, .ref h), (1, .int (nI rp)), (2, .int (nI k0))] := hl
        refine lv_iload hx hb dX0_shownAt_25 (lv_at hl 0 rfl) ?_
        refine lv_bipush (v := 40) hx hb dX0_shownAt_27 (by decide) ?_
        refine lv_icmp_ge (tgt := 77) hx hb dX0_shownAt_29 (by decide) (fun c_29 => ?_) (fun c_29 => ?_)
        · refine lv_iconst (v := (-1)) hx hb dX0_shownAt_77 (by decide) ?_
          exact W.iret (v := -1) hx hb hr (fun t ht hW => ⟨_, rfl, by rw [← hT, ra_nth_nil]; rfl, ht⟩) (fun q h => by cases h) dX0_shownAt_78
        · refine lv_iload hx hb dX0_shownAt_32 (lv_at hl 1 rfl) ?_
          refine lv_if_lt (tgt := 77) hx hb dX0_shownAt_34 (by decide) (fun c_34 => ?_) (fun c_34 => ?_)
          · refine lv_iconst (v := (-1)) hx hb dX0_shownAt_77 (by decide) ?_
            exact W.iret (v := -1) hx hb hr (fun t ht hW => ⟨_, rfl, by rw [← hT, ra_nth_nil]; rfl, ht⟩) (fun q h => by cases h) dX0_shownAt_78
          · exact absurd (by decide) c_34
      | cons b M ih =>
        intro i k hk31 hi hc hT ls hl
        have hl : lv_has ls 6 [(5, .int (nI i)), (4, .int (nI b)), (3, .int (nI k)), (0, .ref h), (1, .int (nI rp)), (2, .int (nI k0))] := hl
        obtain ⟨hb40, hbn, hcM⟩ := hc
        simp only [List.length_cons] at hi
        refine lv_iload hx hb dX0_shownAt_25 (lv_at hl 0 rfl) ?_
        refine lv_bipush (v := 40) hx hb dX0_shownAt_27 (by decide) ?_
        refine lv_icmp_ge (tgt := 77) hx hb dX0_shownAt_29 (by decide) (fun c_29 => ?_) (fun c_29 => ?_)
        · exact absurd c_29 (nI_ge (a := i) (b := 40) (by omega) (by decide))
        · refine lv_iload hx hb dX0_shownAt_32 (lv_at hl 1 rfl) ?_
          refine lv_if_lt (tgt := 77) hx hb dX0_shownAt_34 (by decide) (fun c_34 => ?_) (fun c_34 => ?_)
          · exact absurd c_34 (nI_pos (by omega))
          · refine lv_aload_n hx hb dX0_shownAt_37 rfl (lv_at hl 3 rfl) ?_
            refine lv_iload_n hx hb dX0_shownAt_38 rfl (lv_at hl 4 rfl) ?_
            refine lv_iload hx hb dX0_shownAt_39 (lv_at hl 1 rfl) ?_
            refine ra_cV (Cn := RX0) ⟨hx, hb, hml, hown, hts⟩ [.int (nI rp), .int (nI b)] [] (mx_shows l rp b hr3 hb40) (cwV 2 hts (lw_V q71 q73 qs1 q17 q74) rfl rfl rfl (by decide +kernel) ⟨Nat.le_of_ble_eq_true rfl, Nat.le_of_ble_eq_true rfl⟩) hP hK (va_recv hK hP (ci := 0) (q0 := 0) rfl rfl) rfl hl.1 rfl (Nat.le_of_ble_eq_true rfl) dX0_shownAt_41 ⟨Nat.le_of_ble_eq_true rfl, Nat.le_of_ble_eq_true rfl⟩ (fun z hz => ?_)
            refine lv_if_eq (tgt := 57) hx hb dX0_shownAt_44 (by decide) (fun c_44 => ?_) (fun c_44 => ?_)
            · have hs : ra_sh fg rp b = false := (ra_b_eq _).mp (hz ▸ c_44)
              refine lv_aload_n hx hb dX0_shownAt_57 rfl (lv_at hl 3 rfl) ?_
              refine va_get (D := (dC, dI)) (ci := 0) (v := .ref q8) (C := RX0) (T := TX0) (N := 9) hx hb hts in_X0 hown hK hP 0 rfl rfl 8 (by decide) (hts _ q35) (fun _ h9 => h9) rfl dX0_shownAt_58 ?_
              refine lv_iload_n hx hb dX0_shownAt_61 rfl (lv_at hl 4 rfl) ?_
              refine lv_bipush (v := 41) hx hb dX0_shownAt_62 (by decide) ?_
              refine lv_imul hx hb dX0_shownAt_64 ?_
              refine lv_iload hx hb dX0_shownAt_65 (lv_at hl 1 rfl) ?_
              refine lv_iadd hx hb dX0_shownAt_67 ?_
              refine ra_iald hx hb hK hP 8 0 rfl rfl (k := 41 * rp + b) (ra_x41 _ _) (by omega) (by decide) (v := ra_hd M) hbn dX0_shownAt_68 ?_
              refine lv_istore (lv' := [(4, .int (ra_hd M)), (5, .int (nI i)), (3, .int (nI k)), (0, .ref h), (1, .int (nI rp)), (2, .int (nI k0))]) hx hb dX0_shownAt_69 hl (by decide) rfl (fun ls hl => ?_)
              refine lv_iinc (v := nI (i + 1)) (lv' := [(5, .int (nI (i + 1))), (4, .int (ra_hd M)), (3, .int (nI k)), (0, .ref h), (1, .int (nI rp)), (2, .int (nI k0))]) hx hb dX0_shownAt_71 hl (k := 1) rfl (ra_inc _) (by decide) rfl (fun ls hl => ?_)
              refine lv_goto (tgt := 25) hx hb dX0_shownAt_74 (by decide) ?_
              exact ih (i + 1) k (by omega) (by omega) hcM (by rw [← hT, ra_nth_f hs]) ls (lv_sub hl [0, 1, 2, 3, 4, 5] rfl)
            · have hs : ra_sh fg rp b = true := (ra_b_ne _).mp (hz ▸ c_44)
              refine lv_iload_n hx hb dX0_shownAt_47 rfl (lv_at hl 2 rfl) ?_
              refine lv_if_ne (tgt := 54) hx hb dX0_shownAt_48 (by decide) (fun c_48 => ?_) (fun c_48 => ?_)
              · obtain ⟨k', rfl⟩ : ∃ k', k = k' + 1 := by
                  cases k with
                  | zero => exact absurd rfl c_48
                  | succ k' => exact ⟨k', rfl⟩
                refine lv_iinc (v := nI k') (lv' := [(3, .int (nI k')), (5, .int (nI i)), (4, .int (nI b)), (0, .ref h), (1, .int (nI rp)), (2, .int (nI k0))]) hx hb dX0_shownAt_54 hl (k := 2) rfl (ra_dec _) (by decide) rfl (fun ls hl => ?_)
                refine lv_aload_n hx hb dX0_shownAt_57 rfl (lv_at hl 3 rfl) ?_
                refine va_get (D := (dC, dI)) (ci := 0) (v := .ref q8) (C := RX0) (T := TX0) (N := 9) hx hb hts in_X0 hown hK hP 0 rfl rfl 8 (by decide) (hts _ q35) (fun _ h9 => h9) rfl dX0_shownAt_58 ?_
                refine lv_iload_n hx hb dX0_shownAt_61 rfl (lv_at hl 4 rfl) ?_
                refine lv_bipush (v := 41) hx hb dX0_shownAt_62 (by decide) ?_
                refine lv_imul hx hb dX0_shownAt_64 ?_
                refine lv_iload hx hb dX0_shownAt_65 (lv_at hl 2 rfl) ?_
                refine lv_iadd hx hb dX0_shownAt_67 ?_
                refine ra_iald hx hb hK hP 8 0 rfl rfl (k := 41 * rp + b) (ra_x41 _ _) (by omega) (by decide) (v := ra_hd M) hbn dX0_shownAt_68 ?_
                refine lv_istore (lv' := [(4, .int (ra_hd M)), (3, .int (nI k')), (5, .int (nI i)), (0, .ref h), (1, .int (nI rp)), (2, .int (nI k0))]) hx hb dX0_shownAt_69 hl (by decide) rfl (fun ls hl => ?_)
                refine lv_iinc (v := nI (i + 1)) (lv' := [(5, .int (nI (i + 1))), (4, .int (ra_hd M)), (3, .int (nI k')), (0, .ref h), (1, .int (nI rp)), (2, .int (nI k0))]) hx hb dX0_shownAt_71 hl (k := 2) rfl (ra_inc _) (by decide) rfl (fun ls hl => ?_)
                refine lv_goto (tgt := 25) hx hb dX0_shownAt_74 (by decide) ?_
                exact ih (i + 1) k' (by omega) (by omega) hcM (by rw [← hT, ra_nth_s hs]) ls (lv_sub hl [0, 1, 2, 3, 4, 5] rfl)
              · have hk0 : k = 0 := by
                  rw [← nI_0, nI_eq hk31 (by decide)] at c_48
                  exact c_48
                subst hk0
                refine lv_iload hx hb dX0_shownAt_51 (lv_at hl 1 rfl) ?_
                exact W.iret (v := nI b) hx hb hr (fun t ht hW => ⟨_, rfl, by rw [← hT, ra_nth_0 hs]; rfl, ht⟩) (fun q h => by cases h) dX0_shownAt_53
    exact loop (Xl rp) 0 k0 hk0 (by have := (hF rp hr3).2; omega) (hF rp hr3).1.2 rfl ls (lv_sub hl [0, 1, 2, 3, 4, 5] rfl)
  · refine lv_iconst (v := (-1)) hx hb dX0_shownAt_4 (by decide) ?_
    exact W.iret (v := -1) hx hb hr (fun t ht hW => ⟨_, rfl, by rw [ra_at, if_pos (Int32.not_le.mp c_1)]; rfl, ht⟩) (fun q h => by cases h) dX0_shownAt_5
set_option maxHeartbeats 4000000 in
set_option maxRecDepth 100000 in
/-- elementAt(r, pl) -/
theorem mx_elementAt (r pl : Int32) {Xl : Nat → List Nat} (hF : ∀ rp, rp < 3 → ra_ls fn rp (Xl rp) ∧ (Xl rp).length ≤ 40) : Met l yX0_elementAt (ws_ yX0_elementAt cX0_elementAt 4 (some .int)) ({ frames := 3, cells := 0, slots := 0, locals := 90 }) (va_Pc [.ref h, .int r, .int pl] (fun U => va_P (dC, dI) vwCl (ra_wX h q1 q2 q3 q4 q5 q6 q7 q8 cI cL n fl S O P C fk fg fn) U.heap ∧ va_K (dC, dI) vwCl [(cI, .int), (cL, .long)] U)) (vp_Si (fun z => z = ra_rp r (fun rp => ra_el (-5) (ra_at (ra_sh fg rp) (Xl rp) pl)))) 0 0 (fun _ => False) := by
  refine Met.ofW (cc := cX0_elementAt) (maxL := 4) (ret := some .int) (by decide) rfl ?_
  intro p e s m args below meth c s₁ B hml hv
  obtain ⟨rfl, hP, hK⟩ := hv
  have hx := B.exec
  have hb := B.bytes
  have hr := B.returns
  have hts := atoms_spec (ws := (ws_ yX0_elementAt cX0_elementAt 4 (some .int))) B.pre
  have hts : ∀ w ∈ lw_all, w.before _ s = true := fun w h => hts w (List.mem_cons_of_mem _ h)
  have hown : s.vm.findClass RX0 = some m.cls := findClass_of_methodNamed B.named
  have hlocks := B.notSynchronized
  have hP : va_P (dC, dI) vwCl (ra_wX h q1 q2 q3 q4 q5 q6 q7 q8 cI cL n fl S O P C fk fg fn) s.heap := hP
  have hl := lv_entry ([.ref h, .int r, .int pl]) (n := 4) (Nat.le_of_ble_eq_true rfl)
  rw [lg_entry_eq]
  generalize (lg_sl ([.ref h, .int r, .int pl]) ++ List.replicate (4 - (lg_sl ([.ref h, .int r, .int pl])).length) Slot.unset).toArray = ls at hl ⊢
  have hl : lv_has ls 4 [(0, .ref h), (1, .int r), (2, .int pl)] := hl
  refine lv_iload_n hx hb dX0_elementAt_0 rfl (lv_at hl 1 rfl) ?_
  refine ra_cS ⟨hx, hb, hml, hown, hts⟩ [.int r] [] (mx_bad l r) (va_cwS 1 hts (lw_S q61 q62 q17 q63) rfl rfl rfl (by decide +kernel) ⟨Nat.le_of_ble_eq_true rfl, Nat.le_of_ble_eq_true rfl⟩) rfl hl.1 rfl (Nat.le_of_ble_eq_true rfl) dX0_elementAt_1 ⟨Nat.le_of_ble_eq_true rfl, Nat.le_of_ble_eq_true rfl⟩ (fun z hz => ?_)
  refine lv_if_eq (tgt := 9) hx hb dX0_elementAt_4 (by decide) (fun c_4 => ?_) (fun c_4 => ?_)
  · obtain ⟨rp, hr3, rfl⟩ : ∃ k, k < 3 ∧ r = nI k := by
      rcases hz with ⟨q, -⟩ | ⟨-, q⟩
      · exact absurd (q ▸ c_4) (by decide)
      · exact q
    refine lv_aload_n hx hb dX0_elementAt_9 rfl (lv_at hl 0 rfl) ?_
    refine lv_iload_n hx hb dX0_elementAt_10 rfl (lv_at hl 1 rfl) ?_
    refine lv_iload_n hx hb dX0_elementAt_11 rfl (lv_at hl 2 rfl) ?_
    refine ra_cV (Cn := RX0) ⟨hx, hb, hml, hown, hts⟩ [.int (nI rp), .int pl] [] (mx_shownAt l rp pl hr3 hF) (cwV 2 hts (lw_V q75 q77 qs2 q17 q78) rfl rfl rfl (by decide +kernel) ⟨Nat.le_of_ble_eq_true rfl, Nat.le_of_ble_eq_true rfl⟩) hP hK (va_recv hK hP (ci := 0) (q0 := 0) rfl rfl) rfl hl.1 rfl (Nat.le_of_ble_eq_true rfl) dX0_elementAt_12 ⟨Nat.le_of_ble_eq_true rfl, Nat.le_of_ble_eq_true rfl⟩ (fun z2 hz2 => ?_)
    rw [ra_rp_ok hr3]
    cases ho : ra_at (ra_sh fg rp) (Xl rp) pl with
    | none =>
      rw [ho] at hz2
      obtain rfl : z2 = -1 := hz2
      refine lv_istore_n (lv' := [(3, .int (-1)), (0, .ref h), (1, .int (nI rp)), (2, .int pl)]) hx hb dX0_elementAt_15 rfl hl (by decide) rfl (fun ls hl => ?_)
      refine lv_iload_n hx hb dX0_elementAt_16 rfl (lv_at hl 0 rfl) ?_
      refine lv_if_ge (tgt := 25) hx hb dX0_elementAt_17 (by decide) (fun c_17 => ?_) (fun c_17 => ?_)
      · exact absurd c_17 (by decide)
      · refine lv_bipush (v := (-5)) hx hb dX0_elementAt_20 (by decide) ?_
        refine lv_goto (tgt := 26) hx hb dX0_elementAt_22 (by decide) ?_
        exact W.iret (v := -5) hx hb hr (fun t ht hW => ⟨_, rfl, rfl, ht⟩) (fun q h => by cases h) dX0_elementAt_26
    | some b =>
      rw [ho] at hz2
      obtain rfl : z2 = nI b := hz2
      have hb40 : b < 40 := ra_ch_lt (hF rp hr3).1.2 b (ra_at_mem ho).1
      refine lv_istore_n (lv' := [(3, .int (nI b)), (0, .ref h), (1, .int (nI rp)), (2, .int pl)]) hx hb dX0_elementAt_15 rfl hl (by decide) rfl (fun ls hl => ?_)
      refine lv_iload_n hx hb dX0_elementAt_16 rfl (lv_at hl 0 rfl) ?_
      refine lv_if_ge (tgt := 25) hx hb dX0_elementAt_17 (by decide) (fun c_17 => ?_) (fun c_17 => ?_)
      · refine lv_iload_n hx hb dX0_elementAt_25 rfl (lv_at hl 0 rfl) ?_
        exact W.iret (v := nI b) hx hb hr (fun t ht hW => ⟨_, rfl, rfl, ht⟩) (fun q h => by cases h) dX0_elementAt_26
      · exact absurd (nI_pos' (by omega)) c_17
  · have hbd : r < 0 ∨ 2 < r := by
      rcases hz with ⟨-, q⟩ | ⟨q, -⟩
      · exact q
      · exact absurd q c_4
    refine lv_iconst (v := (-1)) hx hb dX0_elementAt_7 (by decide) ?_
    exact W.iret (v := -1) hx hb hr (fun t ht hW => ⟨_, rfl, (ra_rp_bad hbd).symm, ht⟩) (fun q h => by cases h) dX0_elementAt_8
set_option maxHeartbeats 4000000 in
set_option maxRecDepth 100000 in
/-- charAt(r, pl) -/
theorem mx_charAt (r pl : Int32) {Xl : Nat → List Nat} (hF : ∀ rp, rp < 3 → ra_ls fn rp (Xl rp) ∧ (Xl rp).length ≤ 40) : Met l yX0_charAt (ws_ yX0_charAt cX0_charAt 4 (some .int)) ({ frames := 3, cells := 0, slots := 0, locals := 90 }) (va_Pc [.ref h, .int r, .int pl] (fun U => va_P (dC, dI) vwCl (ra_wX h q1 q2 q3 q4 q5 q6 q7 q8 cI cL n fl S O P C fk fg fn) U.heap ∧ va_K (dC, dI) vwCl [(cI, .int), (cL, .long)] U)) (vp_Si (fun z => z = ra_rp r (fun rp => ra_lt fl (-5) (ra_at (ra_sh fg rp) (Xl rp) pl)))) 0 0 (fun _ => False) := by
  refine Met.ofW (cc := cX0_charAt) (maxL := 4) (ret := some .int) (by decide) rfl ?_
  intro p e s m args below meth c s₁ B hml hv
  obtain ⟨rfl, hP, hK⟩ := hv
  have hx := B.exec
  have hb := B.bytes
  have hr := B.returns
  have hts := atoms_spec (ws := (ws_ yX0_charAt cX0_charAt 4 (some .int))) B.pre
  have hts : ∀ w ∈ lw_all, w.before _ s = true := fun w h => hts w (List.mem_cons_of_mem _ h)
  have hown : s.vm.findClass RX0 = some m.cls := findClass_of_methodNamed B.named
  have hlocks := B.notSynchronized
  have hP : va_P (dC, dI) vwCl (ra_wX h q1 q2 q3 q4 q5 q6 q7 q8 cI cL n fl S O P C fk fg fn) s.heap := hP
  have hl := lv_entry ([.ref h, .int r, .int pl]) (n := 4) (Nat.le_of_ble_eq_true rfl)
  rw [lg_entry_eq]
  generalize (lg_sl ([.ref h, .int r, .int pl]) ++ List.replicate (4 - (lg_sl ([.ref h, .int r, .int pl])).length) Slot.unset).toArray = ls at hl ⊢
  have hl : lv_has ls 4 [(0, .ref h), (1, .int r), (2, .int pl)] := hl
  refine lv_iload_n hx hb dX0_charAt_0 rfl (lv_at hl 1 rfl) ?_
  refine ra_cS ⟨hx, hb, hml, hown, hts⟩ [.int r] [] (mx_bad l r) (va_cwS 1 hts (lw_S q61 q62 q17 q63) rfl rfl rfl (by decide +kernel) ⟨Nat.le_of_ble_eq_true rfl, Nat.le_of_ble_eq_true rfl⟩) rfl hl.1 rfl (Nat.le_of_ble_eq_true rfl) dX0_charAt_1 ⟨Nat.le_of_ble_eq_true rfl, Nat.le_of_ble_eq_true rfl⟩ (fun z hz => ?_)
  refine lv_if_eq (tgt := 9) hx hb dX0_charAt_4 (by decide) (fun c_4 => ?_) (fun c_4 => ?_)
  · obtain ⟨rp, hr3, rfl⟩ : ∃ k, k < 3 ∧ r = nI k := by
      rcases hz with ⟨q, -⟩ | ⟨-, q⟩
      · exact absurd (q ▸ c_4) (by decide)
      · exact q
    refine lv_aload_n hx hb dX0_charAt_9 rfl (lv_at hl 0 rfl) ?_
    refine lv_iload_n hx hb dX0_charAt_10 rfl (lv_at hl 1 rfl) ?_
    refine lv_iload_n hx hb dX0_charAt_11 rfl (lv_at hl 2 rfl) ?_
    refine ra_cV (Cn := RX0) ⟨hx, hb, hml, hown, hts⟩ [.int (nI rp), .int pl] [] (mx_shownAt l rp pl hr3 hF) (cwV 2 hts (lw_V q75 q77 qs2 q17 q78) rfl rfl rfl (by decide +kernel) ⟨Nat.le_of_ble_eq_true rfl, Nat.le_of_ble_eq_true rfl⟩) hP hK (va_recv hK hP (ci := 0) (q0 := 0) rfl rfl) rfl hl.1 rfl (Nat.le_of_ble_eq_true rfl) dX0_charAt_12 ⟨Nat.le_of_ble_eq_true rfl, Nat.le_of_ble_eq_true rfl⟩ (fun z2 hz2 => ?_)
    rw [ra_rp_ok hr3]
    cases ho : ra_at (ra_sh fg rp) (Xl rp) pl with
    | none =>
      rw [ho] at hz2
      obtain rfl : z2 = -1 := hz2
      refine lv_istore_n (lv' := [(3, .int (-1)), (0, .ref h), (1, .int (nI rp)), (2, .int pl)]) hx hb dX0_charAt_15 rfl hl (by decide) rfl (fun ls hl => ?_)
      refine lv_iload_n hx hb dX0_charAt_16 rfl (lv_at hl 0 rfl) ?_
      refine lv_if_ge (tgt := 25) hx hb dX0_charAt_17 (by decide) (fun c_17 => ?_) (fun c_17 => ?_)
      · exact absurd c_17 (by decide)
      · refine lv_bipush (v := (-5)) hx hb dX0_charAt_20 (by decide) ?_
        refine lv_goto (tgt := 31) hx hb dX0_charAt_22 (by decide) ?_
        exact W.iret (v := -5) hx hb hr (fun t ht hW => ⟨_, rfl, rfl, ht⟩) (fun q h => by cases h) dX0_charAt_31
    | some b =>
      rw [ho] at hz2
      obtain rfl : z2 = nI b := hz2
      have hb40 : b < 40 := ra_ch_lt (hF rp hr3).1.2 b (ra_at_mem ho).1
      refine lv_istore_n (lv' := [(3, .int (nI b)), (0, .ref h), (1, .int (nI rp)), (2, .int pl)]) hx hb dX0_charAt_15 rfl hl (by decide) rfl (fun ls hl => ?_)
      refine lv_iload_n hx hb dX0_charAt_16 rfl (lv_at hl 0 rfl) ?_
      refine lv_if_ge (tgt := 25) hx hb dX0_charAt_17 (by decide) (fun c_17 => ?_) (fun c_17 => ?_)
      · refine lv_aload_n hx hb dX0_charAt_25 rfl (lv_at hl 1 rfl) ?_
        refine va_get (D := (dC, dI)) (ci := 0) (v := .ref q1) (C := RX0) (T := TX0) (N := 9) hx hb hts in_X0 hown hK hP 0 rfl rfl 1 (by decide) (hts _ q28) (fun _ h9 => h9) rfl dX0_charAt_26 ?_
        refine lv_iload_n hx hb dX0_charAt_29 rfl (lv_at hl 0 rfl) ?_
        refine ra_iald hx hb hK hP 1 0 rfl rfl (k := b) rfl (by omega) (by decide) (v := fl b) rfl dX0_charAt_30 ?_
        exact W.iret (v := fl b) hx hb hr (fun t ht hW => ⟨_, rfl, rfl, ht⟩) (fun q h => by cases h) dX0_charAt_31
      · exact absurd (nI_pos' (by omega)) c_17
  · have hbd : r < 0 ∨ 2 < r := by
      rcases hz with ⟨-, q⟩ | ⟨q, -⟩
      · exact q
      · exact absurd q c_4
    refine lv_iconst (v := (-1)) hx hb dX0_charAt_7 (by decide) ?_
    exact W.iret (v := -1) hx hb hr (fun t ht hW => ⟨_, rfl, (ra_rp_bad hbd).symm, ht⟩) (fun q h => by cases h) dX0_charAt_8
set_option maxHeartbeats 4000000 in
set_option maxRecDepth 100000 in
/-- countBefore(rp, a, so) -/
theorem mx_countBefore (rp a : Nat) (so : Bool) (hr3 : rp < 3) (ha : a < 40) {Xl : Nat → List Nat} (hF : ∀ rp, rp < 3 → ra_ls fn rp (Xl rp) ∧ (Xl rp).length ≤ 40) : Met l yX0_countBefore (ws_ yX0_countBefore cX0_countBefore 7 (some .int)) ({ frames := 2, cells := 0, slots := 0, locals := 60 }) (va_Pc [.ref h, .int (nI rp), .int (nI a), .int (ra_b so)] (fun U => va_P (dC, dI) vwCl (ra_wX h q1 q2 q3 q4 q5 q6 q7 q8 cI cL n fl S O P C fk fg fn) U.heap ∧ va_K (dC, dI) vwCl [(cI, .int), (cL, .long)] U)) (vp_Si (fun z => z = nI (ra_cb (fun b => !so || ra_sh fg rp b) a (Xl rp)))) 0 0 (fun _ => False) := by
  refine Met.ofW (cc := cX0_countBefore) (maxL := 7) (ret := some .int) (by decide) rfl ?_
  intro p e s m args below meth c s₁ B hml hv
  obtain ⟨rfl, hP, hK⟩ := hv
  have hx := B.exec
  have hb := B.bytes
  have hr := B.returns
  have hts := atoms_spec (ws := (ws_ yX0_countBefore cX0_countBefore 7 (some .int))) B.pre
  have hts : ∀ w ∈ lw_all, w.before _ s = true := fun w h => hts w (List.mem_cons_of_mem _ h)
  have hown : s.vm.findClass RX0 = some m.cls := findClass_of_methodNamed B.named
  have hlocks := B.notSynchronized
  have hP : va_P (dC, dI) vwCl (ra_wX h q1 q2 q3 q4 q5 q6 q7 q8 cI cL n fl S O P C fk fg fn) s.heap := hP
  have hl := lv_entry ([.ref h, .int (nI rp), .int (nI a), .int (ra_b so)]) (n := 7) (Nat.le_of_ble_eq_true rfl)
  rw [lg_entry_eq]
  generalize (lg_sl ([.ref h, .int (nI rp), .int (nI a), .int (ra_b so)]) ++ List.replicate (7 - (lg_sl ([.ref h, .int (nI rp), .int (nI a), .int (ra_b so)])).length) Slot.unset).toArray = ls at hl ⊢
  have hl : lv_has ls 7 [(0, .ref h), (1, .int (nI rp)), (2, .int (nI a)), (3, .int (ra_b so))] := hl
  refine lv_iconst (v := 0) hx hb dX0_countBefore_0 (by decide) ?_
  refine lv_istore (lv' := [(4, .int 0), (0, .ref h), (1, .int (nI rp)), (2, .int (nI a)), (3, .int (ra_b so))]) hx hb dX0_countBefore_1 hl (by decide) rfl (fun ls hl => ?_)
  refine lv_aload_n hx hb dX0_countBefore_3 rfl (lv_at hl 1 rfl) ?_
  refine va_get (D := (dC, dI)) (ci := 0) (v := .ref q8) (C := RX0) (T := TX0) (N := 9) hx hb hts in_X0 hown hK hP 0 rfl rfl 8 (by decide) (hts _ q35) (fun _ h9 => h9) rfl dX0_countBefore_4 ?_
  refine lv_iload_n hx hb dX0_countBefore_7 rfl (lv_at hl 2 rfl) ?_
  refine lv_bipush (v := 41) hx hb dX0_countBefore_8 (by decide) ?_
  refine lv_imul hx hb dX0_countBefore_10 ?_
  refine lv_bipush (v := 40) hx hb dX0_countBefore_11 (by decide) ?_
  refine lv_iadd hx hb dX0_countBefore_13 ?_
  refine ra_iald hx hb hK hP 8 0 rfl rfl (k := 41 * rp + 40) (ra_x41h _) (by omega) (by decide) (v := ra_hd (Xl rp)) (hF rp hr3).1.1 dX0_countBefore_14 ?_
  refine lv_istore (lv' := [(5, .int (ra_hd (Xl rp))), (4, .int 0), (0, .ref h), (1, .int (nI rp)), (2, .int (nI a)), (3, .int (ra_b so))]) hx hb dX0_countBefore_15 hl (by decide) rfl (fun ls hl => ?_)
  refine lv_iconst (v := 0) hx hb dX0_countBefore_17 (by decide) ?_
  refine lv_istore (lv' := [(6, .int 0), (5, .int (ra_hd (Xl rp))), (4, .int 0), (0, .ref h), (1, .int (nI rp)), (2, .int (nI a)), (3, .int (ra_b so))]) hx hb dX0_countBefore_18 hl (by decide) rfl (fun ls hl => ?_)
  have loop : ∀ (M : List Nat) (i k : Nat), i + M.length ≤ 40 → ra_ch fn (41 * rp) M → k + ra_cb (fun b => !so || ra_sh fg rp b) a M = ra_cb (fun b => !so || ra_sh fg rp b) a (Xl rp) → ∀ (ls : Array Slot), lv_has ls 7 [(6, .int (nI i)), (5, .int (ra_hd M)), (4, .int (nI k)), (0, .ref h), (1, .int (nI rp)), (2, .int (nI a)), (3, .int (ra_b so))] → ra_WR p l e s m below meth c (ws_ yX0_countBefore cX0_countBefore 7 (some .int)) ({ frames := 2, cells := 0, slots := 0, locals := 60 }) [.ref h, .int (nI rp), .int (nI a), .int (ra_b so)] (fun z => z = nI (ra_cb (fun b => !so || ra_sh fg rp b) a (Xl rp))) 20 ls [] := by
    intro M
    induction M with
    | nil =>
      intro i k hi hc hT ls hl
      have hT : k = _ := hT
      have hl : lv_has ls 7 [(6, .int (nI i)), (5, .int (-1)), (4, .int (nI k)), (0, .ref h), (1, .int (nI rp)), (2, .int (nI a)), (3, .int (ra_b so))] := hl
      refine lv_iload hx hb dX0_countBefore_20 (lv_at hl 0 rfl) ?_
      refine lv_bipush (v := 40) hx hb dX0_countBefore_22 (by decide) ?_
      refine lv_icmp_ge (tgt := 75) hx hb dX0_countBefore_24 (by decide) (fun c_24 => ?_) (fun c_24 => ?_)
      · refine lv_iload hx hb dX0_countBefore_75 (lv_at hl 2 rfl) ?_
        exact W.iret (v := nI k) hx hb hr (fun t ht hW => ⟨_, rfl, congrArg nI hT, ht⟩) (fun q h => by cases h) dX0_countBefore_77
      · refine lv_iload hx hb dX0_countBefore_27 (lv_at hl 1 rfl) ?_
        refine lv_if_lt (tgt := 75) hx hb dX0_countBefore_29 (by decide) (fun c_29 => ?_) (fun c_29 => ?_)
        · refine lv_iload hx hb dX0_countBefore_75 (lv_at hl 2 rfl) ?_
          exact W.iret (v := nI k) hx hb hr (fun t ht hW => ⟨_, rfl, congrArg nI hT, ht⟩) (fun q h => by cases h) dX0_countBefore_77
        · exact absurd (by decide) c_29
    | cons b M ih =>
      intro i k hi hc hT ls hl
      have hl : lv_has ls 7 [(6, .int (nI i)), (5, .int (nI b)), (4, .int (nI k)), (0, .ref h), (1, .int (nI rp)), (2, .int (nI a)), (3, .int (ra_b so))] := hl
      obtain ⟨hb40, hbn, hcM⟩ := hc
      simp only [List.length_cons] at hi
      refine lv_iload hx hb dX0_countBefore_20 (lv_at hl 0 rfl) ?_
      refine lv_bipush (v := 40) hx hb dX0_countBefore_22 (by decide) ?_
      refine lv_icmp_ge (tgt := 75) hx hb dX0_countBefore_24 (by decide) (fun c_24 => ?_) (fun c_24 => ?_)
      · exact absurd c_24 (nI_ge (a := i) (b := 40) (by omega) (by decide))
      · refine lv_iload hx hb dX0_countBefore_27 (lv_at hl 1 rfl) ?_
        refine lv_if_lt (tgt := 75) hx hb dX0_countBefore_29 (by decide) (fun c_29 => ?_) (fun c_29 => ?_)
        · exact absurd c_29 (nI_pos (by omega))
        · refine lv_iload hx hb dX0_countBefore_32 (lv_at hl 1 rfl) ?_
          refine lv_iload_n hx hb dX0_countBefore_34 rfl (lv_at hl 5 rfl) ?_
          refine lv_icmp_eq (tgt := 75) hx hb dX0_countBefore_35 (by decide) (fun c_35 => ?_) (fun c_35 => ?_)
          · rw [nI_eq (by omega) (by omega)] at c_35
            rw [ra_cb, if_pos c_35] at hT
            refine lv_iload hx hb dX0_countBefore_75 (lv_at hl 2 rfl) ?_
            exact W.iret (v := nI k) hx hb hr (fun t ht hW => ⟨_, rfl, congrArg nI hT, ht⟩) (fun q h => by cases h) dX0_countBefore_77
          · rw [nI_eq (by omega) (by omega)] at c_35
            rw [ra_cb, if_neg c_35] at hT
            refine lv_iload_n hx hb dX0_countBefore_38 rfl (lv_at hl 6 rfl) ?_
            refine lv_if_eq (tgt := 52) hx hb dX0_countBefore_39 (by decide) (fun c_39 => ?_) (fun c_39 => ?_)
            · rw [if_pos (show (fun b => !so || ra_sh fg rp b) b = true from by have q1 := (ra_b_eq _).mp c_39; show (!so || ra_sh fg rp b) = true; rw [q1]; rfl)] at hT
              refine lv_iinc (v := nI (k + 1)) (lv' := [(4, .int (nI (k + 1))), (6, .int (nI i)), (5, .int (nI b)), (0, .ref h), (1, .int (nI rp)), (2, .int (nI a)), (3, .int (ra_b so))]) hx hb dX0_countBefore_52 hl (k := 2) rfl (ra_inc _) (by decide) rfl (fun ls hl => ?_)
              refine lv_aload_n hx hb dX0_countBefore_55 rfl (lv_at hl 3 rfl) ?_
              refine va_get (D := (dC, dI)) (ci := 0) (v := .ref q8) (C := RX0) (T := TX0) (N := 9) hx hb hts in_X0 hown hK hP 0 rfl rfl 8 (by decide) (hts _ q35) (fun _ h9 => h9) rfl dX0_countBefore_56 ?_
              refine lv_iload_n hx hb dX0_countBefore_59 rfl (lv_at hl 4 rfl) ?_
              refine lv_bipush (v := 41) hx hb dX0_countBefore_60 (by decide) ?_
              refine lv_imul hx hb dX0_countBefore_62 ?_
              refine lv_iload hx hb dX0_countBefore_63 (lv_at hl 2 rfl) ?_
              refine lv_iadd hx hb dX0_countBefore_65 ?_
              refine ra_iald hx hb hK hP 8 0 rfl rfl (k := 41 * rp + b) (ra_x41 _ _) (by omega) (by decide) (v := ra_hd M) hbn dX0_countBefore_66 ?_
              refine lv_istore (lv' := [(5, .int (ra_hd M)), (4, .int (nI (k + 1))), (6, .int (nI i)), (0, .ref h), (1, .int (nI rp)), (2, .int (nI a)), (3, .int (ra_b so))]) hx hb dX0_countBefore_67 hl (by decide) rfl (fun ls hl => ?_)
              refine lv_iinc (v := nI (i + 1)) (lv' := [(6, .int (nI (i + 1))), (5, .int (ra_hd M)), (4, .int (nI (k + 1))), (0, .ref h), (1, .int (nI rp)), (2, .int (nI a)), (3, .int (ra_b so))]) hx hb dX0_countBefore_69 hl (k := 2) rfl (ra_inc _) (by decide) rfl (fun ls hl => ?_)
              refine lv_goto (tgt := 20) hx hb dX0_countBefore_72 (by decide) ?_
              exact ih (i + 1) (k + 1) (by omega) hcM (by omega) ls (lv_sub hl [0, 1, 2, 3, 4, 5, 6] rfl)
            · refine lv_aload_n hx hb dX0_countBefore_42 rfl (lv_at hl 3 rfl) ?_
              refine lv_iload_n hx hb dX0_countBefore_43 rfl (lv_at hl 4 rfl) ?_
              refine lv_iload hx hb dX0_countBefore_44 (lv_at hl 1 rfl) ?_
              refine ra_cV (Cn := RX0) ⟨hx, hb, hml, hown, hts⟩ [.int (nI rp), .int (nI b)] [] (mx_shows l rp b hr3 hb40) (cwV 2 hts (lw_V q71 q73 qs1 q17 q74) rfl rfl rfl (by decide +kernel) ⟨Nat.le_of_ble_eq_true rfl, Nat.le_of_ble_eq_true rfl⟩) hP hK (va_recv hK hP (ci := 0) (q0 := 0) rfl rfl) rfl hl.1 rfl (Nat.le_of_ble_eq_true rfl) dX0_countBefore_46 ⟨Nat.le_of_ble_eq_true rfl, Nat.le_of_ble_eq_true rfl⟩ (fun z hz => ?_)
              refine lv_if_eq (tgt := 55) hx hb dX0_countBefore_49 (by decide) (fun c_49 => ?_) (fun c_49 => ?_)
              · rw [if_neg (show ¬ (fun b => !so || ra_sh fg rp b) b = true from by have q1 := (ra_b_ne _).mp c_39; have q2 := (ra_b_eq _).mp (hz ▸ c_49); show ¬ (!so || ra_sh fg rp b) = true; rw [q1, q2]; decide)] at hT
                refine lv_aload_n hx hb dX0_countBefore_55 rfl (lv_at hl 3 rfl) ?_
                refine va_get (D := (dC, dI)) (ci := 0) (v := .ref q8) (C := RX0) (T := TX0) (N := 9) hx hb hts in_X0 hown hK hP 0 rfl rfl 8 (by decide) (hts _ q35) (fun _ h9 => h9) rfl dX0_countBefore_56 ?_
                refine lv_iload_n hx hb dX0_countBefore_59 rfl (lv_at hl 4 rfl) ?_
                refine lv_bipush (v := 41) hx hb dX0_countBefore_60 (by decide) ?_
                refine lv_imul hx hb dX0_countBefore_62 ?_
                refine lv_iload hx hb dX0_countBefore_63 (lv_at hl 1 rfl) ?_
                refine lv_iadd hx hb dX0_countBefore_65 ?_
                refine ra_iald hx hb hK hP 8 0 rfl rfl (k := 41 * rp + b) (ra_x41 _ _) (by omega) (by decide) (v := ra_hd M) hbn dX0_countBefore_66 ?_
                refine lv_istore (lv' := [(5, .int (ra_hd M)), (6, .int (nI i)), (4, .int (nI k)), (0, .ref h), (1, .int (nI rp)), (2, .int (nI a)), (3, .int (ra_b so))]) hx hb dX0_countBefore_67 hl (by decide) rfl (fun ls hl => ?_)
                refine lv_iinc (v := nI (i + 1)) (lv' := [(6, .int (nI (i + 1))), (5, .int (ra_hd M)), (4, .int (nI k)), (0, .ref h), (1, .int (nI rp)), (2, .int (nI a)), (3, .int (ra_b so))]) hx hb dX0_countBefore_69 hl (k := 1) rfl (ra_inc _) (by decide) rfl (fun ls hl => ?_)
                refine lv_goto (tgt := 20) hx hb dX0_countBefore_72 (by decide) ?_
                exact ih (i + 1) k (by omega) hcM (by omega) ls (lv_sub hl [0, 1, 2, 3, 4, 5, 6] rfl)
              · rw [if_pos (show (fun b => !so || ra_sh fg rp b) b = true from by have q2 := (ra_b_ne _).mp (hz ▸ c_49); show (!so || ra_sh fg rp b) = true; rw [q2, Bool.or_true])] at hT
                refine lv_iinc (v := nI (k + 1)) (lv' := [(4, .int (nI (k + 1))), (6, .int (nI i)), (5, .int (nI b)), (0, .ref h), (1, .int (nI rp)), (2, .int (nI a)), (3, .int (ra_b so))]) hx hb dX0_countBefore_52 hl (k := 2) rfl (ra_inc _) (by decide) rfl (fun ls hl => ?_)
                refine lv_aload_n hx hb dX0_countBefore_55 rfl (lv_at hl 3 rfl) ?_
                refine va_get (D := (dC, dI)) (ci := 0) (v := .ref q8) (C := RX0) (T := TX0) (N := 9) hx hb hts in_X0 hown hK hP 0 rfl rfl 8 (by decide) (hts _ q35) (fun _ h9 => h9) rfl dX0_countBefore_56 ?_
                refine lv_iload_n hx hb dX0_countBefore_59 rfl (lv_at hl 4 rfl) ?_
                refine lv_bipush (v := 41) hx hb dX0_countBefore_60 (by decide) ?_
                refine lv_imul hx hb dX0_countBefore_62 ?_
                refine lv_iload hx hb dX0_countBefore_63 (lv_at hl 2 rfl) ?_
                refine lv_iadd hx hb dX0_countBefore_65 ?_
                refine ra_iald hx hb hK hP 8 0 rfl rfl (k := 41 * rp + b) (ra_x41 _ _) (by omega) (by decide) (v := ra_hd M) hbn dX0_countBefore_66 ?_
                refine lv_istore (lv' := [(5, .int (ra_hd M)), (4, .int (nI (k + 1))), (6, .int (nI i)), (0, .ref h), (1, .int (nI rp)), (2, .int (nI a)), (3, .int (ra_b so))]) hx hb dX0_countBefore_67 hl (by decide) rfl (fun ls hl => ?_)
                refine lv_iinc (v := nI (i + 1)) (lv' := [(6, .int (nI (i + 1))), (5, .int (ra_hd M)), (4, .int (nI (k + 1))), (0, .ref h), (1, .int (nI rp)), (2, .int (nI a)), (3, .int (ra_b so))]) hx hb dX0_countBefore_69 hl (k := 2) rfl (ra_inc _) (by decide) rfl (fun ls hl => ?_)
                refine lv_goto (tgt := 20) hx hb dX0_countBefore_72 (by decide) ?_
                exact ih (i + 1) (k + 1) (by omega) hcM (by omega) ls (lv_sub hl [0, 1, 2, 3, 4, 5, 6] rfl)
  exact loop (Xl rp) 0 0 (by have := (hF rp hr3).2; omega) (hF rp hr3).1.2 (Nat.zero_add _) ls (lv_sub hl [0, 1, 2, 3, 4, 5, 6] rfl)
set_option maxHeartbeats 4000000 in
set_option maxRecDepth 100000 in
/-- placeOf(r, x) -/
theorem mx_placeOf (r x0 : Int32) (hn : n ≤ 40) {Xl : Nat → List Nat} (hF : ∀ rp, rp < 3 → ra_ls fn rp (Xl rp) ∧ (Xl rp).length ≤ 40) : Met l yX0_placeOf (ws_ yX0_placeOf cX0_placeOf 3 (some .int)) ({ frames := 3, cells := 0, slots := 0, locals := 90 }) (va_Pc [.ref h, .int r, .int x0] (fun U => va_P (dC, dI) vwCl (ra_wX h q1 q2 q3 q4 q5 q6 q7 q8 cI cL n fl S O P C fk fg fn) U.heap ∧ va_K (dC, dI) vwCl [(cI, .int), (cL, .long)] U)) (vp_Si (fun z => z = ra_rp r (fun rp => if (ra_kn n fk rp x0 && ra_sh fg rp x0.toNatClampNeg) = true then nI (ra_cb (fun b => !true || ra_sh fg rp b) x0.toNatClampNeg (Xl rp)) else -5))) 0 0 (fun _ => False) := by
  refine Met.ofW (cc := cX0_placeOf) (maxL := 3) (ret := some .int) (by decide) rfl ?_
  intro p e s m args below meth c s₁ B hml hv
  obtain ⟨rfl, hP, hK⟩ := hv
  have hx := B.exec
  have hb := B.bytes
  have hr := B.returns
  have hts := atoms_spec (ws := (ws_ yX0_placeOf cX0_placeOf 3 (some .int))) B.pre
  have hts : ∀ w ∈ lw_all, w.before _ s = true := fun w h => hts w (List.mem_cons_of_mem _ h)
  have hown : s.vm.findClass RX0 = some m.cls := findClass_of_methodNamed B.named
  have hlocks := B.notSynchronized
  have hP : va_P (dC, dI) vwCl (ra_wX h q1 q2 q3 q4 q5 q6 q7 q8 cI cL n fl S O P C fk fg fn) s.heap := hP
  have hl := lv_entry ([.ref h, .int r, .int x0]) (n := 3) (Nat.le_of_ble_eq_true rfl)
  rw [lg_entry_eq]
  generalize (lg_sl ([.ref h, .int r, .int x0]) ++ List.replicate (3 - (lg_sl ([.ref h, .int r, .int x0])).length) Slot.unset).toArray = ls at hl ⊢
  have hl : lv_has ls 3 [(0, .ref h), (1, .int r), (2, .int x0)] := hl
  refine lv_iload_n hx hb dX0_placeOf_0 rfl (lv_at hl 1 rfl) ?_
  refine ra_cS ⟨hx, hb, hml, hown, hts⟩ [.int r] [] (mx_bad l r) (va_cwS 1 hts (lw_S q61 q62 q17 q63) rfl rfl rfl (by decide +kernel) ⟨Nat.le_of_ble_eq_true rfl, Nat.le_of_ble_eq_true rfl⟩) rfl hl.1 rfl (Nat.le_of_ble_eq_true rfl) dX0_placeOf_1 ⟨Nat.le_of_ble_eq_true rfl, Nat.le_of_ble_eq_true rfl⟩ (fun z hz => ?_)
  refine lv_if_eq (tgt := 9) hx hb dX0_placeOf_4 (by decide) (fun c_4 => ?_) (fun c_4 => ?_)
  · obtain ⟨rp, hr3, rfl⟩ : ∃ k, k < 3 ∧ r = nI k := by
      rcases hz with ⟨q, -⟩ | ⟨-, q⟩
      · exact absurd (q ▸ c_4) (by decide)
      · exact q
    rw [ra_rp_ok hr3]
    refine lv_aload_n hx hb dX0_placeOf_9 rfl (lv_at hl 0 rfl) ?_
    refine lv_iload_n hx hb dX0_placeOf_10 rfl (lv_at hl 1 rfl) ?_
    refine lv_iload_n hx hb dX0_placeOf_11 rfl (lv_at hl 2 rfl) ?_
    refine ra_cV (Cn := RX0) ⟨hx, hb, hml, hown, hts⟩ [.int (nI rp), .int x0] [] (mx_unknown l rp x0 hr3 hn) (cwV 2 hts (lw_V q115 q117 qs6 q17 q118) rfl rfl rfl (by decide +kernel) ⟨Nat.le_of_ble_eq_true rfl, Nat.le_of_ble_eq_true rfl⟩) hP hK (va_recv hK hP (ci := 0) (q0 := 0) rfl rfl) rfl hl.1 rfl (Nat.le_of_ble_eq_true rfl) dX0_placeOf_12 ⟨Nat.le_of_ble_eq_true rfl, Nat.le_of_ble_eq_true rfl⟩ (fun z2 hz2 => ?_)
    refine lv_if_ne (tgt := 27) hx hb dX0_placeOf_15 (by decide) (fun c_15 => ?_) (fun c_15 => ?_)
    · have hk : ra_kn n fk rp x0 = false := by have := (ra_b_ne _).mp (hz2 ▸ c_15); simpa using this
      refine lv_bipush (v := (-5)) hx hb dX0_placeOf_27 (by decide) ?_
      exact W.iret (v := -5) hx hb hr (fun t ht hW => ⟨_, rfl, by rw [hk]; rfl, ht⟩) (fun q h => by cases h) dX0_placeOf_29
    · have hk : ra_kn n fk rp x0 = true := by have := (ra_b_eq _).mp (hz2 ▸ c_15); simpa using this
      obtain ⟨a, han, rfl, -⟩ := ra_kn_of hk
      rw [hk, nI_clamp (by omega)]
      refine lv_aload_n hx hb dX0_placeOf_18 rfl (lv_at hl 0 rfl) ?_
      refine lv_iload_n hx hb dX0_placeOf_19 rfl (lv_at hl 1 rfl) ?_
      refine lv_iload_n hx hb dX0_placeOf_20 rfl (lv_at hl 2 rfl) ?_
      refine ra_cV (Cn := RX0) ⟨hx, hb, hml, hown, hts⟩ [.int (nI rp), .int (nI a)] [] (mx_shows l rp a hr3 (by omega)) (cwV 2 hts (lw_V q71 q73 qs1 q17 q74) rfl rfl rfl (by decide +kernel) ⟨Nat.le_of_ble_eq_true rfl, Nat.le_of_ble_eq_true rfl⟩) hP hK (va_recv hK hP (ci := 0) (q0 := 0) rfl rfl) rfl hl.1 rfl (Nat.le_of_ble_eq_true rfl) dX0_placeOf_21 ⟨Nat.le_of_ble_eq_true rfl, Nat.le_of_ble_eq_true rfl⟩ (fun z3 hz3 => ?_)
      refine lv_if_ne (tgt := 30) hx hb dX0_placeOf_24 (by decide) (fun c_24 => ?_) (fun c_24 => ?_)
      · have hs : ra_sh fg rp a = true := (ra_b_ne _).mp (hz3 ▸ c_24)
        refine lv_aload_n hx hb dX0_placeOf_30 rfl (lv_at hl 0 rfl) ?_
        refine lv_iload_n hx hb dX0_placeOf_31 rfl (lv_at hl 1 rfl) ?_
        refine lv_iload_n hx hb dX0_placeOf_32 rfl (lv_at hl 2 rfl) ?_
        refine lv_iconst (v := 1) hx hb dX0_placeOf_33 (by decide) ?_
        refine ra_top (y := ra_b true) rfl ?_
        refine ra_cV (Cn := RX0) ⟨hx, hb, hml, hown, hts⟩ [.int (nI rp), .int (nI a), .int (ra_b true)] [] (mx_countBefore l rp a true hr3 (by omega) hF) (cwV 3 hts (lw_V q119 q121 qs7 q17 q122) rfl rfl rfl (by decide +kernel) ⟨Nat.le_of_ble_eq_true rfl, Nat.le_of_ble_eq_true rfl⟩) hP hK (va_recv hK hP (ci := 0) (q0 := 0) rfl rfl) rfl hl.1 rfl (Nat.le_of_ble_eq_true rfl) dX0_placeOf_34 ⟨Nat.le_of_ble_eq_true rfl, Nat.le_of_ble_eq_true rfl⟩ (fun z4 hz4 => ?_)
        exact W.iret (v := z4) hx hb hr (fun t ht hW => ⟨_, rfl, by rw [hs]; exact hz4, ht⟩) (fun q h => by cases h) dX0_placeOf_37
      · have hs : ra_sh fg rp a = false := (ra_b_eq _).mp (hz3 ▸ c_24)
        refine lv_bipush (v := (-5)) hx hb dX0_placeOf_27 (by decide) ?_
        exact W.iret (v := -5) hx hb hr (fun t ht hW => ⟨_, rfl, by rw [hs]; rfl, ht⟩) (fun q h => by cases h) dX0_placeOf_29
  · have hbd : r < 0 ∨ 2 < r := by
      rcases hz with ⟨-, q⟩ | ⟨q, -⟩
      · exact q
      · exact absurd q c_4
    refine lv_iconst (v := (-1)) hx hb dX0_placeOf_7 (by decide) ?_
    exact W.iret (v := -1) hx hb hr (fun t ht hW => ⟨_, rfl, (ra_rp_bad hbd).symm, ht⟩) (fun q h => by cases h) dX0_placeOf_8
set_option maxHeartbeats 4000000 in
set_option maxRecDepth 100000 in
/-- rank(r, x) -/
theorem mx_rank (r x0 : Int32) (hn : n ≤ 40) {Xl : Nat → List Nat} (hF : ∀ rp, rp < 3 → ra_ls fn rp (Xl rp) ∧ (Xl rp).length ≤ 40) : Met l yX0_rank (ws_ yX0_rank cX0_rank 3 (some .int)) ({ frames := 3, cells := 0, slots := 0, locals := 90 }) (va_Pc [.ref h, .int r, .int x0] (fun U => va_P (dC, dI) vwCl (ra_wX h q1 q2 q3 q4 q5 q6 q7 q8 cI cL n fl S O P C fk fg fn) U.heap ∧ va_K (dC, dI) vwCl [(cI, .int), (cL, .long)] U)) (vp_Si (fun z => z = ra_rp r (fun rp => if ra_kn n fk rp x0 = true then nI (ra_cb (fun b => !false || ra_sh fg rp b) x0.toNatClampNeg (Xl rp)) else -5))) 0 0 (fun _ => False) := by
  refine Met.ofW (cc := cX0_rank) (maxL := 3) (ret := some .int) (by decide) rfl ?_
  intro p e s m args below meth c s₁ B hml hv
  obtain ⟨rfl, hP, hK⟩ := hv
  have hx := B.exec
  have hb := B.bytes
  have hr := B.returns
  have hts := atoms_spec (ws := (ws_ yX0_rank cX0_rank 3 (some .int))) B.pre
  have hts : ∀ w ∈ lw_all, w.before _ s = true := fun w h => hts w (List.mem_cons_of_mem _ h)
  have hown : s.vm.findClass RX0 = some m.cls := findClass_of_methodNamed B.named
  have hlocks := B.notSynchronized
  have hP : va_P (dC, dI) vwCl (ra_wX h q1 q2 q3 q4 q5 q6 q7 q8 cI cL n fl S O P C fk fg fn) s.heap := hP
  have hl := lv_entry ([.ref h, .int r, .int x0]) (n := 3) (Nat.le_of_ble_eq_true rfl)
  rw [lg_entry_eq]
  generalize (lg_sl ([.ref h, .int r, .int x0]) ++ List.replicate (3 - (lg_sl ([.ref h, .int r, .int x0])).length) Slot.unset).toArray = ls at hl ⊢
  have hl : lv_has ls 3 [(0, .ref h), (1, .int r), (2, .int x0)] := hl
  refine lv_iload_n hx hb dX0_rank_0 rfl (lv_at hl 1 rfl) ?_
  refine ra_cS ⟨hx, hb, hml, hown, hts⟩ [.int r] [] (mx_bad l r) (va_cwS 1 hts (lw_S q61 q62 q17 q63) rfl rfl rfl (by decide +kernel) ⟨Nat.le_of_ble_eq_true rfl, Nat.le_of_ble_eq_true rfl⟩) rfl hl.1 rfl (Nat.le_of_ble_eq_true rfl) dX0_rank_1 ⟨Nat.le_of_ble_eq_true rfl, Nat.le_of_ble_eq_true rfl⟩ (fun z hz => ?_)
  refine lv_if_eq (tgt := 9) hx hb dX0_rank_4 (by decide) (fun c_4 => ?_) (fun c_4 => ?_)
  · obtain ⟨rp, hr3, rfl⟩ : ∃ k, k < 3 ∧ r = nI k := by
      rcases hz with ⟨q, -⟩ | ⟨-, q⟩
      · exact absurd (q ▸ c_4) (by decide)
      · exact q
    rw [ra_rp_ok hr3]
    refine lv_aload_n hx hb dX0_rank_9 rfl (lv_at hl 0 rfl) ?_
    refine lv_iload_n hx hb dX0_rank_10 rfl (lv_at hl 1 rfl) ?_
    refine lv_iload_n hx hb dX0_rank_11 rfl (lv_at hl 2 rfl) ?_
    refine ra_cV (Cn := RX0) ⟨hx, hb, hml, hown, hts⟩ [.int (nI rp), .int x0] [] (mx_unknown l rp x0 hr3 hn) (cwV 2 hts (lw_V q115 q117 qs6 q17 q118) rfl rfl rfl (by decide +kernel) ⟨Nat.le_of_ble_eq_true rfl, Nat.le_of_ble_eq_true rfl⟩) hP hK (va_recv hK hP (ci := 0) (q0 := 0) rfl rfl) rfl hl.1 rfl (Nat.le_of_ble_eq_true rfl) dX0_rank_12 ⟨Nat.le_of_ble_eq_true rfl, Nat.le_of_ble_eq_true rfl⟩ (fun z2 hz2 => ?_)
    refine lv_if_eq (tgt := 21) hx hb dX0_rank_15 (by decide) (fun c_15 => ?_) (fun c_15 => ?_)
    · have hk : ra_kn n fk rp x0 = true := by have := (ra_b_eq _).mp (hz2 ▸ c_15); simpa using this
      obtain ⟨a, han, rfl, -⟩ := ra_kn_of hk
      rw [hk, nI_clamp (by omega)]
      refine lv_aload_n hx hb dX0_rank_21 rfl (lv_at hl 0 rfl) ?_
      refine lv_iload_n hx hb dX0_rank_22 rfl (lv_at hl 1 rfl) ?_
      refine lv_iload_n hx hb dX0_rank_23 rfl (lv_at hl 2 rfl) ?_
      refine lv_iconst (v := 0) hx hb dX0_rank_24 (by decide) ?_
      refine ra_top (y := ra_b false) rfl ?_
      refine ra_cV (Cn := RX0) ⟨hx, hb, hml, hown, hts⟩ [.int (nI rp), .int (nI a), .int (ra_b false)] [] (mx_countBefore l rp a false hr3 (by omega) hF) (cwV 3 hts (lw_V q119 q121 qs7 q17 q122) rfl rfl rfl (by decide +kernel) ⟨Nat.le_of_ble_eq_true rfl, Nat.le_of_ble_eq_true rfl⟩) hP hK (va_recv hK hP (ci := 0) (q0 := 0) rfl rfl) rfl hl.1 rfl (Nat.le_of_ble_eq_true rfl) dX0_rank_25 ⟨Nat.le_of_ble_eq_true rfl, Nat.le_of_ble_eq_true rfl⟩ (fun z4 hz4 => ?_)
      exact W.iret (v := z4) hx hb hr (fun t ht hW => ⟨_, rfl, hz4, ht⟩) (fun q h => by cases h) dX0_rank_28
    · have hk : ra_kn n fk rp x0 = false := by have := (ra_b_ne _).mp (hz2 ▸ c_15); simpa using this
      refine lv_bipush (v := (-5)) hx hb dX0_rank_18 (by decide) ?_
      exact W.iret (v := -5) hx hb hr (fun t ht hW => ⟨_, rfl, by rw [hk]; rfl, ht⟩) (fun q h => by cases h) dX0_rank_20
  · have hbd : r < 0 ∨ 2 < r := by
      rcases hz with ⟨-, q⟩ | ⟨q, -⟩
      · exact q
      · exact absurd q c_4
    refine lv_iconst (v := (-1)) hx hb dX0_rank_7 (by decide) ?_
    exact W.iret (v := -1) hx hb hr (fun t ht hW => ⟨_, rfl, (ra_rp_bad hbd).symm, ht⟩) (fun q h => by cases h) dX0_rank_8
end MX
end
section
set_option maxRecDepth 100000
section MX
variable (l : Launch) {dC : Nat → ClassId} {dI : Nat → Nat → Nat} {h q1 q2 q3 q4 q5 q6 q7 q8 : Nat} {cI cL : ClassId} {n : Nat} {fl : Nat → Int32} {S O P C : Nat → Nat} {fk fg : Nat → Int64} {fn : Nat → Int32}
set_option maxHeartbeats 4000000 in
set_option maxRecDepth 100000 in
/-- nextShown(rp, from) -/
theorem mx_nextShown (rp : Nat) (M0 : List Nat) (hr3 : rp < 3) (hc0 : ra_ch fn (41 * rp) M0) (hl0 : M0.length ≤ 40) : Met l yX0_nextShown (ws_ yX0_nextShown cX0_nextShown 5 (some .int)) ({ frames := 2, cells := 0, slots := 0, locals := 60 }) (va_Pc [.ref h, .int (nI rp), .int (ra_hd M0)] (fun U => va_P (dC, dI) vwCl (ra_wX h q1 q2 q3 q4 q5 q6 q7 q8 cI cL n fl S O P C fk fg fn) U.heap ∧ va_K (dC, dI) vwCl [(cI, .int), (cL, .long)] U)) (vp_Si (fun z => z = ra_hd (ra_dw (ra_sh fg rp) M0))) 0 0 (fun _ => False) := by
  refine Met.ofW (cc := cX0_nextShown) (maxL := 5) (ret := some .int) (by decide) rfl ?_
  intro p e s m args below meth c s₁ B hml hv
  obtain ⟨rfl, hP, hK⟩ := hv
  have hx := B.exec
  have hb := B.bytes
  have hr := B.returns
  have hts := atoms_spec (ws := (ws_ yX0_nextShown cX0_nextShown 5 (some .int))) B.pre
  have hts : ∀ w ∈ lw_all, w.before _ s = true := fun w h => hts w (List.mem_cons_of_mem _ h)
  have hown : s.vm.findClass RX0 = some m.cls := findClass_of_methodNamed B.named
  have hlocks := B.notSynchronized
  have hP : va_P (dC, dI) vwCl (ra_wX h q1 q2 q3 q4 q5 q6 q7 q8 cI cL n fl S O P C fk fg fn) s.heap := hP
  have hl := lv_entry ([.ref h, .int (nI rp), .int (ra_hd M0)]) (n := 5) (Nat.le_of_ble_eq_true rfl)
  rw [lg_entry_eq]
  generalize (lg_sl ([.ref h, .int (nI rp), .int (ra_hd M0)]) ++ List.replicate (5 - (lg_sl ([.ref h, .int (nI rp), .int (ra_hd M0)])).length) Slot.unset).toArray = ls at hl ⊢
  have hl : lv_has ls 5 [(0, .ref h), (1, .int (nI rp)), (2, .int (ra_hd M0))] := hl
  refine lv_iload_n hx hb dX0_nextShown_0 rfl (lv_at hl 2 rfl) ?_
  refine lv_istore_n (lv' := [(3, .int (ra_hd M0)), (0, .ref h), (1, .int (nI rp)), (2, .int (ra_hd M0))]) hx hb dX0_nextShown_1 rfl hl (by decide) rfl (fun ls hl => ?_)
  refine lv_iconst (v := 0) hx hb dX0_nextShown_2 (by decide) ?_
  refine lv_istore (lv' := [(4, .int 0), (3, .int (ra_hd M0)), (0, .ref h), (1, .int (nI rp)), (2, .int (ra_hd M0))]) hx hb dX0_nextShown_3 hl (by decide) rfl (fun ls hl => ?_)
  have loop : ∀ (M : List Nat) (i : Nat), i + M.length ≤ 40 → ra_ch fn (41 * rp) M → ra_dw (ra_sh fg rp) M = ra_dw (ra_sh fg rp) M0 → ∀ (ls : Array Slot), lv_has ls 5 [(4, .int (nI i)), (3, .int (ra_hd M)), (0, .ref h), (1, .int (nI rp)), (2, .int (ra_hd M0))] → ra_WR p l e s m below meth c (ws_ yX0_nextShown cX0_nextShown 5 (some .int)) ({ frames := 2, cells := 0, slots := 0, locals := 60 }) [.ref h, .int (nI rp), .int (ra_hd M0)] (fun z => z = ra_hd (ra_dw (ra_sh fg rp) M0)) 5 ls [] := by
    intro M
    induction M with
    | nil =>
      intro i hi hc hT ls hl
      have hl : lv_has ls 5 [(4, .int (nI i)), (3, .int (-1)), (0, .ref h), (1, .int (nI rp)), (2, .int (ra_hd M0))] := hl
      refine lv_iload hx hb dX0_nextShown_5 (lv_at hl 0 rfl) ?_
      refine lv_bipush (v := 40) hx hb dX0_nextShown_7 (by decide) ?_
      refine lv_icmp_ge (tgt := 45) hx hb dX0_nextShown_9 (by decide) (fun c_9 => ?_) (fun c_9 => ?_)
      · refine lv_iconst (v := (-1)) hx hb dX0_nextShown_45 (by decide) ?_
        exact W.iret (v := -1) hx hb hr (fun t ht hW => ⟨_, rfl, by rw [← hT]; rfl, ht⟩) (fun q h => by cases h) dX0_nextShown_46
      · refine lv_iload_n hx hb dX0_nextShown_12 rfl (lv_at hl 1 rfl) ?_
        refine lv_if_lt (tgt := 45) hx hb dX0_nextShown_13 (by decide) (fun c_13 => ?_) (fun c_13 => ?_)
        · refine lv_iconst (v := (-1)) hx hb dX0_nextShown_45 (by decide) ?_
          exact W.iret (v := -1) hx hb hr (fun t ht hW => ⟨_, rfl, by rw [← hT]; rfl, ht⟩) (fun q h => by cases h) dX0_nextShown_46
        · exact absurd (by decide) c_13
    | cons b M ih =>
      intro i hi hc hT ls hl
      have hl : lv_has ls 5 [(4, .int (nI i)), (3, .int (nI b)), (0, .ref h), (1, .int (nI rp)), (2, .int (ra_hd M0))] := hl
      obtain ⟨hb40, hbn, hcM⟩ := hc
      simp only [List.length_cons] at hi
      refine lv_iload hx hb dX0_nextShown_5 (lv_at hl 0 rfl) ?_
      refine lv_bipush (v := 40) hx hb dX0_nextShown_7 (by decide) ?_
      refine lv_icmp_ge (tgt := 45) hx hb dX0_nextShown_9 (by decide) (fun c_9 => ?_) (fun c_9 => ?_)
      · exact absurd c_9 (nI_ge (a := i) (b := 40) (by omega) (by decide))
      · refine lv_iload_n hx hb dX0_nextShown_12 rfl (lv_at hl 1 rfl) ?_
        refine lv_if_lt (tgt := 45) hx hb dX0_nextShown_13 (by decide) (fun c_13 => ?_) (fun c_13 => ?_)
        · exact absurd c_13 (nI_pos (by omega))
        · refine lv_aload_n hx hb dX0_nextShown_16 rfl (lv_at hl 2 rfl) ?_
          refine lv_iload_n hx hb dX0_nextShown_17 rfl (lv_at hl 3 rfl) ?_
          refine lv_iload_n hx hb dX0_nextShown_18 rfl (lv_at hl 1 rfl) ?_
          refine ra_cV (Cn := RX0) ⟨hx, hb, hml, hown, hts⟩ [.int (nI rp), .int (nI b)] [] (mx_shows l rp b hr3 hb40) (cwV 2 hts (lw_V q71 q73 qs1 q17 q74) rfl rfl rfl (by decide +kernel) ⟨Nat.le_of_ble_eq_true rfl, Nat.le_of_ble_eq_true rfl⟩) hP hK (va_recv hK hP (ci := 0) (q0 := 0) rfl rfl) rfl hl.1 rfl (Nat.le_of_ble_eq_true rfl) dX0_nextShown_19 ⟨Nat.le_of_ble_eq_true rfl, Nat.le_of_ble_eq_true rfl⟩ (fun z hz => ?_)
          refine lv_if_eq (tgt := 27) hx hb dX0_nextShown_22 (by decide) (fun c_22 => ?_) (fun c_22 => ?_)
          · have hs : ra_sh fg rp b = false := (ra_b_eq _).mp (hz ▸ c_22)
            refine lv_aload_n hx hb dX0_nextShown_27 rfl (lv_at hl 2 rfl) ?_
            refine va_get (D := (dC, dI)) (ci := 0) (v := .ref q8) (C := RX0) (T := TX0) (N := 9) hx hb hts in_X0 hown hK hP 0 rfl rfl 8 (by decide) (hts _ q35) (fun _ h9 => h9) rfl dX0_nextShown_28 ?_
            refine lv_iload_n hx hb dX0_nextShown_31 rfl (lv_at hl 3 rfl) ?_
            refine lv_bipush (v := 41) hx hb dX0_nextShown_32 (by decide) ?_
            refine lv_imul hx hb dX0_nextShown_34 ?_
            refine lv_iload_n hx hb dX0_nextShown_35 rfl (lv_at hl 1 rfl) ?_
            refine lv_iadd hx hb dX0_nextShown_36 ?_
            refine ra_iald hx hb hK hP 8 0 rfl rfl (k := 41 * rp + b) (ra_x41 _ _) (by omega) (by decide) (v := ra_hd M) hbn dX0_nextShown_37 ?_
            refine lv_istore_n (lv' := [(3, .int (ra_hd M)), (4, .int (nI i)), (0, .ref h), (1, .int (nI rp)), (2, .int (ra_hd M0))]) hx hb dX0_nextShown_38 rfl hl (by decide) rfl (fun ls hl => ?_)
            refine lv_iinc (v := nI (i + 1)) (lv' := [(4, .int (nI (i + 1))), (3, .int (ra_hd M)), (0, .ref h), (1, .int (nI rp)), (2, .int (ra_hd M0))]) hx hb dX0_nextShown_39 hl (k := 1) rfl (ra_inc _) (by decide) rfl (fun ls hl => ?_)
            refine lv_goto (tgt := 5) hx hb dX0_nextShown_42 (by decide) ?_
            exact ih (i + 1) (by omega) hcM (by rw [← hT, ra_dw, if_neg (by rw [hs]; decide)]) ls (lv_sub hl [0, 1, 2, 3, 4] rfl)
          · have hs : ra_sh fg rp b = true := (ra_b_ne _).mp (hz ▸ c_22)
            refine lv_iload_n hx hb dX0_nextShown_25 rfl (lv_at hl 1 rfl) ?_
            exact W.iret (v := nI b) hx hb hr (fun t ht hW => ⟨_, rfl, by rw [← hT, ra_dw, if_pos hs]; rfl, ht⟩) (fun q h => by cases h) dX0_nextShown_26
  exact loop M0 0 (by omega) hc0 rfl ls (lv_sub hl [0, 1, 2, 3, 4] rfl)
set_option maxHeartbeats 4000000 in
set_option maxRecDepth 100000 in
/-- sameText(r, r2) -/
theorem mx_sameText (r r2 : Int32) {Xl : Nat → List Nat} (hF : ∀ rp, rp < 3 → ra_ls fn rp (Xl rp) ∧ (Xl rp).length ≤ 40) : Met l yX0_sameText (ws_ yX0_sameText cX0_sameText 6 (some .boolean)) ({ frames := 3, cells := 0, slots := 0, locals := 90 }) (va_Pc [.ref h, .int r, .int r2] (fun U => va_P (dC, dI) vwCl (ra_wX h q1 q2 q3 q4 q5 q6 q7 q8 cI cL n fl S O P C fk fg fn) U.heap ∧ va_K (dC, dI) vwCl [(cI, .int), (cL, .long)] U)) (vp_Si (fun z => z = if (r < 0 ∨ 2 < r) ∨ (r2 < 0 ∨ 2 < r2) then 0 else ra_b (decide (ra_tx fl (ra_sh fg r.toNatClampNeg) (Xl r.toNatClampNeg) = ra_tx fl (ra_sh fg r2.toNatClampNeg) (Xl r2.toNatClampNeg))))) 0 0 (fun _ => False) := by
  refine Met.ofW (cc := cX0_sameText) (maxL := 6) (ret := some .boolean) (by decide) rfl ?_
  intro p e s m args below meth c s₁ B hml hv
  obtain ⟨rfl, hP, hK⟩ := hv
  have hx := B.exec
  have hb := B.bytes
  have hr := B.returns
  have hts := atoms_spec (ws := (ws_ yX0_sameText cX0_sameText 6 (some .boolean))) B.pre
  have hts : ∀ w ∈ lw_all, w.before _ s = true := fun w h => hts w (List.mem_cons_of_mem _ h)
  have hown : s.vm.findClass RX0 = some m.cls := findClass_of_methodNamed B.named
  have hlocks := B.notSynchronized
  have hP : va_P (dC, dI) vwCl (ra_wX h q1 q2 q3 q4 q5 q6 q7 q8 cI cL n fl S O P C fk fg fn) s.heap := hP
  have hl := lv_entry ([.ref h, .int r, .int r2]) (n := 6) (Nat.le_of_ble_eq_true rfl)
  rw [lg_entry_eq]
  generalize (lg_sl ([.ref h, .int r, .int r2]) ++ List.replicate (6 - (lg_sl ([.ref h, .int r, .int r2])).length) Slot.unset).toArray = ls at hl ⊢
  have hl : lv_has ls 6 [(0, .ref h), (1, .int r), (2, .int r2)] := hl
  refine lv_iload_n hx hb dX0_sameText_0 rfl (lv_at hl 1 rfl) ?_
  refine ra_cS ⟨hx, hb, hml, hown, hts⟩ [.int r] [] (mx_bad l r) (va_cwS 1 hts (lw_S q61 q62 q17 q63) rfl rfl rfl (by decide +kernel) ⟨Nat.le_of_ble_eq_true rfl, Nat.le_of_ble_eq_true rfl⟩) rfl hl.1 rfl (Nat.le_of_ble_eq_true rfl) dX0_sameText_1 ⟨Nat.le_of_ble_eq_true rfl, Nat.le_of_ble_eq_true rfl⟩ (fun z hz => ?_)
  refine lv_if_ne (tgt := 14) hx hb dX0_sameText_4 (by decide) (fun c_4 => ?_) (fun c_4 => ?_)
  · have hbd : r < 0 ∨ 2 < r := by
      rcases hz with ⟨-, q⟩ | ⟨q, -⟩
      · exact q
      · exact absurd q c_4
    refine lv_iconst (v := 0) hx hb dX0_sameText_14 (by decide) ?_
    exact W.zret (v := 0) hx hb hr rfl (fun t ht hW => ⟨_, rfl, (if_pos (Or.inl hbd)).symm, ht⟩) (fun q h => by cases h) dX0_sameText_15
  · obtain ⟨rp, hr3, rfl⟩ : ∃ k, k < 3 ∧ r = nI k := by
      rcases hz with ⟨q, -⟩ | ⟨-, q⟩
      · exact absurd (q ▸ c_4) (by decide)
      · exact q
    refine lv_iload_n hx hb dX0_sameText_7 rfl (lv_at hl 2 rfl) ?_
    refine ra_cS ⟨hx, hb, hml, hown, hts⟩ [.int r2] [] (mx_bad l r2) (va_cwS 1 hts (lw_S q61 q62 q17 q63) rfl rfl rfl (by decide +kernel) ⟨Nat.le_of_ble_eq_true rfl, Nat.le_of_ble_eq_true rfl⟩) rfl hl.1 rfl (Nat.le_of_ble_eq_true rfl) dX0_sameText_8 ⟨Nat.le_of_ble_eq_true rfl, Nat.le_of_ble_eq_true rfl⟩ (fun z2 hz2 => ?_)
    refine lv_if_eq (tgt := 16) hx hb dX0_sameText_11 (by decide) (fun c_11 => ?_) (fun c_11 => ?_)
    · obtain ⟨rq, hq3, rfl⟩ : ∃ k, k < 3 ∧ r2 = nI k := by
        rcases hz2 with ⟨q, -⟩ | ⟨-, q⟩
        · exact absurd (q ▸ c_11) (by decide)
        · exact q
      rw [if_neg (fun q => q.elim (ra_bad_no hr3) (ra_bad_no hq3)), nI_clamp (n := rp) (by omega), nI_clamp (n := rq) (by omega)]
      refine lv_aload_n hx hb dX0_sameText_16 rfl (lv_at hl 0 rfl) ?_
      refine lv_iload_n hx hb dX0_sameText_17 rfl (lv_at hl 1 rfl) ?_
      refine lv_aload_n hx hb dX0_sameText_18 rfl (lv_at hl 0 rfl) ?_
      refine va_get (D := (dC, dI)) (ci := 0) (v := .ref q8) (C := RX0) (T := TX0) (N := 9) hx hb hts in_X0 hown hK hP 0 rfl rfl 8 (by decide) (hts _ q35) (fun _ h9 => h9) rfl dX0_sameText_19 ?_
      refine lv_iload_n hx hb dX0_sameText_22 rfl (lv_at hl 1 rfl) ?_
      refine lv_bipush (v := 41) hx hb dX0_sameText_23 (by decide) ?_
      refine lv_imul hx hb dX0_sameText_25 ?_
      refine lv_bipush (v := 40) hx hb dX0_sameText_26 (by decide) ?_
      refine lv_iadd hx hb dX0_sameText_28 ?_
      refine ra_iald hx hb hK hP 8 0 rfl rfl (k := 41 * rp + 40) (ra_x41h _) (by omega) (by decide) (v := ra_hd (Xl rp)) (hF rp hr3).1.1 dX0_sameText_29 ?_
      refine ra_cV (Cn := RX0) ⟨hx, hb, hml, hown, hts⟩ [.int (nI rp), .int (ra_hd (Xl rp))] [] (mx_nextShown l rp (Xl rp) hr3 (hF rp hr3).1.2 (hF rp hr3).2) (cwV 2 hts (lw_V q135 q137 qs8 q17 q138) rfl rfl rfl (by decide +kernel) ⟨Nat.le_of_ble_eq_true rfl, Nat.le_of_ble_eq_true rfl⟩) hP hK (va_recv hK hP (ci := 0) (q0 := 0) rfl rfl) rfl hl.1 rfl (Nat.le_of_ble_eq_true rfl) dX0_sameText_30 ⟨Nat.le_of_ble_eq_true rfl, Nat.le_of_ble_eq_true rfl⟩ (fun z3 hz3 => ?_)
      subst hz3
      refine lv_istore_n (lv' := [(3, .int (ra_hd (ra_dw (ra_sh fg rp) (Xl rp)))), (0, .ref h), (1, .int (nI rp)), (2, .int (nI rq))]) hx hb dX0_sameText_33 rfl hl (by decide) rfl (fun ls hl => ?_)
      refine lv_aload_n hx hb dX0_sameText_34 rfl (lv_at hl 1 rfl) ?_
      refine lv_iload_n hx hb dX0_sameText_35 rfl (lv_at hl 3 rfl) ?_
      refine lv_aload_n hx hb dX0_sameText_36 rfl (lv_at hl 1 rfl) ?_
      refine va_get (D := (dC, dI)) (ci := 0) (v := .ref q8) (C := RX0) (T := TX0) (N := 9) hx hb hts in_X0 hown hK hP 0 rfl rfl 8 (by decide) (hts _ q35) (fun _ h9 => h9) rfl dX0_sameText_37 ?_
      refine lv_iload_n hx hb dX0_sameText_40 rfl (lv_at hl 3 rfl) ?_
      refine lv_bipush (v := 41) hx hb dX0_sameText_41 (by decide) ?_
      refine lv_imul hx hb dX0_sameText_43 ?_
      refine lv_bipush (v := 40) hx hb dX0_sameText_44 (by decide) ?_
      refine lv_iadd hx hb dX0_sameText_46 ?_
      refine ra_iald hx hb hK hP 8 0 rfl rfl (k := 41 * rq + 40) (ra_x41h _) (by omega) (by decide) (v := ra_hd (Xl rq)) (hF rq hq3).1.1 dX0_sameText_47 ?_
      refine ra_cV (Cn := RX0) ⟨hx, hb, hml, hown, hts⟩ [.int (nI rq), .int (ra_hd (Xl rq))] [] (mx_nextShown l rq (Xl rq) hq3 (hF rq hq3).1.2 (hF rq hq3).2) (cwV 2 hts (lw_V q135 q137 qs8 q17 q138) rfl rfl rfl (by decide +kernel) ⟨Nat.le_of_ble_eq_true rfl, Nat.le_of_ble_eq_true rfl⟩) hP hK (va_recv hK hP (ci := 0) (q0 := 0) rfl rfl) rfl hl.1 rfl (Nat.le_of_ble_eq_true rfl) dX0_sameText_48 ⟨Nat.le_of_ble_eq_true rfl, Nat.le_of_ble_eq_true rfl⟩ (fun z4 hz4 => ?_)
      subst hz4
      refine lv_istore (lv' := [(4, .int (ra_hd (ra_dw (ra_sh fg rq) (Xl rq)))), (3, .int (ra_hd (ra_dw (ra_sh fg rp) (Xl rp)))), (0, .ref h), (1, .int (nI rp)), (2, .int (nI rq))]) hx hb dX0_sameText_51 hl (by decide) rfl (fun ls hl => ?_)
      refine lv_iconst (v := 0) hx hb dX0_sameText_53 (by decide) ?_
      refine lv_istore (lv' := [(5, .int 0), (4, .int (ra_hd (ra_dw (ra_sh fg rq) (Xl rq)))), (3, .int (ra_hd (ra_dw (ra_sh fg rp) (Xl rp)))), (0, .ref h), (1, .int (nI rp)), (2, .int (nI rq))]) hx hb dX0_sameText_54 hl (by decide) rfl (fun ls hl => ?_)
      have loop : ∀ (k i : Nat) (A1 A2 : List Nat), i + k = 41 → i + A1.length ≤ 40 → i + A2.length ≤ 40 → ra_ch fn (41 * rp) A1 → ra_ch fn (41 * rq) A2 → (∀ a M, A1 = a :: M → ra_sh fg rp a = true) → (∀ a M, A2 = a :: M → ra_sh fg rq a = true) → (ra_tx fl (ra_sh fg rp) A1 = ra_tx fl (ra_sh fg rq) A2 ↔ ra_tx fl (ra_sh fg rp) (Xl rp) = ra_tx fl (ra_sh fg rq) (Xl rq)) → ∀ (ls : Array Slot), lv_has ls 6 [(5, .int (nI i)), (4, .int (ra_hd A2)), (3, .int (ra_hd A1)), (0, .ref h), (1, .int (nI rp)), (2, .int (nI rq))] → ra_WR p l e s m below meth c (ws_ yX0_sameText cX0_sameText 6 (some .boolean)) ({ frames := 3, cells := 0, slots := 0, locals := 90 }) [.ref h, .int (nI rp), .int (nI rq)] (fun z => z = ra_b (decide (ra_tx fl (ra_sh fg rp) (Xl rp) = ra_tx fl (ra_sh fg rq) (Xl rq)))) 56 ls [] := by
        intro k
        induction k with
        | zero => intro i A1 A2 h1 h2; exact absurd h2 (by omega)
        | succ k ih =>
          intro i A1 A2 h1 h2 h3 hc1 hc2 hs1 hs2 hT ls hl
          refine lv_iload hx hb dX0_sameText_56 (lv_at hl 0 rfl) ?_
          refine lv_bipush (v := 40) hx hb dX0_sameText_58 (by decide) ?_
          refine lv_icmp_ge (tgt := 132) hx hb dX0_sameText_60 (by decide) (fun c_60 => ?_) (fun c_60 => ?_)
          · have hi : 40 ≤ i := by
              rcases Nat.lt_or_ge i 40 with q | q
              · exact absurd c_60 (nI_ge (a := i) (b := 40) q (by decide))
              · exact q
            obtain rfl : A1 = [] := List.eq_nil_of_length_eq_zero (by omega)
            obtain rfl : A2 = [] := List.eq_nil_of_length_eq_zero (by omega)
            have hl : lv_has ls 6 [(5, .int (nI i)), (4, .int (-1)), (3, .int (-1)), (0, .ref h), (1, .int (nI rp)), (2, .int (nI rq))] := hl
            refine lv_iload_n hx hb dX0_sameText_132 rfl (lv_at hl 2 rfl) ?_
            refine lv_if_ge (tgt := 145) hx hb dX0_sameText_133 (by decide) (fun c_133 => ?_) (fun c_133 => ?_)
            · exact absurd c_133 (by decide)
            · refine lv_iload hx hb dX0_sameText_136 (lv_at hl 1 rfl) ?_
              refine lv_if_ge (tgt := 145) hx hb dX0_sameText_138 (by decide) (fun c_138 => ?_) (fun c_138 => ?_)
              · exact absurd c_138 (by decide)
              · refine lv_iconst (v := 1) hx hb dX0_sameText_141 (by decide) ?_
                refine lv_goto (tgt := 146) hx hb dX0_sameText_142 (by decide) ?_
                exact W.zret (v := 1) hx hb hr rfl (fun t ht hW => ⟨_, rfl, by rw [decide_eq_true (hT.mp rfl)]; rfl, ht⟩) (fun q h => by cases h) dX0_sameText_146
          · refine lv_iload_n hx hb dX0_sameText_63 rfl (lv_at hl 2 rfl) ?_
            refine lv_if_lt (tgt := 132) hx hb dX0_sameText_64 (by decide) (fun c_64 => ?_) (fun c_64 => ?_)
            · obtain rfl : A1 = [] := ra_hd_neg (ra_ch_lt hc1) c_64
              cases A2 with
              | nil =>
                have hl : lv_has ls 6 [(5, .int (nI i)), (4, .int (-1)), (3, .int (-1)), (0, .ref h), (1, .int (nI rp)), (2, .int (nI rq))] := hl
                refine lv_iload_n hx hb dX0_sameText_132 rfl (lv_at hl 2 rfl) ?_
                refine lv_if_ge (tgt := 145) hx hb dX0_sameText_133 (by decide) (fun c_133 => ?_) (fun c_133 => ?_)
                · exact absurd c_133 (by decide)
                · refine lv_iload hx hb dX0_sameText_136 (lv_at hl 1 rfl) ?_
                  refine lv_if_ge (tgt := 145) hx hb dX0_sameText_138 (by decide) (fun c_138 => ?_) (fun c_138 => ?_)
                  · exact absurd c_138 (by decide)
                  · refine lv_iconst (v := 1) hx hb dX0_sameText_141 (by decide) ?_
                    refine lv_goto (tgt := 146) hx hb dX0_sameText_142 (by decide) ?_
                    exact W.zret (v := 1) hx hb hr rfl (fun t ht hW => ⟨_, rfl, by rw [decide_eq_true (hT.mp rfl)]; rfl, ht⟩) (fun q h => by cases h) dX0_sameText_146
              | cons y A2 =>
                have hy40 : y < 40 := hc2.1
                have hl : lv_has ls 6 [(5, .int (nI i)), (4, .int (nI y)), (3, .int (-1)), (0, .ref h), (1, .int (nI rp)), (2, .int (nI rq))] := hl
                refine lv_iload_n hx hb dX0_sameText_132 rfl (lv_at hl 2 rfl) ?_
                refine lv_if_ge (tgt := 145) hx hb dX0_sameText_133 (by decide) (fun c_133 => ?_) (fun c_133 => ?_)
                · exact absurd c_133 (by decide)
                · refine lv_iload hx hb dX0_sameText_136 (lv_at hl 1 rfl) ?_
                  refine lv_if_ge (tgt := 145) hx hb dX0_sameText_138 (by decide) (fun c_138 => ?_) (fun c_138 => ?_)
                  · refine lv_iconst (v := 0) hx hb dX0_sameText_145 (by decide) ?_
                    exact W.zret (v := 0) hx hb hr rfl (fun t ht hW => ⟨_, rfl, by rw [decide_eq_false (fun q => by have q := hT.mpr q; simp [ra_tx, hs2 _ _ rfl] at q)]; rfl, ht⟩) (fun q h => by cases h) dX0_sameText_146
                  · exact absurd (nI_pos' (by omega)) c_138
            · obtain ⟨x, A1, rfl⟩ := ra_hd_pos c_64
              have hl : lv_has ls 6 [(5, .int (nI i)), (4, .int (ra_hd A2)), (3, .int (nI x)), (0, .ref h), (1, .int (nI rp)), (2, .int (nI rq))] := hl
              obtain ⟨hx40, hxn, hc1⟩ := hc1
              simp only [List.length_cons] at h2
              refine lv_iload hx hb dX0_sameText_67 (lv_at hl 1 rfl) ?_
              refine lv_if_lt (tgt := 132) hx hb dX0_sameText_69 (by decide) (fun c_69 => ?_) (fun c_69 => ?_)
              · obtain rfl : A2 = [] := ra_hd_neg (ra_ch_lt hc2) c_69
                have hl : lv_has ls 6 [(5, .int (nI i)), (4, .int (-1)), (3, .int (nI x)), (0, .ref h), (1, .int (nI rp)), (2, .int (nI rq))] := hl
                refine lv_iload_n hx hb dX0_sameText_132 rfl (lv_at hl 2 rfl) ?_
                refine lv_if_ge (tgt := 145) hx hb dX0_sameText_133 (by decide) (fun c_133 => ?_) (fun c_133 => ?_)
                · refine lv_iconst (v := 0) hx hb dX0_sameText_145 (by decide) ?_
                  exact W.zret (v := 0) hx hb hr rfl (fun t ht hW => ⟨_, rfl, by rw [decide_eq_false (fun q => by have q := hT.mpr q; simp [ra_tx, hs1 _ _ rfl] at q)]; rfl, ht⟩) (fun q h => by cases h) dX0_sameText_146
                · exact absurd (nI_pos' (by omega)) c_133
              · obtain ⟨y, A2, rfl⟩ := ra_hd_pos c_69
                have hl : lv_has ls 6 [(5, .int (nI i)), (4, .int (nI y)), (3, .int (nI x)), (0, .ref h), (1, .int (nI rp)), (2, .int (nI rq))] := hl
                obtain ⟨hy40, hyn, hc2⟩ := hc2
                simp only [List.length_cons] at h3
                have hsx := hs1 _ _ rfl
                have hsy := hs2 _ _ rfl
                have hT2 : ra_tx fl (ra_sh fg rp) (x :: A1) = ra_tx fl (ra_sh fg rq) (y :: A2) ↔ fl x = fl y ∧ ra_tx fl (ra_sh fg rp) A1 = ra_tx fl (ra_sh fg rq) A2 := by simp [ra_tx, hsx, hsy]
                refine lv_aload_n hx hb dX0_sameText_72 rfl (lv_at hl 3 rfl) ?_
                refine va_get (D := (dC, dI)) (ci := 0) (v := .ref q1) (C := RX0) (T := TX0) (N := 9) hx hb hts in_X0 hown hK hP 0 rfl rfl 1 (by decide) (hts _ q28) (fun _ h9 => h9) rfl dX0_sameText_73 ?_
                refine lv_iload_n hx hb dX0_sameText_76 rfl (lv_at hl 2 rfl) ?_
                refine ra_iald hx hb hK hP 1 0 rfl rfl (k := x) rfl (by omega) (by decide) (v := fl x) rfl dX0_sameText_77 ?_
                refine lv_aload_n hx hb dX0_sameText_78 rfl (lv_at hl 3 rfl) ?_
                refine va_get (D := (dC, dI)) (ci := 0) (v := .ref q1) (C := RX0) (T := TX0) (N := 9) hx hb hts in_X0 hown hK hP 0 rfl rfl 1 (by decide) (hts _ q28) (fun _ h9 => h9) rfl dX0_sameText_79 ?_
                refine lv_iload hx hb dX0_sameText_82 (lv_at hl 1 rfl) ?_
                refine ra_iald hx hb hK hP 1 0 rfl rfl (k := y) rfl (by omega) (by decide) (v := fl y) rfl dX0_sameText_84 ?_
                refine lv_icmp_eq (tgt := 90) hx hb dX0_sameText_85 (by decide) (fun c_85 => ?_) (fun c_85 => ?_)
                · refine lv_aload_n hx hb dX0_sameText_90 rfl (lv_at hl 3 rfl) ?_
                  refine lv_iload_n hx hb dX0_sameText_91 rfl (lv_at hl 4 rfl) ?_
                  refine lv_aload_n hx hb dX0_sameText_92 rfl (lv_at hl 3 rfl) ?_
                  refine va_get (D := (dC, dI)) (ci := 0) (v := .ref q8) (C := RX0) (T := TX0) (N := 9) hx hb hts in_X0 hown hK hP 0 rfl rfl 8 (by decide) (hts _ q35) (fun _ h9 => h9) rfl dX0_sameText_93 ?_
                  refine lv_iload_n hx hb dX0_sameText_96 rfl (lv_at hl 4 rfl) ?_
                  refine lv_bipush (v := 41) hx hb dX0_sameText_97 (by decide) ?_
                  refine lv_imul hx hb dX0_sameText_99 ?_
                  refine lv_iload_n hx hb dX0_sameText_100 rfl (lv_at hl 2 rfl) ?_
                  refine lv_iadd hx hb dX0_sameText_101 ?_
                  refine ra_iald hx hb hK hP 8 0 rfl rfl (k := 41 * rp + x) (ra_x41 _ _) (by omega) (by decide) (v := ra_hd A1) hxn dX0_sameText_102 ?_
                  refine ra_cV (Cn := RX0) ⟨hx, hb, hml, hown, hts⟩ [.int (nI rp), .int (ra_hd A1)] [] (mx_nextShown l rp A1 hr3 hc1 (by omega)) (cwV 2 hts (lw_V q135 q137 qs8 q17 q138) rfl rfl rfl (by decide +kernel) ⟨Nat.le_of_ble_eq_true rfl, Nat.le_of_ble_eq_true rfl⟩) hP hK (va_recv hK hP (ci := 0) (q0 := 0) rfl rfl) rfl hl.1 rfl (Nat.le_of_ble_eq_true rfl) dX0_sameText_103 ⟨Nat.le_of_ble_eq_true rfl, Nat.le_of_ble_eq_true rfl⟩ (fun z3 hz3 => ?_)
                  subst hz3
                  refine lv_istore_n (lv' := [(3, .int (ra_hd (ra_dw (ra_sh fg rp) A1))), (5, .int (nI i)), (4, .int (nI y)), (0, .ref h), (1, .int (nI rp)), (2, .int (nI rq))]) hx hb dX0_sameText_106 rfl hl (by decide) rfl (fun ls hl => ?_)
                  refine lv_aload_n hx hb dX0_sameText_107 rfl (lv_at hl 3 rfl) ?_
                  refine lv_iload_n hx hb dX0_sameText_108 rfl (lv_at hl 5 rfl) ?_
                  refine lv_aload_n hx hb dX0_sameText_109 rfl (lv_at hl 3 rfl) ?_
                  refine va_get (D := (dC, dI)) (ci := 0) (v := .ref q8) (C := RX0) (T := TX0) (N := 9) hx hb hts in_X0 hown hK hP 0 rfl rfl 8 (by decide) (hts _ q35) (fun _ h9 => h9) rfl dX0_sameText_110 ?_
                  refine lv_iload_n hx hb dX0_sameText_113 rfl (lv_at hl 5 rfl) ?_
                  refine lv_bipush (v := 41) hx hb dX0_sameText_114 (by decide) ?_
                  refine lv_imul hx hb dX0_sameText_116 ?_
                  refine lv_iload hx hb dX0_sameText_117 (lv_at hl 2 rfl) ?_
                  refine lv_iadd hx hb dX0_sameText_119 ?_
                  refine ra_iald hx hb hK hP 8 0 rfl rfl (k := 41 * rq + y) (ra_x41 _ _) (by omega) (by decide) (v := ra_hd A2) hyn dX0_sameText_120 ?_
                  refine ra_cV (Cn := RX0) ⟨hx, hb, hml, hown, hts⟩ [.int (nI rq), .int (ra_hd A2)] [] (mx_nextShown l rq A2 hq3 hc2 (by omega)) (cwV 2 hts (lw_V q135 q137 qs8 q17 q138) rfl rfl rfl (by decide +kernel) ⟨Nat.le_of_ble_eq_true rfl, Nat.le_of_ble_eq_true rfl⟩) hP hK (va_recv hK hP (ci := 0) (q0 := 0) rfl rfl) rfl hl.1 rfl (Nat.le_of_ble_eq_true rfl) dX0_sameText_121 ⟨Nat.le_of_ble_eq_true rfl, Nat.le_of_ble_eq_true rfl⟩ (fun z4 hz4 => ?_)
                  subst hz4
                  refine lv_istore (lv' := [(4, .int (ra_hd (ra_dw (ra_sh fg rq) A2))), (3, .int (ra_hd (ra_dw (ra_sh fg rp) A1))), (5, .int (nI i)), (0, .ref h), (1, .int (nI rp)), (2, .int (nI rq))]) hx hb dX0_sameText_124 hl (by decide) rfl (fun ls hl => ?_)
                  refine lv_iinc (v := nI (i + 1)) (lv' := [(5, .int (nI (i + 1))), (4, .int (ra_hd (ra_dw (ra_sh fg rq) A2))), (3, .int (ra_hd (ra_dw (ra_sh fg rp) A1))), (0, .ref h), (1, .int (nI rp)), (2, .int (nI rq))]) hx hb dX0_sameText_126 hl (k := 2) rfl (ra_inc _) (by decide) rfl (fun ls hl => ?_)
                  refine lv_goto (tgt := 56) hx hb dX0_sameText_129 (by decide) ?_
                  have hl1 := ra_dw_len (ra_sh fg rp) A1
                  have hl2 := ra_dw_len (ra_sh fg rq) A2
                  exact ih (i + 1) _ _ (by omega) (by omega) (by omega) (ra_dw_ch _ hc1) (ra_dw_ch _ hc2) (fun _ _ q => ra_dw_hd q) (fun _ _ q => ra_dw_hd q) (by rw [ra_dw_tx, ra_dw_tx, ← hT, hT2]; exact ⟨fun q => ⟨c_85, q⟩, fun q => q.2⟩) ls (lv_sub hl [0, 1, 2, 3, 4, 5] rfl)
                · refine lv_iconst (v := 0) hx hb dX0_sameText_88 (by decide) ?_
                  exact W.zret (v := 0) hx hb hr rfl (fun t ht hW => ⟨_, rfl, by rw [decide_eq_false (fun q => c_85 (hT2.mp (hT.mpr q)).1)]; rfl, ht⟩) (fun q h => by cases h) dX0_sameText_89
      have hl1 := ra_dw_len (ra_sh fg rp) (Xl rp)
      have hl2 := ra_dw_len (ra_sh fg rq) (Xl rq)
      have hb1 := (hF rp hr3).2
      have hb2 := (hF rq hq3).2
      exact loop 41 0 _ _ (by omega) (by omega) (by omega) (ra_dw_ch _ (hF rp hr3).1.2) (ra_dw_ch _ (hF rq hq3).1.2) (fun _ _ q => ra_dw_hd q) (fun _ _ q => ra_dw_hd q) (by rw [ra_dw_tx, ra_dw_tx]) ls (lv_sub hl [0, 1, 2, 3, 4, 5] rfl)
    · have hbd : r2 < 0 ∨ 2 < r2 := by
        rcases hz2 with ⟨-, q⟩ | ⟨q, -⟩
        · exact q
        · exact absurd q c_11
      refine lv_iconst (v := 0) hx hb dX0_sameText_14 (by decide) ?_
      exact W.zret (v := 0) hx hb hr rfl (fun t ht hW => ⟨_, rfl, (if_pos (Or.inr hbd)).symm, ht⟩) (fun q h => by cases h) dX0_sameText_15
end MX
end
section
set_option maxRecDepth 100000
section MX
variable (l : Launch) {dC : Nat → ClassId} {dI : Nat → Nat → Nat} {h q1 q2 q3 q4 q5 q6 q7 q8 : Nat} {cI cL : ClassId} {n : Nat} {fl : Nat → Int32} {S O P C : Nat → Nat} {fk fg : Nat → Int64} {fn : Nat → Int32}
set_option maxHeartbeats 4000000 in
set_option maxRecDepth 100000 in
/-- linkBehind(rp, a0, x) -/
theorem mx_linkBehind (sz : Nat) (rp a0 x : Nat) (hr3 : rp < 3) (ha : a0 < 41) (hx40 : x < 40) : Met l yX0_linkBehind (ws_ yX0_linkBehind cX0_linkBehind 4 none) ({ frames := 0, cells := 0, slots := 0, locals := 0 }) (va_Pc [.ref h, .int (nI rp), .int (nI a0), .int (nI x)] (fun U => U.heap.size = sz ∧ va_P (dC, dI) vwCl (ra_wX h q1 q2 q3 q4 q5 q6 q7 q8 cI cL n fl S O P C fk fg fn) U.heap ∧ va_K (dC, dI) vwCl [(cI, .int), (cL, .long)] U ∧ va_D (fun _ => True) (ra_wX h q1 q2 q3 q4 q5 q6 q7 q8 cI cL n fl S O P C fk fg fn))) (va_Qv (fun (u : Nat → Int32) => u = upd (upd fn (41 * rp + x) (fn (41 * rp + a0))) (41 * rp + a0) (nI x)) (fun u t => va_P (dC, dI) vwCl (ra_wX h q1 q2 q3 q4 q5 q6 q7 q8 cI cL n fl S O P C fk fg u) t.heap ∧ va_K (dC, dI) vwCl [(cI, .int), (cL, .long)] t ∧ va_D (va_A (ra_wX h q1 q2 q3 q4 q5 q6 q7 q8 cI cL n fl S O P C fk fg fn) sz) (ra_wX h q1 q2 q3 q4 q5 q6 q7 q8 cI cL n fl S O P C fk fg u)) (va_A (ra_wX h q1 q2 q3 q4 q5 q6 q7 q8 cI cL n fl S O P C fk fg fn) sz)) 0 0 (va_A (ra_wX h q1 q2 q3 q4 q5 q6 q7 q8 cI cL n fl S O P C fk fg fn) sz) := by
  refine Met.ofW (cc := cX0_linkBehind) (maxL := 4) (ret := none) (by decide) rfl ?_
  intro p e s m args below meth c s₁ B hml hv
  obtain ⟨rfl, hsz, hP, hK, hD0⟩ := hv
  have hx := B.exec
  have hb := B.bytes
  have hr := B.returns
  have hts := atoms_spec (ws := (ws_ yX0_linkBehind cX0_linkBehind 4 none)) B.pre
  have hts : ∀ w ∈ lw_all, w.before _ s = true := fun w h => hts w (List.mem_cons_of_mem _ h)
  have hown : s.vm.findClass RX0 = some m.cls := findClass_of_methodNamed B.named
  have hlocks := B.notSynchronized
  subst hsz
  have hD := hD0.self (sz := s.heap.size)
  generalize hAe : va_A (ra_wX h q1 q2 q3 q4 q5 q6 q7 q8 cI cL n fl S O P C fk fg fn) s.heap.size = A at hD ⊢
  have hA : ∀ q : Nat, s.heap.size ≤ q → A q := fun q h => by rw [← hAe]; exact Or.inr h
  have hS : va_S A s.heap s.heap [] := va_S.rf
  have hP : va_P (dC, dI) vwCl (ra_wX h q1 q2 q3 q4 q5 q6 q7 q8 cI cL n fl S O P C fk fg fn) s.heap := hP
  have hl := lv_entry ([.ref h, .int (nI rp), .int (nI a0), .int (nI x)]) (n := 4) (Nat.le_of_ble_eq_true rfl)
  rw [lg_entry_eq]
  generalize (lg_sl ([.ref h, .int (nI rp), .int (nI a0), .int (nI x)]) ++ List.replicate (4 - (lg_sl ([.ref h, .int (nI rp), .int (nI a0), .int (nI x)])).length) Slot.unset).toArray = ls at hl ⊢
  have hl : lv_has ls 4 [(0, .ref h), (1, .int (nI rp)), (2, .int (nI a0)), (3, .int (nI x))] := hl
  refine lv_aload_n hx hb dX0_linkBehind_0 rfl (lv_at hl 0 rfl) ?_
  refine va_get (D := (dC, dI)) (ci := 0) (v := .ref q8) (C := RX0) (T := TX0) (N := 9) hx hb hts in_X0 hown hK hP 0 rfl rfl 8 (by decide) (hts _ q35) (fun _ h9 => h9) rfl dX0_linkBehind_1 ?_
  refine lv_iload_n hx hb dX0_linkBehind_4 rfl (lv_at hl 1 rfl) ?_
  refine lv_bipush (v := 41) hx hb dX0_linkBehind_5 (by decide) ?_
  refine lv_imul hx hb dX0_linkBehind_7 ?_
  refine lv_iload_n hx hb dX0_linkBehind_8 rfl (lv_at hl 3 rfl) ?_
  refine lv_iadd hx hb dX0_linkBehind_9 ?_
  refine lv_aload_n hx hb dX0_linkBehind_10 rfl (lv_at hl 0 rfl) ?_
  refine va_get (D := (dC, dI)) (ci := 0) (v := .ref q8) (C := RX0) (T := TX0) (N := 9) hx hb hts in_X0 hown hK hP 0 rfl rfl 8 (by decide) (hts _ q35) (fun _ h9 => h9) rfl dX0_linkBehind_11 ?_
  refine lv_iload_n hx hb dX0_linkBehind_14 rfl (lv_at hl 1 rfl) ?_
  refine lv_bipush (v := 41) hx hb dX0_linkBehind_15 (by decide) ?_
  refine lv_imul hx hb dX0_linkBehind_17 ?_
  refine lv_iload_n hx hb dX0_linkBehind_18 rfl (lv_at hl 2 rfl) ?_
  refine lv_iadd hx hb dX0_linkBehind_19 ?_
  refine ra_iald hx hb hK hP 8 0 rfl rfl (k := 41 * rp + a0) (ra_x41 _ _) (by omega) (by decide) (v := fn (41 * rp + a0)) rfl dX0_linkBehind_20 ?_
  refine ra_iast hx hb hK hP hD hS 8 0 rfl rfl (k := 41 * rp + x) (ra_x41 _ _) (by omega) (by decide) (f' := upd fn (41 * rp + x) (fn (41 * rp + a0))) rfl dX0_linkBehind_21 (fun H locs hP hD hS => ?_)
  have hP : va_P (dC, dI) vwCl (ra_wX h q1 q2 q3 q4 q5 q6 q7 q8 cI cL n fl S O P C fk fg (upd fn (41 * rp + x) (fn (41 * rp + a0)))) H := hP
  have hD : va_D A (ra_wX h q1 q2 q3 q4 q5 q6 q7 q8 cI cL n fl S O P C fk fg (upd fn (41 * rp + x) (fn (41 * rp + a0)))) := hD
  refine lv_aload_n hx hb dX0_linkBehind_22 rfl (lv_at hl 0 rfl) ?_
  refine va_get (D := (dC, dI)) (ci := 0) (v := .ref q8) (C := RX0) (T := TX0) (N := 9) hx hb hts in_X0 hown hK hP 0 rfl rfl 8 (by decide) (hts _ q35) (fun _ h9 => h9) rfl dX0_linkBehind_23 ?_
  refine lv_iload_n hx hb dX0_linkBehind_26 rfl (lv_at hl 1 rfl) ?_
  refine lv_bipush (v := 41) hx hb dX0_linkBehind_27 (by decide) ?_
  refine lv_imul hx hb dX0_linkBehind_29 ?_
  refine lv_iload_n hx hb dX0_linkBehind_30 rfl (lv_at hl 2 rfl) ?_
  refine lv_iadd hx hb dX0_linkBehind_31 ?_
  refine lv_iload_n hx hb dX0_linkBehind_32 rfl (lv_at hl 3 rfl) ?_
  refine ra_iast hx hb hK hP hD hS 8 0 rfl rfl (k := 41 * rp + a0) (ra_x41 _ _) (by omega) (by decide) (f' := upd (upd fn (41 * rp + x) (fn (41 * rp + a0))) (41 * rp + a0) (nI x)) rfl dX0_linkBehind_33 (fun H locs hP hD hS => ?_)
  have hP : va_P (dC, dI) vwCl (ra_wX h q1 q2 q3 q4 q5 q6 q7 q8 cI cL n fl S O P C fk fg (upd (upd fn (41 * rp + x) (fn (41 * rp + a0))) (41 * rp + a0) (nI x))) H := hP
  have hD : va_D A (ra_wX h q1 q2 q3 q4 q5 q6 q7 q8 cI cL n fl S O P C fk fg (upd (upd fn (41 * rp + x) (fn (41 * rp + a0))) (41 * rp + a0) (nI x))) := hD
  exact W.vret hx hb hr (fun t ht hW => ⟨⟨_, rfl, rfl, by rw [ht]; exact hP, va_K.moved hW.alike hK, hD⟩, hS.F ht⟩) hS.2.2 dX0_linkBehind_34
set_option maxHeartbeats 4000000 in
set_option maxRecDepth 100000 in
/-- integrate(rp, x) -/
theorem mx_integrate (sz : Nat) (rp x : Nat) (hr3 : rp < 3) (hx40 : x < 40) (hSO : ∀ k, S k ≤ 40 ∧ O k < 3) (hC : C rp ≤ 40) (L1 L2 : List Nat) (hL : ra_ls fn rp (L1 ++ L2)) (hlen : L2.length ≤ 40) (hnd : (L1 ++ L2).Nodup) (hxL : x ∉ L1 ++ L2) (hP0 : P x = L1.getLastD 40) : Met l yX0_integrate (ws_ yX0_integrate cX0_integrate 6 none) ({ frames := 1, cells := 0, slots := 0, locals := 30 }) (va_Pc [.ref h, .int (nI rp), .int (nI x)] (fun U => U.heap.size = sz ∧ va_P (dC, dI) vwCl (ra_wX h q1 q2 q3 q4 q5 q6 q7 q8 cI cL n fl S O P C fk fg fn) U.heap ∧ va_K (dC, dI) vwCl [(cI, .int), (cL, .long)] U ∧ va_D (fun _ => True) (ra_wX h q1 q2 q3 q4 q5 q6 q7 q8 cI cL n fl S O P C fk fg fn))) (va_Qv (fun (u : (Nat → Nat) × (Nat → Int64) × (Nat → Int32)) => u.1 = ra_mx C rp (S x) ∧ u.2.1 = vp_updL fk rp (ra_or (fk rp) x) ∧ ra_ls u.2.2 rp (L1 ++ ra_sk (ra_key S O) x L2) ∧ ∀ j, j < 41 * rp ∨ 41 * rp + 41 ≤ j → u.2.2 j = fn j) (fun u t => va_P (dC, dI) vwCl (ra_wX h q1 q2 q3 q4 q5 q6 q7 q8 cI cL n fl S O P u.1 u.2.1 fg u.2.2) t.heap ∧ va_K (dC, dI) vwCl [(cI, .int), (cL, .long)] t ∧ va_D (va_A (ra_wX h q1 q2 q3 q4 q5 q6 q7 q8 cI cL n fl S O P C fk fg fn) sz) (ra_wX h q1 q2 q3 q4 q5 q6 q7 q8 cI cL n fl S O P u.1 u.2.1 fg u.2.2)) (va_A (ra_wX h q1 q2 q3 q4 q5 q6 q7 q8 cI cL n fl S O P C fk fg fn) sz)) 0 0 (va_A (ra_wX h q1 q2 q3 q4 q5 q6 q7 q8 cI cL n fl S O P C fk fg fn) sz) := by
  refine Met.ofW (cc := cX0_integrate) (maxL := 6) (ret := none) (by decide) rfl ?_
  intro p e s m args below meth c s₁ B hml hv
  obtain ⟨rfl, hsz, hP, hK, hD0⟩ := hv
  have hx := B.exec
  have hb := B.bytes
  have hr := B.returns
  have hts := atoms_spec (ws := (ws_ yX0_integrate cX0_integrate 6 none)) B.pre
  have hts : ∀ w ∈ lw_all, w.before _ s = true := fun w h => hts w (List.mem_cons_of_mem _ h)
  have hown : s.vm.findClass RX0 = some m.cls := findClass_of_methodNamed B.named
  have hlocks := B.notSynchronized
  subst hsz
  have hD := hD0.self (sz := s.heap.size)
  generalize hAe : va_A (ra_wX h q1 q2 q3 q4 q5 q6 q7 q8 cI cL n fl S O P C fk fg fn) s.heap.size = A at hD ⊢
  have hA : ∀ q : Nat, s.heap.size ≤ q → A q := fun q h => by rw [← hAe]; exact Or.inr h
  have hS : va_S A s.heap s.heap [] := va_S.rf
  have hP : va_P (dC, dI) vwCl (ra_wX h q1 q2 q3 q4 q5 q6 q7 q8 cI cL n fl S O P C fk fg fn) s.heap := hP
  have hl := lv_entry ([.ref h, .int (nI rp), .int (nI x)]) (n := 6) (Nat.le_of_ble_eq_true rfl)
  rw [lg_entry_eq]
  generalize (lg_sl ([.ref h, .int (nI rp), .int (nI x)]) ++ List.replicate (6 - (lg_sl ([.ref h, .int (nI rp), .int (nI x)])).length) Slot.unset).toArray = ls at hl ⊢
  have hl : lv_has ls 6 [(0, .ref h), (1, .int (nI rp)), (2, .int (nI x))] := hl
  have hPx : P x < 41 := by rw [hP0]; exact ra_last_lt hL
  have tail : ∀ (La M : List Nat), La ++ M = L1 ++ L2 → La ++ x :: M = L1 ++ ra_sk (ra_key S O) x L2 → ∀ (ls : Array Slot), lv_has ls 6 [(3, .int (nI (La.getLastD 40))), (0, .ref h), (1, .int (nI rp)), (2, .int (nI x))] → ra_WV p l e s m below meth c s.heap [] (ws_ yX0_integrate cX0_integrate 6 none) ({ frames := 1, cells := 0, slots := 0, locals := 30 }) [.ref h, .int (nI rp), .int (nI x)] (fun (u : (Nat → Nat) × (Nat → Int64) × (Nat → Int32)) => u.1 = ra_mx C rp (S x) ∧ u.2.1 = vp_updL fk rp (ra_or (fk rp) x) ∧ ra_ls u.2.2 rp (L1 ++ ra_sk (ra_key S O) x L2) ∧ ∀ j, j < 41 * rp ∨ 41 * rp + 41 ≤ j → u.2.2 j = fn j) (fun u t => va_P (dC, dI) vwCl (ra_wX h q1 q2 q3 q4 q5 q6 q7 q8 cI cL n fl S O P u.1 u.2.1 fg u.2.2) t.heap ∧ va_K (dC, dI) vwCl [(cI, .int), (cL, .long)] t ∧ va_D A (ra_wX h q1 q2 q3 q4 q5 q6 q7 q8 cI cL n fl S O P u.1 u.2.1 fg u.2.2)) A 68 ls [] := by
    intro La M hE hT ls hl
    rw [← hT]
    have hL' : ra_ls fn rp (La ++ M) := by rw [hE]; exact hL
    have hlt := ra_last_lt hL'
    have hnd' : (La ++ M).Nodup := by rw [hE]; exact hnd
    have hxL' : x ∉ La ++ M := by rw [hE]; exact hxL
    refine lv_aload_n hx hb dX0_integrate_68 rfl (lv_at hl 1 rfl) ?_
    refine lv_iload_n hx hb dX0_integrate_69 rfl (lv_at hl 2 rfl) ?_
    refine lv_iload_n hx hb dX0_integrate_70 rfl (lv_at hl 0 rfl) ?_
    refine lv_iload_n hx hb dX0_integrate_71 rfl (lv_at hl 3 rfl) ?_
    refine ra_cVv (Cn := RX0) (wf := fun u => (ra_wX h q1 q2 q3 q4 q5 q6 q7 q8 cI cL n fl S O P C fk fg u)) ⟨hx, hb, hml, hown, hts⟩ [.int (nI rp), .int (nI (La.getLastD 40)), .int (nI x)] [] (mx_linkBehind l s.heap.size rp (La.getLastD 40) x hr3 hlt hx40) (cwV 3 hts (lw_V q79 q81 qs3 q17 q82) rfl rfl rfl (by decide +kernel) ⟨Nat.le_of_ble_eq_true rfl, Nat.le_of_ble_eq_true rfl⟩) hP hK hD hS hA (va_recv hK hP (ci := 0) (q0 := 0) rfl rfl) rfl hl.1 rfl (Nat.le_of_ble_eq_true rfl) dX0_integrate_72 ⟨Nat.le_of_ble_eq_true rfl, Nat.le_of_ble_eq_true rfl⟩ (fun u H locs hz hP hD hS => ?_)
    subst hz
    have hP : va_P (dC, dI) vwCl (ra_wX h q1 q2 q3 q4 q5 q6 q7 q8 cI cL n fl S O P C fk fg (upd (upd fn (41 * rp + x) (fn (41 * rp + La.getLastD 40))) (41 * rp + La.getLastD 40) (nI x))) H := hP
    have hD : va_D A (ra_wX h q1 q2 q3 q4 q5 q6 q7 q8 cI cL n fl S O P C fk fg (upd (upd fn (41 * rp + x) (fn (41 * rp + La.getLastD 40))) (41 * rp + La.getLastD 40) (nI x))) := hD
    refine lv_aload_n hx hb dX0_integrate_75 rfl (lv_at hl 1 rfl) ?_
    refine va_get (D := (dC, dI)) (ci := 0) (v := .ref q6) (C := RX0) (T := TX0) (N := 9) hx hb hts in_X0 hown hK hP 0 rfl rfl 6 (by decide) (hts _ q33) (fun _ h9 => h9) rfl dX0_integrate_76 ?_
    refine lv_iload_n hx hb dX0_integrate_79 rfl (lv_at hl 2 rfl) ?_
    refine lv_dup2_11 hx hb dX0_integrate_80 rfl rfl ?_
    refine ra_lald hx hb hK hP 6 1 rfl rfl (k := rp) rfl (by omega) (by decide) (v := fk rp) rfl dX0_integrate_81 ?_
    refine lv_lconst (v := 1) hx hb dX0_integrate_82 (by decide) ?_
    refine lv_iload_n hx hb dX0_integrate_83 rfl (lv_at hl 3 rfl) ?_
    refine lv_lshl hx hb dX0_integrate_84 rfl ?_
    refine lv_lor hx hb dX0_integrate_85 ?_
    refine ra_last hx hb hK hP hD hS 6 1 rfl rfl (k := rp) rfl (by omega) (by decide) (f' := vp_updL fk rp (ra_or (fk rp) x)) rfl dX0_integrate_86 (fun H locs hP hD hS => ?_)
    have hP : va_P (dC, dI) vwCl (ra_wX h q1 q2 q3 q4 q5 q6 q7 q8 cI cL n fl S O P C (vp_updL fk rp (ra_or (fk rp) x)) fg (upd (upd fn (41 * rp + x) (fn (41 * rp + La.getLastD 40))) (41 * rp + La.getLastD 40) (nI x))) H := hP
    have hD : va_D A (ra_wX h q1 q2 q3 q4 q5 q6 q7 q8 cI cL n fl S O P C (vp_updL fk rp (ra_or (fk rp) x)) fg (upd (upd fn (41 * rp + x) (fn (41 * rp + La.getLastD 40))) (41 * rp + La.getLastD 40) (nI x))) := hD
    have hSx := hSO x
    refine lv_aload_n hx hb dX0_integrate_87 rfl (lv_at hl 1 rfl) ?_
    refine va_get (D := (dC, dI)) (ci := 0) (v := .ref q5) (C := RX0) (T := TX0) (N := 9) hx hb hts in_X0 hown hK hP 0 rfl rfl 5 (by decide) (hts _ q32) (fun _ h9 => h9) rfl dX0_integrate_88 ?_
    refine lv_iload_n hx hb dX0_integrate_91 rfl (lv_at hl 2 rfl) ?_
    refine ra_iald hx hb hK hP 5 0 rfl rfl (k := rp) rfl (by omega) (by decide) (v := nI (C rp)) rfl dX0_integrate_92 ?_
    refine lv_aload_n hx hb dX0_integrate_93 rfl (lv_at hl 1 rfl) ?_
    refine va_get (D := (dC, dI)) (ci := 0) (v := .ref q2) (C := RX0) (T := TX0) (N := 9) hx hb hts in_X0 hown hK hP 0 rfl rfl 2 (by decide) (hts _ q29) (fun _ h9 => h9) rfl dX0_integrate_94 ?_
    refine lv_iload_n hx hb dX0_integrate_97 rfl (lv_at hl 3 rfl) ?_
    refine ra_iald hx hb hK hP 2 0 rfl rfl (k := x) rfl (by omega) (by decide) (v := nI (S x)) rfl dX0_integrate_98 ?_
    refine lv_icmp_ge (tgt := 114) hx hb dX0_integrate_99 (by decide) (fun c_99 => ?_) (fun c_99 => ?_)
    · exact W.vret hx hb hr (fun t ht hW => ⟨⟨(C, vp_updL fk rp (ra_or (fk rp) x), upd (upd fn (41 * rp + x) (fn (41 * rp + La.getLastD 40))) (41 * rp + La.getLastD 40) (nI x)), rfl, ⟨(if_neg (by rw [nI_leI (by omega) (by omega)] at c_99; omega)).symm, rfl, ra_ls_link hL' hx40 hnd' hxL', ra_link_out (by omega) (by omega)⟩, by rw [ht]; exact hP, va_K.moved hW.alike hK, hD⟩, hS.F ht⟩) hS.2.2 dX0_integrate_114
    · refine lv_aload_n hx hb dX0_integrate_102 rfl (lv_at hl 1 rfl) ?_
      refine va_get (D := (dC, dI)) (ci := 0) (v := .ref q5) (C := RX0) (T := TX0) (N := 9) hx hb hts in_X0 hown hK hP 0 rfl rfl 5 (by decide) (hts _ q32) (fun _ h9 => h9) rfl dX0_integrate_103 ?_
      refine lv_iload_n hx hb dX0_integrate_106 rfl (lv_at hl 2 rfl) ?_
      refine lv_aload_n hx hb dX0_integrate_107 rfl (lv_at hl 1 rfl) ?_
      refine va_get (D := (dC, dI)) (ci := 0) (v := .ref q2) (C := RX0) (T := TX0) (N := 9) hx hb hts in_X0 hown hK hP 0 rfl rfl 2 (by decide) (hts _ q29) (fun _ h9 => h9) rfl dX0_integrate_108 ?_
      refine lv_iload_n hx hb dX0_integrate_111 rfl (lv_at hl 3 rfl) ?_
      refine ra_iald hx hb hK hP 2 0 rfl rfl (k := x) rfl (by omega) (by decide) (v := nI (S x)) rfl dX0_integrate_112 ?_
      refine ra_iast hx hb hK hP hD hS 5 0 rfl rfl (k := rp) rfl (by omega) (by decide) (f' := fun j => nI ((va_up C rp (S x)) j)) (ra_updN _ _ _) dX0_integrate_113 (fun H locs hP hD hS => ?_)
      have hP : va_P (dC, dI) vwCl (ra_wX h q1 q2 q3 q4 q5 q6 q7 q8 cI cL n fl S O P (va_up C rp (S x)) (vp_updL fk rp (ra_or (fk rp) x)) fg (upd (upd fn (41 * rp + x) (fn (41 * rp + La.getLastD 40))) (41 * rp + La.getLastD 40) (nI x))) H := hP
      have hD : va_D A (ra_wX h q1 q2 q3 q4 q5 q6 q7 q8 cI cL n fl S O P (va_up C rp (S x)) (vp_updL fk rp (ra_or (fk rp) x)) fg (upd (upd fn (41 * rp + x) (fn (41 * rp + La.getLastD 40))) (41 * rp + La.getLastD 40) (nI x))) := hD
      exact W.vret hx hb hr (fun t ht hW => ⟨⟨(va_up C rp (S x), vp_updL fk rp (ra_or (fk rp) x), upd (upd fn (41 * rp + x) (fn (41 * rp + La.getLastD 40))) (41 * rp + La.getLastD 40) (nI x)), rfl, ⟨(if_pos (by rw [nI_leI (by omega) (by omega)] at c_99; omega)).symm, rfl, ra_ls_link hL' hx40 hnd' hxL', ra_link_out (by omega) (by omega)⟩, by rw [ht]; exact hP, va_K.moved hW.alike hK, hD⟩, hS.F ht⟩) hS.2.2 dX0_integrate_114
  refine lv_aload_n hx hb dX0_integrate_0 rfl (lv_at hl 0 rfl) ?_
  refine va_get (D := (dC, dI)) (ci := 0) (v := .ref q4) (C := RX0) (T := TX0) (N := 9) hx hb hts in_X0 hown hK hP 0 rfl rfl 4 (by decide) (hts _ q31) (fun _ h9 => h9) rfl dX0_integrate_1 ?_
  refine lv_iload_n hx hb dX0_integrate_4 rfl (lv_at hl 2 rfl) ?_
  refine ra_iald hx hb hK hP 4 0 rfl rfl (k := x) rfl (by omega) (by decide) (v := nI (P x)) rfl dX0_integrate_5 ?_
  refine lv_istore_n (lv' := [(3, .int (nI (P x))), (0, .ref h), (1, .int (nI rp)), (2, .int (nI x))]) hx hb dX0_integrate_6 rfl hl (by decide) rfl (fun ls hl => ?_)
  refine lv_aload_n hx hb dX0_integrate_7 rfl (lv_at hl 1 rfl) ?_
  refine va_get (D := (dC, dI)) (ci := 0) (v := .ref q8) (C := RX0) (T := TX0) (N := 9) hx hb hts in_X0 hown hK hP 0 rfl rfl 8 (by decide) (hts _ q35) (fun _ h9 => h9) rfl dX0_integrate_8 ?_
  refine lv_iload_n hx hb dX0_integrate_11 rfl (lv_at hl 2 rfl) ?_
  refine lv_bipush (v := 41) hx hb dX0_integrate_12 (by decide) ?_
  refine lv_imul hx hb dX0_integrate_14 ?_
  refine lv_iload_n hx hb dX0_integrate_15 rfl (lv_at hl 0 rfl) ?_
  refine lv_iadd hx hb dX0_integrate_16 ?_
  refine ra_iald hx hb hK hP 8 0 rfl rfl (k := 41 * rp + (P x)) (ra_x41 _ _) (by omega) (by decide) (v := ra_hd L2) (by rw [hP0]; exact ra_ls_next hL) dX0_integrate_17 ?_
  refine lv_istore (lv' := [(4, .int (ra_hd L2)), (3, .int (nI (P x))), (0, .ref h), (1, .int (nI rp)), (2, .int (nI x))]) hx hb dX0_integrate_18 hl (by decide) rfl (fun ls hl => ?_)
  refine lv_iconst (v := 0) hx hb dX0_integrate_20 (by decide) ?_
  refine lv_istore (lv' := [(5, .int 0), (4, .int (ra_hd L2)), (3, .int (nI (P x))), (0, .ref h), (1, .int (nI rp)), (2, .int (nI x))]) hx hb dX0_integrate_21 hl (by decide) rfl (fun ls hl => ?_)
  have loop : ∀ (M : List Nat) (i : Nat) (La : List Nat), i + M.length ≤ 40 → La ++ M = L1 ++ L2 → La ++ ra_sk (ra_key S O) x M = L1 ++ ra_sk (ra_key S O) x L2 → ∀ (ls : Array Slot), lv_has ls 6 [(5, .int (nI i)), (4, .int (ra_hd M)), (3, .int (nI (La.getLastD 40))), (0, .ref h), (1, .int (nI rp)), (2, .int (nI x))] → ra_WV p l e s m below meth c s.heap [] (ws_ yX0_integrate cX0_integrate 6 none) ({ frames := 1, cells := 0, slots := 0, locals := 30 }) [.ref h, .int (nI rp), .int (nI x)] (fun (u : (Nat → Nat) × (Nat → Int64) × (Nat → Int32)) => u.1 = ra_mx C rp (S x) ∧ u.2.1 = vp_updL fk rp (ra_or (fk rp) x) ∧ ra_ls u.2.2 rp (L1 ++ ra_sk (ra_key S O) x L2) ∧ ∀ j, j < 41 * rp ∨ 41 * rp + 41 ≤ j → u.2.2 j = fn j) (fun u t => va_P (dC, dI) vwCl (ra_wX h q1 q2 q3 q4 q5 q6 q7 q8 cI cL n fl S O P u.1 u.2.1 fg u.2.2) t.heap ∧ va_K (dC, dI) vwCl [(cI, .int), (cL, .long)] t ∧ va_D A (ra_wX h q1 q2 q3 q4 q5 q6 q7 q8 cI cL n fl S O P u.1 u.2.1 fg u.2.2)) A 23 ls [] := by
    intro M
    induction M with
    | nil =>
      intro i La hi hE hT ls hl
      have hl : lv_has ls 6 [(5, .int (nI i)), (4, .int (-1)), (3, .int (nI (La.getLastD 40))), (0, .ref h), (1, .int (nI rp)), (2, .int (nI x))] := hl
      refine lv_iload hx hb dX0_integrate_23 (lv_at hl 0 rfl) ?_
      refine lv_bipush (v := 40) hx hb dX0_integrate_25 (by decide) ?_
      refine lv_icmp_ge (tgt := 68) hx hb dX0_integrate_27 (by decide) (fun c_27 => ?_) (fun c_27 => ?_)
      · exact tail La [] hE hT ls (lv_sub hl [2, 3, 4, 5] rfl)
      · refine lv_iload hx hb dX0_integrate_30 (lv_at hl 1 rfl) ?_
        refine lv_if_lt (tgt := 68) hx hb dX0_integrate_32 (by decide) (fun c_32 => ?_) (fun c_32 => ?_)
        · exact tail La [] hE hT ls (lv_sub hl [2, 3, 4, 5] rfl)
        · exact absurd (by decide) c_32
    | cons b M ih =>
      intro i La hi hE hT ls hl
      have hl : lv_has ls 6 [(5, .int (nI i)), (4, .int (nI b)), (3, .int (nI (La.getLastD 40))), (0, .ref h), (1, .int (nI rp)), (2, .int (nI x))] := hl
      obtain ⟨hb40, hbn, -⟩ : ra_ch fn (41 * rp) (b :: M) := ra_ch_app (L := La) (by rw [hE]; exact hL.2)
      simp only [List.length_cons] at hi
      refine lv_iload hx hb dX0_integrate_23 (lv_at hl 0 rfl) ?_
      refine lv_bipush (v := 40) hx hb dX0_integrate_25 (by decide) ?_
      refine lv_icmp_ge (tgt := 68) hx hb dX0_integrate_27 (by decide) (fun c_27 => ?_) (fun c_27 => ?_)
      · exact absurd c_27 (nI_ge (a := i) (b := 40) (by omega) (by decide))
      · refine lv_iload hx hb dX0_integrate_30 (lv_at hl 1 rfl) ?_
        refine lv_if_lt (tgt := 68) hx hb dX0_integrate_32 (by decide) (fun c_32 => ?_) (fun c_32 => ?_)
        · exact absurd c_32 (nI_pos (by omega))
        · refine lv_aload_n hx hb dX0_integrate_35 rfl (lv_at hl 3 rfl) ?_
          refine lv_iload hx hb dX0_integrate_36 (lv_at hl 1 rfl) ?_
          refine lv_iload_n hx hb dX0_integrate_38 rfl (lv_at hl 5 rfl) ?_
          refine ra_cV (Cn := RX0) ⟨hx, hb, hml, hown, hts⟩ [.int (nI b), .int (nI x)] [] (mx_ahead l b x hb40 hx40 hSO) (cwV 2 hts (lw_V q95 q97 qs5 q17 q98) rfl rfl rfl (by decide +kernel) ⟨Nat.le_of_ble_eq_true rfl, Nat.le_of_ble_eq_true rfl⟩) hP hK (va_recv hK hP (ci := 0) (q0 := 0) rfl rfl) rfl hl.1 rfl (Nat.le_of_ble_eq_true rfl) dX0_integrate_39 ⟨Nat.le_of_ble_eq_true rfl, Nat.le_of_ble_eq_true rfl⟩ (fun z hz => ?_)
          refine lv_if_eq (tgt := 68) hx hb dX0_integrate_42 (by decide) (fun c_42 => ?_) (fun c_42 => ?_)
          · have hk : ¬ (ra_key S O) x < (ra_key S O) b := of_decide_eq_false ((ra_b_eq _).mp (hz ▸ c_42))
            exact tail La (b :: M) hE (by rw [ra_sk, if_neg hk] at hT; exact hT) ls (lv_sub hl [2, 3, 4, 5] rfl)
          · have hk : (ra_key S O) x < (ra_key S O) b := of_decide_eq_true ((ra_b_ne _).mp (hz ▸ c_42))
            refine lv_iload hx hb dX0_integrate_45 (lv_at hl 1 rfl) ?_
            refine lv_istore_n (lv' := [(3, .int (nI b)), (5, .int (nI i)), (4, .int (nI b)), (0, .ref h), (1, .int (nI rp)), (2, .int (nI x))]) hx hb dX0_integrate_47 rfl hl (by decide) rfl (fun ls hl => ?_)
            refine lv_aload_n hx hb dX0_integrate_48 rfl (lv_at hl 3 rfl) ?_
            refine va_get (D := (dC, dI)) (ci := 0) (v := .ref q8) (C := RX0) (T := TX0) (N := 9) hx hb hts in_X0 hown hK hP 0 rfl rfl 8 (by decide) (hts _ q35) (fun _ h9 => h9) rfl dX0_integrate_49 ?_
            refine lv_iload_n hx hb dX0_integrate_52 rfl (lv_at hl 4 rfl) ?_
            refine lv_bipush (v := 41) hx hb dX0_integrate_53 (by decide) ?_
            refine lv_imul hx hb dX0_integrate_55 ?_
            refine lv_iload hx hb dX0_integrate_56 (lv_at hl 2 rfl) ?_
            refine lv_iadd hx hb dX0_integrate_58 ?_
            refine ra_iald hx hb hK hP 8 0 rfl rfl (k := 41 * rp + b) (ra_x41 _ _) (by omega) (by decide) (v := ra_hd M) hbn dX0_integrate_59 ?_
            refine lv_istore (lv' := [(4, .int (ra_hd M)), (3, .int (nI b)), (5, .int (nI i)), (0, .ref h), (1, .int (nI rp)), (2, .int (nI x))]) hx hb dX0_integrate_60 hl (by decide) rfl (fun ls hl => ?_)
            refine lv_iinc (v := nI (i + 1)) (lv' := [(5, .int (nI (i + 1))), (4, .int (ra_hd M)), (3, .int (nI b)), (0, .ref h), (1, .int (nI rp)), (2, .int (nI x))]) hx hb dX0_integrate_62 hl (k := 2) rfl (ra_inc _) (by decide) rfl (fun ls hl => ?_)
            refine lv_goto (tgt := 23) hx hb dX0_integrate_65 (by decide) ?_
            exact ih (i + 1) (La ++ [b]) (by omega) (by rw [List.append_assoc]; exact hE) (by rw [List.append_assoc]; rw [ra_sk, if_pos hk] at hT; exact hT) ls (by rw [List.getLastD_concat]; exact (lv_sub hl [0, 1, 2, 3, 4, 5] rfl))
  exact loop L2 0 L1 (by omega) rfl rfl ls (by rw [← hP0]; exact (lv_sub hl [0, 1, 2, 3, 4, 5] rfl))
set_option maxHeartbeats 4000000 in
set_option maxRecDepth 100000 in
/-- insert(r, pl, ch) that is none -/
theorem mx_insert_no (r pl ch : Int32) (hn : n ≤ 40) (hno : ¬ ra_iE n fk fg r pl) : Met l yX0_insert (ws_ yX0_insert cX0_insert 7 (some .int)) ({ frames := 3, cells := 0, slots := 0, locals := 90 }) (va_Pc [.ref h, .int r, .int pl, .int ch] (fun U => va_P (dC, dI) vwCl (ra_wX h q1 q2 q3 q4 q5 q6 q7 q8 cI cL n fl S O P C fk fg fn) U.heap ∧ va_K (dC, dI) vwCl [(cI, .int), (cL, .long)] U)) (vp_Si (fun z => z = ra_iA n fk fg r pl)) 0 0 (fun _ => False) := by
  refine Met.ofW (cc := cX0_insert) (maxL := 7) (ret := some .int) (by decide) rfl ?_
  intro p e s m args below meth c s₁ B hml hv
  obtain ⟨rfl, hP, hK⟩ := hv
  have hx := B.exec
  have hb := B.bytes
  have hr := B.returns
  have hts := atoms_spec (ws := (ws_ yX0_insert cX0_insert 7 (some .int))) B.pre
  have hts : ∀ w ∈ lw_all, w.before _ s = true := fun w h => hts w (List.mem_cons_of_mem _ h)
  have hown : s.vm.findClass RX0 = some m.cls := findClass_of_methodNamed B.named
  have hlocks := B.notSynchronized
  have hP : va_P (dC, dI) vwCl (ra_wX h q1 q2 q3 q4 q5 q6 q7 q8 cI cL n fl S O P C fk fg fn) s.heap := hP
  have hl := lv_entry ([.ref h, .int r, .int pl, .int ch]) (n := 7) (Nat.le_of_ble_eq_true rfl)
  rw [lg_entry_eq]
  generalize (lg_sl ([.ref h, .int r, .int pl, .int ch]) ++ List.replicate (7 - (lg_sl ([.ref h, .int r, .int pl, .int ch])).length) Slot.unset).toArray = ls at hl ⊢
  have hl : lv_has ls 7 [(0, .ref h), (1, .int r), (2, .int pl), (3, .int ch)] := hl
  refine lv_iload_n hx hb dX0_insert_0 rfl (lv_at hl 1 rfl) ?_
  refine ra_cS ⟨hx, hb, hml, hown, hts⟩ [.int r] [] (mx_bad l r) (va_cwS 1 hts (lw_S q61 q62 q17 q63) rfl rfl rfl (by decide +kernel) ⟨Nat.le_of_ble_eq_true rfl, Nat.le_of_ble_eq_true rfl⟩) rfl hl.1 rfl (Nat.le_of_ble_eq_true rfl) dX0_insert_1 ⟨Nat.le_of_ble_eq_true rfl, Nat.le_of_ble_eq_true rfl⟩ (fun z hz => ?_)
  refine lv_if_eq (tgt := 9) hx hb dX0_insert_4 (by decide) (fun c_4 => ?_) (fun c_4 => ?_)
  · obtain ⟨rp, hr3, rfl⟩ : ∃ k, k < 3 ∧ r = nI k := by
      rcases hz with ⟨q, -⟩ | ⟨-, q⟩
      · exact absurd (q ▸ c_4) (by decide)
      · exact q
    rw [ra_iA, ra_rp_ok hr3]
    have hcl := ra_cn_le (ra_kf fk fg rp) n
    refine lv_aload_n hx hb dX0_insert_9 rfl (lv_at hl 0 rfl) ?_
    refine lv_iload_n hx hb dX0_insert_10 rfl (lv_at hl 1 rfl) ?_
    refine ra_cV (Cn := RX0) ⟨hx, hb, hml, hown, hts⟩ [.int (nI rp)] [] (mx_textLength l rp hr3 hn) (cwV 1 hts (lw_V q64 q66 qs0 q17 q67) rfl rfl rfl (by decide +kernel) ⟨Nat.le_of_ble_eq_true rfl, Nat.le_of_ble_eq_true rfl⟩) hP hK (va_recv hK hP (ci := 0) (q0 := 0) rfl rfl) rfl hl.1 rfl (Nat.le_of_ble_eq_true rfl) dX0_insert_11 ⟨Nat.le_of_ble_eq_true rfl, Nat.le_of_ble_eq_true rfl⟩ (fun z2 hz2 => ?_)
    subst hz2
    refine lv_istore (lv' := [(4, .int (nI (ra_cn (ra_kf fk fg rp) n))), (0, .ref h), (1, .int (nI rp)), (2, .int pl), (3, .int ch)]) hx hb dX0_insert_14 hl (by decide) rfl (fun ls hl => ?_)
    refine lv_iload_n hx hb dX0_insert_16 rfl (lv_at hl 3 rfl) ?_
    refine lv_if_lt (tgt := 26) hx hb dX0_insert_17 (by decide) (fun c_17 => ?_) (fun c_17 => ?_)
    · refine lv_bipush (v := (-2)) hx hb dX0_insert_26 (by decide) ?_
      exact W.iret (v := -2) hx hb hr (fun t ht hW => ⟨_, rfl, by rw [if_pos (Or.inl c_17)], ht⟩) (fun q h => by cases h) dX0_insert_28
    · refine lv_iload_n hx hb dX0_insert_20 rfl (lv_at hl 3 rfl) ?_
      refine lv_iload hx hb dX0_insert_21 (lv_at hl 0 rfl) ?_
      refine lv_icmp_le (tgt := 29) hx hb dX0_insert_23 (by decide) (fun c_23 => ?_) (fun c_23 => ?_)
      · refine lv_aload_n hx hb dX0_insert_29 rfl (lv_at hl 1 rfl) ?_
        refine va_get (D := (dC, dI)) (ci := 0) (v := .int (nI n)) (C := RX0) (T := TX0) (N := 9) hx hb hts in_X0 hown hK hP 0 rfl rfl 0 (by decide) (hts _ q27) (fun _ h9 => h9) rfl dX0_insert_30 ?_
        refine lv_bipush (v := 40) hx hb dX0_insert_33 (by decide) ?_
        refine lv_icmp_lt (tgt := 41) hx hb dX0_insert_35 (by decide) (fun c_35 => ?_) (fun c_35 => ?_)
        · obtain ⟨k, hk, rfl⟩ := nI_of c_17
          exact absurd ⟨rp, k, hr3, rfl, rfl, (nI_leI hk (by omega)).mp c_23, (nI_ltI (b := 40) (by omega) (by decide)).mp c_35⟩ hno
        · refine lv_bipush (v := (-3)) hx hb dX0_insert_38 (by decide) ?_
          exact W.iret (v := -3) hx hb hr (fun t ht hW => ⟨_, rfl, by rw [if_neg (fun q => q.elim c_17 (Int32.not_lt.mpr c_23))], ht⟩) (fun q h => by cases h) dX0_insert_40
      · refine lv_bipush (v := (-2)) hx hb dX0_insert_26 (by decide) ?_
        exact W.iret (v := -2) hx hb hr (fun t ht hW => ⟨_, rfl, by rw [if_pos (Or.inr (Int32.not_le.mp c_23))], ht⟩) (fun q h => by cases h) dX0_insert_28
  · have hbd : r < 0 ∨ 2 < r := by
      rcases hz with ⟨-, q⟩ | ⟨q, -⟩
      · exact q
      · exact absurd q c_4
    refine lv_iconst (v := (-1)) hx hb dX0_insert_7 (by decide) ?_
    exact W.iret (v := -1) hx hb hr (fun t ht hW => ⟨_, rfl, (ra_rp_bad hbd).symm, ht⟩) (fun q h => by cases h) dX0_insert_8
set_option maxHeartbeats 4000000 in
set_option maxRecDepth 100000 in
/-- delete(r, pl) -/
theorem mx_delete (sz : Nat) (r pl : Int32) {Xl : Nat → List Nat} (hF : ∀ rp, rp < 3 → ra_ls fn rp (Xl rp) ∧ (Xl rp).length ≤ 40) : Met l yX0_delete (ws_ yX0_delete cX0_delete 4 (some .int)) ({ frames := 3, cells := 0, slots := 0, locals := 90 }) (va_Pc [.ref h, .int r, .int pl] (fun U => U.heap.size = sz ∧ va_P (dC, dI) vwCl (ra_wX h q1 q2 q3 q4 q5 q6 q7 q8 cI cL n fl S O P C fk fg fn) U.heap ∧ va_K (dC, dI) vwCl [(cI, .int), (cL, .long)] U ∧ va_D (fun _ => True) (ra_wX h q1 q2 q3 q4 q5 q6 q7 q8 cI cL n fl S O P C fk fg fn))) (va_Qi (fun z (u : Nat → Int64) => z = ra_rp r (fun rp => ra_el (-2) (ra_at (ra_sh fg rp) (Xl rp) pl)) ∧ u = ra_dG fg Xl r pl) (fun u t => va_P (dC, dI) vwCl (ra_wX h q1 q2 q3 q4 q5 q6 q7 q8 cI cL n fl S O P C fk u fn) t.heap ∧ va_K (dC, dI) vwCl [(cI, .int), (cL, .long)] t ∧ va_D (va_A (ra_wX h q1 q2 q3 q4 q5 q6 q7 q8 cI cL n fl S O P C fk fg fn) sz) (ra_wX h q1 q2 q3 q4 q5 q6 q7 q8 cI cL n fl S O P C fk u fn)) (va_A (ra_wX h q1 q2 q3 q4 q5 q6 q7 q8 cI cL n fl S O P C fk fg fn) sz)) 0 0 (va_A (ra_wX h q1 q2 q3 q4 q5 q6 q7 q8 cI cL n fl S O P C fk fg fn) sz) := by
  refine Met.ofW (cc := cX0_delete) (maxL := 4) (ret := some .int) (by decide) rfl ?_
  intro p e s m args below meth c s₁ B hml hv
  obtain ⟨rfl, hsz, hP, hK, hD0⟩ := hv
  have hx := B.exec
  have hb := B.bytes
  have hr := B.returns
  have hts := atoms_spec (ws := (ws_ yX0_delete cX0_delete 4 (some .int))) B.pre
  have hts : ∀ w ∈ lw_all, w.before _ s = true := fun w h => hts w (List.mem_cons_of_mem _ h)
  have hown : s.vm.findClass RX0 = some m.cls := findClass_of_methodNamed B.named
  have hlocks := B.notSynchronized
  subst hsz
  have hD := hD0.self (sz := s.heap.size)
  generalize hAe : va_A (ra_wX h q1 q2 q3 q4 q5 q6 q7 q8 cI cL n fl S O P C fk fg fn) s.heap.size = A at hD ⊢
  have hA : ∀ q : Nat, s.heap.size ≤ q → A q := fun q h => by rw [← hAe]; exact Or.inr h
  have hS : va_S A s.heap s.heap [] := va_S.rf
  have hP : va_P (dC, dI) vwCl (ra_wX h q1 q2 q3 q4 q5 q6 q7 q8 cI cL n fl S O P C fk fg fn) s.heap := hP
  have hl := lv_entry ([.ref h, .int r, .int pl]) (n := 4) (Nat.le_of_ble_eq_true rfl)
  rw [lg_entry_eq]
  generalize (lg_sl ([.ref h, .int r, .int pl]) ++ List.replicate (4 - (lg_sl ([.ref h, .int r, .int pl])).length) Slot.unset).toArray = ls at hl ⊢
  have hl : lv_has ls 4 [(0, .ref h), (1, .int r), (2, .int pl)] := hl
  refine lv_iload_n hx hb dX0_delete_0 rfl (lv_at hl 1 rfl) ?_
  refine ra_cS ⟨hx, hb, hml, hown, hts⟩ [.int r] [] (mx_bad l r) (va_cwS 1 hts (lw_S q61 q62 q17 q63) rfl rfl rfl (by decide +kernel) ⟨Nat.le_of_ble_eq_true rfl, Nat.le_of_ble_eq_true rfl⟩) rfl hl.1 rfl (Nat.le_of_ble_eq_true rfl) dX0_delete_1 ⟨Nat.le_of_ble_eq_true rfl, Nat.le_of_ble_eq_true rfl⟩ (fun z hz => ?_)
  refine lv_if_eq (tgt := 9) hx hb dX0_delete_4 (by decide) (fun c_4 => ?_) (fun c_4 => ?_)
  · obtain ⟨rp, hr3, rfl⟩ : ∃ k, k < 3 ∧ r = nI k := by
      rcases hz with ⟨q, -⟩ | ⟨-, q⟩
      · exact absurd (q ▸ c_4) (by decide)
      · exact q
    refine lv_aload_n hx hb dX0_delete_9 rfl (lv_at hl 0 rfl) ?_
    refine lv_iload_n hx hb dX0_delete_10 rfl (lv_at hl 1 rfl) ?_
    refine lv_iload_n hx hb dX0_delete_11 rfl (lv_at hl 2 rfl) ?_
    refine ra_cV (Cn := RX0) ⟨hx, hb, hml, hown, hts⟩ [.int (nI rp), .int pl] [] (mx_shownAt l rp pl hr3 hF) (cwV 2 hts (lw_V q75 q77 qs2 q17 q78) rfl rfl rfl (by decide +kernel) ⟨Nat.le_of_ble_eq_true rfl, Nat.le_of_ble_eq_true rfl⟩) hP hK (va_recv hK hP (ci := 0) (q0 := 0) rfl rfl) rfl hl.1 rfl (Nat.le_of_ble_eq_true rfl) dX0_delete_12 ⟨Nat.le_of_ble_eq_true rfl, Nat.le_of_ble_eq_true rfl⟩ (fun z2 hz2 => ?_)
    rw [ra_rp_ok hr3]
    cases ho : ra_at (ra_sh fg rp) (Xl rp) pl with
    | none =>
      rw [ho] at hz2
      obtain rfl : z2 = -1 := hz2
      refine lv_istore_n (lv' := [(3, .int (-1)), (0, .ref h), (1, .int (nI rp)), (2, .int pl)]) hx hb dX0_delete_15 rfl hl (by decide) rfl (fun ls hl => ?_)
      refine lv_iload_n hx hb dX0_delete_16 rfl (lv_at hl 0 rfl) ?_
      refine lv_if_ge (tgt := 23) hx hb dX0_delete_17 (by decide) (fun c_17 => ?_) (fun c_17 => ?_)
      · exact absurd c_17 (by decide)
      · refine lv_bipush (v := (-2)) hx hb dX0_delete_20 (by decide) ?_
        exact W.iret (v := -2) hx hb hr (fun t ht hW => ⟨⟨_, _, rfl, ⟨rfl, (ra_dG_none hr3 ho).symm⟩, by rw [ht]; exact hP, va_K.moved hW.alike hK, hD⟩, hS.F ht⟩) hS.2.2 dX0_delete_22
    | some b =>
      rw [ho] at hz2
      obtain rfl : z2 = nI b := hz2
      have hb40 : b < 40 := ra_ch_lt (hF rp hr3).1.2 b (ra_at_mem ho).1
      refine lv_istore_n (lv' := [(3, .int (nI b)), (0, .ref h), (1, .int (nI rp)), (2, .int pl)]) hx hb dX0_delete_15 rfl hl (by decide) rfl (fun ls hl => ?_)
      refine lv_iload_n hx hb dX0_delete_16 rfl (lv_at hl 0 rfl) ?_
      refine lv_if_ge (tgt := 23) hx hb dX0_delete_17 (by decide) (fun c_17 => ?_) (fun c_17 => ?_)
      · refine lv_aload_n hx hb dX0_delete_23 rfl (lv_at hl 1 rfl) ?_
        refine va_get (D := (dC, dI)) (ci := 0) (v := .ref q7) (C := RX0) (T := TX0) (N := 9) hx hb hts in_X0 hown hK hP 0 rfl rfl 7 (by decide) (hts _ q34) (fun _ h9 => h9) rfl dX0_delete_24 ?_
        refine lv_iload_n hx hb dX0_delete_27 rfl (lv_at hl 2 rfl) ?_
        refine lv_dup2_11 hx hb dX0_delete_28 rfl rfl ?_
        refine ra_lald hx hb hK hP 7 1 rfl rfl (k := rp) rfl (by omega) (by decide) (v := fg rp) rfl dX0_delete_29 ?_
        refine lv_lconst (v := 1) hx hb dX0_delete_30 (by decide) ?_
        refine lv_iload_n hx hb dX0_delete_31 rfl (lv_at hl 0 rfl) ?_
        refine lv_lshl hx hb dX0_delete_32 rfl ?_
        refine lv_lor hx hb dX0_delete_33 ?_
        refine ra_last hx hb hK hP hD hS 7 1 rfl rfl (k := rp) rfl (by omega) (by decide) (f' := vp_updL fg rp (ra_or (fg rp) b)) rfl dX0_delete_34 (fun H locs hP hD hS => ?_)
        have hP : va_P (dC, dI) vwCl (ra_wX h q1 q2 q3 q4 q5 q6 q7 q8 cI cL n fl S O P C fk (vp_updL fg rp (ra_or (fg rp) b)) fn) H := hP
        have hD : va_D A (ra_wX h q1 q2 q3 q4 q5 q6 q7 q8 cI cL n fl S O P C fk (vp_updL fg rp (ra_or (fg rp) b)) fn) := hD
        refine lv_iload_n hx hb dX0_delete_35 rfl (lv_at hl 0 rfl) ?_
        exact W.iret (v := nI b) hx hb hr (fun t ht hW => ⟨⟨_, _, rfl, ⟨rfl, (ra_dG_some hr3 ho).symm⟩, by rw [ht]; exact hP, va_K.moved hW.alike hK, hD⟩, hS.F ht⟩) hS.2.2 dX0_delete_36
      · exact absurd (nI_pos' (by omega)) c_17
  · have hbd : r < 0 ∨ 2 < r := by
      rcases hz with ⟨-, q⟩ | ⟨q, -⟩
      · exact q
      · exact absurd q c_4
    refine lv_iconst (v := (-1)) hx hb dX0_delete_7 (by decide) ?_
    exact W.iret (v := -1) hx hb hr (fun t ht hW => ⟨⟨_, fg, rfl, ⟨(ra_rp_bad hbd).symm, (ra_dG_bad hbd).symm⟩, by rw [ht]; exact hP, va_K.moved hW.alike hK, hD⟩, hS.F ht⟩) hS.2.2 dX0_delete_8
set_option maxHeartbeats 4000000 in
set_option maxRecDepth 100000 in
/-- learn(r, r2) that is none -/
theorem mx_learn_no (r r2 : Int32) (hno : (r < 0 ∨ 2 < r) ∨ (r2 < 0 ∨ 2 < r2) ∨ r = r2) : Met l yX0_learn (ws_ yX0_learn cX0_learn 5 (some .int)) ({ frames := 3, cells := 0, slots := 0, locals := 90 }) (va_Pc [.ref h, .int r, .int r2] (fun U => va_P (dC, dI) vwCl (ra_wX h q1 q2 q3 q4 q5 q6 q7 q8 cI cL n fl S O P C fk fg fn) U.heap ∧ va_K (dC, dI) vwCl [(cI, .int), (cL, .long)] U)) (vp_Si (fun z => z = ra_lA r r2)) 0 0 (fun _ => False) := by
  refine Met.ofW (cc := cX0_learn) (maxL := 5) (ret := some .int) (by decide) rfl ?_
  intro p e s m args below meth c s₁ B hml hv
  obtain ⟨rfl, hP, hK⟩ := hv
  have hx := B.exec
  have hb := B.bytes
  have hr := B.returns
  have hts := atoms_spec (ws := (ws_ yX0_learn cX0_learn 5 (some .int))) B.pre
  have hts : ∀ w ∈ lw_all, w.before _ s = true := fun w h => hts w (List.mem_cons_of_mem _ h)
  have hown : s.vm.findClass RX0 = some m.cls := findClass_of_methodNamed B.named
  have hlocks := B.notSynchronized
  have hP : va_P (dC, dI) vwCl (ra_wX h q1 q2 q3 q4 q5 q6 q7 q8 cI cL n fl S O P C fk fg fn) s.heap := hP
  have hl := lv_entry ([.ref h, .int r, .int r2]) (n := 5) (Nat.le_of_ble_eq_true rfl)
  rw [lg_entry_eq]
  generalize (lg_sl ([.ref h, .int r, .int r2]) ++ List.replicate (5 - (lg_sl ([.ref h, .int r, .int r2])).length) Slot.unset).toArray = ls at hl ⊢
  have hl : lv_has ls 5 [(0, .ref h), (1, .int r), (2, .int r2)] := hl
  refine lv_iload_n hx hb dX0_learn_0 rfl (lv_at hl 1 rfl) ?_
  refine ra_cS ⟨hx, hb, hml, hown, hts⟩ [.int r] [] (mx_bad l r) (va_cwS 1 hts (lw_S q61 q62 q17 q63) rfl rfl rfl (by decide +kernel) ⟨Nat.le_of_ble_eq_true rfl, Nat.le_of_ble_eq_true rfl⟩) rfl hl.1 rfl (Nat.le_of_ble_eq_true rfl) dX0_learn_1 ⟨Nat.le_of_ble_eq_true rfl, Nat.le_of_ble_eq_true rfl⟩ (fun z hz => ?_)
  refine lv_if_ne (tgt := 14) hx hb dX0_learn_4 (by decide) (fun c_4 => ?_) (fun c_4 => ?_)
  · have hbd : r < 0 ∨ 2 < r := by
      rcases hz with ⟨-, q⟩ | ⟨q, -⟩
      · exact q
      · exact absurd q c_4
    refine lv_iconst (v := (-1)) hx hb dX0_learn_14 (by decide) ?_
    exact W.iret (v := -1) hx hb hr (fun t ht hW => ⟨_, rfl, (if_pos (Or.inl hbd)).symm, ht⟩) (fun q h => by cases h) dX0_learn_15
  · obtain ⟨rp, hr3, rfl⟩ : ∃ k, k < 3 ∧ r = nI k := by
      rcases hz with ⟨q, -⟩ | ⟨-, q⟩
      · exact absurd (q ▸ c_4) (by decide)
      · exact q
    refine lv_iload_n hx hb dX0_learn_7 rfl (lv_at hl 2 rfl) ?_
    refine ra_cS ⟨hx, hb, hml, hown, hts⟩ [.int r2] [] (mx_bad l r2) (va_cwS 1 hts (lw_S q61 q62 q17 q63) rfl rfl rfl (by decide +kernel) ⟨Nat.le_of_ble_eq_true rfl, Nat.le_of_ble_eq_true rfl⟩) rfl hl.1 rfl (Nat.le_of_ble_eq_true rfl) dX0_learn_8 ⟨Nat.le_of_ble_eq_true rfl, Nat.le_of_ble_eq_true rfl⟩ (fun z2 hz2 => ?_)
    refine lv_if_eq (tgt := 16) hx hb dX0_learn_11 (by decide) (fun c_11 => ?_) (fun c_11 => ?_)
    · obtain ⟨rq, hq3, rfl⟩ : ∃ k, k < 3 ∧ r2 = nI k := by
        rcases hz2 with ⟨q, -⟩ | ⟨-, q⟩
        · exact absurd (q ▸ c_11) (by decide)
        · exact q
      refine lv_iload_n hx hb dX0_learn_16 rfl (lv_at hl 1 rfl) ?_
      refine lv_iload_n hx hb dX0_learn_17 rfl (lv_at hl 2 rfl) ?_
      refine lv_icmp_ne (tgt := 24) hx hb dX0_learn_18 (by decide) (fun c_18 => ?_) (fun c_18 => ?_)
      · rcases hno with q | q | q
        · exact absurd q (ra_bad_no hr3)
        · exact absurd q (ra_bad_no hq3)
        · exact absurd q c_18
      · refine lv_bipush (v := (-4)) hx hb dX0_learn_21 (by decide) ?_
        exact W.iret (v := -4) hx hb hr (fun t ht hW => ⟨_, rfl, (if_neg (fun q => q.elim (ra_bad_no hr3) (ra_bad_no hq3))).symm, ht⟩) (fun q h => by cases h) dX0_learn_23
    · have hbd : r2 < 0 ∨ 2 < r2 := by
        rcases hz2 with ⟨-, q⟩ | ⟨q, -⟩
        · exact q
        · exact absurd q c_11
      refine lv_iconst (v := (-1)) hx hb dX0_learn_14 (by decide) ?_
      exact W.iret (v := -1) hx hb hr (fun t ht hW => ⟨_, rfl, (if_pos (Or.inr hbd)).symm, ht⟩) (fun q h => by cases h) dX0_learn_15
end MX
end
section
set_option maxRecDepth 100000
section MX
variable (l : Launch) {dC : Nat → ClassId} {dI : Nat → Nat → Nat} {h q1 q2 q3 q4 q5 q6 q7 q8 : Nat} {cI cL : ClassId} {n : Nat} {fl : Nat → Int32} {S O P C : Nat → Nat} {fk fg : Nat → Int64} {fn : Nat → Int32}
set_option maxHeartbeats 4000000 in
set_option maxRecDepth 100000 in
/-- insert(rp, k, ch) that is one -/
theorem mx_insert_yes (sz : Nat) (rp k : Nat) (ch : Int32) (hr3 : rp < 3) (hk : k ≤ ra_cn (ra_kf fk fg rp) n) (hn : n < 40) {Xl : Nat → List Nat} (hF : ∀ rp, rp < 3 → ra_ls fn rp (Xl rp) ∧ (Xl rp).length ≤ 40) (hcnt : ((Xl rp).filter (ra_sh fg rp)).length = ra_cn (ra_kf fk fg rp) n) (hnd : (Xl rp).Nodup) (hnx : n ∉ Xl rp) : Met l yX0_insert (ws_ yX0_insert cX0_insert 7 (some .int)) ({ frames := 3, cells := 0, slots := 0, locals := 90 }) (va_Pc [.ref h, .int (nI rp), .int (nI k), .int ch] (fun U => U.heap.size = sz ∧ va_P (dC, dI) vwCl (ra_wX h q1 q2 q3 q4 q5 q6 q7 q8 cI cL n fl S O P C fk fg fn) U.heap ∧ va_K (dC, dI) vwCl [(cI, .int), (cL, .long)] U ∧ va_D (fun _ => True) (ra_wX h q1 q2 q3 q4 q5 q6 q7 q8 cI cL n fl S O P C fk fg fn))) (va_Qi (fun z (u : Nat → Int32) => z = nI n ∧ ra_ls u rp ((ra_sp (ra_sh fg rp) k (Xl rp)).1 ++ n :: (ra_sp (ra_sh fg rp) k (Xl rp)).2) ∧ ∀ j, j < 41 * rp ∨ 41 * rp + 41 ≤ j → u j = fn j) (fun u t => va_P (dC, dI) vwCl (ra_wX h q1 q2 q3 q4 q5 q6 q7 q8 cI cL (n + 1) (upd fl n (ch &&& 255)) (va_up S n (C rp + 1)) (va_up O n rp) (va_up P n ((ra_sp (ra_sh fg rp) k (Xl rp)).1.getLastD 40)) (va_up C rp (C rp + 1)) (vp_updL fk rp (ra_or (fk rp) n)) fg u) t.heap ∧ va_K (dC, dI) vwCl [(cI, .int), (cL, .long)] t ∧ va_D (va_A (ra_wX h q1 q2 q3 q4 q5 q6 q7 q8 cI cL n fl S O P C fk fg fn) sz) (ra_wX h q1 q2 q3 q4 q5 q6 q7 q8 cI cL (n + 1) (upd fl n (ch &&& 255)) (va_up S n (C rp + 1)) (va_up O n rp) (va_up P n ((ra_sp (ra_sh fg rp) k (Xl rp)).1.getLastD 40)) (va_up C rp (C rp + 1)) (vp_updL fk rp (ra_or (fk rp) n)) fg u)) (va_A (ra_wX h q1 q2 q3 q4 q5 q6 q7 q8 cI cL n fl S O P C fk fg fn) sz)) 0 0 (va_A (ra_wX h q1 q2 q3 q4 q5 q6 q7 q8 cI cL n fl S O P C fk fg fn) sz) := by
  refine Met.ofW (cc := cX0_insert) (maxL := 7) (ret := some .int) (by decide) rfl ?_
  intro p e s m args below meth c s₁ B hml hv
  obtain ⟨rfl, hsz, hP, hK, hD0⟩ := hv
  have hx := B.exec
  have hb := B.bytes
  have hr := B.returns
  have hts := atoms_spec (ws := (ws_ yX0_insert cX0_insert 7 (some .int))) B.pre
  have hts : ∀ w ∈ lw_all, w.before _ s = true := fun w h => hts w (List.mem_cons_of_mem _ h)
  have hown : s.vm.findClass RX0 = some m.cls := findClass_of_methodNamed B.named
  have hlocks := B.notSynchronized
  subst hsz
  have hD := hD0.self (sz := s.heap.size)
  generalize hAe : va_A (ra_wX h q1 q2 q3 q4 q5 q6 q7 q8 cI cL n fl S O P C fk fg fn) s.heap.size = A at hD ⊢
  have hA : ∀ q : Nat, s.heap.size ≤ q → A q := fun q h => by rw [← hAe]; exact Or.inr h
  have hS : va_S A s.heap s.heap [] := va_S.rf
  have hP : va_P (dC, dI) vwCl (ra_wX h q1 q2 q3 q4 q5 q6 q7 q8 cI cL n fl S O P C fk fg fn) s.heap := hP
  have hl := lv_entry ([.ref h, .int (nI rp), .int (nI k), .int ch]) (n := 7) (Nat.le_of_ble_eq_true rfl)
  rw [lg_entry_eq]
  generalize (lg_sl ([.ref h, .int (nI rp), .int (nI k), .int ch]) ++ List.replicate (7 - (lg_sl ([.ref h, .int (nI rp), .int (nI k), .int ch])).length) Slot.unset).toArray = ls at hl ⊢
  have hl : lv_has ls 7 [(0, .ref h), (1, .int (nI rp)), (2, .int (nI k)), (3, .int ch)] := hl
  have hcl := ra_cn_le (ra_kf fk fg rp) n
  have happ := ra_sp_app (ra_sh fg rp) (Xl rp) k
  have hL0 : ra_ls fn rp ((ra_sp (ra_sh fg rp) k (Xl rp)).1 ++ (ra_sp (ra_sh fg rp) k (Xl rp)).2) := by rw [happ]; exact (hF rp hr3).1
  have hp41 : ((ra_sp (ra_sh fg rp) k (Xl rp)).1.getLastD 40) < 41 := ra_last_lt hL0
  refine lv_iload_n hx hb dX0_insert_0 rfl (lv_at hl 1 rfl) ?_
  refine ra_cS ⟨hx, hb, hml, hown, hts⟩ [.int (nI rp)] [] (mx_bad l (nI rp)) (va_cwS 1 hts (lw_S q61 q62 q17 q63) rfl rfl rfl (by decide +kernel) ⟨Nat.le_of_ble_eq_true rfl, Nat.le_of_ble_eq_true rfl⟩) rfl hl.1 rfl (Nat.le_of_ble_eq_true rfl) dX0_insert_1 ⟨Nat.le_of_ble_eq_true rfl, Nat.le_of_ble_eq_true rfl⟩ (fun z hz => ?_)
  refine lv_if_eq (tgt := 9) hx hb dX0_insert_4 (by decide) (fun c_4 => ?_) (fun c_4 => ?_)
  · refine lv_aload_n hx hb dX0_insert_9 rfl (lv_at hl 0 rfl) ?_
    refine lv_iload_n hx hb dX0_insert_10 rfl (lv_at hl 1 rfl) ?_
    refine ra_cV (Cn := RX0) ⟨hx, hb, hml, hown, hts⟩ [.int (nI rp)] [] (mx_textLength l rp hr3 (by omega)) (cwV 1 hts (lw_V q64 q66 qs0 q17 q67) rfl rfl rfl (by decide +kernel) ⟨Nat.le_of_ble_eq_true rfl, Nat.le_of_ble_eq_true rfl⟩) hP hK (va_recv hK hP (ci := 0) (q0 := 0) rfl rfl) rfl hl.1 rfl (Nat.le_of_ble_eq_true rfl) dX0_insert_11 ⟨Nat.le_of_ble_eq_true rfl, Nat.le_of_ble_eq_true rfl⟩ (fun z2 hz2 => ?_)
    subst hz2
    refine lv_istore (lv' := [(4, .int (nI (ra_cn (ra_kf fk fg rp) n))), (0, .ref h), (1, .int (nI rp)), (2, .int (nI k)), (3, .int ch)]) hx hb dX0_insert_14 hl (by decide) rfl (fun ls hl => ?_)
    refine lv_iload_n hx hb dX0_insert_16 rfl (lv_at hl 3 rfl) ?_
    refine lv_if_lt (tgt := 26) hx hb dX0_insert_17 (by decide) (fun c_17 => ?_) (fun c_17 => ?_)
    · exact absurd c_17 (nI_pos (by omega))
    · refine lv_iload_n hx hb dX0_insert_20 rfl (lv_at hl 3 rfl) ?_
      refine lv_iload hx hb dX0_insert_21 (lv_at hl 0 rfl) ?_
      refine lv_icmp_le (tgt := 29) hx hb dX0_insert_23 (by decide) (fun c_23 => ?_) (fun c_23 => ?_)
      · refine lv_aload_n hx hb dX0_insert_29 rfl (lv_at hl 1 rfl) ?_
        refine va_get (D := (dC, dI)) (ci := 0) (v := .int (nI n)) (C := RX0) (T := TX0) (N := 9) hx hb hts in_X0 hown hK hP 0 rfl rfl 0 (by decide) (hts _ q27) (fun _ h9 => h9) rfl dX0_insert_30 ?_
        refine lv_bipush (v := 40) hx hb dX0_insert_33 (by decide) ?_
        refine lv_icmp_lt (tgt := 41) hx hb dX0_insert_35 (by decide) (fun c_35 => ?_) (fun c_35 => ?_)
        · refine lv_aload_n hx hb dX0_insert_41 rfl (lv_at hl 1 rfl) ?_
          refine va_get (D := (dC, dI)) (ci := 0) (v := .int (nI n)) (C := RX0) (T := TX0) (N := 9) hx hb hts in_X0 hown hK hP 0 rfl rfl 0 (by decide) (hts _ q27) (fun _ h9 => h9) rfl dX0_insert_42 ?_
          refine lv_istore (lv' := [(5, .int (nI n)), (4, .int (nI (ra_cn (ra_kf fk fg rp) n))), (0, .ref h), (1, .int (nI rp)), (2, .int (nI k)), (3, .int ch)]) hx hb dX0_insert_45 hl (by decide) rfl (fun ls hl => ?_)
          refine lv_aload_n hx hb dX0_insert_47 rfl (lv_at hl 2 rfl) ?_
          refine lv_iload_n hx hb dX0_insert_48 rfl (lv_at hl 3 rfl) ?_
          refine lv_iload_n hx hb dX0_insert_49 rfl (lv_at hl 4 rfl) ?_
          refine lv_iconst (v := 1) hx hb dX0_insert_50 (by decide) ?_
          refine lv_isub hx hb dX0_insert_51 ?_
          refine ra_cV (Cn := RX0) ⟨hx, hb, hml, hown, hts⟩ [.int (nI rp), .int ((nI k) - 1)] [] (mx_shownAt l rp (nI k - 1) hr3 hF) (cwV 2 hts (lw_V q75 q77 qs2 q17 q78) rfl rfl rfl (by decide +kernel) ⟨Nat.le_of_ble_eq_true rfl, Nat.le_of_ble_eq_true rfl⟩) hP hK (va_recv hK hP (ci := 0) (q0 := 0) rfl rfl) rfl hl.1 rfl (Nat.le_of_ble_eq_true rfl) dX0_insert_52 ⟨Nat.le_of_ble_eq_true rfl, Nat.le_of_ble_eq_true rfl⟩ (fun z3 hz3 => ?_)
          refine lv_istore (lv' := [(6, .int z3), (5, .int (nI n)), (4, .int (nI (ra_cn (ra_kf fk fg rp) n))), (0, .ref h), (1, .int (nI rp)), (2, .int (nI k)), (3, .int ch)]) hx hb dX0_insert_55 hl (by decide) rfl (fun ls hl => ?_)
          refine lv_aload_n hx hb dX0_insert_57 rfl (lv_at hl 3 rfl) ?_
          refine va_get (D := (dC, dI)) (ci := 0) (v := .ref q1) (C := RX0) (T := TX0) (N := 9) hx hb hts in_X0 hown hK hP 0 rfl rfl 1 (by decide) (hts _ q28) (fun _ h9 => h9) rfl dX0_insert_58 ?_
          refine lv_iload hx hb dX0_insert_61 (lv_at hl 1 rfl) ?_
          refine lv_iload_n hx hb dX0_insert_63 rfl (lv_at hl 6 rfl) ?_
          refine lv_sipush (v := 255) hx hb dX0_insert_64 (by decide) ?_
          refine lv_iand hx hb dX0_insert_67 ?_
          refine ra_iast hx hb hK hP hD hS 1 0 rfl rfl (k := n) rfl (by omega) (by decide) (f' := upd fl n (ch &&& 255)) rfl dX0_insert_68 (fun H locs hP hD hS => ?_)
          have hP : va_P (dC, dI) vwCl (ra_wX h q1 q2 q3 q4 q5 q6 q7 q8 cI cL n (upd fl n (ch &&& 255)) S O P C fk fg fn) H := hP
          have hD : va_D A (ra_wX h q1 q2 q3 q4 q5 q6 q7 q8 cI cL n (upd fl n (ch &&& 255)) S O P C fk fg fn) := hD
          refine lv_aload_n hx hb dX0_insert_69 rfl (lv_at hl 3 rfl) ?_
          refine va_get (D := (dC, dI)) (ci := 0) (v := .ref q3) (C := RX0) (T := TX0) (N := 9) hx hb hts in_X0 hown hK hP 0 rfl rfl 3 (by decide) (hts _ q30) (fun _ h9 => h9) rfl dX0_insert_70 ?_
          refine lv_iload hx hb dX0_insert_73 (lv_at hl 1 rfl) ?_
          refine lv_iload_n hx hb dX0_insert_75 rfl (lv_at hl 4 rfl) ?_
          refine ra_iast hx hb hK hP hD hS 3 0 rfl rfl (k := n) rfl (by omega) (by decide) (f' := fun j => nI ((va_up O n rp) j)) (ra_updN _ _ _) dX0_insert_76 (fun H locs hP hD hS => ?_)
          have hP : va_P (dC, dI) vwCl (ra_wX h q1 q2 q3 q4 q5 q6 q7 q8 cI cL n (upd fl n (ch &&& 255)) S (va_up O n rp) P C fk fg fn) H := hP
          have hD : va_D A (ra_wX h q1 q2 q3 q4 q5 q6 q7 q8 cI cL n (upd fl n (ch &&& 255)) S (va_up O n rp) P C fk fg fn) := hD
          refine lv_aload_n hx hb dX0_insert_77 rfl (lv_at hl 3 rfl) ?_
          refine va_get (D := (dC, dI)) (ci := 0) (v := .ref q4) (C := RX0) (T := TX0) (N := 9) hx hb hts in_X0 hown hK hP 0 rfl rfl 4 (by decide) (hts _ q31) (fun _ h9 => h9) rfl dX0_insert_78 ?_
          refine lv_iload hx hb dX0_insert_81 (lv_at hl 1 rfl) ?_
          refine lv_iload hx hb dX0_insert_83 (lv_at hl 0 rfl) ?_
          have tail : ra_WI p l e s m below meth c H locs (ws_ yX0_insert cX0_insert 7 (some .int)) ({ frames := 3, cells := 0, slots := 0, locals := 90 }) [.ref h, .int (nI rp), .int (nI k), .int ch] (fun z (u : Nat → Int32) => z = nI n ∧ ra_ls u rp ((ra_sp (ra_sh fg rp) k (Xl rp)).1 ++ n :: (ra_sp (ra_sh fg rp) k (Xl rp)).2) ∧ ∀ j, j < 41 * rp ∨ 41 * rp + 41 ≤ j → u j = fn j) (fun u t => va_P (dC, dI) vwCl (ra_wX h q1 q2 q3 q4 q5 q6 q7 q8 cI cL (n + 1) (upd fl n (ch &&& 255)) (va_up S n (C rp + 1)) (va_up O n rp) (va_up P n ((ra_sp (ra_sh fg rp) k (Xl rp)).1.getLastD 40)) (va_up C rp (C rp + 1)) (vp_updL fk rp (ra_or (fk rp) n)) fg u) t.heap ∧ va_K (dC, dI) vwCl [(cI, .int), (cL, .long)] t ∧ va_D A (ra_wX h q1 q2 q3 q4 q5 q6 q7 q8 cI cL (n + 1) (upd fl n (ch &&& 255)) (va_up S n (C rp + 1)) (va_up O n rp) (va_up P n ((ra_sp (ra_sh fg rp) k (Xl rp)).1.getLastD 40)) (va_up C rp (C rp + 1)) (vp_updL fk rp (ra_or (fk rp) n)) fg u)) A 95 ls [.int (nI ((ra_sp (ra_sh fg rp) k (Xl rp)).1.getLastD 40)), .int (nI n), .ref q4] := by
            refine ra_iast hx hb hK hP hD hS 4 0 rfl rfl (k := n) rfl (by omega) (by decide) (f' := fun j => nI ((va_up P n ((ra_sp (ra_sh fg rp) k (Xl rp)).1.getLastD 40)) j)) (ra_updN _ _ _) dX0_insert_95 (fun H locs hP hD hS => ?_)
            have hP : va_P (dC, dI) vwCl (ra_wX h q1 q2 q3 q4 q5 q6 q7 q8 cI cL n (upd fl n (ch &&& 255)) S (va_up O n rp) (va_up P n ((ra_sp (ra_sh fg rp) k (Xl rp)).1.getLastD 40)) C fk fg fn) H := hP
            have hD : va_D A (ra_wX h q1 q2 q3 q4 q5 q6 q7 q8 cI cL n (upd fl n (ch &&& 255)) S (va_up O n rp) (va_up P n ((ra_sp (ra_sh fg rp) k (Xl rp)).1.getLastD 40)) C fk fg fn) := hD
            refine lv_aload_n hx hb dX0_insert_96 rfl (lv_at hl 3 rfl) ?_
            refine va_get (D := (dC, dI)) (ci := 0) (v := .ref q5) (C := RX0) (T := TX0) (N := 9) hx hb hts in_X0 hown hK hP 0 rfl rfl 5 (by decide) (hts _ q32) (fun _ h9 => h9) rfl dX0_insert_97 ?_
            refine lv_iload_n hx hb dX0_insert_100 rfl (lv_at hl 4 rfl) ?_
            refine lv_dup2_11 hx hb dX0_insert_101 rfl rfl ?_
            refine ra_iald hx hb hK hP 5 0 rfl rfl (k := rp) rfl (by omega) (by decide) (v := nI (C rp)) rfl dX0_insert_102 ?_
            refine lv_iconst (v := 1) hx hb dX0_insert_103 (by decide) ?_
            refine lv_iadd hx hb dX0_insert_104 ?_
            refine ra_top (y := nI (C rp + 1)) (nI_1 _) ?_
            refine ra_iast hx hb hK hP hD hS 5 0 rfl rfl (k := rp) rfl (by omega) (by decide) (f' := fun j => nI ((va_up C rp (C rp + 1)) j)) (ra_updN _ _ _) dX0_insert_105 (fun H locs hP hD hS => ?_)
            have hP : va_P (dC, dI) vwCl (ra_wX h q1 q2 q3 q4 q5 q6 q7 q8 cI cL n (upd fl n (ch &&& 255)) S (va_up O n rp) (va_up P n ((ra_sp (ra_sh fg rp) k (Xl rp)).1.getLastD 40)) (va_up C rp (C rp + 1)) fk fg fn) H := hP
            have hD : va_D A (ra_wX h q1 q2 q3 q4 q5 q6 q7 q8 cI cL n (upd fl n (ch &&& 255)) S (va_up O n rp) (va_up P n ((ra_sp (ra_sh fg rp) k (Xl rp)).1.getLastD 40)) (va_up C rp (C rp + 1)) fk fg fn) := hD
            refine lv_aload_n hx hb dX0_insert_106 rfl (lv_at hl 3 rfl) ?_
            refine va_get (D := (dC, dI)) (ci := 0) (v := .ref q2) (C := RX0) (T := TX0) (N := 9) hx hb hts in_X0 hown hK hP 0 rfl rfl 2 (by decide) (hts _ q29) (fun _ h9 => h9) rfl dX0_insert_107 ?_
            refine lv_iload hx hb dX0_insert_110 (lv_at hl 1 rfl) ?_
            refine lv_aload_n hx hb dX0_insert_112 rfl (lv_at hl 3 rfl) ?_
            refine va_get (D := (dC, dI)) (ci := 0) (v := .ref q5) (C := RX0) (T := TX0) (N := 9) hx hb hts in_X0 hown hK hP 0 rfl rfl 5 (by decide) (hts _ q32) (fun _ h9 => h9) rfl dX0_insert_113 ?_
            refine lv_iload_n hx hb dX0_insert_116 rfl (lv_at hl 4 rfl) ?_
            refine ra_iald hx hb hK hP 5 0 rfl rfl (k := rp) rfl (by omega) (by decide) (v := nI (C rp + 1)) (by simp [va_up]) dX0_insert_117 ?_
            refine ra_iast hx hb hK hP hD hS 2 0 rfl rfl (k := n) rfl (by omega) (by decide) (f' := fun j => nI ((va_up S n (C rp + 1)) j)) (ra_updN _ _ _) dX0_insert_118 (fun H locs hP hD hS => ?_)
            have hP : va_P (dC, dI) vwCl (ra_wX h q1 q2 q3 q4 q5 q6 q7 q8 cI cL n (upd fl n (ch &&& 255)) (va_up S n (C rp + 1)) (va_up O n rp) (va_up P n ((ra_sp (ra_sh fg rp) k (Xl rp)).1.getLastD 40)) (va_up C rp (C rp + 1)) fk fg fn) H := hP
            have hD : va_D A (ra_wX h q1 q2 q3 q4 q5 q6 q7 q8 cI cL n (upd fl n (ch &&& 255)) (va_up S n (C rp + 1)) (va_up O n rp) (va_up P n ((ra_sp (ra_sh fg rp) k (Xl rp)).1.getLastD 40)) (va_up C rp (C rp + 1)) fk fg fn) := hD
            refine lv_aload_n hx hb dX0_insert_119 rfl (lv_at hl 3 rfl) ?_
            refine lv_dup hx hb dX0_insert_120 rfl ?_
            refine va_get (D := (dC, dI)) (ci := 0) (v := .int (nI n)) (C := RX0) (T := TX0) (N := 9) hx hb hts in_X0 hown hK hP 0 rfl rfl 0 (by decide) (hts _ q27) (fun _ h9 => h9) rfl dX0_insert_121 ?_
            refine lv_iconst (v := 1) hx hb dX0_insert_124 (by decide) ?_
            refine lv_iadd hx hb dX0_insert_125 ?_
            refine ra_top (y := nI (n + 1)) (nI_1 _) ?_
            refine va_put (D := (dC, dI)) (ci := 0) (v := .int (nI (n + 1))) (ty := .int) (C := RX0) (T := TX0) (N := 9) hx hb hts in_X0 tyX0 tyX0_ok nmX0 hown hK hP hD hS 0 rfl rfl 0 (by decide) (hts _ q27) (fun _ h9 => h9) rfl (by decide +kernel) rfl rfl (Nat.le_of_ble_eq_true rfl) dX0_insert_126 (fun H locs hP hD hS => ?_)
            have hP : va_P (dC, dI) vwCl (ra_wX h q1 q2 q3 q4 q5 q6 q7 q8 cI cL (n + 1) (upd fl n (ch &&& 255)) (va_up S n (C rp + 1)) (va_up O n rp) (va_up P n ((ra_sp (ra_sh fg rp) k (Xl rp)).1.getLastD 40)) (va_up C rp (C rp + 1)) fk fg fn) H := hP
            have hD : va_D A (ra_wX h q1 q2 q3 q4 q5 q6 q7 q8 cI cL (n + 1) (upd fl n (ch &&& 255)) (va_up S n (C rp + 1)) (va_up O n rp) (va_up P n ((ra_sp (ra_sh fg rp) k (Xl rp)).1.getLastD 40)) (va_up C rp (C rp + 1)) fk fg fn) := hD
            refine lv_aload_n hx hb dX0_insert_129 rfl (lv_at hl 3 rfl) ?_
            refine lv_iload_n hx hb dX0_insert_130 rfl (lv_at hl 4 rfl) ?_
            refine lv_aload_n hx hb dX0_insert_131 rfl (lv_at hl 3 rfl) ?_
            refine va_get (D := (dC, dI)) (ci := 0) (v := .ref q4) (C := RX0) (T := TX0) (N := 9) hx hb hts in_X0 hown hK hP 0 rfl rfl 4 (by decide) (hts _ q31) (fun _ h9 => h9) rfl dX0_insert_132 ?_
            refine lv_iload hx hb dX0_insert_135 (lv_at hl 1 rfl) ?_
            refine ra_iald hx hb hK hP 4 0 rfl rfl (k := n) rfl (by omega) (by decide) (v := nI ((ra_sp (ra_sh fg rp) k (Xl rp)).1.getLastD 40)) (by simp [va_up]) dX0_insert_137 ?_
            refine lv_iload hx hb dX0_insert_138 (lv_at hl 1 rfl) ?_
            refine ra_cVv (Cn := RX0) (wf := fun u => (ra_wX h q1 q2 q3 q4 q5 q6 q7 q8 cI cL (n + 1) (upd fl n (ch &&& 255)) (va_up S n (C rp + 1)) (va_up O n rp) (va_up P n ((ra_sp (ra_sh fg rp) k (Xl rp)).1.getLastD 40)) (va_up C rp (C rp + 1)) fk fg u)) ⟨hx, hb, hml, hown, hts⟩ [.int (nI rp), .int (nI ((ra_sp (ra_sh fg rp) k (Xl rp)).1.getLastD 40)), .int (nI n)] [] (mx_linkBehind l H.size rp ((ra_sp (ra_sh fg rp) k (Xl rp)).1.getLastD 40) n hr3 hp41 hn) (cwV 3 hts (lw_V q79 q81 qs3 q17 q82) rfl rfl rfl (by decide +kernel) ⟨Nat.le_of_ble_eq_true rfl, Nat.le_of_ble_eq_true rfl⟩) hP hK hD hS hA (va_recv hK hP (ci := 0) (q0 := 0) rfl rfl) rfl hl.1 rfl (Nat.le_of_ble_eq_true rfl) dX0_insert_140 ⟨Nat.le_of_ble_eq_true rfl, Nat.le_of_ble_eq_true rfl⟩ (fun u H locs hzl hP hD hS => ?_)
            subst hzl
            have hP : va_P (dC, dI) vwCl (ra_wX h q1 q2 q3 q4 q5 q6 q7 q8 cI cL (n + 1) (upd fl n (ch &&& 255)) (va_up S n (C rp + 1)) (va_up O n rp) (va_up P n ((ra_sp (ra_sh fg rp) k (Xl rp)).1.getLastD 40)) (va_up C rp (C rp + 1)) fk fg (upd (upd fn (41 * rp + n) (fn (41 * rp + ((ra_sp (ra_sh fg rp) k (Xl rp)).1.getLastD 40)))) (41 * rp + ((ra_sp (ra_sh fg rp) k (Xl rp)).1.getLastD 40)) (nI n))) H := hP
            have hD : va_D A (ra_wX h q1 q2 q3 q4 q5 q6 q7 q8 cI cL (n + 1) (upd fl n (ch &&& 255)) (va_up S n (C rp + 1)) (va_up O n rp) (va_up P n ((ra_sp (ra_sh fg rp) k (Xl rp)).1.getLastD 40)) (va_up C rp (C rp + 1)) fk fg (upd (upd fn (41 * rp + n) (fn (41 * rp + ((ra_sp (ra_sh fg rp) k (Xl rp)).1.getLastD 40)))) (41 * rp + ((ra_sp (ra_sh fg rp) k (Xl rp)).1.getLastD 40)) (nI n))) := hD
            refine lv_aload_n hx hb dX0_insert_143 rfl (lv_at hl 3 rfl) ?_
            refine va_get (D := (dC, dI)) (ci := 0) (v := .ref q6) (C := RX0) (T := TX0) (N := 9) hx hb hts in_X0 hown hK hP 0 rfl rfl 6 (by decide) (hts _ q33) (fun _ h9 => h9) rfl dX0_insert_144 ?_
            refine lv_iload_n hx hb dX0_insert_147 rfl (lv_at hl 4 rfl) ?_
            refine lv_dup2_11 hx hb dX0_insert_148 rfl rfl ?_
            refine ra_lald hx hb hK hP 6 1 rfl rfl (k := rp) rfl (by omega) (by decide) (v := fk rp) rfl dX0_insert_149 ?_
            refine lv_lconst (v := 1) hx hb dX0_insert_150 (by decide) ?_
            refine lv_iload hx hb dX0_insert_151 (lv_at hl 1 rfl) ?_
            refine lv_lshl hx hb dX0_insert_153 rfl ?_
            refine lv_lor hx hb dX0_insert_154 ?_
            refine ra_last hx hb hK hP hD hS 6 1 rfl rfl (k := rp) rfl (by omega) (by decide) (f' := vp_updL fk rp (ra_or (fk rp) n)) rfl dX0_insert_155 (fun H locs hP hD hS => ?_)
            have hP : va_P (dC, dI) vwCl (ra_wX h q1 q2 q3 q4 q5 q6 q7 q8 cI cL (n + 1) (upd fl n (ch &&& 255)) (va_up S n (C rp + 1)) (va_up O n rp) (va_up P n ((ra_sp (ra_sh fg rp) k (Xl rp)).1.getLastD 40)) (va_up C rp (C rp + 1)) (vp_updL fk rp (ra_or (fk rp) n)) fg (upd (upd fn (41 * rp + n) (fn (41 * rp + ((ra_sp (ra_sh fg rp) k (Xl rp)).1.getLastD 40)))) (41 * rp + ((ra_sp (ra_sh fg rp) k (Xl rp)).1.getLastD 40)) (nI n))) H := hP
            have hD : va_D A (ra_wX h q1 q2 q3 q4 q5 q6 q7 q8 cI cL (n + 1) (upd fl n (ch &&& 255)) (va_up S n (C rp + 1)) (va_up O n rp) (va_up P n ((ra_sp (ra_sh fg rp) k (Xl rp)).1.getLastD 40)) (va_up C rp (C rp + 1)) (vp_updL fk rp (ra_or (fk rp) n)) fg (upd (upd fn (41 * rp + n) (fn (41 * rp + ((ra_sp (ra_sh fg rp) k (Xl rp)).1.getLastD 40)))) (41 * rp + ((ra_sp (ra_sh fg rp) k (Xl rp)).1.getLastD 40)) (nI n))) := hD
            refine lv_iload hx hb dX0_insert_156 (lv_at hl 1 rfl) ?_
            exact W.iret (v := nI n) hx hb hr (fun t ht hW => ⟨⟨_, _, rfl, ⟨rfl, ra_ls_link hL0 hn (by rw [happ]; exact hnd) (by rw [happ]; exact hnx), ra_link_out (by omega) (by omega)⟩, by rw [ht]; exact hP, va_K.moved hW.alike hK, hD⟩, hS.F ht⟩) hS.2.2 dX0_insert_158
          rcases ra_sp_at (sh := ra_sh fg rp) (L := Xl rp) (k := k) (by rw [hcnt]; exact hk) (by omega) with ⟨e1, e2, -⟩ | ⟨e1, e2, -, -⟩
          · obtain rfl : z3 = -1 := hz3.trans e1
            refine lv_if_ge (tgt := 93) hx hb dX0_insert_85 (by decide) (fun c_85 => ?_) (fun c_85 => ?_)
            · exact absurd c_85 (by decide)
            · refine lv_bipush (v := 40) hx hb dX0_insert_88 (by decide) ?_
              refine lv_goto (tgt := 95) hx hb dX0_insert_90 (by decide) ?_
              refine ra_top (y := nI ((ra_sp (ra_sh fg rp) k (Xl rp)).1.getLastD 40)) (by rw [e2]; rfl) ?_
              exact tail
          · obtain rfl : z3 = nI ((ra_sp (ra_sh fg rp) k (Xl rp)).1.getLastD 40) := hz3.trans e1
            refine lv_if_ge (tgt := 93) hx hb dX0_insert_85 (by decide) (fun c_85 => ?_) (fun c_85 => ?_)
            · refine lv_iload hx hb dX0_insert_93 (lv_at hl 0 rfl) ?_
              exact tail
            · exact absurd (nI_pos' (by omega)) c_85
        · exact absurd (nI_lt (a := n) (b := 40) hn (by decide)) c_35
      · exact absurd (nI_le hk (by omega)) c_23
  · rcases hz with ⟨-, q⟩ | ⟨q, -⟩
    · exact absurd q (ra_bad_no hr3)
    · exact absurd q c_4
set_option maxHeartbeats 4000000 in
set_option maxRecDepth 100000 in
/-- learn(rt, rf) that is one -/
theorem mx_learn_yes (sz : Nat) (rt rf : Nat) (L0 : List Nat) (ht3 : rt < 3) (hf3 : rf < 3) (hne : rt ≠ rf) (hn : n ≤ 40) (hSO : ∀ k, S k ≤ 40 ∧ O k < 3) (hL0 : ra_ls fn rt L0) (hst : ∀ i, i < n → ra_bt ((ra_ln S O P rt rf (C, fk, fg, L0, 0) i).2.1 rf) i = true → ra_bt ((ra_ln S O P rt rf (C, fk, fg, L0, 0) i).2.1 rt) i = false → (ra_ln S O P rt rf (C, fk, fg, L0, 0) i).2.2.2.1.Nodup ∧ i ∉ (ra_ln S O P rt rf (C, fk, fg, L0, 0) i).2.2.2.1 ∧ (P i = 40 ∨ P i ∈ (ra_ln S O P rt rf (C, fk, fg, L0, 0) i).2.2.2.1) ∧ (ra_ln S O P rt rf (C, fk, fg, L0, 0) i).2.2.2.1.length ≤ 40 ∧ (ra_ln S O P rt rf (C, fk, fg, L0, 0) i).1 rt ≤ 40) : Met l yX0_learn (ws_ yX0_learn cX0_learn 5 (some .int)) ({ frames := 2, cells := 0, slots := 0, locals := 60 }) (va_Pc [.ref h, .int (nI rt), .int (nI rf)] (fun U => U.heap.size = sz ∧ va_P (dC, dI) vwCl (ra_wX h q1 q2 q3 q4 q5 q6 q7 q8 cI cL n fl S O P C fk fg fn) U.heap ∧ va_K (dC, dI) vwCl [(cI, .int), (cL, .long)] U ∧ va_D (fun _ => True) (ra_wX h q1 q2 q3 q4 q5 q6 q7 q8 cI cL n fl S O P C fk fg fn))) (va_Qi (fun z (u : Nat → Int32) => z = nI (ra_ln S O P rt rf (C, fk, fg, L0, 0) n).2.2.2.2 ∧ ra_ls u rt (ra_ln S O P rt rf (C, fk, fg, L0, 0) n).2.2.2.1 ∧ ∀ j, j < 41 * rt ∨ 41 * rt + 41 ≤ j → u j = fn j) (fun u t => va_P (dC, dI) vwCl (ra_wX h q1 q2 q3 q4 q5 q6 q7 q8 cI cL n fl S O P ((ra_ln S O P rt rf (C, fk, fg, L0, 0) n).1) ((ra_ln S O P rt rf (C, fk, fg, L0, 0) n).2.1) ((ra_ln S O P rt rf (C, fk, fg, L0, 0) n).2.2.1) u) t.heap ∧ va_K (dC, dI) vwCl [(cI, .int), (cL, .long)] t ∧ va_D (va_A (ra_wX h q1 q2 q3 q4 q5 q6 q7 q8 cI cL n fl S O P C fk fg fn) sz) (ra_wX h q1 q2 q3 q4 q5 q6 q7 q8 cI cL n fl S O P ((ra_ln S O P rt rf (C, fk, fg, L0, 0) n).1) ((ra_ln S O P rt rf (C, fk, fg, L0, 0) n).2.1) ((ra_ln S O P rt rf (C, fk, fg, L0, 0) n).2.2.1) u)) (va_A (ra_wX h q1 q2 q3 q4 q5 q6 q7 q8 cI cL n fl S O P C fk fg fn) sz)) 0 0 (va_A (ra_wX h q1 q2 q3 q4 q5 q6 q7 q8 cI cL n fl S O P C fk fg fn) sz) := by
  refine Met.ofW (cc := cX0_learn) (maxL := 5) (ret := some .int) (by decide) rfl ?_
  intro p e s m args below meth c s₁ B hml hv
  obtain ⟨rfl, hsz, hP, hK, hD0⟩ := hv
  have hx := B.exec
  have hb := B.bytes
  have hr := B.returns
  have hts := atoms_spec (ws := (ws_ yX0_learn cX0_learn 5 (some .int))) B.pre
  have hts : ∀ w ∈ lw_all, w.before _ s = true := fun w h => hts w (List.mem_cons_of_mem _ h)
  have hown : s.vm.findClass RX0 = some m.cls := findClass_of_methodNamed B.named
  have hlocks := B.notSynchronized
  subst hsz
  have hD := hD0.self (sz := s.heap.size)
  generalize hAe : va_A (ra_wX h q1 q2 q3 q4 q5 q6 q7 q8 cI cL n fl S O P C fk fg fn) s.heap.size = A at hD ⊢
  have hA : ∀ q : Nat, s.heap.size ≤ q → A q := fun q h => by rw [← hAe]; exact Or.inr h
  have hS : va_S A s.heap s.heap [] := va_S.rf
  have hP : va_P (dC, dI) vwCl (ra_wX h q1 q2 q3 q4 q5 q6 q7 q8 cI cL n fl S O P C fk fg fn) s.heap := hP
  have hl := lv_entry ([.ref h, .int (nI rt), .int (nI rf)]) (n := 5) (Nat.le_of_ble_eq_true rfl)
  rw [lg_entry_eq]
  generalize (lg_sl ([.ref h, .int (nI rt), .int (nI rf)]) ++ List.replicate (5 - (lg_sl ([.ref h, .int (nI rt), .int (nI rf)])).length) Slot.unset).toArray = ls at hl ⊢
  have hl : lv_has ls 5 [(0, .ref h), (1, .int (nI rt)), (2, .int (nI rf))] := hl
  refine lv_iload_n hx hb dX0_learn_0 rfl (lv_at hl 1 rfl) ?_
  refine ra_cS ⟨hx, hb, hml, hown, hts⟩ [.int (nI rt)] [] (mx_bad l (nI rt)) (va_cwS 1 hts (lw_S q61 q62 q17 q63) rfl rfl rfl (by decide +kernel) ⟨Nat.le_of_ble_eq_true rfl, Nat.le_of_ble_eq_true rfl⟩) rfl hl.1 rfl (Nat.le_of_ble_eq_true rfl) dX0_learn_1 ⟨Nat.le_of_ble_eq_true rfl, Nat.le_of_ble_eq_true rfl⟩ (fun z hz => ?_)
  refine lv_if_ne (tgt := 14) hx hb dX0_learn_4 (by decide) (fun c_4 => ?_) (fun c_4 => ?_)
  · rcases hz with ⟨-, q⟩ | ⟨q, -⟩
    · exact absurd q (ra_bad_no ht3)
    · exact absurd q c_4
  · refine lv_iload_n hx hb dX0_learn_7 rfl (lv_at hl 2 rfl) ?_
    refine ra_cS ⟨hx, hb, hml, hown, hts⟩ [.int (nI rf)] [] (mx_bad l (nI rf)) (va_cwS 1 hts (lw_S q61 q62 q17 q63) rfl rfl rfl (by decide +kernel) ⟨Nat.le_of_ble_eq_true rfl, Nat.le_of_ble_eq_true rfl⟩) rfl hl.1 rfl (Nat.le_of_ble_eq_true rfl) dX0_learn_8 ⟨Nat.le_of_ble_eq_true rfl, Nat.le_of_ble_eq_true rfl⟩ (fun z2 hz2 => ?_)
    refine lv_if_eq (tgt := 16) hx hb dX0_learn_11 (by decide) (fun c_11 => ?_) (fun c_11 => ?_)
    · refine lv_iload_n hx hb dX0_learn_16 rfl (lv_at hl 1 rfl) ?_
      refine lv_iload_n hx hb dX0_learn_17 rfl (lv_at hl 2 rfl) ?_
      refine lv_icmp_ne (tgt := 24) hx hb dX0_learn_18 (by decide) (fun c_18 => ?_) (fun c_18 => ?_)
      · refine lv_iconst (v := 0) hx hb dX0_learn_24 (by decide) ?_
        refine lv_istore_n (lv' := [(3, .int 0), (0, .ref h), (1, .int (nI rt)), (2, .int (nI rf))]) hx hb dX0_learn_25 rfl hl (by decide) rfl (fun ls hl => ?_)
        refine lv_iconst (v := 0) hx hb dX0_learn_26 (by decide) ?_
        refine lv_istore (lv' := [(4, .int 0), (3, .int 0), (0, .ref h), (1, .int (nI rt)), (2, .int (nI rf))]) hx hb dX0_learn_27 hl (by decide) rfl (fun ls hl => ?_)
        have loop : ∀ (k i : Nat) (C1 : Nat → Nat) (k1 g1 : Nat → Int64) (L : List Nat) (t : Nat) (f1 : Nat → Int32) (H : Heap) (locs : List Loc), i ≤ n → n + 1 ≤ i + k → ra_ln S O P rt rf (C, fk, fg, L0, 0) i = (C1, k1, g1, L, t) → ra_ls f1 rt L → (∀ j, j < 41 * rt ∨ 41 * rt + 41 ≤ j → f1 j = fn j) → va_P (dC, dI) vwCl (ra_wX h q1 q2 q3 q4 q5 q6 q7 q8 cI cL n fl S O P C1 k1 g1 f1) H → va_D A (ra_wX h q1 q2 q3 q4 q5 q6 q7 q8 cI cL n fl S O P C1 k1 g1 f1) → va_S A s.heap H locs → ∀ (ls : Array Slot), lv_has ls 5 [(4, .int (nI i)), (3, .int (nI t)), (0, .ref h), (1, .int (nI rt)), (2, .int (nI rf))] → ra_WI p l e s m below meth c H locs (ws_ yX0_learn cX0_learn 5 (some .int)) ({ frames := 2, cells := 0, slots := 0, locals := 60 }) [.ref h, .int (nI rt), .int (nI rf)] (fun z (u : Nat → Int32) => z = nI (ra_ln S O P rt rf (C, fk, fg, L0, 0) n).2.2.2.2 ∧ ra_ls u rt (ra_ln S O P rt rf (C, fk, fg, L0, 0) n).2.2.2.1 ∧ ∀ j, j < 41 * rt ∨ 41 * rt + 41 ≤ j → u j = fn j) (fun u t => va_P (dC, dI) vwCl (ra_wX h q1 q2 q3 q4 q5 q6 q7 q8 cI cL n fl S O P ((ra_ln S O P rt rf (C, fk, fg, L0, 0) n).1) ((ra_ln S O P rt rf (C, fk, fg, L0, 0) n).2.1) ((ra_ln S O P rt rf (C, fk, fg, L0, 0) n).2.2.1) u) t.heap ∧ va_K (dC, dI) vwCl [(cI, .int), (cL, .long)] t ∧ va_D A (ra_wX h q1 q2 q3 q4 q5 q6 q7 q8 cI cL n fl S O P ((ra_ln S O P rt rf (C, fk, fg, L0, 0) n).1) ((ra_ln S O P rt rf (C, fk, fg, L0, 0) n).2.1) ((ra_ln S O P rt rf (C, fk, fg, L0, 0) n).2.2.1) u)) A 29 ls [] := by
          intro k
          induction k with
          | zero => intro i C1 k1 g1 L t f1 H locs h1 h2; exact absurd h2 (by omega)
          | succ k ih =>
            intro i C1 k1 g1 L t f1 H locs h1 h2 hE hL hO hP hD hS ls hl
            refine lv_iload hx hb dX0_learn_29 (lv_at hl 0 rfl) ?_
            refine lv_aload_n hx hb dX0_learn_31 rfl (lv_at hl 2 rfl) ?_
            refine va_get (D := (dC, dI)) (ci := 0) (v := .int (nI n)) (C := RX0) (T := TX0) (N := 9) hx hb hts in_X0 hown hK hP 0 rfl rfl 0 (by decide) (hts _ q27) (fun _ h9 => h9) rfl dX0_learn_32 ?_
            refine lv_icmp_ge (tgt := 126) hx hb dX0_learn_35 (by decide) (fun c_35 => ?_) (fun c_35 => ?_)
            · have hi : i = n := by rw [nI_leI (by omega) (by omega)] at c_35; omega
              subst hi
              rw [hE]
              refine lv_iload_n hx hb dX0_learn_126 rfl (lv_at hl 1 rfl) ?_
              exact W.iret (v := nI t) hx hb hr (fun t ht hW => ⟨⟨_, f1, rfl, ⟨rfl, hL, hO⟩, by rw [ht]; exact hP, va_K.moved hW.alike hK, hD⟩, hS.F ht⟩) hS.2.2 dX0_learn_127
            · have hi : i < n := by rw [nI_leI (by omega) (by omega)] at c_35; omega
              have half : ∀ (C2 : Nat → Nat) (k2 : Nat → Int64) (L2 : List Nat) (t2 : Nat) (f2 : Nat → Int32) (H : Heap) (locs : List Loc), ra_l1 S O P rt rf i (C1, k1, g1, L, t) = (C2, k2, g1, L2, t2) → ra_ls f2 rt L2 → (∀ j, j < 41 * rt ∨ 41 * rt + 41 ≤ j → f2 j = fn j) → va_P (dC, dI) vwCl (ra_wX h q1 q2 q3 q4 q5 q6 q7 q8 cI cL n fl S O P C2 k2 g1 f2) H → va_D A (ra_wX h q1 q2 q3 q4 q5 q6 q7 q8 cI cL n fl S O P C2 k2 g1 f2) → va_S A s.heap H locs → ∀ (ls : Array Slot), lv_has ls 5 [(4, .int (nI i)), (3, .int (nI t2)), (0, .ref h), (1, .int (nI rt)), (2, .int (nI rf))] → ra_WI p l e s m below meth c H locs (ws_ yX0_learn cX0_learn 5 (some .int)) ({ frames := 2, cells := 0, slots := 0, locals := 60 }) [.ref h, .int (nI rt), .int (nI rf)] (fun z (u : Nat → Int32) => z = nI (ra_ln S O P rt rf (C, fk, fg, L0, 0) n).2.2.2.2 ∧ ra_ls u rt (ra_ln S O P rt rf (C, fk, fg, L0, 0) n).2.2.2.1 ∧ ∀ j, j < 41 * rt ∨ 41 * rt + 41 ≤ j → u j = fn j) (fun u t => va_P (dC, dI) vwCl (ra_wX h q1 q2 q3 q4 q5 q6 q7 q8 cI cL n fl S O P ((ra_ln S O P rt rf (C, fk, fg, L0, 0) n).1) ((ra_ln S O P rt rf (C, fk, fg, L0, 0) n).2.1) ((ra_ln S O P rt rf (C, fk, fg, L0, 0) n).2.2.1) u) t.heap ∧ va_K (dC, dI) vwCl [(cI, .int), (cL, .long)] t ∧ va_D A (ra_wX h q1 q2 q3 q4 q5 q6 q7 q8 cI cL n fl S O P ((ra_ln S O P rt rf (C, fk, fg, L0, 0) n).1) ((ra_ln S O P rt rf (C, fk, fg, L0, 0) n).2.1) ((ra_ln S O P rt rf (C, fk, fg, L0, 0) n).2.2.1) u)) A 76 ls [] := by
                intro C2 k2 L2 t2 f2 H locs hE2 hL hO hP hD hS ls hl
                have hE3 : ra_ln S O P rt rf (C, fk, fg, L0, 0) (i + 1) = ra_l2 rt rf i (C2, k2, g1, L2, t2) := by rw [ra_ln, hE, hE2]
                refine lv_aload_n hx hb dX0_learn_76 rfl (lv_at hl 2 rfl) ?_
                refine va_get (D := (dC, dI)) (ci := 0) (v := .ref q7) (C := RX0) (T := TX0) (N := 9) hx hb hts in_X0 hown hK hP 0 rfl rfl 7 (by decide) (hts _ q34) (fun _ h9 => h9) rfl dX0_learn_77 ?_
                refine lv_iload_n hx hb dX0_learn_80 rfl (lv_at hl 4 rfl) ?_
                refine ra_lald hx hb hK hP 7 1 rfl rfl (k := rf) rfl (by omega) (by decide) (v := g1 rf) rfl dX0_learn_81 ?_
                refine lv_iload hx hb dX0_learn_82 (lv_at hl 0 rfl) ?_
                refine ra_cS ⟨hx, hb, hml, hown, hts⟩ [.long (g1 rf), .int (nI i)] [] (mx_in l (g1 rf) i (by omega)) (va_cwS 2 hts (lw_S q68 q69 q17 q70) rfl rfl rfl (by decide +kernel) ⟨Nat.le_of_ble_eq_true rfl, Nat.le_of_ble_eq_true rfl⟩) rfl hl.1 rfl (Nat.le_of_ble_eq_true rfl) dX0_learn_84 ⟨Nat.le_of_ble_eq_true rfl, Nat.le_of_ble_eq_true rfl⟩ (fun y1 hy1 => ?_)
                refine lv_if_eq (tgt := 120) hx hb dX0_learn_87 (by decide) (fun c_87 => ?_) (fun c_87 => ?_)
                · refine lv_iinc (v := nI (i + 1)) (lv' := [(4, .int (nI (i + 1))), (3, .int (nI t2)), (0, .ref h), (1, .int (nI rt)), (2, .int (nI rf))]) hx hb dX0_learn_120 hl (k := 0) rfl (ra_inc _) (by decide) rfl (fun ls hl => ?_)
                  refine lv_goto (tgt := 29) hx hb dX0_learn_123 (by decide) ?_
                  exact ih (i + 1) _ _ _ _ _ _ _ _ (by omega) (by omega) (hE3.trans (ra_l2_n (Or.inl ((ra_b_eq _).mp (hy1 ▸ c_87))))) hL hO hP hD hS ls (lv_sub hl [0, 1, 2, 3, 4] rfl)
                · refine lv_aload_n hx hb dX0_learn_90 rfl (lv_at hl 2 rfl) ?_
                  refine va_get (D := (dC, dI)) (ci := 0) (v := .ref q7) (C := RX0) (T := TX0) (N := 9) hx hb hts in_X0 hown hK hP 0 rfl rfl 7 (by decide) (hts _ q34) (fun _ h9 => h9) rfl dX0_learn_91 ?_
                  refine lv_iload_n hx hb dX0_learn_94 rfl (lv_at hl 3 rfl) ?_
                  refine ra_lald hx hb hK hP 7 1 rfl rfl (k := rt) rfl (by omega) (by decide) (v := g1 rt) rfl dX0_learn_95 ?_
                  refine lv_iload hx hb dX0_learn_96 (lv_at hl 0 rfl) ?_
                  refine ra_cS ⟨hx, hb, hml, hown, hts⟩ [.long (g1 rt), .int (nI i)] [] (mx_in l (g1 rt) i (by omega)) (va_cwS 2 hts (lw_S q68 q69 q17 q70) rfl rfl rfl (by decide +kernel) ⟨Nat.le_of_ble_eq_true rfl, Nat.le_of_ble_eq_true rfl⟩) rfl hl.1 rfl (Nat.le_of_ble_eq_true rfl) dX0_learn_98 ⟨Nat.le_of_ble_eq_true rfl, Nat.le_of_ble_eq_true rfl⟩ (fun y2 hy2 => ?_)
                  refine lv_if_ne (tgt := 120) hx hb dX0_learn_101 (by decide) (fun c_101 => ?_) (fun c_101 => ?_)
                  · refine lv_iinc (v := nI (i + 1)) (lv' := [(4, .int (nI (i + 1))), (3, .int (nI t2)), (0, .ref h), (1, .int (nI rt)), (2, .int (nI rf))]) hx hb dX0_learn_120 hl (k := 0) rfl (ra_inc _) (by decide) rfl (fun ls hl => ?_)
                    refine lv_goto (tgt := 29) hx hb dX0_learn_123 (by decide) ?_
                    exact ih (i + 1) _ _ _ _ _ _ _ _ (by omega) (by omega) (hE3.trans (ra_l2_n (Or.inr ((ra_b_ne _).mp (hy2 ▸ c_101))))) hL hO hP hD hS ls (lv_sub hl [0, 1, 2, 3, 4] rfl)
                  · refine lv_aload_n hx hb dX0_learn_104 rfl (lv_at hl 2 rfl) ?_
                    refine va_get (D := (dC, dI)) (ci := 0) (v := .ref q7) (C := RX0) (T := TX0) (N := 9) hx hb hts in_X0 hown hK hP 0 rfl rfl 7 (by decide) (hts _ q34) (fun _ h9 => h9) rfl dX0_learn_105 ?_
                    refine lv_iload_n hx hb dX0_learn_108 rfl (lv_at hl 3 rfl) ?_
                    refine lv_dup2_11 hx hb dX0_learn_109 rfl rfl ?_
                    refine ra_lald hx hb hK hP 7 1 rfl rfl (k := rt) rfl (by omega) (by decide) (v := g1 rt) rfl dX0_learn_110 ?_
                    refine lv_lconst (v := 1) hx hb dX0_learn_111 (by decide) ?_
                    refine lv_iload hx hb dX0_learn_112 (lv_at hl 0 rfl) ?_
                    refine lv_lshl hx hb dX0_learn_114 rfl ?_
                    refine lv_lor hx hb dX0_learn_115 ?_
                    refine ra_last hx hb hK hP hD hS 7 1 rfl rfl (k := rt) rfl (by omega) (by decide) (f' := vp_updL g1 rt (ra_or (g1 rt) i)) rfl dX0_learn_116 (fun H locs hP hD hS => ?_)
                    have hP : va_P (dC, dI) vwCl (ra_wX h q1 q2 q3 q4 q5 q6 q7 q8 cI cL n fl S O P C2 k2 (vp_updL g1 rt (ra_or (g1 rt) i)) f2) H := hP
                    have hD : va_D A (ra_wX h q1 q2 q3 q4 q5 q6 q7 q8 cI cL n fl S O P C2 k2 (vp_updL g1 rt (ra_or (g1 rt) i)) f2) := hD
                    refine lv_iinc (v := nI (t2 + 1)) (lv' := [(3, .int (nI (t2 + 1))), (4, .int (nI i)), (0, .ref h), (1, .int (nI rt)), (2, .int (nI rf))]) hx hb dX0_learn_117 hl (k := 1) rfl (ra_inc _) (by decide) rfl (fun ls hl => ?_)
                    refine lv_iinc (v := nI (i + 1)) (lv' := [(4, .int (nI (i + 1))), (3, .int (nI (t2 + 1))), (0, .ref h), (1, .int (nI rt)), (2, .int (nI rf))]) hx hb dX0_learn_120 hl (k := 1) rfl (ra_inc _) (by decide) rfl (fun ls hl => ?_)
                    refine lv_goto (tgt := 29) hx hb dX0_learn_123 (by decide) ?_
                    exact ih (i + 1) _ _ _ _ _ _ _ _ (by omega) (by omega) (hE3.trans (ra_l2_y ((ra_b_ne _).mp (hy1 ▸ c_87)) ((ra_b_eq _).mp (hy2 ▸ c_101)))) hL hO hP hD hS ls (lv_sub hl [0, 1, 2, 3, 4] rfl)
              refine lv_aload_n hx hb dX0_learn_38 rfl (lv_at hl 2 rfl) ?_
              refine va_get (D := (dC, dI)) (ci := 0) (v := .ref q6) (C := RX0) (T := TX0) (N := 9) hx hb hts in_X0 hown hK hP 0 rfl rfl 6 (by decide) (hts _ q33) (fun _ h9 => h9) rfl dX0_learn_39 ?_
              refine lv_iload_n hx hb dX0_learn_42 rfl (lv_at hl 4 rfl) ?_
              refine ra_lald hx hb hK hP 6 1 rfl rfl (k := rf) rfl (by omega) (by decide) (v := k1 rf) rfl dX0_learn_43 ?_
              refine lv_iload hx hb dX0_learn_44 (lv_at hl 0 rfl) ?_
              refine ra_cS ⟨hx, hb, hml, hown, hts⟩ [.long (k1 rf), .int (nI i)] [] (mx_in l (k1 rf) i (by omega)) (va_cwS 2 hts (lw_S q68 q69 q17 q70) rfl rfl rfl (by decide +kernel) ⟨Nat.le_of_ble_eq_true rfl, Nat.le_of_ble_eq_true rfl⟩) rfl hl.1 rfl (Nat.le_of_ble_eq_true rfl) dX0_learn_46 ⟨Nat.le_of_ble_eq_true rfl, Nat.le_of_ble_eq_true rfl⟩ (fun y1 hy1 => ?_)
              refine lv_if_eq (tgt := 76) hx hb dX0_learn_49 (by decide) (fun c_49 => ?_) (fun c_49 => ?_)
              · exact half C1 k1 L t f1 H locs (ra_l1_n (Or.inl ((ra_b_eq _).mp (hy1 ▸ c_49)))) hL hO hP hD hS ls (lv_sub hl [0, 1, 2, 3, 4] rfl)
              · refine lv_aload_n hx hb dX0_learn_52 rfl (lv_at hl 2 rfl) ?_
                refine va_get (D := (dC, dI)) (ci := 0) (v := .ref q6) (C := RX0) (T := TX0) (N := 9) hx hb hts in_X0 hown hK hP 0 rfl rfl 6 (by decide) (hts _ q33) (fun _ h9 => h9) rfl dX0_learn_53 ?_
                refine lv_iload_n hx hb dX0_learn_56 rfl (lv_at hl 3 rfl) ?_
                refine ra_lald hx hb hK hP 6 1 rfl rfl (k := rt) rfl (by omega) (by decide) (v := k1 rt) rfl dX0_learn_57 ?_
                refine lv_iload hx hb dX0_learn_58 (lv_at hl 0 rfl) ?_
                refine ra_cS ⟨hx, hb, hml, hown, hts⟩ [.long (k1 rt), .int (nI i)] [] (mx_in l (k1 rt) i (by omega)) (va_cwS 2 hts (lw_S q68 q69 q17 q70) rfl rfl rfl (by decide +kernel) ⟨Nat.le_of_ble_eq_true rfl, Nat.le_of_ble_eq_true rfl⟩) rfl hl.1 rfl (Nat.le_of_ble_eq_true rfl) dX0_learn_60 ⟨Nat.le_of_ble_eq_true rfl, Nat.le_of_ble_eq_true rfl⟩ (fun y2 hy2 => ?_)
                refine lv_if_ne (tgt := 76) hx hb dX0_learn_63 (by decide) (fun c_63 => ?_) (fun c_63 => ?_)
                · exact half C1 k1 L t f1 H locs (ra_l1_n (Or.inr ((ra_b_ne _).mp (hy2 ▸ c_63)))) hL hO hP hD hS ls (lv_sub hl [0, 1, 2, 3, 4] rfl)
                · have b1 : ra_bt (k1 rf) i = true := (ra_b_ne _).mp (hy1 ▸ c_49)
                  have b2 : ra_bt (k1 rt) i = false := (ra_b_eq _).mp (hy2 ▸ c_63)
                  obtain ⟨g1n, g2n, g3n, g4n, g5n⟩ := hst i hi (by rw [hE]; exact b1) (by rw [hE]; exact b2)
                  rw [hE] at g1n g2n g3n g4n g5n
                  dsimp only at g1n g2n g3n g4n g5n
                  obtain ⟨La, Lb, hLab, hPl, hin⟩ := ra_ins_cut (key := ra_key S O) (x := i) g3n (fun q => absurd (ra_ch_lt hL.2 _ q) (by decide))
                  refine lv_aload_n hx hb dX0_learn_66 rfl (lv_at hl 2 rfl) ?_
                  refine lv_iload_n hx hb dX0_learn_67 rfl (lv_at hl 3 rfl) ?_
                  refine lv_iload hx hb dX0_learn_68 (lv_at hl 0 rfl) ?_
                  refine ra_cVv (Cn := RX0) (wf := fun (u : (Nat → Nat) × (Nat → Int64) × (Nat → Int32)) => (ra_wX h q1 q2 q3 q4 q5 q6 q7 q8 cI cL n fl S O P u.1 u.2.1 g1 u.2.2)) ⟨hx, hb, hml, hown, hts⟩ [.int (nI rt), .int (nI i)] [] (mx_integrate l H.size rt i ht3 (by omega) hSO g5n La Lb (by rw [← hLab]; exact hL) (by rw [hLab, List.length_append] at g4n; omega) (by rw [← hLab]; exact g1n) (by rw [← hLab]; exact g2n) hPl) (cwV 2 hts (lw_V q91 q93 qs4 q17 q94) rfl rfl rfl (by decide +kernel) ⟨Nat.le_of_ble_eq_true rfl, Nat.le_of_ble_eq_true rfl⟩) hP hK hD hS hA (va_recv hK hP (ci := 0) (q0 := 0) rfl rfl) rfl hl.1 rfl (Nat.le_of_ble_eq_true rfl) dX0_learn_70 ⟨Nat.le_of_ble_eq_true rfl, Nat.le_of_ble_eq_true rfl⟩ (fun u H locs hzi hP hD hS => ?_)
                  obtain ⟨C2, k2, f2⟩ := u
                  obtain ⟨e1, e2, e3, e4⟩ := hzi
                  dsimp only at e1 e2 e3 e4
                  subst e1
                  subst e2
                  rw [← hin] at e3
                  have hP : va_P (dC, dI) vwCl (ra_wX h q1 q2 q3 q4 q5 q6 q7 q8 cI cL n fl S O P (ra_mx C1 rt (S i)) (vp_updL k1 rt (ra_or (k1 rt) i)) g1 f2) H := hP
                  have hD : va_D A (ra_wX h q1 q2 q3 q4 q5 q6 q7 q8 cI cL n fl S O P (ra_mx C1 rt (S i)) (vp_updL k1 rt (ra_or (k1 rt) i)) g1 f2) := hD
                  refine lv_iinc (v := nI (t + 1)) (lv' := [(3, .int (nI (t + 1))), (4, .int (nI i)), (0, .ref h), (1, .int (nI rt)), (2, .int (nI rf))]) hx hb dX0_learn_73 hl (k := 1) rfl (ra_inc _) (by decide) rfl (fun ls hl => ?_)
                  exact half _ _ _ _ f2 H locs (ra_l1_y b1 b2) e3 (fun j hj => (e4 j hj).trans (hO j hj)) hP hD hS ls (lv_sub hl [1, 0, 2, 3, 4] rfl)
        exact loop (n + 1) 0 C fk fg L0 0 fn s.heap [] (Nat.zero_le _) (by omega) rfl hL0 (fun _ _ => rfl) hP hD hS ls (lv_sub hl [0, 1, 2, 3, 4] rfl)
      · exact absurd ((nI_eq (by omega) (by omega)).mp c_18) hne
    · rcases hz2 with ⟨-, q⟩ | ⟨q, -⟩
      · exact absurd q (ra_bad_no hf3)
      · exact absurd q c_11
end MX
end
section
set_option maxRecDepth 100000
section MM
variable (l : Launch) {dC : Nat → ClassId} {dI : Nat → Nat → Nat} {h q1 q2 q3 q4 q5 q6 q7 q8 q9 : Nat} {cI cZ : ClassId} {n : Nat} {fl : Nat → Int32} {S O P : Nat → Nat} {AB : Nat → Nat → Bool} {fk fg : Nat → Int64} {C : Nat → Nat} {fr : Nat → Int32} {od : Int32}
set_option maxHeartbeats 4000000 in
set_option maxRecDepth 100000 in
/-- isReplica(r) -/
theorem mm_isReplica (r : Int32) : Met l yX1_isReplica (ws_ yX1_isReplica cX1_isReplica 2 (some .boolean)) ({ frames := 0, cells := 0, slots := 0, locals := 0 }) (va_Pc [.ref h, .int r] (fun U => va_P (dC, dI) vwCl (ra_wM h q1 q2 q3 q4 q5 q6 q7 q8 q9 cI cZ n fl S O P AB fk fg C fr od) U.heap ∧ va_K (dC, dI) vwCl [(cI, .int), (cZ, .boolean)] U)) (vp_Si (fun z => (z = 0 ∧ (r < 0 ∨ 2 < r)) ∨ (z = 1 ∧ ∃ k, k < 3 ∧ r = nI k))) 0 0 (fun _ => False) := by
  refine Met.ofW (cc := cX1_isReplica) (maxL := 2) (ret := some .boolean) (by decide) rfl ?_
  intro p e s m args below meth c s₁ B hml hv
  obtain ⟨rfl, hP, hK⟩ := hv
  have hx := B.exec
  have hb := B.bytes
  have hr := B.returns
  have hts := atoms_spec (ws := (ws_ yX1_isReplica cX1_isReplica 2 (some .boolean))) B.pre
  have hts : ∀ w ∈ lw_all, w.before _ s = true := fun w h => hts w (List.mem_cons_of_mem _ h)
  have hown : s.vm.findClass RX1 = some m.cls := findClass_of_methodNamed B.named
  have hlocks := B.notSynchronized
  have hP : va_P (dC, dI) vwCl (ra_wM h q1 q2 q3 q4 q5 q6 q7 q8 q9 cI cZ n fl S O P AB fk fg C fr od) s.heap := hP
  have hl := lv_entry ([.ref h, .int r]) (n := 2) (Nat.le_of_ble_eq_true rfl)
  rw [lg_entry_eq]
  generalize (lg_sl ([.ref h, .int r]) ++ List.replicate (2 - (lg_sl ([.ref h, .int r])).length) Slot.unset).toArray = ls at hl ⊢
  have hl : lv_has ls 2 [(0, .ref h), (1, .int r)] := hl
  refine lv_iload_n hx hb dX1_isReplica_0 rfl (lv_at hl 1 rfl) ?_
  refine lv_if_lt (tgt := 13) hx hb dX1_isReplica_1 (by decide) (fun c_1 => ?_) (fun c_1 => ?_)
  · refine lv_iconst (v := 0) hx hb dX1_isReplica_13 (by decide) ?_
    exact W.zret (v := 0) hx hb hr rfl (fun t ht hW => ⟨_, rfl, Or.inl ⟨rfl, Or.inl c_1⟩, ht⟩) (fun q h => by cases h) dX1_isReplica_14
  · refine lv_iload_n hx hb dX1_isReplica_4 rfl (lv_at hl 1 rfl) ?_
    refine lv_iconst (v := 3) hx hb dX1_isReplica_5 (by decide) ?_
    refine lv_icmp_ge (tgt := 13) hx hb dX1_isReplica_6 (by decide) (fun c_6 => ?_) (fun c_6 => ?_)
    · refine lv_iconst (v := 0) hx hb dX1_isReplica_13 (by decide) ?_
      exact W.zret (v := 0) hx hb hr rfl (fun t ht hW => ⟨_, rfl, Or.inl ⟨rfl, Or.inr (ra_ge3 c_6)⟩, ht⟩) (fun q h => by cases h) dX1_isReplica_14
    · refine lv_iconst (v := 1) hx hb dX1_isReplica_9 (by decide) ?_
      refine lv_goto (tgt := 14) hx hb dX1_isReplica_10 (by decide) ?_
      exact W.zret (v := 1) hx hb hr rfl (fun t ht hW => ⟨_, rfl, Or.inr ⟨rfl, ra_ok c_1 (Int32.not_le.mp c_6)⟩, ht⟩) (fun q h => by cases h) dX1_isReplica_14
set_option maxHeartbeats 4000000 in
set_option maxRecDepth 100000 in
/-- isKnown(rp, x) -/
theorem mm_isKnown (rp : Nat) (x0 : Int32) (hr3 : rp < 3) (hn : n ≤ 40) : Met l yX1_isKnown (ws_ yX1_isKnown cX1_isKnown 3 (some .boolean)) ({ frames := 0, cells := 0, slots := 0, locals := 0 }) (va_Pc [.ref h, .int (nI rp), .int x0] (fun U => va_P (dC, dI) vwCl (ra_wM h q1 q2 q3 q4 q5 q6 q7 q8 q9 cI cZ n fl S O P AB fk fg C fr od) U.heap ∧ va_K (dC, dI) vwCl [(cI, .int), (cZ, .boolean)] U)) (vp_Si (fun z => z = ra_b (ra_kn n fk rp x0))) 0 0 (fun _ => False) := by
  refine Met.ofW (cc := cX1_isKnown) (maxL := 3) (ret := some .boolean) (by decide) rfl ?_
  intro p e s m args below meth c s₁ B hml hv
  obtain ⟨rfl, hP, hK⟩ := hv
  have hx := B.exec
  have hb := B.bytes
  have hr := B.returns
  have hts := atoms_spec (ws := (ws_ yX1_isKnown cX1_isKnown 3 (some .boolean))) B.pre
  have hts : ∀ w ∈ lw_all, w.before _ s = true := fun w h => hts w (List.mem_cons_of_mem _ h)
  have hown : s.vm.findClass RX1 = some m.cls := findClass_of_methodNamed B.named
  have hlocks := B.notSynchronized
  have hP : va_P (dC, dI) vwCl (ra_wM h q1 q2 q3 q4 q5 q6 q7 q8 q9 cI cZ n fl S O P AB fk fg C fr od) s.heap := hP
  have hl := lv_entry ([.ref h, .int (nI rp), .int x0]) (n := 3) (Nat.le_of_ble_eq_true rfl)
  rw [lg_entry_eq]
  generalize (lg_sl ([.ref h, .int (nI rp), .int x0]) ++ List.replicate (3 - (lg_sl ([.ref h, .int (nI rp), .int x0])).length) Slot.unset).toArray = ls at hl ⊢
  have hl : lv_has ls 3 [(0, .ref h), (1, .int (nI rp)), (2, .int x0)] := hl
  refine lv_iload_n hx hb dX1_isKnown_0 rfl (lv_at hl 2 rfl) ?_
  refine lv_if_lt (tgt := 30) hx hb dX1_isKnown_1 (by decide) (fun c_1 => ?_) (fun c_1 => ?_)
  · refine lv_iconst (v := 0) hx hb dX1_isKnown_30 (by decide) ?_
    exact W.zret (v := 0) hx hb hr rfl (fun t ht hW => ⟨_, rfl, by rw [ra_kn_neg c_1]; rfl, ht⟩) (fun q h => by cases h) dX1_isKnown_31
  · refine lv_iload_n hx hb dX1_isKnown_4 rfl (lv_at hl 2 rfl) ?_
    refine lv_aload_n hx hb dX1_isKnown_5 rfl (lv_at hl 0 rfl) ?_
    refine va_get (D := (dC, dI)) (ci := 1) (v := .int (nI n)) (C := RX1) (T := TX1) (N := 11) hx hb hts in_X1 hown hK hP 0 rfl rfl 0 (by decide) (hts _ q145) (fun _ h9 => h9) rfl dX1_isKnown_6 ?_
    refine lv_icmp_ge (tgt := 30) hx hb dX1_isKnown_9 (by decide) (fun c_9 => ?_) (fun c_9 => ?_)
    · refine lv_iconst (v := 0) hx hb dX1_isKnown_30 (by decide) ?_
      exact W.zret (v := 0) hx hb hr rfl (fun t ht hW => ⟨_, rfl, by rw [ra_kn_big hn c_9]; rfl, ht⟩) (fun q h => by cases h) dX1_isKnown_31
    · obtain ⟨k, hk, rfl⟩ := nI_of c_1
      have hkn : k < n := by rw [nI_leI (by omega) hk] at c_9; omega
      refine lv_aload_n hx hb dX1_isKnown_12 rfl (lv_at hl 0 rfl) ?_
      refine va_get (D := (dC, dI)) (ci := 1) (v := .ref q6) (C := RX1) (T := TX1) (N := 11) hx hb hts in_X1 hown hK hP 0 rfl rfl 6 (by decide) (hts _ q151) (fun _ h9 => h9) rfl dX1_isKnown_13 ?_
      refine lv_iload_n hx hb dX1_isKnown_16 rfl (lv_at hl 1 rfl) ?_
      refine lv_bipush (v := 40) hx hb dX1_isKnown_17 (by decide) ?_
      refine lv_imul hx hb dX1_isKnown_19 ?_
      refine lv_iload_n hx hb dX1_isKnown_20 rfl (lv_at hl 2 rfl) ?_
      refine lv_iadd hx hb dX1_isKnown_21 ?_
      refine ra_zald hx hb hK hP 6 1 rfl rfl (k := 40 * rp + k) (ra_x40 _ _) (by omega) (by decide) (v := ra_b (ra_bt (fk rp) k)) (ra_zb_at _ (by omega)) dX1_isKnown_22 ?_
      refine lv_if_eq (tgt := 30) hx hb dX1_isKnown_23 (by decide) (fun c_23 => ?_) (fun c_23 => ?_)
      · refine lv_iconst (v := 0) hx hb dX1_isKnown_30 (by decide) ?_
        exact W.zret (v := 0) hx hb hr rfl (fun t ht hW => ⟨_, rfl, by rw [ra_kn_no hkn hn ((ra_b_eq _).mp c_23)]; rfl, ht⟩) (fun q h => by cases h) dX1_isKnown_31
      · refine lv_iconst (v := 1) hx hb dX1_isKnown_26 (by decide) ?_
        refine lv_goto (tgt := 31) hx hb dX1_isKnown_27 (by decide) ?_
        exact W.zret (v := 1) hx hb hr rfl (fun t ht hW => ⟨_, rfl, by rw [ra_kn_t hkn hn ((ra_b_ne _).mp c_23)]; rfl, ht⟩) (fun q h => by cases h) dX1_isKnown_31
set_option maxHeartbeats 4000000 in
set_option maxRecDepth 100000 in
/-- isShown(rp, x) -/
theorem mm_isShown (rp : Nat) (x0 : Int32) (hr3 : rp < 3) (hn : n ≤ 40) : Met l yX1_isShown (ws_ yX1_isShown cX1_isShown 3 (some .boolean)) ({ frames := 1, cells := 0, slots := 0, locals := 30 }) (va_Pc [.ref h, .int (nI rp), .int x0] (fun U => va_P (dC, dI) vwCl (ra_wM h q1 q2 q3 q4 q5 q6 q7 q8 q9 cI cZ n fl S O P AB fk fg C fr od) U.heap ∧ va_K (dC, dI) vwCl [(cI, .int), (cZ, .boolean)] U)) (vp_Si (fun z => z = ra_b (ra_kn n fk rp x0 && ra_sh fg rp x0.toNatClampNeg))) 0 0 (fun _ => False) := by
  refine Met.ofW (cc := cX1_isShown) (maxL := 3) (ret := some .boolean) (by decide) rfl ?_
  intro p e s m args below meth c s₁ B hml hv
  obtain ⟨rfl, hP, hK⟩ := hv
  have hx := B.exec
  have hb := B.bytes
  have hr := B.returns
  have hts := atoms_spec (ws := (ws_ yX1_isShown cX1_isShown 3 (some .boolean))) B.pre
  have hts : ∀ w ∈ lw_all, w.before _ s = true := fun w h => hts w (List.mem_cons_of_mem _ h)
  have hown : s.vm.findClass RX1 = some m.cls := findClass_of_methodNamed B.named
  have hlocks := B.notSynchronized
  have hP : va_P (dC, dI) vwCl (ra_wM h q1 q2 q3 q4 q5 q6 q7 q8 q9 cI cZ n fl S O P AB fk fg C fr od) s.heap := hP
  have hl := lv_entry ([.ref h, .int (nI rp), .int x0]) (n := 3) (Nat.le_of_ble_eq_true rfl)
  rw [lg_entry_eq]
  generalize (lg_sl ([.ref h, .int (nI rp), .int x0]) ++ List.replicate (3 - (lg_sl ([.ref h, .int (nI rp), .int x0])).length) Slot.unset).toArray = ls at hl ⊢
  have hl : lv_has ls 3 [(0, .ref h), (1, .int (nI rp)), (2, .int x0)] := hl
  refine lv_aload_n hx hb dX1_isShown_0 rfl (lv_at hl 0 rfl) ?_
  refine lv_iload_n hx hb dX1_isShown_1 rfl (lv_at hl 1 rfl) ?_
  refine lv_iload_n hx hb dX1_isShown_2 rfl (lv_at hl 2 rfl) ?_
  refine ra_cV (Cn := RX1) ⟨hx, hb, hml, hown, hts⟩ [.int (nI rp), .int x0] [] (mm_isKnown l rp x0 hr3 hn) (cwV 2 hts (lw_V q196 q198 qs11 q18 q199) rfl rfl rfl (by decide +kernel) ⟨Nat.le_of_ble_eq_true rfl, Nat.le_of_ble_eq_true rfl⟩) hP hK (va_recv hK hP (ci := 1) (q0 := 0) rfl rfl) rfl hl.1 rfl (Nat.le_of_ble_eq_true rfl) dX1_isShown_3 ⟨Nat.le_of_ble_eq_true rfl, Nat.le_of_ble_eq_true rfl⟩ (fun z hz => ?_)
  refine lv_if_eq (tgt := 27) hx hb dX1_isShown_6 (by decide) (fun c_6 => ?_) (fun c_6 => ?_)
  · refine lv_iconst (v := 0) hx hb dX1_isShown_27 (by decide) ?_
    exact W.zret (v := 0) hx hb hr rfl (fun t ht hW => ⟨_, rfl, by have q : ra_kn n fk rp x0 = false := (ra_b_eq _).mp (hz ▸ c_6); rw [q]; rfl, ht⟩) (fun q h => by cases h) dX1_isShown_28
  · have hk : ra_kn n fk rp x0 = true := (ra_b_ne _).mp (hz ▸ c_6)
    obtain ⟨a, han, rfl, -⟩ := ra_kn_of hk
    rw [hk, nI_clamp (by omega)]
    refine lv_aload_n hx hb dX1_isShown_9 rfl (lv_at hl 0 rfl) ?_
    refine va_get (D := (dC, dI)) (ci := 1) (v := .ref q7) (C := RX1) (T := TX1) (N := 11) hx hb hts in_X1 hown hK hP 0 rfl rfl 7 (by decide) (hts _ q152) (fun _ h9 => h9) rfl dX1_isShown_10 ?_
    refine lv_iload_n hx hb dX1_isShown_13 rfl (lv_at hl 1 rfl) ?_
    refine lv_bipush (v := 40) hx hb dX1_isShown_14 (by decide) ?_
    refine lv_imul hx hb dX1_isShown_16 ?_
    refine lv_iload_n hx hb dX1_isShown_17 rfl (lv_at hl 2 rfl) ?_
    refine lv_iadd hx hb dX1_isShown_18 ?_
    refine ra_zald hx hb hK hP 7 1 rfl rfl (k := 40 * rp + a) (ra_x40 _ _) (by omega) (by decide) (v := ra_b (ra_bt (fg rp) a)) (ra_zb_at _ (by omega)) dX1_isShown_19 ?_
    refine lv_if_ne (tgt := 27) hx hb dX1_isShown_20 (by decide) (fun c_20 => ?_) (fun c_20 => ?_)
    · refine lv_iconst (v := 0) hx hb dX1_isShown_27 (by decide) ?_
      exact W.zret (v := 0) hx hb hr rfl (fun t ht hW => ⟨_, rfl, by rw [ra_sh, (ra_b_ne _).mp c_20]; rfl, ht⟩) (fun q h => by cases h) dX1_isShown_28
    · refine lv_iconst (v := 1) hx hb dX1_isShown_23 (by decide) ?_
      refine lv_goto (tgt := 28) hx hb dX1_isShown_24 (by decide) ?_
      exact W.zret (v := 1) hx hb hr rfl (fun t ht hW => ⟨_, rfl, by rw [ra_sh, (ra_b_eq _).mp c_20]; rfl, ht⟩) (fun q h => by cases h) dX1_isShown_28
set_option maxHeartbeats 4000000 in
set_option maxRecDepth 100000 in
/-- branch(a, b) -/
theorem mm_branch (a b : Nat) (ha : a < n) (hbn : b < n) (hn : n ≤ 40) (hpar : ∀ k, k < n → P k = 40 ∨ P k < k) (hab : a ∉ ra_path P b) (hAB : ra_ab n P AB) : Met l yX1_branch (ws_ yX1_branch cX1_branch 4 (some .int)) ({ frames := 0, cells := 0, slots := 0, locals := 0 }) (va_Pc [.ref h, .int (nI a), .int (nI b)] (fun U => va_P (dC, dI) vwCl (ra_wM h q1 q2 q3 q4 q5 q6 q7 q8 q9 cI cZ n fl S O P AB fk fg C fr od) U.heap ∧ va_K (dC, dI) vwCl [(cI, .int), (cZ, .boolean)] U)) (vp_Si (fun z => ∃ k, z = nI k ∧ k ∈ ra_path P a ∧ k ∉ ra_path P b ∧ (¬ P k < k ∨ P k ∈ ra_path P b))) 0 0 (fun _ => False) := by
  refine Met.ofW (cc := cX1_branch) (maxL := 4) (ret := some .int) (by decide) rfl ?_
  intro p e s m args below meth c s₁ B hml hv
  obtain ⟨rfl, hP, hK⟩ := hv
  have hx := B.exec
  have hb := B.bytes
  have hr := B.returns
  have hts := atoms_spec (ws := (ws_ yX1_branch cX1_branch 4 (some .int))) B.pre
  have hts : ∀ w ∈ lw_all, w.before _ s = true := fun w h => hts w (List.mem_cons_of_mem _ h)
  have hown : s.vm.findClass RX1 = some m.cls := findClass_of_methodNamed B.named
  have hlocks := B.notSynchronized
  have hP : va_P (dC, dI) vwCl (ra_wM h q1 q2 q3 q4 q5 q6 q7 q8 q9 cI cZ n fl S O P AB fk fg C fr od) s.heap := hP
  have hl := lv_entry ([.ref h, .int (nI a), .int (nI b)]) (n := 4) (Nat.le_of_ble_eq_true rfl)
  rw [lg_entry_eq]
  generalize (lg_sl ([.ref h, .int (nI a), .int (nI b)]) ++ List.replicate (4 - (lg_sl ([.ref h, .int (nI a), .int (nI b)])).length) Slot.unset).toArray = ls at hl ⊢
  have hl : lv_has ls 4 [(0, .ref h), (1, .int (nI a)), (2, .int (nI b))] := hl
  refine lv_iload_n hx hb dX1_branch_0 rfl (lv_at hl 1 rfl) ?_
  refine lv_istore_n (lv' := [(3, .int (nI a)), (0, .ref h), (1, .int (nI a)), (2, .int (nI b))]) hx hb dX1_branch_1 rfl hl (by decide) rfl (fun ls hl => ?_)
  have loop : ∀ (k tp : Nat), tp < k → tp ∈ ra_path P a → tp ∉ ra_path P b → ∀ (ls : Array Slot), lv_has ls 4 [(3, .int (nI tp)), (0, .ref h), (1, .int (nI a)), (2, .int (nI b))] → ra_WR p l e s m below meth c (ws_ yX1_branch cX1_branch 4 (some .int)) ({ frames := 0, cells := 0, slots := 0, locals := 0 }) [.ref h, .int (nI a), .int (nI b)] (fun z => ∃ k, z = nI k ∧ k ∈ ra_path P a ∧ k ∉ ra_path P b ∧ (¬ P k < k ∨ P k ∈ ra_path P b)) 2 ls [] := by
    intro k
    induction k with
    | zero => intro tp h1; exact absurd h1 (Nat.not_lt_zero _)
    | succ k ih =>
      intro tp h1 h2 h3 ls hl
      have hta := ra_path_le a tp h2
      rcases hpar tp (by omega) with hp | hp
      · refine lv_aload_n hx hb dX1_branch_2 rfl (lv_at hl 1 rfl) ?_
        refine va_get (D := (dC, dI)) (ci := 1) (v := .ref q4) (C := RX1) (T := TX1) (N := 11) hx hb hts in_X1 hown hK hP 0 rfl rfl 4 (by decide) (hts _ q149) (fun _ h9 => h9) rfl dX1_branch_3 ?_
        refine lv_iload_n hx hb dX1_branch_6 rfl (lv_at hl 0 rfl) ?_
        refine ra_iald hx hb hK hP 4 0 rfl rfl (k := tp) rfl (by omega) (by decide) (v := (-5)) (if_pos hp) dX1_branch_7 ?_
        refine lv_if_lt (tgt := 40) hx hb dX1_branch_8 (by decide) (fun c_8 => ?_) (fun c_8 => ?_)
        · refine lv_iload_n hx hb dX1_branch_40 rfl (lv_at hl 0 rfl) ?_
          exact W.iret (v := nI tp) hx hb hr (fun t ht hW => ⟨_, rfl, ⟨tp, rfl, h2, h3, Or.inl (by omega)⟩, ht⟩) (fun q h => by cases h) dX1_branch_41
        · exact absurd (by decide) c_8
      · have hpm : ra_pm P tp = nI (P tp) := if_neg (by omega)
        refine lv_aload_n hx hb dX1_branch_2 rfl (lv_at hl 1 rfl) ?_
        refine va_get (D := (dC, dI)) (ci := 1) (v := .ref q4) (C := RX1) (T := TX1) (N := 11) hx hb hts in_X1 hown hK hP 0 rfl rfl 4 (by decide) (hts _ q149) (fun _ h9 => h9) rfl dX1_branch_3 ?_
        refine lv_iload_n hx hb dX1_branch_6 rfl (lv_at hl 0 rfl) ?_
        refine ra_iald hx hb hK hP 4 0 rfl rfl (k := tp) rfl (by omega) (by decide) (v := nI (P tp)) hpm dX1_branch_7 ?_
        refine lv_if_lt (tgt := 40) hx hb dX1_branch_8 (by decide) (fun c_8 => ?_) (fun c_8 => ?_)
        · exact absurd c_8 (nI_pos (by omega))
        · refine lv_aload_n hx hb dX1_branch_11 rfl (lv_at hl 1 rfl) ?_
          refine va_get (D := (dC, dI)) (ci := 1) (v := .ref q5) (C := RX1) (T := TX1) (N := 11) hx hb hts in_X1 hown hK hP 0 rfl rfl 5 (by decide) (hts _ q150) (fun _ h9 => h9) rfl dX1_branch_12 ?_
          refine lv_iload_n hx hb dX1_branch_15 rfl (lv_at hl 3 rfl) ?_
          refine lv_bipush (v := 40) hx hb dX1_branch_16 (by decide) ?_
          refine lv_imul hx hb dX1_branch_18 ?_
          refine lv_aload_n hx hb dX1_branch_19 rfl (lv_at hl 1 rfl) ?_
          refine va_get (D := (dC, dI)) (ci := 1) (v := .ref q4) (C := RX1) (T := TX1) (N := 11) hx hb hts in_X1 hown hK hP 0 rfl rfl 4 (by decide) (hts _ q149) (fun _ h9 => h9) rfl dX1_branch_20 ?_
          refine lv_iload_n hx hb dX1_branch_23 rfl (lv_at hl 0 rfl) ?_
          refine ra_iald hx hb hK hP 4 0 rfl rfl (k := tp) rfl (by omega) (by decide) (v := nI (P tp)) hpm dX1_branch_24 ?_
          refine lv_iadd hx hb dX1_branch_25 ?_
          refine ra_zald hx hb hK hP 5 1 rfl rfl (k := 40 * b + (P tp)) (ra_x40 _ _) (by omega) (by decide) (v := ra_b (AB b (P tp))) (ra_zA_at _ (by omega)) dX1_branch_26 ?_
          refine lv_if_ne (tgt := 40) hx hb dX1_branch_27 (by decide) (fun c_27 => ?_) (fun c_27 => ?_)
          · refine lv_iload_n hx hb dX1_branch_40 rfl (lv_at hl 0 rfl) ?_
            exact W.iret (v := nI tp) hx hb hr (fun t ht hW => ⟨_, rfl, ⟨tp, rfl, h2, h3, Or.inr (by have q := (ra_b_ne _).mp c_27; rw [hAB b hbn (P tp) (by omega)] at q; exact of_decide_eq_true q)⟩, ht⟩) (fun q h => by cases h) dX1_branch_41
          · have hq : P tp ∉ ra_path P b := by
              have q := (ra_b_eq _).mp c_27
              rw [hAB b hbn (P tp) (by omega)] at q
              exact of_decide_eq_false q
            have hq2 : P tp ∈ ra_path P a := by
              obtain ⟨z, hz⟩ := ra_mem_path h2
              rw [hz]
              refine List.mem_append_left _ ?_
              rcases ra_path_cases P tp with ⟨-, e⟩ | ⟨e, -⟩
              · rw [e]
                exact List.mem_append_left _ (ra_path_self P _)
              · exact absurd hp e
            refine lv_aload_n hx hb dX1_branch_30 rfl (lv_at hl 1 rfl) ?_
            refine va_get (D := (dC, dI)) (ci := 1) (v := .ref q4) (C := RX1) (T := TX1) (N := 11) hx hb hts in_X1 hown hK hP 0 rfl rfl 4 (by decide) (hts _ q149) (fun _ h9 => h9) rfl dX1_branch_31 ?_
            refine lv_iload_n hx hb dX1_branch_34 rfl (lv_at hl 0 rfl) ?_
            refine ra_iald hx hb hK hP 4 0 rfl rfl (k := tp) rfl (by omega) (by decide) (v := nI (P tp)) hpm dX1_branch_35 ?_
            refine lv_istore_n (lv' := [(3, .int (nI (P tp))), (0, .ref h), (1, .int (nI a)), (2, .int (nI b))]) hx hb dX1_branch_36 rfl hl (by decide) rfl (fun ls hl => ?_)
            refine lv_goto (tgt := 2) hx hb dX1_branch_37 (by decide) ?_
            exact ih (P tp) (by omega) hq2 hq ls (lv_sub hl [0, 1, 2, 3] rfl)
  exact loop (a + 1) a (by omega) (ra_path_self P a) hab ls (lv_sub hl [0, 1, 2, 3] rfl)
set_option maxHeartbeats 4000000 in
set_option maxRecDepth 100000 in
/-- before(a, b) -/
theorem mm_before (a b : Nat) (ha : a < n) (hbn : b < n) (hn : n ≤ 40) (hSO : ∀ k, S k ≤ 40 ∧ O k < 3) (hpar : ∀ k, k < n → P k = 40 ∨ P k < k) (hAB : ra_ab n P AB) : Met l yX1_before (ws_ yX1_before cX1_before 5 (some .boolean)) ({ frames := 1, cells := 0, slots := 0, locals := 30 }) (va_Pc [.ref h, .int (nI a), .int (nI b)] (fun U => va_P (dC, dI) vwCl (ra_wM h q1 q2 q3 q4 q5 q6 q7 q8 q9 cI cZ n fl S O P AB fk fg C fr od) U.heap ∧ va_K (dC, dI) vwCl [(cI, .int), (cZ, .boolean)] U)) (vp_Si (fun z => z = ra_b (ra_bf S O P a b))) 0 0 (fun _ => False) := by
  refine Met.ofW (cc := cX1_before) (maxL := 5) (ret := some .boolean) (by decide) rfl ?_
  intro p e s m args below meth c s₁ B hml hv
  obtain ⟨rfl, hP, hK⟩ := hv
  have hx := B.exec
  have hb := B.bytes
  have hr := B.returns
  have hts := atoms_spec (ws := (ws_ yX1_before cX1_before 5 (some .boolean))) B.pre
  have hts : ∀ w ∈ lw_all, w.before _ s = true := fun w h => hts w (List.mem_cons_of_mem _ h)
  have hown : s.vm.findClass RX1 = some m.cls := findClass_of_methodNamed B.named
  have hlocks := B.notSynchronized
  have hP : va_P (dC, dI) vwCl (ra_wM h q1 q2 q3 q4 q5 q6 q7 q8 q9 cI cZ n fl S O P AB fk fg C fr od) s.heap := hP
  have hl := lv_entry ([.ref h, .int (nI a), .int (nI b)]) (n := 5) (Nat.le_of_ble_eq_true rfl)
  rw [lg_entry_eq]
  generalize (lg_sl ([.ref h, .int (nI a), .int (nI b)]) ++ List.replicate (5 - (lg_sl ([.ref h, .int (nI a), .int (nI b)])).length) Slot.unset).toArray = ls at hl ⊢
  have hl : lv_has ls 5 [(0, .ref h), (1, .int (nI a)), (2, .int (nI b))] := hl
  refine lv_aload_n hx hb dX1_before_0 rfl (lv_at hl 0 rfl) ?_
  refine va_get (D := (dC, dI)) (ci := 1) (v := .ref q5) (C := RX1) (T := TX1) (N := 11) hx hb hts in_X1 hown hK hP 0 rfl rfl 5 (by decide) (hts _ q150) (fun _ h9 => h9) rfl dX1_before_1 ?_
  refine lv_iload_n hx hb dX1_before_4 rfl (lv_at hl 2 rfl) ?_
  refine lv_bipush (v := 40) hx hb dX1_before_5 (by decide) ?_
  refine lv_imul hx hb dX1_before_7 ?_
  refine lv_iload_n hx hb dX1_before_8 rfl (lv_at hl 1 rfl) ?_
  refine lv_iadd hx hb dX1_before_9 ?_
  refine ra_zald hx hb hK hP 5 1 rfl rfl (k := 40 * b + a) (ra_x40 _ _) (by omega) (by decide) (v := ra_b (AB b a)) (ra_zA_at _ (by omega)) dX1_before_10 ?_
  refine lv_if_eq (tgt := 16) hx hb dX1_before_11 (by decide) (fun c_11 => ?_) (fun c_11 => ?_)
  · have hab : a ∉ ra_path P b := by
      have q := (ra_b_eq _).mp c_11
      rw [hAB b hbn a (by omega)] at q
      exact of_decide_eq_false q
    refine lv_aload_n hx hb dX1_before_16 rfl (lv_at hl 0 rfl) ?_
    refine va_get (D := (dC, dI)) (ci := 1) (v := .ref q5) (C := RX1) (T := TX1) (N := 11) hx hb hts in_X1 hown hK hP 0 rfl rfl 5 (by decide) (hts _ q150) (fun _ h9 => h9) rfl dX1_before_17 ?_
    refine lv_iload_n hx hb dX1_before_20 rfl (lv_at hl 1 rfl) ?_
    refine lv_bipush (v := 40) hx hb dX1_before_21 (by decide) ?_
    refine lv_imul hx hb dX1_before_23 ?_
    refine lv_iload_n hx hb dX1_before_24 rfl (lv_at hl 2 rfl) ?_
    refine lv_iadd hx hb dX1_before_25 ?_
    refine ra_zald hx hb hK hP 5 1 rfl rfl (k := 40 * a + b) (ra_x40 _ _) (by omega) (by decide) (v := ra_b (AB a b)) (ra_zA_at _ (by omega)) dX1_before_26 ?_
    refine lv_if_eq (tgt := 32) hx hb dX1_before_27 (by decide) (fun c_27 => ?_) (fun c_27 => ?_)
    · have hba : b ∉ ra_path P a := by
        have q := (ra_b_eq _).mp c_27
        rw [hAB a ha b (by omega)] at q
        exact of_decide_eq_false q
      refine lv_aload_n hx hb dX1_before_32 rfl (lv_at hl 0 rfl) ?_
      refine lv_iload_n hx hb dX1_before_33 rfl (lv_at hl 1 rfl) ?_
      refine lv_iload_n hx hb dX1_before_34 rfl (lv_at hl 2 rfl) ?_
      refine ra_cV (Cn := RX1) ⟨hx, hb, hml, hown, hts⟩ [.int (nI a), .int (nI b)] [] (mm_branch l a b ha hbn hn hpar hab hAB) (cwV 2 hts (lw_V q216 q218 qs15 q18 q219) rfl rfl rfl (by decide +kernel) ⟨Nat.le_of_ble_eq_true rfl, Nat.le_of_ble_eq_true rfl⟩) hP hK (va_recv hK hP (ci := 1) (q0 := 0) rfl rfl) rfl hl.1 rfl (Nat.le_of_ble_eq_true rfl) dX1_before_35 ⟨Nat.le_of_ble_eq_true rfl, Nat.le_of_ble_eq_true rfl⟩ (fun z hz => ?_)
      obtain ⟨p0, rfl, p1, p2, p3⟩ := hz
      have hp0 := ra_path_le a p0 p1
      refine lv_istore_n (lv' := [(3, .int (nI p0)), (0, .ref h), (1, .int (nI a)), (2, .int (nI b))]) hx hb dX1_before_38 rfl hl (by decide) rfl (fun ls hl => ?_)
      refine lv_aload_n hx hb dX1_before_39 rfl (lv_at hl 1 rfl) ?_
      refine lv_iload_n hx hb dX1_before_40 rfl (lv_at hl 3 rfl) ?_
      refine lv_iload_n hx hb dX1_before_41 rfl (lv_at hl 2 rfl) ?_
      refine ra_cV (Cn := RX1) ⟨hx, hb, hml, hown, hts⟩ [.int (nI b), .int (nI a)] [] (mm_branch l b a hbn ha hn hpar hba hAB) (cwV 2 hts (lw_V q216 q218 qs15 q18 q219) rfl rfl rfl (by decide +kernel) ⟨Nat.le_of_ble_eq_true rfl, Nat.le_of_ble_eq_true rfl⟩) hP hK (va_recv hK hP (ci := 1) (q0 := 0) rfl rfl) rfl hl.1 rfl (Nat.le_of_ble_eq_true rfl) dX1_before_42 ⟨Nat.le_of_ble_eq_true rfl, Nat.le_of_ble_eq_true rfl⟩ (fun z2 hz2 => ?_)
      obtain ⟨r0, rfl, r1, r2, r3⟩ := hz2
      have hr0 := ra_path_le b r0 r1
      have hbf := ra_bf_br (S := S) (O := O) p1 p2 p3 r1 r2 r3
      have hS1 := hSO p0
      have hS2 := hSO r0
      refine lv_istore (lv' := [(4, .int (nI r0)), (3, .int (nI p0)), (0, .ref h), (1, .int (nI a)), (2, .int (nI b))]) hx hb dX1_before_45 hl (by decide) rfl (fun ls hl => ?_)
      refine lv_aload_n hx hb dX1_before_47 rfl (lv_at hl 2 rfl) ?_
      refine va_get (D := (dC, dI)) (ci := 1) (v := .ref q2) (C := RX1) (T := TX1) (N := 11) hx hb hts in_X1 hown hK hP 0 rfl rfl 2 (by decide) (hts _ q147) (fun _ h9 => h9) rfl dX1_before_48 ?_
      refine lv_iload_n hx hb dX1_before_51 rfl (lv_at hl 1 rfl) ?_
      refine ra_iald hx hb hK hP 2 0 rfl rfl (k := p0) rfl (by omega) (by decide) (v := nI (S p0)) rfl dX1_before_52 ?_
      refine lv_aload_n hx hb dX1_before_53 rfl (lv_at hl 2 rfl) ?_
      refine va_get (D := (dC, dI)) (ci := 1) (v := .ref q2) (C := RX1) (T := TX1) (N := 11) hx hb hts in_X1 hown hK hP 0 rfl rfl 2 (by decide) (hts _ q147) (fun _ h9 => h9) rfl dX1_before_54 ?_
      refine lv_iload hx hb dX1_before_57 (lv_at hl 0 rfl) ?_
      refine ra_iald hx hb hK hP 2 0 rfl rfl (k := r0) rfl (by omega) (by decide) (v := nI (S r0)) rfl dX1_before_59 ?_
      refine lv_icmp_gt (tgt := 95) hx hb dX1_before_60 (by decide) (fun c_60 => ?_) (fun c_60 => ?_)
      · refine lv_iconst (v := 1) hx hb dX1_before_95 (by decide) ?_
        refine lv_goto (tgt := 100) hx hb dX1_before_96 (by decide) ?_
        exact W.zret (v := 1) hx hb hr rfl (fun t ht hW => ⟨_, rfl, by (rw [(nI_ltI (by omega) (by omega))] at c_60); rw [hbf]; unfold ra_key; rw [decide_eq_true (by omega)]; rfl, ht⟩) (fun q h => by cases h) dX1_before_100
      · refine lv_aload_n hx hb dX1_before_63 rfl (lv_at hl 2 rfl) ?_
        refine va_get (D := (dC, dI)) (ci := 1) (v := .ref q2) (C := RX1) (T := TX1) (N := 11) hx hb hts in_X1 hown hK hP 0 rfl rfl 2 (by decide) (hts _ q147) (fun _ h9 => h9) rfl dX1_before_64 ?_
        refine lv_iload_n hx hb dX1_before_67 rfl (lv_at hl 1 rfl) ?_
        refine ra_iald hx hb hK hP 2 0 rfl rfl (k := p0) rfl (by omega) (by decide) (v := nI (S p0)) rfl dX1_before_68 ?_
        refine lv_aload_n hx hb dX1_before_69 rfl (lv_at hl 2 rfl) ?_
        refine va_get (D := (dC, dI)) (ci := 1) (v := .ref q2) (C := RX1) (T := TX1) (N := 11) hx hb hts in_X1 hown hK hP 0 rfl rfl 2 (by decide) (hts _ q147) (fun _ h9 => h9) rfl dX1_before_70 ?_
        refine lv_iload hx hb dX1_before_73 (lv_at hl 0 rfl) ?_
        refine ra_iald hx hb hK hP 2 0 rfl rfl (k := r0) rfl (by omega) (by decide) (v := nI (S r0)) rfl dX1_before_75 ?_
        refine lv_icmp_ne (tgt := 99) hx hb dX1_before_76 (by decide) (fun c_76 => ?_) (fun c_76 => ?_)
        · refine lv_iconst (v := 0) hx hb dX1_before_99 (by decide) ?_
          exact W.zret (v := 0) hx hb hr rfl (fun t ht hW => ⟨_, rfl, by (rw [(nI_ltI (by omega) (by omega))] at c_60; rw [(nI_eq (by omega) (by omega))] at c_76); rw [hbf]; unfold ra_key; rw [decide_eq_false (by omega)]; rfl, ht⟩) (fun q h => by cases h) dX1_before_100
        · refine lv_aload_n hx hb dX1_before_79 rfl (lv_at hl 2 rfl) ?_
          refine va_get (D := (dC, dI)) (ci := 1) (v := .ref q3) (C := RX1) (T := TX1) (N := 11) hx hb hts in_X1 hown hK hP 0 rfl rfl 3 (by decide) (hts _ q148) (fun _ h9 => h9) rfl dX1_before_80 ?_
          refine lv_iload_n hx hb dX1_before_83 rfl (lv_at hl 1 rfl) ?_
          refine ra_iald hx hb hK hP 3 0 rfl rfl (k := p0) rfl (by omega) (by decide) (v := nI (O p0)) rfl dX1_before_84 ?_
          refine lv_aload_n hx hb dX1_before_85 rfl (lv_at hl 2 rfl) ?_
          refine va_get (D := (dC, dI)) (ci := 1) (v := .ref q3) (C := RX1) (T := TX1) (N := 11) hx hb hts in_X1 hown hK hP 0 rfl rfl 3 (by decide) (hts _ q148) (fun _ h9 => h9) rfl dX1_before_86 ?_
          refine lv_iload hx hb dX1_before_89 (lv_at hl 0 rfl) ?_
          refine ra_iald hx hb hK hP 3 0 rfl rfl (k := r0) rfl (by omega) (by decide) (v := nI (O r0)) rfl dX1_before_91 ?_
          refine lv_icmp_le (tgt := 99) hx hb dX1_before_92 (by decide) (fun c_92 => ?_) (fun c_92 => ?_)
          · refine lv_iconst (v := 0) hx hb dX1_before_99 (by decide) ?_
            exact W.zret (v := 0) hx hb hr rfl (fun t ht hW => ⟨_, rfl, by (rw [(nI_ltI (by omega) (by omega))] at c_60; rw [(nI_eq (by omega) (by omega))] at c_76; rw [(nI_leI (by omega) (by omega))] at c_92); rw [hbf]; unfold ra_key; rw [decide_eq_false (by omega)]; rfl, ht⟩) (fun q h => by cases h) dX1_before_100
          · refine lv_iconst (v := 1) hx hb dX1_before_95 (by decide) ?_
            refine lv_goto (tgt := 100) hx hb dX1_before_96 (by decide) ?_
            exact W.zret (v := 1) hx hb hr rfl (fun t ht hW => ⟨_, rfl, by (rw [(nI_ltI (by omega) (by omega))] at c_60; rw [(nI_eq (by omega) (by omega))] at c_76; rw [(nI_leI (by omega) (by omega))] at c_92); rw [hbf]; unfold ra_key; rw [decide_eq_true (by omega)]; rfl, ht⟩) (fun q h => by cases h) dX1_before_100
    · refine lv_iconst (v := 0) hx hb dX1_before_30 (by decide) ?_
      exact W.zret (v := 0) hx hb hr rfl (fun t ht hW => ⟨_, rfl, by have q := (ra_b_ne _).mp c_27; rw [hAB a ha b (by omega)] at q; rw [ra_bf_dn (of_decide_eq_true q) (fun e => hab (by rw [e]; exact ra_path_self P b))]; rfl, ht⟩) (fun q h => by cases h) dX1_before_31
  · refine lv_iconst (v := 1) hx hb dX1_before_14 (by decide) ?_
    exact W.zret (v := 1) hx hb hr rfl (fun t ht hW => ⟨_, rfl, by have q := (ra_b_ne _).mp c_11; rw [hAB b hbn a (by omega)] at q; rw [ra_bf_up (of_decide_eq_true q)]; rfl, ht⟩) (fun q h => by cases h) dX1_before_15
end MM
end
section
set_option maxRecDepth 100000
section MM
variable (l : Launch) {dC : Nat → ClassId} {dI : Nat → Nat → Nat} {h q1 q2 q3 q4 q5 q6 q7 q8 q9 : Nat} {cI cZ : ClassId} {n : Nat} {fl : Nat → Int32} {S O P : Nat → Nat} {AB : Nat → Nat → Bool} {fk fg : Nat → Int64} {C : Nat → Nat} {fr : Nat → Int32} {od : Int32}
set_option maxHeartbeats 4000000 in
set_option maxRecDepth 100000 in
/-- rankOf(rp, a) -/
theorem mm_rankOf (rp a : Nat) (hr3 : rp < 3) {Xl : Nat → List Nat} (hI : ra_inv n S O P C fk fg Xl) (hAB : ra_ab n P AB) (ha : a ∈ Xl rp) : Met l yX1_rankOf (ws_ yX1_rankOf cX1_rankOf 5 (some .int)) ({ frames := 2, cells := 0, slots := 0, locals := 60 }) (va_Pc [.ref h, .int (nI rp), .int (nI a)] (fun U => va_P (dC, dI) vwCl (ra_wM h q1 q2 q3 q4 q5 q6 q7 q8 q9 cI cZ n fl S O P AB fk fg C fr od) U.heap ∧ va_K (dC, dI) vwCl [(cI, .int), (cZ, .boolean)] U)) (vp_Si (fun z => z = nI (ra_cb (fun _ => true) a (Xl rp)))) 0 0 (fun _ => False) := by
  refine Met.ofW (cc := cX1_rankOf) (maxL := 5) (ret := some .int) (by decide) rfl ?_
  intro p e s m args below meth c s₁ B hml hv
  obtain ⟨rfl, hP, hK⟩ := hv
  have hx := B.exec
  have hb := B.bytes
  have hr := B.returns
  have hts := atoms_spec (ws := (ws_ yX1_rankOf cX1_rankOf 5 (some .int))) B.pre
  have hts : ∀ w ∈ lw_all, w.before _ s = true := fun w h => hts w (List.mem_cons_of_mem _ h)
  have hown : s.vm.findClass RX1 = some m.cls := findClass_of_methodNamed B.named
  have hlocks := B.notSynchronized
  have hP : va_P (dC, dI) vwCl (ra_wM h q1 q2 q3 q4 q5 q6 q7 q8 q9 cI cZ n fl S O P AB fk fg C fr od) s.heap := hP
  have hl := lv_entry ([.ref h, .int (nI rp), .int (nI a)]) (n := 5) (Nat.le_of_ble_eq_true rfl)
  rw [lg_entry_eq]
  generalize (lg_sl ([.ref h, .int (nI rp), .int (nI a)]) ++ List.replicate (5 - (lg_sl ([.ref h, .int (nI rp), .int (nI a)])).length) Slot.unset).toArray = ls at hl ⊢
  have hl : lv_has ls 5 [(0, .ref h), (1, .int (nI rp)), (2, .int (nI a))] := hl
  have hn : n ≤ 40 := hI.1.1
  have hSO : ∀ k, S k ≤ 40 ∧ O k < 3 := fun k => ⟨Nat.le_trans (hI.1.2.1 k).1 hn, (hI.1.2.1 k).2⟩
  have hpar : ∀ k, k < n → P k = 40 ∨ P k < k := fun k hk => (hI.1.2.2.1 k hk).elim Or.inl (fun q => Or.inr q.1)
  have han : a < n := (((hI.1.2.2.2.2.2 rp hr3).2.2.2.1 a).mp ha).1
  have hcnt := ra_rk hI hr3 ha (g := fun _ => true) (G := ra_bt (fk rp)) (fun k => (Bool.and_true _).symm)
  refine lv_iconst (v := 0) hx hb dX1_rankOf_0 (by decide) ?_
  refine lv_istore_n (lv' := [(3, .int 0), (0, .ref h), (1, .int (nI rp)), (2, .int (nI a))]) hx hb dX1_rankOf_1 rfl hl (by decide) rfl (fun ls hl => ?_)
  refine lv_iconst (v := 0) hx hb dX1_rankOf_2 (by decide) ?_
  refine lv_istore (lv' := [(4, .int 0), (3, .int 0), (0, .ref h), (1, .int (nI rp)), (2, .int (nI a))]) hx hb dX1_rankOf_3 hl (by decide) rfl (fun ls hl => ?_)
  have loop : ∀ (k i : Nat), i ≤ n → n + 1 ≤ i + k → ∀ (ls : Array Slot), lv_has ls 5 [(4, .int (nI i)), (3, .int (nI (ra_cn (fun k => (!decide (k = a) && ra_bt (fk rp) k) && ra_bf S O P k a) i))), (0, .ref h), (1, .int (nI rp)), (2, .int (nI a))] → ra_WR p l e s m below meth c (ws_ yX1_rankOf cX1_rankOf 5 (some .int)) ({ frames := 2, cells := 0, slots := 0, locals := 60 }) [.ref h, .int (nI rp), .int (nI a)] (fun z => z = nI (ra_cb (fun _ => true) a (Xl rp))) 5 ls [] := by
    intro k
    induction k with
    | zero => intro i h1 h2; exact absurd h2 (by omega)
    | succ k ih =>
      intro i h1 h2 ls hl
      refine lv_iload hx hb dX1_rankOf_5 (lv_at hl 0 rfl) ?_
      refine lv_aload_n hx hb dX1_rankOf_7 rfl (lv_at hl 2 rfl) ?_
      refine va_get (D := (dC, dI)) (ci := 1) (v := .int (nI n)) (C := RX1) (T := TX1) (N := 11) hx hb hts in_X1 hown hK hP 0 rfl rfl 0 (by decide) (hts _ q145) (fun _ h9 => h9) rfl dX1_rankOf_8 ?_
      refine lv_icmp_ge (tgt := 49) hx hb dX1_rankOf_11 (by decide) (fun c_11 => ?_) (fun c_11 => ?_)
      · have hi : i = n := by rw [nI_leI (by omega) (by omega)] at c_11; omega
        subst hi
        refine lv_iload_n hx hb dX1_rankOf_49 rfl (lv_at hl 1 rfl) ?_
        exact W.iret (v := nI (ra_cn (fun k => (!decide (k = a) && ra_bt (fk rp) k) && ra_bf S O P k a) i)) hx hb hr (fun t ht hW => ⟨_, rfl, by rw [hcnt], ht⟩) (fun q h => by cases h) dX1_rankOf_50
      · have hi : i < n := by rw [nI_leI (by omega) (by omega)] at c_11; omega
        refine lv_iload hx hb dX1_rankOf_14 (lv_at hl 0 rfl) ?_
        refine lv_iload_n hx hb dX1_rankOf_16 rfl (lv_at hl 4 rfl) ?_
        refine lv_icmp_eq (tgt := 43) hx hb dX1_rankOf_17 (by decide) (fun c_17 => ?_) (fun c_17 => ?_)
        · have hc : ra_cn (fun k => (!decide (k = a) && ra_bt (fk rp) k) && ra_bf S O P k a) (i + 1) = ra_cn (fun k => (!decide (k = a) && ra_bt (fk rp) k) && ra_bf S O P k a) i := ra_cn_n (by have q := (nI_eq (by omega) (by omega)).mp c_17; simp [q])
          refine lv_iinc (v := nI (i + 1)) (lv' := [(4, .int (nI (i + 1))), (3, .int (nI (ra_cn (fun k => (!decide (k = a) && ra_bt (fk rp) k) && ra_bf S O P k a) i))), (0, .ref h), (1, .int (nI rp)), (2, .int (nI a))]) hx hb dX1_rankOf_43 hl (k := 0) rfl (ra_inc _) (by decide) rfl (fun ls hl => ?_)
          refine lv_goto (tgt := 5) hx hb dX1_rankOf_46 (by decide) ?_
          exact ih (i + 1) (by omega) (by omega) ls (by rw [hc]; exact (lv_sub hl [0, 1, 2, 3, 4] rfl))
        · have hne : ¬ i = a := fun q => c_17 (by rw [q])
          refine lv_aload_n hx hb dX1_rankOf_20 rfl (lv_at hl 2 rfl) ?_
          refine lv_iload_n hx hb dX1_rankOf_21 rfl (lv_at hl 3 rfl) ?_
          refine lv_iload hx hb dX1_rankOf_22 (lv_at hl 0 rfl) ?_
          refine ra_cV (Cn := RX1) ⟨hx, hb, hml, hown, hts⟩ [.int (nI rp), .int (nI i)] [] (mm_isKnown l rp (nI i) hr3 hn) (cwV 2 hts (lw_V q196 q198 qs11 q18 q199) rfl rfl rfl (by decide +kernel) ⟨Nat.le_of_ble_eq_true rfl, Nat.le_of_ble_eq_true rfl⟩) hP hK (va_recv hK hP (ci := 1) (q0 := 0) rfl rfl) rfl hl.1 rfl (Nat.le_of_ble_eq_true rfl) dX1_rankOf_24 ⟨Nat.le_of_ble_eq_true rfl, Nat.le_of_ble_eq_true rfl⟩ (fun z hz => ?_)
          refine lv_if_eq (tgt := 43) hx hb dX1_rankOf_27 (by decide) (fun c_27 => ?_) (fun c_27 => ?_)
          · have hc : ra_cn (fun k => (!decide (k = a) && ra_bt (fk rp) k) && ra_bf S O P k a) (i + 1) = ra_cn (fun k => (!decide (k = a) && ra_bt (fk rp) k) && ra_bf S O P k a) i := ra_cn_n (by have q := (ra_b_eq _).mp (hz ▸ c_27); cases hb : ra_bt (fk rp) i with
            | false => simp
            | true => rw [ra_kn_t hi hn hb] at q; cases q)
            refine lv_iinc (v := nI (i + 1)) (lv' := [(4, .int (nI (i + 1))), (3, .int (nI (ra_cn (fun k => (!decide (k = a) && ra_bt (fk rp) k) && ra_bf S O P k a) i))), (0, .ref h), (1, .int (nI rp)), (2, .int (nI a))]) hx hb dX1_rankOf_43 hl (k := 0) rfl (ra_inc _) (by decide) rfl (fun ls hl => ?_)
            refine lv_goto (tgt := 5) hx hb dX1_rankOf_46 (by decide) ?_
            exact ih (i + 1) (by omega) (by omega) ls (by rw [hc]; exact (lv_sub hl [0, 1, 2, 3, 4] rfl))
          · have hG : ra_bt (fk rp) i = true := by have q := (ra_b_ne _).mp (hz ▸ c_27); obtain ⟨k2, e1, e2, e3⟩ := ra_kn_of q; rw [← (nI_eq (by omega) (by omega)).mp e2] at e3; exact e3
            refine lv_aload_n hx hb dX1_rankOf_30 rfl (lv_at hl 2 rfl) ?_
            refine lv_iload hx hb dX1_rankOf_31 (lv_at hl 0 rfl) ?_
            refine lv_iload_n hx hb dX1_rankOf_33 rfl (lv_at hl 4 rfl) ?_
            refine ra_cV (Cn := RX1) ⟨hx, hb, hml, hown, hts⟩ [.int (nI i), .int (nI a)] [] (mm_before l i a hi han hn hSO hpar hAB) (cwV 2 hts (lw_V q212 q214 qs14 q18 q215) rfl rfl rfl (by decide +kernel) ⟨Nat.le_of_ble_eq_true rfl, Nat.le_of_ble_eq_true rfl⟩) hP hK (va_recv hK hP (ci := 1) (q0 := 0) rfl rfl) rfl hl.1 rfl (Nat.le_of_ble_eq_true rfl) dX1_rankOf_34 ⟨Nat.le_of_ble_eq_true rfl, Nat.le_of_ble_eq_true rfl⟩ (fun z2 hz2 => ?_)
            refine lv_if_eq (tgt := 43) hx hb dX1_rankOf_37 (by decide) (fun c_37 => ?_) (fun c_37 => ?_)
            · have hc : ra_cn (fun k => (!decide (k = a) && ra_bt (fk rp) k) && ra_bf S O P k a) (i + 1) = ra_cn (fun k => (!decide (k = a) && ra_bt (fk rp) k) && ra_bf S O P k a) i := ra_cn_n (by have q := (ra_b_eq _).mp (hz2 ▸ c_37); simp [q])
              refine lv_iinc (v := nI (i + 1)) (lv' := [(4, .int (nI (i + 1))), (3, .int (nI (ra_cn (fun k => (!decide (k = a) && ra_bt (fk rp) k) && ra_bf S O P k a) i))), (0, .ref h), (1, .int (nI rp)), (2, .int (nI a))]) hx hb dX1_rankOf_43 hl (k := 0) rfl (ra_inc _) (by decide) rfl (fun ls hl => ?_)
              refine lv_goto (tgt := 5) hx hb dX1_rankOf_46 (by decide) ?_
              exact ih (i + 1) (by omega) (by omega) ls (by rw [hc]; exact (lv_sub hl [0, 1, 2, 3, 4] rfl))
            · have hc : ra_cn (fun k => (!decide (k = a) && ra_bt (fk rp) k) && ra_bf S O P k a) (i + 1) = ra_cn (fun k => (!decide (k = a) && ra_bt (fk rp) k) && ra_bf S O P k a) i + 1 := ra_cn_s (by have q := (ra_b_ne _).mp (hz2 ▸ c_37); simp [q, hG, hne])
              refine lv_iinc (v := nI (ra_cn (fun k => (!decide (k = a) && ra_bt (fk rp) k) && ra_bf S O P k a) i + 1)) (lv' := [(3, .int (nI (ra_cn (fun k => (!decide (k = a) && ra_bt (fk rp) k) && ra_bf S O P k a) i + 1))), (4, .int (nI i)), (0, .ref h), (1, .int (nI rp)), (2, .int (nI a))]) hx hb dX1_rankOf_40 hl (k := 1) rfl (ra_inc _) (by decide) rfl (fun ls hl => ?_)
              refine lv_iinc (v := nI (i + 1)) (lv' := [(4, .int (nI (i + 1))), (3, .int (nI (ra_cn (fun k => (!decide (k = a) && ra_bt (fk rp) k) && ra_bf S O P k a) i + 1))), (0, .ref h), (1, .int (nI rp)), (2, .int (nI a))]) hx hb dX1_rankOf_43 hl (k := 1) rfl (ra_inc _) (by decide) rfl (fun ls hl => ?_)
              refine lv_goto (tgt := 5) hx hb dX1_rankOf_46 (by decide) ?_
              exact ih (i + 1) (by omega) (by omega) ls (by rw [hc]; exact (lv_sub hl [0, 1, 2, 3, 4] rfl))
  exact loop (n + 1) 0 (Nat.zero_le _) (by omega) ls (lv_sub hl [0, 1, 2, 3, 4] rfl)
set_option maxHeartbeats 4000000 in
set_option maxRecDepth 100000 in
/-- placeOf(r, x) -/
theorem mm_placeOf (r x0 : Int32) {Xl : Nat → List Nat} (hI : ra_inv n S O P C fk fg Xl) (hAB : ra_ab n P AB) : Met l yX1_placeOf (ws_ yX1_placeOf cX1_placeOf 5 (some .int)) ({ frames := 2, cells := 0, slots := 0, locals := 60 }) (va_Pc [.ref h, .int r, .int x0] (fun U => va_P (dC, dI) vwCl (ra_wM h q1 q2 q3 q4 q5 q6 q7 q8 q9 cI cZ n fl S O P AB fk fg C fr od) U.heap ∧ va_K (dC, dI) vwCl [(cI, .int), (cZ, .boolean)] U)) (vp_Si (fun z => z = ra_rp r (fun rp => if (ra_kn n fk rp x0 && ra_sh fg rp x0.toNatClampNeg) = true then nI (ra_cb (fun b => !true || ra_sh fg rp b) x0.toNatClampNeg (Xl rp)) else -5))) 0 0 (fun _ => False) := by
  refine Met.ofW (cc := cX1_placeOf) (maxL := 5) (ret := some .int) (by decide) rfl ?_
  intro p e s m args below meth c s₁ B hml hv
  obtain ⟨rfl, hP, hK⟩ := hv
  have hx := B.exec
  have hb := B.bytes
  have hr := B.returns
  have hts := atoms_spec (ws := (ws_ yX1_placeOf cX1_placeOf 5 (some .int))) B.pre
  have hts : ∀ w ∈ lw_all, w.before _ s = true := fun w h => hts w (List.mem_cons_of_mem _ h)
  have hown : s.vm.findClass RX1 = some m.cls := findClass_of_methodNamed B.named
  have hlocks := B.notSynchronized
  have hP : va_P (dC, dI) vwCl (ra_wM h q1 q2 q3 q4 q5 q6 q7 q8 q9 cI cZ n fl S O P AB fk fg C fr od) s.heap := hP
  have hl := lv_entry ([.ref h, .int r, .int x0]) (n := 5) (Nat.le_of_ble_eq_true rfl)
  rw [lg_entry_eq]
  generalize (lg_sl ([.ref h, .int r, .int x0]) ++ List.replicate (5 - (lg_sl ([.ref h, .int r, .int x0])).length) Slot.unset).toArray = ls at hl ⊢
  have hl : lv_has ls 5 [(0, .ref h), (1, .int r), (2, .int x0)] := hl
  have hn : n ≤ 40 := hI.1.1
  have hSO : ∀ k, S k ≤ 40 ∧ O k < 3 := fun k => ⟨Nat.le_trans (hI.1.2.1 k).1 hn, (hI.1.2.1 k).2⟩
  have hpar : ∀ k, k < n → P k = 40 ∨ P k < k := fun k hk => (hI.1.2.2.1 k hk).elim Or.inl (fun q => Or.inr q.1)
  refine lv_aload_n hx hb dX1_placeOf_0 rfl (lv_at hl 0 rfl) ?_
  refine lv_iload_n hx hb dX1_placeOf_1 rfl (lv_at hl 1 rfl) ?_
  refine ra_cV (Cn := RX1) ⟨hx, hb, hml, hown, hts⟩ [.int r] [] (mm_isReplica l r) (cwV 1 hts (lw_V q184 q186 qs9 q18 q187) rfl rfl rfl (by decide +kernel) ⟨Nat.le_of_ble_eq_true rfl, Nat.le_of_ble_eq_true rfl⟩) hP hK (va_recv hK hP (ci := 1) (q0 := 0) rfl rfl) rfl hl.1 rfl (Nat.le_of_ble_eq_true rfl) dX1_placeOf_2 ⟨Nat.le_of_ble_eq_true rfl, Nat.le_of_ble_eq_true rfl⟩ (fun z hz => ?_)
  refine lv_if_ne (tgt := 10) hx hb dX1_placeOf_5 (by decide) (fun c_5 => ?_) (fun c_5 => ?_)
  · obtain ⟨rp, hr3, rfl⟩ : ∃ k, k < 3 ∧ r = nI k := by
      rcases hz with ⟨q, -⟩ | ⟨-, q⟩
      · exact absurd q c_5
      · exact q
    rw [ra_rp_ok hr3]
    refine lv_aload_n hx hb dX1_placeOf_10 rfl (lv_at hl 0 rfl) ?_
    refine lv_iload_n hx hb dX1_placeOf_11 rfl (lv_at hl 1 rfl) ?_
    refine lv_iload_n hx hb dX1_placeOf_12 rfl (lv_at hl 2 rfl) ?_
    refine ra_cV (Cn := RX1) ⟨hx, hb, hml, hown, hts⟩ [.int (nI rp), .int x0] [] (mm_isShown l rp x0 hr3 hn) (cwV 2 hts (lw_V q192 q194 qs10 q18 q195) rfl rfl rfl (by decide +kernel) ⟨Nat.le_of_ble_eq_true rfl, Nat.le_of_ble_eq_true rfl⟩) hP hK (va_recv hK hP (ci := 1) (q0 := 0) rfl rfl) rfl hl.1 rfl (Nat.le_of_ble_eq_true rfl) dX1_placeOf_13 ⟨Nat.le_of_ble_eq_true rfl, Nat.le_of_ble_eq_true rfl⟩ (fun z2 hz2 => ?_)
    refine lv_if_ne (tgt := 22) hx hb dX1_placeOf_16 (by decide) (fun c_16 => ?_) (fun c_16 => ?_)
    · have hk2 := (ra_b_ne _).mp (hz2 ▸ c_16)
      rw [if_pos hk2]
      obtain ⟨hk, hs⟩ := Bool.and_eq_true_iff.mp hk2
      obtain ⟨a, han, rfl, hbk⟩ := ra_kn_of hk
      rw [nI_clamp (by omega)]
      have ha : a ∈ Xl rp := ((hI.1.2.2.2.2.2 rp hr3).2.2.2.1 a).mpr ⟨han, hbk⟩
      have hcnt := ra_rk hI hr3 ha (g := fun b => !true || ra_sh fg rp b) (G := ra_kf fk fg rp) (fun k => rfl)
      refine lv_iconst (v := 0) hx hb dX1_placeOf_22 (by decide) ?_
      refine lv_istore_n (lv' := [(3, .int 0), (0, .ref h), (1, .int (nI rp)), (2, .int (nI a))]) hx hb dX1_placeOf_23 rfl hl (by decide) rfl (fun ls hl => ?_)
      refine lv_iconst (v := 0) hx hb dX1_placeOf_24 (by decide) ?_
      refine lv_istore (lv' := [(4, .int 0), (3, .int 0), (0, .ref h), (1, .int (nI rp)), (2, .int (nI a))]) hx hb dX1_placeOf_25 hl (by decide) rfl (fun ls hl => ?_)
      have loop : ∀ (k i : Nat), i ≤ n → n + 1 ≤ i + k → ∀ (ls : Array Slot), lv_has ls 5 [(4, .int (nI i)), (3, .int (nI (ra_cn (fun k => (!decide (k = a) && ra_kf fk fg rp k) && ra_bf S O P k a) i))), (0, .ref h), (1, .int (nI rp)), (2, .int (nI a))] → ra_WR p l e s m below meth c (ws_ yX1_placeOf cX1_placeOf 5 (some .int)) ({ frames := 2, cells := 0, slots := 0, locals := 60 }) [.ref h, .int (nI rp), .int (nI a)] (fun z => z = nI (ra_cb (fun b => !true || ra_sh fg rp b) a (Xl rp))) 27 ls [] := by
        intro k
        induction k with
        | zero => intro i h1 h2; exact absurd h2 (by omega)
        | succ k ih =>
          intro i h1 h2 ls hl
          refine lv_iload hx hb dX1_placeOf_27 (lv_at hl 0 rfl) ?_
          refine lv_aload_n hx hb dX1_placeOf_29 rfl (lv_at hl 2 rfl) ?_
          refine va_get (D := (dC, dI)) (ci := 1) (v := .int (nI n)) (C := RX1) (T := TX1) (N := 11) hx hb hts in_X1 hown hK hP 0 rfl rfl 0 (by decide) (hts _ q145) (fun _ h9 => h9) rfl dX1_placeOf_30 ?_
          refine lv_icmp_ge (tgt := 71) hx hb dX1_placeOf_33 (by decide) (fun c_33 => ?_) (fun c_33 => ?_)
          · have hi : i = n := by rw [nI_leI (by omega) (by omega)] at c_33; omega
            subst hi
            refine lv_iload_n hx hb dX1_placeOf_71 rfl (lv_at hl 1 rfl) ?_
            exact W.iret (v := nI (ra_cn (fun k => (!decide (k = a) && ra_kf fk fg rp k) && ra_bf S O P k a) i)) hx hb hr (fun t ht hW => ⟨_, rfl, by rw [hcnt], ht⟩) (fun q h => by cases h) dX1_placeOf_72
          · have hi : i < n := by rw [nI_leI (by omega) (by omega)] at c_33; omega
            refine lv_iload hx hb dX1_placeOf_36 (lv_at hl 0 rfl) ?_
            refine lv_iload_n hx hb dX1_placeOf_38 rfl (lv_at hl 4 rfl) ?_
            refine lv_icmp_eq (tgt := 65) hx hb dX1_placeOf_39 (by decide) (fun c_39 => ?_) (fun c_39 => ?_)
            · have hc : ra_cn (fun k => (!decide (k = a) && ra_kf fk fg rp k) && ra_bf S O P k a) (i + 1) = ra_cn (fun k => (!decide (k = a) && ra_kf fk fg rp k) && ra_bf S O P k a) i := ra_cn_n (by have q := (nI_eq (by omega) (by omega)).mp c_39; simp [q])
              refine lv_iinc (v := nI (i + 1)) (lv' := [(4, .int (nI (i + 1))), (3, .int (nI (ra_cn (fun k => (!decide (k = a) && ra_kf fk fg rp k) && ra_bf S O P k a) i))), (0, .ref h), (1, .int (nI rp)), (2, .int (nI a))]) hx hb dX1_placeOf_65 hl (k := 0) rfl (ra_inc _) (by decide) rfl (fun ls hl => ?_)
              refine lv_goto (tgt := 27) hx hb dX1_placeOf_68 (by decide) ?_
              exact ih (i + 1) (by omega) (by omega) ls (by rw [hc]; exact (lv_sub hl [0, 1, 2, 3, 4] rfl))
            · have hne : ¬ i = a := fun q => c_39 (by rw [q])
              refine lv_aload_n hx hb dX1_placeOf_42 rfl (lv_at hl 2 rfl) ?_
              refine lv_iload_n hx hb dX1_placeOf_43 rfl (lv_at hl 3 rfl) ?_
              refine lv_iload hx hb dX1_placeOf_44 (lv_at hl 0 rfl) ?_
              refine ra_cV (Cn := RX1) ⟨hx, hb, hml, hown, hts⟩ [.int (nI rp), .int (nI i)] [] (mm_isShown l rp (nI i) hr3 hn) (cwV 2 hts (lw_V q192 q194 qs10 q18 q195) rfl rfl rfl (by decide +kernel) ⟨Nat.le_of_ble_eq_true rfl, Nat.le_of_ble_eq_true rfl⟩) hP hK (va_recv hK hP (ci := 1) (q0 := 0) rfl rfl) rfl hl.1 rfl (Nat.le_of_ble_eq_true rfl) dX1_placeOf_46 ⟨Nat.le_of_ble_eq_true rfl, Nat.le_of_ble_eq_true rfl⟩ (fun z hz => ?_)
              refine lv_if_eq (tgt := 65) hx hb dX1_placeOf_49 (by decide) (fun c_49 => ?_) (fun c_49 => ?_)
              · have hc : ra_cn (fun k => (!decide (k = a) && ra_kf fk fg rp k) && ra_bf S O P k a) (i + 1) = ra_cn (fun k => (!decide (k = a) && ra_kf fk fg rp k) && ra_bf S O P k a) i := ra_cn_n (by have q := (ra_b_eq _).mp (hz ▸ c_49); cases hb : ra_kf fk fg rp i with
                | false => simp
                | true =>
                  obtain ⟨q1, q2⟩ := Bool.and_eq_true_iff.mp hb
                  rw [ra_kn_t hi hn q1, nI_clamp (by omega), Bool.true_and] at q
                  rw [ra_sh, q2] at q
                  cases q)
                refine lv_iinc (v := nI (i + 1)) (lv' := [(4, .int (nI (i + 1))), (3, .int (nI (ra_cn (fun k => (!decide (k = a) && ra_kf fk fg rp k) && ra_bf S O P k a) i))), (0, .ref h), (1, .int (nI rp)), (2, .int (nI a))]) hx hb dX1_placeOf_65 hl (k := 0) rfl (ra_inc _) (by decide) rfl (fun ls hl => ?_)
                refine lv_goto (tgt := 27) hx hb dX1_placeOf_68 (by decide) ?_
                exact ih (i + 1) (by omega) (by omega) ls (by rw [hc]; exact (lv_sub hl [0, 1, 2, 3, 4] rfl))
              · have hG : ra_kf fk fg rp i = true := by have q := (ra_b_ne _).mp (hz ▸ c_49); obtain ⟨q1, q2⟩ := Bool.and_eq_true_iff.mp q; obtain ⟨k2, e1, e2, e3⟩ := ra_kn_of q1; rw [← (nI_eq (by omega) (by omega)).mp e2] at e3; rw [nI_clamp (by omega)] at q2; exact (show ra_kf fk fg rp i = true from Bool.and_eq_true_iff.mpr ⟨e3, q2⟩)
                refine lv_aload_n hx hb dX1_placeOf_52 rfl (lv_at hl 2 rfl) ?_
                refine lv_iload hx hb dX1_placeOf_53 (lv_at hl 0 rfl) ?_
                refine lv_iload_n hx hb dX1_placeOf_55 rfl (lv_at hl 4 rfl) ?_
                refine ra_cV (Cn := RX1) ⟨hx, hb, hml, hown, hts⟩ [.int (nI i), .int (nI a)] [] (mm_before l i a hi han hn hSO hpar hAB) (cwV 2 hts (lw_V q212 q214 qs14 q18 q215) rfl rfl rfl (by decide +kernel) ⟨Nat.le_of_ble_eq_true rfl, Nat.le_of_ble_eq_true rfl⟩) hP hK (va_recv hK hP (ci := 1) (q0 := 0) rfl rfl) rfl hl.1 rfl (Nat.le_of_ble_eq_true rfl) dX1_placeOf_56 ⟨Nat.le_of_ble_eq_true rfl, Nat.le_of_ble_eq_true rfl⟩ (fun z2 hz2 => ?_)
                refine lv_if_eq (tgt := 65) hx hb dX1_placeOf_59 (by decide) (fun c_59 => ?_) (fun c_59 => ?_)
                · have hc : ra_cn (fun k => (!decide (k = a) && ra_kf fk fg rp k) && ra_bf S O P k a) (i + 1) = ra_cn (fun k => (!decide (k = a) && ra_kf fk fg rp k) && ra_bf S O P k a) i := ra_cn_n (by have q := (ra_b_eq _).mp (hz2 ▸ c_59); simp [q])
                  refine lv_iinc (v := nI (i + 1)) (lv' := [(4, .int (nI (i + 1))), (3, .int (nI (ra_cn (fun k => (!decide (k = a) && ra_kf fk fg rp k) && ra_bf S O P k a) i))), (0, .ref h), (1, .int (nI rp)), (2, .int (nI a))]) hx hb dX1_placeOf_65 hl (k := 0) rfl (ra_inc _) (by decide) rfl (fun ls hl => ?_)
                  refine lv_goto (tgt := 27) hx hb dX1_placeOf_68 (by decide) ?_
                  exact ih (i + 1) (by omega) (by omega) ls (by rw [hc]; exact (lv_sub hl [0, 1, 2, 3, 4] rfl))
                · have hc : ra_cn (fun k => (!decide (k = a) && ra_kf fk fg rp k) && ra_bf S O P k a) (i + 1) = ra_cn (fun k => (!decide (k = a) && ra_kf fk fg rp k) && ra_bf S O P k a) i + 1 := ra_cn_s (by have q := (ra_b_ne _).mp (hz2 ▸ c_59); simp [q, hG, hne])
                  refine lv_iinc (v := nI (ra_cn (fun k => (!decide (k = a) && ra_kf fk fg rp k) && ra_bf S O P k a) i + 1)) (lv' := [(3, .int (nI (ra_cn (fun k => (!decide (k = a) && ra_kf fk fg rp k) && ra_bf S O P k a) i + 1))), (4, .int (nI i)), (0, .ref h), (1, .int (nI rp)), (2, .int (nI a))]) hx hb dX1_placeOf_62 hl (k := 1) rfl (ra_inc _) (by decide) rfl (fun ls hl => ?_)
                  refine lv_iinc (v := nI (i + 1)) (lv' := [(4, .int (nI (i + 1))), (3, .int (nI (ra_cn (fun k => (!decide (k = a) && ra_kf fk fg rp k) && ra_bf S O P k a) i + 1))), (0, .ref h), (1, .int (nI rp)), (2, .int (nI a))]) hx hb dX1_placeOf_65 hl (k := 1) rfl (ra_inc _) (by decide) rfl (fun ls hl => ?_)
                  refine lv_goto (tgt := 27) hx hb dX1_placeOf_68 (by decide) ?_
                  exact ih (i + 1) (by omega) (by omega) ls (by rw [hc]; exact (lv_sub hl [0, 1, 2, 3, 4] rfl))
      exact loop (n + 1) 0 (Nat.zero_le _) (by omega) ls (lv_sub hl [0, 1, 2, 3, 4] rfl)
    · have hk2 := (ra_b_eq _).mp (hz2 ▸ c_16)
      refine lv_bipush (v := (-5)) hx hb dX1_placeOf_19 (by decide) ?_
      exact W.iret (v := -5) hx hb hr (fun t ht hW => ⟨_, rfl, by rw [hk2]; rfl, ht⟩) (fun q h => by cases h) dX1_placeOf_21
  · have hbd : r < 0 ∨ 2 < r := by
      rcases hz with ⟨-, q⟩ | ⟨q, -⟩
      · exact q
      · exact absurd (q ▸ c_5) (by decide)
    refine lv_iconst (v := (-1)) hx hb dX1_placeOf_8 (by decide) ?_
    exact W.iret (v := -1) hx hb hr (fun t ht hW => ⟨_, rfl, (ra_rp_bad hbd).symm, ht⟩) (fun q h => by cases h) dX1_placeOf_9
set_option maxHeartbeats 4000000 in
set_option maxRecDepth 100000 in
/-- rank(r, x) -/
theorem mm_rank (r x0 : Int32) {Xl : Nat → List Nat} (hI : ra_inv n S O P C fk fg Xl) (hAB : ra_ab n P AB) : Met l yX1_rank (ws_ yX1_rank cX1_rank 3 (some .int)) ({ frames := 3, cells := 0, slots := 0, locals := 90 }) (va_Pc [.ref h, .int r, .int x0] (fun U => va_P (dC, dI) vwCl (ra_wM h q1 q2 q3 q4 q5 q6 q7 q8 q9 cI cZ n fl S O P AB fk fg C fr od) U.heap ∧ va_K (dC, dI) vwCl [(cI, .int), (cZ, .boolean)] U)) (vp_Si (fun z => z = ra_rp r (fun rp => if ra_kn n fk rp x0 = true then nI (ra_cb (fun b => !false || ra_sh fg rp b) x0.toNatClampNeg (Xl rp)) else -5))) 0 0 (fun _ => False) := by
  refine Met.ofW (cc := cX1_rank) (maxL := 3) (ret := some .int) (by decide) rfl ?_
  intro p e s m args below meth c s₁ B hml hv
  obtain ⟨rfl, hP, hK⟩ := hv
  have hx := B.exec
  have hb := B.bytes
  have hr := B.returns
  have hts := atoms_spec (ws := (ws_ yX1_rank cX1_rank 3 (some .int))) B.pre
  have hts : ∀ w ∈ lw_all, w.before _ s = true := fun w h => hts w (List.mem_cons_of_mem _ h)
  have hown : s.vm.findClass RX1 = some m.cls := findClass_of_methodNamed B.named
  have hlocks := B.notSynchronized
  have hP : va_P (dC, dI) vwCl (ra_wM h q1 q2 q3 q4 q5 q6 q7 q8 q9 cI cZ n fl S O P AB fk fg C fr od) s.heap := hP
  have hl := lv_entry ([.ref h, .int r, .int x0]) (n := 3) (Nat.le_of_ble_eq_true rfl)
  rw [lg_entry_eq]
  generalize (lg_sl ([.ref h, .int r, .int x0]) ++ List.replicate (3 - (lg_sl ([.ref h, .int r, .int x0])).length) Slot.unset).toArray = ls at hl ⊢
  have hl : lv_has ls 3 [(0, .ref h), (1, .int r), (2, .int x0)] := hl
  have hn : n ≤ 40 := hI.1.1
  have hSO : ∀ k, S k ≤ 40 ∧ O k < 3 := fun k => ⟨Nat.le_trans (hI.1.2.1 k).1 hn, (hI.1.2.1 k).2⟩
  have hpar : ∀ k, k < n → P k = 40 ∨ P k < k := fun k hk => (hI.1.2.2.1 k hk).elim Or.inl (fun q => Or.inr q.1)
  refine lv_aload_n hx hb dX1_rank_0 rfl (lv_at hl 0 rfl) ?_
  refine lv_iload_n hx hb dX1_rank_1 rfl (lv_at hl 1 rfl) ?_
  refine ra_cV (Cn := RX1) ⟨hx, hb, hml, hown, hts⟩ [.int r] [] (mm_isReplica l r) (cwV 1 hts (lw_V q184 q186 qs9 q18 q187) rfl rfl rfl (by decide +kernel) ⟨Nat.le_of_ble_eq_true rfl, Nat.le_of_ble_eq_true rfl⟩) hP hK (va_recv hK hP (ci := 1) (q0 := 0) rfl rfl) rfl hl.1 rfl (Nat.le_of_ble_eq_true rfl) dX1_rank_2 ⟨Nat.le_of_ble_eq_true rfl, Nat.le_of_ble_eq_true rfl⟩ (fun z hz => ?_)
  refine lv_if_ne (tgt := 10) hx hb dX1_rank_5 (by decide) (fun c_5 => ?_) (fun c_5 => ?_)
  · obtain ⟨rp, hr3, rfl⟩ : ∃ k, k < 3 ∧ r = nI k := by
      rcases hz with ⟨q, -⟩ | ⟨-, q⟩
      · exact absurd q c_5
      · exact q
    rw [ra_rp_ok hr3]
    refine lv_aload_n hx hb dX1_rank_10 rfl (lv_at hl 0 rfl) ?_
    refine lv_iload_n hx hb dX1_rank_11 rfl (lv_at hl 1 rfl) ?_
    refine lv_iload_n hx hb dX1_rank_12 rfl (lv_at hl 2 rfl) ?_
    refine ra_cV (Cn := RX1) ⟨hx, hb, hml, hown, hts⟩ [.int (nI rp), .int x0] [] (mm_isKnown l rp x0 hr3 hn) (cwV 2 hts (lw_V q196 q198 qs11 q18 q199) rfl rfl rfl (by decide +kernel) ⟨Nat.le_of_ble_eq_true rfl, Nat.le_of_ble_eq_true rfl⟩) hP hK (va_recv hK hP (ci := 1) (q0 := 0) rfl rfl) rfl hl.1 rfl (Nat.le_of_ble_eq_true rfl) dX1_rank_13 ⟨Nat.le_of_ble_eq_true rfl, Nat.le_of_ble_eq_true rfl⟩ (fun z2 hz2 => ?_)
    refine lv_if_eq (tgt := 28) hx hb dX1_rank_16 (by decide) (fun c_16 => ?_) (fun c_16 => ?_)
    · have hk := (ra_b_eq _).mp (hz2 ▸ c_16)
      refine lv_bipush (v := (-5)) hx hb dX1_rank_28 (by decide) ?_
      exact W.iret (v := -5) hx hb hr (fun t ht hW => ⟨_, rfl, by rw [hk]; rfl, ht⟩) (fun q h => by cases h) dX1_rank_30
    · have hk := (ra_b_ne _).mp (hz2 ▸ c_16)
      rw [if_pos hk]
      obtain ⟨a, han, rfl, hbk⟩ := ra_kn_of hk
      rw [nI_clamp (by omega)]
      refine lv_aload_n hx hb dX1_rank_19 rfl (lv_at hl 0 rfl) ?_
      refine lv_iload_n hx hb dX1_rank_20 rfl (lv_at hl 1 rfl) ?_
      refine lv_iload_n hx hb dX1_rank_21 rfl (lv_at hl 2 rfl) ?_
      refine ra_cV (Cn := RX1) ⟨hx, hb, hml, hown, hts⟩ [.int (nI rp), .int (nI a)] [] (mm_rankOf l rp a hr3 hI hAB (((hI.1.2.2.2.2.2 rp hr3).2.2.2.1 a).mpr ⟨han, hbk⟩)) (cwV 2 hts (lw_V q208 q210 qs13 q18 q211) rfl rfl rfl (by decide +kernel) ⟨Nat.le_of_ble_eq_true rfl, Nat.le_of_ble_eq_true rfl⟩) hP hK (va_recv hK hP (ci := 1) (q0 := 0) rfl rfl) rfl hl.1 rfl (Nat.le_of_ble_eq_true rfl) dX1_rank_22 ⟨Nat.le_of_ble_eq_true rfl, Nat.le_of_ble_eq_true rfl⟩ (fun z3 hz3 => ?_)
      refine lv_goto (tgt := 30) hx hb dX1_rank_25 (by decide) ?_
      exact W.iret (v := z3) hx hb hr (fun t ht hW => ⟨_, rfl, hz3.trans (congrArg nI (ra_cb_cong (fun _ => rfl) a _)), ht⟩) (fun q h => by cases h) dX1_rank_30
  · have hbd : r < 0 ∨ 2 < r := by
      rcases hz with ⟨-, q⟩ | ⟨q, -⟩
      · exact q
      · exact absurd (q ▸ c_5) (by decide)
    refine lv_iconst (v := (-1)) hx hb dX1_rank_8 (by decide) ?_
    exact W.iret (v := -1) hx hb hr (fun t ht hW => ⟨_, rfl, (ra_rp_bad hbd).symm, ht⟩) (fun q h => by cases h) dX1_rank_9
set_option maxHeartbeats 4000000 in
set_option maxRecDepth 100000 in
/-- known(r) -/
theorem mm_known (r : Int32) (hn : n ≤ 40) : Met l yX1_known (ws_ yX1_known cX1_known 4 (some .int)) ({ frames := 1, cells := 0, slots := 0, locals := 30 }) (va_Pc [.ref h, .int r] (fun U => va_P (dC, dI) vwCl (ra_wM h q1 q2 q3 q4 q5 q6 q7 q8 q9 cI cZ n fl S O P AB fk fg C fr od) U.heap ∧ va_K (dC, dI) vwCl [(cI, .int), (cZ, .boolean)] U)) (vp_Si (fun z => z = ra_rp r (fun rp => nI (ra_cn (ra_bt (fk rp)) n)))) 0 0 (fun _ => False) := by
  refine Met.ofW (cc := cX1_known) (maxL := 4) (ret := some .int) (by decide) rfl ?_
  intro p e s m args below meth c s₁ B hml hv
  obtain ⟨rfl, hP, hK⟩ := hv
  have hx := B.exec
  have hb := B.bytes
  have hr := B.returns
  have hts := atoms_spec (ws := (ws_ yX1_known cX1_known 4 (some .int))) B.pre
  have hts : ∀ w ∈ lw_all, w.before _ s = true := fun w h => hts w (List.mem_cons_of_mem _ h)
  have hown : s.vm.findClass RX1 = some m.cls := findClass_of_methodNamed B.named
  have hlocks := B.notSynchronized
  have hP : va_P (dC, dI) vwCl (ra_wM h q1 q2 q3 q4 q5 q6 q7 q8 q9 cI cZ n fl S O P AB fk fg C fr od) s.heap := hP
  have hl := lv_entry ([.ref h, .int r]) (n := 4) (Nat.le_of_ble_eq_true rfl)
  rw [lg_entry_eq]
  generalize (lg_sl ([.ref h, .int r]) ++ List.replicate (4 - (lg_sl ([.ref h, .int r])).length) Slot.unset).toArray = ls at hl ⊢
  have hl : lv_has ls 4 [(0, .ref h), (1, .int r)] := hl
  refine lv_aload_n hx hb dX1_known_0 rfl (lv_at hl 0 rfl) ?_
  refine lv_iload_n hx hb dX1_known_1 rfl (lv_at hl 1 rfl) ?_
  refine ra_cV (Cn := RX1) ⟨hx, hb, hml, hown, hts⟩ [.int r] [] (mm_isReplica l r) (cwV 1 hts (lw_V q184 q186 qs9 q18 q187) rfl rfl rfl (by decide +kernel) ⟨Nat.le_of_ble_eq_true rfl, Nat.le_of_ble_eq_true rfl⟩) hP hK (va_recv hK hP (ci := 1) (q0 := 0) rfl rfl) rfl hl.1 rfl (Nat.le_of_ble_eq_true rfl) dX1_known_2 ⟨Nat.le_of_ble_eq_true rfl, Nat.le_of_ble_eq_true rfl⟩ (fun z hz => ?_)
  refine lv_if_ne (tgt := 10) hx hb dX1_known_5 (by decide) (fun c_5 => ?_) (fun c_5 => ?_)
  · obtain ⟨rp, hr3, rfl⟩ : ∃ k, k < 3 ∧ r = nI k := by
      rcases hz with ⟨q, -⟩ | ⟨-, q⟩
      · exact absurd q c_5
      · exact q
    refine lv_iconst (v := 0) hx hb dX1_known_10 (by decide) ?_
    refine lv_istore_n (lv' := [(2, .int 0), (0, .ref h), (1, .int (nI rp))]) hx hb dX1_known_11 rfl hl (by decide) rfl (fun ls hl => ?_)
    refine lv_iconst (v := 0) hx hb dX1_known_12 (by decide) ?_
    refine lv_istore_n (lv' := [(3, .int 0), (2, .int 0), (0, .ref h), (1, .int (nI rp))]) hx hb dX1_known_13 rfl hl (by decide) rfl (fun ls hl => ?_)
    have loop : ∀ (k i : Nat), i ≤ n → n + 1 ≤ i + k → ∀ (ls : Array Slot), lv_has ls 4 [(3, .int (nI i)), (2, .int (nI (ra_cn (ra_bt (fk rp)) i))), (0, .ref h), (1, .int (nI rp))] → ra_WR p l e s m below meth c (ws_ yX1_known cX1_known 4 (some .int)) ({ frames := 1, cells := 0, slots := 0, locals := 30 }) [.ref h, .int (nI rp)] (fun z => z = ra_rp (nI rp) (fun rp => nI (ra_cn (ra_bt (fk rp)) n))) 14 ls [] := by
      intro k
      induction k with
      | zero => intro i h1 h2; exact absurd h2 (by omega)
      | succ k ih =>
        intro i h1 h2 ls hl
        refine lv_iload_n hx hb dX1_known_14 rfl (lv_at hl 0 rfl) ?_
        refine lv_aload_n hx hb dX1_known_15 rfl (lv_at hl 2 rfl) ?_
        refine va_get (D := (dC, dI)) (ci := 1) (v := .int (nI n)) (C := RX1) (T := TX1) (N := 11) hx hb hts in_X1 hown hK hP 0 rfl rfl 0 (by decide) (hts _ q145) (fun _ h9 => h9) rfl dX1_known_16 ?_
        refine lv_icmp_ge (tgt := 40) hx hb dX1_known_19 (by decide) (fun c_19 => ?_) (fun c_19 => ?_)
        · have hi : i = n := by rw [nI_leI (by omega) (by omega)] at c_19; omega
          subst hi
          refine lv_iload_n hx hb dX1_known_40 rfl (lv_at hl 1 rfl) ?_
          exact W.iret (v := nI (ra_cn (ra_bt (fk rp)) i)) hx hb hr (fun t ht hW => ⟨_, rfl, (ra_rp_ok (v := fun rp => nI (ra_cn (ra_bt (fk rp)) i)) hr3).symm, ht⟩) (fun q h => by cases h) dX1_known_41
        · have hi : i < n := by rw [nI_leI (by omega) (by omega)] at c_19; omega
          refine lv_aload_n hx hb dX1_known_22 rfl (lv_at hl 2 rfl) ?_
          refine lv_iload_n hx hb dX1_known_23 rfl (lv_at hl 3 rfl) ?_
          refine lv_iload_n hx hb dX1_known_24 rfl (lv_at hl 0 rfl) ?_
          refine ra_cV (Cn := RX1) ⟨hx, hb, hml, hown, hts⟩ [.int (nI rp), .int (nI i)] [] (mm_isKnown l rp (nI i) hr3 hn) (cwV 2 hts (lw_V q196 q198 qs11 q18 q199) rfl rfl rfl (by decide +kernel) ⟨Nat.le_of_ble_eq_true rfl, Nat.le_of_ble_eq_true rfl⟩) hP hK (va_recv hK hP (ci := 1) (q0 := 0) rfl rfl) rfl hl.1 rfl (Nat.le_of_ble_eq_true rfl) dX1_known_25 ⟨Nat.le_of_ble_eq_true rfl, Nat.le_of_ble_eq_true rfl⟩ (fun z hz => ?_)
          refine lv_if_eq (tgt := 34) hx hb dX1_known_28 (by decide) (fun c_28 => ?_) (fun c_28 => ?_)
          · have hc : ra_cn (ra_bt (fk rp)) (i + 1) = ra_cn (ra_bt (fk rp)) i := ra_cn_n (by have q := (ra_b_eq _).mp (hz ▸ c_28); cases hb : ra_bt (fk rp) i with
            | false => rfl
            | true => rw [ra_kn_t hi hn hb] at q; cases q)
            refine lv_iinc (v := nI (i + 1)) (lv' := [(3, .int (nI (i + 1))), (2, .int (nI (ra_cn (ra_bt (fk rp)) i))), (0, .ref h), (1, .int (nI rp))]) hx hb dX1_known_34 hl (k := 0) rfl (ra_inc _) (by decide) rfl (fun ls hl => ?_)
            refine lv_goto (tgt := 14) hx hb dX1_known_37 (by decide) ?_
            exact ih (i + 1) (by omega) (by omega) ls (by rw [hc]; exact (lv_sub hl [0, 1, 2, 3] rfl))
          · have hc : ra_cn (ra_bt (fk rp)) (i + 1) = ra_cn (ra_bt (fk rp)) i + 1 := ra_cn_s (by have q := (ra_b_ne _).mp (hz ▸ c_28); obtain ⟨k2, e1, e2, e3⟩ := ra_kn_of q; rw [← (nI_eq (by omega) (by omega)).mp e2] at e3; exact e3)
            refine lv_iinc (v := nI (ra_cn (ra_bt (fk rp)) i + 1)) (lv' := [(2, .int (nI (ra_cn (ra_bt (fk rp)) i + 1))), (3, .int (nI i)), (0, .ref h), (1, .int (nI rp))]) hx hb dX1_known_31 hl (k := 1) rfl (ra_inc _) (by decide) rfl (fun ls hl => ?_)
            refine lv_iinc (v := nI (i + 1)) (lv' := [(3, .int (nI (i + 1))), (2, .int (nI (ra_cn (ra_bt (fk rp)) i + 1))), (0, .ref h), (1, .int (nI rp))]) hx hb dX1_known_34 hl (k := 1) rfl (ra_inc _) (by decide) rfl (fun ls hl => ?_)
            refine lv_goto (tgt := 14) hx hb dX1_known_37 (by decide) ?_
            exact ih (i + 1) (by omega) (by omega) ls (by rw [hc]; exact (lv_sub hl [0, 1, 2, 3] rfl))
    exact loop (n + 1) 0 (Nat.zero_le _) (by omega) ls (lv_sub hl [0, 1, 2, 3] rfl)
  · have hbd : r < 0 ∨ 2 < r := by
      rcases hz with ⟨-, q⟩ | ⟨q, -⟩
      · exact q
      · exact absurd (q ▸ c_5) (by decide)
    refine lv_iconst (v := (-1)) hx hb dX1_known_8 (by decide) ?_
    exact W.iret (v := -1) hx hb hr (fun t ht hW => ⟨_, rfl, (ra_rp_bad hbd).symm, ht⟩) (fun q h => by cases h) dX1_known_9
set_option maxHeartbeats 4000000 in
set_option maxRecDepth 100000 in
/-- length(r) -/
theorem mm_length (r : Int32) (hn : n ≤ 40) : Met l yX1_length (ws_ yX1_length cX1_length 4 (some .int)) ({ frames := 2, cells := 0, slots := 0, locals := 60 }) (va_Pc [.ref h, .int r] (fun U => va_P (dC, dI) vwCl (ra_wM h q1 q2 q3 q4 q5 q6 q7 q8 q9 cI cZ n fl S O P AB fk fg C fr od) U.heap ∧ va_K (dC, dI) vwCl [(cI, .int), (cZ, .boolean)] U)) (vp_Si (fun z => z = ra_rp r (fun rp => nI (ra_cn (ra_kf fk fg rp) n)))) 0 0 (fun _ => False) := by
  refine Met.ofW (cc := cX1_length) (maxL := 4) (ret := some .int) (by decide) rfl ?_
  intro p e s m args below meth c s₁ B hml hv
  obtain ⟨rfl, hP, hK⟩ := hv
  have hx := B.exec
  have hb := B.bytes
  have hr := B.returns
  have hts := atoms_spec (ws := (ws_ yX1_length cX1_length 4 (some .int))) B.pre
  have hts : ∀ w ∈ lw_all, w.before _ s = true := fun w h => hts w (List.mem_cons_of_mem _ h)
  have hown : s.vm.findClass RX1 = some m.cls := findClass_of_methodNamed B.named
  have hlocks := B.notSynchronized
  have hP : va_P (dC, dI) vwCl (ra_wM h q1 q2 q3 q4 q5 q6 q7 q8 q9 cI cZ n fl S O P AB fk fg C fr od) s.heap := hP
  have hl := lv_entry ([.ref h, .int r]) (n := 4) (Nat.le_of_ble_eq_true rfl)
  rw [lg_entry_eq]
  generalize (lg_sl ([.ref h, .int r]) ++ List.replicate (4 - (lg_sl ([.ref h, .int r])).length) Slot.unset).toArray = ls at hl ⊢
  have hl : lv_has ls 4 [(0, .ref h), (1, .int r)] := hl
  refine lv_aload_n hx hb dX1_length_0 rfl (lv_at hl 0 rfl) ?_
  refine lv_iload_n hx hb dX1_length_1 rfl (lv_at hl 1 rfl) ?_
  refine ra_cV (Cn := RX1) ⟨hx, hb, hml, hown, hts⟩ [.int r] [] (mm_isReplica l r) (cwV 1 hts (lw_V q184 q186 qs9 q18 q187) rfl rfl rfl (by decide +kernel) ⟨Nat.le_of_ble_eq_true rfl, Nat.le_of_ble_eq_true rfl⟩) hP hK (va_recv hK hP (ci := 1) (q0 := 0) rfl rfl) rfl hl.1 rfl (Nat.le_of_ble_eq_true rfl) dX1_length_2 ⟨Nat.le_of_ble_eq_true rfl, Nat.le_of_ble_eq_true rfl⟩ (fun z hz => ?_)
  refine lv_if_ne (tgt := 10) hx hb dX1_length_5 (by decide) (fun c_5 => ?_) (fun c_5 => ?_)
  · obtain ⟨rp, hr3, rfl⟩ : ∃ k, k < 3 ∧ r = nI k := by
      rcases hz with ⟨q, -⟩ | ⟨-, q⟩
      · exact absurd q c_5
      · exact q
    refine lv_iconst (v := 0) hx hb dX1_length_10 (by decide) ?_
    refine lv_istore_n (lv' := [(2, .int 0), (0, .ref h), (1, .int (nI rp))]) hx hb dX1_length_11 rfl hl (by decide) rfl (fun ls hl => ?_)
    refine lv_iconst (v := 0) hx hb dX1_length_12 (by decide) ?_
    refine lv_istore_n (lv' := [(3, .int 0), (2, .int 0), (0, .ref h), (1, .int (nI rp))]) hx hb dX1_length_13 rfl hl (by decide) rfl (fun ls hl => ?_)
    have loop : ∀ (k i : Nat), i ≤ n → n + 1 ≤ i + k → ∀ (ls : Array Slot), lv_has ls 4 [(3, .int (nI i)), (2, .int (nI (ra_cn (ra_kf fk fg rp) i))), (0, .ref h), (1, .int (nI rp))] → ra_WR p l e s m below meth c (ws_ yX1_length cX1_length 4 (some .int)) ({ frames := 2, cells := 0, slots := 0, locals := 60 }) [.ref h, .int (nI rp)] (fun z => z = ra_rp (nI rp) (fun rp => nI (ra_cn (ra_kf fk fg rp) n))) 14 ls [] := by
      intro k
      induction k with
      | zero => intro i h1 h2; exact absurd h2 (by omega)
      | succ k ih =>
        intro i h1 h2 ls hl
        refine lv_iload_n hx hb dX1_length_14 rfl (lv_at hl 0 rfl) ?_
        refine lv_aload_n hx hb dX1_length_15 rfl (lv_at hl 2 rfl) ?_
        refine va_get (D := (dC, dI)) (ci := 1) (v := .int (nI n)) (C := RX1) (T := TX1) (N := 11) hx hb hts in_X1 hown hK hP 0 rfl rfl 0 (by decide) (hts _ q145) (fun _ h9 => h9) rfl dX1_length_16 ?_
        refine lv_icmp_ge (tgt := 40) hx hb dX1_length_19 (by decide) (fun c_19 => ?_) (fun c_19 => ?_)
        · have hi : i = n := by rw [nI_leI (by omega) (by omega)] at c_19; omega
          subst hi
          refine lv_iload_n hx hb dX1_length_40 rfl (lv_at hl 1 rfl) ?_
          exact W.iret (v := nI (ra_cn (ra_kf fk fg rp) i)) hx hb hr (fun t ht hW => ⟨_, rfl, (ra_rp_ok (v := fun rp => nI (ra_cn (ra_kf fk fg rp) i)) hr3).symm, ht⟩) (fun q h => by cases h) dX1_length_41
        · have hi : i < n := by rw [nI_leI (by omega) (by omega)] at c_19; omega
          refine lv_aload_n hx hb dX1_length_22 rfl (lv_at hl 2 rfl) ?_
          refine lv_iload_n hx hb dX1_length_23 rfl (lv_at hl 3 rfl) ?_
          refine lv_iload_n hx hb dX1_length_24 rfl (lv_at hl 0 rfl) ?_
          refine ra_cV (Cn := RX1) ⟨hx, hb, hml, hown, hts⟩ [.int (nI rp), .int (nI i)] [] (mm_isShown l rp (nI i) hr3 hn) (cwV 2 hts (lw_V q192 q194 qs10 q18 q195) rfl rfl rfl (by decide +kernel) ⟨Nat.le_of_ble_eq_true rfl, Nat.le_of_ble_eq_true rfl⟩) hP hK (va_recv hK hP (ci := 1) (q0 := 0) rfl rfl) rfl hl.1 rfl (Nat.le_of_ble_eq_true rfl) dX1_length_25 ⟨Nat.le_of_ble_eq_true rfl, Nat.le_of_ble_eq_true rfl⟩ (fun z hz => ?_)
          refine lv_if_eq (tgt := 34) hx hb dX1_length_28 (by decide) (fun c_28 => ?_) (fun c_28 => ?_)
          · have hc : ra_cn (ra_kf fk fg rp) (i + 1) = ra_cn (ra_kf fk fg rp) i := ra_cn_n (by have q := (ra_b_eq _).mp (hz ▸ c_28); cases hb : ra_kf fk fg rp i with
            | false => rfl
            | true =>
              obtain ⟨q1, q2⟩ := Bool.and_eq_true_iff.mp hb
              rw [ra_kn_t hi hn q1, nI_clamp (by omega), Bool.true_and] at q
              rw [ra_sh, q2] at q
              cases q)
            refine lv_iinc (v := nI (i + 1)) (lv' := [(3, .int (nI (i + 1))), (2, .int (nI (ra_cn (ra_kf fk fg rp) i))), (0, .ref h), (1, .int (nI rp))]) hx hb dX1_length_34 hl (k := 0) rfl (ra_inc _) (by decide) rfl (fun ls hl => ?_)
            refine lv_goto (tgt := 14) hx hb dX1_length_37 (by decide) ?_
            exact ih (i + 1) (by omega) (by omega) ls (by rw [hc]; exact (lv_sub hl [0, 1, 2, 3] rfl))
          · have hc : ra_cn (ra_kf fk fg rp) (i + 1) = ra_cn (ra_kf fk fg rp) i + 1 := ra_cn_s (by have q := (ra_b_ne _).mp (hz ▸ c_28); obtain ⟨q1, q2⟩ := Bool.and_eq_true_iff.mp q; obtain ⟨k2, e1, e2, e3⟩ := ra_kn_of q1; rw [← (nI_eq (by omega) (by omega)).mp e2] at e3; rw [nI_clamp (by omega)] at q2; exact Bool.and_eq_true_iff.mpr ⟨e3, q2⟩)
            refine lv_iinc (v := nI (ra_cn (ra_kf fk fg rp) i + 1)) (lv' := [(2, .int (nI (ra_cn (ra_kf fk fg rp) i + 1))), (3, .int (nI i)), (0, .ref h), (1, .int (nI rp))]) hx hb dX1_length_31 hl (k := 1) rfl (ra_inc _) (by decide) rfl (fun ls hl => ?_)
            refine lv_iinc (v := nI (i + 1)) (lv' := [(3, .int (nI (i + 1))), (2, .int (nI (ra_cn (ra_kf fk fg rp) i + 1))), (0, .ref h), (1, .int (nI rp))]) hx hb dX1_length_34 hl (k := 1) rfl (ra_inc _) (by decide) rfl (fun ls hl => ?_)
            refine lv_goto (tgt := 14) hx hb dX1_length_37 (by decide) ?_
            exact ih (i + 1) (by omega) (by omega) ls (by rw [hc]; exact (lv_sub hl [0, 1, 2, 3] rfl))
    exact loop (n + 1) 0 (Nat.zero_le _) (by omega) ls (lv_sub hl [0, 1, 2, 3] rfl)
  · have hbd : r < 0 ∨ 2 < r := by
      rcases hz with ⟨-, q⟩ | ⟨q, -⟩
      · exact q
      · exact absurd (q ▸ c_5) (by decide)
    refine lv_iconst (v := (-1)) hx hb dX1_length_8 (by decide) ?_
    exact W.iret (v := -1) hx hb hr (fun t ht hW => ⟨_, rfl, (ra_rp_bad hbd).symm, ht⟩) (fun q h => by cases h) dX1_length_9
end MM
end
section
set_option maxRecDepth 100000
section MM
variable (l : Launch) {dC : Nat → ClassId} {dI : Nat → Nat → Nat} {h q1 q2 q3 q4 q5 q6 q7 q8 q9 : Nat} {cI cZ : ClassId} {n : Nat} {fl : Nat → Int32} {S O P : Nat → Nat} {AB : Nat → Nat → Bool} {fk fg : Nat → Int64} {C : Nat → Nat} {fr : Nat → Int32} {od : Int32}
set_option maxHeartbeats 4000000 in
set_option maxRecDepth 100000 in
/-- arrange(rp) -/
theorem mm_arrange (sz : Nat) (rp : Nat) (hr3 : rp < 3) {Xl : Nat → List Nat} (hI : ra_inv n S O P C fk fg Xl) (hAB : ra_ab n P AB) : Met l yX1_arrange (ws_ yX1_arrange cX1_arrange 3 none) ({ frames := 3, cells := 0, slots := 0, locals := 90 }) (va_Pc [.ref h, .int (nI rp)] (fun U => U.heap.size = sz ∧ va_P (dC, dI) vwCl (ra_wM h q1 q2 q3 q4 q5 q6 q7 q8 q9 cI cZ n fl S O P AB fk fg C fr od) U.heap ∧ va_K (dC, dI) vwCl [(cI, .int), (cZ, .boolean)] U ∧ va_D (fun _ => True) (ra_wM h q1 q2 q3 q4 q5 q6 q7 q8 q9 cI cZ n fl S O P AB fk fg C fr od))) (va_Qv (fun (u : (Nat → Int32) × Int32) => u.2 = nI (Xl rp).length ∧ ∀ j a, (Xl rp)[j]? = some a → u.1 j = nI a) (fun u t => va_P (dC, dI) vwCl (ra_wM h q1 q2 q3 q4 q5 q6 q7 q8 q9 cI cZ n fl S O P AB fk fg C u.1 u.2) t.heap ∧ va_K (dC, dI) vwCl [(cI, .int), (cZ, .boolean)] t ∧ va_D (va_A (ra_wM h q1 q2 q3 q4 q5 q6 q7 q8 q9 cI cZ n fl S O P AB fk fg C fr od) sz) (ra_wM h q1 q2 q3 q4 q5 q6 q7 q8 q9 cI cZ n fl S O P AB fk fg C u.1 u.2)) (va_A (ra_wM h q1 q2 q3 q4 q5 q6 q7 q8 q9 cI cZ n fl S O P AB fk fg C fr od) sz)) 0 0 (va_A (ra_wM h q1 q2 q3 q4 q5 q6 q7 q8 q9 cI cZ n fl S O P AB fk fg C fr od) sz) := by
  refine Met.ofW (cc := cX1_arrange) (maxL := 3) (ret := none) (by decide) rfl ?_
  intro p e s m args below meth c s₁ B hml hv
  obtain ⟨rfl, hsz, hP, hK, hD0⟩ := hv
  have hx := B.exec
  have hb := B.bytes
  have hr := B.returns
  have hts := atoms_spec (ws := (ws_ yX1_arrange cX1_arrange 3 none)) B.pre
  have hts : ∀ w ∈ lw_all, w.before _ s = true := fun w h => hts w (List.mem_cons_of_mem _ h)
  have hown : s.vm.findClass RX1 = some m.cls := findClass_of_methodNamed B.named
  have hlocks := B.notSynchronized
  subst hsz
  have hD := hD0.self (sz := s.heap.size)
  generalize hAe : va_A (ra_wM h q1 q2 q3 q4 q5 q6 q7 q8 q9 cI cZ n fl S O P AB fk fg C fr od) s.heap.size = A at hD ⊢
  have hA : ∀ q : Nat, s.heap.size ≤ q → A q := fun q h => by rw [← hAe]; exact Or.inr h
  have hS : va_S A s.heap s.heap [] := va_S.rf
  have hP : va_P (dC, dI) vwCl (ra_wM h q1 q2 q3 q4 q5 q6 q7 q8 q9 cI cZ n fl S O P AB fk fg C fr od) s.heap := hP
  have hl := lv_entry ([.ref h, .int (nI rp)]) (n := 3) (Nat.le_of_ble_eq_true rfl)
  rw [lg_entry_eq]
  generalize (lg_sl ([.ref h, .int (nI rp)]) ++ List.replicate (3 - (lg_sl ([.ref h, .int (nI rp)])).length) Slot.unset).toArray = ls at hl ⊢
  have hl : lv_has ls 3 [(0, .ref h), (1, .int (nI rp))] := hl
  have hn : n ≤ 40 := hI.1.1
  have hSO : ∀ k, S k ≤ 40 ∧ O k < 3 := fun k => ⟨Nat.le_trans (hI.1.2.1 k).1 hn, (hI.1.2.1 k).2⟩
  have hpar : ∀ k, k < n → P k = 40 ∨ P k < k := fun k hk => (hI.1.2.2.1 k hk).elim Or.inl (fun q => Or.inr q.1)
  obtain ⟨-, -, hnd, hmem, -⟩ := hI.1.2.2.2.2.2 rp hr3
  have hl40 := ra_inv_l40 hI hr3
  refine lv_aload_n hx hb dX1_arrange_0 rfl (lv_at hl 0 rfl) ?_
  refine lv_iconst (v := 0) hx hb dX1_arrange_1 (by decide) ?_
  refine ra_top (y := nI (ra_cn (ra_bt (fk rp)) 0)) rfl ?_
  refine va_put (D := (dC, dI)) (ci := 1) (v := .int (nI (ra_cn (ra_bt (fk rp)) 0))) (ty := .int) (C := RX1) (T := TX1) (N := 11) hx hb hts in_X1 tyX1 tyX1_ok nmX1 hown hK hP hD hS 0 rfl rfl 10 (by decide) (hts _ q155) (fun _ h9 => h9) rfl (by decide +kernel) rfl rfl (Nat.le_of_ble_eq_true rfl) dX1_arrange_2 (fun H locs hP hD hS => ?_)
  have hP : va_P (dC, dI) vwCl (ra_wM h q1 q2 q3 q4 q5 q6 q7 q8 q9 cI cZ n fl S O P AB fk fg C fr (nI (ra_cn (ra_bt (fk rp)) 0))) H := hP
  have hD : va_D A (ra_wM h q1 q2 q3 q4 q5 q6 q7 q8 q9 cI cZ n fl S O P AB fk fg C fr (nI (ra_cn (ra_bt (fk rp)) 0))) := hD
  refine lv_iconst (v := 0) hx hb dX1_arrange_5 (by decide) ?_
  refine lv_istore_n (lv' := [(2, .int 0), (0, .ref h), (1, .int (nI rp))]) hx hb dX1_arrange_6 rfl hl (by decide) rfl (fun ls hl => ?_)
  have loop : ∀ (k i : Nat) (fr1 : Nat → Int32) (H : Heap) (locs : List Loc), i ≤ n → n + 1 ≤ i + k → (∀ j a, (Xl rp)[j]? = some a → a < i → fr1 j = nI a) → va_P (dC, dI) vwCl (ra_wM h q1 q2 q3 q4 q5 q6 q7 q8 q9 cI cZ n fl S O P AB fk fg C fr1 (nI (ra_cn (ra_bt (fk rp)) i))) H → va_D A (ra_wM h q1 q2 q3 q4 q5 q6 q7 q8 q9 cI cZ n fl S O P AB fk fg C fr1 (nI (ra_cn (ra_bt (fk rp)) i))) → va_S A s.heap H locs → ∀ (ls : Array Slot), lv_has ls 3 [(2, .int (nI i)), (0, .ref h), (1, .int (nI rp))] → ra_WV p l e s m below meth c H locs (ws_ yX1_arrange cX1_arrange 3 none) ({ frames := 3, cells := 0, slots := 0, locals := 90 }) [.ref h, .int (nI rp)] (fun (u : (Nat → Int32) × Int32) => u.2 = nI (Xl rp).length ∧ ∀ j a, (Xl rp)[j]? = some a → u.1 j = nI a) (fun u t => va_P (dC, dI) vwCl (ra_wM h q1 q2 q3 q4 q5 q6 q7 q8 q9 cI cZ n fl S O P AB fk fg C u.1 u.2) t.heap ∧ va_K (dC, dI) vwCl [(cI, .int), (cZ, .boolean)] t ∧ va_D A (ra_wM h q1 q2 q3 q4 q5 q6 q7 q8 q9 cI cZ n fl S O P AB fk fg C u.1 u.2)) A 7 ls [] := by
    intro k
    induction k with
    | zero => intro i fr1 H locs h1 h2; exact absurd h2 (by omega)
    | succ k ih =>
      intro i fr1 H locs h1 h2 hfr hP hD hS ls hl
      refine lv_iload_n hx hb dX1_arrange_7 rfl (lv_at hl 0 rfl) ?_
      refine lv_aload_n hx hb dX1_arrange_8 rfl (lv_at hl 1 rfl) ?_
      refine va_get (D := (dC, dI)) (ci := 1) (v := .int (nI n)) (C := RX1) (T := TX1) (N := 11) hx hb hts in_X1 hown hK hP 0 rfl rfl 0 (by decide) (hts _ q145) (fun _ h9 => h9) rfl dX1_arrange_9 ?_
      refine lv_icmp_ge (tgt := 52) hx hb dX1_arrange_12 (by decide) (fun c_12 => ?_) (fun c_12 => ?_)
      · have hi : i = n := by rw [nI_leI (by omega) (by omega)] at c_12; omega
        subst hi
        exact W.vret hx hb hr (fun t ht hW => ⟨⟨(fr1, nI (ra_cn (ra_bt (fk rp)) i)), rfl, ⟨by rw [ra_inv_len hI hr3], fun j a q => hfr j a q ((hmem a).mp (List.mem_of_getElem? q)).1⟩, by rw [ht]; exact hP, va_K.moved hW.alike hK, hD⟩, hS.F ht⟩) hS.2.2 dX1_arrange_52
      · have hi : i < n := by rw [nI_leI (by omega) (by omega)] at c_12; omega
        refine lv_aload_n hx hb dX1_arrange_15 rfl (lv_at hl 1 rfl) ?_
        refine lv_iload_n hx hb dX1_arrange_16 rfl (lv_at hl 2 rfl) ?_
        refine lv_iload_n hx hb dX1_arrange_17 rfl (lv_at hl 0 rfl) ?_
        refine ra_cV (Cn := RX1) ⟨hx, hb, hml, hown, hts⟩ [.int (nI rp), .int (nI i)] [] (mm_isKnown l rp (nI i) hr3 hn) (cwV 2 hts (lw_V q196 q198 qs11 q18 q199) rfl rfl rfl (by decide +kernel) ⟨Nat.le_of_ble_eq_true rfl, Nat.le_of_ble_eq_true rfl⟩) hP hK (va_recv hK hP (ci := 1) (q0 := 0) rfl rfl) rfl hl.1 rfl (Nat.le_of_ble_eq_true rfl) dX1_arrange_18 ⟨Nat.le_of_ble_eq_true rfl, Nat.le_of_ble_eq_true rfl⟩ (fun z hz => ?_)
        refine lv_if_eq (tgt := 46) hx hb dX1_arrange_21 (by decide) (fun c_21 => ?_) (fun c_21 => ?_)
        · have hb2 : ra_bt (fk rp) i = false := by
            have q := (ra_b_eq _).mp (hz ▸ c_21)
            cases hb : ra_bt (fk rp) i with
            | false => rfl
            | true => rw [ra_kn_t hi hn hb] at q; cases q
          have hc : ra_cn (ra_bt (fk rp)) (i + 1) = ra_cn (ra_bt (fk rp)) i := ra_cn_n hb2
          refine lv_iinc (v := nI (i + 1)) (lv' := [(2, .int (nI (i + 1))), (0, .ref h), (1, .int (nI rp))]) hx hb dX1_arrange_46 hl (k := 0) rfl (ra_inc _) (by decide) rfl (fun ls hl => ?_)
          refine lv_goto (tgt := 7) hx hb dX1_arrange_49 (by decide) ?_
          exact ih (i + 1) fr1 H locs (by omega) (by omega) (fun j a q1 q2 => by
            by_cases e : a = i
            · subst e
              have := ((hmem a).mp (List.mem_of_getElem? q1)).2
              rw [hb2] at this
              cases this
            · exact hfr j a q1 (by omega)) (by rw [hc]; exact hP) (by rw [hc]; exact hD) hS ls (lv_sub hl [0, 1, 2] rfl)
        · have hb2 : ra_bt (fk rp) i = true := by
            obtain ⟨k2, e1, e2, e3⟩ := ra_kn_of ((ra_b_ne _).mp (hz ▸ c_21))
            rw [← (nI_eq (by omega) (by omega)).mp e2] at e3
            exact e3
          have him : i ∈ Xl rp := (hmem i).mpr ⟨hi, hb2⟩
          obtain ⟨hix, hlt⟩ := ra_cb_idx hnd him
          have hc : ra_cn (ra_bt (fk rp)) (i + 1) = ra_cn (ra_bt (fk rp)) i + 1 := ra_cn_s hb2
          refine lv_aload_n hx hb dX1_arrange_24 rfl (lv_at hl 1 rfl) ?_
          refine va_get (D := (dC, dI)) (ci := 1) (v := .ref q9) (C := RX1) (T := TX1) (N := 11) hx hb hts in_X1 hown hK hP 0 rfl rfl 9 (by decide) (hts _ q154) (fun _ h9 => h9) rfl dX1_arrange_25 ?_
          refine lv_aload_n hx hb dX1_arrange_28 rfl (lv_at hl 1 rfl) ?_
          refine lv_iload_n hx hb dX1_arrange_29 rfl (lv_at hl 2 rfl) ?_
          refine lv_iload_n hx hb dX1_arrange_30 rfl (lv_at hl 0 rfl) ?_
          refine ra_cV (Cn := RX1) ⟨hx, hb, hml, hown, hts⟩ [.int (nI rp), .int (nI i)] [.ref q9] (mm_rankOf l rp i hr3 hI hAB him) (cwV 2 hts (lw_V q208 q210 qs13 q18 q211) rfl rfl rfl (by decide +kernel) ⟨Nat.le_of_ble_eq_true rfl, Nat.le_of_ble_eq_true rfl⟩) hP hK (va_recv hK hP (ci := 1) (q0 := 0) rfl rfl) rfl hl.1 rfl (Nat.le_of_ble_eq_true rfl) dX1_arrange_31 ⟨Nat.le_of_ble_eq_true rfl, Nat.le_of_ble_eq_true rfl⟩ (fun z2 hz2 => ?_)
          subst hz2
          refine lv_iload_n hx hb dX1_arrange_34 rfl (lv_at hl 0 rfl) ?_
          refine ra_iast hx hb hK hP hD hS 9 0 rfl rfl (k := ra_cb (fun _ => true) i (Xl rp)) rfl (by omega) (by decide) (f' := upd fr1 (ra_cb (fun _ => true) i (Xl rp)) (nI i)) rfl dX1_arrange_35 (fun H locs hP hD hS => ?_)
          have hP : va_P (dC, dI) vwCl (ra_wM h q1 q2 q3 q4 q5 q6 q7 q8 q9 cI cZ n fl S O P AB fk fg C (upd fr1 (ra_cb (fun _ => true) i (Xl rp)) (nI i)) (nI (ra_cn (ra_bt (fk rp)) i))) H := hP
          have hD : va_D A (ra_wM h q1 q2 q3 q4 q5 q6 q7 q8 q9 cI cZ n fl S O P AB fk fg C (upd fr1 (ra_cb (fun _ => true) i (Xl rp)) (nI i)) (nI (ra_cn (ra_bt (fk rp)) i))) := hD
          refine lv_aload_n hx hb dX1_arrange_36 rfl (lv_at hl 1 rfl) ?_
          refine lv_dup hx hb dX1_arrange_37 rfl ?_
          refine va_get (D := (dC, dI)) (ci := 1) (v := .int (nI (ra_cn (ra_bt (fk rp)) i))) (C := RX1) (T := TX1) (N := 11) hx hb hts in_X1 hown hK hP 0 rfl rfl 10 (by decide) (hts _ q155) (fun _ h9 => h9) rfl dX1_arrange_38 ?_
          refine lv_iconst (v := 1) hx hb dX1_arrange_41 (by decide) ?_
          refine lv_iadd hx hb dX1_arrange_42 ?_
          refine ra_top (y := nI (ra_cn (ra_bt (fk rp)) i + 1)) (nI_1 _) ?_
          refine va_put (D := (dC, dI)) (ci := 1) (v := .int (nI (ra_cn (ra_bt (fk rp)) i + 1))) (ty := .int) (C := RX1) (T := TX1) (N := 11) hx hb hts in_X1 tyX1 tyX1_ok nmX1 hown hK hP hD hS 0 rfl rfl 10 (by decide) (hts _ q155) (fun _ h9 => h9) rfl (by decide +kernel) rfl rfl (Nat.le_of_ble_eq_true rfl) dX1_arrange_43 (fun H locs hP hD hS => ?_)
          have hP : va_P (dC, dI) vwCl (ra_wM h q1 q2 q3 q4 q5 q6 q7 q8 q9 cI cZ n fl S O P AB fk fg C (upd fr1 (ra_cb (fun _ => true) i (Xl rp)) (nI i)) (nI (ra_cn (ra_bt (fk rp)) i + 1))) H := hP
          have hD : va_D A (ra_wM h q1 q2 q3 q4 q5 q6 q7 q8 q9 cI cZ n fl S O P AB fk fg C (upd fr1 (ra_cb (fun _ => true) i (Xl rp)) (nI i)) (nI (ra_cn (ra_bt (fk rp)) i + 1))) := hD
          refine lv_iinc (v := nI (i + 1)) (lv' := [(2, .int (nI (i + 1))), (0, .ref h), (1, .int (nI rp))]) hx hb dX1_arrange_46 hl (k := 0) rfl (ra_inc _) (by decide) rfl (fun ls hl => ?_)
          refine lv_goto (tgt := 7) hx hb dX1_arrange_49 (by decide) ?_
          exact ih (i + 1) (upd fr1 (ra_cb (fun _ => true) i (Xl rp)) (nI i)) H locs (by omega) (by omega) (fun j a q1 q2 => by
            by_cases e : a = i
            · subst e
              rw [ra_idx_cb hnd q1, pk_us]
            · rw [pk_un (fun z => e (by rw [z, hix] at q1; exact (Option.some.inj q1).symm))]
              exact hfr j a q1 (by omega)) (by rw [hc]; exact hP) (by rw [hc]; exact hD) hS ls (lv_sub hl [0, 1, 2] rfl)
  exact loop (n + 1) 0 fr H locs (Nat.zero_le _) (by omega) (fun j a _ q => absurd q (Nat.not_lt_zero _)) hP hD hS ls (lv_sub hl [0, 1, 2] rfl)
set_option maxHeartbeats 4000000 in
set_option maxRecDepth 100000 in
/-- elementAt(r, pl) -/
theorem mm_elementAt (sz : Nat) (r pl : Int32) {Xl : Nat → List Nat} (hI : ra_inv n S O P C fk fg Xl) (hAB : ra_ab n P AB) : Met l yX1_elementAt (ws_ yX1_elementAt cX1_elementAt 5 (some .int)) ({ frames := 4, cells := 0, slots := 0, locals := 120 }) (va_Pc [.ref h, .int r, .int pl] (fun U => U.heap.size = sz ∧ va_P (dC, dI) vwCl (ra_wM h q1 q2 q3 q4 q5 q6 q7 q8 q9 cI cZ n fl S O P AB fk fg C fr od) U.heap ∧ va_K (dC, dI) vwCl [(cI, .int), (cZ, .boolean)] U ∧ va_D (fun _ => True) (ra_wM h q1 q2 q3 q4 q5 q6 q7 q8 q9 cI cZ n fl S O P AB fk fg C fr od))) (va_Qi (fun z (u : (Nat → Int32) × Int32) => z = ra_rp r (fun rp => ra_el (-5) (ra_at (ra_sh fg rp) (Xl rp) pl))) (fun u t => va_P (dC, dI) vwCl (ra_wM h q1 q2 q3 q4 q5 q6 q7 q8 q9 cI cZ n fl S O P AB fk fg C u.1 u.2) t.heap ∧ va_K (dC, dI) vwCl [(cI, .int), (cZ, .boolean)] t ∧ va_D (va_A (ra_wM h q1 q2 q3 q4 q5 q6 q7 q8 q9 cI cZ n fl S O P AB fk fg C fr od) sz) (ra_wM h q1 q2 q3 q4 q5 q6 q7 q8 q9 cI cZ n fl S O P AB fk fg C u.1 u.2)) (va_A (ra_wM h q1 q2 q3 q4 q5 q6 q7 q8 q9 cI cZ n fl S O P AB fk fg C fr od) sz)) 0 0 (va_A (ra_wM h q1 q2 q3 q4 q5 q6 q7 q8 q9 cI cZ n fl S O P AB fk fg C fr od) sz) := by
  refine Met.ofW (cc := cX1_elementAt) (maxL := 5) (ret := some .int) (by decide) rfl ?_
  intro p e s m args below meth c s₁ B hml hv
  obtain ⟨rfl, hsz, hP, hK, hD0⟩ := hv
  have hx := B.exec
  have hb := B.bytes
  have hr := B.returns
  have hts := atoms_spec (ws := (ws_ yX1_elementAt cX1_elementAt 5 (some .int))) B.pre
  have hts : ∀ w ∈ lw_all, w.before _ s = true := fun w h => hts w (List.mem_cons_of_mem _ h)
  have hown : s.vm.findClass RX1 = some m.cls := findClass_of_methodNamed B.named
  have hlocks := B.notSynchronized
  subst hsz
  have hD := hD0.self (sz := s.heap.size)
  generalize hAe : va_A (ra_wM h q1 q2 q3 q4 q5 q6 q7 q8 q9 cI cZ n fl S O P AB fk fg C fr od) s.heap.size = A at hD ⊢
  have hA : ∀ q : Nat, s.heap.size ≤ q → A q := fun q h => by rw [← hAe]; exact Or.inr h
  have hS : va_S A s.heap s.heap [] := va_S.rf
  have hP : va_P (dC, dI) vwCl (ra_wM h q1 q2 q3 q4 q5 q6 q7 q8 q9 cI cZ n fl S O P AB fk fg C fr od) s.heap := hP
  have hl := lv_entry ([.ref h, .int r, .int pl]) (n := 5) (Nat.le_of_ble_eq_true rfl)
  rw [lg_entry_eq]
  generalize (lg_sl ([.ref h, .int r, .int pl]) ++ List.replicate (5 - (lg_sl ([.ref h, .int r, .int pl])).length) Slot.unset).toArray = ls at hl ⊢
  have hl : lv_has ls 5 [(0, .ref h), (1, .int r), (2, .int pl)] := hl
  have hn : n ≤ 40 := hI.1.1
  have hSO : ∀ k, S k ≤ 40 ∧ O k < 3 := fun k => ⟨Nat.le_trans (hI.1.2.1 k).1 hn, (hI.1.2.1 k).2⟩
  have hpar : ∀ k, k < n → P k = 40 ∨ P k < k := fun k hk => (hI.1.2.2.1 k hk).elim Or.inl (fun q => Or.inr q.1)
  refine lv_aload_n hx hb dX1_elementAt_0 rfl (lv_at hl 0 rfl) ?_
  refine lv_iload_n hx hb dX1_elementAt_1 rfl (lv_at hl 1 rfl) ?_
  refine ra_cV (Cn := RX1) ⟨hx, hb, hml, hown, hts⟩ [.int r] [] (mm_isReplica l r) (cwV 1 hts (lw_V q184 q186 qs9 q18 q187) rfl rfl rfl (by decide +kernel) ⟨Nat.le_of_ble_eq_true rfl, Nat.le_of_ble_eq_true rfl⟩) hP hK (va_recv hK hP (ci := 1) (q0 := 0) rfl rfl) rfl hl.1 rfl (Nat.le_of_ble_eq_true rfl) dX1_elementAt_2 ⟨Nat.le_of_ble_eq_true rfl, Nat.le_of_ble_eq_true rfl⟩ (fun z hz => ?_)
  refine lv_if_ne (tgt := 10) hx hb dX1_elementAt_5 (by decide) (fun c_5 => ?_) (fun c_5 => ?_)
  · obtain ⟨rp, hr3, rfl⟩ : ∃ k, k < 3 ∧ r = nI k := by
      rcases hz with ⟨q, -⟩ | ⟨-, q⟩
      · exact absurd q c_5
      · exact q
    rw [ra_rp_ok hr3]
    obtain ⟨-, -, hnd, hmem, -⟩ := hI.1.2.2.2.2.2 rp hr3
    have hl40 := ra_inv_l40 hI hr3
    refine lv_aload_n hx hb dX1_elementAt_10 rfl (lv_at hl 0 rfl) ?_
    refine lv_iload_n hx hb dX1_elementAt_11 rfl (lv_at hl 1 rfl) ?_
    refine ra_cVv (Cn := RX1) (wf := fun (u : (Nat → Int32) × Int32) => (ra_wM h q1 q2 q3 q4 q5 q6 q7 q8 q9 cI cZ n fl S O P AB fk fg C u.1 u.2)) ⟨hx, hb, hml, hown, hts⟩ [.int (nI rp)] [] (mm_arrange l s.heap.size rp hr3 hI hAB) (cwV 1 hts (lw_V q204 q206 qs12 q18 q207) rfl rfl rfl (by decide +kernel) ⟨Nat.le_of_ble_eq_true rfl, Nat.le_of_ble_eq_true rfl⟩) hP hK hD hS hA (va_recv hK hP (ci := 1) (q0 := 0) rfl rfl) rfl hl.1 rfl (Nat.le_of_ble_eq_true rfl) dX1_elementAt_12 ⟨Nat.le_of_ble_eq_true rfl, Nat.le_of_ble_eq_true rfl⟩ (fun u H locs hz2 hP hD hS => ?_)
    obtain ⟨fr1, od1⟩ := u
    obtain ⟨e1, hfr⟩ := hz2
    have e1 : od1 = nI (Xl rp).length := e1
    have hfr : ∀ j a, (Xl rp)[j]? = some a → fr1 j = nI a := hfr
    subst e1
    have hP : va_P (dC, dI) vwCl (ra_wM h q1 q2 q3 q4 q5 q6 q7 q8 q9 cI cZ n fl S O P AB fk fg C fr1 (nI (Xl rp).length)) H := hP
    have hD : va_D A (ra_wM h q1 q2 q3 q4 q5 q6 q7 q8 q9 cI cZ n fl S O P AB fk fg C fr1 (nI (Xl rp).length)) := hD
    refine lv_iconst (v := 0) hx hb dX1_elementAt_15 (by decide) ?_
    refine lv_istore_n (lv' := [(3, .int 0), (0, .ref h), (1, .int (nI rp)), (2, .int pl)]) hx hb dX1_elementAt_16 rfl hl (by decide) rfl (fun ls hl => ?_)
    refine lv_iconst (v := 0) hx hb dX1_elementAt_17 (by decide) ?_
    refine lv_istore (lv' := [(4, .int 0), (3, .int 0), (0, .ref h), (1, .int (nI rp)), (2, .int pl)]) hx hb dX1_elementAt_18 hl (by decide) rfl (fun ls hl => ?_)
    have loop : ∀ (M La : List Nat), La ++ M = Xl rp → (∀ k, k < (La.filter (ra_sh fg rp)).length → pl ≠ nI k) → ∀ (ls : Array Slot), lv_has ls 5 [(4, .int (nI La.length)), (3, .int (nI ((La.filter (ra_sh fg rp)).length))), (0, .ref h), (1, .int (nI rp)), (2, .int pl)] → ra_WI p l e s m below meth c H locs (ws_ yX1_elementAt cX1_elementAt 5 (some .int)) ({ frames := 4, cells := 0, slots := 0, locals := 120 }) [.ref h, .int (nI rp), .int pl] (fun z (u : (Nat → Int32) × Int32) => z = ra_el (-5) (ra_at (ra_sh fg rp) (Xl rp) pl)) (fun u t => va_P (dC, dI) vwCl (ra_wM h q1 q2 q3 q4 q5 q6 q7 q8 q9 cI cZ n fl S O P AB fk fg C u.1 u.2) t.heap ∧ va_K (dC, dI) vwCl [(cI, .int), (cZ, .boolean)] t ∧ va_D A (ra_wM h q1 q2 q3 q4 q5 q6 q7 q8 q9 cI cZ n fl S O P AB fk fg C u.1 u.2)) A 20 ls [] := by
      intro M
      induction M with
      | nil =>
        intro La hE hpl ls hl
        rw [List.append_nil] at hE
        refine lv_iload hx hb dX1_elementAt_20 (lv_at hl 0 rfl) ?_
        refine lv_aload_n hx hb dX1_elementAt_22 rfl (lv_at hl 2 rfl) ?_
        refine va_get (D := (dC, dI)) (ci := 1) (v := .int (nI ((Xl rp).length))) (C := RX1) (T := TX1) (N := 11) hx hb hts in_X1 hown hK hP 0 rfl rfl 10 (by decide) (hts _ q155) (fun _ h9 => h9) rfl dX1_elementAt_23 ?_
        refine lv_icmp_ge (tgt := 66) hx hb dX1_elementAt_26 (by decide) (fun c_26 => ?_) (fun c_26 => ?_)
        · refine lv_bipush (v := (-5)) hx hb dX1_elementAt_66 (by decide) ?_
          exact W.iret (v := -5) hx hb hr (fun t ht hW => ⟨⟨_, (fr1, nI (Xl rp).length), rfl, by rw [ra_at_none (by rw [← hE]; exact hpl)]; rfl, by rw [ht]; exact hP, va_K.moved hW.alike hK, hD⟩, hS.F ht⟩) hS.2.2 dX1_elementAt_68
        · exact absurd (by rw [hE]; exact nI_le (Nat.le_refl _) (by omega)) c_26
      | cons a M ih =>
        intro La hE hpl ls hl
        have hlen : La.length + (M.length + 1) = (Xl rp).length := by rw [← hE, List.length_append, List.length_cons]
        have hga : fr1 La.length = nI a := hfr _ _ (by rw [← hE]; simp)
        have ham : a ∈ Xl rp := by rw [← hE]; simp
        have han := ((hmem a).mp ham).1
        have hfl := List.length_filter_le (ra_sh fg rp) La
        refine lv_iload hx hb dX1_elementAt_20 (lv_at hl 0 rfl) ?_
        refine lv_aload_n hx hb dX1_elementAt_22 rfl (lv_at hl 2 rfl) ?_
        refine va_get (D := (dC, dI)) (ci := 1) (v := .int (nI ((Xl rp).length))) (C := RX1) (T := TX1) (N := 11) hx hb hts in_X1 hown hK hP 0 rfl rfl 10 (by decide) (hts _ q155) (fun _ h9 => h9) rfl dX1_elementAt_23 ?_
        refine lv_icmp_ge (tgt := 66) hx hb dX1_elementAt_26 (by decide) (fun c_26 => ?_) (fun c_26 => ?_)
        · exact absurd c_26 (nI_ge (by omega) (by omega))
        · refine lv_aload_n hx hb dX1_elementAt_29 rfl (lv_at hl 2 rfl) ?_
          refine lv_iload_n hx hb dX1_elementAt_30 rfl (lv_at hl 3 rfl) ?_
          refine lv_aload_n hx hb dX1_elementAt_31 rfl (lv_at hl 2 rfl) ?_
          refine va_get (D := (dC, dI)) (ci := 1) (v := .ref q9) (C := RX1) (T := TX1) (N := 11) hx hb hts in_X1 hown hK hP 0 rfl rfl 9 (by decide) (hts _ q154) (fun _ h9 => h9) rfl dX1_elementAt_32 ?_
          refine lv_iload hx hb dX1_elementAt_35 (lv_at hl 0 rfl) ?_
          refine ra_iald hx hb hK hP 9 0 rfl rfl (k := La.length) rfl (by omega) (by decide) (v := nI a) hga dX1_elementAt_37 ?_
          refine ra_cV (Cn := RX1) ⟨hx, hb, hml, hown, hts⟩ [.int (nI rp), .int (nI a)] [] (mm_isShown l rp (nI a) hr3 hn) (cwV 2 hts (lw_V q192 q194 qs10 q18 q195) rfl rfl rfl (by decide +kernel) ⟨Nat.le_of_ble_eq_true rfl, Nat.le_of_ble_eq_true rfl⟩) hP hK (va_recv hK hP (ci := 1) (q0 := 0) rfl rfl) rfl hl.1 rfl (Nat.le_of_ble_eq_true rfl) dX1_elementAt_38 ⟨Nat.le_of_ble_eq_true rfl, Nat.le_of_ble_eq_true rfl⟩ (fun z hz => ?_)
          rw [ra_kn_t han hn ((hmem a).mp ham).2, Bool.true_and, nI_clamp (by omega)] at hz
          refine lv_if_eq (tgt := 60) hx hb dX1_elementAt_41 (by decide) (fun c_41 => ?_) (fun c_41 => ?_)
          · have hs : ra_sh fg rp a = false := (ra_b_eq _).mp (hz ▸ c_41)
            have e1 : (La ++ [a]).length = La.length + 1 := by simp
            have e2 : ((La ++ [a]).filter (ra_sh fg rp)).length = (La.filter (ra_sh fg rp)).length := by simp [hs]
            refine lv_iinc (v := nI (La.length + 1)) (lv' := [(4, .int (nI (La.length + 1))), (3, .int (nI ((La.filter (ra_sh fg rp)).length))), (0, .ref h), (1, .int (nI rp)), (2, .int pl)]) hx hb dX1_elementAt_60 hl (k := 0) rfl (ra_inc _) (by decide) rfl (fun ls hl => ?_)
            refine lv_goto (tgt := 20) hx hb dX1_elementAt_63 (by decide) ?_
            exact ih (La ++ [a]) (by rw [List.append_assoc]; exact hE) (by rw [e2]; exact hpl) ls (by rw [e1, e2]; exact (lv_sub hl [0, 1, 2, 3, 4] rfl))
          · have hs : ra_sh fg rp a = true := (ra_b_ne _).mp (hz ▸ c_41)
            have e1 : (La ++ [a]).length = La.length + 1 := by simp
            have e2 : ((La ++ [a]).filter (ra_sh fg rp)).length = (La.filter (ra_sh fg rp)).length + 1 := by simp [hs]
            refine lv_iload_n hx hb dX1_elementAt_44 rfl (lv_at hl 1 rfl) ?_
            refine lv_iload_n hx hb dX1_elementAt_45 rfl (lv_at hl 4 rfl) ?_
            refine lv_icmp_ne (tgt := 57) hx hb dX1_elementAt_46 (by decide) (fun c_46 => ?_) (fun c_46 => ?_)
            · refine lv_iinc (v := nI ((La.filter (ra_sh fg rp)).length + 1)) (lv' := [(3, .int (nI ((La.filter (ra_sh fg rp)).length + 1))), (4, .int (nI La.length)), (0, .ref h), (1, .int (nI rp)), (2, .int pl)]) hx hb dX1_elementAt_57 hl (k := 1) rfl (ra_inc _) (by decide) rfl (fun ls hl => ?_)
              refine lv_iinc (v := nI (La.length + 1)) (lv' := [(4, .int (nI (La.length + 1))), (3, .int (nI ((La.filter (ra_sh fg rp)).length + 1))), (0, .ref h), (1, .int (nI rp)), (2, .int pl)]) hx hb dX1_elementAt_60 hl (k := 1) rfl (ra_inc _) (by decide) rfl (fun ls hl => ?_)
              refine lv_goto (tgt := 20) hx hb dX1_elementAt_63 (by decide) ?_
              exact ih (La ++ [a]) (by rw [List.append_assoc]; exact hE) (by
                rw [e2]
                intro k hk q
                by_cases e : k = (La.filter (ra_sh fg rp)).length
                · exact c_46 (by rw [q, e])
                · exact hpl k (by omega) q) ls (by rw [e1, e2]; exact (lv_sub hl [0, 1, 2, 3, 4] rfl))
            · refine lv_aload_n hx hb dX1_elementAt_49 rfl (lv_at hl 2 rfl) ?_
              refine va_get (D := (dC, dI)) (ci := 1) (v := .ref q9) (C := RX1) (T := TX1) (N := 11) hx hb hts in_X1 hown hK hP 0 rfl rfl 9 (by decide) (hts _ q154) (fun _ h9 => h9) rfl dX1_elementAt_50 ?_
              refine lv_iload hx hb dX1_elementAt_53 (lv_at hl 0 rfl) ?_
              refine ra_iald hx hb hK hP 9 0 rfl rfl (k := La.length) rfl (by omega) (by decide) (v := nI a) hga dX1_elementAt_55 ?_
              exact W.iret (v := nI a) hx hb hr (fun t ht hW => ⟨⟨_, (fr1, nI (Xl rp).length), rfl, by rw [← hE, ra_at_some hs (by omega) c_46]; rfl, by rw [ht]; exact hP, va_K.moved hW.alike hK, hD⟩, hS.F ht⟩) hS.2.2 dX1_elementAt_56
    exact loop (Xl rp) [] rfl (fun k hk => absurd hk (Nat.not_lt_zero _)) ls (lv_sub hl [0, 1, 2, 3, 4] rfl)
  · have hbd : r < 0 ∨ 2 < r := by
      rcases hz with ⟨-, q⟩ | ⟨q, -⟩
      · exact q
      · exact absurd (q ▸ c_5) (by decide)
    refine lv_iconst (v := (-1)) hx hb dX1_elementAt_8 (by decide) ?_
    exact W.iret (v := -1) hx hb hr (fun t ht hW => ⟨⟨_, (fr, od), rfl, (ra_rp_bad hbd).symm, by rw [ht]; exact hP, va_K.moved hW.alike hK, hD⟩, hS.F ht⟩) hS.2.2 dX1_elementAt_9
set_option maxHeartbeats 4000000 in
set_option maxRecDepth 100000 in
/-- charAt(r, pl) -/
theorem mm_charAt (sz : Nat) (r pl : Int32) {Xl : Nat → List Nat} (hI : ra_inv n S O P C fk fg Xl) (hAB : ra_ab n P AB) : Met l yX1_charAt (ws_ yX1_charAt cX1_charAt 4 (some .int)) ({ frames := 5, cells := 0, slots := 0, locals := 150 }) (va_Pc [.ref h, .int r, .int pl] (fun U => U.heap.size = sz ∧ va_P (dC, dI) vwCl (ra_wM h q1 q2 q3 q4 q5 q6 q7 q8 q9 cI cZ n fl S O P AB fk fg C fr od) U.heap ∧ va_K (dC, dI) vwCl [(cI, .int), (cZ, .boolean)] U ∧ va_D (fun _ => True) (ra_wM h q1 q2 q3 q4 q5 q6 q7 q8 q9 cI cZ n fl S O P AB fk fg C fr od))) (va_Qi (fun z (u : (Nat → Int32) × Int32) => z = ra_rp r (fun rp => ra_lt fl (-5) (ra_at (ra_sh fg rp) (Xl rp) pl))) (fun u t => va_P (dC, dI) vwCl (ra_wM h q1 q2 q3 q4 q5 q6 q7 q8 q9 cI cZ n fl S O P AB fk fg C u.1 u.2) t.heap ∧ va_K (dC, dI) vwCl [(cI, .int), (cZ, .boolean)] t ∧ va_D (va_A (ra_wM h q1 q2 q3 q4 q5 q6 q7 q8 q9 cI cZ n fl S O P AB fk fg C fr od) sz) (ra_wM h q1 q2 q3 q4 q5 q6 q7 q8 q9 cI cZ n fl S O P AB fk fg C u.1 u.2)) (va_A (ra_wM h q1 q2 q3 q4 q5 q6 q7 q8 q9 cI cZ n fl S O P AB fk fg C fr od) sz)) 0 0 (va_A (ra_wM h q1 q2 q3 q4 q5 q6 q7 q8 q9 cI cZ n fl S O P AB fk fg C fr od) sz) := by
  refine Met.ofW (cc := cX1_charAt) (maxL := 4) (ret := some .int) (by decide) rfl ?_
  intro p e s m args below meth c s₁ B hml hv
  obtain ⟨rfl, hsz, hP, hK, hD0⟩ := hv
  have hx := B.exec
  have hb := B.bytes
  have hr := B.returns
  have hts := atoms_spec (ws := (ws_ yX1_charAt cX1_charAt 4 (some .int))) B.pre
  have hts : ∀ w ∈ lw_all, w.before _ s = true := fun w h => hts w (List.mem_cons_of_mem _ h)
  have hown : s.vm.findClass RX1 = some m.cls := findClass_of_methodNamed B.named
  have hlocks := B.notSynchronized
  subst hsz
  have hD := hD0.self (sz := s.heap.size)
  generalize hAe : va_A (ra_wM h q1 q2 q3 q4 q5 q6 q7 q8 q9 cI cZ n fl S O P AB fk fg C fr od) s.heap.size = A at hD ⊢
  have hA : ∀ q : Nat, s.heap.size ≤ q → A q := fun q h => by rw [← hAe]; exact Or.inr h
  have hS : va_S A s.heap s.heap [] := va_S.rf
  have hP : va_P (dC, dI) vwCl (ra_wM h q1 q2 q3 q4 q5 q6 q7 q8 q9 cI cZ n fl S O P AB fk fg C fr od) s.heap := hP
  have hl := lv_entry ([.ref h, .int r, .int pl]) (n := 4) (Nat.le_of_ble_eq_true rfl)
  rw [lg_entry_eq]
  generalize (lg_sl ([.ref h, .int r, .int pl]) ++ List.replicate (4 - (lg_sl ([.ref h, .int r, .int pl])).length) Slot.unset).toArray = ls at hl ⊢
  have hl : lv_has ls 4 [(0, .ref h), (1, .int r), (2, .int pl)] := hl
  have hn : n ≤ 40 := hI.1.1
  have hSO : ∀ k, S k ≤ 40 ∧ O k < 3 := fun k => ⟨Nat.le_trans (hI.1.2.1 k).1 hn, (hI.1.2.1 k).2⟩
  have hpar : ∀ k, k < n → P k = 40 ∨ P k < k := fun k hk => (hI.1.2.2.1 k hk).elim Or.inl (fun q => Or.inr q.1)
  refine lv_aload_n hx hb dX1_charAt_0 rfl (lv_at hl 0 rfl) ?_
  refine lv_iload_n hx hb dX1_charAt_1 rfl (lv_at hl 1 rfl) ?_
  refine lv_iload_n hx hb dX1_charAt_2 rfl (lv_at hl 2 rfl) ?_
  refine ra_cVi (Cn := RX1) (wf := fun (u : (Nat → Int32) × Int32) => (ra_wM h q1 q2 q3 q4 q5 q6 q7 q8 q9 cI cZ n fl S O P AB fk fg C u.1 u.2)) ⟨hx, hb, hml, hown, hts⟩ [.int r, .int pl] [] (mm_elementAt l s.heap.size r pl hI hAB) (cwV 2 hts (lw_V q200 q201 q202 q18 q203) rfl rfl rfl (by decide +kernel) ⟨Nat.le_of_ble_eq_true rfl, Nat.le_of_ble_eq_true rfl⟩) hP hK hD hS hA (va_recv hK hP (ci := 1) (q0 := 0) rfl rfl) rfl hl.1 rfl (Nat.le_of_ble_eq_true rfl) dX1_charAt_3 ⟨Nat.le_of_ble_eq_true rfl, Nat.le_of_ble_eq_true rfl⟩ (fun z u H locs hz hP hD hS => ?_)
  obtain ⟨fr1, od1⟩ := u
  have hP : va_P (dC, dI) vwCl (ra_wM h q1 q2 q3 q4 q5 q6 q7 q8 q9 cI cZ n fl S O P AB fk fg C fr1 od1) H := hP
  have hD : va_D A (ra_wM h q1 q2 q3 q4 q5 q6 q7 q8 q9 cI cZ n fl S O P AB fk fg C fr1 od1) := hD
  by_cases hbd : r < 0 ∨ 2 < r
  · rw [ra_rp_bad hbd] at hz
    subst hz
    rw [ra_rp_bad hbd]
    refine lv_istore_n (lv' := [(3, .int (-1)), (0, .ref h), (1, .int r), (2, .int pl)]) hx hb dX1_charAt_6 rfl hl (by decide) rfl (fun ls hl => ?_)
    refine lv_iload_n hx hb dX1_charAt_7 rfl (lv_at hl 0 rfl) ?_
    refine lv_if_ge (tgt := 15) hx hb dX1_charAt_8 (by decide) (fun c_8 => ?_) (fun c_8 => ?_)
    · exact absurd c_8 (by decide)
    · refine lv_iload_n hx hb dX1_charAt_11 rfl (lv_at hl 0 rfl) ?_
      refine lv_goto (tgt := 21) hx hb dX1_charAt_12 (by decide) ?_
      exact W.iret (v := -1) hx hb hr (fun t ht hW => ⟨⟨_, (fr1, od1), rfl, rfl, by rw [ht]; exact hP, va_K.moved hW.alike hK, hD⟩, hS.F ht⟩) hS.2.2 dX1_charAt_21
  · obtain ⟨rp, hr3, rfl⟩ := ra_ok2 (fun q => hbd (Or.inl q)) (Int32.not_lt.mp (fun q => hbd (Or.inr q)))
    rw [ra_rp_ok hr3] at hz
    rw [ra_rp_ok hr3]
    cases ho : ra_at (ra_sh fg rp) (Xl rp) pl with
    | none =>
      rw [ho] at hz
      obtain rfl : z = -5 := hz
      refine lv_istore_n (lv' := [(3, .int (-5)), (0, .ref h), (1, .int (nI rp)), (2, .int pl)]) hx hb dX1_charAt_6 rfl hl (by decide) rfl (fun ls hl => ?_)
      refine lv_iload_n hx hb dX1_charAt_7 rfl (lv_at hl 0 rfl) ?_
      refine lv_if_ge (tgt := 15) hx hb dX1_charAt_8 (by decide) (fun c_8 => ?_) (fun c_8 => ?_)
      · exact absurd c_8 (by decide)
      · refine lv_iload_n hx hb dX1_charAt_11 rfl (lv_at hl 0 rfl) ?_
        refine lv_goto (tgt := 21) hx hb dX1_charAt_12 (by decide) ?_
        exact W.iret (v := -5) hx hb hr (fun t ht hW => ⟨⟨_, (fr1, od1), rfl, rfl, by rw [ht]; exact hP, va_K.moved hW.alike hK, hD⟩, hS.F ht⟩) hS.2.2 dX1_charAt_21
    | some b =>
      rw [ho] at hz
      obtain rfl : z = nI b := hz
      have hb40 : b < n := (((hI.1.2.2.2.2.2 rp hr3).2.2.2.1 b).mp (ra_at_mem ho).1).1
      refine lv_istore_n (lv' := [(3, .int (nI b)), (0, .ref h), (1, .int (nI rp)), (2, .int pl)]) hx hb dX1_charAt_6 rfl hl (by decide) rfl (fun ls hl => ?_)
      refine lv_iload_n hx hb dX1_charAt_7 rfl (lv_at hl 0 rfl) ?_
      refine lv_if_ge (tgt := 15) hx hb dX1_charAt_8 (by decide) (fun c_8 => ?_) (fun c_8 => ?_)
      · refine lv_aload_n hx hb dX1_charAt_15 rfl (lv_at hl 1 rfl) ?_
        refine va_get (D := (dC, dI)) (ci := 1) (v := .ref q1) (C := RX1) (T := TX1) (N := 11) hx hb hts in_X1 hown hK hP 0 rfl rfl 1 (by decide) (hts _ q146) (fun _ h9 => h9) rfl dX1_charAt_16 ?_
        refine lv_iload_n hx hb dX1_charAt_19 rfl (lv_at hl 0 rfl) ?_
        refine ra_iald hx hb hK hP 1 0 rfl rfl (k := b) rfl (by omega) (by decide) (v := fl b) rfl dX1_charAt_20 ?_
        exact W.iret (v := fl b) hx hb hr (fun t ht hW => ⟨⟨_, (fr1, od1), rfl, rfl, by rw [ht]; exact hP, va_K.moved hW.alike hK, hD⟩, hS.F ht⟩) hS.2.2 dX1_charAt_21
      · exact absurd (nI_pos' (by omega)) c_8
set_option maxHeartbeats 4000000 in
set_option maxRecDepth 100000 in
/-- delete(r, pl) -/
theorem mm_delete (sz : Nat) (r pl : Int32) {Xl : Nat → List Nat} (hI : ra_inv n S O P C fk fg Xl) (hAB : ra_ab n P AB) : Met l yX1_delete (ws_ yX1_delete cX1_delete 4 (some .int)) ({ frames := 5, cells := 0, slots := 0, locals := 150 }) (va_Pc [.ref h, .int r, .int pl] (fun U => U.heap.size = sz ∧ va_P (dC, dI) vwCl (ra_wM h q1 q2 q3 q4 q5 q6 q7 q8 q9 cI cZ n fl S O P AB fk fg C fr od) U.heap ∧ va_K (dC, dI) vwCl [(cI, .int), (cZ, .boolean)] U ∧ va_D (fun _ => True) (ra_wM h q1 q2 q3 q4 q5 q6 q7 q8 q9 cI cZ n fl S O P AB fk fg C fr od))) (va_Qi (fun z (u : (Nat → Int32) × Int32 × (Nat → Int64)) => z = ra_rp r (fun rp => ra_el (-2) (ra_at (ra_sh fg rp) (Xl rp) pl)) ∧ u.2.2 = ra_dG fg Xl r pl) (fun u t => va_P (dC, dI) vwCl (ra_wM h q1 q2 q3 q4 q5 q6 q7 q8 q9 cI cZ n fl S O P AB fk u.2.2 C u.1 u.2.1) t.heap ∧ va_K (dC, dI) vwCl [(cI, .int), (cZ, .boolean)] t ∧ va_D (va_A (ra_wM h q1 q2 q3 q4 q5 q6 q7 q8 q9 cI cZ n fl S O P AB fk fg C fr od) sz) (ra_wM h q1 q2 q3 q4 q5 q6 q7 q8 q9 cI cZ n fl S O P AB fk u.2.2 C u.1 u.2.1)) (va_A (ra_wM h q1 q2 q3 q4 q5 q6 q7 q8 q9 cI cZ n fl S O P AB fk fg C fr od) sz)) 0 0 (va_A (ra_wM h q1 q2 q3 q4 q5 q6 q7 q8 q9 cI cZ n fl S O P AB fk fg C fr od) sz) := by
  refine Met.ofW (cc := cX1_delete) (maxL := 4) (ret := some .int) (by decide) rfl ?_
  intro p e s m args below meth c s₁ B hml hv
  obtain ⟨rfl, hsz, hP, hK, hD0⟩ := hv
  have hx := B.exec
  have hb := B.bytes
  have hr := B.returns
  have hts := atoms_spec (ws := (ws_ yX1_delete cX1_delete 4 (some .int))) B.pre
  have hts : ∀ w ∈ lw_all, w.before _ s = true := fun w h => hts w (List.mem_cons_of_mem _ h)
  have hown : s.vm.findClass RX1 = some m.cls := findClass_of_methodNamed B.named
  have hlocks := B.notSynchronized
  subst hsz
  have hD := hD0.self (sz := s.heap.size)
  generalize hAe : va_A (ra_wM h q1 q2 q3 q4 q5 q6 q7 q8 q9 cI cZ n fl S O P AB fk fg C fr od) s.heap.size = A at hD ⊢
  have hA : ∀ q : Nat, s.heap.size ≤ q → A q := fun q h => by rw [← hAe]; exact Or.inr h
  have hS : va_S A s.heap s.heap [] := va_S.rf
  have hP : va_P (dC, dI) vwCl (ra_wM h q1 q2 q3 q4 q5 q6 q7 q8 q9 cI cZ n fl S O P AB fk fg C fr od) s.heap := hP
  have hl := lv_entry ([.ref h, .int r, .int pl]) (n := 4) (Nat.le_of_ble_eq_true rfl)
  rw [lg_entry_eq]
  generalize (lg_sl ([.ref h, .int r, .int pl]) ++ List.replicate (4 - (lg_sl ([.ref h, .int r, .int pl])).length) Slot.unset).toArray = ls at hl ⊢
  have hl : lv_has ls 4 [(0, .ref h), (1, .int r), (2, .int pl)] := hl
  have hn : n ≤ 40 := hI.1.1
  have hSO : ∀ k, S k ≤ 40 ∧ O k < 3 := fun k => ⟨Nat.le_trans (hI.1.2.1 k).1 hn, (hI.1.2.1 k).2⟩
  have hpar : ∀ k, k < n → P k = 40 ∨ P k < k := fun k hk => (hI.1.2.2.1 k hk).elim Or.inl (fun q => Or.inr q.1)
  refine lv_aload_n hx hb dX1_delete_0 rfl (lv_at hl 0 rfl) ?_
  refine lv_iload_n hx hb dX1_delete_1 rfl (lv_at hl 1 rfl) ?_
  refine ra_cV (Cn := RX1) ⟨hx, hb, hml, hown, hts⟩ [.int r] [] (mm_isReplica l r) (cwV 1 hts (lw_V q184 q186 qs9 q18 q187) rfl rfl rfl (by decide +kernel) ⟨Nat.le_of_ble_eq_true rfl, Nat.le_of_ble_eq_true rfl⟩) hP hK (va_recv hK hP (ci := 1) (q0 := 0) rfl rfl) rfl hl.1 rfl (Nat.le_of_ble_eq_true rfl) dX1_delete_2 ⟨Nat.le_of_ble_eq_true rfl, Nat.le_of_ble_eq_true rfl⟩ (fun z hz => ?_)
  refine lv_if_ne (tgt := 10) hx hb dX1_delete_5 (by decide) (fun c_5 => ?_) (fun c_5 => ?_)
  · obtain ⟨rp, hr3, rfl⟩ : ∃ k, k < 3 ∧ r = nI k := by
      rcases hz with ⟨q, -⟩ | ⟨-, q⟩
      · exact absurd q c_5
      · exact q
    refine lv_aload_n hx hb dX1_delete_10 rfl (lv_at hl 0 rfl) ?_
    refine lv_iload_n hx hb dX1_delete_11 rfl (lv_at hl 1 rfl) ?_
    refine lv_iload_n hx hb dX1_delete_12 rfl (lv_at hl 2 rfl) ?_
    refine ra_cVi (Cn := RX1) (wf := fun (u : (Nat → Int32) × Int32) => (ra_wM h q1 q2 q3 q4 q5 q6 q7 q8 q9 cI cZ n fl S O P AB fk fg C u.1 u.2)) ⟨hx, hb, hml, hown, hts⟩ [.int (nI rp), .int pl] [] (mm_elementAt l s.heap.size (nI rp) pl hI hAB) (cwV 2 hts (lw_V q200 q201 q202 q18 q203) rfl rfl rfl (by decide +kernel) ⟨Nat.le_of_ble_eq_true rfl, Nat.le_of_ble_eq_true rfl⟩) hP hK hD hS hA (va_recv hK hP (ci := 1) (q0 := 0) rfl rfl) rfl hl.1 rfl (Nat.le_of_ble_eq_true rfl) dX1_delete_13 ⟨Nat.le_of_ble_eq_true rfl, Nat.le_of_ble_eq_true rfl⟩ (fun z2 u H locs hz2 hP hD hS => ?_)
    obtain ⟨fr1, od1⟩ := u
    have hP : va_P (dC, dI) vwCl (ra_wM h q1 q2 q3 q4 q5 q6 q7 q8 q9 cI cZ n fl S O P AB fk fg C fr1 od1) H := hP
    have hD : va_D A (ra_wM h q1 q2 q3 q4 q5 q6 q7 q8 q9 cI cZ n fl S O P AB fk fg C fr1 od1) := hD
    rw [ra_rp_ok hr3] at hz2
    rw [ra_rp_ok hr3]
    cases ho : ra_at (ra_sh fg rp) (Xl rp) pl with
    | none =>
      rw [ho] at hz2
      obtain rfl : z2 = -5 := hz2
      refine lv_istore_n (lv' := [(3, .int (-5)), (0, .ref h), (1, .int (nI rp)), (2, .int pl)]) hx hb dX1_delete_16 rfl hl (by decide) rfl (fun ls hl => ?_)
      refine lv_iload_n hx hb dX1_delete_17 rfl (lv_at hl 0 rfl) ?_
      refine lv_if_ge (tgt := 24) hx hb dX1_delete_18 (by decide) (fun c_18 => ?_) (fun c_18 => ?_)
      · exact absurd c_18 (by decide)
      · refine lv_bipush (v := (-2)) hx hb dX1_delete_21 (by decide) ?_
        exact W.iret (v := -2) hx hb hr (fun t ht hW => ⟨⟨_, (fr1, od1, fg), rfl, ⟨rfl, (ra_dG_none hr3 ho).symm⟩, by rw [ht]; exact hP, va_K.moved hW.alike hK, hD⟩, hS.F ht⟩) hS.2.2 dX1_delete_23
    | some b =>
      rw [ho] at hz2
      obtain rfl : z2 = nI b := hz2
      have hb40 : b < n := (((hI.1.2.2.2.2.2 rp hr3).2.2.2.1 b).mp (ra_at_mem ho).1).1
      refine lv_istore_n (lv' := [(3, .int (nI b)), (0, .ref h), (1, .int (nI rp)), (2, .int pl)]) hx hb dX1_delete_16 rfl hl (by decide) rfl (fun ls hl => ?_)
      refine lv_iload_n hx hb dX1_delete_17 rfl (lv_at hl 0 rfl) ?_
      refine lv_if_ge (tgt := 24) hx hb dX1_delete_18 (by decide) (fun c_18 => ?_) (fun c_18 => ?_)
      · refine lv_aload_n hx hb dX1_delete_24 rfl (lv_at hl 1 rfl) ?_
        refine va_get (D := (dC, dI)) (ci := 1) (v := .ref q7) (C := RX1) (T := TX1) (N := 11) hx hb hts in_X1 hown hK hP 0 rfl rfl 7 (by decide) (hts _ q152) (fun _ h9 => h9) rfl dX1_delete_25 ?_
        refine lv_iload_n hx hb dX1_delete_28 rfl (lv_at hl 2 rfl) ?_
        refine lv_bipush (v := 40) hx hb dX1_delete_29 (by decide) ?_
        refine lv_imul hx hb dX1_delete_31 ?_
        refine lv_iload_n hx hb dX1_delete_32 rfl (lv_at hl 0 rfl) ?_
        refine lv_iadd hx hb dX1_delete_33 ?_
        refine lv_iconst (v := 1) hx hb dX1_delete_34 (by decide) ?_
        refine ra_zast hx hb hK hP hD hS 7 1 rfl rfl (k := 40 * rp + b) (ra_x40 _ _) (by omega) (by decide) (f' := ra_zb (vp_updL fg rp (ra_or (fg rp) b))) (by rw [ra_nar1]; exact ra_zb_upd fg (by omega)) dX1_delete_35 (fun H locs hP hD hS => ?_)
        have hP : va_P (dC, dI) vwCl (ra_wM h q1 q2 q3 q4 q5 q6 q7 q8 q9 cI cZ n fl S O P AB fk (vp_updL fg rp (ra_or (fg rp) b)) C fr1 od1) H := hP
        have hD : va_D A (ra_wM h q1 q2 q3 q4 q5 q6 q7 q8 q9 cI cZ n fl S O P AB fk (vp_updL fg rp (ra_or (fg rp) b)) C fr1 od1) := hD
        refine lv_iload_n hx hb dX1_delete_36 rfl (lv_at hl 0 rfl) ?_
        exact W.iret (v := nI b) hx hb hr (fun t ht hW => ⟨⟨_, (fr1, od1, vp_updL fg rp (ra_or (fg rp) b)), rfl, ⟨rfl, (ra_dG_some hr3 ho).symm⟩, by rw [ht]; exact hP, va_K.moved hW.alike hK, hD⟩, hS.F ht⟩) hS.2.2 dX1_delete_37
      · exact absurd (nI_pos' (by omega)) c_18
  · have hbd : r < 0 ∨ 2 < r := by
      rcases hz with ⟨-, q⟩ | ⟨q, -⟩
      · exact q
      · exact absurd (q ▸ c_5) (by decide)
    refine lv_iconst (v := (-1)) hx hb dX1_delete_8 (by decide) ?_
    exact W.iret (v := -1) hx hb hr (fun t ht hW => ⟨⟨_, (fr, od, fg), rfl, ⟨(ra_rp_bad hbd).symm, (ra_dG_bad hbd).symm⟩, by rw [ht]; exact hP, va_K.moved hW.alike hK, hD⟩, hS.F ht⟩) hS.2.2 dX1_delete_9
end MM
end
section
set_option maxRecDepth 100000
section MM
variable (l : Launch) {dC : Nat → ClassId} {dI : Nat → Nat → Nat} {h q1 q2 q3 q4 q5 q6 q7 q8 q9 : Nat} {cI cZ : ClassId} {n : Nat} {fl : Nat → Int32} {S O P : Nat → Nat} {AB : Nat → Nat → Bool} {fk fg : Nat → Int64} {C : Nat → Nat} {fr : Nat → Int32} {od : Int32}
set_option maxHeartbeats 4000000 in
set_option maxRecDepth 100000 in
/-- insert(r, pl, ch) that is none -/
theorem mm_insert_no (r pl ch : Int32) (hn : n ≤ 40) (hno : ¬ ra_iE n fk fg r pl) : Met l yX1_insert (ws_ yX1_insert cX1_insert 6 (some .int)) ({ frames := 3, cells := 0, slots := 0, locals := 90 }) (va_Pc [.ref h, .int r, .int pl, .int ch] (fun U => va_P (dC, dI) vwCl (ra_wM h q1 q2 q3 q4 q5 q6 q7 q8 q9 cI cZ n fl S O P AB fk fg C fr od) U.heap ∧ va_K (dC, dI) vwCl [(cI, .int), (cZ, .boolean)] U)) (vp_Si (fun z => z = ra_iA n fk fg r pl)) 0 0 (fun _ => False) := by
  refine Met.ofW (cc := cX1_insert) (maxL := 6) (ret := some .int) (by decide) rfl ?_
  intro p e s m args below meth c s₁ B hml hv
  obtain ⟨rfl, hP, hK⟩ := hv
  have hx := B.exec
  have hb := B.bytes
  have hr := B.returns
  have hts := atoms_spec (ws := (ws_ yX1_insert cX1_insert 6 (some .int))) B.pre
  have hts : ∀ w ∈ lw_all, w.before _ s = true := fun w h => hts w (List.mem_cons_of_mem _ h)
  have hown : s.vm.findClass RX1 = some m.cls := findClass_of_methodNamed B.named
  have hlocks := B.notSynchronized
  have hP : va_P (dC, dI) vwCl (ra_wM h q1 q2 q3 q4 q5 q6 q7 q8 q9 cI cZ n fl S O P AB fk fg C fr od) s.heap := hP
  have hl := lv_entry ([.ref h, .int r, .int pl, .int ch]) (n := 6) (Nat.le_of_ble_eq_true rfl)
  rw [lg_entry_eq]
  generalize (lg_sl ([.ref h, .int r, .int pl, .int ch]) ++ List.replicate (6 - (lg_sl ([.ref h, .int r, .int pl, .int ch])).length) Slot.unset).toArray = ls at hl ⊢
  have hl : lv_has ls 6 [(0, .ref h), (1, .int r), (2, .int pl), (3, .int ch)] := hl
  refine lv_aload_n hx hb dX1_insert_0 rfl (lv_at hl 0 rfl) ?_
  refine lv_iload_n hx hb dX1_insert_1 rfl (lv_at hl 1 rfl) ?_
  refine ra_cV (Cn := RX1) ⟨hx, hb, hml, hown, hts⟩ [.int r] [] (mm_isReplica l r) (cwV 1 hts (lw_V q184 q186 qs9 q18 q187) rfl rfl rfl (by decide +kernel) ⟨Nat.le_of_ble_eq_true rfl, Nat.le_of_ble_eq_true rfl⟩) hP hK (va_recv hK hP (ci := 1) (q0 := 0) rfl rfl) rfl hl.1 rfl (Nat.le_of_ble_eq_true rfl) dX1_insert_2 ⟨Nat.le_of_ble_eq_true rfl, Nat.le_of_ble_eq_true rfl⟩ (fun z hz => ?_)
  refine lv_if_ne (tgt := 10) hx hb dX1_insert_5 (by decide) (fun c_5 => ?_) (fun c_5 => ?_)
  · obtain ⟨rp, hr3, rfl⟩ : ∃ k, k < 3 ∧ r = nI k := by
      rcases hz with ⟨q, -⟩ | ⟨-, q⟩
      · exact absurd q c_5
      · exact q
    rw [ra_iA, ra_rp_ok hr3]
    have hcl := ra_cn_le (ra_kf fk fg rp) n
    refine lv_iload_n hx hb dX1_insert_10 rfl (lv_at hl 2 rfl) ?_
    refine lv_if_lt (tgt := 23) hx hb dX1_insert_11 (by decide) (fun c_11 => ?_) (fun c_11 => ?_)
    · refine lv_bipush (v := (-2)) hx hb dX1_insert_23 (by decide) ?_
      exact W.iret (v := -2) hx hb hr (fun t ht hW => ⟨_, rfl, by rw [if_pos (Or.inl c_11)], ht⟩) (fun q h => by cases h) dX1_insert_25
    · refine lv_iload_n hx hb dX1_insert_14 rfl (lv_at hl 2 rfl) ?_
      refine lv_aload_n hx hb dX1_insert_15 rfl (lv_at hl 0 rfl) ?_
      refine lv_iload_n hx hb dX1_insert_16 rfl (lv_at hl 1 rfl) ?_
      refine ra_cV (Cn := RX1) ⟨hx, hb, hml, hown, hts⟩ [.int (nI rp)] [.int pl] (mm_length l (nI rp) hn) (cwV 1 hts (lw_V q188 q189 q190 q18 q191) rfl rfl rfl (by decide +kernel) ⟨Nat.le_of_ble_eq_true rfl, Nat.le_of_ble_eq_true rfl⟩) hP hK (va_recv hK hP (ci := 1) (q0 := 0) rfl rfl) rfl hl.1 rfl (Nat.le_of_ble_eq_true rfl) dX1_insert_17 ⟨Nat.le_of_ble_eq_true rfl, Nat.le_of_ble_eq_true rfl⟩ (fun z2 hz2 => ?_)
      rw [ra_rp_ok hr3] at hz2
      subst hz2
      refine lv_icmp_le (tgt := 26) hx hb dX1_insert_20 (by decide) (fun c_20 => ?_) (fun c_20 => ?_)
      · refine lv_aload_n hx hb dX1_insert_26 rfl (lv_at hl 0 rfl) ?_
        refine va_get (D := (dC, dI)) (ci := 1) (v := .int (nI n)) (C := RX1) (T := TX1) (N := 11) hx hb hts in_X1 hown hK hP 0 rfl rfl 0 (by decide) (hts _ q145) (fun _ h9 => h9) rfl dX1_insert_27 ?_
        refine lv_bipush (v := 40) hx hb dX1_insert_30 (by decide) ?_
        refine lv_icmp_ne (tgt := 38) hx hb dX1_insert_32 (by decide) (fun c_32 => ?_) (fun c_32 => ?_)
        · obtain ⟨k, hk, rfl⟩ := nI_of c_11
          exact absurd ⟨rp, k, hr3, rfl, rfl, (nI_leI hk (by omega)).mp c_20, (by have q : ¬ n = 40 := fun q => c_32 (by rw [q]; rfl); omega)⟩ hno
        · refine lv_bipush (v := (-3)) hx hb dX1_insert_35 (by decide) ?_
          exact W.iret (v := -3) hx hb hr (fun t ht hW => ⟨_, rfl, by rw [if_neg (fun q => q.elim c_11 (Int32.not_lt.mpr c_20))], ht⟩) (fun q h => by cases h) dX1_insert_37
      · refine lv_bipush (v := (-2)) hx hb dX1_insert_23 (by decide) ?_
        exact W.iret (v := -2) hx hb hr (fun t ht hW => ⟨_, rfl, by rw [if_pos (Or.inr (Int32.not_le.mp c_20))], ht⟩) (fun q h => by cases h) dX1_insert_25
  · have hbd : r < 0 ∨ 2 < r := by
      rcases hz with ⟨-, q⟩ | ⟨q, -⟩
      · exact q
      · exact absurd (q ▸ c_5) (by decide)
    refine lv_iconst (v := (-1)) hx hb dX1_insert_8 (by decide) ?_
    exact W.iret (v := -1) hx hb hr (fun t ht hW => ⟨_, rfl, (ra_rp_bad hbd).symm, ht⟩) (fun q h => by cases h) dX1_insert_9
set_option maxHeartbeats 4000000 in
set_option maxRecDepth 100000 in
/-- learn(r, r2) that is none -/
theorem mm_learn_no (r r2 : Int32) (hno : (r < 0 ∨ 2 < r) ∨ (r2 < 0 ∨ 2 < r2) ∨ r = r2) : Met l yX1_learn (ws_ yX1_learn cX1_learn 5 (some .int)) ({ frames := 3, cells := 0, slots := 0, locals := 90 }) (va_Pc [.ref h, .int r, .int r2] (fun U => va_P (dC, dI) vwCl (ra_wM h q1 q2 q3 q4 q5 q6 q7 q8 q9 cI cZ n fl S O P AB fk fg C fr od) U.heap ∧ va_K (dC, dI) vwCl [(cI, .int), (cZ, .boolean)] U)) (vp_Si (fun z => z = ra_lA r r2)) 0 0 (fun _ => False) := by
  refine Met.ofW (cc := cX1_learn) (maxL := 5) (ret := some .int) (by decide) rfl ?_
  intro p e s m args below meth c s₁ B hml hv
  obtain ⟨rfl, hP, hK⟩ := hv
  have hx := B.exec
  have hb := B.bytes
  have hr := B.returns
  have hts := atoms_spec (ws := (ws_ yX1_learn cX1_learn 5 (some .int))) B.pre
  have hts : ∀ w ∈ lw_all, w.before _ s = true := fun w h => hts w (List.mem_cons_of_mem _ h)
  have hown : s.vm.findClass RX1 = some m.cls := findClass_of_methodNamed B.named
  have hlocks := B.notSynchronized
  have hP : va_P (dC, dI) vwCl (ra_wM h q1 q2 q3 q4 q5 q6 q7 q8 q9 cI cZ n fl S O P AB fk fg C fr od) s.heap := hP
  have hl := lv_entry ([.ref h, .int r, .int r2]) (n := 5) (Nat.le_of_ble_eq_true rfl)
  rw [lg_entry_eq]
  generalize (lg_sl ([.ref h, .int r, .int r2]) ++ List.replicate (5 - (lg_sl ([.ref h, .int r, .int r2])).length) Slot.unset).toArray = ls at hl ⊢
  have hl : lv_has ls 5 [(0, .ref h), (1, .int r), (2, .int r2)] := hl
  refine lv_aload_n hx hb dX1_learn_0 rfl (lv_at hl 0 rfl) ?_
  refine lv_iload_n hx hb dX1_learn_1 rfl (lv_at hl 1 rfl) ?_
  refine ra_cV (Cn := RX1) ⟨hx, hb, hml, hown, hts⟩ [.int r] [] (mm_isReplica l r) (cwV 1 hts (lw_V q184 q186 qs9 q18 q187) rfl rfl rfl (by decide +kernel) ⟨Nat.le_of_ble_eq_true rfl, Nat.le_of_ble_eq_true rfl⟩) hP hK (va_recv hK hP (ci := 1) (q0 := 0) rfl rfl) rfl hl.1 rfl (Nat.le_of_ble_eq_true rfl) dX1_learn_2 ⟨Nat.le_of_ble_eq_true rfl, Nat.le_of_ble_eq_true rfl⟩ (fun z hz => ?_)
  refine lv_if_eq (tgt := 16) hx hb dX1_learn_5 (by decide) (fun c_5 => ?_) (fun c_5 => ?_)
  · have hbd : r < 0 ∨ 2 < r := by
      rcases hz with ⟨-, q⟩ | ⟨q, -⟩
      · exact q
      · exact absurd (q ▸ c_5) (by decide)
    refine lv_iconst (v := (-1)) hx hb dX1_learn_16 (by decide) ?_
    exact W.iret (v := -1) hx hb hr (fun t ht hW => ⟨_, rfl, (if_pos (Or.inl hbd)).symm, ht⟩) (fun q h => by cases h) dX1_learn_17
  · obtain ⟨rp, hr3, rfl⟩ : ∃ k, k < 3 ∧ r = nI k := by
      rcases hz with ⟨q, -⟩ | ⟨-, q⟩
      · exact absurd q c_5
      · exact q
    refine lv_aload_n hx hb dX1_learn_8 rfl (lv_at hl 0 rfl) ?_
    refine lv_iload_n hx hb dX1_learn_9 rfl (lv_at hl 2 rfl) ?_
    refine ra_cV (Cn := RX1) ⟨hx, hb, hml, hown, hts⟩ [.int r2] [] (mm_isReplica l r2) (cwV 1 hts (lw_V q184 q186 qs9 q18 q187) rfl rfl rfl (by decide +kernel) ⟨Nat.le_of_ble_eq_true rfl, Nat.le_of_ble_eq_true rfl⟩) hP hK (va_recv hK hP (ci := 1) (q0 := 0) rfl rfl) rfl hl.1 rfl (Nat.le_of_ble_eq_true rfl) dX1_learn_10 ⟨Nat.le_of_ble_eq_true rfl, Nat.le_of_ble_eq_true rfl⟩ (fun z2 hz2 => ?_)
    refine lv_if_ne (tgt := 18) hx hb dX1_learn_13 (by decide) (fun c_13 => ?_) (fun c_13 => ?_)
    · obtain ⟨rq, hq3, rfl⟩ : ∃ k, k < 3 ∧ r2 = nI k := by
        rcases hz2 with ⟨q, -⟩ | ⟨-, q⟩
        · exact absurd q c_13
        · exact q
      refine lv_iload_n hx hb dX1_learn_18 rfl (lv_at hl 1 rfl) ?_
      refine lv_iload_n hx hb dX1_learn_19 rfl (lv_at hl 2 rfl) ?_
      refine lv_icmp_ne (tgt := 26) hx hb dX1_learn_20 (by decide) (fun c_20 => ?_) (fun c_20 => ?_)
      · rcases hno with q | q | q
        · exact absurd q (ra_bad_no hr3)
        · exact absurd q (ra_bad_no hq3)
        · exact absurd q c_20
      · refine lv_bipush (v := (-4)) hx hb dX1_learn_23 (by decide) ?_
        exact W.iret (v := -4) hx hb hr (fun t ht hW => ⟨_, rfl, (if_neg (fun q => q.elim (ra_bad_no hr3) (ra_bad_no hq3))).symm, ht⟩) (fun q h => by cases h) dX1_learn_25
    · have hbd : r2 < 0 ∨ 2 < r2 := by
        rcases hz2 with ⟨-, q⟩ | ⟨q, -⟩
        · exact q
        · exact absurd (q ▸ c_13) (by decide)
      refine lv_iconst (v := (-1)) hx hb dX1_learn_16 (by decide) ?_
      exact W.iret (v := -1) hx hb hr (fun t ht hW => ⟨_, rfl, (if_pos (Or.inr hbd)).symm, ht⟩) (fun q h => by cases h) dX1_learn_17
set_option maxHeartbeats 4000000 in
set_option maxRecDepth 100000 in
/-- learn(rt, rf) that is one -/
theorem mm_learn_yes (sz : Nat) (rt rf : Nat) (L0 : List Nat) (ht3 : rt < 3) (hf3 : rf < 3) (hne : rt ≠ rf) (hn : n ≤ 40) (hSO : ∀ k, S k ≤ 40 ∧ O k < 3) (hCb : ∀ i, i ≤ n → (ra_ln S O P rt rf (C, fk, fg, L0, 0) i).1 rt ≤ 40) : Met l yX1_learn (ws_ yX1_learn cX1_learn 5 (some .int)) ({ frames := 1, cells := 0, slots := 0, locals := 30 }) (va_Pc [.ref h, .int (nI rt), .int (nI rf)] (fun U => U.heap.size = sz ∧ va_P (dC, dI) vwCl (ra_wM h q1 q2 q3 q4 q5 q6 q7 q8 q9 cI cZ n fl S O P AB fk fg C fr od) U.heap ∧ va_K (dC, dI) vwCl [(cI, .int), (cZ, .boolean)] U ∧ va_D (fun _ => True) (ra_wM h q1 q2 q3 q4 q5 q6 q7 q8 q9 cI cZ n fl S O P AB fk fg C fr od))) (va_Qi (fun z (_ : Unit) => z = nI (ra_ln S O P rt rf (C, fk, fg, L0, 0) n).2.2.2.2) (fun u t => va_P (dC, dI) vwCl (ra_wM h q1 q2 q3 q4 q5 q6 q7 q8 q9 cI cZ n fl S O P AB ((ra_ln S O P rt rf (C, fk, fg, L0, 0) n).2.1) ((ra_ln S O P rt rf (C, fk, fg, L0, 0) n).2.2.1) ((ra_ln S O P rt rf (C, fk, fg, L0, 0) n).1) fr od) t.heap ∧ va_K (dC, dI) vwCl [(cI, .int), (cZ, .boolean)] t ∧ va_D (va_A (ra_wM h q1 q2 q3 q4 q5 q6 q7 q8 q9 cI cZ n fl S O P AB fk fg C fr od) sz) (ra_wM h q1 q2 q3 q4 q5 q6 q7 q8 q9 cI cZ n fl S O P AB ((ra_ln S O P rt rf (C, fk, fg, L0, 0) n).2.1) ((ra_ln S O P rt rf (C, fk, fg, L0, 0) n).2.2.1) ((ra_ln S O P rt rf (C, fk, fg, L0, 0) n).1) fr od)) (va_A (ra_wM h q1 q2 q3 q4 q5 q6 q7 q8 q9 cI cZ n fl S O P AB fk fg C fr od) sz)) 0 0 (va_A (ra_wM h q1 q2 q3 q4 q5 q6 q7 q8 q9 cI cZ n fl S O P AB fk fg C fr od) sz) := by
  refine Met.ofW (cc := cX1_learn) (maxL := 5) (ret := some .int) (by decide) rfl ?_
  intro p e s m args below meth c s₁ B hml hv
  obtain ⟨rfl, hsz, hP, hK, hD0⟩ := hv
  have hx := B.exec
  have hb := B.bytes
  have hr := B.returns
  have hts := atoms_spec (ws := (ws_ yX1_learn cX1_learn 5 (some .int))) B.pre
  have hts : ∀ w ∈ lw_all, w.before _ s = true := fun w h => hts w (List.mem_cons_of_mem _ h)
  have hown : s.vm.findClass RX1 = some m.cls := findClass_of_methodNamed B.named
  have hlocks := B.notSynchronized
  subst hsz
  have hD := hD0.self (sz := s.heap.size)
  generalize hAe : va_A (ra_wM h q1 q2 q3 q4 q5 q6 q7 q8 q9 cI cZ n fl S O P AB fk fg C fr od) s.heap.size = A at hD ⊢
  have hA : ∀ q : Nat, s.heap.size ≤ q → A q := fun q h => by rw [← hAe]; exact Or.inr h
  have hS : va_S A s.heap s.heap [] := va_S.rf
  have hP : va_P (dC, dI) vwCl (ra_wM h q1 q2 q3 q4 q5 q6 q7 q8 q9 cI cZ n fl S O P AB fk fg C fr od) s.heap := hP
  have hl := lv_entry ([.ref h, .int (nI rt), .int (nI rf)]) (n := 5) (Nat.le_of_ble_eq_true rfl)
  rw [lg_entry_eq]
  generalize (lg_sl ([.ref h, .int (nI rt), .int (nI rf)]) ++ List.replicate (5 - (lg_sl ([.ref h, .int (nI rt), .int (nI rf)])).length) Slot.unset).toArray = ls at hl ⊢
  have hl : lv_has ls 5 [(0, .ref h), (1, .int (nI rt)), (2, .int (nI rf))] := hl
  refine lv_aload_n hx hb dX1_learn_0 rfl (lv_at hl 0 rfl) ?_
  refine lv_iload_n hx hb dX1_learn_1 rfl (lv_at hl 1 rfl) ?_
  refine ra_cV (Cn := RX1) ⟨hx, hb, hml, hown, hts⟩ [.int (nI rt)] [] (mm_isReplica l (nI rt)) (cwV 1 hts (lw_V q184 q186 qs9 q18 q187) rfl rfl rfl (by decide +kernel) ⟨Nat.le_of_ble_eq_true rfl, Nat.le_of_ble_eq_true rfl⟩) hP hK (va_recv hK hP (ci := 1) (q0 := 0) rfl rfl) rfl hl.1 rfl (Nat.le_of_ble_eq_true rfl) dX1_learn_2 ⟨Nat.le_of_ble_eq_true rfl, Nat.le_of_ble_eq_true rfl⟩ (fun z hz => ?_)
  refine lv_if_eq (tgt := 16) hx hb dX1_learn_5 (by decide) (fun c_5 => ?_) (fun c_5 => ?_)
  · rcases hz with ⟨-, q⟩ | ⟨q, -⟩
    · exact absurd q (ra_bad_no ht3)
    · exact absurd (q ▸ c_5) (by decide)
  · refine lv_aload_n hx hb dX1_learn_8 rfl (lv_at hl 0 rfl) ?_
    refine lv_iload_n hx hb dX1_learn_9 rfl (lv_at hl 2 rfl) ?_
    refine ra_cV (Cn := RX1) ⟨hx, hb, hml, hown, hts⟩ [.int (nI rf)] [] (mm_isReplica l (nI rf)) (cwV 1 hts (lw_V q184 q186 qs9 q18 q187) rfl rfl rfl (by decide +kernel) ⟨Nat.le_of_ble_eq_true rfl, Nat.le_of_ble_eq_true rfl⟩) hP hK (va_recv hK hP (ci := 1) (q0 := 0) rfl rfl) rfl hl.1 rfl (Nat.le_of_ble_eq_true rfl) dX1_learn_10 ⟨Nat.le_of_ble_eq_true rfl, Nat.le_of_ble_eq_true rfl⟩ (fun z2 hz2 => ?_)
    refine lv_if_ne (tgt := 18) hx hb dX1_learn_13 (by decide) (fun c_13 => ?_) (fun c_13 => ?_)
    · refine lv_iload_n hx hb dX1_learn_18 rfl (lv_at hl 1 rfl) ?_
      refine lv_iload_n hx hb dX1_learn_19 rfl (lv_at hl 2 rfl) ?_
      refine lv_icmp_ne (tgt := 26) hx hb dX1_learn_20 (by decide) (fun c_20 => ?_) (fun c_20 => ?_)
      · refine lv_iconst (v := 0) hx hb dX1_learn_26 (by decide) ?_
        refine lv_istore_n (lv' := [(3, .int 0), (0, .ref h), (1, .int (nI rt)), (2, .int (nI rf))]) hx hb dX1_learn_27 rfl hl (by decide) rfl (fun ls hl => ?_)
        refine lv_iconst (v := 0) hx hb dX1_learn_28 (by decide) ?_
        refine lv_istore (lv' := [(4, .int 0), (3, .int 0), (0, .ref h), (1, .int (nI rt)), (2, .int (nI rf))]) hx hb dX1_learn_29 hl (by decide) rfl (fun ls hl => ?_)
        have loop : ∀ (k i : Nat) (C1 : Nat → Nat) (k1 g1 : Nat → Int64) (L : List Nat) (t : Nat) (H : Heap) (locs : List Loc), i ≤ n → n + 1 ≤ i + k → ra_ln S O P rt rf (C, fk, fg, L0, 0) i = (C1, k1, g1, L, t) → va_P (dC, dI) vwCl (ra_wM h q1 q2 q3 q4 q5 q6 q7 q8 q9 cI cZ n fl S O P AB k1 g1 C1 fr od) H → va_D A (ra_wM h q1 q2 q3 q4 q5 q6 q7 q8 q9 cI cZ n fl S O P AB k1 g1 C1 fr od) → va_S A s.heap H locs → ∀ (ls : Array Slot), lv_has ls 5 [(4, .int (nI i)), (3, .int (nI t)), (0, .ref h), (1, .int (nI rt)), (2, .int (nI rf))] → ra_WI p l e s m below meth c H locs (ws_ yX1_learn cX1_learn 5 (some .int)) ({ frames := 1, cells := 0, slots := 0, locals := 30 }) [.ref h, .int (nI rt), .int (nI rf)] (fun z (_ : Unit) => z = nI (ra_ln S O P rt rf (C, fk, fg, L0, 0) n).2.2.2.2) (fun u t => va_P (dC, dI) vwCl (ra_wM h q1 q2 q3 q4 q5 q6 q7 q8 q9 cI cZ n fl S O P AB ((ra_ln S O P rt rf (C, fk, fg, L0, 0) n).2.1) ((ra_ln S O P rt rf (C, fk, fg, L0, 0) n).2.2.1) ((ra_ln S O P rt rf (C, fk, fg, L0, 0) n).1) fr od) t.heap ∧ va_K (dC, dI) vwCl [(cI, .int), (cZ, .boolean)] t ∧ va_D A (ra_wM h q1 q2 q3 q4 q5 q6 q7 q8 q9 cI cZ n fl S O P AB ((ra_ln S O P rt rf (C, fk, fg, L0, 0) n).2.1) ((ra_ln S O P rt rf (C, fk, fg, L0, 0) n).2.2.1) ((ra_ln S O P rt rf (C, fk, fg, L0, 0) n).1) fr od)) A 31 ls [] := by
          intro k
          induction k with
          | zero => intro i C1 k1 g1 L t H locs h1 h2; exact absurd h2 (by omega)
          | succ k ih =>
            intro i C1 k1 g1 L t H locs h1 h2 hE hP hD hS ls hl
            refine lv_iload hx hb dX1_learn_31 (lv_at hl 0 rfl) ?_
            refine lv_aload_n hx hb dX1_learn_33 rfl (lv_at hl 2 rfl) ?_
            refine va_get (D := (dC, dI)) (ci := 1) (v := .int (nI n)) (C := RX1) (T := TX1) (N := 11) hx hb hts in_X1 hown hK hP 0 rfl rfl 0 (by decide) (hts _ q145) (fun _ h9 => h9) rfl dX1_learn_34 ?_
            refine lv_icmp_ge (tgt := 167) hx hb dX1_learn_37 (by decide) (fun c_37 => ?_) (fun c_37 => ?_)
            · have hi : i = n := by rw [nI_leI (by omega) (by omega)] at c_37; omega
              subst hi
              rw [hE]
              refine lv_iload_n hx hb dX1_learn_167 rfl (lv_at hl 1 rfl) ?_
              exact W.iret (v := nI t) hx hb hr (fun t ht hW => ⟨⟨_, (), rfl, rfl, by rw [ht]; exact hP, va_K.moved hW.alike hK, hD⟩, hS.F ht⟩) hS.2.2 dX1_learn_168
            · have hi : i < n := by rw [nI_leI (by omega) (by omega)] at c_37; omega
              have half : ∀ (C2 : Nat → Nat) (k2 : Nat → Int64) (L2 : List Nat) (t2 : Nat) (H : Heap) (locs : List Loc), ra_l1 S O P rt rf i (C1, k1, g1, L, t) = (C2, k2, g1, L2, t2) → va_P (dC, dI) vwCl (ra_wM h q1 q2 q3 q4 q5 q6 q7 q8 q9 cI cZ n fl S O P AB k2 g1 C2 fr od) H → va_D A (ra_wM h q1 q2 q3 q4 q5 q6 q7 q8 q9 cI cZ n fl S O P AB k2 g1 C2 fr od) → va_S A s.heap H locs → ∀ (ls : Array Slot), lv_has ls 5 [(4, .int (nI i)), (3, .int (nI t2)), (0, .ref h), (1, .int (nI rt)), (2, .int (nI rf))] → ra_WI p l e s m below meth c H locs (ws_ yX1_learn cX1_learn 5 (some .int)) ({ frames := 1, cells := 0, slots := 0, locals := 30 }) [.ref h, .int (nI rt), .int (nI rf)] (fun z (_ : Unit) => z = nI (ra_ln S O P rt rf (C, fk, fg, L0, 0) n).2.2.2.2) (fun u t => va_P (dC, dI) vwCl (ra_wM h q1 q2 q3 q4 q5 q6 q7 q8 q9 cI cZ n fl S O P AB ((ra_ln S O P rt rf (C, fk, fg, L0, 0) n).2.1) ((ra_ln S O P rt rf (C, fk, fg, L0, 0) n).2.2.1) ((ra_ln S O P rt rf (C, fk, fg, L0, 0) n).1) fr od) t.heap ∧ va_K (dC, dI) vwCl [(cI, .int), (cZ, .boolean)] t ∧ va_D A (ra_wM h q1 q2 q3 q4 q5 q6 q7 q8 q9 cI cZ n fl S O P AB ((ra_ln S O P rt rf (C, fk, fg, L0, 0) n).2.1) ((ra_ln S O P rt rf (C, fk, fg, L0, 0) n).2.2.1) ((ra_ln S O P rt rf (C, fk, fg, L0, 0) n).1) fr od)) A 115 ls [] := by
                intro C2 k2 L2 t2 H locs hE2 hP hD hS ls hl
                have hE3 : ra_ln S O P rt rf (C, fk, fg, L0, 0) (i + 1) = ra_l2 rt rf i (C2, k2, g1, L2, t2) := by rw [ra_ln, hE, hE2]
                refine lv_aload_n hx hb dX1_learn_115 rfl (lv_at hl 2 rfl) ?_
                refine va_get (D := (dC, dI)) (ci := 1) (v := .ref q7) (C := RX1) (T := TX1) (N := 11) hx hb hts in_X1 hown hK hP 0 rfl rfl 7 (by decide) (hts _ q152) (fun _ h9 => h9) rfl dX1_learn_116 ?_
                refine lv_iload_n hx hb dX1_learn_119 rfl (lv_at hl 4 rfl) ?_
                refine lv_bipush (v := 40) hx hb dX1_learn_120 (by decide) ?_
                refine lv_imul hx hb dX1_learn_122 ?_
                refine lv_iload hx hb dX1_learn_123 (lv_at hl 0 rfl) ?_
                refine lv_iadd hx hb dX1_learn_125 ?_
                refine ra_zald hx hb hK hP 7 1 rfl rfl (k := 40 * rf + i) (ra_x40 _ _) (by omega) (by decide) (v := ra_b (ra_bt (g1 rf) i)) (ra_zb_at _ (by omega)) dX1_learn_126 ?_
                refine lv_if_eq (tgt := 161) hx hb dX1_learn_127 (by decide) (fun c_127 => ?_) (fun c_127 => ?_)
                · refine lv_iinc (v := nI (i + 1)) (lv' := [(4, .int (nI (i + 1))), (3, .int (nI t2)), (0, .ref h), (1, .int (nI rt)), (2, .int (nI rf))]) hx hb dX1_learn_161 hl (k := 0) rfl (ra_inc _) (by decide) rfl (fun ls hl => ?_)
                  refine lv_goto (tgt := 31) hx hb dX1_learn_164 (by decide) ?_
                  exact ih (i + 1) _ _ _ _ _ _ _ (by omega) (by omega) (hE3.trans (ra_l2_n (Or.inl ((ra_b_eq _).mp c_127)))) hP hD hS ls (lv_sub hl [0, 1, 2, 3, 4] rfl)
                · refine lv_aload_n hx hb dX1_learn_130 rfl (lv_at hl 2 rfl) ?_
                  refine va_get (D := (dC, dI)) (ci := 1) (v := .ref q7) (C := RX1) (T := TX1) (N := 11) hx hb hts in_X1 hown hK hP 0 rfl rfl 7 (by decide) (hts _ q152) (fun _ h9 => h9) rfl dX1_learn_131 ?_
                  refine lv_iload_n hx hb dX1_learn_134 rfl (lv_at hl 3 rfl) ?_
                  refine lv_bipush (v := 40) hx hb dX1_learn_135 (by decide) ?_
                  refine lv_imul hx hb dX1_learn_137 ?_
                  refine lv_iload hx hb dX1_learn_138 (lv_at hl 0 rfl) ?_
                  refine lv_iadd hx hb dX1_learn_140 ?_
                  refine ra_zald hx hb hK hP 7 1 rfl rfl (k := 40 * rt + i) (ra_x40 _ _) (by omega) (by decide) (v := ra_b (ra_bt (g1 rt) i)) (ra_zb_at _ (by omega)) dX1_learn_141 ?_
                  refine lv_if_ne (tgt := 161) hx hb dX1_learn_142 (by decide) (fun c_142 => ?_) (fun c_142 => ?_)
                  · refine lv_iinc (v := nI (i + 1)) (lv' := [(4, .int (nI (i + 1))), (3, .int (nI t2)), (0, .ref h), (1, .int (nI rt)), (2, .int (nI rf))]) hx hb dX1_learn_161 hl (k := 0) rfl (ra_inc _) (by decide) rfl (fun ls hl => ?_)
                    refine lv_goto (tgt := 31) hx hb dX1_learn_164 (by decide) ?_
                    exact ih (i + 1) _ _ _ _ _ _ _ (by omega) (by omega) (hE3.trans (ra_l2_n (Or.inr ((ra_b_ne _).mp c_142)))) hP hD hS ls (lv_sub hl [0, 1, 2, 3, 4] rfl)
                  · refine lv_aload_n hx hb dX1_learn_145 rfl (lv_at hl 2 rfl) ?_
                    refine va_get (D := (dC, dI)) (ci := 1) (v := .ref q7) (C := RX1) (T := TX1) (N := 11) hx hb hts in_X1 hown hK hP 0 rfl rfl 7 (by decide) (hts _ q152) (fun _ h9 => h9) rfl dX1_learn_146 ?_
                    refine lv_iload_n hx hb dX1_learn_149 rfl (lv_at hl 3 rfl) ?_
                    refine lv_bipush (v := 40) hx hb dX1_learn_150 (by decide) ?_
                    refine lv_imul hx hb dX1_learn_152 ?_
                    refine lv_iload hx hb dX1_learn_153 (lv_at hl 0 rfl) ?_
                    refine lv_iadd hx hb dX1_learn_155 ?_
                    refine lv_iconst (v := 1) hx hb dX1_learn_156 (by decide) ?_
                    refine ra_zast hx hb hK hP hD hS 7 1 rfl rfl (k := 40 * rt + i) (ra_x40 _ _) (by omega) (by decide) (f' := ra_zb (vp_updL g1 rt (ra_or (g1 rt) i))) (by rw [ra_nar1]; exact ra_zb_upd g1 (by omega)) dX1_learn_157 (fun H locs hP hD hS => ?_)
                    have hP : va_P (dC, dI) vwCl (ra_wM h q1 q2 q3 q4 q5 q6 q7 q8 q9 cI cZ n fl S O P AB k2 (vp_updL g1 rt (ra_or (g1 rt) i)) C2 fr od) H := hP
                    have hD : va_D A (ra_wM h q1 q2 q3 q4 q5 q6 q7 q8 q9 cI cZ n fl S O P AB k2 (vp_updL g1 rt (ra_or (g1 rt) i)) C2 fr od) := hD
                    refine lv_iinc (v := nI (t2 + 1)) (lv' := [(3, .int (nI (t2 + 1))), (4, .int (nI i)), (0, .ref h), (1, .int (nI rt)), (2, .int (nI rf))]) hx hb dX1_learn_158 hl (k := 1) rfl (ra_inc _) (by decide) rfl (fun ls hl => ?_)
                    refine lv_iinc (v := nI (i + 1)) (lv' := [(4, .int (nI (i + 1))), (3, .int (nI (t2 + 1))), (0, .ref h), (1, .int (nI rt)), (2, .int (nI rf))]) hx hb dX1_learn_161 hl (k := 1) rfl (ra_inc _) (by decide) rfl (fun ls hl => ?_)
                    refine lv_goto (tgt := 31) hx hb dX1_learn_164 (by decide) ?_
                    exact ih (i + 1) _ _ _ _ _ _ _ (by omega) (by omega) (hE3.trans (ra_l2_y ((ra_b_ne _).mp c_127) ((ra_b_eq _).mp c_142))) hP hD hS ls (lv_sub hl [0, 1, 2, 3, 4] rfl)
              refine lv_aload_n hx hb dX1_learn_40 rfl (lv_at hl 2 rfl) ?_
              refine va_get (D := (dC, dI)) (ci := 1) (v := .ref q6) (C := RX1) (T := TX1) (N := 11) hx hb hts in_X1 hown hK hP 0 rfl rfl 6 (by decide) (hts _ q151) (fun _ h9 => h9) rfl dX1_learn_41 ?_
              refine lv_iload_n hx hb dX1_learn_44 rfl (lv_at hl 4 rfl) ?_
              refine lv_bipush (v := 40) hx hb dX1_learn_45 (by decide) ?_
              refine lv_imul hx hb dX1_learn_47 ?_
              refine lv_iload hx hb dX1_learn_48 (lv_at hl 0 rfl) ?_
              refine lv_iadd hx hb dX1_learn_50 ?_
              refine ra_zald hx hb hK hP 6 1 rfl rfl (k := 40 * rf + i) (ra_x40 _ _) (by omega) (by decide) (v := ra_b (ra_bt (k1 rf) i)) (ra_zb_at _ (by omega)) dX1_learn_51 ?_
              refine lv_if_eq (tgt := 115) hx hb dX1_learn_52 (by decide) (fun c_52 => ?_) (fun c_52 => ?_)
              · exact half C1 k1 L t H locs (ra_l1_n (Or.inl ((ra_b_eq _).mp c_52))) hP hD hS ls (lv_sub hl [0, 1, 2, 3, 4] rfl)
              · refine lv_aload_n hx hb dX1_learn_55 rfl (lv_at hl 2 rfl) ?_
                refine va_get (D := (dC, dI)) (ci := 1) (v := .ref q6) (C := RX1) (T := TX1) (N := 11) hx hb hts in_X1 hown hK hP 0 rfl rfl 6 (by decide) (hts _ q151) (fun _ h9 => h9) rfl dX1_learn_56 ?_
                refine lv_iload_n hx hb dX1_learn_59 rfl (lv_at hl 3 rfl) ?_
                refine lv_bipush (v := 40) hx hb dX1_learn_60 (by decide) ?_
                refine lv_imul hx hb dX1_learn_62 ?_
                refine lv_iload hx hb dX1_learn_63 (lv_at hl 0 rfl) ?_
                refine lv_iadd hx hb dX1_learn_65 ?_
                refine ra_zald hx hb hK hP 6 1 rfl rfl (k := 40 * rt + i) (ra_x40 _ _) (by omega) (by decide) (v := ra_b (ra_bt (k1 rt) i)) (ra_zb_at _ (by omega)) dX1_learn_66 ?_
                refine lv_if_ne (tgt := 115) hx hb dX1_learn_67 (by decide) (fun c_67 => ?_) (fun c_67 => ?_)
                · exact half C1 k1 L t H locs (ra_l1_n (Or.inr ((ra_b_ne _).mp c_67))) hP hD hS ls (lv_sub hl [0, 1, 2, 3, 4] rfl)
                · have b1 : ra_bt (k1 rf) i = true := (ra_b_ne _).mp c_52
                  have b2 : ra_bt (k1 rt) i = false := (ra_b_eq _).mp c_67
                  have hC1 : C1 rt ≤ 40 := by have := hCb i h1; rw [hE] at this; exact this
                  have hSi := hSO i
                  refine lv_aload_n hx hb dX1_learn_70 rfl (lv_at hl 2 rfl) ?_
                  refine va_get (D := (dC, dI)) (ci := 1) (v := .ref q6) (C := RX1) (T := TX1) (N := 11) hx hb hts in_X1 hown hK hP 0 rfl rfl 6 (by decide) (hts _ q151) (fun _ h9 => h9) rfl dX1_learn_71 ?_
                  refine lv_iload_n hx hb dX1_learn_74 rfl (lv_at hl 3 rfl) ?_
                  refine lv_bipush (v := 40) hx hb dX1_learn_75 (by decide) ?_
                  refine lv_imul hx hb dX1_learn_77 ?_
                  refine lv_iload hx hb dX1_learn_78 (lv_at hl 0 rfl) ?_
                  refine lv_iadd hx hb dX1_learn_80 ?_
                  refine lv_iconst (v := 1) hx hb dX1_learn_81 (by decide) ?_
                  refine ra_zast hx hb hK hP hD hS 6 1 rfl rfl (k := 40 * rt + i) (ra_x40 _ _) (by omega) (by decide) (f' := ra_zb (vp_updL k1 rt (ra_or (k1 rt) i))) (by rw [ra_nar1]; exact ra_zb_upd k1 (by omega)) dX1_learn_82 (fun H locs hP hD hS => ?_)
                  have hP : va_P (dC, dI) vwCl (ra_wM h q1 q2 q3 q4 q5 q6 q7 q8 q9 cI cZ n fl S O P AB (vp_updL k1 rt (ra_or (k1 rt) i)) g1 C1 fr od) H := hP
                  have hD : va_D A (ra_wM h q1 q2 q3 q4 q5 q6 q7 q8 q9 cI cZ n fl S O P AB (vp_updL k1 rt (ra_or (k1 rt) i)) g1 C1 fr od) := hD
                  refine lv_aload_n hx hb dX1_learn_83 rfl (lv_at hl 2 rfl) ?_
                  refine va_get (D := (dC, dI)) (ci := 1) (v := .ref q8) (C := RX1) (T := TX1) (N := 11) hx hb hts in_X1 hown hK hP 0 rfl rfl 8 (by decide) (hts _ q153) (fun _ h9 => h9) rfl dX1_learn_84 ?_
                  refine lv_iload_n hx hb dX1_learn_87 rfl (lv_at hl 3 rfl) ?_
                  refine ra_iald hx hb hK hP 8 0 rfl rfl (k := rt) rfl (by omega) (by decide) (v := nI (C1 rt)) rfl dX1_learn_88 ?_
                  refine lv_aload_n hx hb dX1_learn_89 rfl (lv_at hl 2 rfl) ?_
                  refine va_get (D := (dC, dI)) (ci := 1) (v := .ref q2) (C := RX1) (T := TX1) (N := 11) hx hb hts in_X1 hown hK hP 0 rfl rfl 2 (by decide) (hts _ q147) (fun _ h9 => h9) rfl dX1_learn_90 ?_
                  refine lv_iload hx hb dX1_learn_93 (lv_at hl 0 rfl) ?_
                  refine ra_iald hx hb hK hP 2 0 rfl rfl (k := i) rfl (by omega) (by decide) (v := nI (S i)) rfl dX1_learn_95 ?_
                  refine lv_icmp_ge (tgt := 112) hx hb dX1_learn_96 (by decide) (fun c_96 => ?_) (fun c_96 => ?_)
                  · have hm : ra_mx C1 rt (S i) = C1 := if_neg (by rw [nI_leI (by omega) (by omega)] at c_96; omega)
                    refine lv_iinc (v := nI (t + 1)) (lv' := [(3, .int (nI (t + 1))), (4, .int (nI i)), (0, .ref h), (1, .int (nI rt)), (2, .int (nI rf))]) hx hb dX1_learn_112 hl (k := 1) rfl (ra_inc _) (by decide) rfl (fun ls hl => ?_)
                    exact half _ _ _ _ H locs (ra_l1_y b1 b2) (by rw [hm]; exact hP) (by rw [hm]; exact hD) hS ls (lv_sub hl [1, 0, 2, 3, 4] rfl)
                  · have hm : ra_mx C1 rt (S i) = va_up C1 rt (S i) := if_pos (by rw [nI_leI (by omega) (by omega)] at c_96; omega)
                    refine lv_aload_n hx hb dX1_learn_99 rfl (lv_at hl 2 rfl) ?_
                    refine va_get (D := (dC, dI)) (ci := 1) (v := .ref q8) (C := RX1) (T := TX1) (N := 11) hx hb hts in_X1 hown hK hP 0 rfl rfl 8 (by decide) (hts _ q153) (fun _ h9 => h9) rfl dX1_learn_100 ?_
                    refine lv_iload_n hx hb dX1_learn_103 rfl (lv_at hl 3 rfl) ?_
                    refine lv_aload_n hx hb dX1_learn_104 rfl (lv_at hl 2 rfl) ?_
                    refine va_get (D := (dC, dI)) (ci := 1) (v := .ref q2) (C := RX1) (T := TX1) (N := 11) hx hb hts in_X1 hown hK hP 0 rfl rfl 2 (by decide) (hts _ q147) (fun _ h9 => h9) rfl dX1_learn_105 ?_
                    refine lv_iload hx hb dX1_learn_108 (lv_at hl 0 rfl) ?_
                    refine ra_iald hx hb hK hP 2 0 rfl rfl (k := i) rfl (by omega) (by decide) (v := nI (S i)) rfl dX1_learn_110 ?_
                    refine ra_iast hx hb hK hP hD hS 8 0 rfl rfl (k := rt) rfl (by omega) (by decide) (f' := fun j => nI ((va_up C1 rt (S i)) j)) (ra_updN _ _ _) dX1_learn_111 (fun H locs hP hD hS => ?_)
                    have hP : va_P (dC, dI) vwCl (ra_wM h q1 q2 q3 q4 q5 q6 q7 q8 q9 cI cZ n fl S O P AB (vp_updL k1 rt (ra_or (k1 rt) i)) g1 (va_up C1 rt (S i)) fr od) H := hP
                    have hD : va_D A (ra_wM h q1 q2 q3 q4 q5 q6 q7 q8 q9 cI cZ n fl S O P AB (vp_updL k1 rt (ra_or (k1 rt) i)) g1 (va_up C1 rt (S i)) fr od) := hD
                    refine lv_iinc (v := nI (t + 1)) (lv' := [(3, .int (nI (t + 1))), (4, .int (nI i)), (0, .ref h), (1, .int (nI rt)), (2, .int (nI rf))]) hx hb dX1_learn_112 hl (k := 1) rfl (ra_inc _) (by decide) rfl (fun ls hl => ?_)
                    exact half _ _ _ _ H locs (ra_l1_y b1 b2) (by rw [hm]; exact hP) (by rw [hm]; exact hD) hS ls (lv_sub hl [1, 0, 2, 3, 4] rfl)
        exact loop (n + 1) 0 C fk fg L0 0 s.heap [] (Nat.zero_le _) (by omega) rfl hP hD hS ls (lv_sub hl [0, 1, 2, 3, 4] rfl)
      · exact absurd ((nI_eq (by omega) (by omega)).mp c_20) hne
    · rcases hz2 with ⟨-, q⟩ | ⟨q, -⟩
      · exact absurd q (ra_bad_no hf3)
      · exact absurd (q ▸ c_13) (by decide)
end MM
end
section
set_option maxRecDepth 100000
section MM
variable (l : Launch) {dC : Nat → ClassId} {dI : Nat → Nat → Nat} {h q1 q2 q3 q4 q5 q6 q7 q8 q9 : Nat} {cI cZ : ClassId} {n : Nat} {fl : Nat → Int32} {S O P : Nat → Nat} {AB : Nat → Nat → Bool} {fk fg : Nat → Int64} {C : Nat → Nat} {fr : Nat → Int32} {od : Int32}
set_option maxHeartbeats 4000000 in
set_option maxRecDepth 100000 in
/-- insert(rp, k, ch) that is one -/
theorem mm_insert_yes (sz : Nat) (rp k : Nat) (ch : Int32) (hr3 : rp < 3) (hk : k ≤ ra_cn (ra_kf fk fg rp) n) (hn0 : n < 40) {Xl : Nat → List Nat} (hI : ra_inv n S O P C fk fg Xl) (hAB : ra_ab n P AB) : Met l yX1_insert (ws_ yX1_insert cX1_insert 6 (some .int)) ({ frames := 5, cells := 0, slots := 0, locals := 150 }) (va_Pc [.ref h, .int (nI rp), .int (nI k), .int ch] (fun U => U.heap.size = sz ∧ va_P (dC, dI) vwCl (ra_wM h q1 q2 q3 q4 q5 q6 q7 q8 q9 cI cZ n fl S O P AB fk fg C fr od) U.heap ∧ va_K (dC, dI) vwCl [(cI, .int), (cZ, .boolean)] U ∧ va_D (fun _ => True) (ra_wM h q1 q2 q3 q4 q5 q6 q7 q8 q9 cI cZ n fl S O P AB fk fg C fr od))) (va_Qi (fun z (u : (Nat → Int32) × Int32) => z = nI n) (fun u t => va_P (dC, dI) vwCl (ra_wM h q1 q2 q3 q4 q5 q6 q7 q8 q9 cI cZ (n + 1) (upd fl n (ch &&& 255)) (va_up S n (C rp + 1)) (va_up O n rp) (va_up P n ((ra_sp (ra_sh fg rp) k (Xl rp)).1.getLastD 40)) (ra_abk AB n (ra_abF n ((ra_sp (ra_sh fg rp) k (Xl rp)).1.getLastD 40) AB) 40) (vp_updL fk rp (ra_or (fk rp) n)) fg (va_up C rp (C rp + 1)) u.1 u.2) t.heap ∧ va_K (dC, dI) vwCl [(cI, .int), (cZ, .boolean)] t ∧ va_D (va_A (ra_wM h q1 q2 q3 q4 q5 q6 q7 q8 q9 cI cZ n fl S O P AB fk fg C fr od) sz) (ra_wM h q1 q2 q3 q4 q5 q6 q7 q8 q9 cI cZ (n + 1) (upd fl n (ch &&& 255)) (va_up S n (C rp + 1)) (va_up O n rp) (va_up P n ((ra_sp (ra_sh fg rp) k (Xl rp)).1.getLastD 40)) (ra_abk AB n (ra_abF n ((ra_sp (ra_sh fg rp) k (Xl rp)).1.getLastD 40) AB) 40) (vp_updL fk rp (ra_or (fk rp) n)) fg (va_up C rp (C rp + 1)) u.1 u.2)) (va_A (ra_wM h q1 q2 q3 q4 q5 q6 q7 q8 q9 cI cZ n fl S O P AB fk fg C fr od) sz)) 0 0 (va_A (ra_wM h q1 q2 q3 q4 q5 q6 q7 q8 q9 cI cZ n fl S O P AB fk fg C fr od) sz) := by
  refine Met.ofW (cc := cX1_insert) (maxL := 6) (ret := some .int) (by decide) rfl ?_
  intro p e s m args below meth c s₁ B hml hv
  obtain ⟨rfl, hsz, hP, hK, hD0⟩ := hv
  have hx := B.exec
  have hb := B.bytes
  have hr := B.returns
  have hts := atoms_spec (ws := (ws_ yX1_insert cX1_insert 6 (some .int))) B.pre
  have hts : ∀ w ∈ lw_all, w.before _ s = true := fun w h => hts w (List.mem_cons_of_mem _ h)
  have hown : s.vm.findClass RX1 = some m.cls := findClass_of_methodNamed B.named
  have hlocks := B.notSynchronized
  subst hsz
  have hD := hD0.self (sz := s.heap.size)
  generalize hAe : va_A (ra_wM h q1 q2 q3 q4 q5 q6 q7 q8 q9 cI cZ n fl S O P AB fk fg C fr od) s.heap.size = A at hD ⊢
  have hA : ∀ q : Nat, s.heap.size ≤ q → A q := fun q h => by rw [← hAe]; exact Or.inr h
  have hS : va_S A s.heap s.heap [] := va_S.rf
  have hP : va_P (dC, dI) vwCl (ra_wM h q1 q2 q3 q4 q5 q6 q7 q8 q9 cI cZ n fl S O P AB fk fg C fr od) s.heap := hP
  have hl := lv_entry ([.ref h, .int (nI rp), .int (nI k), .int ch]) (n := 6) (Nat.le_of_ble_eq_true rfl)
  rw [lg_entry_eq]
  generalize (lg_sl ([.ref h, .int (nI rp), .int (nI k), .int ch]) ++ List.replicate (6 - (lg_sl ([.ref h, .int (nI rp), .int (nI k), .int ch])).length) Slot.unset).toArray = ls at hl ⊢
  have hl : lv_has ls 6 [(0, .ref h), (1, .int (nI rp)), (2, .int (nI k)), (3, .int ch)] := hl
  have hn : n ≤ 40 := hI.1.1
  have hSO : ∀ k, S k ≤ 40 ∧ O k < 3 := fun k => ⟨Nat.le_trans (hI.1.2.1 k).1 hn, (hI.1.2.1 k).2⟩
  have hpar : ∀ k, k < n → P k = 40 ∨ P k < k := fun k hk => (hI.1.2.2.1 k hk).elim Or.inl (fun q => Or.inr q.1)
  have hcl := ra_cn_le (ra_kf fk fg rp) n
  have hmem := (hI.1.2.2.2.2.2 rp hr3).2.2.2.1
  have hat := ra_sp_at (sh := ra_sh fg rp) (L := Xl rp) (k := k) (by rw [ra_inv_cnt hI hr3]; exact hk) (by omega)
  have hpn : ((ra_sp (ra_sh fg rp) k (Xl rp)).1.getLastD 40) = 40 ∨ ((ra_sp (ra_sh fg rp) k (Xl rp)).1.getLastD 40) < n := by
    rcases hat with ⟨-, q, -⟩ | ⟨-, q, -, -⟩
    · exact Or.inl (by rw [q]; rfl)
    · exact Or.inr ((hmem _).mp q).1
  refine lv_aload_n hx hb dX1_insert_0 rfl (lv_at hl 0 rfl) ?_
  refine lv_iload_n hx hb dX1_insert_1 rfl (lv_at hl 1 rfl) ?_
  refine ra_cV (Cn := RX1) ⟨hx, hb, hml, hown, hts⟩ [.int (nI rp)] [] (mm_isReplica l (nI rp)) (cwV 1 hts (lw_V q184 q186 qs9 q18 q187) rfl rfl rfl (by decide +kernel) ⟨Nat.le_of_ble_eq_true rfl, Nat.le_of_ble_eq_true rfl⟩) hP hK (va_recv hK hP (ci := 1) (q0 := 0) rfl rfl) rfl hl.1 rfl (Nat.le_of_ble_eq_true rfl) dX1_insert_2 ⟨Nat.le_of_ble_eq_true rfl, Nat.le_of_ble_eq_true rfl⟩ (fun z hz => ?_)
  refine lv_if_ne (tgt := 10) hx hb dX1_insert_5 (by decide) (fun c_5 => ?_) (fun c_5 => ?_)
  · refine lv_iload_n hx hb dX1_insert_10 rfl (lv_at hl 2 rfl) ?_
    refine lv_if_lt (tgt := 23) hx hb dX1_insert_11 (by decide) (fun c_11 => ?_) (fun c_11 => ?_)
    · exact absurd c_11 (nI_pos (by omega))
    · refine lv_iload_n hx hb dX1_insert_14 rfl (lv_at hl 2 rfl) ?_
      refine lv_aload_n hx hb dX1_insert_15 rfl (lv_at hl 0 rfl) ?_
      refine lv_iload_n hx hb dX1_insert_16 rfl (lv_at hl 1 rfl) ?_
      refine ra_cV (Cn := RX1) ⟨hx, hb, hml, hown, hts⟩ [.int (nI rp)] [.int (nI k)] (mm_length l (nI rp) hn) (cwV 1 hts (lw_V q188 q189 q190 q18 q191) rfl rfl rfl (by decide +kernel) ⟨Nat.le_of_ble_eq_true rfl, Nat.le_of_ble_eq_true rfl⟩) hP hK (va_recv hK hP (ci := 1) (q0 := 0) rfl rfl) rfl hl.1 rfl (Nat.le_of_ble_eq_true rfl) dX1_insert_17 ⟨Nat.le_of_ble_eq_true rfl, Nat.le_of_ble_eq_true rfl⟩ (fun z2 hz2 => ?_)
      rw [ra_rp_ok hr3] at hz2
      subst hz2
      refine lv_icmp_le (tgt := 26) hx hb dX1_insert_20 (by decide) (fun c_20 => ?_) (fun c_20 => ?_)
      · refine lv_aload_n hx hb dX1_insert_26 rfl (lv_at hl 0 rfl) ?_
        refine va_get (D := (dC, dI)) (ci := 1) (v := .int (nI n)) (C := RX1) (T := TX1) (N := 11) hx hb hts in_X1 hown hK hP 0 rfl rfl 0 (by decide) (hts _ q145) (fun _ h9 => h9) rfl dX1_insert_27 ?_
        refine lv_bipush (v := 40) hx hb dX1_insert_30 (by decide) ?_
        refine lv_icmp_ne (tgt := 38) hx hb dX1_insert_32 (by decide) (fun c_32 => ?_) (fun c_32 => ?_)
        · refine lv_aload_n hx hb dX1_insert_38 rfl (lv_at hl 0 rfl) ?_
          refine va_get (D := (dC, dI)) (ci := 1) (v := .int (nI n)) (C := RX1) (T := TX1) (N := 11) hx hb hts in_X1 hown hK hP 0 rfl rfl 0 (by decide) (hts _ q145) (fun _ h9 => h9) rfl dX1_insert_39 ?_
          refine lv_istore (lv' := [(4, .int (nI n)), (0, .ref h), (1, .int (nI rp)), (2, .int (nI k)), (3, .int ch)]) hx hb dX1_insert_42 hl (by decide) rfl (fun ls hl => ?_)
          refine lv_aload_n hx hb dX1_insert_44 rfl (lv_at hl 1 rfl) ?_
          refine va_get (D := (dC, dI)) (ci := 1) (v := .ref q4) (C := RX1) (T := TX1) (N := 11) hx hb hts in_X1 hown hK hP 0 rfl rfl 4 (by decide) (hts _ q149) (fun _ h9 => h9) rfl dX1_insert_45 ?_
          refine lv_iload hx hb dX1_insert_48 (lv_at hl 0 rfl) ?_
          refine lv_iload_n hx hb dX1_insert_50 rfl (lv_at hl 3 rfl) ?_
          have tail : ∀ (v : Int32) (fr1 : Nat → Int32) (od1 : Int32) (H : Heap) (locs : List Loc), v = (if ((ra_sp (ra_sh fg rp) k (Xl rp)).1.getLastD 40) = 40 then -5 else nI ((ra_sp (ra_sh fg rp) k (Xl rp)).1.getLastD 40)) → va_P (dC, dI) vwCl (ra_wM h q1 q2 q3 q4 q5 q6 q7 q8 q9 cI cZ n fl S O P AB fk fg C fr1 od1) H → va_D A (ra_wM h q1 q2 q3 q4 q5 q6 q7 q8 q9 cI cZ n fl S O P AB fk fg C fr1 od1) → va_S A s.heap H locs → ra_WI p l e s m below meth c H locs (ws_ yX1_insert cX1_insert 6 (some .int)) ({ frames := 5, cells := 0, slots := 0, locals := 150 }) [.ref h, .int (nI rp), .int (nI k), .int ch] (fun z (u : (Nat → Int32) × Int32) => z = nI n) (fun u t => va_P (dC, dI) vwCl (ra_wM h q1 q2 q3 q4 q5 q6 q7 q8 q9 cI cZ (n + 1) (upd fl n (ch &&& 255)) (va_up S n (C rp + 1)) (va_up O n rp) (va_up P n ((ra_sp (ra_sh fg rp) k (Xl rp)).1.getLastD 40)) (ra_abk AB n (ra_abF n ((ra_sp (ra_sh fg rp) k (Xl rp)).1.getLastD 40) AB) 40) (vp_updL fk rp (ra_or (fk rp) n)) fg (va_up C rp (C rp + 1)) u.1 u.2) t.heap ∧ va_K (dC, dI) vwCl [(cI, .int), (cZ, .boolean)] t ∧ va_D A (ra_wM h q1 q2 q3 q4 q5 q6 q7 q8 q9 cI cZ (n + 1) (upd fl n (ch &&& 255)) (va_up S n (C rp + 1)) (va_up O n rp) (va_up P n ((ra_sp (ra_sh fg rp) k (Xl rp)).1.getLastD 40)) (ra_abk AB n (ra_abF n ((ra_sp (ra_sh fg rp) k (Xl rp)).1.getLastD 40) AB) 40) (vp_updL fk rp (ra_or (fk rp) n)) fg (va_up C rp (C rp + 1)) u.1 u.2)) A 67 ls [.int v, .int (nI n), .ref q4] := by
            intro v fr1 od1 H locs hv hP hD hS
            refine ra_iast hx hb hK hP hD hS 4 0 rfl rfl (k := n) rfl (by omega) (by decide) (f' := ra_pm (va_up P n ((ra_sp (ra_sh fg rp) k (Xl rp)).1.getLastD 40))) (ra_pm_upd P n hv) dX1_insert_67 (fun H locs hP hD hS => ?_)
            have hP : va_P (dC, dI) vwCl (ra_wM h q1 q2 q3 q4 q5 q6 q7 q8 q9 cI cZ n fl S O (va_up P n ((ra_sp (ra_sh fg rp) k (Xl rp)).1.getLastD 40)) AB fk fg C fr1 od1) H := hP
            have hD : va_D A (ra_wM h q1 q2 q3 q4 q5 q6 q7 q8 q9 cI cZ n fl S O (va_up P n ((ra_sp (ra_sh fg rp) k (Xl rp)).1.getLastD 40)) AB fk fg C fr1 od1) := hD
            have hP : va_P (dC, dI) vwCl (ra_wM h q1 q2 q3 q4 q5 q6 q7 q8 q9 cI cZ n fl S O (va_up P n ((ra_sp (ra_sh fg rp) k (Xl rp)).1.getLastD 40)) (ra_abk AB n (ra_abF n ((ra_sp (ra_sh fg rp) k (Xl rp)).1.getLastD 40) AB) 0) fk fg C fr1 od1) H := by rw [ra_abk_0]; exact hP
            have hD : va_D A (ra_wM h q1 q2 q3 q4 q5 q6 q7 q8 q9 cI cZ n fl S O (va_up P n ((ra_sp (ra_sh fg rp) k (Xl rp)).1.getLastD 40)) (ra_abk AB n (ra_abF n ((ra_sp (ra_sh fg rp) k (Xl rp)).1.getLastD 40) AB) 0) fk fg C fr1 od1) := by rw [ra_abk_0]; exact hD
            refine lv_iconst (v := 0) hx hb dX1_insert_68 (by decide) ?_
            refine lv_istore (lv' := [(5, .int 0), (4, .int (nI n)), (0, .ref h), (1, .int (nI rp)), (2, .int (nI k)), (3, .int ch)]) hx hb dX1_insert_69 hl (by decide) rfl (fun ls hl => ?_)
            have after : ∀ (H : Heap) (locs : List Loc), va_P (dC, dI) vwCl (ra_wM h q1 q2 q3 q4 q5 q6 q7 q8 q9 cI cZ n fl S O (va_up P n ((ra_sp (ra_sh fg rp) k (Xl rp)).1.getLastD 40)) (ra_abk AB n (ra_abF n ((ra_sp (ra_sh fg rp) k (Xl rp)).1.getLastD 40) AB) 40) fk fg C fr1 od1) H → va_D A (ra_wM h q1 q2 q3 q4 q5 q6 q7 q8 q9 cI cZ n fl S O (va_up P n ((ra_sp (ra_sh fg rp) k (Xl rp)).1.getLastD 40)) (ra_abk AB n (ra_abF n ((ra_sp (ra_sh fg rp) k (Xl rp)).1.getLastD 40) AB) 40) fk fg C fr1 od1) → va_S A s.heap H locs → ∀ (ls : Array Slot), lv_has ls 6 [(0, .ref h), (1, .int (nI rp)), (2, .int (nI k)), (3, .int ch), (4, .int (nI n))] → ra_WI p l e s m below meth c H locs (ws_ yX1_insert cX1_insert 6 (some .int)) ({ frames := 5, cells := 0, slots := 0, locals := 150 }) [.ref h, .int (nI rp), .int (nI k), .int ch] (fun z (u : (Nat → Int32) × Int32) => z = nI n) (fun u t => va_P (dC, dI) vwCl (ra_wM h q1 q2 q3 q4 q5 q6 q7 q8 q9 cI cZ (n + 1) (upd fl n (ch &&& 255)) (va_up S n (C rp + 1)) (va_up O n rp) (va_up P n ((ra_sp (ra_sh fg rp) k (Xl rp)).1.getLastD 40)) (ra_abk AB n (ra_abF n ((ra_sp (ra_sh fg rp) k (Xl rp)).1.getLastD 40) AB) 40) (vp_updL fk rp (ra_or (fk rp) n)) fg (va_up C rp (C rp + 1)) u.1 u.2) t.heap ∧ va_K (dC, dI) vwCl [(cI, .int), (cZ, .boolean)] t ∧ va_D A (ra_wM h q1 q2 q3 q4 q5 q6 q7 q8 q9 cI cZ (n + 1) (upd fl n (ch &&& 255)) (va_up S n (C rp + 1)) (va_up O n rp) (va_up P n ((ra_sp (ra_sh fg rp) k (Xl rp)).1.getLastD 40)) (ra_abk AB n (ra_abF n ((ra_sp (ra_sh fg rp) k (Xl rp)).1.getLastD 40) AB) 40) (vp_updL fk rp (ra_or (fk rp) n)) fg (va_up C rp (C rp + 1)) u.1 u.2)) A 140 ls [] := by
              intro H locs hP hD hS ls hl
              refine lv_aload_n hx hb dX1_insert_140 rfl (lv_at hl 0 rfl) ?_
              refine va_get (D := (dC, dI)) (ci := 1) (v := .ref q8) (C := RX1) (T := TX1) (N := 11) hx hb hts in_X1 hown hK hP 0 rfl rfl 8 (by decide) (hts _ q153) (fun _ h9 => h9) rfl dX1_insert_141 ?_
              refine lv_iload_n hx hb dX1_insert_144 rfl (lv_at hl 1 rfl) ?_
              refine lv_dup2_11 hx hb dX1_insert_145 rfl rfl ?_
              refine ra_iald hx hb hK hP 8 0 rfl rfl (k := rp) rfl (by omega) (by decide) (v := nI (C rp)) rfl dX1_insert_146 ?_
              refine lv_iconst (v := 1) hx hb dX1_insert_147 (by decide) ?_
              refine lv_iadd hx hb dX1_insert_148 ?_
              refine ra_top (y := nI (C rp + 1)) (nI_1 _) ?_
              refine ra_iast hx hb hK hP hD hS 8 0 rfl rfl (k := rp) rfl (by omega) (by decide) (f' := fun j => nI ((va_up C rp (C rp + 1)) j)) (ra_updN _ _ _) dX1_insert_149 (fun H locs hP hD hS => ?_)
              have hP : va_P (dC, dI) vwCl (ra_wM h q1 q2 q3 q4 q5 q6 q7 q8 q9 cI cZ n fl S O (va_up P n ((ra_sp (ra_sh fg rp) k (Xl rp)).1.getLastD 40)) (ra_abk AB n (ra_abF n ((ra_sp (ra_sh fg rp) k (Xl rp)).1.getLastD 40) AB) 40) fk fg (va_up C rp (C rp + 1)) fr1 od1) H := hP
              have hD : va_D A (ra_wM h q1 q2 q3 q4 q5 q6 q7 q8 q9 cI cZ n fl S O (va_up P n ((ra_sp (ra_sh fg rp) k (Xl rp)).1.getLastD 40)) (ra_abk AB n (ra_abF n ((ra_sp (ra_sh fg rp) k (Xl rp)).1.getLastD 40) AB) 40) fk fg (va_up C rp (C rp + 1)) fr1 od1) := hD
              refine lv_aload_n hx hb dX1_insert_150 rfl (lv_at hl 0 rfl) ?_
              refine va_get (D := (dC, dI)) (ci := 1) (v := .ref q1) (C := RX1) (T := TX1) (N := 11) hx hb hts in_X1 hown hK hP 0 rfl rfl 1 (by decide) (hts _ q146) (fun _ h9 => h9) rfl dX1_insert_151 ?_
              refine lv_iload hx hb dX1_insert_154 (lv_at hl 4 rfl) ?_
              refine lv_iload_n hx hb dX1_insert_156 rfl (lv_at hl 3 rfl) ?_
              refine lv_sipush (v := 255) hx hb dX1_insert_157 (by decide) ?_
              refine lv_iand hx hb dX1_insert_160 ?_
              refine ra_iast hx hb hK hP hD hS 1 0 rfl rfl (k := n) rfl (by omega) (by decide) (f' := upd fl n (ch &&& 255)) rfl dX1_insert_161 (fun H locs hP hD hS => ?_)
              have hP : va_P (dC, dI) vwCl (ra_wM h q1 q2 q3 q4 q5 q6 q7 q8 q9 cI cZ n (upd fl n (ch &&& 255)) S O (va_up P n ((ra_sp (ra_sh fg rp) k (Xl rp)).1.getLastD 40)) (ra_abk AB n (ra_abF n ((ra_sp (ra_sh fg rp) k (Xl rp)).1.getLastD 40) AB) 40) fk fg (va_up C rp (C rp + 1)) fr1 od1) H := hP
              have hD : va_D A (ra_wM h q1 q2 q3 q4 q5 q6 q7 q8 q9 cI cZ n (upd fl n (ch &&& 255)) S O (va_up P n ((ra_sp (ra_sh fg rp) k (Xl rp)).1.getLastD 40)) (ra_abk AB n (ra_abF n ((ra_sp (ra_sh fg rp) k (Xl rp)).1.getLastD 40) AB) 40) fk fg (va_up C rp (C rp + 1)) fr1 od1) := hD
              refine lv_aload_n hx hb dX1_insert_162 rfl (lv_at hl 0 rfl) ?_
              refine va_get (D := (dC, dI)) (ci := 1) (v := .ref q2) (C := RX1) (T := TX1) (N := 11) hx hb hts in_X1 hown hK hP 0 rfl rfl 2 (by decide) (hts _ q147) (fun _ h9 => h9) rfl dX1_insert_163 ?_
              refine lv_iload hx hb dX1_insert_166 (lv_at hl 4 rfl) ?_
              refine lv_aload_n hx hb dX1_insert_168 rfl (lv_at hl 0 rfl) ?_
              refine va_get (D := (dC, dI)) (ci := 1) (v := .ref q8) (C := RX1) (T := TX1) (N := 11) hx hb hts in_X1 hown hK hP 0 rfl rfl 8 (by decide) (hts _ q153) (fun _ h9 => h9) rfl dX1_insert_169 ?_
              refine lv_iload_n hx hb dX1_insert_172 rfl (lv_at hl 1 rfl) ?_
              refine ra_iald hx hb hK hP 8 0 rfl rfl (k := rp) rfl (by omega) (by decide) (v := nI (C rp + 1)) (by simp [va_up]) dX1_insert_173 ?_
              refine ra_iast hx hb hK hP hD hS 2 0 rfl rfl (k := n) rfl (by omega) (by decide) (f' := fun j => nI ((va_up S n (C rp + 1)) j)) (ra_updN _ _ _) dX1_insert_174 (fun H locs hP hD hS => ?_)
              have hP : va_P (dC, dI) vwCl (ra_wM h q1 q2 q3 q4 q5 q6 q7 q8 q9 cI cZ n (upd fl n (ch &&& 255)) (va_up S n (C rp + 1)) O (va_up P n ((ra_sp (ra_sh fg rp) k (Xl rp)).1.getLastD 40)) (ra_abk AB n (ra_abF n ((ra_sp (ra_sh fg rp) k (Xl rp)).1.getLastD 40) AB) 40) fk fg (va_up C rp (C rp + 1)) fr1 od1) H := hP
              have hD : va_D A (ra_wM h q1 q2 q3 q4 q5 q6 q7 q8 q9 cI cZ n (upd fl n (ch &&& 255)) (va_up S n (C rp + 1)) O (va_up P n ((ra_sp (ra_sh fg rp) k (Xl rp)).1.getLastD 40)) (ra_abk AB n (ra_abF n ((ra_sp (ra_sh fg rp) k (Xl rp)).1.getLastD 40) AB) 40) fk fg (va_up C rp (C rp + 1)) fr1 od1) := hD
              refine lv_aload_n hx hb dX1_insert_175 rfl (lv_at hl 0 rfl) ?_
              refine va_get (D := (dC, dI)) (ci := 1) (v := .ref q3) (C := RX1) (T := TX1) (N := 11) hx hb hts in_X1 hown hK hP 0 rfl rfl 3 (by decide) (hts _ q148) (fun _ h9 => h9) rfl dX1_insert_176 ?_
              refine lv_iload hx hb dX1_insert_179 (lv_at hl 4 rfl) ?_
              refine lv_iload_n hx hb dX1_insert_181 rfl (lv_at hl 1 rfl) ?_
              refine ra_iast hx hb hK hP hD hS 3 0 rfl rfl (k := n) rfl (by omega) (by decide) (f' := fun j => nI ((va_up O n rp) j)) (ra_updN _ _ _) dX1_insert_182 (fun H locs hP hD hS => ?_)
              have hP : va_P (dC, dI) vwCl (ra_wM h q1 q2 q3 q4 q5 q6 q7 q8 q9 cI cZ n (upd fl n (ch &&& 255)) (va_up S n (C rp + 1)) (va_up O n rp) (va_up P n ((ra_sp (ra_sh fg rp) k (Xl rp)).1.getLastD 40)) (ra_abk AB n (ra_abF n ((ra_sp (ra_sh fg rp) k (Xl rp)).1.getLastD 40) AB) 40) fk fg (va_up C rp (C rp + 1)) fr1 od1) H := hP
              have hD : va_D A (ra_wM h q1 q2 q3 q4 q5 q6 q7 q8 q9 cI cZ n (upd fl n (ch &&& 255)) (va_up S n (C rp + 1)) (va_up O n rp) (va_up P n ((ra_sp (ra_sh fg rp) k (Xl rp)).1.getLastD 40)) (ra_abk AB n (ra_abF n ((ra_sp (ra_sh fg rp) k (Xl rp)).1.getLastD 40) AB) 40) fk fg (va_up C rp (C rp + 1)) fr1 od1) := hD
              refine lv_aload_n hx hb dX1_insert_183 rfl (lv_at hl 0 rfl) ?_
              refine va_get (D := (dC, dI)) (ci := 1) (v := .ref q6) (C := RX1) (T := TX1) (N := 11) hx hb hts in_X1 hown hK hP 0 rfl rfl 6 (by decide) (hts _ q151) (fun _ h9 => h9) rfl dX1_insert_184 ?_
              refine lv_iload_n hx hb dX1_insert_187 rfl (lv_at hl 1 rfl) ?_
              refine lv_bipush (v := 40) hx hb dX1_insert_188 (by decide) ?_
              refine lv_imul hx hb dX1_insert_190 ?_
              refine lv_iload hx hb dX1_insert_191 (lv_at hl 4 rfl) ?_
              refine lv_iadd hx hb dX1_insert_193 ?_
              refine lv_iconst (v := 1) hx hb dX1_insert_194 (by decide) ?_
              refine ra_zast hx hb hK hP hD hS 6 1 rfl rfl (k := 40 * rp + n) (ra_x40 _ _) (by omega) (by decide) (f' := ra_zb (vp_updL fk rp (ra_or (fk rp) n))) (by rw [ra_nar1]; exact ra_zb_upd fk (by omega)) dX1_insert_195 (fun H locs hP hD hS => ?_)
              have hP : va_P (dC, dI) vwCl (ra_wM h q1 q2 q3 q4 q5 q6 q7 q8 q9 cI cZ n (upd fl n (ch &&& 255)) (va_up S n (C rp + 1)) (va_up O n rp) (va_up P n ((ra_sp (ra_sh fg rp) k (Xl rp)).1.getLastD 40)) (ra_abk AB n (ra_abF n ((ra_sp (ra_sh fg rp) k (Xl rp)).1.getLastD 40) AB) 40) (vp_updL fk rp (ra_or (fk rp) n)) fg (va_up C rp (C rp + 1)) fr1 od1) H := hP
              have hD : va_D A (ra_wM h q1 q2 q3 q4 q5 q6 q7 q8 q9 cI cZ n (upd fl n (ch &&& 255)) (va_up S n (C rp + 1)) (va_up O n rp) (va_up P n ((ra_sp (ra_sh fg rp) k (Xl rp)).1.getLastD 40)) (ra_abk AB n (ra_abF n ((ra_sp (ra_sh fg rp) k (Xl rp)).1.getLastD 40) AB) 40) (vp_updL fk rp (ra_or (fk rp) n)) fg (va_up C rp (C rp + 1)) fr1 od1) := hD
              refine lv_aload_n hx hb dX1_insert_196 rfl (lv_at hl 0 rfl) ?_
              refine lv_dup hx hb dX1_insert_197 rfl ?_
              refine va_get (D := (dC, dI)) (ci := 1) (v := .int (nI n)) (C := RX1) (T := TX1) (N := 11) hx hb hts in_X1 hown hK hP 0 rfl rfl 0 (by decide) (hts _ q145) (fun _ h9 => h9) rfl dX1_insert_198 ?_
              refine lv_iconst (v := 1) hx hb dX1_insert_201 (by decide) ?_
              refine lv_iadd hx hb dX1_insert_202 ?_
              refine ra_top (y := nI (n + 1)) (nI_1 _) ?_
              refine va_put (D := (dC, dI)) (ci := 1) (v := .int (nI (n + 1))) (ty := .int) (C := RX1) (T := TX1) (N := 11) hx hb hts in_X1 tyX1 tyX1_ok nmX1 hown hK hP hD hS 0 rfl rfl 0 (by decide) (hts _ q145) (fun _ h9 => h9) rfl (by decide +kernel) rfl rfl (Nat.le_of_ble_eq_true rfl) dX1_insert_203 (fun H locs hP hD hS => ?_)
              have hP : va_P (dC, dI) vwCl (ra_wM h q1 q2 q3 q4 q5 q6 q7 q8 q9 cI cZ (n + 1) (upd fl n (ch &&& 255)) (va_up S n (C rp + 1)) (va_up O n rp) (va_up P n ((ra_sp (ra_sh fg rp) k (Xl rp)).1.getLastD 40)) (ra_abk AB n (ra_abF n ((ra_sp (ra_sh fg rp) k (Xl rp)).1.getLastD 40) AB) 40) (vp_updL fk rp (ra_or (fk rp) n)) fg (va_up C rp (C rp + 1)) fr1 od1) H := hP
              have hD : va_D A (ra_wM h q1 q2 q3 q4 q5 q6 q7 q8 q9 cI cZ (n + 1) (upd fl n (ch &&& 255)) (va_up S n (C rp + 1)) (va_up O n rp) (va_up P n ((ra_sp (ra_sh fg rp) k (Xl rp)).1.getLastD 40)) (ra_abk AB n (ra_abF n ((ra_sp (ra_sh fg rp) k (Xl rp)).1.getLastD 40) AB) 40) (vp_updL fk rp (ra_or (fk rp) n)) fg (va_up C rp (C rp + 1)) fr1 od1) := hD
              refine lv_iload hx hb dX1_insert_206 (lv_at hl 4 rfl) ?_
              exact W.iret (v := nI n) hx hb hr (fun t ht hW => ⟨⟨_, (fr1, od1), rfl, rfl, by rw [ht]; exact hP, va_K.moved hW.alike hK, hD⟩, hS.F ht⟩) hS.2.2 dX1_insert_208
            have loop : ∀ (k2 i : Nat) (H : Heap) (locs : List Loc), i ≤ 40 → 41 ≤ i + k2 → va_P (dC, dI) vwCl (ra_wM h q1 q2 q3 q4 q5 q6 q7 q8 q9 cI cZ n fl S O (va_up P n ((ra_sp (ra_sh fg rp) k (Xl rp)).1.getLastD 40)) (ra_abk AB n (ra_abF n ((ra_sp (ra_sh fg rp) k (Xl rp)).1.getLastD 40) AB) i) fk fg C fr1 od1) H → va_D A (ra_wM h q1 q2 q3 q4 q5 q6 q7 q8 q9 cI cZ n fl S O (va_up P n ((ra_sp (ra_sh fg rp) k (Xl rp)).1.getLastD 40)) (ra_abk AB n (ra_abF n ((ra_sp (ra_sh fg rp) k (Xl rp)).1.getLastD 40) AB) i) fk fg C fr1 od1) → va_S A s.heap H locs → ∀ (ls : Array Slot), lv_has ls 6 [(5, .int (nI i)), (0, .ref h), (1, .int (nI rp)), (2, .int (nI k)), (3, .int ch), (4, .int (nI n))] → ra_WI p l e s m below meth c H locs (ws_ yX1_insert cX1_insert 6 (some .int)) ({ frames := 5, cells := 0, slots := 0, locals := 150 }) [.ref h, .int (nI rp), .int (nI k), .int ch] (fun z (u : (Nat → Int32) × Int32) => z = nI n) (fun u t => va_P (dC, dI) vwCl (ra_wM h q1 q2 q3 q4 q5 q6 q7 q8 q9 cI cZ (n + 1) (upd fl n (ch &&& 255)) (va_up S n (C rp + 1)) (va_up O n rp) (va_up P n ((ra_sp (ra_sh fg rp) k (Xl rp)).1.getLastD 40)) (ra_abk AB n (ra_abF n ((ra_sp (ra_sh fg rp) k (Xl rp)).1.getLastD 40) AB) 40) (vp_updL fk rp (ra_or (fk rp) n)) fg (va_up C rp (C rp + 1)) u.1 u.2) t.heap ∧ va_K (dC, dI) vwCl [(cI, .int), (cZ, .boolean)] t ∧ va_D A (ra_wM h q1 q2 q3 q4 q5 q6 q7 q8 q9 cI cZ (n + 1) (upd fl n (ch &&& 255)) (va_up S n (C rp + 1)) (va_up O n rp) (va_up P n ((ra_sp (ra_sh fg rp) k (Xl rp)).1.getLastD 40)) (ra_abk AB n (ra_abF n ((ra_sp (ra_sh fg rp) k (Xl rp)).1.getLastD 40) AB) 40) (vp_updL fk rp (ra_or (fk rp) n)) fg (va_up C rp (C rp + 1)) u.1 u.2)) A 71 ls [] := by
              intro k2
              induction k2 with
              | zero => intro i H locs h1 h2; exact absurd h2 (by omega)
              | succ k2 ih =>
                intro i H locs h1 h2 hP hD hS ls hl
                refine lv_iload hx hb dX1_insert_71 (lv_at hl 0 rfl) ?_
                refine lv_bipush (v := 40) hx hb dX1_insert_73 (by decide) ?_
                refine lv_icmp_ge (tgt := 140) hx hb dX1_insert_75 (by decide) (fun c_75 => ?_) (fun c_75 => ?_)
                · have hi : i = 40 := by
                    rcases Nat.lt_or_ge i 40 with q | q
                    · exact absurd c_75 (nI_ge (a := i) (b := 40) q (by decide))
                    · omega
                  subst hi
                  exact after H locs hP hD hS ls (lv_sub hl [1, 2, 3, 4, 5] rfl)
                · have hi : i < 40 := by
                    rcases Nat.lt_or_ge i 40 with q | q
                    · exact q
                    · exact absurd (nI_le (a := 40) (b := i) q (by omega)) c_75
                  refine lv_aload_n hx hb dX1_insert_78 rfl (lv_at hl 1 rfl) ?_
                  refine va_get (D := (dC, dI)) (ci := 1) (v := .ref q5) (C := RX1) (T := TX1) (N := 11) hx hb hts in_X1 hown hK hP 0 rfl rfl 5 (by decide) (hts _ q150) (fun _ h9 => h9) rfl dX1_insert_79 ?_
                  refine lv_iload hx hb dX1_insert_82 (lv_at hl 5 rfl) ?_
                  refine lv_bipush (v := 40) hx hb dX1_insert_84 (by decide) ?_
                  refine lv_imul hx hb dX1_insert_86 ?_
                  refine lv_iload hx hb dX1_insert_87 (lv_at hl 0 rfl) ?_
                  refine lv_iadd hx hb dX1_insert_89 ?_
                  refine lv_iload hx hb dX1_insert_90 (lv_at hl 0 rfl) ?_
                  refine lv_iload hx hb dX1_insert_92 (lv_at hl 5 rfl) ?_
                  refine lv_icmp_eq (tgt := 128) hx hb dX1_insert_94 (by decide) (fun c_94 => ?_) (fun c_94 => ?_)
                  · have hin : i = n := (nI_eq (by omega) (by omega)).mp c_94
                    refine lv_iconst (v := 1) hx hb dX1_insert_128 (by decide) ?_
                    refine lv_goto (tgt := 133) hx hb dX1_insert_129 (by decide) ?_
                    refine ra_zast hx hb hK hP hD hS 5 1 rfl rfl (k := 40 * n + i) (ra_x40 _ _) (by omega) (by decide) (f' := ra_zA (ra_abk AB n (ra_abF n ((ra_sp (ra_sh fg rp) k (Xl rp)).1.getLastD 40) AB) (i + 1))) (ra_abk_s hi (by rw [show (ra_abF n ((ra_sp (ra_sh fg rp) k (Xl rp)).1.getLastD 40) AB) i = _ from (show (decide (i = n) || _) = true by rw [decide_eq_true hin]; rfl)]; rfl)) dX1_insert_133 (fun H locs hP hD hS => ?_)
                    have hP : va_P (dC, dI) vwCl (ra_wM h q1 q2 q3 q4 q5 q6 q7 q8 q9 cI cZ n fl S O (va_up P n ((ra_sp (ra_sh fg rp) k (Xl rp)).1.getLastD 40)) (ra_abk AB n (ra_abF n ((ra_sp (ra_sh fg rp) k (Xl rp)).1.getLastD 40) AB) (i + 1)) fk fg C fr1 od1) H := hP
                    have hD : va_D A (ra_wM h q1 q2 q3 q4 q5 q6 q7 q8 q9 cI cZ n fl S O (va_up P n ((ra_sp (ra_sh fg rp) k (Xl rp)).1.getLastD 40)) (ra_abk AB n (ra_abF n ((ra_sp (ra_sh fg rp) k (Xl rp)).1.getLastD 40) AB) (i + 1)) fk fg C fr1 od1) := hD
                    refine lv_iinc (v := nI (i + 1)) (lv' := [(5, .int (nI (i + 1))), (0, .ref h), (1, .int (nI rp)), (2, .int (nI k)), (3, .int ch), (4, .int (nI n))]) hx hb dX1_insert_134 hl (k := 0) rfl (ra_inc _) (by decide) rfl (fun ls hl => ?_)
                    refine lv_goto (tgt := 71) hx hb dX1_insert_137 (by decide) ?_
                    exact ih (i + 1) H locs (by omega) (by omega) hP hD hS ls (lv_sub hl [0, 1, 2, 3, 4, 5] rfl)
                  · have hin : ¬ i = n := fun q => c_94 (by rw [q])
                    rcases hpn with hp4 | hpl
                    · refine lv_aload_n hx hb dX1_insert_97 rfl (lv_at hl 1 rfl) ?_
                      refine va_get (D := (dC, dI)) (ci := 1) (v := .ref q4) (C := RX1) (T := TX1) (N := 11) hx hb hts in_X1 hown hK hP 0 rfl rfl 4 (by decide) (hts _ q149) (fun _ h9 => h9) rfl dX1_insert_98 ?_
                      refine lv_iload hx hb dX1_insert_101 (lv_at hl 5 rfl) ?_
                      refine ra_iald hx hb hK hP 4 0 rfl rfl (k := n) rfl (by omega) (by decide) (v := (-5)) (by rw [ra_pm, ra_upS, if_pos hp4]) dX1_insert_103 ?_
                      refine lv_if_lt (tgt := 132) hx hb dX1_insert_104 (by decide) (fun c_104 => ?_) (fun c_104 => ?_)
                      · refine lv_iconst (v := 0) hx hb dX1_insert_132 (by decide) ?_
                        refine ra_zast hx hb hK hP hD hS 5 1 rfl rfl (k := 40 * n + i) (ra_x40 _ _) (by omega) (by decide) (f' := ra_zA (ra_abk AB n (ra_abF n ((ra_sp (ra_sh fg rp) k (Xl rp)).1.getLastD 40) AB) (i + 1))) (ra_abk_s hi (by rw [show (ra_abF n ((ra_sp (ra_sh fg rp) k (Xl rp)).1.getLastD 40) AB) i = _ from (show (decide (i = n) || (!decide (((ra_sp (ra_sh fg rp) k (Xl rp)).1.getLastD 40) = 40) && _)) = false by rw [decide_eq_false hin, decide_eq_true hp4]; rfl)]; rfl)) dX1_insert_133 (fun H locs hP hD hS => ?_)
                        have hP : va_P (dC, dI) vwCl (ra_wM h q1 q2 q3 q4 q5 q6 q7 q8 q9 cI cZ n fl S O (va_up P n ((ra_sp (ra_sh fg rp) k (Xl rp)).1.getLastD 40)) (ra_abk AB n (ra_abF n ((ra_sp (ra_sh fg rp) k (Xl rp)).1.getLastD 40) AB) (i + 1)) fk fg C fr1 od1) H := hP
                        have hD : va_D A (ra_wM h q1 q2 q3 q4 q5 q6 q7 q8 q9 cI cZ n fl S O (va_up P n ((ra_sp (ra_sh fg rp) k (Xl rp)).1.getLastD 40)) (ra_abk AB n (ra_abF n ((ra_sp (ra_sh fg rp) k (Xl rp)).1.getLastD 40) AB) (i + 1)) fk fg C fr1 od1) := hD
                        refine lv_iinc (v := nI (i + 1)) (lv' := [(5, .int (nI (i + 1))), (0, .ref h), (1, .int (nI rp)), (2, .int (nI k)), (3, .int ch), (4, .int (nI n))]) hx hb dX1_insert_134 hl (k := 0) rfl (ra_inc _) (by decide) rfl (fun ls hl => ?_)
                        refine lv_goto (tgt := 71) hx hb dX1_insert_137 (by decide) ?_
                        exact ih (i + 1) H locs (by omega) (by omega) hP hD hS ls (lv_sub hl [0, 1, 2, 3, 4, 5] rfl)
                      · exact absurd (by decide) c_104
                    · have hpm : ra_pm (va_up P n ((ra_sp (ra_sh fg rp) k (Xl rp)).1.getLastD 40)) n = nI ((ra_sp (ra_sh fg rp) k (Xl rp)).1.getLastD 40) := by rw [ra_pm, ra_upS, if_neg (by omega)]
                      refine lv_aload_n hx hb dX1_insert_97 rfl (lv_at hl 1 rfl) ?_
                      refine va_get (D := (dC, dI)) (ci := 1) (v := .ref q4) (C := RX1) (T := TX1) (N := 11) hx hb hts in_X1 hown hK hP 0 rfl rfl 4 (by decide) (hts _ q149) (fun _ h9 => h9) rfl dX1_insert_98 ?_
                      refine lv_iload hx hb dX1_insert_101 (lv_at hl 5 rfl) ?_
                      refine ra_iald hx hb hK hP 4 0 rfl rfl (k := n) rfl (by omega) (by decide) (v := nI ((ra_sp (ra_sh fg rp) k (Xl rp)).1.getLastD 40)) hpm dX1_insert_103 ?_
                      refine lv_if_lt (tgt := 132) hx hb dX1_insert_104 (by decide) (fun c_104 => ?_) (fun c_104 => ?_)
                      · exact absurd c_104 (nI_pos (by omega))
                      · refine lv_aload_n hx hb dX1_insert_107 rfl (lv_at hl 1 rfl) ?_
                        refine va_get (D := (dC, dI)) (ci := 1) (v := .ref q5) (C := RX1) (T := TX1) (N := 11) hx hb hts in_X1 hown hK hP 0 rfl rfl 5 (by decide) (hts _ q150) (fun _ h9 => h9) rfl dX1_insert_108 ?_
                        refine lv_aload_n hx hb dX1_insert_111 rfl (lv_at hl 1 rfl) ?_
                        refine va_get (D := (dC, dI)) (ci := 1) (v := .ref q4) (C := RX1) (T := TX1) (N := 11) hx hb hts in_X1 hown hK hP 0 rfl rfl 4 (by decide) (hts _ q149) (fun _ h9 => h9) rfl dX1_insert_112 ?_
                        refine lv_iload hx hb dX1_insert_115 (lv_at hl 5 rfl) ?_
                        refine ra_iald hx hb hK hP 4 0 rfl rfl (k := n) rfl (by omega) (by decide) (v := nI ((ra_sp (ra_sh fg rp) k (Xl rp)).1.getLastD 40)) hpm dX1_insert_117 ?_
                        refine lv_bipush (v := 40) hx hb dX1_insert_118 (by decide) ?_
                        refine lv_imul hx hb dX1_insert_120 ?_
                        refine lv_iload hx hb dX1_insert_121 (lv_at hl 0 rfl) ?_
                        refine lv_iadd hx hb dX1_insert_123 ?_
                        refine ra_zald hx hb hK hP 5 1 rfl rfl (k := 40 * ((ra_sp (ra_sh fg rp) k (Xl rp)).1.getLastD 40) + i) (ra_x40 _ _) (by omega) (by decide) (v := ra_b (AB ((ra_sp (ra_sh fg rp) k (Xl rp)).1.getLastD 40) i)) (by rw [ra_zA_at _ (by omega), ra_abk_ne (by omega)]) dX1_insert_124 ?_
                        refine lv_if_eq (tgt := 132) hx hb dX1_insert_125 (by decide) (fun c_125 => ?_) (fun c_125 => ?_)
                        · refine lv_iconst (v := 0) hx hb dX1_insert_132 (by decide) ?_
                          refine ra_zast hx hb hK hP hD hS 5 1 rfl rfl (k := 40 * n + i) (ra_x40 _ _) (by omega) (by decide) (f' := ra_zA (ra_abk AB n (ra_abF n ((ra_sp (ra_sh fg rp) k (Xl rp)).1.getLastD 40) AB) (i + 1))) (ra_abk_s hi (by rw [show (ra_abF n ((ra_sp (ra_sh fg rp) k (Xl rp)).1.getLastD 40) AB) i = _ from (show (decide (i = n) || (!decide (((ra_sp (ra_sh fg rp) k (Xl rp)).1.getLastD 40) = 40) && AB ((ra_sp (ra_sh fg rp) k (Xl rp)).1.getLastD 40) i)) = false by rw [decide_eq_false hin, (ra_b_eq _).mp c_125, Bool.and_false]; rfl)]; rfl)) dX1_insert_133 (fun H locs hP hD hS => ?_)
                          have hP : va_P (dC, dI) vwCl (ra_wM h q1 q2 q3 q4 q5 q6 q7 q8 q9 cI cZ n fl S O (va_up P n ((ra_sp (ra_sh fg rp) k (Xl rp)).1.getLastD 40)) (ra_abk AB n (ra_abF n ((ra_sp (ra_sh fg rp) k (Xl rp)).1.getLastD 40) AB) (i + 1)) fk fg C fr1 od1) H := hP
                          have hD : va_D A (ra_wM h q1 q2 q3 q4 q5 q6 q7 q8 q9 cI cZ n fl S O (va_up P n ((ra_sp (ra_sh fg rp) k (Xl rp)).1.getLastD 40)) (ra_abk AB n (ra_abF n ((ra_sp (ra_sh fg rp) k (Xl rp)).1.getLastD 40) AB) (i + 1)) fk fg C fr1 od1) := hD
                          refine lv_iinc (v := nI (i + 1)) (lv' := [(5, .int (nI (i + 1))), (0, .ref h), (1, .int (nI rp)), (2, .int (nI k)), (3, .int ch), (4, .int (nI n))]) hx hb dX1_insert_134 hl (k := 0) rfl (ra_inc _) (by decide) rfl (fun ls hl => ?_)
                          refine lv_goto (tgt := 71) hx hb dX1_insert_137 (by decide) ?_
                          exact ih (i + 1) H locs (by omega) (by omega) hP hD hS ls (lv_sub hl [0, 1, 2, 3, 4, 5] rfl)
                        · refine lv_iconst (v := 1) hx hb dX1_insert_128 (by decide) ?_
                          refine lv_goto (tgt := 133) hx hb dX1_insert_129 (by decide) ?_
                          refine ra_zast hx hb hK hP hD hS 5 1 rfl rfl (k := 40 * n + i) (ra_x40 _ _) (by omega) (by decide) (f' := ra_zA (ra_abk AB n (ra_abF n ((ra_sp (ra_sh fg rp) k (Xl rp)).1.getLastD 40) AB) (i + 1))) (ra_abk_s hi (by rw [show (ra_abF n ((ra_sp (ra_sh fg rp) k (Xl rp)).1.getLastD 40) AB) i = _ from (show (decide (i = n) || (!decide (((ra_sp (ra_sh fg rp) k (Xl rp)).1.getLastD 40) = 40) && AB ((ra_sp (ra_sh fg rp) k (Xl rp)).1.getLastD 40) i)) = true by rw [(ra_b_ne _).mp c_125, decide_eq_false (show ¬ ((ra_sp (ra_sh fg rp) k (Xl rp)).1.getLastD 40) = 40 by omega), decide_eq_false hin]; rfl)]; rfl)) dX1_insert_133 (fun H locs hP hD hS => ?_)
                          have hP : va_P (dC, dI) vwCl (ra_wM h q1 q2 q3 q4 q5 q6 q7 q8 q9 cI cZ n fl S O (va_up P n ((ra_sp (ra_sh fg rp) k (Xl rp)).1.getLastD 40)) (ra_abk AB n (ra_abF n ((ra_sp (ra_sh fg rp) k (Xl rp)).1.getLastD 40) AB) (i + 1)) fk fg C fr1 od1) H := hP
                          have hD : va_D A (ra_wM h q1 q2 q3 q4 q5 q6 q7 q8 q9 cI cZ n fl S O (va_up P n ((ra_sp (ra_sh fg rp) k (Xl rp)).1.getLastD 40)) (ra_abk AB n (ra_abF n ((ra_sp (ra_sh fg rp) k (Xl rp)).1.getLastD 40) AB) (i + 1)) fk fg C fr1 od1) := hD
                          refine lv_iinc (v := nI (i + 1)) (lv' := [(5, .int (nI (i + 1))), (0, .ref h), (1, .int (nI rp)), (2, .int (nI k)), (3, .int ch), (4, .int (nI n))]) hx hb dX1_insert_134 hl (k := 0) rfl (ra_inc _) (by decide) rfl (fun ls hl => ?_)
                          refine lv_goto (tgt := 71) hx hb dX1_insert_137 (by decide) ?_
                          exact ih (i + 1) H locs (by omega) (by omega) hP hD hS ls (lv_sub hl [0, 1, 2, 3, 4, 5] rfl)
            exact loop 41 0 H locs (by omega) (by omega) hP hD hS ls (lv_sub hl [0, 2, 3, 4, 5, 1] rfl)
          refine lv_if_ne (tgt := 59) hx hb dX1_insert_51 (by decide) (fun c_51 => ?_) (fun c_51 => ?_)
          · refine lv_aload_n hx hb dX1_insert_59 rfl (lv_at hl 1 rfl) ?_
            refine lv_iload_n hx hb dX1_insert_60 rfl (lv_at hl 2 rfl) ?_
            refine lv_iload_n hx hb dX1_insert_61 rfl (lv_at hl 3 rfl) ?_
            refine lv_iconst (v := 1) hx hb dX1_insert_62 (by decide) ?_
            refine lv_isub hx hb dX1_insert_63 ?_
            refine ra_cVi (Cn := RX1) (wf := fun (u : (Nat → Int32) × Int32) => (ra_wM h q1 q2 q3 q4 q5 q6 q7 q8 q9 cI cZ n fl S O P AB fk fg C u.1 u.2)) ⟨hx, hb, hml, hown, hts⟩ [.int (nI rp), .int ((nI k) - 1)] [.int (nI n), .ref q4] (mm_elementAt l s.heap.size (nI rp) (nI k - 1) hI hAB) (cwV 2 hts (lw_V q200 q201 q202 q18 q203) rfl rfl rfl (by decide +kernel) ⟨Nat.le_of_ble_eq_true rfl, Nat.le_of_ble_eq_true rfl⟩) hP hK hD hS hA (va_recv hK hP (ci := 1) (q0 := 0) rfl rfl) rfl hl.1 rfl (Nat.le_of_ble_eq_true rfl) dX1_insert_64 ⟨Nat.le_of_ble_eq_true rfl, Nat.le_of_ble_eq_true rfl⟩ (fun z3 u H locs hz3 hP hD hS => ?_)
            obtain ⟨fr1, od1⟩ := u
            have hP : va_P (dC, dI) vwCl (ra_wM h q1 q2 q3 q4 q5 q6 q7 q8 q9 cI cZ n fl S O P AB fk fg C fr1 od1) H := hP
            have hD : va_D A (ra_wM h q1 q2 q3 q4 q5 q6 q7 q8 q9 cI cZ n fl S O P AB fk fg C fr1 od1) := hD
            rw [ra_rp_ok hr3] at hz3
            rcases hat with ⟨-, -, q⟩ | ⟨-, q1, -, q2⟩
            · exact absurd (by rw [q]; rfl) c_51
            · rw [q2] at hz3
              exact tail _ fr1 od1 _ _ (by rw [if_neg (by have := ((hmem _).mp q1).1; omega)]; exact hz3) hP hD hS
          · have hk0 : k = 0 := by
              rw [← nI_0, nI_eq (by omega) (by decide)] at c_51
              exact c_51
            rcases hat with ⟨-, q, -⟩ | ⟨-, -, q, -⟩
            · refine lv_bipush (v := (-5)) hx hb dX1_insert_54 (by decide) ?_
              refine lv_goto (tgt := 67) hx hb dX1_insert_56 (by decide) ?_
              exact tail _ fr od _ _ (by rw [q]; rfl) hP hD hS
            · exact absurd hk0 q
        · exact absurd ((nI_eq (a := n) (b := 40) (by omega) (by decide)).mp c_32) (by omega)
      · exact absurd (nI_le hk (by omega)) c_20
  · rcases hz with ⟨-, q⟩ | ⟨q, -⟩
    · exact absurd q (ra_bad_no hr3)
    · exact absurd (q ▸ c_5) (by decide)
end MM
end
section
set_option maxRecDepth 100000
section MM
variable (l : Launch) {dC : Nat → ClassId} {dI : Nat → Nat → Nat} {h q1 q2 q3 q4 q5 q6 q7 q8 q9 : Nat} {cI cZ : ClassId} {n : Nat} {fl : Nat → Int32} {S O P : Nat → Nat} {AB : Nat → Nat → Bool} {fk fg : Nat → Int64} {C : Nat → Nat} {fr : Nat → Int32} {od : Int32}
set_option maxHeartbeats 4000000 in
set_option maxRecDepth 100000 in
/-- sameText(r, r2) -/
theorem mm_sameText (sz : Nat) (r r2 : Int32) {Xl : Nat → List Nat} (hI : ra_inv n S O P C fk fg Xl) (hAB : ra_ab n P AB) : Met l yX1_sameText (ws_ yX1_sameText cX1_sameText 4 (some .boolean)) ({ frames := 6, cells := 0, slots := 0, locals := 180 }) (va_Pc [.ref h, .int r, .int r2] (fun U => U.heap.size = sz ∧ va_P (dC, dI) vwCl (ra_wM h q1 q2 q3 q4 q5 q6 q7 q8 q9 cI cZ n fl S O P AB fk fg C fr od) U.heap ∧ va_K (dC, dI) vwCl [(cI, .int), (cZ, .boolean)] U ∧ va_D (fun _ => True) (ra_wM h q1 q2 q3 q4 q5 q6 q7 q8 q9 cI cZ n fl S O P AB fk fg C fr od))) (va_Qi (fun z (u : (Nat → Int32) × Int32) => z = if (r < 0 ∨ 2 < r) ∨ (r2 < 0 ∨ 2 < r2) then 0 else ra_b (decide (ra_tx fl (ra_sh fg r.toNatClampNeg) (Xl r.toNatClampNeg) = ra_tx fl (ra_sh fg r2.toNatClampNeg) (Xl r2.toNatClampNeg)))) (fun u t => va_P (dC, dI) vwCl (ra_wM h q1 q2 q3 q4 q5 q6 q7 q8 q9 cI cZ n fl S O P AB fk fg C u.1 u.2) t.heap ∧ va_K (dC, dI) vwCl [(cI, .int), (cZ, .boolean)] t ∧ va_D (va_A (ra_wM h q1 q2 q3 q4 q5 q6 q7 q8 q9 cI cZ n fl S O P AB fk fg C fr od) sz) (ra_wM h q1 q2 q3 q4 q5 q6 q7 q8 q9 cI cZ n fl S O P AB fk fg C u.1 u.2)) (va_A (ra_wM h q1 q2 q3 q4 q5 q6 q7 q8 q9 cI cZ n fl S O P AB fk fg C fr od) sz)) 0 0 (va_A (ra_wM h q1 q2 q3 q4 q5 q6 q7 q8 q9 cI cZ n fl S O P AB fk fg C fr od) sz) := by
  refine Met.ofW (cc := cX1_sameText) (maxL := 4) (ret := some .boolean) (by decide) rfl ?_
  intro p e s m args below meth c s₁ B hml hv
  obtain ⟨rfl, hsz, hP, hK, hD0⟩ := hv
  have hx := B.exec
  have hb := B.bytes
  have hr := B.returns
  have hts := atoms_spec (ws := (ws_ yX1_sameText cX1_sameText 4 (some .boolean))) B.pre
  have hts : ∀ w ∈ lw_all, w.before _ s = true := fun w h => hts w (List.mem_cons_of_mem _ h)
  have hown : s.vm.findClass RX1 = some m.cls := findClass_of_methodNamed B.named
  have hlocks := B.notSynchronized
  subst hsz
  have hD := hD0.self (sz := s.heap.size)
  generalize hAe : va_A (ra_wM h q1 q2 q3 q4 q5 q6 q7 q8 q9 cI cZ n fl S O P AB fk fg C fr od) s.heap.size = A at hD ⊢
  have hA : ∀ q : Nat, s.heap.size ≤ q → A q := fun q h => by rw [← hAe]; exact Or.inr h
  have hS : va_S A s.heap s.heap [] := va_S.rf
  have hP : va_P (dC, dI) vwCl (ra_wM h q1 q2 q3 q4 q5 q6 q7 q8 q9 cI cZ n fl S O P AB fk fg C fr od) s.heap := hP
  have hl := lv_entry ([.ref h, .int r, .int r2]) (n := 4) (Nat.le_of_ble_eq_true rfl)
  rw [lg_entry_eq]
  generalize (lg_sl ([.ref h, .int r, .int r2]) ++ List.replicate (4 - (lg_sl ([.ref h, .int r, .int r2])).length) Slot.unset).toArray = ls at hl ⊢
  have hl : lv_has ls 4 [(0, .ref h), (1, .int r), (2, .int r2)] := hl
  have hn : n ≤ 40 := hI.1.1
  have hSO : ∀ k, S k ≤ 40 ∧ O k < 3 := fun k => ⟨Nat.le_trans (hI.1.2.1 k).1 hn, (hI.1.2.1 k).2⟩
  have hpar : ∀ k, k < n → P k = 40 ∨ P k < k := fun k hk => (hI.1.2.2.1 k hk).elim Or.inl (fun q => Or.inr q.1)
  refine lv_aload_n hx hb dX1_sameText_0 rfl (lv_at hl 0 rfl) ?_
  refine lv_iload_n hx hb dX1_sameText_1 rfl (lv_at hl 1 rfl) ?_
  refine ra_cV (Cn := RX1) ⟨hx, hb, hml, hown, hts⟩ [.int r] [] (mm_isReplica l r) (cwV 1 hts (lw_V q184 q186 qs9 q18 q187) rfl rfl rfl (by decide +kernel) ⟨Nat.le_of_ble_eq_true rfl, Nat.le_of_ble_eq_true rfl⟩) hP hK (va_recv hK hP (ci := 1) (q0 := 0) rfl rfl) rfl hl.1 rfl (Nat.le_of_ble_eq_true rfl) dX1_sameText_2 ⟨Nat.le_of_ble_eq_true rfl, Nat.le_of_ble_eq_true rfl⟩ (fun z hz => ?_)
  refine lv_if_eq (tgt := 29) hx hb dX1_sameText_5 (by decide) (fun c_5 => ?_) (fun c_5 => ?_)
  · have hbd : r < 0 ∨ 2 < r := by
      rcases hz with ⟨-, q⟩ | ⟨q, -⟩
      · exact q
      · exact absurd (q ▸ c_5) (by decide)
    refine lv_iconst (v := 0) hx hb dX1_sameText_29 (by decide) ?_
    exact W.zret (v := 0) hx hb hr rfl (fun t ht hW => ⟨⟨_, (fr, od), rfl, (if_pos (Or.inl hbd)).symm, by rw [ht]; exact hP, va_K.moved hW.alike hK, hD⟩, hS.F ht⟩) hS.2.2 dX1_sameText_30
  · obtain ⟨rp, hr3, rfl⟩ : ∃ k, k < 3 ∧ r = nI k := by
      rcases hz with ⟨q, -⟩ | ⟨-, q⟩
      · exact absurd q c_5
      · exact q
    refine lv_aload_n hx hb dX1_sameText_8 rfl (lv_at hl 0 rfl) ?_
    refine lv_iload_n hx hb dX1_sameText_9 rfl (lv_at hl 2 rfl) ?_
    refine ra_cV (Cn := RX1) ⟨hx, hb, hml, hown, hts⟩ [.int r2] [] (mm_isReplica l r2) (cwV 1 hts (lw_V q184 q186 qs9 q18 q187) rfl rfl rfl (by decide +kernel) ⟨Nat.le_of_ble_eq_true rfl, Nat.le_of_ble_eq_true rfl⟩) hP hK (va_recv hK hP (ci := 1) (q0 := 0) rfl rfl) rfl hl.1 rfl (Nat.le_of_ble_eq_true rfl) dX1_sameText_10 ⟨Nat.le_of_ble_eq_true rfl, Nat.le_of_ble_eq_true rfl⟩ (fun z2 hz2 => ?_)
    refine lv_if_eq (tgt := 29) hx hb dX1_sameText_13 (by decide) (fun c_13 => ?_) (fun c_13 => ?_)
    · have hbd : r2 < 0 ∨ 2 < r2 := by
        rcases hz2 with ⟨-, q⟩ | ⟨q, -⟩
        · exact q
        · exact absurd (q ▸ c_13) (by decide)
      refine lv_iconst (v := 0) hx hb dX1_sameText_29 (by decide) ?_
      exact W.zret (v := 0) hx hb hr rfl (fun t ht hW => ⟨⟨_, (fr, od), rfl, (if_pos (Or.inr hbd)).symm, by rw [ht]; exact hP, va_K.moved hW.alike hK, hD⟩, hS.F ht⟩) hS.2.2 dX1_sameText_30
    · obtain ⟨rq, hq3, rfl⟩ : ∃ k, k < 3 ∧ r2 = nI k := by
        rcases hz2 with ⟨q, -⟩ | ⟨-, q⟩
        · exact absurd q c_13
        · exact q
      rw [if_neg (fun q => q.elim (ra_bad_no hr3) (ra_bad_no hq3)), nI_clamp (n := rp) (by omega), nI_clamp (n := rq) (by omega)]
      have hA1 := ra_inv_cnt hI hr3
      have hA2 := ra_inv_cnt hI hq3
      have hcl1 := ra_cn_le (ra_kf fk fg rp) n
      have hcl2 := ra_cn_le (ra_kf fk fg rq) n
      refine lv_aload_n hx hb dX1_sameText_16 rfl (lv_at hl 0 rfl) ?_
      refine lv_iload_n hx hb dX1_sameText_17 rfl (lv_at hl 1 rfl) ?_
      refine ra_cV (Cn := RX1) ⟨hx, hb, hml, hown, hts⟩ [.int (nI rp)] [] (mm_length l (nI rp) hn) (cwV 1 hts (lw_V q188 q189 q190 q18 q191) rfl rfl rfl (by decide +kernel) ⟨Nat.le_of_ble_eq_true rfl, Nat.le_of_ble_eq_true rfl⟩) hP hK (va_recv hK hP (ci := 1) (q0 := 0) rfl rfl) rfl hl.1 rfl (Nat.le_of_ble_eq_true rfl) dX1_sameText_18 ⟨Nat.le_of_ble_eq_true rfl, Nat.le_of_ble_eq_true rfl⟩ (fun z3 hz3 => ?_)
      rw [ra_rp_ok hr3] at hz3
      subst hz3
      refine lv_aload_n hx hb dX1_sameText_21 rfl (lv_at hl 0 rfl) ?_
      refine lv_iload_n hx hb dX1_sameText_22 rfl (lv_at hl 2 rfl) ?_
      refine ra_cV (Cn := RX1) ⟨hx, hb, hml, hown, hts⟩ [.int (nI rq)] [.int (nI (ra_cn (ra_kf fk fg rp) n))] (mm_length l (nI rq) hn) (cwV 1 hts (lw_V q188 q189 q190 q18 q191) rfl rfl rfl (by decide +kernel) ⟨Nat.le_of_ble_eq_true rfl, Nat.le_of_ble_eq_true rfl⟩) hP hK (va_recv hK hP (ci := 1) (q0 := 0) rfl rfl) rfl hl.1 rfl (Nat.le_of_ble_eq_true rfl) dX1_sameText_23 ⟨Nat.le_of_ble_eq_true rfl, Nat.le_of_ble_eq_true rfl⟩ (fun z4 hz4 => ?_)
      rw [ra_rp_ok hq3] at hz4
      subst hz4
      refine lv_icmp_eq (tgt := 31) hx hb dX1_sameText_26 (by decide) (fun c_26 => ?_) (fun c_26 => ?_)
      · have hAB2 : ra_cn (ra_kf fk fg rp) n = ra_cn (ra_kf fk fg rq) n := (nI_eq (by omega) (by omega)).mp c_26
        refine lv_iconst (v := 0) hx hb dX1_sameText_31 (by decide) ?_
        refine lv_istore_n (lv' := [(3, .int 0), (0, .ref h), (1, .int (nI rp)), (2, .int (nI rq))]) hx hb dX1_sameText_32 rfl hl (by decide) rfl (fun ls hl => ?_)
        have loop : ∀ (k i : Nat) (fr1 : Nat → Int32) (od1 : Int32) (H : Heap) (locs : List Loc), i ≤ ra_cn (ra_kf fk fg rp) n → ra_cn (ra_kf fk fg rp) n + 1 ≤ i + k → (∀ j, j < i → ra_lt fl (-5) (ra_nth (ra_sh fg rp) (Xl rp) j) = ra_lt fl (-5) (ra_nth (ra_sh fg rq) (Xl rq) j)) → va_P (dC, dI) vwCl (ra_wM h q1 q2 q3 q4 q5 q6 q7 q8 q9 cI cZ n fl S O P AB fk fg C fr1 od1) H → va_D A (ra_wM h q1 q2 q3 q4 q5 q6 q7 q8 q9 cI cZ n fl S O P AB fk fg C fr1 od1) → va_S A s.heap H locs → ∀ (ls : Array Slot), lv_has ls 4 [(3, .int (nI i)), (0, .ref h), (1, .int (nI rp)), (2, .int (nI rq))] → ra_WI p l e s m below meth c H locs (ws_ yX1_sameText cX1_sameText 4 (some .boolean)) ({ frames := 6, cells := 0, slots := 0, locals := 180 }) [.ref h, .int (nI rp), .int (nI rq)] (fun z (u : (Nat → Int32) × Int32) => z = ra_b (decide (ra_tx fl (ra_sh fg rp) (Xl rp) = ra_tx fl (ra_sh fg rq) (Xl rq)))) (fun u t => va_P (dC, dI) vwCl (ra_wM h q1 q2 q3 q4 q5 q6 q7 q8 q9 cI cZ n fl S O P AB fk fg C u.1 u.2) t.heap ∧ va_K (dC, dI) vwCl [(cI, .int), (cZ, .boolean)] t ∧ va_D A (ra_wM h q1 q2 q3 q4 q5 q6 q7 q8 q9 cI cZ n fl S O P AB fk fg C u.1 u.2)) A 33 ls [] := by
          intro k
          induction k with
          | zero => intro i fr1 od1 H locs h1 h2; exact absurd h2 (by omega)
          | succ k ih =>
            intro i fr1 od1 H locs h1 h2 hT hP hD hS ls hl
            refine lv_iload_n hx hb dX1_sameText_33 rfl (lv_at hl 0 rfl) ?_
            refine lv_aload_n hx hb dX1_sameText_34 rfl (lv_at hl 1 rfl) ?_
            refine lv_iload_n hx hb dX1_sameText_35 rfl (lv_at hl 2 rfl) ?_
            refine ra_cV (Cn := RX1) ⟨hx, hb, hml, hown, hts⟩ [.int (nI rp)] [.int (nI i)] (mm_length l (nI rp) hn) (cwV 1 hts (lw_V q188 q189 q190 q18 q191) rfl rfl rfl (by decide +kernel) ⟨Nat.le_of_ble_eq_true rfl, Nat.le_of_ble_eq_true rfl⟩) hP hK (va_recv hK hP (ci := 1) (q0 := 0) rfl rfl) rfl hl.1 rfl (Nat.le_of_ble_eq_true rfl) dX1_sameText_36 ⟨Nat.le_of_ble_eq_true rfl, Nat.le_of_ble_eq_true rfl⟩ (fun z5 hz5 => ?_)
            rw [ra_rp_ok hr3] at hz5
            subst hz5
            refine lv_icmp_ge (tgt := 65) hx hb dX1_sameText_39 (by decide) (fun c_39 => ?_) (fun c_39 => ?_)
            · have hi : i = ra_cn (ra_kf fk fg rp) n := by rw [nI_leI (by omega) (by omega)] at c_39; omega
              refine lv_iconst (v := 1) hx hb dX1_sameText_65 (by decide) ?_
              exact W.zret (v := 1) hx hb hr rfl (fun t ht hW => ⟨⟨_, (fr1, od1), rfl, by rw [decide_eq_true (ra_tx_eq (by rw [hA1, hA2]; exact hAB2) (fun j hj => hT j (by rw [hA1] at hj; omega)))]; rfl, by rw [ht]; exact hP, va_K.moved hW.alike hK, hD⟩, hS.F ht⟩) hS.2.2 dX1_sameText_66
            · have hi : i < ra_cn (ra_kf fk fg rp) n := by rw [nI_leI (by omega) (by omega)] at c_39; omega
              refine lv_aload_n hx hb dX1_sameText_42 rfl (lv_at hl 1 rfl) ?_
              refine lv_iload_n hx hb dX1_sameText_43 rfl (lv_at hl 2 rfl) ?_
              refine lv_iload_n hx hb dX1_sameText_44 rfl (lv_at hl 0 rfl) ?_
              refine ra_cVi (Cn := RX1) (wf := fun (u : (Nat → Int32) × Int32) => (ra_wM h q1 q2 q3 q4 q5 q6 q7 q8 q9 cI cZ n fl S O P AB fk fg C u.1 u.2)) ⟨hx, hb, hml, hown, hts⟩ [.int (nI rp), .int (nI i)] [] (mm_charAt l H.size (nI rp) (nI i) hI hAB) (cwV 2 hts (lw_V q250 q230 q231 q18 q232) rfl rfl rfl (by decide +kernel) ⟨Nat.le_of_ble_eq_true rfl, Nat.le_of_ble_eq_true rfl⟩) hP hK hD hS hA (va_recv hK hP (ci := 1) (q0 := 0) rfl rfl) rfl hl.1 rfl (Nat.le_of_ble_eq_true rfl) dX1_sameText_45 ⟨Nat.le_of_ble_eq_true rfl, Nat.le_of_ble_eq_true rfl⟩ (fun z6 u H locs hz6 hP hD hS => ?_)
              rw [ra_rp_ok hr3, ra_at_nI (by omega)] at hz6
              subst hz6
              obtain ⟨fr1, od1⟩ := u
              have hP : va_P (dC, dI) vwCl (ra_wM h q1 q2 q3 q4 q5 q6 q7 q8 q9 cI cZ n fl S O P AB fk fg C fr1 od1) H := hP
              have hD : va_D A (ra_wM h q1 q2 q3 q4 q5 q6 q7 q8 q9 cI cZ n fl S O P AB fk fg C fr1 od1) := hD
              refine lv_aload_n hx hb dX1_sameText_48 rfl (lv_at hl 1 rfl) ?_
              refine lv_iload_n hx hb dX1_sameText_49 rfl (lv_at hl 3 rfl) ?_
              refine lv_iload_n hx hb dX1_sameText_50 rfl (lv_at hl 0 rfl) ?_
              refine ra_cVi (Cn := RX1) (wf := fun (u : (Nat → Int32) × Int32) => (ra_wM h q1 q2 q3 q4 q5 q6 q7 q8 q9 cI cZ n fl S O P AB fk fg C u.1 u.2)) ⟨hx, hb, hml, hown, hts⟩ [.int (nI rq), .int (nI i)] [.int (ra_lt fl (-5) (ra_nth (ra_sh fg rp) (Xl rp) i))] (mm_charAt l H.size (nI rq) (nI i) hI hAB) (cwV 2 hts (lw_V q250 q230 q231 q18 q232) rfl rfl rfl (by decide +kernel) ⟨Nat.le_of_ble_eq_true rfl, Nat.le_of_ble_eq_true rfl⟩) hP hK hD hS hA (va_recv hK hP (ci := 1) (q0 := 0) rfl rfl) rfl hl.1 rfl (Nat.le_of_ble_eq_true rfl) dX1_sameText_51 ⟨Nat.le_of_ble_eq_true rfl, Nat.le_of_ble_eq_true rfl⟩ (fun z7 u H locs hz7 hP hD hS => ?_)
              rw [ra_rp_ok hq3, ra_at_nI (by omega)] at hz7
              subst hz7
              obtain ⟨fr1, od1⟩ := u
              have hP : va_P (dC, dI) vwCl (ra_wM h q1 q2 q3 q4 q5 q6 q7 q8 q9 cI cZ n fl S O P AB fk fg C fr1 od1) H := hP
              have hD : va_D A (ra_wM h q1 q2 q3 q4 q5 q6 q7 q8 q9 cI cZ n fl S O P AB fk fg C fr1 od1) := hD
              refine lv_icmp_eq (tgt := 59) hx hb dX1_sameText_54 (by decide) (fun c_54 => ?_) (fun c_54 => ?_)
              · refine lv_iinc (v := nI (i + 1)) (lv' := [(3, .int (nI (i + 1))), (0, .ref h), (1, .int (nI rp)), (2, .int (nI rq))]) hx hb dX1_sameText_59 hl (k := 0) rfl (ra_inc _) (by decide) rfl (fun ls hl => ?_)
                refine lv_goto (tgt := 33) hx hb dX1_sameText_62 (by decide) ?_
                exact ih (i + 1) fr1 od1 H locs (by omega) (by omega) (fun j hj => by
                  by_cases e : j = i
                  · rw [e]; exact c_54
                  · exact hT j (by omega)) hP hD hS ls (lv_sub hl [0, 1, 2, 3] rfl)
              · refine lv_iconst (v := 0) hx hb dX1_sameText_57 (by decide) ?_
                exact W.zret (v := 0) hx hb hr rfl (fun t ht hW => ⟨⟨_, (fr1, od1), rfl, by rw [decide_eq_false (ra_tx_ne c_54)]; rfl, by rw [ht]; exact hP, va_K.moved hW.alike hK, hD⟩, hS.F ht⟩) hS.2.2 dX1_sameText_58
        exact loop (ra_cn (ra_kf fk fg rp) n + 1) 0 fr od s.heap [] (Nat.zero_le _) (by omega) (fun j hj => absurd hj (Nat.not_lt_zero _)) hP hD hS ls (lv_sub hl [0, 1, 2, 3] rfl)
      · refine lv_iconst (v := 0) hx hb dX1_sameText_29 (by decide) ?_
        exact W.zret (v := 0) hx hb hr rfl (fun t ht hW => ⟨⟨_, (fr, od), rfl, by rw [decide_eq_false (ra_tx_len (by rw [hA1, hA2]; exact fun q => c_26 (by rw [q])))]; rfl, by rw [ht]; exact hP, va_K.moved hW.alike hK, hD⟩, hS.F ht⟩) hS.2.2 dX1_sameText_30
end MM
end
section
set_option maxRecDepth 100000
theorem ra_oneC_int {D : va_G} {cl : List vw_C} {tys : List (ClassId × FieldType)} {U : State} (hK : va_K D cl tys U) {i j : Nat} {c c2 : ClassId} (hi : tys[i]? = some (c, .int)) (hj : tys[j]? = some (c2, .int)) : c2 = c := by
  have h1 : U.vm.findClass ("[" ++ FieldType.int.toString) = some c := (hK.2 i _ hi).2
  have h2 : U.vm.findClass ("[" ++ FieldType.int.toString) = some c2 := (hK.2 j _ hj).2
  exact Option.some.inj (h2.symm.trans h1)
theorem ra_oneC_long {D : va_G} {cl : List vw_C} {tys : List (ClassId × FieldType)} {U : State} (hK : va_K D cl tys U) {i j : Nat} {c c2 : ClassId} (hi : tys[i]? = some (c, .long)) (hj : tys[j]? = some (c2, .long)) : c2 = c := by
  have h1 : U.vm.findClass ("[" ++ FieldType.long.toString) = some c := (hK.2 i _ hi).2
  have h2 : U.vm.findClass ("[" ++ FieldType.long.toString) = some c2 := (hK.2 j _ hj).2
  exact Option.some.inj (h2.symm.trans h1)
theorem ra_oneC_boolean {D : va_G} {cl : List vw_C} {tys : List (ClassId × FieldType)} {U : State} (hK : va_K D cl tys U) {i j : Nat} {c c2 : ClassId} (hi : tys[i]? = some (c, .boolean)) (hj : tys[j]? = some (c2, .boolean)) : c2 = c := by
  have h1 : U.vm.findClass ("[" ++ FieldType.boolean.toString) = some c := (hK.2 i _ hi).2
  have h2 : U.vm.findClass ("[" ++ FieldType.boolean.toString) = some c2 := (hK.2 j _ hj).2
  exact Option.some.inj (h2.symm.trans h1)
theorem ra_pm_0 : ra_pm (fun _ => 0) = fun _ => 0 := by
  funext j
  unfold ra_pm
  rw [if_neg (show ¬ (0 : Nat) = 40 by decide)]
  rfl
theorem ra_zA_0 : ra_zA (fun _ _ => false) = fun _ => 0 := rfl
theorem ra_zb_0 : ra_zb (fun _ => 0) = fun _ => 0 := by
  funext j
  unfold ra_zb
  rw [ra_bt_0]
  rfl
set_option maxHeartbeats 4000000 in
set_option maxRecDepth 100000 in
/-- RgaText() -/
theorem mx_init (l : Launch) {dC : Nat → ClassId} {dI : Nat → Nat → Nat} (h sz : Nat) : Met l yX0_init (ws_ yX0_init cX0_init 2 none) ({ frames := 1, cells := 8, slots := 292, locals := 30 }) (va_Pc [.ref h] (fun U => U.heap.size = sz ∧ va_P (dC, dI) vwCl [(h, .inr (0, [.int 0, .null, .null, .null, .null, .null, .null, .null, .null]))] U.heap ∧ va_K (dC, dI) vwCl [] U ∧ va_D (fun _ => True) [(h, .inr (0, [.int 0, .null, .null, .null, .null, .null, .null, .null, .null]))])) (va_Qv (fun (u : Nat → Int32) => ∀ j, j < 123 → u j = -1) (fun u t => ∃ q1 q2 q3 q4 q5 q6 q7 q8 cI cL, va_P (dC, dI) vwCl (ra_wX h q1 q2 q3 q4 q5 q6 q7 q8 cI cL 0 (fun _ => 0) (fun _ => 0) (fun _ => 0) (fun _ => 0) (fun _ => 0) (fun _ => 0) (fun _ => 0) u) t.heap ∧ va_K (dC, dI) vwCl [(cI, .int), (cL, .long)] t ∧ va_D (va_A [(h, .inr (0, [.int 0, .null, .null, .null, .null, .null, .null, .null, .null]))] sz) (ra_wX h q1 q2 q3 q4 q5 q6 q7 q8 cI cL 0 (fun _ => 0) (fun _ => 0) (fun _ => 0) (fun _ => 0) (fun _ => 0) (fun _ => 0) (fun _ => 0) u)) (va_A [(h, .inr (0, [.int 0, .null, .null, .null, .null, .null, .null, .null, .null]))] sz)) 8 292 (va_A [(h, .inr (0, [.int 0, .null, .null, .null, .null, .null, .null, .null, .null]))] sz) := by
  refine Met.ofW (cc := cX0_init) (maxL := 2) (ret := none) (by decide) rfl ?_
  intro p e s m args below meth c s₁ B hml hv
  obtain ⟨rfl, hsz, hP, hK, hD0⟩ := hv
  have hx := B.exec
  have hb := B.bytes
  have hr := B.returns
  have hts := atoms_spec (ws := (ws_ yX0_init cX0_init 2 none)) B.pre
  have hts : ∀ w ∈ lw_all, w.before _ s = true := fun w h => hts w (List.mem_cons_of_mem _ h)
  have hown : s.vm.findClass RX0 = some m.cls := findClass_of_methodNamed B.named
  have hlocks := B.notSynchronized
  have hin : meth.name = "<init>" := (name_of_methodNamed B.named B.method).1
  subst hsz
  have hD := hD0.self (sz := s.heap.size)
  generalize hAe : va_A [(h, .inr (0, [.int 0, .null, .null, .null, .null, .null, .null, .null, .null]))] s.heap.size = A at hD ⊢
  have hA : ∀ q : Nat, s.heap.size ≤ q → A q := fun q h => by rw [← hAe]; exact Or.inr h
  have hS : va_S A s.heap s.heap [] := va_S.rf
  have hP : va_P (dC, dI) vwCl [(h, .inr (0, [.int 0, .null, .null, .null, .null, .null, .null, .null, .null]))] s.heap := hP
  have hl := lv_entry ([.ref h]) (n := 2) (Nat.le_of_ble_eq_true rfl)
  rw [lg_entry_eq]
  generalize (lg_sl ([.ref h]) ++ List.replicate (2 - (lg_sl ([.ref h])).length) Slot.unset).toArray = ls at hl ⊢
  have hl : lv_has ls 2 [(0, .ref h)] := hl
  refine lv_aload_n hx hb dX0_init_0 rfl (lv_at hl 0 rfl) ?_
  refine W.objInit hx hb hown (hts _ q24) (hts _ q25) (hts _ q26) rfl (by rw [hml]; exact hl.1) rfl dX0_init_1 (Nat.le_of_ble_eq_true rfl) (Nat.le_of_ble_eq_true rfl) ?_
  refine W.eq (g2 := F0 m 4 ls []) rfl ?_
  refine lv_aload_n hx hb dX0_init_4 rfl (lv_at hl 0 rfl) ?_
  refine lv_bipush (v := 40) hx hb dX0_init_5 (by decide) ?_
  refine va_newa (atype := .int) (a0 := (40, .inl (fun _ => 0))) (N' := 40) hx hb (hts _ q55) rfl hK hP hD hS hA (fun _ => rfl) (by decide) (by decide) (by decide) (Nat.le_of_ble_eq_true rfl) (Nat.le_of_ble_eq_true rfl) dX0_init_7 (fun q1 c1 H hK hP hD hS => ?_)
  have hP : va_P (dC, dI) vwCl [(h, .inr (0, [.int 0, .null, .null, .null, .null, .null, .null, .null, .null])), (q1, .inl (c1, (40, .inl (fun _ => 0))))] H := hP
  have hD : va_D A [(h, .inr (0, [.int 0, .null, .null, .null, .null, .null, .null, .null, .null])), (q1, .inl (c1, (40, .inl (fun _ => 0))))] := hD
  have hK : va_K (dC, dI) vwCl [(c1, .int)] s := hK
  refine W.widen (k := 1) (n := 40) (by omega) (by first | omega | (dsimp only; omega)) ?_
  refine va_putF (D := (dC, dI)) (ci := 0) (v := .ref q1) (ty := .array .int) (C := RX0) (T := TX0) (N := 9) hx hb hts in_X0 tyX0 tyX0_ok nmX0 hown hK hP hD hS 0 rfl rfl 1 (by decide) (hts _ q28) (fun _ h9 => h9) rfl hin rfl (by decide +kernel) rfl rfl (Nat.le_of_ble_eq_true rfl) dX0_init_9 (fun H locs hP hD hS => ?_)
  have hP : va_P (dC, dI) vwCl [(h, .inr (0, [.int 0, .ref q1, .null, .null, .null, .null, .null, .null, .null])), (q1, .inl (c1, (40, .inl (fun _ => 0))))] H := hP
  have hD : va_D A [(h, .inr (0, [.int 0, .ref q1, .null, .null, .null, .null, .null, .null, .null])), (q1, .inl (c1, (40, .inl (fun _ => 0))))] := hD
  refine lv_aload_n hx hb dX0_init_12 rfl (lv_at hl 0 rfl) ?_
  refine lv_bipush (v := 40) hx hb dX0_init_13 (by decide) ?_
  refine va_newa (atype := .int) (a0 := (40, .inl (fun _ => 0))) (N' := 40) hx hb (hts _ q55) rfl hK hP hD hS hA (fun _ => rfl) (by decide) (by decide) (by decide) (Nat.le_of_ble_eq_true rfl) (Nat.le_of_ble_eq_true rfl) dX0_init_15 (fun q2 c2 H hK hP hD hS => ?_)
  have hP : va_P (dC, dI) vwCl [(h, .inr (0, [.int 0, .ref q1, .null, .null, .null, .null, .null, .null, .null])), (q1, .inl (c1, (40, .inl (fun _ => 0)))), (q2, .inl (c2, (40, .inl (fun _ => 0))))] H := hP
  have hD : va_D A [(h, .inr (0, [.int 0, .ref q1, .null, .null, .null, .null, .null, .null, .null])), (q1, .inl (c1, (40, .inl (fun _ => 0)))), (q2, .inl (c2, (40, .inl (fun _ => 0))))] := hD
  have hK : va_K (dC, dI) vwCl [(c1, .int), (c2, .int)] s := hK
  refine W.widen (k := 2) (n := 80) (by omega) (by first | omega | (dsimp only; omega)) ?_
  refine va_putF (D := (dC, dI)) (ci := 0) (v := .ref q2) (ty := .array .int) (C := RX0) (T := TX0) (N := 9) hx hb hts in_X0 tyX0 tyX0_ok nmX0 hown hK hP hD hS 0 rfl rfl 2 (by decide) (hts _ q29) (fun _ h9 => h9) rfl hin rfl (by decide +kernel) rfl rfl (Nat.le_of_ble_eq_true rfl) dX0_init_17 (fun H locs hP hD hS => ?_)
  have hP : va_P (dC, dI) vwCl [(h, .inr (0, [.int 0, .ref q1, .ref q2, .null, .null, .null, .null, .null, .null])), (q1, .inl (c1, (40, .inl (fun _ => 0)))), (q2, .inl (c2, (40, .inl (fun _ => 0))))] H := hP
  have hD : va_D A [(h, .inr (0, [.int 0, .ref q1, .ref q2, .null, .null, .null, .null, .null, .null])), (q1, .inl (c1, (40, .inl (fun _ => 0)))), (q2, .inl (c2, (40, .inl (fun _ => 0))))] := hD
  refine lv_aload_n hx hb dX0_init_20 rfl (lv_at hl 0 rfl) ?_
  refine lv_bipush (v := 40) hx hb dX0_init_21 (by decide) ?_
  refine va_newa (atype := .int) (a0 := (40, .inl (fun _ => 0))) (N' := 40) hx hb (hts _ q55) rfl hK hP hD hS hA (fun _ => rfl) (by decide) (by decide) (by decide) (Nat.le_of_ble_eq_true rfl) (Nat.le_of_ble_eq_true rfl) dX0_init_23 (fun q3 c3 H hK hP hD hS => ?_)
  have hP : va_P (dC, dI) vwCl [(h, .inr (0, [.int 0, .ref q1, .ref q2, .null, .null, .null, .null, .null, .null])), (q1, .inl (c1, (40, .inl (fun _ => 0)))), (q2, .inl (c2, (40, .inl (fun _ => 0)))), (q3, .inl (c3, (40, .inl (fun _ => 0))))] H := hP
  have hD : va_D A [(h, .inr (0, [.int 0, .ref q1, .ref q2, .null, .null, .null, .null, .null, .null])), (q1, .inl (c1, (40, .inl (fun _ => 0)))), (q2, .inl (c2, (40, .inl (fun _ => 0)))), (q3, .inl (c3, (40, .inl (fun _ => 0))))] := hD
  have hK : va_K (dC, dI) vwCl [(c1, .int), (c2, .int), (c3, .int)] s := hK
  refine W.widen (k := 3) (n := 120) (by omega) (by first | omega | (dsimp only; omega)) ?_
  refine va_putF (D := (dC, dI)) (ci := 0) (v := .ref q3) (ty := .array .int) (C := RX0) (T := TX0) (N := 9) hx hb hts in_X0 tyX0 tyX0_ok nmX0 hown hK hP hD hS 0 rfl rfl 3 (by decide) (hts _ q30) (fun _ h9 => h9) rfl hin rfl (by decide +kernel) rfl rfl (Nat.le_of_ble_eq_true rfl) dX0_init_25 (fun H locs hP hD hS => ?_)
  have hP : va_P (dC, dI) vwCl [(h, .inr (0, [.int 0, .ref q1, .ref q2, .ref q3, .null, .null, .null, .null, .null])), (q1, .inl (c1, (40, .inl (fun _ => 0)))), (q2, .inl (c2, (40, .inl (fun _ => 0)))), (q3, .inl (c3, (40, .inl (fun _ => 0))))] H := hP
  have hD : va_D A [(h, .inr (0, [.int 0, .ref q1, .ref q2, .ref q3, .null, .null, .null, .null, .null])), (q1, .inl (c1, (40, .inl (fun _ => 0)))), (q2, .inl (c2, (40, .inl (fun _ => 0)))), (q3, .inl (c3, (40, .inl (fun _ => 0))))] := hD
  refine lv_aload_n hx hb dX0_init_28 rfl (lv_at hl 0 rfl) ?_
  refine lv_bipush (v := 40) hx hb dX0_init_29 (by decide) ?_
  refine va_newa (atype := .int) (a0 := (40, .inl (fun _ => 0))) (N' := 40) hx hb (hts _ q55) rfl hK hP hD hS hA (fun _ => rfl) (by decide) (by decide) (by decide) (Nat.le_of_ble_eq_true rfl) (Nat.le_of_ble_eq_true rfl) dX0_init_31 (fun q4 c4 H hK hP hD hS => ?_)
  have hP : va_P (dC, dI) vwCl [(h, .inr (0, [.int 0, .ref q1, .ref q2, .ref q3, .null, .null, .null, .null, .null])), (q1, .inl (c1, (40, .inl (fun _ => 0)))), (q2, .inl (c2, (40, .inl (fun _ => 0)))), (q3, .inl (c3, (40, .inl (fun _ => 0)))), (q4, .inl (c4, (40, .inl (fun _ => 0))))] H := hP
  have hD : va_D A [(h, .inr (0, [.int 0, .ref q1, .ref q2, .ref q3, .null, .null, .null, .null, .null])), (q1, .inl (c1, (40, .inl (fun _ => 0)))), (q2, .inl (c2, (40, .inl (fun _ => 0)))), (q3, .inl (c3, (40, .inl (fun _ => 0)))), (q4, .inl (c4, (40, .inl (fun _ => 0))))] := hD
  have hK : va_K (dC, dI) vwCl [(c1, .int), (c2, .int), (c3, .int), (c4, .int)] s := hK
  refine W.widen (k := 4) (n := 160) (by omega) (by first | omega | (dsimp only; omega)) ?_
  refine va_putF (D := (dC, dI)) (ci := 0) (v := .ref q4) (ty := .array .int) (C := RX0) (T := TX0) (N := 9) hx hb hts in_X0 tyX0 tyX0_ok nmX0 hown hK hP hD hS 0 rfl rfl 4 (by decide) (hts _ q31) (fun _ h9 => h9) rfl hin rfl (by decide +kernel) rfl rfl (Nat.le_of_ble_eq_true rfl) dX0_init_33 (fun H locs hP hD hS => ?_)
  have hP : va_P (dC, dI) vwCl [(h, .inr (0, [.int 0, .ref q1, .ref q2, .ref q3, .ref q4, .null, .null, .null, .null])), (q1, .inl (c1, (40, .inl (fun _ => 0)))), (q2, .inl (c2, (40, .inl (fun _ => 0)))), (q3, .inl (c3, (40, .inl (fun _ => 0)))), (q4, .inl (c4, (40, .inl (fun _ => 0))))] H := hP
  have hD : va_D A [(h, .inr (0, [.int 0, .ref q1, .ref q2, .ref q3, .ref q4, .null, .null, .null, .null])), (q1, .inl (c1, (40, .inl (fun _ => 0)))), (q2, .inl (c2, (40, .inl (fun _ => 0)))), (q3, .inl (c3, (40, .inl (fun _ => 0)))), (q4, .inl (c4, (40, .inl (fun _ => 0))))] := hD
  refine lv_aload_n hx hb dX0_init_36 rfl (lv_at hl 0 rfl) ?_
  refine lv_iconst (v := 3) hx hb dX0_init_37 (by decide) ?_
  refine va_newa (atype := .int) (a0 := (3, .inl (fun _ => 0))) (N' := 3) hx hb (hts _ q55) rfl hK hP hD hS hA (fun _ => rfl) (by decide) (by decide) (by decide) (Nat.le_of_ble_eq_true rfl) (Nat.le_of_ble_eq_true rfl) dX0_init_38 (fun q5 c5 H hK hP hD hS => ?_)
  have hP : va_P (dC, dI) vwCl [(h, .inr (0, [.int 0, .ref q1, .ref q2, .ref q3, .ref q4, .null, .null, .null, .null])), (q1, .inl (c1, (40, .inl (fun _ => 0)))), (q2, .inl (c2, (40, .inl (fun _ => 0)))), (q3, .inl (c3, (40, .inl (fun _ => 0)))), (q4, .inl (c4, (40, .inl (fun _ => 0)))), (q5, .inl (c5, (3, .inl (fun _ => 0))))] H := hP
  have hD : va_D A [(h, .inr (0, [.int 0, .ref q1, .ref q2, .ref q3, .ref q4, .null, .null, .null, .null])), (q1, .inl (c1, (40, .inl (fun _ => 0)))), (q2, .inl (c2, (40, .inl (fun _ => 0)))), (q3, .inl (c3, (40, .inl (fun _ => 0)))), (q4, .inl (c4, (40, .inl (fun _ => 0)))), (q5, .inl (c5, (3, .inl (fun _ => 0))))] := hD
  have hK : va_K (dC, dI) vwCl [(c1, .int), (c2, .int), (c3, .int), (c4, .int), (c5, .int)] s := hK
  refine W.widen (k := 5) (n := 163) (by omega) (by first | omega | (dsimp only; omega)) ?_
  refine va_putF (D := (dC, dI)) (ci := 0) (v := .ref q5) (ty := .array .int) (C := RX0) (T := TX0) (N := 9) hx hb hts in_X0 tyX0 tyX0_ok nmX0 hown hK hP hD hS 0 rfl rfl 5 (by decide) (hts _ q32) (fun _ h9 => h9) rfl hin rfl (by decide +kernel) rfl rfl (Nat.le_of_ble_eq_true rfl) dX0_init_40 (fun H locs hP hD hS => ?_)
  have hP : va_P (dC, dI) vwCl [(h, .inr (0, [.int 0, .ref q1, .ref q2, .ref q3, .ref q4, .ref q5, .null, .null, .null])), (q1, .inl (c1, (40, .inl (fun _ => 0)))), (q2, .inl (c2, (40, .inl (fun _ => 0)))), (q3, .inl (c3, (40, .inl (fun _ => 0)))), (q4, .inl (c4, (40, .inl (fun _ => 0)))), (q5, .inl (c5, (3, .inl (fun _ => 0))))] H := hP
  have hD : va_D A [(h, .inr (0, [.int 0, .ref q1, .ref q2, .ref q3, .ref q4, .ref q5, .null, .null, .null])), (q1, .inl (c1, (40, .inl (fun _ => 0)))), (q2, .inl (c2, (40, .inl (fun _ => 0)))), (q3, .inl (c3, (40, .inl (fun _ => 0)))), (q4, .inl (c4, (40, .inl (fun _ => 0)))), (q5, .inl (c5, (3, .inl (fun _ => 0))))] := hD
  refine lv_aload_n hx hb dX0_init_43 rfl (lv_at hl 0 rfl) ?_
  refine lv_iconst (v := 3) hx hb dX0_init_44 (by decide) ?_
  refine va_newa (atype := .long) (a0 := (3, .inr (.inl (fun _ => 0)))) (N' := 3) hx hb (hts _ q56) rfl hK hP hD hS hA (fun _ => rfl) (by decide) (by decide) (by decide) (Nat.le_of_ble_eq_true rfl) (Nat.le_of_ble_eq_true rfl) dX0_init_45 (fun q6 c6 H hK hP hD hS => ?_)
  have hP : va_P (dC, dI) vwCl [(h, .inr (0, [.int 0, .ref q1, .ref q2, .ref q3, .ref q4, .ref q5, .null, .null, .null])), (q1, .inl (c1, (40, .inl (fun _ => 0)))), (q2, .inl (c2, (40, .inl (fun _ => 0)))), (q3, .inl (c3, (40, .inl (fun _ => 0)))), (q4, .inl (c4, (40, .inl (fun _ => 0)))), (q5, .inl (c5, (3, .inl (fun _ => 0)))), (q6, .inl (c6, (3, .inr (.inl (fun _ => 0)))))] H := hP
  have hD : va_D A [(h, .inr (0, [.int 0, .ref q1, .ref q2, .ref q3, .ref q4, .ref q5, .null, .null, .null])), (q1, .inl (c1, (40, .inl (fun _ => 0)))), (q2, .inl (c2, (40, .inl (fun _ => 0)))), (q3, .inl (c3, (40, .inl (fun _ => 0)))), (q4, .inl (c4, (40, .inl (fun _ => 0)))), (q5, .inl (c5, (3, .inl (fun _ => 0)))), (q6, .inl (c6, (3, .inr (.inl (fun _ => 0)))))] := hD
  have hK : va_K (dC, dI) vwCl [(c1, .int), (c2, .int), (c3, .int), (c4, .int), (c5, .int), (c6, .long)] s := hK
  refine W.widen (k := 6) (n := 166) (by omega) (by first | omega | (dsimp only; omega)) ?_
  refine va_putF (D := (dC, dI)) (ci := 0) (v := .ref q6) (ty := .array .long) (C := RX0) (T := TX0) (N := 9) hx hb hts in_X0 tyX0 tyX0_ok nmX0 hown hK hP hD hS 0 rfl rfl 6 (by decide) (hts _ q33) (fun _ h9 => h9) rfl hin rfl (by decide +kernel) rfl rfl (Nat.le_of_ble_eq_true rfl) dX0_init_47 (fun H locs hP hD hS => ?_)
  have hP : va_P (dC, dI) vwCl [(h, .inr (0, [.int 0, .ref q1, .ref q2, .ref q3, .ref q4, .ref q5, .ref q6, .null, .null])), (q1, .inl (c1, (40, .inl (fun _ => 0)))), (q2, .inl (c2, (40, .inl (fun _ => 0)))), (q3, .inl (c3, (40, .inl (fun _ => 0)))), (q4, .inl (c4, (40, .inl (fun _ => 0)))), (q5, .inl (c5, (3, .inl (fun _ => 0)))), (q6, .inl (c6, (3, .inr (.inl (fun _ => 0)))))] H := hP
  have hD : va_D A [(h, .inr (0, [.int 0, .ref q1, .ref q2, .ref q3, .ref q4, .ref q5, .ref q6, .null, .null])), (q1, .inl (c1, (40, .inl (fun _ => 0)))), (q2, .inl (c2, (40, .inl (fun _ => 0)))), (q3, .inl (c3, (40, .inl (fun _ => 0)))), (q4, .inl (c4, (40, .inl (fun _ => 0)))), (q5, .inl (c5, (3, .inl (fun _ => 0)))), (q6, .inl (c6, (3, .inr (.inl (fun _ => 0)))))] := hD
  refine lv_aload_n hx hb dX0_init_50 rfl (lv_at hl 0 rfl) ?_
  refine lv_iconst (v := 3) hx hb dX0_init_51 (by decide) ?_
  refine va_newa (atype := .long) (a0 := (3, .inr (.inl (fun _ => 0)))) (N' := 3) hx hb (hts _ q56) rfl hK hP hD hS hA (fun _ => rfl) (by decide) (by decide) (by decide) (Nat.le_of_ble_eq_true rfl) (Nat.le_of_ble_eq_true rfl) dX0_init_52 (fun q7 c7 H hK hP hD hS => ?_)
  have hP : va_P (dC, dI) vwCl [(h, .inr (0, [.int 0, .ref q1, .ref q2, .ref q3, .ref q4, .ref q5, .ref q6, .null, .null])), (q1, .inl (c1, (40, .inl (fun _ => 0)))), (q2, .inl (c2, (40, .inl (fun _ => 0)))), (q3, .inl (c3, (40, .inl (fun _ => 0)))), (q4, .inl (c4, (40, .inl (fun _ => 0)))), (q5, .inl (c5, (3, .inl (fun _ => 0)))), (q6, .inl (c6, (3, .inr (.inl (fun _ => 0))))), (q7, .inl (c7, (3, .inr (.inl (fun _ => 0)))))] H := hP
  have hD : va_D A [(h, .inr (0, [.int 0, .ref q1, .ref q2, .ref q3, .ref q4, .ref q5, .ref q6, .null, .null])), (q1, .inl (c1, (40, .inl (fun _ => 0)))), (q2, .inl (c2, (40, .inl (fun _ => 0)))), (q3, .inl (c3, (40, .inl (fun _ => 0)))), (q4, .inl (c4, (40, .inl (fun _ => 0)))), (q5, .inl (c5, (3, .inl (fun _ => 0)))), (q6, .inl (c6, (3, .inr (.inl (fun _ => 0))))), (q7, .inl (c7, (3, .inr (.inl (fun _ => 0)))))] := hD
  have hK : va_K (dC, dI) vwCl [(c1, .int), (c2, .int), (c3, .int), (c4, .int), (c5, .int), (c6, .long), (c7, .long)] s := hK
  refine W.widen (k := 7) (n := 169) (by omega) (by first | omega | (dsimp only; omega)) ?_
  refine va_putF (D := (dC, dI)) (ci := 0) (v := .ref q7) (ty := .array .long) (C := RX0) (T := TX0) (N := 9) hx hb hts in_X0 tyX0 tyX0_ok nmX0 hown hK hP hD hS 0 rfl rfl 7 (by decide) (hts _ q34) (fun _ h9 => h9) rfl hin rfl (by decide +kernel) rfl rfl (Nat.le_of_ble_eq_true rfl) dX0_init_54 (fun H locs hP hD hS => ?_)
  have hP : va_P (dC, dI) vwCl [(h, .inr (0, [.int 0, .ref q1, .ref q2, .ref q3, .ref q4, .ref q5, .ref q6, .ref q7, .null])), (q1, .inl (c1, (40, .inl (fun _ => 0)))), (q2, .inl (c2, (40, .inl (fun _ => 0)))), (q3, .inl (c3, (40, .inl (fun _ => 0)))), (q4, .inl (c4, (40, .inl (fun _ => 0)))), (q5, .inl (c5, (3, .inl (fun _ => 0)))), (q6, .inl (c6, (3, .inr (.inl (fun _ => 0))))), (q7, .inl (c7, (3, .inr (.inl (fun _ => 0)))))] H := hP
  have hD : va_D A [(h, .inr (0, [.int 0, .ref q1, .ref q2, .ref q3, .ref q4, .ref q5, .ref q6, .ref q7, .null])), (q1, .inl (c1, (40, .inl (fun _ => 0)))), (q2, .inl (c2, (40, .inl (fun _ => 0)))), (q3, .inl (c3, (40, .inl (fun _ => 0)))), (q4, .inl (c4, (40, .inl (fun _ => 0)))), (q5, .inl (c5, (3, .inl (fun _ => 0)))), (q6, .inl (c6, (3, .inr (.inl (fun _ => 0))))), (q7, .inl (c7, (3, .inr (.inl (fun _ => 0)))))] := hD
  refine lv_aload_n hx hb dX0_init_57 rfl (lv_at hl 0 rfl) ?_
  refine lv_bipush (v := 123) hx hb dX0_init_58 (by decide) ?_
  refine va_newa (atype := .int) (a0 := (123, .inl (fun _ => 0))) (N' := 123) hx hb (hts _ q55) rfl hK hP hD hS hA (fun _ => rfl) (by decide) (by decide) (by decide) (Nat.le_of_ble_eq_true rfl) (Nat.le_of_ble_eq_true rfl) dX0_init_60 (fun q8 c8 H hK hP hD hS => ?_)
  have hP : va_P (dC, dI) vwCl [(h, .inr (0, [.int 0, .ref q1, .ref q2, .ref q3, .ref q4, .ref q5, .ref q6, .ref q7, .null])), (q1, .inl (c1, (40, .inl (fun _ => 0)))), (q2, .inl (c2, (40, .inl (fun _ => 0)))), (q3, .inl (c3, (40, .inl (fun _ => 0)))), (q4, .inl (c4, (40, .inl (fun _ => 0)))), (q5, .inl (c5, (3, .inl (fun _ => 0)))), (q6, .inl (c6, (3, .inr (.inl (fun _ => 0))))), (q7, .inl (c7, (3, .inr (.inl (fun _ => 0))))), (q8, .inl (c8, (123, .inl (fun _ => 0))))] H := hP
  have hD : va_D A [(h, .inr (0, [.int 0, .ref q1, .ref q2, .ref q3, .ref q4, .ref q5, .ref q6, .ref q7, .null])), (q1, .inl (c1, (40, .inl (fun _ => 0)))), (q2, .inl (c2, (40, .inl (fun _ => 0)))), (q3, .inl (c3, (40, .inl (fun _ => 0)))), (q4, .inl (c4, (40, .inl (fun _ => 0)))), (q5, .inl (c5, (3, .inl (fun _ => 0)))), (q6, .inl (c6, (3, .inr (.inl (fun _ => 0))))), (q7, .inl (c7, (3, .inr (.inl (fun _ => 0))))), (q8, .inl (c8, (123, .inl (fun _ => 0))))] := hD
  have hK : va_K (dC, dI) vwCl [(c1, .int), (c2, .int), (c3, .int), (c4, .int), (c5, .int), (c6, .long), (c7, .long), (c8, .int)] s := hK
  refine W.widen (k := 8) (n := 292) (by omega) (by first | omega | (dsimp only; omega)) ?_
  refine va_putF (D := (dC, dI)) (ci := 0) (v := .ref q8) (ty := .array .int) (C := RX0) (T := TX0) (N := 9) hx hb hts in_X0 tyX0 tyX0_ok nmX0 hown hK hP hD hS 0 rfl rfl 8 (by decide) (hts _ q35) (fun _ h9 => h9) rfl hin rfl (by decide +kernel) rfl rfl (Nat.le_of_ble_eq_true rfl) dX0_init_62 (fun H locs hP hD hS => ?_)
  have hP : va_P (dC, dI) vwCl [(h, .inr (0, [.int 0, .ref q1, .ref q2, .ref q3, .ref q4, .ref q5, .ref q6, .ref q7, .ref q8])), (q1, .inl (c1, (40, .inl (fun _ => 0)))), (q2, .inl (c2, (40, .inl (fun _ => 0)))), (q3, .inl (c3, (40, .inl (fun _ => 0)))), (q4, .inl (c4, (40, .inl (fun _ => 0)))), (q5, .inl (c5, (3, .inl (fun _ => 0)))), (q6, .inl (c6, (3, .inr (.inl (fun _ => 0))))), (q7, .inl (c7, (3, .inr (.inl (fun _ => 0))))), (q8, .inl (c8, (123, .inl (fun _ => 0))))] H := hP
  have hD : va_D A [(h, .inr (0, [.int 0, .ref q1, .ref q2, .ref q3, .ref q4, .ref q5, .ref q6, .ref q7, .ref q8])), (q1, .inl (c1, (40, .inl (fun _ => 0)))), (q2, .inl (c2, (40, .inl (fun _ => 0)))), (q3, .inl (c3, (40, .inl (fun _ => 0)))), (q4, .inl (c4, (40, .inl (fun _ => 0)))), (q5, .inl (c5, (3, .inl (fun _ => 0)))), (q6, .inl (c6, (3, .inr (.inl (fun _ => 0))))), (q7, .inl (c7, (3, .inr (.inl (fun _ => 0))))), (q8, .inl (c8, (123, .inl (fun _ => 0))))] := hD
  obtain rfl : c1 = c2 := (ra_oneC_int hK (i := 0) (j := 1) rfl rfl).symm
  obtain rfl : c1 = c3 := (ra_oneC_int hK (i := 0) (j := 2) rfl rfl).symm
  obtain rfl : c1 = c4 := (ra_oneC_int hK (i := 0) (j := 3) rfl rfl).symm
  obtain rfl : c1 = c5 := (ra_oneC_int hK (i := 0) (j := 4) rfl rfl).symm
  obtain rfl : c6 = c7 := (ra_oneC_long hK (i := 5) (j := 6) rfl rfl).symm
  obtain rfl : c1 = c8 := (ra_oneC_int hK (i := 0) (j := 7) rfl rfl).symm
  have hK : va_K (dC, dI) vwCl [(c1, .int), (c6, .long)] s := hK.sub [0, 5] rfl
  have hP : va_P (dC, dI) vwCl (ra_wX h q1 q2 q3 q4 q5 q6 q7 q8 c1 c6 0 (fun _ => 0) (fun _ => 0) (fun _ => 0) (fun _ => 0) (fun _ => 0) (fun _ => 0) (fun _ => 0) (fun _ => 0)) H := hP
  have hD : va_D A (ra_wX h q1 q2 q3 q4 q5 q6 q7 q8 c1 c6 0 (fun _ => 0) (fun _ => 0) (fun _ => 0) (fun _ => 0) (fun _ => 0) (fun _ => 0) (fun _ => 0) (fun _ => 0)) := hD
  refine lv_iconst (v := 0) hx hb dX0_init_65 (by decide) ?_
  refine lv_istore_n (lv' := [(1, .int 0), (0, .ref h)]) hx hb dX0_init_66 rfl hl (by decide) rfl (fun ls hl => ?_)
  have loop : ∀ (k i : Nat) (f1 : Nat → Int32) (H : Heap) (locs : List Loc), i ≤ 123 → 124 ≤ i + k → (∀ j, j < i → f1 j = -1) → va_P (dC, dI) vwCl (ra_wX h q1 q2 q3 q4 q5 q6 q7 q8 c1 c6 0 (fun _ => 0) (fun _ => 0) (fun _ => 0) (fun _ => 0) (fun _ => 0) (fun _ => 0) (fun _ => 0) f1) H → va_D A (ra_wX h q1 q2 q3 q4 q5 q6 q7 q8 c1 c6 0 (fun _ => 0) (fun _ => 0) (fun _ => 0) (fun _ => 0) (fun _ => 0) (fun _ => 0) (fun _ => 0) f1) → va_S A s.heap H locs → ∀ (ls : Array Slot), lv_has ls 2 [(1, .int (nI i)), (0, .ref h)] → W p l e (headSpec (ws_ yX0_init cX0_init 2 none) ({ frames := 1, cells := 8, slots := 292, locals := 30 })).room s m ([.ref h] : List Value).toArray below meth c H locs 8 292 (MQ below (va_Qv (fun (u : Nat → Int32) => ∀ j, j < 123 → u j = -1) (fun u t => ∃ q1 q2 q3 q4 q5 q6 q7 q8 cI cL, va_P (dC, dI) vwCl (ra_wX h q1 q2 q3 q4 q5 q6 q7 q8 cI cL 0 (fun _ => 0) (fun _ => 0) (fun _ => 0) (fun _ => 0) (fun _ => 0) (fun _ => 0) (fun _ => 0) u) t.heap ∧ va_K (dC, dI) vwCl [(cI, .int), (cL, .long)] t ∧ va_D A (ra_wX h q1 q2 q3 q4 q5 q6 q7 q8 cI cL 0 (fun _ => 0) (fun _ => 0) (fun _ => 0) (fun _ => 0) (fun _ => 0) (fun _ => 0) (fun _ => 0) u)) A) ([.ref h] : List Value).toArray s 8 292 A) (F0 m 67 ls []) := by
    intro k
    induction k with
    | zero => intro i f1 H locs h1 h2; exact absurd h2 (by omega)
    | succ k ih =>
      intro i f1 H locs h1 h2 hf hP hD hS ls hl
      refine lv_iload_n hx hb dX0_init_67 rfl (lv_at hl 0 rfl) ?_
      refine lv_bipush (v := 123) hx hb dX0_init_68 (by decide) ?_
      refine lv_icmp_ge (tgt := 86) hx hb dX0_init_70 (by decide) (fun c_70 => ?_) (fun c_70 => ?_)
      · have hi : i = 123 := by
          rcases Nat.lt_or_ge i 123 with q | q
          · exact absurd c_70 (nI_ge (a := i) (b := 123) q (by decide))
          · omega
        subst hi
        exact W.vret hx hb hr (fun t ht hW => ⟨⟨f1, rfl, hf, ⟨q1, q2, q3, q4, q5, q6, q7, q8, c1, c6, by rw [ht]; exact hP, va_K.moved hW.alike hK, hD⟩⟩, hS.F ht⟩) hS.2.2 dX0_init_86
      · have hi : i < 123 := by
          rcases Nat.lt_or_ge i 123 with q | q
          · exact q
          · exact absurd (nI_le (a := 123) (b := i) q (by omega)) c_70
        refine lv_aload_n hx hb dX0_init_73 rfl (lv_at hl 1 rfl) ?_
        refine va_get (D := (dC, dI)) (ci := 0) (v := .ref q8) (C := RX0) (T := TX0) (N := 9) hx hb hts in_X0 hown hK hP 0 rfl rfl 8 (by decide) (hts _ q35) (fun _ h9 => h9) rfl dX0_init_74 ?_
        refine lv_iload_n hx hb dX0_init_77 rfl (lv_at hl 0 rfl) ?_
        refine lv_iconst (v := (-1)) hx hb dX0_init_78 (by decide) ?_
        refine ra_iast hx hb hK hP hD hS 8 0 rfl rfl (k := i) rfl (by omega) (by decide) (f' := upd f1 i (-1)) rfl dX0_init_79 (fun H locs hP hD hS => ?_)
        have hP : va_P (dC, dI) vwCl (ra_wX h q1 q2 q3 q4 q5 q6 q7 q8 c1 c6 0 (fun _ => 0) (fun _ => 0) (fun _ => 0) (fun _ => 0) (fun _ => 0) (fun _ => 0) (fun _ => 0) (upd f1 i (-1))) H := hP
        have hD : va_D A (ra_wX h q1 q2 q3 q4 q5 q6 q7 q8 c1 c6 0 (fun _ => 0) (fun _ => 0) (fun _ => 0) (fun _ => 0) (fun _ => 0) (fun _ => 0) (fun _ => 0) (upd f1 i (-1))) := hD
        refine lv_iinc (v := nI (i + 1)) (lv' := [(1, .int (nI (i + 1))), (0, .ref h)]) hx hb dX0_init_80 hl (k := 0) rfl (ra_inc _) (by decide) rfl (fun ls hl => ?_)
        refine lv_goto (tgt := 67) hx hb dX0_init_83 (by decide) ?_
        exact ih (i + 1) (upd f1 i (-1)) H locs (by omega) (by omega) (fun j hj => by
          by_cases q : j = i
          · rw [q, pk_us]
          · rw [pk_un q]; exact hf j (by omega)) hP hD hS ls (lv_sub hl [0, 1] rfl)
  exact loop 124 0 (fun _ => 0) H locs (by omega) (by omega) (fun j hj => absurd hj (Nat.not_lt_zero _)) hP hD hS ls hl
set_option maxHeartbeats 4000000 in
set_option maxRecDepth 100000 in
/-- RgaTextModel() -/
theorem mm_init (l : Launch) {dC : Nat → ClassId} {dI : Nat → Nat → Nat} (h sz : Nat) : Met l yX1_init (ws_ yX1_init cX1_init 1 none) ({ frames := 1, cells := 9, slots := 2043, locals := 30 }) (va_Pc [.ref h] (fun U => U.heap.size = sz ∧ va_P (dC, dI) vwCl [(h, .inr (1, [.int 0, .null, .null, .null, .null, .null, .null, .null, .null, .null, .int 0]))] U.heap ∧ va_K (dC, dI) vwCl [] U ∧ va_D (fun _ => True) [(h, .inr (1, [.int 0, .null, .null, .null, .null, .null, .null, .null, .null, .null, .int 0]))])) (va_Qv (fun (_ : Unit) => True) (fun u t => ∃ q1 q2 q3 q4 q5 q6 q7 q8 q9 cI cZ, va_P (dC, dI) vwCl (ra_wM h q1 q2 q3 q4 q5 q6 q7 q8 q9 cI cZ 0 (fun _ => 0) (fun _ => 0) (fun _ => 0) (fun _ => 0) (fun _ _ => false) (fun _ => 0) (fun _ => 0) (fun _ => 0) (fun _ => 0) 0) t.heap ∧ va_K (dC, dI) vwCl [(cI, .int), (cZ, .boolean)] t ∧ va_D (va_A [(h, .inr (1, [.int 0, .null, .null, .null, .null, .null, .null, .null, .null, .null, .int 0]))] sz) (ra_wM h q1 q2 q3 q4 q5 q6 q7 q8 q9 cI cZ 0 (fun _ => 0) (fun _ => 0) (fun _ => 0) (fun _ => 0) (fun _ _ => false) (fun _ => 0) (fun _ => 0) (fun _ => 0) (fun _ => 0) 0)) (va_A [(h, .inr (1, [.int 0, .null, .null, .null, .null, .null, .null, .null, .null, .null, .int 0]))] sz)) 9 2043 (va_A [(h, .inr (1, [.int 0, .null, .null, .null, .null, .null, .null, .null, .null, .null, .int 0]))] sz) := by
  refine Met.ofW (cc := cX1_init) (maxL := 1) (ret := none) (by decide) rfl ?_
  intro p e s m args below meth c s₁ B hml hv
  obtain ⟨rfl, hsz, hP, hK, hD0⟩ := hv
  have hx := B.exec
  have hb := B.bytes
  have hr := B.returns
  have hts := atoms_spec (ws := (ws_ yX1_init cX1_init 1 none)) B.pre
  have hts : ∀ w ∈ lw_all, w.before _ s = true := fun w h => hts w (List.mem_cons_of_mem _ h)
  have hown : s.vm.findClass RX1 = some m.cls := findClass_of_methodNamed B.named
  have hlocks := B.notSynchronized
  have hin : meth.name = "<init>" := (name_of_methodNamed B.named B.method).1
  subst hsz
  have hD := hD0.self (sz := s.heap.size)
  generalize hAe : va_A [(h, .inr (1, [.int 0, .null, .null, .null, .null, .null, .null, .null, .null, .null, .int 0]))] s.heap.size = A at hD ⊢
  have hA : ∀ q : Nat, s.heap.size ≤ q → A q := fun q h => by rw [← hAe]; exact Or.inr h
  have hS : va_S A s.heap s.heap [] := va_S.rf
  have hP : va_P (dC, dI) vwCl [(h, .inr (1, [.int 0, .null, .null, .null, .null, .null, .null, .null, .null, .null, .int 0]))] s.heap := hP
  have hl := lv_entry ([.ref h]) (n := 1) (Nat.le_of_ble_eq_true rfl)
  rw [lg_entry_eq]
  generalize (lg_sl ([.ref h]) ++ List.replicate (1 - (lg_sl ([.ref h])).length) Slot.unset).toArray = ls at hl ⊢
  have hl : lv_has ls 1 [(0, .ref h)] := hl
  refine lv_aload_n hx hb dX1_init_0 rfl (lv_at hl 0 rfl) ?_
  refine W.objInit hx hb hown (hts _ q144) (hts _ q25) (hts _ q26) rfl (by rw [hml]; exact hl.1) rfl dX1_init_1 (Nat.le_of_ble_eq_true rfl) (Nat.le_of_ble_eq_true rfl) ?_
  refine W.eq (g2 := F0 m 4 ls []) rfl ?_
  refine lv_aload_n hx hb dX1_init_4 rfl (lv_at hl 0 rfl) ?_
  refine lv_bipush (v := 40) hx hb dX1_init_5 (by decide) ?_
  refine va_newa (atype := .int) (a0 := (40, .inl (fun _ => 0))) (N' := 40) hx hb (hts _ q55) rfl hK hP hD hS hA (fun _ => rfl) (by decide) (by decide) (by decide) (Nat.le_of_ble_eq_true rfl) (Nat.le_of_ble_eq_true rfl) dX1_init_7 (fun q1 c1 H hK hP hD hS => ?_)
  have hP : va_P (dC, dI) vwCl [(h, .inr (1, [.int 0, .null, .null, .null, .null, .null, .null, .null, .null, .null, .int 0])), (q1, .inl (c1, (40, .inl (fun _ => 0))))] H := hP
  have hD : va_D A [(h, .inr (1, [.int 0, .null, .null, .null, .null, .null, .null, .null, .null, .null, .int 0])), (q1, .inl (c1, (40, .inl (fun _ => 0))))] := hD
  have hK : va_K (dC, dI) vwCl [(c1, .int)] s := hK
  refine W.widen (k := 1) (n := 40) (by omega) (by first | omega | (dsimp only; omega)) ?_
  refine va_putF (D := (dC, dI)) (ci := 1) (v := .ref q1) (ty := .array .int) (C := RX1) (T := TX1) (N := 11) hx hb hts in_X1 tyX1 tyX1_ok nmX1 hown hK hP hD hS 0 rfl rfl 1 (by decide) (hts _ q146) (fun _ h9 => h9) rfl hin rfl (by decide +kernel) rfl rfl (Nat.le_of_ble_eq_true rfl) dX1_init_9 (fun H locs hP hD hS => ?_)
  have hP : va_P (dC, dI) vwCl [(h, .inr (1, [.int 0, .ref q1, .null, .null, .null, .null, .null, .null, .null, .null, .int 0])), (q1, .inl (c1, (40, .inl (fun _ => 0))))] H := hP
  have hD : va_D A [(h, .inr (1, [.int 0, .ref q1, .null, .null, .null, .null, .null, .null, .null, .null, .int 0])), (q1, .inl (c1, (40, .inl (fun _ => 0))))] := hD
  refine lv_aload_n hx hb dX1_init_12 rfl (lv_at hl 0 rfl) ?_
  refine lv_bipush (v := 40) hx hb dX1_init_13 (by decide) ?_
  refine va_newa (atype := .int) (a0 := (40, .inl (fun _ => 0))) (N' := 40) hx hb (hts _ q55) rfl hK hP hD hS hA (fun _ => rfl) (by decide) (by decide) (by decide) (Nat.le_of_ble_eq_true rfl) (Nat.le_of_ble_eq_true rfl) dX1_init_15 (fun q2 c2 H hK hP hD hS => ?_)
  have hP : va_P (dC, dI) vwCl [(h, .inr (1, [.int 0, .ref q1, .null, .null, .null, .null, .null, .null, .null, .null, .int 0])), (q1, .inl (c1, (40, .inl (fun _ => 0)))), (q2, .inl (c2, (40, .inl (fun _ => 0))))] H := hP
  have hD : va_D A [(h, .inr (1, [.int 0, .ref q1, .null, .null, .null, .null, .null, .null, .null, .null, .int 0])), (q1, .inl (c1, (40, .inl (fun _ => 0)))), (q2, .inl (c2, (40, .inl (fun _ => 0))))] := hD
  have hK : va_K (dC, dI) vwCl [(c1, .int), (c2, .int)] s := hK
  refine W.widen (k := 2) (n := 80) (by omega) (by first | omega | (dsimp only; omega)) ?_
  refine va_putF (D := (dC, dI)) (ci := 1) (v := .ref q2) (ty := .array .int) (C := RX1) (T := TX1) (N := 11) hx hb hts in_X1 tyX1 tyX1_ok nmX1 hown hK hP hD hS 0 rfl rfl 2 (by decide) (hts _ q147) (fun _ h9 => h9) rfl hin rfl (by decide +kernel) rfl rfl (Nat.le_of_ble_eq_true rfl) dX1_init_17 (fun H locs hP hD hS => ?_)
  have hP : va_P (dC, dI) vwCl [(h, .inr (1, [.int 0, .ref q1, .ref q2, .null, .null, .null, .null, .null, .null, .null, .int 0])), (q1, .inl (c1, (40, .inl (fun _ => 0)))), (q2, .inl (c2, (40, .inl (fun _ => 0))))] H := hP
  have hD : va_D A [(h, .inr (1, [.int 0, .ref q1, .ref q2, .null, .null, .null, .null, .null, .null, .null, .int 0])), (q1, .inl (c1, (40, .inl (fun _ => 0)))), (q2, .inl (c2, (40, .inl (fun _ => 0))))] := hD
  refine lv_aload_n hx hb dX1_init_20 rfl (lv_at hl 0 rfl) ?_
  refine lv_bipush (v := 40) hx hb dX1_init_21 (by decide) ?_
  refine va_newa (atype := .int) (a0 := (40, .inl (fun _ => 0))) (N' := 40) hx hb (hts _ q55) rfl hK hP hD hS hA (fun _ => rfl) (by decide) (by decide) (by decide) (Nat.le_of_ble_eq_true rfl) (Nat.le_of_ble_eq_true rfl) dX1_init_23 (fun q3 c3 H hK hP hD hS => ?_)
  have hP : va_P (dC, dI) vwCl [(h, .inr (1, [.int 0, .ref q1, .ref q2, .null, .null, .null, .null, .null, .null, .null, .int 0])), (q1, .inl (c1, (40, .inl (fun _ => 0)))), (q2, .inl (c2, (40, .inl (fun _ => 0)))), (q3, .inl (c3, (40, .inl (fun _ => 0))))] H := hP
  have hD : va_D A [(h, .inr (1, [.int 0, .ref q1, .ref q2, .null, .null, .null, .null, .null, .null, .null, .int 0])), (q1, .inl (c1, (40, .inl (fun _ => 0)))), (q2, .inl (c2, (40, .inl (fun _ => 0)))), (q3, .inl (c3, (40, .inl (fun _ => 0))))] := hD
  have hK : va_K (dC, dI) vwCl [(c1, .int), (c2, .int), (c3, .int)] s := hK
  refine W.widen (k := 3) (n := 120) (by omega) (by first | omega | (dsimp only; omega)) ?_
  refine va_putF (D := (dC, dI)) (ci := 1) (v := .ref q3) (ty := .array .int) (C := RX1) (T := TX1) (N := 11) hx hb hts in_X1 tyX1 tyX1_ok nmX1 hown hK hP hD hS 0 rfl rfl 3 (by decide) (hts _ q148) (fun _ h9 => h9) rfl hin rfl (by decide +kernel) rfl rfl (Nat.le_of_ble_eq_true rfl) dX1_init_25 (fun H locs hP hD hS => ?_)
  have hP : va_P (dC, dI) vwCl [(h, .inr (1, [.int 0, .ref q1, .ref q2, .ref q3, .null, .null, .null, .null, .null, .null, .int 0])), (q1, .inl (c1, (40, .inl (fun _ => 0)))), (q2, .inl (c2, (40, .inl (fun _ => 0)))), (q3, .inl (c3, (40, .inl (fun _ => 0))))] H := hP
  have hD : va_D A [(h, .inr (1, [.int 0, .ref q1, .ref q2, .ref q3, .null, .null, .null, .null, .null, .null, .int 0])), (q1, .inl (c1, (40, .inl (fun _ => 0)))), (q2, .inl (c2, (40, .inl (fun _ => 0)))), (q3, .inl (c3, (40, .inl (fun _ => 0))))] := hD
  refine lv_aload_n hx hb dX1_init_28 rfl (lv_at hl 0 rfl) ?_
  refine lv_bipush (v := 40) hx hb dX1_init_29 (by decide) ?_
  refine va_newa (atype := .int) (a0 := (40, .inl (fun _ => 0))) (N' := 40) hx hb (hts _ q55) rfl hK hP hD hS hA (fun _ => rfl) (by decide) (by decide) (by decide) (Nat.le_of_ble_eq_true rfl) (Nat.le_of_ble_eq_true rfl) dX1_init_31 (fun q4 c4 H hK hP hD hS => ?_)
  have hP : va_P (dC, dI) vwCl [(h, .inr (1, [.int 0, .ref q1, .ref q2, .ref q3, .null, .null, .null, .null, .null, .null, .int 0])), (q1, .inl (c1, (40, .inl (fun _ => 0)))), (q2, .inl (c2, (40, .inl (fun _ => 0)))), (q3, .inl (c3, (40, .inl (fun _ => 0)))), (q4, .inl (c4, (40, .inl (fun _ => 0))))] H := hP
  have hD : va_D A [(h, .inr (1, [.int 0, .ref q1, .ref q2, .ref q3, .null, .null, .null, .null, .null, .null, .int 0])), (q1, .inl (c1, (40, .inl (fun _ => 0)))), (q2, .inl (c2, (40, .inl (fun _ => 0)))), (q3, .inl (c3, (40, .inl (fun _ => 0)))), (q4, .inl (c4, (40, .inl (fun _ => 0))))] := hD
  have hK : va_K (dC, dI) vwCl [(c1, .int), (c2, .int), (c3, .int), (c4, .int)] s := hK
  refine W.widen (k := 4) (n := 160) (by omega) (by first | omega | (dsimp only; omega)) ?_
  refine va_putF (D := (dC, dI)) (ci := 1) (v := .ref q4) (ty := .array .int) (C := RX1) (T := TX1) (N := 11) hx hb hts in_X1 tyX1 tyX1_ok nmX1 hown hK hP hD hS 0 rfl rfl 4 (by decide) (hts _ q149) (fun _ h9 => h9) rfl hin rfl (by decide +kernel) rfl rfl (Nat.le_of_ble_eq_true rfl) dX1_init_33 (fun H locs hP hD hS => ?_)
  have hP : va_P (dC, dI) vwCl [(h, .inr (1, [.int 0, .ref q1, .ref q2, .ref q3, .ref q4, .null, .null, .null, .null, .null, .int 0])), (q1, .inl (c1, (40, .inl (fun _ => 0)))), (q2, .inl (c2, (40, .inl (fun _ => 0)))), (q3, .inl (c3, (40, .inl (fun _ => 0)))), (q4, .inl (c4, (40, .inl (fun _ => 0))))] H := hP
  have hD : va_D A [(h, .inr (1, [.int 0, .ref q1, .ref q2, .ref q3, .ref q4, .null, .null, .null, .null, .null, .int 0])), (q1, .inl (c1, (40, .inl (fun _ => 0)))), (q2, .inl (c2, (40, .inl (fun _ => 0)))), (q3, .inl (c3, (40, .inl (fun _ => 0)))), (q4, .inl (c4, (40, .inl (fun _ => 0))))] := hD
  refine lv_aload_n hx hb dX1_init_36 rfl (lv_at hl 0 rfl) ?_
  refine lv_sipush (v := 1600) hx hb dX1_init_37 (by decide) ?_
  refine va_newa (atype := .boolean) (a0 := (1600, .inl (fun _ => 0))) (N' := 1600) hx hb (hts _ q179) rfl hK hP hD hS hA (fun _ => rfl) (by decide) (by decide) (by decide) (Nat.le_of_ble_eq_true rfl) (Nat.le_of_ble_eq_true rfl) dX1_init_40 (fun q5 c5 H hK hP hD hS => ?_)
  have hP : va_P (dC, dI) vwCl [(h, .inr (1, [.int 0, .ref q1, .ref q2, .ref q3, .ref q4, .null, .null, .null, .null, .null, .int 0])), (q1, .inl (c1, (40, .inl (fun _ => 0)))), (q2, .inl (c2, (40, .inl (fun _ => 0)))), (q3, .inl (c3, (40, .inl (fun _ => 0)))), (q4, .inl (c4, (40, .inl (fun _ => 0)))), (q5, .inl (c5, (1600, .inl (fun _ => 0))))] H := hP
  have hD : va_D A [(h, .inr (1, [.int 0, .ref q1, .ref q2, .ref q3, .ref q4, .null, .null, .null, .null, .null, .int 0])), (q1, .inl (c1, (40, .inl (fun _ => 0)))), (q2, .inl (c2, (40, .inl (fun _ => 0)))), (q3, .inl (c3, (40, .inl (fun _ => 0)))), (q4, .inl (c4, (40, .inl (fun _ => 0)))), (q5, .inl (c5, (1600, .inl (fun _ => 0))))] := hD
  have hK : va_K (dC, dI) vwCl [(c1, .int), (c2, .int), (c3, .int), (c4, .int), (c5, .boolean)] s := hK
  refine W.widen (k := 5) (n := 1760) (by omega) (by first | omega | (dsimp only; omega)) ?_
  refine va_putF (D := (dC, dI)) (ci := 1) (v := .ref q5) (ty := .array .boolean) (C := RX1) (T := TX1) (N := 11) hx hb hts in_X1 tyX1 tyX1_ok nmX1 hown hK hP hD hS 0 rfl rfl 5 (by decide) (hts _ q150) (fun _ h9 => h9) rfl hin rfl (by decide +kernel) rfl rfl (Nat.le_of_ble_eq_true rfl) dX1_init_42 (fun H locs hP hD hS => ?_)
  have hP : va_P (dC, dI) vwCl [(h, .inr (1, [.int 0, .ref q1, .ref q2, .ref q3, .ref q4, .ref q5, .null, .null, .null, .null, .int 0])), (q1, .inl (c1, (40, .inl (fun _ => 0)))), (q2, .inl (c2, (40, .inl (fun _ => 0)))), (q3, .inl (c3, (40, .inl (fun _ => 0)))), (q4, .inl (c4, (40, .inl (fun _ => 0)))), (q5, .inl (c5, (1600, .inl (fun _ => 0))))] H := hP
  have hD : va_D A [(h, .inr (1, [.int 0, .ref q1, .ref q2, .ref q3, .ref q4, .ref q5, .null, .null, .null, .null, .int 0])), (q1, .inl (c1, (40, .inl (fun _ => 0)))), (q2, .inl (c2, (40, .inl (fun _ => 0)))), (q3, .inl (c3, (40, .inl (fun _ => 0)))), (q4, .inl (c4, (40, .inl (fun _ => 0)))), (q5, .inl (c5, (1600, .inl (fun _ => 0))))] := hD
  refine lv_aload_n hx hb dX1_init_45 rfl (lv_at hl 0 rfl) ?_
  refine lv_bipush (v := 120) hx hb dX1_init_46 (by decide) ?_
  refine va_newa (atype := .boolean) (a0 := (120, .inl (fun _ => 0))) (N' := 120) hx hb (hts _ q179) rfl hK hP hD hS hA (fun _ => rfl) (by decide) (by decide) (by decide) (Nat.le_of_ble_eq_true rfl) (Nat.le_of_ble_eq_true rfl) dX1_init_48 (fun q6 c6 H hK hP hD hS => ?_)
  have hP : va_P (dC, dI) vwCl [(h, .inr (1, [.int 0, .ref q1, .ref q2, .ref q3, .ref q4, .ref q5, .null, .null, .null, .null, .int 0])), (q1, .inl (c1, (40, .inl (fun _ => 0)))), (q2, .inl (c2, (40, .inl (fun _ => 0)))), (q3, .inl (c3, (40, .inl (fun _ => 0)))), (q4, .inl (c4, (40, .inl (fun _ => 0)))), (q5, .inl (c5, (1600, .inl (fun _ => 0)))), (q6, .inl (c6, (120, .inl (fun _ => 0))))] H := hP
  have hD : va_D A [(h, .inr (1, [.int 0, .ref q1, .ref q2, .ref q3, .ref q4, .ref q5, .null, .null, .null, .null, .int 0])), (q1, .inl (c1, (40, .inl (fun _ => 0)))), (q2, .inl (c2, (40, .inl (fun _ => 0)))), (q3, .inl (c3, (40, .inl (fun _ => 0)))), (q4, .inl (c4, (40, .inl (fun _ => 0)))), (q5, .inl (c5, (1600, .inl (fun _ => 0)))), (q6, .inl (c6, (120, .inl (fun _ => 0))))] := hD
  have hK : va_K (dC, dI) vwCl [(c1, .int), (c2, .int), (c3, .int), (c4, .int), (c5, .boolean), (c6, .boolean)] s := hK
  refine W.widen (k := 6) (n := 1880) (by omega) (by first | omega | (dsimp only; omega)) ?_
  refine va_putF (D := (dC, dI)) (ci := 1) (v := .ref q6) (ty := .array .boolean) (C := RX1) (T := TX1) (N := 11) hx hb hts in_X1 tyX1 tyX1_ok nmX1 hown hK hP hD hS 0 rfl rfl 6 (by decide) (hts _ q151) (fun _ h9 => h9) rfl hin rfl (by decide +kernel) rfl rfl (Nat.le_of_ble_eq_true rfl) dX1_init_50 (fun H locs hP hD hS => ?_)
  have hP : va_P (dC, dI) vwCl [(h, .inr (1, [.int 0, .ref q1, .ref q2, .ref q3, .ref q4, .ref q5, .ref q6, .null, .null, .null, .int 0])), (q1, .inl (c1, (40, .inl (fun _ => 0)))), (q2, .inl (c2, (40, .inl (fun _ => 0)))), (q3, .inl (c3, (40, .inl (fun _ => 0)))), (q4, .inl (c4, (40, .inl (fun _ => 0)))), (q5, .inl (c5, (1600, .inl (fun _ => 0)))), (q6, .inl (c6, (120, .inl (fun _ => 0))))] H := hP
  have hD : va_D A [(h, .inr (1, [.int 0, .ref q1, .ref q2, .ref q3, .ref q4, .ref q5, .ref q6, .null, .null, .null, .int 0])), (q1, .inl (c1, (40, .inl (fun _ => 0)))), (q2, .inl (c2, (40, .inl (fun _ => 0)))), (q3, .inl (c3, (40, .inl (fun _ => 0)))), (q4, .inl (c4, (40, .inl (fun _ => 0)))), (q5, .inl (c5, (1600, .inl (fun _ => 0)))), (q6, .inl (c6, (120, .inl (fun _ => 0))))] := hD
  refine lv_aload_n hx hb dX1_init_53 rfl (lv_at hl 0 rfl) ?_
  refine lv_bipush (v := 120) hx hb dX1_init_54 (by decide) ?_
  refine va_newa (atype := .boolean) (a0 := (120, .inl (fun _ => 0))) (N' := 120) hx hb (hts _ q179) rfl hK hP hD hS hA (fun _ => rfl) (by decide) (by decide) (by decide) (Nat.le_of_ble_eq_true rfl) (Nat.le_of_ble_eq_true rfl) dX1_init_56 (fun q7 c7 H hK hP hD hS => ?_)
  have hP : va_P (dC, dI) vwCl [(h, .inr (1, [.int 0, .ref q1, .ref q2, .ref q3, .ref q4, .ref q5, .ref q6, .null, .null, .null, .int 0])), (q1, .inl (c1, (40, .inl (fun _ => 0)))), (q2, .inl (c2, (40, .inl (fun _ => 0)))), (q3, .inl (c3, (40, .inl (fun _ => 0)))), (q4, .inl (c4, (40, .inl (fun _ => 0)))), (q5, .inl (c5, (1600, .inl (fun _ => 0)))), (q6, .inl (c6, (120, .inl (fun _ => 0)))), (q7, .inl (c7, (120, .inl (fun _ => 0))))] H := hP
  have hD : va_D A [(h, .inr (1, [.int 0, .ref q1, .ref q2, .ref q3, .ref q4, .ref q5, .ref q6, .null, .null, .null, .int 0])), (q1, .inl (c1, (40, .inl (fun _ => 0)))), (q2, .inl (c2, (40, .inl (fun _ => 0)))), (q3, .inl (c3, (40, .inl (fun _ => 0)))), (q4, .inl (c4, (40, .inl (fun _ => 0)))), (q5, .inl (c5, (1600, .inl (fun _ => 0)))), (q6, .inl (c6, (120, .inl (fun _ => 0)))), (q7, .inl (c7, (120, .inl (fun _ => 0))))] := hD
  have hK : va_K (dC, dI) vwCl [(c1, .int), (c2, .int), (c3, .int), (c4, .int), (c5, .boolean), (c6, .boolean), (c7, .boolean)] s := hK
  refine W.widen (k := 7) (n := 2000) (by omega) (by first | omega | (dsimp only; omega)) ?_
  refine va_putF (D := (dC, dI)) (ci := 1) (v := .ref q7) (ty := .array .boolean) (C := RX1) (T := TX1) (N := 11) hx hb hts in_X1 tyX1 tyX1_ok nmX1 hown hK hP hD hS 0 rfl rfl 7 (by decide) (hts _ q152) (fun _ h9 => h9) rfl hin rfl (by decide +kernel) rfl rfl (Nat.le_of_ble_eq_true rfl) dX1_init_58 (fun H locs hP hD hS => ?_)
  have hP : va_P (dC, dI) vwCl [(h, .inr (1, [.int 0, .ref q1, .ref q2, .ref q3, .ref q4, .ref q5, .ref q6, .ref q7, .null, .null, .int 0])), (q1, .inl (c1, (40, .inl (fun _ => 0)))), (q2, .inl (c2, (40, .inl (fun _ => 0)))), (q3, .inl (c3, (40, .inl (fun _ => 0)))), (q4, .inl (c4, (40, .inl (fun _ => 0)))), (q5, .inl (c5, (1600, .inl (fun _ => 0)))), (q6, .inl (c6, (120, .inl (fun _ => 0)))), (q7, .inl (c7, (120, .inl (fun _ => 0))))] H := hP
  have hD : va_D A [(h, .inr (1, [.int 0, .ref q1, .ref q2, .ref q3, .ref q4, .ref q5, .ref q6, .ref q7, .null, .null, .int 0])), (q1, .inl (c1, (40, .inl (fun _ => 0)))), (q2, .inl (c2, (40, .inl (fun _ => 0)))), (q3, .inl (c3, (40, .inl (fun _ => 0)))), (q4, .inl (c4, (40, .inl (fun _ => 0)))), (q5, .inl (c5, (1600, .inl (fun _ => 0)))), (q6, .inl (c6, (120, .inl (fun _ => 0)))), (q7, .inl (c7, (120, .inl (fun _ => 0))))] := hD
  refine lv_aload_n hx hb dX1_init_61 rfl (lv_at hl 0 rfl) ?_
  refine lv_iconst (v := 3) hx hb dX1_init_62 (by decide) ?_
  refine va_newa (atype := .int) (a0 := (3, .inl (fun _ => 0))) (N' := 3) hx hb (hts _ q55) rfl hK hP hD hS hA (fun _ => rfl) (by decide) (by decide) (by decide) (Nat.le_of_ble_eq_true rfl) (Nat.le_of_ble_eq_true rfl) dX1_init_63 (fun q8 c8 H hK hP hD hS => ?_)
  have hP : va_P (dC, dI) vwCl [(h, .inr (1, [.int 0, .ref q1, .ref q2, .ref q3, .ref q4, .ref q5, .ref q6, .ref q7, .null, .null, .int 0])), (q1, .inl (c1, (40, .inl (fun _ => 0)))), (q2, .inl (c2, (40, .inl (fun _ => 0)))), (q3, .inl (c3, (40, .inl (fun _ => 0)))), (q4, .inl (c4, (40, .inl (fun _ => 0)))), (q5, .inl (c5, (1600, .inl (fun _ => 0)))), (q6, .inl (c6, (120, .inl (fun _ => 0)))), (q7, .inl (c7, (120, .inl (fun _ => 0)))), (q8, .inl (c8, (3, .inl (fun _ => 0))))] H := hP
  have hD : va_D A [(h, .inr (1, [.int 0, .ref q1, .ref q2, .ref q3, .ref q4, .ref q5, .ref q6, .ref q7, .null, .null, .int 0])), (q1, .inl (c1, (40, .inl (fun _ => 0)))), (q2, .inl (c2, (40, .inl (fun _ => 0)))), (q3, .inl (c3, (40, .inl (fun _ => 0)))), (q4, .inl (c4, (40, .inl (fun _ => 0)))), (q5, .inl (c5, (1600, .inl (fun _ => 0)))), (q6, .inl (c6, (120, .inl (fun _ => 0)))), (q7, .inl (c7, (120, .inl (fun _ => 0)))), (q8, .inl (c8, (3, .inl (fun _ => 0))))] := hD
  have hK : va_K (dC, dI) vwCl [(c1, .int), (c2, .int), (c3, .int), (c4, .int), (c5, .boolean), (c6, .boolean), (c7, .boolean), (c8, .int)] s := hK
  refine W.widen (k := 8) (n := 2003) (by omega) (by first | omega | (dsimp only; omega)) ?_
  refine va_putF (D := (dC, dI)) (ci := 1) (v := .ref q8) (ty := .array .int) (C := RX1) (T := TX1) (N := 11) hx hb hts in_X1 tyX1 tyX1_ok nmX1 hown hK hP hD hS 0 rfl rfl 8 (by decide) (hts _ q153) (fun _ h9 => h9) rfl hin rfl (by decide +kernel) rfl rfl (Nat.le_of_ble_eq_true rfl) dX1_init_65 (fun H locs hP hD hS => ?_)
  have hP : va_P (dC, dI) vwCl [(h, .inr (1, [.int 0, .ref q1, .ref q2, .ref q3, .ref q4, .ref q5, .ref q6, .ref q7, .ref q8, .null, .int 0])), (q1, .inl (c1, (40, .inl (fun _ => 0)))), (q2, .inl (c2, (40, .inl (fun _ => 0)))), (q3, .inl (c3, (40, .inl (fun _ => 0)))), (q4, .inl (c4, (40, .inl (fun _ => 0)))), (q5, .inl (c5, (1600, .inl (fun _ => 0)))), (q6, .inl (c6, (120, .inl (fun _ => 0)))), (q7, .inl (c7, (120, .inl (fun _ => 0)))), (q8, .inl (c8, (3, .inl (fun _ => 0))))] H := hP
  have hD : va_D A [(h, .inr (1, [.int 0, .ref q1, .ref q2, .ref q3, .ref q4, .ref q5, .ref q6, .ref q7, .ref q8, .null, .int 0])), (q1, .inl (c1, (40, .inl (fun _ => 0)))), (q2, .inl (c2, (40, .inl (fun _ => 0)))), (q3, .inl (c3, (40, .inl (fun _ => 0)))), (q4, .inl (c4, (40, .inl (fun _ => 0)))), (q5, .inl (c5, (1600, .inl (fun _ => 0)))), (q6, .inl (c6, (120, .inl (fun _ => 0)))), (q7, .inl (c7, (120, .inl (fun _ => 0)))), (q8, .inl (c8, (3, .inl (fun _ => 0))))] := hD
  refine lv_aload_n hx hb dX1_init_68 rfl (lv_at hl 0 rfl) ?_
  refine lv_bipush (v := 40) hx hb dX1_init_69 (by decide) ?_
  refine va_newa (atype := .int) (a0 := (40, .inl (fun _ => 0))) (N' := 40) hx hb (hts _ q55) rfl hK hP hD hS hA (fun _ => rfl) (by decide) (by decide) (by decide) (Nat.le_of_ble_eq_true rfl) (Nat.le_of_ble_eq_true rfl) dX1_init_71 (fun q9 c9 H hK hP hD hS => ?_)
  have hP : va_P (dC, dI) vwCl [(h, .inr (1, [.int 0, .ref q1, .ref q2, .ref q3, .ref q4, .ref q5, .ref q6, .ref q7, .ref q8, .null, .int 0])), (q1, .inl (c1, (40, .inl (fun _ => 0)))), (q2, .inl (c2, (40, .inl (fun _ => 0)))), (q3, .inl (c3, (40, .inl (fun _ => 0)))), (q4, .inl (c4, (40, .inl (fun _ => 0)))), (q5, .inl (c5, (1600, .inl (fun _ => 0)))), (q6, .inl (c6, (120, .inl (fun _ => 0)))), (q7, .inl (c7, (120, .inl (fun _ => 0)))), (q8, .inl (c8, (3, .inl (fun _ => 0)))), (q9, .inl (c9, (40, .inl (fun _ => 0))))] H := hP
  have hD : va_D A [(h, .inr (1, [.int 0, .ref q1, .ref q2, .ref q3, .ref q4, .ref q5, .ref q6, .ref q7, .ref q8, .null, .int 0])), (q1, .inl (c1, (40, .inl (fun _ => 0)))), (q2, .inl (c2, (40, .inl (fun _ => 0)))), (q3, .inl (c3, (40, .inl (fun _ => 0)))), (q4, .inl (c4, (40, .inl (fun _ => 0)))), (q5, .inl (c5, (1600, .inl (fun _ => 0)))), (q6, .inl (c6, (120, .inl (fun _ => 0)))), (q7, .inl (c7, (120, .inl (fun _ => 0)))), (q8, .inl (c8, (3, .inl (fun _ => 0)))), (q9, .inl (c9, (40, .inl (fun _ => 0))))] := hD
  have hK : va_K (dC, dI) vwCl [(c1, .int), (c2, .int), (c3, .int), (c4, .int), (c5, .boolean), (c6, .boolean), (c7, .boolean), (c8, .int), (c9, .int)] s := hK
  refine W.widen (k := 9) (n := 2043) (by omega) (by first | omega | (dsimp only; omega)) ?_
  refine va_putF (D := (dC, dI)) (ci := 1) (v := .ref q9) (ty := .array .int) (C := RX1) (T := TX1) (N := 11) hx hb hts in_X1 tyX1 tyX1_ok nmX1 hown hK hP hD hS 0 rfl rfl 9 (by decide) (hts _ q154) (fun _ h9 => h9) rfl hin rfl (by decide +kernel) rfl rfl (Nat.le_of_ble_eq_true rfl) dX1_init_73 (fun H locs hP hD hS => ?_)
  have hP : va_P (dC, dI) vwCl [(h, .inr (1, [.int 0, .ref q1, .ref q2, .ref q3, .ref q4, .ref q5, .ref q6, .ref q7, .ref q8, .ref q9, .int 0])), (q1, .inl (c1, (40, .inl (fun _ => 0)))), (q2, .inl (c2, (40, .inl (fun _ => 0)))), (q3, .inl (c3, (40, .inl (fun _ => 0)))), (q4, .inl (c4, (40, .inl (fun _ => 0)))), (q5, .inl (c5, (1600, .inl (fun _ => 0)))), (q6, .inl (c6, (120, .inl (fun _ => 0)))), (q7, .inl (c7, (120, .inl (fun _ => 0)))), (q8, .inl (c8, (3, .inl (fun _ => 0)))), (q9, .inl (c9, (40, .inl (fun _ => 0))))] H := hP
  have hD : va_D A [(h, .inr (1, [.int 0, .ref q1, .ref q2, .ref q3, .ref q4, .ref q5, .ref q6, .ref q7, .ref q8, .ref q9, .int 0])), (q1, .inl (c1, (40, .inl (fun _ => 0)))), (q2, .inl (c2, (40, .inl (fun _ => 0)))), (q3, .inl (c3, (40, .inl (fun _ => 0)))), (q4, .inl (c4, (40, .inl (fun _ => 0)))), (q5, .inl (c5, (1600, .inl (fun _ => 0)))), (q6, .inl (c6, (120, .inl (fun _ => 0)))), (q7, .inl (c7, (120, .inl (fun _ => 0)))), (q8, .inl (c8, (3, .inl (fun _ => 0)))), (q9, .inl (c9, (40, .inl (fun _ => 0))))] := hD
  obtain rfl : c1 = c2 := (ra_oneC_int hK (i := 0) (j := 1) rfl rfl).symm
  obtain rfl : c1 = c3 := (ra_oneC_int hK (i := 0) (j := 2) rfl rfl).symm
  obtain rfl : c1 = c4 := (ra_oneC_int hK (i := 0) (j := 3) rfl rfl).symm
  obtain rfl : c5 = c6 := (ra_oneC_boolean hK (i := 4) (j := 5) rfl rfl).symm
  obtain rfl : c5 = c7 := (ra_oneC_boolean hK (i := 4) (j := 6) rfl rfl).symm
  obtain rfl : c1 = c8 := (ra_oneC_int hK (i := 0) (j := 7) rfl rfl).symm
  obtain rfl : c1 = c9 := (ra_oneC_int hK (i := 0) (j := 8) rfl rfl).symm
  have hK : va_K (dC, dI) vwCl [(c1, .int), (c5, .boolean)] s := hK.sub [0, 4] rfl
  have hP : va_P (dC, dI) vwCl (ra_wM h q1 q2 q3 q4 q5 q6 q7 q8 q9 c1 c5 0 (fun _ => 0) (fun _ => 0) (fun _ => 0) (fun _ => 0) (fun _ _ => false) (fun _ => 0) (fun _ => 0) (fun _ => 0) (fun _ => 0) 0) H := by unfold ra_wM; rw [ra_pm_0, ra_zA_0, ra_zb_0]; exact hP
  have hD : va_D A (ra_wM h q1 q2 q3 q4 q5 q6 q7 q8 q9 c1 c5 0 (fun _ => 0) (fun _ => 0) (fun _ => 0) (fun _ => 0) (fun _ _ => false) (fun _ => 0) (fun _ => 0) (fun _ => 0) (fun _ => 0) 0) := by unfold ra_wM; rw [ra_pm_0, ra_zA_0, ra_zb_0]; exact hD
  exact W.vret hx hb hr (fun t ht hW => ⟨⟨(), rfl, trivial, ⟨q1, q2, q3, q4, q5, q6, q7, q8, q9, c1, c5, by rw [ht]; exact hP, va_K.moved hW.alike hK, hD⟩⟩, hS.F ht⟩) hS.2.2 dX1_init_76
end
section
set_option maxRecDepth 100000
def R_law : String := "RgaTextLaw"
def lw_P (b : Addr) (xs : List Int32) (args : Array Value) (s : State) : Prop := args = #[.ref b] ∧ s.IntsAt b xs ∧ xs.length ≤ 256 ∧ (Jvm.Cond.and given_1 narrow_1).before args s = true
def lw_Q (_ : Array Value) (s : State) (o : Outcome) (t : State) : Prop := o = .returned (some (.int 1)) ∧ Framed s o t [] 600000 7290000
def lw_Z (below : List Frame) (a : Array Value) (s : State) : State → Prop := fun t => ∃ o, t.status = .running ∧ Ended t below o ∧ lw_Q a s o t
/-- the law's own end, with 1 on the stack, nothing written that was there before, its room as the claim has it -/
theorem lw_ret {p : Program} {l : Launch} {e : Env} {s : State} {m : MethodId} {below : List Frame} {meth : Method} {c : Code} {b : Nat} (hx : p.tables.exec = Jvm.exec) (hb : c.code = code) (hr : meth.sig.returnType = ret) (hlocks : meth.locks = false) {pc : Nat} {H : Heap} {ls : Array Slot} (hdg : decode code pc = .ok (.ireturn, 1)) : W p l e room_1 s m #[Value.ref b] below meth c H [] 600000 7290000 (lw_Z below #[Value.ref b] s) (F0 m pc ls [.int 1]) := by
  intro T hT X
  obtain ⟨fs, hret, hrun, hended, hW, hframe⟩ := X.leave (v := some (.int 1)) (hlocks := hlocks) (fun h => by rw [hr] at h; cases h)
  have hmeth' : T.vm.method? m = some meth := X.method'
  refine ⟨T.setFrames fs, ?_, .returned (some (.int 1)), hrun, hended, rfl, ⟨_, rfl⟩, hW, hframe⟩
  jvm_step X.here [X.here.top, hx, hb, hdg, hmeth', hr, ret, narrow_b1]
  (try refine ⟨rfl, ?_⟩); (try refine ⟨rfl, ?_⟩)
  first | (intro acts; rw [hret _ acts rfl rfl rfl]) | rw [hret _ _ rfl rfl rfl]
  exact Steps.refl _
/-- what holds at the law's entry: the machine, the code, the tables' words (any of lw_tbl by 'hts w (by decide +kernel)'), the script of L ints xs at the cell b, what the Statement gives of the start (any of its parts by flat_of_before) -/
def lw_At (p : Program) (s : State) (m : MethodId) (meth : Method) (c : Code) (b L : Nat) (xs : Nat → Int32) : Prop :=
  p.tables.exec = Jvm.exec ∧ c.code = code ∧ meth.sig.returnType = ret ∧ c.maxLocals = 4 ∧ s.vm.findClass R_law = some m.cls ∧ (∀ w ∈ lw_tbl, w.before #[Value.ref b] s = true) ∧ va_X b L xs s s.heap ∧ b < s.heap.size ∧ meth.locks = false ∧ (Jvm.Cond.and given_1 narrow_1).before #[Value.ref b] s = true
end
section
/-! LAW, base: the world of both objects, calls with a frame, the script -/
set_option maxRecDepth 100000
theorem ra_D_left {A : Nat → Prop} {w1 w2 : va_W} (h : va_D A (w1 ++ w2)) : va_D A w1 := by
  have e : ∀ (i : Nat) (q : Nat × va_E), w1[i]? = some q → (w1 ++ w2)[i]? = some q := fun i q hq => by
    rw [List.getElem?_append_left (List.getElem?_eq_some_iff.mp hq).1]
    exact hq
  exact ⟨fun i j x y hi hj hxy => h.1 i j x y (e i x hi) (e j y hj) hxy, fun k q hk => h.2 k q (e k q hk)⟩
theorem ra_D_right {A : Nat → Prop} {w1 w2 : va_W} (h : va_D A (w1 ++ w2)) : va_D A w2 := by
  have e : ∀ (i : Nat) (q : Nat × va_E), w2[i]? = some q → (w1 ++ w2)[w1.length + i]? = some q := fun i q hq => by
    rw [List.getElem?_append_right (by omega), Nat.add_sub_cancel_left]
    exact hq
  refine ⟨fun i j x y hi hj hxy => ?_, fun k q hk => h.2 _ q (e k q hk)⟩
  have := h.1 _ _ x y (e i x hi) (e j y hj) hxy
  omega
theorem ra_D_apart {A : Nat → Prop} {w1 w2 : va_W} (h : va_D A (w1 ++ w2)) (i j : Nat) (x y : Nat × va_E) (hi : w1[i]? = some x) (hj : w2[j]? = some y) : x.1 ≠ y.1 := by
  intro hxy
  have hl := (List.getElem?_eq_some_iff.mp hi).1
  have e1 : (w1 ++ w2)[i]? = some x := by
    rw [List.getElem?_append_left hl]
    exact hi
  have e2 : (w1 ++ w2)[w1.length + j]? = some y := by
    rw [List.getElem?_append_right (by omega), Nat.add_sub_cancel_left]
    exact hj
  have := h.1 _ _ x y e1 e2 hxy
  omega
theorem ra_D_comm {A : Nat → Prop} {w1 w2 : va_W} (h : va_D A (w1 ++ w2)) : va_D A (w2 ++ w1) := va_D.app (ra_D_right h) (ra_D_left h) (fun i j x y hi hj e => ra_D_apart h j i y x hj hi e.symm)
section RaF
variable {p : Program} {l : Launch} {e : Env} {R : Room} {s : State} {m : MethodId} {args : Array Value} {below : List Frame} {meth : Method} {c : Code} {H : Heap} {locs : List Loc} {cells slots : Nat} {Q : State → Prop}
variable {cc : ByteArray} {pc : Nat} {ls : Array Slot} {rest : List Value} {D : va_G} {cl : List vw_C} {A : Nat → Prop} {tys : List (ClassId × FieldType)} {wc wr : va_W} {H0 : Heap}
variable {y : MethodName} {bytes : ByteArray} {maxL nL n index : Nat} {ret0 : Option FieldType} {wl : List Cond} {rm : Room} {Ts : List Cond} {own Cn : String} {b : Addr} {st0 : List Value}
/-- a call that writes the cells wc; the cells wr stay -/
theorem ra_cVf {S : Type} {wf : S → va_W} {post : Int32 → S → Prop} (Sf : CallFix p m c cc nL s args Ts own) (As rest : List Value) (hM : Met l y wl rm (va_Pc (.ref b :: As) (fun U => U.heap.size = H.size ∧ va_P D cl wc U.heap ∧ va_K D cl tys U ∧ va_D (fun _ => True) wc)) (va_Qi post (fun u t => va_P D cl (wf u) t.heap ∧ va_K D cl tys t ∧ va_D (va_A wc H.size) (wf u)) (va_A wc H.size)) 0 0 (va_A wc H.size)) (cw : CallW R s args own Cn index y bytes maxL ret0 wl rm 0 0 n) (hP : va_P D cl wc H) (hPr : va_P D cl wr H) (hK : va_K D cl tys s) (hD : va_D A (wr ++ wc)) (hS : va_S A H0 H locs) (hA : ∀ q, H0.size ≤ q → A q)
    (hrv : ∃ cell : Cell, H[b]? = some cell ∧ cell.vm.isStatics = false ∧ s.vm.findClass Cn = some cell.cls) (hn : As.length = n) (hsize : ls.size = nL) (hst : st0 = As.reverse ++ .ref b :: rest) (hW : (rest.map fun v => v.category).sum ≤ 8) (hdg : decode cc pc = .ok (.invokevirtual index, 3)) (hf : cells ≤ R.cells ∧ slots ≤ R.slots)
    (kk : ∀ (r : Int32) (u : S) (H1 : Heap) (locs1 : List Loc), post r u → va_P D cl (wf u) H1 → va_P D cl wr H1 → va_D A (wr ++ wf u) → va_S A H0 H1 locs1 → W p l e R s m args below meth c H1 locs1 cells slots Q (F0 m (pc + 3) ls (.int r :: rest))) : W p l e R s m args below meth c H locs cells slots Q (F0 m pc ls st0) := by
  subst hst
  have hDc := ra_D_right hD
  have hF : ∀ q, va_A wc H.size q → A q := by
    intro q h
    rcases h with ⟨k, x, h⟩ | h
    · exact hDc.2 k (q, x) h
    · exact hA q (Nat.le_trans hS.1 h)
  have apart : ∀ (k : Nat) (q : Nat × va_E), wr[k]? = some q → q.1 < H.size ∧ ¬ va_A wc H.size q.1 := by
    intro k q hq
    have hl := (hPr k q hq).lt
    refine ⟨hl, fun h => ?_⟩
    rcases h with ⟨k2, x, h⟩ | h
    · exact ra_D_apart hD k k2 q (q.1, x) hq h rfl
    · omega
  refine va_calli (va_runV (As := As) (rest := rest) Sf hM cw ⟨ra_fbW, hrv, fun U hU hw => ⟨rfl, by rw [hU], by rw [hU]; exact hP, va_K.moved hw.alike hK, hDc.weaken (fun _ _ _ _ => trivial)⟩⟩ rfl hn hsize rfl (lv_room hW) hdg hf) hS (fun q _ h => hF q h) hF (fun r u t H1 locs1 ht hvm hw hB hz1 hk1 hS1 => ?_)
  obtain ⟨hP1, hK1, hD1⟩ := hB
  rw [ht] at hP1
  refine kk r u H1 locs1 hw hP1 (hPr.kept (fun k q hq => hk1 q.1 (apart k q hq).1 (apart k q hq).2)) (va_D.app (ra_D_left hD) (hD1.weaken (fun _ q _ h => hF q.1 h)) ?_) hS1
  intro i j x y hx hy hxy
  exact (apart i x hx).2 (by rw [hxy]; exact hD1.2 j y hy)
theorem ra_sld (hexec : p.tables.exec = Jvm.exec) (hb : c.code = cc) {b L : Nat} {xs : Nat → Int32} (hX : va_X b L xs s H0) (hbl : b < H0.size) (hbA : ¬ A b) (hS : va_S A H0 H locs) {i : Int32} {k : Nat} (hi : i = nI k) (hk : k < L) (hL : L < 2 ^ 31) (hdg : decode cc pc = .ok (.iaload, 1))
    (kk : W p l e R s m args below meth c H locs cells slots Q (F0 m (pc + 1) ls (.int (xs k) :: rest))) : W p l e R s m args below meth c H locs cells slots Q (F0 m pc ls (.int i :: .ref b :: rest)) := by
  subst hi
  refine va_sld hexec hb hX hbl hbA hS (vp_in_nI hk hL) hdg ?_
  rw [nI_clamp (Nat.lt_trans hk hL)]
  exact kk
end RaF
/-- both objects hold one and the same shared state -/
def ra_St (dC : Nat → ClassId) (dI : Nat → Nat → Nat) (A : Nat → Prop) (H0 : Heap) (h q1 q2 q3 q4 q5 q6 q7 q8 : Nat) (cI cL : ClassId) (g g1 g2 g3 g4 g5 g6 g7 g8 g9 : Nat) (cJ cZ : ClassId) (H : Heap) (locs : List Loc) : Prop :=
  ∃ (n : Nat) (fl : Nat → Int32) (S O P C : Nat → Nat) (fk fg : Nat → Int64) (fn : Nat → Int32) (Xl : Nat → List Nat) (AB : Nat → Nat → Bool) (fr : Nat → Int32) (od : Int32),
    ra_inv n S O P C fk fg Xl ∧ ra_ab n P AB ∧ (∀ rp, rp < 3 → ra_ls fn rp (Xl rp)) ∧
    va_P (dC, dI) vwCl (ra_wX h q1 q2 q3 q4 q5 q6 q7 q8 cI cL n fl S O P C fk fg fn) H ∧
    va_P (dC, dI) vwCl (ra_wM g g1 g2 g3 g4 g5 g6 g7 g8 g9 cJ cZ n fl S O P AB fk fg C fr od) H ∧
    va_D A (ra_wX h q1 q2 q3 q4 q5 q6 q7 q8 cI cL n fl S O P C fk fg fn ++ ra_wM g g1 g2 g3 g4 g5 g6 g7 g8 g9 cJ cZ n fl S O P AB fk fg C fr od) ∧ va_S A H0 H locs
/-- what X's learn asks of each step, and the clocks' bound -/
theorem ra_ln_st {n : Nat} {S O P C : Nat → Nat} {fk fg : Nat → Int64} {Xl : Nat → List Nat} (h : ra_inv n S O P C fk fg Xl) {rt rf : Nat} (ht : rt < 3) (hf : rf < 3) (hne : rt ≠ rf) (i : Nat) (hi : i < n) (h1 : ra_bt ((ra_ln S O P rt rf (C, fk, fg, Xl rt, 0) i).2.1 rf) i = true) (h2 : ra_bt ((ra_ln S O P rt rf (C, fk, fg, Xl rt, 0) i).2.1 rt) i = false) :
    (ra_ln S O P rt rf (C, fk, fg, Xl rt, 0) i).2.2.2.1.Nodup ∧ i ∉ (ra_ln S O P rt rf (C, fk, fg, Xl rt, 0) i).2.2.2.1 ∧ (P i = 40 ∨ P i ∈ (ra_ln S O P rt rf (C, fk, fg, Xl rt, 0) i).2.2.2.1) ∧ (ra_ln S O P rt rf (C, fk, fg, Xl rt, 0) i).2.2.2.1.length ≤ 40 ∧ (ra_ln S O P rt rf (C, fk, fg, Xl rt, 0) i).1 rt ≤ 40 := by
  have ih := ra_ln_inv h ht hf hne i (by omega)
  generalize ra_ln S O P rt rf (C, fk, fg, Xl rt, 0) i = s0 at ih h1 h2 ⊢
  obtain ⟨C1, k1, g1, L, t⟩ := s0
  obtain ⟨i1, i2, i3⟩ := ih
  have i1 : ra_inv n S O P C1 k1 g1 (va_up Xl rt L) := i1
  have i2 : ∀ r, r ≠ rt → k1 r = fk r ∧ g1 r = fg r := i2
  have i3 : ∀ j, j < i → ra_bt (fk rf) j = true → ra_bt (k1 rt) j = true := i3
  have h1 : ra_bt (k1 rf) i = true := h1
  have h2 : ra_bt (k1 rt) i = false := h2
  have hn40 := i1.1.1
  have hkf : k1 rf = fk rf := (i2 rf (Ne.symm hne)).1
  obtain ⟨-, -, a3, a4, -⟩ := i1.1.2.2.2.2.2 rt ht
  rw [ra_upS] at a3 a4
  have hlen := ra_inv_l40 i1 ht
  rw [ra_upS] at hlen
  refine ⟨a3, ?_, ?_, hlen, Nat.le_trans (i1.1.2.2.2.2.1 rt ht) hn40⟩
  · intro q
    have := ((a4 i).mp q).2
    rw [h2] at this
    cases this
  · rcases ((i1.1.2.2.2.2.2 rf hf).1 i (by omega) h1).2.2 with q | q
    · exact Or.inl q
    · rcases i1.1.2.2.1 i hi with q2 | ⟨q2, -⟩
      · exact Or.inl q2
      · exact Or.inr ((a4 _).mpr ⟨by omega, i3 (P i) q2 (by rw [← hkf]; exact q)⟩)
theorem ra_ln_C {n : Nat} {S O P C : Nat → Nat} {fk fg : Nat → Int64} {Xl : Nat → List Nat} (h : ra_inv n S O P C fk fg Xl) {rt rf : Nat} (ht : rt < 3) (hf : rf < 3) (hne : rt ≠ rf) (i : Nat) (hi : i ≤ n) : (ra_ln S O P rt rf (C, fk, fg, Xl rt, 0) i).1 rt ≤ 40 := Nat.le_trans ((ra_ln_inv h ht hf hne i hi).1.1.2.2.2.2.1 rt ht) h.1.1
theorem ra_go {i L : Nat} (hL : L ≤ 256) (hi : i ≤ 1000) (h : ¬ (nI L - 4 < nI i)) : i + 4 ≤ L := by
  rw [Int32.lt_iff_toInt_lt, show (nI L - 4).toInt = (L : Int) - 4 from pk_sub_toInt (a := L) (b := 4) (by omega) (by decide), nI_toInt (by omega)] at h
  omega
end
section
set_option maxRecDepth 100000
set_option maxHeartbeats 4000000 in
set_option maxRecDepth 100000 in
theorem law_3 {p : Program} {l : Launch} {e : Env} {s : State} {m : MethodId} {below : List Frame} {meth : Method} {c : Code} {dC : Nat → ClassId} {dI : Nat → Nat → Nat} {b L : Nat} {xs : Nat → Int32} {h q1 q2 q3 q4 q5 q6 q7 q8 g g1 g2 g3 g4 g5 g6 g7 g8 g9 : Nat} {cI cL cJ cZ : ClassId} (hL : L ≤ 256) (C0 : lw_At p s m meth c b L xs) (hKx : va_K (dC, dI) vwCl [(cI, .int), (cL, .long)] s) (hKm : va_K (dC, dI) vwCl [(cJ, .int), (cZ, .boolean)] s) {i : Nat} (hi : i + 4 ≤ L) {H : Heap} {locs : List Loc} (hSt : ra_St dC dI (fun q : Nat => s.heap.size ≤ q) s.heap h q1 q2 q3 q4 q5 q6 q7 q8 cI cL g g1 g2 g3 g4 g5 g6 g7 g8 g9 cJ cZ H locs) {ls : Array Slot} (hl : lv_has ls 4 [(3, .int (nI i)), (0, .ref b), (1, .ref h), (2, .ref g)]) (K : ∀ (H : Heap) (locs : List Loc), ra_St dC dI (fun q : Nat => s.heap.size ≤ q) s.heap h q1 q2 q3 q4 q5 q6 q7 q8 cI cL g g1 g2 g3 g4 g5 g6 g7 g8 g9 cJ cZ H locs → W p l e room_1 s m #[Value.ref b] below meth c H locs 600000 7290000 (lw_Z below #[Value.ref b] s) (F0 m 408 ls [])) : W p l e room_1 s m #[Value.ref b] below meth c H locs 600000 7290000 (lw_Z below #[Value.ref b] s) (F0 m 197 ls []) := by
  obtain ⟨hx, hb, hr, hml, hown, hts0, hX, hbl, hlocks, hgv⟩ := C0
  have hts : ∀ w ∈ lw_all, w.before #[Value.ref b] s = true := fun w h => hts0 w (lw_all_tbl h)
  have hA : ∀ q : Nat, s.heap.size ≤ q → (fun q : Nat => s.heap.size ≤ q) q := fun _ h => h
  have hbA : ¬ (fun q : Nat => s.heap.size ≤ q) b := Nat.not_le.mpr hbl
  obtain ⟨n, fl, S, O, P, C, fk, fg, fn, Xl, AB, fr, od, hI, hAB, hls, hPx, hPm, hD, hS⟩ := hSt
  have hF : ∀ rp, rp < 3 → ra_ls fn rp (Xl rp) ∧ (Xl rp).length ≤ 40 := fun rp hr => ⟨hls rp hr, ra_inv_l40 hI hr⟩
  have hn40 : n ≤ 40 := hI.1.1
  refine lv_aload_n hx hb dL_law_197 rfl (lv_at hl 2 rfl) ?_
  refine lv_aload_n hx hb dL_law_198 rfl (lv_at hl 1 rfl) ?_
  refine lv_iload_n hx hb dL_law_199 rfl (lv_at hl 0 rfl) ?_
  refine lv_iconst (v := 1) hx hb dL_law_200 (by decide) ?_
  refine lv_iadd hx hb dL_law_201 ?_
  refine ra_sld hx hb hX hbl hbA hS (k := i + 1) (nI_add i 1) (by omega) (by omega) dL_law_202 ?_
  refine ra_cV (Cn := RX0) ⟨hx, hb, hml, hown, hts⟩ [.int (xs (i + 1))] [] (mx_length l (xs (i + 1)) hn40) (cwV 1 hts (lw_V q99 q100 q101 q17 q102) rfl rfl rfl (by decide +kernel) ⟨Nat.le_of_ble_eq_true rfl, Nat.le_of_ble_eq_true rfl⟩) hPx hKx (va_recv hKx hPx (ci := 0) (q0 := 0) rfl rfl) rfl hl.1 rfl (Nat.le_of_ble_eq_true rfl) dL_law_203 ⟨Nat.le_of_ble_eq_true rfl, Nat.le_of_ble_eq_true rfl⟩ (fun z1 hz1 => ?_)
  refine lv_aload_n hx hb dL_law_206 rfl (lv_at hl 3 rfl) ?_
  refine lv_aload_n hx hb dL_law_207 rfl (lv_at hl 1 rfl) ?_
  refine lv_iload_n hx hb dL_law_208 rfl (lv_at hl 0 rfl) ?_
  refine lv_iconst (v := 1) hx hb dL_law_209 (by decide) ?_
  refine lv_iadd hx hb dL_law_210 ?_
  refine ra_sld hx hb hX hbl hbA hS (k := i + 1) (nI_add i 1) (by omega) (by omega) dL_law_211 ?_
  refine ra_cV (Cn := RX1) ⟨hx, hb, hml, hown, hts⟩ [.int (xs (i + 1))] [.int z1] (mm_length l (xs (i + 1)) hn40) (cwV 1 hts (lw_V q228 q189 q190 q18 q191) rfl rfl rfl (by decide +kernel) ⟨Nat.le_of_ble_eq_true rfl, Nat.le_of_ble_eq_true rfl⟩) hPm hKm (va_recv hKm hPm (ci := 1) (q0 := 0) rfl rfl) rfl hl.1 rfl (Nat.le_of_ble_eq_true rfl) dL_law_212 ⟨Nat.le_of_ble_eq_true rfl, Nat.le_of_ble_eq_true rfl⟩ (fun z2 hz2 => ?_)
  refine lv_icmp_eq (tgt := 408) hx hb dL_law_215 (by decide) (fun c_215 => ?_) (fun c_215 => ?_)
  · exact K H locs ⟨n, fl, S, O, P, C, fk, fg, fn, Xl, AB, fr, od, hI, hAB, hls, hPx, hPm, hD, hS⟩
  · exact absurd (hz1.trans hz2.symm) c_215
set_option maxHeartbeats 4000000 in
set_option maxRecDepth 100000 in
theorem law_4 {p : Program} {l : Launch} {e : Env} {s : State} {m : MethodId} {below : List Frame} {meth : Method} {c : Code} {dC : Nat → ClassId} {dI : Nat → Nat → Nat} {b L : Nat} {xs : Nat → Int32} {h q1 q2 q3 q4 q5 q6 q7 q8 g g1 g2 g3 g4 g5 g6 g7 g8 g9 : Nat} {cI cL cJ cZ : ClassId} (hL : L ≤ 256) (C0 : lw_At p s m meth c b L xs) (hKx : va_K (dC, dI) vwCl [(cI, .int), (cL, .long)] s) (hKm : va_K (dC, dI) vwCl [(cJ, .int), (cZ, .boolean)] s) {i : Nat} (hi : i + 4 ≤ L) {H : Heap} {locs : List Loc} (hSt : ra_St dC dI (fun q : Nat => s.heap.size ≤ q) s.heap h q1 q2 q3 q4 q5 q6 q7 q8 cI cL g g1 g2 g3 g4 g5 g6 g7 g8 g9 cJ cZ H locs) {ls : Array Slot} (hl : lv_has ls 4 [(3, .int (nI i)), (0, .ref b), (1, .ref h), (2, .ref g)]) (K : ∀ (H : Heap) (locs : List Loc), ra_St dC dI (fun q : Nat => s.heap.size ≤ q) s.heap h q1 q2 q3 q4 q5 q6 q7 q8 cI cL g g1 g2 g3 g4 g5 g6 g7 g8 g9 cJ cZ H locs → W p l e room_1 s m #[Value.ref b] below meth c H locs 600000 7290000 (lw_Z below #[Value.ref b] s) (F0 m 408 ls [])) : W p l e room_1 s m #[Value.ref b] below meth c H locs 600000 7290000 (lw_Z below #[Value.ref b] s) (F0 m 220 ls []) := by
  obtain ⟨hx, hb, hr, hml, hown, hts0, hX, hbl, hlocks, hgv⟩ := C0
  have hts : ∀ w ∈ lw_all, w.before #[Value.ref b] s = true := fun w h => hts0 w (lw_all_tbl h)
  have hA : ∀ q : Nat, s.heap.size ≤ q → (fun q : Nat => s.heap.size ≤ q) q := fun _ h => h
  have hbA : ¬ (fun q : Nat => s.heap.size ≤ q) b := Nat.not_le.mpr hbl
  obtain ⟨n, fl, S, O, P, C, fk, fg, fn, Xl, AB, fr, od, hI, hAB, hls, hPx, hPm, hD, hS⟩ := hSt
  have hF : ∀ rp, rp < 3 → ra_ls fn rp (Xl rp) ∧ (Xl rp).length ≤ 40 := fun rp hr => ⟨hls rp hr, ra_inv_l40 hI hr⟩
  have hn40 : n ≤ 40 := hI.1.1
  refine lv_aload_n hx hb dL_law_220 rfl (lv_at hl 2 rfl) ?_
  refine lv_aload_n hx hb dL_law_221 rfl (lv_at hl 1 rfl) ?_
  refine lv_iload_n hx hb dL_law_222 rfl (lv_at hl 0 rfl) ?_
  refine lv_iconst (v := 1) hx hb dL_law_223 (by decide) ?_
  refine lv_iadd hx hb dL_law_224 ?_
  refine ra_sld hx hb hX hbl hbA hS (k := i + 1) (nI_add i 1) (by omega) (by omega) dL_law_225 ?_
  refine lv_aload_n hx hb dL_law_226 rfl (lv_at hl 1 rfl) ?_
  refine lv_iload_n hx hb dL_law_227 rfl (lv_at hl 0 rfl) ?_
  refine lv_iconst (v := 2) hx hb dL_law_228 (by decide) ?_
  refine lv_iadd hx hb dL_law_229 ?_
  refine ra_sld hx hb hX hbl hbA hS (k := i + 2) (nI_add i 2) (by omega) (by omega) dL_law_230 ?_
  refine ra_cV (Cn := RX0) ⟨hx, hb, hml, hown, hts⟩ [.int (xs (i + 1)), .int (xs (i + 2))] [] (mx_charAt l (xs (i + 1)) (xs (i + 2)) hF) (cwV 2 hts (lw_V q103 q104 q105 q17 q106) rfl rfl rfl (by decide +kernel) ⟨Nat.le_of_ble_eq_true rfl, Nat.le_of_ble_eq_true rfl⟩) hPx hKx (va_recv hKx hPx (ci := 0) (q0 := 0) rfl rfl) rfl hl.1 rfl (Nat.le_of_ble_eq_true rfl) dL_law_231 ⟨Nat.le_of_ble_eq_true rfl, Nat.le_of_ble_eq_true rfl⟩ (fun z1 hz1 => ?_)
  refine lv_aload_n hx hb dL_law_234 rfl (lv_at hl 3 rfl) ?_
  refine lv_aload_n hx hb dL_law_235 rfl (lv_at hl 1 rfl) ?_
  refine lv_iload_n hx hb dL_law_236 rfl (lv_at hl 0 rfl) ?_
  refine lv_iconst (v := 1) hx hb dL_law_237 (by decide) ?_
  refine lv_iadd hx hb dL_law_238 ?_
  refine ra_sld hx hb hX hbl hbA hS (k := i + 1) (nI_add i 1) (by omega) (by omega) dL_law_239 ?_
  refine lv_aload_n hx hb dL_law_240 rfl (lv_at hl 1 rfl) ?_
  refine lv_iload_n hx hb dL_law_241 rfl (lv_at hl 0 rfl) ?_
  refine lv_iconst (v := 2) hx hb dL_law_242 (by decide) ?_
  refine lv_iadd hx hb dL_law_243 ?_
  refine ra_sld hx hb hX hbl hbA hS (k := i + 2) (nI_add i 2) (by omega) (by omega) dL_law_244 ?_
  refine ra_cVf (Cn := RX1) (wf := fun (u : (Nat → Int32) × Int32) => (ra_wM g g1 g2 g3 g4 g5 g6 g7 g8 g9 cJ cZ n fl S O P AB fk fg C u.1 u.2)) ⟨hx, hb, hml, hown, hts⟩ [.int (xs (i + 1)), .int (xs (i + 2))] [.int z1] (mm_charAt l H.size (xs (i + 1)) (xs (i + 2)) hI hAB) (cwV 2 hts (lw_V q229 q230 q231 q18 q232) rfl rfl rfl (by decide +kernel) ⟨Nat.le_of_ble_eq_true rfl, Nat.le_of_ble_eq_true rfl⟩) hPm hPx hKm hD hS hA (va_recv hKm hPm (ci := 1) (q0 := 0) rfl rfl) rfl hl.1 rfl (Nat.le_of_ble_eq_true rfl) dL_law_245 ⟨Nat.le_of_ble_eq_true rfl, Nat.le_of_ble_eq_true rfl⟩ (fun z2 u H locs hz2 hPm hPx hD hS => ?_)
  refine lv_icmp_eq (tgt := 408) hx hb dL_law_248 (by decide) (fun c_248 => ?_) (fun c_248 => ?_)
  · exact K H locs ⟨n, fl, S, O, P, C, fk, fg, fn, Xl, AB, u.1, u.2, hI, hAB, hls, hPx, hPm, hD, hS⟩
  · exact absurd (hz1.trans hz2.symm) c_248
set_option maxHeartbeats 4000000 in
set_option maxRecDepth 100000 in
theorem law_5 {p : Program} {l : Launch} {e : Env} {s : State} {m : MethodId} {below : List Frame} {meth : Method} {c : Code} {dC : Nat → ClassId} {dI : Nat → Nat → Nat} {b L : Nat} {xs : Nat → Int32} {h q1 q2 q3 q4 q5 q6 q7 q8 g g1 g2 g3 g4 g5 g6 g7 g8 g9 : Nat} {cI cL cJ cZ : ClassId} (hL : L ≤ 256) (C0 : lw_At p s m meth c b L xs) (hKx : va_K (dC, dI) vwCl [(cI, .int), (cL, .long)] s) (hKm : va_K (dC, dI) vwCl [(cJ, .int), (cZ, .boolean)] s) {i : Nat} (hi : i + 4 ≤ L) {H : Heap} {locs : List Loc} (hSt : ra_St dC dI (fun q : Nat => s.heap.size ≤ q) s.heap h q1 q2 q3 q4 q5 q6 q7 q8 cI cL g g1 g2 g3 g4 g5 g6 g7 g8 g9 cJ cZ H locs) {ls : Array Slot} (hl : lv_has ls 4 [(3, .int (nI i)), (0, .ref b), (1, .ref h), (2, .ref g)]) (K : ∀ (H : Heap) (locs : List Loc), ra_St dC dI (fun q : Nat => s.heap.size ≤ q) s.heap h q1 q2 q3 q4 q5 q6 q7 q8 cI cL g g1 g2 g3 g4 g5 g6 g7 g8 g9 cJ cZ H locs → W p l e room_1 s m #[Value.ref b] below meth c H locs 600000 7290000 (lw_Z below #[Value.ref b] s) (F0 m 408 ls [])) : W p l e room_1 s m #[Value.ref b] below meth c H locs 600000 7290000 (lw_Z below #[Value.ref b] s) (F0 m 253 ls []) := by
  obtain ⟨hx, hb, hr, hml, hown, hts0, hX, hbl, hlocks, hgv⟩ := C0
  have hts : ∀ w ∈ lw_all, w.before #[Value.ref b] s = true := fun w h => hts0 w (lw_all_tbl h)
  have hA : ∀ q : Nat, s.heap.size ≤ q → (fun q : Nat => s.heap.size ≤ q) q := fun _ h => h
  have hbA : ¬ (fun q : Nat => s.heap.size ≤ q) b := Nat.not_le.mpr hbl
  obtain ⟨n, fl, S, O, P, C, fk, fg, fn, Xl, AB, fr, od, hI, hAB, hls, hPx, hPm, hD, hS⟩ := hSt
  have hF : ∀ rp, rp < 3 → ra_ls fn rp (Xl rp) ∧ (Xl rp).length ≤ 40 := fun rp hr => ⟨hls rp hr, ra_inv_l40 hI hr⟩
  have hn40 : n ≤ 40 := hI.1.1
  refine lv_aload_n hx hb dL_law_253 rfl (lv_at hl 2 rfl) ?_
  refine lv_aload_n hx hb dL_law_254 rfl (lv_at hl 1 rfl) ?_
  refine lv_iload_n hx hb dL_law_255 rfl (lv_at hl 0 rfl) ?_
  refine lv_iconst (v := 1) hx hb dL_law_256 (by decide) ?_
  refine lv_iadd hx hb dL_law_257 ?_
  refine ra_sld hx hb hX hbl hbA hS (k := i + 1) (nI_add i 1) (by omega) (by omega) dL_law_258 ?_
  refine lv_aload_n hx hb dL_law_259 rfl (lv_at hl 1 rfl) ?_
  refine lv_iload_n hx hb dL_law_260 rfl (lv_at hl 0 rfl) ?_
  refine lv_iconst (v := 2) hx hb dL_law_261 (by decide) ?_
  refine lv_iadd hx hb dL_law_262 ?_
  refine ra_sld hx hb hX hbl hbA hS (k := i + 2) (nI_add i 2) (by omega) (by omega) dL_law_263 ?_
  refine ra_cV (Cn := RX0) ⟨hx, hb, hml, hown, hts⟩ [.int (xs (i + 1)), .int (xs (i + 2))] [] (mx_elementAt l (xs (i + 1)) (xs (i + 2)) hF) (cwV 2 hts (lw_V q107 q108 q109 q17 q110) rfl rfl rfl (by decide +kernel) ⟨Nat.le_of_ble_eq_true rfl, Nat.le_of_ble_eq_true rfl⟩) hPx hKx (va_recv hKx hPx (ci := 0) (q0 := 0) rfl rfl) rfl hl.1 rfl (Nat.le_of_ble_eq_true rfl) dL_law_264 ⟨Nat.le_of_ble_eq_true rfl, Nat.le_of_ble_eq_true rfl⟩ (fun z1 hz1 => ?_)
  refine lv_aload_n hx hb dL_law_267 rfl (lv_at hl 3 rfl) ?_
  refine lv_aload_n hx hb dL_law_268 rfl (lv_at hl 1 rfl) ?_
  refine lv_iload_n hx hb dL_law_269 rfl (lv_at hl 0 rfl) ?_
  refine lv_iconst (v := 1) hx hb dL_law_270 (by decide) ?_
  refine lv_iadd hx hb dL_law_271 ?_
  refine ra_sld hx hb hX hbl hbA hS (k := i + 1) (nI_add i 1) (by omega) (by omega) dL_law_272 ?_
  refine lv_aload_n hx hb dL_law_273 rfl (lv_at hl 1 rfl) ?_
  refine lv_iload_n hx hb dL_law_274 rfl (lv_at hl 0 rfl) ?_
  refine lv_iconst (v := 2) hx hb dL_law_275 (by decide) ?_
  refine lv_iadd hx hb dL_law_276 ?_
  refine ra_sld hx hb hX hbl hbA hS (k := i + 2) (nI_add i 2) (by omega) (by omega) dL_law_277 ?_
  refine ra_cVf (Cn := RX1) (wf := fun (u : (Nat → Int32) × Int32) => (ra_wM g g1 g2 g3 g4 g5 g6 g7 g8 g9 cJ cZ n fl S O P AB fk fg C u.1 u.2)) ⟨hx, hb, hml, hown, hts⟩ [.int (xs (i + 1)), .int (xs (i + 2))] [.int z1] (mm_elementAt l H.size (xs (i + 1)) (xs (i + 2)) hI hAB) (cwV 2 hts (lw_V q233 q201 q202 q18 q203) rfl rfl rfl (by decide +kernel) ⟨Nat.le_of_ble_eq_true rfl, Nat.le_of_ble_eq_true rfl⟩) hPm hPx hKm hD hS hA (va_recv hKm hPm (ci := 1) (q0 := 0) rfl rfl) rfl hl.1 rfl (Nat.le_of_ble_eq_true rfl) dL_law_278 ⟨Nat.le_of_ble_eq_true rfl, Nat.le_of_ble_eq_true rfl⟩ (fun z2 u H locs hz2 hPm hPx hD hS => ?_)
  refine lv_icmp_eq (tgt := 408) hx hb dL_law_281 (by decide) (fun c_281 => ?_) (fun c_281 => ?_)
  · exact K H locs ⟨n, fl, S, O, P, C, fk, fg, fn, Xl, AB, u.1, u.2, hI, hAB, hls, hPx, hPm, hD, hS⟩
  · exact absurd (hz1.trans hz2.symm) c_281
set_option maxHeartbeats 4000000 in
set_option maxRecDepth 100000 in
theorem law_6 {p : Program} {l : Launch} {e : Env} {s : State} {m : MethodId} {below : List Frame} {meth : Method} {c : Code} {dC : Nat → ClassId} {dI : Nat → Nat → Nat} {b L : Nat} {xs : Nat → Int32} {h q1 q2 q3 q4 q5 q6 q7 q8 g g1 g2 g3 g4 g5 g6 g7 g8 g9 : Nat} {cI cL cJ cZ : ClassId} (hL : L ≤ 256) (C0 : lw_At p s m meth c b L xs) (hKx : va_K (dC, dI) vwCl [(cI, .int), (cL, .long)] s) (hKm : va_K (dC, dI) vwCl [(cJ, .int), (cZ, .boolean)] s) {i : Nat} (hi : i + 4 ≤ L) {H : Heap} {locs : List Loc} (hSt : ra_St dC dI (fun q : Nat => s.heap.size ≤ q) s.heap h q1 q2 q3 q4 q5 q6 q7 q8 cI cL g g1 g2 g3 g4 g5 g6 g7 g8 g9 cJ cZ H locs) {ls : Array Slot} (hl : lv_has ls 4 [(3, .int (nI i)), (0, .ref b), (1, .ref h), (2, .ref g)]) (K : ∀ (H : Heap) (locs : List Loc), ra_St dC dI (fun q : Nat => s.heap.size ≤ q) s.heap h q1 q2 q3 q4 q5 q6 q7 q8 cI cL g g1 g2 g3 g4 g5 g6 g7 g8 g9 cJ cZ H locs → W p l e room_1 s m #[Value.ref b] below meth c H locs 600000 7290000 (lw_Z below #[Value.ref b] s) (F0 m 408 ls [])) : W p l e room_1 s m #[Value.ref b] below meth c H locs 600000 7290000 (lw_Z below #[Value.ref b] s) (F0 m 286 ls []) := by
  obtain ⟨hx, hb, hr, hml, hown, hts0, hX, hbl, hlocks, hgv⟩ := C0
  have hts : ∀ w ∈ lw_all, w.before #[Value.ref b] s = true := fun w h => hts0 w (lw_all_tbl h)
  have hA : ∀ q : Nat, s.heap.size ≤ q → (fun q : Nat => s.heap.size ≤ q) q := fun _ h => h
  have hbA : ¬ (fun q : Nat => s.heap.size ≤ q) b := Nat.not_le.mpr hbl
  obtain ⟨n, fl, S, O, P, C, fk, fg, fn, Xl, AB, fr, od, hI, hAB, hls, hPx, hPm, hD, hS⟩ := hSt
  have hF : ∀ rp, rp < 3 → ra_ls fn rp (Xl rp) ∧ (Xl rp).length ≤ 40 := fun rp hr => ⟨hls rp hr, ra_inv_l40 hI hr⟩
  have hn40 : n ≤ 40 := hI.1.1
  refine lv_aload_n hx hb dL_law_286 rfl (lv_at hl 2 rfl) ?_
  refine lv_aload_n hx hb dL_law_287 rfl (lv_at hl 1 rfl) ?_
  refine lv_iload_n hx hb dL_law_288 rfl (lv_at hl 0 rfl) ?_
  refine lv_iconst (v := 1) hx hb dL_law_289 (by decide) ?_
  refine lv_iadd hx hb dL_law_290 ?_
  refine ra_sld hx hb hX hbl hbA hS (k := i + 1) (nI_add i 1) (by omega) (by omega) dL_law_291 ?_
  refine lv_aload_n hx hb dL_law_292 rfl (lv_at hl 1 rfl) ?_
  refine lv_iload_n hx hb dL_law_293 rfl (lv_at hl 0 rfl) ?_
  refine lv_iconst (v := 2) hx hb dL_law_294 (by decide) ?_
  refine lv_iadd hx hb dL_law_295 ?_
  refine ra_sld hx hb hX hbl hbA hS (k := i + 2) (nI_add i 2) (by omega) (by omega) dL_law_296 ?_
  refine ra_cV (Cn := RX0) ⟨hx, hb, hml, hown, hts⟩ [.int (xs (i + 1)), .int (xs (i + 2))] [] (mx_placeOf l (xs (i + 1)) (xs (i + 2)) hn40 hF) (cwV 2 hts (lw_V q111 q112 q113 q17 q114) rfl rfl rfl (by decide +kernel) ⟨Nat.le_of_ble_eq_true rfl, Nat.le_of_ble_eq_true rfl⟩) hPx hKx (va_recv hKx hPx (ci := 0) (q0 := 0) rfl rfl) rfl hl.1 rfl (Nat.le_of_ble_eq_true rfl) dL_law_297 ⟨Nat.le_of_ble_eq_true rfl, Nat.le_of_ble_eq_true rfl⟩ (fun z1 hz1 => ?_)
  refine lv_aload_n hx hb dL_law_300 rfl (lv_at hl 3 rfl) ?_
  refine lv_aload_n hx hb dL_law_301 rfl (lv_at hl 1 rfl) ?_
  refine lv_iload_n hx hb dL_law_302 rfl (lv_at hl 0 rfl) ?_
  refine lv_iconst (v := 1) hx hb dL_law_303 (by decide) ?_
  refine lv_iadd hx hb dL_law_304 ?_
  refine ra_sld hx hb hX hbl hbA hS (k := i + 1) (nI_add i 1) (by omega) (by omega) dL_law_305 ?_
  refine lv_aload_n hx hb dL_law_306 rfl (lv_at hl 1 rfl) ?_
  refine lv_iload_n hx hb dL_law_307 rfl (lv_at hl 0 rfl) ?_
  refine lv_iconst (v := 2) hx hb dL_law_308 (by decide) ?_
  refine lv_iadd hx hb dL_law_309 ?_
  refine ra_sld hx hb hX hbl hbA hS (k := i + 2) (nI_add i 2) (by omega) (by omega) dL_law_310 ?_
  refine ra_cV (Cn := RX1) ⟨hx, hb, hml, hown, hts⟩ [.int (xs (i + 1)), .int (xs (i + 2))] [.int z1] (mm_placeOf l (xs (i + 1)) (xs (i + 2)) hI hAB) (cwV 2 hts (lw_V q234 q235 q236 q18 q237) rfl rfl rfl (by decide +kernel) ⟨Nat.le_of_ble_eq_true rfl, Nat.le_of_ble_eq_true rfl⟩) hPm hKm (va_recv hKm hPm (ci := 1) (q0 := 0) rfl rfl) rfl hl.1 rfl (Nat.le_of_ble_eq_true rfl) dL_law_311 ⟨Nat.le_of_ble_eq_true rfl, Nat.le_of_ble_eq_true rfl⟩ (fun z2 hz2 => ?_)
  refine lv_icmp_eq (tgt := 408) hx hb dL_law_314 (by decide) (fun c_314 => ?_) (fun c_314 => ?_)
  · exact K H locs ⟨n, fl, S, O, P, C, fk, fg, fn, Xl, AB, fr, od, hI, hAB, hls, hPx, hPm, hD, hS⟩
  · exact absurd (hz1.trans hz2.symm) c_314
set_option maxHeartbeats 4000000 in
set_option maxRecDepth 100000 in
theorem law_7 {p : Program} {l : Launch} {e : Env} {s : State} {m : MethodId} {below : List Frame} {meth : Method} {c : Code} {dC : Nat → ClassId} {dI : Nat → Nat → Nat} {b L : Nat} {xs : Nat → Int32} {h q1 q2 q3 q4 q5 q6 q7 q8 g g1 g2 g3 g4 g5 g6 g7 g8 g9 : Nat} {cI cL cJ cZ : ClassId} (hL : L ≤ 256) (C0 : lw_At p s m meth c b L xs) (hKx : va_K (dC, dI) vwCl [(cI, .int), (cL, .long)] s) (hKm : va_K (dC, dI) vwCl [(cJ, .int), (cZ, .boolean)] s) {i : Nat} (hi : i + 4 ≤ L) {H : Heap} {locs : List Loc} (hSt : ra_St dC dI (fun q : Nat => s.heap.size ≤ q) s.heap h q1 q2 q3 q4 q5 q6 q7 q8 cI cL g g1 g2 g3 g4 g5 g6 g7 g8 g9 cJ cZ H locs) {ls : Array Slot} (hl : lv_has ls 4 [(3, .int (nI i)), (0, .ref b), (1, .ref h), (2, .ref g)]) (K : ∀ (H : Heap) (locs : List Loc), ra_St dC dI (fun q : Nat => s.heap.size ≤ q) s.heap h q1 q2 q3 q4 q5 q6 q7 q8 cI cL g g1 g2 g3 g4 g5 g6 g7 g8 g9 cJ cZ H locs → W p l e room_1 s m #[Value.ref b] below meth c H locs 600000 7290000 (lw_Z below #[Value.ref b] s) (F0 m 408 ls [])) : W p l e room_1 s m #[Value.ref b] below meth c H locs 600000 7290000 (lw_Z below #[Value.ref b] s) (F0 m 319 ls []) := by
  obtain ⟨hx, hb, hr, hml, hown, hts0, hX, hbl, hlocks, hgv⟩ := C0
  have hts : ∀ w ∈ lw_all, w.before #[Value.ref b] s = true := fun w h => hts0 w (lw_all_tbl h)
  have hA : ∀ q : Nat, s.heap.size ≤ q → (fun q : Nat => s.heap.size ≤ q) q := fun _ h => h
  have hbA : ¬ (fun q : Nat => s.heap.size ≤ q) b := Nat.not_le.mpr hbl
  obtain ⟨n, fl, S, O, P, C, fk, fg, fn, Xl, AB, fr, od, hI, hAB, hls, hPx, hPm, hD, hS⟩ := hSt
  have hF : ∀ rp, rp < 3 → ra_ls fn rp (Xl rp) ∧ (Xl rp).length ≤ 40 := fun rp hr => ⟨hls rp hr, ra_inv_l40 hI hr⟩
  have hn40 : n ≤ 40 := hI.1.1
  refine lv_aload_n hx hb dL_law_319 rfl (lv_at hl 2 rfl) ?_
  refine lv_aload_n hx hb dL_law_320 rfl (lv_at hl 1 rfl) ?_
  refine lv_iload_n hx hb dL_law_321 rfl (lv_at hl 0 rfl) ?_
  refine lv_iconst (v := 1) hx hb dL_law_322 (by decide) ?_
  refine lv_iadd hx hb dL_law_323 ?_
  refine ra_sld hx hb hX hbl hbA hS (k := i + 1) (nI_add i 1) (by omega) (by omega) dL_law_324 ?_
  refine ra_cV (Cn := RX0) ⟨hx, hb, hml, hown, hts⟩ [.int (xs (i + 1))] [] (mx_known l (xs (i + 1)) hn40) (cwV 1 hts (lw_V q123 q124 q125 q17 q126) rfl rfl rfl (by decide +kernel) ⟨Nat.le_of_ble_eq_true rfl, Nat.le_of_ble_eq_true rfl⟩) hPx hKx (va_recv hKx hPx (ci := 0) (q0 := 0) rfl rfl) rfl hl.1 rfl (Nat.le_of_ble_eq_true rfl) dL_law_325 ⟨Nat.le_of_ble_eq_true rfl, Nat.le_of_ble_eq_true rfl⟩ (fun z1 hz1 => ?_)
  refine lv_aload_n hx hb dL_law_328 rfl (lv_at hl 3 rfl) ?_
  refine lv_aload_n hx hb dL_law_329 rfl (lv_at hl 1 rfl) ?_
  refine lv_iload_n hx hb dL_law_330 rfl (lv_at hl 0 rfl) ?_
  refine lv_iconst (v := 1) hx hb dL_law_331 (by decide) ?_
  refine lv_iadd hx hb dL_law_332 ?_
  refine ra_sld hx hb hX hbl hbA hS (k := i + 1) (nI_add i 1) (by omega) (by omega) dL_law_333 ?_
  refine ra_cV (Cn := RX1) ⟨hx, hb, hml, hown, hts⟩ [.int (xs (i + 1))] [.int z1] (mm_known l (xs (i + 1)) hn40) (cwV 1 hts (lw_V q238 q239 q240 q18 q241) rfl rfl rfl (by decide +kernel) ⟨Nat.le_of_ble_eq_true rfl, Nat.le_of_ble_eq_true rfl⟩) hPm hKm (va_recv hKm hPm (ci := 1) (q0 := 0) rfl rfl) rfl hl.1 rfl (Nat.le_of_ble_eq_true rfl) dL_law_334 ⟨Nat.le_of_ble_eq_true rfl, Nat.le_of_ble_eq_true rfl⟩ (fun z2 hz2 => ?_)
  refine lv_icmp_eq (tgt := 408) hx hb dL_law_337 (by decide) (fun c_337 => ?_) (fun c_337 => ?_)
  · exact K H locs ⟨n, fl, S, O, P, C, fk, fg, fn, Xl, AB, fr, od, hI, hAB, hls, hPx, hPm, hD, hS⟩
  · exact absurd (hz1.trans hz2.symm) c_337
set_option maxHeartbeats 4000000 in
set_option maxRecDepth 100000 in
theorem law_8 {p : Program} {l : Launch} {e : Env} {s : State} {m : MethodId} {below : List Frame} {meth : Method} {c : Code} {dC : Nat → ClassId} {dI : Nat → Nat → Nat} {b L : Nat} {xs : Nat → Int32} {h q1 q2 q3 q4 q5 q6 q7 q8 g g1 g2 g3 g4 g5 g6 g7 g8 g9 : Nat} {cI cL cJ cZ : ClassId} (hL : L ≤ 256) (C0 : lw_At p s m meth c b L xs) (hKx : va_K (dC, dI) vwCl [(cI, .int), (cL, .long)] s) (hKm : va_K (dC, dI) vwCl [(cJ, .int), (cZ, .boolean)] s) {i : Nat} (hi : i + 4 ≤ L) {H : Heap} {locs : List Loc} (hSt : ra_St dC dI (fun q : Nat => s.heap.size ≤ q) s.heap h q1 q2 q3 q4 q5 q6 q7 q8 cI cL g g1 g2 g3 g4 g5 g6 g7 g8 g9 cJ cZ H locs) {ls : Array Slot} (hl : lv_has ls 4 [(3, .int (nI i)), (0, .ref b), (1, .ref h), (2, .ref g)]) (K : ∀ (H : Heap) (locs : List Loc), ra_St dC dI (fun q : Nat => s.heap.size ≤ q) s.heap h q1 q2 q3 q4 q5 q6 q7 q8 cI cL g g1 g2 g3 g4 g5 g6 g7 g8 g9 cJ cZ H locs → W p l e room_1 s m #[Value.ref b] below meth c H locs 600000 7290000 (lw_Z below #[Value.ref b] s) (F0 m 408 ls [])) : W p l e room_1 s m #[Value.ref b] below meth c H locs 600000 7290000 (lw_Z below #[Value.ref b] s) (F0 m 342 ls []) := by
  obtain ⟨hx, hb, hr, hml, hown, hts0, hX, hbl, hlocks, hgv⟩ := C0
  have hts : ∀ w ∈ lw_all, w.before #[Value.ref b] s = true := fun w h => hts0 w (lw_all_tbl h)
  have hA : ∀ q : Nat, s.heap.size ≤ q → (fun q : Nat => s.heap.size ≤ q) q := fun _ h => h
  have hbA : ¬ (fun q : Nat => s.heap.size ≤ q) b := Nat.not_le.mpr hbl
  obtain ⟨n, fl, S, O, P, C, fk, fg, fn, Xl, AB, fr, od, hI, hAB, hls, hPx, hPm, hD, hS⟩ := hSt
  have hF : ∀ rp, rp < 3 → ra_ls fn rp (Xl rp) ∧ (Xl rp).length ≤ 40 := fun rp hr => ⟨hls rp hr, ra_inv_l40 hI hr⟩
  have hn40 : n ≤ 40 := hI.1.1
  refine lv_aload_n hx hb dL_law_342 rfl (lv_at hl 2 rfl) ?_
  refine lv_aload_n hx hb dL_law_343 rfl (lv_at hl 1 rfl) ?_
  refine lv_iload_n hx hb dL_law_344 rfl (lv_at hl 0 rfl) ?_
  refine lv_iconst (v := 1) hx hb dL_law_345 (by decide) ?_
  refine lv_iadd hx hb dL_law_346 ?_
  refine ra_sld hx hb hX hbl hbA hS (k := i + 1) (nI_add i 1) (by omega) (by omega) dL_law_347 ?_
  refine lv_aload_n hx hb dL_law_348 rfl (lv_at hl 1 rfl) ?_
  refine lv_iload_n hx hb dL_law_349 rfl (lv_at hl 0 rfl) ?_
  refine lv_iconst (v := 2) hx hb dL_law_350 (by decide) ?_
  refine lv_iadd hx hb dL_law_351 ?_
  refine ra_sld hx hb hX hbl hbA hS (k := i + 2) (nI_add i 2) (by omega) (by omega) dL_law_352 ?_
  refine ra_cV (Cn := RX0) ⟨hx, hb, hml, hown, hts⟩ [.int (xs (i + 1)), .int (xs (i + 2))] [] (mx_rank l (xs (i + 1)) (xs (i + 2)) hn40 hF) (cwV 2 hts (lw_V q127 q128 q129 q17 q130) rfl rfl rfl (by decide +kernel) ⟨Nat.le_of_ble_eq_true rfl, Nat.le_of_ble_eq_true rfl⟩) hPx hKx (va_recv hKx hPx (ci := 0) (q0 := 0) rfl rfl) rfl hl.1 rfl (Nat.le_of_ble_eq_true rfl) dL_law_353 ⟨Nat.le_of_ble_eq_true rfl, Nat.le_of_ble_eq_true rfl⟩ (fun z1 hz1 => ?_)
  refine lv_aload_n hx hb dL_law_356 rfl (lv_at hl 3 rfl) ?_
  refine lv_aload_n hx hb dL_law_357 rfl (lv_at hl 1 rfl) ?_
  refine lv_iload_n hx hb dL_law_358 rfl (lv_at hl 0 rfl) ?_
  refine lv_iconst (v := 1) hx hb dL_law_359 (by decide) ?_
  refine lv_iadd hx hb dL_law_360 ?_
  refine ra_sld hx hb hX hbl hbA hS (k := i + 1) (nI_add i 1) (by omega) (by omega) dL_law_361 ?_
  refine lv_aload_n hx hb dL_law_362 rfl (lv_at hl 1 rfl) ?_
  refine lv_iload_n hx hb dL_law_363 rfl (lv_at hl 0 rfl) ?_
  refine lv_iconst (v := 2) hx hb dL_law_364 (by decide) ?_
  refine lv_iadd hx hb dL_law_365 ?_
  refine ra_sld hx hb hX hbl hbA hS (k := i + 2) (nI_add i 2) (by omega) (by omega) dL_law_366 ?_
  refine ra_cV (Cn := RX1) ⟨hx, hb, hml, hown, hts⟩ [.int (xs (i + 1)), .int (xs (i + 2))] [.int z1] (mm_rank l (xs (i + 1)) (xs (i + 2)) hI hAB) (cwV 2 hts (lw_V q242 q243 q244 q18 q245) rfl rfl rfl (by decide +kernel) ⟨Nat.le_of_ble_eq_true rfl, Nat.le_of_ble_eq_true rfl⟩) hPm hKm (va_recv hKm hPm (ci := 1) (q0 := 0) rfl rfl) rfl hl.1 rfl (Nat.le_of_ble_eq_true rfl) dL_law_367 ⟨Nat.le_of_ble_eq_true rfl, Nat.le_of_ble_eq_true rfl⟩ (fun z2 hz2 => ?_)
  refine lv_icmp_eq (tgt := 408) hx hb dL_law_370 (by decide) (fun c_370 => ?_) (fun c_370 => ?_)
  · exact K H locs ⟨n, fl, S, O, P, C, fk, fg, fn, Xl, AB, fr, od, hI, hAB, hls, hPx, hPm, hD, hS⟩
  · exact absurd (hz1.trans hz2.symm) c_370
set_option maxHeartbeats 4000000 in
set_option maxRecDepth 100000 in
theorem law_9 {p : Program} {l : Launch} {e : Env} {s : State} {m : MethodId} {below : List Frame} {meth : Method} {c : Code} {dC : Nat → ClassId} {dI : Nat → Nat → Nat} {b L : Nat} {xs : Nat → Int32} {h q1 q2 q3 q4 q5 q6 q7 q8 g g1 g2 g3 g4 g5 g6 g7 g8 g9 : Nat} {cI cL cJ cZ : ClassId} (hL : L ≤ 256) (C0 : lw_At p s m meth c b L xs) (hKx : va_K (dC, dI) vwCl [(cI, .int), (cL, .long)] s) (hKm : va_K (dC, dI) vwCl [(cJ, .int), (cZ, .boolean)] s) {i : Nat} (hi : i + 4 ≤ L) {H : Heap} {locs : List Loc} (hSt : ra_St dC dI (fun q : Nat => s.heap.size ≤ q) s.heap h q1 q2 q3 q4 q5 q6 q7 q8 cI cL g g1 g2 g3 g4 g5 g6 g7 g8 g9 cJ cZ H locs) {ls : Array Slot} (hl : lv_has ls 4 [(3, .int (nI i)), (0, .ref b), (1, .ref h), (2, .ref g)]) (K : ∀ (H : Heap) (locs : List Loc), ra_St dC dI (fun q : Nat => s.heap.size ≤ q) s.heap h q1 q2 q3 q4 q5 q6 q7 q8 cI cL g g1 g2 g3 g4 g5 g6 g7 g8 g9 cJ cZ H locs → W p l e room_1 s m #[Value.ref b] below meth c H locs 600000 7290000 (lw_Z below #[Value.ref b] s) (F0 m 408 ls [])) : W p l e room_1 s m #[Value.ref b] below meth c H locs 600000 7290000 (lw_Z below #[Value.ref b] s) (F0 m 375 ls []) := by
  obtain ⟨hx, hb, hr, hml, hown, hts0, hX, hbl, hlocks, hgv⟩ := C0
  have hts : ∀ w ∈ lw_all, w.before #[Value.ref b] s = true := fun w h => hts0 w (lw_all_tbl h)
  have hA : ∀ q : Nat, s.heap.size ≤ q → (fun q : Nat => s.heap.size ≤ q) q := fun _ h => h
  have hbA : ¬ (fun q : Nat => s.heap.size ≤ q) b := Nat.not_le.mpr hbl
  obtain ⟨n, fl, S, O, P, C, fk, fg, fn, Xl, AB, fr, od, hI, hAB, hls, hPx, hPm, hD, hS⟩ := hSt
  have hF : ∀ rp, rp < 3 → ra_ls fn rp (Xl rp) ∧ (Xl rp).length ≤ 40 := fun rp hr => ⟨hls rp hr, ra_inv_l40 hI hr⟩
  have hn40 : n ≤ 40 := hI.1.1
  refine lv_aload_n hx hb dL_law_375 rfl (lv_at hl 2 rfl) ?_
  refine lv_aload_n hx hb dL_law_376 rfl (lv_at hl 1 rfl) ?_
  refine lv_iload_n hx hb dL_law_377 rfl (lv_at hl 0 rfl) ?_
  refine lv_iconst (v := 1) hx hb dL_law_378 (by decide) ?_
  refine lv_iadd hx hb dL_law_379 ?_
  refine ra_sld hx hb hX hbl hbA hS (k := i + 1) (nI_add i 1) (by omega) (by omega) dL_law_380 ?_
  refine lv_aload_n hx hb dL_law_381 rfl (lv_at hl 1 rfl) ?_
  refine lv_iload_n hx hb dL_law_382 rfl (lv_at hl 0 rfl) ?_
  refine lv_iconst (v := 2) hx hb dL_law_383 (by decide) ?_
  refine lv_iadd hx hb dL_law_384 ?_
  refine ra_sld hx hb hX hbl hbA hS (k := i + 2) (nI_add i 2) (by omega) (by omega) dL_law_385 ?_
  refine ra_cV (Cn := RX0) ⟨hx, hb, hml, hown, hts⟩ [.int (xs (i + 1)), .int (xs (i + 2))] [] (mx_sameText l (xs (i + 1)) (xs (i + 2)) hF) (cwV 2 hts (lw_V q131 q132 q133 q17 q134) rfl rfl rfl (by decide +kernel) ⟨Nat.le_of_ble_eq_true rfl, Nat.le_of_ble_eq_true rfl⟩) hPx hKx (va_recv hKx hPx (ci := 0) (q0 := 0) rfl rfl) rfl hl.1 rfl (Nat.le_of_ble_eq_true rfl) dL_law_386 ⟨Nat.le_of_ble_eq_true rfl, Nat.le_of_ble_eq_true rfl⟩ (fun z1 hz1 => ?_)
  refine lv_aload_n hx hb dL_law_389 rfl (lv_at hl 3 rfl) ?_
  refine lv_aload_n hx hb dL_law_390 rfl (lv_at hl 1 rfl) ?_
  refine lv_iload_n hx hb dL_law_391 rfl (lv_at hl 0 rfl) ?_
  refine lv_iconst (v := 1) hx hb dL_law_392 (by decide) ?_
  refine lv_iadd hx hb dL_law_393 ?_
  refine ra_sld hx hb hX hbl hbA hS (k := i + 1) (nI_add i 1) (by omega) (by omega) dL_law_394 ?_
  refine lv_aload_n hx hb dL_law_395 rfl (lv_at hl 1 rfl) ?_
  refine lv_iload_n hx hb dL_law_396 rfl (lv_at hl 0 rfl) ?_
  refine lv_iconst (v := 2) hx hb dL_law_397 (by decide) ?_
  refine lv_iadd hx hb dL_law_398 ?_
  refine ra_sld hx hb hX hbl hbA hS (k := i + 2) (nI_add i 2) (by omega) (by omega) dL_law_399 ?_
  refine ra_cVf (Cn := RX1) (wf := fun (u : (Nat → Int32) × Int32) => (ra_wM g g1 g2 g3 g4 g5 g6 g7 g8 g9 cJ cZ n fl S O P AB fk fg C u.1 u.2)) ⟨hx, hb, hml, hown, hts⟩ [.int (xs (i + 1)), .int (xs (i + 2))] [.int z1] (mm_sameText l H.size (xs (i + 1)) (xs (i + 2)) hI hAB) (cwV 2 hts (lw_V q246 q247 q248 q18 q249) rfl rfl rfl (by decide +kernel) ⟨Nat.le_of_ble_eq_true rfl, Nat.le_of_ble_eq_true rfl⟩) hPm hPx hKm hD hS hA (va_recv hKm hPm (ci := 1) (q0 := 0) rfl rfl) rfl hl.1 rfl (Nat.le_of_ble_eq_true rfl) dL_law_400 ⟨Nat.le_of_ble_eq_true rfl, Nat.le_of_ble_eq_true rfl⟩ (fun z2 u H locs hz2 hPm hPx hD hS => ?_)
  refine lv_icmp_eq (tgt := 408) hx hb dL_law_403 (by decide) (fun c_403 => ?_) (fun c_403 => ?_)
  · exact K H locs ⟨n, fl, S, O, P, C, fk, fg, fn, Xl, AB, u.1, u.2, hI, hAB, hls, hPx, hPm, hD, hS⟩
  · exact absurd (hz1.trans hz2.symm) c_403
end
section
set_option maxRecDepth 100000
set_option maxHeartbeats 4000000 in
set_option maxRecDepth 100000 in
theorem law_0 {p : Program} {l : Launch} {e : Env} {s : State} {m : MethodId} {below : List Frame} {meth : Method} {c : Code} {dC : Nat → ClassId} {dI : Nat → Nat → Nat} {b L : Nat} {xs : Nat → Int32} {h q1 q2 q3 q4 q5 q6 q7 q8 g g1 g2 g3 g4 g5 g6 g7 g8 g9 : Nat} {cI cL cJ cZ : ClassId} (hL : L ≤ 256) (C0 : lw_At p s m meth c b L xs) (hKx : va_K (dC, dI) vwCl [(cI, .int), (cL, .long)] s) (hKm : va_K (dC, dI) vwCl [(cJ, .int), (cZ, .boolean)] s) {i : Nat} (hi : i + 4 ≤ L) {H : Heap} {locs : List Loc} (hSt : ra_St dC dI (fun q : Nat => s.heap.size ≤ q) s.heap h q1 q2 q3 q4 q5 q6 q7 q8 cI cL g g1 g2 g3 g4 g5 g6 g7 g8 g9 cJ cZ H locs) {ls : Array Slot} (hl : lv_has ls 4 [(3, .int (nI i)), (0, .ref b), (1, .ref h), (2, .ref g)]) (K : ∀ (H : Heap) (locs : List Loc), ra_St dC dI (fun q : Nat => s.heap.size ≤ q) s.heap h q1 q2 q3 q4 q5 q6 q7 q8 cI cL g g1 g2 g3 g4 g5 g6 g7 g8 g9 cJ cZ H locs → W p l e room_1 s m #[Value.ref b] below meth c H locs 600000 7290000 (lw_Z below #[Value.ref b] s) (F0 m 408 ls [])) : W p l e room_1 s m #[Value.ref b] below meth c H locs 600000 7290000 (lw_Z below #[Value.ref b] s) (F0 m 88 ls []) := by
  obtain ⟨hx, hb, hr, hml, hown, hts0, hX, hbl, hlocks, hgv⟩ := C0
  have hts : ∀ w ∈ lw_all, w.before #[Value.ref b] s = true := fun w h => hts0 w (lw_all_tbl h)
  have hA : ∀ q : Nat, s.heap.size ≤ q → (fun q : Nat => s.heap.size ≤ q) q := fun _ h => h
  have hbA : ¬ (fun q : Nat => s.heap.size ≤ q) b := Nat.not_le.mpr hbl
  obtain ⟨n, fl, S, O, P, C, fk, fg, fn, Xl, AB, fr, od, hI, hAB, hls, hPx, hPm, hD, hS⟩ := hSt
  have hF : ∀ rp, rp < 3 → ra_ls fn rp (Xl rp) ∧ (Xl rp).length ≤ 40 := fun rp hr => ⟨hls rp hr, ra_inv_l40 hI hr⟩
  have hn40 : n ≤ 40 := hI.1.1
  by_cases hE : ra_iE n fk fg (xs (i + 1)) (xs (i + 2))
  · obtain ⟨rp, k, hr3, e1, e2, hk, hn⟩ := hE
    obtain ⟨-, -, hnd, hmem, -⟩ := hI.1.2.2.2.2.2 rp hr3
    have happ := ra_sp_app (ra_sh fg rp) (Xl rp) k
    refine lv_aload_n hx hb dL_law_88 rfl (lv_at hl 2 rfl) ?_
    refine lv_aload_n hx hb dL_law_89 rfl (lv_at hl 1 rfl) ?_
    refine lv_iload_n hx hb dL_law_90 rfl (lv_at hl 0 rfl) ?_
    refine lv_iconst (v := 1) hx hb dL_law_91 (by decide) ?_
    refine lv_iadd hx hb dL_law_92 ?_
    refine ra_sld hx hb hX hbl hbA hS (k := i + 1) (nI_add i 1) (by omega) (by omega) dL_law_93 ?_
    refine ra_top (y := nI rp) e1 ?_
    refine lv_aload_n hx hb dL_law_94 rfl (lv_at hl 1 rfl) ?_
    refine lv_iload_n hx hb dL_law_95 rfl (lv_at hl 0 rfl) ?_
    refine lv_iconst (v := 2) hx hb dL_law_96 (by decide) ?_
    refine lv_iadd hx hb dL_law_97 ?_
    refine ra_sld hx hb hX hbl hbA hS (k := i + 2) (nI_add i 2) (by omega) (by omega) dL_law_98 ?_
    refine ra_top (y := nI k) e2 ?_
    refine lv_aload_n hx hb dL_law_99 rfl (lv_at hl 1 rfl) ?_
    refine lv_iload_n hx hb dL_law_100 rfl (lv_at hl 0 rfl) ?_
    refine lv_iconst (v := 3) hx hb dL_law_101 (by decide) ?_
    refine lv_iadd hx hb dL_law_102 ?_
    refine ra_sld hx hb hX hbl hbA hS (k := i + 3) (nI_add i 3) (by omega) (by omega) dL_law_103 ?_
    refine ra_cVf (Cn := RX0) (wf := fun (u : Nat → Int32) => (ra_wX h q1 q2 q3 q4 q5 q6 q7 q8 cI cL (n + 1) (upd fl n (xs (i + 3) &&& 255)) (va_up S n (C rp + 1)) (va_up O n rp) (va_up P n ((ra_sp (ra_sh fg rp) k (Xl rp)).1.getLastD 40)) (va_up C rp (C rp + 1)) (vp_updL fk rp (ra_or (fk rp) n)) fg u)) ⟨hx, hb, hml, hown, hts⟩ [.int (nI rp), .int (nI k), .int (xs (i + 3))] [] (mx_insert_yes l H.size rp k (xs (i + 3)) hr3 hk hn hF (ra_inv_cnt hI hr3) hnd (fun q => absurd ((hmem n).mp q).1 (Nat.lt_irrefl _))) (cwV 3 hts (lw_V q57 q58 q59 q17 q60) rfl rfl rfl (by decide +kernel) ⟨Nat.le_of_ble_eq_true rfl, Nat.le_of_ble_eq_true rfl⟩) hPx hPm hKx (ra_D_comm hD) hS hA (va_recv hKx hPx (ci := 0) (q0 := 0) rfl rfl) rfl hl.1 rfl (Nat.le_of_ble_eq_true rfl) dL_law_104 ⟨Nat.le_of_ble_eq_true rfl, Nat.le_of_ble_eq_true rfl⟩ (fun z1 u H locs hz1 hPx hPm hD hS => ?_)
    have hD := ra_D_comm hD
    obtain ⟨fn2, rfl⟩ : ∃ z, z = u := ⟨_, rfl⟩
    obtain ⟨hz1, hl1, hl2⟩ := hz1
    refine lv_aload_n hx hb dL_law_107 rfl (lv_at hl 3 rfl) ?_
    refine lv_aload_n hx hb dL_law_108 rfl (lv_at hl 1 rfl) ?_
    refine lv_iload_n hx hb dL_law_109 rfl (lv_at hl 0 rfl) ?_
    refine lv_iconst (v := 1) hx hb dL_law_110 (by decide) ?_
    refine lv_iadd hx hb dL_law_111 ?_
    refine ra_sld hx hb hX hbl hbA hS (k := i + 1) (nI_add i 1) (by omega) (by omega) dL_law_112 ?_
    refine ra_top (y := nI rp) e1 ?_
    refine lv_aload_n hx hb dL_law_113 rfl (lv_at hl 1 rfl) ?_
    refine lv_iload_n hx hb dL_law_114 rfl (lv_at hl 0 rfl) ?_
    refine lv_iconst (v := 2) hx hb dL_law_115 (by decide) ?_
    refine lv_iadd hx hb dL_law_116 ?_
    refine ra_sld hx hb hX hbl hbA hS (k := i + 2) (nI_add i 2) (by omega) (by omega) dL_law_117 ?_
    refine ra_top (y := nI k) e2 ?_
    refine lv_aload_n hx hb dL_law_118 rfl (lv_at hl 1 rfl) ?_
    refine lv_iload_n hx hb dL_law_119 rfl (lv_at hl 0 rfl) ?_
    refine lv_iconst (v := 3) hx hb dL_law_120 (by decide) ?_
    refine lv_iadd hx hb dL_law_121 ?_
    refine ra_sld hx hb hX hbl hbA hS (k := i + 3) (nI_add i 3) (by omega) (by omega) dL_law_122 ?_
    refine ra_cVf (Cn := RX1) (wf := fun (u : (Nat → Int32) × Int32) => (ra_wM g g1 g2 g3 g4 g5 g6 g7 g8 g9 cJ cZ (n + 1) (upd fl n (xs (i + 3) &&& 255)) (va_up S n (C rp + 1)) (va_up O n rp) (va_up P n ((ra_sp (ra_sh fg rp) k (Xl rp)).1.getLastD 40)) (ra_abk AB n (ra_abF n ((ra_sp (ra_sh fg rp) k (Xl rp)).1.getLastD 40) AB) 40) (vp_updL fk rp (ra_or (fk rp) n)) fg (va_up C rp (C rp + 1)) u.1 u.2)) ⟨hx, hb, hml, hown, hts⟩ [.int (nI rp), .int (nI k), .int (xs (i + 3))] [.int z1] (mm_insert_yes l H.size rp k (xs (i + 3)) hr3 hk hn hI hAB) (cwV 3 hts (lw_V q180 q181 q182 q18 q183) rfl rfl rfl (by decide +kernel) ⟨Nat.le_of_ble_eq_true rfl, Nat.le_of_ble_eq_true rfl⟩) hPm hPx hKm hD hS hA (va_recv hKm hPm (ci := 1) (q0 := 0) rfl rfl) rfl hl.1 rfl (Nat.le_of_ble_eq_true rfl) dL_law_123 ⟨Nat.le_of_ble_eq_true rfl, Nat.le_of_ble_eq_true rfl⟩ (fun z2 u H locs hz2 hPm hPx hD hS => ?_)
    have hsub : ∀ a, a ∈ (ra_sp (ra_sh fg rp) k (Xl rp)).1 → a ∈ Xl rp := fun a q => by
      have q2 := List.mem_append_left (ra_sp (ra_sh fg rp) k (Xl rp)).2 q
      rw [happ] at q2
      exact q2
    have hp : ((ra_sp (ra_sh fg rp) k (Xl rp)).1.getLastD 40) = 40 ∨ ((ra_sp (ra_sh fg rp) k (Xl rp)).1.getLastD 40) < n := by
      rcases ra_last_mem (L := (ra_sp (ra_sh fg rp) k (Xl rp)).1) (d := 40) with ⟨q, -⟩ | q
      · exact Or.inl q
      · exact Or.inr ((hmem _).mp (hsub _ q)).1
    have hls2 : ∀ r, r < 3 → ra_ls fn2 r (va_up Xl rp ((ra_sp (ra_sh fg rp) k (Xl rp)).1 ++ n :: (ra_sp (ra_sh fg rp) k (Xl rp)).2) r) := by
      intro r hr
      by_cases q : r = rp
      · subst q
        rw [ra_upS]
        exact hl1
      · rw [ra_upN _ _ q]
        exact ra_ls_other (hls r hr) q hl2
    refine lv_icmp_eq (tgt := 408) hx hb dL_law_126 (by decide) (fun c_126 => ?_) (fun c_126 => ?_)
    · exact K H locs ⟨_, _, _, _, _, _, _, _, fn2, _, _, u.1, u.2, ra_inv_ins hI hn hr3 happ.symm, ra_ab_ins hAB hn hp, hls2, hPx, hPm, hD, hS⟩
    · exact absurd (hz1.trans hz2.symm) c_126
  · refine lv_aload_n hx hb dL_law_88 rfl (lv_at hl 2 rfl) ?_
    refine lv_aload_n hx hb dL_law_89 rfl (lv_at hl 1 rfl) ?_
    refine lv_iload_n hx hb dL_law_90 rfl (lv_at hl 0 rfl) ?_
    refine lv_iconst (v := 1) hx hb dL_law_91 (by decide) ?_
    refine lv_iadd hx hb dL_law_92 ?_
    refine ra_sld hx hb hX hbl hbA hS (k := i + 1) (nI_add i 1) (by omega) (by omega) dL_law_93 ?_
    refine lv_aload_n hx hb dL_law_94 rfl (lv_at hl 1 rfl) ?_
    refine lv_iload_n hx hb dL_law_95 rfl (lv_at hl 0 rfl) ?_
    refine lv_iconst (v := 2) hx hb dL_law_96 (by decide) ?_
    refine lv_iadd hx hb dL_law_97 ?_
    refine ra_sld hx hb hX hbl hbA hS (k := i + 2) (nI_add i 2) (by omega) (by omega) dL_law_98 ?_
    refine lv_aload_n hx hb dL_law_99 rfl (lv_at hl 1 rfl) ?_
    refine lv_iload_n hx hb dL_law_100 rfl (lv_at hl 0 rfl) ?_
    refine lv_iconst (v := 3) hx hb dL_law_101 (by decide) ?_
    refine lv_iadd hx hb dL_law_102 ?_
    refine ra_sld hx hb hX hbl hbA hS (k := i + 3) (nI_add i 3) (by omega) (by omega) dL_law_103 ?_
    refine ra_cV (Cn := RX0) ⟨hx, hb, hml, hown, hts⟩ [.int (xs (i + 1)), .int (xs (i + 2)), .int (xs (i + 3))] [] (mx_insert_no l (xs (i + 1)) (xs (i + 2)) (xs (i + 3)) hn40 hE) (cwV 3 hts (lw_V q57 q58 q59 q17 q60) rfl rfl rfl (by decide +kernel) ⟨Nat.le_of_ble_eq_true rfl, Nat.le_of_ble_eq_true rfl⟩) hPx hKx (va_recv hKx hPx (ci := 0) (q0 := 0) rfl rfl) rfl hl.1 rfl (Nat.le_of_ble_eq_true rfl) dL_law_104 ⟨Nat.le_of_ble_eq_true rfl, Nat.le_of_ble_eq_true rfl⟩ (fun z1 hz1 => ?_)
    refine lv_aload_n hx hb dL_law_107 rfl (lv_at hl 3 rfl) ?_
    refine lv_aload_n hx hb dL_law_108 rfl (lv_at hl 1 rfl) ?_
    refine lv_iload_n hx hb dL_law_109 rfl (lv_at hl 0 rfl) ?_
    refine lv_iconst (v := 1) hx hb dL_law_110 (by decide) ?_
    refine lv_iadd hx hb dL_law_111 ?_
    refine ra_sld hx hb hX hbl hbA hS (k := i + 1) (nI_add i 1) (by omega) (by omega) dL_law_112 ?_
    refine lv_aload_n hx hb dL_law_113 rfl (lv_at hl 1 rfl) ?_
    refine lv_iload_n hx hb dL_law_114 rfl (lv_at hl 0 rfl) ?_
    refine lv_iconst (v := 2) hx hb dL_law_115 (by decide) ?_
    refine lv_iadd hx hb dL_law_116 ?_
    refine ra_sld hx hb hX hbl hbA hS (k := i + 2) (nI_add i 2) (by omega) (by omega) dL_law_117 ?_
    refine lv_aload_n hx hb dL_law_118 rfl (lv_at hl 1 rfl) ?_
    refine lv_iload_n hx hb dL_law_119 rfl (lv_at hl 0 rfl) ?_
    refine lv_iconst (v := 3) hx hb dL_law_120 (by decide) ?_
    refine lv_iadd hx hb dL_law_121 ?_
    refine ra_sld hx hb hX hbl hbA hS (k := i + 3) (nI_add i 3) (by omega) (by omega) dL_law_122 ?_
    refine ra_cV (Cn := RX1) ⟨hx, hb, hml, hown, hts⟩ [.int (xs (i + 1)), .int (xs (i + 2)), .int (xs (i + 3))] [.int z1] (mm_insert_no l (xs (i + 1)) (xs (i + 2)) (xs (i + 3)) hn40 hE) (cwV 3 hts (lw_V q180 q181 q182 q18 q183) rfl rfl rfl (by decide +kernel) ⟨Nat.le_of_ble_eq_true rfl, Nat.le_of_ble_eq_true rfl⟩) hPm hKm (va_recv hKm hPm (ci := 1) (q0 := 0) rfl rfl) rfl hl.1 rfl (Nat.le_of_ble_eq_true rfl) dL_law_123 ⟨Nat.le_of_ble_eq_true rfl, Nat.le_of_ble_eq_true rfl⟩ (fun z2 hz2 => ?_)
    refine lv_icmp_eq (tgt := 408) hx hb dL_law_126 (by decide) (fun c_126 => ?_) (fun c_126 => ?_)
    · exact K H locs ⟨n, fl, S, O, P, C, fk, fg, fn, Xl, AB, fr, od, hI, hAB, hls, hPx, hPm, hD, hS⟩
    · exact absurd (hz1.trans hz2.symm) c_126
set_option maxHeartbeats 4000000 in
set_option maxRecDepth 100000 in
theorem law_1 {p : Program} {l : Launch} {e : Env} {s : State} {m : MethodId} {below : List Frame} {meth : Method} {c : Code} {dC : Nat → ClassId} {dI : Nat → Nat → Nat} {b L : Nat} {xs : Nat → Int32} {h q1 q2 q3 q4 q5 q6 q7 q8 g g1 g2 g3 g4 g5 g6 g7 g8 g9 : Nat} {cI cL cJ cZ : ClassId} (hL : L ≤ 256) (C0 : lw_At p s m meth c b L xs) (hKx : va_K (dC, dI) vwCl [(cI, .int), (cL, .long)] s) (hKm : va_K (dC, dI) vwCl [(cJ, .int), (cZ, .boolean)] s) {i : Nat} (hi : i + 4 ≤ L) {H : Heap} {locs : List Loc} (hSt : ra_St dC dI (fun q : Nat => s.heap.size ≤ q) s.heap h q1 q2 q3 q4 q5 q6 q7 q8 cI cL g g1 g2 g3 g4 g5 g6 g7 g8 g9 cJ cZ H locs) {ls : Array Slot} (hl : lv_has ls 4 [(3, .int (nI i)), (0, .ref b), (1, .ref h), (2, .ref g)]) (K : ∀ (H : Heap) (locs : List Loc), ra_St dC dI (fun q : Nat => s.heap.size ≤ q) s.heap h q1 q2 q3 q4 q5 q6 q7 q8 cI cL g g1 g2 g3 g4 g5 g6 g7 g8 g9 cJ cZ H locs → W p l e room_1 s m #[Value.ref b] below meth c H locs 600000 7290000 (lw_Z below #[Value.ref b] s) (F0 m 408 ls [])) : W p l e room_1 s m #[Value.ref b] below meth c H locs 600000 7290000 (lw_Z below #[Value.ref b] s) (F0 m 131 ls []) := by
  obtain ⟨hx, hb, hr, hml, hown, hts0, hX, hbl, hlocks, hgv⟩ := C0
  have hts : ∀ w ∈ lw_all, w.before #[Value.ref b] s = true := fun w h => hts0 w (lw_all_tbl h)
  have hA : ∀ q : Nat, s.heap.size ≤ q → (fun q : Nat => s.heap.size ≤ q) q := fun _ h => h
  have hbA : ¬ (fun q : Nat => s.heap.size ≤ q) b := Nat.not_le.mpr hbl
  obtain ⟨n, fl, S, O, P, C, fk, fg, fn, Xl, AB, fr, od, hI, hAB, hls, hPx, hPm, hD, hS⟩ := hSt
  have hF : ∀ rp, rp < 3 → ra_ls fn rp (Xl rp) ∧ (Xl rp).length ≤ 40 := fun rp hr => ⟨hls rp hr, ra_inv_l40 hI hr⟩
  have hn40 : n ≤ 40 := hI.1.1
  refine lv_aload_n hx hb dL_law_131 rfl (lv_at hl 2 rfl) ?_
  refine lv_aload_n hx hb dL_law_132 rfl (lv_at hl 1 rfl) ?_
  refine lv_iload_n hx hb dL_law_133 rfl (lv_at hl 0 rfl) ?_
  refine lv_iconst (v := 1) hx hb dL_law_134 (by decide) ?_
  refine lv_iadd hx hb dL_law_135 ?_
  refine ra_sld hx hb hX hbl hbA hS (k := i + 1) (nI_add i 1) (by omega) (by omega) dL_law_136 ?_
  refine lv_aload_n hx hb dL_law_137 rfl (lv_at hl 1 rfl) ?_
  refine lv_iload_n hx hb dL_law_138 rfl (lv_at hl 0 rfl) ?_
  refine lv_iconst (v := 2) hx hb dL_law_139 (by decide) ?_
  refine lv_iadd hx hb dL_law_140 ?_
  refine ra_sld hx hb hX hbl hbA hS (k := i + 2) (nI_add i 2) (by omega) (by omega) dL_law_141 ?_
  refine ra_cVf (Cn := RX0) (wf := fun (u : Nat → Int64) => (ra_wX h q1 q2 q3 q4 q5 q6 q7 q8 cI cL n fl S O P C fk u fn)) ⟨hx, hb, hml, hown, hts⟩ [.int (xs (i + 1)), .int (xs (i + 2))] [] (mx_delete l H.size (xs (i + 1)) (xs (i + 2)) hF) (cwV 2 hts (lw_V q83 q84 q85 q17 q86) rfl rfl rfl (by decide +kernel) ⟨Nat.le_of_ble_eq_true rfl, Nat.le_of_ble_eq_true rfl⟩) hPx hPm hKx (ra_D_comm hD) hS hA (va_recv hKx hPx (ci := 0) (q0 := 0) rfl rfl) rfl hl.1 rfl (Nat.le_of_ble_eq_true rfl) dL_law_142 ⟨Nat.le_of_ble_eq_true rfl, Nat.le_of_ble_eq_true rfl⟩ (fun z1 u H locs hz1 hPx hPm hD hS => ?_)
  have hD := ra_D_comm hD
  obtain ⟨hz1, hu⟩ := hz1
  subst hu
  refine lv_aload_n hx hb dL_law_145 rfl (lv_at hl 3 rfl) ?_
  refine lv_aload_n hx hb dL_law_146 rfl (lv_at hl 1 rfl) ?_
  refine lv_iload_n hx hb dL_law_147 rfl (lv_at hl 0 rfl) ?_
  refine lv_iconst (v := 1) hx hb dL_law_148 (by decide) ?_
  refine lv_iadd hx hb dL_law_149 ?_
  refine ra_sld hx hb hX hbl hbA hS (k := i + 1) (nI_add i 1) (by omega) (by omega) dL_law_150 ?_
  refine lv_aload_n hx hb dL_law_151 rfl (lv_at hl 1 rfl) ?_
  refine lv_iload_n hx hb dL_law_152 rfl (lv_at hl 0 rfl) ?_
  refine lv_iconst (v := 2) hx hb dL_law_153 (by decide) ?_
  refine lv_iadd hx hb dL_law_154 ?_
  refine ra_sld hx hb hX hbl hbA hS (k := i + 2) (nI_add i 2) (by omega) (by omega) dL_law_155 ?_
  refine ra_cVf (Cn := RX1) (wf := fun (u : (Nat → Int32) × Int32 × (Nat → Int64)) => (ra_wM g g1 g2 g3 g4 g5 g6 g7 g8 g9 cJ cZ n fl S O P AB fk u.2.2 C u.1 u.2.1)) ⟨hx, hb, hml, hown, hts⟩ [.int (xs (i + 1)), .int (xs (i + 2))] [.int z1] (mm_delete l H.size (xs (i + 1)) (xs (i + 2)) hI hAB) (cwV 2 hts (lw_V q220 q221 q222 q18 q223) rfl rfl rfl (by decide +kernel) ⟨Nat.le_of_ble_eq_true rfl, Nat.le_of_ble_eq_true rfl⟩) hPm hPx hKm hD hS hA (va_recv hKm hPm (ci := 1) (q0 := 0) rfl rfl) rfl hl.1 rfl (Nat.le_of_ble_eq_true rfl) dL_law_156 ⟨Nat.le_of_ble_eq_true rfl, Nat.le_of_ble_eq_true rfl⟩ (fun z2 u H locs hz2 hPm hPx hD hS => ?_)
  obtain ⟨fr2, od2, fg2⟩ := u
  obtain ⟨hz2, hu⟩ := hz2
  have hu : fg2 = ra_dG fg Xl (xs (i + 1)) (xs (i + 2)) := hu
  subst hu
  refine lv_icmp_eq (tgt := 408) hx hb dL_law_159 (by decide) (fun c_159 => ?_) (fun c_159 => ?_)
  · exact K H locs ⟨n, fl, S, O, P, C, fk, _, fn, Xl, AB, fr2, od2, ra_inv_del hI _ _, hAB, hls, hPx, hPm, hD, hS⟩
  · exact absurd (hz1.trans hz2.symm) c_159
set_option maxHeartbeats 4000000 in
set_option maxRecDepth 100000 in
theorem law_2 {p : Program} {l : Launch} {e : Env} {s : State} {m : MethodId} {below : List Frame} {meth : Method} {c : Code} {dC : Nat → ClassId} {dI : Nat → Nat → Nat} {b L : Nat} {xs : Nat → Int32} {h q1 q2 q3 q4 q5 q6 q7 q8 g g1 g2 g3 g4 g5 g6 g7 g8 g9 : Nat} {cI cL cJ cZ : ClassId} (hL : L ≤ 256) (C0 : lw_At p s m meth c b L xs) (hKx : va_K (dC, dI) vwCl [(cI, .int), (cL, .long)] s) (hKm : va_K (dC, dI) vwCl [(cJ, .int), (cZ, .boolean)] s) {i : Nat} (hi : i + 4 ≤ L) {H : Heap} {locs : List Loc} (hSt : ra_St dC dI (fun q : Nat => s.heap.size ≤ q) s.heap h q1 q2 q3 q4 q5 q6 q7 q8 cI cL g g1 g2 g3 g4 g5 g6 g7 g8 g9 cJ cZ H locs) {ls : Array Slot} (hl : lv_has ls 4 [(3, .int (nI i)), (0, .ref b), (1, .ref h), (2, .ref g)]) (K : ∀ (H : Heap) (locs : List Loc), ra_St dC dI (fun q : Nat => s.heap.size ≤ q) s.heap h q1 q2 q3 q4 q5 q6 q7 q8 cI cL g g1 g2 g3 g4 g5 g6 g7 g8 g9 cJ cZ H locs → W p l e room_1 s m #[Value.ref b] below meth c H locs 600000 7290000 (lw_Z below #[Value.ref b] s) (F0 m 408 ls [])) : W p l e room_1 s m #[Value.ref b] below meth c H locs 600000 7290000 (lw_Z below #[Value.ref b] s) (F0 m 164 ls []) := by
  obtain ⟨hx, hb, hr, hml, hown, hts0, hX, hbl, hlocks, hgv⟩ := C0
  have hts : ∀ w ∈ lw_all, w.before #[Value.ref b] s = true := fun w h => hts0 w (lw_all_tbl h)
  have hA : ∀ q : Nat, s.heap.size ≤ q → (fun q : Nat => s.heap.size ≤ q) q := fun _ h => h
  have hbA : ¬ (fun q : Nat => s.heap.size ≤ q) b := Nat.not_le.mpr hbl
  obtain ⟨n, fl, S, O, P, C, fk, fg, fn, Xl, AB, fr, od, hI, hAB, hls, hPx, hPm, hD, hS⟩ := hSt
  have hF : ∀ rp, rp < 3 → ra_ls fn rp (Xl rp) ∧ (Xl rp).length ≤ 40 := fun rp hr => ⟨hls rp hr, ra_inv_l40 hI hr⟩
  have hn40 : n ≤ 40 := hI.1.1
  by_cases hno : ((xs (i + 1)) < 0 ∨ 2 < (xs (i + 1))) ∨ ((xs (i + 2)) < 0 ∨ 2 < (xs (i + 2))) ∨ (xs (i + 1)) = (xs (i + 2))
  · refine lv_aload_n hx hb dL_law_164 rfl (lv_at hl 2 rfl) ?_
    refine lv_aload_n hx hb dL_law_165 rfl (lv_at hl 1 rfl) ?_
    refine lv_iload_n hx hb dL_law_166 rfl (lv_at hl 0 rfl) ?_
    refine lv_iconst (v := 1) hx hb dL_law_167 (by decide) ?_
    refine lv_iadd hx hb dL_law_168 ?_
    refine ra_sld hx hb hX hbl hbA hS (k := i + 1) (nI_add i 1) (by omega) (by omega) dL_law_169 ?_
    refine lv_aload_n hx hb dL_law_170 rfl (lv_at hl 1 rfl) ?_
    refine lv_iload_n hx hb dL_law_171 rfl (lv_at hl 0 rfl) ?_
    refine lv_iconst (v := 2) hx hb dL_law_172 (by decide) ?_
    refine lv_iadd hx hb dL_law_173 ?_
    refine ra_sld hx hb hX hbl hbA hS (k := i + 2) (nI_add i 2) (by omega) (by omega) dL_law_174 ?_
    refine ra_cV (Cn := RX0) ⟨hx, hb, hml, hown, hts⟩ [.int (xs (i + 1)), .int (xs (i + 2))] [] (mx_learn_no l (xs (i + 1)) (xs (i + 2)) hno) (cwV 2 hts (lw_V q87 q88 q89 q17 q90) rfl rfl rfl (by decide +kernel) ⟨Nat.le_of_ble_eq_true rfl, Nat.le_of_ble_eq_true rfl⟩) hPx hKx (va_recv hKx hPx (ci := 0) (q0 := 0) rfl rfl) rfl hl.1 rfl (Nat.le_of_ble_eq_true rfl) dL_law_175 ⟨Nat.le_of_ble_eq_true rfl, Nat.le_of_ble_eq_true rfl⟩ (fun z1 hz1 => ?_)
    refine lv_aload_n hx hb dL_law_178 rfl (lv_at hl 3 rfl) ?_
    refine lv_aload_n hx hb dL_law_179 rfl (lv_at hl 1 rfl) ?_
    refine lv_iload_n hx hb dL_law_180 rfl (lv_at hl 0 rfl) ?_
    refine lv_iconst (v := 1) hx hb dL_law_181 (by decide) ?_
    refine lv_iadd hx hb dL_law_182 ?_
    refine ra_sld hx hb hX hbl hbA hS (k := i + 1) (nI_add i 1) (by omega) (by omega) dL_law_183 ?_
    refine lv_aload_n hx hb dL_law_184 rfl (lv_at hl 1 rfl) ?_
    refine lv_iload_n hx hb dL_law_185 rfl (lv_at hl 0 rfl) ?_
    refine lv_iconst (v := 2) hx hb dL_law_186 (by decide) ?_
    refine lv_iadd hx hb dL_law_187 ?_
    refine ra_sld hx hb hX hbl hbA hS (k := i + 2) (nI_add i 2) (by omega) (by omega) dL_law_188 ?_
    refine ra_cV (Cn := RX1) ⟨hx, hb, hml, hown, hts⟩ [.int (xs (i + 1)), .int (xs (i + 2))] [.int z1] (mm_learn_no l (xs (i + 1)) (xs (i + 2)) hno) (cwV 2 hts (lw_V q224 q225 q226 q18 q227) rfl rfl rfl (by decide +kernel) ⟨Nat.le_of_ble_eq_true rfl, Nat.le_of_ble_eq_true rfl⟩) hPm hKm (va_recv hKm hPm (ci := 1) (q0 := 0) rfl rfl) rfl hl.1 rfl (Nat.le_of_ble_eq_true rfl) dL_law_189 ⟨Nat.le_of_ble_eq_true rfl, Nat.le_of_ble_eq_true rfl⟩ (fun z2 hz2 => ?_)
    refine lv_icmp_eq (tgt := 408) hx hb dL_law_192 (by decide) (fun c_192 => ?_) (fun c_192 => ?_)
    · exact K H locs ⟨n, fl, S, O, P, C, fk, fg, fn, Xl, AB, fr, od, hI, hAB, hls, hPx, hPm, hD, hS⟩
    · exact absurd (hz1.trans hz2.symm) c_192
  · obtain ⟨rt, ht3, e1⟩ := ra_ok2 (fun q => hno (Or.inl (Or.inl q))) (Int32.not_lt.mp (fun q => hno (Or.inl (Or.inr q))))
    obtain ⟨rf, hf3, e2⟩ := ra_ok2 (fun q => hno (Or.inr (Or.inl (Or.inl q)))) (Int32.not_lt.mp (fun q => hno (Or.inr (Or.inl (Or.inr q)))))
    have hne : rt ≠ rf := fun q => hno (Or.inr (Or.inr (by rw [e1, e2, q])))
    have hSO : ∀ k, S k ≤ 40 ∧ O k < 3 := fun k => ⟨Nat.le_trans (hI.1.2.1 k).1 hn40, (hI.1.2.1 k).2⟩
    refine lv_aload_n hx hb dL_law_164 rfl (lv_at hl 2 rfl) ?_
    refine lv_aload_n hx hb dL_law_165 rfl (lv_at hl 1 rfl) ?_
    refine lv_iload_n hx hb dL_law_166 rfl (lv_at hl 0 rfl) ?_
    refine lv_iconst (v := 1) hx hb dL_law_167 (by decide) ?_
    refine lv_iadd hx hb dL_law_168 ?_
    refine ra_sld hx hb hX hbl hbA hS (k := i + 1) (nI_add i 1) (by omega) (by omega) dL_law_169 ?_
    refine ra_top (y := nI rt) e1 ?_
    refine lv_aload_n hx hb dL_law_170 rfl (lv_at hl 1 rfl) ?_
    refine lv_iload_n hx hb dL_law_171 rfl (lv_at hl 0 rfl) ?_
    refine lv_iconst (v := 2) hx hb dL_law_172 (by decide) ?_
    refine lv_iadd hx hb dL_law_173 ?_
    refine ra_sld hx hb hX hbl hbA hS (k := i + 2) (nI_add i 2) (by omega) (by omega) dL_law_174 ?_
    refine ra_top (y := nI rf) e2 ?_
    refine ra_cVf (Cn := RX0) (wf := fun (u : Nat → Int32) => (ra_wX h q1 q2 q3 q4 q5 q6 q7 q8 cI cL n fl S O P ((ra_ln S O P rt rf (C, fk, fg, Xl rt, 0) n).1) ((ra_ln S O P rt rf (C, fk, fg, Xl rt, 0) n).2.1) ((ra_ln S O P rt rf (C, fk, fg, Xl rt, 0) n).2.2.1) u)) ⟨hx, hb, hml, hown, hts⟩ [.int (nI rt), .int (nI rf)] [] (mx_learn_yes l H.size rt rf (Xl rt) ht3 hf3 hne hn40 hSO (hls rt ht3) (ra_ln_st hI ht3 hf3 hne)) (cwV 2 hts (lw_V q87 q88 q89 q17 q90) rfl rfl rfl (by decide +kernel) ⟨Nat.le_of_ble_eq_true rfl, Nat.le_of_ble_eq_true rfl⟩) hPx hPm hKx (ra_D_comm hD) hS hA (va_recv hKx hPx (ci := 0) (q0 := 0) rfl rfl) rfl hl.1 rfl (Nat.le_of_ble_eq_true rfl) dL_law_175 ⟨Nat.le_of_ble_eq_true rfl, Nat.le_of_ble_eq_true rfl⟩ (fun z1 u H locs hz1 hPx hPm hD hS => ?_)
    have hD := ra_D_comm hD
    obtain ⟨fn2, rfl⟩ : ∃ z, z = u := ⟨_, rfl⟩
    obtain ⟨hz1, hl1, hl2⟩ := hz1
    refine lv_aload_n hx hb dL_law_178 rfl (lv_at hl 3 rfl) ?_
    refine lv_aload_n hx hb dL_law_179 rfl (lv_at hl 1 rfl) ?_
    refine lv_iload_n hx hb dL_law_180 rfl (lv_at hl 0 rfl) ?_
    refine lv_iconst (v := 1) hx hb dL_law_181 (by decide) ?_
    refine lv_iadd hx hb dL_law_182 ?_
    refine ra_sld hx hb hX hbl hbA hS (k := i + 1) (nI_add i 1) (by omega) (by omega) dL_law_183 ?_
    refine ra_top (y := nI rt) e1 ?_
    refine lv_aload_n hx hb dL_law_184 rfl (lv_at hl 1 rfl) ?_
    refine lv_iload_n hx hb dL_law_185 rfl (lv_at hl 0 rfl) ?_
    refine lv_iconst (v := 2) hx hb dL_law_186 (by decide) ?_
    refine lv_iadd hx hb dL_law_187 ?_
    refine ra_sld hx hb hX hbl hbA hS (k := i + 2) (nI_add i 2) (by omega) (by omega) dL_law_188 ?_
    refine ra_top (y := nI rf) e2 ?_
    refine ra_cVf (Cn := RX1) (wf := fun (_ : Unit) => (ra_wM g g1 g2 g3 g4 g5 g6 g7 g8 g9 cJ cZ n fl S O P AB ((ra_ln S O P rt rf (C, fk, fg, Xl rt, 0) n).2.1) ((ra_ln S O P rt rf (C, fk, fg, Xl rt, 0) n).2.2.1) ((ra_ln S O P rt rf (C, fk, fg, Xl rt, 0) n).1) fr od)) ⟨hx, hb, hml, hown, hts⟩ [.int (nI rt), .int (nI rf)] [.int z1] (mm_learn_yes l H.size rt rf (Xl rt) ht3 hf3 hne hn40 hSO (ra_ln_C hI ht3 hf3 hne)) (cwV 2 hts (lw_V q224 q225 q226 q18 q227) rfl rfl rfl (by decide +kernel) ⟨Nat.le_of_ble_eq_true rfl, Nat.le_of_ble_eq_true rfl⟩) hPm hPx hKm hD hS hA (va_recv hKm hPm (ci := 1) (q0 := 0) rfl rfl) rfl hl.1 rfl (Nat.le_of_ble_eq_true rfl) dL_law_189 ⟨Nat.le_of_ble_eq_true rfl, Nat.le_of_ble_eq_true rfl⟩ (fun z2 u H locs hz2 hPm hPx hD hS => ?_)
    have hls2 : ∀ r, r < 3 → ra_ls fn2 r (va_up Xl rt (ra_ln S O P rt rf (C, fk, fg, Xl rt, 0) n).2.2.2.1 r) := by
      intro r hr
      by_cases q : r = rt
      · subst q
        rw [ra_upS]
        exact hl1
      · rw [ra_upN _ _ q]
        exact ra_ls_other (hls r hr) q hl2
    refine lv_icmp_eq (tgt := 408) hx hb dL_law_192 (by decide) (fun c_192 => ?_) (fun c_192 => ?_)
    · exact K H locs ⟨n, fl, S, O, P, _, _, _, fn2, _, AB, fr, od, (ra_ln_inv hI ht3 hf3 hne n (Nat.le_refl _)).1, hAB, hls2, hPx, hPm, hD, hS⟩
    · exact absurd (hz1.trans hz2.symm) c_192
end
section
set_option maxRecDepth 100000
set_option maxHeartbeats 4000000 in
set_option maxRecDepth 100000 in
/-- the law's loop, at its head -/
theorem law_loop {p : Program} {l : Launch} {e : Env} {s : State} {m : MethodId} {below : List Frame} {meth : Method} {c : Code} {dC : Nat → ClassId} {dI : Nat → Nat → Nat} {b L : Nat} {xs : Nat → Int32} {h q1 q2 q3 q4 q5 q6 q7 q8 g g1 g2 g3 g4 g5 g6 g7 g8 g9 : Nat} {cI cL cJ cZ : ClassId} (hL : L ≤ 256) (C0 : lw_At p s m meth c b L xs) (hKx : va_K (dC, dI) vwCl [(cI, .int), (cL, .long)] s) (hKm : va_K (dC, dI) vwCl [(cJ, .int), (cZ, .boolean)] s) : ∀ (k i : Nat) (H : Heap) (locs : List Loc), i ≤ 260 → 1000 ≤ i + k → ra_St dC dI (fun q : Nat => s.heap.size ≤ q) s.heap h q1 q2 q3 q4 q5 q6 q7 q8 cI cL g g1 g2 g3 g4 g5 g6 g7 g8 g9 cJ cZ H locs → ∀ (ls : Array Slot), lv_has ls 4 [(3, .int (nI i)), (0, .ref b), (1, .ref h), (2, .ref g)] → W p l e room_1 s m #[Value.ref b] below meth c H locs 600000 7290000 (lw_Z below #[Value.ref b] s) (F0 m 18 ls []) := by
  intro k
  induction k with
  | zero => intro i H locs h1 h2; exact absurd h2 (by omega)
  | succ k ih =>
    intro i H locs h1 h2 hSt ls hl
    have C1 := C0
    obtain ⟨hx, hb, hr, hml, hown, hts0, hX, hbl, hlocks, hgv⟩ := C0
    have hbA : ¬ (fun q : Nat => s.heap.size ≤ q) b := Nat.not_le.mpr hbl
    have hS0 : va_S (fun q : Nat => s.heap.size ≤ q) s.heap H locs := by
      obtain ⟨n, fl, S, O, P, C, fk, fg, fn, Xl, AB, fr, od, -, -, -, -, -, -, hS⟩ := hSt
      exact hS
    refine lv_iload_n hx hb dL_law_18 rfl (lv_at hl 0 rfl) ?_
    refine lv_aload_n hx hb dL_law_19 rfl (lv_at hl 1 rfl) ?_
    refine va_slen hx hb hX hbl hbA hS0 dL_law_20 ?_
    refine lv_iconst (v := 4) hx hb dL_law_21 (by decide) ?_
    refine lv_isub hx hb dL_law_22 ?_
    refine lv_icmp_gt (tgt := 414) hx hb dL_law_23 (by decide) (fun c_23 => ?_) (fun c_23 => ?_)
    · refine lv_iconst (v := 1) hx hb dL_law_414 (by decide) ?_
      refine va_forget hS0.2.2 ?_
      exact lw_ret hx hb hr hlocks dL_law_415
    · have hi : i + 4 ≤ L := ra_go hL (by omega) c_23
      have nxt : ∀ (H : Heap) (locs : List Loc), ra_St dC dI (fun q : Nat => s.heap.size ≤ q) s.heap h q1 q2 q3 q4 q5 q6 q7 q8 cI cL g g1 g2 g3 g4 g5 g6 g7 g8 g9 cJ cZ H locs → W p l e room_1 s m #[Value.ref b] below meth c H locs 600000 7290000 (lw_Z below #[Value.ref b] s) (F0 m 408 ls []) := by
        intro H locs hSt
        refine lv_iinc (v := nI (i + 4)) (lv' := [(3, .int (nI (i + 4))), (0, .ref b), (1, .ref h), (2, .ref g)]) hx hb dL_law_408 hl (k := 0) rfl (nI_add i 4) (by decide) rfl (fun ls hl => ?_)
        refine lv_goto (tgt := 18) hx hb dL_law_411 (by decide) ?_
        exact ih (i + 4) H locs (by omega) (by omega) hSt ls hl
      refine lv_aload_n hx hb dL_law_26 rfl (lv_at hl 1 rfl) ?_
      refine lv_iload_n hx hb dL_law_27 rfl (lv_at hl 0 rfl) ?_
      refine ra_sld hx hb hX hbl hbA hS0 (k := i) rfl (by omega) (by omega) dL_law_28 ?_
      refine lv_bipush (v := 15) hx hb dL_law_29 (by decide) ?_
      refine lv_iand hx hb dL_law_31 ?_
      obtain ⟨j, hj, ej⟩ := pk_andE (xs i) (m := 15) 4 rfl
      refine ra_top ej ?_
      rcases (show j = 0 ∨ j = 1 ∨ j = 2 ∨ j = 3 ∨ j = 4 ∨ j = 5 ∨ j = 6 ∨ j = 7 ∨ j = 8 ∨ j = 9 ∨ 10 ≤ j by omega) with rfl | rfl | rfl | rfl | rfl | rfl | rfl | rfl | rfl | rfl | hj10
      · refine lv_tableIn (off := 56) (tgt := 88) hx hb dL_law_32 (by decide) (by decide) rfl (by decide) ?_
        exact law_0 hL C1 hKx hKm hi hSt hl nxt
      · refine lv_tableIn (off := 99) (tgt := 131) hx hb dL_law_32 (by decide) (by decide) rfl (by decide) ?_
        exact law_1 hL C1 hKx hKm hi hSt hl nxt
      · refine lv_tableIn (off := 132) (tgt := 164) hx hb dL_law_32 (by decide) (by decide) rfl (by decide) ?_
        exact law_2 hL C1 hKx hKm hi hSt hl nxt
      · refine lv_tableIn (off := 165) (tgt := 197) hx hb dL_law_32 (by decide) (by decide) rfl (by decide) ?_
        exact law_3 hL C1 hKx hKm hi hSt hl nxt
      · refine lv_tableIn (off := 188) (tgt := 220) hx hb dL_law_32 (by decide) (by decide) rfl (by decide) ?_
        exact law_4 hL C1 hKx hKm hi hSt hl nxt
      · refine lv_tableIn (off := 221) (tgt := 253) hx hb dL_law_32 (by decide) (by decide) rfl (by decide) ?_
        exact law_5 hL C1 hKx hKm hi hSt hl nxt
      · refine lv_tableIn (off := 254) (tgt := 286) hx hb dL_law_32 (by decide) (by decide) rfl (by decide) ?_
        exact law_6 hL C1 hKx hKm hi hSt hl nxt
      · refine lv_tableIn (off := 287) (tgt := 319) hx hb dL_law_32 (by decide) (by decide) rfl (by decide) ?_
        exact law_7 hL C1 hKx hKm hi hSt hl nxt
      · refine lv_tableIn (off := 310) (tgt := 342) hx hb dL_law_32 (by decide) (by decide) rfl (by decide) ?_
        exact law_8 hL C1 hKx hKm hi hSt hl nxt
      · refine lv_tableIn (off := 343) (tgt := 375) hx hb dL_law_32 (by decide) (by decide) rfl (by decide) ?_
        exact law_9 hL C1 hKx hKm hi hSt hl nxt
      · refine lv_tableOut (tgt := 408) hx hb dL_law_32 (Or.inr (by rw [nI_toInt (by omega)]; omega)) (by decide) ?_
        exact nxt H locs hSt
set_option maxHeartbeats 4000000 in
set_option maxRecDepth 100000 in
/-- THE LAW, from its entry -/
theorem whole_start {p : Program} {e : Env} {s : State} {m : MethodId} {below : List Frame} {meth : Method} {c : Code} (l : Launch) {b L : Nat} {xs : Nat → Int32} (hL : L ≤ 256) (C0 : lw_At p s m meth c b L xs) : W p l e room_1 s m #[Value.ref b] below meth c s.heap [] 0 0 (lw_Z below #[Value.ref b] s) (entryFrame m ([Value.ref b] : List Value).toArray 4) := by
  have C1 := C0
  obtain ⟨hx, hb, hr, hml, hown, hts0, hX, hbl, hlocks, hgv⟩ := C0
  have hts : ∀ w ∈ lw_all, w.before #[Value.ref b] s = true := fun w h => hts0 w (lw_all_tbl h)
  have hA : ∀ q : Nat, s.heap.size ≤ q → (fun q : Nat => s.heap.size ≤ q) q := fun _ h => h
  obtain ⟨c0_, iS0, hKn0⟩ := u_known (C := RX0) (T := TX0) (N := 9) (n := 9) hts0 (fun w h => lw_all_tbl (in_X0 w h)) (hts _ q20)
  obtain ⟨c1_, iS1, hKn1⟩ := u_known (C := RX1) (T := TX1) (N := 11) (n := 11) hts0 (fun w h => lw_all_tbl (in_X1 w h)) (hts _ q140)
  obtain ⟨dC, dI, hKc⟩ : ∃ (dC : Nat → ClassId) (dI : Nat → Nat → Nat), ∀ (k : Nat) (q : vw_C), vwCl[k]? = some q → u_Kn s q.1 q.2.1 q.2.2 (dC k) (dI k) := by
    refine ⟨fun k => if k = 0 then c0_ else c1_, fun k => if k = 0 then iS0 else iS1, ?_⟩
    intro k q hq
    match k, hq with
    | 0, hq => cases hq; exact hKn0
    | 1, hq => cases hq; exact hKn1
    | k + 2, hq => simp [vwCl] at hq
  have hS : va_S (fun q : Nat => s.heap.size ≤ q) s.heap s.heap [] := va_S.rf
  have hK : va_K (dC, dI) vwCl [] s := ⟨hKc, fun k q h => by simp at h⟩
  have hP : va_P (dC, dI) vwCl [] s.heap := fun k q h => by simp at h
  have hD : va_D (fun q : Nat => s.heap.size ≤ q) [] := ⟨fun i j p q h => by simp at h, fun k q h => by simp at h⟩
  have hl := lv_entry ([.ref b]) (n := 4) (Nat.le_of_ble_eq_true rfl)
  rw [lg_entry_eq]
  generalize (lg_sl ([.ref b]) ++ List.replicate (4 - (lg_sl ([.ref b])).length) Slot.unset).toArray = ls at hl ⊢
  have hl : lv_has ls 4 [(0, .ref b)] := hl
  refine va_new (ci := 0) (fs := [.int 0, .null, .null, .null, .null, .null, .null, .null, .null]) (C := RX0) (T := TX0) (N := 9) hx hb hts in_X0 tyX0 tyX0_ok hown (hts _ q19) (hts _ q20) (hts _ q17) hK hP hD hS hA rfl (fun j hj => by rcases (show j = 0 ∨ j = 1 ∨ j = 2 ∨ j = 3 ∨ j = 4 ∨ j = 5 ∨ j = 6 ∨ j = 7 ∨ j = 8 by omega) with rfl | rfl | rfl | rfl | rfl | rfl | rfl | rfl | rfl <;> rfl) (Nat.le_of_ble_eq_true rfl) (Nat.le_of_ble_eq_true rfl) dL_law_0 (fun h H hP hD hS => ?_)
  have hP : va_P (dC, dI) vwCl [(h, .inr (0, [.int 0, .null, .null, .null, .null, .null, .null, .null, .null]))] H := hP
  have hD : va_D (fun q : Nat => s.heap.size ≤ q) [(h, .inr (0, [.int 0, .null, .null, .null, .null, .null, .null, .null, .null]))] := hD
  refine W.widen (k := 1) (n := 9) (by omega) (by omega) ?_
  refine lv_dup hx hb dL_law_3 rfl ?_
  have hFc := va_free (wc := [(h, .inr (0, [.int 0, .null, .null, .null, .null, .null, .null, .null, .null]))]) hD hS hA [0] rfl
  refine va_callv (va_runI (As := []) (rest := [.ref h]) ⟨hx, hb, hml, hown, hts⟩ (mx_init l h H.size) (cwI 0 hts (lw_meth q23) rfl rfl rfl (hts _ q17) (hts _ q21) (hts _ q22) rfl (by decide +kernel) ⟨Nat.le_of_ble_eq_true rfl, Nat.le_of_ble_eq_true rfl⟩) ⟨ra_fbW, fun U hU hW => ⟨rfl, by rw [hU], by rw [hU]; exact hP, va_K.moved hW.alike hK, hD.weaken (fun _ _ _ _ => trivial)⟩⟩ rfl rfl hl.1 rfl (lv_room (Nat.le_of_ble_eq_true rfl)) dL_law_4 ⟨Nat.le_of_ble_eq_true rfl, Nat.le_of_ble_eq_true rfl⟩) hS (fun q _ h => hFc q h) hFc (fun fn t H1 locs ht hvm hfn hB hz1 hk1 hS => ?_)
  obtain ⟨q1, q2, q3, q4, q5, q6, q7, q8, cI, cL, hP1, hK1, hD1⟩ := hB
  rw [ht] at hP1
  have hKx := va_K.moved hvm.symm hK1
  obtain ⟨hP, hD⟩ := va_join (wr := []) (w1 := (ra_wX h q1 q2 q3 q4 q5 q6 q7 q8 cI cL 0 (fun _ => 0) (fun _ => 0) (fun _ => 0) (fun _ => 0) (fun _ => 0) (fun _ => 0) (fun _ => 0) fn)) hP hD [0] [] rfl rfl (by decide) (by decide) hk1 hFc hP1 hD1
  generalize H1 = H at hP hS ⊢
  have hP : va_P (dC, dI) vwCl (ra_wX h q1 q2 q3 q4 q5 q6 q7 q8 cI cL 0 (fun _ => 0) (fun _ => 0) (fun _ => 0) (fun _ => 0) (fun _ => 0) (fun _ => 0) (fun _ => 0) fn) H := hP
  have hD : va_D (fun q : Nat => s.heap.size ≤ q) (ra_wX h q1 q2 q3 q4 q5 q6 q7 q8 cI cL 0 (fun _ => 0) (fun _ => 0) (fun _ => 0) (fun _ => 0) (fun _ => 0) (fun _ => 0) (fun _ => 0) fn) := hD
  refine W.widen (k := 9) (n := 301) (by omega) (by omega) ?_
  refine lv_astore_n (lv' := [(1, .ref h), (0, .ref b)]) hx hb dL_law_7 rfl hl (by decide) rfl (fun ls hl => ?_)
  refine va_new (ci := 1) (fs := [.int 0, .null, .null, .null, .null, .null, .null, .null, .null, .null, .int 0]) (C := RX1) (T := TX1) (N := 11) hx hb hts in_X1 tyX1 tyX1_ok hown (hts _ q139) (hts _ q140) (hts _ q18) hK hP hD hS hA rfl (fun j hj => by rcases (show j = 0 ∨ j = 1 ∨ j = 2 ∨ j = 3 ∨ j = 4 ∨ j = 5 ∨ j = 6 ∨ j = 7 ∨ j = 8 ∨ j = 9 ∨ j = 10 by omega) with rfl | rfl | rfl | rfl | rfl | rfl | rfl | rfl | rfl | rfl | rfl <;> rfl) (Nat.le_of_ble_eq_true rfl) (Nat.le_of_ble_eq_true rfl) dL_law_8 (fun g H hP hD hS => ?_)
  have hP : va_P (dC, dI) vwCl ((ra_wX h q1 q2 q3 q4 q5 q6 q7 q8 cI cL 0 (fun _ => 0) (fun _ => 0) (fun _ => 0) (fun _ => 0) (fun _ => 0) (fun _ => 0) (fun _ => 0) fn) ++ [(g, .inr (1, [.int 0, .null, .null, .null, .null, .null, .null, .null, .null, .null, .int 0]))]) H := hP
  have hD : va_D (fun q : Nat => s.heap.size ≤ q) ((ra_wX h q1 q2 q3 q4 q5 q6 q7 q8 cI cL 0 (fun _ => 0) (fun _ => 0) (fun _ => 0) (fun _ => 0) (fun _ => 0) (fun _ => 0) (fun _ => 0) fn) ++ [(g, .inr (1, [.int 0, .null, .null, .null, .null, .null, .null, .null, .null, .null, .int 0]))]) := hD
  refine W.widen (k := 10) (n := 312) (by omega) (by omega) ?_
  refine lv_dup hx hb dL_law_11 rfl ?_
  have hPc := hP.sub (ws' := [(g, .inr (1, [.int 0, .null, .null, .null, .null, .null, .null, .null, .null, .null, .int 0]))]) [9] rfl
  have hDc := hD.sub (ws' := [(g, .inr (1, [.int 0, .null, .null, .null, .null, .null, .null, .null, .null, .null, .int 0]))]) [9] (by decide) rfl
  have hFc := va_free (wc := [(g, .inr (1, [.int 0, .null, .null, .null, .null, .null, .null, .null, .null, .null, .int 0]))]) hD hS hA [9] rfl
  refine va_callv (va_runI (As := []) (rest := [.ref g]) ⟨hx, hb, hml, hown, hts⟩ (mm_init l g H.size) (cwI 0 hts (lw_meth q143) rfl rfl rfl (hts _ q18) (hts _ q141) (hts _ q142) rfl (by decide +kernel) ⟨Nat.le_of_ble_eq_true rfl, Nat.le_of_ble_eq_true rfl⟩) ⟨ra_fbW, fun U hU hW => ⟨rfl, by rw [hU], by rw [hU]; exact hPc, va_K.moved hW.alike hK, hDc.weaken (fun _ _ _ _ => trivial)⟩⟩ rfl rfl hl.1 rfl (lv_room (Nat.le_of_ble_eq_true rfl)) dL_law_12 ⟨Nat.le_of_ble_eq_true rfl, Nat.le_of_ble_eq_true rfl⟩) hS (fun q _ h => hFc q h) hFc (fun u t H1 locs ht hvm hfu hB hz1 hk1 hS => ?_)
  obtain ⟨g1, g2, g3, g4, g5, g6, g7, g8, g9, cJ, cZ, hP1, hK1, hD1⟩ := hB
  rw [ht] at hP1
  have hKm := va_K.moved hvm.symm hK1
  obtain ⟨hP, hD⟩ := va_join (wr := (ra_wX h q1 q2 q3 q4 q5 q6 q7 q8 cI cL 0 (fun _ => 0) (fun _ => 0) (fun _ => 0) (fun _ => 0) (fun _ => 0) (fun _ => 0) (fun _ => 0) fn)) (w1 := (ra_wM g g1 g2 g3 g4 g5 g6 g7 g8 g9 cJ cZ 0 (fun _ => 0) (fun _ => 0) (fun _ => 0) (fun _ => 0) (fun _ _ => false) (fun _ => 0) (fun _ => 0) (fun _ => 0) (fun _ => 0) 0)) hP hD [9] [0, 1, 2, 3, 4, 5, 6, 7, 8] rfl rfl (by decide) (by decide) hk1 hFc hP1 hD1
  generalize H1 = H at hP hP1 hS ⊢
  refine W.widen (k := 600000) (n := 7290000) (by omega) (by omega) ?_
  refine lv_astore_n (lv' := [(2, .ref g), (1, .ref h), (0, .ref b)]) hx hb dL_law_15 rfl hl (by decide) rfl (fun ls hl => ?_)
  refine lv_iconst (v := 0) hx hb dL_law_16 (by decide) ?_
  refine lv_istore_n (lv' := [(3, .int 0), (2, .ref g), (1, .ref h), (0, .ref b)]) hx hb dL_law_17 rfl hl (by decide) rfl (fun ls hl => ?_)
  have hPx : va_P (dC, dI) vwCl (ra_wX h q1 q2 q3 q4 q5 q6 q7 q8 cI cL 0 (fun _ => 0) (fun _ => 0) (fun _ => 0) (fun _ => 0) (fun _ => 0) (fun _ => 0) (fun _ => 0) fn) H := hP.sub [0, 1, 2, 3, 4, 5, 6, 7, 8] rfl
  refine law_loop hL C1 hKx hKm 1000 0 H locs (by omega) (by omega) ⟨_, _, _, _, _, _, _, _, fn, fun _ => [], _, _, _, ra_inv_0, ra_ab_0 _ _, ?_, hPx, hP1, hD, hS⟩ ls (lv_sub hl [0, 3, 2, 1] rfl)
  intro rp hr
  exact ⟨hfn _ (by omega), trivial⟩
end
section
set_option maxHeartbeats 4000000 in
theorem lw_walk (l : Launch) (b : Addr) (xs : List Int32) : MetFree l x (headSpec (Jvm.Cond.code x code maxLocals ret :: tables_1) room_1) (lw_P b xs) (fun _ _ _ _ _ => True) lw_Q := by
  refine MetFree.of_bodyS (code := code) (maxLocals := maxLocals) (ret := ret) (by decide) ?_ ?_
  · intro args s m h hn
    obtain ⟨meth, c, h1, h2, h3, h4, h5, h6, -, -⟩ := Cond.code_spec hn (atoms_spec (ws := Jvm.Cond.code x code maxLocals ret :: tables_1) h _ List.mem_cons_self)
    exact ⟨meth, c, h1, h2, h3, h4, h5, h6⟩
  · intro p e s m args below meth c s₁ B hml0 hP _
    obtain ⟨rfl, hx, hbd, hgv⟩ := hP
    obtain ⟨scr, harrAt, hlist, hof, hsmall⟩ := hx
    obtain ⟨hcb, hkn, -, -⟩ := State.arrayAt?_spec harrAt
    have hown : s.vm.findClass R_law = some m.cls := findClass_of_methodNamed B.named
    have hts0 : ∀ c ∈ (Jvm.Cond.code x code maxLocals ret :: tables_1), c.before #[Value.ref b] s = true := atoms_spec (ws := Jvm.Cond.code x code maxLocals ret :: tables_1) B.pre
    have hts : ∀ w ∈ lw_tbl, w.before #[Value.ref b] s = true := k2_hts_sels lw_privs (fun w hw => hts0 w (List.mem_cons_of_mem _ hw)) lw_privs_ok
    have hml : c.maxLocals = 4 := B.maxLocals_eq (hts0 _ List.mem_cons_self)
    have X₀ : Stand p l e room_1 s m #[Value.ref b] below meth c s₁ [] 0 0 := Stand.of_body B
    have hh0 : s₁.heap = s.heap := by rw [B.state]; rfl
    have hsz : scr.slots.size = xs.length := by rw [← Array.length_toList, hlist, List.length_map]
    have hval : ∀ j : Nat, j < xs.length → scr.slots[j]? = some (.int (xs.getD j 0)) := fun j hj => by
      rw [← Array.getElem?_toList, hlist]
      simp [hj]
    have hbl : b < s.heap.size := (Array.getElem?_eq_some_iff.mp hcb).1
    have hX : va_X b xs.length (fun j => xs.getD j 0) s s.heap := ⟨scr, hcb, hof, hkn, hsz, hval⟩
    have K : W p l e room_1 s m #[Value.ref b] below meth c s₁.heap [] 0 0 (lw_Z below #[Value.ref b] s) (entryFrame m ([Value.ref b] : List Value).toArray 4) := by
      rw [hh0]
      exact whole_start l hbd ⟨B.exec, B.bytes, B.returns, hml, hown, hts, hX, hbl, B.notSynchronized, hgv⟩
    obtain ⟨t, a1, o, b1, b2, b3⟩ := K s₁ rfl X₀
    exact ⟨t, o, a1, b1, b2, b3⟩
theorem lw_pre_spec {args : Array Value} {s : State} (h : (Jvm.Cond.and given_1 narrow_1).before args s = true) (hr : rest_1_c.before args s = true) : ∃ (b : Addr) (xs : List Int32), lw_P b xs args s := by
  have hs := flat_of_before _ h
  have hq := flat_of_before _ hr
  have hc : (Cond.count 1).before args s = true := hs _ (by decide +kernel)
  have harr : (Cond.arrayOf (.arg 0) .int).before args s = true := hs _ (by decide +kernel)
  have hle : (Cond.le (.length (.arg 0)) (.int 256)).before args s = true := hs _ (by decide +kernel)
  have hlen : (Cond.isInt (.length (.arg 0))).before args s = true := hq _ (by decide +kernel)
  have hall : (Cond.all (.arg 0) (.isInt (.elem (.arg 0) (.index 0)))).before args s = true := hq _ (by decide +kernel)
  obtain ⟨b, xs, hb, hx⟩ := State.ints_of_pre rfl harr hlen hall
  have hsm : xs.length < 2 ^ 31 := hx.choose_spec.2.2.2
  have hev : (Term.length (.arg 0)).eval args s none [] s = some (.int xs.length.toInt32) := hx.length_eval hb
  have hv := Cond.le_ints hev (show (Term.int 256).eval args s none [] s = some (.int 256) from rfl)
  have hd : xs.length.toInt32 ≤ 256 := by
    simpa [Cond.before, Cond.holds, hv] using hle
  have hN : xs.length ≤ 256 := (Int32.ofNat_le_ofNat hsm (by decide)).mp (show Int32.ofNat xs.length ≤ Int32.ofNat 256 from hd)
  exact ⟨b, xs, Cond.one_arg hc (show args[0]? = some (.ref b) from hb), hx, hN, h⟩
theorem lw_comes (l : Launch) : Comes l x (Jvm.Cond.code x code maxLocals ret :: tables_1) room_1 (fun tb e args s => Calls_1 tb e args s ∧ rest_1 tb e args s ∧ Pre_1 tb e args s)
    (fun _ _ args s o t => lw_Q args s o t) := by
  intro p e ha hc hk s m args below hf hfit hheap happ hpre
  obtain ⟨b, xs, hP⟩ := lw_pre_spec hpre.2.2 hpre.2.1
  obtain ⟨k, o, h1, h2, h3, hQ⟩ := lw_walk l b xs p e ha hc hk s m args below hf ((Spec.applies_iff_loose hf).mp happ).1 hP trivial
  exact ⟨k, o, h1, h2, h3, hQ⟩
theorem lw_frame {s t : State} {o : Outcome} {args : Array Value} (h : Framed s o t [] 600000 7290000) :
    Framed s o t (fieldLocs frame_1_writes args s ++ arrayLocs frame_1_arrays args s ++ staticLocs frame_1_statics s) 600000 7290000 := h
theorem lw_limb (L : Cond) (hL : ∀ (args : Array Value) (s t : State), L.after args s (.returned (some (.int 1))) t = true) :
    ArmFor flags0 classFile x code maxLocals ret World_1 tables_1 room_1 Calls_1 rest_1 Pre_1
      (fun tb e a s o t => postC L tb e a s o t ∧ Framed s o t (fieldLocs frame_1_writes a s ++ arrayLocs frame_1_arrays a s ++ staticLocs frame_1_statics s) 600000 7290000) := by
  intro l _ _ _ p e ha hc hk s m args below hf hfit hheap happ hpre
  obtain ⟨k, o, h1, h2, h3, rfl, hF⟩ := lw_comes l p e ha hc hk s m args below hf hfit hheap happ hpre
  exact ⟨k, _, h1, h2, h3, hL args s _, lw_frame hF⟩
theorem i_vc : Claimed_1_1 ∧ Claimed_1_2 := ⟨lw_limb limb_1_1 (fun args s t => by simp [limb_1_1, Cond.after, Cond.holds, Cond.value]), lw_limb limb_1_2 (fun args s t => Cond.after_iff.mpr (by
  first | (rw [show limb_1_2 = Cond.eq .result (.int 1) from rfl, Cond.eq_ints (x := 1) (y := 1) rfl rfl]; simp; done) | (simp [limb_1_2, Cond.value, Term.eval]; done)))⟩
end
