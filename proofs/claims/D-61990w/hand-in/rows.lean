section
-- ===== PART A: goes FIRST, ahead of the names: the tables' words, and 'selects' of the private methods out of them =====
/-- a private method of a class that the tables say can be made, by its rows of tables_1 -/
def lw_okq (q : MethodName × Nat) : Prop := (q.1.cls ≠ "java/lang/invoke/MethodHandle" ∧ q.1.cls ≠ "java/lang/invoke/VarHandle") ∧ Cond.instantiable q.1.cls q.2 ∈ tables_1 ∧ Cond.privateMethod q.1 ∈ tables_1 ∧ Cond.instanceMethod q.1 ∈ tables_1
set_option maxRecDepth 100000
theorem lw_p0 : lw_okq (⟨"SqueezeQueue", "squeeze", "()V"⟩, 18) := ⟨⟨by decide +kernel, by decide +kernel⟩, List.mem_of_getElem? (i := 4) rfl, List.mem_of_getElem? (i := 85) rfl, List.mem_of_getElem? (i := 86) rfl⟩
theorem lw_p1 : lw_okq (⟨"SqueezeQueue", "startChances", "()V"⟩, 18) := ⟨⟨by decide +kernel, by decide +kernel⟩, List.mem_of_getElem? (i := 4) rfl, List.mem_of_getElem? (i := 89) rfl, List.mem_of_getElem? (i := 90) rfl⟩
theorem lw_p2 : lw_okq (⟨"SqueezeQueue", "writeTree", "(III)V"⟩, 18) := ⟨⟨by decide +kernel, by decide +kernel⟩, List.mem_of_getElem? (i := 4) rfl, List.mem_of_getElem? (i := 94) rfl, List.mem_of_getElem? (i := 95) rfl⟩
theorem lw_p3 : lw_okq (⟨"SqueezeQueue", "writeBit", "(II)V"⟩, 18) := ⟨⟨by decide +kernel, by decide +kernel⟩, List.mem_of_getElem? (i := 4) rfl, List.mem_of_getElem? (i := 98) rfl, List.mem_of_getElem? (i := 99) rfl⟩
theorem lw_p4 : lw_okq (⟨"SqueezeQueue", "learn", "(II)V"⟩, 18) := ⟨⟨by decide +kernel, by decide +kernel⟩, List.mem_of_getElem? (i := 4) rfl, List.mem_of_getElem? (i := 102) rfl, List.mem_of_getElem? (i := 103) rfl⟩
theorem lw_p5 : lw_okq (⟨"SqueezeQueue", "shiftLow", "()V"⟩, 18) := ⟨⟨by decide +kernel, by decide +kernel⟩, List.mem_of_getElem? (i := 4) rfl, List.mem_of_getElem? (i := 107) rfl, List.mem_of_getElem? (i := 108) rfl⟩
theorem lw_p6 : lw_okq (⟨"SqueezeQueue", "putByte", "(I)V"⟩, 18) := ⟨⟨by decide +kernel, by decide +kernel⟩, List.mem_of_getElem? (i := 4) rfl, List.mem_of_getElem? (i := 112) rfl, List.mem_of_getElem? (i := 113) rfl⟩
theorem lw_p7 : lw_okq (⟨"SqueezeQueue", "findMatch", "(I)V"⟩, 18) := ⟨⟨by decide +kernel, by decide +kernel⟩, List.mem_of_getElem? (i := 4) rfl, List.mem_of_getElem? (i := 117) rfl, List.mem_of_getElem? (i := 118) rfl⟩
theorem lw_p8 : lw_okq (⟨"SqueezeQueue", "matchAt", "(II)I"⟩, 18) := ⟨⟨by decide +kernel, by decide +kernel⟩, List.mem_of_getElem? (i := 4) rfl, List.mem_of_getElem? (i := 121) rfl, List.mem_of_getElem? (i := 122) rfl⟩
theorem lw_p9 : lw_okq (⟨"SqueezeQueue", "unsqueeze", "()V"⟩, 18) := ⟨⟨by decide +kernel, by decide +kernel⟩, List.mem_of_getElem? (i := 4) rfl, List.mem_of_getElem? (i := 129) rfl, List.mem_of_getElem? (i := 130) rfl⟩
theorem lw_p10 : lw_okq (⟨"SqueezeQueue", "takeByte", "()I"⟩, 18) := ⟨⟨by decide +kernel, by decide +kernel⟩, List.mem_of_getElem? (i := 4) rfl, List.mem_of_getElem? (i := 133) rfl, List.mem_of_getElem? (i := 134) rfl⟩
theorem lw_p11 : lw_okq (⟨"SqueezeQueue", "readTree", "(II)I"⟩, 18) := ⟨⟨by decide +kernel, by decide +kernel⟩, List.mem_of_getElem? (i := 4) rfl, List.mem_of_getElem? (i := 137) rfl, List.mem_of_getElem? (i := 138) rfl⟩
theorem lw_p12 : lw_okq (⟨"SqueezeQueue", "readBit", "(I)I"⟩, 18) := ⟨⟨by decide +kernel, by decide +kernel⟩, List.mem_of_getElem? (i := 4) rfl, List.mem_of_getElem? (i := 141) rfl, List.mem_of_getElem? (i := 142) rfl⟩
theorem lw_p13 : lw_okq (⟨"SqueezeQueue", "copyBack", "(II)V"⟩, 18) := ⟨⟨by decide +kernel, by decide +kernel⟩, List.mem_of_getElem? (i := 4) rfl, List.mem_of_getElem? (i := 145) rfl, List.mem_of_getElem? (i := 146) rfl⟩
def lw_privs_1 : List (MethodName × Nat) := [(⟨"SqueezeQueue", "squeeze", "()V"⟩, 18), (⟨"SqueezeQueue", "startChances", "()V"⟩, 18), (⟨"SqueezeQueue", "writeTree", "(III)V"⟩, 18), (⟨"SqueezeQueue", "writeBit", "(II)V"⟩, 18), (⟨"SqueezeQueue", "learn", "(II)V"⟩, 18), (⟨"SqueezeQueue", "shiftLow", "()V"⟩, 18), (⟨"SqueezeQueue", "putByte", "(I)V"⟩, 18), (⟨"SqueezeQueue", "findMatch", "(I)V"⟩, 18), (⟨"SqueezeQueue", "matchAt", "(II)I"⟩, 18), (⟨"SqueezeQueue", "unsqueeze", "()V"⟩, 18), (⟨"SqueezeQueue", "takeByte", "()I"⟩, 18), (⟨"SqueezeQueue", "readTree", "(II)I"⟩, 18), (⟨"SqueezeQueue", "readBit", "(I)I"⟩, 18), (⟨"SqueezeQueue", "copyBack", "(II)V"⟩, 18)]
theorem lw_r1 : ∀ q ∈ lw_privs_1, lw_okq q := List.forall_mem_cons.mpr ⟨lw_p0, List.forall_mem_cons.mpr ⟨lw_p1, List.forall_mem_cons.mpr ⟨lw_p2, List.forall_mem_cons.mpr ⟨lw_p3, List.forall_mem_cons.mpr ⟨lw_p4, List.forall_mem_cons.mpr ⟨lw_p5, List.forall_mem_cons.mpr ⟨lw_p6, List.forall_mem_cons.mpr ⟨lw_p7, List.forall_mem_cons.mpr ⟨lw_p8, List.forall_mem_cons.mpr ⟨lw_p9, List.forall_mem_cons.mpr ⟨lw_p10, List.forall_mem_cons.mpr ⟨lw_p11, List.forall_mem_cons.mpr ⟨lw_p12, List.forall_mem_cons.mpr ⟨lw_p13, fun _ h => absurd h List.not_mem_nil⟩⟩⟩⟩⟩⟩⟩⟩⟩⟩⟩⟩⟩⟩
def lw_privs : List (MethodName × Nat) := lw_privs_1
def lw_tbl : List Cond := k2_sels lw_privs ++ tables_1
theorem lw_privs_ok : ∀ q ∈ lw_privs, lw_okq q := lw_r1
-- ===== ONE list of words for every method: the tables' words that hold all through a run =====
def lw_all : List Cond := lw_tbl.filter goodWord
/-- a word of the tables by its place: claim/WORDS.tsv -/
theorem lw_w {w : Cond} (i : Nat) (h : lw_tbl[i]? = some w) (g : goodWord w = true) : w ∈ lw_all := List.mem_filter.mpr ⟨List.mem_of_getElem? h, g⟩
theorem lw_all_tbl {w : Cond} (h : w ∈ lw_all) : w ∈ lw_tbl := (List.mem_filter.mp h).1
theorem lw_self : GoodIn lw_all lw_all := fun w h => ⟨h, good_of_word (List.mem_filter.mp h).2⟩
/-- a class's field words, by their places -/
theorem lw_in (ws : List Cond) (ps : List Nat) (hp : ws = ps.filterMap (fun i => lw_tbl[i]?)) (hg : ws.all goodWord = true) : ∀ w ∈ ws, w ∈ lw_all := by
  intro w h
  have h1 := List.all_eq_true.mp hg w h
  rw [hp] at h
  obtain ⟨i, -, hi⟩ := List.mem_filterMap.mp h
  exact lw_w i hi h1
/-- the words of a contract for the method y with code b, L locals, answer r -/
abbrev ws_ (y : MethodName) (b : ByteArray) (L : Nat) (r : Option FieldType) : List Cond := Cond.code y b L r :: lw_all
theorem lw_meth {y : MethodName} {b : ByteArray} {L : Nat} {r : Option FieldType} (h : Cond.code y b L r ∈ lw_all) : GoodIn lw_all (ws_ y b L r) := by
  intro w hw
  rcases List.mem_cons.mp hw with e | e
  · rw [e]
    exact lw_self _ h
  · exact lw_self _ e
theorem lw_app {a c : List Cond} (ha : ∀ w ∈ a, w ∈ lw_all) (hc : GoodIn lw_all c) : GoodIn lw_all (a ++ c) := by
  intro w hw
  rcases List.mem_append.mp hw with e | e
  · exact lw_self w (ha w e)
  · exact hc w e
/-- what a call through an object asks: cwV n hts (lw_V ..) -/
theorem lw_V {own : String} {idx : Nat} {C : String} {y : MethodName} {b : ByteArray} {L : Nat} {r : Option FieldType} (h1 : Cond.methodLink own idx y ∈ lw_all) (h2 : Cond.instanceMethod y ∈ lw_all) (h3 : Cond.selects C y y ∈ lw_all) (h4 : Cond.initialized C ∈ lw_all) (h5 : Cond.code y b L r ∈ lw_all) : GoodIn lw_all (wsV own idx C y (ws_ y b L r)) := by
  refine lw_app ?_ (lw_meth h5)
  intro w hw
  simp only [List.mem_cons, List.not_mem_nil, or_false] at hw
  rcases hw with e | e | e | e
  · rw [e]; exact h1
  · rw [e]; exact h2
  · rw [e]; exact h3
  · rw [e]; exact h4
/-- what a static call asks: va_cwS n hts (lw_S ..) -/
theorem lw_S {own : String} {idx : Nat} {y : MethodName} {b : ByteArray} {L : Nat} {r : Option FieldType} (h1 : Cond.methodLink own idx y ∈ lw_all) (h2 : Cond.static y ∈ lw_all) (h3 : Cond.initialized y.cls ∈ lw_all) (h4 : Cond.code y b L r ∈ lw_all) : GoodIn lw_all (va_wsS own idx y (ws_ y b L r)) := by
  refine lw_app ?_ (lw_meth h4)
  intro w hw
  simp only [List.mem_cons, List.not_mem_nil, or_false] at hw
  rcases hw with e | e | e
  · rw [e]; exact h1
  · rw [e]; exact h2
  · rw [e]; exact h3
/-- the words of a contract for a method WITH HANDLERS (hh: its table) -/
abbrev wsW_ (y : MethodName) (b : ByteArray) (L : Nat) (r : Option FieldType) (hh : List (Nat × Nat × Nat × Nat)) : List Cond := Cond.codeWith y b L r hh :: lw_all
theorem lw_methW {y : MethodName} {b : ByteArray} {L : Nat} {r : Option FieldType} {hh : List (Nat × Nat × Nat × Nat)} (h : Cond.codeWith y b L r hh ∈ lw_all) : GoodIn lw_all (wsW_ y b L r hh) := by
  intro w hw
  rcases List.mem_cons.mp hw with e | e
  · rw [e]
    exact lw_self _ h
  · exact lw_self _ e
/-- any list of words by their places (lw_in), good -/
theorem lw_good {ws : List Cond} (h : ∀ w ∈ ws, w ∈ lw_all) : GoodIn lw_all ws := fun w hw => lw_self w (h w hw)
/-- what a call of a method with handlers asks: vx_cwVW n hts (lw_VW ..), vx_cwSW n hts (lw_SW ..) -/
theorem lw_VW {own : String} {idx : Nat} {C : String} {y : MethodName} {b : ByteArray} {L : Nat} {r : Option FieldType} {hh : List (Nat × Nat × Nat × Nat)} (h1 : Cond.methodLink own idx y ∈ lw_all) (h2 : Cond.instanceMethod y ∈ lw_all) (h3 : Cond.selects C y y ∈ lw_all) (h4 : Cond.initialized C ∈ lw_all) (h5 : Cond.codeWith y b L r hh ∈ lw_all) : GoodIn lw_all (wsV own idx C y (wsW_ y b L r hh)) := by
  refine lw_app ?_ (lw_methW h5)
  intro w hw
  simp only [List.mem_cons, List.not_mem_nil, or_false] at hw
  rcases hw with e | e | e | e
  · rw [e]; exact h1
  · rw [e]; exact h2
  · rw [e]; exact h3
  · rw [e]; exact h4
theorem lw_SW {own : String} {idx : Nat} {y : MethodName} {b : ByteArray} {L : Nat} {r : Option FieldType} {hh : List (Nat × Nat × Nat × Nat)} (h1 : Cond.methodLink own idx y ∈ lw_all) (h2 : Cond.static y ∈ lw_all) (h3 : Cond.initialized y.cls ∈ lw_all) (h4 : Cond.codeWith y b L r hh ∈ lw_all) : GoodIn lw_all (va_wsS own idx y (wsW_ y b L r hh)) := by
  refine lw_app ?_ (lw_methW h4)
  intro w hw
  simp only [List.mem_cons, List.not_mem_nil, or_false] at hw
  rcases hw with e | e | e
  · rw [e]; exact h1
  · rw [e]; exact h2
  · rw [e]; exact h3
/-- a word by its place in its run of the tables -/
theorem lw_at {r : List Cond} (hr : ∀ w ∈ r, w ∈ lw_tbl) {w : Cond} (i : Nat) (h : r[i]? = some w) : w ∈ lw_tbl := hr w (List.mem_of_getElem? h)
theorem lw_g {w : Cond} (h : w ∈ lw_tbl) (g : goodWord w = true) : w ∈ lw_all := List.mem_filter.mpr ⟨h, g⟩
theorem lw_ms : ∀ w ∈ k2_sels lw_privs, w ∈ lw_tbl := fun w h => show w ∈ k2_sels lw_privs ++ tables_1 from List.mem_append_left _ h
theorem lw_m0 : ∀ w ∈ tables_1, w ∈ lw_tbl := fun w h => show w ∈ k2_sels lw_privs ++ tables_1 from List.mem_append_right (k2_sels lw_privs) h
theorem qs0 : (Cond.selects "SqueezeQueue" ⟨"SqueezeQueue", "squeeze", "()V"⟩ ⟨"SqueezeQueue", "squeeze", "()V"⟩) ∈ lw_all := lw_g (lw_at lw_ms 0 rfl) rfl
theorem qs1 : (Cond.selects "SqueezeQueue" ⟨"SqueezeQueue", "startChances", "()V"⟩ ⟨"SqueezeQueue", "startChances", "()V"⟩) ∈ lw_all := lw_g (lw_at lw_ms 1 rfl) rfl
theorem qs2 : (Cond.selects "SqueezeQueue" ⟨"SqueezeQueue", "writeTree", "(III)V"⟩ ⟨"SqueezeQueue", "writeTree", "(III)V"⟩) ∈ lw_all := lw_g (lw_at lw_ms 2 rfl) rfl
theorem qs3 : (Cond.selects "SqueezeQueue" ⟨"SqueezeQueue", "writeBit", "(II)V"⟩ ⟨"SqueezeQueue", "writeBit", "(II)V"⟩) ∈ lw_all := lw_g (lw_at lw_ms 3 rfl) rfl
theorem qs4 : (Cond.selects "SqueezeQueue" ⟨"SqueezeQueue", "learn", "(II)V"⟩ ⟨"SqueezeQueue", "learn", "(II)V"⟩) ∈ lw_all := lw_g (lw_at lw_ms 4 rfl) rfl
theorem qs5 : (Cond.selects "SqueezeQueue" ⟨"SqueezeQueue", "shiftLow", "()V"⟩ ⟨"SqueezeQueue", "shiftLow", "()V"⟩) ∈ lw_all := lw_g (lw_at lw_ms 5 rfl) rfl
theorem qs6 : (Cond.selects "SqueezeQueue" ⟨"SqueezeQueue", "putByte", "(I)V"⟩ ⟨"SqueezeQueue", "putByte", "(I)V"⟩) ∈ lw_all := lw_g (lw_at lw_ms 6 rfl) rfl
theorem qs7 : (Cond.selects "SqueezeQueue" ⟨"SqueezeQueue", "findMatch", "(I)V"⟩ ⟨"SqueezeQueue", "findMatch", "(I)V"⟩) ∈ lw_all := lw_g (lw_at lw_ms 7 rfl) rfl
theorem qs8 : (Cond.selects "SqueezeQueue" ⟨"SqueezeQueue", "matchAt", "(II)I"⟩ ⟨"SqueezeQueue", "matchAt", "(II)I"⟩) ∈ lw_all := lw_g (lw_at lw_ms 8 rfl) rfl
theorem qs9 : (Cond.selects "SqueezeQueue" ⟨"SqueezeQueue", "unsqueeze", "()V"⟩ ⟨"SqueezeQueue", "unsqueeze", "()V"⟩) ∈ lw_all := lw_g (lw_at lw_ms 9 rfl) rfl
theorem qs10 : (Cond.selects "SqueezeQueue" ⟨"SqueezeQueue", "takeByte", "()I"⟩ ⟨"SqueezeQueue", "takeByte", "()I"⟩) ∈ lw_all := lw_g (lw_at lw_ms 10 rfl) rfl
theorem qs11 : (Cond.selects "SqueezeQueue" ⟨"SqueezeQueue", "readTree", "(II)I"⟩ ⟨"SqueezeQueue", "readTree", "(II)I"⟩) ∈ lw_all := lw_g (lw_at lw_ms 11 rfl) rfl
theorem qs12 : (Cond.selects "SqueezeQueue" ⟨"SqueezeQueue", "readBit", "(I)I"⟩ ⟨"SqueezeQueue", "readBit", "(I)I"⟩) ∈ lw_all := lw_g (lw_at lw_ms 12 rfl) rfl
theorem qs13 : (Cond.selects "SqueezeQueue" ⟨"SqueezeQueue", "copyBack", "(II)V"⟩ ⟨"SqueezeQueue", "copyBack", "(II)V"⟩) ∈ lw_all := lw_g (lw_at lw_ms 13 rfl) rfl
end
section
/-! SqueezeQueue -/
set_option maxRecDepth 100000
def RX0 : String := "SqueezeQueue"
def TX0 : u_T := fun k => match k with
  | 0 => ("SqueezeQueue", "draftLength", "I", false)
  | 1 => ("SqueezeQueue", "draft", "[I", true)
  | 2 => ("SqueezeQueue", "pageLength", "I", false)
  | 3 => ("SqueezeQueue", "page", "[I", true)
  | 4 => ("SqueezeQueue", "first", "I", false)
  | 5 => ("SqueezeQueue", "count", "I", false)
  | 6 => ("SqueezeQueue", "squeezed", "[B", true)
  | 7 => ("SqueezeQueue", "chance", "[I", true)
  | 8 => ("SqueezeQueue", "low", "J", false)
  | 9 => ("SqueezeQueue", "range", "J", false)
  | 10 => ("SqueezeQueue", "held", "I", false)
  | 11 => ("SqueezeQueue", "heldCount", "I", false)
  | 12 => ("SqueezeQueue", "base", "I", false)
  | 13 => ("SqueezeQueue", "written", "I", false)
  | 14 => ("SqueezeQueue", "code", "J", false)
  | 15 => ("SqueezeQueue", "readAt", "I", false)
  | 16 => ("SqueezeQueue", "matchLength", "I", false)
  | _ => ("SqueezeQueue", "matchDistance", "I", false)
def tyX0 : Nat → FieldType := fun k => match k with
  | 0 => .int
  | 1 => .array .int
  | 2 => .int
  | 3 => .array .int
  | 4 => .int
  | 5 => .int
  | 6 => .array .byte
  | 7 => .array .int
  | 8 => .long
  | 9 => .long
  | 10 => .int
  | 11 => .int
  | 12 => .int
  | 13 => .int
  | 14 => .long
  | 15 => .int
  | 16 => .int
  | _ => .int
abbrev wsX00 : List Cond := u_ws RX0 TX0 18
set_option maxRecDepth 100000 in
theorem nmX0 : ∀ a, a < 18 → ∀ b, b < 18 → a ≠ b → (TX0 a).2.1 ≠ (TX0 b).2.1 := by decide +kernel
set_option maxRecDepth 100000 in
theorem tyX0_ok : ∀ k, k < 18 → parseFieldDescriptor (TX0 k).2.2.1 = some (tyX0 k) := by decide +kernel
abbrev cX0_init : ByteArray := prog_1_method_1_code
def yX0_init : MethodName := ⟨RX0, "<init>", "()V"⟩
theorem dX0_init_0 : decode cX0_init 0 = .ok (.aload_n 0, 1) := by decide +kernel
theorem dX0_init_1 : decode cX0_init 1 = .ok (.invokespecial 1, 3) := by decide +kernel
theorem dX0_init_4 : decode cX0_init 4 = .ok (.aload_n 0, 1) := by decide +kernel
theorem dX0_init_5 : decode cX0_init 5 = .ok (.bipush 48, 2) := by decide +kernel
theorem dX0_init_7 : decode cX0_init 7 = .ok (.newarray .int, 2) := by decide +kernel
theorem dX0_init_9 : decode cX0_init 9 = .ok (.putfield 7, 3) := by decide +kernel
theorem dX0_init_12 : decode cX0_init 12 = .ok (.aload_n 0, 1) := by decide +kernel
theorem dX0_init_13 : decode cX0_init 13 = .ok (.bipush 48, 2) := by decide +kernel
theorem dX0_init_15 : decode cX0_init 15 = .ok (.newarray .int, 2) := by decide +kernel
theorem dX0_init_17 : decode cX0_init 17 = .ok (.putfield 13, 3) := by decide +kernel
theorem dX0_init_20 : decode cX0_init 20 = .ok (.aload_n 0, 1) := by decide +kernel
theorem dX0_init_21 : decode cX0_init 21 = .ok (.sipush 1408, 3) := by decide +kernel
theorem dX0_init_24 : decode cX0_init 24 = .ok (.newarray .byte, 2) := by decide +kernel
theorem dX0_init_26 : decode cX0_init 26 = .ok (.putfield 16, 3) := by decide +kernel
theorem dX0_init_29 : decode cX0_init 29 = .ok (.aload_n 0, 1) := by decide +kernel
theorem dX0_init_30 : decode cX0_init 30 = .ok (.sipush 394, 3) := by decide +kernel
theorem dX0_init_33 : decode cX0_init 33 = .ok (.newarray .int, 2) := by decide +kernel
theorem dX0_init_35 : decode cX0_init 35 = .ok (.putfield 20, 3) := by decide +kernel
theorem dX0_init_38 : decode cX0_init 38 = .ok (.return_, 1) := by decide +kernel
abbrev cX0_put : ByteArray := prog_1_method_2_code
def yX0_put : MethodName := ⟨RX0, "put", "(I)I"⟩
theorem dX0_put_0 : decode cX0_put 0 = .ok (.aload_n 0, 1) := by decide +kernel
theorem dX0_put_1 : decode cX0_put 1 = .ok (.getfield 23, 3) := by decide +kernel
theorem dX0_put_4 : decode cX0_put 4 = .ok (.bipush 48, 2) := by decide +kernel
theorem dX0_put_6 : decode cX0_put 6 = .ok (.if_icmp .lt 5, 3) := by decide +kernel
theorem dX0_put_9 : decode cX0_put 9 = .ok (.iconst (-1), 1) := by decide +kernel
theorem dX0_put_10 : decode cX0_put 10 = .ok (.ireturn, 1) := by decide +kernel
theorem dX0_put_11 : decode cX0_put 11 = .ok (.aload_n 0, 1) := by decide +kernel
theorem dX0_put_12 : decode cX0_put 12 = .ok (.getfield 7, 3) := by decide +kernel
theorem dX0_put_15 : decode cX0_put 15 = .ok (.aload_n 0, 1) := by decide +kernel
theorem dX0_put_16 : decode cX0_put 16 = .ok (.getfield 23, 3) := by decide +kernel
theorem dX0_put_19 : decode cX0_put 19 = .ok (.iload_n 1, 1) := by decide +kernel
theorem dX0_put_20 : decode cX0_put 20 = .ok (.sipush 255, 3) := by decide +kernel
theorem dX0_put_23 : decode cX0_put 23 = .ok (.iand, 1) := by decide +kernel
theorem dX0_put_24 : decode cX0_put 24 = .ok (.iastore, 1) := by decide +kernel
theorem dX0_put_25 : decode cX0_put 25 = .ok (.aload_n 0, 1) := by decide +kernel
theorem dX0_put_26 : decode cX0_put 26 = .ok (.dup, 1) := by decide +kernel
theorem dX0_put_27 : decode cX0_put 27 = .ok (.getfield 23, 3) := by decide +kernel
theorem dX0_put_30 : decode cX0_put 30 = .ok (.iconst 1, 1) := by decide +kernel
theorem dX0_put_31 : decode cX0_put 31 = .ok (.iadd, 1) := by decide +kernel
theorem dX0_put_32 : decode cX0_put 32 = .ok (.putfield 23, 3) := by decide +kernel
theorem dX0_put_35 : decode cX0_put 35 = .ok (.aload_n 0, 1) := by decide +kernel
theorem dX0_put_36 : decode cX0_put 36 = .ok (.getfield 23, 3) := by decide +kernel
theorem dX0_put_39 : decode cX0_put 39 = .ok (.ireturn, 1) := by decide +kernel
abbrev cX0_repeat : ByteArray := prog_1_method_3_code
def yX0_repeat : MethodName := ⟨RX0, "repeat", "(II)I"⟩
theorem dX0_repeat_0 : decode cX0_repeat 0 = .ok (.iload_n 1, 1) := by decide +kernel
theorem dX0_repeat_1 : decode cX0_repeat 1 = .ok (.iconst 1, 1) := by decide +kernel
theorem dX0_repeat_2 : decode cX0_repeat 2 = .ok (.if_icmp .lt 27, 3) := by decide +kernel
theorem dX0_repeat_5 : decode cX0_repeat 5 = .ok (.iload_n 1, 1) := by decide +kernel
theorem dX0_repeat_6 : decode cX0_repeat 6 = .ok (.aload_n 0, 1) := by decide +kernel
theorem dX0_repeat_7 : decode cX0_repeat 7 = .ok (.getfield 23, 3) := by decide +kernel
theorem dX0_repeat_10 : decode cX0_repeat 10 = .ok (.if_icmp .gt 19, 3) := by decide +kernel
theorem dX0_repeat_13 : decode cX0_repeat 13 = .ok (.iload_n 2, 1) := by decide +kernel
theorem dX0_repeat_14 : decode cX0_repeat 14 = .ok (.iconst 1, 1) := by decide +kernel
theorem dX0_repeat_15 : decode cX0_repeat 15 = .ok (.if_icmp .lt 14, 3) := by decide +kernel
theorem dX0_repeat_18 : decode cX0_repeat 18 = .ok (.iload_n 2, 1) := by decide +kernel
theorem dX0_repeat_19 : decode cX0_repeat 19 = .ok (.bipush 48, 2) := by decide +kernel
theorem dX0_repeat_21 : decode cX0_repeat 21 = .ok (.aload_n 0, 1) := by decide +kernel
theorem dX0_repeat_22 : decode cX0_repeat 22 = .ok (.getfield 23, 3) := by decide +kernel
theorem dX0_repeat_25 : decode cX0_repeat 25 = .ok (.isub, 1) := by decide +kernel
theorem dX0_repeat_26 : decode cX0_repeat 26 = .ok (.if_icmp .le 5, 3) := by decide +kernel
theorem dX0_repeat_29 : decode cX0_repeat 29 = .ok (.iconst (-1), 1) := by decide +kernel
theorem dX0_repeat_30 : decode cX0_repeat 30 = .ok (.ireturn, 1) := by decide +kernel
theorem dX0_repeat_31 : decode cX0_repeat 31 = .ok (.iconst 0, 1) := by decide +kernel
theorem dX0_repeat_32 : decode cX0_repeat 32 = .ok (.istore_n 3, 1) := by decide +kernel
theorem dX0_repeat_33 : decode cX0_repeat 33 = .ok (.iload_n 3, 1) := by decide +kernel
theorem dX0_repeat_34 : decode cX0_repeat 34 = .ok (.iload_n 2, 1) := by decide +kernel
theorem dX0_repeat_35 : decode cX0_repeat 35 = .ok (.if_icmp .ge 39, 3) := by decide +kernel
theorem dX0_repeat_38 : decode cX0_repeat 38 = .ok (.aload_n 0, 1) := by decide +kernel
theorem dX0_repeat_39 : decode cX0_repeat 39 = .ok (.getfield 7, 3) := by decide +kernel
theorem dX0_repeat_42 : decode cX0_repeat 42 = .ok (.aload_n 0, 1) := by decide +kernel
theorem dX0_repeat_43 : decode cX0_repeat 43 = .ok (.getfield 23, 3) := by decide +kernel
theorem dX0_repeat_46 : decode cX0_repeat 46 = .ok (.aload_n 0, 1) := by decide +kernel
theorem dX0_repeat_47 : decode cX0_repeat 47 = .ok (.getfield 7, 3) := by decide +kernel
theorem dX0_repeat_50 : decode cX0_repeat 50 = .ok (.aload_n 0, 1) := by decide +kernel
theorem dX0_repeat_51 : decode cX0_repeat 51 = .ok (.getfield 23, 3) := by decide +kernel
theorem dX0_repeat_54 : decode cX0_repeat 54 = .ok (.iload_n 1, 1) := by decide +kernel
theorem dX0_repeat_55 : decode cX0_repeat 55 = .ok (.isub, 1) := by decide +kernel
theorem dX0_repeat_56 : decode cX0_repeat 56 = .ok (.iaload, 1) := by decide +kernel
theorem dX0_repeat_57 : decode cX0_repeat 57 = .ok (.iastore, 1) := by decide +kernel
theorem dX0_repeat_58 : decode cX0_repeat 58 = .ok (.aload_n 0, 1) := by decide +kernel
theorem dX0_repeat_59 : decode cX0_repeat 59 = .ok (.dup, 1) := by decide +kernel
theorem dX0_repeat_60 : decode cX0_repeat 60 = .ok (.getfield 23, 3) := by decide +kernel
theorem dX0_repeat_63 : decode cX0_repeat 63 = .ok (.iconst 1, 1) := by decide +kernel
theorem dX0_repeat_64 : decode cX0_repeat 64 = .ok (.iadd, 1) := by decide +kernel
theorem dX0_repeat_65 : decode cX0_repeat 65 = .ok (.putfield 23, 3) := by decide +kernel
theorem dX0_repeat_68 : decode cX0_repeat 68 = .ok (.iinc 3 1, 3) := by decide +kernel
theorem dX0_repeat_71 : decode cX0_repeat 71 = .ok (.goto (-38), 3) := by decide +kernel
theorem dX0_repeat_74 : decode cX0_repeat 74 = .ok (.aload_n 0, 1) := by decide +kernel
theorem dX0_repeat_75 : decode cX0_repeat 75 = .ok (.getfield 23, 3) := by decide +kernel
theorem dX0_repeat_78 : decode cX0_repeat 78 = .ok (.ireturn, 1) := by decide +kernel
abbrev cX0_erase : ByteArray := prog_1_method_4_code
def yX0_erase : MethodName := ⟨RX0, "erase", "()V"⟩
theorem dX0_erase_0 : decode cX0_erase 0 = .ok (.aload_n 0, 1) := by decide +kernel
theorem dX0_erase_1 : decode cX0_erase 1 = .ok (.iconst 0, 1) := by decide +kernel
theorem dX0_erase_2 : decode cX0_erase 2 = .ok (.putfield 23, 3) := by decide +kernel
theorem dX0_erase_5 : decode cX0_erase 5 = .ok (.return_, 1) := by decide +kernel
abbrev cX0_send : ByteArray := prog_1_method_5_code
def yX0_send : MethodName := ⟨RX0, "send", "()I"⟩
theorem dX0_send_0 : decode cX0_send 0 = .ok (.aload_n 0, 1) := by decide +kernel
theorem dX0_send_1 : decode cX0_send 1 = .ok (.getfield 27, 3) := by decide +kernel
theorem dX0_send_4 : decode cX0_send 4 = .ok (.iconst 4, 1) := by decide +kernel
theorem dX0_send_5 : decode cX0_send 5 = .ok (.if_icmp .lt 5, 3) := by decide +kernel
theorem dX0_send_8 : decode cX0_send 8 = .ok (.iconst (-1), 1) := by decide +kernel
theorem dX0_send_9 : decode cX0_send 9 = .ok (.ireturn, 1) := by decide +kernel
theorem dX0_send_10 : decode cX0_send 10 = .ok (.aload_n 0, 1) := by decide +kernel
theorem dX0_send_11 : decode cX0_send 11 = .ok (.sipush 352, 3) := by decide +kernel
theorem dX0_send_14 : decode cX0_send 14 = .ok (.aload_n 0, 1) := by decide +kernel
theorem dX0_send_15 : decode cX0_send 15 = .ok (.getfield 30, 3) := by decide +kernel
theorem dX0_send_18 : decode cX0_send 18 = .ok (.aload_n 0, 1) := by decide +kernel
theorem dX0_send_19 : decode cX0_send 19 = .ok (.getfield 27, 3) := by decide +kernel
theorem dX0_send_22 : decode cX0_send 22 = .ok (.iadd, 1) := by decide +kernel
theorem dX0_send_23 : decode cX0_send 23 = .ok (.iconst 3, 1) := by decide +kernel
theorem dX0_send_24 : decode cX0_send 24 = .ok (.iand, 1) := by decide +kernel
theorem dX0_send_25 : decode cX0_send 25 = .ok (.imul, 1) := by decide +kernel
theorem dX0_send_26 : decode cX0_send 26 = .ok (.putfield 33, 3) := by decide +kernel
theorem dX0_send_29 : decode cX0_send 29 = .ok (.aload_n 0, 1) := by decide +kernel
theorem dX0_send_30 : decode cX0_send 30 = .ok (.invokevirtual 36, 3) := by decide +kernel
theorem dX0_send_33 : decode cX0_send 33 = .ok (.aload_n 0, 1) := by decide +kernel
theorem dX0_send_34 : decode cX0_send 34 = .ok (.dup, 1) := by decide +kernel
theorem dX0_send_35 : decode cX0_send 35 = .ok (.getfield 27, 3) := by decide +kernel
theorem dX0_send_38 : decode cX0_send 38 = .ok (.iconst 1, 1) := by decide +kernel
theorem dX0_send_39 : decode cX0_send 39 = .ok (.iadd, 1) := by decide +kernel
theorem dX0_send_40 : decode cX0_send 40 = .ok (.putfield 27, 3) := by decide +kernel
theorem dX0_send_43 : decode cX0_send 43 = .ok (.aload_n 0, 1) := by decide +kernel
theorem dX0_send_44 : decode cX0_send 44 = .ok (.getfield 27, 3) := by decide +kernel
theorem dX0_send_47 : decode cX0_send 47 = .ok (.ireturn, 1) := by decide +kernel
abbrev cX0_squeeze : ByteArray := prog_1_method_13_code
def yX0_squeeze : MethodName := ⟨RX0, "squeeze", "()V"⟩
theorem dX0_squeeze_0 : decode cX0_squeeze 0 = .ok (.aload_n 0, 1) := by decide +kernel
theorem dX0_squeeze_1 : decode cX0_squeeze 1 = .ok (.invokevirtual 45, 3) := by decide +kernel
theorem dX0_squeeze_4 : decode cX0_squeeze 4 = .ok (.aload_n 0, 1) := by decide +kernel
theorem dX0_squeeze_5 : decode cX0_squeeze 5 = .ok (.lconst 0, 1) := by decide +kernel
theorem dX0_squeeze_6 : decode cX0_squeeze 6 = .ok (.putfield 48, 3) := by decide +kernel
theorem dX0_squeeze_9 : decode cX0_squeeze 9 = .ok (.aload_n 0, 1) := by decide +kernel
theorem dX0_squeeze_10 : decode cX0_squeeze 10 = .ok (.ldc2_w 52, 3) := by decide +kernel
theorem dX0_squeeze_13 : decode cX0_squeeze 13 = .ok (.putfield 54, 3) := by decide +kernel
theorem dX0_squeeze_16 : decode cX0_squeeze 16 = .ok (.aload_n 0, 1) := by decide +kernel
theorem dX0_squeeze_17 : decode cX0_squeeze 17 = .ok (.iconst 0, 1) := by decide +kernel
theorem dX0_squeeze_18 : decode cX0_squeeze 18 = .ok (.putfield 57, 3) := by decide +kernel
theorem dX0_squeeze_21 : decode cX0_squeeze 21 = .ok (.aload_n 0, 1) := by decide +kernel
theorem dX0_squeeze_22 : decode cX0_squeeze 22 = .ok (.iconst 1, 1) := by decide +kernel
theorem dX0_squeeze_23 : decode cX0_squeeze 23 = .ok (.putfield 60, 3) := by decide +kernel
theorem dX0_squeeze_26 : decode cX0_squeeze 26 = .ok (.aload_n 0, 1) := by decide +kernel
theorem dX0_squeeze_27 : decode cX0_squeeze 27 = .ok (.iconst 0, 1) := by decide +kernel
theorem dX0_squeeze_28 : decode cX0_squeeze 28 = .ok (.putfield 63, 3) := by decide +kernel
theorem dX0_squeeze_31 : decode cX0_squeeze 31 = .ok (.aload_n 0, 1) := by decide +kernel
theorem dX0_squeeze_32 : decode cX0_squeeze 32 = .ok (.iconst 2, 1) := by decide +kernel
theorem dX0_squeeze_33 : decode cX0_squeeze 33 = .ok (.bipush 6, 2) := by decide +kernel
theorem dX0_squeeze_35 : decode cX0_squeeze 35 = .ok (.aload_n 0, 1) := by decide +kernel
theorem dX0_squeeze_36 : decode cX0_squeeze 36 = .ok (.getfield 23, 3) := by decide +kernel
theorem dX0_squeeze_39 : decode cX0_squeeze 39 = .ok (.invokevirtual 66, 3) := by decide +kernel
theorem dX0_squeeze_42 : decode cX0_squeeze 42 = .ok (.iconst 0, 1) := by decide +kernel
theorem dX0_squeeze_43 : decode cX0_squeeze 43 = .ok (.istore_n 1, 1) := by decide +kernel
theorem dX0_squeeze_44 : decode cX0_squeeze 44 = .ok (.iconst 0, 1) := by decide +kernel
theorem dX0_squeeze_45 : decode cX0_squeeze 45 = .ok (.istore_n 2, 1) := by decide +kernel
theorem dX0_squeeze_46 : decode cX0_squeeze 46 = .ok (.iconst 0, 1) := by decide +kernel
theorem dX0_squeeze_47 : decode cX0_squeeze 47 = .ok (.istore_n 3, 1) := by decide +kernel
theorem dX0_squeeze_48 : decode cX0_squeeze 48 = .ok (.iload_n 3, 1) := by decide +kernel
theorem dX0_squeeze_49 : decode cX0_squeeze 49 = .ok (.bipush 48, 2) := by decide +kernel
theorem dX0_squeeze_51 : decode cX0_squeeze 51 = .ok (.if_icmp .ge 102, 3) := by decide +kernel
theorem dX0_squeeze_54 : decode cX0_squeeze 54 = .ok (.iload_n 2, 1) := by decide +kernel
theorem dX0_squeeze_55 : decode cX0_squeeze 55 = .ok (.aload_n 0, 1) := by decide +kernel
theorem dX0_squeeze_56 : decode cX0_squeeze 56 = .ok (.getfield 23, 3) := by decide +kernel
theorem dX0_squeeze_59 : decode cX0_squeeze 59 = .ok (.if_icmp .ge 94, 3) := by decide +kernel
theorem dX0_squeeze_62 : decode cX0_squeeze 62 = .ok (.aload_n 0, 1) := by decide +kernel
theorem dX0_squeeze_63 : decode cX0_squeeze 63 = .ok (.iload_n 2, 1) := by decide +kernel
theorem dX0_squeeze_64 : decode cX0_squeeze 64 = .ok (.invokevirtual 70, 3) := by decide +kernel
theorem dX0_squeeze_67 : decode cX0_squeeze 67 = .ok (.aload_n 0, 1) := by decide +kernel
theorem dX0_squeeze_68 : decode cX0_squeeze 68 = .ok (.getfield 74, 3) := by decide +kernel
theorem dX0_squeeze_71 : decode cX0_squeeze 71 = .ok (.iconst 2, 1) := by decide +kernel
theorem dX0_squeeze_72 : decode cX0_squeeze 72 = .ok (.if_icmp .lt 50, 3) := by decide +kernel
theorem dX0_squeeze_75 : decode cX0_squeeze 75 = .ok (.aload_n 0, 1) := by decide +kernel
theorem dX0_squeeze_76 : decode cX0_squeeze 76 = .ok (.iload_n 1, 1) := by decide +kernel
theorem dX0_squeeze_77 : decode cX0_squeeze 77 = .ok (.iconst 1, 1) := by decide +kernel
theorem dX0_squeeze_78 : decode cX0_squeeze 78 = .ok (.invokevirtual 77, 3) := by decide +kernel
theorem dX0_squeeze_81 : decode cX0_squeeze 81 = .ok (.aload_n 0, 1) := by decide +kernel
theorem dX0_squeeze_82 : decode cX0_squeeze 82 = .ok (.sipush 322, 3) := by decide +kernel
theorem dX0_squeeze_85 : decode cX0_squeeze 85 = .ok (.iconst 3, 1) := by decide +kernel
theorem dX0_squeeze_86 : decode cX0_squeeze 86 = .ok (.aload_n 0, 1) := by decide +kernel
theorem dX0_squeeze_87 : decode cX0_squeeze 87 = .ok (.getfield 74, 3) := by decide +kernel
theorem dX0_squeeze_90 : decode cX0_squeeze 90 = .ok (.iconst 2, 1) := by decide +kernel
theorem dX0_squeeze_91 : decode cX0_squeeze 91 = .ok (.isub, 1) := by decide +kernel
theorem dX0_squeeze_92 : decode cX0_squeeze 92 = .ok (.invokevirtual 66, 3) := by decide +kernel
theorem dX0_squeeze_95 : decode cX0_squeeze 95 = .ok (.aload_n 0, 1) := by decide +kernel
theorem dX0_squeeze_96 : decode cX0_squeeze 96 = .ok (.sipush 330, 3) := by decide +kernel
theorem dX0_squeeze_99 : decode cX0_squeeze 99 = .ok (.bipush 6, 2) := by decide +kernel
theorem dX0_squeeze_101 : decode cX0_squeeze 101 = .ok (.aload_n 0, 1) := by decide +kernel
theorem dX0_squeeze_102 : decode cX0_squeeze 102 = .ok (.getfield 81, 3) := by decide +kernel
theorem dX0_squeeze_105 : decode cX0_squeeze 105 = .ok (.iconst 1, 1) := by decide +kernel
theorem dX0_squeeze_106 : decode cX0_squeeze 106 = .ok (.isub, 1) := by decide +kernel
theorem dX0_squeeze_107 : decode cX0_squeeze 107 = .ok (.invokevirtual 66, 3) := by decide +kernel
theorem dX0_squeeze_110 : decode cX0_squeeze 110 = .ok (.iconst 1, 1) := by decide +kernel
theorem dX0_squeeze_111 : decode cX0_squeeze 111 = .ok (.istore_n 1, 1) := by decide +kernel
theorem dX0_squeeze_112 : decode cX0_squeeze 112 = .ok (.iload_n 2, 1) := by decide +kernel
theorem dX0_squeeze_113 : decode cX0_squeeze 113 = .ok (.aload_n 0, 1) := by decide +kernel
theorem dX0_squeeze_114 : decode cX0_squeeze 114 = .ok (.getfield 74, 3) := by decide +kernel
theorem dX0_squeeze_117 : decode cX0_squeeze 117 = .ok (.iadd, 1) := by decide +kernel
theorem dX0_squeeze_118 : decode cX0_squeeze 118 = .ok (.istore_n 2, 1) := by decide +kernel
theorem dX0_squeeze_119 : decode cX0_squeeze 119 = .ok (.goto 28, 3) := by decide +kernel
theorem dX0_squeeze_122 : decode cX0_squeeze 122 = .ok (.aload_n 0, 1) := by decide +kernel
theorem dX0_squeeze_123 : decode cX0_squeeze 123 = .ok (.iload_n 1, 1) := by decide +kernel
theorem dX0_squeeze_124 : decode cX0_squeeze 124 = .ok (.iconst 0, 1) := by decide +kernel
theorem dX0_squeeze_125 : decode cX0_squeeze 125 = .ok (.invokevirtual 77, 3) := by decide +kernel
theorem dX0_squeeze_128 : decode cX0_squeeze 128 = .ok (.aload_n 0, 1) := by decide +kernel
theorem dX0_squeeze_129 : decode cX0_squeeze 129 = .ok (.bipush 66, 2) := by decide +kernel
theorem dX0_squeeze_131 : decode cX0_squeeze 131 = .ok (.bipush 8, 2) := by decide +kernel
theorem dX0_squeeze_133 : decode cX0_squeeze 133 = .ok (.aload_n 0, 1) := by decide +kernel
theorem dX0_squeeze_134 : decode cX0_squeeze 134 = .ok (.getfield 7, 3) := by decide +kernel
theorem dX0_squeeze_137 : decode cX0_squeeze 137 = .ok (.iload_n 2, 1) := by decide +kernel
theorem dX0_squeeze_138 : decode cX0_squeeze 138 = .ok (.iaload, 1) := by decide +kernel
theorem dX0_squeeze_139 : decode cX0_squeeze 139 = .ok (.invokevirtual 66, 3) := by decide +kernel
theorem dX0_squeeze_142 : decode cX0_squeeze 142 = .ok (.iconst 0, 1) := by decide +kernel
theorem dX0_squeeze_143 : decode cX0_squeeze 143 = .ok (.istore_n 1, 1) := by decide +kernel
theorem dX0_squeeze_144 : decode cX0_squeeze 144 = .ok (.iinc 2 1, 3) := by decide +kernel
theorem dX0_squeeze_147 : decode cX0_squeeze 147 = .ok (.iinc 3 1, 3) := by decide +kernel
theorem dX0_squeeze_150 : decode cX0_squeeze 150 = .ok (.goto (-102), 3) := by decide +kernel
theorem dX0_squeeze_153 : decode cX0_squeeze 153 = .ok (.iconst 0, 1) := by decide +kernel
theorem dX0_squeeze_154 : decode cX0_squeeze 154 = .ok (.istore_n 3, 1) := by decide +kernel
theorem dX0_squeeze_155 : decode cX0_squeeze 155 = .ok (.iload_n 3, 1) := by decide +kernel
theorem dX0_squeeze_156 : decode cX0_squeeze 156 = .ok (.iconst 5, 1) := by decide +kernel
theorem dX0_squeeze_157 : decode cX0_squeeze 157 = .ok (.if_icmp .ge 13, 3) := by decide +kernel
theorem dX0_squeeze_160 : decode cX0_squeeze 160 = .ok (.aload_n 0, 1) := by decide +kernel
theorem dX0_squeeze_161 : decode cX0_squeeze 161 = .ok (.invokevirtual 84, 3) := by decide +kernel
theorem dX0_squeeze_164 : decode cX0_squeeze 164 = .ok (.iinc 3 1, 3) := by decide +kernel
theorem dX0_squeeze_167 : decode cX0_squeeze 167 = .ok (.goto (-12), 3) := by decide +kernel
theorem dX0_squeeze_170 : decode cX0_squeeze 170 = .ok (.return_, 1) := by decide +kernel
abbrev cX0_startChances : ByteArray := prog_1_method_12_code
def yX0_startChances : MethodName := ⟨RX0, "startChances", "()V"⟩
theorem dX0_startChances_0 : decode cX0_startChances 0 = .ok (.iconst 0, 1) := by decide +kernel
theorem dX0_startChances_1 : decode cX0_startChances 1 = .ok (.istore_n 1, 1) := by decide +kernel
theorem dX0_startChances_2 : decode cX0_startChances 2 = .ok (.iload_n 1, 1) := by decide +kernel
theorem dX0_startChances_3 : decode cX0_startChances 3 = .ok (.sipush 394, 3) := by decide +kernel
theorem dX0_startChances_6 : decode cX0_startChances 6 = .ok (.if_icmp .ge 18, 3) := by decide +kernel
theorem dX0_startChances_9 : decode cX0_startChances 9 = .ok (.aload_n 0, 1) := by decide +kernel
theorem dX0_startChances_10 : decode cX0_startChances 10 = .ok (.getfield 20, 3) := by decide +kernel
theorem dX0_startChances_13 : decode cX0_startChances 13 = .ok (.iload_n 1, 1) := by decide +kernel
theorem dX0_startChances_14 : decode cX0_startChances 14 = .ok (.sipush 1024, 3) := by decide +kernel
theorem dX0_startChances_17 : decode cX0_startChances 17 = .ok (.iastore, 1) := by decide +kernel
theorem dX0_startChances_18 : decode cX0_startChances 18 = .ok (.iinc 1 1, 3) := by decide +kernel
theorem dX0_startChances_21 : decode cX0_startChances 21 = .ok (.goto (-19), 3) := by decide +kernel
theorem dX0_startChances_24 : decode cX0_startChances 24 = .ok (.return_, 1) := by decide +kernel
abbrev cX0_writeTree : ByteArray := prog_1_method_16_code
def yX0_writeTree : MethodName := ⟨RX0, "writeTree", "(III)V"⟩
theorem dX0_writeTree_0 : decode cX0_writeTree 0 = .ok (.iconst 1, 1) := by decide +kernel
theorem dX0_writeTree_1 : decode cX0_writeTree 1 = .ok (.istore 4, 2) := by decide +kernel
theorem dX0_writeTree_3 : decode cX0_writeTree 3 = .ok (.iload_n 2, 1) := by decide +kernel
theorem dX0_writeTree_4 : decode cX0_writeTree 4 = .ok (.iconst 1, 1) := by decide +kernel
theorem dX0_writeTree_5 : decode cX0_writeTree 5 = .ok (.isub, 1) := by decide +kernel
theorem dX0_writeTree_6 : decode cX0_writeTree 6 = .ok (.istore 5, 2) := by decide +kernel
theorem dX0_writeTree_8 : decode cX0_writeTree 8 = .ok (.iload 5, 2) := by decide +kernel
theorem dX0_writeTree_10 : decode cX0_writeTree 10 = .ok (.ifCond .lt 36, 3) := by decide +kernel
theorem dX0_writeTree_13 : decode cX0_writeTree 13 = .ok (.iload_n 3, 1) := by decide +kernel
theorem dX0_writeTree_14 : decode cX0_writeTree 14 = .ok (.iload 5, 2) := by decide +kernel
theorem dX0_writeTree_16 : decode cX0_writeTree 16 = .ok (.iushr, 1) := by decide +kernel
theorem dX0_writeTree_17 : decode cX0_writeTree 17 = .ok (.iconst 1, 1) := by decide +kernel
theorem dX0_writeTree_18 : decode cX0_writeTree 18 = .ok (.iand, 1) := by decide +kernel
theorem dX0_writeTree_19 : decode cX0_writeTree 19 = .ok (.istore 6, 2) := by decide +kernel
theorem dX0_writeTree_21 : decode cX0_writeTree 21 = .ok (.aload_n 0, 1) := by decide +kernel
theorem dX0_writeTree_22 : decode cX0_writeTree 22 = .ok (.iload_n 1, 1) := by decide +kernel
theorem dX0_writeTree_23 : decode cX0_writeTree 23 = .ok (.iload 4, 2) := by decide +kernel
theorem dX0_writeTree_25 : decode cX0_writeTree 25 = .ok (.iadd, 1) := by decide +kernel
theorem dX0_writeTree_26 : decode cX0_writeTree 26 = .ok (.iload 6, 2) := by decide +kernel
theorem dX0_writeTree_28 : decode cX0_writeTree 28 = .ok (.invokevirtual 77, 3) := by decide +kernel
theorem dX0_writeTree_31 : decode cX0_writeTree 31 = .ok (.iconst 2, 1) := by decide +kernel
theorem dX0_writeTree_32 : decode cX0_writeTree 32 = .ok (.iload 4, 2) := by decide +kernel
theorem dX0_writeTree_34 : decode cX0_writeTree 34 = .ok (.imul, 1) := by decide +kernel
theorem dX0_writeTree_35 : decode cX0_writeTree 35 = .ok (.iload 6, 2) := by decide +kernel
theorem dX0_writeTree_37 : decode cX0_writeTree 37 = .ok (.iadd, 1) := by decide +kernel
theorem dX0_writeTree_38 : decode cX0_writeTree 38 = .ok (.istore 4, 2) := by decide +kernel
theorem dX0_writeTree_40 : decode cX0_writeTree 40 = .ok (.iinc 5 (-1), 3) := by decide +kernel
theorem dX0_writeTree_43 : decode cX0_writeTree 43 = .ok (.goto (-35), 3) := by decide +kernel
theorem dX0_writeTree_46 : decode cX0_writeTree 46 = .ok (.return_, 1) := by decide +kernel
abbrev cX0_writeBit : ByteArray := prog_1_method_17_code
def yX0_writeBit : MethodName := ⟨RX0, "writeBit", "(II)V"⟩
theorem dX0_writeBit_0 : decode cX0_writeBit 0 = .ok (.aload_n 0, 1) := by decide +kernel
theorem dX0_writeBit_1 : decode cX0_writeBit 1 = .ok (.getfield 54, 3) := by decide +kernel
theorem dX0_writeBit_4 : decode cX0_writeBit 4 = .ok (.bipush 11, 2) := by decide +kernel
theorem dX0_writeBit_6 : decode cX0_writeBit 6 = .ok (.lushr, 1) := by decide +kernel
theorem dX0_writeBit_7 : decode cX0_writeBit 7 = .ok (.aload_n 0, 1) := by decide +kernel
theorem dX0_writeBit_8 : decode cX0_writeBit 8 = .ok (.getfield 20, 3) := by decide +kernel
theorem dX0_writeBit_11 : decode cX0_writeBit 11 = .ok (.iload_n 1, 1) := by decide +kernel
theorem dX0_writeBit_12 : decode cX0_writeBit 12 = .ok (.iaload, 1) := by decide +kernel
theorem dX0_writeBit_13 : decode cX0_writeBit 13 = .ok (.i2l, 1) := by decide +kernel
theorem dX0_writeBit_14 : decode cX0_writeBit 14 = .ok (.lmul, 1) := by decide +kernel
theorem dX0_writeBit_15 : decode cX0_writeBit 15 = .ok (.lstore_n 3, 1) := by decide +kernel
theorem dX0_writeBit_16 : decode cX0_writeBit 16 = .ok (.iload_n 2, 1) := by decide +kernel
theorem dX0_writeBit_17 : decode cX0_writeBit 17 = .ok (.ifCond .ne 11, 3) := by decide +kernel
theorem dX0_writeBit_20 : decode cX0_writeBit 20 = .ok (.aload_n 0, 1) := by decide +kernel
theorem dX0_writeBit_21 : decode cX0_writeBit 21 = .ok (.lload_n 3, 1) := by decide +kernel
theorem dX0_writeBit_22 : decode cX0_writeBit 22 = .ok (.putfield 54, 3) := by decide +kernel
theorem dX0_writeBit_25 : decode cX0_writeBit 25 = .ok (.goto 23, 3) := by decide +kernel
theorem dX0_writeBit_28 : decode cX0_writeBit 28 = .ok (.aload_n 0, 1) := by decide +kernel
theorem dX0_writeBit_29 : decode cX0_writeBit 29 = .ok (.dup, 1) := by decide +kernel
theorem dX0_writeBit_30 : decode cX0_writeBit 30 = .ok (.getfield 48, 3) := by decide +kernel
theorem dX0_writeBit_33 : decode cX0_writeBit 33 = .ok (.lload_n 3, 1) := by decide +kernel
theorem dX0_writeBit_34 : decode cX0_writeBit 34 = .ok (.ladd, 1) := by decide +kernel
theorem dX0_writeBit_35 : decode cX0_writeBit 35 = .ok (.putfield 48, 3) := by decide +kernel
theorem dX0_writeBit_38 : decode cX0_writeBit 38 = .ok (.aload_n 0, 1) := by decide +kernel
theorem dX0_writeBit_39 : decode cX0_writeBit 39 = .ok (.dup, 1) := by decide +kernel
theorem dX0_writeBit_40 : decode cX0_writeBit 40 = .ok (.getfield 54, 3) := by decide +kernel
theorem dX0_writeBit_43 : decode cX0_writeBit 43 = .ok (.lload_n 3, 1) := by decide +kernel
theorem dX0_writeBit_44 : decode cX0_writeBit 44 = .ok (.lsub, 1) := by decide +kernel
theorem dX0_writeBit_45 : decode cX0_writeBit 45 = .ok (.putfield 54, 3) := by decide +kernel
theorem dX0_writeBit_48 : decode cX0_writeBit 48 = .ok (.aload_n 0, 1) := by decide +kernel
theorem dX0_writeBit_49 : decode cX0_writeBit 49 = .ok (.iload_n 1, 1) := by decide +kernel
theorem dX0_writeBit_50 : decode cX0_writeBit 50 = .ok (.iload_n 2, 1) := by decide +kernel
theorem dX0_writeBit_51 : decode cX0_writeBit 51 = .ok (.invokevirtual 91, 3) := by decide +kernel
theorem dX0_writeBit_54 : decode cX0_writeBit 54 = .ok (.aload_n 0, 1) := by decide +kernel
theorem dX0_writeBit_55 : decode cX0_writeBit 55 = .ok (.getfield 54, 3) := by decide +kernel
theorem dX0_writeBit_58 : decode cX0_writeBit 58 = .ok (.ldc2_w 94, 3) := by decide +kernel
theorem dX0_writeBit_61 : decode cX0_writeBit 61 = .ok (.lcmp, 1) := by decide +kernel
theorem dX0_writeBit_62 : decode cX0_writeBit 62 = .ok (.ifCond .ge 18, 3) := by decide +kernel
theorem dX0_writeBit_65 : decode cX0_writeBit 65 = .ok (.aload_n 0, 1) := by decide +kernel
theorem dX0_writeBit_66 : decode cX0_writeBit 66 = .ok (.aload_n 0, 1) := by decide +kernel
theorem dX0_writeBit_67 : decode cX0_writeBit 67 = .ok (.getfield 54, 3) := by decide +kernel
theorem dX0_writeBit_70 : decode cX0_writeBit 70 = .ok (.bipush 8, 2) := by decide +kernel
theorem dX0_writeBit_72 : decode cX0_writeBit 72 = .ok (.lshl, 1) := by decide +kernel
theorem dX0_writeBit_73 : decode cX0_writeBit 73 = .ok (.putfield 54, 3) := by decide +kernel
theorem dX0_writeBit_76 : decode cX0_writeBit 76 = .ok (.aload_n 0, 1) := by decide +kernel
theorem dX0_writeBit_77 : decode cX0_writeBit 77 = .ok (.invokevirtual 84, 3) := by decide +kernel
theorem dX0_writeBit_80 : decode cX0_writeBit 80 = .ok (.return_, 1) := by decide +kernel
abbrev cX0_learn : ByteArray := prog_1_method_18_code
def yX0_learn : MethodName := ⟨RX0, "learn", "(II)V"⟩
theorem dX0_learn_0 : decode cX0_learn 0 = .ok (.iload_n 2, 1) := by decide +kernel
theorem dX0_learn_1 : decode cX0_learn 1 = .ok (.ifCond .ne 27, 3) := by decide +kernel
theorem dX0_learn_4 : decode cX0_learn 4 = .ok (.aload_n 0, 1) := by decide +kernel
theorem dX0_learn_5 : decode cX0_learn 5 = .ok (.getfield 20, 3) := by decide +kernel
theorem dX0_learn_8 : decode cX0_learn 8 = .ok (.iload_n 1, 1) := by decide +kernel
theorem dX0_learn_9 : decode cX0_learn 9 = .ok (.dup2, 1) := by decide +kernel
theorem dX0_learn_10 : decode cX0_learn 10 = .ok (.iaload, 1) := by decide +kernel
theorem dX0_learn_11 : decode cX0_learn 11 = .ok (.sipush 2048, 3) := by decide +kernel
theorem dX0_learn_14 : decode cX0_learn 14 = .ok (.aload_n 0, 1) := by decide +kernel
theorem dX0_learn_15 : decode cX0_learn 15 = .ok (.getfield 20, 3) := by decide +kernel
theorem dX0_learn_18 : decode cX0_learn 18 = .ok (.iload_n 1, 1) := by decide +kernel
theorem dX0_learn_19 : decode cX0_learn 19 = .ok (.iaload, 1) := by decide +kernel
theorem dX0_learn_20 : decode cX0_learn 20 = .ok (.isub, 1) := by decide +kernel
theorem dX0_learn_21 : decode cX0_learn 21 = .ok (.iconst 5, 1) := by decide +kernel
theorem dX0_learn_22 : decode cX0_learn 22 = .ok (.ishr, 1) := by decide +kernel
theorem dX0_learn_23 : decode cX0_learn 23 = .ok (.iadd, 1) := by decide +kernel
theorem dX0_learn_24 : decode cX0_learn 24 = .ok (.iastore, 1) := by decide +kernel
theorem dX0_learn_25 : decode cX0_learn 25 = .ok (.goto 20, 3) := by decide +kernel
theorem dX0_learn_28 : decode cX0_learn 28 = .ok (.aload_n 0, 1) := by decide +kernel
theorem dX0_learn_29 : decode cX0_learn 29 = .ok (.getfield 20, 3) := by decide +kernel
theorem dX0_learn_32 : decode cX0_learn 32 = .ok (.iload_n 1, 1) := by decide +kernel
theorem dX0_learn_33 : decode cX0_learn 33 = .ok (.dup2, 1) := by decide +kernel
theorem dX0_learn_34 : decode cX0_learn 34 = .ok (.iaload, 1) := by decide +kernel
theorem dX0_learn_35 : decode cX0_learn 35 = .ok (.aload_n 0, 1) := by decide +kernel
theorem dX0_learn_36 : decode cX0_learn 36 = .ok (.getfield 20, 3) := by decide +kernel
theorem dX0_learn_39 : decode cX0_learn 39 = .ok (.iload_n 1, 1) := by decide +kernel
theorem dX0_learn_40 : decode cX0_learn 40 = .ok (.iaload, 1) := by decide +kernel
theorem dX0_learn_41 : decode cX0_learn 41 = .ok (.iconst 5, 1) := by decide +kernel
theorem dX0_learn_42 : decode cX0_learn 42 = .ok (.ishr, 1) := by decide +kernel
theorem dX0_learn_43 : decode cX0_learn 43 = .ok (.isub, 1) := by decide +kernel
theorem dX0_learn_44 : decode cX0_learn 44 = .ok (.iastore, 1) := by decide +kernel
theorem dX0_learn_45 : decode cX0_learn 45 = .ok (.return_, 1) := by decide +kernel
abbrev cX0_shiftLow : ByteArray := prog_1_method_19_code
def yX0_shiftLow : MethodName := ⟨RX0, "shiftLow", "()V"⟩
theorem dX0_shiftLow_0 : decode cX0_shiftLow 0 = .ok (.aload_n 0, 1) := by decide +kernel
theorem dX0_shiftLow_1 : decode cX0_shiftLow 1 = .ok (.getfield 48, 3) := by decide +kernel
theorem dX0_shiftLow_4 : decode cX0_shiftLow 4 = .ok (.ldc2_w 96, 3) := by decide +kernel
theorem dX0_shiftLow_7 : decode cX0_shiftLow 7 = .ok (.lcmp, 1) := by decide +kernel
theorem dX0_shiftLow_8 : decode cX0_shiftLow 8 = .ok (.ifCond .lt 14, 3) := by decide +kernel
theorem dX0_shiftLow_11 : decode cX0_shiftLow 11 = .ok (.aload_n 0, 1) := by decide +kernel
theorem dX0_shiftLow_12 : decode cX0_shiftLow 12 = .ok (.getfield 48, 3) := by decide +kernel
theorem dX0_shiftLow_15 : decode cX0_shiftLow 15 = .ok (.ldc2_w 52, 3) := by decide +kernel
theorem dX0_shiftLow_18 : decode cX0_shiftLow 18 = .ok (.lcmp, 1) := by decide +kernel
theorem dX0_shiftLow_19 : decode cX0_shiftLow 19 = .ok (.ifCond .le 72, 3) := by decide +kernel
theorem dX0_shiftLow_22 : decode cX0_shiftLow 22 = .ok (.aload_n 0, 1) := by decide +kernel
theorem dX0_shiftLow_23 : decode cX0_shiftLow 23 = .ok (.getfield 48, 3) := by decide +kernel
theorem dX0_shiftLow_26 : decode cX0_shiftLow 26 = .ok (.bipush 32, 2) := by decide +kernel
theorem dX0_shiftLow_28 : decode cX0_shiftLow 28 = .ok (.lushr, 1) := by decide +kernel
theorem dX0_shiftLow_29 : decode cX0_shiftLow 29 = .ok (.l2i, 1) := by decide +kernel
theorem dX0_shiftLow_30 : decode cX0_shiftLow 30 = .ok (.istore_n 1, 1) := by decide +kernel
theorem dX0_shiftLow_31 : decode cX0_shiftLow 31 = .ok (.aload_n 0, 1) := by decide +kernel
theorem dX0_shiftLow_32 : decode cX0_shiftLow 32 = .ok (.getfield 57, 3) := by decide +kernel
theorem dX0_shiftLow_35 : decode cX0_shiftLow 35 = .ok (.istore_n 2, 1) := by decide +kernel
theorem dX0_shiftLow_36 : decode cX0_shiftLow 36 = .ok (.iconst 0, 1) := by decide +kernel
theorem dX0_shiftLow_37 : decode cX0_shiftLow 37 = .ok (.istore_n 3, 1) := by decide +kernel
theorem dX0_shiftLow_38 : decode cX0_shiftLow 38 = .ok (.iload_n 3, 1) := by decide +kernel
theorem dX0_shiftLow_39 : decode cX0_shiftLow 39 = .ok (.aload_n 0, 1) := by decide +kernel
theorem dX0_shiftLow_40 : decode cX0_shiftLow 40 = .ok (.getfield 60, 3) := by decide +kernel
theorem dX0_shiftLow_43 : decode cX0_shiftLow 43 = .ok (.if_icmp .ge 27, 3) := by decide +kernel
theorem dX0_shiftLow_46 : decode cX0_shiftLow 46 = .ok (.iload_n 3, 1) := by decide +kernel
theorem dX0_shiftLow_47 : decode cX0_shiftLow 47 = .ok (.sipush 352, 3) := by decide +kernel
theorem dX0_shiftLow_50 : decode cX0_shiftLow 50 = .ok (.if_icmp .ge 20, 3) := by decide +kernel
theorem dX0_shiftLow_53 : decode cX0_shiftLow 53 = .ok (.aload_n 0, 1) := by decide +kernel
theorem dX0_shiftLow_54 : decode cX0_shiftLow 54 = .ok (.iload_n 2, 1) := by decide +kernel
theorem dX0_shiftLow_55 : decode cX0_shiftLow 55 = .ok (.iload_n 1, 1) := by decide +kernel
theorem dX0_shiftLow_56 : decode cX0_shiftLow 56 = .ok (.iadd, 1) := by decide +kernel
theorem dX0_shiftLow_57 : decode cX0_shiftLow 57 = .ok (.invokevirtual 98, 3) := by decide +kernel
theorem dX0_shiftLow_60 : decode cX0_shiftLow 60 = .ok (.sipush 255, 3) := by decide +kernel
theorem dX0_shiftLow_63 : decode cX0_shiftLow 63 = .ok (.istore_n 2, 1) := by decide +kernel
theorem dX0_shiftLow_64 : decode cX0_shiftLow 64 = .ok (.iinc 3 1, 3) := by decide +kernel
theorem dX0_shiftLow_67 : decode cX0_shiftLow 67 = .ok (.goto (-29), 3) := by decide +kernel
theorem dX0_shiftLow_70 : decode cX0_shiftLow 70 = .ok (.aload_n 0, 1) := by decide +kernel
theorem dX0_shiftLow_71 : decode cX0_shiftLow 71 = .ok (.iconst 0, 1) := by decide +kernel
theorem dX0_shiftLow_72 : decode cX0_shiftLow 72 = .ok (.putfield 60, 3) := by decide +kernel
theorem dX0_shiftLow_75 : decode cX0_shiftLow 75 = .ok (.aload_n 0, 1) := by decide +kernel
theorem dX0_shiftLow_76 : decode cX0_shiftLow 76 = .ok (.aload_n 0, 1) := by decide +kernel
theorem dX0_shiftLow_77 : decode cX0_shiftLow 77 = .ok (.getfield 48, 3) := by decide +kernel
theorem dX0_shiftLow_80 : decode cX0_shiftLow 80 = .ok (.bipush 24, 2) := by decide +kernel
theorem dX0_shiftLow_82 : decode cX0_shiftLow 82 = .ok (.lushr, 1) := by decide +kernel
theorem dX0_shiftLow_83 : decode cX0_shiftLow 83 = .ok (.l2i, 1) := by decide +kernel
theorem dX0_shiftLow_84 : decode cX0_shiftLow 84 = .ok (.sipush 255, 3) := by decide +kernel
theorem dX0_shiftLow_87 : decode cX0_shiftLow 87 = .ok (.iand, 1) := by decide +kernel
theorem dX0_shiftLow_88 : decode cX0_shiftLow 88 = .ok (.putfield 57, 3) := by decide +kernel
theorem dX0_shiftLow_91 : decode cX0_shiftLow 91 = .ok (.aload_n 0, 1) := by decide +kernel
theorem dX0_shiftLow_92 : decode cX0_shiftLow 92 = .ok (.dup, 1) := by decide +kernel
theorem dX0_shiftLow_93 : decode cX0_shiftLow 93 = .ok (.getfield 60, 3) := by decide +kernel
theorem dX0_shiftLow_96 : decode cX0_shiftLow 96 = .ok (.iconst 1, 1) := by decide +kernel
theorem dX0_shiftLow_97 : decode cX0_shiftLow 97 = .ok (.iadd, 1) := by decide +kernel
theorem dX0_shiftLow_98 : decode cX0_shiftLow 98 = .ok (.putfield 60, 3) := by decide +kernel
theorem dX0_shiftLow_101 : decode cX0_shiftLow 101 = .ok (.aload_n 0, 1) := by decide +kernel
theorem dX0_shiftLow_102 : decode cX0_shiftLow 102 = .ok (.aload_n 0, 1) := by decide +kernel
theorem dX0_shiftLow_103 : decode cX0_shiftLow 103 = .ok (.getfield 48, 3) := by decide +kernel
theorem dX0_shiftLow_106 : decode cX0_shiftLow 106 = .ok (.ldc2_w 101, 3) := by decide +kernel
theorem dX0_shiftLow_109 : decode cX0_shiftLow 109 = .ok (.land, 1) := by decide +kernel
theorem dX0_shiftLow_110 : decode cX0_shiftLow 110 = .ok (.bipush 8, 2) := by decide +kernel
theorem dX0_shiftLow_112 : decode cX0_shiftLow 112 = .ok (.lshl, 1) := by decide +kernel
theorem dX0_shiftLow_113 : decode cX0_shiftLow 113 = .ok (.putfield 48, 3) := by decide +kernel
theorem dX0_shiftLow_116 : decode cX0_shiftLow 116 = .ok (.return_, 1) := by decide +kernel
end
section
set_option maxRecDepth 100000
abbrev cX0_putByte : ByteArray := prog_1_method_20_code
def yX0_putByte : MethodName := ⟨RX0, "putByte", "(I)V"⟩
theorem dX0_putByte_0 : decode cX0_putByte 0 = .ok (.aload_n 0, 1) := by decide +kernel
theorem dX0_putByte_1 : decode cX0_putByte 1 = .ok (.getfield 63, 3) := by decide +kernel
theorem dX0_putByte_4 : decode cX0_putByte 4 = .ok (.sipush 352, 3) := by decide +kernel
theorem dX0_putByte_7 : decode cX0_putByte 7 = .ok (.if_icmp .ge 29, 3) := by decide +kernel
theorem dX0_putByte_10 : decode cX0_putByte 10 = .ok (.aload_n 0, 1) := by decide +kernel
theorem dX0_putByte_11 : decode cX0_putByte 11 = .ok (.getfield 16, 3) := by decide +kernel
theorem dX0_putByte_14 : decode cX0_putByte 14 = .ok (.aload_n 0, 1) := by decide +kernel
theorem dX0_putByte_15 : decode cX0_putByte 15 = .ok (.getfield 33, 3) := by decide +kernel
theorem dX0_putByte_18 : decode cX0_putByte 18 = .ok (.aload_n 0, 1) := by decide +kernel
theorem dX0_putByte_19 : decode cX0_putByte 19 = .ok (.getfield 63, 3) := by decide +kernel
theorem dX0_putByte_22 : decode cX0_putByte 22 = .ok (.iadd, 1) := by decide +kernel
theorem dX0_putByte_23 : decode cX0_putByte 23 = .ok (.iload_n 1, 1) := by decide +kernel
theorem dX0_putByte_24 : decode cX0_putByte 24 = .ok (.i2b, 1) := by decide +kernel
theorem dX0_putByte_25 : decode cX0_putByte 25 = .ok (.bastore, 1) := by decide +kernel
theorem dX0_putByte_26 : decode cX0_putByte 26 = .ok (.aload_n 0, 1) := by decide +kernel
theorem dX0_putByte_27 : decode cX0_putByte 27 = .ok (.dup, 1) := by decide +kernel
theorem dX0_putByte_28 : decode cX0_putByte 28 = .ok (.getfield 63, 3) := by decide +kernel
theorem dX0_putByte_31 : decode cX0_putByte 31 = .ok (.iconst 1, 1) := by decide +kernel
theorem dX0_putByte_32 : decode cX0_putByte 32 = .ok (.iadd, 1) := by decide +kernel
theorem dX0_putByte_33 : decode cX0_putByte 33 = .ok (.putfield 63, 3) := by decide +kernel
theorem dX0_putByte_36 : decode cX0_putByte 36 = .ok (.return_, 1) := by decide +kernel
abbrev cX0_findMatch : ByteArray := prog_1_method_14_code
def yX0_findMatch : MethodName := ⟨RX0, "findMatch", "(I)V"⟩
theorem dX0_findMatch_0 : decode cX0_findMatch 0 = .ok (.aload_n 0, 1) := by decide +kernel
theorem dX0_findMatch_1 : decode cX0_findMatch 1 = .ok (.iconst 0, 1) := by decide +kernel
theorem dX0_findMatch_2 : decode cX0_findMatch 2 = .ok (.putfield 74, 3) := by decide +kernel
theorem dX0_findMatch_5 : decode cX0_findMatch 5 = .ok (.aload_n 0, 1) := by decide +kernel
theorem dX0_findMatch_6 : decode cX0_findMatch 6 = .ok (.iconst 0, 1) := by decide +kernel
theorem dX0_findMatch_7 : decode cX0_findMatch 7 = .ok (.putfield 81, 3) := by decide +kernel
theorem dX0_findMatch_10 : decode cX0_findMatch 10 = .ok (.iconst 1, 1) := by decide +kernel
theorem dX0_findMatch_11 : decode cX0_findMatch 11 = .ok (.istore_n 2, 1) := by decide +kernel
theorem dX0_findMatch_12 : decode cX0_findMatch 12 = .ok (.iload_n 2, 1) := by decide +kernel
theorem dX0_findMatch_13 : decode cX0_findMatch 13 = .ok (.iload_n 1, 1) := by decide +kernel
theorem dX0_findMatch_14 : decode cX0_findMatch 14 = .ok (.if_icmp .gt 34, 3) := by decide +kernel
theorem dX0_findMatch_17 : decode cX0_findMatch 17 = .ok (.aload_n 0, 1) := by decide +kernel
theorem dX0_findMatch_18 : decode cX0_findMatch 18 = .ok (.iload_n 1, 1) := by decide +kernel
theorem dX0_findMatch_19 : decode cX0_findMatch 19 = .ok (.iload_n 2, 1) := by decide +kernel
theorem dX0_findMatch_20 : decode cX0_findMatch 20 = .ok (.invokevirtual 87, 3) := by decide +kernel
theorem dX0_findMatch_23 : decode cX0_findMatch 23 = .ok (.istore_n 3, 1) := by decide +kernel
theorem dX0_findMatch_24 : decode cX0_findMatch 24 = .ok (.iload_n 3, 1) := by decide +kernel
theorem dX0_findMatch_25 : decode cX0_findMatch 25 = .ok (.aload_n 0, 1) := by decide +kernel
theorem dX0_findMatch_26 : decode cX0_findMatch 26 = .ok (.getfield 74, 3) := by decide +kernel
theorem dX0_findMatch_29 : decode cX0_findMatch 29 = .ok (.if_icmp .le 13, 3) := by decide +kernel
theorem dX0_findMatch_32 : decode cX0_findMatch 32 = .ok (.aload_n 0, 1) := by decide +kernel
theorem dX0_findMatch_33 : decode cX0_findMatch 33 = .ok (.iload_n 3, 1) := by decide +kernel
theorem dX0_findMatch_34 : decode cX0_findMatch 34 = .ok (.putfield 74, 3) := by decide +kernel
theorem dX0_findMatch_37 : decode cX0_findMatch 37 = .ok (.aload_n 0, 1) := by decide +kernel
theorem dX0_findMatch_38 : decode cX0_findMatch 38 = .ok (.iload_n 2, 1) := by decide +kernel
theorem dX0_findMatch_39 : decode cX0_findMatch 39 = .ok (.putfield 81, 3) := by decide +kernel
theorem dX0_findMatch_42 : decode cX0_findMatch 42 = .ok (.iinc 2 1, 3) := by decide +kernel
theorem dX0_findMatch_45 : decode cX0_findMatch 45 = .ok (.goto (-33), 3) := by decide +kernel
theorem dX0_findMatch_48 : decode cX0_findMatch 48 = .ok (.return_, 1) := by decide +kernel
abbrev cX0_matchAt : ByteArray := prog_1_method_15_code
def yX0_matchAt : MethodName := ⟨RX0, "matchAt", "(II)I"⟩
theorem dX0_matchAt_0 : decode cX0_matchAt 0 = .ok (.iconst 0, 1) := by decide +kernel
theorem dX0_matchAt_1 : decode cX0_matchAt 1 = .ok (.istore_n 3, 1) := by decide +kernel
theorem dX0_matchAt_2 : decode cX0_matchAt 2 = .ok (.iload_n 3, 1) := by decide +kernel
theorem dX0_matchAt_3 : decode cX0_matchAt 3 = .ok (.bipush 9, 2) := by decide +kernel
theorem dX0_matchAt_5 : decode cX0_matchAt 5 = .ok (.if_icmp .ge 40, 3) := by decide +kernel
theorem dX0_matchAt_8 : decode cX0_matchAt 8 = .ok (.iload_n 1, 1) := by decide +kernel
theorem dX0_matchAt_9 : decode cX0_matchAt 9 = .ok (.iload_n 3, 1) := by decide +kernel
theorem dX0_matchAt_10 : decode cX0_matchAt 10 = .ok (.iadd, 1) := by decide +kernel
theorem dX0_matchAt_11 : decode cX0_matchAt 11 = .ok (.aload_n 0, 1) := by decide +kernel
theorem dX0_matchAt_12 : decode cX0_matchAt 12 = .ok (.getfield 23, 3) := by decide +kernel
theorem dX0_matchAt_15 : decode cX0_matchAt 15 = .ok (.if_icmp .ge 30, 3) := by decide +kernel
theorem dX0_matchAt_18 : decode cX0_matchAt 18 = .ok (.aload_n 0, 1) := by decide +kernel
theorem dX0_matchAt_19 : decode cX0_matchAt 19 = .ok (.getfield 7, 3) := by decide +kernel
theorem dX0_matchAt_22 : decode cX0_matchAt 22 = .ok (.iload_n 1, 1) := by decide +kernel
theorem dX0_matchAt_23 : decode cX0_matchAt 23 = .ok (.iload_n 3, 1) := by decide +kernel
theorem dX0_matchAt_24 : decode cX0_matchAt 24 = .ok (.iadd, 1) := by decide +kernel
theorem dX0_matchAt_25 : decode cX0_matchAt 25 = .ok (.iaload, 1) := by decide +kernel
theorem dX0_matchAt_26 : decode cX0_matchAt 26 = .ok (.aload_n 0, 1) := by decide +kernel
theorem dX0_matchAt_27 : decode cX0_matchAt 27 = .ok (.getfield 7, 3) := by decide +kernel
theorem dX0_matchAt_30 : decode cX0_matchAt 30 = .ok (.iload_n 1, 1) := by decide +kernel
theorem dX0_matchAt_31 : decode cX0_matchAt 31 = .ok (.iload_n 3, 1) := by decide +kernel
theorem dX0_matchAt_32 : decode cX0_matchAt 32 = .ok (.iadd, 1) := by decide +kernel
theorem dX0_matchAt_33 : decode cX0_matchAt 33 = .ok (.iload_n 2, 1) := by decide +kernel
theorem dX0_matchAt_34 : decode cX0_matchAt 34 = .ok (.isub, 1) := by decide +kernel
theorem dX0_matchAt_35 : decode cX0_matchAt 35 = .ok (.iaload, 1) := by decide +kernel
theorem dX0_matchAt_36 : decode cX0_matchAt 36 = .ok (.if_icmp .ne 9, 3) := by decide +kernel
theorem dX0_matchAt_39 : decode cX0_matchAt 39 = .ok (.iinc 3 1, 3) := by decide +kernel
theorem dX0_matchAt_42 : decode cX0_matchAt 42 = .ok (.goto (-40), 3) := by decide +kernel
theorem dX0_matchAt_45 : decode cX0_matchAt 45 = .ok (.iload_n 3, 1) := by decide +kernel
theorem dX0_matchAt_46 : decode cX0_matchAt 46 = .ok (.ireturn, 1) := by decide +kernel
abbrev cX0_receive : ByteArray := prog_1_method_6_code
def yX0_receive : MethodName := ⟨RX0, "receive", "()I"⟩
theorem dX0_receive_0 : decode cX0_receive 0 = .ok (.aload_n 0, 1) := by decide +kernel
theorem dX0_receive_1 : decode cX0_receive 1 = .ok (.getfield 27, 3) := by decide +kernel
theorem dX0_receive_4 : decode cX0_receive 4 = .ok (.ifCond .ne 5, 3) := by decide +kernel
theorem dX0_receive_7 : decode cX0_receive 7 = .ok (.iconst (-1), 1) := by decide +kernel
theorem dX0_receive_8 : decode cX0_receive 8 = .ok (.ireturn, 1) := by decide +kernel
theorem dX0_receive_9 : decode cX0_receive 9 = .ok (.aload_n 0, 1) := by decide +kernel
theorem dX0_receive_10 : decode cX0_receive 10 = .ok (.sipush 352, 3) := by decide +kernel
theorem dX0_receive_13 : decode cX0_receive 13 = .ok (.aload_n 0, 1) := by decide +kernel
theorem dX0_receive_14 : decode cX0_receive 14 = .ok (.getfield 30, 3) := by decide +kernel
theorem dX0_receive_17 : decode cX0_receive 17 = .ok (.imul, 1) := by decide +kernel
theorem dX0_receive_18 : decode cX0_receive 18 = .ok (.putfield 33, 3) := by decide +kernel
theorem dX0_receive_21 : decode cX0_receive 21 = .ok (.aload_n 0, 1) := by decide +kernel
theorem dX0_receive_22 : decode cX0_receive 22 = .ok (.invokevirtual 39, 3) := by decide +kernel
theorem dX0_receive_25 : decode cX0_receive 25 = .ok (.aload_n 0, 1) := by decide +kernel
theorem dX0_receive_26 : decode cX0_receive 26 = .ok (.aload_n 0, 1) := by decide +kernel
theorem dX0_receive_27 : decode cX0_receive 27 = .ok (.getfield 30, 3) := by decide +kernel
theorem dX0_receive_30 : decode cX0_receive 30 = .ok (.iconst 1, 1) := by decide +kernel
theorem dX0_receive_31 : decode cX0_receive 31 = .ok (.iadd, 1) := by decide +kernel
theorem dX0_receive_32 : decode cX0_receive 32 = .ok (.iconst 3, 1) := by decide +kernel
theorem dX0_receive_33 : decode cX0_receive 33 = .ok (.iand, 1) := by decide +kernel
theorem dX0_receive_34 : decode cX0_receive 34 = .ok (.putfield 30, 3) := by decide +kernel
theorem dX0_receive_37 : decode cX0_receive 37 = .ok (.aload_n 0, 1) := by decide +kernel
theorem dX0_receive_38 : decode cX0_receive 38 = .ok (.dup, 1) := by decide +kernel
theorem dX0_receive_39 : decode cX0_receive 39 = .ok (.getfield 27, 3) := by decide +kernel
theorem dX0_receive_42 : decode cX0_receive 42 = .ok (.iconst 1, 1) := by decide +kernel
theorem dX0_receive_43 : decode cX0_receive 43 = .ok (.isub, 1) := by decide +kernel
theorem dX0_receive_44 : decode cX0_receive 44 = .ok (.putfield 27, 3) := by decide +kernel
theorem dX0_receive_47 : decode cX0_receive 47 = .ok (.aload_n 0, 1) := by decide +kernel
theorem dX0_receive_48 : decode cX0_receive 48 = .ok (.getfield 42, 3) := by decide +kernel
theorem dX0_receive_51 : decode cX0_receive 51 = .ok (.ireturn, 1) := by decide +kernel
abbrev cX0_unsqueeze : ByteArray := prog_1_method_21_code
def yX0_unsqueeze : MethodName := ⟨RX0, "unsqueeze", "()V"⟩
theorem dX0_unsqueeze_0 : decode cX0_unsqueeze 0 = .ok (.aload_n 0, 1) := by decide +kernel
theorem dX0_unsqueeze_1 : decode cX0_unsqueeze 1 = .ok (.invokevirtual 45, 3) := by decide +kernel
theorem dX0_unsqueeze_4 : decode cX0_unsqueeze 4 = .ok (.aload_n 0, 1) := by decide +kernel
theorem dX0_unsqueeze_5 : decode cX0_unsqueeze 5 = .ok (.ldc2_w 52, 3) := by decide +kernel
theorem dX0_unsqueeze_8 : decode cX0_unsqueeze 8 = .ok (.putfield 54, 3) := by decide +kernel
theorem dX0_unsqueeze_11 : decode cX0_unsqueeze 11 = .ok (.aload_n 0, 1) := by decide +kernel
theorem dX0_unsqueeze_12 : decode cX0_unsqueeze 12 = .ok (.lconst 0, 1) := by decide +kernel
theorem dX0_unsqueeze_13 : decode cX0_unsqueeze 13 = .ok (.putfield 103, 3) := by decide +kernel
theorem dX0_unsqueeze_16 : decode cX0_unsqueeze 16 = .ok (.aload_n 0, 1) := by decide +kernel
theorem dX0_unsqueeze_17 : decode cX0_unsqueeze 17 = .ok (.iconst 0, 1) := by decide +kernel
theorem dX0_unsqueeze_18 : decode cX0_unsqueeze 18 = .ok (.putfield 106, 3) := by decide +kernel
theorem dX0_unsqueeze_21 : decode cX0_unsqueeze 21 = .ok (.iconst 0, 1) := by decide +kernel
theorem dX0_unsqueeze_22 : decode cX0_unsqueeze 22 = .ok (.istore_n 1, 1) := by decide +kernel
theorem dX0_unsqueeze_23 : decode cX0_unsqueeze 23 = .ok (.iload_n 1, 1) := by decide +kernel
theorem dX0_unsqueeze_24 : decode cX0_unsqueeze 24 = .ok (.iconst 5, 1) := by decide +kernel
theorem dX0_unsqueeze_25 : decode cX0_unsqueeze 25 = .ok (.if_icmp .ge 32, 3) := by decide +kernel
theorem dX0_unsqueeze_28 : decode cX0_unsqueeze 28 = .ok (.aload_n 0, 1) := by decide +kernel
theorem dX0_unsqueeze_29 : decode cX0_unsqueeze 29 = .ok (.invokevirtual 109, 3) := by decide +kernel
theorem dX0_unsqueeze_32 : decode cX0_unsqueeze 32 = .ok (.istore_n 2, 1) := by decide +kernel
theorem dX0_unsqueeze_33 : decode cX0_unsqueeze 33 = .ok (.aload_n 0, 1) := by decide +kernel
theorem dX0_unsqueeze_34 : decode cX0_unsqueeze 34 = .ok (.aload_n 0, 1) := by decide +kernel
theorem dX0_unsqueeze_35 : decode cX0_unsqueeze 35 = .ok (.getfield 103, 3) := by decide +kernel
theorem dX0_unsqueeze_38 : decode cX0_unsqueeze 38 = .ok (.bipush 8, 2) := by decide +kernel
theorem dX0_unsqueeze_40 : decode cX0_unsqueeze 40 = .ok (.lshl, 1) := by decide +kernel
theorem dX0_unsqueeze_41 : decode cX0_unsqueeze 41 = .ok (.iload_n 2, 1) := by decide +kernel
theorem dX0_unsqueeze_42 : decode cX0_unsqueeze 42 = .ok (.i2l, 1) := by decide +kernel
theorem dX0_unsqueeze_43 : decode cX0_unsqueeze 43 = .ok (.lor, 1) := by decide +kernel
theorem dX0_unsqueeze_44 : decode cX0_unsqueeze 44 = .ok (.ldc2_w 52, 3) := by decide +kernel
theorem dX0_unsqueeze_47 : decode cX0_unsqueeze 47 = .ok (.land, 1) := by decide +kernel
theorem dX0_unsqueeze_48 : decode cX0_unsqueeze 48 = .ok (.putfield 103, 3) := by decide +kernel
theorem dX0_unsqueeze_51 : decode cX0_unsqueeze 51 = .ok (.iinc 1 1, 3) := by decide +kernel
theorem dX0_unsqueeze_54 : decode cX0_unsqueeze 54 = .ok (.goto (-31), 3) := by decide +kernel
theorem dX0_unsqueeze_57 : decode cX0_unsqueeze 57 = .ok (.aload_n 0, 1) := by decide +kernel
theorem dX0_unsqueeze_58 : decode cX0_unsqueeze 58 = .ok (.iconst 2, 1) := by decide +kernel
theorem dX0_unsqueeze_59 : decode cX0_unsqueeze 59 = .ok (.bipush 6, 2) := by decide +kernel
theorem dX0_unsqueeze_61 : decode cX0_unsqueeze 61 = .ok (.invokevirtual 113, 3) := by decide +kernel
theorem dX0_unsqueeze_64 : decode cX0_unsqueeze 64 = .ok (.istore_n 1, 1) := by decide +kernel
theorem dX0_unsqueeze_65 : decode cX0_unsqueeze 65 = .ok (.aload_n 0, 1) := by decide +kernel
theorem dX0_unsqueeze_66 : decode cX0_unsqueeze 66 = .ok (.iconst 0, 1) := by decide +kernel
theorem dX0_unsqueeze_67 : decode cX0_unsqueeze 67 = .ok (.putfield 42, 3) := by decide +kernel
theorem dX0_unsqueeze_70 : decode cX0_unsqueeze 70 = .ok (.iconst 0, 1) := by decide +kernel
theorem dX0_unsqueeze_71 : decode cX0_unsqueeze 71 = .ok (.istore_n 2, 1) := by decide +kernel
theorem dX0_unsqueeze_72 : decode cX0_unsqueeze 72 = .ok (.iconst 0, 1) := by decide +kernel
theorem dX0_unsqueeze_73 : decode cX0_unsqueeze 73 = .ok (.istore_n 3, 1) := by decide +kernel
theorem dX0_unsqueeze_74 : decode cX0_unsqueeze 74 = .ok (.iload_n 3, 1) := by decide +kernel
theorem dX0_unsqueeze_75 : decode cX0_unsqueeze 75 = .ok (.bipush 48, 2) := by decide +kernel
theorem dX0_unsqueeze_77 : decode cX0_unsqueeze 77 = .ok (.if_icmp .ge 95, 3) := by decide +kernel
theorem dX0_unsqueeze_80 : decode cX0_unsqueeze 80 = .ok (.aload_n 0, 1) := by decide +kernel
theorem dX0_unsqueeze_81 : decode cX0_unsqueeze 81 = .ok (.getfield 42, 3) := by decide +kernel
theorem dX0_unsqueeze_84 : decode cX0_unsqueeze 84 = .ok (.iload_n 1, 1) := by decide +kernel
theorem dX0_unsqueeze_85 : decode cX0_unsqueeze 85 = .ok (.if_icmp .ge 87, 3) := by decide +kernel
theorem dX0_unsqueeze_88 : decode cX0_unsqueeze 88 = .ok (.aload_n 0, 1) := by decide +kernel
theorem dX0_unsqueeze_89 : decode cX0_unsqueeze 89 = .ok (.iload_n 2, 1) := by decide +kernel
theorem dX0_unsqueeze_90 : decode cX0_unsqueeze 90 = .ok (.invokevirtual 116, 3) := by decide +kernel
theorem dX0_unsqueeze_93 : decode cX0_unsqueeze 93 = .ok (.istore_n 2, 1) := by decide +kernel
theorem dX0_unsqueeze_94 : decode cX0_unsqueeze 94 = .ok (.iload_n 2, 1) := by decide +kernel
theorem dX0_unsqueeze_95 : decode cX0_unsqueeze 95 = .ok (.iconst 1, 1) := by decide +kernel
theorem dX0_unsqueeze_96 : decode cX0_unsqueeze 96 = .ok (.if_icmp .ne 39, 3) := by decide +kernel
theorem dX0_unsqueeze_99 : decode cX0_unsqueeze 99 = .ok (.aload_n 0, 1) := by decide +kernel
theorem dX0_unsqueeze_100 : decode cX0_unsqueeze 100 = .ok (.sipush 322, 3) := by decide +kernel
theorem dX0_unsqueeze_103 : decode cX0_unsqueeze 103 = .ok (.iconst 3, 1) := by decide +kernel
theorem dX0_unsqueeze_104 : decode cX0_unsqueeze 104 = .ok (.invokevirtual 113, 3) := by decide +kernel
theorem dX0_unsqueeze_107 : decode cX0_unsqueeze 107 = .ok (.iconst 2, 1) := by decide +kernel
theorem dX0_unsqueeze_108 : decode cX0_unsqueeze 108 = .ok (.iadd, 1) := by decide +kernel
theorem dX0_unsqueeze_109 : decode cX0_unsqueeze 109 = .ok (.istore 4, 2) := by decide +kernel
theorem dX0_unsqueeze_111 : decode cX0_unsqueeze 111 = .ok (.aload_n 0, 1) := by decide +kernel
theorem dX0_unsqueeze_112 : decode cX0_unsqueeze 112 = .ok (.sipush 330, 3) := by decide +kernel
theorem dX0_unsqueeze_115 : decode cX0_unsqueeze 115 = .ok (.bipush 6, 2) := by decide +kernel
theorem dX0_unsqueeze_117 : decode cX0_unsqueeze 117 = .ok (.invokevirtual 113, 3) := by decide +kernel
theorem dX0_unsqueeze_120 : decode cX0_unsqueeze 120 = .ok (.iconst 1, 1) := by decide +kernel
theorem dX0_unsqueeze_121 : decode cX0_unsqueeze 121 = .ok (.iadd, 1) := by decide +kernel
theorem dX0_unsqueeze_122 : decode cX0_unsqueeze 122 = .ok (.istore 5, 2) := by decide +kernel
theorem dX0_unsqueeze_124 : decode cX0_unsqueeze 124 = .ok (.aload_n 0, 1) := by decide +kernel
theorem dX0_unsqueeze_125 : decode cX0_unsqueeze 125 = .ok (.iload 4, 2) := by decide +kernel
theorem dX0_unsqueeze_127 : decode cX0_unsqueeze 127 = .ok (.iload 5, 2) := by decide +kernel
theorem dX0_unsqueeze_129 : decode cX0_unsqueeze 129 = .ok (.invokevirtual 120, 3) := by decide +kernel
theorem dX0_unsqueeze_132 : decode cX0_unsqueeze 132 = .ok (.goto 34, 3) := by decide +kernel
theorem dX0_unsqueeze_135 : decode cX0_unsqueeze 135 = .ok (.aload_n 0, 1) := by decide +kernel
theorem dX0_unsqueeze_136 : decode cX0_unsqueeze 136 = .ok (.bipush 66, 2) := by decide +kernel
theorem dX0_unsqueeze_138 : decode cX0_unsqueeze 138 = .ok (.bipush 8, 2) := by decide +kernel
theorem dX0_unsqueeze_140 : decode cX0_unsqueeze 140 = .ok (.invokevirtual 113, 3) := by decide +kernel
theorem dX0_unsqueeze_143 : decode cX0_unsqueeze 143 = .ok (.istore 4, 2) := by decide +kernel
theorem dX0_unsqueeze_145 : decode cX0_unsqueeze 145 = .ok (.aload_n 0, 1) := by decide +kernel
theorem dX0_unsqueeze_146 : decode cX0_unsqueeze 146 = .ok (.getfield 13, 3) := by decide +kernel
theorem dX0_unsqueeze_149 : decode cX0_unsqueeze 149 = .ok (.aload_n 0, 1) := by decide +kernel
theorem dX0_unsqueeze_150 : decode cX0_unsqueeze 150 = .ok (.getfield 42, 3) := by decide +kernel
theorem dX0_unsqueeze_153 : decode cX0_unsqueeze 153 = .ok (.iload 4, 2) := by decide +kernel
theorem dX0_unsqueeze_155 : decode cX0_unsqueeze 155 = .ok (.iastore, 1) := by decide +kernel
theorem dX0_unsqueeze_156 : decode cX0_unsqueeze 156 = .ok (.aload_n 0, 1) := by decide +kernel
theorem dX0_unsqueeze_157 : decode cX0_unsqueeze 157 = .ok (.dup, 1) := by decide +kernel
theorem dX0_unsqueeze_158 : decode cX0_unsqueeze 158 = .ok (.getfield 42, 3) := by decide +kernel
theorem dX0_unsqueeze_161 : decode cX0_unsqueeze 161 = .ok (.iconst 1, 1) := by decide +kernel
theorem dX0_unsqueeze_162 : decode cX0_unsqueeze 162 = .ok (.iadd, 1) := by decide +kernel
theorem dX0_unsqueeze_163 : decode cX0_unsqueeze 163 = .ok (.putfield 42, 3) := by decide +kernel
theorem dX0_unsqueeze_166 : decode cX0_unsqueeze 166 = .ok (.iinc 3 1, 3) := by decide +kernel
theorem dX0_unsqueeze_169 : decode cX0_unsqueeze 169 = .ok (.goto (-95), 3) := by decide +kernel
theorem dX0_unsqueeze_172 : decode cX0_unsqueeze 172 = .ok (.return_, 1) := by decide +kernel
abbrev cX0_takeByte : ByteArray := prog_1_method_23_code
def yX0_takeByte : MethodName := ⟨RX0, "takeByte", "()I"⟩
theorem dX0_takeByte_0 : decode cX0_takeByte 0 = .ok (.aload_n 0, 1) := by decide +kernel
theorem dX0_takeByte_1 : decode cX0_takeByte 1 = .ok (.getfield 106, 3) := by decide +kernel
theorem dX0_takeByte_4 : decode cX0_takeByte 4 = .ok (.sipush 352, 3) := by decide +kernel
theorem dX0_takeByte_7 : decode cX0_takeByte 7 = .ok (.if_icmp .ge 24, 3) := by decide +kernel
theorem dX0_takeByte_10 : decode cX0_takeByte 10 = .ok (.aload_n 0, 1) := by decide +kernel
theorem dX0_takeByte_11 : decode cX0_takeByte 11 = .ok (.getfield 16, 3) := by decide +kernel
theorem dX0_takeByte_14 : decode cX0_takeByte 14 = .ok (.aload_n 0, 1) := by decide +kernel
theorem dX0_takeByte_15 : decode cX0_takeByte 15 = .ok (.getfield 33, 3) := by decide +kernel
theorem dX0_takeByte_18 : decode cX0_takeByte 18 = .ok (.aload_n 0, 1) := by decide +kernel
theorem dX0_takeByte_19 : decode cX0_takeByte 19 = .ok (.getfield 106, 3) := by decide +kernel
theorem dX0_takeByte_22 : decode cX0_takeByte 22 = .ok (.iadd, 1) := by decide +kernel
theorem dX0_takeByte_23 : decode cX0_takeByte 23 = .ok (.baload, 1) := by decide +kernel
theorem dX0_takeByte_24 : decode cX0_takeByte 24 = .ok (.sipush 255, 3) := by decide +kernel
theorem dX0_takeByte_27 : decode cX0_takeByte 27 = .ok (.iand, 1) := by decide +kernel
theorem dX0_takeByte_28 : decode cX0_takeByte 28 = .ok (.goto 4, 3) := by decide +kernel
theorem dX0_takeByte_31 : decode cX0_takeByte 31 = .ok (.iconst 0, 1) := by decide +kernel
theorem dX0_takeByte_32 : decode cX0_takeByte 32 = .ok (.istore_n 1, 1) := by decide +kernel
theorem dX0_takeByte_33 : decode cX0_takeByte 33 = .ok (.aload_n 0, 1) := by decide +kernel
theorem dX0_takeByte_34 : decode cX0_takeByte 34 = .ok (.dup, 1) := by decide +kernel
theorem dX0_takeByte_35 : decode cX0_takeByte 35 = .ok (.getfield 106, 3) := by decide +kernel
theorem dX0_takeByte_38 : decode cX0_takeByte 38 = .ok (.iconst 1, 1) := by decide +kernel
theorem dX0_takeByte_39 : decode cX0_takeByte 39 = .ok (.iadd, 1) := by decide +kernel
theorem dX0_takeByte_40 : decode cX0_takeByte 40 = .ok (.putfield 106, 3) := by decide +kernel
theorem dX0_takeByte_43 : decode cX0_takeByte 43 = .ok (.iload_n 1, 1) := by decide +kernel
theorem dX0_takeByte_44 : decode cX0_takeByte 44 = .ok (.ireturn, 1) := by decide +kernel
abbrev cX0_readTree : ByteArray := prog_1_method_24_code
def yX0_readTree : MethodName := ⟨RX0, "readTree", "(II)I"⟩
theorem dX0_readTree_0 : decode cX0_readTree 0 = .ok (.iconst 1, 1) := by decide +kernel
theorem dX0_readTree_1 : decode cX0_readTree 1 = .ok (.istore_n 3, 1) := by decide +kernel
theorem dX0_readTree_2 : decode cX0_readTree 2 = .ok (.iconst 0, 1) := by decide +kernel
theorem dX0_readTree_3 : decode cX0_readTree 3 = .ok (.istore 4, 2) := by decide +kernel
theorem dX0_readTree_5 : decode cX0_readTree 5 = .ok (.iload 4, 2) := by decide +kernel
theorem dX0_readTree_7 : decode cX0_readTree 7 = .ok (.iload_n 2, 1) := by decide +kernel
theorem dX0_readTree_8 : decode cX0_readTree 8 = .ok (.if_icmp .ge 25, 3) := by decide +kernel
theorem dX0_readTree_11 : decode cX0_readTree 11 = .ok (.aload_n 0, 1) := by decide +kernel
theorem dX0_readTree_12 : decode cX0_readTree 12 = .ok (.iload_n 1, 1) := by decide +kernel
theorem dX0_readTree_13 : decode cX0_readTree 13 = .ok (.iload_n 3, 1) := by decide +kernel
theorem dX0_readTree_14 : decode cX0_readTree 14 = .ok (.iadd, 1) := by decide +kernel
theorem dX0_readTree_15 : decode cX0_readTree 15 = .ok (.invokevirtual 116, 3) := by decide +kernel
theorem dX0_readTree_18 : decode cX0_readTree 18 = .ok (.istore 5, 2) := by decide +kernel
theorem dX0_readTree_20 : decode cX0_readTree 20 = .ok (.iconst 2, 1) := by decide +kernel
theorem dX0_readTree_21 : decode cX0_readTree 21 = .ok (.iload_n 3, 1) := by decide +kernel
theorem dX0_readTree_22 : decode cX0_readTree 22 = .ok (.imul, 1) := by decide +kernel
theorem dX0_readTree_23 : decode cX0_readTree 23 = .ok (.iload 5, 2) := by decide +kernel
theorem dX0_readTree_25 : decode cX0_readTree 25 = .ok (.iadd, 1) := by decide +kernel
theorem dX0_readTree_26 : decode cX0_readTree 26 = .ok (.istore_n 3, 1) := by decide +kernel
theorem dX0_readTree_27 : decode cX0_readTree 27 = .ok (.iinc 4 1, 3) := by decide +kernel
theorem dX0_readTree_30 : decode cX0_readTree 30 = .ok (.goto (-25), 3) := by decide +kernel
theorem dX0_readTree_33 : decode cX0_readTree 33 = .ok (.iload_n 3, 1) := by decide +kernel
theorem dX0_readTree_34 : decode cX0_readTree 34 = .ok (.iconst 1, 1) := by decide +kernel
theorem dX0_readTree_35 : decode cX0_readTree 35 = .ok (.iload_n 2, 1) := by decide +kernel
theorem dX0_readTree_36 : decode cX0_readTree 36 = .ok (.ishl, 1) := by decide +kernel
theorem dX0_readTree_37 : decode cX0_readTree 37 = .ok (.isub, 1) := by decide +kernel
theorem dX0_readTree_38 : decode cX0_readTree 38 = .ok (.ireturn, 1) := by decide +kernel
abbrev cX0_readBit : ByteArray := prog_1_method_25_code
def yX0_readBit : MethodName := ⟨RX0, "readBit", "(I)I"⟩
theorem dX0_readBit_0 : decode cX0_readBit 0 = .ok (.aload_n 0, 1) := by decide +kernel
theorem dX0_readBit_1 : decode cX0_readBit 1 = .ok (.getfield 54, 3) := by decide +kernel
theorem dX0_readBit_4 : decode cX0_readBit 4 = .ok (.bipush 11, 2) := by decide +kernel
theorem dX0_readBit_6 : decode cX0_readBit 6 = .ok (.lushr, 1) := by decide +kernel
theorem dX0_readBit_7 : decode cX0_readBit 7 = .ok (.aload_n 0, 1) := by decide +kernel
theorem dX0_readBit_8 : decode cX0_readBit 8 = .ok (.getfield 20, 3) := by decide +kernel
theorem dX0_readBit_11 : decode cX0_readBit 11 = .ok (.iload_n 1, 1) := by decide +kernel
theorem dX0_readBit_12 : decode cX0_readBit 12 = .ok (.iaload, 1) := by decide +kernel
theorem dX0_readBit_13 : decode cX0_readBit 13 = .ok (.i2l, 1) := by decide +kernel
theorem dX0_readBit_14 : decode cX0_readBit 14 = .ok (.lmul, 1) := by decide +kernel
theorem dX0_readBit_15 : decode cX0_readBit 15 = .ok (.lstore_n 2, 1) := by decide +kernel
theorem dX0_readBit_16 : decode cX0_readBit 16 = .ok (.aload_n 0, 1) := by decide +kernel
theorem dX0_readBit_17 : decode cX0_readBit 17 = .ok (.getfield 103, 3) := by decide +kernel
theorem dX0_readBit_20 : decode cX0_readBit 20 = .ok (.lload_n 2, 1) := by decide +kernel
theorem dX0_readBit_21 : decode cX0_readBit 21 = .ok (.lcmp, 1) := by decide +kernel
theorem dX0_readBit_22 : decode cX0_readBit 22 = .ok (.ifCond .ge 7, 3) := by decide +kernel
theorem dX0_readBit_25 : decode cX0_readBit 25 = .ok (.iconst 0, 1) := by decide +kernel
theorem dX0_readBit_26 : decode cX0_readBit 26 = .ok (.goto 4, 3) := by decide +kernel
theorem dX0_readBit_29 : decode cX0_readBit 29 = .ok (.iconst 1, 1) := by decide +kernel
theorem dX0_readBit_30 : decode cX0_readBit 30 = .ok (.istore 4, 2) := by decide +kernel
theorem dX0_readBit_32 : decode cX0_readBit 32 = .ok (.iload 4, 2) := by decide +kernel
theorem dX0_readBit_34 : decode cX0_readBit 34 = .ok (.ifCond .ne 11, 3) := by decide +kernel
theorem dX0_readBit_37 : decode cX0_readBit 37 = .ok (.aload_n 0, 1) := by decide +kernel
theorem dX0_readBit_38 : decode cX0_readBit 38 = .ok (.lload_n 2, 1) := by decide +kernel
theorem dX0_readBit_39 : decode cX0_readBit 39 = .ok (.putfield 54, 3) := by decide +kernel
theorem dX0_readBit_42 : decode cX0_readBit 42 = .ok (.goto 23, 3) := by decide +kernel
theorem dX0_readBit_45 : decode cX0_readBit 45 = .ok (.aload_n 0, 1) := by decide +kernel
theorem dX0_readBit_46 : decode cX0_readBit 46 = .ok (.dup, 1) := by decide +kernel
theorem dX0_readBit_47 : decode cX0_readBit 47 = .ok (.getfield 103, 3) := by decide +kernel
theorem dX0_readBit_50 : decode cX0_readBit 50 = .ok (.lload_n 2, 1) := by decide +kernel
theorem dX0_readBit_51 : decode cX0_readBit 51 = .ok (.lsub, 1) := by decide +kernel
theorem dX0_readBit_52 : decode cX0_readBit 52 = .ok (.putfield 103, 3) := by decide +kernel
theorem dX0_readBit_55 : decode cX0_readBit 55 = .ok (.aload_n 0, 1) := by decide +kernel
theorem dX0_readBit_56 : decode cX0_readBit 56 = .ok (.dup, 1) := by decide +kernel
theorem dX0_readBit_57 : decode cX0_readBit 57 = .ok (.getfield 54, 3) := by decide +kernel
theorem dX0_readBit_60 : decode cX0_readBit 60 = .ok (.lload_n 2, 1) := by decide +kernel
theorem dX0_readBit_61 : decode cX0_readBit 61 = .ok (.lsub, 1) := by decide +kernel
theorem dX0_readBit_62 : decode cX0_readBit 62 = .ok (.putfield 54, 3) := by decide +kernel
theorem dX0_readBit_65 : decode cX0_readBit 65 = .ok (.aload_n 0, 1) := by decide +kernel
theorem dX0_readBit_66 : decode cX0_readBit 66 = .ok (.iload_n 1, 1) := by decide +kernel
theorem dX0_readBit_67 : decode cX0_readBit 67 = .ok (.iload 4, 2) := by decide +kernel
theorem dX0_readBit_69 : decode cX0_readBit 69 = .ok (.invokevirtual 91, 3) := by decide +kernel
theorem dX0_readBit_72 : decode cX0_readBit 72 = .ok (.aload_n 0, 1) := by decide +kernel
theorem dX0_readBit_73 : decode cX0_readBit 73 = .ok (.getfield 54, 3) := by decide +kernel
theorem dX0_readBit_76 : decode cX0_readBit 76 = .ok (.ldc2_w 94, 3) := by decide +kernel
theorem dX0_readBit_79 : decode cX0_readBit 79 = .ok (.lcmp, 1) := by decide +kernel
theorem dX0_readBit_80 : decode cX0_readBit 80 = .ok (.ifCond .ge 35, 3) := by decide +kernel
theorem dX0_readBit_83 : decode cX0_readBit 83 = .ok (.aload_n 0, 1) := by decide +kernel
theorem dX0_readBit_84 : decode cX0_readBit 84 = .ok (.aload_n 0, 1) := by decide +kernel
theorem dX0_readBit_85 : decode cX0_readBit 85 = .ok (.getfield 54, 3) := by decide +kernel
theorem dX0_readBit_88 : decode cX0_readBit 88 = .ok (.bipush 8, 2) := by decide +kernel
theorem dX0_readBit_90 : decode cX0_readBit 90 = .ok (.lshl, 1) := by decide +kernel
theorem dX0_readBit_91 : decode cX0_readBit 91 = .ok (.putfield 54, 3) := by decide +kernel
theorem dX0_readBit_94 : decode cX0_readBit 94 = .ok (.aload_n 0, 1) := by decide +kernel
theorem dX0_readBit_95 : decode cX0_readBit 95 = .ok (.invokevirtual 109, 3) := by decide +kernel
theorem dX0_readBit_98 : decode cX0_readBit 98 = .ok (.istore 5, 2) := by decide +kernel
theorem dX0_readBit_100 : decode cX0_readBit 100 = .ok (.aload_n 0, 1) := by decide +kernel
theorem dX0_readBit_101 : decode cX0_readBit 101 = .ok (.aload_n 0, 1) := by decide +kernel
theorem dX0_readBit_102 : decode cX0_readBit 102 = .ok (.getfield 103, 3) := by decide +kernel
theorem dX0_readBit_105 : decode cX0_readBit 105 = .ok (.bipush 8, 2) := by decide +kernel
theorem dX0_readBit_107 : decode cX0_readBit 107 = .ok (.lshl, 1) := by decide +kernel
theorem dX0_readBit_108 : decode cX0_readBit 108 = .ok (.iload 5, 2) := by decide +kernel
theorem dX0_readBit_110 : decode cX0_readBit 110 = .ok (.i2l, 1) := by decide +kernel
theorem dX0_readBit_111 : decode cX0_readBit 111 = .ok (.lor, 1) := by decide +kernel
theorem dX0_readBit_112 : decode cX0_readBit 112 = .ok (.putfield 103, 3) := by decide +kernel
theorem dX0_readBit_115 : decode cX0_readBit 115 = .ok (.iload 4, 2) := by decide +kernel
theorem dX0_readBit_117 : decode cX0_readBit 117 = .ok (.ireturn, 1) := by decide +kernel
abbrev cX0_copyBack : ByteArray := prog_1_method_22_code
def yX0_copyBack : MethodName := ⟨RX0, "copyBack", "(II)V"⟩
theorem dX0_copyBack_0 : decode cX0_copyBack 0 = .ok (.iconst 0, 1) := by decide +kernel
theorem dX0_copyBack_1 : decode cX0_copyBack 1 = .ok (.istore_n 3, 1) := by decide +kernel
theorem dX0_copyBack_2 : decode cX0_copyBack 2 = .ok (.iload_n 3, 1) := by decide +kernel
theorem dX0_copyBack_3 : decode cX0_copyBack 3 = .ok (.iload_n 1, 1) := by decide +kernel
theorem dX0_copyBack_4 : decode cX0_copyBack 4 = .ok (.if_icmp .ge 56, 3) := by decide +kernel
theorem dX0_copyBack_7 : decode cX0_copyBack 7 = .ok (.aload_n 0, 1) := by decide +kernel
theorem dX0_copyBack_8 : decode cX0_copyBack 8 = .ok (.getfield 42, 3) := by decide +kernel
theorem dX0_copyBack_11 : decode cX0_copyBack 11 = .ok (.bipush 48, 2) := by decide +kernel
theorem dX0_copyBack_13 : decode cX0_copyBack 13 = .ok (.if_icmp .ge 47, 3) := by decide +kernel
theorem dX0_copyBack_16 : decode cX0_copyBack 16 = .ok (.iload_n 2, 1) := by decide +kernel
theorem dX0_copyBack_17 : decode cX0_copyBack 17 = .ok (.aload_n 0, 1) := by decide +kernel
theorem dX0_copyBack_18 : decode cX0_copyBack 18 = .ok (.getfield 42, 3) := by decide +kernel
theorem dX0_copyBack_21 : decode cX0_copyBack 21 = .ok (.if_icmp .gt 39, 3) := by decide +kernel
theorem dX0_copyBack_24 : decode cX0_copyBack 24 = .ok (.aload_n 0, 1) := by decide +kernel
theorem dX0_copyBack_25 : decode cX0_copyBack 25 = .ok (.getfield 13, 3) := by decide +kernel
theorem dX0_copyBack_28 : decode cX0_copyBack 28 = .ok (.aload_n 0, 1) := by decide +kernel
theorem dX0_copyBack_29 : decode cX0_copyBack 29 = .ok (.getfield 42, 3) := by decide +kernel
theorem dX0_copyBack_32 : decode cX0_copyBack 32 = .ok (.aload_n 0, 1) := by decide +kernel
theorem dX0_copyBack_33 : decode cX0_copyBack 33 = .ok (.getfield 13, 3) := by decide +kernel
theorem dX0_copyBack_36 : decode cX0_copyBack 36 = .ok (.aload_n 0, 1) := by decide +kernel
theorem dX0_copyBack_37 : decode cX0_copyBack 37 = .ok (.getfield 42, 3) := by decide +kernel
theorem dX0_copyBack_40 : decode cX0_copyBack 40 = .ok (.iload_n 2, 1) := by decide +kernel
theorem dX0_copyBack_41 : decode cX0_copyBack 41 = .ok (.isub, 1) := by decide +kernel
theorem dX0_copyBack_42 : decode cX0_copyBack 42 = .ok (.iaload, 1) := by decide +kernel
theorem dX0_copyBack_43 : decode cX0_copyBack 43 = .ok (.iastore, 1) := by decide +kernel
theorem dX0_copyBack_44 : decode cX0_copyBack 44 = .ok (.aload_n 0, 1) := by decide +kernel
theorem dX0_copyBack_45 : decode cX0_copyBack 45 = .ok (.dup, 1) := by decide +kernel
theorem dX0_copyBack_46 : decode cX0_copyBack 46 = .ok (.getfield 42, 3) := by decide +kernel
theorem dX0_copyBack_49 : decode cX0_copyBack 49 = .ok (.iconst 1, 1) := by decide +kernel
theorem dX0_copyBack_50 : decode cX0_copyBack 50 = .ok (.iadd, 1) := by decide +kernel
theorem dX0_copyBack_51 : decode cX0_copyBack 51 = .ok (.putfield 42, 3) := by decide +kernel
theorem dX0_copyBack_54 : decode cX0_copyBack 54 = .ok (.iinc 3 1, 3) := by decide +kernel
theorem dX0_copyBack_57 : decode cX0_copyBack 57 = .ok (.goto (-55), 3) := by decide +kernel
theorem dX0_copyBack_60 : decode cX0_copyBack 60 = .ok (.return_, 1) := by decide +kernel
abbrev cX0_at : ByteArray := prog_1_method_7_code
def yX0_at : MethodName := ⟨RX0, "at", "(I)I"⟩
theorem dX0_at_0 : decode cX0_at 0 = .ok (.iload_n 1, 1) := by decide +kernel
theorem dX0_at_1 : decode cX0_at 1 = .ok (.ifCond .lt 11, 3) := by decide +kernel
theorem dX0_at_4 : decode cX0_at 4 = .ok (.iload_n 1, 1) := by decide +kernel
theorem dX0_at_5 : decode cX0_at 5 = .ok (.aload_n 0, 1) := by decide +kernel
theorem dX0_at_6 : decode cX0_at 6 = .ok (.getfield 42, 3) := by decide +kernel
theorem dX0_at_9 : decode cX0_at 9 = .ok (.if_icmp .lt 7, 3) := by decide +kernel
theorem dX0_at_12 : decode cX0_at 12 = .ok (.iconst (-1), 1) := by decide +kernel
theorem dX0_at_13 : decode cX0_at 13 = .ok (.goto 9, 3) := by decide +kernel
theorem dX0_at_16 : decode cX0_at 16 = .ok (.aload_n 0, 1) := by decide +kernel
theorem dX0_at_17 : decode cX0_at 17 = .ok (.getfield 13, 3) := by decide +kernel
theorem dX0_at_20 : decode cX0_at 20 = .ok (.iload_n 1, 1) := by decide +kernel
theorem dX0_at_21 : decode cX0_at 21 = .ok (.iaload, 1) := by decide +kernel
theorem dX0_at_22 : decode cX0_at 22 = .ok (.ireturn, 1) := by decide +kernel
abbrev cX0_length : ByteArray := prog_1_method_8_code
def yX0_length : MethodName := ⟨RX0, "length", "()I"⟩
theorem dX0_length_0 : decode cX0_length 0 = .ok (.aload_n 0, 1) := by decide +kernel
theorem dX0_length_1 : decode cX0_length 1 = .ok (.getfield 42, 3) := by decide +kernel
theorem dX0_length_4 : decode cX0_length 4 = .ok (.ireturn, 1) := by decide +kernel
abbrev cX0_blocks : ByteArray := prog_1_method_9_code
def yX0_blocks : MethodName := ⟨RX0, "blocks", "()I"⟩
theorem dX0_blocks_0 : decode cX0_blocks 0 = .ok (.aload_n 0, 1) := by decide +kernel
theorem dX0_blocks_1 : decode cX0_blocks 1 = .ok (.getfield 27, 3) := by decide +kernel
theorem dX0_blocks_4 : decode cX0_blocks 4 = .ok (.ireturn, 1) := by decide +kernel
abbrev cX0_find : ByteArray := prog_1_method_10_code
def yX0_find : MethodName := ⟨RX0, "find", "(II)I"⟩
theorem dX0_find_0 : decode cX0_find 0 = .ok (.iload_n 2, 1) := by decide +kernel
theorem dX0_find_1 : decode cX0_find 1 = .ok (.ifCond .ge 7, 3) := by decide +kernel
theorem dX0_find_4 : decode cX0_find 4 = .ok (.iconst 0, 1) := by decide +kernel
theorem dX0_find_5 : decode cX0_find 5 = .ok (.goto 4, 3) := by decide +kernel
theorem dX0_find_8 : decode cX0_find 8 = .ok (.iload_n 2, 1) := by decide +kernel
theorem dX0_find_9 : decode cX0_find 9 = .ok (.istore_n 3, 1) := by decide +kernel
theorem dX0_find_10 : decode cX0_find 10 = .ok (.iload_n 3, 1) := by decide +kernel
theorem dX0_find_11 : decode cX0_find 11 = .ok (.aload_n 0, 1) := by decide +kernel
theorem dX0_find_12 : decode cX0_find 12 = .ok (.getfield 42, 3) := by decide +kernel
theorem dX0_find_15 : decode cX0_find 15 = .ok (.if_icmp .ge 25, 3) := by decide +kernel
theorem dX0_find_18 : decode cX0_find 18 = .ok (.aload_n 0, 1) := by decide +kernel
theorem dX0_find_19 : decode cX0_find 19 = .ok (.getfield 13, 3) := by decide +kernel
theorem dX0_find_22 : decode cX0_find 22 = .ok (.iload_n 3, 1) := by decide +kernel
theorem dX0_find_23 : decode cX0_find 23 = .ok (.iaload, 1) := by decide +kernel
theorem dX0_find_24 : decode cX0_find 24 = .ok (.iload_n 1, 1) := by decide +kernel
theorem dX0_find_25 : decode cX0_find 25 = .ok (.sipush 255, 3) := by decide +kernel
theorem dX0_find_28 : decode cX0_find 28 = .ok (.iand, 1) := by decide +kernel
theorem dX0_find_29 : decode cX0_find 29 = .ok (.if_icmp .ne 5, 3) := by decide +kernel
theorem dX0_find_32 : decode cX0_find 32 = .ok (.iload_n 3, 1) := by decide +kernel
theorem dX0_find_33 : decode cX0_find 33 = .ok (.ireturn, 1) := by decide +kernel
theorem dX0_find_34 : decode cX0_find 34 = .ok (.iinc 3 1, 3) := by decide +kernel
theorem dX0_find_37 : decode cX0_find 37 = .ok (.goto (-27), 3) := by decide +kernel
theorem dX0_find_40 : decode cX0_find 40 = .ok (.iconst (-1), 1) := by decide +kernel
theorem dX0_find_41 : decode cX0_find 41 = .ok (.ireturn, 1) := by decide +kernel
abbrev cX0_edit : ByteArray := prog_1_method_11_code
def yX0_edit : MethodName := ⟨RX0, "edit", "()V"⟩
theorem dX0_edit_0 : decode cX0_edit 0 = .ok (.iconst 0, 1) := by decide +kernel
theorem dX0_edit_1 : decode cX0_edit 1 = .ok (.istore_n 1, 1) := by decide +kernel
theorem dX0_edit_2 : decode cX0_edit 2 = .ok (.iload_n 1, 1) := by decide +kernel
theorem dX0_edit_3 : decode cX0_edit 3 = .ok (.aload_n 0, 1) := by decide +kernel
theorem dX0_edit_4 : decode cX0_edit 4 = .ok (.getfield 42, 3) := by decide +kernel
theorem dX0_edit_7 : decode cX0_edit 7 = .ok (.if_icmp .ge 21, 3) := by decide +kernel
theorem dX0_edit_10 : decode cX0_edit 10 = .ok (.aload_n 0, 1) := by decide +kernel
theorem dX0_edit_11 : decode cX0_edit 11 = .ok (.getfield 7, 3) := by decide +kernel
theorem dX0_edit_14 : decode cX0_edit 14 = .ok (.iload_n 1, 1) := by decide +kernel
theorem dX0_edit_15 : decode cX0_edit 15 = .ok (.aload_n 0, 1) := by decide +kernel
theorem dX0_edit_16 : decode cX0_edit 16 = .ok (.getfield 13, 3) := by decide +kernel
theorem dX0_edit_19 : decode cX0_edit 19 = .ok (.iload_n 1, 1) := by decide +kernel
theorem dX0_edit_20 : decode cX0_edit 20 = .ok (.iaload, 1) := by decide +kernel
theorem dX0_edit_21 : decode cX0_edit 21 = .ok (.iastore, 1) := by decide +kernel
theorem dX0_edit_22 : decode cX0_edit 22 = .ok (.iinc 1 1, 3) := by decide +kernel
theorem dX0_edit_25 : decode cX0_edit 25 = .ok (.goto (-23), 3) := by decide +kernel
theorem dX0_edit_28 : decode cX0_edit 28 = .ok (.aload_n 0, 1) := by decide +kernel
theorem dX0_edit_29 : decode cX0_edit 29 = .ok (.aload_n 0, 1) := by decide +kernel
theorem dX0_edit_30 : decode cX0_edit 30 = .ok (.getfield 42, 3) := by decide +kernel
theorem dX0_edit_33 : decode cX0_edit 33 = .ok (.putfield 23, 3) := by decide +kernel
theorem dX0_edit_36 : decode cX0_edit 36 = .ok (.return_, 1) := by decide +kernel
theorem q15 : (Jvm.Cond.initialized "SqueezeQueue") ∈ lw_all := lw_g (lw_at lw_m0 1 rfl) rfl
theorem q18 : (Jvm.Cond.instantiable "SqueezeQueue" (18 : Nat)) ∈ lw_all := lw_g (lw_at lw_m0 4 rfl) rfl
theorem q20 : (Jvm.Cond.instanceMethod ({ cls := "SqueezeQueue", name := "<init>", desc := "()V" } : Jvm.MethodName)) ∈ lw_all := lw_g (lw_at lw_m0 6 rfl) rfl
theorem q21 : (Jvm.Cond.code ({ cls := "SqueezeQueue", name := "<init>", desc := "()V" } : Jvm.MethodName) prog_1_method_1_code (1 : Nat) (Option.none : Option Jvm.ClassFile.FieldType)) ∈ lw_all := lw_g (lw_at lw_m0 7 rfl) rfl
theorem q22 : (Jvm.Cond.methodLink "SqueezeQueue" (1 : Nat) ({ cls := "java/lang/Object", name := "<init>", desc := "()V" } : Jvm.MethodName)) ∈ lw_all := lw_g (lw_at lw_m0 8 rfl) rfl
theorem q25 : (Jvm.Cond.fieldLink "SqueezeQueue" (23 : Nat) "SqueezeQueue" "draftLength" "I") ∈ lw_all := lw_g (lw_at lw_m0 11 rfl) rfl
theorem q26 : (Jvm.Cond.fieldLink "SqueezeQueue" (7 : Nat) "SqueezeQueue" "draft" "[I") ∈ lw_all := lw_g (lw_at lw_m0 12 rfl) rfl
theorem q27 : (Jvm.Cond.fieldLink "SqueezeQueue" (42 : Nat) "SqueezeQueue" "pageLength" "I") ∈ lw_all := lw_g (lw_at lw_m0 13 rfl) rfl
theorem q28 : (Jvm.Cond.fieldLink "SqueezeQueue" (13 : Nat) "SqueezeQueue" "page" "[I") ∈ lw_all := lw_g (lw_at lw_m0 14 rfl) rfl
theorem q29 : (Jvm.Cond.fieldLink "SqueezeQueue" (30 : Nat) "SqueezeQueue" "first" "I") ∈ lw_all := lw_g (lw_at lw_m0 15 rfl) rfl
theorem q30 : (Jvm.Cond.fieldLink "SqueezeQueue" (27 : Nat) "SqueezeQueue" "count" "I") ∈ lw_all := lw_g (lw_at lw_m0 16 rfl) rfl
theorem q31 : (Jvm.Cond.fieldLink "SqueezeQueue" (16 : Nat) "SqueezeQueue" "squeezed" "[B") ∈ lw_all := lw_g (lw_at lw_m0 17 rfl) rfl
theorem q32 : (Jvm.Cond.fieldLink "SqueezeQueue" (20 : Nat) "SqueezeQueue" "chance" "[I") ∈ lw_all := lw_g (lw_at lw_m0 18 rfl) rfl
theorem q33 : (Jvm.Cond.fieldLink "SqueezeQueue" (48 : Nat) "SqueezeQueue" "low" "J") ∈ lw_all := lw_g (lw_at lw_m0 19 rfl) rfl
theorem q34 : (Jvm.Cond.fieldLink "SqueezeQueue" (54 : Nat) "SqueezeQueue" "range" "J") ∈ lw_all := lw_g (lw_at lw_m0 20 rfl) rfl
theorem q35 : (Jvm.Cond.fieldLink "SqueezeQueue" (57 : Nat) "SqueezeQueue" "held" "I") ∈ lw_all := lw_g (lw_at lw_m0 21 rfl) rfl
theorem q36 : (Jvm.Cond.fieldLink "SqueezeQueue" (60 : Nat) "SqueezeQueue" "heldCount" "I") ∈ lw_all := lw_g (lw_at lw_m0 22 rfl) rfl
theorem q37 : (Jvm.Cond.fieldLink "SqueezeQueue" (33 : Nat) "SqueezeQueue" "base" "I") ∈ lw_all := lw_g (lw_at lw_m0 23 rfl) rfl
theorem q38 : (Jvm.Cond.fieldLink "SqueezeQueue" (63 : Nat) "SqueezeQueue" "written" "I") ∈ lw_all := lw_g (lw_at lw_m0 24 rfl) rfl
theorem q39 : (Jvm.Cond.fieldLink "SqueezeQueue" (103 : Nat) "SqueezeQueue" "code" "J") ∈ lw_all := lw_g (lw_at lw_m0 25 rfl) rfl
theorem q40 : (Jvm.Cond.fieldLink "SqueezeQueue" (106 : Nat) "SqueezeQueue" "readAt" "I") ∈ lw_all := lw_g (lw_at lw_m0 26 rfl) rfl
theorem q41 : (Jvm.Cond.fieldLink "SqueezeQueue" (74 : Nat) "SqueezeQueue" "matchLength" "I") ∈ lw_all := lw_g (lw_at lw_m0 27 rfl) rfl
theorem q42 : (Jvm.Cond.fieldLink "SqueezeQueue" (81 : Nat) "SqueezeQueue" "matchDistance" "I") ∈ lw_all := lw_g (lw_at lw_m0 28 rfl) rfl
theorem q43 : (Jvm.Cond.lays "SqueezeQueue" "SqueezeQueue" "draftLength" "I") ∈ lw_all := lw_g (lw_at lw_m0 29 rfl) rfl
theorem q44 : (Jvm.Cond.soleField "SqueezeQueue" "draftLength") ∈ lw_all := lw_g (lw_at lw_m0 30 rfl) rfl
theorem q45 : (Jvm.Cond.laysFinal "SqueezeQueue" "SqueezeQueue" "draft" "[I") ∈ lw_all := lw_g (lw_at lw_m0 31 rfl) rfl
theorem q46 : (Jvm.Cond.soleField "SqueezeQueue" "draft") ∈ lw_all := lw_g (lw_at lw_m0 32 rfl) rfl
theorem q47 : (Jvm.Cond.lays "SqueezeQueue" "SqueezeQueue" "pageLength" "I") ∈ lw_all := lw_g (lw_at lw_m0 33 rfl) rfl
theorem q48 : (Jvm.Cond.soleField "SqueezeQueue" "pageLength") ∈ lw_all := lw_g (lw_at lw_m0 34 rfl) rfl
theorem q49 : (Jvm.Cond.laysFinal "SqueezeQueue" "SqueezeQueue" "page" "[I") ∈ lw_all := lw_g (lw_at lw_m0 35 rfl) rfl
theorem q50 : (Jvm.Cond.soleField "SqueezeQueue" "page") ∈ lw_all := lw_g (lw_at lw_m0 36 rfl) rfl
theorem q51 : (Jvm.Cond.lays "SqueezeQueue" "SqueezeQueue" "first" "I") ∈ lw_all := lw_g (lw_at lw_m0 37 rfl) rfl
theorem q52 : (Jvm.Cond.soleField "SqueezeQueue" "first") ∈ lw_all := lw_g (lw_at lw_m0 38 rfl) rfl
theorem q53 : (Jvm.Cond.lays "SqueezeQueue" "SqueezeQueue" "count" "I") ∈ lw_all := lw_g (lw_at lw_m0 39 rfl) rfl
theorem q54 : (Jvm.Cond.soleField "SqueezeQueue" "count") ∈ lw_all := lw_g (lw_at lw_m0 40 rfl) rfl
theorem q55 : (Jvm.Cond.laysFinal "SqueezeQueue" "SqueezeQueue" "squeezed" "[B") ∈ lw_all := lw_g (lw_at lw_m0 41 rfl) rfl
theorem q56 : (Jvm.Cond.soleField "SqueezeQueue" "squeezed") ∈ lw_all := lw_g (lw_at lw_m0 42 rfl) rfl
theorem q57 : (Jvm.Cond.laysFinal "SqueezeQueue" "SqueezeQueue" "chance" "[I") ∈ lw_all := lw_g (lw_at lw_m0 43 rfl) rfl
theorem q58 : (Jvm.Cond.soleField "SqueezeQueue" "chance") ∈ lw_all := lw_g (lw_at lw_m0 44 rfl) rfl
theorem q59 : (Jvm.Cond.lays "SqueezeQueue" "SqueezeQueue" "low" "J") ∈ lw_all := lw_g (lw_at lw_m0 45 rfl) rfl
theorem q60 : (Jvm.Cond.soleField "SqueezeQueue" "low") ∈ lw_all := lw_g (lw_at lw_m0 46 rfl) rfl
theorem q61 : (Jvm.Cond.lays "SqueezeQueue" "SqueezeQueue" "range" "J") ∈ lw_all := lw_g (lw_at lw_m0 47 rfl) rfl
theorem q62 : (Jvm.Cond.soleField "SqueezeQueue" "range") ∈ lw_all := lw_g (lw_at lw_m0 48 rfl) rfl
theorem q63 : (Jvm.Cond.lays "SqueezeQueue" "SqueezeQueue" "held" "I") ∈ lw_all := lw_g (lw_at lw_m0 49 rfl) rfl
theorem q64 : (Jvm.Cond.soleField "SqueezeQueue" "held") ∈ lw_all := lw_g (lw_at lw_m0 50 rfl) rfl
theorem q65 : (Jvm.Cond.lays "SqueezeQueue" "SqueezeQueue" "heldCount" "I") ∈ lw_all := lw_g (lw_at lw_m0 51 rfl) rfl
theorem q66 : (Jvm.Cond.soleField "SqueezeQueue" "heldCount") ∈ lw_all := lw_g (lw_at lw_m0 52 rfl) rfl
theorem q67 : (Jvm.Cond.lays "SqueezeQueue" "SqueezeQueue" "base" "I") ∈ lw_all := lw_g (lw_at lw_m0 53 rfl) rfl
theorem q68 : (Jvm.Cond.soleField "SqueezeQueue" "base") ∈ lw_all := lw_g (lw_at lw_m0 54 rfl) rfl
theorem q69 : (Jvm.Cond.lays "SqueezeQueue" "SqueezeQueue" "written" "I") ∈ lw_all := lw_g (lw_at lw_m0 55 rfl) rfl
theorem q70 : (Jvm.Cond.soleField "SqueezeQueue" "written") ∈ lw_all := lw_g (lw_at lw_m0 56 rfl) rfl
theorem q71 : (Jvm.Cond.lays "SqueezeQueue" "SqueezeQueue" "code" "J") ∈ lw_all := lw_g (lw_at lw_m0 57 rfl) rfl
theorem q72 : (Jvm.Cond.soleField "SqueezeQueue" "code") ∈ lw_all := lw_g (lw_at lw_m0 58 rfl) rfl
theorem q73 : (Jvm.Cond.lays "SqueezeQueue" "SqueezeQueue" "readAt" "I") ∈ lw_all := lw_g (lw_at lw_m0 59 rfl) rfl
theorem q74 : (Jvm.Cond.soleField "SqueezeQueue" "readAt") ∈ lw_all := lw_g (lw_at lw_m0 60 rfl) rfl
theorem q75 : (Jvm.Cond.lays "SqueezeQueue" "SqueezeQueue" "matchLength" "I") ∈ lw_all := lw_g (lw_at lw_m0 61 rfl) rfl
theorem q76 : (Jvm.Cond.soleField "SqueezeQueue" "matchLength") ∈ lw_all := lw_g (lw_at lw_m0 62 rfl) rfl
theorem q77 : (Jvm.Cond.lays "SqueezeQueue" "SqueezeQueue" "matchDistance" "I") ∈ lw_all := lw_g (lw_at lw_m0 63 rfl) rfl
theorem q78 : (Jvm.Cond.soleField "SqueezeQueue" "matchDistance") ∈ lw_all := lw_g (lw_at lw_m0 64 rfl) rfl
theorem q79 : (Jvm.Cond.superclass "SqueezeQueue" "java/lang/Object") ∈ lw_all := lw_g (lw_at lw_m0 65 rfl) rfl
theorem q83 : (Jvm.Cond.instanceMethod ({ cls := "SqueezeQueue", name := "put", desc := "(I)I" } : Jvm.MethodName)) ∈ lw_all := lw_g (lw_at lw_m0 69 rfl) rfl
theorem q84 : (Jvm.Cond.selects "SqueezeQueue" ({ cls := "SqueezeQueue", name := "put", desc := "(I)I" } : Jvm.MethodName) ({ cls := "SqueezeQueue", name := "put", desc := "(I)I" } : Jvm.MethodName)) ∈ lw_all := lw_g (lw_at lw_m0 70 rfl) rfl
theorem q85 : (Jvm.Cond.code ({ cls := "SqueezeQueue", name := "put", desc := "(I)I" } : Jvm.MethodName) prog_1_method_2_code (2 : Nat) (Option.some Jvm.ClassFile.FieldType.int)) ∈ lw_all := lw_g (lw_at lw_m0 71 rfl) rfl
theorem q87 : (Jvm.Cond.instanceMethod ({ cls := "SqueezeQueue", name := "repeat", desc := "(II)I" } : Jvm.MethodName)) ∈ lw_all := lw_g (lw_at lw_m0 73 rfl) rfl
theorem q88 : (Jvm.Cond.selects "SqueezeQueue" ({ cls := "SqueezeQueue", name := "repeat", desc := "(II)I" } : Jvm.MethodName) ({ cls := "SqueezeQueue", name := "repeat", desc := "(II)I" } : Jvm.MethodName)) ∈ lw_all := lw_g (lw_at lw_m0 74 rfl) rfl
theorem q89 : (Jvm.Cond.code ({ cls := "SqueezeQueue", name := "repeat", desc := "(II)I" } : Jvm.MethodName) prog_1_method_3_code (4 : Nat) (Option.some Jvm.ClassFile.FieldType.int)) ∈ lw_all := lw_g (lw_at lw_m0 75 rfl) rfl
theorem q91 : (Jvm.Cond.instanceMethod ({ cls := "SqueezeQueue", name := "erase", desc := "()V" } : Jvm.MethodName)) ∈ lw_all := lw_g (lw_at lw_m0 77 rfl) rfl
theorem q92 : (Jvm.Cond.selects "SqueezeQueue" ({ cls := "SqueezeQueue", name := "erase", desc := "()V" } : Jvm.MethodName) ({ cls := "SqueezeQueue", name := "erase", desc := "()V" } : Jvm.MethodName)) ∈ lw_all := lw_g (lw_at lw_m0 78 rfl) rfl
theorem q93 : (Jvm.Cond.code ({ cls := "SqueezeQueue", name := "erase", desc := "()V" } : Jvm.MethodName) prog_1_method_4_code (1 : Nat) (Option.none : Option Jvm.ClassFile.FieldType)) ∈ lw_all := lw_g (lw_at lw_m0 79 rfl) rfl
theorem q95 : (Jvm.Cond.instanceMethod ({ cls := "SqueezeQueue", name := "send", desc := "()I" } : Jvm.MethodName)) ∈ lw_all := lw_g (lw_at lw_m0 81 rfl) rfl
theorem q96 : (Jvm.Cond.selects "SqueezeQueue" ({ cls := "SqueezeQueue", name := "send", desc := "()I" } : Jvm.MethodName) ({ cls := "SqueezeQueue", name := "send", desc := "()I" } : Jvm.MethodName)) ∈ lw_all := lw_g (lw_at lw_m0 82 rfl) rfl
theorem q97 : (Jvm.Cond.code ({ cls := "SqueezeQueue", name := "send", desc := "()I" } : Jvm.MethodName) prog_1_method_5_code (1 : Nat) (Option.some Jvm.ClassFile.FieldType.int)) ∈ lw_all := lw_g (lw_at lw_m0 83 rfl) rfl
theorem q98 : (Jvm.Cond.methodLink "SqueezeQueue" (36 : Nat) ({ cls := "SqueezeQueue", name := "squeeze", desc := "()V" } : Jvm.MethodName)) ∈ lw_all := lw_g (lw_at lw_m0 84 rfl) rfl
theorem q99 : (Jvm.Cond.privateMethod ({ cls := "SqueezeQueue", name := "squeeze", desc := "()V" } : Jvm.MethodName)) ∈ lw_tbl := lw_at lw_m0 85 rfl
theorem q100 : (Jvm.Cond.instanceMethod ({ cls := "SqueezeQueue", name := "squeeze", desc := "()V" } : Jvm.MethodName)) ∈ lw_all := lw_g (lw_at lw_m0 86 rfl) rfl
theorem q101 : (Jvm.Cond.code ({ cls := "SqueezeQueue", name := "squeeze", desc := "()V" } : Jvm.MethodName) prog_1_method_13_code (4 : Nat) (Option.none : Option Jvm.ClassFile.FieldType)) ∈ lw_all := lw_g (lw_at lw_m0 87 rfl) rfl
theorem q102 : (Jvm.Cond.methodLink "SqueezeQueue" (45 : Nat) ({ cls := "SqueezeQueue", name := "startChances", desc := "()V" } : Jvm.MethodName)) ∈ lw_all := lw_g (lw_at lw_m0 88 rfl) rfl
theorem q103 : (Jvm.Cond.privateMethod ({ cls := "SqueezeQueue", name := "startChances", desc := "()V" } : Jvm.MethodName)) ∈ lw_tbl := lw_at lw_m0 89 rfl
theorem q104 : (Jvm.Cond.instanceMethod ({ cls := "SqueezeQueue", name := "startChances", desc := "()V" } : Jvm.MethodName)) ∈ lw_all := lw_g (lw_at lw_m0 90 rfl) rfl
theorem q105 : (Jvm.Cond.code ({ cls := "SqueezeQueue", name := "startChances", desc := "()V" } : Jvm.MethodName) prog_1_method_12_code (2 : Nat) (Option.none : Option Jvm.ClassFile.FieldType)) ∈ lw_all := lw_g (lw_at lw_m0 91 rfl) rfl
theorem q106 : (Jvm.Cond.constantLong "SqueezeQueue" (52 : Nat) (4294967295 : Int64)) ∈ lw_all := lw_g (lw_at lw_m0 92 rfl) rfl
theorem q107 : (Jvm.Cond.methodLink "SqueezeQueue" (66 : Nat) ({ cls := "SqueezeQueue", name := "writeTree", desc := "(III)V" } : Jvm.MethodName)) ∈ lw_all := lw_g (lw_at lw_m0 93 rfl) rfl
theorem q108 : (Jvm.Cond.privateMethod ({ cls := "SqueezeQueue", name := "writeTree", desc := "(III)V" } : Jvm.MethodName)) ∈ lw_tbl := lw_at lw_m0 94 rfl
theorem q109 : (Jvm.Cond.instanceMethod ({ cls := "SqueezeQueue", name := "writeTree", desc := "(III)V" } : Jvm.MethodName)) ∈ lw_all := lw_g (lw_at lw_m0 95 rfl) rfl
theorem q110 : (Jvm.Cond.code ({ cls := "SqueezeQueue", name := "writeTree", desc := "(III)V" } : Jvm.MethodName) prog_1_method_16_code (7 : Nat) (Option.none : Option Jvm.ClassFile.FieldType)) ∈ lw_all := lw_g (lw_at lw_m0 96 rfl) rfl
theorem q111 : (Jvm.Cond.methodLink "SqueezeQueue" (77 : Nat) ({ cls := "SqueezeQueue", name := "writeBit", desc := "(II)V" } : Jvm.MethodName)) ∈ lw_all := lw_g (lw_at lw_m0 97 rfl) rfl
theorem q112 : (Jvm.Cond.privateMethod ({ cls := "SqueezeQueue", name := "writeBit", desc := "(II)V" } : Jvm.MethodName)) ∈ lw_tbl := lw_at lw_m0 98 rfl
theorem q113 : (Jvm.Cond.instanceMethod ({ cls := "SqueezeQueue", name := "writeBit", desc := "(II)V" } : Jvm.MethodName)) ∈ lw_all := lw_g (lw_at lw_m0 99 rfl) rfl
theorem q114 : (Jvm.Cond.code ({ cls := "SqueezeQueue", name := "writeBit", desc := "(II)V" } : Jvm.MethodName) prog_1_method_17_code (5 : Nat) (Option.none : Option Jvm.ClassFile.FieldType)) ∈ lw_all := lw_g (lw_at lw_m0 100 rfl) rfl
theorem q115 : (Jvm.Cond.methodLink "SqueezeQueue" (91 : Nat) ({ cls := "SqueezeQueue", name := "learn", desc := "(II)V" } : Jvm.MethodName)) ∈ lw_all := lw_g (lw_at lw_m0 101 rfl) rfl
theorem q116 : (Jvm.Cond.privateMethod ({ cls := "SqueezeQueue", name := "learn", desc := "(II)V" } : Jvm.MethodName)) ∈ lw_tbl := lw_at lw_m0 102 rfl
theorem q117 : (Jvm.Cond.instanceMethod ({ cls := "SqueezeQueue", name := "learn", desc := "(II)V" } : Jvm.MethodName)) ∈ lw_all := lw_g (lw_at lw_m0 103 rfl) rfl
theorem q118 : (Jvm.Cond.code ({ cls := "SqueezeQueue", name := "learn", desc := "(II)V" } : Jvm.MethodName) prog_1_method_18_code (3 : Nat) (Option.none : Option Jvm.ClassFile.FieldType)) ∈ lw_all := lw_g (lw_at lw_m0 104 rfl) rfl
theorem q119 : (Jvm.Cond.constantLong "SqueezeQueue" (94 : Nat) (16777216 : Int64)) ∈ lw_all := lw_g (lw_at lw_m0 105 rfl) rfl
theorem q120 : (Jvm.Cond.methodLink "SqueezeQueue" (84 : Nat) ({ cls := "SqueezeQueue", name := "shiftLow", desc := "()V" } : Jvm.MethodName)) ∈ lw_all := lw_g (lw_at lw_m0 106 rfl) rfl
theorem q121 : (Jvm.Cond.privateMethod ({ cls := "SqueezeQueue", name := "shiftLow", desc := "()V" } : Jvm.MethodName)) ∈ lw_tbl := lw_at lw_m0 107 rfl
theorem q122 : (Jvm.Cond.instanceMethod ({ cls := "SqueezeQueue", name := "shiftLow", desc := "()V" } : Jvm.MethodName)) ∈ lw_all := lw_g (lw_at lw_m0 108 rfl) rfl
theorem q123 : (Jvm.Cond.code ({ cls := "SqueezeQueue", name := "shiftLow", desc := "()V" } : Jvm.MethodName) prog_1_method_19_code (4 : Nat) (Option.none : Option Jvm.ClassFile.FieldType)) ∈ lw_all := lw_g (lw_at lw_m0 109 rfl) rfl
theorem q124 : (Jvm.Cond.constantLong "SqueezeQueue" (96 : Nat) (4278190080 : Int64)) ∈ lw_all := lw_g (lw_at lw_m0 110 rfl) rfl
theorem q125 : (Jvm.Cond.methodLink "SqueezeQueue" (98 : Nat) ({ cls := "SqueezeQueue", name := "putByte", desc := "(I)V" } : Jvm.MethodName)) ∈ lw_all := lw_g (lw_at lw_m0 111 rfl) rfl
theorem q126 : (Jvm.Cond.privateMethod ({ cls := "SqueezeQueue", name := "putByte", desc := "(I)V" } : Jvm.MethodName)) ∈ lw_tbl := lw_at lw_m0 112 rfl
theorem q127 : (Jvm.Cond.instanceMethod ({ cls := "SqueezeQueue", name := "putByte", desc := "(I)V" } : Jvm.MethodName)) ∈ lw_all := lw_g (lw_at lw_m0 113 rfl) rfl
theorem q128 : (Jvm.Cond.code ({ cls := "SqueezeQueue", name := "putByte", desc := "(I)V" } : Jvm.MethodName) prog_1_method_20_code (2 : Nat) (Option.none : Option Jvm.ClassFile.FieldType)) ∈ lw_all := lw_g (lw_at lw_m0 114 rfl) rfl
theorem q129 : (Jvm.Cond.constantLong "SqueezeQueue" (101 : Nat) (16777215 : Int64)) ∈ lw_all := lw_g (lw_at lw_m0 115 rfl) rfl
theorem q130 : (Jvm.Cond.methodLink "SqueezeQueue" (70 : Nat) ({ cls := "SqueezeQueue", name := "findMatch", desc := "(I)V" } : Jvm.MethodName)) ∈ lw_all := lw_g (lw_at lw_m0 116 rfl) rfl
theorem q131 : (Jvm.Cond.privateMethod ({ cls := "SqueezeQueue", name := "findMatch", desc := "(I)V" } : Jvm.MethodName)) ∈ lw_tbl := lw_at lw_m0 117 rfl
theorem q132 : (Jvm.Cond.instanceMethod ({ cls := "SqueezeQueue", name := "findMatch", desc := "(I)V" } : Jvm.MethodName)) ∈ lw_all := lw_g (lw_at lw_m0 118 rfl) rfl
theorem q133 : (Jvm.Cond.code ({ cls := "SqueezeQueue", name := "findMatch", desc := "(I)V" } : Jvm.MethodName) prog_1_method_14_code (4 : Nat) (Option.none : Option Jvm.ClassFile.FieldType)) ∈ lw_all := lw_g (lw_at lw_m0 119 rfl) rfl
theorem q134 : (Jvm.Cond.methodLink "SqueezeQueue" (87 : Nat) ({ cls := "SqueezeQueue", name := "matchAt", desc := "(II)I" } : Jvm.MethodName)) ∈ lw_all := lw_g (lw_at lw_m0 120 rfl) rfl
theorem q135 : (Jvm.Cond.privateMethod ({ cls := "SqueezeQueue", name := "matchAt", desc := "(II)I" } : Jvm.MethodName)) ∈ lw_tbl := lw_at lw_m0 121 rfl
theorem q136 : (Jvm.Cond.instanceMethod ({ cls := "SqueezeQueue", name := "matchAt", desc := "(II)I" } : Jvm.MethodName)) ∈ lw_all := lw_g (lw_at lw_m0 122 rfl) rfl
theorem q137 : (Jvm.Cond.code ({ cls := "SqueezeQueue", name := "matchAt", desc := "(II)I" } : Jvm.MethodName) prog_1_method_15_code (4 : Nat) (Option.some Jvm.ClassFile.FieldType.int)) ∈ lw_all := lw_g (lw_at lw_m0 123 rfl) rfl
theorem q139 : (Jvm.Cond.instanceMethod ({ cls := "SqueezeQueue", name := "receive", desc := "()I" } : Jvm.MethodName)) ∈ lw_all := lw_g (lw_at lw_m0 125 rfl) rfl
theorem q140 : (Jvm.Cond.selects "SqueezeQueue" ({ cls := "SqueezeQueue", name := "receive", desc := "()I" } : Jvm.MethodName) ({ cls := "SqueezeQueue", name := "receive", desc := "()I" } : Jvm.MethodName)) ∈ lw_all := lw_g (lw_at lw_m0 126 rfl) rfl
theorem q141 : (Jvm.Cond.code ({ cls := "SqueezeQueue", name := "receive", desc := "()I" } : Jvm.MethodName) prog_1_method_6_code (1 : Nat) (Option.some Jvm.ClassFile.FieldType.int)) ∈ lw_all := lw_g (lw_at lw_m0 127 rfl) rfl
theorem q142 : (Jvm.Cond.methodLink "SqueezeQueue" (39 : Nat) ({ cls := "SqueezeQueue", name := "unsqueeze", desc := "()V" } : Jvm.MethodName)) ∈ lw_all := lw_g (lw_at lw_m0 128 rfl) rfl
theorem q143 : (Jvm.Cond.privateMethod ({ cls := "SqueezeQueue", name := "unsqueeze", desc := "()V" } : Jvm.MethodName)) ∈ lw_tbl := lw_at lw_m0 129 rfl
theorem q144 : (Jvm.Cond.instanceMethod ({ cls := "SqueezeQueue", name := "unsqueeze", desc := "()V" } : Jvm.MethodName)) ∈ lw_all := lw_g (lw_at lw_m0 130 rfl) rfl
theorem q145 : (Jvm.Cond.code ({ cls := "SqueezeQueue", name := "unsqueeze", desc := "()V" } : Jvm.MethodName) prog_1_method_21_code (6 : Nat) (Option.none : Option Jvm.ClassFile.FieldType)) ∈ lw_all := lw_g (lw_at lw_m0 131 rfl) rfl
theorem q146 : (Jvm.Cond.methodLink "SqueezeQueue" (109 : Nat) ({ cls := "SqueezeQueue", name := "takeByte", desc := "()I" } : Jvm.MethodName)) ∈ lw_all := lw_g (lw_at lw_m0 132 rfl) rfl
theorem q147 : (Jvm.Cond.privateMethod ({ cls := "SqueezeQueue", name := "takeByte", desc := "()I" } : Jvm.MethodName)) ∈ lw_tbl := lw_at lw_m0 133 rfl
theorem q148 : (Jvm.Cond.instanceMethod ({ cls := "SqueezeQueue", name := "takeByte", desc := "()I" } : Jvm.MethodName)) ∈ lw_all := lw_g (lw_at lw_m0 134 rfl) rfl
theorem q149 : (Jvm.Cond.code ({ cls := "SqueezeQueue", name := "takeByte", desc := "()I" } : Jvm.MethodName) prog_1_method_23_code (2 : Nat) (Option.some Jvm.ClassFile.FieldType.int)) ∈ lw_all := lw_g (lw_at lw_m0 135 rfl) rfl
theorem q150 : (Jvm.Cond.methodLink "SqueezeQueue" (113 : Nat) ({ cls := "SqueezeQueue", name := "readTree", desc := "(II)I" } : Jvm.MethodName)) ∈ lw_all := lw_g (lw_at lw_m0 136 rfl) rfl
theorem q151 : (Jvm.Cond.privateMethod ({ cls := "SqueezeQueue", name := "readTree", desc := "(II)I" } : Jvm.MethodName)) ∈ lw_tbl := lw_at lw_m0 137 rfl
theorem q152 : (Jvm.Cond.instanceMethod ({ cls := "SqueezeQueue", name := "readTree", desc := "(II)I" } : Jvm.MethodName)) ∈ lw_all := lw_g (lw_at lw_m0 138 rfl) rfl
theorem q153 : (Jvm.Cond.code ({ cls := "SqueezeQueue", name := "readTree", desc := "(II)I" } : Jvm.MethodName) prog_1_method_24_code (6 : Nat) (Option.some Jvm.ClassFile.FieldType.int)) ∈ lw_all := lw_g (lw_at lw_m0 139 rfl) rfl
theorem q154 : (Jvm.Cond.methodLink "SqueezeQueue" (116 : Nat) ({ cls := "SqueezeQueue", name := "readBit", desc := "(I)I" } : Jvm.MethodName)) ∈ lw_all := lw_g (lw_at lw_m0 140 rfl) rfl
theorem q155 : (Jvm.Cond.privateMethod ({ cls := "SqueezeQueue", name := "readBit", desc := "(I)I" } : Jvm.MethodName)) ∈ lw_tbl := lw_at lw_m0 141 rfl
theorem q156 : (Jvm.Cond.instanceMethod ({ cls := "SqueezeQueue", name := "readBit", desc := "(I)I" } : Jvm.MethodName)) ∈ lw_all := lw_g (lw_at lw_m0 142 rfl) rfl
theorem q157 : (Jvm.Cond.code ({ cls := "SqueezeQueue", name := "readBit", desc := "(I)I" } : Jvm.MethodName) prog_1_method_25_code (6 : Nat) (Option.some Jvm.ClassFile.FieldType.int)) ∈ lw_all := lw_g (lw_at lw_m0 143 rfl) rfl
theorem q158 : (Jvm.Cond.methodLink "SqueezeQueue" (120 : Nat) ({ cls := "SqueezeQueue", name := "copyBack", desc := "(II)V" } : Jvm.MethodName)) ∈ lw_all := lw_g (lw_at lw_m0 144 rfl) rfl
theorem q159 : (Jvm.Cond.privateMethod ({ cls := "SqueezeQueue", name := "copyBack", desc := "(II)V" } : Jvm.MethodName)) ∈ lw_tbl := lw_at lw_m0 145 rfl
theorem q160 : (Jvm.Cond.instanceMethod ({ cls := "SqueezeQueue", name := "copyBack", desc := "(II)V" } : Jvm.MethodName)) ∈ lw_all := lw_g (lw_at lw_m0 146 rfl) rfl
theorem q161 : (Jvm.Cond.code ({ cls := "SqueezeQueue", name := "copyBack", desc := "(II)V" } : Jvm.MethodName) prog_1_method_22_code (4 : Nat) (Option.none : Option Jvm.ClassFile.FieldType)) ∈ lw_all := lw_g (lw_at lw_m0 147 rfl) rfl
theorem q163 : (Jvm.Cond.instanceMethod ({ cls := "SqueezeQueue", name := "at", desc := "(I)I" } : Jvm.MethodName)) ∈ lw_all := lw_g (lw_at lw_m0 149 rfl) rfl
theorem q164 : (Jvm.Cond.selects "SqueezeQueue" ({ cls := "SqueezeQueue", name := "at", desc := "(I)I" } : Jvm.MethodName) ({ cls := "SqueezeQueue", name := "at", desc := "(I)I" } : Jvm.MethodName)) ∈ lw_all := lw_g (lw_at lw_m0 150 rfl) rfl
theorem q165 : (Jvm.Cond.code ({ cls := "SqueezeQueue", name := "at", desc := "(I)I" } : Jvm.MethodName) prog_1_method_7_code (2 : Nat) (Option.some Jvm.ClassFile.FieldType.int)) ∈ lw_all := lw_g (lw_at lw_m0 151 rfl) rfl
theorem q167 : (Jvm.Cond.instanceMethod ({ cls := "SqueezeQueue", name := "length", desc := "()I" } : Jvm.MethodName)) ∈ lw_all := lw_g (lw_at lw_m0 153 rfl) rfl
theorem q168 : (Jvm.Cond.selects "SqueezeQueue" ({ cls := "SqueezeQueue", name := "length", desc := "()I" } : Jvm.MethodName) ({ cls := "SqueezeQueue", name := "length", desc := "()I" } : Jvm.MethodName)) ∈ lw_all := lw_g (lw_at lw_m0 154 rfl) rfl
theorem q169 : (Jvm.Cond.code ({ cls := "SqueezeQueue", name := "length", desc := "()I" } : Jvm.MethodName) prog_1_method_8_code (1 : Nat) (Option.some Jvm.ClassFile.FieldType.int)) ∈ lw_all := lw_g (lw_at lw_m0 155 rfl) rfl
theorem q171 : (Jvm.Cond.instanceMethod ({ cls := "SqueezeQueue", name := "blocks", desc := "()I" } : Jvm.MethodName)) ∈ lw_all := lw_g (lw_at lw_m0 157 rfl) rfl
theorem q172 : (Jvm.Cond.selects "SqueezeQueue" ({ cls := "SqueezeQueue", name := "blocks", desc := "()I" } : Jvm.MethodName) ({ cls := "SqueezeQueue", name := "blocks", desc := "()I" } : Jvm.MethodName)) ∈ lw_all := lw_g (lw_at lw_m0 158 rfl) rfl
theorem q173 : (Jvm.Cond.code ({ cls := "SqueezeQueue", name := "blocks", desc := "()I" } : Jvm.MethodName) prog_1_method_9_code (1 : Nat) (Option.some Jvm.ClassFile.FieldType.int)) ∈ lw_all := lw_g (lw_at lw_m0 159 rfl) rfl
theorem q175 : (Jvm.Cond.instanceMethod ({ cls := "SqueezeQueue", name := "find", desc := "(II)I" } : Jvm.MethodName)) ∈ lw_all := lw_g (lw_at lw_m0 161 rfl) rfl
theorem q176 : (Jvm.Cond.selects "SqueezeQueue" ({ cls := "SqueezeQueue", name := "find", desc := "(II)I" } : Jvm.MethodName) ({ cls := "SqueezeQueue", name := "find", desc := "(II)I" } : Jvm.MethodName)) ∈ lw_all := lw_g (lw_at lw_m0 162 rfl) rfl
theorem q177 : (Jvm.Cond.code ({ cls := "SqueezeQueue", name := "find", desc := "(II)I" } : Jvm.MethodName) prog_1_method_10_code (4 : Nat) (Option.some Jvm.ClassFile.FieldType.int)) ∈ lw_all := lw_g (lw_at lw_m0 163 rfl) rfl
theorem q179 : (Jvm.Cond.instanceMethod ({ cls := "SqueezeQueue", name := "edit", desc := "()V" } : Jvm.MethodName)) ∈ lw_all := lw_g (lw_at lw_m0 165 rfl) rfl
theorem q180 : (Jvm.Cond.selects "SqueezeQueue" ({ cls := "SqueezeQueue", name := "edit", desc := "()V" } : Jvm.MethodName) ({ cls := "SqueezeQueue", name := "edit", desc := "()V" } : Jvm.MethodName)) ∈ lw_all := lw_g (lw_at lw_m0 166 rfl) rfl
theorem q181 : (Jvm.Cond.code ({ cls := "SqueezeQueue", name := "edit", desc := "()V" } : Jvm.MethodName) prog_1_method_11_code (2 : Nat) (Option.none : Option Jvm.ClassFile.FieldType)) ∈ lw_all := lw_g (lw_at lw_m0 167 rfl) rfl
theorem in_X0 : ∀ w ∈ wsX00, w ∈ lw_all := lw_in wsX00 [43, 45, 47, 49, 51, 53, 55, 57, 59, 61, 63, 65, 67, 69, 71, 73, 75, 77] (by decide +kernel) (by decide +kernel)
end
section
/-! SqueezeQueueModel -/
set_option maxRecDepth 100000
def RX1 : String := "SqueezeQueueModel"
def TX1 : u_T := fun k => match k with
  | 0 => ("SqueezeQueueModel", "draft", "[I", true)
  | 1 => ("SqueezeQueueModel", "drafted", "I", false)
  | 2 => ("SqueezeQueueModel", "page", "[I", true)
  | 3 => ("SqueezeQueueModel", "paged", "I", false)
  | 4 => ("SqueezeQueueModel", "queue", "[I", true)
  | 5 => ("SqueezeQueueModel", "lengths", "[I", true)
  | _ => ("SqueezeQueueModel", "blocks", "I", false)
def tyX1 : Nat → FieldType := fun k => match k with
  | 0 => .array .int
  | 1 => .int
  | 2 => .array .int
  | 3 => .int
  | 4 => .array .int
  | 5 => .array .int
  | _ => .int
abbrev wsX10 : List Cond := u_ws RX1 TX1 7
theorem nmX1 : ∀ a, a < 7 → ∀ b, b < 7 → a ≠ b → (TX1 a).2.1 ≠ (TX1 b).2.1 := by decide +kernel
theorem tyX1_ok : ∀ k, k < 7 → parseFieldDescriptor (TX1 k).2.2.1 = some (tyX1 k) := by decide +kernel
abbrev cX1_init : ByteArray := prog_3_method_1_code
def yX1_init : MethodName := ⟨RX1, "<init>", "()V"⟩
theorem dX1_init_0 : decode cX1_init 0 = .ok (.aload_n 0, 1) := by decide +kernel
theorem dX1_init_1 : decode cX1_init 1 = .ok (.invokespecial 1, 3) := by decide +kernel
theorem dX1_init_4 : decode cX1_init 4 = .ok (.aload_n 0, 1) := by decide +kernel
theorem dX1_init_5 : decode cX1_init 5 = .ok (.bipush 48, 2) := by decide +kernel
theorem dX1_init_7 : decode cX1_init 7 = .ok (.newarray .int, 2) := by decide +kernel
theorem dX1_init_9 : decode cX1_init 9 = .ok (.putfield 7, 3) := by decide +kernel
theorem dX1_init_12 : decode cX1_init 12 = .ok (.aload_n 0, 1) := by decide +kernel
theorem dX1_init_13 : decode cX1_init 13 = .ok (.bipush 48, 2) := by decide +kernel
theorem dX1_init_15 : decode cX1_init 15 = .ok (.newarray .int, 2) := by decide +kernel
theorem dX1_init_17 : decode cX1_init 17 = .ok (.putfield 13, 3) := by decide +kernel
theorem dX1_init_20 : decode cX1_init 20 = .ok (.aload_n 0, 1) := by decide +kernel
theorem dX1_init_21 : decode cX1_init 21 = .ok (.sipush 192, 3) := by decide +kernel
theorem dX1_init_24 : decode cX1_init 24 = .ok (.newarray .int, 2) := by decide +kernel
theorem dX1_init_26 : decode cX1_init 26 = .ok (.putfield 16, 3) := by decide +kernel
theorem dX1_init_29 : decode cX1_init 29 = .ok (.aload_n 0, 1) := by decide +kernel
theorem dX1_init_30 : decode cX1_init 30 = .ok (.iconst 4, 1) := by decide +kernel
theorem dX1_init_31 : decode cX1_init 31 = .ok (.newarray .int, 2) := by decide +kernel
theorem dX1_init_33 : decode cX1_init 33 = .ok (.putfield 19, 3) := by decide +kernel
theorem dX1_init_36 : decode cX1_init 36 = .ok (.return_, 1) := by decide +kernel
abbrev cX1_put : ByteArray := prog_3_method_2_code
def yX1_put : MethodName := ⟨RX1, "put", "(I)I"⟩
theorem dX1_put_0 : decode cX1_put 0 = .ok (.aload_n 0, 1) := by decide +kernel
theorem dX1_put_1 : decode cX1_put 1 = .ok (.getfield 22, 3) := by decide +kernel
theorem dX1_put_4 : decode cX1_put 4 = .ok (.bipush 48, 2) := by decide +kernel
theorem dX1_put_6 : decode cX1_put 6 = .ok (.if_icmp .ne 5, 3) := by decide +kernel
theorem dX1_put_9 : decode cX1_put 9 = .ok (.iconst (-1), 1) := by decide +kernel
theorem dX1_put_10 : decode cX1_put 10 = .ok (.ireturn, 1) := by decide +kernel
theorem dX1_put_11 : decode cX1_put 11 = .ok (.aload_n 0, 1) := by decide +kernel
theorem dX1_put_12 : decode cX1_put 12 = .ok (.getfield 7, 3) := by decide +kernel
theorem dX1_put_15 : decode cX1_put 15 = .ok (.aload_n 0, 1) := by decide +kernel
theorem dX1_put_16 : decode cX1_put 16 = .ok (.getfield 22, 3) := by decide +kernel
theorem dX1_put_19 : decode cX1_put 19 = .ok (.iload_n 1, 1) := by decide +kernel
theorem dX1_put_20 : decode cX1_put 20 = .ok (.sipush 255, 3) := by decide +kernel
theorem dX1_put_23 : decode cX1_put 23 = .ok (.iand, 1) := by decide +kernel
theorem dX1_put_24 : decode cX1_put 24 = .ok (.iastore, 1) := by decide +kernel
theorem dX1_put_25 : decode cX1_put 25 = .ok (.aload_n 0, 1) := by decide +kernel
theorem dX1_put_26 : decode cX1_put 26 = .ok (.dup, 1) := by decide +kernel
theorem dX1_put_27 : decode cX1_put 27 = .ok (.getfield 22, 3) := by decide +kernel
theorem dX1_put_30 : decode cX1_put 30 = .ok (.iconst 1, 1) := by decide +kernel
theorem dX1_put_31 : decode cX1_put 31 = .ok (.iadd, 1) := by decide +kernel
theorem dX1_put_32 : decode cX1_put 32 = .ok (.putfield 22, 3) := by decide +kernel
theorem dX1_put_35 : decode cX1_put 35 = .ok (.aload_n 0, 1) := by decide +kernel
theorem dX1_put_36 : decode cX1_put 36 = .ok (.getfield 22, 3) := by decide +kernel
theorem dX1_put_39 : decode cX1_put 39 = .ok (.ireturn, 1) := by decide +kernel
abbrev cX1_repeat : ByteArray := prog_3_method_3_code
def yX1_repeat : MethodName := ⟨RX1, "repeat", "(II)I"⟩
theorem dX1_repeat_0 : decode cX1_repeat 0 = .ok (.iload_n 1, 1) := by decide +kernel
theorem dX1_repeat_1 : decode cX1_repeat 1 = .ok (.iconst 1, 1) := by decide +kernel
theorem dX1_repeat_2 : decode cX1_repeat 2 = .ok (.if_icmp .lt 27, 3) := by decide +kernel
theorem dX1_repeat_5 : decode cX1_repeat 5 = .ok (.iload_n 1, 1) := by decide +kernel
theorem dX1_repeat_6 : decode cX1_repeat 6 = .ok (.aload_n 0, 1) := by decide +kernel
theorem dX1_repeat_7 : decode cX1_repeat 7 = .ok (.getfield 22, 3) := by decide +kernel
theorem dX1_repeat_10 : decode cX1_repeat 10 = .ok (.if_icmp .gt 19, 3) := by decide +kernel
theorem dX1_repeat_13 : decode cX1_repeat 13 = .ok (.iload_n 2, 1) := by decide +kernel
theorem dX1_repeat_14 : decode cX1_repeat 14 = .ok (.iconst 1, 1) := by decide +kernel
theorem dX1_repeat_15 : decode cX1_repeat 15 = .ok (.if_icmp .lt 14, 3) := by decide +kernel
theorem dX1_repeat_18 : decode cX1_repeat 18 = .ok (.iload_n 2, 1) := by decide +kernel
theorem dX1_repeat_19 : decode cX1_repeat 19 = .ok (.bipush 48, 2) := by decide +kernel
theorem dX1_repeat_21 : decode cX1_repeat 21 = .ok (.aload_n 0, 1) := by decide +kernel
theorem dX1_repeat_22 : decode cX1_repeat 22 = .ok (.getfield 22, 3) := by decide +kernel
theorem dX1_repeat_25 : decode cX1_repeat 25 = .ok (.isub, 1) := by decide +kernel
theorem dX1_repeat_26 : decode cX1_repeat 26 = .ok (.if_icmp .le 5, 3) := by decide +kernel
theorem dX1_repeat_29 : decode cX1_repeat 29 = .ok (.iconst (-1), 1) := by decide +kernel
theorem dX1_repeat_30 : decode cX1_repeat 30 = .ok (.ireturn, 1) := by decide +kernel
theorem dX1_repeat_31 : decode cX1_repeat 31 = .ok (.iconst 0, 1) := by decide +kernel
theorem dX1_repeat_32 : decode cX1_repeat 32 = .ok (.istore_n 3, 1) := by decide +kernel
theorem dX1_repeat_33 : decode cX1_repeat 33 = .ok (.iload_n 3, 1) := by decide +kernel
theorem dX1_repeat_34 : decode cX1_repeat 34 = .ok (.iload_n 2, 1) := by decide +kernel
theorem dX1_repeat_35 : decode cX1_repeat 35 = .ok (.if_icmp .ge 39, 3) := by decide +kernel
theorem dX1_repeat_38 : decode cX1_repeat 38 = .ok (.aload_n 0, 1) := by decide +kernel
theorem dX1_repeat_39 : decode cX1_repeat 39 = .ok (.getfield 7, 3) := by decide +kernel
theorem dX1_repeat_42 : decode cX1_repeat 42 = .ok (.aload_n 0, 1) := by decide +kernel
theorem dX1_repeat_43 : decode cX1_repeat 43 = .ok (.getfield 22, 3) := by decide +kernel
theorem dX1_repeat_46 : decode cX1_repeat 46 = .ok (.aload_n 0, 1) := by decide +kernel
theorem dX1_repeat_47 : decode cX1_repeat 47 = .ok (.getfield 7, 3) := by decide +kernel
theorem dX1_repeat_50 : decode cX1_repeat 50 = .ok (.aload_n 0, 1) := by decide +kernel
theorem dX1_repeat_51 : decode cX1_repeat 51 = .ok (.getfield 22, 3) := by decide +kernel
theorem dX1_repeat_54 : decode cX1_repeat 54 = .ok (.iload_n 1, 1) := by decide +kernel
theorem dX1_repeat_55 : decode cX1_repeat 55 = .ok (.isub, 1) := by decide +kernel
theorem dX1_repeat_56 : decode cX1_repeat 56 = .ok (.iaload, 1) := by decide +kernel
theorem dX1_repeat_57 : decode cX1_repeat 57 = .ok (.iastore, 1) := by decide +kernel
theorem dX1_repeat_58 : decode cX1_repeat 58 = .ok (.aload_n 0, 1) := by decide +kernel
theorem dX1_repeat_59 : decode cX1_repeat 59 = .ok (.dup, 1) := by decide +kernel
theorem dX1_repeat_60 : decode cX1_repeat 60 = .ok (.getfield 22, 3) := by decide +kernel
theorem dX1_repeat_63 : decode cX1_repeat 63 = .ok (.iconst 1, 1) := by decide +kernel
theorem dX1_repeat_64 : decode cX1_repeat 64 = .ok (.iadd, 1) := by decide +kernel
theorem dX1_repeat_65 : decode cX1_repeat 65 = .ok (.putfield 22, 3) := by decide +kernel
theorem dX1_repeat_68 : decode cX1_repeat 68 = .ok (.iinc 3 1, 3) := by decide +kernel
theorem dX1_repeat_71 : decode cX1_repeat 71 = .ok (.goto (-38), 3) := by decide +kernel
theorem dX1_repeat_74 : decode cX1_repeat 74 = .ok (.aload_n 0, 1) := by decide +kernel
theorem dX1_repeat_75 : decode cX1_repeat 75 = .ok (.getfield 22, 3) := by decide +kernel
theorem dX1_repeat_78 : decode cX1_repeat 78 = .ok (.ireturn, 1) := by decide +kernel
abbrev cX1_erase : ByteArray := prog_3_method_4_code
def yX1_erase : MethodName := ⟨RX1, "erase", "()V"⟩
theorem dX1_erase_0 : decode cX1_erase 0 = .ok (.aload_n 0, 1) := by decide +kernel
theorem dX1_erase_1 : decode cX1_erase 1 = .ok (.iconst 0, 1) := by decide +kernel
theorem dX1_erase_2 : decode cX1_erase 2 = .ok (.putfield 22, 3) := by decide +kernel
theorem dX1_erase_5 : decode cX1_erase 5 = .ok (.return_, 1) := by decide +kernel
abbrev cX1_send : ByteArray := prog_3_method_5_code
def yX1_send : MethodName := ⟨RX1, "send", "()I"⟩
theorem dX1_send_0 : decode cX1_send 0 = .ok (.aload_n 0, 1) := by decide +kernel
theorem dX1_send_1 : decode cX1_send 1 = .ok (.getfield 26, 3) := by decide +kernel
theorem dX1_send_4 : decode cX1_send 4 = .ok (.iconst 4, 1) := by decide +kernel
theorem dX1_send_5 : decode cX1_send 5 = .ok (.if_icmp .ne 5, 3) := by decide +kernel
theorem dX1_send_8 : decode cX1_send 8 = .ok (.iconst (-1), 1) := by decide +kernel
theorem dX1_send_9 : decode cX1_send 9 = .ok (.ireturn, 1) := by decide +kernel
theorem dX1_send_10 : decode cX1_send 10 = .ok (.iconst 0, 1) := by decide +kernel
theorem dX1_send_11 : decode cX1_send 11 = .ok (.istore_n 1, 1) := by decide +kernel
theorem dX1_send_12 : decode cX1_send 12 = .ok (.iload_n 1, 1) := by decide +kernel
theorem dX1_send_13 : decode cX1_send 13 = .ok (.aload_n 0, 1) := by decide +kernel
theorem dX1_send_14 : decode cX1_send 14 = .ok (.getfield 22, 3) := by decide +kernel
theorem dX1_send_17 : decode cX1_send 17 = .ok (.if_icmp .ge 29, 3) := by decide +kernel
theorem dX1_send_20 : decode cX1_send 20 = .ok (.aload_n 0, 1) := by decide +kernel
theorem dX1_send_21 : decode cX1_send 21 = .ok (.getfield 16, 3) := by decide +kernel
theorem dX1_send_24 : decode cX1_send 24 = .ok (.bipush 48, 2) := by decide +kernel
theorem dX1_send_26 : decode cX1_send 26 = .ok (.aload_n 0, 1) := by decide +kernel
theorem dX1_send_27 : decode cX1_send 27 = .ok (.getfield 26, 3) := by decide +kernel
theorem dX1_send_30 : decode cX1_send 30 = .ok (.imul, 1) := by decide +kernel
theorem dX1_send_31 : decode cX1_send 31 = .ok (.iload_n 1, 1) := by decide +kernel
theorem dX1_send_32 : decode cX1_send 32 = .ok (.iadd, 1) := by decide +kernel
theorem dX1_send_33 : decode cX1_send 33 = .ok (.aload_n 0, 1) := by decide +kernel
theorem dX1_send_34 : decode cX1_send 34 = .ok (.getfield 7, 3) := by decide +kernel
theorem dX1_send_37 : decode cX1_send 37 = .ok (.iload_n 1, 1) := by decide +kernel
theorem dX1_send_38 : decode cX1_send 38 = .ok (.iaload, 1) := by decide +kernel
theorem dX1_send_39 : decode cX1_send 39 = .ok (.iastore, 1) := by decide +kernel
theorem dX1_send_40 : decode cX1_send 40 = .ok (.iinc 1 1, 3) := by decide +kernel
theorem dX1_send_43 : decode cX1_send 43 = .ok (.goto (-31), 3) := by decide +kernel
theorem dX1_send_46 : decode cX1_send 46 = .ok (.aload_n 0, 1) := by decide +kernel
theorem dX1_send_47 : decode cX1_send 47 = .ok (.getfield 19, 3) := by decide +kernel
theorem dX1_send_50 : decode cX1_send 50 = .ok (.aload_n 0, 1) := by decide +kernel
theorem dX1_send_51 : decode cX1_send 51 = .ok (.getfield 26, 3) := by decide +kernel
theorem dX1_send_54 : decode cX1_send 54 = .ok (.aload_n 0, 1) := by decide +kernel
theorem dX1_send_55 : decode cX1_send 55 = .ok (.getfield 22, 3) := by decide +kernel
theorem dX1_send_58 : decode cX1_send 58 = .ok (.iastore, 1) := by decide +kernel
theorem dX1_send_59 : decode cX1_send 59 = .ok (.aload_n 0, 1) := by decide +kernel
theorem dX1_send_60 : decode cX1_send 60 = .ok (.dup, 1) := by decide +kernel
theorem dX1_send_61 : decode cX1_send 61 = .ok (.getfield 26, 3) := by decide +kernel
theorem dX1_send_64 : decode cX1_send 64 = .ok (.iconst 1, 1) := by decide +kernel
theorem dX1_send_65 : decode cX1_send 65 = .ok (.iadd, 1) := by decide +kernel
theorem dX1_send_66 : decode cX1_send 66 = .ok (.putfield 26, 3) := by decide +kernel
theorem dX1_send_69 : decode cX1_send 69 = .ok (.aload_n 0, 1) := by decide +kernel
theorem dX1_send_70 : decode cX1_send 70 = .ok (.getfield 26, 3) := by decide +kernel
theorem dX1_send_73 : decode cX1_send 73 = .ok (.ireturn, 1) := by decide +kernel
abbrev cX1_receive : ByteArray := prog_3_method_6_code
def yX1_receive : MethodName := ⟨RX1, "receive", "()I"⟩
theorem dX1_receive_0 : decode cX1_receive 0 = .ok (.aload_n 0, 1) := by decide +kernel
theorem dX1_receive_1 : decode cX1_receive 1 = .ok (.getfield 26, 3) := by decide +kernel
theorem dX1_receive_4 : decode cX1_receive 4 = .ok (.ifCond .ne 5, 3) := by decide +kernel
theorem dX1_receive_7 : decode cX1_receive 7 = .ok (.iconst (-1), 1) := by decide +kernel
theorem dX1_receive_8 : decode cX1_receive 8 = .ok (.ireturn, 1) := by decide +kernel
theorem dX1_receive_9 : decode cX1_receive 9 = .ok (.aload_n 0, 1) := by decide +kernel
theorem dX1_receive_10 : decode cX1_receive 10 = .ok (.aload_n 0, 1) := by decide +kernel
theorem dX1_receive_11 : decode cX1_receive 11 = .ok (.getfield 19, 3) := by decide +kernel
theorem dX1_receive_14 : decode cX1_receive 14 = .ok (.iconst 0, 1) := by decide +kernel
theorem dX1_receive_15 : decode cX1_receive 15 = .ok (.iaload, 1) := by decide +kernel
theorem dX1_receive_16 : decode cX1_receive 16 = .ok (.putfield 29, 3) := by decide +kernel
theorem dX1_receive_19 : decode cX1_receive 19 = .ok (.iconst 0, 1) := by decide +kernel
theorem dX1_receive_20 : decode cX1_receive 20 = .ok (.istore_n 1, 1) := by decide +kernel
theorem dX1_receive_21 : decode cX1_receive 21 = .ok (.iload_n 1, 1) := by decide +kernel
theorem dX1_receive_22 : decode cX1_receive 22 = .ok (.aload_n 0, 1) := by decide +kernel
theorem dX1_receive_23 : decode cX1_receive 23 = .ok (.getfield 29, 3) := by decide +kernel
theorem dX1_receive_26 : decode cX1_receive 26 = .ok (.if_icmp .ge 21, 3) := by decide +kernel
theorem dX1_receive_29 : decode cX1_receive 29 = .ok (.aload_n 0, 1) := by decide +kernel
theorem dX1_receive_30 : decode cX1_receive 30 = .ok (.getfield 13, 3) := by decide +kernel
theorem dX1_receive_33 : decode cX1_receive 33 = .ok (.iload_n 1, 1) := by decide +kernel
theorem dX1_receive_34 : decode cX1_receive 34 = .ok (.aload_n 0, 1) := by decide +kernel
theorem dX1_receive_35 : decode cX1_receive 35 = .ok (.getfield 16, 3) := by decide +kernel
theorem dX1_receive_38 : decode cX1_receive 38 = .ok (.iload_n 1, 1) := by decide +kernel
theorem dX1_receive_39 : decode cX1_receive 39 = .ok (.iaload, 1) := by decide +kernel
theorem dX1_receive_40 : decode cX1_receive 40 = .ok (.iastore, 1) := by decide +kernel
theorem dX1_receive_41 : decode cX1_receive 41 = .ok (.iinc 1 1, 3) := by decide +kernel
theorem dX1_receive_44 : decode cX1_receive 44 = .ok (.goto (-23), 3) := by decide +kernel
theorem dX1_receive_47 : decode cX1_receive 47 = .ok (.aload_n 0, 1) := by decide +kernel
theorem dX1_receive_48 : decode cX1_receive 48 = .ok (.dup, 1) := by decide +kernel
theorem dX1_receive_49 : decode cX1_receive 49 = .ok (.getfield 26, 3) := by decide +kernel
theorem dX1_receive_52 : decode cX1_receive 52 = .ok (.iconst 1, 1) := by decide +kernel
theorem dX1_receive_53 : decode cX1_receive 53 = .ok (.isub, 1) := by decide +kernel
theorem dX1_receive_54 : decode cX1_receive 54 = .ok (.putfield 26, 3) := by decide +kernel
theorem dX1_receive_57 : decode cX1_receive 57 = .ok (.iconst 0, 1) := by decide +kernel
theorem dX1_receive_58 : decode cX1_receive 58 = .ok (.istore_n 1, 1) := by decide +kernel
theorem dX1_receive_59 : decode cX1_receive 59 = .ok (.iload_n 1, 1) := by decide +kernel
theorem dX1_receive_60 : decode cX1_receive 60 = .ok (.aload_n 0, 1) := by decide +kernel
theorem dX1_receive_61 : decode cX1_receive 61 = .ok (.getfield 26, 3) := by decide +kernel
theorem dX1_receive_64 : decode cX1_receive 64 = .ok (.if_icmp .ge 61, 3) := by decide +kernel
theorem dX1_receive_67 : decode cX1_receive 67 = .ok (.aload_n 0, 1) := by decide +kernel
theorem dX1_receive_68 : decode cX1_receive 68 = .ok (.getfield 19, 3) := by decide +kernel
theorem dX1_receive_71 : decode cX1_receive 71 = .ok (.iload_n 1, 1) := by decide +kernel
theorem dX1_receive_72 : decode cX1_receive 72 = .ok (.aload_n 0, 1) := by decide +kernel
theorem dX1_receive_73 : decode cX1_receive 73 = .ok (.getfield 19, 3) := by decide +kernel
theorem dX1_receive_76 : decode cX1_receive 76 = .ok (.iload_n 1, 1) := by decide +kernel
theorem dX1_receive_77 : decode cX1_receive 77 = .ok (.iconst 1, 1) := by decide +kernel
theorem dX1_receive_78 : decode cX1_receive 78 = .ok (.iadd, 1) := by decide +kernel
theorem dX1_receive_79 : decode cX1_receive 79 = .ok (.iaload, 1) := by decide +kernel
theorem dX1_receive_80 : decode cX1_receive 80 = .ok (.iastore, 1) := by decide +kernel
theorem dX1_receive_81 : decode cX1_receive 81 = .ok (.iconst 0, 1) := by decide +kernel
theorem dX1_receive_82 : decode cX1_receive 82 = .ok (.istore_n 2, 1) := by decide +kernel
theorem dX1_receive_83 : decode cX1_receive 83 = .ok (.iload_n 2, 1) := by decide +kernel
theorem dX1_receive_84 : decode cX1_receive 84 = .ok (.bipush 48, 2) := by decide +kernel
theorem dX1_receive_86 : decode cX1_receive 86 = .ok (.if_icmp .ge 33, 3) := by decide +kernel
theorem dX1_receive_89 : decode cX1_receive 89 = .ok (.aload_n 0, 1) := by decide +kernel
theorem dX1_receive_90 : decode cX1_receive 90 = .ok (.getfield 16, 3) := by decide +kernel
theorem dX1_receive_93 : decode cX1_receive 93 = .ok (.bipush 48, 2) := by decide +kernel
theorem dX1_receive_95 : decode cX1_receive 95 = .ok (.iload_n 1, 1) := by decide +kernel
theorem dX1_receive_96 : decode cX1_receive 96 = .ok (.imul, 1) := by decide +kernel
theorem dX1_receive_97 : decode cX1_receive 97 = .ok (.iload_n 2, 1) := by decide +kernel
theorem dX1_receive_98 : decode cX1_receive 98 = .ok (.iadd, 1) := by decide +kernel
theorem dX1_receive_99 : decode cX1_receive 99 = .ok (.aload_n 0, 1) := by decide +kernel
theorem dX1_receive_100 : decode cX1_receive 100 = .ok (.getfield 16, 3) := by decide +kernel
theorem dX1_receive_103 : decode cX1_receive 103 = .ok (.bipush 48, 2) := by decide +kernel
theorem dX1_receive_105 : decode cX1_receive 105 = .ok (.iload_n 1, 1) := by decide +kernel
theorem dX1_receive_106 : decode cX1_receive 106 = .ok (.iconst 1, 1) := by decide +kernel
theorem dX1_receive_107 : decode cX1_receive 107 = .ok (.iadd, 1) := by decide +kernel
theorem dX1_receive_108 : decode cX1_receive 108 = .ok (.imul, 1) := by decide +kernel
theorem dX1_receive_109 : decode cX1_receive 109 = .ok (.iload_n 2, 1) := by decide +kernel
theorem dX1_receive_110 : decode cX1_receive 110 = .ok (.iadd, 1) := by decide +kernel
theorem dX1_receive_111 : decode cX1_receive 111 = .ok (.iaload, 1) := by decide +kernel
theorem dX1_receive_112 : decode cX1_receive 112 = .ok (.iastore, 1) := by decide +kernel
theorem dX1_receive_113 : decode cX1_receive 113 = .ok (.iinc 2 1, 3) := by decide +kernel
theorem dX1_receive_116 : decode cX1_receive 116 = .ok (.goto (-33), 3) := by decide +kernel
theorem dX1_receive_119 : decode cX1_receive 119 = .ok (.iinc 1 1, 3) := by decide +kernel
theorem dX1_receive_122 : decode cX1_receive 122 = .ok (.goto (-63), 3) := by decide +kernel
theorem dX1_receive_125 : decode cX1_receive 125 = .ok (.aload_n 0, 1) := by decide +kernel
theorem dX1_receive_126 : decode cX1_receive 126 = .ok (.getfield 29, 3) := by decide +kernel
theorem dX1_receive_129 : decode cX1_receive 129 = .ok (.ireturn, 1) := by decide +kernel
abbrev cX1_at : ByteArray := prog_3_method_7_code
def yX1_at : MethodName := ⟨RX1, "at", "(I)I"⟩
theorem dX1_at_0 : decode cX1_at 0 = .ok (.iload_n 1, 1) := by decide +kernel
theorem dX1_at_1 : decode cX1_at 1 = .ok (.ifCond .lt 11, 3) := by decide +kernel
theorem dX1_at_4 : decode cX1_at 4 = .ok (.iload_n 1, 1) := by decide +kernel
theorem dX1_at_5 : decode cX1_at 5 = .ok (.aload_n 0, 1) := by decide +kernel
theorem dX1_at_6 : decode cX1_at 6 = .ok (.getfield 29, 3) := by decide +kernel
theorem dX1_at_9 : decode cX1_at 9 = .ok (.if_icmp .lt 7, 3) := by decide +kernel
theorem dX1_at_12 : decode cX1_at 12 = .ok (.iconst (-1), 1) := by decide +kernel
theorem dX1_at_13 : decode cX1_at 13 = .ok (.goto 9, 3) := by decide +kernel
theorem dX1_at_16 : decode cX1_at 16 = .ok (.aload_n 0, 1) := by decide +kernel
theorem dX1_at_17 : decode cX1_at 17 = .ok (.getfield 13, 3) := by decide +kernel
theorem dX1_at_20 : decode cX1_at 20 = .ok (.iload_n 1, 1) := by decide +kernel
theorem dX1_at_21 : decode cX1_at 21 = .ok (.iaload, 1) := by decide +kernel
theorem dX1_at_22 : decode cX1_at 22 = .ok (.ireturn, 1) := by decide +kernel
abbrev cX1_length : ByteArray := prog_3_method_8_code
def yX1_length : MethodName := ⟨RX1, "length", "()I"⟩
theorem dX1_length_0 : decode cX1_length 0 = .ok (.aload_n 0, 1) := by decide +kernel
theorem dX1_length_1 : decode cX1_length 1 = .ok (.getfield 29, 3) := by decide +kernel
theorem dX1_length_4 : decode cX1_length 4 = .ok (.ireturn, 1) := by decide +kernel
abbrev cX1_blocks : ByteArray := prog_3_method_9_code
def yX1_blocks : MethodName := ⟨RX1, "blocks", "()I"⟩
theorem dX1_blocks_0 : decode cX1_blocks 0 = .ok (.aload_n 0, 1) := by decide +kernel
theorem dX1_blocks_1 : decode cX1_blocks 1 = .ok (.getfield 26, 3) := by decide +kernel
theorem dX1_blocks_4 : decode cX1_blocks 4 = .ok (.ireturn, 1) := by decide +kernel
abbrev cX1_find : ByteArray := prog_3_method_10_code
def yX1_find : MethodName := ⟨RX1, "find", "(II)I"⟩
theorem dX1_find_0 : decode cX1_find 0 = .ok (.iconst 0, 1) := by decide +kernel
theorem dX1_find_1 : decode cX1_find 1 = .ok (.istore_n 3, 1) := by decide +kernel
theorem dX1_find_2 : decode cX1_find 2 = .ok (.iload_n 3, 1) := by decide +kernel
theorem dX1_find_3 : decode cX1_find 3 = .ok (.aload_n 0, 1) := by decide +kernel
theorem dX1_find_4 : decode cX1_find 4 = .ok (.getfield 29, 3) := by decide +kernel
theorem dX1_find_7 : decode cX1_find 7 = .ok (.if_icmp .ge 30, 3) := by decide +kernel
theorem dX1_find_10 : decode cX1_find 10 = .ok (.iload_n 3, 1) := by decide +kernel
theorem dX1_find_11 : decode cX1_find 11 = .ok (.iload_n 2, 1) := by decide +kernel
theorem dX1_find_12 : decode cX1_find 12 = .ok (.if_icmp .lt 19, 3) := by decide +kernel
theorem dX1_find_15 : decode cX1_find 15 = .ok (.aload_n 0, 1) := by decide +kernel
theorem dX1_find_16 : decode cX1_find 16 = .ok (.getfield 13, 3) := by decide +kernel
theorem dX1_find_19 : decode cX1_find 19 = .ok (.iload_n 3, 1) := by decide +kernel
theorem dX1_find_20 : decode cX1_find 20 = .ok (.iaload, 1) := by decide +kernel
theorem dX1_find_21 : decode cX1_find 21 = .ok (.iload_n 1, 1) := by decide +kernel
theorem dX1_find_22 : decode cX1_find 22 = .ok (.sipush 255, 3) := by decide +kernel
theorem dX1_find_25 : decode cX1_find 25 = .ok (.iand, 1) := by decide +kernel
theorem dX1_find_26 : decode cX1_find 26 = .ok (.if_icmp .ne 5, 3) := by decide +kernel
theorem dX1_find_29 : decode cX1_find 29 = .ok (.iload_n 3, 1) := by decide +kernel
theorem dX1_find_30 : decode cX1_find 30 = .ok (.ireturn, 1) := by decide +kernel
theorem dX1_find_31 : decode cX1_find 31 = .ok (.iinc 3 1, 3) := by decide +kernel
theorem dX1_find_34 : decode cX1_find 34 = .ok (.goto (-32), 3) := by decide +kernel
theorem dX1_find_37 : decode cX1_find 37 = .ok (.iconst (-1), 1) := by decide +kernel
theorem dX1_find_38 : decode cX1_find 38 = .ok (.ireturn, 1) := by decide +kernel
abbrev cX1_edit : ByteArray := prog_3_method_11_code
def yX1_edit : MethodName := ⟨RX1, "edit", "()V"⟩
theorem dX1_edit_0 : decode cX1_edit 0 = .ok (.aload_n 0, 1) := by decide +kernel
theorem dX1_edit_1 : decode cX1_edit 1 = .ok (.aload_n 0, 1) := by decide +kernel
theorem dX1_edit_2 : decode cX1_edit 2 = .ok (.getfield 29, 3) := by decide +kernel
theorem dX1_edit_5 : decode cX1_edit 5 = .ok (.putfield 22, 3) := by decide +kernel
theorem dX1_edit_8 : decode cX1_edit 8 = .ok (.iconst 0, 1) := by decide +kernel
theorem dX1_edit_9 : decode cX1_edit 9 = .ok (.istore_n 1, 1) := by decide +kernel
theorem dX1_edit_10 : decode cX1_edit 10 = .ok (.iload_n 1, 1) := by decide +kernel
theorem dX1_edit_11 : decode cX1_edit 11 = .ok (.aload_n 0, 1) := by decide +kernel
theorem dX1_edit_12 : decode cX1_edit 12 = .ok (.getfield 29, 3) := by decide +kernel
theorem dX1_edit_15 : decode cX1_edit 15 = .ok (.if_icmp .ge 21, 3) := by decide +kernel
theorem dX1_edit_18 : decode cX1_edit 18 = .ok (.aload_n 0, 1) := by decide +kernel
theorem dX1_edit_19 : decode cX1_edit 19 = .ok (.getfield 7, 3) := by decide +kernel
theorem dX1_edit_22 : decode cX1_edit 22 = .ok (.iload_n 1, 1) := by decide +kernel
theorem dX1_edit_23 : decode cX1_edit 23 = .ok (.aload_n 0, 1) := by decide +kernel
theorem dX1_edit_24 : decode cX1_edit 24 = .ok (.getfield 13, 3) := by decide +kernel
theorem dX1_edit_27 : decode cX1_edit 27 = .ok (.iload_n 1, 1) := by decide +kernel
theorem dX1_edit_28 : decode cX1_edit 28 = .ok (.iaload, 1) := by decide +kernel
theorem dX1_edit_29 : decode cX1_edit 29 = .ok (.iastore, 1) := by decide +kernel
theorem dX1_edit_30 : decode cX1_edit 30 = .ok (.iinc 1 1, 3) := by decide +kernel
theorem dX1_edit_33 : decode cX1_edit 33 = .ok (.goto (-23), 3) := by decide +kernel
theorem dX1_edit_36 : decode cX1_edit 36 = .ok (.return_, 1) := by decide +kernel
theorem q16 : (Jvm.Cond.initialized "SqueezeQueueModel") ∈ lw_all := lw_g (lw_at lw_m0 2 rfl) rfl
theorem q183 : (Jvm.Cond.instantiable "SqueezeQueueModel" (7 : Nat)) ∈ lw_all := lw_g (lw_at lw_m0 169 rfl) rfl
theorem q185 : (Jvm.Cond.instanceMethod ({ cls := "SqueezeQueueModel", name := "<init>", desc := "()V" } : Jvm.MethodName)) ∈ lw_all := lw_g (lw_at lw_m0 171 rfl) rfl
theorem q186 : (Jvm.Cond.code ({ cls := "SqueezeQueueModel", name := "<init>", desc := "()V" } : Jvm.MethodName) prog_3_method_1_code (1 : Nat) (Option.none : Option Jvm.ClassFile.FieldType)) ∈ lw_all := lw_g (lw_at lw_m0 172 rfl) rfl
theorem q187 : (Jvm.Cond.methodLink "SqueezeQueueModel" (1 : Nat) ({ cls := "java/lang/Object", name := "<init>", desc := "()V" } : Jvm.MethodName)) ∈ lw_all := lw_g (lw_at lw_m0 173 rfl) rfl
theorem q188 : (Jvm.Cond.fieldLink "SqueezeQueueModel" (7 : Nat) "SqueezeQueueModel" "draft" "[I") ∈ lw_all := lw_g (lw_at lw_m0 174 rfl) rfl
theorem q189 : (Jvm.Cond.fieldLink "SqueezeQueueModel" (22 : Nat) "SqueezeQueueModel" "drafted" "I") ∈ lw_all := lw_g (lw_at lw_m0 175 rfl) rfl
theorem q190 : (Jvm.Cond.fieldLink "SqueezeQueueModel" (13 : Nat) "SqueezeQueueModel" "page" "[I") ∈ lw_all := lw_g (lw_at lw_m0 176 rfl) rfl
theorem q191 : (Jvm.Cond.fieldLink "SqueezeQueueModel" (29 : Nat) "SqueezeQueueModel" "paged" "I") ∈ lw_all := lw_g (lw_at lw_m0 177 rfl) rfl
theorem q192 : (Jvm.Cond.fieldLink "SqueezeQueueModel" (16 : Nat) "SqueezeQueueModel" "queue" "[I") ∈ lw_all := lw_g (lw_at lw_m0 178 rfl) rfl
theorem q193 : (Jvm.Cond.fieldLink "SqueezeQueueModel" (19 : Nat) "SqueezeQueueModel" "lengths" "[I") ∈ lw_all := lw_g (lw_at lw_m0 179 rfl) rfl
theorem q194 : (Jvm.Cond.fieldLink "SqueezeQueueModel" (26 : Nat) "SqueezeQueueModel" "blocks" "I") ∈ lw_all := lw_g (lw_at lw_m0 180 rfl) rfl
theorem q195 : (Jvm.Cond.laysFinal "SqueezeQueueModel" "SqueezeQueueModel" "draft" "[I") ∈ lw_all := lw_g (lw_at lw_m0 181 rfl) rfl
theorem q196 : (Jvm.Cond.soleField "SqueezeQueueModel" "draft") ∈ lw_all := lw_g (lw_at lw_m0 182 rfl) rfl
theorem q197 : (Jvm.Cond.lays "SqueezeQueueModel" "SqueezeQueueModel" "drafted" "I") ∈ lw_all := lw_g (lw_at lw_m0 183 rfl) rfl
theorem q198 : (Jvm.Cond.soleField "SqueezeQueueModel" "drafted") ∈ lw_all := lw_g (lw_at lw_m0 184 rfl) rfl
theorem q199 : (Jvm.Cond.laysFinal "SqueezeQueueModel" "SqueezeQueueModel" "page" "[I") ∈ lw_all := lw_g (lw_at lw_m0 185 rfl) rfl
theorem q200 : (Jvm.Cond.soleField "SqueezeQueueModel" "page") ∈ lw_all := lw_g (lw_at lw_m0 186 rfl) rfl
theorem q201 : (Jvm.Cond.lays "SqueezeQueueModel" "SqueezeQueueModel" "paged" "I") ∈ lw_all := lw_g (lw_at lw_m0 187 rfl) rfl
theorem q202 : (Jvm.Cond.soleField "SqueezeQueueModel" "paged") ∈ lw_all := lw_g (lw_at lw_m0 188 rfl) rfl
theorem q203 : (Jvm.Cond.laysFinal "SqueezeQueueModel" "SqueezeQueueModel" "queue" "[I") ∈ lw_all := lw_g (lw_at lw_m0 189 rfl) rfl
theorem q204 : (Jvm.Cond.soleField "SqueezeQueueModel" "queue") ∈ lw_all := lw_g (lw_at lw_m0 190 rfl) rfl
theorem q205 : (Jvm.Cond.laysFinal "SqueezeQueueModel" "SqueezeQueueModel" "lengths" "[I") ∈ lw_all := lw_g (lw_at lw_m0 191 rfl) rfl
theorem q206 : (Jvm.Cond.soleField "SqueezeQueueModel" "lengths") ∈ lw_all := lw_g (lw_at lw_m0 192 rfl) rfl
theorem q207 : (Jvm.Cond.lays "SqueezeQueueModel" "SqueezeQueueModel" "blocks" "I") ∈ lw_all := lw_g (lw_at lw_m0 193 rfl) rfl
theorem q208 : (Jvm.Cond.soleField "SqueezeQueueModel" "blocks") ∈ lw_all := lw_g (lw_at lw_m0 194 rfl) rfl
theorem q209 : (Jvm.Cond.superclass "SqueezeQueueModel" "java/lang/Object") ∈ lw_all := lw_g (lw_at lw_m0 195 rfl) rfl
theorem q211 : (Jvm.Cond.instanceMethod ({ cls := "SqueezeQueueModel", name := "put", desc := "(I)I" } : Jvm.MethodName)) ∈ lw_all := lw_g (lw_at lw_m0 197 rfl) rfl
theorem q212 : (Jvm.Cond.selects "SqueezeQueueModel" ({ cls := "SqueezeQueueModel", name := "put", desc := "(I)I" } : Jvm.MethodName) ({ cls := "SqueezeQueueModel", name := "put", desc := "(I)I" } : Jvm.MethodName)) ∈ lw_all := lw_g (lw_at lw_m0 198 rfl) rfl
theorem q213 : (Jvm.Cond.code ({ cls := "SqueezeQueueModel", name := "put", desc := "(I)I" } : Jvm.MethodName) prog_3_method_2_code (2 : Nat) (Option.some Jvm.ClassFile.FieldType.int)) ∈ lw_all := lw_g (lw_at lw_m0 199 rfl) rfl
theorem q215 : (Jvm.Cond.instanceMethod ({ cls := "SqueezeQueueModel", name := "repeat", desc := "(II)I" } : Jvm.MethodName)) ∈ lw_all := lw_g (lw_at lw_m0 201 rfl) rfl
theorem q216 : (Jvm.Cond.selects "SqueezeQueueModel" ({ cls := "SqueezeQueueModel", name := "repeat", desc := "(II)I" } : Jvm.MethodName) ({ cls := "SqueezeQueueModel", name := "repeat", desc := "(II)I" } : Jvm.MethodName)) ∈ lw_all := lw_g (lw_at lw_m0 202 rfl) rfl
theorem q217 : (Jvm.Cond.code ({ cls := "SqueezeQueueModel", name := "repeat", desc := "(II)I" } : Jvm.MethodName) prog_3_method_3_code (4 : Nat) (Option.some Jvm.ClassFile.FieldType.int)) ∈ lw_all := lw_g (lw_at lw_m0 203 rfl) rfl
theorem q219 : (Jvm.Cond.instanceMethod ({ cls := "SqueezeQueueModel", name := "erase", desc := "()V" } : Jvm.MethodName)) ∈ lw_all := lw_g (lw_at lw_m0 205 rfl) rfl
theorem q220 : (Jvm.Cond.selects "SqueezeQueueModel" ({ cls := "SqueezeQueueModel", name := "erase", desc := "()V" } : Jvm.MethodName) ({ cls := "SqueezeQueueModel", name := "erase", desc := "()V" } : Jvm.MethodName)) ∈ lw_all := lw_g (lw_at lw_m0 206 rfl) rfl
theorem q221 : (Jvm.Cond.code ({ cls := "SqueezeQueueModel", name := "erase", desc := "()V" } : Jvm.MethodName) prog_3_method_4_code (1 : Nat) (Option.none : Option Jvm.ClassFile.FieldType)) ∈ lw_all := lw_g (lw_at lw_m0 207 rfl) rfl
theorem q223 : (Jvm.Cond.instanceMethod ({ cls := "SqueezeQueueModel", name := "send", desc := "()I" } : Jvm.MethodName)) ∈ lw_all := lw_g (lw_at lw_m0 209 rfl) rfl
theorem q224 : (Jvm.Cond.selects "SqueezeQueueModel" ({ cls := "SqueezeQueueModel", name := "send", desc := "()I" } : Jvm.MethodName) ({ cls := "SqueezeQueueModel", name := "send", desc := "()I" } : Jvm.MethodName)) ∈ lw_all := lw_g (lw_at lw_m0 210 rfl) rfl
theorem q225 : (Jvm.Cond.code ({ cls := "SqueezeQueueModel", name := "send", desc := "()I" } : Jvm.MethodName) prog_3_method_5_code (2 : Nat) (Option.some Jvm.ClassFile.FieldType.int)) ∈ lw_all := lw_g (lw_at lw_m0 211 rfl) rfl
theorem q227 : (Jvm.Cond.instanceMethod ({ cls := "SqueezeQueueModel", name := "receive", desc := "()I" } : Jvm.MethodName)) ∈ lw_all := lw_g (lw_at lw_m0 213 rfl) rfl
theorem q228 : (Jvm.Cond.selects "SqueezeQueueModel" ({ cls := "SqueezeQueueModel", name := "receive", desc := "()I" } : Jvm.MethodName) ({ cls := "SqueezeQueueModel", name := "receive", desc := "()I" } : Jvm.MethodName)) ∈ lw_all := lw_g (lw_at lw_m0 214 rfl) rfl
theorem q229 : (Jvm.Cond.code ({ cls := "SqueezeQueueModel", name := "receive", desc := "()I" } : Jvm.MethodName) prog_3_method_6_code (3 : Nat) (Option.some Jvm.ClassFile.FieldType.int)) ∈ lw_all := lw_g (lw_at lw_m0 215 rfl) rfl
theorem q231 : (Jvm.Cond.instanceMethod ({ cls := "SqueezeQueueModel", name := "at", desc := "(I)I" } : Jvm.MethodName)) ∈ lw_all := lw_g (lw_at lw_m0 217 rfl) rfl
theorem q232 : (Jvm.Cond.selects "SqueezeQueueModel" ({ cls := "SqueezeQueueModel", name := "at", desc := "(I)I" } : Jvm.MethodName) ({ cls := "SqueezeQueueModel", name := "at", desc := "(I)I" } : Jvm.MethodName)) ∈ lw_all := lw_g (lw_at lw_m0 218 rfl) rfl
theorem q233 : (Jvm.Cond.code ({ cls := "SqueezeQueueModel", name := "at", desc := "(I)I" } : Jvm.MethodName) prog_3_method_7_code (2 : Nat) (Option.some Jvm.ClassFile.FieldType.int)) ∈ lw_all := lw_g (lw_at lw_m0 219 rfl) rfl
theorem q235 : (Jvm.Cond.instanceMethod ({ cls := "SqueezeQueueModel", name := "length", desc := "()I" } : Jvm.MethodName)) ∈ lw_all := lw_g (lw_at lw_m0 221 rfl) rfl
theorem q236 : (Jvm.Cond.selects "SqueezeQueueModel" ({ cls := "SqueezeQueueModel", name := "length", desc := "()I" } : Jvm.MethodName) ({ cls := "SqueezeQueueModel", name := "length", desc := "()I" } : Jvm.MethodName)) ∈ lw_all := lw_g (lw_at lw_m0 222 rfl) rfl
theorem q237 : (Jvm.Cond.code ({ cls := "SqueezeQueueModel", name := "length", desc := "()I" } : Jvm.MethodName) prog_3_method_8_code (1 : Nat) (Option.some Jvm.ClassFile.FieldType.int)) ∈ lw_all := lw_g (lw_at lw_m0 223 rfl) rfl
theorem q239 : (Jvm.Cond.instanceMethod ({ cls := "SqueezeQueueModel", name := "blocks", desc := "()I" } : Jvm.MethodName)) ∈ lw_all := lw_g (lw_at lw_m0 225 rfl) rfl
theorem q240 : (Jvm.Cond.selects "SqueezeQueueModel" ({ cls := "SqueezeQueueModel", name := "blocks", desc := "()I" } : Jvm.MethodName) ({ cls := "SqueezeQueueModel", name := "blocks", desc := "()I" } : Jvm.MethodName)) ∈ lw_all := lw_g (lw_at lw_m0 226 rfl) rfl
theorem q241 : (Jvm.Cond.code ({ cls := "SqueezeQueueModel", name := "blocks", desc := "()I" } : Jvm.MethodName) prog_3_method_9_code (1 : Nat) (Option.some Jvm.ClassFile.FieldType.int)) ∈ lw_all := lw_g (lw_at lw_m0 227 rfl) rfl
theorem q243 : (Jvm.Cond.instanceMethod ({ cls := "SqueezeQueueModel", name := "find", desc := "(II)I" } : Jvm.MethodName)) ∈ lw_all := lw_g (lw_at lw_m0 229 rfl) rfl
theorem q244 : (Jvm.Cond.selects "SqueezeQueueModel" ({ cls := "SqueezeQueueModel", name := "find", desc := "(II)I" } : Jvm.MethodName) ({ cls := "SqueezeQueueModel", name := "find", desc := "(II)I" } : Jvm.MethodName)) ∈ lw_all := lw_g (lw_at lw_m0 230 rfl) rfl
theorem q245 : (Jvm.Cond.code ({ cls := "SqueezeQueueModel", name := "find", desc := "(II)I" } : Jvm.MethodName) prog_3_method_10_code (4 : Nat) (Option.some Jvm.ClassFile.FieldType.int)) ∈ lw_all := lw_g (lw_at lw_m0 231 rfl) rfl
theorem q247 : (Jvm.Cond.instanceMethod ({ cls := "SqueezeQueueModel", name := "edit", desc := "()V" } : Jvm.MethodName)) ∈ lw_all := lw_g (lw_at lw_m0 233 rfl) rfl
theorem q248 : (Jvm.Cond.selects "SqueezeQueueModel" ({ cls := "SqueezeQueueModel", name := "edit", desc := "()V" } : Jvm.MethodName) ({ cls := "SqueezeQueueModel", name := "edit", desc := "()V" } : Jvm.MethodName)) ∈ lw_all := lw_g (lw_at lw_m0 234 rfl) rfl
theorem q249 : (Jvm.Cond.code ({ cls := "SqueezeQueueModel", name := "edit", desc := "()V" } : Jvm.MethodName) prog_3_method_11_code (2 : Nat) (Option.none : Option Jvm.ClassFile.FieldType)) ∈ lw_all := lw_g (lw_at lw_m0 235 rfl) rfl
theorem in_X1 : ∀ w ∈ wsX10, w ∈ lw_all := lw_in wsX10 [195, 197, 199, 201, 203, 205, 207] (by decide +kernel) (by decide +kernel)
/-! java/lang/Object -/
set_option maxRecDepth 100000
def RJ0 : String := "java/lang/Object"
abbrev cJ0_init : ByteArray := object_method_1_code
def yJ0_init : MethodName := ⟨RJ0, "<init>", "()V"⟩
theorem dJ0_init_0 : decode cJ0_init 0 = .ok (.return_, 1) := by decide +kernel
theorem q23 : (Jvm.Cond.instanceMethod ({ cls := "java/lang/Object", name := "<init>", desc := "()V" } : Jvm.MethodName)) ∈ lw_all := lw_g (lw_at lw_m0 9 rfl) rfl
theorem q24 : (Jvm.Cond.code ({ cls := "java/lang/Object", name := "<init>", desc := "()V" } : Jvm.MethodName) object_method_1_code (1 : Nat) (Option.none : Option Jvm.ClassFile.FieldType)) ∈ lw_all := lw_g (lw_at lw_m0 10 rfl) rfl
/-! the law's own entry -/
set_option maxRecDepth 100000
abbrev cL_law : ByteArray := code
theorem dL_law_0 : decode cL_law 0 = .ok (.new 7, 3) := by decide +kernel
theorem dL_law_3 : decode cL_law 3 = .ok (.dup, 1) := by decide +kernel
theorem dL_law_4 : decode cL_law 4 = .ok (.invokespecial 9, 3) := by decide +kernel
theorem dL_law_7 : decode cL_law 7 = .ok (.astore_n 1, 1) := by decide +kernel
theorem dL_law_8 : decode cL_law 8 = .ok (.new 10, 3) := by decide +kernel
theorem dL_law_11 : decode cL_law 11 = .ok (.dup, 1) := by decide +kernel
theorem dL_law_12 : decode cL_law 12 = .ok (.invokespecial 12, 3) := by decide +kernel
theorem dL_law_15 : decode cL_law 15 = .ok (.astore_n 2, 1) := by decide +kernel
theorem dL_law_16 : decode cL_law 16 = .ok (.iconst 0, 1) := by decide +kernel
theorem dL_law_17 : decode cL_law 17 = .ok (.istore_n 3, 1) := by decide +kernel
theorem dL_law_18 : decode cL_law 18 = .ok (.iload_n 3, 1) := by decide +kernel
theorem dL_law_19 : decode cL_law 19 = .ok (.aload_n 0, 1) := by decide +kernel
theorem dL_law_20 : decode cL_law 20 = .ok (.arraylength, 1) := by decide +kernel
theorem dL_law_21 : decode cL_law 21 = .ok (.iconst 3, 1) := by decide +kernel
theorem dL_law_22 : decode cL_law 22 = .ok (.isub, 1) := by decide +kernel
theorem dL_law_23 : decode cL_law 23 = .ok (.if_icmp .gt 257, 3) := by decide +kernel
theorem dL_law_26 : decode cL_law 26 = .ok (.aload_n 0, 1) := by decide +kernel
theorem dL_law_27 : decode cL_law 27 = .ok (.iload_n 3, 1) := by decide +kernel
theorem dL_law_28 : decode cL_law 28 = .ok (.iaload, 1) := by decide +kernel
theorem dL_law_29 : decode cL_law 29 = .ok (.bipush 15, 2) := by decide +kernel
theorem dL_law_31 : decode cL_law 31 = .ok (.iand, 1) := by decide +kernel
theorem dL_law_32 : decode cL_law 32 = .ok (.tableswitch 242 0 9 #[56, 79, 112, 123, 136, 149, 172, 185, 198, 231], 56) := by decide +kernel
theorem dL_law_88 : decode cL_law 88 = .ok (.aload_n 1, 1) := by decide +kernel
theorem dL_law_89 : decode cL_law 89 = .ok (.aload_n 0, 1) := by decide +kernel
theorem dL_law_90 : decode cL_law 90 = .ok (.iload_n 3, 1) := by decide +kernel
theorem dL_law_91 : decode cL_law 91 = .ok (.iconst 1, 1) := by decide +kernel
theorem dL_law_92 : decode cL_law 92 = .ok (.iadd, 1) := by decide +kernel
theorem dL_law_93 : decode cL_law 93 = .ok (.iaload, 1) := by decide +kernel
theorem dL_law_94 : decode cL_law 94 = .ok (.invokevirtual 13, 3) := by decide +kernel
theorem dL_law_97 : decode cL_law 97 = .ok (.aload_n 2, 1) := by decide +kernel
theorem dL_law_98 : decode cL_law 98 = .ok (.aload_n 0, 1) := by decide +kernel
theorem dL_law_99 : decode cL_law 99 = .ok (.iload_n 3, 1) := by decide +kernel
theorem dL_law_100 : decode cL_law 100 = .ok (.iconst 1, 1) := by decide +kernel
theorem dL_law_101 : decode cL_law 101 = .ok (.iadd, 1) := by decide +kernel
theorem dL_law_102 : decode cL_law 102 = .ok (.iaload, 1) := by decide +kernel
theorem dL_law_103 : decode cL_law 103 = .ok (.invokevirtual 17, 3) := by decide +kernel
theorem dL_law_106 : decode cL_law 106 = .ok (.if_icmp .eq 168, 3) := by decide +kernel
theorem dL_law_109 : decode cL_law 109 = .ok (.iconst 0, 1) := by decide +kernel
theorem dL_law_110 : decode cL_law 110 = .ok (.ireturn, 1) := by decide +kernel
theorem dL_law_111 : decode cL_law 111 = .ok (.aload_n 1, 1) := by decide +kernel
theorem dL_law_112 : decode cL_law 112 = .ok (.aload_n 0, 1) := by decide +kernel
theorem dL_law_113 : decode cL_law 113 = .ok (.iload_n 3, 1) := by decide +kernel
theorem dL_law_114 : decode cL_law 114 = .ok (.iconst 1, 1) := by decide +kernel
theorem dL_law_115 : decode cL_law 115 = .ok (.iadd, 1) := by decide +kernel
theorem dL_law_116 : decode cL_law 116 = .ok (.iaload, 1) := by decide +kernel
theorem dL_law_117 : decode cL_law 117 = .ok (.aload_n 0, 1) := by decide +kernel
theorem dL_law_118 : decode cL_law 118 = .ok (.iload_n 3, 1) := by decide +kernel
theorem dL_law_119 : decode cL_law 119 = .ok (.iconst 2, 1) := by decide +kernel
theorem dL_law_120 : decode cL_law 120 = .ok (.iadd, 1) := by decide +kernel
theorem dL_law_121 : decode cL_law 121 = .ok (.iaload, 1) := by decide +kernel
theorem dL_law_122 : decode cL_law 122 = .ok (.invokevirtual 18, 3) := by decide +kernel
theorem dL_law_125 : decode cL_law 125 = .ok (.aload_n 2, 1) := by decide +kernel
theorem dL_law_126 : decode cL_law 126 = .ok (.aload_n 0, 1) := by decide +kernel
theorem dL_law_127 : decode cL_law 127 = .ok (.iload_n 3, 1) := by decide +kernel
theorem dL_law_128 : decode cL_law 128 = .ok (.iconst 1, 1) := by decide +kernel
theorem dL_law_129 : decode cL_law 129 = .ok (.iadd, 1) := by decide +kernel
theorem dL_law_130 : decode cL_law 130 = .ok (.iaload, 1) := by decide +kernel
theorem dL_law_131 : decode cL_law 131 = .ok (.aload_n 0, 1) := by decide +kernel
theorem dL_law_132 : decode cL_law 132 = .ok (.iload_n 3, 1) := by decide +kernel
theorem dL_law_133 : decode cL_law 133 = .ok (.iconst 2, 1) := by decide +kernel
theorem dL_law_134 : decode cL_law 134 = .ok (.iadd, 1) := by decide +kernel
theorem dL_law_135 : decode cL_law 135 = .ok (.iaload, 1) := by decide +kernel
theorem dL_law_136 : decode cL_law 136 = .ok (.invokevirtual 22, 3) := by decide +kernel
theorem dL_law_139 : decode cL_law 139 = .ok (.if_icmp .eq 135, 3) := by decide +kernel
theorem dL_law_142 : decode cL_law 142 = .ok (.iconst 0, 1) := by decide +kernel
theorem dL_law_143 : decode cL_law 143 = .ok (.ireturn, 1) := by decide +kernel
theorem dL_law_144 : decode cL_law 144 = .ok (.aload_n 1, 1) := by decide +kernel
theorem dL_law_145 : decode cL_law 145 = .ok (.invokevirtual 23, 3) := by decide +kernel
theorem dL_law_148 : decode cL_law 148 = .ok (.aload_n 2, 1) := by decide +kernel
theorem dL_law_149 : decode cL_law 149 = .ok (.invokevirtual 26, 3) := by decide +kernel
theorem dL_law_152 : decode cL_law 152 = .ok (.goto 122, 3) := by decide +kernel
theorem dL_law_155 : decode cL_law 155 = .ok (.aload_n 1, 1) := by decide +kernel
theorem dL_law_156 : decode cL_law 156 = .ok (.invokevirtual 27, 3) := by decide +kernel
theorem dL_law_159 : decode cL_law 159 = .ok (.aload_n 2, 1) := by decide +kernel
theorem dL_law_160 : decode cL_law 160 = .ok (.invokevirtual 31, 3) := by decide +kernel
theorem dL_law_163 : decode cL_law 163 = .ok (.if_icmp .eq 111, 3) := by decide +kernel
theorem dL_law_166 : decode cL_law 166 = .ok (.iconst 0, 1) := by decide +kernel
theorem dL_law_167 : decode cL_law 167 = .ok (.ireturn, 1) := by decide +kernel
theorem dL_law_168 : decode cL_law 168 = .ok (.aload_n 1, 1) := by decide +kernel
theorem dL_law_169 : decode cL_law 169 = .ok (.invokevirtual 32, 3) := by decide +kernel
theorem dL_law_172 : decode cL_law 172 = .ok (.aload_n 2, 1) := by decide +kernel
theorem dL_law_173 : decode cL_law 173 = .ok (.invokevirtual 35, 3) := by decide +kernel
theorem dL_law_176 : decode cL_law 176 = .ok (.if_icmp .eq 98, 3) := by decide +kernel
theorem dL_law_179 : decode cL_law 179 = .ok (.iconst 0, 1) := by decide +kernel
theorem dL_law_180 : decode cL_law 180 = .ok (.ireturn, 1) := by decide +kernel
theorem dL_law_181 : decode cL_law 181 = .ok (.aload_n 1, 1) := by decide +kernel
theorem dL_law_182 : decode cL_law 182 = .ok (.aload_n 0, 1) := by decide +kernel
theorem dL_law_183 : decode cL_law 183 = .ok (.iload_n 3, 1) := by decide +kernel
theorem dL_law_184 : decode cL_law 184 = .ok (.iconst 1, 1) := by decide +kernel
theorem dL_law_185 : decode cL_law 185 = .ok (.iadd, 1) := by decide +kernel
theorem dL_law_186 : decode cL_law 186 = .ok (.iaload, 1) := by decide +kernel
theorem dL_law_187 : decode cL_law 187 = .ok (.invokevirtual 36, 3) := by decide +kernel
theorem dL_law_190 : decode cL_law 190 = .ok (.aload_n 2, 1) := by decide +kernel
theorem dL_law_191 : decode cL_law 191 = .ok (.aload_n 0, 1) := by decide +kernel
theorem dL_law_192 : decode cL_law 192 = .ok (.iload_n 3, 1) := by decide +kernel
theorem dL_law_193 : decode cL_law 193 = .ok (.iconst 1, 1) := by decide +kernel
theorem dL_law_194 : decode cL_law 194 = .ok (.iadd, 1) := by decide +kernel
theorem dL_law_195 : decode cL_law 195 = .ok (.iaload, 1) := by decide +kernel
theorem dL_law_196 : decode cL_law 196 = .ok (.invokevirtual 39, 3) := by decide +kernel
theorem dL_law_199 : decode cL_law 199 = .ok (.if_icmp .eq 75, 3) := by decide +kernel
theorem dL_law_202 : decode cL_law 202 = .ok (.iconst 0, 1) := by decide +kernel
theorem dL_law_203 : decode cL_law 203 = .ok (.ireturn, 1) := by decide +kernel
theorem dL_law_204 : decode cL_law 204 = .ok (.aload_n 1, 1) := by decide +kernel
theorem dL_law_205 : decode cL_law 205 = .ok (.invokevirtual 40, 3) := by decide +kernel
theorem dL_law_208 : decode cL_law 208 = .ok (.aload_n 2, 1) := by decide +kernel
theorem dL_law_209 : decode cL_law 209 = .ok (.invokevirtual 43, 3) := by decide +kernel
theorem dL_law_212 : decode cL_law 212 = .ok (.if_icmp .eq 62, 3) := by decide +kernel
theorem dL_law_215 : decode cL_law 215 = .ok (.iconst 0, 1) := by decide +kernel
theorem dL_law_216 : decode cL_law 216 = .ok (.ireturn, 1) := by decide +kernel
theorem dL_law_217 : decode cL_law 217 = .ok (.aload_n 1, 1) := by decide +kernel
theorem dL_law_218 : decode cL_law 218 = .ok (.invokevirtual 44, 3) := by decide +kernel
theorem dL_law_221 : decode cL_law 221 = .ok (.aload_n 2, 1) := by decide +kernel
theorem dL_law_222 : decode cL_law 222 = .ok (.invokevirtual 47, 3) := by decide +kernel
theorem dL_law_225 : decode cL_law 225 = .ok (.if_icmp .eq 49, 3) := by decide +kernel
theorem dL_law_228 : decode cL_law 228 = .ok (.iconst 0, 1) := by decide +kernel
theorem dL_law_229 : decode cL_law 229 = .ok (.ireturn, 1) := by decide +kernel
theorem dL_law_230 : decode cL_law 230 = .ok (.aload_n 1, 1) := by decide +kernel
theorem dL_law_231 : decode cL_law 231 = .ok (.aload_n 0, 1) := by decide +kernel
theorem dL_law_232 : decode cL_law 232 = .ok (.iload_n 3, 1) := by decide +kernel
theorem dL_law_233 : decode cL_law 233 = .ok (.iconst 1, 1) := by decide +kernel
theorem dL_law_234 : decode cL_law 234 = .ok (.iadd, 1) := by decide +kernel
theorem dL_law_235 : decode cL_law 235 = .ok (.iaload, 1) := by decide +kernel
theorem dL_law_236 : decode cL_law 236 = .ok (.aload_n 0, 1) := by decide +kernel
theorem dL_law_237 : decode cL_law 237 = .ok (.iload_n 3, 1) := by decide +kernel
theorem dL_law_238 : decode cL_law 238 = .ok (.iconst 2, 1) := by decide +kernel
theorem dL_law_239 : decode cL_law 239 = .ok (.iadd, 1) := by decide +kernel
theorem dL_law_240 : decode cL_law 240 = .ok (.iaload, 1) := by decide +kernel
theorem dL_law_241 : decode cL_law 241 = .ok (.invokevirtual 48, 3) := by decide +kernel
theorem dL_law_244 : decode cL_law 244 = .ok (.aload_n 2, 1) := by decide +kernel
theorem dL_law_245 : decode cL_law 245 = .ok (.aload_n 0, 1) := by decide +kernel
theorem dL_law_246 : decode cL_law 246 = .ok (.iload_n 3, 1) := by decide +kernel
theorem dL_law_247 : decode cL_law 247 = .ok (.iconst 1, 1) := by decide +kernel
theorem dL_law_248 : decode cL_law 248 = .ok (.iadd, 1) := by decide +kernel
theorem dL_law_249 : decode cL_law 249 = .ok (.iaload, 1) := by decide +kernel
theorem dL_law_250 : decode cL_law 250 = .ok (.aload_n 0, 1) := by decide +kernel
theorem dL_law_251 : decode cL_law 251 = .ok (.iload_n 3, 1) := by decide +kernel
theorem dL_law_252 : decode cL_law 252 = .ok (.iconst 2, 1) := by decide +kernel
theorem dL_law_253 : decode cL_law 253 = .ok (.iadd, 1) := by decide +kernel
theorem dL_law_254 : decode cL_law 254 = .ok (.iaload, 1) := by decide +kernel
theorem dL_law_255 : decode cL_law 255 = .ok (.invokevirtual 51, 3) := by decide +kernel
theorem dL_law_258 : decode cL_law 258 = .ok (.if_icmp .eq 16, 3) := by decide +kernel
theorem dL_law_261 : decode cL_law 261 = .ok (.iconst 0, 1) := by decide +kernel
theorem dL_law_262 : decode cL_law 262 = .ok (.ireturn, 1) := by decide +kernel
theorem dL_law_263 : decode cL_law 263 = .ok (.aload_n 1, 1) := by decide +kernel
theorem dL_law_264 : decode cL_law 264 = .ok (.invokevirtual 52, 3) := by decide +kernel
theorem dL_law_267 : decode cL_law 267 = .ok (.aload_n 2, 1) := by decide +kernel
theorem dL_law_268 : decode cL_law 268 = .ok (.invokevirtual 55, 3) := by decide +kernel
theorem dL_law_271 : decode cL_law 271 = .ok (.goto 3, 3) := by decide +kernel
theorem dL_law_274 : decode cL_law 274 = .ok (.iinc 3 3, 3) := by decide +kernel
theorem dL_law_277 : decode cL_law 277 = .ok (.goto (-259), 3) := by decide +kernel
theorem dL_law_280 : decode cL_law 280 = .ok (.iconst 1, 1) := by decide +kernel
theorem dL_law_281 : decode cL_law 281 = .ok (.ireturn, 1) := by decide +kernel
theorem q14 : (Jvm.Cond.initialized "SqueezeQueueLaw") ∈ lw_all := lw_g (lw_at lw_m0 0 rfl) rfl
set_option maxRecDepth 100000
theorem q17 : (Jvm.Cond.classLink "SqueezeQueueLaw" (7 : Nat) "SqueezeQueue") ∈ lw_all := lw_g (lw_at lw_m0 3 rfl) rfl
theorem q19 : (Jvm.Cond.methodLink "SqueezeQueueLaw" (9 : Nat) ({ cls := "SqueezeQueue", name := "<init>", desc := "()V" } : Jvm.MethodName)) ∈ lw_all := lw_g (lw_at lw_m0 5 rfl) rfl
theorem q82 : (Jvm.Cond.methodLink "SqueezeQueueLaw" (13 : Nat) ({ cls := "SqueezeQueue", name := "put", desc := "(I)I" } : Jvm.MethodName)) ∈ lw_all := lw_g (lw_at lw_m0 68 rfl) rfl
theorem q86 : (Jvm.Cond.methodLink "SqueezeQueueLaw" (18 : Nat) ({ cls := "SqueezeQueue", name := "repeat", desc := "(II)I" } : Jvm.MethodName)) ∈ lw_all := lw_g (lw_at lw_m0 72 rfl) rfl
theorem q90 : (Jvm.Cond.methodLink "SqueezeQueueLaw" (23 : Nat) ({ cls := "SqueezeQueue", name := "erase", desc := "()V" } : Jvm.MethodName)) ∈ lw_all := lw_g (lw_at lw_m0 76 rfl) rfl
theorem q94 : (Jvm.Cond.methodLink "SqueezeQueueLaw" (27 : Nat) ({ cls := "SqueezeQueue", name := "send", desc := "()I" } : Jvm.MethodName)) ∈ lw_all := lw_g (lw_at lw_m0 80 rfl) rfl
theorem q138 : (Jvm.Cond.methodLink "SqueezeQueueLaw" (32 : Nat) ({ cls := "SqueezeQueue", name := "receive", desc := "()I" } : Jvm.MethodName)) ∈ lw_all := lw_g (lw_at lw_m0 124 rfl) rfl
theorem q162 : (Jvm.Cond.methodLink "SqueezeQueueLaw" (36 : Nat) ({ cls := "SqueezeQueue", name := "at", desc := "(I)I" } : Jvm.MethodName)) ∈ lw_all := lw_g (lw_at lw_m0 148 rfl) rfl
theorem q166 : (Jvm.Cond.methodLink "SqueezeQueueLaw" (40 : Nat) ({ cls := "SqueezeQueue", name := "length", desc := "()I" } : Jvm.MethodName)) ∈ lw_all := lw_g (lw_at lw_m0 152 rfl) rfl
theorem q170 : (Jvm.Cond.methodLink "SqueezeQueueLaw" (44 : Nat) ({ cls := "SqueezeQueue", name := "blocks", desc := "()I" } : Jvm.MethodName)) ∈ lw_all := lw_g (lw_at lw_m0 156 rfl) rfl
theorem q174 : (Jvm.Cond.methodLink "SqueezeQueueLaw" (48 : Nat) ({ cls := "SqueezeQueue", name := "find", desc := "(II)I" } : Jvm.MethodName)) ∈ lw_all := lw_g (lw_at lw_m0 160 rfl) rfl
theorem q178 : (Jvm.Cond.methodLink "SqueezeQueueLaw" (52 : Nat) ({ cls := "SqueezeQueue", name := "edit", desc := "()V" } : Jvm.MethodName)) ∈ lw_all := lw_g (lw_at lw_m0 164 rfl) rfl
theorem q182 : (Jvm.Cond.classLink "SqueezeQueueLaw" (10 : Nat) "SqueezeQueueModel") ∈ lw_all := lw_g (lw_at lw_m0 168 rfl) rfl
theorem q184 : (Jvm.Cond.methodLink "SqueezeQueueLaw" (12 : Nat) ({ cls := "SqueezeQueueModel", name := "<init>", desc := "()V" } : Jvm.MethodName)) ∈ lw_all := lw_g (lw_at lw_m0 170 rfl) rfl
theorem q210 : (Jvm.Cond.methodLink "SqueezeQueueLaw" (17 : Nat) ({ cls := "SqueezeQueueModel", name := "put", desc := "(I)I" } : Jvm.MethodName)) ∈ lw_all := lw_g (lw_at lw_m0 196 rfl) rfl
theorem q214 : (Jvm.Cond.methodLink "SqueezeQueueLaw" (22 : Nat) ({ cls := "SqueezeQueueModel", name := "repeat", desc := "(II)I" } : Jvm.MethodName)) ∈ lw_all := lw_g (lw_at lw_m0 200 rfl) rfl
theorem q218 : (Jvm.Cond.methodLink "SqueezeQueueLaw" (26 : Nat) ({ cls := "SqueezeQueueModel", name := "erase", desc := "()V" } : Jvm.MethodName)) ∈ lw_all := lw_g (lw_at lw_m0 204 rfl) rfl
theorem q222 : (Jvm.Cond.methodLink "SqueezeQueueLaw" (31 : Nat) ({ cls := "SqueezeQueueModel", name := "send", desc := "()I" } : Jvm.MethodName)) ∈ lw_all := lw_g (lw_at lw_m0 208 rfl) rfl
theorem q226 : (Jvm.Cond.methodLink "SqueezeQueueLaw" (35 : Nat) ({ cls := "SqueezeQueueModel", name := "receive", desc := "()I" } : Jvm.MethodName)) ∈ lw_all := lw_g (lw_at lw_m0 212 rfl) rfl
theorem q230 : (Jvm.Cond.methodLink "SqueezeQueueLaw" (39 : Nat) ({ cls := "SqueezeQueueModel", name := "at", desc := "(I)I" } : Jvm.MethodName)) ∈ lw_all := lw_g (lw_at lw_m0 216 rfl) rfl
theorem q234 : (Jvm.Cond.methodLink "SqueezeQueueLaw" (43 : Nat) ({ cls := "SqueezeQueueModel", name := "length", desc := "()I" } : Jvm.MethodName)) ∈ lw_all := lw_g (lw_at lw_m0 220 rfl) rfl
theorem q238 : (Jvm.Cond.methodLink "SqueezeQueueLaw" (47 : Nat) ({ cls := "SqueezeQueueModel", name := "blocks", desc := "()I" } : Jvm.MethodName)) ∈ lw_all := lw_g (lw_at lw_m0 224 rfl) rfl
theorem q242 : (Jvm.Cond.methodLink "SqueezeQueueLaw" (51 : Nat) ({ cls := "SqueezeQueueModel", name := "find", desc := "(II)I" } : Jvm.MethodName)) ∈ lw_all := lw_g (lw_at lw_m0 228 rfl) rfl
theorem q246 : (Jvm.Cond.methodLink "SqueezeQueueLaw" (55 : Nat) ({ cls := "SqueezeQueueModel", name := "edit", desc := "()V" } : Jvm.MethodName)) ∈ lw_all := lw_g (lw_at lw_m0 232 rfl) rfl
theorem q80 : (Jvm.Cond.arrayClass Jvm.ClassFile.FieldType.int) ∈ lw_all := lw_g (lw_at lw_m0 66 rfl) rfl
set_option maxRecDepth 100000
theorem q81 : (Jvm.Cond.arrayClass Jvm.ClassFile.FieldType.byte) ∈ lw_all := lw_g (lw_at lw_m0 67 rfl) rfl
end
section
theorem s_l : ∀ n, n < 32 → ((nI n &&& 31).toBitVec.smod 32).toNat = n := by decide +kernel
theorem s_u : ∀ n, n < 32 → (((nI n).toUInt32 &&& Int32.toUInt32 31).toBitVec % 32).toNat = n := by decide +kernel
theorem wb_tb (n : Nat) : (lN n).toBitVec = BitVec.ofNat 64 n := rfl
theorem wb_inj {a b : Int64} (h : a.toBitVec = b.toBitVec) : a = b := Int64.toBitVec_inj.mp h
theorem wb_tn {n : Nat} (h : n < 2 ^ 64) : (lN n).toBitVec.toNat = n := by rw [wb_tb, BitVec.toNat_ofNat, Nat.mod_eq_of_lt h]
theorem wb_c : ∀ k, k < 64 → ((nI k).toInt64 &&& 63) = lN k := by decide +kernel
theorem wb_cu : ∀ k, k < 64 → ((nI k).toInt64.toUInt64 &&& Int64.toUInt64 63) = UInt64.ofNat k := by decide +kernel
theorem wb_sm : ∀ k, k < 64 → (BitVec.ofNat 64 k).smod 64 = BitVec.ofNat 64 k := by decide +kernel
theorem wb_lt2 {a b : Nat} (h : a < b) : 2 ^ a < 2 ^ b := Nat.pow_lt_pow_right (by decide) h
theorem wb_shr {n k : Nat} (hn : n < 2 ^ 64) (hk : k < 64) : ((lN n).toUInt64 >>> ((nI k).toInt64.toUInt64 &&& Int64.toUInt64 63)).toInt64 = lN (n / 2 ^ k) := by
  rw [wb_cu k hk]
  apply wb_inj
  apply BitVec.eq_of_toNat_eq
  show ((lN n).toUInt64 >>> UInt64.ofNat k).toNat = (BitVec.ofNat 64 _).toNat
  have h1 : (UInt64.ofNat k).toNat = k := by
    show (BitVec.ofNat 64 k).toNat = k
    rw [BitVec.toNat_ofNat, Nat.mod_eq_of_lt (by omega)]
  have h2 : (lN n).toUInt64.toNat = n := wb_tn hn
  rw [UInt64.toNat_shiftRight, h1, h2, Nat.mod_eq_of_lt hk, Nat.shiftRight_eq_div_pow, BitVec.toNat_ofNat, Nat.mod_eq_of_lt (Nat.lt_of_le_of_lt (Nat.div_le_self _ _) hn)]
theorem wb_shl (n : Nat) {k : Nat} (hk : k < 64) : lN n <<< ((nI k).toInt64 &&& 63) = lN (n * 2 ^ k) := by
  rw [wb_c k hk]
  apply wb_inj
  rw [Int64.toBitVec_shiftLeft, wb_tb, wb_tb, wb_tb, wb_sm k hk]
  apply BitVec.eq_of_toNat_eq
  rw [BitVec.shiftLeft_eq', BitVec.toNat_shiftLeft, BitVec.toNat_ofNat, BitVec.toNat_ofNat, BitVec.toNat_ofNat, Nat.mod_eq_of_lt (show k < 2 ^ 64 by omega), Nat.shiftLeft_eq, Nat.mul_mod, Nat.mod_mod, ← Nat.mul_mod]
theorem u_tn {n : Nat} (h : n < 2 ^ 64) : (UInt64.ofNat n).toNat = n := Nat.mod_eq_of_lt h
theorem g_and {a b c : Nat} (ha : a < 2 ^ 64) (hb : b < 2 ^ 64) (hc : a &&& b = c) : lN a &&& lN b = lN c := by
  subst hc
  have h : UInt64.ofNat a &&& UInt64.ofNat b = UInt64.ofNat (a &&& b) := UInt64.toNat_inj.mp (by rw [UInt64.toNat_and, u_tn ha, u_tn hb, u_tn (Nat.and_lt_two_pow a hb)])
  have h2 := congrArg UInt64.toInt64 h
  exact h2
theorem g_mask {a s p : Nat} (hp : 2 ^ s = p) (hs : s < 64) (ha : a < 2 ^ 64) : lN a &&& lN (p - 1) = lN (a % p) := by
  subst hp
  have := Nat.pow_lt_pow_right (show 1 < 2 by decide) hs
  exact g_and ha (by omega) (Nat.and_two_pow_sub_one_eq_mod a s)
theorem g_or {k p a b : Nat} (hp : 2 ^ k = p) (ha : a < p) (h : b * p + a < 2 ^ 64) : lN (b * p) ||| lN a = lN (b * p + a) := by
  subst hp
  have h1 : b * 2 ^ k ||| a = b * 2 ^ k + a := by rw [← Nat.shiftLeft_eq, Nat.shiftLeft_add_eq_or_of_lt ha]
  have h3 : UInt64.ofNat (b * 2 ^ k) ||| UInt64.ofNat a = UInt64.ofNat (b * 2 ^ k + a) := UInt64.toNat_inj.mp (by rw [UInt64.toNat_or, u_tn (by omega), u_tn (by omega), u_tn h, h1])
  have h2 := congrArg UInt64.toInt64 h3
  exact h2
/-! rows over natural numbers: what stands on the stack is nI n or lN n -/
theorem sq_255 : nI 255 = (255 : Int32) := by decide
theorem sq_lg_lt {a b : Nat} (ha : a < 9223372036854775808) (hb : b < 9223372036854775808) : lg_cmp (lN a) (lN b) < 0 ↔ a < b := by
  have h1 := pk_lLT (a := a) (b := b) ha hb
  have h2 := pk_lLT (a := b) (b := a) hb ha
  have h3 := pk_lEQ (a := a) (b := b) ha hb
  unfold lg_cmp
  by_cases c1 : b < a
  · rw [if_pos (h2.mpr c1)]
    constructor
    · intro h; exact absurd h (by decide)
    · intro h; omega
  · rw [if_neg (fun h => c1 (h2.mp h))]
    by_cases c2 : a = b
    · rw [if_pos (h3.mpr c2)]
      constructor
      · intro h; exact absurd h (by decide)
      · intro h; omega
    · rw [if_neg (fun h => c2 (h3.mp h))]
      constructor
      · intro _; omega
      · intro _; decide
theorem sq_lg_gt {a b : Nat} (ha : a < 9223372036854775808) (hb : b < 9223372036854775808) : 0 < lg_cmp (lN a) (lN b) ↔ b < a := by
  have h2 := pk_lLT (a := b) (b := a) hb ha
  have h3 := pk_lEQ (a := a) (b := b) ha hb
  unfold lg_cmp
  by_cases c1 : b < a
  · rw [if_pos (h2.mpr c1)]
    constructor
    · intro _; exact c1
    · intro _; decide
  · rw [if_neg (fun h => c1 (h2.mp h))]
    by_cases c2 : a = b
    · rw [if_pos (h3.mpr c2)]
      constructor
      · intro h; exact absurd h (by decide)
      · intro h; omega
    · rw [if_neg (fun h => c2 (h3.mp h))]
      constructor
      · intro h; exact absurd h (by decide)
      · intro h; omega
theorem sq_i32 {x : Int32} : 0 ≤ x ↔ ¬ x < 0 := by
  rw [Int32.le_iff_toInt_le, Int32.lt_iff_toInt_lt]; omega
theorem sq_i32' {x : Int32} : x ≤ 0 ↔ ¬ 0 < x := by
  rw [Int32.le_iff_toInt_le, Int32.lt_iff_toInt_lt]; omega
section SqRows
variable {p : Program} {l : Launch} {e : Env} {R : Room} {s : State} {m : MethodId} {args : Array Value} {below : List Frame} {meth : Method} {c : Code} {H : Heap} {locs : List Loc} {cells slots : Nat} {Q : State → Prop}
variable {cc : ByteArray} {pc : Nat} {ls : Array Slot} {rest : List Value} {nL : Nat} {own : String}
theorem sq_iadd (S : CallFix p m c cc nL s args lw_all own) {a b : Nat} (hdg : decode cc pc = .ok (.iadd, 1)) (k : W p l e R s m args below meth c H locs cells slots Q (F0 m (pc + 1) ls (.int (nI (a + b)) :: rest))) : W p l e R s m args below meth c H locs cells slots Q (F0 m pc ls (.int (nI b) :: .int (nI a) :: rest)) := lv_iadd S.1 S.2.1 hdg (by rw [nI_add]; exact k)
theorem sq_isub (S : CallFix p m c cc nL s args lw_all own) {a b : Nat} (h : b ≤ a) (hdg : decode cc pc = .ok (.isub, 1)) (k : W p l e R s m args below meth c H locs cells slots Q (F0 m (pc + 1) ls (.int (nI (a - b)) :: rest))) : W p l e R s m args below meth c H locs cells slots Q (F0 m pc ls (.int (nI b) :: .int (nI a) :: rest)) := lv_isub S.1 S.2.1 hdg (by rw [pk_sub h]; exact k)
theorem sq_imul (S : CallFix p m c cc nL s args lw_all own) {a b : Nat} (hdg : decode cc pc = .ok (.imul, 1)) (k : W p l e R s m args below meth c H locs cells slots Q (F0 m (pc + 1) ls (.int (nI (a * b)) :: rest))) : W p l e R s m args below meth c H locs cells slots Q (F0 m pc ls (.int (nI b) :: .int (nI a) :: rest)) := lv_imul S.1 S.2.1 hdg (by rw [pk_mul]; exact k)
theorem sq_iand (S : CallFix p m c cc nL s args lw_all own) {a b : Nat} (kk P : Nat) (hP : 2 ^ kk = P) (h : a < 4294967296) (hm : (nI b).toBitVec.toNat = 2 ^ kk - 1) (hdg : decode cc pc = .ok (.iand, 1)) (k : W p l e R s m args below meth c H locs cells slots Q (F0 m (pc + 1) ls (.int (nI (a % P)) :: rest))) : W p l e R s m args below meth c H locs cells slots Q (F0 m pc ls (.int (nI b) :: .int (nI a) :: rest)) := lv_iand S.1 S.2.1 hdg (by rw [pk_andN (k := kk) h hm, hP]; exact k)
theorem sq_iandx (S : CallFix p m c cc nL s args lw_all own) {x : Int32} {b : Nat} (kk P : Nat) (hP : 2 ^ kk = P) (hm : (nI b).toBitVec.toNat = 2 ^ kk - 1) (hdg : decode cc pc = .ok (.iand, 1)) (k : W p l e R s m args below meth c H locs cells slots Q (F0 m (pc + 1) ls (.int (nI (x.toBitVec.toNat % P)) :: rest))) : W p l e R s m args below meth c H locs cells slots Q (F0 m pc ls (.int (nI b) :: .int x :: rest)) := lv_iand S.1 S.2.1 hdg (by rw [pk_and x kk hm, hP]; exact k)
theorem sq_iandb (S : CallFix p m c cc nL s args lw_all own) {v : Nat} (h : v < 256) (hdg : decode cc pc = .ok (.iand, 1)) (k : W p l e R s m args below meth c H locs cells slots Q (F0 m (pc + 1) ls (.int (nI v) :: rest))) : W p l e R s m args below meth c H locs cells slots Q (F0 m pc ls (.int (nI 255) :: .int (sb_b v) :: rest)) := lv_iand S.1 S.2.1 hdg (by rw [sq_255, (sb_byte v h).1]; exact k)
theorem sq_ishr (S : CallFix p m c cc nL s args lw_all own) {a j : Nat} (P : Nat) (hP : 2 ^ j = P) (ha : a < 2147483648) (hj : j < 32) (hdg : decode cc pc = .ok (.ishr, 1)) (k : W p l e R s m args below meth c H locs cells slots Q (F0 m (pc + 1) ls (.int (nI (a / P)) :: rest))) : W p l e R s m args below meth c H locs cells slots Q (F0 m pc ls (.int (nI j) :: .int (nI a) :: rest)) := lv_ishr S.1 S.2.1 hdg (by rw [pk_shrN ha _ j (s_l j hj), hP]; exact k)
theorem sq_ishl (S : CallFix p m c cc nL s args lw_all own) {a j : Nat} (hj : j < 32) (ha : a * 2 ^ j < 4294967296) (hdg : decode cc pc = .ok (.ishl, 1)) (k : W p l e R s m args below meth c H locs cells slots Q (F0 m (pc + 1) ls (.int (nI (a * 2 ^ j)) :: rest))) : W p l e R s m args below meth c H locs cells slots Q (F0 m pc ls (.int (nI j) :: .int (nI a) :: rest)) := lv_ishl S.1 S.2.1 hdg (by rw [pk_shlN _ j (s_l j hj) ha]; exact k)
theorem sq_iushr (S : CallFix p m c cc nL s args lw_all own) {a j : Nat} (ha : a < 4294967296) (hj : j < 32) (hdg : decode cc pc = .ok (.iushr, 1)) (k : W p l e R s m args below meth c H locs cells slots Q (F0 m (pc + 1) ls (.int (nI (a / 2 ^ j)) :: rest))) : W p l e R s m args below meth c H locs cells slots Q (F0 m pc ls (.int (nI j) :: .int (nI a) :: rest)) := lv_iushr S.1 S.2.1 hdg (pk_ushrN ha _ j (s_u j hj)) k
theorem sq_ladd (S : CallFix p m c cc nL s args lw_all own) {a b : Nat} (hdg : decode cc pc = .ok (.ladd, 1)) (k : W p l e R s m args below meth c H locs cells slots Q (F0 m (pc + 1) ls (.long (lN (a + b)) :: rest))) : W p l e R s m args below meth c H locs cells slots Q (F0 m pc ls (.long (lN b) :: .long (lN a) :: rest)) := lv_ladd S.1 S.2.1 hdg (by rw [lN_add]; exact k)
theorem sq_lsub (S : CallFix p m c cc nL s args lw_all own) {a b : Nat} (h : b ≤ a) (hdg : decode cc pc = .ok (.lsub, 1)) (k : W p l e R s m args below meth c H locs cells slots Q (F0 m (pc + 1) ls (.long (lN (a - b)) :: rest))) : W p l e R s m args below meth c H locs cells slots Q (F0 m pc ls (.long (lN b) :: .long (lN a) :: rest)) := lv_lsub S.1 S.2.1 hdg (by rw [lN_sub h]; exact k)
theorem sq_lmul (S : CallFix p m c cc nL s args lw_all own) {a b : Nat} (hdg : decode cc pc = .ok (.lmul, 1)) (k : W p l e R s m args below meth c H locs cells slots Q (F0 m (pc + 1) ls (.long (lN (a * b)) :: rest))) : W p l e R s m args below meth c H locs cells slots Q (F0 m pc ls (.long (lN b) :: .long (lN a) :: rest)) := lv_lmul S.1 S.2.1 hdg (by rw [lN_mul]; exact k)
theorem sq_lushr (S : CallFix p m c cc nL s args lw_all own) {a j : Nat} (P : Nat) (hP : 2 ^ j = P) (ha : a < 18446744073709551616) (hj : j < 64) (hdg : decode cc pc = .ok (.lushr, 1)) (k : W p l e R s m args below meth c H locs cells slots Q (F0 m (pc + 1) ls (.long (lN (a / P)) :: rest))) : W p l e R s m args below meth c H locs cells slots Q (F0 m pc ls (.int (nI j) :: .long (lN a) :: rest)) := lv_lushr S.1 S.2.1 hdg (wb_shr ha hj) (by rw [hP]; exact k)
theorem sq_lshl (S : CallFix p m c cc nL s args lw_all own) {a j : Nat} (P : Nat) (hP : 2 ^ j = P) (hj : j < 64) (hdg : decode cc pc = .ok (.lshl, 1)) (k : W p l e R s m args below meth c H locs cells slots Q (F0 m (pc + 1) ls (.long (lN (a * P)) :: rest))) : W p l e R s m args below meth c H locs cells slots Q (F0 m pc ls (.int (nI j) :: .long (lN a) :: rest)) := lv_lshl S.1 S.2.1 hdg (wb_shl a hj) (by rw [hP]; exact k)
theorem sq_land (S : CallFix p m c cc nL s args lw_all own) {a b : Nat} (j P : Nat) (hP : 2 ^ j = P) (hb : b = P - 1) (hj : j < 64) (ha : a < 18446744073709551616) (hdg : decode cc pc = .ok (.land, 1)) (k : W p l e R s m args below meth c H locs cells slots Q (F0 m (pc + 1) ls (.long (lN (a % P)) :: rest))) : W p l e R s m args below meth c H locs cells slots Q (F0 m pc ls (.long (lN b) :: .long (lN a) :: rest)) := lv_land S.1 S.2.1 hdg (by rw [hb, g_mask hP hj ha]; exact k)
theorem sq_lor (S : CallFix p m c cc nL s args lw_all own) {a b : Nat} (j P : Nat) (hP : 2 ^ j = P) (ha : a < P) (h : b * P + a < 18446744073709551616) (hdg : decode cc pc = .ok (.lor, 1)) (k : W p l e R s m args below meth c H locs cells slots Q (F0 m (pc + 1) ls (.long (lN (b * P + a)) :: rest))) : W p l e R s m args below meth c H locs cells slots Q (F0 m pc ls (.long (lN a) :: .long (lN (b * P)) :: rest)) := lv_lor S.1 S.2.1 hdg (by rw [g_or hP ha h]; exact k)
theorem sq_i2l (S : CallFix p m c cc nL s args lw_all own) {a : Nat} (h : a < 2147483648) (hdg : decode cc pc = .ok (.i2l, 1)) (k : W p l e R s m args below meth c H locs cells slots Q (F0 m (pc + 1) ls (.long (lN a) :: rest))) : W p l e R s m args below meth c H locs cells slots Q (F0 m pc ls (.int (nI a) :: rest)) := lv_i2l S.1 S.2.1 hdg (nI_l h) k
theorem sq_l2i (S : CallFix p m c cc nL s args lw_all own) {a : Nat} (hdg : decode cc pc = .ok (.l2i, 1)) (k : W p l e R s m args below meth c H locs cells slots Q (F0 m (pc + 1) ls (.int (nI a) :: rest))) : W p l e R s m args below meth c H locs cells slots Q (F0 m pc ls (.long (lN a) :: rest)) := lv_l2i S.1 S.2.1 hdg (lN_i a) k
theorem sq_i2b (S : CallFix p m c cc nL s args lw_all own) {a : Nat} (hdg : decode cc pc = .ok (.i2b, 1)) (k : W p l e R s m args below meth c H locs cells slots Q (F0 m (pc + 1) ls (.int (sb_b a) :: rest))) : W p l e R s m args below meth c H locs cells slots Q (F0 m pc ls (.int (nI a) :: rest)) := lv_i2b S.1 S.2.1 hdg rfl k
theorem sq_iconst (S : CallFix p m c cc nL s args lw_all own) {z : Int} (n : Nat) (hv : Int32.ofInt z = nI n) (hdg : decode cc pc = .ok (.iconst z, 1)) (k : W p l e R s m args below meth c H locs cells slots Q (F0 m (pc + 1) ls (.int (nI n) :: rest))) : W p l e R s m args below meth c H locs cells slots Q (F0 m pc ls (rest)) := lv_iconst S.1 S.2.1 hdg hv k
theorem sq_bipush (S : CallFix p m c cc nL s args lw_all own) {z : Int} (n : Nat) (hv : (Int8.ofInt z).toInt32 = nI n) (hdg : decode cc pc = .ok (.bipush z, 2)) (k : W p l e R s m args below meth c H locs cells slots Q (F0 m (pc + 2) ls (.int (nI n) :: rest))) : W p l e R s m args below meth c H locs cells slots Q (F0 m pc ls (rest)) := lv_bipush S.1 S.2.1 hdg hv k
theorem sq_sipush (S : CallFix p m c cc nL s args lw_all own) {z : Int} (n : Nat) (hv : (Int16.ofInt z).toInt32 = nI n) (hdg : decode cc pc = .ok (.sipush z, 3)) (k : W p l e R s m args below meth c H locs cells slots Q (F0 m (pc + 3) ls (.int (nI n) :: rest))) : W p l e R s m args below meth c H locs cells slots Q (F0 m pc ls (rest)) := lv_sipush S.1 S.2.1 hdg hv k
theorem sq_lconst0 (S : CallFix p m c cc nL s args lw_all own)  (hdg : decode cc pc = .ok (.lconst 0, 1)) (k : W p l e R s m args below meth c H locs cells slots Q (F0 m (pc + 1) ls (.long (lN 0) :: rest))) : W p l e R s m args below meth c H locs cells slots Q (F0 m pc ls (rest)) := lv_lconst S.1 S.2.1 hdg rfl k
theorem sq_ldc2 (S : CallFix p m c cc nL s args lw_all own) {z : Int64} {ix : Nat} (n : Nat) (hq : Cond.constantLong own ix z ∈ lw_all) (hv : z = lN n) (hdg : decode cc pc = .ok (.ldc2_w ix, 3)) (k : W p l e R s m args below meth c H locs cells slots Q (F0 m (pc + 3) ls (.long (lN n) :: rest))) : W p l e R s m args below meth c H locs cells slots Q (F0 m pc ls (rest)) := lv_ldc2 S.1 S.2.1 S.2.2.2.1 (S.2.2.2.2 _ hq) hdg (by rw [hv]; exact k)
theorem sq_dup (S : CallFix p m c cc nL s args lw_all own) {v : Value} (hv : v.category = 1) (hdg : decode cc pc = .ok (.dup, 1)) (k : W p l e R s m args below meth c H locs cells slots Q (F0 m (pc + 1) ls (v :: v :: rest))) : W p l e R s m args below meth c H locs cells slots Q (F0 m pc ls (v :: rest)) := lv_dup S.1 S.2.1 hdg hv k
theorem sq_dup2 (S : CallFix p m c cc nL s args lw_all own) {v w : Value} (hv : v.category = 1) (hw : w.category = 1) (hdg : decode cc pc = .ok (.dup2, 1)) (k : W p l e R s m args below meth c H locs cells slots Q (F0 m (pc + 1) ls (v :: w :: v :: w :: rest))) : W p l e R s m args below meth c H locs cells slots Q (F0 m pc ls (v :: w :: rest)) := lv_dup2_11 S.1 S.2.1 hdg hv hw k
theorem sq_iloadn (S : CallFix p m c cc nL s args lw_all own) {kk : Fin 4} {i : Nat} {x : Int32} (hdg : decode cc pc = .ok (.iload_n kk, 1)) (hi : (kk : Nat) = i) (hl : ls[i]? = some (.val (.int x))) (k : W p l e R s m args below meth c H locs cells slots Q (F0 m (pc + 1) ls (.int x :: rest))) : W p l e R s m args below meth c H locs cells slots Q (F0 m pc ls rest) := lv_iload_n S.1 S.2.1 hdg hi hl k
theorem sq_iload (S : CallFix p m c cc nL s args lw_all own) {i : Nat} {x : Int32} (hdg : decode cc pc = .ok (.iload i, 2)) (hl : ls[i]? = some (.val (.int x))) (k : W p l e R s m args below meth c H locs cells slots Q (F0 m (pc + 2) ls (.int x :: rest))) : W p l e R s m args below meth c H locs cells slots Q (F0 m pc ls rest) := lv_iload S.1 S.2.1 hdg hl k
theorem sq_lloadn (S : CallFix p m c cc nL s args lw_all own) {kk : Fin 4} {i : Nat} {x : Int64} (hdg : decode cc pc = .ok (.lload_n kk, 1)) (hi : (kk : Nat) = i) (hl : ls[i]? = some (.val (.long x))) (k : W p l e R s m args below meth c H locs cells slots Q (F0 m (pc + 1) ls (.long x :: rest))) : W p l e R s m args below meth c H locs cells slots Q (F0 m pc ls rest) := lv_lload_n S.1 S.2.1 hdg hi hl k
theorem sq_aloadn (S : CallFix p m c cc nL s args lw_all own) {kk : Fin 4} {i : Nat} {x : Nat} (hdg : decode cc pc = .ok (.aload_n kk, 1)) (hi : (kk : Nat) = i) (hl : ls[i]? = some (.val (.ref x))) (k : W p l e R s m args below meth c H locs cells slots Q (F0 m (pc + 1) ls (.ref x :: rest))) : W p l e R s m args below meth c H locs cells slots Q (F0 m pc ls rest) := lv_aload_n S.1 S.2.1 hdg hi hl k
theorem sq_icmp_lt (S : CallFix p m c cc nL s args lw_all own) {a b : Nat} {off : Int} (tgt : Nat) (ha : a < 2147483648) (hb : b < 2147483648) (hdg : decode cc pc = .ok (.if_icmp .lt off, 3)) (ht : (pc : Int) + off = (tgt : Int)) (kt : a < b → W p l e R s m args below meth c H locs cells slots Q (F0 m tgt ls rest)) (kf : ¬ a < b → W p l e R s m args below meth c H locs cells slots Q (F0 m (pc + 3) ls rest)) : W p l e R s m args below meth c H locs cells slots Q (F0 m pc ls (.int (nI b) :: .int (nI a) :: rest)) := lv_icmp_lt S.1 S.2.1 hdg ht (fun h => kt ((nI_ltI ha hb).mp h)) (fun h => kf (fun q => h ((nI_ltI ha hb).mpr q)))
theorem sq_icmp_ge (S : CallFix p m c cc nL s args lw_all own) {a b : Nat} {off : Int} (tgt : Nat) (ha : a < 2147483648) (hb : b < 2147483648) (hdg : decode cc pc = .ok (.if_icmp .ge off, 3)) (ht : (pc : Int) + off = (tgt : Int)) (kt : b ≤ a → W p l e R s m args below meth c H locs cells slots Q (F0 m tgt ls rest)) (kf : ¬ b ≤ a → W p l e R s m args below meth c H locs cells slots Q (F0 m (pc + 3) ls rest)) : W p l e R s m args below meth c H locs cells slots Q (F0 m pc ls (.int (nI b) :: .int (nI a) :: rest)) := lv_icmp_ge S.1 S.2.1 hdg ht (fun h => kt ((nI_leI hb ha).mp h)) (fun h => kf (fun q => h ((nI_leI hb ha).mpr q)))
theorem sq_icmp_gt (S : CallFix p m c cc nL s args lw_all own) {a b : Nat} {off : Int} (tgt : Nat) (ha : a < 2147483648) (hb : b < 2147483648) (hdg : decode cc pc = .ok (.if_icmp .gt off, 3)) (ht : (pc : Int) + off = (tgt : Int)) (kt : b < a → W p l e R s m args below meth c H locs cells slots Q (F0 m tgt ls rest)) (kf : ¬ b < a → W p l e R s m args below meth c H locs cells slots Q (F0 m (pc + 3) ls rest)) : W p l e R s m args below meth c H locs cells slots Q (F0 m pc ls (.int (nI b) :: .int (nI a) :: rest)) := lv_icmp_gt S.1 S.2.1 hdg ht (fun h => kt ((nI_ltI hb ha).mp h)) (fun h => kf (fun q => h ((nI_ltI hb ha).mpr q)))
theorem sq_icmp_le (S : CallFix p m c cc nL s args lw_all own) {a b : Nat} {off : Int} (tgt : Nat) (ha : a < 2147483648) (hb : b < 2147483648) (hdg : decode cc pc = .ok (.if_icmp .le off, 3)) (ht : (pc : Int) + off = (tgt : Int)) (kt : a ≤ b → W p l e R s m args below meth c H locs cells slots Q (F0 m tgt ls rest)) (kf : ¬ a ≤ b → W p l e R s m args below meth c H locs cells slots Q (F0 m (pc + 3) ls rest)) : W p l e R s m args below meth c H locs cells slots Q (F0 m pc ls (.int (nI b) :: .int (nI a) :: rest)) := lv_icmp_le S.1 S.2.1 hdg ht (fun h => kt ((nI_leI ha hb).mp h)) (fun h => kf (fun q => h ((nI_leI ha hb).mpr q)))
theorem sq_icmp_eq (S : CallFix p m c cc nL s args lw_all own) {a b : Nat} {off : Int} (tgt : Nat) (ha : a < 2147483648) (hb : b < 2147483648) (hdg : decode cc pc = .ok (.if_icmp .eq off, 3)) (ht : (pc : Int) + off = (tgt : Int)) (kt : a = b → W p l e R s m args below meth c H locs cells slots Q (F0 m tgt ls rest)) (kf : ¬ a = b → W p l e R s m args below meth c H locs cells slots Q (F0 m (pc + 3) ls rest)) : W p l e R s m args below meth c H locs cells slots Q (F0 m pc ls (.int (nI b) :: .int (nI a) :: rest)) := lv_icmp_eq S.1 S.2.1 hdg ht (fun h => kt ((nI_eq ha hb).mp h)) (fun h => kf (fun q => h ((nI_eq ha hb).mpr q)))
theorem sq_icmp_ne (S : CallFix p m c cc nL s args lw_all own) {a b : Nat} {off : Int} (tgt : Nat) (ha : a < 2147483648) (hb : b < 2147483648) (hdg : decode cc pc = .ok (.if_icmp .ne off, 3)) (ht : (pc : Int) + off = (tgt : Int)) (kt : ¬ a = b → W p l e R s m args below meth c H locs cells slots Q (F0 m tgt ls rest)) (kf : a = b → W p l e R s m args below meth c H locs cells slots Q (F0 m (pc + 3) ls rest)) : W p l e R s m args below meth c H locs cells slots Q (F0 m pc ls (.int (nI b) :: .int (nI a) :: rest)) := lv_icmp_ne S.1 S.2.1 hdg ht (fun h => kt (fun q => h ((nI_eq ha hb).mpr q))) (fun h => kf ((nI_eq ha hb).mp h))
theorem sq_if_ne (S : CallFix p m c cc nL s args lw_all own) {a : Nat} {off : Int} (tgt : Nat) (ha : a < 2147483648) (hdg : decode cc pc = .ok (.ifCond .ne off, 3)) (ht : (pc : Int) + off = (tgt : Int)) (kt : ¬ a = 0 → W p l e R s m args below meth c H locs cells slots Q (F0 m tgt ls rest)) (kf : a = 0 → W p l e R s m args below meth c H locs cells slots Q (F0 m (pc + 3) ls rest)) : W p l e R s m args below meth c H locs cells slots Q (F0 m pc ls (.int (nI a) :: rest)) := lv_if_ne S.1 S.2.1 hdg ht (fun h => kt (fun q => h (by rw [q]; exact nI_0))) (fun h => kf ((nI_eq ha (by decide)).mp (h.trans nI_0.symm)))
theorem sq_goto (S : CallFix p m c cc nL s args lw_all own) {off : Int} (tgt : Nat) (hdg : decode cc pc = .ok (.goto off, 3)) (ht : (pc : Int) + off = (tgt : Int)) (k : W p l e R s m args below meth c H locs cells slots Q (F0 m tgt ls rest)) : W p l e R s m args below meth c H locs cells slots Q (F0 m pc ls rest) := lv_goto S.1 S.2.1 hdg ht k
theorem sq_lcge (S : CallFix p m c cc nL s args lw_all own) {a b : Nat} {off : Int} (tgt : Nat) (ha : a < 9223372036854775808) (hb : b < 9223372036854775808) (hd1 : decode cc pc = .ok (.lcmp, 1)) (hdg : decode cc (pc + 1) = .ok (.ifCond .ge off, 3)) (ht : ((pc + 1 : Nat) : Int) + off = (tgt : Int)) (kt : ¬ a < b → W p l e R s m args below meth c H locs cells slots Q (F0 m tgt ls rest)) (kf : a < b → W p l e R s m args below meth c H locs cells slots Q (F0 m (pc + 1 + 3) ls rest)) : W p l e R s m args below meth c H locs cells slots Q (F0 m pc ls (.long (lN b) :: .long (lN a) :: rest)) := W.lcmp S.1 S.2.1 hd1 (lv_if_ge S.1 S.2.1 hdg ht (fun h => kt (fun q => (sq_i32.mp h) ((sq_lg_lt ha hb).mpr q))) (fun h => kf (Decidable.byContradiction (fun q => h (sq_i32.mpr (fun z => q ((sq_lg_lt ha hb).mp z)))))))
theorem sq_lclt (S : CallFix p m c cc nL s args lw_all own) {a b : Nat} {off : Int} (tgt : Nat) (ha : a < 9223372036854775808) (hb : b < 9223372036854775808) (hd1 : decode cc pc = .ok (.lcmp, 1)) (hdg : decode cc (pc + 1) = .ok (.ifCond .lt off, 3)) (ht : ((pc + 1 : Nat) : Int) + off = (tgt : Int)) (kt : a < b → W p l e R s m args below meth c H locs cells slots Q (F0 m tgt ls rest)) (kf : ¬ a < b → W p l e R s m args below meth c H locs cells slots Q (F0 m (pc + 1 + 3) ls rest)) : W p l e R s m args below meth c H locs cells slots Q (F0 m pc ls (.long (lN b) :: .long (lN a) :: rest)) := W.lcmp S.1 S.2.1 hd1 (lv_if_lt S.1 S.2.1 hdg ht (fun h => kt ((sq_lg_lt ha hb).mp h)) (fun h => kf (fun q => h ((sq_lg_lt ha hb).mpr q))))
theorem sq_lcle (S : CallFix p m c cc nL s args lw_all own) {a b : Nat} {off : Int} (tgt : Nat) (ha : a < 9223372036854775808) (hb : b < 9223372036854775808) (hd1 : decode cc pc = .ok (.lcmp, 1)) (hdg : decode cc (pc + 1) = .ok (.ifCond .le off, 3)) (ht : ((pc + 1 : Nat) : Int) + off = (tgt : Int)) (kt : ¬ b < a → W p l e R s m args below meth c H locs cells slots Q (F0 m tgt ls rest)) (kf : b < a → W p l e R s m args below meth c H locs cells slots Q (F0 m (pc + 1 + 3) ls rest)) : W p l e R s m args below meth c H locs cells slots Q (F0 m pc ls (.long (lN b) :: .long (lN a) :: rest)) := W.lcmp S.1 S.2.1 hd1 (lv_if_le S.1 S.2.1 hdg ht (fun h => kt (fun q => (sq_i32'.mp h) ((sq_lg_gt ha hb).mpr q))) (fun h => kf (Decidable.byContradiction (fun q => h (sq_i32'.mpr (fun z => q ((sq_lg_gt ha hb).mp z)))))))
end SqRows
end
section
/-! the pure state of an object: its numbers by the field's place, its arrays by the field's place -/
abbrev SqSt : Type := (Nat → Nat) × (Nat → Nat → Nat)
def sqC {α : Type} (f : Nat → α) (k : Nat) (v : α) : Nat → α := fun j => cond (Nat.beq j k) v (f j)
def sqU (f : Nat → Nat) (i v : Nat) : Nat → Nat := fun j => if j = i then v else f j
def sqF (σ : SqSt) (k v : Nat) : SqSt := (sqC σ.1 k v, σ.2)
def sqA (σ : SqSt) (k i v : Nat) : SqSt := (σ.1, sqC σ.2 k (sqU (σ.2 k) i v))
theorem sqU_s (f : Nat → Nat) (i v : Nat) : sqU f i v i = v := if_pos rfl
theorem sqU_n (f : Nat → Nat) {i j : Nat} (v : Nat) (h : j ≠ i) : sqU f i v j = f j := if_neg h
theorem sq_upd (f : Nat → Nat) {i : Nat} (v : Nat) (h : i < 2147483648) : upd (fun j => nI (f j)) (nI i).toNatClampNeg (nI v) = fun j => nI (sqU f i v j) := by
  funext j
  rw [nI_clamp h]
  unfold upd sqU
  by_cases e : j = i
  · rw [if_pos e, if_pos e]
  · rw [if_neg e, if_neg e]
theorem sq_b512 : ∀ v, v < 512 → sb_b v = sb_b (v % 256) := by decide +kernel
theorem sq_updb (f : Nat → Nat) {i : Nat} (v : Nat) (h : i < 2147483648) (hv : v < 512) : upd (fun j => sb_b (f j)) (nI i).toNatClampNeg (vp_nar .byte (sb_b v)) = fun j => sb_b (sqU f i (v % 256) j) := by
  funext j
  rw [nI_clamp h, show vp_nar .byte (sb_b v) = sb_b v from pk_vb _]
  unfold upd sqU
  by_cases e : j = i
  · rw [if_pos e, if_pos e]; exact sq_b512 v hv
  · rw [if_neg e, if_neg e]
abbrev vwCl : List vw_C := [(RX0, TX0, 18), (RX1, TX1, 7)]
def sq_wd (D : va_G) (A : Nat → Prop) (H0 : Heap) (s : State) (tys : List (ClassId × FieldType)) (ws : va_W) (H : Heap) (locs : List Loc) : Prop := va_K D vwCl tys s ∧ va_P D vwCl ws H ∧ va_D A ws ∧ va_S A H0 H locs ∧ ∀ q : Nat, H0.size ≤ q → A q
def fX0 (a : Nat → Nat) (σ : SqSt) : List Value := [.int (nI (σ.1 0)), .ref (a 1), .int (nI (σ.1 2)), .ref (a 3), .int (nI (σ.1 4)), .int (nI (σ.1 5)), .ref (a 6), .ref (a 7), .long (lN (σ.1 8)), .long (lN (σ.1 9)), .int (nI (σ.1 10)), .int (nI (σ.1 11)), .int (nI (σ.1 12)), .int (nI (σ.1 13)), .long (lN (σ.1 14)), .int (nI (σ.1 15)), .int (nI (σ.1 16)), .int (nI (σ.1 17))]
def wX0 (a : Nat → Nat) (cA : Nat → ClassId) (σ : SqSt) : va_W := [(a 20, .inr (0, fX0 a σ)), (a 1, .inl (cA 1, 48, .inl (fun j => nI (σ.2 1 j)))), (a 3, .inl (cA 3, 48, .inl (fun j => nI (σ.2 3 j)))), (a 6, .inl (cA 6, 1408, .inl (fun j => sb_b (σ.2 6 j)))), (a 7, .inl (cA 7, 394, .inl (fun j => nI (σ.2 7 j))))]
def tX0 (cA : Nat → ClassId) : List (ClassId × FieldType) := [(cA 1, .int), (cA 3, .int), (cA 6, .byte), (cA 7, .int)]
def fX1 (a : Nat → Nat) (σ : SqSt) : List Value := [.ref (a 0), .int (nI (σ.1 1)), .ref (a 2), .int (nI (σ.1 3)), .ref (a 4), .ref (a 5), .int (nI (σ.1 6))]
def wX1 (a : Nat → Nat) (cA : Nat → ClassId) (σ : SqSt) : va_W := [(a 20, .inr (1, fX1 a σ)), (a 0, .inl (cA 0, 48, .inl (fun j => nI (σ.2 0 j)))), (a 2, .inl (cA 2, 48, .inl (fun j => nI (σ.2 2 j)))), (a 4, .inl (cA 4, 192, .inl (fun j => nI (σ.2 4 j)))), (a 5, .inl (cA 5, 4, .inl (fun j => nI (σ.2 5 j))))]
def tX1 (cA : Nat → ClassId) : List (ClassId × FieldType) := [(cA 0, .int), (cA 2, .int), (cA 4, .int), (cA 5, .int)]
section SqWorld
variable {p : Program} {l : Launch} {e : Env} {R : Room} {s : State} {m : MethodId} {args : Array Value} {below : List Frame} {meth : Method} {c : Code} {H : Heap} {locs : List Loc} {cells slots : Nat} {Q : State → Prop}
variable {cc : ByteArray} {pc : Nat} {ls : Array Slot} {rest : List Value} {nL : Nat} {D : va_G} {A : Nat → Prop} {H0 : Heap} {a : Nat → Nat} {cA : Nat → ClassId} {σ : SqSt}
theorem gX0_0 {v : Nat} (S : CallFix p m c cc nL s args lw_all RX0) (w : sq_wd D A H0 s (tX0 cA) (wX0 a cA σ) H locs) (hv : σ.1 0 = v) (hdg : decode cc pc = .ok (.getfield 23, 3)) (kk : W p l e R s m args below meth c H locs cells slots Q (F0 m (pc + 3) ls (.int (nI v) :: rest))) : W p l e R s m args below meth c H locs cells slots Q (F0 m pc ls (.ref (a 20) :: rest)) := by
  subst hv
  exact va_get (D := D) (ci := 0) (C := RX0) (T := TX0) (N := 18) S.1 S.2.1 S.2.2.2.2 in_X0 S.2.2.2.1 w.1 w.2.1 0 rfl rfl 0 (by decide) (S.2.2.2.2 _ q25) (fun _ h9 => h9) rfl hdg kk
theorem pX0_0 {v : Nat} (S : CallFix p m c cc nL s args lw_all RX0) (w : sq_wd D A H0 s (tX0 cA) (wX0 a cA σ) H locs) (hdg : decode cc pc = .ok (.putfield 23, 3)) (kk : ∀ (H1 : Heap) (locs1 : List Loc), sq_wd D A H0 s (tX0 cA) (wX0 a cA (sqF σ 0 v)) H1 locs1 → W p l e R s m args below meth c H1 locs1 cells slots Q (F0 m (pc + 3) ls rest)) : W p l e R s m args below meth c H locs cells slots Q (F0 m pc ls (.int (nI v) :: .ref (a 20) :: rest)) :=
  va_put (D := D) (ci := 0) (v := .int (nI v)) (ty := .int) (C := RX0) (T := TX0) (N := 18) S.1 S.2.1 S.2.2.2.2 in_X0 tyX0 tyX0_ok nmX0 S.2.2.2.1 w.1 w.2.1 w.2.2.1 w.2.2.2.1 0 rfl rfl 0 (by decide) (S.2.2.2.2 _ q25) (fun _ h9 => h9) rfl (by decide +kernel) rfl rfl (Nat.le_of_ble_eq_true rfl) hdg (fun H1 locs1 hP hD hS => kk H1 locs1 ⟨w.1, hP, hD, hS, w.2.2.2.2⟩)
theorem gX0_1 (S : CallFix p m c cc nL s args lw_all RX0) (w : sq_wd D A H0 s (tX0 cA) (wX0 a cA σ) H locs) (hdg : decode cc pc = .ok (.getfield 7, 3)) (kk : W p l e R s m args below meth c H locs cells slots Q (F0 m (pc + 3) ls (.ref (a 1) :: rest))) : W p l e R s m args below meth c H locs cells slots Q (F0 m pc ls (.ref (a 20) :: rest)) :=
  va_get (D := D) (ci := 0) (C := RX0) (T := TX0) (N := 18) S.1 S.2.1 S.2.2.2.2 in_X0 S.2.2.2.1 w.1 w.2.1 0 rfl rfl 1 (by decide) (S.2.2.2.2 _ q26) (fun _ h9 => h9) rfl hdg kk
theorem lX0_1 {i v : Nat} (S : CallFix p m c cc nL s args lw_all RX0) (w : sq_wd D A H0 s (tX0 cA) (wX0 a cA σ) H locs) (hi : i < 48) (hv : σ.2 1 i = v) (hdg : decode cc pc = .ok (.iaload, 1)) (kk : W p l e R s m args below meth c H locs cells slots Q (F0 m (pc + 1) ls (.int (nI v) :: rest))) : W p l e R s m args below meth c H locs cells slots Q (F0 m pc ls (.int (nI i) :: .ref (a 1) :: rest)) := by
  subst hv
  have e9 : (nI i).toNatClampNeg = i := nI_clamp (by omega)
  exact va_iald S.1 S.2.1 w.1 w.2.1 1 0 rfl rfl (vp_in_nI hi (by decide)) hdg (by rw [e9]; exact kk)
theorem sX0_1 {i v : Nat} (S : CallFix p m c cc nL s args lw_all RX0) (w : sq_wd D A H0 s (tX0 cA) (wX0 a cA σ) H locs) (hi : i < 48) (hdg : decode cc pc = .ok (.iastore, 1)) (kk : ∀ (H1 : Heap) (locs1 : List Loc), sq_wd D A H0 s (tX0 cA) (wX0 a cA (sqA σ 1 i v)) H1 locs1 → W p l e R s m args below meth c H1 locs1 cells slots Q (F0 m (pc + 1) ls rest)) : W p l e R s m args below meth c H locs cells slots Q (F0 m pc ls (.int (nI v) :: .int (nI i) :: .ref (a 1) :: rest)) :=
  va_iast S.1 S.2.1 w.1 w.2.1 w.2.2.1 w.2.2.2.1 1 0 rfl rfl (vp_in_nI hi (by decide)) hdg (fun H1 locs1 hP hD hS => by
    rw [sq_upd (σ.2 1) v (by omega)] at hP hD
    exact kk H1 locs1 ⟨w.1, hP, hD, hS, w.2.2.2.2⟩)
theorem gX0_2 {v : Nat} (S : CallFix p m c cc nL s args lw_all RX0) (w : sq_wd D A H0 s (tX0 cA) (wX0 a cA σ) H locs) (hv : σ.1 2 = v) (hdg : decode cc pc = .ok (.getfield 42, 3)) (kk : W p l e R s m args below meth c H locs cells slots Q (F0 m (pc + 3) ls (.int (nI v) :: rest))) : W p l e R s m args below meth c H locs cells slots Q (F0 m pc ls (.ref (a 20) :: rest)) := by
  subst hv
  exact va_get (D := D) (ci := 0) (C := RX0) (T := TX0) (N := 18) S.1 S.2.1 S.2.2.2.2 in_X0 S.2.2.2.1 w.1 w.2.1 0 rfl rfl 2 (by decide) (S.2.2.2.2 _ q27) (fun _ h9 => h9) rfl hdg kk
theorem pX0_2 {v : Nat} (S : CallFix p m c cc nL s args lw_all RX0) (w : sq_wd D A H0 s (tX0 cA) (wX0 a cA σ) H locs) (hdg : decode cc pc = .ok (.putfield 42, 3)) (kk : ∀ (H1 : Heap) (locs1 : List Loc), sq_wd D A H0 s (tX0 cA) (wX0 a cA (sqF σ 2 v)) H1 locs1 → W p l e R s m args below meth c H1 locs1 cells slots Q (F0 m (pc + 3) ls rest)) : W p l e R s m args below meth c H locs cells slots Q (F0 m pc ls (.int (nI v) :: .ref (a 20) :: rest)) :=
  va_put (D := D) (ci := 0) (v := .int (nI v)) (ty := .int) (C := RX0) (T := TX0) (N := 18) S.1 S.2.1 S.2.2.2.2 in_X0 tyX0 tyX0_ok nmX0 S.2.2.2.1 w.1 w.2.1 w.2.2.1 w.2.2.2.1 0 rfl rfl 2 (by decide) (S.2.2.2.2 _ q27) (fun _ h9 => h9) rfl (by decide +kernel) rfl rfl (Nat.le_of_ble_eq_true rfl) hdg (fun H1 locs1 hP hD hS => kk H1 locs1 ⟨w.1, hP, hD, hS, w.2.2.2.2⟩)
theorem gX0_3 (S : CallFix p m c cc nL s args lw_all RX0) (w : sq_wd D A H0 s (tX0 cA) (wX0 a cA σ) H locs) (hdg : decode cc pc = .ok (.getfield 13, 3)) (kk : W p l e R s m args below meth c H locs cells slots Q (F0 m (pc + 3) ls (.ref (a 3) :: rest))) : W p l e R s m args below meth c H locs cells slots Q (F0 m pc ls (.ref (a 20) :: rest)) :=
  va_get (D := D) (ci := 0) (C := RX0) (T := TX0) (N := 18) S.1 S.2.1 S.2.2.2.2 in_X0 S.2.2.2.1 w.1 w.2.1 0 rfl rfl 3 (by decide) (S.2.2.2.2 _ q28) (fun _ h9 => h9) rfl hdg kk
theorem lX0_3 {i v : Nat} (S : CallFix p m c cc nL s args lw_all RX0) (w : sq_wd D A H0 s (tX0 cA) (wX0 a cA σ) H locs) (hi : i < 48) (hv : σ.2 3 i = v) (hdg : decode cc pc = .ok (.iaload, 1)) (kk : W p l e R s m args below meth c H locs cells slots Q (F0 m (pc + 1) ls (.int (nI v) :: rest))) : W p l e R s m args below meth c H locs cells slots Q (F0 m pc ls (.int (nI i) :: .ref (a 3) :: rest)) := by
  subst hv
  have e9 : (nI i).toNatClampNeg = i := nI_clamp (by omega)
  exact va_iald S.1 S.2.1 w.1 w.2.1 2 1 rfl rfl (vp_in_nI hi (by decide)) hdg (by rw [e9]; exact kk)
theorem sX0_3 {i v : Nat} (S : CallFix p m c cc nL s args lw_all RX0) (w : sq_wd D A H0 s (tX0 cA) (wX0 a cA σ) H locs) (hi : i < 48) (hdg : decode cc pc = .ok (.iastore, 1)) (kk : ∀ (H1 : Heap) (locs1 : List Loc), sq_wd D A H0 s (tX0 cA) (wX0 a cA (sqA σ 3 i v)) H1 locs1 → W p l e R s m args below meth c H1 locs1 cells slots Q (F0 m (pc + 1) ls rest)) : W p l e R s m args below meth c H locs cells slots Q (F0 m pc ls (.int (nI v) :: .int (nI i) :: .ref (a 3) :: rest)) :=
  va_iast S.1 S.2.1 w.1 w.2.1 w.2.2.1 w.2.2.2.1 2 1 rfl rfl (vp_in_nI hi (by decide)) hdg (fun H1 locs1 hP hD hS => by
    rw [sq_upd (σ.2 3) v (by omega)] at hP hD
    exact kk H1 locs1 ⟨w.1, hP, hD, hS, w.2.2.2.2⟩)
theorem gX0_4 {v : Nat} (S : CallFix p m c cc nL s args lw_all RX0) (w : sq_wd D A H0 s (tX0 cA) (wX0 a cA σ) H locs) (hv : σ.1 4 = v) (hdg : decode cc pc = .ok (.getfield 30, 3)) (kk : W p l e R s m args below meth c H locs cells slots Q (F0 m (pc + 3) ls (.int (nI v) :: rest))) : W p l e R s m args below meth c H locs cells slots Q (F0 m pc ls (.ref (a 20) :: rest)) := by
  subst hv
  exact va_get (D := D) (ci := 0) (C := RX0) (T := TX0) (N := 18) S.1 S.2.1 S.2.2.2.2 in_X0 S.2.2.2.1 w.1 w.2.1 0 rfl rfl 4 (by decide) (S.2.2.2.2 _ q29) (fun _ h9 => h9) rfl hdg kk
theorem pX0_4 {v : Nat} (S : CallFix p m c cc nL s args lw_all RX0) (w : sq_wd D A H0 s (tX0 cA) (wX0 a cA σ) H locs) (hdg : decode cc pc = .ok (.putfield 30, 3)) (kk : ∀ (H1 : Heap) (locs1 : List Loc), sq_wd D A H0 s (tX0 cA) (wX0 a cA (sqF σ 4 v)) H1 locs1 → W p l e R s m args below meth c H1 locs1 cells slots Q (F0 m (pc + 3) ls rest)) : W p l e R s m args below meth c H locs cells slots Q (F0 m pc ls (.int (nI v) :: .ref (a 20) :: rest)) :=
  va_put (D := D) (ci := 0) (v := .int (nI v)) (ty := .int) (C := RX0) (T := TX0) (N := 18) S.1 S.2.1 S.2.2.2.2 in_X0 tyX0 tyX0_ok nmX0 S.2.2.2.1 w.1 w.2.1 w.2.2.1 w.2.2.2.1 0 rfl rfl 4 (by decide) (S.2.2.2.2 _ q29) (fun _ h9 => h9) rfl (by decide +kernel) rfl rfl (Nat.le_of_ble_eq_true rfl) hdg (fun H1 locs1 hP hD hS => kk H1 locs1 ⟨w.1, hP, hD, hS, w.2.2.2.2⟩)
theorem gX0_5 {v : Nat} (S : CallFix p m c cc nL s args lw_all RX0) (w : sq_wd D A H0 s (tX0 cA) (wX0 a cA σ) H locs) (hv : σ.1 5 = v) (hdg : decode cc pc = .ok (.getfield 27, 3)) (kk : W p l e R s m args below meth c H locs cells slots Q (F0 m (pc + 3) ls (.int (nI v) :: rest))) : W p l e R s m args below meth c H locs cells slots Q (F0 m pc ls (.ref (a 20) :: rest)) := by
  subst hv
  exact va_get (D := D) (ci := 0) (C := RX0) (T := TX0) (N := 18) S.1 S.2.1 S.2.2.2.2 in_X0 S.2.2.2.1 w.1 w.2.1 0 rfl rfl 5 (by decide) (S.2.2.2.2 _ q30) (fun _ h9 => h9) rfl hdg kk
theorem pX0_5 {v : Nat} (S : CallFix p m c cc nL s args lw_all RX0) (w : sq_wd D A H0 s (tX0 cA) (wX0 a cA σ) H locs) (hdg : decode cc pc = .ok (.putfield 27, 3)) (kk : ∀ (H1 : Heap) (locs1 : List Loc), sq_wd D A H0 s (tX0 cA) (wX0 a cA (sqF σ 5 v)) H1 locs1 → W p l e R s m args below meth c H1 locs1 cells slots Q (F0 m (pc + 3) ls rest)) : W p l e R s m args below meth c H locs cells slots Q (F0 m pc ls (.int (nI v) :: .ref (a 20) :: rest)) :=
  va_put (D := D) (ci := 0) (v := .int (nI v)) (ty := .int) (C := RX0) (T := TX0) (N := 18) S.1 S.2.1 S.2.2.2.2 in_X0 tyX0 tyX0_ok nmX0 S.2.2.2.1 w.1 w.2.1 w.2.2.1 w.2.2.2.1 0 rfl rfl 5 (by decide) (S.2.2.2.2 _ q30) (fun _ h9 => h9) rfl (by decide +kernel) rfl rfl (Nat.le_of_ble_eq_true rfl) hdg (fun H1 locs1 hP hD hS => kk H1 locs1 ⟨w.1, hP, hD, hS, w.2.2.2.2⟩)
theorem gX0_6 (S : CallFix p m c cc nL s args lw_all RX0) (w : sq_wd D A H0 s (tX0 cA) (wX0 a cA σ) H locs) (hdg : decode cc pc = .ok (.getfield 16, 3)) (kk : W p l e R s m args below meth c H locs cells slots Q (F0 m (pc + 3) ls (.ref (a 6) :: rest))) : W p l e R s m args below meth c H locs cells slots Q (F0 m pc ls (.ref (a 20) :: rest)) :=
  va_get (D := D) (ci := 0) (C := RX0) (T := TX0) (N := 18) S.1 S.2.1 S.2.2.2.2 in_X0 S.2.2.2.1 w.1 w.2.1 0 rfl rfl 6 (by decide) (S.2.2.2.2 _ q31) (fun _ h9 => h9) rfl hdg kk
theorem lX0_6 {i v : Nat} (S : CallFix p m c cc nL s args lw_all RX0) (w : sq_wd D A H0 s (tX0 cA) (wX0 a cA σ) H locs) (hi : i < 1408) (hv : σ.2 6 i = v) (hdg : decode cc pc = .ok (.baload, 1)) (kk : W p l e R s m args below meth c H locs cells slots Q (F0 m (pc + 1) ls (.int (sb_b v) :: rest))) : W p l e R s m args below meth c H locs cells slots Q (F0 m pc ls (.int (nI i) :: .ref (a 6) :: rest)) := by
  subst hv
  have e9 : (nI i).toNatClampNeg = i := nI_clamp (by omega)
  exact va_bald S.1 S.2.1 w.1 w.2.1 3 2 rfl rfl (vp_in_nI hi (by decide)) hdg (by rw [e9]; exact kk)
theorem sX0_6 {i v : Nat} (S : CallFix p m c cc nL s args lw_all RX0) (w : sq_wd D A H0 s (tX0 cA) (wX0 a cA σ) H locs) (hi : i < 1408) (hv : v < 512) (hdg : decode cc pc = .ok (.bastore, 1)) (kk : ∀ (H1 : Heap) (locs1 : List Loc), sq_wd D A H0 s (tX0 cA) (wX0 a cA (sqA σ 6 i (v % 256))) H1 locs1 → W p l e R s m args below meth c H1 locs1 cells slots Q (F0 m (pc + 1) ls rest)) : W p l e R s m args below meth c H locs cells slots Q (F0 m pc ls (.int (sb_b v) :: .int (nI i) :: .ref (a 6) :: rest)) :=
  va_bast S.1 S.2.1 w.1 w.2.1 w.2.2.1 w.2.2.2.1 3 2 rfl rfl (vp_in_nI hi (by decide)) hdg (fun H1 locs1 hP hD hS => by
    rw [sq_updb (σ.2 6) v (by omega) hv] at hP hD
    exact kk H1 locs1 ⟨w.1, hP, hD, hS, w.2.2.2.2⟩)
theorem gX0_7 (S : CallFix p m c cc nL s args lw_all RX0) (w : sq_wd D A H0 s (tX0 cA) (wX0 a cA σ) H locs) (hdg : decode cc pc = .ok (.getfield 20, 3)) (kk : W p l e R s m args below meth c H locs cells slots Q (F0 m (pc + 3) ls (.ref (a 7) :: rest))) : W p l e R s m args below meth c H locs cells slots Q (F0 m pc ls (.ref (a 20) :: rest)) :=
  va_get (D := D) (ci := 0) (C := RX0) (T := TX0) (N := 18) S.1 S.2.1 S.2.2.2.2 in_X0 S.2.2.2.1 w.1 w.2.1 0 rfl rfl 7 (by decide) (S.2.2.2.2 _ q32) (fun _ h9 => h9) rfl hdg kk
theorem lX0_7 {i v : Nat} (S : CallFix p m c cc nL s args lw_all RX0) (w : sq_wd D A H0 s (tX0 cA) (wX0 a cA σ) H locs) (hi : i < 394) (hv : σ.2 7 i = v) (hdg : decode cc pc = .ok (.iaload, 1)) (kk : W p l e R s m args below meth c H locs cells slots Q (F0 m (pc + 1) ls (.int (nI v) :: rest))) : W p l e R s m args below meth c H locs cells slots Q (F0 m pc ls (.int (nI i) :: .ref (a 7) :: rest)) := by
  subst hv
  have e9 : (nI i).toNatClampNeg = i := nI_clamp (by omega)
  exact va_iald S.1 S.2.1 w.1 w.2.1 4 3 rfl rfl (vp_in_nI hi (by decide)) hdg (by rw [e9]; exact kk)
theorem sX0_7 {i v : Nat} (S : CallFix p m c cc nL s args lw_all RX0) (w : sq_wd D A H0 s (tX0 cA) (wX0 a cA σ) H locs) (hi : i < 394) (hdg : decode cc pc = .ok (.iastore, 1)) (kk : ∀ (H1 : Heap) (locs1 : List Loc), sq_wd D A H0 s (tX0 cA) (wX0 a cA (sqA σ 7 i v)) H1 locs1 → W p l e R s m args below meth c H1 locs1 cells slots Q (F0 m (pc + 1) ls rest)) : W p l e R s m args below meth c H locs cells slots Q (F0 m pc ls (.int (nI v) :: .int (nI i) :: .ref (a 7) :: rest)) :=
  va_iast S.1 S.2.1 w.1 w.2.1 w.2.2.1 w.2.2.2.1 4 3 rfl rfl (vp_in_nI hi (by decide)) hdg (fun H1 locs1 hP hD hS => by
    rw [sq_upd (σ.2 7) v (by omega)] at hP hD
    exact kk H1 locs1 ⟨w.1, hP, hD, hS, w.2.2.2.2⟩)
theorem gX0_8 {v : Nat} (S : CallFix p m c cc nL s args lw_all RX0) (w : sq_wd D A H0 s (tX0 cA) (wX0 a cA σ) H locs) (hv : σ.1 8 = v) (hdg : decode cc pc = .ok (.getfield 48, 3)) (kk : W p l e R s m args below meth c H locs cells slots Q (F0 m (pc + 3) ls (.long (lN v) :: rest))) : W p l e R s m args below meth c H locs cells slots Q (F0 m pc ls (.ref (a 20) :: rest)) := by
  subst hv
  exact va_get (D := D) (ci := 0) (C := RX0) (T := TX0) (N := 18) S.1 S.2.1 S.2.2.2.2 in_X0 S.2.2.2.1 w.1 w.2.1 0 rfl rfl 8 (by decide) (S.2.2.2.2 _ q33) (fun _ h9 => h9) rfl hdg kk
theorem pX0_8 {v : Nat} (S : CallFix p m c cc nL s args lw_all RX0) (w : sq_wd D A H0 s (tX0 cA) (wX0 a cA σ) H locs) (hdg : decode cc pc = .ok (.putfield 48, 3)) (kk : ∀ (H1 : Heap) (locs1 : List Loc), sq_wd D A H0 s (tX0 cA) (wX0 a cA (sqF σ 8 v)) H1 locs1 → W p l e R s m args below meth c H1 locs1 cells slots Q (F0 m (pc + 3) ls rest)) : W p l e R s m args below meth c H locs cells slots Q (F0 m pc ls (.long (lN v) :: .ref (a 20) :: rest)) :=
  va_put (D := D) (ci := 0) (v := .long (lN v)) (ty := .long) (C := RX0) (T := TX0) (N := 18) S.1 S.2.1 S.2.2.2.2 in_X0 tyX0 tyX0_ok nmX0 S.2.2.2.1 w.1 w.2.1 w.2.2.1 w.2.2.2.1 0 rfl rfl 8 (by decide) (S.2.2.2.2 _ q33) (fun _ h9 => h9) rfl (by decide +kernel) rfl rfl (Nat.le_of_ble_eq_true rfl) hdg (fun H1 locs1 hP hD hS => kk H1 locs1 ⟨w.1, hP, hD, hS, w.2.2.2.2⟩)
theorem gX0_9 {v : Nat} (S : CallFix p m c cc nL s args lw_all RX0) (w : sq_wd D A H0 s (tX0 cA) (wX0 a cA σ) H locs) (hv : σ.1 9 = v) (hdg : decode cc pc = .ok (.getfield 54, 3)) (kk : W p l e R s m args below meth c H locs cells slots Q (F0 m (pc + 3) ls (.long (lN v) :: rest))) : W p l e R s m args below meth c H locs cells slots Q (F0 m pc ls (.ref (a 20) :: rest)) := by
  subst hv
  exact va_get (D := D) (ci := 0) (C := RX0) (T := TX0) (N := 18) S.1 S.2.1 S.2.2.2.2 in_X0 S.2.2.2.1 w.1 w.2.1 0 rfl rfl 9 (by decide) (S.2.2.2.2 _ q34) (fun _ h9 => h9) rfl hdg kk
theorem pX0_9 {v : Nat} (S : CallFix p m c cc nL s args lw_all RX0) (w : sq_wd D A H0 s (tX0 cA) (wX0 a cA σ) H locs) (hdg : decode cc pc = .ok (.putfield 54, 3)) (kk : ∀ (H1 : Heap) (locs1 : List Loc), sq_wd D A H0 s (tX0 cA) (wX0 a cA (sqF σ 9 v)) H1 locs1 → W p l e R s m args below meth c H1 locs1 cells slots Q (F0 m (pc + 3) ls rest)) : W p l e R s m args below meth c H locs cells slots Q (F0 m pc ls (.long (lN v) :: .ref (a 20) :: rest)) :=
  va_put (D := D) (ci := 0) (v := .long (lN v)) (ty := .long) (C := RX0) (T := TX0) (N := 18) S.1 S.2.1 S.2.2.2.2 in_X0 tyX0 tyX0_ok nmX0 S.2.2.2.1 w.1 w.2.1 w.2.2.1 w.2.2.2.1 0 rfl rfl 9 (by decide) (S.2.2.2.2 _ q34) (fun _ h9 => h9) rfl (by decide +kernel) rfl rfl (Nat.le_of_ble_eq_true rfl) hdg (fun H1 locs1 hP hD hS => kk H1 locs1 ⟨w.1, hP, hD, hS, w.2.2.2.2⟩)
theorem gX0_10 {v : Nat} (S : CallFix p m c cc nL s args lw_all RX0) (w : sq_wd D A H0 s (tX0 cA) (wX0 a cA σ) H locs) (hv : σ.1 10 = v) (hdg : decode cc pc = .ok (.getfield 57, 3)) (kk : W p l e R s m args below meth c H locs cells slots Q (F0 m (pc + 3) ls (.int (nI v) :: rest))) : W p l e R s m args below meth c H locs cells slots Q (F0 m pc ls (.ref (a 20) :: rest)) := by
  subst hv
  exact va_get (D := D) (ci := 0) (C := RX0) (T := TX0) (N := 18) S.1 S.2.1 S.2.2.2.2 in_X0 S.2.2.2.1 w.1 w.2.1 0 rfl rfl 10 (by decide) (S.2.2.2.2 _ q35) (fun _ h9 => h9) rfl hdg kk
theorem pX0_10 {v : Nat} (S : CallFix p m c cc nL s args lw_all RX0) (w : sq_wd D A H0 s (tX0 cA) (wX0 a cA σ) H locs) (hdg : decode cc pc = .ok (.putfield 57, 3)) (kk : ∀ (H1 : Heap) (locs1 : List Loc), sq_wd D A H0 s (tX0 cA) (wX0 a cA (sqF σ 10 v)) H1 locs1 → W p l e R s m args below meth c H1 locs1 cells slots Q (F0 m (pc + 3) ls rest)) : W p l e R s m args below meth c H locs cells slots Q (F0 m pc ls (.int (nI v) :: .ref (a 20) :: rest)) :=
  va_put (D := D) (ci := 0) (v := .int (nI v)) (ty := .int) (C := RX0) (T := TX0) (N := 18) S.1 S.2.1 S.2.2.2.2 in_X0 tyX0 tyX0_ok nmX0 S.2.2.2.1 w.1 w.2.1 w.2.2.1 w.2.2.2.1 0 rfl rfl 10 (by decide) (S.2.2.2.2 _ q35) (fun _ h9 => h9) rfl (by decide +kernel) rfl rfl (Nat.le_of_ble_eq_true rfl) hdg (fun H1 locs1 hP hD hS => kk H1 locs1 ⟨w.1, hP, hD, hS, w.2.2.2.2⟩)
theorem gX0_11 {v : Nat} (S : CallFix p m c cc nL s args lw_all RX0) (w : sq_wd D A H0 s (tX0 cA) (wX0 a cA σ) H locs) (hv : σ.1 11 = v) (hdg : decode cc pc = .ok (.getfield 60, 3)) (kk : W p l e R s m args below meth c H locs cells slots Q (F0 m (pc + 3) ls (.int (nI v) :: rest))) : W p l e R s m args below meth c H locs cells slots Q (F0 m pc ls (.ref (a 20) :: rest)) := by
  subst hv
  exact va_get (D := D) (ci := 0) (C := RX0) (T := TX0) (N := 18) S.1 S.2.1 S.2.2.2.2 in_X0 S.2.2.2.1 w.1 w.2.1 0 rfl rfl 11 (by decide) (S.2.2.2.2 _ q36) (fun _ h9 => h9) rfl hdg kk
theorem pX0_11 {v : Nat} (S : CallFix p m c cc nL s args lw_all RX0) (w : sq_wd D A H0 s (tX0 cA) (wX0 a cA σ) H locs) (hdg : decode cc pc = .ok (.putfield 60, 3)) (kk : ∀ (H1 : Heap) (locs1 : List Loc), sq_wd D A H0 s (tX0 cA) (wX0 a cA (sqF σ 11 v)) H1 locs1 → W p l e R s m args below meth c H1 locs1 cells slots Q (F0 m (pc + 3) ls rest)) : W p l e R s m args below meth c H locs cells slots Q (F0 m pc ls (.int (nI v) :: .ref (a 20) :: rest)) :=
  va_put (D := D) (ci := 0) (v := .int (nI v)) (ty := .int) (C := RX0) (T := TX0) (N := 18) S.1 S.2.1 S.2.2.2.2 in_X0 tyX0 tyX0_ok nmX0 S.2.2.2.1 w.1 w.2.1 w.2.2.1 w.2.2.2.1 0 rfl rfl 11 (by decide) (S.2.2.2.2 _ q36) (fun _ h9 => h9) rfl (by decide +kernel) rfl rfl (Nat.le_of_ble_eq_true rfl) hdg (fun H1 locs1 hP hD hS => kk H1 locs1 ⟨w.1, hP, hD, hS, w.2.2.2.2⟩)
theorem gX0_12 {v : Nat} (S : CallFix p m c cc nL s args lw_all RX0) (w : sq_wd D A H0 s (tX0 cA) (wX0 a cA σ) H locs) (hv : σ.1 12 = v) (hdg : decode cc pc = .ok (.getfield 33, 3)) (kk : W p l e R s m args below meth c H locs cells slots Q (F0 m (pc + 3) ls (.int (nI v) :: rest))) : W p l e R s m args below meth c H locs cells slots Q (F0 m pc ls (.ref (a 20) :: rest)) := by
  subst hv
  exact va_get (D := D) (ci := 0) (C := RX0) (T := TX0) (N := 18) S.1 S.2.1 S.2.2.2.2 in_X0 S.2.2.2.1 w.1 w.2.1 0 rfl rfl 12 (by decide) (S.2.2.2.2 _ q37) (fun _ h9 => h9) rfl hdg kk
theorem pX0_12 {v : Nat} (S : CallFix p m c cc nL s args lw_all RX0) (w : sq_wd D A H0 s (tX0 cA) (wX0 a cA σ) H locs) (hdg : decode cc pc = .ok (.putfield 33, 3)) (kk : ∀ (H1 : Heap) (locs1 : List Loc), sq_wd D A H0 s (tX0 cA) (wX0 a cA (sqF σ 12 v)) H1 locs1 → W p l e R s m args below meth c H1 locs1 cells slots Q (F0 m (pc + 3) ls rest)) : W p l e R s m args below meth c H locs cells slots Q (F0 m pc ls (.int (nI v) :: .ref (a 20) :: rest)) :=
  va_put (D := D) (ci := 0) (v := .int (nI v)) (ty := .int) (C := RX0) (T := TX0) (N := 18) S.1 S.2.1 S.2.2.2.2 in_X0 tyX0 tyX0_ok nmX0 S.2.2.2.1 w.1 w.2.1 w.2.2.1 w.2.2.2.1 0 rfl rfl 12 (by decide) (S.2.2.2.2 _ q37) (fun _ h9 => h9) rfl (by decide +kernel) rfl rfl (Nat.le_of_ble_eq_true rfl) hdg (fun H1 locs1 hP hD hS => kk H1 locs1 ⟨w.1, hP, hD, hS, w.2.2.2.2⟩)
theorem gX0_13 {v : Nat} (S : CallFix p m c cc nL s args lw_all RX0) (w : sq_wd D A H0 s (tX0 cA) (wX0 a cA σ) H locs) (hv : σ.1 13 = v) (hdg : decode cc pc = .ok (.getfield 63, 3)) (kk : W p l e R s m args below meth c H locs cells slots Q (F0 m (pc + 3) ls (.int (nI v) :: rest))) : W p l e R s m args below meth c H locs cells slots Q (F0 m pc ls (.ref (a 20) :: rest)) := by
  subst hv
  exact va_get (D := D) (ci := 0) (C := RX0) (T := TX0) (N := 18) S.1 S.2.1 S.2.2.2.2 in_X0 S.2.2.2.1 w.1 w.2.1 0 rfl rfl 13 (by decide) (S.2.2.2.2 _ q38) (fun _ h9 => h9) rfl hdg kk
theorem pX0_13 {v : Nat} (S : CallFix p m c cc nL s args lw_all RX0) (w : sq_wd D A H0 s (tX0 cA) (wX0 a cA σ) H locs) (hdg : decode cc pc = .ok (.putfield 63, 3)) (kk : ∀ (H1 : Heap) (locs1 : List Loc), sq_wd D A H0 s (tX0 cA) (wX0 a cA (sqF σ 13 v)) H1 locs1 → W p l e R s m args below meth c H1 locs1 cells slots Q (F0 m (pc + 3) ls rest)) : W p l e R s m args below meth c H locs cells slots Q (F0 m pc ls (.int (nI v) :: .ref (a 20) :: rest)) :=
  va_put (D := D) (ci := 0) (v := .int (nI v)) (ty := .int) (C := RX0) (T := TX0) (N := 18) S.1 S.2.1 S.2.2.2.2 in_X0 tyX0 tyX0_ok nmX0 S.2.2.2.1 w.1 w.2.1 w.2.2.1 w.2.2.2.1 0 rfl rfl 13 (by decide) (S.2.2.2.2 _ q38) (fun _ h9 => h9) rfl (by decide +kernel) rfl rfl (Nat.le_of_ble_eq_true rfl) hdg (fun H1 locs1 hP hD hS => kk H1 locs1 ⟨w.1, hP, hD, hS, w.2.2.2.2⟩)
theorem gX0_14 {v : Nat} (S : CallFix p m c cc nL s args lw_all RX0) (w : sq_wd D A H0 s (tX0 cA) (wX0 a cA σ) H locs) (hv : σ.1 14 = v) (hdg : decode cc pc = .ok (.getfield 103, 3)) (kk : W p l e R s m args below meth c H locs cells slots Q (F0 m (pc + 3) ls (.long (lN v) :: rest))) : W p l e R s m args below meth c H locs cells slots Q (F0 m pc ls (.ref (a 20) :: rest)) := by
  subst hv
  exact va_get (D := D) (ci := 0) (C := RX0) (T := TX0) (N := 18) S.1 S.2.1 S.2.2.2.2 in_X0 S.2.2.2.1 w.1 w.2.1 0 rfl rfl 14 (by decide) (S.2.2.2.2 _ q39) (fun _ h9 => h9) rfl hdg kk
theorem pX0_14 {v : Nat} (S : CallFix p m c cc nL s args lw_all RX0) (w : sq_wd D A H0 s (tX0 cA) (wX0 a cA σ) H locs) (hdg : decode cc pc = .ok (.putfield 103, 3)) (kk : ∀ (H1 : Heap) (locs1 : List Loc), sq_wd D A H0 s (tX0 cA) (wX0 a cA (sqF σ 14 v)) H1 locs1 → W p l e R s m args below meth c H1 locs1 cells slots Q (F0 m (pc + 3) ls rest)) : W p l e R s m args below meth c H locs cells slots Q (F0 m pc ls (.long (lN v) :: .ref (a 20) :: rest)) :=
  va_put (D := D) (ci := 0) (v := .long (lN v)) (ty := .long) (C := RX0) (T := TX0) (N := 18) S.1 S.2.1 S.2.2.2.2 in_X0 tyX0 tyX0_ok nmX0 S.2.2.2.1 w.1 w.2.1 w.2.2.1 w.2.2.2.1 0 rfl rfl 14 (by decide) (S.2.2.2.2 _ q39) (fun _ h9 => h9) rfl (by decide +kernel) rfl rfl (Nat.le_of_ble_eq_true rfl) hdg (fun H1 locs1 hP hD hS => kk H1 locs1 ⟨w.1, hP, hD, hS, w.2.2.2.2⟩)
theorem gX0_15 {v : Nat} (S : CallFix p m c cc nL s args lw_all RX0) (w : sq_wd D A H0 s (tX0 cA) (wX0 a cA σ) H locs) (hv : σ.1 15 = v) (hdg : decode cc pc = .ok (.getfield 106, 3)) (kk : W p l e R s m args below meth c H locs cells slots Q (F0 m (pc + 3) ls (.int (nI v) :: rest))) : W p l e R s m args below meth c H locs cells slots Q (F0 m pc ls (.ref (a 20) :: rest)) := by
  subst hv
  exact va_get (D := D) (ci := 0) (C := RX0) (T := TX0) (N := 18) S.1 S.2.1 S.2.2.2.2 in_X0 S.2.2.2.1 w.1 w.2.1 0 rfl rfl 15 (by decide) (S.2.2.2.2 _ q40) (fun _ h9 => h9) rfl hdg kk
theorem pX0_15 {v : Nat} (S : CallFix p m c cc nL s args lw_all RX0) (w : sq_wd D A H0 s (tX0 cA) (wX0 a cA σ) H locs) (hdg : decode cc pc = .ok (.putfield 106, 3)) (kk : ∀ (H1 : Heap) (locs1 : List Loc), sq_wd D A H0 s (tX0 cA) (wX0 a cA (sqF σ 15 v)) H1 locs1 → W p l e R s m args below meth c H1 locs1 cells slots Q (F0 m (pc + 3) ls rest)) : W p l e R s m args below meth c H locs cells slots Q (F0 m pc ls (.int (nI v) :: .ref (a 20) :: rest)) :=
  va_put (D := D) (ci := 0) (v := .int (nI v)) (ty := .int) (C := RX0) (T := TX0) (N := 18) S.1 S.2.1 S.2.2.2.2 in_X0 tyX0 tyX0_ok nmX0 S.2.2.2.1 w.1 w.2.1 w.2.2.1 w.2.2.2.1 0 rfl rfl 15 (by decide) (S.2.2.2.2 _ q40) (fun _ h9 => h9) rfl (by decide +kernel) rfl rfl (Nat.le_of_ble_eq_true rfl) hdg (fun H1 locs1 hP hD hS => kk H1 locs1 ⟨w.1, hP, hD, hS, w.2.2.2.2⟩)
theorem gX0_16 {v : Nat} (S : CallFix p m c cc nL s args lw_all RX0) (w : sq_wd D A H0 s (tX0 cA) (wX0 a cA σ) H locs) (hv : σ.1 16 = v) (hdg : decode cc pc = .ok (.getfield 74, 3)) (kk : W p l e R s m args below meth c H locs cells slots Q (F0 m (pc + 3) ls (.int (nI v) :: rest))) : W p l e R s m args below meth c H locs cells slots Q (F0 m pc ls (.ref (a 20) :: rest)) := by
  subst hv
  exact va_get (D := D) (ci := 0) (C := RX0) (T := TX0) (N := 18) S.1 S.2.1 S.2.2.2.2 in_X0 S.2.2.2.1 w.1 w.2.1 0 rfl rfl 16 (by decide) (S.2.2.2.2 _ q41) (fun _ h9 => h9) rfl hdg kk
theorem pX0_16 {v : Nat} (S : CallFix p m c cc nL s args lw_all RX0) (w : sq_wd D A H0 s (tX0 cA) (wX0 a cA σ) H locs) (hdg : decode cc pc = .ok (.putfield 74, 3)) (kk : ∀ (H1 : Heap) (locs1 : List Loc), sq_wd D A H0 s (tX0 cA) (wX0 a cA (sqF σ 16 v)) H1 locs1 → W p l e R s m args below meth c H1 locs1 cells slots Q (F0 m (pc + 3) ls rest)) : W p l e R s m args below meth c H locs cells slots Q (F0 m pc ls (.int (nI v) :: .ref (a 20) :: rest)) :=
  va_put (D := D) (ci := 0) (v := .int (nI v)) (ty := .int) (C := RX0) (T := TX0) (N := 18) S.1 S.2.1 S.2.2.2.2 in_X0 tyX0 tyX0_ok nmX0 S.2.2.2.1 w.1 w.2.1 w.2.2.1 w.2.2.2.1 0 rfl rfl 16 (by decide) (S.2.2.2.2 _ q41) (fun _ h9 => h9) rfl (by decide +kernel) rfl rfl (Nat.le_of_ble_eq_true rfl) hdg (fun H1 locs1 hP hD hS => kk H1 locs1 ⟨w.1, hP, hD, hS, w.2.2.2.2⟩)
theorem gX0_17 {v : Nat} (S : CallFix p m c cc nL s args lw_all RX0) (w : sq_wd D A H0 s (tX0 cA) (wX0 a cA σ) H locs) (hv : σ.1 17 = v) (hdg : decode cc pc = .ok (.getfield 81, 3)) (kk : W p l e R s m args below meth c H locs cells slots Q (F0 m (pc + 3) ls (.int (nI v) :: rest))) : W p l e R s m args below meth c H locs cells slots Q (F0 m pc ls (.ref (a 20) :: rest)) := by
  subst hv
  exact va_get (D := D) (ci := 0) (C := RX0) (T := TX0) (N := 18) S.1 S.2.1 S.2.2.2.2 in_X0 S.2.2.2.1 w.1 w.2.1 0 rfl rfl 17 (by decide) (S.2.2.2.2 _ q42) (fun _ h9 => h9) rfl hdg kk
theorem pX0_17 {v : Nat} (S : CallFix p m c cc nL s args lw_all RX0) (w : sq_wd D A H0 s (tX0 cA) (wX0 a cA σ) H locs) (hdg : decode cc pc = .ok (.putfield 81, 3)) (kk : ∀ (H1 : Heap) (locs1 : List Loc), sq_wd D A H0 s (tX0 cA) (wX0 a cA (sqF σ 17 v)) H1 locs1 → W p l e R s m args below meth c H1 locs1 cells slots Q (F0 m (pc + 3) ls rest)) : W p l e R s m args below meth c H locs cells slots Q (F0 m pc ls (.int (nI v) :: .ref (a 20) :: rest)) :=
  va_put (D := D) (ci := 0) (v := .int (nI v)) (ty := .int) (C := RX0) (T := TX0) (N := 18) S.1 S.2.1 S.2.2.2.2 in_X0 tyX0 tyX0_ok nmX0 S.2.2.2.1 w.1 w.2.1 w.2.2.1 w.2.2.2.1 0 rfl rfl 17 (by decide) (S.2.2.2.2 _ q42) (fun _ h9 => h9) rfl (by decide +kernel) rfl rfl (Nat.le_of_ble_eq_true rfl) hdg (fun H1 locs1 hP hD hS => kk H1 locs1 ⟨w.1, hP, hD, hS, w.2.2.2.2⟩)
theorem gX1_0 (S : CallFix p m c cc nL s args lw_all RX1) (w : sq_wd D A H0 s (tX1 cA) (wX1 a cA σ) H locs) (hdg : decode cc pc = .ok (.getfield 7, 3)) (kk : W p l e R s m args below meth c H locs cells slots Q (F0 m (pc + 3) ls (.ref (a 0) :: rest))) : W p l e R s m args below meth c H locs cells slots Q (F0 m pc ls (.ref (a 20) :: rest)) :=
  va_get (D := D) (ci := 1) (C := RX1) (T := TX1) (N := 7) S.1 S.2.1 S.2.2.2.2 in_X1 S.2.2.2.1 w.1 w.2.1 0 rfl rfl 0 (by decide) (S.2.2.2.2 _ q188) (fun _ h9 => h9) rfl hdg kk
theorem lX1_0 {i v : Nat} (S : CallFix p m c cc nL s args lw_all RX1) (w : sq_wd D A H0 s (tX1 cA) (wX1 a cA σ) H locs) (hi : i < 48) (hv : σ.2 0 i = v) (hdg : decode cc pc = .ok (.iaload, 1)) (kk : W p l e R s m args below meth c H locs cells slots Q (F0 m (pc + 1) ls (.int (nI v) :: rest))) : W p l e R s m args below meth c H locs cells slots Q (F0 m pc ls (.int (nI i) :: .ref (a 0) :: rest)) := by
  subst hv
  have e9 : (nI i).toNatClampNeg = i := nI_clamp (by omega)
  exact va_iald S.1 S.2.1 w.1 w.2.1 1 0 rfl rfl (vp_in_nI hi (by decide)) hdg (by rw [e9]; exact kk)
theorem sX1_0 {i v : Nat} (S : CallFix p m c cc nL s args lw_all RX1) (w : sq_wd D A H0 s (tX1 cA) (wX1 a cA σ) H locs) (hi : i < 48) (hdg : decode cc pc = .ok (.iastore, 1)) (kk : ∀ (H1 : Heap) (locs1 : List Loc), sq_wd D A H0 s (tX1 cA) (wX1 a cA (sqA σ 0 i v)) H1 locs1 → W p l e R s m args below meth c H1 locs1 cells slots Q (F0 m (pc + 1) ls rest)) : W p l e R s m args below meth c H locs cells slots Q (F0 m pc ls (.int (nI v) :: .int (nI i) :: .ref (a 0) :: rest)) :=
  va_iast S.1 S.2.1 w.1 w.2.1 w.2.2.1 w.2.2.2.1 1 0 rfl rfl (vp_in_nI hi (by decide)) hdg (fun H1 locs1 hP hD hS => by
    rw [sq_upd (σ.2 0) v (by omega)] at hP hD
    exact kk H1 locs1 ⟨w.1, hP, hD, hS, w.2.2.2.2⟩)
theorem gX1_1 {v : Nat} (S : CallFix p m c cc nL s args lw_all RX1) (w : sq_wd D A H0 s (tX1 cA) (wX1 a cA σ) H locs) (hv : σ.1 1 = v) (hdg : decode cc pc = .ok (.getfield 22, 3)) (kk : W p l e R s m args below meth c H locs cells slots Q (F0 m (pc + 3) ls (.int (nI v) :: rest))) : W p l e R s m args below meth c H locs cells slots Q (F0 m pc ls (.ref (a 20) :: rest)) := by
  subst hv
  exact va_get (D := D) (ci := 1) (C := RX1) (T := TX1) (N := 7) S.1 S.2.1 S.2.2.2.2 in_X1 S.2.2.2.1 w.1 w.2.1 0 rfl rfl 1 (by decide) (S.2.2.2.2 _ q189) (fun _ h9 => h9) rfl hdg kk
theorem pX1_1 {v : Nat} (S : CallFix p m c cc nL s args lw_all RX1) (w : sq_wd D A H0 s (tX1 cA) (wX1 a cA σ) H locs) (hdg : decode cc pc = .ok (.putfield 22, 3)) (kk : ∀ (H1 : Heap) (locs1 : List Loc), sq_wd D A H0 s (tX1 cA) (wX1 a cA (sqF σ 1 v)) H1 locs1 → W p l e R s m args below meth c H1 locs1 cells slots Q (F0 m (pc + 3) ls rest)) : W p l e R s m args below meth c H locs cells slots Q (F0 m pc ls (.int (nI v) :: .ref (a 20) :: rest)) :=
  va_put (D := D) (ci := 1) (v := .int (nI v)) (ty := .int) (C := RX1) (T := TX1) (N := 7) S.1 S.2.1 S.2.2.2.2 in_X1 tyX1 tyX1_ok nmX1 S.2.2.2.1 w.1 w.2.1 w.2.2.1 w.2.2.2.1 0 rfl rfl 1 (by decide) (S.2.2.2.2 _ q189) (fun _ h9 => h9) rfl (by decide +kernel) rfl rfl (Nat.le_of_ble_eq_true rfl) hdg (fun H1 locs1 hP hD hS => kk H1 locs1 ⟨w.1, hP, hD, hS, w.2.2.2.2⟩)
theorem gX1_2 (S : CallFix p m c cc nL s args lw_all RX1) (w : sq_wd D A H0 s (tX1 cA) (wX1 a cA σ) H locs) (hdg : decode cc pc = .ok (.getfield 13, 3)) (kk : W p l e R s m args below meth c H locs cells slots Q (F0 m (pc + 3) ls (.ref (a 2) :: rest))) : W p l e R s m args below meth c H locs cells slots Q (F0 m pc ls (.ref (a 20) :: rest)) :=
  va_get (D := D) (ci := 1) (C := RX1) (T := TX1) (N := 7) S.1 S.2.1 S.2.2.2.2 in_X1 S.2.2.2.1 w.1 w.2.1 0 rfl rfl 2 (by decide) (S.2.2.2.2 _ q190) (fun _ h9 => h9) rfl hdg kk
theorem lX1_2 {i v : Nat} (S : CallFix p m c cc nL s args lw_all RX1) (w : sq_wd D A H0 s (tX1 cA) (wX1 a cA σ) H locs) (hi : i < 48) (hv : σ.2 2 i = v) (hdg : decode cc pc = .ok (.iaload, 1)) (kk : W p l e R s m args below meth c H locs cells slots Q (F0 m (pc + 1) ls (.int (nI v) :: rest))) : W p l e R s m args below meth c H locs cells slots Q (F0 m pc ls (.int (nI i) :: .ref (a 2) :: rest)) := by
  subst hv
  have e9 : (nI i).toNatClampNeg = i := nI_clamp (by omega)
  exact va_iald S.1 S.2.1 w.1 w.2.1 2 1 rfl rfl (vp_in_nI hi (by decide)) hdg (by rw [e9]; exact kk)
theorem sX1_2 {i v : Nat} (S : CallFix p m c cc nL s args lw_all RX1) (w : sq_wd D A H0 s (tX1 cA) (wX1 a cA σ) H locs) (hi : i < 48) (hdg : decode cc pc = .ok (.iastore, 1)) (kk : ∀ (H1 : Heap) (locs1 : List Loc), sq_wd D A H0 s (tX1 cA) (wX1 a cA (sqA σ 2 i v)) H1 locs1 → W p l e R s m args below meth c H1 locs1 cells slots Q (F0 m (pc + 1) ls rest)) : W p l e R s m args below meth c H locs cells slots Q (F0 m pc ls (.int (nI v) :: .int (nI i) :: .ref (a 2) :: rest)) :=
  va_iast S.1 S.2.1 w.1 w.2.1 w.2.2.1 w.2.2.2.1 2 1 rfl rfl (vp_in_nI hi (by decide)) hdg (fun H1 locs1 hP hD hS => by
    rw [sq_upd (σ.2 2) v (by omega)] at hP hD
    exact kk H1 locs1 ⟨w.1, hP, hD, hS, w.2.2.2.2⟩)
theorem gX1_3 {v : Nat} (S : CallFix p m c cc nL s args lw_all RX1) (w : sq_wd D A H0 s (tX1 cA) (wX1 a cA σ) H locs) (hv : σ.1 3 = v) (hdg : decode cc pc = .ok (.getfield 29, 3)) (kk : W p l e R s m args below meth c H locs cells slots Q (F0 m (pc + 3) ls (.int (nI v) :: rest))) : W p l e R s m args below meth c H locs cells slots Q (F0 m pc ls (.ref (a 20) :: rest)) := by
  subst hv
  exact va_get (D := D) (ci := 1) (C := RX1) (T := TX1) (N := 7) S.1 S.2.1 S.2.2.2.2 in_X1 S.2.2.2.1 w.1 w.2.1 0 rfl rfl 3 (by decide) (S.2.2.2.2 _ q191) (fun _ h9 => h9) rfl hdg kk
theorem pX1_3 {v : Nat} (S : CallFix p m c cc nL s args lw_all RX1) (w : sq_wd D A H0 s (tX1 cA) (wX1 a cA σ) H locs) (hdg : decode cc pc = .ok (.putfield 29, 3)) (kk : ∀ (H1 : Heap) (locs1 : List Loc), sq_wd D A H0 s (tX1 cA) (wX1 a cA (sqF σ 3 v)) H1 locs1 → W p l e R s m args below meth c H1 locs1 cells slots Q (F0 m (pc + 3) ls rest)) : W p l e R s m args below meth c H locs cells slots Q (F0 m pc ls (.int (nI v) :: .ref (a 20) :: rest)) :=
  va_put (D := D) (ci := 1) (v := .int (nI v)) (ty := .int) (C := RX1) (T := TX1) (N := 7) S.1 S.2.1 S.2.2.2.2 in_X1 tyX1 tyX1_ok nmX1 S.2.2.2.1 w.1 w.2.1 w.2.2.1 w.2.2.2.1 0 rfl rfl 3 (by decide) (S.2.2.2.2 _ q191) (fun _ h9 => h9) rfl (by decide +kernel) rfl rfl (Nat.le_of_ble_eq_true rfl) hdg (fun H1 locs1 hP hD hS => kk H1 locs1 ⟨w.1, hP, hD, hS, w.2.2.2.2⟩)
theorem gX1_4 (S : CallFix p m c cc nL s args lw_all RX1) (w : sq_wd D A H0 s (tX1 cA) (wX1 a cA σ) H locs) (hdg : decode cc pc = .ok (.getfield 16, 3)) (kk : W p l e R s m args below meth c H locs cells slots Q (F0 m (pc + 3) ls (.ref (a 4) :: rest))) : W p l e R s m args below meth c H locs cells slots Q (F0 m pc ls (.ref (a 20) :: rest)) :=
  va_get (D := D) (ci := 1) (C := RX1) (T := TX1) (N := 7) S.1 S.2.1 S.2.2.2.2 in_X1 S.2.2.2.1 w.1 w.2.1 0 rfl rfl 4 (by decide) (S.2.2.2.2 _ q192) (fun _ h9 => h9) rfl hdg kk
theorem lX1_4 {i v : Nat} (S : CallFix p m c cc nL s args lw_all RX1) (w : sq_wd D A H0 s (tX1 cA) (wX1 a cA σ) H locs) (hi : i < 192) (hv : σ.2 4 i = v) (hdg : decode cc pc = .ok (.iaload, 1)) (kk : W p l e R s m args below meth c H locs cells slots Q (F0 m (pc + 1) ls (.int (nI v) :: rest))) : W p l e R s m args below meth c H locs cells slots Q (F0 m pc ls (.int (nI i) :: .ref (a 4) :: rest)) := by
  subst hv
  have e9 : (nI i).toNatClampNeg = i := nI_clamp (by omega)
  exact va_iald S.1 S.2.1 w.1 w.2.1 3 2 rfl rfl (vp_in_nI hi (by decide)) hdg (by rw [e9]; exact kk)
theorem sX1_4 {i v : Nat} (S : CallFix p m c cc nL s args lw_all RX1) (w : sq_wd D A H0 s (tX1 cA) (wX1 a cA σ) H locs) (hi : i < 192) (hdg : decode cc pc = .ok (.iastore, 1)) (kk : ∀ (H1 : Heap) (locs1 : List Loc), sq_wd D A H0 s (tX1 cA) (wX1 a cA (sqA σ 4 i v)) H1 locs1 → W p l e R s m args below meth c H1 locs1 cells slots Q (F0 m (pc + 1) ls rest)) : W p l e R s m args below meth c H locs cells slots Q (F0 m pc ls (.int (nI v) :: .int (nI i) :: .ref (a 4) :: rest)) :=
  va_iast S.1 S.2.1 w.1 w.2.1 w.2.2.1 w.2.2.2.1 3 2 rfl rfl (vp_in_nI hi (by decide)) hdg (fun H1 locs1 hP hD hS => by
    rw [sq_upd (σ.2 4) v (by omega)] at hP hD
    exact kk H1 locs1 ⟨w.1, hP, hD, hS, w.2.2.2.2⟩)
theorem gX1_5 (S : CallFix p m c cc nL s args lw_all RX1) (w : sq_wd D A H0 s (tX1 cA) (wX1 a cA σ) H locs) (hdg : decode cc pc = .ok (.getfield 19, 3)) (kk : W p l e R s m args below meth c H locs cells slots Q (F0 m (pc + 3) ls (.ref (a 5) :: rest))) : W p l e R s m args below meth c H locs cells slots Q (F0 m pc ls (.ref (a 20) :: rest)) :=
  va_get (D := D) (ci := 1) (C := RX1) (T := TX1) (N := 7) S.1 S.2.1 S.2.2.2.2 in_X1 S.2.2.2.1 w.1 w.2.1 0 rfl rfl 5 (by decide) (S.2.2.2.2 _ q193) (fun _ h9 => h9) rfl hdg kk
theorem lX1_5 {i v : Nat} (S : CallFix p m c cc nL s args lw_all RX1) (w : sq_wd D A H0 s (tX1 cA) (wX1 a cA σ) H locs) (hi : i < 4) (hv : σ.2 5 i = v) (hdg : decode cc pc = .ok (.iaload, 1)) (kk : W p l e R s m args below meth c H locs cells slots Q (F0 m (pc + 1) ls (.int (nI v) :: rest))) : W p l e R s m args below meth c H locs cells slots Q (F0 m pc ls (.int (nI i) :: .ref (a 5) :: rest)) := by
  subst hv
  have e9 : (nI i).toNatClampNeg = i := nI_clamp (by omega)
  exact va_iald S.1 S.2.1 w.1 w.2.1 4 3 rfl rfl (vp_in_nI hi (by decide)) hdg (by rw [e9]; exact kk)
theorem sX1_5 {i v : Nat} (S : CallFix p m c cc nL s args lw_all RX1) (w : sq_wd D A H0 s (tX1 cA) (wX1 a cA σ) H locs) (hi : i < 4) (hdg : decode cc pc = .ok (.iastore, 1)) (kk : ∀ (H1 : Heap) (locs1 : List Loc), sq_wd D A H0 s (tX1 cA) (wX1 a cA (sqA σ 5 i v)) H1 locs1 → W p l e R s m args below meth c H1 locs1 cells slots Q (F0 m (pc + 1) ls rest)) : W p l e R s m args below meth c H locs cells slots Q (F0 m pc ls (.int (nI v) :: .int (nI i) :: .ref (a 5) :: rest)) :=
  va_iast S.1 S.2.1 w.1 w.2.1 w.2.2.1 w.2.2.2.1 4 3 rfl rfl (vp_in_nI hi (by decide)) hdg (fun H1 locs1 hP hD hS => by
    rw [sq_upd (σ.2 5) v (by omega)] at hP hD
    exact kk H1 locs1 ⟨w.1, hP, hD, hS, w.2.2.2.2⟩)
theorem gX1_6 {v : Nat} (S : CallFix p m c cc nL s args lw_all RX1) (w : sq_wd D A H0 s (tX1 cA) (wX1 a cA σ) H locs) (hv : σ.1 6 = v) (hdg : decode cc pc = .ok (.getfield 26, 3)) (kk : W p l e R s m args below meth c H locs cells slots Q (F0 m (pc + 3) ls (.int (nI v) :: rest))) : W p l e R s m args below meth c H locs cells slots Q (F0 m pc ls (.ref (a 20) :: rest)) := by
  subst hv
  exact va_get (D := D) (ci := 1) (C := RX1) (T := TX1) (N := 7) S.1 S.2.1 S.2.2.2.2 in_X1 S.2.2.2.1 w.1 w.2.1 0 rfl rfl 6 (by decide) (S.2.2.2.2 _ q194) (fun _ h9 => h9) rfl hdg kk
theorem pX1_6 {v : Nat} (S : CallFix p m c cc nL s args lw_all RX1) (w : sq_wd D A H0 s (tX1 cA) (wX1 a cA σ) H locs) (hdg : decode cc pc = .ok (.putfield 26, 3)) (kk : ∀ (H1 : Heap) (locs1 : List Loc), sq_wd D A H0 s (tX1 cA) (wX1 a cA (sqF σ 6 v)) H1 locs1 → W p l e R s m args below meth c H1 locs1 cells slots Q (F0 m (pc + 3) ls rest)) : W p l e R s m args below meth c H locs cells slots Q (F0 m pc ls (.int (nI v) :: .ref (a 20) :: rest)) :=
  va_put (D := D) (ci := 1) (v := .int (nI v)) (ty := .int) (C := RX1) (T := TX1) (N := 7) S.1 S.2.1 S.2.2.2.2 in_X1 tyX1 tyX1_ok nmX1 S.2.2.2.1 w.1 w.2.1 w.2.2.1 w.2.2.2.1 0 rfl rfl 6 (by decide) (S.2.2.2.2 _ q194) (fun _ h9 => h9) rfl (by decide +kernel) rfl rfl (Nat.le_of_ble_eq_true rfl) hdg (fun H1 locs1 hP hD hS => kk H1 locs1 ⟨w.1, hP, hD, hS, w.2.2.2.2⟩)
end SqWorld
/-! contracts: a method of an object whose whole world is wf σ, at the address ad -/
def sqPc (D : va_G) (tys : List (ClassId × FieldType)) (wf : SqSt → va_W) (ad : Nat) (σ : SqSt) (avs : List Value) (sz : Nat) : Array Value → State → Prop := va_Pc (.ref ad :: avs) (fun U => U.heap.size = sz ∧ va_P D vwCl (wf σ) U.heap ∧ va_K D vwCl tys U ∧ va_D (fun _ => True) (wf σ))
def sqBB (D : va_G) (tys : List (ClassId × FieldType)) (wf : SqSt → va_W) (A : Nat → Prop) (σ' : SqSt) (t : State) : Prop := va_P D vwCl (wf σ') t.heap ∧ va_K D vwCl tys t ∧ va_D A (wf σ')
def sqMv (l : Launch) (y : MethodName) (ws : List Cond) (rm : Room) (D : va_G) (tys : List (ClassId × FieldType)) (wf : SqSt → va_W) (ad : Nat) (σ : SqSt) (avs : List Value) (post : SqSt → Prop) : Prop := ∀ sz : Nat, Met l y ws rm (sqPc D tys wf ad σ avs sz) (va_Qv post (sqBB D tys wf (va_A (wf σ) sz)) (va_A (wf σ) sz)) 0 0 (va_A (wf σ) sz)
def sqMi (l : Launch) (y : MethodName) (ws : List Cond) (rm : Room) (D : va_G) (tys : List (ClassId × FieldType)) (wf : SqSt → va_W) (ad : Nat) (σ : SqSt) (avs : List Value) (post : Int32 → SqSt → Prop) : Prop := ∀ sz : Nat, Met l y ws rm (sqPc D tys wf ad σ avs sz) (va_Qi post (sqBB D tys wf (va_A (wf σ) sz)) (va_A (wf σ) sz)) 0 0 (va_A (wf σ) sz)
def sqQv (below : List Frame) (D : va_G) (tys : List (ClassId × FieldType)) (wf : SqSt → va_W) (post : SqSt → Prop) (A : Nat → Prop) (args : Array Value) (s : State) : State → Prop := MQ below (va_Qv post (sqBB D tys wf A) A) args s 0 0 A
def sqQi (below : List Frame) (D : va_G) (tys : List (ClassId × FieldType)) (wf : SqSt → va_W) (post : Int32 → SqSt → Prop) (A : Nat → Prop) (args : Array Value) (s : State) : State → Prop := MQ below (va_Qi post (sqBB D tys wf A) A) args s 0 0 A
theorem sqMv_of {l : Launch} {y : MethodName} {cc : ByteArray} {maxL : Nat} {rm : Room} {D : va_G} {tys : List (ClassId × FieldType)} {wf : SqSt → va_W} {ad : Nat} {σ : SqSt} {avs : List Value} {post : SqSt → Prop} (hy : plainName y.cls = true) (hin : (lg_sl (.ref ad :: avs)).length ≤ maxL)
    (body : ∀ (p : Program) (e : Env) (s : State) (m : MethodId) (args : Array Value) (below : List Frame) (meth : Method) (c : Code) (A : Nat → Prop) (ls : Array Slot), CallFix p m c cc maxL s args lw_all y.cls → meth.sig.returnType = none → meth.locks = false → sq_wd D A s.heap s tys (wf σ) s.heap [] → lv_has ls maxL (lv_args 0 (.ref ad :: avs)) →
      W p l e rm s m args below meth c s.heap [] 0 0 (sqQv below D tys wf post A args s) (F0 m 0 ls [])) : sqMv l y (ws_ y cc maxL none) rm D tys wf ad σ avs post := by
  intro sz
  refine Met.ofW (cc := cc) (maxL := maxL) (ret := none) hy rfl ?_
  intro p e s m args below meth c s₁ B hml hv
  obtain ⟨rfl, hsz, hP, hK, hD0⟩ := hv
  have hts := atoms_spec (ws := ws_ y cc maxL none) B.pre
  have hts : ∀ w ∈ lw_all, w.before _ s = true := fun w h => hts w (List.mem_cons_of_mem _ h)
  have hown : s.vm.findClass y.cls = some m.cls := findClass_of_methodNamed B.named
  subst hsz
  have hl := lv_entry (.ref ad :: avs) (n := maxL) hin
  rw [lg_entry_eq]
  exact body p e s m _ below meth c _ _ ⟨B.exec, B.bytes, hml, hown, hts⟩ B.returns B.notSynchronized ⟨hK, hP, hD0.self (sz := s.heap.size), va_S.rf, fun q h => Or.inr h⟩ hl
theorem sqMi_of {l : Launch} {y : MethodName} {cc : ByteArray} {maxL : Nat} {rm : Room} {D : va_G} {tys : List (ClassId × FieldType)} {wf : SqSt → va_W} {ad : Nat} {σ : SqSt} {avs : List Value} {post : Int32 → SqSt → Prop} (hy : plainName y.cls = true) (hin : (lg_sl (.ref ad :: avs)).length ≤ maxL)
    (body : ∀ (p : Program) (e : Env) (s : State) (m : MethodId) (args : Array Value) (below : List Frame) (meth : Method) (c : Code) (A : Nat → Prop) (ls : Array Slot), CallFix p m c cc maxL s args lw_all y.cls → meth.sig.returnType = (some .int) → meth.locks = false → sq_wd D A s.heap s tys (wf σ) s.heap [] → lv_has ls maxL (lv_args 0 (.ref ad :: avs)) →
      W p l e rm s m args below meth c s.heap [] 0 0 (sqQi below D tys wf post A args s) (F0 m 0 ls [])) : sqMi l y (ws_ y cc maxL (some .int)) rm D tys wf ad σ avs post := by
  intro sz
  refine Met.ofW (cc := cc) (maxL := maxL) (ret := (some .int)) hy rfl ?_
  intro p e s m args below meth c s₁ B hml hv
  obtain ⟨rfl, hsz, hP, hK, hD0⟩ := hv
  have hts := atoms_spec (ws := ws_ y cc maxL (some .int)) B.pre
  have hts : ∀ w ∈ lw_all, w.before _ s = true := fun w h => hts w (List.mem_cons_of_mem _ h)
  have hown : s.vm.findClass y.cls = some m.cls := findClass_of_methodNamed B.named
  subst hsz
  have hl := lv_entry (.ref ad :: avs) (n := maxL) hin
  rw [lg_entry_eq]
  exact body p e s m _ below meth c _ _ ⟨B.exec, B.bytes, hml, hown, hts⟩ B.returns B.notSynchronized ⟨hK, hP, hD0.self (sz := s.heap.size), va_S.rf, fun q h => Or.inr h⟩ hl
section SqCalls
variable {p : Program} {l : Launch} {e : Env} {R : Room} {s : State} {m : MethodId} {args : Array Value} {below : List Frame} {meth : Method} {c : Code} {H : Heap} {locs : List Loc} {cells slots : Nat} {Q : State → Prop}
variable {cc : ByteArray} {pc : Nat} {ls : Array Slot} {rest : List Value} {nL : Nat} {own C : String} {D : va_G} {A : Nat → Prop} {H0 : Heap} {tys : List (ClassId × FieldType)} {wf : SqSt → va_W} {ad : Nat} {σ : SqSt}
theorem sq_free (w : sq_wd D A H0 s tys (wf σ) H locs) : ∀ q, va_A (wf σ) H.size q → A q := by
  intro q h
  rcases h with ⟨k, e9, h⟩ | h
  · exact w.2.2.1.2 k _ h
  · exact w.2.2.2.2 q (Nat.le_trans w.2.2.2.1.1 h)
theorem sq_vret {post : SqSt → Prop} (S : CallFix p m c cc nL s args lw_all own) (hr : meth.sig.returnType = none) (hlocks : meth.locks = false) (w : sq_wd D A s.heap s tys (wf σ) H locs) (hp : post σ) (hdg : decode cc pc = .ok (.return_, 1)) : W p l e R s m args below meth c H locs 0 0 (sqQv below D tys wf post A args s) (F0 m pc ls []) :=
  W.vret S.1 S.2.1 hr (fun t ht hW => ⟨⟨σ, rfl, hp, by rw [ht]; exact w.2.1, va_K.moved hW.alike w.1, w.2.2.1⟩, w.2.2.2.1.F ht⟩) w.2.2.2.1.2.2 hdg hlocks
theorem sq_iret {post : Int32 → SqSt → Prop} {v : Int32} (S : CallFix p m c cc nL s args lw_all own) (hr : meth.sig.returnType = some .int) (hlocks : meth.locks = false) (w : sq_wd D A s.heap s tys (wf σ) H locs) (hp : post v σ) (hdg : decode cc pc = .ok (.ireturn, 1)) : W p l e R s m args below meth c H locs 0 0 (sqQi below D tys wf post A args s) (F0 m pc ls [.int v]) :=
  W.iret S.1 S.2.1 hr (fun t ht hW => ⟨⟨v, σ, rfl, hp, by rw [ht]; exact w.2.1, va_K.moved hW.alike w.1, w.2.2.1⟩, w.2.2.2.1.F ht⟩) w.2.2.2.1.2.2 hdg hlocks
theorem sq_callv {y : MethodName} {bytes : ByteArray} {maxL index n : Nat} {rmc : Room} {avs st0 : List Value} {post : SqSt → Prop} (S : CallFix p m c cc nL s args lw_all own) (w : sq_wd D A H0 s tys (wf σ) H locs) (hM : sqMv l y (ws_ y bytes maxL none) rmc D tys wf ad σ avs post) (cw : CallW R s args own C index y bytes maxL none (ws_ y bytes maxL none) rmc 0 0 n) (hrc : ∃ cell : Cell, H[ad]? = some cell ∧ cell.vm.isStatics = false ∧ s.vm.findClass C = some cell.cls) (hn : avs.length = n) (hls : ls.size = nL) (hst : st0 = avs.reverse ++ .ref ad :: rest) (hro : (rest.map fun v => v.category).sum ≤ 8) (hcs : cells ≤ R.cells ∧ slots ≤ R.slots) (hdg : decode cc pc = .ok (.invokevirtual index, 3))
    (kk : ∀ (σ1 : SqSt) (H1 : Heap) (locs1 : List Loc), post σ1 → sq_wd D A H0 s tys (wf σ1) H1 locs1 → W p l e R s m args below meth c H1 locs1 cells slots Q (F0 m (pc + 3) ls rest)) : W p l e R s m args below meth c H locs cells slots Q (F0 m pc ls st0) := by
  have hF := sq_free w
  refine va_callv (va_runV (As := avs) (rest := rest) S (hM H.size) cw ⟨fun a U g mk q => by obtain ⟨q0, q1, qP, qK, qD⟩ := q; exact ⟨q0, q1, qP, va_K.moved (u := U) (U := U.calling g mk a) (Vm.Alike.refl U.vm) qK, qD⟩, hrc, fun U hU hW => ⟨rfl, by rw [hU], by rw [hU]; exact w.2.1, va_K.moved hW.alike w.1, w.2.2.1.weaken (fun _ _ _ _ => trivial)⟩⟩ rfl hn hls hst (lv_room hro) hdg hcs) w.2.2.2.1 (fun q _ h => hF q h) hF (fun u t H1 locs1 ht hvm hp hB hz hk hS => ?_)
  obtain ⟨hP1, hK1, hD1⟩ := hB
  rw [ht] at hP1
  exact kk u H1 locs1 hp ⟨w.1, hP1, hD1.weaken (fun _ _ _ h => hF _ h), hS, w.2.2.2.2⟩
theorem sq_calli {y : MethodName} {bytes : ByteArray} {maxL index n : Nat} {rmc : Room} {avs st0 : List Value} {post : Int32 → SqSt → Prop} (S : CallFix p m c cc nL s args lw_all own) (w : sq_wd D A H0 s tys (wf σ) H locs) (hM : sqMi l y (ws_ y bytes maxL (some .int)) rmc D tys wf ad σ avs post) (cw : CallW R s args own C index y bytes maxL (some .int) (ws_ y bytes maxL (some .int)) rmc 0 0 n) (hrc : ∃ cell : Cell, H[ad]? = some cell ∧ cell.vm.isStatics = false ∧ s.vm.findClass C = some cell.cls) (hn : avs.length = n) (hls : ls.size = nL) (hst : st0 = avs.reverse ++ .ref ad :: rest) (hro : (rest.map fun v => v.category).sum ≤ 8) (hcs : cells ≤ R.cells ∧ slots ≤ R.slots) (hdg : decode cc pc = .ok (.invokevirtual index, 3))
    (kk : ∀ (r : Int32) (σ1 : SqSt) (H1 : Heap) (locs1 : List Loc), post r σ1 → sq_wd D A H0 s tys (wf σ1) H1 locs1 → W p l e R s m args below meth c H1 locs1 cells slots Q (F0 m (pc + 3) ls (.int r :: rest))) : W p l e R s m args below meth c H locs cells slots Q (F0 m pc ls st0) := by
  have hF := sq_free w
  refine va_calli (va_runV (As := avs) (rest := rest) S (hM H.size) cw ⟨fun a U g mk q => by obtain ⟨q0, q1, qP, qK, qD⟩ := q; exact ⟨q0, q1, qP, va_K.moved (u := U) (U := U.calling g mk a) (Vm.Alike.refl U.vm) qK, qD⟩, hrc, fun U hU hW => ⟨rfl, by rw [hU], by rw [hU]; exact w.2.1, va_K.moved hW.alike w.1, w.2.2.1.weaken (fun _ _ _ _ => trivial)⟩⟩ rfl hn hls hst (lv_room hro) hdg hcs) w.2.2.2.1 (fun q _ h => hF q h) hF (fun r u t H1 locs1 ht hvm hp hB hz hk hS => ?_)
  obtain ⟨hP1, hK1, hD1⟩ := hB
  rw [ht] at hP1
  exact kk r u H1 locs1 hp ⟨w.1, hP1, hD1.weaken (fun _ _ _ h => hF _ h), hS, w.2.2.2.2⟩
end SqCalls
end
section
/-! the coder, pure: bytes as a number, decisions, the intervals' nesting, what the bytes hold -/
def sqV (f : Nat → Nat) (b : Nat) : Nat → Nat
  | 0 => 0
  | w + 1 => 256 * sqV f b w + f (b + w)
theorem sqV_congr {f g : Nat → Nat} {b : Nat} : ∀ (w : Nat), (∀ j, j < w → f (b + j) = g (b + j)) → sqV f b w = sqV g b w
  | 0, _ => rfl
  | w + 1, h => by
    show 256 * sqV f b w + f (b + w) = 256 * sqV g b w + g (b + w)
    rw [sqV_congr w (fun j hj => h j (Nat.lt_succ_of_lt hj)), h w (Nat.lt_succ_self w)]
theorem sqV_put {f : Nat → Nat} {b w v : Nat} : sqV (sqU f (b + w) v) b (w + 1) = 256 * sqV f b w + v := by
  show 256 * sqV (sqU f (b + w) v) b w + sqU f (b + w) v (b + w) = _
  rw [sqU_s, sqV_congr (g := f) w (fun j hj => sqU_n f v (by omega))]
theorem sqV_div {f : Nat → Nat} {b : Nat} (hf : ∀ j, f j < 256) (w : Nat) : ∀ k, sqV f b (w + k) / 256 ^ k = sqV f b w
  | 0 => by rw [Nat.pow_zero, Nat.div_one]; rfl
  | k + 1 => by
    have ih := sqV_div (b := b) hf w k
    show (256 * sqV f b (w + k) + f (b + (w + k))) / 256 ^ (k + 1) = _
    have h1 := hf (b + (w + k))
    have h2 : (256 * sqV f b (w + k) + f (b + (w + k))) / 256 = sqV f b (w + k) := by omega
    rw [Nat.pow_succ', ← Nat.div_div_eq_div_mul, h2, ih]
abbrev SqE : Type := Nat × Nat × Nat × (Nat → Nat)
def lrn (c b : Nat) : Nat := if b = 0 then c + (2048 - c) / 32 else c - c / 32
def esb (e : SqE) (k : Nat) : Nat := e.2.1 / 2048 * e.2.2.2 k
def esL (e : SqE) (d : Nat × Nat) : Nat := if d.2 = 0 then e.1 else e.1 + esb e d.1
def esR (e : SqE) (d : Nat × Nat) : Nat := if d.2 = 0 then esb e d.1 else e.2.1 - esb e d.1
def esC (e : SqE) (d : Nat × Nat) : Nat → Nat := sqU e.2.2.2 d.1 (lrn (e.2.2.2 d.1) d.2)
def es (e : SqE) (d : Nat × Nat) : SqE := if esR e d < 16777216 then (256 * esL e d, 256 * esR e d, e.2.2.1 + 1, esC e d) else (esL e d, esR e d, e.2.2.1, esC e d)
def esF (e : SqE) (ds : List (Nat × Nat)) : SqE := ds.foldl es e
theorem esF_app (e : SqE) (a b : List (Nat × Nat)) : esF e (a ++ b) = esF (esF e a) b := List.foldl_append
theorem esF_cons (e : SqE) (d : Nat × Nat) (b : List (Nat × Nat)) : esF e (d :: b) = esF (es e d) b := rfl
/-- the coder's numbers are in range, k decisions have been made -/
def EC (e : SqE) (k : Nat) : Prop := 16777216 ≤ e.2.1 ∧ e.2.1 < 4294967296 ∧ (∀ j, 31 ≤ e.2.2.2 j ∧ e.2.2.2 j ≤ 2017) ∧ 4294967295 * 256 ^ e.2.2.1 ≤ 68 ^ k * e.2.1
theorem lrn_in {c : Nat} (b : Nat) (h : 31 ≤ c ∧ c ≤ 2017) : 31 ≤ lrn c b ∧ lrn c b ≤ 2017 := by
  unfold lrn
  by_cases hb : b = 0
  · rw [if_pos hb]; omega
  · rw [if_neg hb]; omega
theorem esb_in {e : SqE} {k : Nat} (j : Nat) (h : EC e k) : 31 * (e.2.1 / 2048) ≤ esb e j ∧ esb e j + 31 * (e.2.1 / 2048) ≤ e.2.1 := by
  obtain ⟨h1, h2, h3, -⟩ := h
  have hc := h3 j
  have a1 : e.2.1 / 2048 * 31 ≤ esb e j := Nat.mul_le_mul_left _ hc.1
  have a2 : esb e j ≤ e.2.1 / 2048 * 2017 := Nat.mul_le_mul_left _ hc.2
  omega
theorem esR_in {e : SqE} {k : Nat} (d : Nat × Nat) (h : EC e k) : 31 * (e.2.1 / 2048) ≤ esR e d ∧ esR e d ≤ e.2.1 ∧ esL e d + esR e d ≤ e.1 + e.2.1 ∧ e.1 ≤ esL e d := by
  have hb := esb_in d.1 h
  unfold esR esL
  by_cases hd : d.2 = 0
  · rw [if_pos hd, if_pos hd]; omega
  · rw [if_neg hd, if_neg hd]; omega
theorem EC_step {e : SqE} {k : Nat} (d : Nat × Nat) (h : EC e k) : EC (es e d) (k + 1) := by
  obtain ⟨r1, r2, -, -⟩ := esR_in d h
  obtain ⟨h1, h2, h3, h4⟩ := h
  have hC : ∀ j, 31 ≤ esC e d j ∧ esC e d j ≤ 2017 := by
    intro j
    unfold esC sqU
    by_cases hj : j = d.1
    · rw [if_pos hj]; exact lrn_in _ (h3 _)
    · rw [if_neg hj]; exact h3 j
  have hq : e.2.1 ≤ 68 * esR e d := by omega
  have hp : 4294967295 * 256 ^ e.2.2.1 ≤ 68 ^ (k + 1) * esR e d := by
    rw [Nat.pow_succ, Nat.mul_assoc]
    exact Nat.le_trans h4 (Nat.mul_le_mul_left _ hq)
  unfold es
  by_cases c : esR e d < 16777216
  · rw [if_pos c]
    refine ⟨?_, ?_, hC, ?_⟩
    · show 16777216 ≤ 256 * esR e d
      omega
    · show 256 * esR e d < 4294967296
      omega
    · show 4294967295 * 256 ^ (e.2.2.1 + 1) ≤ 68 ^ (k + 1) * (256 * esR e d)
      have h5 := Nat.mul_le_mul_right 256 hp
      rw [Nat.mul_assoc, Nat.mul_assoc] at h5
      rw [Nat.pow_succ 256, Nat.mul_comm 256 (esR e d)]
      exact h5
  · rw [if_neg c]
    exact ⟨Nat.not_lt.mp c, by show esR e d < 4294967296; omega, hC, hp⟩
theorem EC_fold : ∀ (ds : List (Nat × Nat)) {e : SqE} {k : Nat}, EC e k → EC (esF e ds) (k + ds.length)
  | [], _, _, h => h
  | d :: ds, e, k, h => by
    have h1 := EC_fold ds (EC_step d h)
    rw [show k + (d :: ds).length = k + 1 + ds.length by rw [List.length_cons]; omega]
    exact h1
theorem EC_cap {e : SqE} {k : Nat} (h : EC e k) (hk : k ≤ 438) : e.2.2.1 ≤ 340 := by
  obtain ⟨-, h2, -, h4⟩ := h
  rcases Nat.lt_or_ge 340 e.2.2.1 with hc | hc
  · exfalso
    have a1 : 4294967295 * 256 ^ 341 ≤ 4294967295 * 256 ^ e.2.2.1 := Nat.mul_le_mul_left _ (Nat.pow_le_pow_right (by decide) hc)
    have a2 : 68 ^ k * e.2.1 ≤ 68 ^ 438 * 4294967296 := Nat.mul_le_mul (Nat.pow_le_pow_right (by decide) hk) (Nat.le_of_lt h2)
    have a3 := Nat.le_trans a1 (Nat.le_trans h4 a2)
    exact absurd a3 (by decide +kernel)
  · exact hc
def sqe0 : SqE := (0, 4294967295, 0, fun _ => 1024)
theorem EC_0 : EC sqe0 0 := ⟨by decide, by decide, fun _ => ⟨(by decide : 31 ≤ 1024), (by decide : 1024 ≤ 2017)⟩, by decide⟩
theorem es_nest {e : SqE} {k : Nat} (d : Nat × Nat) (h : EC e k) : ∃ t, (es e d).2.2.1 = e.2.2.1 + t ∧ e.1 * 256 ^ t ≤ (es e d).1 ∧ (es e d).1 + (es e d).2.1 ≤ (e.1 + e.2.1) * 256 ^ t := by
  obtain ⟨-, -, r3, r4⟩ := esR_in d h
  unfold es
  by_cases c : esR e d < 16777216
  · rw [if_pos c]
    refine ⟨1, rfl, ?_, ?_⟩
    · show e.1 * 256 ^ 1 ≤ 256 * esL e d
      rw [Nat.pow_one]; omega
    · show 256 * esL e d + 256 * esR e d ≤ (e.1 + e.2.1) * 256 ^ 1
      rw [Nat.pow_one]; omega
  · rw [if_neg c]
    refine ⟨0, rfl, ?_, ?_⟩
    · show e.1 * 256 ^ 0 ≤ esL e d
      rw [Nat.pow_zero]; omega
    · show esL e d + esR e d ≤ (e.1 + e.2.1) * 256 ^ 0
      rw [Nat.pow_zero]; omega
theorem esF_nest : ∀ (ds : List (Nat × Nat)) {e : SqE} {k : Nat}, EC e k → ∃ t, (esF e ds).2.2.1 = e.2.2.1 + t ∧ e.1 * 256 ^ t ≤ (esF e ds).1 ∧ (esF e ds).1 + (esF e ds).2.1 ≤ (e.1 + e.2.1) * 256 ^ t
  | [], e, k, h => ⟨0, rfl, by show e.1 * 256 ^ 0 ≤ e.1; rw [Nat.pow_zero]; omega, by show e.1 + e.2.1 ≤ (e.1 + e.2.1) * 256 ^ 0; rw [Nat.pow_zero]; omega⟩
  | d :: ds, e, k, h => by
    obtain ⟨t1, a1, a2, a3⟩ := es_nest d h
    obtain ⟨t2, b1, b2, b3⟩ := esF_nest ds (EC_step d h)
    rw [esF_cons]
    refine ⟨t1 + t2, by rw [b1, a1]; omega, ?_, ?_⟩
    · rw [Nat.pow_add, ← Nat.mul_assoc]
      exact Nat.le_trans (Nat.mul_le_mul_right _ a2) b2
    · rw [Nat.pow_add, ← Nat.mul_assoc]
      exact Nat.le_trans b3 (Nat.mul_le_mul_right _ a3)
/-- the decoder's number lies in the interval -/
theorem sqI {f : Nat → Nat} {b : Nat} (hf : ∀ j, f j < 256) {e : SqE} {k : Nat} (h : EC e k) (ds : List (Nat × Nat)) (hV : sqV f b ((esF e ds).2.2.1 + 5) = (esF e ds).1) : e.1 ≤ sqV f b (e.2.2.1 + 5) ∧ sqV f b (e.2.2.1 + 5) < e.1 + e.2.1 := by
  obtain ⟨t, a1, a2, a3⟩ := esF_nest ds h
  have hp : 0 < (esF e ds).2.1 := Nat.lt_of_lt_of_le (by decide) (EC_fold ds h).1
  have h1 : sqV f b (e.2.2.1 + 5) = (esF e ds).1 / 256 ^ t := by
    rw [← sqV_div (b := b) hf (e.2.2.1 + 5) t, ← hV, a1, show e.2.2.1 + 5 + t = e.2.2.1 + t + 5 by omega]
  have h0 : 0 < 256 ^ t := Nat.pow_pos (by decide)
  rw [h1]
  exact ⟨(Nat.le_div_iff_mul_le h0).mpr a2, (Nat.div_lt_iff_lt_mul h0).mpr (by omega)⟩
def sqDS (f : Nat → Nat) (b code : Nat) (e : SqE) (ds : List (Nat × Nat)) : Prop := sqV f b ((esF e ds).2.2.1 + 5) = (esF e ds).1 ∧ code + e.1 = sqV f b (e.2.2.1 + 5)
theorem sqDS_lt {f : Nat → Nat} {b code : Nat} (hf : ∀ j, f j < 256) {e : SqE} {k : Nat} (h : EC e k) {ds : List (Nat × Nat)} (hd : sqDS f b code e ds) : code < e.2.1 := by
  have h1 := sqI hf h ds hd.1
  have h2 := hd.2
  omega
theorem sqDS_half {f : Nat → Nat} {b code : Nat} (hf : ∀ j, f j < 256) {e : SqE} {k : Nat} (h : EC e k) {d : Nat × Nat} {ds : List (Nat × Nat)} (hd : sqDS f b code e (d :: ds)) : esL e d ≤ sqV f b (e.2.2.1 + 5) ∧ sqV f b (e.2.2.1 + 5) < esL e d + esR e d := by
  have h1 := sqI hf (EC_step d h) ds hd.1
  unfold es at h1
  by_cases c : esR e d < 16777216
  · rw [if_pos c] at h1
    have h2 : 256 * esL e d ≤ sqV f b (e.2.2.1 + 5 + 1) ∧ sqV f b (e.2.2.1 + 5 + 1) < 256 * esL e d + 256 * esR e d := h1
    have h3 : sqV f b (e.2.2.1 + 5 + 1) = 256 * sqV f b (e.2.2.1 + 5) + f (b + (e.2.2.1 + 5)) := rfl
    have h4 := hf (b + (e.2.2.1 + 5))
    omega
  · rw [if_neg c] at h1
    exact h1
theorem sqDS_bit {f : Nat → Nat} {b code : Nat} (hf : ∀ j, f j < 256) {e : SqE} {k : Nat} (h : EC e k) {cx bit : Nat} {ds : List (Nat × Nat)} (hd : sqDS f b code e ((cx, bit) :: ds)) : (bit = 0 → code < esb e cx) ∧ (¬ bit = 0 → esb e cx ≤ code) := by
  have h1 := sqDS_half hf h hd
  have h2 := hd.2
  constructor
  · intro hb
    have e1 : esL e (cx, bit) = e.1 := if_pos hb
    have e2 : esR e (cx, bit) = esb e cx := if_pos hb
    omega
  · intro hb
    have e1 : esL e (cx, bit) = e.1 + esb e cx := if_neg hb
    omega
/-- behind a decision: c1 is the number less the new low end -/
theorem sqDS_next {f : Nat → Nat} {b code : Nat} (hf : ∀ j, f j < 256) {e : SqE} {k : Nat} (h : EC e k) {d : Nat × Nat} {ds : List (Nat × Nat)} (hd : sqDS f b code e (d :: ds)) {c1 : Nat} (hc : c1 + esL e d = code + e.1) : c1 < esR e d ∧ (esR e d < 16777216 → sqDS f b (c1 * 256 + f (b + (e.2.2.1 + 5))) (es e d) ds) ∧ (¬ esR e d < 16777216 → sqDS f b c1 (es e d) ds) := by
  have h1 := sqDS_half hf h hd
  obtain ⟨g1, g2⟩ := hd
  refine ⟨by omega, fun c => ⟨g1, ?_⟩, fun c => ⟨g1, ?_⟩⟩
  · unfold es
    rw [if_pos c]
    show c1 * 256 + f (b + (e.2.2.1 + 5)) + 256 * esL e d = 256 * sqV f b (e.2.2.1 + 5) + f (b + (e.2.2.1 + 5))
    omega
  · unfold es
    rw [if_neg c]
    show c1 + esL e d = sqV f b (e.2.2.1 + 5)
    omega
/-! trees and tokens -/
def trd (cx v : Nat) : Nat → Nat → List (Nat × Nat)
  | 0, _ => []
  | k + 1, node => (cx + node, v / 2 ^ k % 2) :: trd cx v k (2 * node + v / 2 ^ k % 2)
theorem trd_len (cx v : Nat) : ∀ k node, (trd cx v k node).length = k
  | 0, _ => rfl
  | k + 1, node => by
    show (trd cx v k _).length + 1 = k + 1
    rw [trd_len cx v k]
def sqOk (ds : List (Nat × Nat)) : Prop := ∀ d ∈ ds, d.1 < 394 ∧ d.2 ≤ 1
theorem sqOk_app {a b : List (Nat × Nat)} (h1 : sqOk a) (h2 : sqOk b) : sqOk (a ++ b) := by
  intro d hd
  rcases List.mem_append.mp hd with h | h
  · exact h1 d h
  · exact h2 d h
theorem sqOk_cons {d : Nat × Nat} {b : List (Nat × Nat)} (h1 : d.1 < 394 ∧ d.2 ≤ 1) (h2 : sqOk b) : sqOk (d :: b) := by
  intro x hx
  rcases List.mem_cons.mp hx with h | h
  · rw [h]; exact h1
  · exact h2 x h
theorem trd_ok {cx v M : Nat} (hM : cx + M ≤ 394) : ∀ k node, (node + 1) * 2 ^ k ≤ 2 * M → sqOk (trd cx v k node)
  | 0, _, _ => by intro d hd; cases hd
  | k + 1, node, h => by
    have h1 : (node + 1) * 2 ^ k ≤ M := by
      rw [Nat.pow_succ, ← Nat.mul_assoc] at h
      omega
    have hp : 1 ≤ 2 ^ k := Nat.pow_pos (by decide)
    have h2 : node + 1 ≤ (node + 1) * 2 ^ k := Nat.le_mul_of_pos_right _ hp
    refine sqOk_cons ⟨by show cx + node < 394; omega, by show v / 2 ^ k % 2 ≤ 1; omega⟩ (trd_ok hM k _ ?_)
    have h3 : 2 * node + v / 2 ^ k % 2 + 1 ≤ (node + 1) * 2 := by omega
    have h4 := Nat.mul_le_mul_right (2 ^ k) h3
    rw [Nat.mul_right_comm] at h4
    omega
/-- node and rest of the value, on the way down a tree -/
theorem trd_node {v node k : Nat} : (2 * node + v / 2 ^ k % 2) * 2 ^ k + v % 2 ^ k = node * 2 ^ (k + 1) + v % 2 ^ (k + 1) := by
  rw [Nat.pow_succ, Nat.mod_mul, Nat.add_mul, Nat.mul_comm (v / 2 ^ k % 2) (2 ^ k), Nat.mul_comm 2 node, Nat.mul_assoc node 2, Nat.mul_comm 2 (2 ^ k)]
  omega
def tkd : List (Nat × Nat) → Nat → List (Nat × Nat)
  | [], _ => []
  | t :: r, b => if t.1 = 0 then (b, 0) :: (trd 66 t.2 8 1 ++ tkd r 0) else (b, 1) :: (trd 322 (t.1 - 2) 3 1 ++ (trd 330 (t.2 - 1) 6 1 ++ tkd r 1))
/-- the tokens from place i on say f up to n -/
def tkO (f : Nat → Nat) (n : Nat) : List (Nat × Nat) → Nat → Prop
  | [], i => i = n
  | t :: r, i => (t.1 = 0 ∧ i < n ∧ t.2 = f i ∧ tkO f n r (i + 1)) ∨ (2 ≤ t.1 ∧ t.1 ≤ 9 ∧ 1 ≤ t.2 ∧ t.2 ≤ i ∧ i + t.1 ≤ n ∧ (∀ j, j < t.1 → f (i + j) = f (i + j - t.2)) ∧ tkO f n r (i + t.1))
theorem tkO_congr {f g : Nat → Nat} {n : Nat} (h : ∀ j, j < n → f j = g j) : ∀ (ts : List (Nat × Nat)) (i : Nat), tkO f n ts i → tkO g n ts i
  | [], _, q => q
  | t :: r, i, q => by
    rcases q with ⟨a1, a2, a3, a4⟩ | ⟨a1, a2, a3, a4, a5, a6, a7⟩
    · exact Or.inl ⟨a1, a2, by rw [a3]; exact h i a2, tkO_congr h r _ a4⟩
    · refine Or.inr ⟨a1, a2, a3, a4, a5, fun j hj => ?_, tkO_congr h r _ a7⟩
      rw [← h (i + j) (by omega), ← h (i + j - t.2) (by omega)]
      exact a6 j hj
theorem tkO_le {f : Nat → Nat} {n : Nat} : ∀ (ts : List (Nat × Nat)) (i : Nat), tkO f n ts i → i ≤ n
  | [], _, q => Nat.le_of_eq q
  | t :: r, i, q => by
    rcases q with ⟨a1, a2, a3, a4⟩ | ⟨a1, a2, a3, a4, a5, a6, a7⟩
    · omega
    · omega
theorem tkd_len {f : Nat → Nat} {n : Nat} : ∀ (ts : List (Nat × Nat)) (i b : Nat), tkO f n ts i → (tkd ts b).length + 9 * i ≤ 9 * n
  | [], i, b, q => by
    have q : i = n := q
    show 0 + 9 * i ≤ 9 * n
    omega
  | t :: r, i, b, q => by
    unfold tkd
    rcases q with ⟨a1, a2, a3, a4⟩ | ⟨a1, a2, a3, a4, a5, a6, a7⟩
    · have ih := tkd_len r (i + 1) 0 a4
      rw [if_pos a1, List.length_cons, List.length_append, trd_len]
      omega
    · have ih := tkd_len r (i + t.1) 1 a7
      rw [if_neg (by omega), List.length_cons, List.length_append, List.length_append, trd_len, trd_len]
      omega
theorem tkd_ok {f : Nat → Nat} {n : Nat} : ∀ (ts : List (Nat × Nat)) (i b : Nat), b ≤ 1 → tkO f n ts i → sqOk (tkd ts b)
  | [], i, b, _, q => by intro d hd; cases hd
  | t :: r, i, b, hb, q => by
    unfold tkd
    rcases q with ⟨a1, a2, a3, a4⟩ | ⟨a1, a2, a3, a4, a5, a6, a7⟩
    · rw [if_pos a1]
      exact sqOk_cons ⟨by show b < 394; omega, by show 0 ≤ 1; omega⟩ (sqOk_app (trd_ok (M := 256) (by decide) 8 1 (by decide)) (tkd_ok r _ 0 (by decide) a4))
    · rw [if_neg (by omega)]
      exact sqOk_cons ⟨by show b < 394; omega, by show 1 ≤ 1; omega⟩ (sqOk_app (trd_ok (M := 8) (by decide) 3 1 (by decide)) (sqOk_app (trd_ok (M := 64) (by decide) 6 1 (by decide)) (tkd_ok r _ 1 (by decide) a7)))
/-- the block at b: the bytes say n numbers, those of f -/
def sqBlk (q : Nat → Nat) (b n : Nat) (f : Nat → Nat) : Prop := n ≤ 48 ∧ (∀ j, j < n → f j < 256) ∧ ∃ ts, tkO f n ts 0 ∧ sqV q b ((esF sqe0 (trd 2 n 6 1 ++ tkd ts 0)).2.2.1 + 5) = (esF sqe0 (trd 2 n 6 1 ++ tkd ts 0)).1
theorem sq_cap {f : Nat → Nat} {n : Nat} {ts : List (Nat × Nat)} (hn : n ≤ 48) (h : tkO f n ts 0) : (esF sqe0 (trd 2 n 6 1 ++ tkd ts 0)).2.2.1 ≤ 340 := by
  have h1 := EC_fold (trd 2 n 6 1 ++ tkd ts 0) EC_0
  have h2 := tkd_len ts 0 0 h
  refine EC_cap h1 ?_
  rw [List.length_append, trd_len]
  omega
theorem sqBlk_congr {q q' : Nat → Nat} {b n : Nat} {f g : Nat → Nat} (h : sqBlk q b n f) (hq : ∀ j, b ≤ j → j < b + 352 → q' j = q j) (hf : ∀ j, j < n → g j = f j) : sqBlk q' b n g := by
  obtain ⟨h1, h2, ts, h3, h4⟩ := h
  refine ⟨h1, fun j hj => by rw [hf j hj]; exact h2 j hj, ts, tkO_congr (fun j hj => (hf j hj).symm) ts 0 h3, ?_⟩
  have hc := sq_cap h1 h3
  rw [sqV_congr (g := q) _ (fun j hj => hq (b + j) (by omega) (by omega))]
  exact h4
end
section
/-! the coder's state in the object: fields 8 low, 9 range, 10 held, 11 heldCount, 12 base, 13 written, 14 code, 15 readAt; arrays 6 squeezed, 7 chance -/
def sqFr (fs as : List Nat) (σ σ' : SqSt) : Prop := (∀ k, k ∉ fs → σ'.1 k = σ.1 k) ∧ ∀ k, k ∉ as → σ'.2 k = σ.2 k
theorem sqFr_rf {fs as : List Nat} (σ : SqSt) : sqFr fs as σ σ := ⟨fun _ _ => rfl, fun _ _ => rfl⟩
theorem sqFr_tr {fs as : List Nat} {a b c : SqSt} (h1 : sqFr fs as a b) (h2 : sqFr fs as b c) : sqFr fs as a c := ⟨fun k hk => (h2.1 k hk).trans (h1.1 k hk), fun k hk => (h2.2 k hk).trans (h1.2 k hk)⟩
theorem sqFr_mono {fs as fs' as' : List Nat} {a b : SqSt} (h : sqFr fs as a b) (h1 : ∀ k ∈ fs, k ∈ fs') (h2 : ∀ k ∈ as, k ∈ as') : sqFr fs' as' a b := ⟨fun k hk => h.1 k (fun q => hk (h1 k q)), fun k hk => h.2 k (fun q => hk (h2 k q))⟩
theorem sqC_n {α : Type} (f : Nat → α) {k j : Nat} (v : α) (h : j ≠ k) : sqC f k v j = f j := by
  unfold sqC
  rw [show Nat.beq j k = false from Bool.eq_false_iff.mpr (fun q => h (Nat.eq_of_beq_eq_true q))]
  rfl
theorem sqFr_F {fs as : List Nat} {a b : SqSt} (k v : Nat) (hk : k ∈ fs) (h : sqFr fs as a b) : sqFr fs as a (sqF b k v) := ⟨fun j hj => (sqC_n (k := k) (j := j) b.1 v (fun e => hj (by rw [e]; exact hk))).trans (h.1 j hj), h.2⟩
theorem sqFr_A {fs as : List Nat} {a b : SqSt} (k i v : Nat) (hk : k ∈ as) (h : sqFr fs as a b) : sqFr fs as a (sqA b k i v) := ⟨h.1, fun j hj => (sqC_n (k := k) (j := j) b.2 _ (fun e => hj (by rw [e]; exact hk))).trans (h.2 j hj)⟩
def sqOut (σ σ' : SqSt) : Prop := ∀ j, ¬ (σ.1 12 ≤ j ∧ j < σ.1 12 + 352) → σ'.2 6 j = σ.2 6 j
theorem sqOut_tr {a b c : SqSt} (h1 : sqOut a b) (hb : b.1 12 = a.1 12) (h2 : sqOut b c) : sqOut a c := fun j hj => (h2 j (by rw [hb]; exact hj)).trans (h1 j hj)
def sqSh (σ : SqSt) (L n : Nat) : Prop := σ.1 12 ≤ 1056 ∧ σ.1 13 + σ.1 11 = n + 1 ∧ 1 ≤ σ.1 11 ∧ σ.1 10 ≤ 255 ∧ L + 4294967296 = (sqV (σ.2 6) (σ.1 12) (σ.1 13) * 256 ^ σ.1 11 + (σ.1 10 + 1) * 256 ^ (σ.1 11 - 1)) * 4294967296 + σ.1 8 ∧ ∀ j, σ.2 6 j < 256
def sqEm (x : Nat) : Prop := x < 4278190080 ∨ 4294967295 < x
/-- what shiftLow does -/
def sqShP (σ : SqSt) (L n : Nat) (σ' : SqSt) : Prop := sqSh σ' (256 * L) (n + 1) ∧ σ'.1 8 = σ.1 8 % 16777216 * 256 ∧ (sqEm (σ.1 8) → σ'.1 10 = σ.1 8 / 16777216 % 256 ∧ σ'.1 11 = 1) ∧ (¬ sqEm (σ.1 8) → σ'.1 10 = σ.1 10) ∧ sqFr [8, 10, 11, 13] [6] σ σ' ∧ sqOut σ σ'
/-- the loop that puts out the held bytes: k are out -/
def sqShI (σ : SqSt) (cy k v : Nat) (σk : SqSt) : Prop := sqFr [13] [6] σ σk ∧ sqOut σ σk ∧ (∀ j, σk.2 6 j < 256) ∧ σk.1 13 = σ.1 13 + k ∧ ((k = 0 ∧ v = σ.1 10 ∧ sqV (σk.2 6) (σ.1 12) (σ.1 13 + k) = sqV (σ.2 6) (σ.1 12) (σ.1 13)) ∨ (1 ≤ k ∧ v = 255 ∧ sqV (σk.2 6) (σ.1 12) (σ.1 13 + k) + 1 = sqV (σ.2 6) (σ.1 12) (σ.1 13) * 256 ^ k + (σ.1 10 + 1) * 256 ^ (k - 1) + cy))
theorem sqShI_0 {σ : SqSt} {cy : Nat} (hb : ∀ j, σ.2 6 j < 256) : sqShI σ cy 0 (σ.1 10) σ := ⟨sqFr_rf σ, fun _ _ => rfl, hb, rfl, Or.inl ⟨rfl, rfl, rfl⟩⟩
theorem sqShI_s {σ σk : SqSt} {cy k v : Nat} (h : sqShI σ cy k v σk) (hc : cy ≤ 1) (hh : σ.1 10 + cy ≤ 255) (hk : σ.1 13 + k < 352) : sqShI σ cy (k + 1) 255 (sqF (sqA σk 6 (σk.1 12 + σk.1 13) ((v + cy) % 256)) 13 (σk.1 13 + 1)) := by
  obtain ⟨h1, h2, h3, h4, h5⟩ := h
  have hb : σk.1 12 = σ.1 12 := h1.1 12 (by decide)
  have hV := sqV_put (f := σk.2 6) (b := σ.1 12) (w := σ.1 13 + k) (v := (v + cy) % 256)
  refine ⟨sqFr_F 13 _ (by decide) (sqFr_A 6 _ _ (by decide) h1), ?_, ?_, ?_, Or.inr ⟨by omega, rfl, ?_⟩⟩
  · intro j hj
    show sqU (σk.2 6) (σk.1 12 + σk.1 13) ((v + cy) % 256) j = σ.2 6 j
    rw [sqU_n _ _ (by rw [hb, h4]; omega)]
    exact h2 j hj
  · intro j
    show sqU (σk.2 6) (σk.1 12 + σk.1 13) ((v + cy) % 256) j < 256
    unfold sqU
    by_cases e : j = σk.1 12 + σk.1 13
    · rw [if_pos e]; omega
    · rw [if_neg e]; exact h3 j
  · show σk.1 13 + 1 = σ.1 13 + (k + 1)
    omega
  · show sqV (sqU (σk.2 6) (σk.1 12 + σk.1 13) ((v + cy) % 256)) (σ.1 12) (σ.1 13 + k + 1) + 1 = _
    rw [hb, h4, hV, Nat.add_sub_cancel]
    rcases h5 with ⟨a1, a2, a3⟩ | ⟨a1, a2, a3⟩
    · rw [a3, a1, a2, Nat.mod_eq_of_lt (by omega)]
      simp only [Nat.pow_zero, Nat.zero_add, Nat.pow_one, Nat.mul_one]
      omega
    · obtain ⟨k, rfl⟩ : ∃ z, k = z + 1 := ⟨k - 1, by omega⟩
      rw [Nat.add_sub_cancel] at a3
      have e1 : sqV (σ.2 6) (σ.1 12) (σ.1 13) * 256 ^ (k + 1 + 1) = 256 * (sqV (σ.2 6) (σ.1 12) (σ.1 13) * 256 ^ (k + 1)) := by
        rw [Nat.pow_succ 256 (k + 1), ← Nat.mul_assoc, Nat.mul_comm]
      have e2 : (σ.1 10 + 1) * 256 ^ (k + 1) = 256 * ((σ.1 10 + 1) * 256 ^ k) := by
        rw [Nat.pow_succ 256 k, ← Nat.mul_assoc, Nat.mul_comm]
      rw [e1, e2]
      have hv : (v + cy) % 256 = if cy = 0 then 255 else 0 := by
        rw [a2]
        rcases (show cy = 0 ∨ cy = 1 by omega) with q | q <;> rw [q] <;> rfl
      rw [hv]
      rcases (show cy = 0 ∨ cy = 1 by omega) with q | q
      · rw [if_pos q]; omega
      · rw [if_neg (by omega)]; omega
/-- the end of shiftLow behind the loop -/
theorem sqSh_emit {σ σk : SqSt} {L n v : Nat} (h : sqSh σ L n) (hI : sqShI σ (σ.1 8 / 4294967296) (σ.1 11) v σk) (hl : σ.1 8 < 8589934592) (he : sqEm (σ.1 8)) : sqShP σ L n (sqF (sqF (sqF (sqF σk 11 0) 10 (σ.1 8 / 16777216 % 256)) 11 1) 8 (σ.1 8 % 16777216 * 256)) := by
  obtain ⟨g1, g2, g3, g4, g5, g6⟩ := h
  obtain ⟨h1, h2, h3, h4, h5⟩ := hI
  have hb : σk.1 12 = σ.1 12 := h1.1 12 (by decide)
  refine ⟨⟨?_, ?_, ?_, ?_, ?_, h3⟩, rfl, fun _ => ⟨rfl, rfl⟩, fun q => absurd he q, ?_, h2⟩
  · show σk.1 12 ≤ 1056
    omega
  · show σk.1 13 + 1 = n + 1 + 1
    omega
  · show 1 ≤ 1
    omega
  · show σ.1 8 / 16777216 % 256 ≤ 255
    omega
  · show 256 * L + 4294967296 = (sqV (σk.2 6) (σk.1 12) (σk.1 13) * 256 ^ 1 + (σ.1 8 / 16777216 % 256 + 1) * 256 ^ (1 - 1)) * 4294967296 + σ.1 8 % 16777216 * 256
    rw [hb, h4, Nat.pow_one, Nat.sub_self, Nat.pow_zero, Nat.mul_one]
    rcases h5 with ⟨a1, a2, a3⟩ | ⟨a1, a2, a3⟩
    · omega
    · rw [← Nat.add_sub_cancel (n := sqV (σ.2 6) (σ.1 12) (σ.1 13) * 256 ^ σ.1 11 + (σ.1 10 + 1) * 256 ^ (σ.1 11 - 1)) (m := σ.1 8 / 4294967296), ← a3] at g5
      omega
  · exact sqFr_F 8 _ (by decide) (sqFr_F 11 _ (by decide) (sqFr_F 10 _ (by decide) (sqFr_F 11 _ (by decide) (sqFr_mono h1 (by decide) (by decide)))))
theorem sqSh_hold {σ : SqSt} {L n : Nat} (h : sqSh σ L n) (he : ¬ sqEm (σ.1 8)) : sqShP σ L n (sqF (sqF σ 11 (σ.1 11 + 1)) 8 (σ.1 8 % 16777216 * 256)) := by
  obtain ⟨g1, g2, g3, g4, g5, g6⟩ := h
  have hl : 4278190080 ≤ σ.1 8 ∧ σ.1 8 ≤ 4294967295 := by
    unfold sqEm at he
    omega
  refine ⟨⟨g1, ?_, ?_, g4, ?_, g6⟩, rfl, fun q => absurd q he, fun _ => rfl, ?_, fun _ _ => rfl⟩
  · show σ.1 13 + (σ.1 11 + 1) = n + 1 + 1
    omega
  · show 1 ≤ σ.1 11 + 1
    omega
  · show 256 * L + 4294967296 = (sqV (σ.2 6) (σ.1 12) (σ.1 13) * 256 ^ (σ.1 11 + 1) + (σ.1 10 + 1) * 256 ^ (σ.1 11 + 1 - 1)) * 4294967296 + σ.1 8 % 16777216 * 256
    obtain ⟨z, hz⟩ : ∃ z, σ.1 11 = z + 1 := ⟨σ.1 11 - 1, by omega⟩
    rw [hz, Nat.add_sub_cancel] at g5
    rw [hz, Nat.add_sub_cancel]
    have e1 : sqV (σ.2 6) (σ.1 12) (σ.1 13) * 256 ^ (z + 1 + 1) = 256 * (sqV (σ.2 6) (σ.1 12) (σ.1 13) * 256 ^ (z + 1)) := by
      rw [Nat.pow_succ 256 (z + 1), ← Nat.mul_assoc, Nat.mul_comm]
    have e2 : (σ.1 10 + 1) * 256 ^ (z + 1) = 256 * ((σ.1 10 + 1) * 256 ^ z) := by
      rw [Nat.pow_succ 256 z, ← Nat.mul_assoc, Nat.mul_comm]
    rw [e1, e2]
    omega
  · exact sqFr_F 8 _ (by decide) (sqFr_F 11 _ (by decide) (sqFr_rf σ))
/-- the encoder's state -/
def sqEn (σ : SqSt) (e : SqE) : Prop := sqSh σ e.1 e.2.2.1 ∧ σ.1 9 = e.2.1 ∧ (∀ j, j < 394 → σ.2 7 j = e.2.2.2 j) ∧ σ.1 8 + σ.1 9 ≤ 8589934592 ∧ (σ.1 10 = 255 → σ.1 8 + σ.1 9 ≤ 4294967296)
def sqHalf (σ : SqSt) (cx bit : Nat) : SqSt := if bit = 0 then sqF σ 9 (σ.1 9 / 2048 * σ.2 7 cx) else sqF (sqF σ 8 (σ.1 8 + σ.1 9 / 2048 * σ.2 7 cx)) 9 (σ.1 9 - σ.1 9 / 2048 * σ.2 7 cx)
theorem sqEn_half {σ : SqSt} {e : SqE} {k cx bit : Nat} (h : sqEn σ e) (hE : EC e k) (hcx : cx < 394) : sqEn (sqA (sqHalf σ cx bit) 7 cx (lrn (σ.2 7 cx) bit)) (esL e (cx, bit), esR e (cx, bit), e.2.2.1, esC e (cx, bit)) := by
  obtain ⟨⟨g1, g2, g3, g4, g5, g6⟩, h2, h3, h4, h5⟩ := h
  have hb := esb_in cx hE
  have hbd : σ.1 9 / 2048 * σ.2 7 cx = esb e cx := by rw [h2, h3 cx hcx]; rfl
  have hC : ∀ j, j < 394 → sqU (σ.2 7) cx (lrn (σ.2 7 cx) bit) j = esC e (cx, bit) j := by
    intro j hj
    unfold esC sqU
    by_cases q : j = cx
    · rw [if_pos q, if_pos q, h3 cx hcx]
    · rw [if_neg q, if_neg q]; exact h3 j hj
  unfold sqHalf
  by_cases hz : bit = 0
  · rw [if_pos hz]
    have e1 : esL e (cx, bit) = e.1 := if_pos hz
    have e2 : esR e (cx, bit) = esb e cx := if_pos hz
    rw [e1, e2]
    refine ⟨⟨g1, g2, g3, g4, g5, g6⟩, hbd, hC, ?_, fun q => ?_⟩
    · show σ.1 8 + σ.1 9 / 2048 * σ.2 7 cx ≤ 8589934592
      omega
    · show σ.1 8 + σ.1 9 / 2048 * σ.2 7 cx ≤ 4294967296
      have := h5 q
      omega
  · rw [if_neg hz]
    have e1 : esL e (cx, bit) = e.1 + esb e cx := if_neg hz
    have e2 : esR e (cx, bit) = e.2.1 - esb e cx := if_neg hz
    rw [e1, e2]
    refine ⟨⟨g1, g2, g3, g4, ?_, g6⟩, ?_, hC, ?_, fun q => ?_⟩
    · show e.1 + esb e cx + 4294967296 = (sqV (σ.2 6) (σ.1 12) (σ.1 13) * 256 ^ σ.1 11 + (σ.1 10 + 1) * 256 ^ (σ.1 11 - 1)) * 4294967296 + (σ.1 8 + σ.1 9 / 2048 * σ.2 7 cx)
      omega
    · show σ.1 9 - σ.1 9 / 2048 * σ.2 7 cx = e.2.1 - esb e cx
      omega
    · show σ.1 8 + σ.1 9 / 2048 * σ.2 7 cx + (σ.1 9 - σ.1 9 / 2048 * σ.2 7 cx) ≤ 8589934592
      omega
    · show σ.1 8 + σ.1 9 / 2048 * σ.2 7 cx + (σ.1 9 - σ.1 9 / 2048 * σ.2 7 cx) ≤ 4294967296
      have := h5 q
      omega
theorem sqEn_shift {σ σ' : SqSt} {L R n : Nat} {C : Nat → Nat} (h : sqEn σ (L, R, n, C)) (hR : R < 16777216) (hp : sqShP (sqF σ 9 (R * 256)) L n σ') : sqEn σ' (256 * L, 256 * R, n + 1, C) := by
  obtain ⟨⟨g1, g2, g3, g4, g5, g6⟩, h2, h3, h4, h5⟩ := h
  obtain ⟨p1, p2, p3, p4, p5, p6⟩ := hp
  have h2 : σ.1 9 = R := h2
  have p2 : σ'.1 8 = σ.1 8 % 16777216 * 256 := p2
  have q9 : σ'.1 9 = R * 256 := p5.1 9 (by decide)
  have q7 : σ'.2 7 = σ.2 7 := p5.2 7 (by decide)
  have p3 : sqEm (σ.1 8) → σ'.1 10 = σ.1 8 / 16777216 % 256 ∧ σ'.1 11 = 1 := p3
  have p4 : ¬ sqEm (σ.1 8) → σ'.1 10 = σ.1 10 := p4
  refine ⟨p1, by show σ'.1 9 = 256 * R; omega, fun j hj => by rw [q7]; exact h3 j hj, ?_, fun q => ?_⟩
  · omega
  · by_cases he : sqEm (σ.1 8)
    · have a1 := (p3 he).1
      unfold sqEm at he
      omega
    · have a1 := p4 he
      have a2 := h5 (by omega)
      unfold sqEm at he
      omega
theorem sqEn_low {σ : SqSt} {e : SqE} (h : sqEn σ e) (hp : 1 ≤ e.2.1) : σ.1 8 < 8589934592 ∧ (σ.1 10 = 255 → σ.1 8 < 4294967296) := by
  obtain ⟨-, h2, h3, h4, h5⟩ := h
  refine ⟨by omega, fun q => ?_⟩
  have := h5 q
  omega
/-- the start of a block -/
theorem sqEn_0 {σ : SqSt} (hb : σ.1 12 ≤ 1056) (h6 : ∀ j, σ.2 6 j < 256) (h8 : σ.1 8 = 0) (h9 : σ.1 9 = 4294967295) (h10 : σ.1 10 = 0) (h11 : σ.1 11 = 1) (h13 : σ.1 13 = 0) (h7 : ∀ j, j < 394 → σ.2 7 j = 1024) : sqEn σ sqe0 := by
  refine ⟨⟨hb, by rw [h13, h11]; rfl, by omega, by omega, ?_, h6⟩, h9, h7, by omega, fun q => by omega⟩
  rw [h13, h11, h10, h8]
  simp [sqV, sqe0]
/-- the five last shifts -/
def sqfl (x : Nat) : Nat → Nat
  | 0 => x
  | k + 1 => sqfl x k % 16777216 * 256
def sqFlI (σ : SqSt) (L n k : Nat) (σk : SqSt) : Prop := sqSh σk (256 ^ k * L) (n + k) ∧ σk.1 8 = sqfl (σ.1 8) k ∧ (k = 0 → σk = σ) ∧ (∀ z, k = z + 1 → sqEm (sqfl (σ.1 8) z) → σk.1 10 = sqfl (σ.1 8) z / 16777216 % 256 ∧ σk.1 11 = 1) ∧ sqFr [8, 10, 11, 13] [6] σ σk ∧ sqOut σ σk
theorem sqFl_0 {σ : SqSt} {L n : Nat} (h : sqSh σ L n) : sqFlI σ L n 0 σ := ⟨by rw [Nat.pow_zero, Nat.one_mul]; exact h, rfl, fun _ => rfl, fun z hz => by omega, sqFr_rf σ, fun _ _ => rfl⟩
theorem sqFl_s {σ σk σ' : SqSt} {L n k : Nat} (h : sqFlI σ L n k σk) (hp : sqShP σk (256 ^ k * L) (n + k) σ') : sqFlI σ L n (k + 1) σ' := by
  obtain ⟨h1, h2, h3, h4, h5, h6⟩ := h
  obtain ⟨p1, p2, p3, p4, p5, p6⟩ := hp
  refine ⟨?_, by rw [p2, h2]; rfl, fun q => by omega, fun z hz he => ?_, sqFr_tr h5 p5, sqOut_tr h6 (h5.1 12 (by decide)) p6⟩
  · rw [Nat.pow_succ, Nat.mul_comm (256 ^ k) 256, Nat.mul_assoc]
    exact p1
  · obtain rfl : k = z := by omega
    rw [← h2] at he ⊢
    exact p3 he
theorem sqFl_low {σ σk : SqSt} {L n k : Nat} (h : sqFlI σ L n k σk) (h0 : σ.1 8 < 8589934592 ∧ (σ.1 10 = 255 → σ.1 8 < 4294967296)) : σk.1 8 < 8589934592 ∧ (σk.1 10 = 255 → σk.1 8 < 4294967296) := by
  obtain ⟨h1, h2, h3, -⟩ := h
  cases k with
  | zero => rw [h3 rfl]; exact h0
  | succ k =>
    have h2 : σk.1 8 = sqfl (σ.1 8) k % 16777216 * 256 := h2
    exact ⟨by omega, fun _ => by omega⟩
theorem sqFl_end {σ σk : SqSt} {L n : Nat} (h : sqFlI σ L n 5 σk) : sqV (σk.2 6) (σk.1 12) (n + 5) = L := by
  obtain ⟨⟨g1, g2, g3, g4, g5, g6⟩, h2, h3, h4, -⟩ := h
  have e4 : sqfl (σ.1 8) 4 = 0 := by
    show (((σ.1 8 % 16777216 * 256) % 16777216 * 256) % 16777216 * 256) % 16777216 * 256 = 0
    omega
  have e5 : σk.1 8 = 0 := by
    rw [h2]
    show sqfl (σ.1 8) 4 % 16777216 * 256 = 0
    rw [e4]
  obtain ⟨a1, a2⟩ := h4 4 rfl (by rw [e4]; exact Or.inl (by decide))
  rw [e4] at a1
  have a1 : σk.1 10 = 0 := a1
  rw [a1, a2, e5, Nat.pow_one, Nat.sub_self, Nat.pow_zero] at g5
  rw [a2] at g2
  rw [show n + 5 = σk.1 13 by omega]
  rw [show (256 : Nat) ^ 5 = 1099511627776 from rfl] at g5
  omega
/-- the decoder's state -/
def sqDe (σ : SqSt) (e : SqE) (ds : List (Nat × Nat)) : Prop := σ.1 9 = e.2.1 ∧ (∀ j, j < 394 → σ.2 7 j = e.2.2.2 j) ∧ σ.1 15 = e.2.2.1 + 5 ∧ sqDS (σ.2 6) (σ.1 12) (σ.1 14) e ds ∧ σ.1 12 ≤ 1056 ∧ (∀ j, σ.2 6 j < 256) ∧ (esF e ds).2.2.1 ≤ 340 ∧ sqOk ds
def sqDh (σ : SqSt) (cx bit : Nat) : SqSt := sqA (if bit = 0 then sqF σ 9 (σ.1 9 / 2048 * σ.2 7 cx) else sqF (sqF σ 14 (σ.1 14 - σ.1 9 / 2048 * σ.2 7 cx)) 9 (σ.1 9 - σ.1 9 / 2048 * σ.2 7 cx)) 7 cx (lrn (σ.2 7 cx) bit)
theorem sqDe_bit {σ : SqSt} {e : SqE} {k cx bit : Nat} {ds : List (Nat × Nat)} (h : sqDe σ e ((cx, bit) :: ds)) (hE : EC e k) : cx < 394 ∧ bit ≤ 1 ∧ σ.1 9 / 2048 * σ.2 7 cx = esb e cx ∧ (bit = 0 → σ.1 14 < esb e cx) ∧ (¬ bit = 0 → esb e cx ≤ σ.1 14) ∧ σ.1 14 < e.2.1 := by
  obtain ⟨h1, h2, h3, h4, h5, h6, h7, h8⟩ := h
  have hc := h8 (cx, bit) List.mem_cons_self
  have hb := sqDS_bit h6 hE h4
  exact ⟨hc.1, hc.2, by rw [h1, h2 cx hc.1]; rfl, hb.1, hb.2, sqDS_lt h6 hE h4⟩
theorem sqDe_half {σ : SqSt} {e : SqE} {k cx bit : Nat} {ds : List (Nat × Nat)} (h : sqDe σ e ((cx, bit) :: ds)) (hE : EC e k) : (sqDh σ cx bit).1 9 = esR e (cx, bit) ∧ (sqDh σ cx bit).1 14 < esR e (cx, bit) ∧ (sqDh σ cx bit).1 15 = e.2.2.1 + 5 ∧ e.2.2.1 ≤ 340 ∧ (¬ esR e (cx, bit) < 16777216 → sqDe (sqDh σ cx bit) (es e (cx, bit)) ds) ∧ (esR e (cx, bit) < 16777216 → sqDe (sqF (sqF (sqF (sqDh σ cx bit) 9 (esR e (cx, bit) * 256)) 15 (e.2.2.1 + 5 + 1)) 14 ((sqDh σ cx bit).1 14 * 256 + σ.2 6 (σ.1 12 + (e.2.2.1 + 5)))) (es e (cx, bit)) ds) := by
  obtain ⟨b1, b2, b3, b4, b5, b6⟩ := sqDe_bit h hE
  obtain ⟨h1, h2, h3, h4, h5, h6, h7, h8⟩ := h
  have hbi := esb_in cx hE
  have hC : ∀ j, j < 394 → sqU (σ.2 7) cx (lrn (σ.2 7 cx) bit) j = esC e (cx, bit) j := by
    intro j hj
    unfold esC sqU
    by_cases q : j = cx
    · rw [if_pos q, if_pos q, h2 cx b1]
    · rw [if_neg q, if_neg q]; exact h2 j hj
  have hn : e.2.2.1 ≤ 340 := by
    obtain ⟨t, t1, -⟩ := esF_nest ((cx, bit) :: ds) hE
    omega
  have ho : sqOk ds := fun d hd => h8 d (List.mem_cons_of_mem _ hd)
  have key : (sqDh σ cx bit).1 9 = esR e (cx, bit) ∧ (sqDh σ cx bit).1 14 + esL e (cx, bit) = σ.1 14 + e.1 ∧ (sqDh σ cx bit).2 7 = sqU (σ.2 7) cx (lrn (σ.2 7 cx) bit) ∧ (sqDh σ cx bit).2 6 = σ.2 6 ∧ (sqDh σ cx bit).1 12 = σ.1 12 ∧ (sqDh σ cx bit).1 15 = σ.1 15 := by
    unfold sqDh
    by_cases hz : bit = 0
    · rw [if_pos hz]
      have e1 : esL e (cx, bit) = e.1 := if_pos hz
      have e2 : esR e (cx, bit) = esb e cx := if_pos hz
      rw [e1, e2]
      exact ⟨b3, rfl, rfl, rfl, rfl, rfl⟩
    · rw [if_neg hz]
      have e1 : esL e (cx, bit) = e.1 + esb e cx := if_neg hz
      have e2 : esR e (cx, bit) = e.2.1 - esb e cx := if_neg hz
      have b5 := b5 hz
      rw [e1, e2]
      refine ⟨?_, ?_, rfl, rfl, rfl, rfl⟩
      · show σ.1 9 - σ.1 9 / 2048 * σ.2 7 cx = e.2.1 - esb e cx
        omega
      · show σ.1 14 - σ.1 9 / 2048 * σ.2 7 cx + (e.1 + esb e cx) = σ.1 14 + e.1
        omega
  obtain ⟨k1, k2, k3, k4, k5, k6⟩ := key
  obtain ⟨n1, n2, n3⟩ := sqDS_next h6 hE h4 k2
  refine ⟨k1, n1, by rw [k6, h3], hn, fun q => ?_, fun q => ?_⟩
  · have hs := n3 q
    have e9 : es e (cx, bit) = (esL e (cx, bit), esR e (cx, bit), e.2.2.1, esC e (cx, bit)) := if_neg q
    refine ⟨by rw [e9]; exact k1, fun j hj => by rw [k3, e9]; exact hC j hj, by rw [k6, h3, e9], ?_, by rw [k5]; exact h5, by rw [k4]; exact h6, h7, ho⟩
    rw [k4, k5]
    exact hs
  · have hs := n2 q
    have e9 : es e (cx, bit) = (256 * esL e (cx, bit), 256 * esR e (cx, bit), e.2.2.1 + 1, esC e (cx, bit)) := if_pos q
    refine ⟨?_, fun j hj => ?_, ?_, ?_, ?_, ?_, h7, ho⟩
    · rw [e9]
      show esR e (cx, bit) * 256 = 256 * esR e (cx, bit)
      omega
    · rw [e9]
      show (sqDh σ cx bit).2 7 j = esC e (cx, bit) j
      rw [k3]
      exact hC j hj
    · rw [e9]
      show e.2.2.1 + 5 + 1 = e.2.2.1 + 1 + 5
      omega
    · show sqDS ((sqDh σ cx bit).2 6) ((sqDh σ cx bit).1 12) ((sqDh σ cx bit).1 14 * 256 + σ.2 6 (σ.1 12 + (e.2.2.1 + 5))) (es e (cx, bit)) ds
      rw [k4, k5]
      exact hs
    · show (sqDh σ cx bit).1 12 ≤ 1056
      rw [k5]; exact h5
    · show ∀ j, (sqDh σ cx bit).2 6 j < 256
      rw [k4]; exact h6
theorem sqDh_fr {σ : SqSt} {cx bit : Nat} : sqFr [9, 14, 15] [7] σ (sqDh σ cx bit) := by
  unfold sqDh
  refine sqFr_A 7 _ _ (by decide) ?_
  by_cases hz : bit = 0
  · rw [if_pos hz]; exact sqFr_F 9 _ (by decide) (sqFr_rf σ)
  · rw [if_neg hz]; exact sqFr_F 9 _ (by decide) (sqFr_F 14 _ (by decide) (sqFr_rf σ))
end
section
/-! what find answers -/
theorem sq_inc1 (t : Nat) : nI t + Int32.ofInt 1 = nI (t + 1) := nI_1 t
theorem sq_incm (t : Nat) : nI t + Int32.ofInt (-1) = nI t - 1 := by rw [show Int32.ofInt (-1) = -1 by decide, Int32.sub_eq_add_neg]
theorem sq_neg_le {y : Int32} {j : Nat} (h : ¬ 0 ≤ y) (hj : j < 48) : y ≤ nI j := by
  rw [Int32.le_iff_toInt_le] at h ⊢
  rw [nI_toInt (by omega)]
  have e0 : (0 : Int32).toInt = 0 := by decide
  omega
def sqFind (g : Nat → Nat) (n v : Nat) (y r : Int32) : Prop := (∃ k, r = nI k ∧ k < n ∧ y ≤ nI k ∧ g k = v ∧ ∀ j, j < k → y ≤ nI j → g j ≠ v) ∨ (r = -1 ∧ ∀ j, j < n → y ≤ nI j → g j ≠ v)
theorem sq_i_lt {x : Int32} {n : Nat} (hn : n < 2147483648) (h0 : ¬ x < 0) (h : x < nI n) : ∃ j : Nat, j < n ∧ x = nI j := by
  rcases pk_ix x hn with q | q | q
  · exact absurd q h0
  · exfalso
    rw [Int32.le_iff_toInt_le] at q
    rw [Int32.lt_iff_toInt_lt] at h
    omega
  · exact q
abbrev rmX0_put : Room := { frames := 0, cells := 0, slots := 0, locals := 0 }
abbrev rmX0_repeat : Room := { frames := 0, cells := 0, slots := 0, locals := 0 }
abbrev rmX0_erase : Room := { frames := 0, cells := 0, slots := 0, locals := 0 }
abbrev rmX0_send : Room := { frames := 5, cells := 0, slots := 0, locals := 117 }
abbrev rmX0_receive : Room := { frames := 4, cells := 0, slots := 0, locals := 97 }
abbrev rmX0_at : Room := { frames := 0, cells := 0, slots := 0, locals := 0 }
abbrev rmX0_length : Room := { frames := 0, cells := 0, slots := 0, locals := 0 }
abbrev rmX0_blocks : Room := { frames := 0, cells := 0, slots := 0, locals := 0 }
abbrev rmX0_find : Room := { frames := 0, cells := 0, slots := 0, locals := 0 }
abbrev rmX0_edit : Room := { frames := 0, cells := 0, slots := 0, locals := 0 }
abbrev rmX0_startChances : Room := { frames := 0, cells := 0, slots := 0, locals := 0 }
abbrev rmX0_squeeze : Room := { frames := 4, cells := 0, slots := 0, locals := 94 }
abbrev rmX0_findMatch : Room := { frames := 1, cells := 0, slots := 0, locals := 23 }
abbrev rmX0_matchAt : Room := { frames := 0, cells := 0, slots := 0, locals := 0 }
abbrev rmX0_writeTree : Room := { frames := 3, cells := 0, slots := 0, locals := 68 }
abbrev rmX0_writeBit : Room := { frames := 2, cells := 0, slots := 0, locals := 44 }
abbrev rmX0_learn : Room := { frames := 0, cells := 0, slots := 0, locals := 0 }
abbrev rmX0_shiftLow : Room := { frames := 1, cells := 0, slots := 0, locals := 21 }
abbrev rmX0_putByte : Room := { frames := 0, cells := 0, slots := 0, locals := 0 }
abbrev rmX0_unsqueeze : Room := { frames := 3, cells := 0, slots := 0, locals := 72 }
abbrev rmX0_copyBack : Room := { frames := 0, cells := 0, slots := 0, locals := 0 }
abbrev rmX0_takeByte : Room := { frames := 0, cells := 0, slots := 0, locals := 0 }
abbrev rmX0_readTree : Room := { frames := 2, cells := 0, slots := 0, locals := 47 }
abbrev rmX0_readBit : Room := { frames := 1, cells := 0, slots := 0, locals := 22 }
set_option maxHeartbeats 4000000 in
set_option maxRecDepth 100000 in
theorem metX0_erase (l : Launch) (D : va_G) (a : Nat → Nat) (cA : Nat → ClassId) (σ : SqSt)  : sqMv l yX0_erase (ws_ yX0_erase cX0_erase 1 none) rmX0_erase D (tX0 cA) (wX0 a cA) (a 20) σ [] (fun σ' => σ' = sqF σ 0 0) := by
  refine sqMv_of (by decide) (Nat.le_of_ble_eq_true rfl) ?_
  intro p e s m args below meth c A ls S hr hlk w hl
  have S : CallFix p m c cX0_erase 1 s args lw_all RX0 := S
  have hl : lv_has ls 1 [(0, .ref (a 20))] := hl
  refine sq_aloadn S dX0_erase_0 rfl (lv_at hl 0 rfl) ?_
  refine sq_iconst S 0 (by decide) dX0_erase_1 ?_
  refine pX0_0 (v := 0) S w dX0_erase_2 (fun H locs w => ?_)
  exact sq_vret S hr hlk w (rfl) dX0_erase_5
set_option maxHeartbeats 4000000 in
set_option maxRecDepth 100000 in
theorem metX0_length (l : Launch) (D : va_G) (a : Nat → Nat) (cA : Nat → ClassId) (σ : SqSt)  : sqMi l yX0_length (ws_ yX0_length cX0_length 1 (some .int)) rmX0_length D (tX0 cA) (wX0 a cA) (a 20) σ [] (fun r σ' => r = nI (σ.1 2) ∧ σ' = σ) := by
  refine sqMi_of (by decide) (Nat.le_of_ble_eq_true rfl) ?_
  intro p e s m args below meth c A ls S hr hlk w hl
  have S : CallFix p m c cX0_length 1 s args lw_all RX0 := S
  have hl : lv_has ls 1 [(0, .ref (a 20))] := hl
  refine sq_aloadn S dX0_length_0 rfl (lv_at hl 0 rfl) ?_
  refine gX0_2 (v := σ.1 2) S w rfl dX0_length_1 ?_
  exact sq_iret S hr hlk w (⟨rfl, rfl⟩) dX0_length_4
set_option maxHeartbeats 4000000 in
set_option maxRecDepth 100000 in
theorem metX0_blocks (l : Launch) (D : va_G) (a : Nat → Nat) (cA : Nat → ClassId) (σ : SqSt)  : sqMi l yX0_blocks (ws_ yX0_blocks cX0_blocks 1 (some .int)) rmX0_blocks D (tX0 cA) (wX0 a cA) (a 20) σ [] (fun r σ' => r = nI (σ.1 5) ∧ σ' = σ) := by
  refine sqMi_of (by decide) (Nat.le_of_ble_eq_true rfl) ?_
  intro p e s m args below meth c A ls S hr hlk w hl
  have S : CallFix p m c cX0_blocks 1 s args lw_all RX0 := S
  have hl : lv_has ls 1 [(0, .ref (a 20))] := hl
  refine sq_aloadn S dX0_blocks_0 rfl (lv_at hl 0 rfl) ?_
  refine gX0_5 (v := σ.1 5) S w rfl dX0_blocks_1 ?_
  exact sq_iret S hr hlk w (⟨rfl, rfl⟩) dX0_blocks_4
set_option maxHeartbeats 4000000 in
set_option maxRecDepth 100000 in
theorem metX0_put (l : Launch) (D : va_G) (a : Nat → Nat) (cA : Nat → ClassId) (σ : SqSt) (x : Int32) (h0 : σ.1 0 ≤ 48) : sqMi l yX0_put (ws_ yX0_put cX0_put 2 (some .int)) rmX0_put D (tX0 cA) (wX0 a cA) (a 20) σ [.int x] (fun r σ' => (σ.1 0 < 48 → r = nI (σ.1 0 + 1) ∧ σ' = sqF (sqA σ 1 (σ.1 0) (x.toBitVec.toNat % 256)) 0 (σ.1 0 + 1)) ∧ (¬ σ.1 0 < 48 → r = -1 ∧ σ' = σ)) := by
  refine sqMi_of (by decide) (Nat.le_of_ble_eq_true rfl) ?_
  intro p e s m args below meth c A ls S hr hlk w hl
  have S : CallFix p m c cX0_put 2 s args lw_all RX0 := S
  have hl : lv_has ls 2 [(0, .ref (a 20)), (1, .int x)] := hl
  refine sq_aloadn S dX0_put_0 rfl (lv_at hl 0 rfl) ?_
  refine gX0_0 (v := σ.1 0) S w rfl dX0_put_1 ?_
  refine sq_bipush S 48 (by decide) dX0_put_4 ?_
  refine sq_icmp_lt S 11 (by omega) (by omega) dX0_put_6 (by decide) (fun c6 => ?_) (fun c6 => ?_)
  · refine sq_aloadn S dX0_put_11 rfl (lv_at hl 0 rfl) ?_
    refine gX0_1 S w dX0_put_12 ?_
    refine sq_aloadn S dX0_put_15 rfl (lv_at hl 0 rfl) ?_
    refine gX0_0 (v := σ.1 0) S w rfl dX0_put_16 ?_
    refine sq_iloadn S dX0_put_19 rfl (lv_at hl 1 rfl) ?_
    refine sq_sipush S 255 (by decide) dX0_put_20 ?_
    refine sq_iandx S 8 256 (by decide) (by decide) dX0_put_23 ?_
    refine sX0_1 (v := x.toBitVec.toNat % 256) S w (by omega) dX0_put_24 (fun H locs w => ?_)
    refine sq_aloadn S dX0_put_25 rfl (lv_at hl 0 rfl) ?_
    refine sq_dup S rfl dX0_put_26 ?_
    refine gX0_0 (v := σ.1 0) S w rfl dX0_put_27 ?_
    refine sq_iconst S 1 (by decide) dX0_put_30 ?_
    refine sq_iadd S dX0_put_31 ?_
    refine pX0_0 (v := (σ.1 0) + 1) S w dX0_put_32 (fun H locs w => ?_)
    refine sq_aloadn S dX0_put_35 rfl (lv_at hl 0 rfl) ?_
    refine gX0_0 (v := (σ.1 0) + 1) S w rfl dX0_put_36 ?_
    exact sq_iret S hr hlk w ⟨fun _ => ⟨rfl, rfl⟩, fun q => absurd q (by omega)⟩ dX0_put_39
  · refine lv_iconst (v := -1) S.1 S.2.1 dX0_put_9 (by decide) ?_
    exact sq_iret S hr hlk w ⟨fun q => absurd q (by omega), fun _ => ⟨rfl, rfl⟩⟩ dX0_put_10
set_option maxHeartbeats 4000000 in
set_option maxRecDepth 100000 in
theorem metX0_at (l : Launch) (D : va_G) (a : Nat → Nat) (cA : Nat → ClassId) (σ : SqSt) (x : Int32) (h0 : σ.1 2 ≤ 48) : sqMi l yX0_at (ws_ yX0_at cX0_at 2 (some .int)) rmX0_at D (tX0 cA) (wX0 a cA) (a 20) σ [.int x] (fun r σ' => ((x < 0 ∨ nI (σ.1 2) ≤ x) → r = -1) ∧ (∀ j, j < σ.1 2 → x = nI j → r = nI (σ.2 3 j)) ∧ σ' = σ) := by
  refine sqMi_of (by decide) (Nat.le_of_ble_eq_true rfl) ?_
  intro p e s m args below meth c A ls S hr hlk w hl
  have S : CallFix p m c cX0_at 2 s args lw_all RX0 := S
  have hl : lv_has ls 2 [(0, .ref (a 20)), (1, .int x)] := hl
  refine sq_iloadn S dX0_at_0 rfl (lv_at hl 1 rfl) ?_
  refine lv_if_lt (tgt := 12) S.1 S.2.1 dX0_at_1 (by decide) (fun c1 => ?_) (fun c1 => ?_)
  · refine lv_iconst (v := -1) S.1 S.2.1 dX0_at_12 (by decide) ?_
    refine sq_goto S 22 dX0_at_13 (by decide) ?_
    exact sq_iret S hr hlk w ⟨fun _ => rfl, fun j hj q => by
      exfalso
      subst q
      first | exact nI_pos (by omega) c1 | exact c9 (nI_lt hj (by omega)), rfl⟩ dX0_at_22
  · refine sq_iloadn S dX0_at_4 rfl (lv_at hl 1 rfl) ?_
    refine sq_aloadn S dX0_at_5 rfl (lv_at hl 0 rfl) ?_
    refine gX0_2 (v := σ.1 2) S w rfl dX0_at_6 ?_
    refine lv_icmp_lt (tgt := 16) S.1 S.2.1 dX0_at_9 (by decide) (fun c9 => ?_) (fun c9 => ?_)
    · obtain ⟨j, hj, rfl⟩ := sq_i_lt (n := σ.1 2) (by omega) c1 c9
      refine sq_aloadn S dX0_at_16 rfl (lv_at hl 0 rfl) ?_
      refine gX0_3 S w dX0_at_17 ?_
      refine sq_iloadn S dX0_at_20 rfl (lv_at hl 1 rfl) ?_
      refine lX0_3 (v := σ.2 3 j) S w (by omega) rfl dX0_at_21 ?_
      exact sq_iret S hr hlk w ⟨fun q => by
      exfalso
      rcases q with q | q
      · exact c1 q
      · exact absurd ((nI_leI (by omega) (by omega)).mp q) (by omega), fun j2 hj2 q => by rw [(nI_eq (by omega) (by omega)).mp q], rfl⟩ dX0_at_22
    · refine lv_iconst (v := -1) S.1 S.2.1 dX0_at_12 (by decide) ?_
      refine sq_goto S 22 dX0_at_13 (by decide) ?_
      exact sq_iret S hr hlk w ⟨fun _ => rfl, fun j hj q => by
      exfalso
      subst q
      first | exact nI_pos (by omega) c1 | exact c9 (nI_lt hj (by omega)), rfl⟩ dX0_at_22
set_option maxHeartbeats 4000000 in
set_option maxRecDepth 100000 in
theorem loopX0_repeat {p : Program} {l : Launch} {e : Env} {s : State} {m : MethodId} {args : Array Value} {below : List Frame} {meth : Method} {c : Code} {Q : State → Prop} {D : va_G} {A : Nat → Prop} {H0 : Heap} {a : Nat → Nat} {cA : Nat → ClassId} {cells slots : Nat} (S : CallFix p m c cX0_repeat 4 s args lw_all RX0)  (σ : SqSt) (d n : Nat) (hd : 1 ≤ d) (hd2 : d ≤ σ.1 0) (hn : σ.1 0 + n ≤ 48) (K : ∀ (τ : SqSt) (H : Heap) (locs : List Loc) (ls : Array Slot), sq_wd D A H0 s (tX0 cA) (wX0 a cA τ) H locs → (sqFr [0] [1] σ τ ∧ τ.1 0 = σ.1 0 + n ∧ (∀ j, j < σ.1 0 → τ.2 1 j = σ.2 1 j) ∧ ∀ j, σ.1 0 ≤ j → j < σ.1 0 + n → τ.2 1 j = τ.2 1 (j - d)) → lv_has ls 4 [(3, .int (nI n)), (0, .ref (a 20)), (1, .int (nI d)), (2, .int (nI n))] → W p l e rmX0_repeat s m args below meth c H locs cells slots Q (F0 m 74 ls [])) : ∀ (z k : Nat) (τ : SqSt) (H : Heap) (locs : List Loc) (ls : Array Slot), k ≤ n → n < k + z → sq_wd D A H0 s (tX0 cA) (wX0 a cA τ) H locs → (sqFr [0] [1] σ τ ∧ τ.1 0 = σ.1 0 + k ∧ (∀ j, j < σ.1 0 → τ.2 1 j = σ.2 1 j) ∧ ∀ j, σ.1 0 ≤ j → j < σ.1 0 + k → τ.2 1 j = τ.2 1 (j - d)) → lv_has ls 4 [(3, .int (nI k)), (0, .ref (a 20)), (1, .int (nI d)), (2, .int (nI n))] → W p l e rmX0_repeat s m args below meth c H locs cells slots Q (F0 m 33 ls []) := by
  intro z
  induction z with
  | zero => intro k τ H locs ls hk hz; omega
  | succ z ih =>
    intro k τ H locs ls hk hz w hI hl
    obtain ⟨i1, i2, i3, i4⟩ := hI
    refine sq_iloadn S dX0_repeat_33 rfl (lv_at hl 0 rfl) ?_
    refine sq_iloadn S dX0_repeat_34 rfl (lv_at hl 3 rfl) ?_
    refine sq_icmp_ge S 74 (by omega) (by omega) dX0_repeat_35 (by decide) (fun c35 => ?_) (fun c35 => ?_)
    · obtain rfl : k = n := by omega
      exact K τ _ _ ls w ⟨i1, i2, i3, i4⟩ hl
    · refine sq_aloadn S dX0_repeat_38 rfl (lv_at hl 1 rfl) ?_
      refine gX0_1 S w dX0_repeat_39 ?_
      refine sq_aloadn S dX0_repeat_42 rfl (lv_at hl 1 rfl) ?_
      refine gX0_0 (v := τ.1 0) S w rfl dX0_repeat_43 ?_
      refine sq_aloadn S dX0_repeat_46 rfl (lv_at hl 1 rfl) ?_
      refine gX0_1 S w dX0_repeat_47 ?_
      refine sq_aloadn S dX0_repeat_50 rfl (lv_at hl 1 rfl) ?_
      refine gX0_0 (v := τ.1 0) S w rfl dX0_repeat_51 ?_
      refine sq_iloadn S dX0_repeat_54 rfl (lv_at hl 2 rfl) ?_
      refine sq_isub S (by omega) dX0_repeat_55 ?_
      refine lX0_1 (v := τ.2 1 ((τ.1 0) - d)) S w (by omega) rfl dX0_repeat_56 ?_
      refine sX0_1 (v := τ.2 1 ((τ.1 0) - d)) S w (by omega) dX0_repeat_57 (fun H locs w => ?_)
      refine sq_aloadn S dX0_repeat_58 rfl (lv_at hl 1 rfl) ?_
      refine sq_dup S rfl dX0_repeat_59 ?_
      refine gX0_0 (v := τ.1 0) S w rfl dX0_repeat_60 ?_
      refine sq_iconst S 1 (by decide) dX0_repeat_63 ?_
      refine sq_iadd S dX0_repeat_64 ?_
      refine pX0_0 (v := (τ.1 0) + 1) S w dX0_repeat_65 (fun H locs w => ?_)
      refine lv_iinc (v := (nI (k + 1))) (lv' := [(3, .int (nI (k + 1))), (0, .ref (a 20)), (1, .int (nI d)), (2, .int (nI n))]) S.1 S.2.1 dX0_repeat_68 hl (k := 0) rfl (sq_inc1 _) (by decide) rfl (fun ls hl => ?_)
      refine sq_goto S 33 dX0_repeat_71 (by decide) ?_
      refine ih (k + 1) _ _ _ ls (by omega) (by omega) w ⟨?_, ?_, ?_, ?_⟩ hl
      · exact sqFr_F 0 _ (by decide) (sqFr_A 1 _ _ (by decide) i1)
      · show τ.1 0 + 1 = _
        omega
      · intro j hj
        show sqU (τ.2 1) (τ.1 0) _ j = _
        rw [sqU_n _ _ (by omega)]
        exact i3 j hj
      · intro j hj1 hj2
        show sqU (τ.2 1) (τ.1 0) (τ.2 1 (τ.1 0 - d)) j = sqU (τ.2 1) (τ.1 0) (τ.2 1 (τ.1 0 - d)) (j - d)
        rw [sqU_n (j := j - d) _ _ (by omega)]
        by_cases q : j = τ.1 0
        · rw [q, sqU_s]
        · rw [sqU_n _ _ q]; exact i4 j hj1 (by omega)
theorem sq_i_rng {x : Int32} {n : Nat} (hn : n < 2147483648) (h1 : ¬ x < 1) (h2 : ¬ nI n < x) : ∃ d : Nat, 1 ≤ d ∧ d ≤ n ∧ x = nI d := by
  rw [Int32.lt_iff_toInt_lt] at h1 h2
  rw [nI_toInt hn] at h2
  have e1 : (1 : Int32).toInt = 1 := by decide
  rw [e1] at h1
  refine ⟨x.toInt.toNat, by omega, by omega, ?_⟩
  apply Int32.toInt_inj.mp
  rw [nI_toInt (by omega)]
  omega
set_option maxHeartbeats 4000000 in
set_option maxRecDepth 100000 in
theorem metX0_repeat (l : Launch) (D : va_G) (a : Nat → Nat) (cA : Nat → ClassId) (σ : SqSt) (x y : Int32) (h0 : σ.1 0 ≤ 48) : sqMi l yX0_repeat (ws_ yX0_repeat cX0_repeat 4 (some .int)) rmX0_repeat D (tX0 cA) (wX0 a cA) (a 20) σ [.int x, .int y] (fun r σ' => ((x < 1 ∨ nI (σ.1 0) < x ∨ y < 1 ∨ nI (48 - σ.1 0) < y) ∧ r = -1 ∧ σ' = σ) ∨ (∃ d n : Nat, x = nI d ∧ y = nI n ∧ 1 ≤ d ∧ d ≤ σ.1 0 ∧ 1 ≤ n ∧ n ≤ 48 - σ.1 0 ∧ r = nI (σ.1 0 + n) ∧ σ'.1 0 = σ.1 0 + n ∧ sqFr [0] [1] σ σ' ∧ (∀ j, j < σ.1 0 → σ'.2 1 j = σ.2 1 j) ∧ ∀ j, σ.1 0 ≤ j → j < σ.1 0 + n → σ'.2 1 j = σ'.2 1 (j - d))) := by
  refine sqMi_of (by decide) (Nat.le_of_ble_eq_true rfl) ?_
  intro p e s m args below meth c A ls S hr hlk w hl
  have S : CallFix p m c cX0_repeat 4 s args lw_all RX0 := S
  have hl : lv_has ls 4 [(0, .ref (a 20)), (1, .int x), (2, .int y)] := hl
  refine sq_iloadn S dX0_repeat_0 rfl (lv_at hl 1 rfl) ?_
  refine sq_iconst S 1 (by decide) dX0_repeat_1 ?_
  refine lv_icmp_lt (tgt := 29) S.1 S.2.1 dX0_repeat_2 (by decide) (fun c2 => ?_) (fun c2 => ?_)
  · refine lv_iconst (v := -1) S.1 S.2.1 dX0_repeat_29 (by decide) ?_
    exact sq_iret S hr hlk w (Or.inl ⟨by first | exact Or.inl c2 | exact Or.inr (Or.inl c10) | exact Or.inr (Or.inr (Or.inl c15)) | exact Or.inr (Or.inr (Or.inr (by rw [Int32.lt_iff_toInt_lt]; rw [Int32.le_iff_toInt_le] at c26; omega))), rfl, rfl⟩) dX0_repeat_30
  · refine sq_iloadn S dX0_repeat_5 rfl (lv_at hl 1 rfl) ?_
    refine sq_aloadn S dX0_repeat_6 rfl (lv_at hl 0 rfl) ?_
    refine gX0_0 (v := σ.1 0) S w rfl dX0_repeat_7 ?_
    refine lv_icmp_gt (tgt := 29) S.1 S.2.1 dX0_repeat_10 (by decide) (fun c10 => ?_) (fun c10 => ?_)
    · refine lv_iconst (v := -1) S.1 S.2.1 dX0_repeat_29 (by decide) ?_
      exact sq_iret S hr hlk w (Or.inl ⟨by first | exact Or.inl c2 | exact Or.inr (Or.inl c10) | exact Or.inr (Or.inr (Or.inl c15)) | exact Or.inr (Or.inr (Or.inr (by rw [Int32.lt_iff_toInt_lt]; rw [Int32.le_iff_toInt_le] at c26; omega))), rfl, rfl⟩) dX0_repeat_30
    · refine sq_iloadn S dX0_repeat_13 rfl (lv_at hl 2 rfl) ?_
      refine sq_iconst S 1 (by decide) dX0_repeat_14 ?_
      refine lv_icmp_lt (tgt := 29) S.1 S.2.1 dX0_repeat_15 (by decide) (fun c15 => ?_) (fun c15 => ?_)
      · refine lv_iconst (v := -1) S.1 S.2.1 dX0_repeat_29 (by decide) ?_
        exact sq_iret S hr hlk w (Or.inl ⟨by first | exact Or.inl c2 | exact Or.inr (Or.inl c10) | exact Or.inr (Or.inr (Or.inl c15)) | exact Or.inr (Or.inr (Or.inr (by rw [Int32.lt_iff_toInt_lt]; rw [Int32.le_iff_toInt_le] at c26; omega))), rfl, rfl⟩) dX0_repeat_30
      · refine sq_iloadn S dX0_repeat_18 rfl (lv_at hl 2 rfl) ?_
        refine sq_bipush S 48 (by decide) dX0_repeat_19 ?_
        refine sq_aloadn S dX0_repeat_21 rfl (lv_at hl 0 rfl) ?_
        refine gX0_0 (v := σ.1 0) S w rfl dX0_repeat_22 ?_
        refine sq_isub S (by omega) dX0_repeat_25 ?_
        refine lv_icmp_le (tgt := 31) S.1 S.2.1 dX0_repeat_26 (by decide) (fun c26 => ?_) (fun c26 => ?_)
        · obtain ⟨d, d1, d2, rfl⟩ : ∃ d : Nat, 1 ≤ d ∧ d ≤ σ.1 0 ∧ x = nI d := sq_i_rng (by omega) c2 c10
          obtain ⟨n, n1, n2, rfl⟩ : ∃ n : Nat, 1 ≤ n ∧ n ≤ 48 - σ.1 0 ∧ y = nI n := sq_i_rng (by omega) c15 (by rw [Int32.lt_iff_toInt_lt]; rw [Int32.le_iff_toInt_le] at c26; omega)
          refine sq_iconst S 0 (by decide) dX0_repeat_31 ?_
          refine lv_istore_n (lv' := [(3, .int (nI 0)), (0, .ref (a 20)), (1, .int (nI d)), (2, .int (nI n))]) S.1 S.2.1 dX0_repeat_32 rfl hl (by decide) rfl (fun ls hl => ?_)
          refine loopX0_repeat S σ d n d1 d2 (by omega) (fun τ H locs ls w hI hl => ?_) (n + 1) 0 σ _ _ ls (by omega) (by omega) w ⟨sqFr_rf σ, rfl, fun _ _ => rfl, fun j h1 h2 => by omega⟩ hl
          obtain ⟨i1, i2, i3, i4⟩ := hI
          refine sq_aloadn S dX0_repeat_74 rfl (lv_at hl 1 rfl) ?_
          refine gX0_0 (v := τ.1 0) S w rfl dX0_repeat_75 ?_
          exact sq_iret S hr hlk w (Or.inr ⟨d, n, rfl, rfl, d1, d2, n1, n2, by rw [i2], i2, i1, i3, i4⟩) dX0_repeat_78
        · refine lv_iconst (v := -1) S.1 S.2.1 dX0_repeat_29 (by decide) ?_
          exact sq_iret S hr hlk w (Or.inl ⟨by first | exact Or.inl c2 | exact Or.inr (Or.inl c10) | exact Or.inr (Or.inr (Or.inl c15)) | exact Or.inr (Or.inr (Or.inr (by rw [Int32.lt_iff_toInt_lt]; rw [Int32.le_iff_toInt_le] at c26; omega))), rfl, rfl⟩) dX0_repeat_30
set_option maxHeartbeats 4000000 in
set_option maxRecDepth 100000 in
theorem loopX0_edit {p : Program} {l : Launch} {e : Env} {s : State} {m : MethodId} {args : Array Value} {below : List Frame} {meth : Method} {c : Code} {Q : State → Prop} {D : va_G} {A : Nat → Prop} {H0 : Heap} {a : Nat → Nat} {cA : Nat → ClassId} {cells slots : Nat} (S : CallFix p m c cX0_edit 2 s args lw_all RX0)  (σ : SqSt) (hn : σ.1 2 ≤ 48) (K : ∀ (τ : SqSt) (H : Heap) (locs : List Loc) (ls : Array Slot), sq_wd D A H0 s (tX0 cA) (wX0 a cA τ) H locs → (sqFr [0] [1] σ τ ∧ τ.1 0 = σ.1 0 ∧ ∀ j, j < σ.1 2 → τ.2 1 j = σ.2 3 j) → lv_has ls 2 [(1, .int (nI (σ.1 2))), (0, .ref (a 20))] → W p l e rmX0_edit s m args below meth c H locs cells slots Q (F0 m 28 ls [])) : ∀ (z k : Nat) (τ : SqSt) (H : Heap) (locs : List Loc) (ls : Array Slot), k ≤ σ.1 2 → σ.1 2 < k + z → sq_wd D A H0 s (tX0 cA) (wX0 a cA τ) H locs → (sqFr [0] [1] σ τ ∧ τ.1 0 = σ.1 0 ∧ ∀ j, j < k → τ.2 1 j = σ.2 3 j) → lv_has ls 2 [(1, .int (nI k)), (0, .ref (a 20))] → W p l e rmX0_edit s m args below meth c H locs cells slots Q (F0 m 2 ls []) := by
  intro z
  induction z with
  | zero => intro k τ H locs ls hk hz; omega
  | succ z ih =>
    intro k τ H locs ls hk hz w hI hl
    obtain ⟨i1, i2, i3⟩ := hI
    have e2 : τ.1 2 = σ.1 2 := i1.1 2 (by decide)
    have e3 : τ.2 3 = σ.2 3 := i1.2 3 (by decide)
    refine sq_iloadn S dX0_edit_2 rfl (lv_at hl 0 rfl) ?_
    refine sq_aloadn S dX0_edit_3 rfl (lv_at hl 1 rfl) ?_
    refine gX0_2 (v := τ.1 2) S w rfl dX0_edit_4 ?_
    refine sq_icmp_ge S 28 (by omega) (by omega) dX0_edit_7 (by decide) (fun c7 => ?_) (fun c7 => ?_)
    · obtain rfl : k = σ.1 2 := by omega
      exact K τ _ _ ls w ⟨i1, i2, i3⟩ hl
    · refine sq_aloadn S dX0_edit_10 rfl (lv_at hl 1 rfl) ?_
      refine gX0_1 S w dX0_edit_11 ?_
      refine sq_iloadn S dX0_edit_14 rfl (lv_at hl 0 rfl) ?_
      refine sq_aloadn S dX0_edit_15 rfl (lv_at hl 1 rfl) ?_
      refine gX0_3 S w dX0_edit_16 ?_
      refine sq_iloadn S dX0_edit_19 rfl (lv_at hl 0 rfl) ?_
      refine lX0_3 (v := τ.2 3 k) S w (by omega) rfl dX0_edit_20 ?_
      refine sX0_1 (v := τ.2 3 k) S w (by omega) dX0_edit_21 (fun H locs w => ?_)
      refine lv_iinc (v := (nI (k + 1))) (lv' := [(1, .int (nI (k + 1))), (0, .ref (a 20))]) S.1 S.2.1 dX0_edit_22 hl (k := 0) rfl (sq_inc1 _) (by decide) rfl (fun ls hl => ?_)
      refine sq_goto S 2 dX0_edit_25 (by decide) ?_
      refine ih (k + 1) _ _ _ ls (by omega) (by omega) w ⟨sqFr_A 1 _ _ (by decide) i1, i2, ?_⟩ hl
      intro j hj
      show sqU (τ.2 1) k (τ.2 3 k) j = _
      by_cases q : j = k
      · rw [q, sqU_s, e3]
      · rw [sqU_n _ _ q]; exact i3 j (by omega)
set_option maxHeartbeats 4000000 in
set_option maxRecDepth 100000 in
theorem metX0_edit (l : Launch) (D : va_G) (a : Nat → Nat) (cA : Nat → ClassId) (σ : SqSt) (h0 : σ.1 2 ≤ 48) : sqMv l yX0_edit (ws_ yX0_edit cX0_edit 2 none) rmX0_edit D (tX0 cA) (wX0 a cA) (a 20) σ [] (fun σ' => sqFr [0] [1] σ σ' ∧ σ'.1 0 = σ.1 2 ∧ ∀ j, j < σ.1 2 → σ'.2 1 j = σ.2 3 j) := by
  refine sqMv_of (by decide) (Nat.le_of_ble_eq_true rfl) ?_
  intro p e s m args below meth c A ls S hr hlk w hl
  have S : CallFix p m c cX0_edit 2 s args lw_all RX0 := S
  have hl : lv_has ls 2 [(0, .ref (a 20))] := hl
  refine sq_iconst S 0 (by decide) dX0_edit_0 ?_
  refine lv_istore_n (lv' := [(1, .int (nI 0)), (0, .ref (a 20))]) S.1 S.2.1 dX0_edit_1 rfl hl (by decide) rfl (fun ls hl => ?_)
  refine loopX0_edit S σ h0 (fun τ H locs ls w hI hl => ?_) 49 0 σ _ _ ls (by omega) (by omega) w ⟨sqFr_rf σ, rfl, fun j h => by omega⟩ hl
  obtain ⟨i1, i2, i3⟩ := hI
  refine sq_aloadn S dX0_edit_28 rfl (lv_at hl 1 rfl) ?_
  refine sq_aloadn S dX0_edit_29 rfl (lv_at hl 1 rfl) ?_
  refine gX0_2 (v := τ.1 2) S w rfl dX0_edit_30 ?_
  refine pX0_0 (v := τ.1 2) S w dX0_edit_33 (fun H locs w => ?_)
  exact sq_vret S hr hlk w ⟨sqFr_F 0 _ (by decide) i1, i1.1 2 (by decide), i3⟩ dX0_edit_36
set_option maxHeartbeats 4000000 in
set_option maxRecDepth 100000 in
theorem loopX0_find {p : Program} {l : Launch} {e : Env} {s : State} {m : MethodId} {args : Array Value} {below : List Frame} {meth : Method} {c : Code} {Q : State → Prop} {D : va_G} {A : Nat → Prop} {H0 : Heap} {a : Nat → Nat} {cA : Nat → ClassId} {cells slots : Nat} (S : CallFix p m c cX0_find 4 s args lw_all RX0)  (σ : SqSt) (x y : Int32) (hn : σ.1 2 ≤ 48) (hpg : ∀ j, j < σ.1 2 → σ.2 3 j < 256) (k0 : Nat) (hk0 : ∀ j, j < 48 → (y ≤ nI j ↔ k0 ≤ j)) {H : Heap} {locs : List Loc} (w : sq_wd D A H0 s (tX0 cA) (wX0 a cA σ) H locs) (K : ∀ (r : Int32) (ls : Array Slot), sqFind (σ.2 3) (σ.1 2) (x.toBitVec.toNat % 256) y r → ∀ pc : Nat, (pc = 33 ∨ pc = 41) → W p l e rmX0_find s m args below meth c H locs cells slots Q (F0 m pc ls [.int r])) : ∀ (z k : Nat) (ls : Array Slot), k < 2147483648 → k0 ≤ k → 49 ≤ k + z → (∀ j, j < k → j < σ.1 2 → k0 ≤ j → σ.2 3 j ≠ x.toBitVec.toNat % 256) → lv_has ls 4 [(3, .int (nI k)), (0, .ref (a 20)), (1, .int x), (2, .int y)] → W p l e rmX0_find s m args below meth c H locs cells slots Q (F0 m 10 ls []) := by
  intro z
  induction z with
  | zero =>
    intro k ls hb hk hz hI hl
    refine sq_iloadn S dX0_find_10 rfl (lv_at hl 0 rfl) ?_
    refine sq_aloadn S dX0_find_11 rfl (lv_at hl 1 rfl) ?_
    refine gX0_2 (v := σ.1 2) S w rfl dX0_find_12 ?_
    refine sq_icmp_ge S 40 (by omega) (by omega) dX0_find_15 (by decide) (fun c15 => ?_) (fun c15 => ?_)
    · refine lv_iconst (v := (-1)) S.1 S.2.1 dX0_find_40 (by decide) ?_
      exact K _ ls (Or.inr ⟨rfl, fun j hj h => hI j (by omega) hj ((hk0 j (by omega)).mp h)⟩) 41 (Or.inr rfl)
    · exact absurd c15 (by omega)
  | succ z ih =>
    intro k ls hb hk hz hI hl
    refine sq_iloadn S dX0_find_10 rfl (lv_at hl 0 rfl) ?_
    refine sq_aloadn S dX0_find_11 rfl (lv_at hl 1 rfl) ?_
    refine gX0_2 (v := σ.1 2) S w rfl dX0_find_12 ?_
    refine sq_icmp_ge S 40 (by omega) (by omega) dX0_find_15 (by decide) (fun c15 => ?_) (fun c15 => ?_)
    · refine lv_iconst (v := (-1)) S.1 S.2.1 dX0_find_40 (by decide) ?_
      exact K _ ls (Or.inr ⟨rfl, fun j hj h => hI j (by omega) hj ((hk0 j (by omega)).mp h)⟩) 41 (Or.inr rfl)
    · refine sq_aloadn S dX0_find_18 rfl (lv_at hl 1 rfl) ?_
      refine gX0_3 S w dX0_find_19 ?_
      refine sq_iloadn S dX0_find_22 rfl (lv_at hl 0 rfl) ?_
      refine lX0_3 (v := σ.2 3 k) S w (by omega) rfl dX0_find_23 ?_
      refine sq_iloadn S dX0_find_24 rfl (lv_at hl 2 rfl) ?_
      refine sq_sipush S 255 (by decide) dX0_find_25 ?_
      refine sq_iandx S 8 256 (by decide) (by decide) dX0_find_28 ?_
      refine sq_icmp_ne S 34 (by have := hpg k (by omega); omega) (by omega) dX0_find_29 (by decide) (fun c29 => ?_) (fun c29 => ?_)
      · refine lv_iinc (v := (nI (k + 1))) (lv' := [(3, .int (nI (k + 1))), (0, .ref (a 20)), (1, .int x), (2, .int y)]) S.1 S.2.1 dX0_find_34 hl (k := 0) rfl (sq_inc1 _) (by decide) rfl (fun ls hl => ?_)
        refine sq_goto S 10 dX0_find_37 (by decide) ?_
        refine ih (k + 1) ls (by omega) (by omega) (by omega) (fun j hj h1 h2 => ?_) hl
        by_cases q : j = k
        · rw [q]; exact c29
        · exact hI j (by omega) h1 h2
      · refine sq_iloadn S dX0_find_32 rfl (lv_at hl 0 rfl) ?_
        exact K _ ls (Or.inl ⟨k, rfl, by omega, (hk0 k (by omega)).mpr hk, c29, fun j hj h => hI j hj (by omega) ((hk0 j (by omega)).mp h)⟩) 33 (Or.inl rfl)
set_option maxHeartbeats 4000000 in
set_option maxRecDepth 100000 in
theorem metX0_find (l : Launch) (D : va_G) (a : Nat → Nat) (cA : Nat → ClassId) (σ : SqSt) (x y : Int32) (h0 : σ.1 2 ≤ 48) (hpg : ∀ j, j < σ.1 2 → σ.2 3 j < 256) : sqMi l yX0_find (ws_ yX0_find cX0_find 4 (some .int)) rmX0_find D (tX0 cA) (wX0 a cA) (a 20) σ [.int x, .int y] (fun r σ' => sqFind (σ.2 3) (σ.1 2) (x.toBitVec.toNat % 256) y r ∧ σ' = σ) := by
  refine sqMi_of (by decide) (Nat.le_of_ble_eq_true rfl) ?_
  intro p e s m args below meth c A ls S hr hlk w hl
  have S : CallFix p m c cX0_find 4 s args lw_all RX0 := S
  have hl : lv_has ls 4 [(0, .ref (a 20)), (1, .int x), (2, .int y)] := hl
  refine sq_iloadn S dX0_find_0 rfl (lv_at hl 2 rfl) ?_
  refine lv_if_ge (tgt := 8) S.1 S.2.1 dX0_find_1 (by decide) (fun c1 => ?_) (fun c1 => ?_)
  · obtain ⟨y0, hy, rfl⟩ := nI_of (x := y) (fun q => by rw [Int32.lt_iff_toInt_lt] at q; rw [Int32.le_iff_toInt_le] at c1; omega)
    refine sq_iloadn S dX0_find_8 rfl (lv_at hl 2 rfl) ?_
    refine lv_istore_n (lv' := [(3, .int (nI y0)), (0, .ref (a 20)), (1, .int x), (2, .int (nI y0))]) S.1 S.2.1 dX0_find_9 rfl hl (by decide) rfl (fun ls hl => ?_)
    exact loopX0_find S σ x _ h0 hpg y0 (fun j hj => nI_leI hy (by omega)) w (fun r ls hf pc hpc => by
    rcases hpc with rfl | rfl
    · exact sq_iret S hr hlk w ⟨hf, rfl⟩ dX0_find_33
    · exact sq_iret S hr hlk w ⟨hf, rfl⟩ dX0_find_41) 49 y0 ls hy (by omega) (by omega) (fun j hj h1 h2 => by omega) hl
  · refine sq_iconst S 0 (by decide) dX0_find_4 ?_
    refine sq_goto S 9 dX0_find_5 (by decide) ?_
    refine lv_istore_n (lv' := [(3, .int (nI 0)), (0, .ref (a 20)), (1, .int x), (2, .int y)]) S.1 S.2.1 dX0_find_9 rfl hl (by decide) rfl (fun ls hl => ?_)
    exact loopX0_find S σ x y h0 hpg 0 (fun j hj => ⟨fun _ => Nat.zero_le j, fun _ => sq_neg_le c1 hj⟩) w (fun r ls hf pc hpc => by
    rcases hpc with rfl | rfl
    · exact sq_iret S hr hlk w ⟨hf, rfl⟩ dX0_find_33
    · exact sq_iret S hr hlk w ⟨hf, rfl⟩ dX0_find_41) 49 0 ls (by omega) (by omega) (by omega) (fun j hj => by omega) hl
end
section
set_option maxHeartbeats 4000000 in
set_option maxRecDepth 100000 in
theorem loopX0_startChances {p : Program} {l : Launch} {e : Env} {s : State} {m : MethodId} {args : Array Value} {below : List Frame} {meth : Method} {c : Code} {Q : State → Prop} {D : va_G} {A : Nat → Prop} {H0 : Heap} {a : Nat → Nat} {cA : Nat → ClassId} {cells slots : Nat} (S : CallFix p m c cX0_startChances 2 s args lw_all RX0)  (σ : SqSt) (K : ∀ (τ : SqSt) (H : Heap) (locs : List Loc) (ls : Array Slot), sq_wd D A H0 s (tX0 cA) (wX0 a cA τ) H locs → (sqFr [] [7] σ τ ∧ ∀ j, j < 394 → τ.2 7 j = 1024) → W p l e rmX0_startChances s m args below meth c H locs cells slots Q (F0 m 24 ls [])) : ∀ (z k : Nat) (τ : SqSt) (H : Heap) (locs : List Loc) (ls : Array Slot), k ≤ 394 → 394 < k + z → sq_wd D A H0 s (tX0 cA) (wX0 a cA τ) H locs → (sqFr [] [7] σ τ ∧ ∀ j, j < k → τ.2 7 j = 1024) → lv_has ls 2 [(1, .int (nI k)), (0, .ref (a 20))] → W p l e rmX0_startChances s m args below meth c H locs cells slots Q (F0 m 2 ls []) := by
  intro z
  induction z with
  | zero => intro k τ H locs ls hk hz; omega
  | succ z ih =>
    intro k τ H locs ls hk hz w hI hl
    obtain ⟨i1, i2⟩ := hI
    refine sq_iloadn S dX0_startChances_2 rfl (lv_at hl 0 rfl) ?_
    refine sq_sipush S 394 (by decide) dX0_startChances_3 ?_
    refine sq_icmp_ge S 24 (by omega) (by omega) dX0_startChances_6 (by decide) (fun c6 => ?_) (fun c6 => ?_)
    · exact K τ _ _ ls w ⟨i1, fun j hj => i2 j (by omega)⟩
    · refine sq_aloadn S dX0_startChances_9 rfl (lv_at hl 1 rfl) ?_
      refine gX0_7 S w dX0_startChances_10 ?_
      refine sq_iloadn S dX0_startChances_13 rfl (lv_at hl 0 rfl) ?_
      refine sq_sipush S 1024 (by decide) dX0_startChances_14 ?_
      refine sX0_7 (v := 1024) S w (by omega) dX0_startChances_17 (fun H locs w => ?_)
      refine lv_iinc (v := (nI (k + 1))) (lv' := [(1, .int (nI (k + 1))), (0, .ref (a 20))]) S.1 S.2.1 dX0_startChances_18 hl (k := 0) rfl (sq_inc1 _) (by decide) rfl (fun ls hl => ?_)
      refine sq_goto S 2 dX0_startChances_21 (by decide) ?_
      refine ih (k + 1) _ _ _ ls (by omega) (by omega) w ⟨sqFr_A 7 _ _ (by decide) i1, ?_⟩ hl
      intro j hj
      show sqU (τ.2 7) k 1024 j = _
      by_cases q : j = k
      · rw [q, sqU_s]
      · rw [sqU_n _ _ q]; exact i2 j (by omega)
set_option maxHeartbeats 4000000 in
set_option maxRecDepth 100000 in
theorem metX0_startChances (l : Launch) (D : va_G) (a : Nat → Nat) (cA : Nat → ClassId) (σ : SqSt)  : sqMv l yX0_startChances (ws_ yX0_startChances cX0_startChances 2 none) rmX0_startChances D (tX0 cA) (wX0 a cA) (a 20) σ [] (fun σ' => sqFr [] [7] σ σ' ∧ ∀ j, j < 394 → σ'.2 7 j = 1024) := by
  refine sqMv_of (by decide) (Nat.le_of_ble_eq_true rfl) ?_
  intro p e s m args below meth c A ls S hr hlk w hl
  have S : CallFix p m c cX0_startChances 2 s args lw_all RX0 := S
  have hl : lv_has ls 2 [(0, .ref (a 20))] := hl
  refine sq_iconst S 0 (by decide) dX0_startChances_0 ?_
  refine lv_istore_n (lv' := [(1, .int (nI 0)), (0, .ref (a 20))]) S.1 S.2.1 dX0_startChances_1 rfl hl (by decide) rfl (fun ls hl => ?_)
  refine loopX0_startChances S σ (fun τ H locs ls w hI => ?_) 395 0 σ _ _ ls (by omega) (by omega) w ⟨sqFr_rf σ, fun j h => by omega⟩ hl
  exact sq_vret S hr hlk w hI dX0_startChances_24
set_option maxHeartbeats 4000000 in
set_option maxRecDepth 100000 in
theorem metX0_learn (l : Launch) (D : va_G) (a : Nat → Nat) (cA : Nat → ClassId) (σ : SqSt) (cx bit : Nat) (h1 : cx < 394) (h2 : bit ≤ 1) (h3 : σ.2 7 cx ≤ 2048) : sqMv l yX0_learn (ws_ yX0_learn cX0_learn 3 none) rmX0_learn D (tX0 cA) (wX0 a cA) (a 20) σ [.int (nI cx), .int (nI bit)] (fun σ' => σ' = sqA σ 7 cx (lrn (σ.2 7 cx) bit)) := by
  refine sqMv_of (by decide) (Nat.le_of_ble_eq_true rfl) ?_
  intro p e s m args below meth c A ls S hr hlk w hl
  have S : CallFix p m c cX0_learn 3 s args lw_all RX0 := S
  have hl : lv_has ls 3 [(0, .ref (a 20)), (1, .int (nI cx)), (2, .int (nI bit))] := hl
  refine sq_iloadn S dX0_learn_0 rfl (lv_at hl 2 rfl) ?_
  refine sq_if_ne S 28 (by omega) dX0_learn_1 (by decide) (fun c1 => ?_) (fun c1 => ?_)
  · refine sq_aloadn S dX0_learn_28 rfl (lv_at hl 0 rfl) ?_
    refine gX0_7 S w dX0_learn_29 ?_
    refine sq_iloadn S dX0_learn_32 rfl (lv_at hl 1 rfl) ?_
    refine sq_dup2 S rfl rfl dX0_learn_33 ?_
    refine lX0_7 (v := σ.2 7 cx) S w (by omega) rfl dX0_learn_34 ?_
    refine sq_aloadn S dX0_learn_35 rfl (lv_at hl 0 rfl) ?_
    refine gX0_7 S w dX0_learn_36 ?_
    refine sq_iloadn S dX0_learn_39 rfl (lv_at hl 1 rfl) ?_
    refine lX0_7 (v := σ.2 7 cx) S w (by omega) rfl dX0_learn_40 ?_
    refine sq_iconst S 5 (by decide) dX0_learn_41 ?_
    refine sq_ishr S 32 (by decide) (by omega) (by decide) dX0_learn_42 ?_
    refine sq_isub S (by omega) dX0_learn_43 ?_
    refine sX0_7 (v := (σ.2 7 cx) - ((σ.2 7 cx) / 32)) S w (by omega) dX0_learn_44 (fun H locs w => ?_)
    exact sq_vret S hr hlk w (by rw [show lrn (σ.2 7 cx) bit = _ from if_neg c1]) dX0_learn_45
  · refine sq_aloadn S dX0_learn_4 rfl (lv_at hl 0 rfl) ?_
    refine gX0_7 S w dX0_learn_5 ?_
    refine sq_iloadn S dX0_learn_8 rfl (lv_at hl 1 rfl) ?_
    refine sq_dup2 S rfl rfl dX0_learn_9 ?_
    refine lX0_7 (v := σ.2 7 cx) S w (by omega) rfl dX0_learn_10 ?_
    refine sq_sipush S 2048 (by decide) dX0_learn_11 ?_
    refine sq_aloadn S dX0_learn_14 rfl (lv_at hl 0 rfl) ?_
    refine gX0_7 S w dX0_learn_15 ?_
    refine sq_iloadn S dX0_learn_18 rfl (lv_at hl 1 rfl) ?_
    refine lX0_7 (v := σ.2 7 cx) S w (by omega) rfl dX0_learn_19 ?_
    refine sq_isub S (by omega) dX0_learn_20 ?_
    refine sq_iconst S 5 (by decide) dX0_learn_21 ?_
    refine sq_ishr S 32 (by decide) (by omega) (by decide) dX0_learn_22 ?_
    refine sq_iadd S dX0_learn_23 ?_
    refine sX0_7 (v := (σ.2 7 cx) + ((2048 - (σ.2 7 cx)) / 32)) S w (by omega) dX0_learn_24 (fun H locs w => ?_)
    refine sq_goto S 45 dX0_learn_25 (by decide) ?_
    exact sq_vret S hr hlk w (by rw [show lrn (σ.2 7 cx) bit = _ from if_pos c1]) dX0_learn_45
set_option maxHeartbeats 4000000 in
set_option maxRecDepth 100000 in
theorem metX0_putByte (l : Launch) (D : va_G) (a : Nat → Nat) (cA : Nat → ClassId) (σ : SqSt) (v : Nat) (h1 : v < 512) (h2 : σ.1 13 < 352) (h3 : σ.1 12 ≤ 1056) : sqMv l yX0_putByte (ws_ yX0_putByte cX0_putByte 2 none) rmX0_putByte D (tX0 cA) (wX0 a cA) (a 20) σ [.int (nI v)] (fun σ' => σ' = sqF (sqA σ 6 (σ.1 12 + σ.1 13) (v % 256)) 13 (σ.1 13 + 1)) := by
  refine sqMv_of (by decide) (Nat.le_of_ble_eq_true rfl) ?_
  intro p e s m args below meth c A ls S hr hlk w hl
  have S : CallFix p m c cX0_putByte 2 s args lw_all RX0 := S
  have hl : lv_has ls 2 [(0, .ref (a 20)), (1, .int (nI v))] := hl
  refine sq_aloadn S dX0_putByte_0 rfl (lv_at hl 0 rfl) ?_
  refine gX0_13 (v := σ.1 13) S w rfl dX0_putByte_1 ?_
  refine sq_sipush S 352 (by decide) dX0_putByte_4 ?_
  refine sq_icmp_ge S 36 (by omega) (by omega) dX0_putByte_7 (by decide) (fun c7 => ?_) (fun c7 => ?_)
  · exact absurd c7 (by omega)
  · refine sq_aloadn S dX0_putByte_10 rfl (lv_at hl 0 rfl) ?_
    refine gX0_6 S w dX0_putByte_11 ?_
    refine sq_aloadn S dX0_putByte_14 rfl (lv_at hl 0 rfl) ?_
    refine gX0_12 (v := σ.1 12) S w rfl dX0_putByte_15 ?_
    refine sq_aloadn S dX0_putByte_18 rfl (lv_at hl 0 rfl) ?_
    refine gX0_13 (v := σ.1 13) S w rfl dX0_putByte_19 ?_
    refine sq_iadd S dX0_putByte_22 ?_
    refine sq_iloadn S dX0_putByte_23 rfl (lv_at hl 1 rfl) ?_
    refine sq_i2b S dX0_putByte_24 ?_
    refine sX0_6 (v := v) S w (by omega) h1 dX0_putByte_25 (fun H locs w => ?_)
    refine sq_aloadn S dX0_putByte_26 rfl (lv_at hl 0 rfl) ?_
    refine sq_dup S rfl dX0_putByte_27 ?_
    refine gX0_13 (v := σ.1 13) S w rfl dX0_putByte_28 ?_
    refine sq_iconst S 1 (by decide) dX0_putByte_31 ?_
    refine sq_iadd S dX0_putByte_32 ?_
    refine pX0_13 (v := (σ.1 13) + 1) S w dX0_putByte_33 (fun H locs w => ?_)
    exact sq_vret S hr hlk w (rfl) dX0_putByte_36
set_option maxHeartbeats 4000000 in
set_option maxRecDepth 100000 in
theorem metX0_takeByte (l : Launch) (D : va_G) (a : Nat → Nat) (cA : Nat → ClassId) (σ : SqSt) (h2 : σ.1 15 < 352) (h3 : σ.1 12 ≤ 1056) (h4 : ∀ j, σ.2 6 j < 256) : sqMi l yX0_takeByte (ws_ yX0_takeByte cX0_takeByte 2 (some .int)) rmX0_takeByte D (tX0 cA) (wX0 a cA) (a 20) σ [] (fun r σ' => r = nI (σ.2 6 (σ.1 12 + σ.1 15)) ∧ σ' = sqF σ 15 (σ.1 15 + 1)) := by
  refine sqMi_of (by decide) (Nat.le_of_ble_eq_true rfl) ?_
  intro p e s m args below meth c A ls S hr hlk w hl
  have S : CallFix p m c cX0_takeByte 2 s args lw_all RX0 := S
  have hl : lv_has ls 2 [(0, .ref (a 20))] := hl
  refine sq_aloadn S dX0_takeByte_0 rfl (lv_at hl 0 rfl) ?_
  refine gX0_15 (v := σ.1 15) S w rfl dX0_takeByte_1 ?_
  refine sq_sipush S 352 (by decide) dX0_takeByte_4 ?_
  refine sq_icmp_ge S 31 (by omega) (by omega) dX0_takeByte_7 (by decide) (fun c7 => ?_) (fun c7 => ?_)
  · exact absurd c7 (by omega)
  · refine sq_aloadn S dX0_takeByte_10 rfl (lv_at hl 0 rfl) ?_
    refine gX0_6 S w dX0_takeByte_11 ?_
    refine sq_aloadn S dX0_takeByte_14 rfl (lv_at hl 0 rfl) ?_
    refine gX0_12 (v := σ.1 12) S w rfl dX0_takeByte_15 ?_
    refine sq_aloadn S dX0_takeByte_18 rfl (lv_at hl 0 rfl) ?_
    refine gX0_15 (v := σ.1 15) S w rfl dX0_takeByte_19 ?_
    refine sq_iadd S dX0_takeByte_22 ?_
    refine lX0_6 (v := σ.2 6 ((σ.1 12) + (σ.1 15))) S w (by omega) rfl dX0_takeByte_23 ?_
    refine sq_sipush S 255 (by decide) dX0_takeByte_24 ?_
    refine sq_iandb S (h4 _) dX0_takeByte_27 ?_
    refine sq_goto S 32 dX0_takeByte_28 (by decide) ?_
    refine lv_istore_n (lv' := [(1, .int (nI (σ.2 6 ((σ.1 12) + (σ.1 15))))), (0, .ref (a 20))]) S.1 S.2.1 dX0_takeByte_32 rfl hl (by decide) rfl (fun ls hl => ?_)
    refine sq_aloadn S dX0_takeByte_33 rfl (lv_at hl 1 rfl) ?_
    refine sq_dup S rfl dX0_takeByte_34 ?_
    refine gX0_15 (v := σ.1 15) S w rfl dX0_takeByte_35 ?_
    refine sq_iconst S 1 (by decide) dX0_takeByte_38 ?_
    refine sq_iadd S dX0_takeByte_39 ?_
    refine pX0_15 (v := (σ.1 15) + 1) S w dX0_takeByte_40 (fun H locs w => ?_)
    refine sq_iloadn S dX0_takeByte_43 rfl (lv_at hl 0 rfl) ?_
    exact sq_iret S hr hlk w (⟨rfl, rfl⟩) dX0_takeByte_44
set_option maxHeartbeats 4000000 in
set_option maxRecDepth 100000 in
theorem loopX0_matchAt {p : Program} {l : Launch} {e : Env} {s : State} {m : MethodId} {args : Array Value} {below : List Frame} {meth : Method} {c : Code} {Q : State → Prop} {D : va_G} {A : Nat → Prop} {H0 : Heap} {a : Nat → Nat} {cA : Nat → ClassId} {cells slots : Nat} (S : CallFix p m c cX0_matchAt 4 s args lw_all RX0)  (σ : SqSt) (pl d : Nat) (h1 : 1 ≤ d) (h2 : d ≤ pl) (h3 : σ.1 0 ≤ 48) (h4 : pl ≤ σ.1 0) (h5 : ∀ j, j < σ.1 0 → σ.2 1 j < 256) {H : Heap} {locs : List Loc} (w : sq_wd D A H0 s (tX0 cA) (wX0 a cA σ) H locs) (K : ∀ (k : Nat) (ls : Array Slot), k ≤ 9 → pl + k ≤ σ.1 0 → (∀ j, j < k → σ.2 1 (pl + j) = σ.2 1 (pl + j - d)) → lv_has ls 4 [(3, .int (nI k)), (0, .ref (a 20)), (1, .int (nI pl)), (2, .int (nI d))] → W p l e rmX0_matchAt s m args below meth c H locs cells slots Q (F0 m 45 ls [])) : ∀ (z k : Nat) (ls : Array Slot), k ≤ 9 → 9 < k + z → pl + k ≤ σ.1 0 → (∀ j, j < k → σ.2 1 (pl + j) = σ.2 1 (pl + j - d)) → lv_has ls 4 [(3, .int (nI k)), (0, .ref (a 20)), (1, .int (nI pl)), (2, .int (nI d))] → W p l e rmX0_matchAt s m args below meth c H locs cells slots Q (F0 m 2 ls []) := by
  intro z
  induction z with
  | zero => intro k ls hk hz; omega
  | succ z ih =>
    intro k ls hk hz hpk hI hl
    refine sq_iloadn S dX0_matchAt_2 rfl (lv_at hl 0 rfl) ?_
    refine sq_bipush S 9 (by decide) dX0_matchAt_3 ?_
    refine sq_icmp_ge S 45 (by omega) (by omega) dX0_matchAt_5 (by decide) (fun c5 => ?_) (fun c5 => ?_)
    · exact K k ls hk hpk hI hl
    · refine sq_iloadn S dX0_matchAt_8 rfl (lv_at hl 2 rfl) ?_
      refine sq_iloadn S dX0_matchAt_9 rfl (lv_at hl 0 rfl) ?_
      refine sq_iadd S dX0_matchAt_10 ?_
      refine sq_aloadn S dX0_matchAt_11 rfl (lv_at hl 1 rfl) ?_
      refine gX0_0 (v := σ.1 0) S w rfl dX0_matchAt_12 ?_
      refine sq_icmp_ge S 45 (by omega) (by omega) dX0_matchAt_15 (by decide) (fun c15 => ?_) (fun c15 => ?_)
      · exact K k ls hk hpk hI hl
      · refine sq_aloadn S dX0_matchAt_18 rfl (lv_at hl 1 rfl) ?_
        refine gX0_1 S w dX0_matchAt_19 ?_
        refine sq_iloadn S dX0_matchAt_22 rfl (lv_at hl 2 rfl) ?_
        refine sq_iloadn S dX0_matchAt_23 rfl (lv_at hl 0 rfl) ?_
        refine sq_iadd S dX0_matchAt_24 ?_
        refine lX0_1 (v := σ.2 1 (pl + k)) S w (by omega) rfl dX0_matchAt_25 ?_
        refine sq_aloadn S dX0_matchAt_26 rfl (lv_at hl 1 rfl) ?_
        refine gX0_1 S w dX0_matchAt_27 ?_
        refine sq_iloadn S dX0_matchAt_30 rfl (lv_at hl 2 rfl) ?_
        refine sq_iloadn S dX0_matchAt_31 rfl (lv_at hl 0 rfl) ?_
        refine sq_iadd S dX0_matchAt_32 ?_
        refine sq_iloadn S dX0_matchAt_33 rfl (lv_at hl 3 rfl) ?_
        refine sq_isub S (by omega) dX0_matchAt_34 ?_
        refine lX0_1 (v := σ.2 1 ((pl + k) - d)) S w (by omega) rfl dX0_matchAt_35 ?_
        refine sq_icmp_ne S 45 (by have := h5 (pl + k) (by omega); omega) (by have := h5 (pl + k - d) (by omega); omega) dX0_matchAt_36 (by decide) (fun c36 => ?_) (fun c36 => ?_)
        · exact K k ls hk hpk hI hl
        · refine lv_iinc (v := (nI (k + 1))) (lv' := [(3, .int (nI (k + 1))), (0, .ref (a 20)), (1, .int (nI pl)), (2, .int (nI d))]) S.1 S.2.1 dX0_matchAt_39 hl (k := 0) rfl (sq_inc1 _) (by decide) rfl (fun ls hl => ?_)
          refine sq_goto S 2 dX0_matchAt_42 (by decide) ?_
          refine ih (k + 1) ls (by omega) (by omega) (by omega) (fun j hj => ?_) hl
          by_cases q : j = k
          · rw [q]; exact c36
          · exact hI j (by omega)
set_option maxHeartbeats 4000000 in
set_option maxRecDepth 100000 in
theorem metX0_matchAt (l : Launch) (D : va_G) (a : Nat → Nat) (cA : Nat → ClassId) (σ : SqSt) (pl d : Nat) (h1 : 1 ≤ d) (h2 : d ≤ pl) (h3 : σ.1 0 ≤ 48) (h4 : pl ≤ σ.1 0) (h5 : ∀ j, j < σ.1 0 → σ.2 1 j < 256) : sqMi l yX0_matchAt (ws_ yX0_matchAt cX0_matchAt 4 (some .int)) rmX0_matchAt D (tX0 cA) (wX0 a cA) (a 20) σ [.int (nI pl), .int (nI d)] (fun r σ' => σ' = σ ∧ ∃ k, r = nI k ∧ k ≤ 9 ∧ pl + k ≤ σ.1 0 ∧ ∀ j, j < k → σ.2 1 (pl + j) = σ.2 1 (pl + j - d)) := by
  refine sqMi_of (by decide) (Nat.le_of_ble_eq_true rfl) ?_
  intro p e s m args below meth c A ls S hr hlk w hl
  have S : CallFix p m c cX0_matchAt 4 s args lw_all RX0 := S
  have hl : lv_has ls 4 [(0, .ref (a 20)), (1, .int (nI pl)), (2, .int (nI d))] := hl
  refine sq_iconst S 0 (by decide) dX0_matchAt_0 ?_
  refine lv_istore_n (lv' := [(3, .int (nI 0)), (0, .ref (a 20)), (1, .int (nI pl)), (2, .int (nI d))]) S.1 S.2.1 dX0_matchAt_1 rfl hl (by decide) rfl (fun ls hl => ?_)
  refine loopX0_matchAt S σ pl d h1 h2 h3 h4 h5 w (fun k ls k1 k2 k3 hl => ?_) 10 0 ls (by omega) (by omega) (by omega) (fun j hj => by omega) hl
  refine sq_iloadn S dX0_matchAt_45 rfl (lv_at hl 0 rfl) ?_
  exact sq_iret S hr hlk w (⟨rfl, k, rfl, k1, k2, k3⟩) dX0_matchAt_46
def sqFM (σ : SqSt) (pl : Nat) (τ : SqSt) : Prop := sqFr [16, 17] [] σ τ ∧ τ.1 16 ≤ 9 ∧ (1 ≤ τ.1 16 → 1 ≤ τ.1 17 ∧ τ.1 17 ≤ pl ∧ pl + τ.1 16 ≤ σ.1 0 ∧ ∀ j, j < τ.1 16 → σ.2 1 (pl + j) = σ.2 1 (pl + j - τ.1 17))
set_option maxHeartbeats 4000000 in
set_option maxRecDepth 100000 in
theorem loopX0_findMatch {p : Program} {l : Launch} {e : Env} {s : State} {m : MethodId} {args : Array Value} {below : List Frame} {meth : Method} {c : Code} {Q : State → Prop} {D : va_G} {A : Nat → Prop} {H0 : Heap} {a : Nat → Nat} {cA : Nat → ClassId} (S : CallFix p m c cX0_findMatch 4 s args lw_all RX0)  (σ : SqSt) (pl : Nat) (h3 : σ.1 0 ≤ 48) (h4 : pl < σ.1 0) (h5 : ∀ j, j < σ.1 0 → σ.2 1 j < 256) (K : ∀ (τ : SqSt) (H : Heap) (locs : List Loc) (ls : Array Slot), sq_wd D A H0 s (tX0 cA) (wX0 a cA τ) H locs → sqFM σ pl τ → W p l e rmX0_findMatch s m args below meth c H locs 0 0 Q (F0 m 48 ls [])) : ∀ (z k : Nat) (τ : SqSt) (H : Heap) (locs : List Loc) (ls : Array Slot), 1 ≤ k → k ≤ pl + 1 → pl + 1 < k + z → sq_wd D A H0 s (tX0 cA) (wX0 a cA τ) H locs → sqFM σ pl τ → lv_has ls 4 [(2, .int (nI k)), (0, .ref (a 20)), (1, .int (nI pl))] → W p l e rmX0_findMatch s m args below meth c H locs 0 0 Q (F0 m 12 ls []) := by
  intro z
  induction z with
  | zero => intro k τ H locs ls hk1 hk hz; omega
  | succ z ih =>
    intro k τ H locs ls hk1 hk hz w hI hl
    obtain ⟨i1, i2, i3⟩ := hI
    have e0 : τ.1 0 = σ.1 0 := i1.1 0 (by decide)
    have e1 : τ.2 1 = σ.2 1 := i1.2 1 (by decide)
    refine sq_iloadn S dX0_findMatch_12 rfl (lv_at hl 0 rfl) ?_
    refine sq_iloadn S dX0_findMatch_13 rfl (lv_at hl 2 rfl) ?_
    refine sq_icmp_gt S 48 (by omega) (by omega) dX0_findMatch_14 (by decide) (fun c14 => ?_) (fun c14 => ?_)
    · exact K τ _ _ ls w ⟨i1, i2, i3⟩
    · refine sq_aloadn S dX0_findMatch_17 rfl (lv_at hl 1 rfl) ?_
      refine sq_iloadn S dX0_findMatch_18 rfl (lv_at hl 2 rfl) ?_
      refine sq_iloadn S dX0_findMatch_19 rfl (lv_at hl 0 rfl) ?_
      refine sq_calli S w (metX0_matchAt l D a cA τ pl k hk1 (by omega) (by omega) (by omega) (by rw [e0, e1]; exact h5)) (cwV 2 S.2.2.2.2 (lw_V q134 q136 qs8 q15 q137) rfl rfl rfl (by decide +kernel) ⟨Nat.le_of_ble_eq_true rfl, Nat.le_of_ble_eq_true rfl⟩) (va_recv w.1 w.2.1 (ci := 0) (q0 := 0) rfl rfl) rfl hl.1 rfl (Nat.le_of_ble_eq_true rfl) ⟨Nat.zero_le _, Nat.zero_le _⟩ dX0_findMatch_20 (fun r1 τ1 H locs hp1 w => ?_)
      obtain ⟨ht1, n, rfl, n1, n2, n3⟩ := hp1
      rw [ht1] at w
      refine lv_istore_n (lv' := [(3, .int (nI n)), (2, .int (nI k)), (0, .ref (a 20)), (1, .int (nI pl))]) S.1 S.2.1 dX0_findMatch_23 rfl hl (by decide) rfl (fun ls hl => ?_)
      refine sq_iloadn S dX0_findMatch_24 rfl (lv_at hl 0 rfl) ?_
      refine sq_aloadn S dX0_findMatch_25 rfl (lv_at hl 2 rfl) ?_
      refine gX0_16 (v := τ.1 16) S w rfl dX0_findMatch_26 ?_
      refine sq_icmp_le S 42 (by omega) (by omega) dX0_findMatch_29 (by decide) (fun c29 => ?_) (fun c29 => ?_)
      · refine lv_iinc (v := (nI (k + 1))) (lv' := [(2, .int (nI (k + 1))), (3, .int (nI n)), (0, .ref (a 20)), (1, .int (nI pl))]) S.1 S.2.1 dX0_findMatch_42 hl (k := 1) rfl (sq_inc1 _) (by decide) rfl (fun ls hl => ?_)
        refine sq_goto S 12 dX0_findMatch_45 (by decide) ?_
        exact ih (k + 1) _ _ _ ls (by omega) (by omega) (by omega) w ⟨i1, i2, i3⟩ (lv_sub hl [0,2,3] rfl)
      · refine sq_aloadn S dX0_findMatch_32 rfl (lv_at hl 2 rfl) ?_
        refine sq_iloadn S dX0_findMatch_33 rfl (lv_at hl 0 rfl) ?_
        refine pX0_16 (v := n) S w dX0_findMatch_34 (fun H locs w => ?_)
        refine sq_aloadn S dX0_findMatch_37 rfl (lv_at hl 2 rfl) ?_
        refine sq_iloadn S dX0_findMatch_38 rfl (lv_at hl 1 rfl) ?_
        refine pX0_17 (v := k) S w dX0_findMatch_39 (fun H locs w => ?_)
        refine lv_iinc (v := (nI (k + 1))) (lv' := [(2, .int (nI (k + 1))), (3, .int (nI n)), (0, .ref (a 20)), (1, .int (nI pl))]) S.1 S.2.1 dX0_findMatch_42 hl (k := 1) rfl (sq_inc1 _) (by decide) rfl (fun ls hl => ?_)
        refine sq_goto S 12 dX0_findMatch_45 (by decide) ?_
        exact ih (k + 1) _ _ _ ls (by omega) (by omega) (by omega) w ⟨sqFr_F 17 _ (by decide) (sqFr_F 16 _ (by decide) i1), n1, fun _ => ⟨hk1, (by show k ≤ pl; omega), (by show pl + n ≤ σ.1 0; omega), (by show ∀ j, j < n → σ.2 1 (pl + j) = σ.2 1 (pl + j - k); rw [← e1]; exact n3)⟩⟩ (lv_sub hl [0,2,3] rfl)
set_option maxHeartbeats 4000000 in
set_option maxRecDepth 100000 in
theorem metX0_findMatch (l : Launch) (D : va_G) (a : Nat → Nat) (cA : Nat → ClassId) (σ : SqSt) (pl : Nat) (h3 : σ.1 0 ≤ 48) (h4 : pl < σ.1 0) (h5 : ∀ j, j < σ.1 0 → σ.2 1 j < 256) : sqMv l yX0_findMatch (ws_ yX0_findMatch cX0_findMatch 4 none) rmX0_findMatch D (tX0 cA) (wX0 a cA) (a 20) σ [.int (nI pl)] (fun σ' => sqFM σ pl σ') := by
  refine sqMv_of (by decide) (Nat.le_of_ble_eq_true rfl) ?_
  intro p e s m args below meth c A ls S hr hlk w hl
  have S : CallFix p m c cX0_findMatch 4 s args lw_all RX0 := S
  have hl : lv_has ls 4 [(0, .ref (a 20)), (1, .int (nI pl))] := hl
  refine sq_aloadn S dX0_findMatch_0 rfl (lv_at hl 0 rfl) ?_
  refine sq_iconst S 0 (by decide) dX0_findMatch_1 ?_
  refine pX0_16 (v := 0) S w dX0_findMatch_2 (fun H locs w => ?_)
  refine sq_aloadn S dX0_findMatch_5 rfl (lv_at hl 0 rfl) ?_
  refine sq_iconst S 0 (by decide) dX0_findMatch_6 ?_
  refine pX0_17 (v := 0) S w dX0_findMatch_7 (fun H locs w => ?_)
  refine sq_iconst S 1 (by decide) dX0_findMatch_10 ?_
  refine lv_istore_n (lv' := [(2, .int (nI 1)), (0, .ref (a 20)), (1, .int (nI pl))]) S.1 S.2.1 dX0_findMatch_11 rfl hl (by decide) rfl (fun ls hl => ?_)
  refine loopX0_findMatch S σ pl h3 h4 h5 (fun τ H locs ls w hI => ?_) (pl + 2) 1 _ _ _ ls (by omega) (by omega) (by omega) w ⟨sqFr_F 17 _ (by decide) (sqFr_F 16 _ (by decide) (sqFr_rf σ)), (by show 0 ≤ 9; omega), fun q => absurd q (by show ¬ 1 ≤ 0; omega)⟩ hl
  exact sq_vret S hr hlk w hI dX0_findMatch_48
set_option maxHeartbeats 4000000 in
set_option maxRecDepth 100000 in
theorem loopX0_copyBack {p : Program} {l : Launch} {e : Env} {s : State} {m : MethodId} {args : Array Value} {below : List Frame} {meth : Method} {c : Code} {Q : State → Prop} {D : va_G} {A : Nat → Prop} {H0 : Heap} {a : Nat → Nat} {cA : Nat → ClassId} {cells slots : Nat} (S : CallFix p m c cX0_copyBack 4 s args lw_all RX0)  (σ : SqSt) (n d : Nat) (f : Nat → Nat) (h1 : 1 ≤ d) (h2 : d ≤ σ.1 2) (h3 : σ.1 2 + n ≤ 48) (h4 : ∀ j, j < σ.1 2 → σ.2 3 j = f j) (h5 : ∀ j, j < n → f (σ.1 2 + j) = f (σ.1 2 + j - d)) (K : ∀ (τ : SqSt) (H : Heap) (locs : List Loc) (ls : Array Slot), sq_wd D A H0 s (tX0 cA) (wX0 a cA τ) H locs → (sqFr [2] [3] σ τ ∧ τ.1 2 = σ.1 2 + n ∧ ∀ j, j < σ.1 2 + n → τ.2 3 j = f j) → W p l e rmX0_copyBack s m args below meth c H locs cells slots Q (F0 m 60 ls [])) : ∀ (z k : Nat) (τ : SqSt) (H : Heap) (locs : List Loc) (ls : Array Slot), k ≤ n → n < k + z → sq_wd D A H0 s (tX0 cA) (wX0 a cA τ) H locs → (sqFr [2] [3] σ τ ∧ τ.1 2 = σ.1 2 + k ∧ ∀ j, j < σ.1 2 + k → τ.2 3 j = f j) → lv_has ls 4 [(3, .int (nI k)), (0, .ref (a 20)), (1, .int (nI n)), (2, .int (nI d))] → W p l e rmX0_copyBack s m args below meth c H locs cells slots Q (F0 m 2 ls []) := by
  intro z
  induction z with
  | zero => intro k τ H locs ls hk hz; omega
  | succ z ih =>
    intro k τ H locs ls hk hz w hI hl
    obtain ⟨i1, i2, i3⟩ := hI
    refine sq_iloadn S dX0_copyBack_2 rfl (lv_at hl 0 rfl) ?_
    refine sq_iloadn S dX0_copyBack_3 rfl (lv_at hl 2 rfl) ?_
    refine sq_icmp_ge S 60 (by omega) (by omega) dX0_copyBack_4 (by decide) (fun c4 => ?_) (fun c4 => ?_)
    · obtain rfl : k = n := by omega
      exact K τ _ _ ls w ⟨i1, i2, i3⟩
    · refine sq_aloadn S dX0_copyBack_7 rfl (lv_at hl 1 rfl) ?_
      refine gX0_2 (v := τ.1 2) S w rfl dX0_copyBack_8 ?_
      refine sq_bipush S 48 (by decide) dX0_copyBack_11 ?_
      refine sq_icmp_ge S 60 (by omega) (by omega) dX0_copyBack_13 (by decide) (fun c13 => ?_) (fun c13 => ?_)
      · exact absurd c13 (by omega)
      · refine sq_iloadn S dX0_copyBack_16 rfl (lv_at hl 3 rfl) ?_
        refine sq_aloadn S dX0_copyBack_17 rfl (lv_at hl 1 rfl) ?_
        refine gX0_2 (v := τ.1 2) S w rfl dX0_copyBack_18 ?_
        refine sq_icmp_gt S 60 (by omega) (by omega) dX0_copyBack_21 (by decide) (fun c21 => ?_) (fun c21 => ?_)
        · exact absurd c21 (by omega)
        · refine sq_aloadn S dX0_copyBack_24 rfl (lv_at hl 1 rfl) ?_
          refine gX0_3 S w dX0_copyBack_25 ?_
          refine sq_aloadn S dX0_copyBack_28 rfl (lv_at hl 1 rfl) ?_
          refine gX0_2 (v := τ.1 2) S w rfl dX0_copyBack_29 ?_
          refine sq_aloadn S dX0_copyBack_32 rfl (lv_at hl 1 rfl) ?_
          refine gX0_3 S w dX0_copyBack_33 ?_
          refine sq_aloadn S dX0_copyBack_36 rfl (lv_at hl 1 rfl) ?_
          refine gX0_2 (v := τ.1 2) S w rfl dX0_copyBack_37 ?_
          refine sq_iloadn S dX0_copyBack_40 rfl (lv_at hl 3 rfl) ?_
          refine sq_isub S (by omega) dX0_copyBack_41 ?_
          refine lX0_3 (v := τ.2 3 ((τ.1 2) - d)) S w (by omega) rfl dX0_copyBack_42 ?_
          refine sX0_3 (v := τ.2 3 ((τ.1 2) - d)) S w (by omega) dX0_copyBack_43 (fun H locs w => ?_)
          refine sq_aloadn S dX0_copyBack_44 rfl (lv_at hl 1 rfl) ?_
          refine sq_dup S rfl dX0_copyBack_45 ?_
          refine gX0_2 (v := τ.1 2) S w rfl dX0_copyBack_46 ?_
          refine sq_iconst S 1 (by decide) dX0_copyBack_49 ?_
          refine sq_iadd S dX0_copyBack_50 ?_
          refine pX0_2 (v := (τ.1 2) + 1) S w dX0_copyBack_51 (fun H locs w => ?_)
          refine lv_iinc (v := (nI (k + 1))) (lv' := [(3, .int (nI (k + 1))), (0, .ref (a 20)), (1, .int (nI n)), (2, .int (nI d))]) S.1 S.2.1 dX0_copyBack_54 hl (k := 0) rfl (sq_inc1 _) (by decide) rfl (fun ls hl => ?_)
          refine sq_goto S 2 dX0_copyBack_57 (by decide) ?_
          refine ih (k + 1) _ _ _ ls (by omega) (by omega) w ⟨sqFr_F 2 _ (by decide) (sqFr_A 3 _ _ (by decide) i1), ?_, ?_⟩ hl
          · show τ.1 2 + 1 = _
            omega
          · intro j hj
            show sqU (τ.2 3) (τ.1 2) (τ.2 3 (τ.1 2 - d)) j = f j
            by_cases q : j = τ.1 2
            · rw [q, sqU_s, i3 _ (by omega), i2]; exact (h5 k (by omega)).symm
            · rw [sqU_n _ _ q]; exact i3 j (by omega)
set_option maxHeartbeats 4000000 in
set_option maxRecDepth 100000 in
theorem metX0_copyBack (l : Launch) (D : va_G) (a : Nat → Nat) (cA : Nat → ClassId) (σ : SqSt) (n d : Nat) (f : Nat → Nat) (h1 : 1 ≤ d) (h2 : d ≤ σ.1 2) (h3 : σ.1 2 + n ≤ 48) (h4 : ∀ j, j < σ.1 2 → σ.2 3 j = f j) (h5 : ∀ j, j < n → f (σ.1 2 + j) = f (σ.1 2 + j - d)) : sqMv l yX0_copyBack (ws_ yX0_copyBack cX0_copyBack 4 none) rmX0_copyBack D (tX0 cA) (wX0 a cA) (a 20) σ [.int (nI n), .int (nI d)] (fun σ' => sqFr [2] [3] σ σ' ∧ σ'.1 2 = σ.1 2 + n ∧ ∀ j, j < σ.1 2 + n → σ'.2 3 j = f j) := by
  refine sqMv_of (by decide) (Nat.le_of_ble_eq_true rfl) ?_
  intro p e s m args below meth c A ls S hr hlk w hl
  have S : CallFix p m c cX0_copyBack 4 s args lw_all RX0 := S
  have hl : lv_has ls 4 [(0, .ref (a 20)), (1, .int (nI n)), (2, .int (nI d))] := hl
  refine sq_iconst S 0 (by decide) dX0_copyBack_0 ?_
  refine lv_istore_n (lv' := [(3, .int (nI 0)), (0, .ref (a 20)), (1, .int (nI n)), (2, .int (nI d))]) S.1 S.2.1 dX0_copyBack_1 rfl hl (by decide) rfl (fun ls hl => ?_)
  refine loopX0_copyBack S σ n d f h1 h2 h3 h4 h5 (fun τ H locs ls w hI => ?_) (n + 1) 0 σ _ _ ls (by omega) (by omega) w ⟨sqFr_rf σ, rfl, h4⟩ hl
  exact sq_vret S hr hlk w hI dX0_copyBack_60
end
section
set_option maxHeartbeats 4000000 in
set_option maxRecDepth 100000 in
theorem loopX0_shiftLow {p : Program} {l : Launch} {e : Env} {s : State} {m : MethodId} {args : Array Value} {below : List Frame} {meth : Method} {c : Code} {Q : State → Prop} {D : va_G} {A : Nat → Prop} {H0 : Heap} {a : Nat → Nat} {cA : Nat → ClassId} (S : CallFix p m c cX0_shiftLow 4 s args lw_all RX0)  (σ : SqSt) (L n : Nat) (h1 : sqSh σ L n) (h2 : n ≤ 350) (h3 : σ.1 8 < 8589934592) (h4 : σ.1 10 = 255 → σ.1 8 < 4294967296) (K : ∀ (v : Nat) (τ : SqSt) (H : Heap) (locs : List Loc) (ls : Array Slot), sq_wd D A H0 s (tX0 cA) (wX0 a cA τ) H locs → sqShI σ (σ.1 8 / 4294967296) (σ.1 11) v τ → lv_has ls 4 [(0, .ref (a 20))] → W p l e rmX0_shiftLow s m args below meth c H locs 0 0 Q (F0 m 70 ls [])) : ∀ (z k v : Nat) (τ : SqSt) (H : Heap) (locs : List Loc) (ls : Array Slot), k ≤ σ.1 11 → σ.1 11 < k + z → sq_wd D A H0 s (tX0 cA) (wX0 a cA τ) H locs → sqShI σ (σ.1 8 / 4294967296) k v τ → lv_has ls 4 [(3, .int (nI k)), (2, .int (nI v)), (1, .int (nI (σ.1 8 / 4294967296))), (0, .ref (a 20))] → W p l e rmX0_shiftLow s m args below meth c H locs 0 0 Q (F0 m 38 ls []) := by
  obtain ⟨g1, g2, g3, g4, g5, g6⟩ := h1
  intro z
  induction z with
  | zero => intro k v τ H locs ls hk hz; omega
  | succ z ih =>
    intro k v τ H locs ls hk hz w hI hl
    have hI2 := hI
    obtain ⟨i1, i2, i3, i4, i5⟩ := hI
    have e11 : τ.1 11 = σ.1 11 := i1.1 11 (by decide)
    have e12 : τ.1 12 = σ.1 12 := i1.1 12 (by decide)
    have hv : v + σ.1 8 / 4294967296 < 512 := by rcases i5 with ⟨-, q, -⟩ | ⟨-, q, -⟩ <;> omega
    refine sq_iloadn S dX0_shiftLow_38 rfl (lv_at hl 0 rfl) ?_
    refine sq_aloadn S dX0_shiftLow_39 rfl (lv_at hl 3 rfl) ?_
    refine gX0_11 (v := τ.1 11) S w rfl dX0_shiftLow_40 ?_
    refine sq_icmp_ge S 70 (by omega) (by omega) dX0_shiftLow_43 (by decide) (fun c43 => ?_) (fun c43 => ?_)
    · obtain rfl : k = σ.1 11 := by omega
      exact K v τ _ _ ls w hI2 (lv_sub hl [3] rfl)
    · refine sq_iloadn S dX0_shiftLow_46 rfl (lv_at hl 0 rfl) ?_
      refine sq_sipush S 352 (by decide) dX0_shiftLow_47 ?_
      refine sq_icmp_ge S 70 (by omega) (by omega) dX0_shiftLow_50 (by decide) (fun c50 => ?_) (fun c50 => ?_)
      · exact absurd c50 (by omega)
      · refine sq_aloadn S dX0_shiftLow_53 rfl (lv_at hl 3 rfl) ?_
        refine sq_iloadn S dX0_shiftLow_54 rfl (lv_at hl 1 rfl) ?_
        refine sq_iloadn S dX0_shiftLow_55 rfl (lv_at hl 2 rfl) ?_
        refine sq_iadd S dX0_shiftLow_56 ?_
        refine sq_callv S w (metX0_putByte l D a cA τ (v + σ.1 8 / 4294967296) hv (by omega) (by omega)) (cwV 1 S.2.2.2.2 (lw_V q125 q127 qs6 q15 q128) rfl rfl rfl (by decide +kernel) ⟨Nat.le_of_ble_eq_true rfl, Nat.le_of_ble_eq_true rfl⟩) (va_recv w.1 w.2.1 (ci := 0) (q0 := 0) rfl rfl) rfl hl.1 rfl (Nat.le_of_ble_eq_true rfl) ⟨Nat.zero_le _, Nat.zero_le _⟩ dX0_shiftLow_57 (fun τ1 H locs hp1 w => ?_)
        refine sq_sipush S 255 (by decide) dX0_shiftLow_60 ?_
        refine lv_istore_n (lv' := [(2, .int (nI 255)), (3, .int (nI k)), (1, .int (nI (σ.1 8 / 4294967296))), (0, .ref (a 20))]) S.1 S.2.1 dX0_shiftLow_63 rfl hl (by decide) rfl (fun ls hl => ?_)
        refine lv_iinc (v := (nI (k + 1))) (lv' := [(3, .int (nI (k + 1))), (2, .int (nI 255)), (1, .int (nI (σ.1 8 / 4294967296))), (0, .ref (a 20))]) S.1 S.2.1 dX0_shiftLow_64 hl (k := 1) rfl (sq_inc1 _) (by decide) rfl (fun ls hl => ?_)
        refine sq_goto S 38 dX0_shiftLow_67 (by decide) ?_
        exact ih (k + 1) 255 _ _ _ ls (by omega) (by omega) w (by rw [hp1]; exact sqShI_s hI2 (by omega) (by rcases Nat.lt_or_ge (σ.1 8) 4294967296 with q | q <;> omega) (by omega)) (lv_sub hl [0, 1, 2, 3] rfl)
set_option maxHeartbeats 4000000 in
set_option maxRecDepth 100000 in
theorem metX0_shiftLow (l : Launch) (D : va_G) (a : Nat → Nat) (cA : Nat → ClassId) (σ : SqSt) (L n : Nat) (h1 : sqSh σ L n) (h2 : n ≤ 350) (h3 : σ.1 8 < 8589934592) (h4 : σ.1 10 = 255 → σ.1 8 < 4294967296) : sqMv l yX0_shiftLow (ws_ yX0_shiftLow cX0_shiftLow 4 none) rmX0_shiftLow D (tX0 cA) (wX0 a cA) (a 20) σ [] (fun σ' => sqShP σ L n σ') := by
  refine sqMv_of (by decide) (Nat.le_of_ble_eq_true rfl) ?_
  intro p e s m args below meth c A ls S hr hlk w hl
  have S : CallFix p m c cX0_shiftLow 4 s args lw_all RX0 := S
  have hl : lv_has ls 4 [(0, .ref (a 20))] := hl
  have hhc : σ.1 11 ≤ 351 := by have := h1.2.1; omega
  have hhd : σ.1 10 ≤ 255 := h1.2.2.2.1
  refine sq_aloadn S dX0_shiftLow_0 rfl (lv_at hl 0 rfl) ?_
  refine gX0_8 (v := σ.1 8) S w rfl dX0_shiftLow_1 ?_
  refine sq_ldc2 S 4278190080 q124 (by decide) dX0_shiftLow_4 ?_
  refine sq_lclt S 22 (by omega) (by omega) dX0_shiftLow_7 dX0_shiftLow_8 (by decide) (fun c7 => ?_) (fun c7 => ?_)
  · refine sq_aloadn S dX0_shiftLow_22 rfl (lv_at hl 0 rfl) ?_
    refine gX0_8 (v := σ.1 8) S w rfl dX0_shiftLow_23 ?_
    refine sq_bipush S 32 (by decide) dX0_shiftLow_26 ?_
    refine sq_lushr S 4294967296 (by decide) (by omega) (by decide) dX0_shiftLow_28 ?_
    refine sq_l2i S dX0_shiftLow_29 ?_
    refine lv_istore_n (lv' := [(1, .int (nI ((σ.1 8) / 4294967296))), (0, .ref (a 20))]) S.1 S.2.1 dX0_shiftLow_30 rfl hl (by decide) rfl (fun ls hl => ?_)
    refine sq_aloadn S dX0_shiftLow_31 rfl (lv_at hl 1 rfl) ?_
    refine gX0_10 (v := σ.1 10) S w rfl dX0_shiftLow_32 ?_
    refine lv_istore_n (lv' := [(2, .int (nI (σ.1 10))), (1, .int (nI ((σ.1 8) / 4294967296))), (0, .ref (a 20))]) S.1 S.2.1 dX0_shiftLow_35 rfl hl (by decide) rfl (fun ls hl => ?_)
    refine sq_iconst S 0 (by decide) dX0_shiftLow_36 ?_
    refine lv_istore_n (lv' := [(3, .int (nI 0)), (2, .int (nI (σ.1 10))), (1, .int (nI ((σ.1 8) / 4294967296))), (0, .ref (a 20))]) S.1 S.2.1 dX0_shiftLow_37 rfl hl (by decide) rfl (fun ls hl => ?_)
    have he : sqEm (σ.1 8) := by first | exact Or.inl c7 | exact Or.inr c18
    have e8 : ∀ v τ, sqShI σ (σ.1 8 / 4294967296) (σ.1 11) v τ → τ.1 8 = σ.1 8 := fun v τ q => q.1.1 8 (by decide)
    refine loopX0_shiftLow S σ L n h1 h2 h3 h4 (fun v τ H locs ls w hI hl => ?_) (σ.1 11 + 1) 0 (σ.1 10) σ _ _ ls (by omega) (by omega) w (sqShI_0 h1.2.2.2.2.2) hl
    have e8 : τ.1 8 = σ.1 8 := e8 v τ hI
    refine sq_aloadn S dX0_shiftLow_70 rfl (lv_at hl 0 rfl) ?_
    refine sq_iconst S 0 (by decide) dX0_shiftLow_71 ?_
    refine pX0_11 (v := 0) S w dX0_shiftLow_72 (fun H locs w => ?_)
    refine sq_aloadn S dX0_shiftLow_75 rfl (lv_at hl 0 rfl) ?_
    refine sq_aloadn S dX0_shiftLow_76 rfl (lv_at hl 0 rfl) ?_
    refine gX0_8 (v := τ.1 8) S w rfl dX0_shiftLow_77 ?_
    refine sq_bipush S 24 (by decide) dX0_shiftLow_80 ?_
    refine sq_lushr S 16777216 (by decide) (by omega) (by decide) dX0_shiftLow_82 ?_
    refine sq_l2i S dX0_shiftLow_83 ?_
    refine sq_sipush S 255 (by decide) dX0_shiftLow_84 ?_
    refine sq_iand S 8 256 (by decide) (by omega) (by decide) dX0_shiftLow_87 ?_
    refine pX0_10 (v := ((τ.1 8) / 16777216) % 256) S w dX0_shiftLow_88 (fun H locs w => ?_)
    refine sq_aloadn S dX0_shiftLow_91 rfl (lv_at hl 0 rfl) ?_
    refine sq_dup S rfl dX0_shiftLow_92 ?_
    refine gX0_11 (v := 0) S w rfl dX0_shiftLow_93 ?_
    refine sq_iconst S 1 (by decide) dX0_shiftLow_96 ?_
    refine sq_iadd S dX0_shiftLow_97 ?_
    refine pX0_11 (v := 0 + 1) S w dX0_shiftLow_98 (fun H locs w => ?_)
    refine sq_aloadn S dX0_shiftLow_101 rfl (lv_at hl 0 rfl) ?_
    refine sq_aloadn S dX0_shiftLow_102 rfl (lv_at hl 0 rfl) ?_
    refine gX0_8 (v := τ.1 8) S w rfl dX0_shiftLow_103 ?_
    refine sq_ldc2 S 16777215 q129 (by decide) dX0_shiftLow_106 ?_
    refine sq_land S 24 16777216 (by decide) (by decide) (by decide) (by omega) dX0_shiftLow_109 ?_
    refine sq_bipush S 8 (by decide) dX0_shiftLow_110 ?_
    refine sq_lshl S 256 (by decide) (by decide) dX0_shiftLow_112 ?_
    refine pX0_8 (v := ((τ.1 8) % 16777216) * 256) S w dX0_shiftLow_113 (fun H locs w => ?_)
    exact sq_vret S hr hlk w (by rw [e8]; exact sqSh_emit h1 hI h3 he) dX0_shiftLow_116
  · refine sq_aloadn S dX0_shiftLow_11 rfl (lv_at hl 0 rfl) ?_
    refine gX0_8 (v := σ.1 8) S w rfl dX0_shiftLow_12 ?_
    refine sq_ldc2 S 4294967295 q106 (by decide) dX0_shiftLow_15 ?_
    refine sq_lcle S 91 (by omega) (by omega) dX0_shiftLow_18 dX0_shiftLow_19 (by decide) (fun c18 => ?_) (fun c18 => ?_)
    · refine sq_aloadn S dX0_shiftLow_91 rfl (lv_at hl 0 rfl) ?_
      refine sq_dup S rfl dX0_shiftLow_92 ?_
      refine gX0_11 (v := σ.1 11) S w rfl dX0_shiftLow_93 ?_
      refine sq_iconst S 1 (by decide) dX0_shiftLow_96 ?_
      refine sq_iadd S dX0_shiftLow_97 ?_
      refine pX0_11 (v := (σ.1 11) + 1) S w dX0_shiftLow_98 (fun H locs w => ?_)
      refine sq_aloadn S dX0_shiftLow_101 rfl (lv_at hl 0 rfl) ?_
      refine sq_aloadn S dX0_shiftLow_102 rfl (lv_at hl 0 rfl) ?_
      refine gX0_8 (v := σ.1 8) S w rfl dX0_shiftLow_103 ?_
      refine sq_ldc2 S 16777215 q129 (by decide) dX0_shiftLow_106 ?_
      refine sq_land S 24 16777216 (by decide) (by decide) (by decide) (by omega) dX0_shiftLow_109 ?_
      refine sq_bipush S 8 (by decide) dX0_shiftLow_110 ?_
      refine sq_lshl S 256 (by decide) (by decide) dX0_shiftLow_112 ?_
      refine pX0_8 (v := ((σ.1 8) % 16777216) * 256) S w dX0_shiftLow_113 (fun H locs w => ?_)
      exact sq_vret S hr hlk w (sqSh_hold h1 (by unfold sqEm; omega)) dX0_shiftLow_116
    · refine sq_aloadn S dX0_shiftLow_22 rfl (lv_at hl 0 rfl) ?_
      refine gX0_8 (v := σ.1 8) S w rfl dX0_shiftLow_23 ?_
      refine sq_bipush S 32 (by decide) dX0_shiftLow_26 ?_
      refine sq_lushr S 4294967296 (by decide) (by omega) (by decide) dX0_shiftLow_28 ?_
      refine sq_l2i S dX0_shiftLow_29 ?_
      refine lv_istore_n (lv' := [(1, .int (nI ((σ.1 8) / 4294967296))), (0, .ref (a 20))]) S.1 S.2.1 dX0_shiftLow_30 rfl hl (by decide) rfl (fun ls hl => ?_)
      refine sq_aloadn S dX0_shiftLow_31 rfl (lv_at hl 1 rfl) ?_
      refine gX0_10 (v := σ.1 10) S w rfl dX0_shiftLow_32 ?_
      refine lv_istore_n (lv' := [(2, .int (nI (σ.1 10))), (1, .int (nI ((σ.1 8) / 4294967296))), (0, .ref (a 20))]) S.1 S.2.1 dX0_shiftLow_35 rfl hl (by decide) rfl (fun ls hl => ?_)
      refine sq_iconst S 0 (by decide) dX0_shiftLow_36 ?_
      refine lv_istore_n (lv' := [(3, .int (nI 0)), (2, .int (nI (σ.1 10))), (1, .int (nI ((σ.1 8) / 4294967296))), (0, .ref (a 20))]) S.1 S.2.1 dX0_shiftLow_37 rfl hl (by decide) rfl (fun ls hl => ?_)
      have he : sqEm (σ.1 8) := by first | exact Or.inl c7 | exact Or.inr c18
      have e8 : ∀ v τ, sqShI σ (σ.1 8 / 4294967296) (σ.1 11) v τ → τ.1 8 = σ.1 8 := fun v τ q => q.1.1 8 (by decide)
      refine loopX0_shiftLow S σ L n h1 h2 h3 h4 (fun v τ H locs ls w hI hl => ?_) (σ.1 11 + 1) 0 (σ.1 10) σ _ _ ls (by omega) (by omega) w (sqShI_0 h1.2.2.2.2.2) hl
      have e8 : τ.1 8 = σ.1 8 := e8 v τ hI
      refine sq_aloadn S dX0_shiftLow_70 rfl (lv_at hl 0 rfl) ?_
      refine sq_iconst S 0 (by decide) dX0_shiftLow_71 ?_
      refine pX0_11 (v := 0) S w dX0_shiftLow_72 (fun H locs w => ?_)
      refine sq_aloadn S dX0_shiftLow_75 rfl (lv_at hl 0 rfl) ?_
      refine sq_aloadn S dX0_shiftLow_76 rfl (lv_at hl 0 rfl) ?_
      refine gX0_8 (v := τ.1 8) S w rfl dX0_shiftLow_77 ?_
      refine sq_bipush S 24 (by decide) dX0_shiftLow_80 ?_
      refine sq_lushr S 16777216 (by decide) (by omega) (by decide) dX0_shiftLow_82 ?_
      refine sq_l2i S dX0_shiftLow_83 ?_
      refine sq_sipush S 255 (by decide) dX0_shiftLow_84 ?_
      refine sq_iand S 8 256 (by decide) (by omega) (by decide) dX0_shiftLow_87 ?_
      refine pX0_10 (v := ((τ.1 8) / 16777216) % 256) S w dX0_shiftLow_88 (fun H locs w => ?_)
      refine sq_aloadn S dX0_shiftLow_91 rfl (lv_at hl 0 rfl) ?_
      refine sq_dup S rfl dX0_shiftLow_92 ?_
      refine gX0_11 (v := 0) S w rfl dX0_shiftLow_93 ?_
      refine sq_iconst S 1 (by decide) dX0_shiftLow_96 ?_
      refine sq_iadd S dX0_shiftLow_97 ?_
      refine pX0_11 (v := 0 + 1) S w dX0_shiftLow_98 (fun H locs w => ?_)
      refine sq_aloadn S dX0_shiftLow_101 rfl (lv_at hl 0 rfl) ?_
      refine sq_aloadn S dX0_shiftLow_102 rfl (lv_at hl 0 rfl) ?_
      refine gX0_8 (v := τ.1 8) S w rfl dX0_shiftLow_103 ?_
      refine sq_ldc2 S 16777215 q129 (by decide) dX0_shiftLow_106 ?_
      refine sq_land S 24 16777216 (by decide) (by decide) (by decide) (by omega) dX0_shiftLow_109 ?_
      refine sq_bipush S 8 (by decide) dX0_shiftLow_110 ?_
      refine sq_lshl S 256 (by decide) (by decide) dX0_shiftLow_112 ?_
      refine pX0_8 (v := ((τ.1 8) % 16777216) * 256) S w dX0_shiftLow_113 (fun H locs w => ?_)
      exact sq_vret S hr hlk w (by rw [e8]; exact sqSh_emit h1 hI h3 he) dX0_shiftLow_116
set_option maxHeartbeats 4000000 in
set_option maxRecDepth 100000 in
theorem metX0_writeBit (l : Launch) (D : va_G) (a : Nat → Nat) (cA : Nat → ClassId) (σ : SqSt) (cx bit : Nat) (e0 : SqE) (kc : Nat) (h1 : cx < 394) (h2 : bit ≤ 1) (h3 : sqEn σ e0) (h4 : EC e0 kc) (h5 : e0.2.2.1 ≤ 345) : sqMv l yX0_writeBit (ws_ yX0_writeBit cX0_writeBit 5 none) rmX0_writeBit D (tX0 cA) (wX0 a cA) (a 20) σ [.int (nI cx), .int (nI bit)] (fun σ' => sqEn σ' (es e0 (cx, bit)) ∧ sqFr [8, 9, 10, 11, 13] [6, 7] σ σ' ∧ sqOut σ σ') := by
  refine sqMv_of (by decide) (Nat.le_of_ble_eq_true rfl) ?_
  intro p e s m args below meth c A ls S hr hlk w hl
  have S : CallFix p m c cX0_writeBit 5 s args lw_all RX0 := S
  have hl : lv_has ls 5 [(0, .ref (a 20)), (1, .int (nI cx)), (2, .int (nI bit))] := hl
  have hR : σ.1 9 = e0.2.1 := h3.2.1
  have hch : σ.2 7 cx = e0.2.2.2 cx := h3.2.2.1 cx h1
  have hcb := h4.2.2.1 cx
  have hRl := h4.1
  have hRh := h4.2.1
  have hbi := esb_in cx h4
  have hbd : σ.1 9 / 2048 * σ.2 7 cx = esb e0 cx := by rw [hR, hch]; rfl
  have hlow := h3.2.2.2.1
  have hri := esR_in (cx, bit) h4
  have hhalf := sqEn_half (bit := bit) h3 h4 h1
  refine sq_aloadn S dX0_writeBit_0 rfl (lv_at hl 0 rfl) ?_
  refine gX0_9 (v := σ.1 9) S w rfl dX0_writeBit_1 ?_
  refine sq_bipush S 11 (by decide) dX0_writeBit_4 ?_
  refine sq_lushr S 2048 (by decide) (by omega) (by decide) dX0_writeBit_6 ?_
  refine sq_aloadn S dX0_writeBit_7 rfl (lv_at hl 0 rfl) ?_
  refine gX0_7 S w dX0_writeBit_8 ?_
  refine sq_iloadn S dX0_writeBit_11 rfl (lv_at hl 1 rfl) ?_
  refine lX0_7 (v := σ.2 7 cx) S w (by omega) rfl dX0_writeBit_12 ?_
  refine sq_i2l S (by omega) dX0_writeBit_13 ?_
  refine sq_lmul S dX0_writeBit_14 ?_
  refine lv_lstore_n (lv' := [(3, .long (lN (((σ.1 9) / 2048) * (σ.2 7 cx)))), (0, .ref (a 20)), (1, .int (nI cx)), (2, .int (nI bit))]) S.1 S.2.1 dX0_writeBit_15 rfl hl (by decide) rfl (fun ls hl => ?_)
  refine sq_iloadn S dX0_writeBit_16 rfl (lv_at hl 3 rfl) ?_
  refine sq_if_ne S 28 (by omega) dX0_writeBit_17 (by decide) (fun c17 => ?_) (fun c17 => ?_)
  · refine sq_aloadn S dX0_writeBit_28 rfl (lv_at hl 1 rfl) ?_
    refine sq_dup S rfl dX0_writeBit_29 ?_
    refine gX0_8 (v := σ.1 8) S w rfl dX0_writeBit_30 ?_
    refine sq_lloadn S dX0_writeBit_33 rfl (lv_at hl 0 rfl) ?_
    refine sq_ladd S dX0_writeBit_34 ?_
    refine pX0_8 (v := (σ.1 8) + (((σ.1 9) / 2048) * (σ.2 7 cx))) S w dX0_writeBit_35 (fun H locs w => ?_)
    refine sq_aloadn S dX0_writeBit_38 rfl (lv_at hl 1 rfl) ?_
    refine sq_dup S rfl dX0_writeBit_39 ?_
    refine gX0_9 (v := σ.1 9) S w rfl dX0_writeBit_40 ?_
    refine sq_lloadn S dX0_writeBit_43 rfl (lv_at hl 0 rfl) ?_
    refine sq_lsub S (by omega) dX0_writeBit_44 ?_
    refine pX0_9 (v := (σ.1 9) - (((σ.1 9) / 2048) * (σ.2 7 cx))) S w dX0_writeBit_45 (fun H locs w => ?_)
    refine sq_aloadn S dX0_writeBit_48 rfl (lv_at hl 1 rfl) ?_
    refine sq_iloadn S dX0_writeBit_49 rfl (lv_at hl 2 rfl) ?_
    refine sq_iloadn S dX0_writeBit_50 rfl (lv_at hl 3 rfl) ?_
    have e9 : (sqF (sqF σ 8 ((σ.1 8) + (((σ.1 9) / 2048) * (σ.2 7 cx)))) 9 ((σ.1 9) - (((σ.1 9) / 2048) * (σ.2 7 cx)))) = sqHalf σ cx bit := (if_neg c17).symm
    rw [e9] at w
    have e7 : (sqHalf σ cx bit).2 7 = σ.2 7 := by rw [← e9]; rfl
    have e79 : (sqHalf σ cx bit).1 9 = esR e0 (cx, bit) := hhalf.2.1
    refine sq_callv S w (metX0_learn l D a cA (sqHalf σ cx bit) cx bit h1 h2 (by rw [e7, hch]; omega)) (cwV 2 S.2.2.2.2 (lw_V q115 q117 qs4 q15 q118) rfl rfl rfl (by decide +kernel) ⟨Nat.le_of_ble_eq_true rfl, Nat.le_of_ble_eq_true rfl⟩) (va_recv w.1 w.2.1 (ci := 0) (q0 := 0) rfl rfl) rfl hl.1 rfl (Nat.le_of_ble_eq_true rfl) ⟨Nat.zero_le _, Nat.zero_le _⟩ dX0_writeBit_51 (fun τ H locs hp1 w => ?_)
    rw [e7] at hp1
    rw [← hp1] at hhalf
    have u9 : τ.1 9 = esR e0 (cx, bit) := hhalf.2.1
    have fr1 : sqFr [8, 9, 10, 11, 13] [6, 7] σ τ := by rw [hp1, ← e9]; exact sqFr_A 7 _ _ (by decide) (sqFr_F 9 _ (by decide) (sqFr_F 8 _ (by decide) (sqFr_rf σ)))
    have o1 : sqOut σ τ := by intro j _; rw [hp1, ← e9]; rfl
    refine sq_aloadn S dX0_writeBit_54 rfl (lv_at hl 1 rfl) ?_
    refine gX0_9 (v := τ.1 9) S w rfl dX0_writeBit_55 ?_
    refine sq_ldc2 S 16777216 q119 (by decide) dX0_writeBit_58 ?_
    refine sq_lcge S 80 (by omega) (by omega) dX0_writeBit_61 dX0_writeBit_62 (by decide) (fun c61 => ?_) (fun c61 => ?_)
    · exact sq_vret S hr hlk w ⟨by rw [show es e0 (cx, bit) = _ from if_neg (by rw [← u9]; exact c61)]; exact hhalf, fr1, o1⟩ dX0_writeBit_80
    · refine sq_aloadn S dX0_writeBit_65 rfl (lv_at hl 1 rfl) ?_
      refine sq_aloadn S dX0_writeBit_66 rfl (lv_at hl 1 rfl) ?_
      refine gX0_9 (v := τ.1 9) S w rfl dX0_writeBit_67 ?_
      refine sq_bipush S 8 (by decide) dX0_writeBit_70 ?_
      refine sq_lshl S 256 (by decide) (by decide) dX0_writeBit_72 ?_
      refine pX0_9 (v := (τ.1 9) * 256) S w dX0_writeBit_73 (fun H locs w => ?_)
      refine sq_aloadn S dX0_writeBit_76 rfl (lv_at hl 1 rfl) ?_
      rw [u9] at w
      have hlw := sqEn_low hhalf (by show 1 ≤ esR e0 (cx, bit); omega)
      refine sq_callv S w (metX0_shiftLow l D a cA (sqF τ 9 (esR e0 (cx, bit) * 256)) (esL e0 (cx, bit)) e0.2.2.1 hhalf.1 (by omega) hlw.1 hlw.2) (cwV 0 S.2.2.2.2 (lw_V q120 q122 qs5 q15 q123) rfl rfl rfl (by decide +kernel) ⟨Nat.le_of_ble_eq_true rfl, Nat.le_of_ble_eq_true rfl⟩) (va_recv w.1 w.2.1 (ci := 0) (q0 := 0) rfl rfl) rfl hl.1 rfl (Nat.le_of_ble_eq_true rfl) ⟨Nat.zero_le _, Nat.zero_le _⟩ dX0_writeBit_77 (fun τ2 H locs hp2 w => ?_)
      exact sq_vret S hr hlk w ⟨by rw [show es e0 (cx, bit) = _ from if_pos (by rw [← u9]; exact c61)]; exact sqEn_shift hhalf (by rw [← u9]; exact c61) hp2, sqFr_tr (sqFr_F 9 _ (by decide) fr1) (sqFr_mono hp2.2.2.2.2.1 (by decide) (by decide)), sqOut_tr o1 (fr1.1 12 (by decide)) hp2.2.2.2.2.2⟩ dX0_writeBit_80
  · refine sq_aloadn S dX0_writeBit_20 rfl (lv_at hl 1 rfl) ?_
    refine sq_lloadn S dX0_writeBit_21 rfl (lv_at hl 0 rfl) ?_
    refine pX0_9 (v := ((σ.1 9) / 2048) * (σ.2 7 cx)) S w dX0_writeBit_22 (fun H locs w => ?_)
    refine sq_goto S 48 dX0_writeBit_25 (by decide) ?_
    refine sq_aloadn S dX0_writeBit_48 rfl (lv_at hl 1 rfl) ?_
    refine sq_iloadn S dX0_writeBit_49 rfl (lv_at hl 2 rfl) ?_
    refine sq_iloadn S dX0_writeBit_50 rfl (lv_at hl 3 rfl) ?_
    have e9 : (sqF σ 9 (((σ.1 9) / 2048) * (σ.2 7 cx))) = sqHalf σ cx bit := (if_pos c17).symm
    rw [e9] at w
    have e7 : (sqHalf σ cx bit).2 7 = σ.2 7 := by rw [← e9]; rfl
    have e79 : (sqHalf σ cx bit).1 9 = esR e0 (cx, bit) := hhalf.2.1
    refine sq_callv S w (metX0_learn l D a cA (sqHalf σ cx bit) cx bit h1 h2 (by rw [e7, hch]; omega)) (cwV 2 S.2.2.2.2 (lw_V q115 q117 qs4 q15 q118) rfl rfl rfl (by decide +kernel) ⟨Nat.le_of_ble_eq_true rfl, Nat.le_of_ble_eq_true rfl⟩) (va_recv w.1 w.2.1 (ci := 0) (q0 := 0) rfl rfl) rfl hl.1 rfl (Nat.le_of_ble_eq_true rfl) ⟨Nat.zero_le _, Nat.zero_le _⟩ dX0_writeBit_51 (fun τ H locs hp1 w => ?_)
    rw [e7] at hp1
    rw [← hp1] at hhalf
    have u9 : τ.1 9 = esR e0 (cx, bit) := hhalf.2.1
    have fr1 : sqFr [8, 9, 10, 11, 13] [6, 7] σ τ := by rw [hp1, ← e9]; exact sqFr_A 7 _ _ (by decide) (sqFr_F 9 _ (by decide) (sqFr_rf σ))
    have o1 : sqOut σ τ := by intro j _; rw [hp1, ← e9]; rfl
    refine sq_aloadn S dX0_writeBit_54 rfl (lv_at hl 1 rfl) ?_
    refine gX0_9 (v := τ.1 9) S w rfl dX0_writeBit_55 ?_
    refine sq_ldc2 S 16777216 q119 (by decide) dX0_writeBit_58 ?_
    refine sq_lcge S 80 (by omega) (by omega) dX0_writeBit_61 dX0_writeBit_62 (by decide) (fun c61 => ?_) (fun c61 => ?_)
    · exact sq_vret S hr hlk w ⟨by rw [show es e0 (cx, bit) = _ from if_neg (by rw [← u9]; exact c61)]; exact hhalf, fr1, o1⟩ dX0_writeBit_80
    · refine sq_aloadn S dX0_writeBit_65 rfl (lv_at hl 1 rfl) ?_
      refine sq_aloadn S dX0_writeBit_66 rfl (lv_at hl 1 rfl) ?_
      refine gX0_9 (v := τ.1 9) S w rfl dX0_writeBit_67 ?_
      refine sq_bipush S 8 (by decide) dX0_writeBit_70 ?_
      refine sq_lshl S 256 (by decide) (by decide) dX0_writeBit_72 ?_
      refine pX0_9 (v := (τ.1 9) * 256) S w dX0_writeBit_73 (fun H locs w => ?_)
      refine sq_aloadn S dX0_writeBit_76 rfl (lv_at hl 1 rfl) ?_
      rw [u9] at w
      have hlw := sqEn_low hhalf (by show 1 ≤ esR e0 (cx, bit); omega)
      refine sq_callv S w (metX0_shiftLow l D a cA (sqF τ 9 (esR e0 (cx, bit) * 256)) (esL e0 (cx, bit)) e0.2.2.1 hhalf.1 (by omega) hlw.1 hlw.2) (cwV 0 S.2.2.2.2 (lw_V q120 q122 qs5 q15 q123) rfl rfl rfl (by decide +kernel) ⟨Nat.le_of_ble_eq_true rfl, Nat.le_of_ble_eq_true rfl⟩) (va_recv w.1 w.2.1 (ci := 0) (q0 := 0) rfl rfl) rfl hl.1 rfl (Nat.le_of_ble_eq_true rfl) ⟨Nat.zero_le _, Nat.zero_le _⟩ dX0_writeBit_77 (fun τ2 H locs hp2 w => ?_)
      exact sq_vret S hr hlk w ⟨by rw [show es e0 (cx, bit) = _ from if_pos (by rw [← u9]; exact c61)]; exact sqEn_shift hhalf (by rw [← u9]; exact c61) hp2, sqFr_tr (sqFr_F 9 _ (by decide) fr1) (sqFr_mono hp2.2.2.2.2.1 (by decide) (by decide)), sqOut_tr o1 (fr1.1 12 (by decide)) hp2.2.2.2.2.2⟩ dX0_writeBit_80
set_option maxHeartbeats 4000000 in
set_option maxRecDepth 100000 in
theorem loopX0_writeTree {p : Program} {l : Launch} {e : Env} {s : State} {m : MethodId} {args : Array Value} {below : List Frame} {meth : Method} {c : Code} {Q : State → Prop} {D : va_G} {A : Nat → Prop} {H0 : Heap} {a : Nat → Nat} {cA : Nat → ClassId} (S : CallFix p m c cX0_writeTree 7 s args lw_all RX0)  (σ : SqSt) (cx v B : Nat) (hB : cx + B ≤ 394) (hv : v < 256) (e1 : SqE) (K : ∀ (τ : SqSt) (H : Heap) (locs : List Loc) (ls : Array Slot), sq_wd D A H0 s (tX0 cA) (wX0 a cA τ) H locs → sqEn τ e1 → (sqFr [8, 9, 10, 11, 13] [6, 7] σ τ ∧ sqOut σ τ) → W p l e rmX0_writeTree s m args below meth c H locs 0 0 Q (F0 m 46 ls [])) : ∀ (k node : Nat) (τ : SqSt) (e0 : SqE) (kc : Nat) (H : Heap) (locs : List Loc) (ls : Array Slot), k ≤ 8 → (node + 1) * 2 ^ k ≤ 2 * B → esF e0 (trd cx v k node) = e1 → EC e0 kc → kc + k ≤ 438 → sq_wd D A H0 s (tX0 cA) (wX0 a cA τ) H locs → sqEn τ e0 → (sqFr [8, 9, 10, 11, 13] [6, 7] σ τ ∧ sqOut σ τ) → lv_has ls 7 [(5, .int (nI k - 1)), (4, .int (nI node)), (0, .ref (a 20)), (1, .int (nI cx)), (3, .int (nI v))] → W p l e rmX0_writeTree s m args below meth c H locs 0 0 Q (F0 m 8 ls []) := by
  intro k
  induction k with
  | zero =>
    intro node τ e0 kc H locs ls hk hnode he hE hkc w hn hp hl
    refine sq_iload S dX0_writeTree_8 (lv_at hl 0 rfl) ?_
    refine lv_if_lt (tgt := 46) S.1 S.2.1 dX0_writeTree_10 (by decide) (fun c10 => ?_) (fun c10 => ?_)
    · exact K τ _ _ ls w (by rw [← he]; exact hn) hp
    · exact absurd (by decide) c10
  | succ k ih =>
    intro node τ e0 kc H locs ls hk hnode he hE hkc w hn hp hl
    rw [nI_pred] at hl
    have hn1 : (node + 1) * 2 ^ k ≤ B := by
      rw [Nat.pow_succ, ← Nat.mul_assoc] at hnode
      omega
    have hp2 : 1 ≤ 2 ^ k := Nat.pow_pos (by decide)
    have hn2 : node + 1 ≤ (node + 1) * 2 ^ k := Nat.le_mul_of_pos_right _ hp2
    have hd2 : v / 2 ^ k ≤ v := Nat.div_le_self _ _
    have hcap := EC_cap hE (by omega)
    refine sq_iload S dX0_writeTree_8 (lv_at hl 0 rfl) ?_
    refine lv_if_lt (tgt := 46) S.1 S.2.1 dX0_writeTree_10 (by decide) (fun c10 => ?_) (fun c10 => ?_)
    · exact absurd c10 (nI_pos (by omega))
    · refine sq_iloadn S dX0_writeTree_13 rfl (lv_at hl 4 rfl) ?_
      refine sq_iload S dX0_writeTree_14 (lv_at hl 0 rfl) ?_
      refine sq_iushr S (by omega) (by omega) dX0_writeTree_16 ?_
      refine sq_iconst S 1 (by decide) dX0_writeTree_17 ?_
      refine sq_iand S 1 2 (by decide) (by omega) (by decide) dX0_writeTree_18 ?_
      refine lv_istore (lv' := [(6, .int (nI ((v / 2 ^ k) % 2))), (5, .int (nI k)), (4, .int (nI node)), (0, .ref (a 20)), (1, .int (nI cx)), (3, .int (nI v))]) S.1 S.2.1 dX0_writeTree_19 hl (by decide) rfl (fun ls hl => ?_)
      refine sq_aloadn S dX0_writeTree_21 rfl (lv_at hl 3 rfl) ?_
      refine sq_iloadn S dX0_writeTree_22 rfl (lv_at hl 4 rfl) ?_
      refine sq_iload S dX0_writeTree_23 (lv_at hl 2 rfl) ?_
      refine sq_iadd S dX0_writeTree_25 ?_
      refine sq_iload S dX0_writeTree_26 (lv_at hl 0 rfl) ?_
      refine sq_callv S w (metX0_writeBit l D a cA τ (cx + node) (v / 2 ^ k % 2) e0 kc (by omega) (by omega) hn hE (by omega)) (cwV 2 S.2.2.2.2 (lw_V q111 q113 qs3 q15 q114) rfl rfl rfl (by decide +kernel) ⟨Nat.le_of_ble_eq_true rfl, Nat.le_of_ble_eq_true rfl⟩) (va_recv w.1 w.2.1 (ci := 0) (q0 := 0) rfl rfl) rfl hl.1 rfl (Nat.le_of_ble_eq_true rfl) ⟨Nat.zero_le _, Nat.zero_le _⟩ dX0_writeTree_28 (fun τ1 H locs hp1 w => ?_)
      refine sq_iconst S 2 (by decide) dX0_writeTree_31 ?_
      refine sq_iload S dX0_writeTree_32 (lv_at hl 2 rfl) ?_
      refine sq_imul S dX0_writeTree_34 ?_
      refine sq_iload S dX0_writeTree_35 (lv_at hl 0 rfl) ?_
      refine sq_iadd S dX0_writeTree_37 ?_
      refine lv_istore (lv' := [(4, .int (nI ((2 * node) + ((v / 2 ^ k) % 2)))), (6, .int (nI ((v / 2 ^ k) % 2))), (5, .int (nI k)), (0, .ref (a 20)), (1, .int (nI cx)), (3, .int (nI v))]) S.1 S.2.1 dX0_writeTree_38 hl (by decide) rfl (fun ls hl => ?_)
      refine lv_iinc (v := (nI k - 1)) (lv' := [(5, .int (nI k - 1)), (4, .int (nI ((2 * node) + ((v / 2 ^ k) % 2)))), (6, .int (nI ((v / 2 ^ k) % 2))), (0, .ref (a 20)), (1, .int (nI cx)), (3, .int (nI v))]) S.1 S.2.1 dX0_writeTree_40 hl (k := 2) rfl (sq_incm k) (by decide) rfl (fun ls hl => ?_)
      refine sq_goto S 8 dX0_writeTree_43 (by decide) ?_
      refine ih _ τ1 _ (kc + 1) _ _ ls (by omega) ?_ he (EC_step _ hE) (by omega) w hp1.1 ⟨sqFr_tr hp.1 hp1.2.1, sqOut_tr hp.2 (hp.1.1 12 (by decide)) hp1.2.2⟩ (lv_sub hl [0, 1, 3, 4, 5] rfl)
      have h3 : 2 * node + v / 2 ^ k % 2 + 1 ≤ (node + 1) * 2 := by omega
      have h4 := Nat.mul_le_mul_right (2 ^ k) h3
      rw [Nat.mul_right_comm] at h4
      omega
set_option maxHeartbeats 4000000 in
set_option maxRecDepth 100000 in
theorem metX0_writeTree (l : Launch) (D : va_G) (a : Nat → Nat) (cA : Nat → ClassId) (σ : SqSt) (cx bits v : Nat) (e0 : SqE) (kc : Nat) (h1 : cx + 2 ^ bits ≤ 394) (h2 : bits ≤ 8) (hv : v < 256) (h3 : sqEn σ e0) (h4 : EC e0 kc) (h5 : kc + bits ≤ 438) : sqMv l yX0_writeTree (ws_ yX0_writeTree cX0_writeTree 7 none) rmX0_writeTree D (tX0 cA) (wX0 a cA) (a 20) σ [.int (nI cx), .int (nI bits), .int (nI v)] (fun σ' => sqEn σ' (esF e0 (trd cx v bits 1)) ∧ sqFr [8, 9, 10, 11, 13] [6, 7] σ σ' ∧ sqOut σ σ') := by
  refine sqMv_of (by decide) (Nat.le_of_ble_eq_true rfl) ?_
  intro p e s m args below meth c A ls S hr hlk w hl
  have S : CallFix p m c cX0_writeTree 7 s args lw_all RX0 := S
  have hl : lv_has ls 7 [(0, .ref (a 20)), (1, .int (nI cx)), (2, .int (nI bits)), (3, .int (nI v))] := hl
  refine sq_iconst S 1 (by decide) dX0_writeTree_0 ?_
  refine lv_istore (lv' := [(4, .int (nI 1)), (0, .ref (a 20)), (1, .int (nI cx)), (2, .int (nI bits)), (3, .int (nI v))]) S.1 S.2.1 dX0_writeTree_1 hl (by decide) rfl (fun ls hl => ?_)
  refine sq_iloadn S dX0_writeTree_3 rfl (lv_at hl 3 rfl) ?_
  refine sq_iconst S 1 (by decide) dX0_writeTree_4 ?_
  refine lv_isub S.1 S.2.1 dX0_writeTree_5 ?_
  refine lv_istore (lv' := [(5, .int ((nI bits) - (nI 1))), (4, .int (nI 1)), (0, .ref (a 20)), (1, .int (nI cx)), (2, .int (nI bits)), (3, .int (nI v))]) S.1 S.2.1 dX0_writeTree_6 hl (by decide) rfl (fun ls hl => ?_)
  refine loopX0_writeTree S σ cx v (2 ^ bits) h1 hv _ (fun τ H locs ls w hn hp => ?_) bits 1 σ e0 kc _ _ ls h2 (by omega) rfl h4 h5 w h3 ⟨sqFr_rf σ, fun _ _ => rfl⟩ (lv_sub hl [0, 1, 2, 3, 5] rfl)
  exact sq_vret S hr hlk w ⟨hn, hp⟩ dX0_writeTree_46
end
section
set_option maxHeartbeats 4000000 in
set_option maxRecDepth 100000 in
theorem metX0_readBit (l : Launch) (D : va_G) (a : Nat → Nat) (cA : Nat → ClassId) (σ : SqSt) (cx bit : Nat) (ds : List (Nat × Nat)) (e0 : SqE) (kc : Nat) (h3 : sqDe σ e0 ((cx, bit) :: ds)) (h4 : EC e0 kc) : sqMi l yX0_readBit (ws_ yX0_readBit cX0_readBit 6 (some .int)) rmX0_readBit D (tX0 cA) (wX0 a cA) (a 20) σ [.int (nI cx)] (fun r σ' => r = nI bit ∧ sqDe σ' (es e0 (cx, bit)) ds ∧ sqFr [9, 14, 15] [7] σ σ') := by
  refine sqMi_of (by decide) (Nat.le_of_ble_eq_true rfl) ?_
  intro p e s m args below meth c A ls S hr hlk w hl
  have S : CallFix p m c cX0_readBit 6 s args lw_all RX0 := S
  have hl : lv_has ls 6 [(0, .ref (a 20)), (1, .int (nI cx))] := hl
  obtain ⟨b1, b2, b3, b4, b5, b6⟩ := sqDe_bit h3 h4
  obtain ⟨k1, k2, k3, k4, k5, k6⟩ := sqDe_half h3 h4
  have hR : σ.1 9 = e0.2.1 := h3.1
  have hch : σ.2 7 cx = e0.2.2.2 cx := h3.2.1 cx b1
  have hcb := h4.2.2.1 cx
  have hRl := h4.1
  have hRh := h4.2.1
  have hbi := esb_in cx h4
  have hri := esR_in (cx, bit) h4
  refine sq_aloadn S dX0_readBit_0 rfl (lv_at hl 0 rfl) ?_
  refine gX0_9 (v := σ.1 9) S w rfl dX0_readBit_1 ?_
  refine sq_bipush S 11 (by decide) dX0_readBit_4 ?_
  refine sq_lushr S 2048 (by decide) (by omega) (by decide) dX0_readBit_6 ?_
  refine sq_aloadn S dX0_readBit_7 rfl (lv_at hl 0 rfl) ?_
  refine gX0_7 S w dX0_readBit_8 ?_
  refine sq_iloadn S dX0_readBit_11 rfl (lv_at hl 1 rfl) ?_
  refine lX0_7 (v := σ.2 7 cx) S w (by omega) rfl dX0_readBit_12 ?_
  refine sq_i2l S (by omega) dX0_readBit_13 ?_
  refine sq_lmul S dX0_readBit_14 ?_
  refine lv_lstore_n (lv' := [(2, .long (lN (((σ.1 9) / 2048) * (σ.2 7 cx)))), (0, .ref (a 20)), (1, .int (nI cx))]) S.1 S.2.1 dX0_readBit_15 rfl hl (by decide) rfl (fun ls hl => ?_)
  refine sq_aloadn S dX0_readBit_16 rfl (lv_at hl 1 rfl) ?_
  refine gX0_14 (v := σ.1 14) S w rfl dX0_readBit_17 ?_
  refine sq_lloadn S dX0_readBit_20 rfl (lv_at hl 0 rfl) ?_
  refine sq_lcge S 29 (by omega) (by omega) dX0_readBit_21 dX0_readBit_22 (by decide) (fun c21 => ?_) (fun c21 => ?_)
  · obtain rfl : bit = 1 := (show bit = 0 ∨ bit = 1 by omega).elim (fun q => absurd (b4 q) (by omega)) (fun q => q)
    refine sq_iconst S 1 (by decide) dX0_readBit_29 ?_
    refine lv_istore (lv' := [(4, .int (nI 1)), (2, .long (lN (((σ.1 9) / 2048) * (σ.2 7 cx)))), (0, .ref (a 20)), (1, .int (nI cx))]) S.1 S.2.1 dX0_readBit_30 hl (by decide) rfl (fun ls hl => ?_)
    refine sq_iload S dX0_readBit_32 (lv_at hl 0 rfl) ?_
    refine sq_if_ne S 45 (by omega) dX0_readBit_34 (by decide) (fun c34 => ?_) (fun c34 => ?_)
    · refine sq_aloadn S dX0_readBit_45 rfl (lv_at hl 2 rfl) ?_
      refine sq_dup S rfl dX0_readBit_46 ?_
      refine gX0_14 (v := σ.1 14) S w rfl dX0_readBit_47 ?_
      refine sq_lloadn S dX0_readBit_50 rfl (lv_at hl 1 rfl) ?_
      refine sq_lsub S (by omega) dX0_readBit_51 ?_
      refine pX0_14 (v := (σ.1 14) - (((σ.1 9) / 2048) * (σ.2 7 cx))) S w dX0_readBit_52 (fun H locs w => ?_)
      refine sq_aloadn S dX0_readBit_55 rfl (lv_at hl 2 rfl) ?_
      refine sq_dup S rfl dX0_readBit_56 ?_
      refine gX0_9 (v := σ.1 9) S w rfl dX0_readBit_57 ?_
      refine sq_lloadn S dX0_readBit_60 rfl (lv_at hl 1 rfl) ?_
      refine sq_lsub S (by omega) dX0_readBit_61 ?_
      refine pX0_9 (v := (σ.1 9) - (((σ.1 9) / 2048) * (σ.2 7 cx))) S w dX0_readBit_62 (fun H locs w => ?_)
      refine sq_aloadn S dX0_readBit_65 rfl (lv_at hl 2 rfl) ?_
      refine sq_iloadn S dX0_readBit_66 rfl (lv_at hl 3 rfl) ?_
      refine sq_iload S dX0_readBit_67 (lv_at hl 0 rfl) ?_
      refine sq_callv S w (metX0_learn l D a cA (sqF (sqF σ 14 ((σ.1 14) - (((σ.1 9) / 2048) * (σ.2 7 cx)))) 9 ((σ.1 9) - (((σ.1 9) / 2048) * (σ.2 7 cx)))) cx 1 b1 (by decide) (by show σ.2 7 cx ≤ 2048; omega)) (cwV 2 S.2.2.2.2 (lw_V q115 q117 qs4 q15 q118) rfl rfl rfl (by decide +kernel) ⟨Nat.le_of_ble_eq_true rfl, Nat.le_of_ble_eq_true rfl⟩) (va_recv w.1 w.2.1 (ci := 0) (q0 := 0) rfl rfl) rfl hl.1 rfl (Nat.le_of_ble_eq_true rfl) ⟨Nat.zero_le _, Nat.zero_le _⟩ dX0_readBit_69 (fun τ H locs hp1 w => ?_)
      have hp1 : τ = sqDh σ cx 1 := hp1
      have u9 : τ.1 9 = esR e0 (cx, 1) := by rw [hp1]; exact k1
      have u14 : τ.1 14 < esR e0 (cx, 1) := by rw [hp1]; exact k2
      have u15 : τ.1 15 = e0.2.2.1 + 5 := by rw [hp1]; exact k3
      have u12 : τ.1 12 = σ.1 12 := by rw [hp1]; exact sqDh_fr.1 12 (by decide)
      have u6 : τ.2 6 = σ.2 6 := by rw [hp1]; exact sqDh_fr.2 6 (by decide)
      have h12 := h3.2.2.2.2.1
      have h6 := h3.2.2.2.2.2.1
      refine sq_aloadn S dX0_readBit_72 rfl (lv_at hl 2 rfl) ?_
      refine gX0_9 (v := τ.1 9) S w rfl dX0_readBit_73 ?_
      refine sq_ldc2 S 16777216 q119 (by decide) dX0_readBit_76 ?_
      refine sq_lcge S 115 (by omega) (by omega) dX0_readBit_79 dX0_readBit_80 (by decide) (fun c79 => ?_) (fun c79 => ?_)
      · refine sq_iload S dX0_readBit_115 (lv_at hl 0 rfl) ?_
        exact sq_iret S hr hlk w ⟨rfl, by rw [hp1]; exact k5 (by rw [← u9]; exact c79), by rw [hp1]; exact sqDh_fr⟩ dX0_readBit_117
      · refine sq_aloadn S dX0_readBit_83 rfl (lv_at hl 2 rfl) ?_
        refine sq_aloadn S dX0_readBit_84 rfl (lv_at hl 2 rfl) ?_
        refine gX0_9 (v := τ.1 9) S w rfl dX0_readBit_85 ?_
        refine sq_bipush S 8 (by decide) dX0_readBit_88 ?_
        refine sq_lshl S 256 (by decide) (by decide) dX0_readBit_90 ?_
        refine pX0_9 (v := (τ.1 9) * 256) S w dX0_readBit_91 (fun H locs w => ?_)
        refine sq_aloadn S dX0_readBit_94 rfl (lv_at hl 2 rfl) ?_
        refine sq_calli S w (metX0_takeByte l D a cA (sqF τ 9 ((τ.1 9) * 256)) (by show τ.1 15 < 352; omega) (by show τ.1 12 ≤ 1056; omega) (by show ∀ j, τ.2 6 j < 256; rw [u6]; exact h6)) (cwV 0 S.2.2.2.2 (lw_V q146 q148 qs10 q15 q149) rfl rfl rfl (by decide +kernel) ⟨Nat.le_of_ble_eq_true rfl, Nat.le_of_ble_eq_true rfl⟩) (va_recv w.1 w.2.1 (ci := 0) (q0 := 0) rfl rfl) rfl hl.1 rfl (Nat.le_of_ble_eq_true rfl) ⟨Nat.zero_le _, Nat.zero_le _⟩ dX0_readBit_95 (fun r2 τ2 H locs hp2 w => ?_)
        obtain ⟨rfl, hp2⟩ := hp2
        have u142 : τ2.1 14 = τ.1 14 := by rw [hp2]; rfl
        have hb256 := h6 (τ.1 12 + τ.1 15)
        rw [← u6] at hb256
        refine lv_istore (lv' := [(5, .int (nI (τ.2 6 (τ.1 12 + τ.1 15)))), (4, .int (nI 1)), (2, .long (lN (((σ.1 9) / 2048) * (σ.2 7 cx)))), (0, .ref (a 20)), (1, .int (nI cx))]) S.1 S.2.1 dX0_readBit_98 hl (by decide) rfl (fun ls hl => ?_)
        refine sq_aloadn S dX0_readBit_100 rfl (lv_at hl 3 rfl) ?_
        refine sq_aloadn S dX0_readBit_101 rfl (lv_at hl 3 rfl) ?_
        refine gX0_14 (v := τ2.1 14) S w rfl dX0_readBit_102 ?_
        refine sq_bipush S 8 (by decide) dX0_readBit_105 ?_
        refine sq_lshl S 256 (by decide) (by decide) dX0_readBit_107 ?_
        refine sq_iload S dX0_readBit_108 (lv_at hl 0 rfl) ?_
        refine sq_i2l S (by omega) dX0_readBit_110 ?_
        refine sq_lor S 8 256 (by decide) (by omega) (by omega) dX0_readBit_111 ?_
        refine pX0_14 (v := (τ2.1 14) * 256 + (τ.2 6 (τ.1 12 + τ.1 15))) S w dX0_readBit_112 (fun H locs w => ?_)
        refine sq_iload S dX0_readBit_115 (lv_at hl 1 rfl) ?_
        have e2 : sqF τ2 14 (τ2.1 14 * 256 + τ.2 6 (τ.1 12 + τ.1 15)) = sqF (sqF (sqF (sqDh σ cx 1) 9 (esR e0 (cx, 1) * 256)) 15 (e0.2.2.1 + 5 + 1)) 14 ((sqDh σ cx 1).1 14 * 256 + σ.2 6 (σ.1 12 + (e0.2.2.1 + 5))) := by
          rw [u142, hp2, u6, u12, u15, u9]
          show sqF (sqF (sqF τ 9 _) 15 (τ.1 15 + 1)) 14 _ = _
          rw [u15, hp1]
        exact sq_iret S hr hlk w ⟨rfl, by rw [e2]; exact k6 (by rw [← u9]; exact c79), by rw [e2]; exact sqFr_F 14 _ (by decide) (sqFr_F 15 _ (by decide) (sqFr_F 9 _ (by decide) sqDh_fr))⟩ dX0_readBit_117
    · exact absurd c34 (by decide)
  · obtain rfl : bit = 0 := (show bit = 0 ∨ bit = 1 by omega).elim (fun q => q) (fun q => absurd (b5 (by omega)) (by omega))
    refine sq_iconst S 0 (by decide) dX0_readBit_25 ?_
    refine sq_goto S 30 dX0_readBit_26 (by decide) ?_
    refine lv_istore (lv' := [(4, .int (nI 0)), (2, .long (lN (((σ.1 9) / 2048) * (σ.2 7 cx)))), (0, .ref (a 20)), (1, .int (nI cx))]) S.1 S.2.1 dX0_readBit_30 hl (by decide) rfl (fun ls hl => ?_)
    refine sq_iload S dX0_readBit_32 (lv_at hl 0 rfl) ?_
    refine sq_if_ne S 45 (by omega) dX0_readBit_34 (by decide) (fun c34 => ?_) (fun c34 => ?_)
    · exact absurd rfl c34
    · refine sq_aloadn S dX0_readBit_37 rfl (lv_at hl 2 rfl) ?_
      refine sq_lloadn S dX0_readBit_38 rfl (lv_at hl 1 rfl) ?_
      refine pX0_9 (v := ((σ.1 9) / 2048) * (σ.2 7 cx)) S w dX0_readBit_39 (fun H locs w => ?_)
      refine sq_goto S 65 dX0_readBit_42 (by decide) ?_
      refine sq_aloadn S dX0_readBit_65 rfl (lv_at hl 2 rfl) ?_
      refine sq_iloadn S dX0_readBit_66 rfl (lv_at hl 3 rfl) ?_
      refine sq_iload S dX0_readBit_67 (lv_at hl 0 rfl) ?_
      refine sq_callv S w (metX0_learn l D a cA (sqF σ 9 (((σ.1 9) / 2048) * (σ.2 7 cx))) cx 0 b1 (by decide) (by show σ.2 7 cx ≤ 2048; omega)) (cwV 2 S.2.2.2.2 (lw_V q115 q117 qs4 q15 q118) rfl rfl rfl (by decide +kernel) ⟨Nat.le_of_ble_eq_true rfl, Nat.le_of_ble_eq_true rfl⟩) (va_recv w.1 w.2.1 (ci := 0) (q0 := 0) rfl rfl) rfl hl.1 rfl (Nat.le_of_ble_eq_true rfl) ⟨Nat.zero_le _, Nat.zero_le _⟩ dX0_readBit_69 (fun τ H locs hp1 w => ?_)
      have hp1 : τ = sqDh σ cx 0 := hp1
      have u9 : τ.1 9 = esR e0 (cx, 0) := by rw [hp1]; exact k1
      have u14 : τ.1 14 < esR e0 (cx, 0) := by rw [hp1]; exact k2
      have u15 : τ.1 15 = e0.2.2.1 + 5 := by rw [hp1]; exact k3
      have u12 : τ.1 12 = σ.1 12 := by rw [hp1]; exact sqDh_fr.1 12 (by decide)
      have u6 : τ.2 6 = σ.2 6 := by rw [hp1]; exact sqDh_fr.2 6 (by decide)
      have h12 := h3.2.2.2.2.1
      have h6 := h3.2.2.2.2.2.1
      refine sq_aloadn S dX0_readBit_72 rfl (lv_at hl 2 rfl) ?_
      refine gX0_9 (v := τ.1 9) S w rfl dX0_readBit_73 ?_
      refine sq_ldc2 S 16777216 q119 (by decide) dX0_readBit_76 ?_
      refine sq_lcge S 115 (by omega) (by omega) dX0_readBit_79 dX0_readBit_80 (by decide) (fun c79 => ?_) (fun c79 => ?_)
      · refine sq_iload S dX0_readBit_115 (lv_at hl 0 rfl) ?_
        exact sq_iret S hr hlk w ⟨rfl, by rw [hp1]; exact k5 (by rw [← u9]; exact c79), by rw [hp1]; exact sqDh_fr⟩ dX0_readBit_117
      · refine sq_aloadn S dX0_readBit_83 rfl (lv_at hl 2 rfl) ?_
        refine sq_aloadn S dX0_readBit_84 rfl (lv_at hl 2 rfl) ?_
        refine gX0_9 (v := τ.1 9) S w rfl dX0_readBit_85 ?_
        refine sq_bipush S 8 (by decide) dX0_readBit_88 ?_
        refine sq_lshl S 256 (by decide) (by decide) dX0_readBit_90 ?_
        refine pX0_9 (v := (τ.1 9) * 256) S w dX0_readBit_91 (fun H locs w => ?_)
        refine sq_aloadn S dX0_readBit_94 rfl (lv_at hl 2 rfl) ?_
        refine sq_calli S w (metX0_takeByte l D a cA (sqF τ 9 ((τ.1 9) * 256)) (by show τ.1 15 < 352; omega) (by show τ.1 12 ≤ 1056; omega) (by show ∀ j, τ.2 6 j < 256; rw [u6]; exact h6)) (cwV 0 S.2.2.2.2 (lw_V q146 q148 qs10 q15 q149) rfl rfl rfl (by decide +kernel) ⟨Nat.le_of_ble_eq_true rfl, Nat.le_of_ble_eq_true rfl⟩) (va_recv w.1 w.2.1 (ci := 0) (q0 := 0) rfl rfl) rfl hl.1 rfl (Nat.le_of_ble_eq_true rfl) ⟨Nat.zero_le _, Nat.zero_le _⟩ dX0_readBit_95 (fun r2 τ2 H locs hp2 w => ?_)
        obtain ⟨rfl, hp2⟩ := hp2
        have u142 : τ2.1 14 = τ.1 14 := by rw [hp2]; rfl
        have hb256 := h6 (τ.1 12 + τ.1 15)
        rw [← u6] at hb256
        refine lv_istore (lv' := [(5, .int (nI (τ.2 6 (τ.1 12 + τ.1 15)))), (4, .int (nI 0)), (2, .long (lN (((σ.1 9) / 2048) * (σ.2 7 cx)))), (0, .ref (a 20)), (1, .int (nI cx))]) S.1 S.2.1 dX0_readBit_98 hl (by decide) rfl (fun ls hl => ?_)
        refine sq_aloadn S dX0_readBit_100 rfl (lv_at hl 3 rfl) ?_
        refine sq_aloadn S dX0_readBit_101 rfl (lv_at hl 3 rfl) ?_
        refine gX0_14 (v := τ2.1 14) S w rfl dX0_readBit_102 ?_
        refine sq_bipush S 8 (by decide) dX0_readBit_105 ?_
        refine sq_lshl S 256 (by decide) (by decide) dX0_readBit_107 ?_
        refine sq_iload S dX0_readBit_108 (lv_at hl 0 rfl) ?_
        refine sq_i2l S (by omega) dX0_readBit_110 ?_
        refine sq_lor S 8 256 (by decide) (by omega) (by omega) dX0_readBit_111 ?_
        refine pX0_14 (v := (τ2.1 14) * 256 + (τ.2 6 (τ.1 12 + τ.1 15))) S w dX0_readBit_112 (fun H locs w => ?_)
        refine sq_iload S dX0_readBit_115 (lv_at hl 1 rfl) ?_
        have e2 : sqF τ2 14 (τ2.1 14 * 256 + τ.2 6 (τ.1 12 + τ.1 15)) = sqF (sqF (sqF (sqDh σ cx 0) 9 (esR e0 (cx, 0) * 256)) 15 (e0.2.2.1 + 5 + 1)) 14 ((sqDh σ cx 0).1 14 * 256 + σ.2 6 (σ.1 12 + (e0.2.2.1 + 5))) := by
          rw [u142, hp2, u6, u12, u15, u9]
          show sqF (sqF (sqF τ 9 _) 15 (τ.1 15 + 1)) 14 _ = _
          rw [u15, hp1]
        exact sq_iret S hr hlk w ⟨rfl, by rw [e2]; exact k6 (by rw [← u9]; exact c79), by rw [e2]; exact sqFr_F 14 _ (by decide) (sqFr_F 15 _ (by decide) (sqFr_F 9 _ (by decide) sqDh_fr))⟩ dX0_readBit_117
set_option maxHeartbeats 4000000 in
set_option maxRecDepth 100000 in
theorem loopX0_readTree {p : Program} {l : Launch} {e : Env} {s : State} {m : MethodId} {args : Array Value} {below : List Frame} {meth : Method} {c : Code} {Q : State → Prop} {D : va_G} {A : Nat → Prop} {H0 : Heap} {a : Nat → Nat} {cA : Nat → ClassId} (S : CallFix p m c cX0_readTree 6 s args lw_all RX0)  (σ : SqSt) (cx bits v : Nat) (ds : List (Nat × Nat)) (h1 : cx + 2 ^ bits ≤ 394) (hb8 : bits ≤ 8) (hv : v < 2 ^ bits) (e1 : SqE) (K : ∀ (τ : SqSt) (H : Heap) (locs : List Loc) (ls : Array Slot), sq_wd D A H0 s (tX0 cA) (wX0 a cA τ) H locs → sqDe τ e1 ds → sqFr [9, 14, 15] [7] σ τ → lv_has ls 6 [(3, .int (nI (2 ^ bits + v))), (0, .ref (a 20)), (1, .int (nI cx)), (2, .int (nI bits))] → W p l e rmX0_readTree s m args below meth c H locs 0 0 Q (F0 m 33 ls [])) : ∀ (k node : Nat) (τ : SqSt) (e0 : SqE) (kc : Nat) (H : Heap) (locs : List Loc) (ls : Array Slot), k ≤ bits → node * 2 ^ k + v % 2 ^ k = 2 ^ bits + v → esF e0 (trd cx v k node) = e1 → EC e0 kc → sq_wd D A H0 s (tX0 cA) (wX0 a cA τ) H locs → sqDe τ e0 (trd cx v k node ++ ds) → sqFr [9, 14, 15] [7] σ τ → lv_has ls 6 [(4, .int (nI (bits - k))), (3, .int (nI node)), (0, .ref (a 20)), (1, .int (nI cx)), (2, .int (nI bits))] → W p l e rmX0_readTree s m args below meth c H locs 0 0 Q (F0 m 5 ls []) := by
  have hb2 : 2 ^ bits ≤ 256 := Nat.pow_le_pow_right (by decide) hb8
  intro k
  induction k with
  | zero =>
    intro node τ e0 kc H locs ls hk hnode he hE w hd hp hl
    refine sq_iload S dX0_readTree_5 (lv_at hl 0 rfl) ?_
    refine sq_iloadn S dX0_readTree_7 rfl (lv_at hl 4 rfl) ?_
    refine sq_icmp_ge S 33 (by omega) (by omega) dX0_readTree_8 (by decide) (fun c8 => ?_) (fun c8 => ?_)
    · rw [Nat.pow_zero, Nat.mod_one, Nat.mul_one, Nat.add_zero] at hnode
      subst hnode
      exact K τ _ _ ls w (by rw [← he]; exact hd) hp (lv_sub hl [1, 2, 3, 4] rfl)
    · exact absurd c8 (by omega)
  | succ k ih =>
    intro node τ e0 kc H locs ls hk hnode he hE w hd hp hl
    have hnd : (2 * node + v / 2 ^ k % 2) * 2 ^ k + v % 2 ^ k = 2 ^ bits + v := by rw [trd_node]; exact hnode
    have hcx := hd.2.2.2.2.2.2.2 (cx + node, v / 2 ^ k % 2) (List.mem_append_left _ List.mem_cons_self)
    have hcx : cx + node < 394 := hcx.1
    refine sq_iload S dX0_readTree_5 (lv_at hl 0 rfl) ?_
    refine sq_iloadn S dX0_readTree_7 rfl (lv_at hl 4 rfl) ?_
    refine sq_icmp_ge S 33 (by omega) (by omega) dX0_readTree_8 (by decide) (fun c8 => ?_) (fun c8 => ?_)
    · exact absurd c8 (by omega)
    · refine sq_aloadn S dX0_readTree_11 rfl (lv_at hl 2 rfl) ?_
      refine sq_iloadn S dX0_readTree_12 rfl (lv_at hl 3 rfl) ?_
      refine sq_iloadn S dX0_readTree_13 rfl (lv_at hl 1 rfl) ?_
      refine sq_iadd S dX0_readTree_14 ?_
      refine sq_calli S w (metX0_readBit l D a cA τ (cx + node) (v / 2 ^ k % 2) (trd cx v k (2 * node + v / 2 ^ k % 2) ++ ds) e0 kc hd hE) (cwV 1 S.2.2.2.2 (lw_V q154 q156 qs12 q15 q157) rfl rfl rfl (by decide +kernel) ⟨Nat.le_of_ble_eq_true rfl, Nat.le_of_ble_eq_true rfl⟩) (va_recv w.1 w.2.1 (ci := 0) (q0 := 0) rfl rfl) rfl hl.1 rfl (Nat.le_of_ble_eq_true rfl) ⟨Nat.zero_le _, Nat.zero_le _⟩ dX0_readTree_15 (fun r1 τ1 H locs hp1 w => ?_)
      obtain ⟨rfl, hd1, fr1⟩ := hp1
      refine lv_istore (lv' := [(5, .int (nI (v / 2 ^ k % 2))), (4, .int (nI (bits - (k + 1)))), (3, .int (nI node)), (0, .ref (a 20)), (1, .int (nI cx)), (2, .int (nI bits))]) S.1 S.2.1 dX0_readTree_18 hl (by decide) rfl (fun ls hl => ?_)
      refine sq_iconst S 2 (by decide) dX0_readTree_20 ?_
      refine sq_iloadn S dX0_readTree_21 rfl (lv_at hl 2 rfl) ?_
      refine sq_imul S dX0_readTree_22 ?_
      refine sq_iload S dX0_readTree_23 (lv_at hl 0 rfl) ?_
      refine sq_iadd S dX0_readTree_25 ?_
      refine lv_istore_n (lv' := [(3, .int (nI ((2 * node) + (v / 2 ^ k % 2)))), (5, .int (nI (v / 2 ^ k % 2))), (4, .int (nI (bits - (k + 1)))), (0, .ref (a 20)), (1, .int (nI cx)), (2, .int (nI bits))]) S.1 S.2.1 dX0_readTree_26 rfl hl (by decide) rfl (fun ls hl => ?_)
      refine lv_iinc (v := (nI (bits - k))) (lv' := [(4, .int (nI (bits - k))), (3, .int (nI ((2 * node) + (v / 2 ^ k % 2)))), (5, .int (nI (v / 2 ^ k % 2))), (0, .ref (a 20)), (1, .int (nI cx)), (2, .int (nI bits))]) S.1 S.2.1 dX0_readTree_27 hl (k := 2) rfl (by rw [sq_inc1]; congr 1; omega) (by decide) rfl (fun ls hl => ?_)
      refine sq_goto S 5 dX0_readTree_30 (by decide) ?_
      exact ih _ τ1 _ (kc + 1) _ _ ls (by omega) hnd he (EC_step _ hE) w hd1 (sqFr_tr hp fr1) (lv_sub hl [0, 1, 3, 4, 5] rfl)
set_option maxHeartbeats 4000000 in
set_option maxRecDepth 100000 in
theorem metX0_readTree (l : Launch) (D : va_G) (a : Nat → Nat) (cA : Nat → ClassId) (σ : SqSt) (cx bits v : Nat) (ds : List (Nat × Nat)) (e0 : SqE) (kc : Nat) (h1 : cx + 2 ^ bits ≤ 394) (h2 : bits ≤ 8) (hv : v < 2 ^ bits) (h3 : sqDe σ e0 (trd cx v bits 1 ++ ds)) (h4 : EC e0 kc) : sqMi l yX0_readTree (ws_ yX0_readTree cX0_readTree 6 (some .int)) rmX0_readTree D (tX0 cA) (wX0 a cA) (a 20) σ [.int (nI cx), .int (nI bits)] (fun r σ' => r = nI v ∧ sqDe σ' (esF e0 (trd cx v bits 1)) ds ∧ sqFr [9, 14, 15] [7] σ σ') := by
  refine sqMi_of (by decide) (Nat.le_of_ble_eq_true rfl) ?_
  intro p e s m args below meth c A ls S hr hlk w hl
  have S : CallFix p m c cX0_readTree 6 s args lw_all RX0 := S
  have hl : lv_has ls 6 [(0, .ref (a 20)), (1, .int (nI cx)), (2, .int (nI bits))] := hl
  have hb2 : 2 ^ bits ≤ 256 := Nat.pow_le_pow_right (by decide) h2
  refine sq_iconst S 1 (by decide) dX0_readTree_0 ?_
  refine lv_istore_n (lv' := [(3, .int (nI 1)), (0, .ref (a 20)), (1, .int (nI cx)), (2, .int (nI bits))]) S.1 S.2.1 dX0_readTree_1 rfl hl (by decide) rfl (fun ls hl => ?_)
  refine sq_iconst S 0 (by decide) dX0_readTree_2 ?_
  refine lv_istore (lv' := [(4, .int (nI 0)), (3, .int (nI 1)), (0, .ref (a 20)), (1, .int (nI cx)), (2, .int (nI bits))]) S.1 S.2.1 dX0_readTree_3 hl (by decide) rfl (fun ls hl => ?_)
  rw [show nI 0 = nI (bits - bits) by rw [Nat.sub_self]] at hl
  refine loopX0_readTree S σ cx bits v ds h1 h2 hv _ (fun τ H locs ls w hd hp hl => ?_) bits 1 σ e0 kc _ _ ls (Nat.le_refl _) (by rw [Nat.one_mul, Nat.mod_eq_of_lt hv]) rfl h4 w h3 (sqFr_rf σ) (lv_sub hl [0, 1, 2, 3, 4] rfl)
  refine sq_iloadn S dX0_readTree_33 rfl (lv_at hl 0 rfl) ?_
  refine sq_iconst S 1 (by decide) dX0_readTree_34 ?_
  refine sq_iloadn S dX0_readTree_35 rfl (lv_at hl 3 rfl) ?_
  refine sq_ishl S (by omega) (by omega) dX0_readTree_36 ?_
  refine sq_isub S (by omega) dX0_readTree_37 ?_
  exact sq_iret S hr hlk w ⟨by congr 1; omega, hd, hp⟩ dX0_readTree_38
end
section
theorem tkd_lit (e : SqE) (v b : Nat) (ts : List (Nat × Nat)) : esF e (tkd ((0, v) :: ts) b) = esF (esF (es e (b, 0)) (trd 66 v 8 1)) (tkd ts 0) := by
  show esF e ((b, 0) :: (trd 66 v 8 1 ++ tkd ts 0)) = _
  rw [esF_cons, esF_app]
theorem tkd_mat (e : SqE) (n d b : Nat) (ts : List (Nat × Nat)) (h : ¬ n = 0) : esF e (tkd ((n, d) :: ts) b) = esF (esF (esF (es e (b, 1)) (trd 322 (n - 2) 3 1)) (trd 330 (d - 1) 6 1)) (tkd ts 1) := by
  have e1 : tkd ((n, d) :: ts) b = (b, 1) :: (trd 322 (n - 2) 3 1 ++ (trd 330 (d - 1) 6 1 ++ tkd ts 1)) := if_neg h
  rw [e1, esF_cons, esF_app, esF_app]
theorem EC_tree {e : SqE} {k : Nat} (cx v b node : Nat) (h : EC e k) : EC (esF e (trd cx v b node)) (k + b) := by
  have h1 := EC_fold (trd cx v b node) h
  rw [trd_len] at h1
  exact h1
theorem sqEn_fr {σ σ' : SqSt} {e : SqE} (h : sqEn σ e) (hf : sqFr [16, 17] [] σ σ') : sqEn σ' e := by
  have a8 := hf.1 8 (by decide)
  have a9 := hf.1 9 (by decide)
  have a10 := hf.1 10 (by decide)
  have a11 := hf.1 11 (by decide)
  have a12 := hf.1 12 (by decide)
  have a13 := hf.1 13 (by decide)
  have b6 := hf.2 6 (by decide)
  have b7 := hf.2 7 (by decide)
  unfold sqEn sqSh
  rw [a8, a9, a10, a11, a12, a13, b6, b7]
  exact h
theorem sqDe_fr {σ σ' : SqSt} {e : SqE} {ds : List (Nat × Nat)} (h : sqDe σ e ds) (hf : sqFr [2] [3] σ σ') : sqDe σ' e ds := by
  have a9 := hf.1 9 (by decide)
  have a12 := hf.1 12 (by decide)
  have a14 := hf.1 14 (by decide)
  have a15 := hf.1 15 (by decide)
  have b6 := hf.2 6 (by decide)
  have b7 := hf.2 7 (by decide)
  unfold sqDe
  rw [a9, a12, a14, a15, b6, b7]
  exact h
theorem sqV_mono (f : Nat → Nat) (b w : Nat) : ∀ k, sqV f b w ≤ sqV f b (w + k)
  | 0 => Nat.le_refl _
  | k + 1 => by
    have h := sqV_mono f b w k
    show sqV f b w ≤ 256 * sqV f b (w + k) + f (b + (w + k))
    omega
set_option maxHeartbeats 4000000 in
set_option maxRecDepth 100000 in
theorem loopX0_squeeze {p : Program} {l : Launch} {e : Env} {s : State} {m : MethodId} {args : Array Value} {below : List Frame} {meth : Method} {c : Code} {Q : State → Prop} {D : va_G} {A : Nat → Prop} {H0 : Heap} {a : Nat → Nat} {cA : Nat → ClassId} (S : CallFix p m c cX0_squeeze 4 s args lw_all RX0)  (σ : SqSt) (hn : σ.1 0 ≤ 48) (hf : ∀ j, j < σ.1 0 → σ.2 1 j < 256) : ∀ (z i b st : Nat) (e0 : SqE) (kc : Nat) (τ : SqSt) (H : Heap) (locs : List Loc) (ls : Array Slot), i ≤ σ.1 0 → σ.1 0 < i + z → st ≤ i → b ≤ 1 → EC e0 kc → kc ≤ 6 + 9 * i → sq_wd D A H0 s (tX0 cA) (wX0 a cA τ) H locs → sqEn τ e0 → (sqFr [8, 9, 10, 11, 13, 16, 17] [6, 7] σ τ ∧ sqOut σ τ) → lv_has ls 4 [(3, .int (nI st)), (2, .int (nI i)), (1, .int (nI b)), (0, .ref (a 20))] → (K : ∀ (ts : List (Nat × Nat)) (τ : SqSt) (H : Heap) (locs : List Loc) (ls : Array Slot), sq_wd D A H0 s (tX0 cA) (wX0 a cA τ) H locs → tkO (σ.2 1) (σ.1 0) ts i → sqEn τ (esF e0 (tkd ts b)) → (sqFr [8, 9, 10, 11, 13, 16, 17] [6, 7] σ τ ∧ sqOut σ τ) → lv_has ls 4 [(0, .ref (a 20))] → W p l e rmX0_squeeze s m args below meth c H locs 0 0 Q (F0 m 153 ls [])) → W p l e rmX0_squeeze s m args below meth c H locs 0 0 Q (F0 m 48 ls []) := by
  intro z
  induction z with
  | zero => intro i b st e0 kc τ H locs ls hi hz; omega
  | succ z ih =>
    intro i b st e0 kc τ H locs ls hi hz hst hb hE hkc w hn0 hfr hl K
    have e0_ : τ.1 0 = σ.1 0 := hfr.1.1 0 (by decide)
    have e1_ : τ.2 1 = σ.2 1 := hfr.1.2 1 (by decide)
    refine sq_iloadn S dX0_squeeze_48 rfl (lv_at hl 0 rfl) ?_
    refine sq_bipush S 48 (by decide) dX0_squeeze_49 ?_
    refine sq_icmp_ge S 153 (by omega) (by omega) dX0_squeeze_51 (by decide) (fun c51 => ?_) (fun c51 => ?_)
    · exact K [] τ _ _ ls w (by show i = σ.1 0; omega) hn0 hfr (lv_sub hl [3] rfl)
    · refine sq_iloadn S dX0_squeeze_54 rfl (lv_at hl 1 rfl) ?_
      refine sq_aloadn S dX0_squeeze_55 rfl (lv_at hl 3 rfl) ?_
      refine gX0_0 (v := τ.1 0) S w rfl dX0_squeeze_56 ?_
      refine sq_icmp_ge S 153 (by omega) (by omega) dX0_squeeze_59 (by decide) (fun c59 => ?_) (fun c59 => ?_)
      · exact K [] τ _ _ ls w (by show i = σ.1 0; omega) hn0 hfr (lv_sub hl [3] rfl)
      · refine sq_aloadn S dX0_squeeze_62 rfl (lv_at hl 3 rfl) ?_
        refine sq_iloadn S dX0_squeeze_63 rfl (lv_at hl 1 rfl) ?_
        refine sq_callv S w (metX0_findMatch l D a cA τ i (by omega) (by omega) (by rw [e0_, e1_]; exact hf)) (cwV 1 S.2.2.2.2 (lw_V q130 q132 qs7 q15 q133) rfl rfl rfl (by decide +kernel) ⟨Nat.le_of_ble_eq_true rfl, Nat.le_of_ble_eq_true rfl⟩) (va_recv w.1 w.2.1 (ci := 0) (q0 := 0) rfl rfl) rfl hl.1 rfl (Nat.le_of_ble_eq_true rfl) ⟨Nat.zero_le _, Nat.zero_le _⟩ dX0_squeeze_64 (fun τ1 H locs hm w => ?_)
        obtain ⟨m1, m2, m3⟩ := hm
        have hn1 := sqEn_fr hn0 m1
        have fr1 : sqFr [8, 9, 10, 11, 13, 16, 17] [6, 7] σ τ1 ∧ sqOut σ τ1 := ⟨sqFr_tr hfr.1 (sqFr_mono m1 (by decide) (by decide)), fun j hj => by rw [m1.2 6 (by decide)]; exact hfr.2 j hj⟩
        have hcap := EC_cap hE (by omega)
        refine sq_aloadn S dX0_squeeze_67 rfl (lv_at hl 3 rfl) ?_
        refine gX0_16 (v := τ1.1 16) S w rfl dX0_squeeze_68 ?_
        refine sq_iconst S 2 (by decide) dX0_squeeze_71 ?_
        refine sq_icmp_lt S 122 (by omega) (by omega) dX0_squeeze_72 (by decide) (fun c72 => ?_) (fun c72 => ?_)
        · refine sq_aloadn S dX0_squeeze_122 rfl (lv_at hl 3 rfl) ?_
          refine sq_iloadn S dX0_squeeze_123 rfl (lv_at hl 2 rfl) ?_
          refine sq_iconst S 0 (by decide) dX0_squeeze_124 ?_
          refine sq_callv S w (metX0_writeBit l D a cA τ1 b 0 e0 kc (by omega) (by decide) hn1 hE (by omega)) (cwV 2 S.2.2.2.2 (lw_V q111 q113 qs3 q15 q114) rfl rfl rfl (by decide +kernel) ⟨Nat.le_of_ble_eq_true rfl, Nat.le_of_ble_eq_true rfl⟩) (va_recv w.1 w.2.1 (ci := 0) (q0 := 0) rfl rfl) rfl hl.1 rfl (Nat.le_of_ble_eq_true rfl) ⟨Nat.zero_le _, Nat.zero_le _⟩ dX0_squeeze_125 (fun τ2 H locs h2 w => ?_)
          have fr2 : sqFr [8, 9, 10, 11, 13, 16, 17] [6, 7] σ τ2 ∧ sqOut σ τ2 := ⟨sqFr_tr fr1.1 (sqFr_mono h2.2.1 (by decide) (by decide)), sqOut_tr fr1.2 (fr1.1.1 12 (by decide)) h2.2.2⟩
          refine sq_aloadn S dX0_squeeze_128 rfl (lv_at hl 3 rfl) ?_
          refine sq_bipush S 66 (by decide) dX0_squeeze_129 ?_
          refine sq_bipush S 8 (by decide) dX0_squeeze_131 ?_
          refine sq_aloadn S dX0_squeeze_133 rfl (lv_at hl 3 rfl) ?_
          refine gX0_1 S w dX0_squeeze_134 ?_
          refine sq_iloadn S dX0_squeeze_137 rfl (lv_at hl 1 rfl) ?_
          refine lX0_1 (v := τ2.2 1 i) S w (by omega) rfl dX0_squeeze_138 ?_
          have u1 : τ2.2 1 = σ.2 1 := fr2.1.2 1 (by decide)
          have hfi := hf i (by omega)
          refine sq_callv S w (metX0_writeTree l D a cA τ2 66 8 (τ2.2 1 i) _ (kc + 1) (by decide) (by decide) (by rw [u1]; exact hfi) h2.1 (EC_step _ hE) (by omega)) (cwV 3 S.2.2.2.2 (lw_V q107 q109 qs2 q15 q110) rfl rfl rfl (by decide +kernel) ⟨Nat.le_of_ble_eq_true rfl, Nat.le_of_ble_eq_true rfl⟩) (va_recv w.1 w.2.1 (ci := 0) (q0 := 0) rfl rfl) rfl hl.1 rfl (Nat.le_of_ble_eq_true rfl) ⟨Nat.zero_le _, Nat.zero_le _⟩ dX0_squeeze_139 (fun τ3 H locs h3 w => ?_)
          have fr3 : sqFr [8, 9, 10, 11, 13, 16, 17] [6, 7] σ τ3 ∧ sqOut σ τ3 := ⟨sqFr_tr fr2.1 (sqFr_mono h3.2.1 (by decide) (by decide)), sqOut_tr fr2.2 (fr2.1.1 12 (by decide)) h3.2.2⟩
          rw [u1] at h3
          refine sq_iconst S 0 (by decide) dX0_squeeze_142 ?_
          refine lv_istore_n (lv' := [(1, .int (nI 0)), (3, .int (nI st)), (2, .int (nI i)), (0, .ref (a 20))]) S.1 S.2.1 dX0_squeeze_143 rfl hl (by decide) rfl (fun ls hl => ?_)
          refine lv_iinc (v := (nI (i + 1))) (lv' := [(2, .int (nI (i + 1))), (1, .int (nI 0)), (3, .int (nI st)), (0, .ref (a 20))]) S.1 S.2.1 dX0_squeeze_144 hl (k := 2) rfl (sq_inc1 _) (by decide) rfl (fun ls hl => ?_)
          refine lv_iinc (v := (nI (st + 1))) (lv' := [(3, .int (nI (st + 1))), (2, .int (nI (i + 1))), (1, .int (nI 0)), (0, .ref (a 20))]) S.1 S.2.1 dX0_squeeze_147 hl (k := 2) rfl (sq_inc1 _) (by decide) rfl (fun ls hl => ?_)
          refine sq_goto S 48 dX0_squeeze_150 (by decide) ?_
          refine ih (i + 1) 0 (st + 1) _ (kc + 1 + 8) τ3 _ _ ls (by omega) (by omega) (by omega) (by decide) (EC_tree _ _ _ _ (EC_step _ hE)) (by omega) w h3.1 fr3 (lv_sub hl [0, 1, 2, 3] rfl) (fun ts τ H locs ls w ht hn9 hfr hl => ?_)
          exact K ((0, σ.2 1 i) :: ts) τ _ _ ls w (Or.inl ⟨rfl, by omega, rfl, ht⟩) (by rw [tkd_lit]; exact hn9) hfr hl
        · refine sq_aloadn S dX0_squeeze_75 rfl (lv_at hl 3 rfl) ?_
          refine sq_iloadn S dX0_squeeze_76 rfl (lv_at hl 2 rfl) ?_
          refine sq_iconst S 1 (by decide) dX0_squeeze_77 ?_
          have m4 := m3 (by omega)
          obtain ⟨m5, m6, m7, m8⟩ := m4
          refine sq_callv S w (metX0_writeBit l D a cA τ1 b 1 e0 kc (by omega) (by decide) hn1 hE (by omega)) (cwV 2 S.2.2.2.2 (lw_V q111 q113 qs3 q15 q114) rfl rfl rfl (by decide +kernel) ⟨Nat.le_of_ble_eq_true rfl, Nat.le_of_ble_eq_true rfl⟩) (va_recv w.1 w.2.1 (ci := 0) (q0 := 0) rfl rfl) rfl hl.1 rfl (Nat.le_of_ble_eq_true rfl) ⟨Nat.zero_le _, Nat.zero_le _⟩ dX0_squeeze_78 (fun τ2 H locs h2 w => ?_)
          have fr2 : sqFr [8, 9, 10, 11, 13, 16, 17] [6, 7] σ τ2 ∧ sqOut σ τ2 := ⟨sqFr_tr fr1.1 (sqFr_mono h2.2.1 (by decide) (by decide)), sqOut_tr fr1.2 (fr1.1.1 12 (by decide)) h2.2.2⟩
          have u16 : τ2.1 16 = τ1.1 16 := h2.2.1.1 16 (by decide)
          have u17 : τ2.1 17 = τ1.1 17 := h2.2.1.1 17 (by decide)
          refine sq_aloadn S dX0_squeeze_81 rfl (lv_at hl 3 rfl) ?_
          refine sq_sipush S 322 (by decide) dX0_squeeze_82 ?_
          refine sq_iconst S 3 (by decide) dX0_squeeze_85 ?_
          refine sq_aloadn S dX0_squeeze_86 rfl (lv_at hl 3 rfl) ?_
          refine gX0_16 (v := τ1.1 16) S w u16 dX0_squeeze_87 ?_
          refine sq_iconst S 2 (by decide) dX0_squeeze_90 ?_
          refine sq_isub S (by omega) dX0_squeeze_91 ?_
          refine sq_callv S w (metX0_writeTree l D a cA τ2 322 3 (τ1.1 16 - 2) _ (kc + 1) (by decide) (by decide) (by omega) h2.1 (EC_step _ hE) (by omega)) (cwV 3 S.2.2.2.2 (lw_V q107 q109 qs2 q15 q110) rfl rfl rfl (by decide +kernel) ⟨Nat.le_of_ble_eq_true rfl, Nat.le_of_ble_eq_true rfl⟩) (va_recv w.1 w.2.1 (ci := 0) (q0 := 0) rfl rfl) rfl hl.1 rfl (Nat.le_of_ble_eq_true rfl) ⟨Nat.zero_le _, Nat.zero_le _⟩ dX0_squeeze_92 (fun τ3 H locs h3 w => ?_)
          have fr3 : sqFr [8, 9, 10, 11, 13, 16, 17] [6, 7] σ τ3 ∧ sqOut σ τ3 := ⟨sqFr_tr fr2.1 (sqFr_mono h3.2.1 (by decide) (by decide)), sqOut_tr fr2.2 (fr2.1.1 12 (by decide)) h3.2.2⟩
          have p16 : τ3.1 16 = τ1.1 16 := (h3.2.1.1 16 (by decide)).trans u16
          have p17 : τ3.1 17 = τ1.1 17 := (h3.2.1.1 17 (by decide)).trans u17
          refine sq_aloadn S dX0_squeeze_95 rfl (lv_at hl 3 rfl) ?_
          refine sq_sipush S 330 (by decide) dX0_squeeze_96 ?_
          refine sq_bipush S 6 (by decide) dX0_squeeze_99 ?_
          refine sq_aloadn S dX0_squeeze_101 rfl (lv_at hl 3 rfl) ?_
          refine gX0_17 (v := τ1.1 17) S w p17 dX0_squeeze_102 ?_
          refine sq_iconst S 1 (by decide) dX0_squeeze_105 ?_
          refine sq_isub S (by omega) dX0_squeeze_106 ?_
          refine sq_callv S w (metX0_writeTree l D a cA τ3 330 6 (τ1.1 17 - 1) _ (kc + 1 + 3) (by decide) (by decide) (by omega) h3.1 (EC_tree _ _ _ _ (EC_step _ hE)) (by omega)) (cwV 3 S.2.2.2.2 (lw_V q107 q109 qs2 q15 q110) rfl rfl rfl (by decide +kernel) ⟨Nat.le_of_ble_eq_true rfl, Nat.le_of_ble_eq_true rfl⟩) (va_recv w.1 w.2.1 (ci := 0) (q0 := 0) rfl rfl) rfl hl.1 rfl (Nat.le_of_ble_eq_true rfl) ⟨Nat.zero_le _, Nat.zero_le _⟩ dX0_squeeze_107 (fun τ4 H locs h4 w => ?_)
          have fr4 : sqFr [8, 9, 10, 11, 13, 16, 17] [6, 7] σ τ4 ∧ sqOut σ τ4 := ⟨sqFr_tr fr3.1 (sqFr_mono h4.2.1 (by decide) (by decide)), sqOut_tr fr3.2 (fr3.1.1 12 (by decide)) h4.2.2⟩
          have r16 : τ4.1 16 = τ1.1 16 := (h4.2.1.1 16 (by decide)).trans p16
          refine sq_iconst S 1 (by decide) dX0_squeeze_110 ?_
          refine lv_istore_n (lv' := [(1, .int (nI 1)), (3, .int (nI st)), (2, .int (nI i)), (0, .ref (a 20))]) S.1 S.2.1 dX0_squeeze_111 rfl hl (by decide) rfl (fun ls hl => ?_)
          refine sq_iloadn S dX0_squeeze_112 rfl (lv_at hl 2 rfl) ?_
          refine sq_aloadn S dX0_squeeze_113 rfl (lv_at hl 3 rfl) ?_
          refine gX0_16 (v := τ1.1 16) S w r16 dX0_squeeze_114 ?_
          refine sq_iadd S dX0_squeeze_117 ?_
          refine lv_istore_n (lv' := [(2, .int (nI (i + (τ1.1 16)))), (1, .int (nI 1)), (3, .int (nI st)), (0, .ref (a 20))]) S.1 S.2.1 dX0_squeeze_118 rfl hl (by decide) rfl (fun ls hl => ?_)
          refine sq_goto S 147 dX0_squeeze_119 (by decide) ?_
          refine lv_iinc (v := (nI (st + 1))) (lv' := [(3, .int (nI (st + 1))), (2, .int (nI (i + (τ1.1 16)))), (1, .int (nI 1)), (0, .ref (a 20))]) S.1 S.2.1 dX0_squeeze_147 hl (k := 2) rfl (sq_inc1 _) (by decide) rfl (fun ls hl => ?_)
          refine sq_goto S 48 dX0_squeeze_150 (by decide) ?_
          refine ih (i + τ1.1 16) 1 (st + 1) _ (kc + 1 + 3 + 6) τ4 _ _ ls (by omega) (by omega) (by omega) (by decide) (EC_tree _ _ _ _ (EC_tree _ _ _ _ (EC_step _ hE))) (by omega) w h4.1 fr4 (lv_sub hl [0, 1, 2, 3] rfl) (fun ts τ H locs ls w ht hn9 hfr hl => ?_)
          have m9 : ∀ j, j < τ1.1 16 → σ.2 1 (i + j) = σ.2 1 (i + j - τ1.1 17) := by rw [← e1_]; exact m8
          exact K ((τ1.1 16, τ1.1 17) :: ts) τ _ _ ls w (Or.inr ⟨by show 2 ≤ τ1.1 16; omega, m2, m5, m6, by show i + τ1.1 16 ≤ σ.1 0; omega, m9, ht⟩) (by rw [tkd_mat _ _ _ _ _ (by omega)]; exact hn9) hfr hl
set_option maxHeartbeats 4000000 in
set_option maxRecDepth 100000 in
theorem loopX0_flush {p : Program} {l : Launch} {e : Env} {s : State} {m : MethodId} {args : Array Value} {below : List Frame} {meth : Method} {c : Code} {Q : State → Prop} {D : va_G} {A : Nat → Prop} {H0 : Heap} {a : Nat → Nat} {cA : Nat → ClassId} (S : CallFix p m c cX0_squeeze 4 s args lw_all RX0)  (σ : SqSt) (L n : Nat) (hn : n ≤ 340) (hlw : σ.1 8 < 8589934592 ∧ (σ.1 10 = 255 → σ.1 8 < 4294967296)) (K : ∀ (τ : SqSt) (H : Heap) (locs : List Loc) (ls : Array Slot), sq_wd D A H0 s (tX0 cA) (wX0 a cA τ) H locs → sqFlI σ L n 5 τ → W p l e rmX0_squeeze s m args below meth c H locs 0 0 Q (F0 m 170 ls [])) : ∀ (z k : Nat) (τ : SqSt) (H : Heap) (locs : List Loc) (ls : Array Slot), k ≤ 5 → 5 < k + z → sq_wd D A H0 s (tX0 cA) (wX0 a cA τ) H locs → sqFlI σ L n k τ → lv_has ls 4 [(3, .int (nI k)), (0, .ref (a 20))] → W p l e rmX0_squeeze s m args below meth c H locs 0 0 Q (F0 m 155 ls []) := by
  intro z
  induction z with
  | zero => intro k τ H locs ls hk hz; omega
  | succ z ih =>
    intro k τ H locs ls hk hz w hI hl
    refine sq_iloadn S dX0_squeeze_155 rfl (lv_at hl 0 rfl) ?_
    refine sq_iconst S 5 (by decide) dX0_squeeze_156 ?_
    refine sq_icmp_ge S 170 (by omega) (by omega) dX0_squeeze_157 (by decide) (fun c157 => ?_) (fun c157 => ?_)
    · obtain rfl : k = 5 := by omega
      exact K τ _ _ ls w hI
    · refine sq_aloadn S dX0_squeeze_160 rfl (lv_at hl 1 rfl) ?_
      refine sq_callv S w (metX0_shiftLow l D a cA τ (256 ^ k * L) (n + k) hI.1 (by omega) (sqFl_low hI hlw).1 (sqFl_low hI hlw).2) (cwV 0 S.2.2.2.2 (lw_V q120 q122 qs5 q15 q123) rfl rfl rfl (by decide +kernel) ⟨Nat.le_of_ble_eq_true rfl, Nat.le_of_ble_eq_true rfl⟩) (va_recv w.1 w.2.1 (ci := 0) (q0 := 0) rfl rfl) rfl hl.1 rfl (Nat.le_of_ble_eq_true rfl) ⟨Nat.zero_le _, Nat.zero_le _⟩ dX0_squeeze_161 (fun τ1 H locs hp1 w => ?_)
      refine lv_iinc (v := (nI (k + 1))) (lv' := [(3, .int (nI (k + 1))), (0, .ref (a 20))]) S.1 S.2.1 dX0_squeeze_164 hl (k := 0) rfl (sq_inc1 _) (by decide) rfl (fun ls hl => ?_)
      refine sq_goto S 155 dX0_squeeze_167 (by decide) ?_
      exact ih (k + 1) τ1 _ _ ls (by omega) (by omega) w (sqFl_s hI hp1) hl
set_option maxHeartbeats 4000000 in
set_option maxRecDepth 100000 in
theorem metX0_squeeze (l : Launch) (D : va_G) (a : Nat → Nat) (cA : Nat → ClassId) (σ : SqSt) (hb : σ.1 12 ≤ 1056) (h6 : ∀ j, σ.2 6 j < 256) (hn : σ.1 0 ≤ 48) (hf : ∀ j, j < σ.1 0 → σ.2 1 j < 256) : sqMv l yX0_squeeze (ws_ yX0_squeeze cX0_squeeze 4 none) rmX0_squeeze D (tX0 cA) (wX0 a cA) (a 20) σ [] (fun σ' => sqBlk (σ'.2 6) (σ.1 12) (σ.1 0) (σ.2 1) ∧ (∀ j, σ'.2 6 j < 256) ∧ sqFr [8, 9, 10, 11, 13, 16, 17] [6, 7] σ σ' ∧ sqOut σ σ') := by
  refine sqMv_of (by decide) (Nat.le_of_ble_eq_true rfl) ?_
  intro p e s m args below meth c A ls S hr hlk w hl
  have S : CallFix p m c cX0_squeeze 4 s args lw_all RX0 := S
  have hl : lv_has ls 4 [(0, .ref (a 20))] := hl
  refine sq_aloadn S dX0_squeeze_0 rfl (lv_at hl 0 rfl) ?_
  refine sq_callv S w (metX0_startChances l D a cA σ) (cwV 0 S.2.2.2.2 (lw_V q102 q104 qs1 q15 q105) rfl rfl rfl (by decide +kernel) ⟨Nat.le_of_ble_eq_true rfl, Nat.le_of_ble_eq_true rfl⟩) (va_recv w.1 w.2.1 (ci := 0) (q0 := 0) rfl rfl) rfl hl.1 rfl (Nat.le_of_ble_eq_true rfl) ⟨Nat.zero_le _, Nat.zero_le _⟩ dX0_squeeze_1 (fun τ H locs h1 w => ?_)
  have z0 : τ.1 0 = σ.1 0 := h1.1.1 0 (by decide)
  have z12 : τ.1 12 = σ.1 12 := h1.1.1 12 (by decide)
  have z6 : τ.2 6 = σ.2 6 := h1.1.2 6 (by decide)
  refine sq_aloadn S dX0_squeeze_4 rfl (lv_at hl 0 rfl) ?_
  refine sq_lconst0 S dX0_squeeze_5 ?_
  refine pX0_8 (v := 0) S w dX0_squeeze_6 (fun H locs w => ?_)
  refine sq_aloadn S dX0_squeeze_9 rfl (lv_at hl 0 rfl) ?_
  refine sq_ldc2 S 4294967295 q106 (by decide) dX0_squeeze_10 ?_
  refine pX0_9 (v := 4294967295) S w dX0_squeeze_13 (fun H locs w => ?_)
  refine sq_aloadn S dX0_squeeze_16 rfl (lv_at hl 0 rfl) ?_
  refine sq_iconst S 0 (by decide) dX0_squeeze_17 ?_
  refine pX0_10 (v := 0) S w dX0_squeeze_18 (fun H locs w => ?_)
  refine sq_aloadn S dX0_squeeze_21 rfl (lv_at hl 0 rfl) ?_
  refine sq_iconst S 1 (by decide) dX0_squeeze_22 ?_
  refine pX0_11 (v := 1) S w dX0_squeeze_23 (fun H locs w => ?_)
  refine sq_aloadn S dX0_squeeze_26 rfl (lv_at hl 0 rfl) ?_
  refine sq_iconst S 0 (by decide) dX0_squeeze_27 ?_
  refine pX0_13 (v := 0) S w dX0_squeeze_28 (fun H locs w => ?_)
  refine sq_aloadn S dX0_squeeze_31 rfl (lv_at hl 0 rfl) ?_
  refine sq_iconst S 2 (by decide) dX0_squeeze_32 ?_
  refine sq_bipush S 6 (by decide) dX0_squeeze_33 ?_
  refine sq_aloadn S dX0_squeeze_35 rfl (lv_at hl 0 rfl) ?_
  refine gX0_0 (v := τ.1 0) S w rfl dX0_squeeze_36 ?_
  have hE0 : sqEn (sqF (sqF (sqF (sqF (sqF τ 8 0) 9 4294967295) 10 0) 11 1) 13 0) sqe0 := sqEn_0 (by show τ.1 12 ≤ 1056; omega) (by show ∀ j, τ.2 6 j < 256; rw [z6]; exact h6) rfl rfl rfl rfl rfl (by show ∀ j, j < 394 → τ.2 7 j = 1024; exact h1.2)
  have fr0 : sqFr [8, 9, 10, 11, 13, 16, 17] [6, 7] σ (sqF (sqF (sqF (sqF (sqF τ 8 0) 9 4294967295) 10 0) 11 1) 13 0) ∧ sqOut σ (sqF (sqF (sqF (sqF (sqF τ 8 0) 9 4294967295) 10 0) 11 1) 13 0) := ⟨sqFr_F 13 _ (by decide) (sqFr_F 11 _ (by decide) (sqFr_F 10 _ (by decide) (sqFr_F 9 _ (by decide) (sqFr_F 8 _ (by decide) (sqFr_mono h1.1 (by decide) (by decide)))))), fun j _ => by show τ.2 6 j = σ.2 6 j; rw [z6]⟩
  refine sq_callv S w (metX0_writeTree l D a cA (sqF (sqF (sqF (sqF (sqF τ 8 0) 9 4294967295) 10 0) 11 1) 13 0) 2 6 (τ.1 0) sqe0 0 (by decide) (by decide) (by omega) hE0 EC_0 (by decide)) (cwV 3 S.2.2.2.2 (lw_V q107 q109 qs2 q15 q110) rfl rfl rfl (by decide +kernel) ⟨Nat.le_of_ble_eq_true rfl, Nat.le_of_ble_eq_true rfl⟩) (va_recv w.1 w.2.1 (ci := 0) (q0 := 0) rfl rfl) rfl hl.1 rfl (Nat.le_of_ble_eq_true rfl) ⟨Nat.zero_le _, Nat.zero_le _⟩ dX0_squeeze_39 (fun τ2 H locs h2 w => ?_)
  have fr2 : sqFr [8, 9, 10, 11, 13, 16, 17] [6, 7] σ τ2 ∧ sqOut σ τ2 := ⟨sqFr_tr fr0.1 (sqFr_mono h2.2.1 (by decide) (by decide)), sqOut_tr fr0.2 (fr0.1.1 12 (by decide)) h2.2.2⟩
  rw [z0] at h2
  refine sq_iconst S 0 (by decide) dX0_squeeze_42 ?_
  refine lv_istore_n (lv' := [(1, .int (nI 0)), (0, .ref (a 20))]) S.1 S.2.1 dX0_squeeze_43 rfl hl (by decide) rfl (fun ls hl => ?_)
  refine sq_iconst S 0 (by decide) dX0_squeeze_44 ?_
  refine lv_istore_n (lv' := [(2, .int (nI 0)), (1, .int (nI 0)), (0, .ref (a 20))]) S.1 S.2.1 dX0_squeeze_45 rfl hl (by decide) rfl (fun ls hl => ?_)
  refine sq_iconst S 0 (by decide) dX0_squeeze_46 ?_
  refine lv_istore_n (lv' := [(3, .int (nI 0)), (2, .int (nI 0)), (1, .int (nI 0)), (0, .ref (a 20))]) S.1 S.2.1 dX0_squeeze_47 rfl hl (by decide) rfl (fun ls hl => ?_)
  refine loopX0_squeeze S σ hn hf 49 0 0 0 _ 6 τ2 _ _ ls (by omega) (by omega) (by omega) (by decide) (EC_tree 2 (σ.1 0) 6 1 EC_0) (by decide) w h2.1 fr2 (lv_sub hl [0, 1, 2, 3] rfl) (fun ts τ3 H locs ls w ht hn3 fr3 hl => ?_)
  rw [← esF_app] at hn3
  have hcap := sq_cap hn ht
  have hEC := EC_fold (trd 2 (σ.1 0) 6 1 ++ tkd ts 0) EC_0
  have hlw := sqEn_low hn3 (Nat.le_trans (by decide) hEC.1)
  refine sq_iconst S 0 (by decide) dX0_squeeze_153 ?_
  refine lv_istore_n (lv' := [(3, .int (nI 0)), (0, .ref (a 20))]) S.1 S.2.1 dX0_squeeze_154 rfl hl (by decide) rfl (fun ls hl => ?_)
  refine loopX0_flush S τ3 _ _ hcap hlw (fun τ4 H locs ls w hI => ?_) 6 0 τ3 _ _ ls (by decide) (by decide) w (sqFl_0 hn3.1) hl
  have y12 : τ4.1 12 = σ.1 12 := (hI.2.2.2.2.1.1 12 (by decide)).trans (fr3.1.1 12 (by decide))
  have hV := sqFl_end hI
  rw [y12] at hV
  exact sq_vret S hr hlk w ⟨⟨hn, hf, ts, ht, hV⟩, hI.1.2.2.2.2.2, sqFr_tr fr3.1 (sqFr_mono hI.2.2.2.2.1 (by decide) (by decide)), sqOut_tr fr3.2 (fr3.1.1 12 (by decide)) hI.2.2.2.2.2⟩ dX0_squeeze_170
end
section
set_option maxHeartbeats 4000000 in
set_option maxRecDepth 100000 in
theorem loopX0_five {p : Program} {l : Launch} {e : Env} {s : State} {m : MethodId} {args : Array Value} {below : List Frame} {meth : Method} {c : Code} {Q : State → Prop} {D : va_G} {A : Nat → Prop} {H0 : Heap} {a : Nat → Nat} {cA : Nat → ClassId} (S : CallFix p m c cX0_unsqueeze 6 s args lw_all RX0)  (σ : SqSt) (hb : σ.1 12 ≤ 1056) (h6 : ∀ j, σ.2 6 j < 256) (hV : sqV (σ.2 6) (σ.1 12) 5 < 4294967296) (K : ∀ (τ : SqSt) (H : Heap) (locs : List Loc) (ls : Array Slot), sq_wd D A H0 s (tX0 cA) (wX0 a cA τ) H locs → (sqFr [14, 15] [] σ τ ∧ τ.1 15 = 5 ∧ τ.1 14 = sqV (σ.2 6) (σ.1 12) 5) → lv_has ls 6 [(0, .ref (a 20))] → W p l e rmX0_unsqueeze s m args below meth c H locs 0 0 Q (F0 m 57 ls [])) : ∀ (z k : Nat) (τ : SqSt) (H : Heap) (locs : List Loc) (ls : Array Slot), k ≤ 5 → 5 < k + z → sq_wd D A H0 s (tX0 cA) (wX0 a cA τ) H locs → (sqFr [14, 15] [] σ τ ∧ τ.1 15 = k ∧ τ.1 14 = sqV (σ.2 6) (σ.1 12) k) → lv_has ls 6 [(1, .int (nI k)), (0, .ref (a 20))] → W p l e rmX0_unsqueeze s m args below meth c H locs 0 0 Q (F0 m 23 ls []) := by
  intro z
  induction z with
  | zero => intro k τ H locs ls hk hz; omega
  | succ z ih =>
    intro k τ H locs ls hk hz w hI hl
    obtain ⟨i1, i2, i3⟩ := hI
    have e12 : τ.1 12 = σ.1 12 := i1.1 12 (by decide)
    have e6 : τ.2 6 = σ.2 6 := i1.2 6 (by decide)
    refine sq_iloadn S dX0_unsqueeze_23 rfl (lv_at hl 0 rfl) ?_
    refine sq_iconst S 5 (by decide) dX0_unsqueeze_24 ?_
    refine sq_icmp_ge S 57 (by omega) (by omega) dX0_unsqueeze_25 (by decide) (fun c25 => ?_) (fun c25 => ?_)
    · obtain rfl : k = 5 := by omega
      exact K τ _ _ ls w ⟨i1, i2, i3⟩ (lv_sub hl [1] rfl)
    · refine sq_aloadn S dX0_unsqueeze_28 rfl (lv_at hl 1 rfl) ?_
      have hm : sqV (σ.2 6) (σ.1 12) (k + 1) ≤ sqV (σ.2 6) (σ.1 12) 5 := by have := sqV_mono (σ.2 6) (σ.1 12) (k + 1) (4 - k); rw [show k + 1 + (4 - k) = 5 by omega] at this; exact this
      have hs : sqV (σ.2 6) (σ.1 12) (k + 1) = 256 * sqV (σ.2 6) (σ.1 12) k + σ.2 6 (σ.1 12 + k) := rfl
      have hb2 := h6 (σ.1 12 + k)
      refine sq_calli S w (metX0_takeByte l D a cA τ (by omega) (by omega) (by rw [e6]; exact h6)) (cwV 0 S.2.2.2.2 (lw_V q146 q148 qs10 q15 q149) rfl rfl rfl (by decide +kernel) ⟨Nat.le_of_ble_eq_true rfl, Nat.le_of_ble_eq_true rfl⟩) (va_recv w.1 w.2.1 (ci := 0) (q0 := 0) rfl rfl) rfl hl.1 rfl (Nat.le_of_ble_eq_true rfl) ⟨Nat.zero_le _, Nat.zero_le _⟩ dX0_unsqueeze_29 (fun r1 τ1 H locs hp1 w => ?_)
      obtain ⟨rfl, hp1⟩ := hp1
      rw [e12, i2, e6]
      have u14 : τ1.1 14 = τ.1 14 := by rw [hp1]; rfl
      refine lv_istore_n (lv' := [(2, .int (nI (σ.2 6 (σ.1 12 + k)))), (1, .int (nI k)), (0, .ref (a 20))]) S.1 S.2.1 dX0_unsqueeze_32 rfl hl (by decide) rfl (fun ls hl => ?_)
      refine sq_aloadn S dX0_unsqueeze_33 rfl (lv_at hl 2 rfl) ?_
      refine sq_aloadn S dX0_unsqueeze_34 rfl (lv_at hl 2 rfl) ?_
      refine gX0_14 (v := τ1.1 14) S w rfl dX0_unsqueeze_35 ?_
      refine sq_bipush S 8 (by decide) dX0_unsqueeze_38 ?_
      refine sq_lshl S 256 (by decide) (by decide) dX0_unsqueeze_40 ?_
      refine sq_iloadn S dX0_unsqueeze_41 rfl (lv_at hl 0 rfl) ?_
      refine sq_i2l S (by omega) dX0_unsqueeze_42 ?_
      refine sq_lor S 8 256 (by decide) (by omega) (by omega) dX0_unsqueeze_43 ?_
      refine sq_ldc2 S 4294967295 q106 (by decide) dX0_unsqueeze_44 ?_
      refine sq_land S 32 4294967296 (by decide) (by decide) (by decide) (by omega) dX0_unsqueeze_47 ?_
      refine pX0_14 (v := ((τ1.1 14) * 256 + (σ.2 6 (σ.1 12 + k))) % 4294967296) S w dX0_unsqueeze_48 (fun H locs w => ?_)
      refine lv_iinc (v := (nI (k + 1))) (lv' := [(1, .int (nI (k + 1))), (2, .int (nI (σ.2 6 (σ.1 12 + k)))), (0, .ref (a 20))]) S.1 S.2.1 dX0_unsqueeze_51 hl (k := 1) rfl (sq_inc1 _) (by decide) rfl (fun ls hl => ?_)
      refine sq_goto S 23 dX0_unsqueeze_54 (by decide) ?_
      refine ih (k + 1) _ _ _ ls (by omega) (by omega) w ⟨?_, ?_, ?_⟩ (lv_sub hl [0, 2] rfl)
      · rw [hp1]; exact sqFr_F 14 _ (by decide) (sqFr_F 15 _ (by decide) i1)
      · rw [hp1]; show τ.1 15 + 1 = k + 1; omega
      · show (τ1.1 14 * 256 + σ.2 6 (σ.1 12 + k)) % 4294967296 = _
        omega
set_option maxHeartbeats 4000000 in
set_option maxRecDepth 100000 in
theorem loopX0_tokens {p : Program} {l : Launch} {e : Env} {s : State} {m : MethodId} {args : Array Value} {below : List Frame} {meth : Method} {c : Code} {Q : State → Prop} {D : va_G} {A : Nat → Prop} {H0 : Heap} {a : Nat → Nat} {cA : Nat → ClassId} (S : CallFix p m c cX0_unsqueeze 6 s args lw_all RX0)  (σ : SqSt) (n : Nat) (f : Nat → Nat) (hn : n ≤ 48) (hf : ∀ j, j < n → f j < 256) (K : ∀ (τ : SqSt) (H : Heap) (locs : List Loc) (ls : Array Slot), sq_wd D A H0 s (tX0 cA) (wX0 a cA τ) H locs → τ.1 2 = n → (∀ j, j < n → τ.2 3 j = f j) → (sqFr [2, 9, 14, 15] [3, 7] σ τ) → W p l e rmX0_unsqueeze s m args below meth c H locs 0 0 Q (F0 m 172 ls [])) : ∀ (ts : List (Nat × Nat)) (i b st : Nat) (e0 : SqE) (kc : Nat) (τ : SqSt) (H : Heap) (locs : List Loc) (ls : Array Slot), tkO f n ts i → st ≤ i → b ≤ 1 → EC e0 kc → sq_wd D A H0 s (tX0 cA) (wX0 a cA τ) H locs → sqDe τ e0 (tkd ts b) → τ.1 2 = i → (∀ j, j < i → τ.2 3 j = f j) → (sqFr [2, 9, 14, 15] [3, 7] σ τ) → lv_has ls 6 [(3, .int (nI st)), (2, .int (nI b)), (1, .int (nI n)), (0, .ref (a 20))] → W p l e rmX0_unsqueeze s m args below meth c H locs 0 0 Q (F0 m 74 ls []) := by
  intro ts
  induction ts with
  | nil =>
    intro i b st e0 kc τ _ _ ls ht hst hb hE w hd h2 h3 hfr hl
    obtain rfl : i = n := ht
    refine sq_iloadn S dX0_unsqueeze_74 rfl (lv_at hl 0 rfl) ?_
    refine sq_bipush S 48 (by decide) dX0_unsqueeze_75 ?_
    refine sq_icmp_ge S 172 (by omega) (by omega) dX0_unsqueeze_77 (by decide) (fun c77 => ?_) (fun c77 => ?_)
    · exact K τ _ _ ls w h2 h3 hfr
    · refine sq_aloadn S dX0_unsqueeze_80 rfl (lv_at hl 3 rfl) ?_
      refine gX0_2 (v := τ.1 2) S w rfl dX0_unsqueeze_81 ?_
      refine sq_iloadn S dX0_unsqueeze_84 rfl (lv_at hl 2 rfl) ?_
      refine sq_icmp_ge S 172 (by omega) (by omega) dX0_unsqueeze_85 (by decide) (fun c85 => ?_) (fun c85 => ?_)
      · exact K τ _ _ ls w h2 h3 hfr
      · exact absurd c85 (by omega)
  | cons t r ih =>
    intro i b st e0 kc τ _ _ ls ht hst hb hE w hd h2 h3 hfr hl
    rcases ht with ⟨a1, a2, a3, a4⟩ | ⟨a1, a2, a3, a4, a5, a6, a7⟩
    · have hd1 : sqDe τ e0 ((b, 0) :: (trd 66 t.2 8 1 ++ tkd r 0)) := by
        unfold tkd at hd
        rw [if_pos a1] at hd
        exact hd
      have hfi := hf i a2
      refine sq_iloadn S dX0_unsqueeze_74 rfl (lv_at hl 0 rfl) ?_
      refine sq_bipush S 48 (by decide) dX0_unsqueeze_75 ?_
      refine sq_icmp_ge S 172 (by omega) (by omega) dX0_unsqueeze_77 (by decide) (fun c77 => ?_) (fun c77 => ?_)
      · exact absurd c77 (by omega)
      · refine sq_aloadn S dX0_unsqueeze_80 rfl (lv_at hl 3 rfl) ?_
        refine gX0_2 (v := τ.1 2) S w rfl dX0_unsqueeze_81 ?_
        refine sq_iloadn S dX0_unsqueeze_84 rfl (lv_at hl 2 rfl) ?_
        refine sq_icmp_ge S 172 (by omega) (by omega) dX0_unsqueeze_85 (by decide) (fun c85 => ?_) (fun c85 => ?_)
        · exact absurd c85 (by omega)
        · refine sq_aloadn S dX0_unsqueeze_88 rfl (lv_at hl 3 rfl) ?_
          refine sq_iloadn S dX0_unsqueeze_89 rfl (lv_at hl 1 rfl) ?_
          refine sq_calli S w (metX0_readBit l D a cA τ b 0 (trd 66 t.2 8 1 ++ tkd r 0) e0 kc hd1 hE) (cwV 1 S.2.2.2.2 (lw_V q154 q156 qs12 q15 q157) rfl rfl rfl (by decide +kernel) ⟨Nat.le_of_ble_eq_true rfl, Nat.le_of_ble_eq_true rfl⟩) (va_recv w.1 w.2.1 (ci := 0) (q0 := 0) rfl rfl) rfl hl.1 rfl (Nat.le_of_ble_eq_true rfl) ⟨Nat.zero_le _, Nat.zero_le _⟩ dX0_unsqueeze_90 (fun r1 τ1 H locs hp1 w => ?_)
          obtain ⟨rfl, hd2, f1⟩ := hp1
          have fr1 : sqFr [2, 9, 14, 15] [3, 7] σ τ1 := sqFr_tr hfr (sqFr_mono f1 (by decide) (by decide))
          have p2 : τ1.1 2 = i := (f1.1 2 (by decide)).trans h2
          have p3 : τ1.2 3 = τ.2 3 := f1.2 3 (by decide)
          refine lv_istore_n (lv' := [(2, .int (nI 0)), (3, .int (nI st)), (1, .int (nI n)), (0, .ref (a 20))]) S.1 S.2.1 dX0_unsqueeze_93 rfl hl (by decide) rfl (fun ls hl => ?_)
          refine sq_iloadn S dX0_unsqueeze_94 rfl (lv_at hl 0 rfl) ?_
          refine sq_iconst S 1 (by decide) dX0_unsqueeze_95 ?_
          refine sq_icmp_ne S 135 (by omega) (by omega) dX0_unsqueeze_96 (by decide) (fun c96 => ?_) (fun c96 => ?_)
          · refine sq_aloadn S dX0_unsqueeze_135 rfl (lv_at hl 3 rfl) ?_
            refine sq_bipush S 66 (by decide) dX0_unsqueeze_136 ?_
            refine sq_bipush S 8 (by decide) dX0_unsqueeze_138 ?_
            refine sq_calli S w (metX0_readTree l D a cA τ1 66 8 t.2 (tkd r 0) _ (kc + 1) (by decide) (by decide) (by rw [a3]; exact hfi) hd2 (EC_step _ hE)) (cwV 2 S.2.2.2.2 (lw_V q150 q152 qs11 q15 q153) rfl rfl rfl (by decide +kernel) ⟨Nat.le_of_ble_eq_true rfl, Nat.le_of_ble_eq_true rfl⟩) (va_recv w.1 w.2.1 (ci := 0) (q0 := 0) rfl rfl) rfl hl.1 rfl (Nat.le_of_ble_eq_true rfl) ⟨Nat.zero_le _, Nat.zero_le _⟩ dX0_unsqueeze_140 (fun r1 τ2 H locs hp2 w => ?_)
            obtain ⟨rfl, hd3, f2⟩ := hp2
            have fr2 : sqFr [2, 9, 14, 15] [3, 7] σ τ2 := sqFr_tr fr1 (sqFr_mono f2 (by decide) (by decide))
            have o2 : τ2.1 2 = i := (f2.1 2 (by decide)).trans p2
            have o3 : τ2.2 3 = τ.2 3 := (f2.2 3 (by decide)).trans p3
            refine lv_istore (lv' := [(4, .int (nI t.2)), (2, .int (nI 0)), (3, .int (nI st)), (1, .int (nI n)), (0, .ref (a 20))]) S.1 S.2.1 dX0_unsqueeze_143 hl (by decide) rfl (fun ls hl => ?_)
            refine sq_aloadn S dX0_unsqueeze_145 rfl (lv_at hl 4 rfl) ?_
            refine gX0_3 S w dX0_unsqueeze_146 ?_
            refine sq_aloadn S dX0_unsqueeze_149 rfl (lv_at hl 4 rfl) ?_
            refine gX0_2 (v := i) S w o2 dX0_unsqueeze_150 ?_
            refine sq_iload S dX0_unsqueeze_153 (lv_at hl 0 rfl) ?_
            refine sX0_3 (v := t.2) S w (by omega) dX0_unsqueeze_155 (fun H locs w => ?_)
            refine sq_aloadn S dX0_unsqueeze_156 rfl (lv_at hl 4 rfl) ?_
            refine sq_dup S rfl dX0_unsqueeze_157 ?_
            refine gX0_2 (v := i) S w o2 dX0_unsqueeze_158 ?_
            refine sq_iconst S 1 (by decide) dX0_unsqueeze_161 ?_
            refine sq_iadd S dX0_unsqueeze_162 ?_
            refine pX0_2 (v := i + 1) S w dX0_unsqueeze_163 (fun H locs w => ?_)
            refine lv_iinc (v := (nI (st + 1))) (lv' := [(3, .int (nI (st + 1))), (4, .int (nI t.2)), (2, .int (nI 0)), (1, .int (nI n)), (0, .ref (a 20))]) S.1 S.2.1 dX0_unsqueeze_166 hl (k := 2) rfl (sq_inc1 _) (by decide) rfl (fun ls hl => ?_)
            refine sq_goto S 74 dX0_unsqueeze_169 (by decide) ?_
            refine ih (i + 1) 0 (st + 1) _ (kc + 1 + 8) _ _ _ ls a4 (by omega) (by decide) (EC_tree _ _ _ _ (EC_step _ hE)) w (sqDe_fr hd3 (sqFr_F 2 _ (by decide) (sqFr_A 3 _ _ (by decide) (sqFr_rf τ2)))) rfl (fun j hj => ?_) (sqFr_F 2 _ (by decide) (sqFr_A 3 _ _ (by decide) fr2)) (lv_sub hl [0, 2, 3, 4] rfl)
            show sqU (τ2.2 3) i t.2 j = f j
            by_cases q : j = i
            · rw [q, sqU_s]; exact a3
            · rw [sqU_n _ _ q, o3]; exact h3 j (by omega)
          · exact absurd c96 (by decide)
    · have hd1 : sqDe τ e0 ((b, 1) :: (trd 322 (t.1 - 2) 3 1 ++ (trd 330 (t.2 - 1) 6 1 ++ tkd r 1))) := by
        unfold tkd at hd
        rw [if_neg (by omega)] at hd
        exact hd
      refine sq_iloadn S dX0_unsqueeze_74 rfl (lv_at hl 0 rfl) ?_
      refine sq_bipush S 48 (by decide) dX0_unsqueeze_75 ?_
      refine sq_icmp_ge S 172 (by omega) (by omega) dX0_unsqueeze_77 (by decide) (fun c77 => ?_) (fun c77 => ?_)
      · exact absurd c77 (by omega)
      · refine sq_aloadn S dX0_unsqueeze_80 rfl (lv_at hl 3 rfl) ?_
        refine gX0_2 (v := τ.1 2) S w rfl dX0_unsqueeze_81 ?_
        refine sq_iloadn S dX0_unsqueeze_84 rfl (lv_at hl 2 rfl) ?_
        refine sq_icmp_ge S 172 (by omega) (by omega) dX0_unsqueeze_85 (by decide) (fun c85 => ?_) (fun c85 => ?_)
        · exact absurd c85 (by omega)
        · refine sq_aloadn S dX0_unsqueeze_88 rfl (lv_at hl 3 rfl) ?_
          refine sq_iloadn S dX0_unsqueeze_89 rfl (lv_at hl 1 rfl) ?_
          refine sq_calli S w (metX0_readBit l D a cA τ b 1 (trd 322 (t.1 - 2) 3 1 ++ (trd 330 (t.2 - 1) 6 1 ++ tkd r 1)) e0 kc hd1 hE) (cwV 1 S.2.2.2.2 (lw_V q154 q156 qs12 q15 q157) rfl rfl rfl (by decide +kernel) ⟨Nat.le_of_ble_eq_true rfl, Nat.le_of_ble_eq_true rfl⟩) (va_recv w.1 w.2.1 (ci := 0) (q0 := 0) rfl rfl) rfl hl.1 rfl (Nat.le_of_ble_eq_true rfl) ⟨Nat.zero_le _, Nat.zero_le _⟩ dX0_unsqueeze_90 (fun r1 τ1 H locs hp1 w => ?_)
          obtain ⟨rfl, hd2, f1⟩ := hp1
          have fr1 : sqFr [2, 9, 14, 15] [3, 7] σ τ1 := sqFr_tr hfr (sqFr_mono f1 (by decide) (by decide))
          have p2 : τ1.1 2 = i := (f1.1 2 (by decide)).trans h2
          have p3 : τ1.2 3 = τ.2 3 := f1.2 3 (by decide)
          refine lv_istore_n (lv' := [(2, .int (nI 1)), (3, .int (nI st)), (1, .int (nI n)), (0, .ref (a 20))]) S.1 S.2.1 dX0_unsqueeze_93 rfl hl (by decide) rfl (fun ls hl => ?_)
          refine sq_iloadn S dX0_unsqueeze_94 rfl (lv_at hl 0 rfl) ?_
          refine sq_iconst S 1 (by decide) dX0_unsqueeze_95 ?_
          refine sq_icmp_ne S 135 (by omega) (by omega) dX0_unsqueeze_96 (by decide) (fun c96 => ?_) (fun c96 => ?_)
          · exact absurd rfl c96
          · refine sq_aloadn S dX0_unsqueeze_99 rfl (lv_at hl 3 rfl) ?_
            refine sq_sipush S 322 (by decide) dX0_unsqueeze_100 ?_
            refine sq_iconst S 3 (by decide) dX0_unsqueeze_103 ?_
            refine sq_calli S w (metX0_readTree l D a cA τ1 322 3 (t.1 - 2) (trd 330 (t.2 - 1) 6 1 ++ tkd r 1) _ (kc + 1) (by decide) (by decide) (by show t.1 - 2 < 8; omega) hd2 (EC_step _ hE)) (cwV 2 S.2.2.2.2 (lw_V q150 q152 qs11 q15 q153) rfl rfl rfl (by decide +kernel) ⟨Nat.le_of_ble_eq_true rfl, Nat.le_of_ble_eq_true rfl⟩) (va_recv w.1 w.2.1 (ci := 0) (q0 := 0) rfl rfl) rfl hl.1 rfl (Nat.le_of_ble_eq_true rfl) ⟨Nat.zero_le _, Nat.zero_le _⟩ dX0_unsqueeze_104 (fun r1 τ2 H locs hp2 w => ?_)
            obtain ⟨rfl, hd3, f2⟩ := hp2
            have fr2 : sqFr [2, 9, 14, 15] [3, 7] σ τ2 := sqFr_tr fr1 (sqFr_mono f2 (by decide) (by decide))
            have o2 : τ2.1 2 = i := (f2.1 2 (by decide)).trans p2
            have o3 : τ2.2 3 = τ.2 3 := (f2.2 3 (by decide)).trans p3
            refine sq_iconst S 2 (by decide) dX0_unsqueeze_107 ?_
            refine sq_iadd S dX0_unsqueeze_108 ?_
            refine lv_istore (lv' := [(4, .int (nI ((t.1 - 2) + 2))), (2, .int (nI 1)), (3, .int (nI st)), (1, .int (nI n)), (0, .ref (a 20))]) S.1 S.2.1 dX0_unsqueeze_109 hl (by decide) rfl (fun ls hl => ?_)
            refine sq_aloadn S dX0_unsqueeze_111 rfl (lv_at hl 4 rfl) ?_
            refine sq_sipush S 330 (by decide) dX0_unsqueeze_112 ?_
            refine sq_bipush S 6 (by decide) dX0_unsqueeze_115 ?_
            refine sq_calli S w (metX0_readTree l D a cA τ2 330 6 (t.2 - 1) (tkd r 1) _ (kc + 1 + 3) (by decide) (by decide) (by show t.2 - 1 < 64; omega) hd3 (EC_tree _ _ _ _ (EC_step _ hE))) (cwV 2 S.2.2.2.2 (lw_V q150 q152 qs11 q15 q153) rfl rfl rfl (by decide +kernel) ⟨Nat.le_of_ble_eq_true rfl, Nat.le_of_ble_eq_true rfl⟩) (va_recv w.1 w.2.1 (ci := 0) (q0 := 0) rfl rfl) rfl hl.1 rfl (Nat.le_of_ble_eq_true rfl) ⟨Nat.zero_le _, Nat.zero_le _⟩ dX0_unsqueeze_117 (fun r3 τ3 H locs hp3 w => ?_)
            obtain ⟨rfl, hd4, f3⟩ := hp3
            have fr3 : sqFr [2, 9, 14, 15] [3, 7] σ τ3 := sqFr_tr fr2 (sqFr_mono f3 (by decide) (by decide))
            have n2 : τ3.1 2 = i := (f3.1 2 (by decide)).trans o2
            have n3 : τ3.2 3 = τ.2 3 := (f3.2 3 (by decide)).trans o3
            refine sq_iconst S 1 (by decide) dX0_unsqueeze_120 ?_
            refine sq_iadd S dX0_unsqueeze_121 ?_
            refine lv_istore (lv' := [(5, .int (nI ((t.2 - 1) + 1))), (4, .int (nI ((t.1 - 2) + 2))), (2, .int (nI 1)), (3, .int (nI st)), (1, .int (nI n)), (0, .ref (a 20))]) S.1 S.2.1 dX0_unsqueeze_122 hl (by decide) rfl (fun ls hl => ?_)
            refine sq_aloadn S dX0_unsqueeze_124 rfl (lv_at hl 5 rfl) ?_
            refine sq_iload S dX0_unsqueeze_125 (lv_at hl 1 rfl) ?_
            refine sq_iload S dX0_unsqueeze_127 (lv_at hl 0 rfl) ?_
            refine sq_callv S w (metX0_copyBack l D a cA τ3 (t.1 - 2 + 2) (t.2 - 1 + 1) f (by omega) (by omega) (by omega) (by rw [n2, n3]; exact h3) (by rw [n2, show t.2 - 1 + 1 = t.2 by omega]; exact fun j hj => a6 j (by omega))) (cwV 2 S.2.2.2.2 (lw_V q158 q160 qs13 q15 q161) rfl rfl rfl (by decide +kernel) ⟨Nat.le_of_ble_eq_true rfl, Nat.le_of_ble_eq_true rfl⟩) (va_recv w.1 w.2.1 (ci := 0) (q0 := 0) rfl rfl) rfl hl.1 rfl (Nat.le_of_ble_eq_true rfl) ⟨Nat.zero_le _, Nat.zero_le _⟩ dX0_unsqueeze_129 (fun τ4 H locs hp4 w => ?_)
            obtain ⟨f4, k2, k3⟩ := hp4
            rw [n2] at k2 k3
            refine sq_goto S 166 dX0_unsqueeze_132 (by decide) ?_
            refine lv_iinc (v := (nI (st + 1))) (lv' := [(3, .int (nI (st + 1))), (5, .int (nI ((t.2 - 1) + 1))), (4, .int (nI ((t.1 - 2) + 2))), (2, .int (nI 1)), (1, .int (nI n)), (0, .ref (a 20))]) S.1 S.2.1 dX0_unsqueeze_166 hl (k := 3) rfl (sq_inc1 _) (by decide) rfl (fun ls hl => ?_)
            refine sq_goto S 74 dX0_unsqueeze_169 (by decide) ?_
            exact ih (i + t.1) 1 (st + 1) _ (kc + 1 + 3 + 6) τ4 _ _ ls a7 (by omega) (by decide) (EC_tree _ _ _ _ (EC_tree _ _ _ _ (EC_step _ hE))) w (sqDe_fr hd4 f4) (by omega) (fun j hj => k3 j (by omega)) (sqFr_tr fr3 (sqFr_mono f4 (by decide) (by decide))) (lv_sub hl [0, 3, 4, 5] rfl)
set_option maxHeartbeats 4000000 in
set_option maxRecDepth 100000 in
theorem metX0_unsqueeze (l : Launch) (D : va_G) (a : Nat → Nat) (cA : Nat → ClassId) (σ : SqSt) (n : Nat) (f : Nat → Nat) (hb : σ.1 12 ≤ 1056) (h6 : ∀ j, σ.2 6 j < 256) (hB : sqBlk (σ.2 6) (σ.1 12) n f) : sqMv l yX0_unsqueeze (ws_ yX0_unsqueeze cX0_unsqueeze 6 none) rmX0_unsqueeze D (tX0 cA) (wX0 a cA) (a 20) σ [] (fun σ' => σ'.1 2 = n ∧ (∀ j, j < n → σ'.2 3 j = f j) ∧ sqFr [2, 9, 14, 15] [3, 7] σ σ') := by
  refine sqMv_of (by decide) (Nat.le_of_ble_eq_true rfl) ?_
  intro p e s m args below meth c A ls S hr hlk w hl
  have S : CallFix p m c cX0_unsqueeze 6 s args lw_all RX0 := S
  have hl : lv_has ls 6 [(0, .ref (a 20))] := hl
  obtain ⟨hn, hf, ts, ht, hV⟩ := hB
  have hcap := sq_cap hn ht
  have hI5 := sqI h6 EC_0 (trd 2 n 6 1 ++ tkd ts 0) hV
  have hI5 : 0 ≤ sqV (σ.2 6) (σ.1 12) 5 ∧ sqV (σ.2 6) (σ.1 12) 5 < 0 + 4294967295 := hI5
  refine sq_aloadn S dX0_unsqueeze_0 rfl (lv_at hl 0 rfl) ?_
  refine sq_callv S w (metX0_startChances l D a cA σ) (cwV 0 S.2.2.2.2 (lw_V q102 q104 qs1 q15 q105) rfl rfl rfl (by decide +kernel) ⟨Nat.le_of_ble_eq_true rfl, Nat.le_of_ble_eq_true rfl⟩) (va_recv w.1 w.2.1 (ci := 0) (q0 := 0) rfl rfl) rfl hl.1 rfl (Nat.le_of_ble_eq_true rfl) ⟨Nat.zero_le _, Nat.zero_le _⟩ dX0_unsqueeze_1 (fun τ H locs h1 w => ?_)
  have z12 : τ.1 12 = σ.1 12 := h1.1.1 12 (by decide)
  have z6 : τ.2 6 = σ.2 6 := h1.1.2 6 (by decide)
  refine sq_aloadn S dX0_unsqueeze_4 rfl (lv_at hl 0 rfl) ?_
  refine sq_ldc2 S 4294967295 q106 (by decide) dX0_unsqueeze_5 ?_
  refine pX0_9 (v := 4294967295) S w dX0_unsqueeze_8 (fun H locs w => ?_)
  refine sq_aloadn S dX0_unsqueeze_11 rfl (lv_at hl 0 rfl) ?_
  refine sq_lconst0 S dX0_unsqueeze_12 ?_
  refine pX0_14 (v := 0) S w dX0_unsqueeze_13 (fun H locs w => ?_)
  refine sq_aloadn S dX0_unsqueeze_16 rfl (lv_at hl 0 rfl) ?_
  refine sq_iconst S 0 (by decide) dX0_unsqueeze_17 ?_
  refine pX0_15 (v := 0) S w dX0_unsqueeze_18 (fun H locs w => ?_)
  refine sq_iconst S 0 (by decide) dX0_unsqueeze_21 ?_
  refine lv_istore_n (lv' := [(1, .int (nI 0)), (0, .ref (a 20))]) S.1 S.2.1 dX0_unsqueeze_22 rfl hl (by decide) rfl (fun ls hl => ?_)
  refine loopX0_five S (sqF (sqF (sqF τ 9 4294967295) 14 0) 15 0) (by show τ.1 12 ≤ 1056; omega) (by show ∀ j, τ.2 6 j < 256; rw [z6]; exact h6) (by show sqV (τ.2 6) (τ.1 12) 5 < _; rw [z6, z12]; omega) (fun τ1 H locs ls w hI hl => ?_) 6 0 _ _ _ ls (by decide) (by decide) w ⟨sqFr_rf _, rfl, rfl⟩ hl
  obtain ⟨i1, i2, i3⟩ := hI
  have j12 : τ1.1 12 = σ.1 12 := (i1.1 12 (by decide)).trans z12
  have j6 : τ1.2 6 = σ.2 6 := (i1.2 6 (by decide)).trans z6
  have j9 : τ1.1 9 = 4294967295 := i1.1 9 (by decide)
  have j7 : τ1.2 7 = τ.2 7 := i1.2 7 (by decide)
  have i3 : τ1.1 14 = sqV (τ.2 6) (τ.1 12) 5 := i3
  rw [z6, z12] at i3
  have hd0 : sqDe τ1 sqe0 (trd 2 n 6 1 ++ tkd ts 0) := ⟨j9, fun j hj => by rw [j7]; exact h1.2 j hj, i2, ⟨by rw [j6, j12]; exact hV, by rw [j6, j12, i3]; rfl⟩, by rw [j12]; exact hb, by rw [j6]; exact h6, hcap, sqOk_app (trd_ok (M := 64) (by decide) 6 1 (by decide)) (tkd_ok ts 0 0 (by decide) ht)⟩
  have fr1 : sqFr [2, 9, 14, 15] [3, 7] σ τ1 := sqFr_tr (sqFr_F 15 _ (by decide) (sqFr_F 14 _ (by decide) (sqFr_F 9 _ (by decide) (sqFr_mono h1.1 (by decide) (by decide))))) (sqFr_mono i1 (by decide) (by decide))
  refine sq_aloadn S dX0_unsqueeze_57 rfl (lv_at hl 0 rfl) ?_
  refine sq_iconst S 2 (by decide) dX0_unsqueeze_58 ?_
  refine sq_bipush S 6 (by decide) dX0_unsqueeze_59 ?_
  refine sq_calli S w (metX0_readTree l D a cA τ1 2 6 n (tkd ts 0) sqe0 0 (by decide) (by decide) (by show n < 64; omega) hd0 EC_0) (cwV 2 S.2.2.2.2 (lw_V q150 q152 qs11 q15 q153) rfl rfl rfl (by decide +kernel) ⟨Nat.le_of_ble_eq_true rfl, Nat.le_of_ble_eq_true rfl⟩) (va_recv w.1 w.2.1 (ci := 0) (q0 := 0) rfl rfl) rfl hl.1 rfl (Nat.le_of_ble_eq_true rfl) ⟨Nat.zero_le _, Nat.zero_le _⟩ dX0_unsqueeze_61 (fun r1 τ2 H locs hp2 w => ?_)
  obtain ⟨rfl, hd2, f2⟩ := hp2
  have fr2 : sqFr [2, 9, 14, 15] [3, 7] σ τ2 := sqFr_tr fr1 (sqFr_mono f2 (by decide) (by decide))
  refine lv_istore_n (lv' := [(1, .int (nI n)), (0, .ref (a 20))]) S.1 S.2.1 dX0_unsqueeze_64 rfl hl (by decide) rfl (fun ls hl => ?_)
  refine sq_aloadn S dX0_unsqueeze_65 rfl (lv_at hl 1 rfl) ?_
  refine sq_iconst S 0 (by decide) dX0_unsqueeze_66 ?_
  refine pX0_2 (v := 0) S w dX0_unsqueeze_67 (fun H locs w => ?_)
  refine sq_iconst S 0 (by decide) dX0_unsqueeze_70 ?_
  refine lv_istore_n (lv' := [(2, .int (nI 0)), (1, .int (nI n)), (0, .ref (a 20))]) S.1 S.2.1 dX0_unsqueeze_71 rfl hl (by decide) rfl (fun ls hl => ?_)
  refine sq_iconst S 0 (by decide) dX0_unsqueeze_72 ?_
  refine lv_istore_n (lv' := [(3, .int (nI 0)), (2, .int (nI 0)), (1, .int (nI n)), (0, .ref (a 20))]) S.1 S.2.1 dX0_unsqueeze_73 rfl hl (by decide) rfl (fun ls hl => ?_)
  refine loopX0_tokens S σ n f hn hf (fun τ3 H locs ls w y2 y3 hfr => ?_) ts 0 0 0 _ 6 _ _ _ ls ht (by decide) (by decide) (EC_tree 2 n 6 1 EC_0) w (sqDe_fr hd2 (sqFr_F 2 _ (by decide) (sqFr_rf τ2))) rfl (fun j hj => by omega) (sqFr_F 2 _ (by decide) fr2) (lv_sub hl [0, 1, 2, 3] rfl)
  exact sq_vret S hr hlk w ⟨y2, y3, hfr⟩ dX0_unsqueeze_172
end
section
set_option maxHeartbeats 4000000 in
set_option maxRecDepth 100000 in
theorem metX0_send (l : Launch) (D : va_G) (a : Nat → Nat) (cA : Nat → ClassId) (σ : SqSt) (hc : σ.1 5 ≤ 4) (h4 : σ.1 4 ≤ 3) (h6 : ∀ j, σ.2 6 j < 256) (hn : σ.1 0 ≤ 48) (hf : ∀ j, j < σ.1 0 → σ.2 1 j < 256) : sqMi l yX0_send (ws_ yX0_send cX0_send 1 (some .int)) rmX0_send D (tX0 cA) (wX0 a cA) (a 20) σ [] (fun r σ' => (σ.1 5 < 4 → r = nI (σ.1 5 + 1) ∧ σ'.1 5 = σ.1 5 + 1 ∧ sqBlk (σ'.2 6) (352 * ((σ.1 4 + σ.1 5) % 4)) (σ.1 0) (σ.2 1) ∧ (∀ j, σ'.2 6 j < 256) ∧ sqFr [5, 8, 9, 10, 11, 12, 13, 16, 17] [6, 7] σ σ' ∧ ∀ j, ¬ (352 * ((σ.1 4 + σ.1 5) % 4) ≤ j ∧ j < 352 * ((σ.1 4 + σ.1 5) % 4) + 352) → σ'.2 6 j = σ.2 6 j) ∧ (¬ σ.1 5 < 4 → r = -1 ∧ σ' = σ)) := by
  refine sqMi_of (by decide) (Nat.le_of_ble_eq_true rfl) ?_
  intro p e s m args below meth c A ls S hr hlk w hl
  have S : CallFix p m c cX0_send 1 s args lw_all RX0 := S
  have hl : lv_has ls 1 [(0, .ref (a 20))] := hl
  refine sq_aloadn S dX0_send_0 rfl (lv_at hl 0 rfl) ?_
  refine gX0_5 (v := σ.1 5) S w rfl dX0_send_1 ?_
  refine sq_iconst S 4 (by decide) dX0_send_4 ?_
  refine sq_icmp_lt S 10 (by omega) (by omega) dX0_send_5 (by decide) (fun c5 => ?_) (fun c5 => ?_)
  · refine sq_aloadn S dX0_send_10 rfl (lv_at hl 0 rfl) ?_
    refine sq_sipush S 352 (by decide) dX0_send_11 ?_
    refine sq_aloadn S dX0_send_14 rfl (lv_at hl 0 rfl) ?_
    refine gX0_4 (v := σ.1 4) S w rfl dX0_send_15 ?_
    refine sq_aloadn S dX0_send_18 rfl (lv_at hl 0 rfl) ?_
    refine gX0_5 (v := σ.1 5) S w rfl dX0_send_19 ?_
    refine sq_iadd S dX0_send_22 ?_
    refine sq_iconst S 3 (by decide) dX0_send_23 ?_
    refine sq_iand S 2 4 (by decide) (by omega) (by decide) dX0_send_24 ?_
    refine sq_imul S dX0_send_25 ?_
    refine pX0_12 (v := 352 * (((σ.1 4) + (σ.1 5)) % 4)) S w dX0_send_26 (fun H locs w => ?_)
    refine sq_aloadn S dX0_send_29 rfl (lv_at hl 0 rfl) ?_
    refine sq_callv S w (metX0_squeeze l D a cA (sqF σ 12 (352 * (((σ.1 4) + (σ.1 5)) % 4))) (by show 352 * ((σ.1 4 + σ.1 5) % 4) ≤ 1056; omega) h6 hn hf) (cwV 0 S.2.2.2.2 (lw_V q98 q100 qs0 q15 q101) rfl rfl rfl (by decide +kernel) ⟨Nat.le_of_ble_eq_true rfl, Nat.le_of_ble_eq_true rfl⟩) (va_recv w.1 w.2.1 (ci := 0) (q0 := 0) rfl rfl) rfl hl.1 rfl (Nat.le_of_ble_eq_true rfl) ⟨Nat.zero_le _, Nat.zero_le _⟩ dX0_send_30 (fun τ H locs h1 w => ?_)
    obtain ⟨b1, b2, b3, b4⟩ := h1
    have z5 : τ.1 5 = σ.1 5 := b3.1 5 (by decide)
    refine sq_aloadn S dX0_send_33 rfl (lv_at hl 0 rfl) ?_
    refine sq_dup S rfl dX0_send_34 ?_
    refine gX0_5 (v := σ.1 5) S w z5 dX0_send_35 ?_
    refine sq_iconst S 1 (by decide) dX0_send_38 ?_
    refine sq_iadd S dX0_send_39 ?_
    refine pX0_5 (v := (σ.1 5) + 1) S w dX0_send_40 (fun H locs w => ?_)
    refine sq_aloadn S dX0_send_43 rfl (lv_at hl 0 rfl) ?_
    refine gX0_5 (v := (σ.1 5) + 1) S w rfl dX0_send_44 ?_
    exact sq_iret S hr hlk w ⟨fun _ => ⟨rfl, rfl, b1, b2, sqFr_F 5 _ (by decide) (sqFr_tr (sqFr_F 12 _ (by decide) (sqFr_rf σ)) (sqFr_mono b3 (by decide) (by decide))), b4⟩, fun q => absurd q (by omega)⟩ dX0_send_47
  · refine lv_iconst (v := -1) S.1 S.2.1 dX0_send_8 (by decide) ?_
    exact sq_iret S hr hlk w ⟨fun q => absurd q (by omega), fun _ => ⟨rfl, rfl⟩⟩ dX0_send_9
set_option maxHeartbeats 4000000 in
set_option maxRecDepth 100000 in
theorem metX0_receive (l : Launch) (D : va_G) (a : Nat → Nat) (cA : Nat → ClassId) (σ : SqSt) (n : Nat) (f : Nat → Nat) (h4 : σ.1 4 ≤ 3) (hc : σ.1 5 ≤ 4) (h6 : ∀ j, σ.2 6 j < 256) (hB : ¬ σ.1 5 = 0 → sqBlk (σ.2 6) (352 * σ.1 4) n f) : sqMi l yX0_receive (ws_ yX0_receive cX0_receive 1 (some .int)) rmX0_receive D (tX0 cA) (wX0 a cA) (a 20) σ [] (fun r σ' => (σ.1 5 = 0 → r = -1 ∧ σ' = σ) ∧ (¬ σ.1 5 = 0 → r = nI n ∧ σ'.1 2 = n ∧ (∀ j, j < n → σ'.2 3 j = f j) ∧ σ'.1 4 = (σ.1 4 + 1) % 4 ∧ σ'.1 5 = σ.1 5 - 1 ∧ sqFr [2, 4, 5, 9, 12, 14, 15] [3, 7] σ σ')) := by
  refine sqMi_of (by decide) (Nat.le_of_ble_eq_true rfl) ?_
  intro p e s m args below meth c A ls S hr hlk w hl
  have S : CallFix p m c cX0_receive 1 s args lw_all RX0 := S
  have hl : lv_has ls 1 [(0, .ref (a 20))] := hl
  refine sq_aloadn S dX0_receive_0 rfl (lv_at hl 0 rfl) ?_
  refine gX0_5 (v := σ.1 5) S w rfl dX0_receive_1 ?_
  refine sq_if_ne S 9 (by omega) dX0_receive_4 (by decide) (fun c4 => ?_) (fun c4 => ?_)
  · refine sq_aloadn S dX0_receive_9 rfl (lv_at hl 0 rfl) ?_
    refine sq_sipush S 352 (by decide) dX0_receive_10 ?_
    refine sq_aloadn S dX0_receive_13 rfl (lv_at hl 0 rfl) ?_
    refine gX0_4 (v := σ.1 4) S w rfl dX0_receive_14 ?_
    refine sq_imul S dX0_receive_17 ?_
    refine pX0_12 (v := 352 * (σ.1 4)) S w dX0_receive_18 (fun H locs w => ?_)
    refine sq_aloadn S dX0_receive_21 rfl (lv_at hl 0 rfl) ?_
    refine sq_callv S w (metX0_unsqueeze l D a cA (sqF σ 12 (352 * (σ.1 4))) n f (by show 352 * σ.1 4 ≤ 1056; omega) h6 (hB c4)) (cwV 0 S.2.2.2.2 (lw_V q142 q144 qs9 q15 q145) rfl rfl rfl (by decide +kernel) ⟨Nat.le_of_ble_eq_true rfl, Nat.le_of_ble_eq_true rfl⟩) (va_recv w.1 w.2.1 (ci := 0) (q0 := 0) rfl rfl) rfl hl.1 rfl (Nat.le_of_ble_eq_true rfl) ⟨Nat.zero_le _, Nat.zero_le _⟩ dX0_receive_22 (fun τ H locs h1 w => ?_)
    obtain ⟨b1, b2, b3⟩ := h1
    have z4 : τ.1 4 = σ.1 4 := b3.1 4 (by decide)
    have z5 : τ.1 5 = σ.1 5 := b3.1 5 (by decide)
    refine sq_aloadn S dX0_receive_25 rfl (lv_at hl 0 rfl) ?_
    refine sq_aloadn S dX0_receive_26 rfl (lv_at hl 0 rfl) ?_
    refine gX0_4 (v := σ.1 4) S w z4 dX0_receive_27 ?_
    refine sq_iconst S 1 (by decide) dX0_receive_30 ?_
    refine sq_iadd S dX0_receive_31 ?_
    refine sq_iconst S 3 (by decide) dX0_receive_32 ?_
    refine sq_iand S 2 4 (by decide) (by omega) (by decide) dX0_receive_33 ?_
    refine pX0_4 (v := ((σ.1 4) + 1) % 4) S w dX0_receive_34 (fun H locs w => ?_)
    refine sq_aloadn S dX0_receive_37 rfl (lv_at hl 0 rfl) ?_
    refine sq_dup S rfl dX0_receive_38 ?_
    refine gX0_5 (v := σ.1 5) S w z5 dX0_receive_39 ?_
    refine sq_iconst S 1 (by decide) dX0_receive_42 ?_
    refine sq_isub S (by omega) dX0_receive_43 ?_
    refine pX0_5 (v := (σ.1 5) - 1) S w dX0_receive_44 (fun H locs w => ?_)
    refine sq_aloadn S dX0_receive_47 rfl (lv_at hl 0 rfl) ?_
    refine gX0_2 (v := n) S w b1 dX0_receive_48 ?_
    exact sq_iret S hr hlk w ⟨fun q => absurd q c4, fun _ => ⟨rfl, b1, b2, rfl, rfl, sqFr_F 5 _ (by decide) (sqFr_F 4 _ (by decide) (sqFr_tr (sqFr_F 12 _ (by decide) (sqFr_rf σ)) (sqFr_mono b3 (by decide) (by decide))))⟩⟩ dX0_receive_51
  · refine lv_iconst (v := -1) S.1 S.2.1 dX0_receive_7 (by decide) ?_
    exact sq_iret S hr hlk w ⟨fun _ => ⟨rfl, rfl⟩, fun q => absurd c4 q⟩ dX0_receive_8
end
section
abbrev rmX1_put : Room := { frames := 0, cells := 0, slots := 0, locals := 0 }
abbrev rmX1_repeat : Room := { frames := 0, cells := 0, slots := 0, locals := 0 }
abbrev rmX1_erase : Room := { frames := 0, cells := 0, slots := 0, locals := 0 }
abbrev rmX1_send : Room := { frames := 0, cells := 0, slots := 0, locals := 0 }
abbrev rmX1_receive : Room := { frames := 0, cells := 0, slots := 0, locals := 0 }
abbrev rmX1_at : Room := { frames := 0, cells := 0, slots := 0, locals := 0 }
abbrev rmX1_length : Room := { frames := 0, cells := 0, slots := 0, locals := 0 }
abbrev rmX1_blocks : Room := { frames := 0, cells := 0, slots := 0, locals := 0 }
abbrev rmX1_find : Room := { frames := 0, cells := 0, slots := 0, locals := 0 }
abbrev rmX1_edit : Room := { frames := 0, cells := 0, slots := 0, locals := 0 }
set_option maxHeartbeats 4000000 in
set_option maxRecDepth 100000 in
theorem metX1_erase (l : Launch) (D : va_G) (a : Nat → Nat) (cA : Nat → ClassId) (σ : SqSt)  : sqMv l yX1_erase (ws_ yX1_erase cX1_erase 1 none) rmX1_erase D (tX1 cA) (wX1 a cA) (a 20) σ [] (fun σ' => σ' = sqF σ 1 0) := by
  refine sqMv_of (by decide) (Nat.le_of_ble_eq_true rfl) ?_
  intro p e s m args below meth c A ls S hr hlk w hl
  have S : CallFix p m c cX1_erase 1 s args lw_all RX1 := S
  have hl : lv_has ls 1 [(0, .ref (a 20))] := hl
  refine sq_aloadn S dX1_erase_0 rfl (lv_at hl 0 rfl) ?_
  refine sq_iconst S 0 (by decide) dX1_erase_1 ?_
  refine pX1_1 (v := 0) S w dX1_erase_2 (fun H locs w => ?_)
  exact sq_vret S hr hlk w (rfl) dX1_erase_5
set_option maxHeartbeats 4000000 in
set_option maxRecDepth 100000 in
theorem metX1_length (l : Launch) (D : va_G) (a : Nat → Nat) (cA : Nat → ClassId) (σ : SqSt)  : sqMi l yX1_length (ws_ yX1_length cX1_length 1 (some .int)) rmX1_length D (tX1 cA) (wX1 a cA) (a 20) σ [] (fun r σ' => r = nI (σ.1 3) ∧ σ' = σ) := by
  refine sqMi_of (by decide) (Nat.le_of_ble_eq_true rfl) ?_
  intro p e s m args below meth c A ls S hr hlk w hl
  have S : CallFix p m c cX1_length 1 s args lw_all RX1 := S
  have hl : lv_has ls 1 [(0, .ref (a 20))] := hl
  refine sq_aloadn S dX1_length_0 rfl (lv_at hl 0 rfl) ?_
  refine gX1_3 (v := σ.1 3) S w rfl dX1_length_1 ?_
  exact sq_iret S hr hlk w (⟨rfl, rfl⟩) dX1_length_4
set_option maxHeartbeats 4000000 in
set_option maxRecDepth 100000 in
theorem metX1_blocks (l : Launch) (D : va_G) (a : Nat → Nat) (cA : Nat → ClassId) (σ : SqSt)  : sqMi l yX1_blocks (ws_ yX1_blocks cX1_blocks 1 (some .int)) rmX1_blocks D (tX1 cA) (wX1 a cA) (a 20) σ [] (fun r σ' => r = nI (σ.1 6) ∧ σ' = σ) := by
  refine sqMi_of (by decide) (Nat.le_of_ble_eq_true rfl) ?_
  intro p e s m args below meth c A ls S hr hlk w hl
  have S : CallFix p m c cX1_blocks 1 s args lw_all RX1 := S
  have hl : lv_has ls 1 [(0, .ref (a 20))] := hl
  refine sq_aloadn S dX1_blocks_0 rfl (lv_at hl 0 rfl) ?_
  refine gX1_6 (v := σ.1 6) S w rfl dX1_blocks_1 ?_
  exact sq_iret S hr hlk w (⟨rfl, rfl⟩) dX1_blocks_4
set_option maxHeartbeats 4000000 in
set_option maxRecDepth 100000 in
theorem metX1_put (l : Launch) (D : va_G) (a : Nat → Nat) (cA : Nat → ClassId) (σ : SqSt) (x : Int32) (h0 : σ.1 1 ≤ 48) : sqMi l yX1_put (ws_ yX1_put cX1_put 2 (some .int)) rmX1_put D (tX1 cA) (wX1 a cA) (a 20) σ [.int x] (fun r σ' => (σ.1 1 < 48 → r = nI (σ.1 1 + 1) ∧ σ' = sqF (sqA σ 0 (σ.1 1) (x.toBitVec.toNat % 256)) 1 (σ.1 1 + 1)) ∧ (¬ σ.1 1 < 48 → r = -1 ∧ σ' = σ)) := by
  refine sqMi_of (by decide) (Nat.le_of_ble_eq_true rfl) ?_
  intro p e s m args below meth c A ls S hr hlk w hl
  have S : CallFix p m c cX1_put 2 s args lw_all RX1 := S
  have hl : lv_has ls 2 [(0, .ref (a 20)), (1, .int x)] := hl
  refine sq_aloadn S dX1_put_0 rfl (lv_at hl 0 rfl) ?_
  refine gX1_1 (v := σ.1 1) S w rfl dX1_put_1 ?_
  refine sq_bipush S 48 (by decide) dX1_put_4 ?_
  refine sq_icmp_ne S 11 (by omega) (by omega) dX1_put_6 (by decide) (fun c6 => ?_) (fun c6 => ?_)
  · refine sq_aloadn S dX1_put_11 rfl (lv_at hl 0 rfl) ?_
    refine gX1_0 S w dX1_put_12 ?_
    refine sq_aloadn S dX1_put_15 rfl (lv_at hl 0 rfl) ?_
    refine gX1_1 (v := σ.1 1) S w rfl dX1_put_16 ?_
    refine sq_iloadn S dX1_put_19 rfl (lv_at hl 1 rfl) ?_
    refine sq_sipush S 255 (by decide) dX1_put_20 ?_
    refine sq_iandx S 8 256 (by decide) (by decide) dX1_put_23 ?_
    refine sX1_0 (v := x.toBitVec.toNat % 256) S w (by omega) dX1_put_24 (fun H locs w => ?_)
    refine sq_aloadn S dX1_put_25 rfl (lv_at hl 0 rfl) ?_
    refine sq_dup S rfl dX1_put_26 ?_
    refine gX1_1 (v := σ.1 1) S w rfl dX1_put_27 ?_
    refine sq_iconst S 1 (by decide) dX1_put_30 ?_
    refine sq_iadd S dX1_put_31 ?_
    refine pX1_1 (v := (σ.1 1) + 1) S w dX1_put_32 (fun H locs w => ?_)
    refine sq_aloadn S dX1_put_35 rfl (lv_at hl 0 rfl) ?_
    refine gX1_1 (v := (σ.1 1) + 1) S w rfl dX1_put_36 ?_
    exact sq_iret S hr hlk w ⟨fun _ => ⟨rfl, rfl⟩, fun q => absurd q (by omega)⟩ dX1_put_39
  · refine lv_iconst (v := -1) S.1 S.2.1 dX1_put_9 (by decide) ?_
    exact sq_iret S hr hlk w ⟨fun q => absurd q (by omega), fun _ => ⟨rfl, rfl⟩⟩ dX1_put_10
set_option maxHeartbeats 4000000 in
set_option maxRecDepth 100000 in
theorem metX1_at (l : Launch) (D : va_G) (a : Nat → Nat) (cA : Nat → ClassId) (σ : SqSt) (x : Int32) (h0 : σ.1 3 ≤ 48) : sqMi l yX1_at (ws_ yX1_at cX1_at 2 (some .int)) rmX1_at D (tX1 cA) (wX1 a cA) (a 20) σ [.int x] (fun r σ' => ((x < 0 ∨ nI (σ.1 3) ≤ x) → r = -1) ∧ (∀ j, j < σ.1 3 → x = nI j → r = nI (σ.2 2 j)) ∧ σ' = σ) := by
  refine sqMi_of (by decide) (Nat.le_of_ble_eq_true rfl) ?_
  intro p e s m args below meth c A ls S hr hlk w hl
  have S : CallFix p m c cX1_at 2 s args lw_all RX1 := S
  have hl : lv_has ls 2 [(0, .ref (a 20)), (1, .int x)] := hl
  refine sq_iloadn S dX1_at_0 rfl (lv_at hl 1 rfl) ?_
  refine lv_if_lt (tgt := 12) S.1 S.2.1 dX1_at_1 (by decide) (fun c1 => ?_) (fun c1 => ?_)
  · refine lv_iconst (v := -1) S.1 S.2.1 dX1_at_12 (by decide) ?_
    refine sq_goto S 22 dX1_at_13 (by decide) ?_
    exact sq_iret S hr hlk w ⟨fun _ => rfl, fun j hj q => by
      exfalso
      subst q
      first | exact nI_pos (by omega) c1 | exact c9 (nI_lt hj (by omega)), rfl⟩ dX1_at_22
  · refine sq_iloadn S dX1_at_4 rfl (lv_at hl 1 rfl) ?_
    refine sq_aloadn S dX1_at_5 rfl (lv_at hl 0 rfl) ?_
    refine gX1_3 (v := σ.1 3) S w rfl dX1_at_6 ?_
    refine lv_icmp_lt (tgt := 16) S.1 S.2.1 dX1_at_9 (by decide) (fun c9 => ?_) (fun c9 => ?_)
    · obtain ⟨j, hj, rfl⟩ := sq_i_lt (n := σ.1 3) (by omega) c1 c9
      refine sq_aloadn S dX1_at_16 rfl (lv_at hl 0 rfl) ?_
      refine gX1_2 S w dX1_at_17 ?_
      refine sq_iloadn S dX1_at_20 rfl (lv_at hl 1 rfl) ?_
      refine lX1_2 (v := σ.2 2 j) S w (by omega) rfl dX1_at_21 ?_
      exact sq_iret S hr hlk w ⟨fun q => by
      exfalso
      rcases q with q | q
      · exact c1 q
      · exact absurd ((nI_leI (by omega) (by omega)).mp q) (by omega), fun j2 hj2 q => by rw [(nI_eq (by omega) (by omega)).mp q], rfl⟩ dX1_at_22
    · refine lv_iconst (v := -1) S.1 S.2.1 dX1_at_12 (by decide) ?_
      refine sq_goto S 22 dX1_at_13 (by decide) ?_
      exact sq_iret S hr hlk w ⟨fun _ => rfl, fun j hj q => by
      exfalso
      subst q
      first | exact nI_pos (by omega) c1 | exact c9 (nI_lt hj (by omega)), rfl⟩ dX1_at_22
set_option maxHeartbeats 4000000 in
set_option maxRecDepth 100000 in
theorem loopX1_repeat {p : Program} {l : Launch} {e : Env} {s : State} {m : MethodId} {args : Array Value} {below : List Frame} {meth : Method} {c : Code} {Q : State → Prop} {D : va_G} {A : Nat → Prop} {H0 : Heap} {a : Nat → Nat} {cA : Nat → ClassId} {cells slots : Nat} (S : CallFix p m c cX1_repeat 4 s args lw_all RX1)  (σ : SqSt) (d n : Nat) (hd : 1 ≤ d) (hd2 : d ≤ σ.1 1) (hn : σ.1 1 + n ≤ 48) (K : ∀ (τ : SqSt) (H : Heap) (locs : List Loc) (ls : Array Slot), sq_wd D A H0 s (tX1 cA) (wX1 a cA τ) H locs → (sqFr [1] [0] σ τ ∧ τ.1 1 = σ.1 1 + n ∧ (∀ j, j < σ.1 1 → τ.2 0 j = σ.2 0 j) ∧ ∀ j, σ.1 1 ≤ j → j < σ.1 1 + n → τ.2 0 j = τ.2 0 (j - d)) → lv_has ls 4 [(3, .int (nI n)), (0, .ref (a 20)), (1, .int (nI d)), (2, .int (nI n))] → W p l e rmX1_repeat s m args below meth c H locs cells slots Q (F0 m 74 ls [])) : ∀ (z k : Nat) (τ : SqSt) (H : Heap) (locs : List Loc) (ls : Array Slot), k ≤ n → n < k + z → sq_wd D A H0 s (tX1 cA) (wX1 a cA τ) H locs → (sqFr [1] [0] σ τ ∧ τ.1 1 = σ.1 1 + k ∧ (∀ j, j < σ.1 1 → τ.2 0 j = σ.2 0 j) ∧ ∀ j, σ.1 1 ≤ j → j < σ.1 1 + k → τ.2 0 j = τ.2 0 (j - d)) → lv_has ls 4 [(3, .int (nI k)), (0, .ref (a 20)), (1, .int (nI d)), (2, .int (nI n))] → W p l e rmX1_repeat s m args below meth c H locs cells slots Q (F0 m 33 ls []) := by
  intro z
  induction z with
  | zero => intro k τ H locs ls hk hz; omega
  | succ z ih =>
    intro k τ H locs ls hk hz w hI hl
    obtain ⟨i1, i2, i3, i4⟩ := hI
    refine sq_iloadn S dX1_repeat_33 rfl (lv_at hl 0 rfl) ?_
    refine sq_iloadn S dX1_repeat_34 rfl (lv_at hl 3 rfl) ?_
    refine sq_icmp_ge S 74 (by omega) (by omega) dX1_repeat_35 (by decide) (fun c35 => ?_) (fun c35 => ?_)
    · obtain rfl : k = n := by omega
      exact K τ _ _ ls w ⟨i1, i2, i3, i4⟩ hl
    · refine sq_aloadn S dX1_repeat_38 rfl (lv_at hl 1 rfl) ?_
      refine gX1_0 S w dX1_repeat_39 ?_
      refine sq_aloadn S dX1_repeat_42 rfl (lv_at hl 1 rfl) ?_
      refine gX1_1 (v := τ.1 1) S w rfl dX1_repeat_43 ?_
      refine sq_aloadn S dX1_repeat_46 rfl (lv_at hl 1 rfl) ?_
      refine gX1_0 S w dX1_repeat_47 ?_
      refine sq_aloadn S dX1_repeat_50 rfl (lv_at hl 1 rfl) ?_
      refine gX1_1 (v := τ.1 1) S w rfl dX1_repeat_51 ?_
      refine sq_iloadn S dX1_repeat_54 rfl (lv_at hl 2 rfl) ?_
      refine sq_isub S (by omega) dX1_repeat_55 ?_
      refine lX1_0 (v := τ.2 0 ((τ.1 1) - d)) S w (by omega) rfl dX1_repeat_56 ?_
      refine sX1_0 (v := τ.2 0 ((τ.1 1) - d)) S w (by omega) dX1_repeat_57 (fun H locs w => ?_)
      refine sq_aloadn S dX1_repeat_58 rfl (lv_at hl 1 rfl) ?_
      refine sq_dup S rfl dX1_repeat_59 ?_
      refine gX1_1 (v := τ.1 1) S w rfl dX1_repeat_60 ?_
      refine sq_iconst S 1 (by decide) dX1_repeat_63 ?_
      refine sq_iadd S dX1_repeat_64 ?_
      refine pX1_1 (v := (τ.1 1) + 1) S w dX1_repeat_65 (fun H locs w => ?_)
      refine lv_iinc (v := (nI (k + 1))) (lv' := [(3, .int (nI (k + 1))), (0, .ref (a 20)), (1, .int (nI d)), (2, .int (nI n))]) S.1 S.2.1 dX1_repeat_68 hl (k := 0) rfl (sq_inc1 _) (by decide) rfl (fun ls hl => ?_)
      refine sq_goto S 33 dX1_repeat_71 (by decide) ?_
      refine ih (k + 1) _ _ _ ls (by omega) (by omega) w ⟨?_, ?_, ?_, ?_⟩ hl
      · exact sqFr_F 1 _ (by decide) (sqFr_A 0 _ _ (by decide) i1)
      · show τ.1 1 + 1 = _
        omega
      · intro j hj
        show sqU (τ.2 0) (τ.1 1) _ j = _
        rw [sqU_n _ _ (by omega)]
        exact i3 j hj
      · intro j hj1 hj2
        show sqU (τ.2 0) (τ.1 1) (τ.2 0 (τ.1 1 - d)) j = sqU (τ.2 0) (τ.1 1) (τ.2 0 (τ.1 1 - d)) (j - d)
        rw [sqU_n (j := j - d) _ _ (by omega)]
        by_cases q : j = τ.1 1
        · rw [q, sqU_s]
        · rw [sqU_n _ _ q]; exact i4 j hj1 (by omega)
set_option maxHeartbeats 4000000 in
set_option maxRecDepth 100000 in
theorem metX1_repeat (l : Launch) (D : va_G) (a : Nat → Nat) (cA : Nat → ClassId) (σ : SqSt) (x y : Int32) (h0 : σ.1 1 ≤ 48) : sqMi l yX1_repeat (ws_ yX1_repeat cX1_repeat 4 (some .int)) rmX1_repeat D (tX1 cA) (wX1 a cA) (a 20) σ [.int x, .int y] (fun r σ' => ((x < 1 ∨ nI (σ.1 1) < x ∨ y < 1 ∨ nI (48 - σ.1 1) < y) ∧ r = -1 ∧ σ' = σ) ∨ (∃ d n : Nat, x = nI d ∧ y = nI n ∧ 1 ≤ d ∧ d ≤ σ.1 1 ∧ 1 ≤ n ∧ n ≤ 48 - σ.1 1 ∧ r = nI (σ.1 1 + n) ∧ σ'.1 1 = σ.1 1 + n ∧ sqFr [1] [0] σ σ' ∧ (∀ j, j < σ.1 1 → σ'.2 0 j = σ.2 0 j) ∧ ∀ j, σ.1 1 ≤ j → j < σ.1 1 + n → σ'.2 0 j = σ'.2 0 (j - d))) := by
  refine sqMi_of (by decide) (Nat.le_of_ble_eq_true rfl) ?_
  intro p e s m args below meth c A ls S hr hlk w hl
  have S : CallFix p m c cX1_repeat 4 s args lw_all RX1 := S
  have hl : lv_has ls 4 [(0, .ref (a 20)), (1, .int x), (2, .int y)] := hl
  refine sq_iloadn S dX1_repeat_0 rfl (lv_at hl 1 rfl) ?_
  refine sq_iconst S 1 (by decide) dX1_repeat_1 ?_
  refine lv_icmp_lt (tgt := 29) S.1 S.2.1 dX1_repeat_2 (by decide) (fun c2 => ?_) (fun c2 => ?_)
  · refine lv_iconst (v := -1) S.1 S.2.1 dX1_repeat_29 (by decide) ?_
    exact sq_iret S hr hlk w (Or.inl ⟨by first | exact Or.inl c2 | exact Or.inr (Or.inl c10) | exact Or.inr (Or.inr (Or.inl c15)) | exact Or.inr (Or.inr (Or.inr (by rw [Int32.lt_iff_toInt_lt]; rw [Int32.le_iff_toInt_le] at c26; omega))), rfl, rfl⟩) dX1_repeat_30
  · refine sq_iloadn S dX1_repeat_5 rfl (lv_at hl 1 rfl) ?_
    refine sq_aloadn S dX1_repeat_6 rfl (lv_at hl 0 rfl) ?_
    refine gX1_1 (v := σ.1 1) S w rfl dX1_repeat_7 ?_
    refine lv_icmp_gt (tgt := 29) S.1 S.2.1 dX1_repeat_10 (by decide) (fun c10 => ?_) (fun c10 => ?_)
    · refine lv_iconst (v := -1) S.1 S.2.1 dX1_repeat_29 (by decide) ?_
      exact sq_iret S hr hlk w (Or.inl ⟨by first | exact Or.inl c2 | exact Or.inr (Or.inl c10) | exact Or.inr (Or.inr (Or.inl c15)) | exact Or.inr (Or.inr (Or.inr (by rw [Int32.lt_iff_toInt_lt]; rw [Int32.le_iff_toInt_le] at c26; omega))), rfl, rfl⟩) dX1_repeat_30
    · refine sq_iloadn S dX1_repeat_13 rfl (lv_at hl 2 rfl) ?_
      refine sq_iconst S 1 (by decide) dX1_repeat_14 ?_
      refine lv_icmp_lt (tgt := 29) S.1 S.2.1 dX1_repeat_15 (by decide) (fun c15 => ?_) (fun c15 => ?_)
      · refine lv_iconst (v := -1) S.1 S.2.1 dX1_repeat_29 (by decide) ?_
        exact sq_iret S hr hlk w (Or.inl ⟨by first | exact Or.inl c2 | exact Or.inr (Or.inl c10) | exact Or.inr (Or.inr (Or.inl c15)) | exact Or.inr (Or.inr (Or.inr (by rw [Int32.lt_iff_toInt_lt]; rw [Int32.le_iff_toInt_le] at c26; omega))), rfl, rfl⟩) dX1_repeat_30
      · refine sq_iloadn S dX1_repeat_18 rfl (lv_at hl 2 rfl) ?_
        refine sq_bipush S 48 (by decide) dX1_repeat_19 ?_
        refine sq_aloadn S dX1_repeat_21 rfl (lv_at hl 0 rfl) ?_
        refine gX1_1 (v := σ.1 1) S w rfl dX1_repeat_22 ?_
        refine sq_isub S (by omega) dX1_repeat_25 ?_
        refine lv_icmp_le (tgt := 31) S.1 S.2.1 dX1_repeat_26 (by decide) (fun c26 => ?_) (fun c26 => ?_)
        · obtain ⟨d, d1, d2, rfl⟩ : ∃ d : Nat, 1 ≤ d ∧ d ≤ σ.1 1 ∧ x = nI d := sq_i_rng (by omega) c2 c10
          obtain ⟨n, n1, n2, rfl⟩ : ∃ n : Nat, 1 ≤ n ∧ n ≤ 48 - σ.1 1 ∧ y = nI n := sq_i_rng (by omega) c15 (by rw [Int32.lt_iff_toInt_lt]; rw [Int32.le_iff_toInt_le] at c26; omega)
          refine sq_iconst S 0 (by decide) dX1_repeat_31 ?_
          refine lv_istore_n (lv' := [(3, .int (nI 0)), (0, .ref (a 20)), (1, .int (nI d)), (2, .int (nI n))]) S.1 S.2.1 dX1_repeat_32 rfl hl (by decide) rfl (fun ls hl => ?_)
          refine loopX1_repeat S σ d n d1 d2 (by omega) (fun τ H locs ls w hI hl => ?_) (n + 1) 0 σ _ _ ls (by omega) (by omega) w ⟨sqFr_rf σ, rfl, fun _ _ => rfl, fun j h1 h2 => by omega⟩ hl
          obtain ⟨i1, i2, i3, i4⟩ := hI
          refine sq_aloadn S dX1_repeat_74 rfl (lv_at hl 1 rfl) ?_
          refine gX1_1 (v := τ.1 1) S w rfl dX1_repeat_75 ?_
          exact sq_iret S hr hlk w (Or.inr ⟨d, n, rfl, rfl, d1, d2, n1, n2, by rw [i2], i2, i1, i3, i4⟩) dX1_repeat_78
        · refine lv_iconst (v := -1) S.1 S.2.1 dX1_repeat_29 (by decide) ?_
          exact sq_iret S hr hlk w (Or.inl ⟨by first | exact Or.inl c2 | exact Or.inr (Or.inl c10) | exact Or.inr (Or.inr (Or.inl c15)) | exact Or.inr (Or.inr (Or.inr (by rw [Int32.lt_iff_toInt_lt]; rw [Int32.le_iff_toInt_le] at c26; omega))), rfl, rfl⟩) dX1_repeat_30
set_option maxHeartbeats 4000000 in
set_option maxRecDepth 100000 in
theorem loopX1_edit {p : Program} {l : Launch} {e : Env} {s : State} {m : MethodId} {args : Array Value} {below : List Frame} {meth : Method} {c : Code} {Q : State → Prop} {D : va_G} {A : Nat → Prop} {H0 : Heap} {a : Nat → Nat} {cA : Nat → ClassId} {cells slots : Nat} (S : CallFix p m c cX1_edit 2 s args lw_all RX1)  (σ : SqSt) (hn : σ.1 3 ≤ 48) (K : ∀ (τ : SqSt) (H : Heap) (locs : List Loc) (ls : Array Slot), sq_wd D A H0 s (tX1 cA) (wX1 a cA τ) H locs → (sqFr [1] [0] σ τ ∧ τ.1 1 = σ.1 3 ∧ ∀ j, j < σ.1 3 → τ.2 0 j = σ.2 2 j) → W p l e rmX1_edit s m args below meth c H locs cells slots Q (F0 m 36 ls [])) : ∀ (z k : Nat) (τ : SqSt) (H : Heap) (locs : List Loc) (ls : Array Slot), k ≤ σ.1 3 → σ.1 3 < k + z → sq_wd D A H0 s (tX1 cA) (wX1 a cA τ) H locs → (sqFr [1] [0] σ τ ∧ τ.1 1 = σ.1 3 ∧ ∀ j, j < k → τ.2 0 j = σ.2 2 j) → lv_has ls 2 [(1, .int (nI k)), (0, .ref (a 20))] → W p l e rmX1_edit s m args below meth c H locs cells slots Q (F0 m 10 ls []) := by
  intro z
  induction z with
  | zero => intro k τ H locs ls hk hz; omega
  | succ z ih =>
    intro k τ H locs ls hk hz w hI hl
    obtain ⟨i1, i2, i3⟩ := hI
    have e2 : τ.1 3 = σ.1 3 := i1.1 3 (by decide)
    have e3 : τ.2 2 = σ.2 2 := i1.2 2 (by decide)
    refine sq_iloadn S dX1_edit_10 rfl (lv_at hl 0 rfl) ?_
    refine sq_aloadn S dX1_edit_11 rfl (lv_at hl 1 rfl) ?_
    refine gX1_3 (v := τ.1 3) S w rfl dX1_edit_12 ?_
    refine sq_icmp_ge S 36 (by omega) (by omega) dX1_edit_15 (by decide) (fun c15 => ?_) (fun c15 => ?_)
    · obtain rfl : k = σ.1 3 := by omega
      exact K τ _ _ ls w ⟨i1, i2, i3⟩
    · refine sq_aloadn S dX1_edit_18 rfl (lv_at hl 1 rfl) ?_
      refine gX1_0 S w dX1_edit_19 ?_
      refine sq_iloadn S dX1_edit_22 rfl (lv_at hl 0 rfl) ?_
      refine sq_aloadn S dX1_edit_23 rfl (lv_at hl 1 rfl) ?_
      refine gX1_2 S w dX1_edit_24 ?_
      refine sq_iloadn S dX1_edit_27 rfl (lv_at hl 0 rfl) ?_
      refine lX1_2 (v := τ.2 2 k) S w (by omega) rfl dX1_edit_28 ?_
      refine sX1_0 (v := τ.2 2 k) S w (by omega) dX1_edit_29 (fun H locs w => ?_)
      refine lv_iinc (v := (nI (k + 1))) (lv' := [(1, .int (nI (k + 1))), (0, .ref (a 20))]) S.1 S.2.1 dX1_edit_30 hl (k := 0) rfl (sq_inc1 _) (by decide) rfl (fun ls hl => ?_)
      refine sq_goto S 10 dX1_edit_33 (by decide) ?_
      refine ih (k + 1) _ _ _ ls (by omega) (by omega) w ⟨sqFr_A 0 _ _ (by decide) i1, i2, ?_⟩ hl
      intro j hj
      show sqU (τ.2 0) k (τ.2 2 k) j = _
      by_cases q : j = k
      · rw [q, sqU_s, e3]
      · rw [sqU_n _ _ q]; exact i3 j (by omega)
set_option maxHeartbeats 4000000 in
set_option maxRecDepth 100000 in
theorem metX1_edit (l : Launch) (D : va_G) (a : Nat → Nat) (cA : Nat → ClassId) (σ : SqSt) (h0 : σ.1 3 ≤ 48) : sqMv l yX1_edit (ws_ yX1_edit cX1_edit 2 none) rmX1_edit D (tX1 cA) (wX1 a cA) (a 20) σ [] (fun σ' => sqFr [1] [0] σ σ' ∧ σ'.1 1 = σ.1 3 ∧ ∀ j, j < σ.1 3 → σ'.2 0 j = σ.2 2 j) := by
  refine sqMv_of (by decide) (Nat.le_of_ble_eq_true rfl) ?_
  intro p e s m args below meth c A ls S hr hlk w hl
  have S : CallFix p m c cX1_edit 2 s args lw_all RX1 := S
  have hl : lv_has ls 2 [(0, .ref (a 20))] := hl
  refine sq_aloadn S dX1_edit_0 rfl (lv_at hl 0 rfl) ?_
  refine sq_aloadn S dX1_edit_1 rfl (lv_at hl 0 rfl) ?_
  refine gX1_3 (v := σ.1 3) S w rfl dX1_edit_2 ?_
  refine pX1_1 (v := σ.1 3) S w dX1_edit_5 (fun H locs w => ?_)
  refine sq_iconst S 0 (by decide) dX1_edit_8 ?_
  refine lv_istore_n (lv' := [(1, .int (nI 0)), (0, .ref (a 20))]) S.1 S.2.1 dX1_edit_9 rfl hl (by decide) rfl (fun ls hl => ?_)
  refine loopX1_edit S σ h0 (fun τ H locs ls w hI => ?_) 49 0 _ _ _ ls (by omega) (by omega) w ⟨sqFr_F 1 _ (by decide) (sqFr_rf σ), rfl, fun j h => by omega⟩ hl
  exact sq_vret S hr hlk w hI dX1_edit_36
theorem sq_i32n {x y : Int32} (h : ¬ x < y) : y ≤ x := by
  rw [Int32.lt_iff_toInt_lt] at h
  rw [Int32.le_iff_toInt_le]
  omega
theorem sq_i32m {x y : Int32} (h : y ≤ x) : ¬ x < y := by
  rw [Int32.lt_iff_toInt_lt]
  rw [Int32.le_iff_toInt_le] at h
  omega
set_option maxHeartbeats 4000000 in
set_option maxRecDepth 100000 in
theorem loopX1_find {p : Program} {l : Launch} {e : Env} {s : State} {m : MethodId} {args : Array Value} {below : List Frame} {meth : Method} {c : Code} {Q : State → Prop} {D : va_G} {A : Nat → Prop} {H0 : Heap} {a : Nat → Nat} {cA : Nat → ClassId} {cells slots : Nat} (S : CallFix p m c cX1_find 4 s args lw_all RX1)  (σ : SqSt) (x y : Int32) (hn : σ.1 3 ≤ 48) (hpg : ∀ j, j < σ.1 3 → σ.2 2 j < 256) {H : Heap} {locs : List Loc} (w : sq_wd D A H0 s (tX1 cA) (wX1 a cA σ) H locs) (K : ∀ (r : Int32) (ls : Array Slot), sqFind (σ.2 2) (σ.1 3) (x.toBitVec.toNat % 256) y r → ∀ pc : Nat, (pc = 30 ∨ pc = 38) → W p l e rmX1_find s m args below meth c H locs cells slots Q (F0 m pc ls [.int r])) : ∀ (z k : Nat) (ls : Array Slot), k ≤ σ.1 3 → σ.1 3 < k + z → (∀ j, j < k → y ≤ nI j → σ.2 2 j ≠ x.toBitVec.toNat % 256) → lv_has ls 4 [(3, .int (nI k)), (0, .ref (a 20)), (1, .int x), (2, .int y)] → W p l e rmX1_find s m args below meth c H locs cells slots Q (F0 m 2 ls []) := by
  intro z
  induction z with
  | zero => intro k ls hk hz; omega
  | succ z ih =>
    intro k ls hk hz hI hl
    refine sq_iloadn S dX1_find_2 rfl (lv_at hl 0 rfl) ?_
    refine sq_aloadn S dX1_find_3 rfl (lv_at hl 1 rfl) ?_
    refine gX1_3 (v := σ.1 3) S w rfl dX1_find_4 ?_
    refine sq_icmp_ge S 37 (by omega) (by omega) dX1_find_7 (by decide) (fun c7 => ?_) (fun c7 => ?_)
    · refine lv_iconst (v := (-1)) S.1 S.2.1 dX1_find_37 (by decide) ?_
      exact K _ ls (Or.inr ⟨rfl, fun j hj h => hI j (by omega) h⟩) 38 (Or.inr rfl)
    · refine sq_iloadn S dX1_find_10 rfl (lv_at hl 0 rfl) ?_
      refine sq_iloadn S dX1_find_11 rfl (lv_at hl 3 rfl) ?_
      refine lv_icmp_lt (tgt := 31) S.1 S.2.1 dX1_find_12 (by decide) (fun c12 => ?_) (fun c12 => ?_)
      · refine lv_iinc (v := (nI (k + 1))) (lv' := [(3, .int (nI (k + 1))), (0, .ref (a 20)), (1, .int x), (2, .int y)]) S.1 S.2.1 dX1_find_31 hl (k := 0) rfl (sq_inc1 _) (by decide) rfl (fun ls hl => ?_)
        refine sq_goto S 2 dX1_find_34 (by decide) ?_
        refine ih (k + 1) ls (by omega) (by omega) (fun j hj h => ?_) hl
        by_cases q : j = k
        · first | (rw [q]; exact c26) | (subst q; exact absurd c12 (sq_i32m h))
        · exact hI j (by omega) h
      · refine sq_aloadn S dX1_find_15 rfl (lv_at hl 1 rfl) ?_
        refine gX1_2 S w dX1_find_16 ?_
        refine sq_iloadn S dX1_find_19 rfl (lv_at hl 0 rfl) ?_
        refine lX1_2 (v := σ.2 2 k) S w (by omega) rfl dX1_find_20 ?_
        refine sq_iloadn S dX1_find_21 rfl (lv_at hl 2 rfl) ?_
        refine sq_sipush S 255 (by decide) dX1_find_22 ?_
        refine sq_iandx S 8 256 (by decide) (by decide) dX1_find_25 ?_
        refine sq_icmp_ne S 31 (by have := hpg k (by omega); omega) (by omega) dX1_find_26 (by decide) (fun c26 => ?_) (fun c26 => ?_)
        · refine lv_iinc (v := (nI (k + 1))) (lv' := [(3, .int (nI (k + 1))), (0, .ref (a 20)), (1, .int x), (2, .int y)]) S.1 S.2.1 dX1_find_31 hl (k := 0) rfl (sq_inc1 _) (by decide) rfl (fun ls hl => ?_)
          refine sq_goto S 2 dX1_find_34 (by decide) ?_
          refine ih (k + 1) ls (by omega) (by omega) (fun j hj h => ?_) hl
          by_cases q : j = k
          · first | (rw [q]; exact c26) | (subst q; exact absurd c12 (sq_i32m h))
          · exact hI j (by omega) h
        · refine sq_iloadn S dX1_find_29 rfl (lv_at hl 0 rfl) ?_
          exact K _ ls (Or.inl ⟨k, rfl, by omega, sq_i32n c12, c26, hI⟩) 30 (Or.inl rfl)
set_option maxHeartbeats 4000000 in
set_option maxRecDepth 100000 in
theorem metX1_find (l : Launch) (D : va_G) (a : Nat → Nat) (cA : Nat → ClassId) (σ : SqSt) (x y : Int32) (h0 : σ.1 3 ≤ 48) (hpg : ∀ j, j < σ.1 3 → σ.2 2 j < 256) : sqMi l yX1_find (ws_ yX1_find cX1_find 4 (some .int)) rmX1_find D (tX1 cA) (wX1 a cA) (a 20) σ [.int x, .int y] (fun r σ' => sqFind (σ.2 2) (σ.1 3) (x.toBitVec.toNat % 256) y r ∧ σ' = σ) := by
  refine sqMi_of (by decide) (Nat.le_of_ble_eq_true rfl) ?_
  intro p e s m args below meth c A ls S hr hlk w hl
  have S : CallFix p m c cX1_find 4 s args lw_all RX1 := S
  have hl : lv_has ls 4 [(0, .ref (a 20)), (1, .int x), (2, .int y)] := hl
  refine sq_iconst S 0 (by decide) dX1_find_0 ?_
  refine lv_istore_n (lv' := [(3, .int (nI 0)), (0, .ref (a 20)), (1, .int x), (2, .int y)]) S.1 S.2.1 dX1_find_1 rfl hl (by decide) rfl (fun ls hl => ?_)
  exact loopX1_find S σ x y h0 hpg w (fun r ls hf pc hpc => by
    rcases hpc with rfl | rfl
    · exact sq_iret S hr hlk w ⟨hf, rfl⟩ dX1_find_30
    · exact sq_iret S hr hlk w ⟨hf, rfl⟩ dX1_find_38) 49 0 ls (by omega) (by omega) (fun j hj => by omega) hl
end
section
set_option maxHeartbeats 4000000 in
set_option maxRecDepth 100000 in
theorem loopX1_send {p : Program} {l : Launch} {e : Env} {s : State} {m : MethodId} {args : Array Value} {below : List Frame} {meth : Method} {c : Code} {Q : State → Prop} {D : va_G} {A : Nat → Prop} {H0 : Heap} {a : Nat → Nat} {cA : Nat → ClassId} {cells slots : Nat} (S : CallFix p m c cX1_send 2 s args lw_all RX1)  (σ : SqSt) (hn : σ.1 1 ≤ 48) (hb : σ.1 6 < 4) (K : ∀ (τ : SqSt) (H : Heap) (locs : List Loc) (ls : Array Slot), sq_wd D A H0 s (tX1 cA) (wX1 a cA τ) H locs → (sqFr [] [4] σ τ ∧ (∀ j, j < σ.1 1 → τ.2 4 (48 * σ.1 6 + j) = σ.2 0 j) ∧ ∀ j, j < 48 * σ.1 6 → τ.2 4 j = σ.2 4 j) → lv_has ls 2 [(0, .ref (a 20))] → W p l e rmX1_send s m args below meth c H locs cells slots Q (F0 m 46 ls [])) : ∀ (z k : Nat) (τ : SqSt) (H : Heap) (locs : List Loc) (ls : Array Slot), k ≤ σ.1 1 → σ.1 1 < k + z → sq_wd D A H0 s (tX1 cA) (wX1 a cA τ) H locs → (sqFr [] [4] σ τ ∧ (∀ j, j < k → τ.2 4 (48 * σ.1 6 + j) = σ.2 0 j) ∧ ∀ j, j < 48 * σ.1 6 → τ.2 4 j = σ.2 4 j) → lv_has ls 2 [(1, .int (nI k)), (0, .ref (a 20))] → W p l e rmX1_send s m args below meth c H locs cells slots Q (F0 m 12 ls []) := by
  intro z
  induction z with
  | zero => intro k τ H locs ls hk hz; omega
  | succ z ih =>
    intro k τ H locs ls hk hz w hI hl
    obtain ⟨i1, i2, i3⟩ := hI
    have e1 : τ.1 1 = σ.1 1 := i1.1 1 (by decide)
    have e6 : τ.1 6 = σ.1 6 := i1.1 6 (by decide)
    have e0 : τ.2 0 = σ.2 0 := i1.2 0 (by decide)
    refine sq_iloadn S dX1_send_12 rfl (lv_at hl 0 rfl) ?_
    refine sq_aloadn S dX1_send_13 rfl (lv_at hl 1 rfl) ?_
    refine gX1_1 (v := τ.1 1) S w rfl dX1_send_14 ?_
    refine sq_icmp_ge S 46 (by omega) (by omega) dX1_send_17 (by decide) (fun c17 => ?_) (fun c17 => ?_)
    · obtain rfl : k = σ.1 1 := by omega
      exact K τ _ _ ls w ⟨i1, i2, i3⟩ (lv_sub hl [1] rfl)
    · refine sq_aloadn S dX1_send_20 rfl (lv_at hl 1 rfl) ?_
      refine gX1_4 S w dX1_send_21 ?_
      refine sq_bipush S 48 (by decide) dX1_send_24 ?_
      refine sq_aloadn S dX1_send_26 rfl (lv_at hl 1 rfl) ?_
      refine gX1_6 (v := τ.1 6) S w rfl dX1_send_27 ?_
      refine sq_imul S dX1_send_30 ?_
      refine sq_iloadn S dX1_send_31 rfl (lv_at hl 0 rfl) ?_
      refine sq_iadd S dX1_send_32 ?_
      refine sq_aloadn S dX1_send_33 rfl (lv_at hl 1 rfl) ?_
      refine gX1_0 S w dX1_send_34 ?_
      refine sq_iloadn S dX1_send_37 rfl (lv_at hl 0 rfl) ?_
      refine lX1_0 (v := τ.2 0 k) S w (by omega) rfl dX1_send_38 ?_
      refine sX1_4 (v := τ.2 0 k) S w (by omega) dX1_send_39 (fun H locs w => ?_)
      refine lv_iinc (v := (nI (k + 1))) (lv' := [(1, .int (nI (k + 1))), (0, .ref (a 20))]) S.1 S.2.1 dX1_send_40 hl (k := 0) rfl (sq_inc1 _) (by decide) rfl (fun ls hl => ?_)
      refine sq_goto S 12 dX1_send_43 (by decide) ?_
      refine ih (k + 1) _ _ _ ls (by omega) (by omega) w ⟨sqFr_A 4 _ _ (by decide) i1, ?_, ?_⟩ hl
      · intro j hj
        show sqU (τ.2 4) (48 * τ.1 6 + k) (τ.2 0 k) (48 * σ.1 6 + j) = _
        by_cases q : j = k
        · rw [q, e6, sqU_s, e0]
        · rw [sqU_n _ _ (by omega)]; exact i2 j (by omega)
      · intro j hj
        show sqU (τ.2 4) (48 * τ.1 6 + k) (τ.2 0 k) j = _
        rw [sqU_n _ _ (by omega)]; exact i3 j hj
set_option maxHeartbeats 4000000 in
set_option maxRecDepth 100000 in
theorem metX1_send (l : Launch) (D : va_G) (a : Nat → Nat) (cA : Nat → ClassId) (σ : SqSt) (h0 : σ.1 1 ≤ 48) (hb : σ.1 6 ≤ 4) : sqMi l yX1_send (ws_ yX1_send cX1_send 2 (some .int)) rmX1_send D (tX1 cA) (wX1 a cA) (a 20) σ [] (fun r σ' => (σ.1 6 < 4 → r = nI (σ.1 6 + 1) ∧ σ'.1 6 = σ.1 6 + 1 ∧ sqFr [6] [4, 5] σ σ' ∧ σ'.2 5 = sqU (σ.2 5) (σ.1 6) (σ.1 1) ∧ (∀ j, j < σ.1 1 → σ'.2 4 (48 * σ.1 6 + j) = σ.2 0 j) ∧ ∀ j, j < 48 * σ.1 6 → σ'.2 4 j = σ.2 4 j) ∧ (¬ σ.1 6 < 4 → r = -1 ∧ σ' = σ)) := by
  refine sqMi_of (by decide) (Nat.le_of_ble_eq_true rfl) ?_
  intro p e s m args below meth c A ls S hr hlk w hl
  have S : CallFix p m c cX1_send 2 s args lw_all RX1 := S
  have hl : lv_has ls 2 [(0, .ref (a 20))] := hl
  refine sq_aloadn S dX1_send_0 rfl (lv_at hl 0 rfl) ?_
  refine gX1_6 (v := σ.1 6) S w rfl dX1_send_1 ?_
  refine sq_iconst S 4 (by decide) dX1_send_4 ?_
  refine sq_icmp_ne S 10 (by omega) (by omega) dX1_send_5 (by decide) (fun c5 => ?_) (fun c5 => ?_)
  · refine sq_iconst S 0 (by decide) dX1_send_10 ?_
    refine lv_istore_n (lv' := [(1, .int (nI 0)), (0, .ref (a 20))]) S.1 S.2.1 dX1_send_11 rfl hl (by decide) rfl (fun ls hl => ?_)
    refine loopX1_send S σ h0 (by omega) (fun τ H locs ls w hI hl => ?_) 49 0 _ _ _ ls (by omega) (by omega) w ⟨sqFr_rf σ, fun j h => by omega, fun j h => rfl⟩ hl
    obtain ⟨i1, i2, i3⟩ := hI
    have e1 : τ.1 1 = σ.1 1 := i1.1 1 (by decide)
    have e6 : τ.1 6 = σ.1 6 := i1.1 6 (by decide)
    have e5 : τ.2 5 = σ.2 5 := i1.2 5 (by decide)
    refine sq_aloadn S dX1_send_46 rfl (lv_at hl 0 rfl) ?_
    refine gX1_5 S w dX1_send_47 ?_
    refine sq_aloadn S dX1_send_50 rfl (lv_at hl 0 rfl) ?_
    refine gX1_6 (v := τ.1 6) S w rfl dX1_send_51 ?_
    refine sq_aloadn S dX1_send_54 rfl (lv_at hl 0 rfl) ?_
    refine gX1_1 (v := τ.1 1) S w rfl dX1_send_55 ?_
    refine sX1_5 (v := τ.1 1) S w (by omega) dX1_send_58 (fun H locs w => ?_)
    refine sq_aloadn S dX1_send_59 rfl (lv_at hl 0 rfl) ?_
    refine sq_dup S rfl dX1_send_60 ?_
    refine gX1_6 (v := τ.1 6) S w rfl dX1_send_61 ?_
    refine sq_iconst S 1 (by decide) dX1_send_64 ?_
    refine sq_iadd S dX1_send_65 ?_
    refine pX1_6 (v := (τ.1 6) + 1) S w dX1_send_66 (fun H locs w => ?_)
    refine sq_aloadn S dX1_send_69 rfl (lv_at hl 0 rfl) ?_
    refine gX1_6 (v := (τ.1 6) + 1) S w rfl dX1_send_70 ?_
    exact sq_iret S hr hlk w ⟨fun _ => ⟨by rw [e6], by show τ.1 6 + 1 = _; rw [e6], sqFr_F 6 _ (by decide) (sqFr_A 5 _ _ (by decide) (sqFr_mono i1 (by decide) (by decide))), by show sqU (τ.2 5) (τ.1 6) (τ.1 1) = _; rw [e5, e6, e1], i2, i3⟩, fun q => absurd q (by omega)⟩ dX1_send_73
  · refine lv_iconst (v := -1) S.1 S.2.1 dX1_send_8 (by decide) ?_
    exact sq_iret S hr hlk w ⟨fun q => absurd q (by omega), fun _ => ⟨rfl, rfl⟩⟩ dX1_send_9
set_option maxHeartbeats 4000000 in
set_option maxRecDepth 100000 in
theorem loopX1_recvA {p : Program} {l : Launch} {e : Env} {s : State} {m : MethodId} {args : Array Value} {below : List Frame} {meth : Method} {c : Code} {Q : State → Prop} {D : va_G} {A : Nat → Prop} {H0 : Heap} {a : Nat → Nat} {cA : Nat → ClassId} {cells slots : Nat} (S : CallFix p m c cX1_receive 3 s args lw_all RX1)  (σ : SqSt) (hn : σ.1 3 ≤ 48) (K : ∀ (τ : SqSt) (H : Heap) (locs : List Loc) (ls : Array Slot), sq_wd D A H0 s (tX1 cA) (wX1 a cA τ) H locs → (sqFr [] [2] σ τ ∧ ∀ j, j < σ.1 3 → τ.2 2 j = σ.2 4 j) → lv_has ls 3 [(0, .ref (a 20))] → W p l e rmX1_receive s m args below meth c H locs cells slots Q (F0 m 47 ls [])) : ∀ (z k : Nat) (τ : SqSt) (H : Heap) (locs : List Loc) (ls : Array Slot), k ≤ σ.1 3 → σ.1 3 < k + z → sq_wd D A H0 s (tX1 cA) (wX1 a cA τ) H locs → (sqFr [] [2] σ τ ∧ ∀ j, j < k → τ.2 2 j = σ.2 4 j) → lv_has ls 3 [(1, .int (nI k)), (0, .ref (a 20))] → W p l e rmX1_receive s m args below meth c H locs cells slots Q (F0 m 21 ls []) := by
  intro z
  induction z with
  | zero => intro k τ H locs ls hk hz; omega
  | succ z ih =>
    intro k τ H locs ls hk hz w hI hl
    obtain ⟨i1, i2⟩ := hI
    have e3 : τ.1 3 = σ.1 3 := i1.1 3 (by decide)
    have e4 : τ.2 4 = σ.2 4 := i1.2 4 (by decide)
    refine sq_iloadn S dX1_receive_21 rfl (lv_at hl 0 rfl) ?_
    refine sq_aloadn S dX1_receive_22 rfl (lv_at hl 1 rfl) ?_
    refine gX1_3 (v := τ.1 3) S w rfl dX1_receive_23 ?_
    refine sq_icmp_ge S 47 (by omega) (by omega) dX1_receive_26 (by decide) (fun c26 => ?_) (fun c26 => ?_)
    · obtain rfl : k = σ.1 3 := by omega
      exact K τ _ _ ls w ⟨i1, i2⟩ (lv_sub hl [1] rfl)
    · refine sq_aloadn S dX1_receive_29 rfl (lv_at hl 1 rfl) ?_
      refine gX1_2 S w dX1_receive_30 ?_
      refine sq_iloadn S dX1_receive_33 rfl (lv_at hl 0 rfl) ?_
      refine sq_aloadn S dX1_receive_34 rfl (lv_at hl 1 rfl) ?_
      refine gX1_4 S w dX1_receive_35 ?_
      refine sq_iloadn S dX1_receive_38 rfl (lv_at hl 0 rfl) ?_
      refine lX1_4 (v := τ.2 4 k) S w (by omega) rfl dX1_receive_39 ?_
      refine sX1_2 (v := τ.2 4 k) S w (by omega) dX1_receive_40 (fun H locs w => ?_)
      refine lv_iinc (v := (nI (k + 1))) (lv' := [(1, .int (nI (k + 1))), (0, .ref (a 20))]) S.1 S.2.1 dX1_receive_41 hl (k := 0) rfl (sq_inc1 _) (by decide) rfl (fun ls hl => ?_)
      refine sq_goto S 21 dX1_receive_44 (by decide) ?_
      refine ih (k + 1) _ _ _ ls (by omega) (by omega) w ⟨sqFr_A 2 _ _ (by decide) i1, ?_⟩ hl
      intro j hj
      show sqU (τ.2 2) k (τ.2 4 k) j = _
      by_cases q : j = k
      · rw [q, sqU_s, e4]
      · rw [sqU_n _ _ q]; exact i2 j (by omega)
set_option maxHeartbeats 4000000 in
set_option maxRecDepth 100000 in
theorem loopX1_recvC {p : Program} {l : Launch} {e : Env} {s : State} {m : MethodId} {args : Array Value} {below : List Frame} {meth : Method} {c : Code} {Q : State → Prop} {D : va_G} {A : Nat → Prop} {H0 : Heap} {a : Nat → Nat} {cA : Nat → ClassId} {cells slots : Nat} (S : CallFix p m c cX1_receive 3 s args lw_all RX1)  (σ : SqSt) (b : Nat) (hb : b < 3) (K : ∀ (τ : SqSt) (H : Heap) (locs : List Loc) (ls : Array Slot), sq_wd D A H0 s (tX1 cA) (wX1 a cA τ) H locs → (sqFr [] [4] σ τ ∧ (∀ j, j < 48 → τ.2 4 (48 * b + j) = σ.2 4 (48 * (b + 1) + j)) ∧ ∀ j, ¬ (48 * b ≤ j ∧ j < 48 * b + 48) → τ.2 4 j = σ.2 4 j) → lv_has ls 3 [(1, .int (nI b)), (0, .ref (a 20))] → W p l e rmX1_receive s m args below meth c H locs cells slots Q (F0 m 119 ls [])) : ∀ (z k : Nat) (τ : SqSt) (H : Heap) (locs : List Loc) (ls : Array Slot), k ≤ 48 → 48 < k + z → sq_wd D A H0 s (tX1 cA) (wX1 a cA τ) H locs → (sqFr [] [4] σ τ ∧ (∀ j, j < k → τ.2 4 (48 * b + j) = σ.2 4 (48 * (b + 1) + j)) ∧ ∀ j, ¬ (48 * b ≤ j ∧ j < 48 * b + k) → τ.2 4 j = σ.2 4 j) → lv_has ls 3 [(2, .int (nI k)), (1, .int (nI b)), (0, .ref (a 20))] → W p l e rmX1_receive s m args below meth c H locs cells slots Q (F0 m 83 ls []) := by
  intro z
  induction z with
  | zero => intro k τ H locs ls hk hz; omega
  | succ z ih =>
    intro k τ H locs ls hk hz w hI hl
    obtain ⟨i1, i2, i3⟩ := hI
    refine sq_iloadn S dX1_receive_83 rfl (lv_at hl 0 rfl) ?_
    refine sq_bipush S 48 (by decide) dX1_receive_84 ?_
    refine sq_icmp_ge S 119 (by omega) (by omega) dX1_receive_86 (by decide) (fun c86 => ?_) (fun c86 => ?_)
    · obtain rfl : k = 48 := by omega
      exact K τ _ _ ls w ⟨i1, i2, i3⟩ (lv_sub hl [1, 2] rfl)
    · refine sq_aloadn S dX1_receive_89 rfl (lv_at hl 2 rfl) ?_
      refine gX1_4 S w dX1_receive_90 ?_
      refine sq_bipush S 48 (by decide) dX1_receive_93 ?_
      refine sq_iloadn S dX1_receive_95 rfl (lv_at hl 1 rfl) ?_
      refine sq_imul S dX1_receive_96 ?_
      refine sq_iloadn S dX1_receive_97 rfl (lv_at hl 0 rfl) ?_
      refine sq_iadd S dX1_receive_98 ?_
      refine sq_aloadn S dX1_receive_99 rfl (lv_at hl 2 rfl) ?_
      refine gX1_4 S w dX1_receive_100 ?_
      refine sq_bipush S 48 (by decide) dX1_receive_103 ?_
      refine sq_iloadn S dX1_receive_105 rfl (lv_at hl 1 rfl) ?_
      refine sq_iconst S 1 (by decide) dX1_receive_106 ?_
      refine sq_iadd S dX1_receive_107 ?_
      refine sq_imul S dX1_receive_108 ?_
      refine sq_iloadn S dX1_receive_109 rfl (lv_at hl 0 rfl) ?_
      refine sq_iadd S dX1_receive_110 ?_
      refine lX1_4 (v := τ.2 4 ((48 * (b + 1)) + k)) S w (by omega) rfl dX1_receive_111 ?_
      refine sX1_4 (v := τ.2 4 ((48 * (b + 1)) + k)) S w (by omega) dX1_receive_112 (fun H locs w => ?_)
      refine lv_iinc (v := (nI (k + 1))) (lv' := [(2, .int (nI (k + 1))), (1, .int (nI b)), (0, .ref (a 20))]) S.1 S.2.1 dX1_receive_113 hl (k := 0) rfl (sq_inc1 _) (by decide) rfl (fun ls hl => ?_)
      refine sq_goto S 83 dX1_receive_116 (by decide) ?_
      refine ih (k + 1) _ _ _ ls (by omega) (by omega) w ⟨sqFr_A 4 _ _ (by decide) i1, ?_, ?_⟩ hl
      · intro j hj
        show sqU (τ.2 4) (48 * b + k) (τ.2 4 (48 * (b + 1) + k)) (48 * b + j) = _
        by_cases q : j = k
        · rw [q, sqU_s]; exact i3 _ (by omega)
        · rw [sqU_n _ _ (by omega)]; exact i2 j (by omega)
      · intro j hj
        show sqU (τ.2 4) (48 * b + k) (τ.2 4 (48 * (b + 1) + k)) j = _
        rw [sqU_n _ _ (by omega)]; exact i3 j (by omega)
set_option maxHeartbeats 4000000 in
set_option maxRecDepth 100000 in
theorem loopX1_recvB {p : Program} {l : Launch} {e : Env} {s : State} {m : MethodId} {args : Array Value} {below : List Frame} {meth : Method} {c : Code} {Q : State → Prop} {D : va_G} {A : Nat → Prop} {H0 : Heap} {a : Nat → Nat} {cA : Nat → ClassId} {cells slots : Nat} (S : CallFix p m c cX1_receive 3 s args lw_all RX1)  (σ : SqSt) (hb : σ.1 6 ≤ 3) (K : ∀ (τ : SqSt) (H : Heap) (locs : List Loc) (ls : Array Slot), sq_wd D A H0 s (tX1 cA) (wX1 a cA τ) H locs → (sqFr [] [4, 5] σ τ ∧ (∀ c, c < σ.1 6 → τ.2 5 c = σ.2 5 (c + 1)) ∧ (∀ c, c < σ.1 6 → ∀ j, j < 48 → τ.2 4 (48 * c + j) = σ.2 4 (48 * (c + 1) + j))) → lv_has ls 3 [(0, .ref (a 20))] → W p l e rmX1_receive s m args below meth c H locs cells slots Q (F0 m 125 ls [])) : ∀ (z b : Nat) (τ : SqSt) (H : Heap) (locs : List Loc) (ls : Array Slot), b ≤ σ.1 6 → σ.1 6 < b + z → sq_wd D A H0 s (tX1 cA) (wX1 a cA τ) H locs → (sqFr [] [4, 5] σ τ ∧ (∀ c, c < b → τ.2 5 c = σ.2 5 (c + 1)) ∧ (∀ c, b ≤ c → τ.2 5 c = σ.2 5 c) ∧ (∀ c, c < b → ∀ j, j < 48 → τ.2 4 (48 * c + j) = σ.2 4 (48 * (c + 1) + j)) ∧ ∀ j, 48 * b ≤ j → τ.2 4 j = σ.2 4 j) → lv_has ls 3 [(1, .int (nI b)), (0, .ref (a 20))] → W p l e rmX1_receive s m args below meth c H locs cells slots Q (F0 m 59 ls []) := by
  intro z
  induction z with
  | zero => intro b τ H locs ls hk hz; omega
  | succ z ih =>
    intro b τ H locs ls hk hz w hI hl
    obtain ⟨i1, i2, i3, i4, i5⟩ := hI
    have e6 : τ.1 6 = σ.1 6 := i1.1 6 (by decide)
    refine sq_iloadn S dX1_receive_59 rfl (lv_at hl 0 rfl) ?_
    refine sq_aloadn S dX1_receive_60 rfl (lv_at hl 1 rfl) ?_
    refine gX1_6 (v := τ.1 6) S w rfl dX1_receive_61 ?_
    refine sq_icmp_ge S 125 (by omega) (by omega) dX1_receive_64 (by decide) (fun c64 => ?_) (fun c64 => ?_)
    · obtain rfl : b = σ.1 6 := by omega
      exact K τ _ _ ls w ⟨i1, i2, i4⟩ (lv_sub hl [1] rfl)
    · refine sq_aloadn S dX1_receive_67 rfl (lv_at hl 1 rfl) ?_
      refine gX1_5 S w dX1_receive_68 ?_
      refine sq_iloadn S dX1_receive_71 rfl (lv_at hl 0 rfl) ?_
      refine sq_aloadn S dX1_receive_72 rfl (lv_at hl 1 rfl) ?_
      refine gX1_5 S w dX1_receive_73 ?_
      refine sq_iloadn S dX1_receive_76 rfl (lv_at hl 0 rfl) ?_
      refine sq_iconst S 1 (by decide) dX1_receive_77 ?_
      refine sq_iadd S dX1_receive_78 ?_
      refine lX1_5 (v := τ.2 5 (b + 1)) S w (by omega) rfl dX1_receive_79 ?_
      refine sX1_5 (v := τ.2 5 (b + 1)) S w (by omega) dX1_receive_80 (fun H locs w => ?_)
      refine sq_iconst S 0 (by decide) dX1_receive_81 ?_
      refine lv_istore_n (lv' := [(2, .int (nI 0)), (1, .int (nI b)), (0, .ref (a 20))]) S.1 S.2.1 dX1_receive_82 rfl hl (by decide) rfl (fun ls hl => ?_)
      refine loopX1_recvC S (sqA τ 5 b (τ.2 5 (b + 1))) b (by omega) (fun τ1 H locs ls w hJ hl => ?_) 49 0 _ _ _ ls (by omega) (by omega) w ⟨sqFr_rf _, fun j h => by omega, fun j _ => rfl⟩ (lv_sub hl [0, 1, 2] rfl)
      obtain ⟨j1, j2, j3⟩ := hJ
      have y5 : τ1.2 5 = sqU (τ.2 5) b (τ.2 5 (b + 1)) := j1.2 5 (by decide)
      refine lv_iinc (v := (nI (b + 1))) (lv' := [(1, .int (nI (b + 1))), (0, .ref (a 20))]) S.1 S.2.1 dX1_receive_119 hl (k := 0) rfl (sq_inc1 _) (by decide) rfl (fun ls hl => ?_)
      refine sq_goto S 59 dX1_receive_122 (by decide) ?_
      refine ih (b + 1) τ1 _ _ ls (by omega) (by omega) w ⟨?_, ?_, ?_, ?_, ?_⟩ hl
      · exact sqFr_tr (sqFr_A 5 _ _ (by decide) i1) (sqFr_mono j1 (by decide) (by decide))
      · intro c hc
        rw [y5]
        by_cases q : c = b
        · rw [q, sqU_s]; exact i3 _ (by omega)
        · rw [sqU_n _ _ q]; exact i2 c (by omega)
      · intro c hc
        rw [y5, sqU_n _ _ (by omega)]; exact i3 c (by omega)
      · intro c hc j hj
        by_cases q : c = b
        · rw [q]
          have j2 := j2 j hj
          rw [j2]
          exact i5 _ (by omega)
        · have j3 := j3 (48 * c + j) (by omega)
          rw [j3]
          exact i4 c (by omega) j hj
      · intro j hj
        have j3 := j3 j (by omega)
        rw [j3]
        exact i5 j (by omega)
set_option maxHeartbeats 4000000 in
set_option maxRecDepth 100000 in
theorem metX1_receive (l : Launch) (D : va_G) (a : Nat → Nat) (cA : Nat → ClassId) (σ : SqSt) (hb : σ.1 6 ≤ 4) (h0 : ¬ σ.1 6 = 0 → σ.2 5 0 ≤ 48) : sqMi l yX1_receive (ws_ yX1_receive cX1_receive 3 (some .int)) rmX1_receive D (tX1 cA) (wX1 a cA) (a 20) σ [] (fun r σ' => (σ.1 6 = 0 → r = -1 ∧ σ' = σ) ∧ (¬ σ.1 6 = 0 → r = nI (σ.2 5 0) ∧ σ'.1 3 = σ.2 5 0 ∧ (∀ j, j < σ.2 5 0 → σ'.2 2 j = σ.2 4 j) ∧ σ'.1 6 = σ.1 6 - 1 ∧ sqFr [3, 6] [2, 4, 5] σ σ' ∧ (∀ c, c < σ.1 6 - 1 → σ'.2 5 c = σ.2 5 (c + 1)) ∧ ∀ c, c < σ.1 6 - 1 → ∀ j, j < 48 → σ'.2 4 (48 * c + j) = σ.2 4 (48 * (c + 1) + j))) := by
  refine sqMi_of (by decide) (Nat.le_of_ble_eq_true rfl) ?_
  intro p e s m args below meth c A ls S hr hlk w hl
  have S : CallFix p m c cX1_receive 3 s args lw_all RX1 := S
  have hl : lv_has ls 3 [(0, .ref (a 20))] := hl
  refine sq_aloadn S dX1_receive_0 rfl (lv_at hl 0 rfl) ?_
  refine gX1_6 (v := σ.1 6) S w rfl dX1_receive_1 ?_
  refine sq_if_ne S 9 (by omega) dX1_receive_4 (by decide) (fun c4 => ?_) (fun c4 => ?_)
  · refine sq_aloadn S dX1_receive_9 rfl (lv_at hl 0 rfl) ?_
    refine sq_aloadn S dX1_receive_10 rfl (lv_at hl 0 rfl) ?_
    refine gX1_5 S w dX1_receive_11 ?_
    refine sq_iconst S 0 (by decide) dX1_receive_14 ?_
    refine lX1_5 (v := σ.2 5 0) S w (by omega) rfl dX1_receive_15 ?_
    refine pX1_3 (v := σ.2 5 0) S w dX1_receive_16 (fun H locs w => ?_)
    refine sq_iconst S 0 (by decide) dX1_receive_19 ?_
    refine lv_istore_n (lv' := [(1, .int (nI 0)), (0, .ref (a 20))]) S.1 S.2.1 dX1_receive_20 rfl hl (by decide) rfl (fun ls hl => ?_)
    have h0 := h0 c4
    refine loopX1_recvA S (sqF σ 3 (σ.2 5 0)) h0 (fun τ H locs ls w hI hl => ?_) 49 0 _ _ _ ls (by omega) (by show σ.2 5 0 < 0 + 49; omega) w ⟨sqFr_rf _, fun j h => by omega⟩ hl
    obtain ⟨i1, i2⟩ := hI
    have i2 : ∀ j, j < σ.2 5 0 → τ.2 2 j = σ.2 4 j := i2
    have e3 : τ.1 3 = σ.2 5 0 := i1.1 3 (by decide)
    have e6 : τ.1 6 = σ.1 6 := i1.1 6 (by decide)
    have e5 : τ.2 5 = σ.2 5 := i1.2 5 (by decide)
    have e4 : τ.2 4 = σ.2 4 := i1.2 4 (by decide)
    refine sq_aloadn S dX1_receive_47 rfl (lv_at hl 0 rfl) ?_
    refine sq_dup S rfl dX1_receive_48 ?_
    refine gX1_6 (v := σ.1 6) S w e6 dX1_receive_49 ?_
    refine sq_iconst S 1 (by decide) dX1_receive_52 ?_
    refine sq_isub S (by omega) dX1_receive_53 ?_
    refine pX1_6 (v := (σ.1 6) - 1) S w dX1_receive_54 (fun H locs w => ?_)
    refine sq_iconst S 0 (by decide) dX1_receive_57 ?_
    refine lv_istore_n (lv' := [(1, .int (nI 0)), (0, .ref (a 20))]) S.1 S.2.1 dX1_receive_58 rfl hl (by decide) rfl (fun ls hl => ?_)
    refine loopX1_recvB S (sqF τ 6 ((σ.1 6) - 1)) (by show σ.1 6 - 1 ≤ 3; omega) (fun τ1 H locs ls w hJ hl => ?_) 5 0 _ _ _ ls (by omega) (by show σ.1 6 - 1 < 0 + 5; omega) w ⟨sqFr_rf _, fun c h => by omega, fun c _ => rfl, fun c h => by omega, fun j _ => rfl⟩ hl
    obtain ⟨j1, j2, j3⟩ := hJ
    have j2 : ∀ c, c < σ.1 6 - 1 → τ1.2 5 c = τ.2 5 (c + 1) := j2
    have j3 : ∀ c, c < σ.1 6 - 1 → ∀ j, j < 48 → τ1.2 4 (48 * c + j) = τ.2 4 (48 * (c + 1) + j) := j3
    rw [e5] at j2
    rw [e4] at j3
    have y3 : τ1.1 3 = σ.2 5 0 := (j1.1 3 (by decide)).trans e3
    have y2 : τ1.2 2 = τ.2 2 := j1.2 2 (by decide)
    refine sq_aloadn S dX1_receive_125 rfl (lv_at hl 0 rfl) ?_
    refine gX1_3 (v := σ.2 5 0) S w y3 dX1_receive_126 ?_
    exact sq_iret S hr hlk w ⟨fun q => absurd q c4, fun _ => ⟨rfl, y3, by rw [y2]; exact i2, j1.1 6 (by decide), sqFr_tr (sqFr_F 6 _ (by decide) (sqFr_tr (sqFr_F 3 _ (by decide) (sqFr_rf σ)) (sqFr_mono i1 (by decide) (by decide)))) (sqFr_mono j1 (by decide) (by decide)), j2, j3⟩⟩ dX1_receive_129
  · refine lv_iconst (v := -1) S.1 S.2.1 dX1_receive_7 (by decide) ?_
    exact sq_iret S hr hlk w ⟨fun _ => ⟨rfl, rfl⟩, fun q => absurd c4 q⟩ dX1_receive_8
end
section
def sq0 : SqSt := (fun _ => 0, fun _ _ => 0)
theorem sq_arr0 (n : Nat) (cA : ClassId) : vp_cell cA (n, .inl (fun _ => nI 0)) = arrV cA n (fun _ => defaultValue .int) := by
  rw [vp_cell_i, nI_0]
  rfl
theorem sq_arrb0 (n : Nat) (cA : ClassId) : vp_cell cA (n, .inl (fun _ => sb_b 0)) = arrV cA n (fun _ => defaultValue .byte) := by
  rw [vp_cell_i, show sb_b 0 = 0 by decide]
  rfl
def zX0 (h0 : Nat) : va_W := [(h0, .inr (0, [.int (nI 0), .null, .int (nI 0), .null, .int (nI 0), .int (nI 0), .null, .null, .long (lN 0), .long (lN 0), .int (nI 0), .int (nI 0), .int (nI 0), .int (nI 0), .long (lN 0), .int (nI 0), .int (nI 0), .int (nI 0)]))]
abbrev rmX0_init : Room := { frames := 1, cells := 4, slots := 1898, locals := 12 }
set_option maxHeartbeats 4000000 in
set_option maxRecDepth 100000 in
theorem metX0_init (l : Launch) (D : va_G) (h0 sz : Nat) : Met l yX0_init (ws_ yX0_init cX0_init 1 none) rmX0_init (va_Pc [.ref h0] (fun U => U.heap.size = sz ∧ va_P D vwCl (zX0 h0) U.heap ∧ va_K D vwCl [] U ∧ va_D (fun _ => True) (zX0 h0))) (va_Qv (fun u : (Nat → Nat) × (Nat → ClassId) => u.1 20 = h0) (fun u t => va_P D vwCl (wX0 u.1 u.2 sq0) t.heap ∧ va_K D vwCl (tX0 u.2) t ∧ va_D (va_A (zX0 h0) sz) (wX0 u.1 u.2 sq0)) (va_A (zX0 h0) sz)) 4 1898 (va_A (zX0 h0) sz) := by
  refine Met.ofW (cc := cX0_init) (maxL := 1) (ret := none) (by decide) rfl ?_
  intro p e s m args below meth c s₁ B hml hv
  obtain ⟨rfl, hsz, hP, hK, hD0⟩ := hv
  have hx := B.exec
  have hb := B.bytes
  have hr := B.returns
  have hts := atoms_spec (ws := ws_ yX0_init cX0_init 1 none) B.pre
  have hts : ∀ w ∈ lw_all, w.before _ s = true := fun w h => hts w (List.mem_cons_of_mem _ h)
  have hown : s.vm.findClass RX0 = some m.cls := findClass_of_methodNamed B.named
  have hlocks := B.notSynchronized
  have hin : meth.name = "<init>" := (name_of_methodNamed B.named B.method).1
  subst hsz
  have hD := hD0.self (sz := s.heap.size)
  generalize hAe : va_A (zX0 h0) s.heap.size = A at hD ⊢
  have hA : ∀ q : Nat, s.heap.size ≤ q → A q := fun q h => by rw [← hAe]; exact Or.inr h
  have hS : va_S A s.heap s.heap [] := va_S.rf
  have hl := lv_entry ([.ref h0]) (n := 1) (Nat.le_of_ble_eq_true rfl)
  rw [lg_entry_eq]
  generalize (lg_sl ([.ref h0]) ++ List.replicate (1 - (lg_sl ([.ref h0])).length) Slot.unset).toArray = ls at hl ⊢
  have hl : lv_has ls 1 [(0, .ref h0)] := hl
  refine lv_aload_n hx hb dX0_init_0 rfl (lv_at hl 0 rfl) ?_
  refine W.objInit hx hb hown (hts _ q22) (hts _ q23) (hts _ q24) rfl (by rw [hml]; exact hl.1) rfl dX0_init_1 (Nat.le_of_ble_eq_true rfl) (Nat.le_of_ble_eq_true rfl) ?_
  refine W.eq (g2 := F0 m 4 ls []) rfl ?_
  refine lv_aload_n hx hb dX0_init_4 rfl (lv_at hl 0 rfl) ?_
  refine lv_bipush (v := nI 48) hx hb dX0_init_5 (by decide) ?_
  refine va_newa (atype := .int) (a0 := (48, .inl (fun _ => nI 0))) (N' := 48) (ty := .int) hx hb (hts _ q80) rfl hK hP hD hS hA (sq_arr0 48) (by decide) (by decide) (by decide) (Nat.le_of_ble_eq_true rfl) (Nat.le_of_ble_eq_true rfl) dX0_init_7 (fun a1 cA1 H hK hP hD hS => ?_)
  have hP : va_P D vwCl [(h0, .inr (0, [.int (nI 0), .null, .int (nI 0), .null, .int (nI 0), .int (nI 0), .null, .null, .long (lN 0), .long (lN 0), .int (nI 0), .int (nI 0), .int (nI 0), .int (nI 0), .long (lN 0), .int (nI 0), .int (nI 0), .int (nI 0)])), (a1, .inl (cA1, 48, .inl (fun _ => nI 0)))] H := hP
  have hD : va_D A [(h0, .inr (0, [.int (nI 0), .null, .int (nI 0), .null, .int (nI 0), .int (nI 0), .null, .null, .long (lN 0), .long (lN 0), .int (nI 0), .int (nI 0), .int (nI 0), .int (nI 0), .long (lN 0), .int (nI 0), .int (nI 0), .int (nI 0)])), (a1, .inl (cA1, 48, .inl (fun _ => nI 0)))] := hD
  have hK : va_K D vwCl [(cA1, .int)] s := hK
  refine va_putF (D := D) (ci := 0) (v := .ref a1) (ty := (.array .int)) (C := RX0) (T := TX0) (N := 18) hx hb hts in_X0 tyX0 tyX0_ok nmX0 hown hK hP hD hS 0 rfl rfl 1 (by decide) (hts _ q26) (fun _ h9 => h9) rfl hin rfl (by decide +kernel) rfl rfl (Nat.le_of_ble_eq_true rfl) dX0_init_9 (fun H locs hP hD hS => ?_)
  have hP : va_P D vwCl [(h0, .inr (0, [.int (nI 0), .ref a1, .int (nI 0), .null, .int (nI 0), .int (nI 0), .null, .null, .long (lN 0), .long (lN 0), .int (nI 0), .int (nI 0), .int (nI 0), .int (nI 0), .long (lN 0), .int (nI 0), .int (nI 0), .int (nI 0)])), (a1, .inl (cA1, 48, .inl (fun _ => nI 0)))] H := hP
  have hD : va_D A [(h0, .inr (0, [.int (nI 0), .ref a1, .int (nI 0), .null, .int (nI 0), .int (nI 0), .null, .null, .long (lN 0), .long (lN 0), .int (nI 0), .int (nI 0), .int (nI 0), .int (nI 0), .long (lN 0), .int (nI 0), .int (nI 0), .int (nI 0)])), (a1, .inl (cA1, 48, .inl (fun _ => nI 0)))] := hD
  refine lv_aload_n hx hb dX0_init_12 rfl (lv_at hl 0 rfl) ?_
  refine lv_bipush (v := nI 48) hx hb dX0_init_13 (by decide) ?_
  refine va_newa (atype := .int) (a0 := (48, .inl (fun _ => nI 0))) (N' := 48) (ty := .int) hx hb (hts _ q80) rfl hK hP hD hS hA (sq_arr0 48) (by decide) (by decide) (by decide) (Nat.le_of_ble_eq_true rfl) (Nat.le_of_ble_eq_true rfl) dX0_init_15 (fun a3 cA3 H hK hP hD hS => ?_)
  have hP : va_P D vwCl [(h0, .inr (0, [.int (nI 0), .ref a1, .int (nI 0), .null, .int (nI 0), .int (nI 0), .null, .null, .long (lN 0), .long (lN 0), .int (nI 0), .int (nI 0), .int (nI 0), .int (nI 0), .long (lN 0), .int (nI 0), .int (nI 0), .int (nI 0)])), (a1, .inl (cA1, 48, .inl (fun _ => nI 0))), (a3, .inl (cA3, 48, .inl (fun _ => nI 0)))] H := hP
  have hD : va_D A [(h0, .inr (0, [.int (nI 0), .ref a1, .int (nI 0), .null, .int (nI 0), .int (nI 0), .null, .null, .long (lN 0), .long (lN 0), .int (nI 0), .int (nI 0), .int (nI 0), .int (nI 0), .long (lN 0), .int (nI 0), .int (nI 0), .int (nI 0)])), (a1, .inl (cA1, 48, .inl (fun _ => nI 0))), (a3, .inl (cA3, 48, .inl (fun _ => nI 0)))] := hD
  have hK : va_K D vwCl [(cA1, .int), (cA3, .int)] s := hK
  refine va_putF (D := D) (ci := 0) (v := .ref a3) (ty := (.array .int)) (C := RX0) (T := TX0) (N := 18) hx hb hts in_X0 tyX0 tyX0_ok nmX0 hown hK hP hD hS 0 rfl rfl 3 (by decide) (hts _ q28) (fun _ h9 => h9) rfl hin rfl (by decide +kernel) rfl rfl (Nat.le_of_ble_eq_true rfl) dX0_init_17 (fun H locs hP hD hS => ?_)
  have hP : va_P D vwCl [(h0, .inr (0, [.int (nI 0), .ref a1, .int (nI 0), .ref a3, .int (nI 0), .int (nI 0), .null, .null, .long (lN 0), .long (lN 0), .int (nI 0), .int (nI 0), .int (nI 0), .int (nI 0), .long (lN 0), .int (nI 0), .int (nI 0), .int (nI 0)])), (a1, .inl (cA1, 48, .inl (fun _ => nI 0))), (a3, .inl (cA3, 48, .inl (fun _ => nI 0)))] H := hP
  have hD : va_D A [(h0, .inr (0, [.int (nI 0), .ref a1, .int (nI 0), .ref a3, .int (nI 0), .int (nI 0), .null, .null, .long (lN 0), .long (lN 0), .int (nI 0), .int (nI 0), .int (nI 0), .int (nI 0), .long (lN 0), .int (nI 0), .int (nI 0), .int (nI 0)])), (a1, .inl (cA1, 48, .inl (fun _ => nI 0))), (a3, .inl (cA3, 48, .inl (fun _ => nI 0)))] := hD
  refine lv_aload_n hx hb dX0_init_20 rfl (lv_at hl 0 rfl) ?_
  refine lv_sipush (v := nI 1408) hx hb dX0_init_21 (by decide) ?_
  refine va_newa (atype := .byte) (a0 := (1408, .inl (fun _ => sb_b 0))) (N' := 1408) (ty := .byte) hx hb (hts _ q81) rfl hK hP hD hS hA (sq_arrb0 1408) (by decide) (by decide) (by decide) (Nat.le_of_ble_eq_true rfl) (Nat.le_of_ble_eq_true rfl) dX0_init_24 (fun a6 cA6 H hK hP hD hS => ?_)
  have hP : va_P D vwCl [(h0, .inr (0, [.int (nI 0), .ref a1, .int (nI 0), .ref a3, .int (nI 0), .int (nI 0), .null, .null, .long (lN 0), .long (lN 0), .int (nI 0), .int (nI 0), .int (nI 0), .int (nI 0), .long (lN 0), .int (nI 0), .int (nI 0), .int (nI 0)])), (a1, .inl (cA1, 48, .inl (fun _ => nI 0))), (a3, .inl (cA3, 48, .inl (fun _ => nI 0))), (a6, .inl (cA6, 1408, .inl (fun _ => sb_b 0)))] H := hP
  have hD : va_D A [(h0, .inr (0, [.int (nI 0), .ref a1, .int (nI 0), .ref a3, .int (nI 0), .int (nI 0), .null, .null, .long (lN 0), .long (lN 0), .int (nI 0), .int (nI 0), .int (nI 0), .int (nI 0), .long (lN 0), .int (nI 0), .int (nI 0), .int (nI 0)])), (a1, .inl (cA1, 48, .inl (fun _ => nI 0))), (a3, .inl (cA3, 48, .inl (fun _ => nI 0))), (a6, .inl (cA6, 1408, .inl (fun _ => sb_b 0)))] := hD
  have hK : va_K D vwCl [(cA1, .int), (cA3, .int), (cA6, .byte)] s := hK
  refine va_putF (D := D) (ci := 0) (v := .ref a6) (ty := (.array .byte)) (C := RX0) (T := TX0) (N := 18) hx hb hts in_X0 tyX0 tyX0_ok nmX0 hown hK hP hD hS 0 rfl rfl 6 (by decide) (hts _ q31) (fun _ h9 => h9) rfl hin rfl (by decide +kernel) rfl rfl (Nat.le_of_ble_eq_true rfl) dX0_init_26 (fun H locs hP hD hS => ?_)
  have hP : va_P D vwCl [(h0, .inr (0, [.int (nI 0), .ref a1, .int (nI 0), .ref a3, .int (nI 0), .int (nI 0), .ref a6, .null, .long (lN 0), .long (lN 0), .int (nI 0), .int (nI 0), .int (nI 0), .int (nI 0), .long (lN 0), .int (nI 0), .int (nI 0), .int (nI 0)])), (a1, .inl (cA1, 48, .inl (fun _ => nI 0))), (a3, .inl (cA3, 48, .inl (fun _ => nI 0))), (a6, .inl (cA6, 1408, .inl (fun _ => sb_b 0)))] H := hP
  have hD : va_D A [(h0, .inr (0, [.int (nI 0), .ref a1, .int (nI 0), .ref a3, .int (nI 0), .int (nI 0), .ref a6, .null, .long (lN 0), .long (lN 0), .int (nI 0), .int (nI 0), .int (nI 0), .int (nI 0), .long (lN 0), .int (nI 0), .int (nI 0), .int (nI 0)])), (a1, .inl (cA1, 48, .inl (fun _ => nI 0))), (a3, .inl (cA3, 48, .inl (fun _ => nI 0))), (a6, .inl (cA6, 1408, .inl (fun _ => sb_b 0)))] := hD
  refine lv_aload_n hx hb dX0_init_29 rfl (lv_at hl 0 rfl) ?_
  refine lv_sipush (v := nI 394) hx hb dX0_init_30 (by decide) ?_
  refine va_newa (atype := .int) (a0 := (394, .inl (fun _ => nI 0))) (N' := 394) (ty := .int) hx hb (hts _ q80) rfl hK hP hD hS hA (sq_arr0 394) (by decide) (by decide) (by decide) (Nat.le_of_ble_eq_true rfl) (Nat.le_of_ble_eq_true rfl) dX0_init_33 (fun a7 cA7 H hK hP hD hS => ?_)
  have hP : va_P D vwCl [(h0, .inr (0, [.int (nI 0), .ref a1, .int (nI 0), .ref a3, .int (nI 0), .int (nI 0), .ref a6, .null, .long (lN 0), .long (lN 0), .int (nI 0), .int (nI 0), .int (nI 0), .int (nI 0), .long (lN 0), .int (nI 0), .int (nI 0), .int (nI 0)])), (a1, .inl (cA1, 48, .inl (fun _ => nI 0))), (a3, .inl (cA3, 48, .inl (fun _ => nI 0))), (a6, .inl (cA6, 1408, .inl (fun _ => sb_b 0))), (a7, .inl (cA7, 394, .inl (fun _ => nI 0)))] H := hP
  have hD : va_D A [(h0, .inr (0, [.int (nI 0), .ref a1, .int (nI 0), .ref a3, .int (nI 0), .int (nI 0), .ref a6, .null, .long (lN 0), .long (lN 0), .int (nI 0), .int (nI 0), .int (nI 0), .int (nI 0), .long (lN 0), .int (nI 0), .int (nI 0), .int (nI 0)])), (a1, .inl (cA1, 48, .inl (fun _ => nI 0))), (a3, .inl (cA3, 48, .inl (fun _ => nI 0))), (a6, .inl (cA6, 1408, .inl (fun _ => sb_b 0))), (a7, .inl (cA7, 394, .inl (fun _ => nI 0)))] := hD
  have hK : va_K D vwCl [(cA1, .int), (cA3, .int), (cA6, .byte), (cA7, .int)] s := hK
  refine va_putF (D := D) (ci := 0) (v := .ref a7) (ty := (.array .int)) (C := RX0) (T := TX0) (N := 18) hx hb hts in_X0 tyX0 tyX0_ok nmX0 hown hK hP hD hS 0 rfl rfl 7 (by decide) (hts _ q32) (fun _ h9 => h9) rfl hin rfl (by decide +kernel) rfl rfl (Nat.le_of_ble_eq_true rfl) dX0_init_35 (fun H locs hP hD hS => ?_)
  have hP : va_P D vwCl [(h0, .inr (0, [.int (nI 0), .ref a1, .int (nI 0), .ref a3, .int (nI 0), .int (nI 0), .ref a6, .ref a7, .long (lN 0), .long (lN 0), .int (nI 0), .int (nI 0), .int (nI 0), .int (nI 0), .long (lN 0), .int (nI 0), .int (nI 0), .int (nI 0)])), (a1, .inl (cA1, 48, .inl (fun _ => nI 0))), (a3, .inl (cA3, 48, .inl (fun _ => nI 0))), (a6, .inl (cA6, 1408, .inl (fun _ => sb_b 0))), (a7, .inl (cA7, 394, .inl (fun _ => nI 0)))] H := hP
  have hD : va_D A [(h0, .inr (0, [.int (nI 0), .ref a1, .int (nI 0), .ref a3, .int (nI 0), .int (nI 0), .ref a6, .ref a7, .long (lN 0), .long (lN 0), .int (nI 0), .int (nI 0), .int (nI 0), .int (nI 0), .long (lN 0), .int (nI 0), .int (nI 0), .int (nI 0)])), (a1, .inl (cA1, 48, .inl (fun _ => nI 0))), (a3, .inl (cA3, 48, .inl (fun _ => nI 0))), (a6, .inl (cA6, 1408, .inl (fun _ => sb_b 0))), (a7, .inl (cA7, 394, .inl (fun _ => nI 0)))] := hD
  refine W.widen (k := 4) (n := 1898) (Nat.le_of_ble_eq_true rfl) (Nat.le_of_ble_eq_true rfl) ?_
  have hP : va_P D vwCl (wX0 (sqC (sqC (sqC (sqC (fun _ => h0) 1 a1) 3 a3) 6 a6) 7 a7) (sqC (sqC (sqC (sqC (fun _ => 0) 1 cA1) 3 cA3) 6 cA6) 7 cA7) sq0) H := hP
  have hD : va_D A (wX0 (sqC (sqC (sqC (sqC (fun _ => h0) 1 a1) 3 a3) 6 a6) 7 a7) (sqC (sqC (sqC (sqC (fun _ => 0) 1 cA1) 3 cA3) 6 cA6) 7 cA7) sq0) := hD
  have hK : va_K D vwCl (tX0 (sqC (sqC (sqC (sqC (fun _ => 0) 1 cA1) 3 cA3) 6 cA6) 7 cA7)) s := hK
  exact W.vret hx hb hr (fun t ht hW => ⟨⟨((sqC (sqC (sqC (sqC (fun _ => h0) 1 a1) 3 a3) 6 a6) 7 a7), (sqC (sqC (sqC (sqC (fun _ => 0) 1 cA1) 3 cA3) 6 cA6) 7 cA7)), rfl, rfl, by rw [ht]; exact hP, va_K.moved hW.alike hK, hD⟩, hS.F ht⟩) hS.2.2 dX0_init_38
def zX1 (h0 : Nat) : va_W := [(h0, .inr (1, [.null, .int (nI 0), .null, .int (nI 0), .null, .null, .int (nI 0)]))]
abbrev rmX1_init : Room := { frames := 1, cells := 4, slots := 292, locals := 12 }
set_option maxHeartbeats 4000000 in
set_option maxRecDepth 100000 in
theorem metX1_init (l : Launch) (D : va_G) (h0 sz : Nat) : Met l yX1_init (ws_ yX1_init cX1_init 1 none) rmX1_init (va_Pc [.ref h0] (fun U => U.heap.size = sz ∧ va_P D vwCl (zX1 h0) U.heap ∧ va_K D vwCl [] U ∧ va_D (fun _ => True) (zX1 h0))) (va_Qv (fun u : (Nat → Nat) × (Nat → ClassId) => u.1 20 = h0) (fun u t => va_P D vwCl (wX1 u.1 u.2 sq0) t.heap ∧ va_K D vwCl (tX1 u.2) t ∧ va_D (va_A (zX1 h0) sz) (wX1 u.1 u.2 sq0)) (va_A (zX1 h0) sz)) 4 292 (va_A (zX1 h0) sz) := by
  refine Met.ofW (cc := cX1_init) (maxL := 1) (ret := none) (by decide) rfl ?_
  intro p e s m args below meth c s₁ B hml hv
  obtain ⟨rfl, hsz, hP, hK, hD0⟩ := hv
  have hx := B.exec
  have hb := B.bytes
  have hr := B.returns
  have hts := atoms_spec (ws := ws_ yX1_init cX1_init 1 none) B.pre
  have hts : ∀ w ∈ lw_all, w.before _ s = true := fun w h => hts w (List.mem_cons_of_mem _ h)
  have hown : s.vm.findClass RX1 = some m.cls := findClass_of_methodNamed B.named
  have hlocks := B.notSynchronized
  have hin : meth.name = "<init>" := (name_of_methodNamed B.named B.method).1
  subst hsz
  have hD := hD0.self (sz := s.heap.size)
  generalize hAe : va_A (zX1 h0) s.heap.size = A at hD ⊢
  have hA : ∀ q : Nat, s.heap.size ≤ q → A q := fun q h => by rw [← hAe]; exact Or.inr h
  have hS : va_S A s.heap s.heap [] := va_S.rf
  have hl := lv_entry ([.ref h0]) (n := 1) (Nat.le_of_ble_eq_true rfl)
  rw [lg_entry_eq]
  generalize (lg_sl ([.ref h0]) ++ List.replicate (1 - (lg_sl ([.ref h0])).length) Slot.unset).toArray = ls at hl ⊢
  have hl : lv_has ls 1 [(0, .ref h0)] := hl
  refine lv_aload_n hx hb dX1_init_0 rfl (lv_at hl 0 rfl) ?_
  refine W.objInit hx hb hown (hts _ q187) (hts _ q23) (hts _ q24) rfl (by rw [hml]; exact hl.1) rfl dX1_init_1 (Nat.le_of_ble_eq_true rfl) (Nat.le_of_ble_eq_true rfl) ?_
  refine W.eq (g2 := F0 m 4 ls []) rfl ?_
  refine lv_aload_n hx hb dX1_init_4 rfl (lv_at hl 0 rfl) ?_
  refine lv_bipush (v := nI 48) hx hb dX1_init_5 (by decide) ?_
  refine va_newa (atype := .int) (a0 := (48, .inl (fun _ => nI 0))) (N' := 48) (ty := .int) hx hb (hts _ q80) rfl hK hP hD hS hA (sq_arr0 48) (by decide) (by decide) (by decide) (Nat.le_of_ble_eq_true rfl) (Nat.le_of_ble_eq_true rfl) dX1_init_7 (fun a0 cA0 H hK hP hD hS => ?_)
  have hP : va_P D vwCl [(h0, .inr (1, [.null, .int (nI 0), .null, .int (nI 0), .null, .null, .int (nI 0)])), (a0, .inl (cA0, 48, .inl (fun _ => nI 0)))] H := hP
  have hD : va_D A [(h0, .inr (1, [.null, .int (nI 0), .null, .int (nI 0), .null, .null, .int (nI 0)])), (a0, .inl (cA0, 48, .inl (fun _ => nI 0)))] := hD
  have hK : va_K D vwCl [(cA0, .int)] s := hK
  refine va_putF (D := D) (ci := 1) (v := .ref a0) (ty := (.array .int)) (C := RX1) (T := TX1) (N := 7) hx hb hts in_X1 tyX1 tyX1_ok nmX1 hown hK hP hD hS 0 rfl rfl 0 (by decide) (hts _ q188) (fun _ h9 => h9) rfl hin rfl (by decide +kernel) rfl rfl (Nat.le_of_ble_eq_true rfl) dX1_init_9 (fun H locs hP hD hS => ?_)
  have hP : va_P D vwCl [(h0, .inr (1, [.ref a0, .int (nI 0), .null, .int (nI 0), .null, .null, .int (nI 0)])), (a0, .inl (cA0, 48, .inl (fun _ => nI 0)))] H := hP
  have hD : va_D A [(h0, .inr (1, [.ref a0, .int (nI 0), .null, .int (nI 0), .null, .null, .int (nI 0)])), (a0, .inl (cA0, 48, .inl (fun _ => nI 0)))] := hD
  refine lv_aload_n hx hb dX1_init_12 rfl (lv_at hl 0 rfl) ?_
  refine lv_bipush (v := nI 48) hx hb dX1_init_13 (by decide) ?_
  refine va_newa (atype := .int) (a0 := (48, .inl (fun _ => nI 0))) (N' := 48) (ty := .int) hx hb (hts _ q80) rfl hK hP hD hS hA (sq_arr0 48) (by decide) (by decide) (by decide) (Nat.le_of_ble_eq_true rfl) (Nat.le_of_ble_eq_true rfl) dX1_init_15 (fun a2 cA2 H hK hP hD hS => ?_)
  have hP : va_P D vwCl [(h0, .inr (1, [.ref a0, .int (nI 0), .null, .int (nI 0), .null, .null, .int (nI 0)])), (a0, .inl (cA0, 48, .inl (fun _ => nI 0))), (a2, .inl (cA2, 48, .inl (fun _ => nI 0)))] H := hP
  have hD : va_D A [(h0, .inr (1, [.ref a0, .int (nI 0), .null, .int (nI 0), .null, .null, .int (nI 0)])), (a0, .inl (cA0, 48, .inl (fun _ => nI 0))), (a2, .inl (cA2, 48, .inl (fun _ => nI 0)))] := hD
  have hK : va_K D vwCl [(cA0, .int), (cA2, .int)] s := hK
  refine va_putF (D := D) (ci := 1) (v := .ref a2) (ty := (.array .int)) (C := RX1) (T := TX1) (N := 7) hx hb hts in_X1 tyX1 tyX1_ok nmX1 hown hK hP hD hS 0 rfl rfl 2 (by decide) (hts _ q190) (fun _ h9 => h9) rfl hin rfl (by decide +kernel) rfl rfl (Nat.le_of_ble_eq_true rfl) dX1_init_17 (fun H locs hP hD hS => ?_)
  have hP : va_P D vwCl [(h0, .inr (1, [.ref a0, .int (nI 0), .ref a2, .int (nI 0), .null, .null, .int (nI 0)])), (a0, .inl (cA0, 48, .inl (fun _ => nI 0))), (a2, .inl (cA2, 48, .inl (fun _ => nI 0)))] H := hP
  have hD : va_D A [(h0, .inr (1, [.ref a0, .int (nI 0), .ref a2, .int (nI 0), .null, .null, .int (nI 0)])), (a0, .inl (cA0, 48, .inl (fun _ => nI 0))), (a2, .inl (cA2, 48, .inl (fun _ => nI 0)))] := hD
  refine lv_aload_n hx hb dX1_init_20 rfl (lv_at hl 0 rfl) ?_
  refine lv_sipush (v := nI 192) hx hb dX1_init_21 (by decide) ?_
  refine va_newa (atype := .int) (a0 := (192, .inl (fun _ => nI 0))) (N' := 192) (ty := .int) hx hb (hts _ q80) rfl hK hP hD hS hA (sq_arr0 192) (by decide) (by decide) (by decide) (Nat.le_of_ble_eq_true rfl) (Nat.le_of_ble_eq_true rfl) dX1_init_24 (fun a4 cA4 H hK hP hD hS => ?_)
  have hP : va_P D vwCl [(h0, .inr (1, [.ref a0, .int (nI 0), .ref a2, .int (nI 0), .null, .null, .int (nI 0)])), (a0, .inl (cA0, 48, .inl (fun _ => nI 0))), (a2, .inl (cA2, 48, .inl (fun _ => nI 0))), (a4, .inl (cA4, 192, .inl (fun _ => nI 0)))] H := hP
  have hD : va_D A [(h0, .inr (1, [.ref a0, .int (nI 0), .ref a2, .int (nI 0), .null, .null, .int (nI 0)])), (a0, .inl (cA0, 48, .inl (fun _ => nI 0))), (a2, .inl (cA2, 48, .inl (fun _ => nI 0))), (a4, .inl (cA4, 192, .inl (fun _ => nI 0)))] := hD
  have hK : va_K D vwCl [(cA0, .int), (cA2, .int), (cA4, .int)] s := hK
  refine va_putF (D := D) (ci := 1) (v := .ref a4) (ty := (.array .int)) (C := RX1) (T := TX1) (N := 7) hx hb hts in_X1 tyX1 tyX1_ok nmX1 hown hK hP hD hS 0 rfl rfl 4 (by decide) (hts _ q192) (fun _ h9 => h9) rfl hin rfl (by decide +kernel) rfl rfl (Nat.le_of_ble_eq_true rfl) dX1_init_26 (fun H locs hP hD hS => ?_)
  have hP : va_P D vwCl [(h0, .inr (1, [.ref a0, .int (nI 0), .ref a2, .int (nI 0), .ref a4, .null, .int (nI 0)])), (a0, .inl (cA0, 48, .inl (fun _ => nI 0))), (a2, .inl (cA2, 48, .inl (fun _ => nI 0))), (a4, .inl (cA4, 192, .inl (fun _ => nI 0)))] H := hP
  have hD : va_D A [(h0, .inr (1, [.ref a0, .int (nI 0), .ref a2, .int (nI 0), .ref a4, .null, .int (nI 0)])), (a0, .inl (cA0, 48, .inl (fun _ => nI 0))), (a2, .inl (cA2, 48, .inl (fun _ => nI 0))), (a4, .inl (cA4, 192, .inl (fun _ => nI 0)))] := hD
  refine lv_aload_n hx hb dX1_init_29 rfl (lv_at hl 0 rfl) ?_
  refine lv_iconst (v := nI 4) hx hb dX1_init_30 (by decide) ?_
  refine va_newa (atype := .int) (a0 := (4, .inl (fun _ => nI 0))) (N' := 4) (ty := .int) hx hb (hts _ q80) rfl hK hP hD hS hA (sq_arr0 4) (by decide) (by decide) (by decide) (Nat.le_of_ble_eq_true rfl) (Nat.le_of_ble_eq_true rfl) dX1_init_31 (fun a5 cA5 H hK hP hD hS => ?_)
  have hP : va_P D vwCl [(h0, .inr (1, [.ref a0, .int (nI 0), .ref a2, .int (nI 0), .ref a4, .null, .int (nI 0)])), (a0, .inl (cA0, 48, .inl (fun _ => nI 0))), (a2, .inl (cA2, 48, .inl (fun _ => nI 0))), (a4, .inl (cA4, 192, .inl (fun _ => nI 0))), (a5, .inl (cA5, 4, .inl (fun _ => nI 0)))] H := hP
  have hD : va_D A [(h0, .inr (1, [.ref a0, .int (nI 0), .ref a2, .int (nI 0), .ref a4, .null, .int (nI 0)])), (a0, .inl (cA0, 48, .inl (fun _ => nI 0))), (a2, .inl (cA2, 48, .inl (fun _ => nI 0))), (a4, .inl (cA4, 192, .inl (fun _ => nI 0))), (a5, .inl (cA5, 4, .inl (fun _ => nI 0)))] := hD
  have hK : va_K D vwCl [(cA0, .int), (cA2, .int), (cA4, .int), (cA5, .int)] s := hK
  refine va_putF (D := D) (ci := 1) (v := .ref a5) (ty := (.array .int)) (C := RX1) (T := TX1) (N := 7) hx hb hts in_X1 tyX1 tyX1_ok nmX1 hown hK hP hD hS 0 rfl rfl 5 (by decide) (hts _ q193) (fun _ h9 => h9) rfl hin rfl (by decide +kernel) rfl rfl (Nat.le_of_ble_eq_true rfl) dX1_init_33 (fun H locs hP hD hS => ?_)
  have hP : va_P D vwCl [(h0, .inr (1, [.ref a0, .int (nI 0), .ref a2, .int (nI 0), .ref a4, .ref a5, .int (nI 0)])), (a0, .inl (cA0, 48, .inl (fun _ => nI 0))), (a2, .inl (cA2, 48, .inl (fun _ => nI 0))), (a4, .inl (cA4, 192, .inl (fun _ => nI 0))), (a5, .inl (cA5, 4, .inl (fun _ => nI 0)))] H := hP
  have hD : va_D A [(h0, .inr (1, [.ref a0, .int (nI 0), .ref a2, .int (nI 0), .ref a4, .ref a5, .int (nI 0)])), (a0, .inl (cA0, 48, .inl (fun _ => nI 0))), (a2, .inl (cA2, 48, .inl (fun _ => nI 0))), (a4, .inl (cA4, 192, .inl (fun _ => nI 0))), (a5, .inl (cA5, 4, .inl (fun _ => nI 0)))] := hD
  refine W.widen (k := 4) (n := 292) (Nat.le_of_ble_eq_true rfl) (Nat.le_of_ble_eq_true rfl) ?_
  have hP : va_P D vwCl (wX1 (sqC (sqC (sqC (sqC (fun _ => h0) 0 a0) 2 a2) 4 a4) 5 a5) (sqC (sqC (sqC (sqC (fun _ => 0) 0 cA0) 2 cA2) 4 cA4) 5 cA5) sq0) H := hP
  have hD : va_D A (wX1 (sqC (sqC (sqC (sqC (fun _ => h0) 0 a0) 2 a2) 4 a4) 5 a5) (sqC (sqC (sqC (sqC (fun _ => 0) 0 cA0) 2 cA2) 4 cA4) 5 cA5) sq0) := hD
  have hK : va_K D vwCl (tX1 (sqC (sqC (sqC (sqC (fun _ => 0) 0 cA0) 2 cA2) 4 cA4) 5 cA5)) s := hK
  exact W.vret hx hb hr (fun t ht hW => ⟨⟨((sqC (sqC (sqC (sqC (fun _ => h0) 0 a0) 2 a2) 4 a4) 5 a5), (sqC (sqC (sqC (sqC (fun _ => 0) 0 cA0) 2 cA2) 4 cA4) 5 cA5)), rfl, rfl, by rw [ht]; exact hP, va_K.moved hW.alike hK, hD⟩, hS.F ht⟩) hS.2.2 dX1_init_36
end
section
/-! the law's invariant: the queue's state σ and the model's state τ say the same -/
def sqInv (σ τ : SqSt) : Prop := (σ.1 0 = τ.1 1 ∧ σ.1 0 ≤ 48 ∧ ∀ j, j < σ.1 0 → σ.2 1 j = τ.2 0 j ∧ σ.2 1 j < 256) ∧ (σ.1 2 = τ.1 3 ∧ σ.1 2 ≤ 48 ∧ ∀ j, j < σ.1 2 → σ.2 3 j = τ.2 2 j ∧ σ.2 3 j < 256) ∧ (σ.1 5 = τ.1 6 ∧ σ.1 5 ≤ 4 ∧ σ.1 4 ≤ 3 ∧ (∀ j, σ.2 6 j < 256) ∧ ∀ b, b < σ.1 5 → sqBlk (σ.2 6) (352 * ((σ.1 4 + b) % 4)) (τ.2 5 b) (fun j => τ.2 4 (48 * b + j)))
theorem sqInv_0 : sqInv sq0 sq0 := ⟨⟨rfl, Nat.zero_le _, fun j h => absurd h (Nat.not_lt_zero j)⟩, ⟨rfl, Nat.zero_le _, fun j h => absurd h (Nat.not_lt_zero j)⟩, ⟨rfl, Nat.zero_le _, Nat.zero_le _, fun _ => (by decide : 0 < 256), fun b h => absurd h (Nat.not_lt_zero b)⟩⟩
/-- the draft's part changes, the rest stays -/
theorem sqInv_dr {σ τ σ' τ' : SqSt} (h : sqInv σ τ) (h1 : sqFr [0] [1] σ σ') (h2 : sqFr [1] [0] τ τ') (hd : σ'.1 0 = τ'.1 1 ∧ σ'.1 0 ≤ 48 ∧ ∀ j, j < σ'.1 0 → σ'.2 1 j = τ'.2 0 j ∧ σ'.2 1 j < 256) : sqInv σ' τ' := by
  refine ⟨hd, ?_, ?_⟩
  · rw [h1.1 2 (by decide), h2.1 3 (by decide), h1.2 3 (by decide), h2.2 2 (by decide)]
    exact h.2.1
  · rw [h1.1 5 (by decide), h2.1 6 (by decide), h1.1 4 (by decide), h1.2 6 (by decide), h2.2 5 (by decide), h2.2 4 (by decide)]
    exact h.2.2
theorem sqInv_put {σ τ σ' τ' : SqSt} {x r r' : Int32} (h : sqInv σ τ)
    (p0 : (σ.1 0 < 48 → r = nI (σ.1 0 + 1) ∧ σ' = sqF (sqA σ 1 (σ.1 0) (x.toBitVec.toNat % 256)) 0 (σ.1 0 + 1)) ∧ (¬ σ.1 0 < 48 → r = -1 ∧ σ' = σ))
    (p1 : (τ.1 1 < 48 → r' = nI (τ.1 1 + 1) ∧ τ' = sqF (sqA τ 0 (τ.1 1) (x.toBitVec.toNat % 256)) 1 (τ.1 1 + 1)) ∧ (¬ τ.1 1 < 48 → r' = -1 ∧ τ' = τ)) : r = r' ∧ sqInv σ' τ' := by
  have h1 := h.1
  by_cases c : σ.1 0 < 48
  · obtain ⟨e1, e2⟩ := p0.1 c
    obtain ⟨e3, e4⟩ := p1.1 (by omega)
    refine ⟨by rw [e1, e3, h1.1], ?_⟩
    subst e2 e4
    refine sqInv_dr h (sqFr_F 0 _ (by decide) (sqFr_A 1 _ _ (by decide) (sqFr_rf σ))) (sqFr_F 1 _ (by decide) (sqFr_A 0 _ _ (by decide) (sqFr_rf τ))) ⟨?_, ?_, ?_⟩
    · show σ.1 0 + 1 = τ.1 1 + 1
      omega
    · show σ.1 0 + 1 ≤ 48
      omega
    · show ∀ j, j < σ.1 0 + 1 → sqU (σ.2 1) (σ.1 0) (x.toBitVec.toNat % 256) j = sqU (τ.2 0) (τ.1 1) (x.toBitVec.toNat % 256) j ∧ sqU (σ.2 1) (σ.1 0) (x.toBitVec.toNat % 256) j < 256
      intro j hj
      rw [← h1.1]
      by_cases q : j = σ.1 0
      · rw [q, sqU_s, sqU_s]
        exact ⟨rfl, by omega⟩
      · rw [sqU_n _ _ q, sqU_n _ _ q]
        exact h1.2.2 j (by omega)
  · obtain ⟨e1, e2⟩ := p0.2 c
    obtain ⟨e3, e4⟩ := p1.2 (by omega)
    exact ⟨by rw [e1, e3], by rw [e2, e4]; exact h⟩
theorem sqInv_erase {σ τ : SqSt} (h : sqInv σ τ) : sqInv (sqF σ 0 0) (sqF τ 1 0) :=
  sqInv_dr h (sqFr_F 0 _ (by decide) (sqFr_rf σ)) (sqFr_F 1 _ (by decide) (sqFr_rf τ)) ⟨rfl, (by decide : 0 ≤ 48), fun j hj => absurd hj (Nat.not_lt_zero j)⟩
theorem sq_not_rng {x : Int32} {d n : Nat} (hn : n < 2147483648) (h1 : 1 ≤ d) (h2 : d ≤ n) (hx : x = nI d) : ¬ (x < 1 ∨ nI n < x) := by
  rw [hx]
  intro h
  rcases h with h | h
  · have := (nI_ltI (a := d) (b := 1) (by omega) (by decide)).mp h
    omega
  · have := (nI_ltI (a := n) (b := d) hn (by omega)).mp h
    omega
theorem sqInv_repeat {σ τ σ' τ' : SqSt} {x y r r' : Int32} (h : sqInv σ τ)
    (p0 : ((x < 1 ∨ nI (σ.1 0) < x ∨ y < 1 ∨ nI (48 - σ.1 0) < y) ∧ r = -1 ∧ σ' = σ) ∨ (∃ d n : Nat, x = nI d ∧ y = nI n ∧ 1 ≤ d ∧ d ≤ σ.1 0 ∧ 1 ≤ n ∧ n ≤ 48 - σ.1 0 ∧ r = nI (σ.1 0 + n) ∧ σ'.1 0 = σ.1 0 + n ∧ sqFr [0] [1] σ σ' ∧ (∀ j, j < σ.1 0 → σ'.2 1 j = σ.2 1 j) ∧ ∀ j, σ.1 0 ≤ j → j < σ.1 0 + n → σ'.2 1 j = σ'.2 1 (j - d)))
    (p1 : ((x < 1 ∨ nI (τ.1 1) < x ∨ y < 1 ∨ nI (48 - τ.1 1) < y) ∧ r' = -1 ∧ τ' = τ) ∨ (∃ d n : Nat, x = nI d ∧ y = nI n ∧ 1 ≤ d ∧ d ≤ τ.1 1 ∧ 1 ≤ n ∧ n ≤ 48 - τ.1 1 ∧ r' = nI (τ.1 1 + n) ∧ τ'.1 1 = τ.1 1 + n ∧ sqFr [1] [0] τ τ' ∧ (∀ j, j < τ.1 1 → τ'.2 0 j = τ.2 0 j) ∧ ∀ j, τ.1 1 ≤ j → j < τ.1 1 + n → τ'.2 0 j = τ'.2 0 (j - d))) : r = r' ∧ sqInv σ' τ' := by
  obtain ⟨h1, h2, h3⟩ := h.1
  have bad : ∀ (k d n : Nat), k ≤ 48 → x = nI d → y = nI n → 1 ≤ d → d ≤ k → 1 ≤ n → n ≤ 48 - k → ¬ (x < 1 ∨ nI k < x ∨ y < 1 ∨ nI (48 - k) < y) := by
    intro k d n hk e1 e2 d1 d2 n1 n2 q
    rcases q with q | q | q | q
    · exact sq_not_rng (n := k) (by omega) d1 d2 e1 (Or.inl q)
    · exact sq_not_rng (n := k) (by omega) d1 d2 e1 (Or.inr q)
    · exact sq_not_rng (n := 48 - k) (by omega) n1 n2 e2 (Or.inl q)
    · exact sq_not_rng (n := 48 - k) (by omega) n1 n2 e2 (Or.inr q)
  rcases p0 with ⟨a1, a2, a3⟩ | ⟨d, n, a1, a2, a3, a4, a5, a6, a7, a8, a9, b1, b2⟩
  · rcases p1 with ⟨c1, c2, c3⟩ | ⟨d', n', c1, c2, c3, c4, c5, c6, c7, c8, c9, d1, d2⟩
    · exact ⟨by rw [a2, c2], by rw [a3, c3]; exact h⟩
    · rw [h1] at a1
      exact absurd a1 (bad (τ.1 1) d' n' (by omega) c1 c2 c3 c4 c5 c6)
  · rcases p1 with ⟨c1, c2, c3⟩ | ⟨d', n', c1, c2, c3, c4, c5, c6, c7, c8, c9, d1, d2⟩
    · rw [← h1] at c1
      exact absurd c1 (bad (σ.1 0) d n h2 a1 a2 a3 a4 a5 a6)
    · obtain rfl : d = d' := (nI_eq (by omega) (by omega)).mp (a1.symm.trans c1)
      obtain rfl : n = n' := (nI_eq (by omega) (by omega)).mp (a2.symm.trans c2)
      refine ⟨by rw [a7, c7, h1], sqInv_dr h a9 c9 ⟨by omega, by omega, ?_⟩⟩
      intro j
      induction j using Nat.strongRecOn with
      | ind j ih =>
        intro hj
        by_cases q : j < σ.1 0
        · rw [b1 j q, d1 j (by omega)]
          exact h3 j q
        · rw [b2 j (by omega) (by omega), d2 j (by omega) (by omega)]
          exact ih (j - d) (by omega) (by omega)
theorem sqInv_edit {σ τ σ' τ' : SqSt} (h : sqInv σ τ) (p0 : sqFr [0] [1] σ σ' ∧ σ'.1 0 = σ.1 2 ∧ ∀ j, j < σ.1 2 → σ'.2 1 j = σ.2 3 j) (p1 : sqFr [1] [0] τ τ' ∧ τ'.1 1 = τ.1 3 ∧ ∀ j, j < τ.1 3 → τ'.2 0 j = τ.2 2 j) : sqInv σ' τ' := by
  obtain ⟨h1, h2, h3⟩ := h.2.1
  obtain ⟨a1, a2, a3⟩ := p0
  obtain ⟨b1, b2, b3⟩ := p1
  refine sqInv_dr h a1 b1 ⟨by omega, by omega, fun j hj => ?_⟩
  rw [a3 j (by omega), b3 j (by omega)]
  exact h3 j (by omega)
theorem sqInv_at {σ τ σ' τ' : SqSt} {x r r' : Int32} (h : sqInv σ τ) (p0 : ((x < 0 ∨ nI (σ.1 2) ≤ x) → r = -1) ∧ (∀ j, j < σ.1 2 → x = nI j → r = nI (σ.2 3 j)) ∧ σ' = σ) (p1 : ((x < 0 ∨ nI (τ.1 3) ≤ x) → r' = -1) ∧ (∀ j, j < τ.1 3 → x = nI j → r' = nI (τ.2 2 j)) ∧ τ' = τ) : r = r' ∧ sqInv σ' τ' := by
  obtain ⟨h1, h2, h3⟩ := h.2.1
  refine ⟨?_, by rw [p0.2.2, p1.2.2]; exact h⟩
  rcases pk_ix x (n := σ.1 2) (by omega) with q | q | ⟨j, hj, q⟩
  · rw [p0.1 (Or.inl q), p1.1 (Or.inl q)]
  · rw [p0.1 (Or.inr q), p1.1 (Or.inr (by rw [← h1]; exact q))]
  · rw [p0.2.1 j hj q, p1.2.1 j (by omega) q, (h3 j hj).1]
theorem sqFind_eq {g g' : Nat → Nat} {n v : Nat} {y r r' : Int32} (hg : ∀ j, j < n → g j = g' j) (h : sqFind g n v y r) (h' : sqFind g' n v y r') : r = r' := by
  rcases h with ⟨k, a1, a2, a3, a4, a5⟩ | ⟨a1, a2⟩
  · rcases h' with ⟨k', b1, b2, b3, b4, b5⟩ | ⟨b1, b2⟩
    · rcases Nat.lt_trichotomy k k' with q | q | q
      · exact absurd (by rw [← hg k a2]; exact a4) (b5 k q a3)
      · rw [a1, b1, q]
      · exact absurd (by rw [hg k' b2]; exact b4) (a5 k' q b3)
    · exact absurd (by rw [← hg k a2]; exact a4) (b2 k a2 a3)
  · rcases h' with ⟨k', b1, b2, b3, b4, b5⟩ | ⟨b1, b2⟩
    · exact absurd (by rw [hg k' b2]; exact b4) (a2 k' b2 b3)
    · rw [a1, b1]
theorem sqInv_find {σ τ σ' τ' : SqSt} {v : Nat} {y r r' : Int32} (h : sqInv σ τ) (p0 : sqFind (σ.2 3) (σ.1 2) v y r ∧ σ' = σ) (p1 : sqFind (τ.2 2) (τ.1 3) v y r' ∧ τ' = τ) : r = r' ∧ sqInv σ' τ' := by
  obtain ⟨h1, h2, h3⟩ := h.2.1
  refine ⟨?_, by rw [p0.2, p1.2]; exact h⟩
  have p1 := p1.1
  rw [← h1] at p1
  exact sqFind_eq (fun j hj => (h3 j hj).1) p0.1 p1
theorem sqInv_send {σ τ σ' τ' : SqSt} {r r' : Int32} (h : sqInv σ τ)
    (p0 : (σ.1 5 < 4 → r = nI (σ.1 5 + 1) ∧ σ'.1 5 = σ.1 5 + 1 ∧ sqBlk (σ'.2 6) (352 * ((σ.1 4 + σ.1 5) % 4)) (σ.1 0) (σ.2 1) ∧ (∀ j, σ'.2 6 j < 256) ∧ sqFr [5, 8, 9, 10, 11, 12, 13, 16, 17] [6, 7] σ σ' ∧ ∀ j, ¬ (352 * ((σ.1 4 + σ.1 5) % 4) ≤ j ∧ j < 352 * ((σ.1 4 + σ.1 5) % 4) + 352) → σ'.2 6 j = σ.2 6 j) ∧ (¬ σ.1 5 < 4 → r = -1 ∧ σ' = σ))
    (p1 : (τ.1 6 < 4 → r' = nI (τ.1 6 + 1) ∧ τ'.1 6 = τ.1 6 + 1 ∧ sqFr [6] [4, 5] τ τ' ∧ τ'.2 5 = sqU (τ.2 5) (τ.1 6) (τ.1 1) ∧ (∀ j, j < τ.1 1 → τ'.2 4 (48 * τ.1 6 + j) = τ.2 0 j) ∧ ∀ j, j < 48 * τ.1 6 → τ'.2 4 j = τ.2 4 j) ∧ (¬ τ.1 6 < 4 → r' = -1 ∧ τ' = τ)) : r = r' ∧ sqInv σ' τ' := by
  obtain ⟨hd, hp, h1, h2, h3, h4, h5⟩ := h
  by_cases c : σ.1 5 < 4
  · obtain ⟨a1, a2, a3, a4, a5, a6⟩ := p0.1 c
    obtain ⟨b1, b2, b3, b4, b5, b6⟩ := p1.1 (by omega)
    refine ⟨by rw [a1, b1, h1], ?_, ?_, ?_⟩
    · rw [a5.1 0 (by decide), b3.1 1 (by decide), a5.2 1 (by decide), b3.2 0 (by decide)]
      exact hd
    · rw [a5.1 2 (by decide), b3.1 3 (by decide), a5.2 3 (by decide), b3.2 2 (by decide)]
      exact hp
    · rw [a5.1 4 (by decide)]
      refine ⟨by omega, by omega, h3, a4, fun b hb => ?_⟩
      rw [b4]
      by_cases q : b = σ.1 5
      · rw [q, h1, sqU_s, ← hd.1, ← h1]
        refine sqBlk_congr a3 (fun _ _ _ => rfl) (fun j hj => ?_)
        show τ'.2 4 (48 * σ.1 5 + j) = σ.2 1 j
        rw [h1, b5 j (by omega)]
        exact (hd.2.2 j hj).1.symm
      · rw [sqU_n _ _ (by omega)]
        have hb2 := h5 b (by omega)
        have hl := hb2.1
        refine sqBlk_congr hb2 (fun j j1 j2 => a6 j (by omega)) (fun j hj => ?_)
        exact b6 (48 * b + j) (by omega)
  · obtain ⟨e1, e2⟩ := p0.2 c
    obtain ⟨e3, e4⟩ := p1.2 (by omega)
    exact ⟨by rw [e1, e3], by rw [e2, e4]; exact ⟨hd, hp, h1, h2, h3, h4, h5⟩⟩
theorem sqInv_blk0 {σ τ : SqSt} (h : sqInv σ τ) (hc : ¬ σ.1 5 = 0) : sqBlk (σ.2 6) (352 * σ.1 4) (τ.2 5 0) (fun j => τ.2 4 j) := by
  obtain ⟨-, -, -, -, h3, -, h5⟩ := h
  have hb := h5 0 (by omega)
  rw [show (σ.1 4 + 0) % 4 = σ.1 4 by omega] at hb
  exact sqBlk_congr hb (fun _ _ _ => rfl) (fun j _ => by show τ.2 4 j = τ.2 4 (48 * 0 + j); rw [Nat.mul_zero, Nat.zero_add])
theorem sqInv_receive {σ τ σ' τ' : SqSt} {r r' : Int32} (h : sqInv σ τ)
    (p0 : (σ.1 5 = 0 → r = -1 ∧ σ' = σ) ∧ (¬ σ.1 5 = 0 → r = nI (τ.2 5 0) ∧ σ'.1 2 = τ.2 5 0 ∧ (∀ j, j < τ.2 5 0 → σ'.2 3 j = τ.2 4 j) ∧ σ'.1 4 = (σ.1 4 + 1) % 4 ∧ σ'.1 5 = σ.1 5 - 1 ∧ sqFr [2, 4, 5, 9, 12, 14, 15] [3, 7] σ σ'))
    (p1 : (τ.1 6 = 0 → r' = -1 ∧ τ' = τ) ∧ (¬ τ.1 6 = 0 → r' = nI (τ.2 5 0) ∧ τ'.1 3 = τ.2 5 0 ∧ (∀ j, j < τ.2 5 0 → τ'.2 2 j = τ.2 4 j) ∧ τ'.1 6 = τ.1 6 - 1 ∧ sqFr [3, 6] [2, 4, 5] τ τ' ∧ (∀ c, c < τ.1 6 - 1 → τ'.2 5 c = τ.2 5 (c + 1)) ∧ ∀ c, c < τ.1 6 - 1 → ∀ j, j < 48 → τ'.2 4 (48 * c + j) = τ.2 4 (48 * (c + 1) + j))) : r = r' ∧ sqInv σ' τ' := by
  have h0 := sqInv_blk0 h
  obtain ⟨hd, hp, h1, h2, h3, h4, h5⟩ := h
  by_cases c : σ.1 5 = 0
  · obtain ⟨e1, e2⟩ := p0.1 c
    obtain ⟨e3, e4⟩ := p1.1 (by omega)
    exact ⟨by rw [e1, e3], by rw [e2, e4]; exact ⟨hd, hp, h1, h2, h3, h4, h5⟩⟩
  · obtain ⟨a1, a2, a3, a4, a5, a6⟩ := p0.2 c
    obtain ⟨b1, b2, b3, b4, b5, b6, b7⟩ := p1.2 (by omega)
    have h0 := h0 c
    refine ⟨by rw [a1, b1], ?_, ?_, ?_⟩
    · rw [a6.1 0 (by decide), b5.1 1 (by decide), a6.2 1 (by decide), b5.2 0 (by decide)]
      exact hd
    · rw [a2, b2]
      exact ⟨rfl, h0.1, fun j hj => ⟨by rw [a3 j hj, b3 j hj], by rw [a3 j hj]; exact h0.2.1 j hj⟩⟩
    · rw [a4, a6.2 6 (by decide)]
      refine ⟨by omega, by omega, by omega, h4, fun b hb => ?_⟩
      have hb2 := h5 (b + 1) (by omega)
      rw [b6 b (by omega), show ((σ.1 4 + 1) % 4 + b) % 4 = (σ.1 4 + (b + 1)) % 4 by omega]
      have hl := hb2.1
      exact sqBlk_congr hb2 (fun _ _ _ => rfl) (fun j hj => b7 b (by omega) j (by omega))
end
section
set_option maxRecDepth 100000
/-! THE CLAIM OUT OF ONE WALK OF THE LAW'S BODY. Your part is whole_start (and what it stands on); all else here is the same for every law, but numbers. -/
def R_law : String := "SqueezeQueueLaw"
def lw_P (b : Addr) (xs : List Int32) (args : Array Value) (s : State) : Prop := args = #[.ref b] ∧ s.IntsAt b xs ∧ xs.length ≤ 192 ∧ (Jvm.Cond.and given_1 narrow_1).before args s = true
def lw_Q (_ : Array Value) (s : State) (o : Outcome) (t : State) : Prop := o = .returned (some (.int 1)) ∧ Framed s o t [] 600000 7290000
def lw_Z (below : List Frame) (a : Array Value) (s : State) : State → Prop := fun t => ∃ o, t.status = .running ∧ Ended t below o ∧ lw_Q a s o t
/-- the law's own end, with 1 on the stack, nothing written that was there before, its room as the claim has it -/
theorem lw_ret {p : Program} {l : Launch} {e : Env} {s : State} {m : MethodId} {below : List Frame} {meth : Method} {c : Code} {b : Nat} (hx : p.tables.exec = Jvm.exec) (hb : c.code = code) (hr : meth.sig.returnType = ret) (hlocks : meth.locks = false) {pc : Nat} {H : Heap} {ls : Array Slot} (hdg : decode code pc = .ok (.ireturn, 1)) : W p l e room_1 s m #[Value.ref b] below meth c H [] 600000 7290000 (lw_Z below #[Value.ref b] s) (F0 m pc ls [.int 1]) := by
  intro T hT X
  obtain ⟨fs, hret, hrun, hended, hW, hframe⟩ := X.leave (v := some (.int 1)) (hlocks := hlocks) (fun h => by rw [hr] at h; cases h)
  have hmeth' : T.vm.method? m = some meth := X.method'
  refine ⟨T.setFrames fs, ?_, .returned (some (.int 1)), hrun, hended, rfl, ⟨_, rfl⟩, hW, hframe⟩
  jvm_step X.here [X.here.top, hx, hb, hdg, hmeth', hr, ret, narrow_b1]
  (try refine ⟨rfl, ?_⟩); (try refine ⟨rfl, ?_⟩)
  first | (intro acts; rw [hret _ acts rfl rfl rfl]) | rw [hret _ _ rfl rfl rfl]
  exact Steps.refl _
/-- what holds at the law's entry: the machine, the code, the tables' words (any of lw_tbl by 'hts w (by decide +kernel)'), the script of L ints xs at the cell b, what the Statement gives of the start (any of its parts by flat_of_before) -/
def lw_At (p : Program) (s : State) (m : MethodId) (meth : Method) (c : Code) (b L : Nat) (xs : Nat → Int32) : Prop :=
  p.tables.exec = Jvm.exec ∧ c.code = code ∧ meth.sig.returnType = ret ∧ c.maxLocals = 4 ∧ s.vm.findClass R_law = some m.cls ∧ (∀ w ∈ lw_tbl, w.before #[Value.ref b] s = true) ∧ va_X b L xs s s.heap ∧ b < s.heap.size ∧ meth.locks = false ∧ (Jvm.Cond.and given_1 narrow_1).before #[Value.ref b] s = true
/-! two objects' worlds side by side -/
def sq_wp (D : va_G) (A : Nat → Prop) (H0 : Heap) (s : State) (t1 t2 : List (ClassId × FieldType)) (w1 w2 : va_W) (H : Heap) (locs : List Loc) : Prop := va_K D vwCl t1 s ∧ va_K D vwCl t2 s ∧ va_P D vwCl w1 H ∧ va_P D vwCl w2 H ∧ va_D A w1 ∧ va_D A w2 ∧ (∀ (i j : Nat) (x y : Nat × va_E), w1[i]? = some x → w2[j]? = some y → x.1 ≠ y.1) ∧ va_S A H0 H locs ∧ ∀ q : Nat, H0.size ≤ q → A q
theorem sq_wp_sw {D : va_G} {A : Nat → Prop} {H0 : Heap} {s : State} {t1 t2 : List (ClassId × FieldType)} {w1 w2 : va_W} {H : Heap} {locs : List Loc} (w : sq_wp D A H0 s t1 t2 w1 w2 H locs) : sq_wp D A H0 s t2 t1 w2 w1 H locs :=
  ⟨w.2.1, w.1, w.2.2.2.1, w.2.2.1, w.2.2.2.2.2.1, w.2.2.2.2.1, fun i j x y h1 h2 e => w.2.2.2.2.2.2.1 j i y x h2 h1 e.symm, w.2.2.2.2.2.2.2.1, w.2.2.2.2.2.2.2.2⟩
theorem sq_wp_free {D : va_G} {A : Nat → Prop} {H0 : Heap} {s : State} {t1 t2 : List (ClassId × FieldType)} {w1 w2 : va_W} {H : Heap} {locs : List Loc} (w : sq_wp D A H0 s t1 t2 w1 w2 H locs) : ∀ q, va_A w1 H.size q → A q := by
  obtain ⟨_, _, _, _, d1, _, _, hS, hA⟩ := w
  intro q h
  rcases h with ⟨k, e9, h⟩ | h
  · exact d1.2 k _ h
  · exact hA q (Nat.le_trans hS.1 h)
theorem sq_wp_next {D : va_G} {A : Nat → Prop} {H0 : Heap} {s : State} {t1 t2 t1' : List (ClassId × FieldType)} {w1 w2 w1' : va_W} {H H1 : Heap} {locs locs1 : List Loc} (w : sq_wp D A H0 s t1 t2 w1 w2 H locs) (hK1 : va_K D vwCl t1' s) (hk : ∀ q : Nat, q < H.size → ¬ va_A w1 H.size q → H1[q]? = H[q]?) (hP1 : va_P D vwCl w1' H1) (hD1 : va_D (va_A w1 H.size) w1') (hS1 : va_S A H0 H1 locs1) : sq_wp D A H0 s t1' t2 w1' w2 H1 locs1 := by
  have hF := sq_wp_free w
  obtain ⟨k1, k2, p1, p2, d1, d2, dd, hS, hA⟩ := w
  have ap : ∀ (j : Nat) (y : Nat × va_E), w2[j]? = some y → y.1 < H.size ∧ ¬ va_A w1 H.size y.1 := by
    intro j y hy
    have hlt := (p2 j y hy).lt
    refine ⟨hlt, fun h => ?_⟩
    rcases h with ⟨k, e9, h⟩ | h
    · exact dd k j (y.1, e9) y h hy rfl
    · omega
  exact ⟨hK1, k2, hP1, fun j y hy => (p2 j y hy).kept (hk y.1 (ap j y hy).1 (ap j y hy).2), hD1.weaken (fun _ _ _ h => hF _ h), d2, fun i j x y hx hy e9 => (ap j y hy).2 (by rw [← e9]; exact hD1.2 i x hx), hS1, hA⟩
theorem sq_splitP {D : va_G} {cl : List vw_C} {w1 w2 : va_W} {H : Heap} (h : va_P D cl (w1 ++ w2) H) : va_P D cl w1 H ∧ va_P D cl w2 H := by
  constructor
  · intro k q hk
    refine h k q ?_
    rw [List.getElem?_append_left (List.getElem?_eq_some_iff.mp hk).1]
    exact hk
  · intro k q hk
    refine h (w1.length + k) q ?_
    rw [List.getElem?_append_right (by omega), Nat.add_sub_cancel_left]
    exact hk
theorem sq_splitD {A : Nat → Prop} {w1 w2 : va_W} (h : va_D A (w1 ++ w2)) : va_D A w1 ∧ va_D A w2 ∧ ∀ (i j : Nat) (x y : Nat × va_E), w1[i]? = some x → w2[j]? = some y → x.1 ≠ y.1 := by
  have l1 : ∀ (k : Nat) (q : Nat × va_E), w1[k]? = some q → (w1 ++ w2)[k]? = some q := by
    intro k q hk
    rw [List.getElem?_append_left (List.getElem?_eq_some_iff.mp hk).1]
    exact hk
  have l2 : ∀ (k : Nat) (q : Nat × va_E), w2[k]? = some q → (w1 ++ w2)[w1.length + k]? = some q := by
    intro k q hk
    rw [List.getElem?_append_right (by omega), Nat.add_sub_cancel_left]
    exact hk
  refine ⟨⟨fun i j x y hx hy e9 => h.1 i j x y (l1 i x hx) (l1 j y hy) e9, fun k q hk => h.2 k q (l1 k q hk)⟩, ⟨fun i j x y hx hy e9 => ?_, fun k q hk => h.2 _ q (l2 k q hk)⟩, fun i j x y hx hy e9 => ?_⟩
  · have := h.1 _ _ x y (l2 i x hx) (l2 j y hy) e9
    omega
  · have := h.1 _ _ x y (l1 i x hx) (l2 j y hy) e9
    have := (List.getElem?_eq_some_iff.mp hx).1
    omega
section SqLaw
variable {p : Program} {l : Launch} {e : Env} {R : Room} {s : State} {m : MethodId} {args : Array Value} {below : List Frame} {meth : Method} {c : Code} {H : Heap} {locs : List Loc} {cells slots : Nat} {Q : State → Prop}
variable {cc : ByteArray} {pc : Nat} {ls : Array Slot} {rest : List Value} {nL : Nat} {own C : String} {D : va_G} {A : Nat → Prop} {H0 : Heap} {t1 t2 : List (ClassId × FieldType)} {wf : SqSt → va_W} {w1 w2 : va_W} {ad : Nat} {σ : SqSt}
theorem sq_sld {b L : Nat} {xs : Nat → Int32} (S : CallFix p m c cc nL s args lw_all own) (hX : va_X b L xs s H0) (hbl : b < H0.size) (hbA : ¬ A b) (w : sq_wp D A H0 s t1 t2 w1 w2 H locs) {j : Nat} (hj : j < L) (hL : L < 2147483648) (hdg : decode cc pc = .ok (.iaload, 1)) (kk : W p l e R s m args below meth c H locs cells slots Q (F0 m (pc + 1) ls (.int (xs j) :: rest))) : W p l e R s m args below meth c H locs cells slots Q (F0 m pc ls (.int (nI j) :: .ref b :: rest)) := by
  have e9 : (nI j).toNatClampNeg = j := nI_clamp (by omega)
  exact va_sld S.1 S.2.1 hX hbl hbA w.2.2.2.2.2.2.2.1 (vp_in_nI hj hL) hdg (by rw [e9]; exact kk)
theorem sq_slen {b L : Nat} {xs : Nat → Int32} (S : CallFix p m c cc nL s args lw_all own) (hX : va_X b L xs s H0) (hbl : b < H0.size) (hbA : ¬ A b) (w : sq_wp D A H0 s t1 t2 w1 w2 H locs) (hdg : decode cc pc = .ok (.arraylength, 1)) (kk : W p l e R s m args below meth c H locs cells slots Q (F0 m (pc + 1) ls (.int (nI L) :: rest))) : W p l e R s m args below meth c H locs cells slots Q (F0 m pc ls (.ref b :: rest)) :=
  va_slen S.1 S.2.1 hX hbl hbA w.2.2.2.2.2.2.2.1 hdg kk
theorem sq_call2v {y : MethodName} {bytes : ByteArray} {maxL index n : Nat} {rmc : Room} {avs st0 : List Value} {post : SqSt → Prop} (S : CallFix p m c cc nL s args lw_all own) (w : sq_wp D A H0 s t1 t2 (wf σ) w2 H locs) (hM : sqMv l y (ws_ y bytes maxL none) rmc D t1 wf ad σ avs post) (cw : CallW R s args own C index y bytes maxL none (ws_ y bytes maxL none) rmc 0 0 n) (hrc : ∃ cell : Cell, H[ad]? = some cell ∧ cell.vm.isStatics = false ∧ s.vm.findClass C = some cell.cls) (hn : avs.length = n) (hls : ls.size = nL) (hst : st0 = avs.reverse ++ .ref ad :: rest) (hro : (rest.map fun v => v.category).sum ≤ 8) (hcs : cells ≤ R.cells ∧ slots ≤ R.slots) (hdg : decode cc pc = .ok (.invokevirtual index, 3))
    (kk : ∀ (σ1 : SqSt) (H1 : Heap) (locs1 : List Loc), post σ1 → sq_wp D A H0 s t1 t2 (wf σ1) w2 H1 locs1 → W p l e R s m args below meth c H1 locs1 cells slots Q (F0 m (pc + 3) ls rest)) : W p l e R s m args below meth c H locs cells slots Q (F0 m pc ls st0) := by
  have hF := sq_wp_free w
  have hw := w
  obtain ⟨k1, k2, p1, p2, d1, d2, dd, hS, hA⟩ := w
  refine va_callv (va_runV (As := avs) (rest := rest) S (hM H.size) cw ⟨fun a U g mk q => by obtain ⟨q0, q1, qP, qK, qD⟩ := q; exact ⟨q0, q1, qP, va_K.moved (u := U) (U := U.calling g mk a) (Vm.Alike.refl U.vm) qK, qD⟩, hrc, fun U hU hW => ⟨rfl, by rw [hU], by rw [hU]; exact p1, va_K.moved hW.alike k1, d1.weaken (fun _ _ _ _ => trivial)⟩⟩ rfl hn hls hst (lv_room hro) hdg hcs) hS (fun q _ h => hF q h) hF (fun u t H1 locs1 ht hvm hp hB hz hk hS => ?_)
  obtain ⟨hP1, hK1, hD1⟩ := hB
  rw [ht] at hP1
  exact kk u H1 locs1 hp (sq_wp_next hw k1 hk hP1 hD1 hS)
theorem sq_call2i {y : MethodName} {bytes : ByteArray} {maxL index n : Nat} {rmc : Room} {avs st0 : List Value} {post : Int32 → SqSt → Prop} (S : CallFix p m c cc nL s args lw_all own) (w : sq_wp D A H0 s t1 t2 (wf σ) w2 H locs) (hM : sqMi l y (ws_ y bytes maxL (some .int)) rmc D t1 wf ad σ avs post) (cw : CallW R s args own C index y bytes maxL (some .int) (ws_ y bytes maxL (some .int)) rmc 0 0 n) (hrc : ∃ cell : Cell, H[ad]? = some cell ∧ cell.vm.isStatics = false ∧ s.vm.findClass C = some cell.cls) (hn : avs.length = n) (hls : ls.size = nL) (hst : st0 = avs.reverse ++ .ref ad :: rest) (hro : (rest.map fun v => v.category).sum ≤ 8) (hcs : cells ≤ R.cells ∧ slots ≤ R.slots) (hdg : decode cc pc = .ok (.invokevirtual index, 3))
    (kk : ∀ (r : Int32) (σ1 : SqSt) (H1 : Heap) (locs1 : List Loc), post r σ1 → sq_wp D A H0 s t1 t2 (wf σ1) w2 H1 locs1 → W p l e R s m args below meth c H1 locs1 cells slots Q (F0 m (pc + 3) ls (.int r :: rest))) : W p l e R s m args below meth c H locs cells slots Q (F0 m pc ls st0) := by
  have hF := sq_wp_free w
  have hw := w
  obtain ⟨k1, k2, p1, p2, d1, d2, dd, hS, hA⟩ := w
  refine va_calli (va_runV (As := avs) (rest := rest) S (hM H.size) cw ⟨fun a U g mk q => by obtain ⟨q0, q1, qP, qK, qD⟩ := q; exact ⟨q0, q1, qP, va_K.moved (u := U) (U := U.calling g mk a) (Vm.Alike.refl U.vm) qK, qD⟩, hrc, fun U hU hW => ⟨rfl, by rw [hU], by rw [hU]; exact p1, va_K.moved hW.alike k1, d1.weaken (fun _ _ _ _ => trivial)⟩⟩ rfl hn hls hst (lv_room hro) hdg hcs) hS (fun q _ h => hF q h) hF (fun r u t H1 locs1 ht hvm hp hB hz hk hS => ?_)
  obtain ⟨hP1, hK1, hD1⟩ := hB
  rw [ht] at hP1
  exact kk r u H1 locs1 hp (sq_wp_next hw k1 hk hP1 hD1 hS)
end SqLaw
end
section
set_option maxHeartbeats 4000000 in
set_option maxRecDepth 100000 in
theorem law_put {p : Program} {l : Launch} {e : Env} {s : State} {m : MethodId} {below : List Frame} {meth : Method} {c : Code} {Q : State → Prop} {D : va_G} {A : Nat → Prop} {a a' : Nat → Nat} {cA cA' : Nat → ClassId} {b L : Nat} {xs : Nat → Int32} (S : CallFix p m c cL_law 4 s #[Value.ref b] lw_all R_law) (hX : va_X b L xs s s.heap) (hbl : b < s.heap.size) (hbA : ¬ A b) (hL : L ≤ 192) {i : Nat} (hi : i + 3 ≤ L) {ls : Array Slot} (hl : lv_has ls 4 [(0, .ref b), (1, .ref (a 20)), (2, .ref (a' 20)), (3, .int (nI i))]) (K : ∀ (σ τ : SqSt) (H : Heap) (locs : List Loc), sqInv σ τ → sq_wp D A s.heap s (tX0 cA) (tX1 cA') (wX0 a cA σ) (wX1 a' cA' τ) H locs → W p l e room_1 s m #[Value.ref b] below meth c H locs 10 2215 Q (F0 m 274 ls [])) {σ τ : SqSt} {H : Heap} {locs : List Loc} (hI : sqInv σ τ) (w : sq_wp D A s.heap s (tX0 cA) (tX1 cA') (wX0 a cA σ) (wX1 a' cA' τ) H locs) : W p l e room_1 s m #[Value.ref b] below meth c H locs 10 2215 Q (F0 m 88 ls []) := by
  refine sq_aloadn S dL_law_88 rfl (lv_at hl 1 rfl) ?_
  refine sq_aloadn S dL_law_89 rfl (lv_at hl 0 rfl) ?_
  refine sq_iloadn S dL_law_90 rfl (lv_at hl 3 rfl) ?_
  refine sq_iconst S 1 (by decide) dL_law_91 ?_
  refine sq_iadd S dL_law_92 ?_
  refine sq_sld S hX hbl hbA w (j := i + 1) (by omega) (by omega) dL_law_93 ?_
  refine sq_call2i S w (metX0_put l D a cA σ (xs (i + 1)) hI.1.2.1) (cwV 1 S.2.2.2.2 (lw_V q82 q83 q84 q15 q85) rfl rfl rfl (by decide +kernel) ⟨Nat.le_of_ble_eq_true rfl, Nat.le_of_ble_eq_true rfl⟩) (va_recv w.1 w.2.2.1 (ci := 0) (q0 := 0) rfl rfl) rfl hl.1 rfl (Nat.le_of_ble_eq_true rfl) ⟨Nat.le_of_ble_eq_true rfl, Nat.le_of_ble_eq_true rfl⟩ dL_law_94 (fun r0 σ1 H locs p0 w => ?_)
  refine sq_aloadn S dL_law_97 rfl (lv_at hl 2 rfl) ?_
  refine sq_aloadn S dL_law_98 rfl (lv_at hl 0 rfl) ?_
  refine sq_iloadn S dL_law_99 rfl (lv_at hl 3 rfl) ?_
  refine sq_iconst S 1 (by decide) dL_law_100 ?_
  refine sq_iadd S dL_law_101 ?_
  refine sq_sld S hX hbl hbA w (j := i + 1) (by omega) (by omega) dL_law_102 ?_
  refine sq_call2i S (sq_wp_sw w) (metX1_put l D a' cA' τ (xs (i + 1)) (by have := hI.1; omega)) (cwV 1 S.2.2.2.2 (lw_V q210 q211 q212 q16 q213) rfl rfl rfl (by decide +kernel) ⟨Nat.le_of_ble_eq_true rfl, Nat.le_of_ble_eq_true rfl⟩) (va_recv w.2.1 w.2.2.2.1 (ci := 1) (q0 := 0) rfl rfl) rfl hl.1 rfl (Nat.le_of_ble_eq_true rfl) ⟨Nat.le_of_ble_eq_true rfl, Nat.le_of_ble_eq_true rfl⟩ dL_law_103 (fun r1 τ1 H locs p1 w => ?_)
  have w := sq_wp_sw w
  refine lv_icmp_eq (tgt := 274) S.1 S.2.1 dL_law_106 (by decide) (fun c106 => ?_) (fun c106 => ?_)
  · have hfin : r0 = r1 ∧ sqInv σ1 τ1 := sqInv_put hI p0 p1
    exact K _ _ _ _ hfin.2 w
  · have hfin : r0 = r1 ∧ sqInv σ1 τ1 := sqInv_put hI p0 p1
    exact absurd hfin.1 c106
set_option maxHeartbeats 4000000 in
set_option maxRecDepth 100000 in
theorem law_repeat {p : Program} {l : Launch} {e : Env} {s : State} {m : MethodId} {below : List Frame} {meth : Method} {c : Code} {Q : State → Prop} {D : va_G} {A : Nat → Prop} {a a' : Nat → Nat} {cA cA' : Nat → ClassId} {b L : Nat} {xs : Nat → Int32} (S : CallFix p m c cL_law 4 s #[Value.ref b] lw_all R_law) (hX : va_X b L xs s s.heap) (hbl : b < s.heap.size) (hbA : ¬ A b) (hL : L ≤ 192) {i : Nat} (hi : i + 3 ≤ L) {ls : Array Slot} (hl : lv_has ls 4 [(0, .ref b), (1, .ref (a 20)), (2, .ref (a' 20)), (3, .int (nI i))]) (K : ∀ (σ τ : SqSt) (H : Heap) (locs : List Loc), sqInv σ τ → sq_wp D A s.heap s (tX0 cA) (tX1 cA') (wX0 a cA σ) (wX1 a' cA' τ) H locs → W p l e room_1 s m #[Value.ref b] below meth c H locs 10 2215 Q (F0 m 274 ls [])) {σ τ : SqSt} {H : Heap} {locs : List Loc} (hI : sqInv σ τ) (w : sq_wp D A s.heap s (tX0 cA) (tX1 cA') (wX0 a cA σ) (wX1 a' cA' τ) H locs) : W p l e room_1 s m #[Value.ref b] below meth c H locs 10 2215 Q (F0 m 111 ls []) := by
  refine sq_aloadn S dL_law_111 rfl (lv_at hl 1 rfl) ?_
  refine sq_aloadn S dL_law_112 rfl (lv_at hl 0 rfl) ?_
  refine sq_iloadn S dL_law_113 rfl (lv_at hl 3 rfl) ?_
  refine sq_iconst S 1 (by decide) dL_law_114 ?_
  refine sq_iadd S dL_law_115 ?_
  refine sq_sld S hX hbl hbA w (j := i + 1) (by omega) (by omega) dL_law_116 ?_
  refine sq_aloadn S dL_law_117 rfl (lv_at hl 0 rfl) ?_
  refine sq_iloadn S dL_law_118 rfl (lv_at hl 3 rfl) ?_
  refine sq_iconst S 2 (by decide) dL_law_119 ?_
  refine sq_iadd S dL_law_120 ?_
  refine sq_sld S hX hbl hbA w (j := i + 2) (by omega) (by omega) dL_law_121 ?_
  refine sq_call2i S w (metX0_repeat l D a cA σ (xs (i + 1)) (xs (i + 2)) hI.1.2.1) (cwV 2 S.2.2.2.2 (lw_V q86 q87 q88 q15 q89) rfl rfl rfl (by decide +kernel) ⟨Nat.le_of_ble_eq_true rfl, Nat.le_of_ble_eq_true rfl⟩) (va_recv w.1 w.2.2.1 (ci := 0) (q0 := 0) rfl rfl) rfl hl.1 rfl (Nat.le_of_ble_eq_true rfl) ⟨Nat.le_of_ble_eq_true rfl, Nat.le_of_ble_eq_true rfl⟩ dL_law_122 (fun r0 σ1 H locs p0 w => ?_)
  refine sq_aloadn S dL_law_125 rfl (lv_at hl 2 rfl) ?_
  refine sq_aloadn S dL_law_126 rfl (lv_at hl 0 rfl) ?_
  refine sq_iloadn S dL_law_127 rfl (lv_at hl 3 rfl) ?_
  refine sq_iconst S 1 (by decide) dL_law_128 ?_
  refine sq_iadd S dL_law_129 ?_
  refine sq_sld S hX hbl hbA w (j := i + 1) (by omega) (by omega) dL_law_130 ?_
  refine sq_aloadn S dL_law_131 rfl (lv_at hl 0 rfl) ?_
  refine sq_iloadn S dL_law_132 rfl (lv_at hl 3 rfl) ?_
  refine sq_iconst S 2 (by decide) dL_law_133 ?_
  refine sq_iadd S dL_law_134 ?_
  refine sq_sld S hX hbl hbA w (j := i + 2) (by omega) (by omega) dL_law_135 ?_
  refine sq_call2i S (sq_wp_sw w) (metX1_repeat l D a' cA' τ (xs (i + 1)) (xs (i + 2)) (by have := hI.1; omega)) (cwV 2 S.2.2.2.2 (lw_V q214 q215 q216 q16 q217) rfl rfl rfl (by decide +kernel) ⟨Nat.le_of_ble_eq_true rfl, Nat.le_of_ble_eq_true rfl⟩) (va_recv w.2.1 w.2.2.2.1 (ci := 1) (q0 := 0) rfl rfl) rfl hl.1 rfl (Nat.le_of_ble_eq_true rfl) ⟨Nat.le_of_ble_eq_true rfl, Nat.le_of_ble_eq_true rfl⟩ dL_law_136 (fun r1 τ1 H locs p1 w => ?_)
  have w := sq_wp_sw w
  refine lv_icmp_eq (tgt := 274) S.1 S.2.1 dL_law_139 (by decide) (fun c139 => ?_) (fun c139 => ?_)
  · have hfin : r0 = r1 ∧ sqInv σ1 τ1 := sqInv_repeat hI p0 p1
    exact K _ _ _ _ hfin.2 w
  · have hfin : r0 = r1 ∧ sqInv σ1 τ1 := sqInv_repeat hI p0 p1
    exact absurd hfin.1 c139
set_option maxHeartbeats 4000000 in
set_option maxRecDepth 100000 in
theorem law_erase {p : Program} {l : Launch} {e : Env} {s : State} {m : MethodId} {below : List Frame} {meth : Method} {c : Code} {Q : State → Prop} {D : va_G} {A : Nat → Prop} {a a' : Nat → Nat} {cA cA' : Nat → ClassId} {b L : Nat} {xs : Nat → Int32} (S : CallFix p m c cL_law 4 s #[Value.ref b] lw_all R_law) (hX : va_X b L xs s s.heap) (hbl : b < s.heap.size) (hbA : ¬ A b) (hL : L ≤ 192) {i : Nat} (hi : i + 3 ≤ L) {ls : Array Slot} (hl : lv_has ls 4 [(0, .ref b), (1, .ref (a 20)), (2, .ref (a' 20)), (3, .int (nI i))]) (K : ∀ (σ τ : SqSt) (H : Heap) (locs : List Loc), sqInv σ τ → sq_wp D A s.heap s (tX0 cA) (tX1 cA') (wX0 a cA σ) (wX1 a' cA' τ) H locs → W p l e room_1 s m #[Value.ref b] below meth c H locs 10 2215 Q (F0 m 274 ls [])) {σ τ : SqSt} {H : Heap} {locs : List Loc} (hI : sqInv σ τ) (w : sq_wp D A s.heap s (tX0 cA) (tX1 cA') (wX0 a cA σ) (wX1 a' cA' τ) H locs) : W p l e room_1 s m #[Value.ref b] below meth c H locs 10 2215 Q (F0 m 144 ls []) := by
  refine sq_aloadn S dL_law_144 rfl (lv_at hl 1 rfl) ?_
  refine sq_call2v S w (metX0_erase l D a cA σ ) (cwV 0 S.2.2.2.2 (lw_V q90 q91 q92 q15 q93) rfl rfl rfl (by decide +kernel) ⟨Nat.le_of_ble_eq_true rfl, Nat.le_of_ble_eq_true rfl⟩) (va_recv w.1 w.2.2.1 (ci := 0) (q0 := 0) rfl rfl) rfl hl.1 rfl (Nat.le_of_ble_eq_true rfl) ⟨Nat.le_of_ble_eq_true rfl, Nat.le_of_ble_eq_true rfl⟩ dL_law_145 (fun σ1 H locs p0 w => ?_)
  refine sq_aloadn S dL_law_148 rfl (lv_at hl 2 rfl) ?_
  refine sq_call2v S (sq_wp_sw w) (metX1_erase l D a' cA' τ ) (cwV 0 S.2.2.2.2 (lw_V q218 q219 q220 q16 q221) rfl rfl rfl (by decide +kernel) ⟨Nat.le_of_ble_eq_true rfl, Nat.le_of_ble_eq_true rfl⟩) (va_recv w.2.1 w.2.2.2.1 (ci := 1) (q0 := 0) rfl rfl) rfl hl.1 rfl (Nat.le_of_ble_eq_true rfl) ⟨Nat.le_of_ble_eq_true rfl, Nat.le_of_ble_eq_true rfl⟩ dL_law_149 (fun τ1 H locs p1 w => ?_)
  have w := sq_wp_sw w
  refine sq_goto S 274 dL_law_152 (by decide) ?_
  exact K _ _ _ _ (by rw [p0, p1]; exact sqInv_erase hI) w
set_option maxHeartbeats 4000000 in
set_option maxRecDepth 100000 in
theorem law_send {p : Program} {l : Launch} {e : Env} {s : State} {m : MethodId} {below : List Frame} {meth : Method} {c : Code} {Q : State → Prop} {D : va_G} {A : Nat → Prop} {a a' : Nat → Nat} {cA cA' : Nat → ClassId} {b L : Nat} {xs : Nat → Int32} (S : CallFix p m c cL_law 4 s #[Value.ref b] lw_all R_law) (hX : va_X b L xs s s.heap) (hbl : b < s.heap.size) (hbA : ¬ A b) (hL : L ≤ 192) {i : Nat} (hi : i + 3 ≤ L) {ls : Array Slot} (hl : lv_has ls 4 [(0, .ref b), (1, .ref (a 20)), (2, .ref (a' 20)), (3, .int (nI i))]) (K : ∀ (σ τ : SqSt) (H : Heap) (locs : List Loc), sqInv σ τ → sq_wp D A s.heap s (tX0 cA) (tX1 cA') (wX0 a cA σ) (wX1 a' cA' τ) H locs → W p l e room_1 s m #[Value.ref b] below meth c H locs 10 2215 Q (F0 m 274 ls [])) {σ τ : SqSt} {H : Heap} {locs : List Loc} (hI : sqInv σ τ) (w : sq_wp D A s.heap s (tX0 cA) (tX1 cA') (wX0 a cA σ) (wX1 a' cA' τ) H locs) : W p l e room_1 s m #[Value.ref b] below meth c H locs 10 2215 Q (F0 m 155 ls []) := by
  refine sq_aloadn S dL_law_155 rfl (lv_at hl 1 rfl) ?_
  refine sq_call2i S w (metX0_send l D a cA σ hI.2.2.2.1 hI.2.2.2.2.1 hI.2.2.2.2.2.1 hI.1.2.1 (fun j hj => (hI.1.2.2 j hj).2)) (cwV 0 S.2.2.2.2 (lw_V q94 q95 q96 q15 q97) rfl rfl rfl (by decide +kernel) ⟨Nat.le_of_ble_eq_true rfl, Nat.le_of_ble_eq_true rfl⟩) (va_recv w.1 w.2.2.1 (ci := 0) (q0 := 0) rfl rfl) rfl hl.1 rfl (Nat.le_of_ble_eq_true rfl) ⟨Nat.le_of_ble_eq_true rfl, Nat.le_of_ble_eq_true rfl⟩ dL_law_156 (fun r0 σ1 H locs p0 w => ?_)
  refine sq_aloadn S dL_law_159 rfl (lv_at hl 2 rfl) ?_
  refine sq_call2i S (sq_wp_sw w) (metX1_send l D a' cA' τ (by have := hI.1; omega) (by have := hI.2.2; omega)) (cwV 0 S.2.2.2.2 (lw_V q222 q223 q224 q16 q225) rfl rfl rfl (by decide +kernel) ⟨Nat.le_of_ble_eq_true rfl, Nat.le_of_ble_eq_true rfl⟩) (va_recv w.2.1 w.2.2.2.1 (ci := 1) (q0 := 0) rfl rfl) rfl hl.1 rfl (Nat.le_of_ble_eq_true rfl) ⟨Nat.le_of_ble_eq_true rfl, Nat.le_of_ble_eq_true rfl⟩ dL_law_160 (fun r1 τ1 H locs p1 w => ?_)
  have w := sq_wp_sw w
  refine lv_icmp_eq (tgt := 274) S.1 S.2.1 dL_law_163 (by decide) (fun c163 => ?_) (fun c163 => ?_)
  · have hfin : r0 = r1 ∧ sqInv σ1 τ1 := sqInv_send hI p0 p1
    exact K _ _ _ _ hfin.2 w
  · have hfin : r0 = r1 ∧ sqInv σ1 τ1 := sqInv_send hI p0 p1
    exact absurd hfin.1 c163
set_option maxHeartbeats 4000000 in
set_option maxRecDepth 100000 in
theorem law_receive {p : Program} {l : Launch} {e : Env} {s : State} {m : MethodId} {below : List Frame} {meth : Method} {c : Code} {Q : State → Prop} {D : va_G} {A : Nat → Prop} {a a' : Nat → Nat} {cA cA' : Nat → ClassId} {b L : Nat} {xs : Nat → Int32} (S : CallFix p m c cL_law 4 s #[Value.ref b] lw_all R_law) (hX : va_X b L xs s s.heap) (hbl : b < s.heap.size) (hbA : ¬ A b) (hL : L ≤ 192) {i : Nat} (hi : i + 3 ≤ L) {ls : Array Slot} (hl : lv_has ls 4 [(0, .ref b), (1, .ref (a 20)), (2, .ref (a' 20)), (3, .int (nI i))]) (K : ∀ (σ τ : SqSt) (H : Heap) (locs : List Loc), sqInv σ τ → sq_wp D A s.heap s (tX0 cA) (tX1 cA') (wX0 a cA σ) (wX1 a' cA' τ) H locs → W p l e room_1 s m #[Value.ref b] below meth c H locs 10 2215 Q (F0 m 274 ls [])) {σ τ : SqSt} {H : Heap} {locs : List Loc} (hI : sqInv σ τ) (w : sq_wp D A s.heap s (tX0 cA) (tX1 cA') (wX0 a cA σ) (wX1 a' cA' τ) H locs) : W p l e room_1 s m #[Value.ref b] below meth c H locs 10 2215 Q (F0 m 168 ls []) := by
  refine sq_aloadn S dL_law_168 rfl (lv_at hl 1 rfl) ?_
  refine sq_call2i S w (metX0_receive l D a cA σ (τ.2 5 0) (fun j => τ.2 4 j) hI.2.2.2.2.1 hI.2.2.2.1 hI.2.2.2.2.2.1 (sqInv_blk0 hI)) (cwV 0 S.2.2.2.2 (lw_V q138 q139 q140 q15 q141) rfl rfl rfl (by decide +kernel) ⟨Nat.le_of_ble_eq_true rfl, Nat.le_of_ble_eq_true rfl⟩) (va_recv w.1 w.2.2.1 (ci := 0) (q0 := 0) rfl rfl) rfl hl.1 rfl (Nat.le_of_ble_eq_true rfl) ⟨Nat.le_of_ble_eq_true rfl, Nat.le_of_ble_eq_true rfl⟩ dL_law_169 (fun r0 σ1 H locs p0 w => ?_)
  refine sq_aloadn S dL_law_172 rfl (lv_at hl 2 rfl) ?_
  refine sq_call2i S (sq_wp_sw w) (metX1_receive l D a' cA' τ (by have := hI.2.2; omega) (fun q => (sqInv_blk0 hI (by have := hI.2.2; omega)).1)) (cwV 0 S.2.2.2.2 (lw_V q226 q227 q228 q16 q229) rfl rfl rfl (by decide +kernel) ⟨Nat.le_of_ble_eq_true rfl, Nat.le_of_ble_eq_true rfl⟩) (va_recv w.2.1 w.2.2.2.1 (ci := 1) (q0 := 0) rfl rfl) rfl hl.1 rfl (Nat.le_of_ble_eq_true rfl) ⟨Nat.le_of_ble_eq_true rfl, Nat.le_of_ble_eq_true rfl⟩ dL_law_173 (fun r1 τ1 H locs p1 w => ?_)
  have w := sq_wp_sw w
  refine lv_icmp_eq (tgt := 274) S.1 S.2.1 dL_law_176 (by decide) (fun c176 => ?_) (fun c176 => ?_)
  · have hfin : r0 = r1 ∧ sqInv σ1 τ1 := sqInv_receive hI p0 p1
    exact K _ _ _ _ hfin.2 w
  · have hfin : r0 = r1 ∧ sqInv σ1 τ1 := sqInv_receive hI p0 p1
    exact absurd hfin.1 c176
set_option maxHeartbeats 4000000 in
set_option maxRecDepth 100000 in
theorem law_at {p : Program} {l : Launch} {e : Env} {s : State} {m : MethodId} {below : List Frame} {meth : Method} {c : Code} {Q : State → Prop} {D : va_G} {A : Nat → Prop} {a a' : Nat → Nat} {cA cA' : Nat → ClassId} {b L : Nat} {xs : Nat → Int32} (S : CallFix p m c cL_law 4 s #[Value.ref b] lw_all R_law) (hX : va_X b L xs s s.heap) (hbl : b < s.heap.size) (hbA : ¬ A b) (hL : L ≤ 192) {i : Nat} (hi : i + 3 ≤ L) {ls : Array Slot} (hl : lv_has ls 4 [(0, .ref b), (1, .ref (a 20)), (2, .ref (a' 20)), (3, .int (nI i))]) (K : ∀ (σ τ : SqSt) (H : Heap) (locs : List Loc), sqInv σ τ → sq_wp D A s.heap s (tX0 cA) (tX1 cA') (wX0 a cA σ) (wX1 a' cA' τ) H locs → W p l e room_1 s m #[Value.ref b] below meth c H locs 10 2215 Q (F0 m 274 ls [])) {σ τ : SqSt} {H : Heap} {locs : List Loc} (hI : sqInv σ τ) (w : sq_wp D A s.heap s (tX0 cA) (tX1 cA') (wX0 a cA σ) (wX1 a' cA' τ) H locs) : W p l e room_1 s m #[Value.ref b] below meth c H locs 10 2215 Q (F0 m 181 ls []) := by
  refine sq_aloadn S dL_law_181 rfl (lv_at hl 1 rfl) ?_
  refine sq_aloadn S dL_law_182 rfl (lv_at hl 0 rfl) ?_
  refine sq_iloadn S dL_law_183 rfl (lv_at hl 3 rfl) ?_
  refine sq_iconst S 1 (by decide) dL_law_184 ?_
  refine sq_iadd S dL_law_185 ?_
  refine sq_sld S hX hbl hbA w (j := i + 1) (by omega) (by omega) dL_law_186 ?_
  refine sq_call2i S w (metX0_at l D a cA σ (xs (i + 1)) hI.2.1.2.1) (cwV 1 S.2.2.2.2 (lw_V q162 q163 q164 q15 q165) rfl rfl rfl (by decide +kernel) ⟨Nat.le_of_ble_eq_true rfl, Nat.le_of_ble_eq_true rfl⟩) (va_recv w.1 w.2.2.1 (ci := 0) (q0 := 0) rfl rfl) rfl hl.1 rfl (Nat.le_of_ble_eq_true rfl) ⟨Nat.le_of_ble_eq_true rfl, Nat.le_of_ble_eq_true rfl⟩ dL_law_187 (fun r0 σ1 H locs p0 w => ?_)
  refine sq_aloadn S dL_law_190 rfl (lv_at hl 2 rfl) ?_
  refine sq_aloadn S dL_law_191 rfl (lv_at hl 0 rfl) ?_
  refine sq_iloadn S dL_law_192 rfl (lv_at hl 3 rfl) ?_
  refine sq_iconst S 1 (by decide) dL_law_193 ?_
  refine sq_iadd S dL_law_194 ?_
  refine sq_sld S hX hbl hbA w (j := i + 1) (by omega) (by omega) dL_law_195 ?_
  refine sq_call2i S (sq_wp_sw w) (metX1_at l D a' cA' τ (xs (i + 1)) (by have := hI.2.1; omega)) (cwV 1 S.2.2.2.2 (lw_V q230 q231 q232 q16 q233) rfl rfl rfl (by decide +kernel) ⟨Nat.le_of_ble_eq_true rfl, Nat.le_of_ble_eq_true rfl⟩) (va_recv w.2.1 w.2.2.2.1 (ci := 1) (q0 := 0) rfl rfl) rfl hl.1 rfl (Nat.le_of_ble_eq_true rfl) ⟨Nat.le_of_ble_eq_true rfl, Nat.le_of_ble_eq_true rfl⟩ dL_law_196 (fun r1 τ1 H locs p1 w => ?_)
  have w := sq_wp_sw w
  refine lv_icmp_eq (tgt := 274) S.1 S.2.1 dL_law_199 (by decide) (fun c199 => ?_) (fun c199 => ?_)
  · have hfin : r0 = r1 ∧ sqInv σ1 τ1 := sqInv_at hI p0 p1
    exact K _ _ _ _ hfin.2 w
  · have hfin : r0 = r1 ∧ sqInv σ1 τ1 := sqInv_at hI p0 p1
    exact absurd hfin.1 c199
set_option maxHeartbeats 4000000 in
set_option maxRecDepth 100000 in
theorem law_length {p : Program} {l : Launch} {e : Env} {s : State} {m : MethodId} {below : List Frame} {meth : Method} {c : Code} {Q : State → Prop} {D : va_G} {A : Nat → Prop} {a a' : Nat → Nat} {cA cA' : Nat → ClassId} {b L : Nat} {xs : Nat → Int32} (S : CallFix p m c cL_law 4 s #[Value.ref b] lw_all R_law) (hX : va_X b L xs s s.heap) (hbl : b < s.heap.size) (hbA : ¬ A b) (hL : L ≤ 192) {i : Nat} (hi : i + 3 ≤ L) {ls : Array Slot} (hl : lv_has ls 4 [(0, .ref b), (1, .ref (a 20)), (2, .ref (a' 20)), (3, .int (nI i))]) (K : ∀ (σ τ : SqSt) (H : Heap) (locs : List Loc), sqInv σ τ → sq_wp D A s.heap s (tX0 cA) (tX1 cA') (wX0 a cA σ) (wX1 a' cA' τ) H locs → W p l e room_1 s m #[Value.ref b] below meth c H locs 10 2215 Q (F0 m 274 ls [])) {σ τ : SqSt} {H : Heap} {locs : List Loc} (hI : sqInv σ τ) (w : sq_wp D A s.heap s (tX0 cA) (tX1 cA') (wX0 a cA σ) (wX1 a' cA' τ) H locs) : W p l e room_1 s m #[Value.ref b] below meth c H locs 10 2215 Q (F0 m 204 ls []) := by
  refine sq_aloadn S dL_law_204 rfl (lv_at hl 1 rfl) ?_
  refine sq_call2i S w (metX0_length l D a cA σ ) (cwV 0 S.2.2.2.2 (lw_V q166 q167 q168 q15 q169) rfl rfl rfl (by decide +kernel) ⟨Nat.le_of_ble_eq_true rfl, Nat.le_of_ble_eq_true rfl⟩) (va_recv w.1 w.2.2.1 (ci := 0) (q0 := 0) rfl rfl) rfl hl.1 rfl (Nat.le_of_ble_eq_true rfl) ⟨Nat.le_of_ble_eq_true rfl, Nat.le_of_ble_eq_true rfl⟩ dL_law_205 (fun r0 σ1 H locs p0 w => ?_)
  refine sq_aloadn S dL_law_208 rfl (lv_at hl 2 rfl) ?_
  refine sq_call2i S (sq_wp_sw w) (metX1_length l D a' cA' τ ) (cwV 0 S.2.2.2.2 (lw_V q234 q235 q236 q16 q237) rfl rfl rfl (by decide +kernel) ⟨Nat.le_of_ble_eq_true rfl, Nat.le_of_ble_eq_true rfl⟩) (va_recv w.2.1 w.2.2.2.1 (ci := 1) (q0 := 0) rfl rfl) rfl hl.1 rfl (Nat.le_of_ble_eq_true rfl) ⟨Nat.le_of_ble_eq_true rfl, Nat.le_of_ble_eq_true rfl⟩ dL_law_209 (fun r1 τ1 H locs p1 w => ?_)
  have w := sq_wp_sw w
  refine lv_icmp_eq (tgt := 274) S.1 S.2.1 dL_law_212 (by decide) (fun c212 => ?_) (fun c212 => ?_)
  · have hfin : r0 = r1 ∧ sqInv σ1 τ1 := ⟨(by rw [p0.1, p1.1, hI.2.1.1] : _ = _), (by rw [p0.2, p1.2]; exact hI : sqInv σ1 τ1)⟩
    exact K _ _ _ _ hfin.2 w
  · have hfin : r0 = r1 ∧ sqInv σ1 τ1 := ⟨(by rw [p0.1, p1.1, hI.2.1.1] : _ = _), (by rw [p0.2, p1.2]; exact hI : sqInv σ1 τ1)⟩
    exact absurd hfin.1 c212
set_option maxHeartbeats 4000000 in
set_option maxRecDepth 100000 in
theorem law_blocks {p : Program} {l : Launch} {e : Env} {s : State} {m : MethodId} {below : List Frame} {meth : Method} {c : Code} {Q : State → Prop} {D : va_G} {A : Nat → Prop} {a a' : Nat → Nat} {cA cA' : Nat → ClassId} {b L : Nat} {xs : Nat → Int32} (S : CallFix p m c cL_law 4 s #[Value.ref b] lw_all R_law) (hX : va_X b L xs s s.heap) (hbl : b < s.heap.size) (hbA : ¬ A b) (hL : L ≤ 192) {i : Nat} (hi : i + 3 ≤ L) {ls : Array Slot} (hl : lv_has ls 4 [(0, .ref b), (1, .ref (a 20)), (2, .ref (a' 20)), (3, .int (nI i))]) (K : ∀ (σ τ : SqSt) (H : Heap) (locs : List Loc), sqInv σ τ → sq_wp D A s.heap s (tX0 cA) (tX1 cA') (wX0 a cA σ) (wX1 a' cA' τ) H locs → W p l e room_1 s m #[Value.ref b] below meth c H locs 10 2215 Q (F0 m 274 ls [])) {σ τ : SqSt} {H : Heap} {locs : List Loc} (hI : sqInv σ τ) (w : sq_wp D A s.heap s (tX0 cA) (tX1 cA') (wX0 a cA σ) (wX1 a' cA' τ) H locs) : W p l e room_1 s m #[Value.ref b] below meth c H locs 10 2215 Q (F0 m 217 ls []) := by
  refine sq_aloadn S dL_law_217 rfl (lv_at hl 1 rfl) ?_
  refine sq_call2i S w (metX0_blocks l D a cA σ ) (cwV 0 S.2.2.2.2 (lw_V q170 q171 q172 q15 q173) rfl rfl rfl (by decide +kernel) ⟨Nat.le_of_ble_eq_true rfl, Nat.le_of_ble_eq_true rfl⟩) (va_recv w.1 w.2.2.1 (ci := 0) (q0 := 0) rfl rfl) rfl hl.1 rfl (Nat.le_of_ble_eq_true rfl) ⟨Nat.le_of_ble_eq_true rfl, Nat.le_of_ble_eq_true rfl⟩ dL_law_218 (fun r0 σ1 H locs p0 w => ?_)
  refine sq_aloadn S dL_law_221 rfl (lv_at hl 2 rfl) ?_
  refine sq_call2i S (sq_wp_sw w) (metX1_blocks l D a' cA' τ ) (cwV 0 S.2.2.2.2 (lw_V q238 q239 q240 q16 q241) rfl rfl rfl (by decide +kernel) ⟨Nat.le_of_ble_eq_true rfl, Nat.le_of_ble_eq_true rfl⟩) (va_recv w.2.1 w.2.2.2.1 (ci := 1) (q0 := 0) rfl rfl) rfl hl.1 rfl (Nat.le_of_ble_eq_true rfl) ⟨Nat.le_of_ble_eq_true rfl, Nat.le_of_ble_eq_true rfl⟩ dL_law_222 (fun r1 τ1 H locs p1 w => ?_)
  have w := sq_wp_sw w
  refine lv_icmp_eq (tgt := 274) S.1 S.2.1 dL_law_225 (by decide) (fun c225 => ?_) (fun c225 => ?_)
  · have hfin : r0 = r1 ∧ sqInv σ1 τ1 := ⟨(by rw [p0.1, p1.1, hI.2.2.1] : _ = _), (by rw [p0.2, p1.2]; exact hI : sqInv σ1 τ1)⟩
    exact K _ _ _ _ hfin.2 w
  · have hfin : r0 = r1 ∧ sqInv σ1 τ1 := ⟨(by rw [p0.1, p1.1, hI.2.2.1] : _ = _), (by rw [p0.2, p1.2]; exact hI : sqInv σ1 τ1)⟩
    exact absurd hfin.1 c225
set_option maxHeartbeats 4000000 in
set_option maxRecDepth 100000 in
theorem law_find {p : Program} {l : Launch} {e : Env} {s : State} {m : MethodId} {below : List Frame} {meth : Method} {c : Code} {Q : State → Prop} {D : va_G} {A : Nat → Prop} {a a' : Nat → Nat} {cA cA' : Nat → ClassId} {b L : Nat} {xs : Nat → Int32} (S : CallFix p m c cL_law 4 s #[Value.ref b] lw_all R_law) (hX : va_X b L xs s s.heap) (hbl : b < s.heap.size) (hbA : ¬ A b) (hL : L ≤ 192) {i : Nat} (hi : i + 3 ≤ L) {ls : Array Slot} (hl : lv_has ls 4 [(0, .ref b), (1, .ref (a 20)), (2, .ref (a' 20)), (3, .int (nI i))]) (K : ∀ (σ τ : SqSt) (H : Heap) (locs : List Loc), sqInv σ τ → sq_wp D A s.heap s (tX0 cA) (tX1 cA') (wX0 a cA σ) (wX1 a' cA' τ) H locs → W p l e room_1 s m #[Value.ref b] below meth c H locs 10 2215 Q (F0 m 274 ls [])) {σ τ : SqSt} {H : Heap} {locs : List Loc} (hI : sqInv σ τ) (w : sq_wp D A s.heap s (tX0 cA) (tX1 cA') (wX0 a cA σ) (wX1 a' cA' τ) H locs) : W p l e room_1 s m #[Value.ref b] below meth c H locs 10 2215 Q (F0 m 230 ls []) := by
  refine sq_aloadn S dL_law_230 rfl (lv_at hl 1 rfl) ?_
  refine sq_aloadn S dL_law_231 rfl (lv_at hl 0 rfl) ?_
  refine sq_iloadn S dL_law_232 rfl (lv_at hl 3 rfl) ?_
  refine sq_iconst S 1 (by decide) dL_law_233 ?_
  refine sq_iadd S dL_law_234 ?_
  refine sq_sld S hX hbl hbA w (j := i + 1) (by omega) (by omega) dL_law_235 ?_
  refine sq_aloadn S dL_law_236 rfl (lv_at hl 0 rfl) ?_
  refine sq_iloadn S dL_law_237 rfl (lv_at hl 3 rfl) ?_
  refine sq_iconst S 2 (by decide) dL_law_238 ?_
  refine sq_iadd S dL_law_239 ?_
  refine sq_sld S hX hbl hbA w (j := i + 2) (by omega) (by omega) dL_law_240 ?_
  refine sq_call2i S w (metX0_find l D a cA σ (xs (i + 1)) (xs (i + 2)) hI.2.1.2.1 (fun j hj => (hI.2.1.2.2 j hj).2)) (cwV 2 S.2.2.2.2 (lw_V q174 q175 q176 q15 q177) rfl rfl rfl (by decide +kernel) ⟨Nat.le_of_ble_eq_true rfl, Nat.le_of_ble_eq_true rfl⟩) (va_recv w.1 w.2.2.1 (ci := 0) (q0 := 0) rfl rfl) rfl hl.1 rfl (Nat.le_of_ble_eq_true rfl) ⟨Nat.le_of_ble_eq_true rfl, Nat.le_of_ble_eq_true rfl⟩ dL_law_241 (fun r0 σ1 H locs p0 w => ?_)
  refine sq_aloadn S dL_law_244 rfl (lv_at hl 2 rfl) ?_
  refine sq_aloadn S dL_law_245 rfl (lv_at hl 0 rfl) ?_
  refine sq_iloadn S dL_law_246 rfl (lv_at hl 3 rfl) ?_
  refine sq_iconst S 1 (by decide) dL_law_247 ?_
  refine sq_iadd S dL_law_248 ?_
  refine sq_sld S hX hbl hbA w (j := i + 1) (by omega) (by omega) dL_law_249 ?_
  refine sq_aloadn S dL_law_250 rfl (lv_at hl 0 rfl) ?_
  refine sq_iloadn S dL_law_251 rfl (lv_at hl 3 rfl) ?_
  refine sq_iconst S 2 (by decide) dL_law_252 ?_
  refine sq_iadd S dL_law_253 ?_
  refine sq_sld S hX hbl hbA w (j := i + 2) (by omega) (by omega) dL_law_254 ?_
  refine sq_call2i S (sq_wp_sw w) (metX1_find l D a' cA' τ (xs (i + 1)) (xs (i + 2)) (by have := hI.2.1; omega) (fun j hj => by have := hI.2.1.2.2 j (by have := hI.2.1; omega); omega)) (cwV 2 S.2.2.2.2 (lw_V q242 q243 q244 q16 q245) rfl rfl rfl (by decide +kernel) ⟨Nat.le_of_ble_eq_true rfl, Nat.le_of_ble_eq_true rfl⟩) (va_recv w.2.1 w.2.2.2.1 (ci := 1) (q0 := 0) rfl rfl) rfl hl.1 rfl (Nat.le_of_ble_eq_true rfl) ⟨Nat.le_of_ble_eq_true rfl, Nat.le_of_ble_eq_true rfl⟩ dL_law_255 (fun r1 τ1 H locs p1 w => ?_)
  have w := sq_wp_sw w
  refine lv_icmp_eq (tgt := 274) S.1 S.2.1 dL_law_258 (by decide) (fun c258 => ?_) (fun c258 => ?_)
  · have hfin : r0 = r1 ∧ sqInv σ1 τ1 := sqInv_find hI p0 p1
    exact K _ _ _ _ hfin.2 w
  · have hfin : r0 = r1 ∧ sqInv σ1 τ1 := sqInv_find hI p0 p1
    exact absurd hfin.1 c258
set_option maxHeartbeats 4000000 in
set_option maxRecDepth 100000 in
theorem law_edit {p : Program} {l : Launch} {e : Env} {s : State} {m : MethodId} {below : List Frame} {meth : Method} {c : Code} {Q : State → Prop} {D : va_G} {A : Nat → Prop} {a a' : Nat → Nat} {cA cA' : Nat → ClassId} {b L : Nat} {xs : Nat → Int32} (S : CallFix p m c cL_law 4 s #[Value.ref b] lw_all R_law) (hX : va_X b L xs s s.heap) (hbl : b < s.heap.size) (hbA : ¬ A b) (hL : L ≤ 192) {i : Nat} (hi : i + 3 ≤ L) {ls : Array Slot} (hl : lv_has ls 4 [(0, .ref b), (1, .ref (a 20)), (2, .ref (a' 20)), (3, .int (nI i))]) (K : ∀ (σ τ : SqSt) (H : Heap) (locs : List Loc), sqInv σ τ → sq_wp D A s.heap s (tX0 cA) (tX1 cA') (wX0 a cA σ) (wX1 a' cA' τ) H locs → W p l e room_1 s m #[Value.ref b] below meth c H locs 10 2215 Q (F0 m 274 ls [])) {σ τ : SqSt} {H : Heap} {locs : List Loc} (hI : sqInv σ τ) (w : sq_wp D A s.heap s (tX0 cA) (tX1 cA') (wX0 a cA σ) (wX1 a' cA' τ) H locs) : W p l e room_1 s m #[Value.ref b] below meth c H locs 10 2215 Q (F0 m 263 ls []) := by
  refine sq_aloadn S dL_law_263 rfl (lv_at hl 1 rfl) ?_
  refine sq_call2v S w (metX0_edit l D a cA σ hI.2.1.2.1) (cwV 0 S.2.2.2.2 (lw_V q178 q179 q180 q15 q181) rfl rfl rfl (by decide +kernel) ⟨Nat.le_of_ble_eq_true rfl, Nat.le_of_ble_eq_true rfl⟩) (va_recv w.1 w.2.2.1 (ci := 0) (q0 := 0) rfl rfl) rfl hl.1 rfl (Nat.le_of_ble_eq_true rfl) ⟨Nat.le_of_ble_eq_true rfl, Nat.le_of_ble_eq_true rfl⟩ dL_law_264 (fun σ1 H locs p0 w => ?_)
  refine sq_aloadn S dL_law_267 rfl (lv_at hl 2 rfl) ?_
  refine sq_call2v S (sq_wp_sw w) (metX1_edit l D a' cA' τ (by have := hI.2.1; omega)) (cwV 0 S.2.2.2.2 (lw_V q246 q247 q248 q16 q249) rfl rfl rfl (by decide +kernel) ⟨Nat.le_of_ble_eq_true rfl, Nat.le_of_ble_eq_true rfl⟩) (va_recv w.2.1 w.2.2.2.1 (ci := 1) (q0 := 0) rfl rfl) rfl hl.1 rfl (Nat.le_of_ble_eq_true rfl) ⟨Nat.le_of_ble_eq_true rfl, Nat.le_of_ble_eq_true rfl⟩ dL_law_268 (fun τ1 H locs p1 w => ?_)
  have w := sq_wp_sw w
  refine sq_goto S 274 dL_law_271 (by decide) ?_
  exact K _ _ _ _ (sqInv_edit hI p0 p1) w
end
section
theorem sq_inc3 (t : Nat) : nI t + Int32.ofInt 3 = nI (t + 3) := nI_add t 3
theorem sq_lawcmp {i L : Nat} (hL : L ≤ 192) (hi : i ≤ 400) : nI L - nI 3 < nI i ↔ L < i + 3 := by
  rw [Int32.lt_iff_toInt_lt, pk_sub_toInt (by omega) (by decide), nI_toInt (by omega)]
  omega
set_option maxHeartbeats 4000000 in
set_option maxRecDepth 100000 in
theorem law_loop {p : Program} {l : Launch} {e : Env} {s : State} {m : MethodId} {below : List Frame} {meth : Method} {c : Code} {D : va_G} {a a' : Nat → Nat} {cA cA' : Nat → ClassId} {b L : Nat} {xs : Nat → Int32} (S : CallFix p m c cL_law 4 s #[Value.ref b] lw_all R_law) (hX : va_X b L xs s s.heap) (hbl : b < s.heap.size) (hL : L ≤ 192) (hr : meth.sig.returnType = ret) (hlocks : meth.locks = false) : ∀ (z i : Nat) (σ τ : SqSt) (H : Heap) (locs : List Loc) (ls : Array Slot), i ≤ L + 3 → L + 3 < i + z → sqInv σ τ → sq_wp D (fun q => s.heap.size ≤ q) s.heap s (tX0 cA) (tX1 cA') (wX0 a cA σ) (wX1 a' cA' τ) H locs → lv_has ls 4 [(0, .ref b), (1, .ref (a 20)), (2, .ref (a' 20)), (3, .int (nI i))] → W p l e room_1 s m #[Value.ref b] below meth c H locs 10 2215 (lw_Z below #[Value.ref b] s) (F0 m 18 ls []) := by
  have hbA : ¬ s.heap.size ≤ b := by omega
  intro z
  induction z with
  | zero => intro i σ τ H locs ls hi hz; omega
  | succ z ih =>
    intro i σ τ H locs ls hi hz hI w hl
    refine sq_iloadn S dL_law_18 rfl (lv_at hl 3 rfl) ?_
    refine sq_aloadn S dL_law_19 rfl (lv_at hl 0 rfl) ?_
    refine sq_slen S hX hbl hbA w dL_law_20 ?_
    refine sq_iconst S 3 (by decide) dL_law_21 ?_
    refine lv_isub S.1 S.2.1 dL_law_22 ?_
    refine lv_icmp_gt (tgt := 280) S.1 S.2.1 dL_law_23 (by decide) (fun c23 => ?_) (fun c23 => ?_)
    · refine lv_iconst (v := 1) S.1 S.2.1 dL_law_280 (by decide) ?_
      refine va_forget (fun q hq => w.2.2.2.2.2.2.2.1.2.2 q hq) ?_
      refine W.widen (k := 600000) (n := 7290000) (by decide) (by decide) ?_
      exact lw_ret S.1 S.2.1 hr hlocks dL_law_281
    · have hi3 : i + 3 ≤ L := by
        rcases Nat.lt_or_ge L (i + 3) with q | q
        · exact absurd ((sq_lawcmp hL (by omega)).mpr q) c23
        · exact q
      have tail : ∀ (σ τ : SqSt) (H : Heap) (locs : List Loc), sqInv σ τ → sq_wp D (fun q => s.heap.size ≤ q) s.heap s (tX0 cA) (tX1 cA') (wX0 a cA σ) (wX1 a' cA' τ) H locs → W p l e room_1 s m #[Value.ref b] below meth c H locs 10 2215 (lw_Z below #[Value.ref b] s) (F0 m 274 ls []) := by
        intro σ τ H locs hI w
        refine lv_iinc (v := nI (i + 3)) (lv' := [(3, .int (nI (i + 3))), (0, .ref b), (1, .ref (a 20)), (2, .ref (a' 20))]) S.1 S.2.1 dL_law_274 hl (k := 3) rfl (sq_inc3 i) (by decide) rfl (fun ls hl => ?_)
        refine sq_goto S 18 dL_law_277 (by decide) ?_
        exact ih (i + 3) σ τ H locs ls (by omega) (by omega) hI w (lv_sub hl [1, 2, 3, 0] rfl)
      refine sq_aloadn S dL_law_26 rfl (lv_at hl 0 rfl) ?_
      refine sq_iloadn S dL_law_27 rfl (lv_at hl 3 rfl) ?_
      refine sq_sld S hX hbl hbA w (j := i) (by omega) (by omega) dL_law_28 ?_
      refine sq_bipush S 15 (by decide) dL_law_29 ?_
      refine sq_iandx S 4 16 (by decide) (by decide) dL_law_31 ?_
      have hv : (xs i).toBitVec.toNat % 16 < 16 := Nat.mod_lt _ (by decide)
      generalize (xs i).toBitVec.toNat % 16 = v at hv ⊢
      rcases (show v = 0 ∨ v = 1 ∨ v = 2 ∨ v = 3 ∨ v = 4 ∨ v = 5 ∨ v = 6 ∨ v = 7 ∨ v = 8 ∨ v = 9 ∨ 10 ≤ v by omega) with h | h | h | h | h | h | h | h | h | h | h
      · rw [h]
        refine lv_tableIn (off := 56) (tgt := 88) S.1 S.2.1 dL_law_32 (by decide) (by decide) (by decide) (by decide) ?_
        exact law_put S hX hbl hbA hL hi3 hl tail hI w
      · rw [h]
        refine lv_tableIn (off := 79) (tgt := 111) S.1 S.2.1 dL_law_32 (by decide) (by decide) (by decide) (by decide) ?_
        exact law_repeat S hX hbl hbA hL hi3 hl tail hI w
      · rw [h]
        refine lv_tableIn (off := 112) (tgt := 144) S.1 S.2.1 dL_law_32 (by decide) (by decide) (by decide) (by decide) ?_
        exact law_erase S hX hbl hbA hL hi3 hl tail hI w
      · rw [h]
        refine lv_tableIn (off := 123) (tgt := 155) S.1 S.2.1 dL_law_32 (by decide) (by decide) (by decide) (by decide) ?_
        exact law_send S hX hbl hbA hL hi3 hl tail hI w
      · rw [h]
        refine lv_tableIn (off := 136) (tgt := 168) S.1 S.2.1 dL_law_32 (by decide) (by decide) (by decide) (by decide) ?_
        exact law_receive S hX hbl hbA hL hi3 hl tail hI w
      · rw [h]
        refine lv_tableIn (off := 149) (tgt := 181) S.1 S.2.1 dL_law_32 (by decide) (by decide) (by decide) (by decide) ?_
        exact law_at S hX hbl hbA hL hi3 hl tail hI w
      · rw [h]
        refine lv_tableIn (off := 172) (tgt := 204) S.1 S.2.1 dL_law_32 (by decide) (by decide) (by decide) (by decide) ?_
        exact law_length S hX hbl hbA hL hi3 hl tail hI w
      · rw [h]
        refine lv_tableIn (off := 185) (tgt := 217) S.1 S.2.1 dL_law_32 (by decide) (by decide) (by decide) (by decide) ?_
        exact law_blocks S hX hbl hbA hL hi3 hl tail hI w
      · rw [h]
        refine lv_tableIn (off := 198) (tgt := 230) S.1 S.2.1 dL_law_32 (by decide) (by decide) (by decide) (by decide) ?_
        exact law_find S hX hbl hbA hL hi3 hl tail hI w
      · rw [h]
        refine lv_tableIn (off := 231) (tgt := 263) S.1 S.2.1 dL_law_32 (by decide) (by decide) (by decide) (by decide) ?_
        exact law_edit S hX hbl hbA hL hi3 hl tail hI w
      · refine lv_tableOut (tgt := 274) S.1 S.2.1 dL_law_32 (Or.inr (by rw [nI_toInt (by omega)]; omega)) (by decide) ?_
        exact tail σ τ _ _ hI w
/-- the two classes, known at the claim's start -/
theorem sq_classes {s0 : State} {b0 : Addr} (ht0 : ∀ w ∈ lw_tbl, w.before #[Value.ref b0] s0 = true) : ∃ (dC : Nat → ClassId) (dI : Nat → Nat → Nat), ∀ (k : Nat) (q : vw_C), vwCl[k]? = some q → u_Kn s0 q.1 q.2.1 q.2.2 (dC k) (dI k) := by
  obtain ⟨c0_, iS0, hKn0⟩ := u_known (C := RX0) (T := TX0) (N := 18) (n := 18) ht0 (fun w h => lw_all_tbl (in_X0 w h)) (ht0 _ (lw_all_tbl q18))
  obtain ⟨c1_, iS1, hKn1⟩ := u_known (C := RX1) (T := TX1) (N := 7) (n := 7) ht0 (fun w h => lw_all_tbl (in_X1 w h)) (ht0 _ (lw_all_tbl q183))
  refine ⟨fun k => if k = 0 then c0_ else c1_, fun k => if k = 0 then iS0 else iS1, ?_⟩
  intro k q hq
  match k, hq with
  | 0, hq => cases hq; exact hKn0
  | 1, hq => cases hq; exact hKn1
  | k + 2, hq => simp [vwCl] at hq
set_option maxHeartbeats 4000000 in
set_option maxRecDepth 100000 in
theorem whole_start {p : Program} {e : Env} {s : State} {m : MethodId} {below : List Frame} {meth : Method} {c : Code} (l : Launch) {b L : Nat} {xs : Nat → Int32} (hL : L ≤ 192) (C0 : lw_At p s m meth c b L xs) : W p l e room_1 s m #[Value.ref b] below meth c s.heap [] 0 0 (lw_Z below #[Value.ref b] s) (entryFrame m ([Value.ref b] : List Value).toArray 4) := by
  obtain ⟨hx, hb, hr, hml, hown, hts0, hX, hbl, hlocks, -⟩ := C0
  obtain ⟨dC, dI, hKn⟩ := sq_classes hts0
  have hts : ∀ w ∈ lw_all, w.before #[Value.ref b] s = true := fun w h => hts0 w (lw_all_tbl h)
  have S : CallFix p m c cL_law 4 s #[Value.ref b] lw_all R_law := ⟨hx, hb, hml, hown, hts⟩
  have hK : va_K (dC, dI) vwCl [] s := ⟨hKn, fun k q hk => by simp at hk⟩
  have hP : va_P (dC, dI) vwCl [] s.heap := fun k q hk => by simp at hk
  have hD : va_D (fun q => s.heap.size ≤ q) [] := ⟨fun i j x y hi => by simp at hi, fun k q hk => by simp at hk⟩
  have hS : va_S (fun q => s.heap.size ≤ q) s.heap s.heap [] := va_S.rf
  have hA : ∀ q : Nat, s.heap.size ≤ q → (fun q => s.heap.size ≤ q) q := fun q h => h
  have hl := lv_entry ([.ref b]) (n := 4) (Nat.le_of_ble_eq_true rfl)
  rw [lg_entry_eq]
  generalize (lg_sl ([.ref b]) ++ List.replicate (4 - (lg_sl ([.ref b])).length) Slot.unset).toArray = ls at hl ⊢
  have hl : lv_has ls 4 [(0, .ref b)] := hl
  refine va_new (ci := 0) (fs := [.int (nI 0), .null, .int (nI 0), .null, .int (nI 0), .int (nI 0), .null, .null, .long (lN 0), .long (lN 0), .int (nI 0), .int (nI 0), .int (nI 0), .int (nI 0), .long (lN 0), .int (nI 0), .int (nI 0), .int (nI 0)]) (C := RX0) (T := TX0) (N := 18) hx hb hts in_X0 tyX0 tyX0_ok hown (hts _ q17) (hts _ q18) (hts _ q15) hK hP hD hS hA rfl (fun j hj => by rcases (show j = 0 ∨ j = 1 ∨ j = 2 ∨ j = 3 ∨ j = 4 ∨ j = 5 ∨ j = 6 ∨ j = 7 ∨ j = 8 ∨ j = 9 ∨ j = 10 ∨ j = 11 ∨ j = 12 ∨ j = 13 ∨ j = 14 ∨ j = 15 ∨ j = 16 ∨ j = 17 by omega) with rfl | rfl | rfl | rfl | rfl | rfl | rfl | rfl | rfl | rfl | rfl | rfl | rfl | rfl | rfl | rfl | rfl | rfl <;> rfl) (Nat.le_of_ble_eq_true rfl) (Nat.le_of_ble_eq_true rfl) dL_law_0 (fun qx H hP hD hS => ?_)
  have hP : va_P (dC, dI) vwCl (zX0 qx) H := hP
  have hD : va_D (fun q => s.heap.size ≤ q) (zX0 qx) := hD
  have w0 : sq_wp (dC, dI) (fun q => s.heap.size ≤ q) s.heap s [] [] (zX0 qx) [] H [] := ⟨hK, hK, hP, fun k q hk => by simp at hk, hD, ⟨fun i j x y hi => by simp at hi, fun k q hk => by simp at hk⟩, fun i j x y _ hj => by simp at hj, hS, hA⟩
  refine sq_dup S rfl dL_law_3 ?_
  refine va_callv (va_runI (As := []) (rest := [.ref qx]) S (metX0_init l (dC, dI) qx H.size) (cwI 0 hts (lw_meth q21) rfl rfl rfl (hts _ q15) (hts _ q19) (hts _ q20) rfl (by decide +kernel) ⟨Nat.le_of_ble_eq_true rfl, Nat.le_of_ble_eq_true rfl⟩) ⟨fun a U g mk q => by obtain ⟨q0, q1, qP, qK, qD⟩ := q; exact ⟨q0, q1, qP, va_K.moved (u := U) (U := U.calling g mk a) (Vm.Alike.refl U.vm) qK, qD⟩, fun U hU hW => ⟨rfl, by rw [hU], by rw [hU]; exact hP, va_K.moved hW.alike hK, hD.weaken (fun _ _ _ _ => trivial)⟩⟩ rfl rfl hl.1 rfl (lv_room (Nat.le_of_ble_eq_true rfl)) dL_law_4 ⟨Nat.le_of_ble_eq_true rfl, Nat.le_of_ble_eq_true rfl⟩) hS (fun q _ h => sq_wp_free w0 q h) (sq_wp_free w0) (fun u t H1 locs ht hvm hw1 hB hz1 hk1 hS => ?_)
  obtain ⟨a, cA⟩ := u
  have hw1 : a 20 = qx := hw1
  subst hw1
  obtain ⟨hP1, hK1, hD1⟩ := hB
  rw [ht] at hP1
  have hP1 : va_P (dC, dI) vwCl (wX0 a cA sq0) H1 := hP1
  have hD1 : va_D (va_A (zX0 (a 20)) H.size) (wX0 a cA sq0) := hD1
  have hK1 : va_K (dC, dI) vwCl (tX0 cA) s := va_K.moved hvm.symm hK1
  have w1 := sq_wp_next w0 hK1 hk1 hP1 hD1 hS
  have hD1 := w1.2.2.2.2.1
  refine lv_astore_n (lv' := [(1, .ref (a 20)), (0, .ref b)]) hx hb dL_law_7 rfl hl (by decide) rfl (fun ls hl => ?_)
  refine va_new (ci := 1) (fs := [.null, .int (nI 0), .null, .int (nI 0), .null, .null, .int (nI 0)]) (C := RX1) (T := TX1) (N := 7) hx hb hts in_X1 tyX1 tyX1_ok hown (hts _ q182) (hts _ q183) (hts _ q16) hK1 hP1 hD1 hS hA rfl (fun j hj => by rcases (show j = 0 ∨ j = 1 ∨ j = 2 ∨ j = 3 ∨ j = 4 ∨ j = 5 ∨ j = 6 by omega) with rfl | rfl | rfl | rfl | rfl | rfl | rfl <;> rfl) (Nat.le_of_ble_eq_true rfl) (Nat.le_of_ble_eq_true rfl) dL_law_8 (fun qm H2 hP2 hD2 hS => ?_)
  obtain ⟨pa, pb⟩ := sq_splitP hP2
  obtain ⟨da, db, dd⟩ := sq_splitD hD2
  have pb : va_P (dC, dI) vwCl (zX1 qm) H2 := pb
  have w2 : sq_wp (dC, dI) (fun q => s.heap.size ≤ q) s.heap s [] (tX0 cA) (zX1 qm) (wX0 a cA sq0) H2 locs := ⟨hK, hK1, pb, pa, db, da, fun i j x y hx hy e9 => dd j i y x hy hx e9.symm, hS, hA⟩
  refine sq_dup S rfl dL_law_11 ?_
  refine va_callv (va_runI (As := []) (rest := [.ref qm]) S (metX1_init l (dC, dI) qm H2.size) (cwI 0 hts (lw_meth q186) rfl rfl rfl (hts _ q16) (hts _ q184) (hts _ q185) rfl (by decide +kernel) ⟨Nat.le_of_ble_eq_true rfl, Nat.le_of_ble_eq_true rfl⟩) ⟨fun a U g mk q => by obtain ⟨q0, q1, qP, qK, qD⟩ := q; exact ⟨q0, q1, qP, va_K.moved (u := U) (U := U.calling g mk a) (Vm.Alike.refl U.vm) qK, qD⟩, fun U hU hW => ⟨rfl, by rw [hU], by rw [hU]; exact pb, va_K.moved hW.alike hK, w2.2.2.2.2.1.weaken (fun _ _ _ _ => trivial)⟩⟩ rfl rfl hl.1 rfl (lv_room (Nat.le_of_ble_eq_true rfl)) dL_law_12 ⟨Nat.le_of_ble_eq_true rfl, Nat.le_of_ble_eq_true rfl⟩) hS (fun q _ h => sq_wp_free w2 q h) (sq_wp_free w2) (fun u t H3 locs ht hvm hw2 hB hz2 hk2 hS => ?_)
  obtain ⟨a', cA'⟩ := u
  have hw2 : a' 20 = qm := hw2
  subst hw2
  obtain ⟨hP3, hK3, hD3⟩ := hB
  rw [ht] at hP3
  have hP3 : va_P (dC, dI) vwCl (wX1 a' cA' sq0) H3 := hP3
  have hD3 : va_D (va_A (zX1 (a' 20)) H2.size) (wX1 a' cA' sq0) := hD3
  have hK3 : va_K (dC, dI) vwCl (tX1 cA') s := va_K.moved hvm.symm hK3
  have w3 := sq_wp_sw (sq_wp_next w2 hK3 hk2 hP3 hD3 hS)
  refine lv_astore_n (lv' := [(2, .ref (a' 20)), (1, .ref (a 20)), (0, .ref b)]) hx hb dL_law_15 rfl hl (by decide) rfl (fun ls hl => ?_)
  refine sq_iconst S 0 (by decide) dL_law_16 ?_
  refine lv_istore_n (lv' := [(3, .int (nI 0)), (2, .ref (a' 20)), (1, .ref (a 20)), (0, .ref b)]) hx hb dL_law_17 rfl hl (by decide) rfl (fun ls hl => ?_)
  refine W.widen (k := 10) (n := 2215) (Nat.le_of_ble_eq_true rfl) (Nat.le_of_ble_eq_true rfl) ?_
  exact law_loop S hX hbl hL hr hlocks (L + 4) 0 sq0 sq0 _ _ ls (by omega) (by omega) sqInv_0 w3 (lv_sub hl [3, 2, 1, 0] rfl)
end
section
set_option maxHeartbeats 4000000 in
theorem lw_walk (l : Launch) (b : Addr) (xs : List Int32) : MetFree l x (headSpec (Jvm.Cond.code x code maxLocals ret :: tables_1) room_1) (lw_P b xs) (fun _ _ _ _ _ => True) lw_Q := by
  refine MetFree.of_bodyS (code := code) (maxLocals := maxLocals) (ret := ret) (by decide) ?_ ?_
  · intro args s m h hn
    obtain ⟨meth, c, h1, h2, h3, h4, h5, h6, -, -⟩ := Cond.code_spec hn (atoms_spec (ws := Jvm.Cond.code x code maxLocals ret :: tables_1) h _ List.mem_cons_self)
    exact ⟨meth, c, h1, h2, h3, h4, h5, h6⟩
  · intro p e s m args below meth c s₁ B hml0 hP _
    obtain ⟨rfl, hx, hbd, hgv⟩ := hP
    obtain ⟨scr, harrAt, hlist, hof, hsmall⟩ := hx
    obtain ⟨hcb, hkn, -, -⟩ := State.arrayAt?_spec harrAt
    have hown : s.vm.findClass R_law = some m.cls := findClass_of_methodNamed B.named
    have hts0 : ∀ c ∈ (Jvm.Cond.code x code maxLocals ret :: tables_1), c.before #[Value.ref b] s = true := atoms_spec (ws := Jvm.Cond.code x code maxLocals ret :: tables_1) B.pre
    have hts : ∀ w ∈ lw_tbl, w.before #[Value.ref b] s = true := k2_hts_sels lw_privs (fun w hw => hts0 w (List.mem_cons_of_mem _ hw)) lw_privs_ok
    have hml : c.maxLocals = 4 := B.maxLocals_eq (hts0 _ List.mem_cons_self)
    have X₀ : Stand p l e room_1 s m #[Value.ref b] below meth c s₁ [] 0 0 := Stand.of_body B
    have hh0 : s₁.heap = s.heap := by rw [B.state]; rfl
    have hsz : scr.slots.size = xs.length := by rw [← Array.length_toList, hlist, List.length_map]
    have hval : ∀ j : Nat, j < xs.length → scr.slots[j]? = some (.int (xs.getD j 0)) := fun j hj => by
      rw [← Array.getElem?_toList, hlist]
      simp [hj]
    have hbl : b < s.heap.size := (Array.getElem?_eq_some_iff.mp hcb).1
    have hX : va_X b xs.length (fun j => xs.getD j 0) s s.heap := ⟨scr, hcb, hof, hkn, hsz, hval⟩
    have K : W p l e room_1 s m #[Value.ref b] below meth c s₁.heap [] 0 0 (lw_Z below #[Value.ref b] s) (entryFrame m ([Value.ref b] : List Value).toArray 4) := by
      rw [hh0]
      exact whole_start l hbd ⟨B.exec, B.bytes, B.returns, hml, hown, hts, hX, hbl, B.notSynchronized, hgv⟩
    obtain ⟨t, a1, o, b1, b2, b3⟩ := K s₁ rfl X₀
    exact ⟨t, o, a1, b1, b2, b3⟩
theorem lw_pre_spec {args : Array Value} {s : State} (h : (Jvm.Cond.and given_1 narrow_1).before args s = true) (hr : rest_1_c.before args s = true) : ∃ (b : Addr) (xs : List Int32), lw_P b xs args s := by
  have hs := flat_of_before _ h
  have hq := flat_of_before _ hr
  have hc : (Cond.count 1).before args s = true := hs _ (by decide +kernel)
  have harr : (Cond.arrayOf (.arg 0) .int).before args s = true := hs _ (by decide +kernel)
  have hle : (Cond.le (.length (.arg 0)) (.int 192)).before args s = true := hs _ (by decide +kernel)
  have hlen : (Cond.isInt (.length (.arg 0))).before args s = true := hq _ (by decide +kernel)
  have hall : (Cond.all (.arg 0) (.isInt (.elem (.arg 0) (.index 0)))).before args s = true := hq _ (by decide +kernel)
  obtain ⟨b, xs, hb, hx⟩ := State.ints_of_pre rfl harr hlen hall
  have hsm : xs.length < 2 ^ 31 := hx.choose_spec.2.2.2
  have hev : (Term.length (.arg 0)).eval args s none [] s = some (.int xs.length.toInt32) := hx.length_eval hb
  have hv := Cond.le_ints hev (show (Term.int 192).eval args s none [] s = some (.int 192) from rfl)
  have hd : xs.length.toInt32 ≤ 192 := by
    simpa [Cond.before, Cond.holds, hv] using hle
  have hN : xs.length ≤ 192 := (Int32.ofNat_le_ofNat hsm (by decide)).mp (show Int32.ofNat xs.length ≤ Int32.ofNat 192 from hd)
  exact ⟨b, xs, Cond.one_arg hc (show args[0]? = some (.ref b) from hb), hx, hN, h⟩
theorem lw_comes (l : Launch) : Comes l x (Jvm.Cond.code x code maxLocals ret :: tables_1) room_1 (fun tb e args s => Calls_1 tb e args s ∧ rest_1 tb e args s ∧ Pre_1 tb e args s)
    (fun _ _ args s o t => lw_Q args s o t) := by
  intro p e ha hc hk s m args below hf hfit hheap happ hpre
  obtain ⟨b, xs, hP⟩ := lw_pre_spec hpre.2.2 hpre.2.1
  obtain ⟨k, o, h1, h2, h3, hQ⟩ := lw_walk l b xs p e ha hc hk s m args below hf ((Spec.applies_iff_loose hf).mp happ).1 hP trivial
  exact ⟨k, o, h1, h2, h3, hQ⟩
theorem lw_frame {s t : State} {o : Outcome} {args : Array Value} (h : Framed s o t [] 600000 7290000) :
    Framed s o t (fieldLocs frame_1_writes args s ++ arrayLocs frame_1_arrays args s ++ staticLocs frame_1_statics s) 600000 7290000 := h
theorem lw_limb (L : Cond) (hL : ∀ (args : Array Value) (s t : State), L.after args s (.returned (some (.int 1))) t = true) :
    ArmFor flags0 classFile x code maxLocals ret World_1 tables_1 room_1 Calls_1 rest_1 Pre_1
      (fun tb e a s o t => postC L tb e a s o t ∧ Framed s o t (fieldLocs frame_1_writes a s ++ arrayLocs frame_1_arrays a s ++ staticLocs frame_1_statics s) 600000 7290000) := by
  intro l _ _ _ p e ha hc hk s m args below hf hfit hheap happ hpre
  obtain ⟨k, o, h1, h2, h3, rfl, hF⟩ := lw_comes l p e ha hc hk s m args below hf hfit hheap happ hpre
  exact ⟨k, _, h1, h2, h3, hL args s _, lw_frame hF⟩
theorem i_vc : Claimed_1_1 ∧ Claimed_1_2 := ⟨lw_limb limb_1_1 (fun args s t => by simp [limb_1_1, Cond.after, Cond.holds, Cond.value]), lw_limb limb_1_2 (fun args s t => Cond.after_iff.mpr (by
  first | (rw [show limb_1_2 = Cond.eq .result (.int 1) from rfl, Cond.eq_ints (x := 1) (y := 1) rfl rfl]; simp; done) | (simp [limb_1_2, Cond.value, Term.eval]; done)))⟩
end
