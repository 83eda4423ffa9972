section
-- ===== PART A: goes FIRST, ahead of the names: the tables' words, and 'selects' of the private methods out of them =====
/-- a private method of a class that the tables say can be made, by its rows of tables_1 -/
def lw_okq (q : MethodName × Nat) : Prop := (q.1.cls ≠ "java/lang/invoke/MethodHandle" ∧ q.1.cls ≠ "java/lang/invoke/VarHandle") ∧ Cond.instantiable q.1.cls q.2 ∈ tables_1 ∧ Cond.privateMethod q.1 ∈ tables_1 ∧ Cond.instanceMethod q.1 ∈ tables_1
set_option maxRecDepth 100000
theorem lw_p0 : lw_okq (⟨"VoteWatch", "linkOf", "(II)I"⟩, 13) := ⟨⟨by decide +kernel, by decide +kernel⟩, List.mem_of_getElem? (i := 4) rfl, List.mem_of_getElem? (i := 68) rfl, List.mem_of_getElem? (i := 69) rfl⟩
theorem lw_p1 : lw_okq (⟨"VoteWatch", "judge", "(III)I"⟩, 13) := ⟨⟨by decide +kernel, by decide +kernel⟩, List.mem_of_getElem? (i := 4) rfl, List.mem_of_getElem? (i := 72) rfl, List.mem_of_getElem? (i := 73) rfl⟩
theorem lw_p2 : lw_okq (⟨"VoteWatch", "enter", "(III)V"⟩, 13) := ⟨⟨by decide +kernel, by decide +kernel⟩, List.mem_of_getElem? (i := 4) rfl, List.mem_of_getElem? (i := 76) rfl, List.mem_of_getElem? (i := 77) rfl⟩
theorem lw_p3 : lw_okq (⟨"VoteWatch", "openLink", "(II)I"⟩, 13) := ⟨⟨by decide +kernel, by decide +kernel⟩, List.mem_of_getElem? (i := 4) rfl, List.mem_of_getElem? (i := 80) rfl, List.mem_of_getElem? (i := 81) rfl⟩
theorem lw_p4 : lw_okq (⟨"VoteWatch", "stakes", "(I)I"⟩, 13) := ⟨⟨by decide +kernel, by decide +kernel⟩, List.mem_of_getElem? (i := 4) rfl, List.mem_of_getElem? (i := 92) rfl, List.mem_of_getElem? (i := 93) rfl⟩
theorem lw_p5 : lw_okq (⟨"VoteWatch", "justifyAll", "()V"⟩, 13) := ⟨⟨by decide +kernel, by decide +kernel⟩, List.mem_of_getElem? (i := 4) rfl, List.mem_of_getElem? (i := 100) rfl, List.mem_of_getElem? (i := 101) rfl⟩
theorem lw_p6 : lw_okq (⟨"VoteWatch", "isSupported", "(I)Z"⟩, 13) := ⟨⟨by decide +kernel, by decide +kernel⟩, List.mem_of_getElem? (i := 4) rfl, List.mem_of_getElem? (i := 104) rfl, List.mem_of_getElem? (i := 105) rfl⟩
theorem lw_p7 : lw_okq (⟨"VoteWatchModel", "held", "(III)Z"⟩, 6) := ⟨⟨by decide +kernel, by decide +kernel⟩, List.mem_of_getElem? (i := 128) rfl, List.mem_of_getElem? (i := 167) rfl, List.mem_of_getElem? (i := 168) rfl⟩
theorem lw_p8 : lw_okq (⟨"VoteWatchModel", "justify", "()V"⟩, 6) := ⟨⟨by decide +kernel, by decide +kernel⟩, List.mem_of_getElem? (i := 128) rfl, List.mem_of_getElem? (i := 187) rfl, List.mem_of_getElem? (i := 188) rfl⟩
theorem lw_p9 : lw_okq (⟨"VoteWatchModel", "supported", "(II)Z"⟩, 6) := ⟨⟨by decide +kernel, by decide +kernel⟩, List.mem_of_getElem? (i := 128) rfl, List.mem_of_getElem? (i := 191) rfl, List.mem_of_getElem? (i := 192) rfl⟩
theorem lw_p10 : lw_okq (⟨"VoteWatchModel", "total", "()I"⟩, 6) := ⟨⟨by decide +kernel, by decide +kernel⟩, List.mem_of_getElem? (i := 128) rfl, List.mem_of_getElem? (i := 199) rfl, List.mem_of_getElem? (i := 200) rfl⟩
def lw_privs_1 : List (MethodName × Nat) := [(⟨"VoteWatch", "linkOf", "(II)I"⟩, 13), (⟨"VoteWatch", "judge", "(III)I"⟩, 13), (⟨"VoteWatch", "enter", "(III)V"⟩, 13), (⟨"VoteWatch", "openLink", "(II)I"⟩, 13), (⟨"VoteWatch", "stakes", "(I)I"⟩, 13), (⟨"VoteWatch", "justifyAll", "()V"⟩, 13), (⟨"VoteWatch", "isSupported", "(I)Z"⟩, 13), (⟨"VoteWatchModel", "held", "(III)Z"⟩, 6), (⟨"VoteWatchModel", "justify", "()V"⟩, 6), (⟨"VoteWatchModel", "supported", "(II)Z"⟩, 6), (⟨"VoteWatchModel", "total", "()I"⟩, 6)]
theorem lw_r1 : ∀ q ∈ lw_privs_1, lw_okq q := List.forall_mem_cons.mpr ⟨lw_p0, List.forall_mem_cons.mpr ⟨lw_p1, List.forall_mem_cons.mpr ⟨lw_p2, List.forall_mem_cons.mpr ⟨lw_p3, List.forall_mem_cons.mpr ⟨lw_p4, List.forall_mem_cons.mpr ⟨lw_p5, List.forall_mem_cons.mpr ⟨lw_p6, List.forall_mem_cons.mpr ⟨lw_p7, List.forall_mem_cons.mpr ⟨lw_p8, List.forall_mem_cons.mpr ⟨lw_p9, List.forall_mem_cons.mpr ⟨lw_p10, fun _ h => absurd h List.not_mem_nil⟩⟩⟩⟩⟩⟩⟩⟩⟩⟩⟩
def lw_privs : List (MethodName × Nat) := lw_privs_1
def lw_tbl : List Cond := k2_sels lw_privs ++ tables_1
theorem lw_privs_ok : ∀ q ∈ lw_privs, lw_okq q := lw_r1
-- ===== ONE list of words for every method: the tables' words that hold all through a run =====
def lw_all : List Cond := lw_tbl.filter goodWord
/-- a word of the tables by its place: claim/WORDS.tsv -/
theorem lw_w {w : Cond} (i : Nat) (h : lw_tbl[i]? = some w) (g : goodWord w = true) : w ∈ lw_all := List.mem_filter.mpr ⟨List.mem_of_getElem? h, g⟩
theorem lw_all_tbl {w : Cond} (h : w ∈ lw_all) : w ∈ lw_tbl := (List.mem_filter.mp h).1
theorem lw_self : GoodIn lw_all lw_all := fun w h => ⟨h, good_of_word (List.mem_filter.mp h).2⟩
/-- a class's field words, by their places -/
theorem lw_in (ws : List Cond) (ps : List Nat) (hp : ws = ps.filterMap (fun i => lw_tbl[i]?)) (hg : ws.all goodWord = true) : ∀ w ∈ ws, w ∈ lw_all := by
  intro w h
  have h1 := List.all_eq_true.mp hg w h
  rw [hp] at h
  obtain ⟨i, -, hi⟩ := List.mem_filterMap.mp h
  exact lw_w i hi h1
/-- the words of a contract for the method y with code b, L locals, answer r -/
abbrev ws_ (y : MethodName) (b : ByteArray) (L : Nat) (r : Option FieldType) : List Cond := Cond.code y b L r :: lw_all
theorem lw_meth {y : MethodName} {b : ByteArray} {L : Nat} {r : Option FieldType} (h : Cond.code y b L r ∈ lw_all) : GoodIn lw_all (ws_ y b L r) := by
  intro w hw
  rcases List.mem_cons.mp hw with e | e
  · rw [e]
    exact lw_self _ h
  · exact lw_self _ e
theorem lw_app {a c : List Cond} (ha : ∀ w ∈ a, w ∈ lw_all) (hc : GoodIn lw_all c) : GoodIn lw_all (a ++ c) := by
  intro w hw
  rcases List.mem_append.mp hw with e | e
  · exact lw_self w (ha w e)
  · exact hc w e
/-- what a call through an object asks: cwV n hts (lw_V ..) -/
theorem lw_V {own : String} {idx : Nat} {C : String} {y : MethodName} {b : ByteArray} {L : Nat} {r : Option FieldType} (h1 : Cond.methodLink own idx y ∈ lw_all) (h2 : Cond.instanceMethod y ∈ lw_all) (h3 : Cond.selects C y y ∈ lw_all) (h4 : Cond.initialized C ∈ lw_all) (h5 : Cond.code y b L r ∈ lw_all) : GoodIn lw_all (wsV own idx C y (ws_ y b L r)) := by
  refine lw_app ?_ (lw_meth h5)
  intro w hw
  simp only [List.mem_cons, List.not_mem_nil, or_false] at hw
  rcases hw with e | e | e | e
  · rw [e]; exact h1
  · rw [e]; exact h2
  · rw [e]; exact h3
  · rw [e]; exact h4
/-- what a static call asks: va_cwS n hts (lw_S ..) -/
theorem lw_S {own : String} {idx : Nat} {y : MethodName} {b : ByteArray} {L : Nat} {r : Option FieldType} (h1 : Cond.methodLink own idx y ∈ lw_all) (h2 : Cond.static y ∈ lw_all) (h3 : Cond.initialized y.cls ∈ lw_all) (h4 : Cond.code y b L r ∈ lw_all) : GoodIn lw_all (va_wsS own idx y (ws_ y b L r)) := by
  refine lw_app ?_ (lw_meth h4)
  intro w hw
  simp only [List.mem_cons, List.not_mem_nil, or_false] at hw
  rcases hw with e | e | e
  · rw [e]; exact h1
  · rw [e]; exact h2
  · rw [e]; exact h3
/-- the words of a contract for a method WITH HANDLERS (hh: its table) -/
abbrev wsW_ (y : MethodName) (b : ByteArray) (L : Nat) (r : Option FieldType) (hh : List (Nat × Nat × Nat × Nat)) : List Cond := Cond.codeWith y b L r hh :: lw_all
theorem lw_methW {y : MethodName} {b : ByteArray} {L : Nat} {r : Option FieldType} {hh : List (Nat × Nat × Nat × Nat)} (h : Cond.codeWith y b L r hh ∈ lw_all) : GoodIn lw_all (wsW_ y b L r hh) := by
  intro w hw
  rcases List.mem_cons.mp hw with e | e
  · rw [e]
    exact lw_self _ h
  · exact lw_self _ e
/-- any list of words by their places (lw_in), good -/
theorem lw_good {ws : List Cond} (h : ∀ w ∈ ws, w ∈ lw_all) : GoodIn lw_all ws := fun w hw => lw_self w (h w hw)
/-- what a call of a method with handlers asks: vx_cwVW n hts (lw_VW ..), vx_cwSW n hts (lw_SW ..) -/
theorem lw_VW {own : String} {idx : Nat} {C : String} {y : MethodName} {b : ByteArray} {L : Nat} {r : Option FieldType} {hh : List (Nat × Nat × Nat × Nat)} (h1 : Cond.methodLink own idx y ∈ lw_all) (h2 : Cond.instanceMethod y ∈ lw_all) (h3 : Cond.selects C y y ∈ lw_all) (h4 : Cond.initialized C ∈ lw_all) (h5 : Cond.codeWith y b L r hh ∈ lw_all) : GoodIn lw_all (wsV own idx C y (wsW_ y b L r hh)) := by
  refine lw_app ?_ (lw_methW h5)
  intro w hw
  simp only [List.mem_cons, List.not_mem_nil, or_false] at hw
  rcases hw with e | e | e | e
  · rw [e]; exact h1
  · rw [e]; exact h2
  · rw [e]; exact h3
  · rw [e]; exact h4
theorem lw_SW {own : String} {idx : Nat} {y : MethodName} {b : ByteArray} {L : Nat} {r : Option FieldType} {hh : List (Nat × Nat × Nat × Nat)} (h1 : Cond.methodLink own idx y ∈ lw_all) (h2 : Cond.static y ∈ lw_all) (h3 : Cond.initialized y.cls ∈ lw_all) (h4 : Cond.codeWith y b L r hh ∈ lw_all) : GoodIn lw_all (va_wsS own idx y (wsW_ y b L r hh)) := by
  refine lw_app ?_ (lw_methW h4)
  intro w hw
  simp only [List.mem_cons, List.not_mem_nil, or_false] at hw
  rcases hw with e | e | e
  · rw [e]; exact h1
  · rw [e]; exact h2
  · rw [e]; exact h3
/-- a word by its place in its run of the tables -/
theorem lw_at {r : List Cond} (hr : ∀ w ∈ r, w ∈ lw_tbl) {w : Cond} (i : Nat) (h : r[i]? = some w) : w ∈ lw_tbl := hr w (List.mem_of_getElem? h)
theorem lw_g {w : Cond} (h : w ∈ lw_tbl) (g : goodWord w = true) : w ∈ lw_all := List.mem_filter.mpr ⟨h, g⟩
theorem lw_ms : ∀ w ∈ k2_sels lw_privs, w ∈ lw_tbl := fun w h => show w ∈ k2_sels lw_privs ++ tables_1 from List.mem_append_left _ h
theorem lw_m0 : ∀ w ∈ tables_1, w ∈ lw_tbl := fun w h => show w ∈ k2_sels lw_privs ++ tables_1 from List.mem_append_right (k2_sels lw_privs) h
theorem qs0 : (Cond.selects "VoteWatch" ⟨"VoteWatch", "linkOf", "(II)I"⟩ ⟨"VoteWatch", "linkOf", "(II)I"⟩) ∈ lw_all := lw_g (lw_at lw_ms 0 rfl) rfl
theorem qs1 : (Cond.selects "VoteWatch" ⟨"VoteWatch", "judge", "(III)I"⟩ ⟨"VoteWatch", "judge", "(III)I"⟩) ∈ lw_all := lw_g (lw_at lw_ms 1 rfl) rfl
theorem qs2 : (Cond.selects "VoteWatch" ⟨"VoteWatch", "enter", "(III)V"⟩ ⟨"VoteWatch", "enter", "(III)V"⟩) ∈ lw_all := lw_g (lw_at lw_ms 2 rfl) rfl
theorem qs3 : (Cond.selects "VoteWatch" ⟨"VoteWatch", "openLink", "(II)I"⟩ ⟨"VoteWatch", "openLink", "(II)I"⟩) ∈ lw_all := lw_g (lw_at lw_ms 3 rfl) rfl
theorem qs4 : (Cond.selects "VoteWatch" ⟨"VoteWatch", "stakes", "(I)I"⟩ ⟨"VoteWatch", "stakes", "(I)I"⟩) ∈ lw_all := lw_g (lw_at lw_ms 4 rfl) rfl
theorem qs5 : (Cond.selects "VoteWatch" ⟨"VoteWatch", "justifyAll", "()V"⟩ ⟨"VoteWatch", "justifyAll", "()V"⟩) ∈ lw_all := lw_g (lw_at lw_ms 5 rfl) rfl
theorem qs6 : (Cond.selects "VoteWatch" ⟨"VoteWatch", "isSupported", "(I)Z"⟩ ⟨"VoteWatch", "isSupported", "(I)Z"⟩) ∈ lw_all := lw_g (lw_at lw_ms 6 rfl) rfl
theorem qs7 : (Cond.selects "VoteWatchModel" ⟨"VoteWatchModel", "held", "(III)Z"⟩ ⟨"VoteWatchModel", "held", "(III)Z"⟩) ∈ lw_all := lw_g (lw_at lw_ms 7 rfl) rfl
theorem qs8 : (Cond.selects "VoteWatchModel" ⟨"VoteWatchModel", "justify", "()V"⟩ ⟨"VoteWatchModel", "justify", "()V"⟩) ∈ lw_all := lw_g (lw_at lw_ms 8 rfl) rfl
theorem qs9 : (Cond.selects "VoteWatchModel" ⟨"VoteWatchModel", "supported", "(II)Z"⟩ ⟨"VoteWatchModel", "supported", "(II)Z"⟩) ∈ lw_all := lw_g (lw_at lw_ms 9 rfl) rfl
theorem qs10 : (Cond.selects "VoteWatchModel" ⟨"VoteWatchModel", "total", "()I"⟩ ⟨"VoteWatchModel", "total", "()I"⟩) ∈ lw_all := lw_g (lw_at lw_ms 10 rfl) rfl
end
section
/-! VoteWatch -/
set_option maxRecDepth 100000
def RX0 : String := "VoteWatch"
def TX0 : u_T := fun k => match k with
  | 0 => ("VoteWatch", "stakeOf", "[I", true)
  | 1 => ("VoteWatch", "leastAfter", "[I", true)
  | 2 => ("VoteWatch", "greatestBefore", "[I", true)
  | 3 => ("VoteWatch", "targetsIn", "[I", true)
  | 4 => ("VoteWatch", "offenders", "I", false)
  | 5 => ("VoteWatch", "voteCount", "[I", true)
  | 6 => ("VoteWatch", "held", "I", false)
  | 7 => ("VoteWatch", "links", "I", false)
  | 8 => ("VoteWatch", "linkFrom", "[I", true)
  | 9 => ("VoteWatch", "linkTo", "[I", true)
  | 10 => ("VoteWatch", "linkVoters", "[I", true)
  | 11 => ("VoteWatch", "known", "Z", false)
  | _ => ("VoteWatch", "isJustified", "[Z", true)
def tyX0 : Nat → FieldType := fun k => match k with
  | 0 => .array .int
  | 1 => .array .int
  | 2 => .array .int
  | 3 => .array .int
  | 4 => .int
  | 5 => .array .int
  | 6 => .int
  | 7 => .int
  | 8 => .array .int
  | 9 => .array .int
  | 10 => .array .int
  | 11 => .boolean
  | _ => .array .boolean
abbrev wsX00 : List Cond := u_ws RX0 TX0 13
set_option maxRecDepth 100000 in
theorem nmX0 : ∀ a, a < 13 → ∀ b, b < 13 → a ≠ b → (TX0 a).2.1 ≠ (TX0 b).2.1 := by decide +kernel
set_option maxRecDepth 100000 in
theorem tyX0_ok : ∀ k, k < 13 → parseFieldDescriptor (TX0 k).2.2.1 = some (tyX0 k) := by decide +kernel
abbrev cX0_init : ByteArray := prog_1_method_1_code
def yX0_init : MethodName := ⟨RX0, "<init>", "()V"⟩
theorem dX0_init_0 : decode cX0_init 0 = .ok (.aload_n 0, 1) := by decide +kernel
theorem dX0_init_1 : decode cX0_init 1 = .ok (.invokespecial 1, 3) := by decide +kernel
theorem dX0_init_4 : decode cX0_init 4 = .ok (.aload_n 0, 1) := by decide +kernel
theorem dX0_init_5 : decode cX0_init 5 = .ok (.bipush 8, 2) := by decide +kernel
theorem dX0_init_7 : decode cX0_init 7 = .ok (.newarray .int, 2) := by decide +kernel
theorem dX0_init_9 : decode cX0_init 9 = .ok (.putfield 7, 3) := by decide +kernel
theorem dX0_init_12 : decode cX0_init 12 = .ok (.aload_n 0, 1) := by decide +kernel
theorem dX0_init_13 : decode cX0_init 13 = .ok (.sipush 256, 3) := by decide +kernel
theorem dX0_init_16 : decode cX0_init 16 = .ok (.newarray .int, 2) := by decide +kernel
theorem dX0_init_18 : decode cX0_init 18 = .ok (.putfield 13, 3) := by decide +kernel
theorem dX0_init_21 : decode cX0_init 21 = .ok (.aload_n 0, 1) := by decide +kernel
theorem dX0_init_22 : decode cX0_init 22 = .ok (.sipush 256, 3) := by decide +kernel
theorem dX0_init_25 : decode cX0_init 25 = .ok (.newarray .int, 2) := by decide +kernel
theorem dX0_init_27 : decode cX0_init 27 = .ok (.putfield 16, 3) := by decide +kernel
theorem dX0_init_30 : decode cX0_init 30 = .ok (.aload_n 0, 1) := by decide +kernel
theorem dX0_init_31 : decode cX0_init 31 = .ok (.sipush 256, 3) := by decide +kernel
theorem dX0_init_34 : decode cX0_init 34 = .ok (.newarray .int, 2) := by decide +kernel
theorem dX0_init_36 : decode cX0_init 36 = .ok (.putfield 19, 3) := by decide +kernel
theorem dX0_init_39 : decode cX0_init 39 = .ok (.aload_n 0, 1) := by decide +kernel
theorem dX0_init_40 : decode cX0_init 40 = .ok (.bipush 8, 2) := by decide +kernel
theorem dX0_init_42 : decode cX0_init 42 = .ok (.newarray .int, 2) := by decide +kernel
theorem dX0_init_44 : decode cX0_init 44 = .ok (.putfield 22, 3) := by decide +kernel
theorem dX0_init_47 : decode cX0_init 47 = .ok (.aload_n 0, 1) := by decide +kernel
theorem dX0_init_48 : decode cX0_init 48 = .ok (.bipush 64, 2) := by decide +kernel
theorem dX0_init_50 : decode cX0_init 50 = .ok (.newarray .int, 2) := by decide +kernel
theorem dX0_init_52 : decode cX0_init 52 = .ok (.putfield 25, 3) := by decide +kernel
theorem dX0_init_55 : decode cX0_init 55 = .ok (.aload_n 0, 1) := by decide +kernel
theorem dX0_init_56 : decode cX0_init 56 = .ok (.bipush 64, 2) := by decide +kernel
theorem dX0_init_58 : decode cX0_init 58 = .ok (.newarray .int, 2) := by decide +kernel
theorem dX0_init_60 : decode cX0_init 60 = .ok (.putfield 28, 3) := by decide +kernel
theorem dX0_init_63 : decode cX0_init 63 = .ok (.aload_n 0, 1) := by decide +kernel
theorem dX0_init_64 : decode cX0_init 64 = .ok (.bipush 64, 2) := by decide +kernel
theorem dX0_init_66 : decode cX0_init 66 = .ok (.newarray .int, 2) := by decide +kernel
theorem dX0_init_68 : decode cX0_init 68 = .ok (.putfield 31, 3) := by decide +kernel
theorem dX0_init_71 : decode cX0_init 71 = .ok (.aload_n 0, 1) := by decide +kernel
theorem dX0_init_72 : decode cX0_init 72 = .ok (.sipush 128, 3) := by decide +kernel
theorem dX0_init_75 : decode cX0_init 75 = .ok (.newarray .boolean, 2) := by decide +kernel
theorem dX0_init_77 : decode cX0_init 77 = .ok (.putfield 34, 3) := by decide +kernel
theorem dX0_init_80 : decode cX0_init 80 = .ok (.iconst 0, 1) := by decide +kernel
theorem dX0_init_81 : decode cX0_init 81 = .ok (.istore_n 1, 1) := by decide +kernel
theorem dX0_init_82 : decode cX0_init 82 = .ok (.iload_n 1, 1) := by decide +kernel
theorem dX0_init_83 : decode cX0_init 83 = .ok (.bipush 8, 2) := by decide +kernel
theorem dX0_init_85 : decode cX0_init 85 = .ok (.if_icmp .ge 16, 3) := by decide +kernel
theorem dX0_init_88 : decode cX0_init 88 = .ok (.aload_n 0, 1) := by decide +kernel
theorem dX0_init_89 : decode cX0_init 89 = .ok (.getfield 7, 3) := by decide +kernel
theorem dX0_init_92 : decode cX0_init 92 = .ok (.iload_n 1, 1) := by decide +kernel
theorem dX0_init_93 : decode cX0_init 93 = .ok (.iconst 1, 1) := by decide +kernel
theorem dX0_init_94 : decode cX0_init 94 = .ok (.iastore, 1) := by decide +kernel
theorem dX0_init_95 : decode cX0_init 95 = .ok (.iinc 1 1, 3) := by decide +kernel
theorem dX0_init_98 : decode cX0_init 98 = .ok (.goto (-16), 3) := by decide +kernel
theorem dX0_init_101 : decode cX0_init 101 = .ok (.iconst 0, 1) := by decide +kernel
theorem dX0_init_102 : decode cX0_init 102 = .ok (.istore_n 1, 1) := by decide +kernel
theorem dX0_init_103 : decode cX0_init 103 = .ok (.iload_n 1, 1) := by decide +kernel
theorem dX0_init_104 : decode cX0_init 104 = .ok (.sipush 256, 3) := by decide +kernel
theorem dX0_init_107 : decode cX0_init 107 = .ok (.if_icmp .ge 24, 3) := by decide +kernel
theorem dX0_init_110 : decode cX0_init 110 = .ok (.aload_n 0, 1) := by decide +kernel
theorem dX0_init_111 : decode cX0_init 111 = .ok (.getfield 13, 3) := by decide +kernel
theorem dX0_init_114 : decode cX0_init 114 = .ok (.iload_n 1, 1) := by decide +kernel
theorem dX0_init_115 : decode cX0_init 115 = .ok (.bipush 32, 2) := by decide +kernel
theorem dX0_init_117 : decode cX0_init 117 = .ok (.iastore, 1) := by decide +kernel
theorem dX0_init_118 : decode cX0_init 118 = .ok (.aload_n 0, 1) := by decide +kernel
theorem dX0_init_119 : decode cX0_init 119 = .ok (.getfield 16, 3) := by decide +kernel
theorem dX0_init_122 : decode cX0_init 122 = .ok (.iload_n 1, 1) := by decide +kernel
theorem dX0_init_123 : decode cX0_init 123 = .ok (.iconst (-1), 1) := by decide +kernel
theorem dX0_init_124 : decode cX0_init 124 = .ok (.iastore, 1) := by decide +kernel
theorem dX0_init_125 : decode cX0_init 125 = .ok (.iinc 1 1, 3) := by decide +kernel
theorem dX0_init_128 : decode cX0_init 128 = .ok (.goto (-25), 3) := by decide +kernel
theorem dX0_init_131 : decode cX0_init 131 = .ok (.return_, 1) := by decide +kernel
abbrev cX0_stake : ByteArray := prog_1_method_2_code
def yX0_stake : MethodName := ⟨RX0, "stake", "(II)I"⟩
theorem dX0_stake_0 : decode cX0_stake 0 = .ok (.iload_n 1, 1) := by decide +kernel
theorem dX0_stake_1 : decode cX0_stake 1 = .ok (.invokestatic 38, 3) := by decide +kernel
theorem dX0_stake_4 : decode cX0_stake 4 = .ok (.ifCond .ne 5, 3) := by decide +kernel
theorem dX0_stake_7 : decode cX0_stake 7 = .ok (.iconst (-1), 1) := by decide +kernel
theorem dX0_stake_8 : decode cX0_stake 8 = .ok (.ireturn, 1) := by decide +kernel
theorem dX0_stake_9 : decode cX0_stake 9 = .ok (.aload_n 0, 1) := by decide +kernel
theorem dX0_stake_10 : decode cX0_stake 10 = .ok (.getfield 7, 3) := by decide +kernel
theorem dX0_stake_13 : decode cX0_stake 13 = .ok (.iload_n 1, 1) := by decide +kernel
theorem dX0_stake_14 : decode cX0_stake 14 = .ok (.iaload, 1) := by decide +kernel
theorem dX0_stake_15 : decode cX0_stake 15 = .ok (.istore_n 3, 1) := by decide +kernel
theorem dX0_stake_16 : decode cX0_stake 16 = .ok (.aload_n 0, 1) := by decide +kernel
theorem dX0_stake_17 : decode cX0_stake 17 = .ok (.getfield 7, 3) := by decide +kernel
theorem dX0_stake_20 : decode cX0_stake 20 = .ok (.iload_n 1, 1) := by decide +kernel
theorem dX0_stake_21 : decode cX0_stake 21 = .ok (.iload_n 2, 1) := by decide +kernel
theorem dX0_stake_22 : decode cX0_stake 22 = .ok (.ifCond .ge 7, 3) := by decide +kernel
theorem dX0_stake_25 : decode cX0_stake 25 = .ok (.iconst 0, 1) := by decide +kernel
theorem dX0_stake_26 : decode cX0_stake 26 = .ok (.goto 15, 3) := by decide +kernel
theorem dX0_stake_29 : decode cX0_stake 29 = .ok (.iload_n 2, 1) := by decide +kernel
theorem dX0_stake_30 : decode cX0_stake 30 = .ok (.bipush 100, 2) := by decide +kernel
theorem dX0_stake_32 : decode cX0_stake 32 = .ok (.if_icmp .le 8, 3) := by decide +kernel
theorem dX0_stake_35 : decode cX0_stake 35 = .ok (.bipush 100, 2) := by decide +kernel
theorem dX0_stake_37 : decode cX0_stake 37 = .ok (.goto 4, 3) := by decide +kernel
theorem dX0_stake_40 : decode cX0_stake 40 = .ok (.iload_n 2, 1) := by decide +kernel
theorem dX0_stake_41 : decode cX0_stake 41 = .ok (.iastore, 1) := by decide +kernel
theorem dX0_stake_42 : decode cX0_stake 42 = .ok (.aload_n 0, 1) := by decide +kernel
theorem dX0_stake_43 : decode cX0_stake 43 = .ok (.iconst 0, 1) := by decide +kernel
theorem dX0_stake_44 : decode cX0_stake 44 = .ok (.putfield 42, 3) := by decide +kernel
theorem dX0_stake_47 : decode cX0_stake 47 = .ok (.iload_n 3, 1) := by decide +kernel
theorem dX0_stake_48 : decode cX0_stake 48 = .ok (.ireturn, 1) := by decide +kernel
abbrev cX0_isValidator : ByteArray := prog_1_method_12_code
def yX0_isValidator : MethodName := ⟨RX0, "isValidator", "(I)Z"⟩
theorem dX0_isValidator_0 : decode cX0_isValidator 0 = .ok (.iload_n 0, 1) := by decide +kernel
theorem dX0_isValidator_1 : decode cX0_isValidator 1 = .ok (.ifCond .lt 13, 3) := by decide +kernel
theorem dX0_isValidator_4 : decode cX0_isValidator 4 = .ok (.iload_n 0, 1) := by decide +kernel
theorem dX0_isValidator_5 : decode cX0_isValidator 5 = .ok (.bipush 7, 2) := by decide +kernel
theorem dX0_isValidator_7 : decode cX0_isValidator 7 = .ok (.if_icmp .gt 7, 3) := by decide +kernel
theorem dX0_isValidator_10 : decode cX0_isValidator 10 = .ok (.iconst 1, 1) := by decide +kernel
theorem dX0_isValidator_11 : decode cX0_isValidator 11 = .ok (.goto 4, 3) := by decide +kernel
theorem dX0_isValidator_14 : decode cX0_isValidator 14 = .ok (.iconst 0, 1) := by decide +kernel
theorem dX0_isValidator_15 : decode cX0_isValidator 15 = .ok (.ireturn, 1) := by decide +kernel
abbrev cX0_vote : ByteArray := prog_1_method_3_code
def yX0_vote : MethodName := ⟨RX0, "vote", "(III)I"⟩
theorem dX0_vote_0 : decode cX0_vote 0 = .ok (.iload_n 1, 1) := by decide +kernel
theorem dX0_vote_1 : decode cX0_vote 1 = .ok (.invokestatic 38, 3) := by decide +kernel
theorem dX0_vote_4 : decode cX0_vote 4 = .ok (.ifCond .eq 26, 3) := by decide +kernel
theorem dX0_vote_7 : decode cX0_vote 7 = .ok (.iload_n 2, 1) := by decide +kernel
theorem dX0_vote_8 : decode cX0_vote 8 = .ok (.invokestatic 46, 3) := by decide +kernel
theorem dX0_vote_11 : decode cX0_vote 11 = .ok (.ifCond .eq 19, 3) := by decide +kernel
theorem dX0_vote_14 : decode cX0_vote 14 = .ok (.iload_n 3, 1) := by decide +kernel
theorem dX0_vote_15 : decode cX0_vote 15 = .ok (.invokestatic 46, 3) := by decide +kernel
theorem dX0_vote_18 : decode cX0_vote 18 = .ok (.ifCond .eq 12, 3) := by decide +kernel
theorem dX0_vote_21 : decode cX0_vote 21 = .ok (.iload_n 3, 1) := by decide +kernel
theorem dX0_vote_22 : decode cX0_vote 22 = .ok (.iconst 2, 1) := by decide +kernel
theorem dX0_vote_23 : decode cX0_vote 23 = .ok (.ishr, 1) := by decide +kernel
theorem dX0_vote_24 : decode cX0_vote 24 = .ok (.iload_n 2, 1) := by decide +kernel
theorem dX0_vote_25 : decode cX0_vote 25 = .ok (.iconst 2, 1) := by decide +kernel
theorem dX0_vote_26 : decode cX0_vote 26 = .ok (.ishr, 1) := by decide +kernel
theorem dX0_vote_27 : decode cX0_vote 27 = .ok (.if_icmp .gt 5, 3) := by decide +kernel
theorem dX0_vote_30 : decode cX0_vote 30 = .ok (.iconst (-1), 1) := by decide +kernel
theorem dX0_vote_31 : decode cX0_vote 31 = .ok (.ireturn, 1) := by decide +kernel
theorem dX0_vote_32 : decode cX0_vote 32 = .ok (.aload_n 0, 1) := by decide +kernel
theorem dX0_vote_33 : decode cX0_vote 33 = .ok (.iload_n 2, 1) := by decide +kernel
theorem dX0_vote_34 : decode cX0_vote 34 = .ok (.iload_n 3, 1) := by decide +kernel
theorem dX0_vote_35 : decode cX0_vote 35 = .ok (.invokevirtual 49, 3) := by decide +kernel
theorem dX0_vote_38 : decode cX0_vote 38 = .ok (.istore 4, 2) := by decide +kernel
theorem dX0_vote_40 : decode cX0_vote 40 = .ok (.iload 4, 2) := by decide +kernel
theorem dX0_vote_42 : decode cX0_vote 42 = .ok (.ifCond .lt 21, 3) := by decide +kernel
theorem dX0_vote_45 : decode cX0_vote 45 = .ok (.aload_n 0, 1) := by decide +kernel
theorem dX0_vote_46 : decode cX0_vote 46 = .ok (.getfield 31, 3) := by decide +kernel
theorem dX0_vote_49 : decode cX0_vote 49 = .ok (.iload 4, 2) := by decide +kernel
theorem dX0_vote_51 : decode cX0_vote 51 = .ok (.iaload, 1) := by decide +kernel
theorem dX0_vote_52 : decode cX0_vote 52 = .ok (.iload_n 1, 1) := by decide +kernel
theorem dX0_vote_53 : decode cX0_vote 53 = .ok (.iushr, 1) := by decide +kernel
theorem dX0_vote_54 : decode cX0_vote 54 = .ok (.iconst 1, 1) := by decide +kernel
theorem dX0_vote_55 : decode cX0_vote 55 = .ok (.iand, 1) := by decide +kernel
theorem dX0_vote_56 : decode cX0_vote 56 = .ok (.ifCond .eq 7, 3) := by decide +kernel
theorem dX0_vote_59 : decode cX0_vote 59 = .ok (.iconst 1, 1) := by decide +kernel
theorem dX0_vote_60 : decode cX0_vote 60 = .ok (.goto 4, 3) := by decide +kernel
theorem dX0_vote_63 : decode cX0_vote 63 = .ok (.iconst 0, 1) := by decide +kernel
theorem dX0_vote_64 : decode cX0_vote 64 = .ok (.istore 5, 2) := by decide +kernel
theorem dX0_vote_66 : decode cX0_vote 66 = .ok (.iload 5, 2) := by decide +kernel
theorem dX0_vote_68 : decode cX0_vote 68 = .ok (.ifCond .ne 12, 3) := by decide +kernel
theorem dX0_vote_71 : decode cX0_vote 71 = .ok (.aload_n 0, 1) := by decide +kernel
theorem dX0_vote_72 : decode cX0_vote 72 = .ok (.getfield 53, 3) := by decide +kernel
theorem dX0_vote_75 : decode cX0_vote 75 = .ok (.bipush 64, 2) := by decide +kernel
theorem dX0_vote_77 : decode cX0_vote 77 = .ok (.if_icmp .lt 6, 3) := by decide +kernel
theorem dX0_vote_80 : decode cX0_vote 80 = .ok (.bipush (-2), 2) := by decide +kernel
theorem dX0_vote_82 : decode cX0_vote 82 = .ok (.ireturn, 1) := by decide +kernel
theorem dX0_vote_83 : decode cX0_vote 83 = .ok (.aload_n 0, 1) := by decide +kernel
theorem dX0_vote_84 : decode cX0_vote 84 = .ok (.iload_n 1, 1) := by decide +kernel
theorem dX0_vote_85 : decode cX0_vote 85 = .ok (.iload_n 2, 1) := by decide +kernel
theorem dX0_vote_86 : decode cX0_vote 86 = .ok (.iconst 2, 1) := by decide +kernel
theorem dX0_vote_87 : decode cX0_vote 87 = .ok (.ishr, 1) := by decide +kernel
theorem dX0_vote_88 : decode cX0_vote 88 = .ok (.iload_n 3, 1) := by decide +kernel
theorem dX0_vote_89 : decode cX0_vote 89 = .ok (.iconst 2, 1) := by decide +kernel
theorem dX0_vote_90 : decode cX0_vote 90 = .ok (.ishr, 1) := by decide +kernel
theorem dX0_vote_91 : decode cX0_vote 91 = .ok (.invokevirtual 57, 3) := by decide +kernel
theorem dX0_vote_94 : decode cX0_vote 94 = .ok (.istore 6, 2) := by decide +kernel
theorem dX0_vote_96 : decode cX0_vote 96 = .ok (.iload 6, 2) := by decide +kernel
theorem dX0_vote_98 : decode cX0_vote 98 = .ok (.ifCond .eq 15, 3) := by decide +kernel
theorem dX0_vote_101 : decode cX0_vote 101 = .ok (.aload_n 0, 1) := by decide +kernel
theorem dX0_vote_102 : decode cX0_vote 102 = .ok (.dup, 1) := by decide +kernel
theorem dX0_vote_103 : decode cX0_vote 103 = .ok (.getfield 61, 3) := by decide +kernel
theorem dX0_vote_106 : decode cX0_vote 106 = .ok (.iconst 1, 1) := by decide +kernel
theorem dX0_vote_107 : decode cX0_vote 107 = .ok (.iload_n 1, 1) := by decide +kernel
theorem dX0_vote_108 : decode cX0_vote 108 = .ok (.ishl, 1) := by decide +kernel
theorem dX0_vote_109 : decode cX0_vote 109 = .ok (.ior, 1) := by decide +kernel
theorem dX0_vote_110 : decode cX0_vote 110 = .ok (.putfield 61, 3) := by decide +kernel
theorem dX0_vote_113 : decode cX0_vote 113 = .ok (.aload_n 0, 1) := by decide +kernel
theorem dX0_vote_114 : decode cX0_vote 114 = .ok (.iload_n 1, 1) := by decide +kernel
theorem dX0_vote_115 : decode cX0_vote 115 = .ok (.iload_n 2, 1) := by decide +kernel
theorem dX0_vote_116 : decode cX0_vote 116 = .ok (.iconst 2, 1) := by decide +kernel
theorem dX0_vote_117 : decode cX0_vote 117 = .ok (.ishr, 1) := by decide +kernel
theorem dX0_vote_118 : decode cX0_vote 118 = .ok (.iload_n 3, 1) := by decide +kernel
theorem dX0_vote_119 : decode cX0_vote 119 = .ok (.iconst 2, 1) := by decide +kernel
theorem dX0_vote_120 : decode cX0_vote 120 = .ok (.ishr, 1) := by decide +kernel
theorem dX0_vote_121 : decode cX0_vote 121 = .ok (.invokevirtual 64, 3) := by decide +kernel
theorem dX0_vote_124 : decode cX0_vote 124 = .ok (.iload 4, 2) := by decide +kernel
theorem dX0_vote_126 : decode cX0_vote 126 = .ok (.ifCond .ge 11, 3) := by decide +kernel
theorem dX0_vote_129 : decode cX0_vote 129 = .ok (.aload_n 0, 1) := by decide +kernel
theorem dX0_vote_130 : decode cX0_vote 130 = .ok (.iload_n 2, 1) := by decide +kernel
theorem dX0_vote_131 : decode cX0_vote 131 = .ok (.iload_n 3, 1) := by decide +kernel
theorem dX0_vote_132 : decode cX0_vote 132 = .ok (.invokevirtual 68, 3) := by decide +kernel
theorem dX0_vote_135 : decode cX0_vote 135 = .ok (.istore 4, 2) := by decide +kernel
theorem dX0_vote_137 : decode cX0_vote 137 = .ok (.aload_n 0, 1) := by decide +kernel
theorem dX0_vote_138 : decode cX0_vote 138 = .ok (.getfield 31, 3) := by decide +kernel
theorem dX0_vote_141 : decode cX0_vote 141 = .ok (.iload 4, 2) := by decide +kernel
theorem dX0_vote_143 : decode cX0_vote 143 = .ok (.dup2, 1) := by decide +kernel
theorem dX0_vote_144 : decode cX0_vote 144 = .ok (.iaload, 1) := by decide +kernel
theorem dX0_vote_145 : decode cX0_vote 145 = .ok (.iconst 1, 1) := by decide +kernel
theorem dX0_vote_146 : decode cX0_vote 146 = .ok (.iload_n 1, 1) := by decide +kernel
theorem dX0_vote_147 : decode cX0_vote 147 = .ok (.ishl, 1) := by decide +kernel
theorem dX0_vote_148 : decode cX0_vote 148 = .ok (.ior, 1) := by decide +kernel
theorem dX0_vote_149 : decode cX0_vote 149 = .ok (.iastore, 1) := by decide +kernel
theorem dX0_vote_150 : decode cX0_vote 150 = .ok (.aload_n 0, 1) := by decide +kernel
theorem dX0_vote_151 : decode cX0_vote 151 = .ok (.dup, 1) := by decide +kernel
theorem dX0_vote_152 : decode cX0_vote 152 = .ok (.getfield 53, 3) := by decide +kernel
theorem dX0_vote_155 : decode cX0_vote 155 = .ok (.iconst 1, 1) := by decide +kernel
theorem dX0_vote_156 : decode cX0_vote 156 = .ok (.iadd, 1) := by decide +kernel
theorem dX0_vote_157 : decode cX0_vote 157 = .ok (.putfield 53, 3) := by decide +kernel
theorem dX0_vote_160 : decode cX0_vote 160 = .ok (.aload_n 0, 1) := by decide +kernel
theorem dX0_vote_161 : decode cX0_vote 161 = .ok (.getfield 22, 3) := by decide +kernel
theorem dX0_vote_164 : decode cX0_vote 164 = .ok (.iload_n 1, 1) := by decide +kernel
theorem dX0_vote_165 : decode cX0_vote 165 = .ok (.dup2, 1) := by decide +kernel
theorem dX0_vote_166 : decode cX0_vote 166 = .ok (.iaload, 1) := by decide +kernel
theorem dX0_vote_167 : decode cX0_vote 167 = .ok (.iconst 1, 1) := by decide +kernel
theorem dX0_vote_168 : decode cX0_vote 168 = .ok (.iadd, 1) := by decide +kernel
theorem dX0_vote_169 : decode cX0_vote 169 = .ok (.iastore, 1) := by decide +kernel
theorem dX0_vote_170 : decode cX0_vote 170 = .ok (.aload_n 0, 1) := by decide +kernel
theorem dX0_vote_171 : decode cX0_vote 171 = .ok (.iconst 0, 1) := by decide +kernel
theorem dX0_vote_172 : decode cX0_vote 172 = .ok (.putfield 42, 3) := by decide +kernel
theorem dX0_vote_175 : decode cX0_vote 175 = .ok (.iload 6, 2) := by decide +kernel
theorem dX0_vote_177 : decode cX0_vote 177 = .ok (.ireturn, 1) := by decide +kernel
abbrev cX0_isCheckpoint : ByteArray := prog_1_method_13_code
def yX0_isCheckpoint : MethodName := ⟨RX0, "isCheckpoint", "(I)Z"⟩
theorem dX0_isCheckpoint_0 : decode cX0_isCheckpoint 0 = .ok (.iload_n 0, 1) := by decide +kernel
theorem dX0_isCheckpoint_1 : decode cX0_isCheckpoint 1 = .ok (.ifCond .lt 20, 3) := by decide +kernel
theorem dX0_isCheckpoint_4 : decode cX0_isCheckpoint 4 = .ok (.iload_n 0, 1) := by decide +kernel
theorem dX0_isCheckpoint_5 : decode cX0_isCheckpoint 5 = .ok (.bipush 126, 2) := by decide +kernel
theorem dX0_isCheckpoint_7 : decode cX0_isCheckpoint 7 = .ok (.if_icmp .gt 14, 3) := by decide +kernel
theorem dX0_isCheckpoint_10 : decode cX0_isCheckpoint 10 = .ok (.iload_n 0, 1) := by decide +kernel
theorem dX0_isCheckpoint_11 : decode cX0_isCheckpoint 11 = .ok (.iconst 3, 1) := by decide +kernel
theorem dX0_isCheckpoint_12 : decode cX0_isCheckpoint 12 = .ok (.iand, 1) := by decide +kernel
theorem dX0_isCheckpoint_13 : decode cX0_isCheckpoint 13 = .ok (.iconst 3, 1) := by decide +kernel
theorem dX0_isCheckpoint_14 : decode cX0_isCheckpoint 14 = .ok (.if_icmp .eq 7, 3) := by decide +kernel
theorem dX0_isCheckpoint_17 : decode cX0_isCheckpoint 17 = .ok (.iconst 1, 1) := by decide +kernel
theorem dX0_isCheckpoint_18 : decode cX0_isCheckpoint 18 = .ok (.goto 4, 3) := by decide +kernel
theorem dX0_isCheckpoint_21 : decode cX0_isCheckpoint 21 = .ok (.iconst 0, 1) := by decide +kernel
theorem dX0_isCheckpoint_22 : decode cX0_isCheckpoint 22 = .ok (.ireturn, 1) := by decide +kernel
abbrev cX0_linkOf : ByteArray := prog_1_method_16_code
def yX0_linkOf : MethodName := ⟨RX0, "linkOf", "(II)I"⟩
theorem dX0_linkOf_0 : decode cX0_linkOf 0 = .ok (.iconst 0, 1) := by decide +kernel
theorem dX0_linkOf_1 : decode cX0_linkOf 1 = .ok (.istore_n 3, 1) := by decide +kernel
theorem dX0_linkOf_2 : decode cX0_linkOf 2 = .ok (.iload_n 3, 1) := by decide +kernel
theorem dX0_linkOf_3 : decode cX0_linkOf 3 = .ok (.aload_n 0, 1) := by decide +kernel
theorem dX0_linkOf_4 : decode cX0_linkOf 4 = .ok (.getfield 78, 3) := by decide +kernel
theorem dX0_linkOf_7 : decode cX0_linkOf 7 = .ok (.if_icmp .ge 31, 3) := by decide +kernel
theorem dX0_linkOf_10 : decode cX0_linkOf 10 = .ok (.aload_n 0, 1) := by decide +kernel
theorem dX0_linkOf_11 : decode cX0_linkOf 11 = .ok (.getfield 25, 3) := by decide +kernel
theorem dX0_linkOf_14 : decode cX0_linkOf 14 = .ok (.iload_n 3, 1) := by decide +kernel
theorem dX0_linkOf_15 : decode cX0_linkOf 15 = .ok (.iaload, 1) := by decide +kernel
theorem dX0_linkOf_16 : decode cX0_linkOf 16 = .ok (.iload_n 1, 1) := by decide +kernel
theorem dX0_linkOf_17 : decode cX0_linkOf 17 = .ok (.if_icmp .ne 15, 3) := by decide +kernel
theorem dX0_linkOf_20 : decode cX0_linkOf 20 = .ok (.aload_n 0, 1) := by decide +kernel
theorem dX0_linkOf_21 : decode cX0_linkOf 21 = .ok (.getfield 28, 3) := by decide +kernel
theorem dX0_linkOf_24 : decode cX0_linkOf 24 = .ok (.iload_n 3, 1) := by decide +kernel
theorem dX0_linkOf_25 : decode cX0_linkOf 25 = .ok (.iaload, 1) := by decide +kernel
theorem dX0_linkOf_26 : decode cX0_linkOf 26 = .ok (.iload_n 2, 1) := by decide +kernel
theorem dX0_linkOf_27 : decode cX0_linkOf 27 = .ok (.if_icmp .ne 5, 3) := by decide +kernel
theorem dX0_linkOf_30 : decode cX0_linkOf 30 = .ok (.iload_n 3, 1) := by decide +kernel
theorem dX0_linkOf_31 : decode cX0_linkOf 31 = .ok (.ireturn, 1) := by decide +kernel
theorem dX0_linkOf_32 : decode cX0_linkOf 32 = .ok (.iinc 3 1, 3) := by decide +kernel
theorem dX0_linkOf_35 : decode cX0_linkOf 35 = .ok (.goto (-33), 3) := by decide +kernel
theorem dX0_linkOf_38 : decode cX0_linkOf 38 = .ok (.iconst (-1), 1) := by decide +kernel
theorem dX0_linkOf_39 : decode cX0_linkOf 39 = .ok (.ireturn, 1) := by decide +kernel
end
section
set_option maxRecDepth 100000
abbrev cX0_judge : ByteArray := prog_1_method_14_code
def yX0_judge : MethodName := ⟨RX0, "judge", "(III)I"⟩
theorem dX0_judge_0 : decode cX0_judge 0 = .ok (.bipush 32, 2) := by decide +kernel
theorem dX0_judge_2 : decode cX0_judge 2 = .ok (.iload_n 1, 1) := by decide +kernel
theorem dX0_judge_3 : decode cX0_judge 3 = .ok (.imul, 1) := by decide +kernel
theorem dX0_judge_4 : decode cX0_judge 4 = .ok (.istore 4, 2) := by decide +kernel
theorem dX0_judge_6 : decode cX0_judge 6 = .ok (.aload_n 0, 1) := by decide +kernel
theorem dX0_judge_7 : decode cX0_judge 7 = .ok (.getfield 19, 3) := by decide +kernel
theorem dX0_judge_10 : decode cX0_judge 10 = .ok (.iload 4, 2) := by decide +kernel
theorem dX0_judge_12 : decode cX0_judge 12 = .ok (.iload_n 3, 1) := by decide +kernel
theorem dX0_judge_13 : decode cX0_judge 13 = .ok (.iadd, 1) := by decide +kernel
theorem dX0_judge_14 : decode cX0_judge 14 = .ok (.iaload, 1) := by decide +kernel
theorem dX0_judge_15 : decode cX0_judge 15 = .ok (.ifCond .le 7, 3) := by decide +kernel
theorem dX0_judge_18 : decode cX0_judge 18 = .ok (.iconst 1, 1) := by decide +kernel
theorem dX0_judge_19 : decode cX0_judge 19 = .ok (.goto 4, 3) := by decide +kernel
theorem dX0_judge_22 : decode cX0_judge 22 = .ok (.iconst 0, 1) := by decide +kernel
theorem dX0_judge_23 : decode cX0_judge 23 = .ok (.istore 5, 2) := by decide +kernel
theorem dX0_judge_25 : decode cX0_judge 25 = .ok (.iload 5, 2) := by decide +kernel
theorem dX0_judge_27 : decode cX0_judge 27 = .ok (.aload_n 0, 1) := by decide +kernel
theorem dX0_judge_28 : decode cX0_judge 28 = .ok (.getfield 13, 3) := by decide +kernel
theorem dX0_judge_31 : decode cX0_judge 31 = .ok (.iload 4, 2) := by decide +kernel
theorem dX0_judge_33 : decode cX0_judge 33 = .ok (.iload_n 2, 1) := by decide +kernel
theorem dX0_judge_34 : decode cX0_judge 34 = .ok (.iadd, 1) := by decide +kernel
theorem dX0_judge_35 : decode cX0_judge 35 = .ok (.iaload, 1) := by decide +kernel
theorem dX0_judge_36 : decode cX0_judge 36 = .ok (.iload_n 3, 1) := by decide +kernel
theorem dX0_judge_37 : decode cX0_judge 37 = .ok (.if_icmp .ge 7, 3) := by decide +kernel
theorem dX0_judge_40 : decode cX0_judge 40 = .ok (.iconst 2, 1) := by decide +kernel
theorem dX0_judge_41 : decode cX0_judge 41 = .ok (.goto 4, 3) := by decide +kernel
theorem dX0_judge_44 : decode cX0_judge 44 = .ok (.iconst 0, 1) := by decide +kernel
theorem dX0_judge_45 : decode cX0_judge 45 = .ok (.iadd, 1) := by decide +kernel
theorem dX0_judge_46 : decode cX0_judge 46 = .ok (.istore 5, 2) := by decide +kernel
theorem dX0_judge_48 : decode cX0_judge 48 = .ok (.iload 5, 2) := by decide +kernel
theorem dX0_judge_50 : decode cX0_judge 50 = .ok (.aload_n 0, 1) := by decide +kernel
theorem dX0_judge_51 : decode cX0_judge 51 = .ok (.getfield 16, 3) := by decide +kernel
theorem dX0_judge_54 : decode cX0_judge 54 = .ok (.iload 4, 2) := by decide +kernel
theorem dX0_judge_56 : decode cX0_judge 56 = .ok (.iload_n 2, 1) := by decide +kernel
theorem dX0_judge_57 : decode cX0_judge 57 = .ok (.iadd, 1) := by decide +kernel
theorem dX0_judge_58 : decode cX0_judge 58 = .ok (.iaload, 1) := by decide +kernel
theorem dX0_judge_59 : decode cX0_judge 59 = .ok (.iload_n 3, 1) := by decide +kernel
theorem dX0_judge_60 : decode cX0_judge 60 = .ok (.if_icmp .le 7, 3) := by decide +kernel
theorem dX0_judge_63 : decode cX0_judge 63 = .ok (.iconst 4, 1) := by decide +kernel
theorem dX0_judge_64 : decode cX0_judge 64 = .ok (.goto 4, 3) := by decide +kernel
theorem dX0_judge_67 : decode cX0_judge 67 = .ok (.iconst 0, 1) := by decide +kernel
theorem dX0_judge_68 : decode cX0_judge 68 = .ok (.iadd, 1) := by decide +kernel
theorem dX0_judge_69 : decode cX0_judge 69 = .ok (.istore 5, 2) := by decide +kernel
theorem dX0_judge_71 : decode cX0_judge 71 = .ok (.iload 5, 2) := by decide +kernel
theorem dX0_judge_73 : decode cX0_judge 73 = .ok (.ireturn, 1) := by decide +kernel
abbrev cX0_enter : ByteArray := prog_1_method_15_code
def yX0_enter : MethodName := ⟨RX0, "enter", "(III)V"⟩
theorem dX0_enter_0 : decode cX0_enter 0 = .ok (.bipush 32, 2) := by decide +kernel
theorem dX0_enter_2 : decode cX0_enter 2 = .ok (.iload_n 1, 1) := by decide +kernel
theorem dX0_enter_3 : decode cX0_enter 3 = .ok (.imul, 1) := by decide +kernel
theorem dX0_enter_4 : decode cX0_enter 4 = .ok (.istore 4, 2) := by decide +kernel
theorem dX0_enter_6 : decode cX0_enter 6 = .ok (.aload_n 0, 1) := by decide +kernel
theorem dX0_enter_7 : decode cX0_enter 7 = .ok (.getfield 19, 3) := by decide +kernel
theorem dX0_enter_10 : decode cX0_enter 10 = .ok (.iload 4, 2) := by decide +kernel
theorem dX0_enter_12 : decode cX0_enter 12 = .ok (.iload_n 3, 1) := by decide +kernel
theorem dX0_enter_13 : decode cX0_enter 13 = .ok (.iadd, 1) := by decide +kernel
theorem dX0_enter_14 : decode cX0_enter 14 = .ok (.dup2, 1) := by decide +kernel
theorem dX0_enter_15 : decode cX0_enter 15 = .ok (.iaload, 1) := by decide +kernel
theorem dX0_enter_16 : decode cX0_enter 16 = .ok (.iconst 1, 1) := by decide +kernel
theorem dX0_enter_17 : decode cX0_enter 17 = .ok (.iadd, 1) := by decide +kernel
theorem dX0_enter_18 : decode cX0_enter 18 = .ok (.iastore, 1) := by decide +kernel
theorem dX0_enter_19 : decode cX0_enter 19 = .ok (.iconst 0, 1) := by decide +kernel
theorem dX0_enter_20 : decode cX0_enter 20 = .ok (.istore 5, 2) := by decide +kernel
theorem dX0_enter_22 : decode cX0_enter 22 = .ok (.iload 5, 2) := by decide +kernel
theorem dX0_enter_24 : decode cX0_enter 24 = .ok (.iload_n 2, 1) := by decide +kernel
theorem dX0_enter_25 : decode cX0_enter 25 = .ok (.if_icmp .ge 47, 3) := by decide +kernel
theorem dX0_enter_28 : decode cX0_enter 28 = .ok (.aload_n 0, 1) := by decide +kernel
theorem dX0_enter_29 : decode cX0_enter 29 = .ok (.getfield 13, 3) := by decide +kernel
theorem dX0_enter_32 : decode cX0_enter 32 = .ok (.iload 4, 2) := by decide +kernel
theorem dX0_enter_34 : decode cX0_enter 34 = .ok (.iload 5, 2) := by decide +kernel
theorem dX0_enter_36 : decode cX0_enter 36 = .ok (.iadd, 1) := by decide +kernel
theorem dX0_enter_37 : decode cX0_enter 37 = .ok (.iload_n 3, 1) := by decide +kernel
theorem dX0_enter_38 : decode cX0_enter 38 = .ok (.aload_n 0, 1) := by decide +kernel
theorem dX0_enter_39 : decode cX0_enter 39 = .ok (.getfield 13, 3) := by decide +kernel
theorem dX0_enter_42 : decode cX0_enter 42 = .ok (.iload 4, 2) := by decide +kernel
theorem dX0_enter_44 : decode cX0_enter 44 = .ok (.iload 5, 2) := by decide +kernel
theorem dX0_enter_46 : decode cX0_enter 46 = .ok (.iadd, 1) := by decide +kernel
theorem dX0_enter_47 : decode cX0_enter 47 = .ok (.iaload, 1) := by decide +kernel
theorem dX0_enter_48 : decode cX0_enter 48 = .ok (.if_icmp .ge 7, 3) := by decide +kernel
theorem dX0_enter_51 : decode cX0_enter 51 = .ok (.iload_n 3, 1) := by decide +kernel
theorem dX0_enter_52 : decode cX0_enter 52 = .ok (.goto 13, 3) := by decide +kernel
theorem dX0_enter_55 : decode cX0_enter 55 = .ok (.aload_n 0, 1) := by decide +kernel
theorem dX0_enter_56 : decode cX0_enter 56 = .ok (.getfield 13, 3) := by decide +kernel
theorem dX0_enter_59 : decode cX0_enter 59 = .ok (.iload 4, 2) := by decide +kernel
theorem dX0_enter_61 : decode cX0_enter 61 = .ok (.iload 5, 2) := by decide +kernel
theorem dX0_enter_63 : decode cX0_enter 63 = .ok (.iadd, 1) := by decide +kernel
theorem dX0_enter_64 : decode cX0_enter 64 = .ok (.iaload, 1) := by decide +kernel
theorem dX0_enter_65 : decode cX0_enter 65 = .ok (.iastore, 1) := by decide +kernel
theorem dX0_enter_66 : decode cX0_enter 66 = .ok (.iinc 5 1, 3) := by decide +kernel
theorem dX0_enter_69 : decode cX0_enter 69 = .ok (.goto (-47), 3) := by decide +kernel
theorem dX0_enter_72 : decode cX0_enter 72 = .ok (.iload_n 2, 1) := by decide +kernel
theorem dX0_enter_73 : decode cX0_enter 73 = .ok (.iconst 1, 1) := by decide +kernel
theorem dX0_enter_74 : decode cX0_enter 74 = .ok (.iadd, 1) := by decide +kernel
theorem dX0_enter_75 : decode cX0_enter 75 = .ok (.istore 5, 2) := by decide +kernel
theorem dX0_enter_77 : decode cX0_enter 77 = .ok (.iload 5, 2) := by decide +kernel
theorem dX0_enter_79 : decode cX0_enter 79 = .ok (.bipush 32, 2) := by decide +kernel
theorem dX0_enter_81 : decode cX0_enter 81 = .ok (.if_icmp .ge 47, 3) := by decide +kernel
theorem dX0_enter_84 : decode cX0_enter 84 = .ok (.aload_n 0, 1) := by decide +kernel
theorem dX0_enter_85 : decode cX0_enter 85 = .ok (.getfield 16, 3) := by decide +kernel
theorem dX0_enter_88 : decode cX0_enter 88 = .ok (.iload 4, 2) := by decide +kernel
theorem dX0_enter_90 : decode cX0_enter 90 = .ok (.iload 5, 2) := by decide +kernel
theorem dX0_enter_92 : decode cX0_enter 92 = .ok (.iadd, 1) := by decide +kernel
theorem dX0_enter_93 : decode cX0_enter 93 = .ok (.iload_n 3, 1) := by decide +kernel
theorem dX0_enter_94 : decode cX0_enter 94 = .ok (.aload_n 0, 1) := by decide +kernel
theorem dX0_enter_95 : decode cX0_enter 95 = .ok (.getfield 16, 3) := by decide +kernel
theorem dX0_enter_98 : decode cX0_enter 98 = .ok (.iload 4, 2) := by decide +kernel
theorem dX0_enter_100 : decode cX0_enter 100 = .ok (.iload 5, 2) := by decide +kernel
theorem dX0_enter_102 : decode cX0_enter 102 = .ok (.iadd, 1) := by decide +kernel
theorem dX0_enter_103 : decode cX0_enter 103 = .ok (.iaload, 1) := by decide +kernel
theorem dX0_enter_104 : decode cX0_enter 104 = .ok (.if_icmp .le 7, 3) := by decide +kernel
theorem dX0_enter_107 : decode cX0_enter 107 = .ok (.iload_n 3, 1) := by decide +kernel
theorem dX0_enter_108 : decode cX0_enter 108 = .ok (.goto 13, 3) := by decide +kernel
theorem dX0_enter_111 : decode cX0_enter 111 = .ok (.aload_n 0, 1) := by decide +kernel
theorem dX0_enter_112 : decode cX0_enter 112 = .ok (.getfield 16, 3) := by decide +kernel
theorem dX0_enter_115 : decode cX0_enter 115 = .ok (.iload 4, 2) := by decide +kernel
theorem dX0_enter_117 : decode cX0_enter 117 = .ok (.iload 5, 2) := by decide +kernel
theorem dX0_enter_119 : decode cX0_enter 119 = .ok (.iadd, 1) := by decide +kernel
theorem dX0_enter_120 : decode cX0_enter 120 = .ok (.iaload, 1) := by decide +kernel
theorem dX0_enter_121 : decode cX0_enter 121 = .ok (.iastore, 1) := by decide +kernel
theorem dX0_enter_122 : decode cX0_enter 122 = .ok (.iinc 5 1, 3) := by decide +kernel
theorem dX0_enter_125 : decode cX0_enter 125 = .ok (.goto (-48), 3) := by decide +kernel
theorem dX0_enter_128 : decode cX0_enter 128 = .ok (.return_, 1) := by decide +kernel
abbrev cX0_openLink : ByteArray := prog_1_method_17_code
def yX0_openLink : MethodName := ⟨RX0, "openLink", "(II)I"⟩
theorem dX0_openLink_0 : decode cX0_openLink 0 = .ok (.aload_n 0, 1) := by decide +kernel
theorem dX0_openLink_1 : decode cX0_openLink 1 = .ok (.getfield 78, 3) := by decide +kernel
theorem dX0_openLink_4 : decode cX0_openLink 4 = .ok (.istore_n 3, 1) := by decide +kernel
theorem dX0_openLink_5 : decode cX0_openLink 5 = .ok (.aload_n 0, 1) := by decide +kernel
theorem dX0_openLink_6 : decode cX0_openLink 6 = .ok (.getfield 78, 3) := by decide +kernel
theorem dX0_openLink_9 : decode cX0_openLink 9 = .ok (.istore 4, 2) := by decide +kernel
theorem dX0_openLink_11 : decode cX0_openLink 11 = .ok (.iload 4, 2) := by decide +kernel
theorem dX0_openLink_13 : decode cX0_openLink 13 = .ok (.ifCond .le 81, 3) := by decide +kernel
theorem dX0_openLink_16 : decode cX0_openLink 16 = .ok (.iload_n 3, 1) := by decide +kernel
theorem dX0_openLink_17 : decode cX0_openLink 17 = .ok (.iload 4, 2) := by decide +kernel
theorem dX0_openLink_19 : decode cX0_openLink 19 = .ok (.if_icmp .ne 69, 3) := by decide +kernel
theorem dX0_openLink_22 : decode cX0_openLink 22 = .ok (.aload_n 0, 1) := by decide +kernel
theorem dX0_openLink_23 : decode cX0_openLink 23 = .ok (.getfield 28, 3) := by decide +kernel
theorem dX0_openLink_26 : decode cX0_openLink 26 = .ok (.iload 4, 2) := by decide +kernel
theorem dX0_openLink_28 : decode cX0_openLink 28 = .ok (.iconst 1, 1) := by decide +kernel
theorem dX0_openLink_29 : decode cX0_openLink 29 = .ok (.isub, 1) := by decide +kernel
theorem dX0_openLink_30 : decode cX0_openLink 30 = .ok (.iaload, 1) := by decide +kernel
theorem dX0_openLink_31 : decode cX0_openLink 31 = .ok (.iload_n 2, 1) := by decide +kernel
theorem dX0_openLink_32 : decode cX0_openLink 32 = .ok (.if_icmp .le 56, 3) := by decide +kernel
theorem dX0_openLink_35 : decode cX0_openLink 35 = .ok (.aload_n 0, 1) := by decide +kernel
theorem dX0_openLink_36 : decode cX0_openLink 36 = .ok (.getfield 25, 3) := by decide +kernel
theorem dX0_openLink_39 : decode cX0_openLink 39 = .ok (.iload 4, 2) := by decide +kernel
theorem dX0_openLink_41 : decode cX0_openLink 41 = .ok (.aload_n 0, 1) := by decide +kernel
theorem dX0_openLink_42 : decode cX0_openLink 42 = .ok (.getfield 25, 3) := by decide +kernel
theorem dX0_openLink_45 : decode cX0_openLink 45 = .ok (.iload 4, 2) := by decide +kernel
theorem dX0_openLink_47 : decode cX0_openLink 47 = .ok (.iconst 1, 1) := by decide +kernel
theorem dX0_openLink_48 : decode cX0_openLink 48 = .ok (.isub, 1) := by decide +kernel
theorem dX0_openLink_49 : decode cX0_openLink 49 = .ok (.iaload, 1) := by decide +kernel
theorem dX0_openLink_50 : decode cX0_openLink 50 = .ok (.iastore, 1) := by decide +kernel
theorem dX0_openLink_51 : decode cX0_openLink 51 = .ok (.aload_n 0, 1) := by decide +kernel
theorem dX0_openLink_52 : decode cX0_openLink 52 = .ok (.getfield 28, 3) := by decide +kernel
theorem dX0_openLink_55 : decode cX0_openLink 55 = .ok (.iload 4, 2) := by decide +kernel
theorem dX0_openLink_57 : decode cX0_openLink 57 = .ok (.aload_n 0, 1) := by decide +kernel
theorem dX0_openLink_58 : decode cX0_openLink 58 = .ok (.getfield 28, 3) := by decide +kernel
theorem dX0_openLink_61 : decode cX0_openLink 61 = .ok (.iload 4, 2) := by decide +kernel
theorem dX0_openLink_63 : decode cX0_openLink 63 = .ok (.iconst 1, 1) := by decide +kernel
theorem dX0_openLink_64 : decode cX0_openLink 64 = .ok (.isub, 1) := by decide +kernel
theorem dX0_openLink_65 : decode cX0_openLink 65 = .ok (.iaload, 1) := by decide +kernel
theorem dX0_openLink_66 : decode cX0_openLink 66 = .ok (.iastore, 1) := by decide +kernel
theorem dX0_openLink_67 : decode cX0_openLink 67 = .ok (.aload_n 0, 1) := by decide +kernel
theorem dX0_openLink_68 : decode cX0_openLink 68 = .ok (.getfield 31, 3) := by decide +kernel
theorem dX0_openLink_71 : decode cX0_openLink 71 = .ok (.iload 4, 2) := by decide +kernel
theorem dX0_openLink_73 : decode cX0_openLink 73 = .ok (.aload_n 0, 1) := by decide +kernel
theorem dX0_openLink_74 : decode cX0_openLink 74 = .ok (.getfield 31, 3) := by decide +kernel
theorem dX0_openLink_77 : decode cX0_openLink 77 = .ok (.iload 4, 2) := by decide +kernel
theorem dX0_openLink_79 : decode cX0_openLink 79 = .ok (.iconst 1, 1) := by decide +kernel
theorem dX0_openLink_80 : decode cX0_openLink 80 = .ok (.isub, 1) := by decide +kernel
theorem dX0_openLink_81 : decode cX0_openLink 81 = .ok (.iaload, 1) := by decide +kernel
theorem dX0_openLink_82 : decode cX0_openLink 82 = .ok (.iastore, 1) := by decide +kernel
theorem dX0_openLink_83 : decode cX0_openLink 83 = .ok (.iload 4, 2) := by decide +kernel
theorem dX0_openLink_85 : decode cX0_openLink 85 = .ok (.iconst 1, 1) := by decide +kernel
theorem dX0_openLink_86 : decode cX0_openLink 86 = .ok (.isub, 1) := by decide +kernel
theorem dX0_openLink_87 : decode cX0_openLink 87 = .ok (.istore_n 3, 1) := by decide +kernel
theorem dX0_openLink_88 : decode cX0_openLink 88 = .ok (.iinc 4 (-1), 3) := by decide +kernel
theorem dX0_openLink_91 : decode cX0_openLink 91 = .ok (.goto (-80), 3) := by decide +kernel
theorem dX0_openLink_94 : decode cX0_openLink 94 = .ok (.aload_n 0, 1) := by decide +kernel
theorem dX0_openLink_95 : decode cX0_openLink 95 = .ok (.getfield 25, 3) := by decide +kernel
theorem dX0_openLink_98 : decode cX0_openLink 98 = .ok (.iload_n 3, 1) := by decide +kernel
theorem dX0_openLink_99 : decode cX0_openLink 99 = .ok (.iload_n 1, 1) := by decide +kernel
theorem dX0_openLink_100 : decode cX0_openLink 100 = .ok (.iastore, 1) := by decide +kernel
theorem dX0_openLink_101 : decode cX0_openLink 101 = .ok (.aload_n 0, 1) := by decide +kernel
theorem dX0_openLink_102 : decode cX0_openLink 102 = .ok (.getfield 28, 3) := by decide +kernel
theorem dX0_openLink_105 : decode cX0_openLink 105 = .ok (.iload_n 3, 1) := by decide +kernel
theorem dX0_openLink_106 : decode cX0_openLink 106 = .ok (.iload_n 2, 1) := by decide +kernel
theorem dX0_openLink_107 : decode cX0_openLink 107 = .ok (.iastore, 1) := by decide +kernel
theorem dX0_openLink_108 : decode cX0_openLink 108 = .ok (.aload_n 0, 1) := by decide +kernel
theorem dX0_openLink_109 : decode cX0_openLink 109 = .ok (.getfield 31, 3) := by decide +kernel
theorem dX0_openLink_112 : decode cX0_openLink 112 = .ok (.iload_n 3, 1) := by decide +kernel
theorem dX0_openLink_113 : decode cX0_openLink 113 = .ok (.iconst 0, 1) := by decide +kernel
theorem dX0_openLink_114 : decode cX0_openLink 114 = .ok (.iastore, 1) := by decide +kernel
theorem dX0_openLink_115 : decode cX0_openLink 115 = .ok (.aload_n 0, 1) := by decide +kernel
theorem dX0_openLink_116 : decode cX0_openLink 116 = .ok (.dup, 1) := by decide +kernel
theorem dX0_openLink_117 : decode cX0_openLink 117 = .ok (.getfield 78, 3) := by decide +kernel
theorem dX0_openLink_120 : decode cX0_openLink 120 = .ok (.iconst 1, 1) := by decide +kernel
theorem dX0_openLink_121 : decode cX0_openLink 121 = .ok (.iadd, 1) := by decide +kernel
theorem dX0_openLink_122 : decode cX0_openLink 122 = .ok (.putfield 78, 3) := by decide +kernel
theorem dX0_openLink_125 : decode cX0_openLink 125 = .ok (.iload_n 3, 1) := by decide +kernel
theorem dX0_openLink_126 : decode cX0_openLink 126 = .ok (.ireturn, 1) := by decide +kernel
abbrev cX0_offender : ByteArray := prog_1_method_4_code
def yX0_offender : MethodName := ⟨RX0, "offender", "(I)I"⟩
theorem dX0_offender_0 : decode cX0_offender 0 = .ok (.iload_n 1, 1) := by decide +kernel
theorem dX0_offender_1 : decode cX0_offender 1 = .ok (.invokestatic 38, 3) := by decide +kernel
theorem dX0_offender_4 : decode cX0_offender 4 = .ok (.ifCond .eq 14, 3) := by decide +kernel
theorem dX0_offender_7 : decode cX0_offender 7 = .ok (.aload_n 0, 1) := by decide +kernel
theorem dX0_offender_8 : decode cX0_offender 8 = .ok (.getfield 61, 3) := by decide +kernel
theorem dX0_offender_11 : decode cX0_offender 11 = .ok (.iload_n 1, 1) := by decide +kernel
theorem dX0_offender_12 : decode cX0_offender 12 = .ok (.iushr, 1) := by decide +kernel
theorem dX0_offender_13 : decode cX0_offender 13 = .ok (.iconst 1, 1) := by decide +kernel
theorem dX0_offender_14 : decode cX0_offender 14 = .ok (.iand, 1) := by decide +kernel
theorem dX0_offender_15 : decode cX0_offender 15 = .ok (.goto 4, 3) := by decide +kernel
theorem dX0_offender_18 : decode cX0_offender 18 = .ok (.iconst (-1), 1) := by decide +kernel
theorem dX0_offender_19 : decode cX0_offender 19 = .ok (.ireturn, 1) := by decide +kernel
abbrev cX0_offended : ByteArray := prog_1_method_5_code
def yX0_offended : MethodName := ⟨RX0, "offended", "()I"⟩
theorem dX0_offended_0 : decode cX0_offended 0 = .ok (.aload_n 0, 1) := by decide +kernel
theorem dX0_offended_1 : decode cX0_offended 1 = .ok (.aload_n 0, 1) := by decide +kernel
theorem dX0_offended_2 : decode cX0_offended 2 = .ok (.getfield 61, 3) := by decide +kernel
theorem dX0_offended_5 : decode cX0_offended 5 = .ok (.invokevirtual 71, 3) := by decide +kernel
theorem dX0_offended_8 : decode cX0_offended 8 = .ok (.ireturn, 1) := by decide +kernel
abbrev cX0_stakes : ByteArray := prog_1_method_18_code
def yX0_stakes : MethodName := ⟨RX0, "stakes", "(I)I"⟩
theorem dX0_stakes_0 : decode cX0_stakes 0 = .ok (.iconst 0, 1) := by decide +kernel
theorem dX0_stakes_1 : decode cX0_stakes 1 = .ok (.istore_n 2, 1) := by decide +kernel
theorem dX0_stakes_2 : decode cX0_stakes 2 = .ok (.iconst 0, 1) := by decide +kernel
theorem dX0_stakes_3 : decode cX0_stakes 3 = .ok (.istore_n 3, 1) := by decide +kernel
theorem dX0_stakes_4 : decode cX0_stakes 4 = .ok (.iload_n 3, 1) := by decide +kernel
theorem dX0_stakes_5 : decode cX0_stakes 5 = .ok (.bipush 8, 2) := by decide +kernel
theorem dX0_stakes_7 : decode cX0_stakes 7 = .ok (.if_icmp .ge 30, 3) := by decide +kernel
theorem dX0_stakes_10 : decode cX0_stakes 10 = .ok (.iload_n 2, 1) := by decide +kernel
theorem dX0_stakes_11 : decode cX0_stakes 11 = .ok (.iload_n 1, 1) := by decide +kernel
theorem dX0_stakes_12 : decode cX0_stakes 12 = .ok (.iload_n 3, 1) := by decide +kernel
theorem dX0_stakes_13 : decode cX0_stakes 13 = .ok (.iushr, 1) := by decide +kernel
theorem dX0_stakes_14 : decode cX0_stakes 14 = .ok (.iconst 1, 1) := by decide +kernel
theorem dX0_stakes_15 : decode cX0_stakes 15 = .ok (.iand, 1) := by decide +kernel
theorem dX0_stakes_16 : decode cX0_stakes 16 = .ok (.ifCond .eq 12, 3) := by decide +kernel
theorem dX0_stakes_19 : decode cX0_stakes 19 = .ok (.aload_n 0, 1) := by decide +kernel
theorem dX0_stakes_20 : decode cX0_stakes 20 = .ok (.getfield 7, 3) := by decide +kernel
theorem dX0_stakes_23 : decode cX0_stakes 23 = .ok (.iload_n 3, 1) := by decide +kernel
theorem dX0_stakes_24 : decode cX0_stakes 24 = .ok (.iaload, 1) := by decide +kernel
theorem dX0_stakes_25 : decode cX0_stakes 25 = .ok (.goto 4, 3) := by decide +kernel
theorem dX0_stakes_28 : decode cX0_stakes 28 = .ok (.iconst 0, 1) := by decide +kernel
theorem dX0_stakes_29 : decode cX0_stakes 29 = .ok (.iadd, 1) := by decide +kernel
theorem dX0_stakes_30 : decode cX0_stakes 30 = .ok (.istore_n 2, 1) := by decide +kernel
theorem dX0_stakes_31 : decode cX0_stakes 31 = .ok (.iinc 3 1, 3) := by decide +kernel
theorem dX0_stakes_34 : decode cX0_stakes 34 = .ok (.goto (-30), 3) := by decide +kernel
theorem dX0_stakes_37 : decode cX0_stakes 37 = .ok (.iload_n 2, 1) := by decide +kernel
theorem dX0_stakes_38 : decode cX0_stakes 38 = .ok (.ireturn, 1) := by decide +kernel
abbrev cX0_justified : ByteArray := prog_1_method_6_code
def yX0_justified : MethodName := ⟨RX0, "justified", "(I)I"⟩
theorem dX0_justified_0 : decode cX0_justified 0 = .ok (.iload_n 1, 1) := by decide +kernel
theorem dX0_justified_1 : decode cX0_justified 1 = .ok (.invokestatic 46, 3) := by decide +kernel
theorem dX0_justified_4 : decode cX0_justified 4 = .ok (.ifCond .ne 5, 3) := by decide +kernel
theorem dX0_justified_7 : decode cX0_justified 7 = .ok (.iconst (-1), 1) := by decide +kernel
theorem dX0_justified_8 : decode cX0_justified 8 = .ok (.ireturn, 1) := by decide +kernel
theorem dX0_justified_9 : decode cX0_justified 9 = .ok (.aload_n 0, 1) := by decide +kernel
theorem dX0_justified_10 : decode cX0_justified 10 = .ok (.invokevirtual 75, 3) := by decide +kernel
theorem dX0_justified_13 : decode cX0_justified 13 = .ok (.aload_n 0, 1) := by decide +kernel
theorem dX0_justified_14 : decode cX0_justified 14 = .ok (.getfield 34, 3) := by decide +kernel
theorem dX0_justified_17 : decode cX0_justified 17 = .ok (.iload_n 1, 1) := by decide +kernel
theorem dX0_justified_18 : decode cX0_justified 18 = .ok (.baload, 1) := by decide +kernel
theorem dX0_justified_19 : decode cX0_justified 19 = .ok (.ifCond .eq 7, 3) := by decide +kernel
theorem dX0_justified_22 : decode cX0_justified 22 = .ok (.iconst 1, 1) := by decide +kernel
theorem dX0_justified_23 : decode cX0_justified 23 = .ok (.goto 4, 3) := by decide +kernel
theorem dX0_justified_26 : decode cX0_justified 26 = .ok (.iconst 0, 1) := by decide +kernel
theorem dX0_justified_27 : decode cX0_justified 27 = .ok (.ireturn, 1) := by decide +kernel
abbrev cX0_justifyAll : ByteArray := prog_1_method_20_code
def yX0_justifyAll : MethodName := ⟨RX0, "justifyAll", "()V"⟩
theorem dX0_justifyAll_0 : decode cX0_justifyAll 0 = .ok (.aload_n 0, 1) := by decide +kernel
theorem dX0_justifyAll_1 : decode cX0_justifyAll 1 = .ok (.getfield 42, 3) := by decide +kernel
theorem dX0_justifyAll_4 : decode cX0_justifyAll 4 = .ok (.ifCond .eq 4, 3) := by decide +kernel
theorem dX0_justifyAll_7 : decode cX0_justifyAll 7 = .ok (.return_, 1) := by decide +kernel
theorem dX0_justifyAll_8 : decode cX0_justifyAll 8 = .ok (.aload_n 0, 1) := by decide +kernel
theorem dX0_justifyAll_9 : decode cX0_justifyAll 9 = .ok (.iconst 1, 1) := by decide +kernel
theorem dX0_justifyAll_10 : decode cX0_justifyAll 10 = .ok (.putfield 42, 3) := by decide +kernel
theorem dX0_justifyAll_13 : decode cX0_justifyAll 13 = .ok (.iconst 0, 1) := by decide +kernel
theorem dX0_justifyAll_14 : decode cX0_justifyAll 14 = .ok (.istore_n 1, 1) := by decide +kernel
theorem dX0_justifyAll_15 : decode cX0_justifyAll 15 = .ok (.iload_n 1, 1) := by decide +kernel
theorem dX0_justifyAll_16 : decode cX0_justifyAll 16 = .ok (.sipush 128, 3) := by decide +kernel
theorem dX0_justifyAll_19 : decode cX0_justifyAll 19 = .ok (.if_icmp .ge 24, 3) := by decide +kernel
theorem dX0_justifyAll_22 : decode cX0_justifyAll 22 = .ok (.aload_n 0, 1) := by decide +kernel
theorem dX0_justifyAll_23 : decode cX0_justifyAll 23 = .ok (.getfield 34, 3) := by decide +kernel
theorem dX0_justifyAll_26 : decode cX0_justifyAll 26 = .ok (.iload_n 1, 1) := by decide +kernel
theorem dX0_justifyAll_27 : decode cX0_justifyAll 27 = .ok (.iload_n 1, 1) := by decide +kernel
theorem dX0_justifyAll_28 : decode cX0_justifyAll 28 = .ok (.ifCond .ne 7, 3) := by decide +kernel
theorem dX0_justifyAll_31 : decode cX0_justifyAll 31 = .ok (.iconst 1, 1) := by decide +kernel
theorem dX0_justifyAll_32 : decode cX0_justifyAll 32 = .ok (.goto 4, 3) := by decide +kernel
theorem dX0_justifyAll_35 : decode cX0_justifyAll 35 = .ok (.iconst 0, 1) := by decide +kernel
theorem dX0_justifyAll_36 : decode cX0_justifyAll 36 = .ok (.bastore, 1) := by decide +kernel
theorem dX0_justifyAll_37 : decode cX0_justifyAll 37 = .ok (.iinc 1 1, 3) := by decide +kernel
theorem dX0_justifyAll_40 : decode cX0_justifyAll 40 = .ok (.goto (-25), 3) := by decide +kernel
theorem dX0_justifyAll_43 : decode cX0_justifyAll 43 = .ok (.iconst 0, 1) := by decide +kernel
theorem dX0_justifyAll_44 : decode cX0_justifyAll 44 = .ok (.istore_n 1, 1) := by decide +kernel
theorem dX0_justifyAll_45 : decode cX0_justifyAll 45 = .ok (.iload_n 1, 1) := by decide +kernel
theorem dX0_justifyAll_46 : decode cX0_justifyAll 46 = .ok (.aload_n 0, 1) := by decide +kernel
theorem dX0_justifyAll_47 : decode cX0_justifyAll 47 = .ok (.getfield 78, 3) := by decide +kernel
theorem dX0_justifyAll_50 : decode cX0_justifyAll 50 = .ok (.if_icmp .ge 43, 3) := by decide +kernel
theorem dX0_justifyAll_53 : decode cX0_justifyAll 53 = .ok (.aload_n 0, 1) := by decide +kernel
theorem dX0_justifyAll_54 : decode cX0_justifyAll 54 = .ok (.getfield 34, 3) := by decide +kernel
theorem dX0_justifyAll_57 : decode cX0_justifyAll 57 = .ok (.aload_n 0, 1) := by decide +kernel
theorem dX0_justifyAll_58 : decode cX0_justifyAll 58 = .ok (.getfield 25, 3) := by decide +kernel
theorem dX0_justifyAll_61 : decode cX0_justifyAll 61 = .ok (.iload_n 1, 1) := by decide +kernel
theorem dX0_justifyAll_62 : decode cX0_justifyAll 62 = .ok (.iaload, 1) := by decide +kernel
theorem dX0_justifyAll_63 : decode cX0_justifyAll 63 = .ok (.baload, 1) := by decide +kernel
theorem dX0_justifyAll_64 : decode cX0_justifyAll 64 = .ok (.ifCond .eq 23, 3) := by decide +kernel
theorem dX0_justifyAll_67 : decode cX0_justifyAll 67 = .ok (.aload_n 0, 1) := by decide +kernel
theorem dX0_justifyAll_68 : decode cX0_justifyAll 68 = .ok (.iload_n 1, 1) := by decide +kernel
theorem dX0_justifyAll_69 : decode cX0_justifyAll 69 = .ok (.invokevirtual 81, 3) := by decide +kernel
theorem dX0_justifyAll_72 : decode cX0_justifyAll 72 = .ok (.ifCond .eq 15, 3) := by decide +kernel
theorem dX0_justifyAll_75 : decode cX0_justifyAll 75 = .ok (.aload_n 0, 1) := by decide +kernel
theorem dX0_justifyAll_76 : decode cX0_justifyAll 76 = .ok (.getfield 34, 3) := by decide +kernel
theorem dX0_justifyAll_79 : decode cX0_justifyAll 79 = .ok (.aload_n 0, 1) := by decide +kernel
theorem dX0_justifyAll_80 : decode cX0_justifyAll 80 = .ok (.getfield 28, 3) := by decide +kernel
theorem dX0_justifyAll_83 : decode cX0_justifyAll 83 = .ok (.iload_n 1, 1) := by decide +kernel
theorem dX0_justifyAll_84 : decode cX0_justifyAll 84 = .ok (.iaload, 1) := by decide +kernel
theorem dX0_justifyAll_85 : decode cX0_justifyAll 85 = .ok (.iconst 1, 1) := by decide +kernel
theorem dX0_justifyAll_86 : decode cX0_justifyAll 86 = .ok (.bastore, 1) := by decide +kernel
theorem dX0_justifyAll_87 : decode cX0_justifyAll 87 = .ok (.iinc 1 1, 3) := by decide +kernel
theorem dX0_justifyAll_90 : decode cX0_justifyAll 90 = .ok (.goto (-45), 3) := by decide +kernel
theorem dX0_justifyAll_93 : decode cX0_justifyAll 93 = .ok (.return_, 1) := by decide +kernel
end
section
set_option maxRecDepth 100000
abbrev cX0_isSupported : ByteArray := prog_1_method_19_code
def yX0_isSupported : MethodName := ⟨RX0, "isSupported", "(I)Z"⟩
theorem dX0_isSupported_0 : decode cX0_isSupported 0 = .ok (.aload_n 0, 1) := by decide +kernel
theorem dX0_isSupported_1 : decode cX0_isSupported 1 = .ok (.sipush 255, 3) := by decide +kernel
theorem dX0_isSupported_4 : decode cX0_isSupported 4 = .ok (.invokevirtual 71, 3) := by decide +kernel
theorem dX0_isSupported_7 : decode cX0_isSupported 7 = .ok (.istore_n 2, 1) := by decide +kernel
theorem dX0_isSupported_8 : decode cX0_isSupported 8 = .ok (.iconst 3, 1) := by decide +kernel
theorem dX0_isSupported_9 : decode cX0_isSupported 9 = .ok (.aload_n 0, 1) := by decide +kernel
theorem dX0_isSupported_10 : decode cX0_isSupported 10 = .ok (.aload_n 0, 1) := by decide +kernel
theorem dX0_isSupported_11 : decode cX0_isSupported 11 = .ok (.getfield 31, 3) := by decide +kernel
theorem dX0_isSupported_14 : decode cX0_isSupported 14 = .ok (.iload_n 1, 1) := by decide +kernel
theorem dX0_isSupported_15 : decode cX0_isSupported 15 = .ok (.iaload, 1) := by decide +kernel
theorem dX0_isSupported_16 : decode cX0_isSupported 16 = .ok (.invokevirtual 71, 3) := by decide +kernel
theorem dX0_isSupported_19 : decode cX0_isSupported 19 = .ok (.imul, 1) := by decide +kernel
theorem dX0_isSupported_20 : decode cX0_isSupported 20 = .ok (.iconst 2, 1) := by decide +kernel
theorem dX0_isSupported_21 : decode cX0_isSupported 21 = .ok (.iload_n 2, 1) := by decide +kernel
theorem dX0_isSupported_22 : decode cX0_isSupported 22 = .ok (.imul, 1) := by decide +kernel
theorem dX0_isSupported_23 : decode cX0_isSupported 23 = .ok (.if_icmp .le 7, 3) := by decide +kernel
theorem dX0_isSupported_26 : decode cX0_isSupported 26 = .ok (.iconst 1, 1) := by decide +kernel
theorem dX0_isSupported_27 : decode cX0_isSupported 27 = .ok (.goto 4, 3) := by decide +kernel
theorem dX0_isSupported_30 : decode cX0_isSupported 30 = .ok (.iconst 0, 1) := by decide +kernel
theorem dX0_isSupported_31 : decode cX0_isSupported 31 = .ok (.ireturn, 1) := by decide +kernel
abbrev cX0_isFinal : ByteArray := prog_1_method_7_code
def yX0_isFinal : MethodName := ⟨RX0, "isFinal", "(I)I"⟩
theorem dX0_isFinal_0 : decode cX0_isFinal 0 = .ok (.iload_n 1, 1) := by decide +kernel
theorem dX0_isFinal_1 : decode cX0_isFinal 1 = .ok (.invokestatic 46, 3) := by decide +kernel
theorem dX0_isFinal_4 : decode cX0_isFinal 4 = .ok (.ifCond .ne 5, 3) := by decide +kernel
theorem dX0_isFinal_7 : decode cX0_isFinal 7 = .ok (.iconst (-1), 1) := by decide +kernel
theorem dX0_isFinal_8 : decode cX0_isFinal 8 = .ok (.ireturn, 1) := by decide +kernel
theorem dX0_isFinal_9 : decode cX0_isFinal 9 = .ok (.aload_n 0, 1) := by decide +kernel
theorem dX0_isFinal_10 : decode cX0_isFinal 10 = .ok (.invokevirtual 75, 3) := by decide +kernel
theorem dX0_isFinal_13 : decode cX0_isFinal 13 = .ok (.aload_n 0, 1) := by decide +kernel
theorem dX0_isFinal_14 : decode cX0_isFinal 14 = .ok (.getfield 34, 3) := by decide +kernel
theorem dX0_isFinal_17 : decode cX0_isFinal 17 = .ok (.iload_n 1, 1) := by decide +kernel
theorem dX0_isFinal_18 : decode cX0_isFinal 18 = .ok (.baload, 1) := by decide +kernel
theorem dX0_isFinal_19 : decode cX0_isFinal 19 = .ok (.ifCond .ne 5, 3) := by decide +kernel
theorem dX0_isFinal_22 : decode cX0_isFinal 22 = .ok (.iconst 0, 1) := by decide +kernel
theorem dX0_isFinal_23 : decode cX0_isFinal 23 = .ok (.ireturn, 1) := by decide +kernel
theorem dX0_isFinal_24 : decode cX0_isFinal 24 = .ok (.iconst 0, 1) := by decide +kernel
theorem dX0_isFinal_25 : decode cX0_isFinal 25 = .ok (.istore_n 2, 1) := by decide +kernel
theorem dX0_isFinal_26 : decode cX0_isFinal 26 = .ok (.iload_n 2, 1) := by decide +kernel
theorem dX0_isFinal_27 : decode cX0_isFinal 27 = .ok (.aload_n 0, 1) := by decide +kernel
theorem dX0_isFinal_28 : decode cX0_isFinal 28 = .ok (.getfield 78, 3) := by decide +kernel
theorem dX0_isFinal_31 : decode cX0_isFinal 31 = .ok (.if_icmp .ge 55, 3) := by decide +kernel
theorem dX0_isFinal_34 : decode cX0_isFinal 34 = .ok (.aload_n 0, 1) := by decide +kernel
theorem dX0_isFinal_35 : decode cX0_isFinal 35 = .ok (.getfield 25, 3) := by decide +kernel
theorem dX0_isFinal_38 : decode cX0_isFinal 38 = .ok (.iload_n 2, 1) := by decide +kernel
theorem dX0_isFinal_39 : decode cX0_isFinal 39 = .ok (.iaload, 1) := by decide +kernel
theorem dX0_isFinal_40 : decode cX0_isFinal 40 = .ok (.iload_n 1, 1) := by decide +kernel
theorem dX0_isFinal_41 : decode cX0_isFinal 41 = .ok (.if_icmp .ne 23, 3) := by decide +kernel
theorem dX0_isFinal_44 : decode cX0_isFinal 44 = .ok (.aload_n 0, 1) := by decide +kernel
theorem dX0_isFinal_45 : decode cX0_isFinal 45 = .ok (.getfield 28, 3) := by decide +kernel
theorem dX0_isFinal_48 : decode cX0_isFinal 48 = .ok (.iload_n 2, 1) := by decide +kernel
theorem dX0_isFinal_49 : decode cX0_isFinal 49 = .ok (.iaload, 1) := by decide +kernel
theorem dX0_isFinal_50 : decode cX0_isFinal 50 = .ok (.iconst 2, 1) := by decide +kernel
theorem dX0_isFinal_51 : decode cX0_isFinal 51 = .ok (.ishr, 1) := by decide +kernel
theorem dX0_isFinal_52 : decode cX0_isFinal 52 = .ok (.iload_n 1, 1) := by decide +kernel
theorem dX0_isFinal_53 : decode cX0_isFinal 53 = .ok (.iconst 2, 1) := by decide +kernel
theorem dX0_isFinal_54 : decode cX0_isFinal 54 = .ok (.ishr, 1) := by decide +kernel
theorem dX0_isFinal_55 : decode cX0_isFinal 55 = .ok (.iconst 1, 1) := by decide +kernel
theorem dX0_isFinal_56 : decode cX0_isFinal 56 = .ok (.iadd, 1) := by decide +kernel
theorem dX0_isFinal_57 : decode cX0_isFinal 57 = .ok (.if_icmp .ne 7, 3) := by decide +kernel
theorem dX0_isFinal_60 : decode cX0_isFinal 60 = .ok (.iconst 1, 1) := by decide +kernel
theorem dX0_isFinal_61 : decode cX0_isFinal 61 = .ok (.goto 4, 3) := by decide +kernel
theorem dX0_isFinal_64 : decode cX0_isFinal 64 = .ok (.iconst 0, 1) := by decide +kernel
theorem dX0_isFinal_65 : decode cX0_isFinal 65 = .ok (.istore_n 3, 1) := by decide +kernel
theorem dX0_isFinal_66 : decode cX0_isFinal 66 = .ok (.iload_n 3, 1) := by decide +kernel
theorem dX0_isFinal_67 : decode cX0_isFinal 67 = .ok (.ifCond .eq 13, 3) := by decide +kernel
theorem dX0_isFinal_70 : decode cX0_isFinal 70 = .ok (.aload_n 0, 1) := by decide +kernel
theorem dX0_isFinal_71 : decode cX0_isFinal 71 = .ok (.iload_n 2, 1) := by decide +kernel
theorem dX0_isFinal_72 : decode cX0_isFinal 72 = .ok (.invokevirtual 81, 3) := by decide +kernel
theorem dX0_isFinal_75 : decode cX0_isFinal 75 = .ok (.ifCond .eq 5, 3) := by decide +kernel
theorem dX0_isFinal_78 : decode cX0_isFinal 78 = .ok (.iconst 1, 1) := by decide +kernel
theorem dX0_isFinal_79 : decode cX0_isFinal 79 = .ok (.ireturn, 1) := by decide +kernel
theorem dX0_isFinal_80 : decode cX0_isFinal 80 = .ok (.iinc 2 1, 3) := by decide +kernel
theorem dX0_isFinal_83 : decode cX0_isFinal 83 = .ok (.goto (-57), 3) := by decide +kernel
theorem dX0_isFinal_86 : decode cX0_isFinal 86 = .ok (.iconst 0, 1) := by decide +kernel
theorem dX0_isFinal_87 : decode cX0_isFinal 87 = .ok (.ireturn, 1) := by decide +kernel
abbrev cX0_highest : ByteArray := prog_1_method_8_code
def yX0_highest : MethodName := ⟨RX0, "highest", "()I"⟩
theorem dX0_highest_0 : decode cX0_highest 0 = .ok (.aload_n 0, 1) := by decide +kernel
theorem dX0_highest_1 : decode cX0_highest 1 = .ok (.invokevirtual 75, 3) := by decide +kernel
theorem dX0_highest_4 : decode cX0_highest 4 = .ok (.iconst 0, 1) := by decide +kernel
theorem dX0_highest_5 : decode cX0_highest 5 = .ok (.istore_n 1, 1) := by decide +kernel
theorem dX0_highest_6 : decode cX0_highest 6 = .ok (.iconst 0, 1) := by decide +kernel
theorem dX0_highest_7 : decode cX0_highest 7 = .ok (.istore_n 2, 1) := by decide +kernel
theorem dX0_highest_8 : decode cX0_highest 8 = .ok (.iload_n 2, 1) := by decide +kernel
theorem dX0_highest_9 : decode cX0_highest 9 = .ok (.sipush 128, 3) := by decide +kernel
theorem dX0_highest_12 : decode cX0_highest 12 = .ok (.if_icmp .ge 24, 3) := by decide +kernel
theorem dX0_highest_15 : decode cX0_highest 15 = .ok (.aload_n 0, 1) := by decide +kernel
theorem dX0_highest_16 : decode cX0_highest 16 = .ok (.getfield 34, 3) := by decide +kernel
theorem dX0_highest_19 : decode cX0_highest 19 = .ok (.iload_n 2, 1) := by decide +kernel
theorem dX0_highest_20 : decode cX0_highest 20 = .ok (.baload, 1) := by decide +kernel
theorem dX0_highest_21 : decode cX0_highest 21 = .ok (.ifCond .eq 7, 3) := by decide +kernel
theorem dX0_highest_24 : decode cX0_highest 24 = .ok (.iload_n 2, 1) := by decide +kernel
theorem dX0_highest_25 : decode cX0_highest 25 = .ok (.goto 4, 3) := by decide +kernel
theorem dX0_highest_28 : decode cX0_highest 28 = .ok (.iload_n 1, 1) := by decide +kernel
theorem dX0_highest_29 : decode cX0_highest 29 = .ok (.istore_n 1, 1) := by decide +kernel
theorem dX0_highest_30 : decode cX0_highest 30 = .ok (.iinc 2 1, 3) := by decide +kernel
theorem dX0_highest_33 : decode cX0_highest 33 = .ok (.goto (-25), 3) := by decide +kernel
theorem dX0_highest_36 : decode cX0_highest 36 = .ok (.iload_n 1, 1) := by decide +kernel
theorem dX0_highest_37 : decode cX0_highest 37 = .ok (.ireturn, 1) := by decide +kernel
abbrev cX0_justifiedIn : ByteArray := prog_1_method_9_code
def yX0_justifiedIn : MethodName := ⟨RX0, "justifiedIn", "(I)I"⟩
theorem dX0_justifiedIn_0 : decode cX0_justifiedIn 0 = .ok (.iload_n 1, 1) := by decide +kernel
theorem dX0_justifiedIn_1 : decode cX0_justifiedIn 1 = .ok (.ifCond .lt 9, 3) := by decide +kernel
theorem dX0_justifiedIn_4 : decode cX0_justifiedIn 4 = .ok (.iload_n 1, 1) := by decide +kernel
theorem dX0_justifiedIn_5 : decode cX0_justifiedIn 5 = .ok (.bipush 31, 2) := by decide +kernel
theorem dX0_justifiedIn_7 : decode cX0_justifiedIn 7 = .ok (.if_icmp .le 5, 3) := by decide +kernel
theorem dX0_justifiedIn_10 : decode cX0_justifiedIn 10 = .ok (.iconst (-1), 1) := by decide +kernel
theorem dX0_justifiedIn_11 : decode cX0_justifiedIn 11 = .ok (.ireturn, 1) := by decide +kernel
theorem dX0_justifiedIn_12 : decode cX0_justifiedIn 12 = .ok (.aload_n 0, 1) := by decide +kernel
theorem dX0_justifiedIn_13 : decode cX0_justifiedIn 13 = .ok (.invokevirtual 75, 3) := by decide +kernel
theorem dX0_justifiedIn_16 : decode cX0_justifiedIn 16 = .ok (.iconst 0, 1) := by decide +kernel
theorem dX0_justifiedIn_17 : decode cX0_justifiedIn 17 = .ok (.istore_n 2, 1) := by decide +kernel
theorem dX0_justifiedIn_18 : decode cX0_justifiedIn 18 = .ok (.iconst 4, 1) := by decide +kernel
theorem dX0_justifiedIn_19 : decode cX0_justifiedIn 19 = .ok (.iload_n 1, 1) := by decide +kernel
theorem dX0_justifiedIn_20 : decode cX0_justifiedIn 20 = .ok (.imul, 1) := by decide +kernel
theorem dX0_justifiedIn_21 : decode cX0_justifiedIn 21 = .ok (.istore_n 3, 1) := by decide +kernel
theorem dX0_justifiedIn_22 : decode cX0_justifiedIn 22 = .ok (.iload_n 3, 1) := by decide +kernel
theorem dX0_justifiedIn_23 : decode cX0_justifiedIn 23 = .ok (.iconst 4, 1) := by decide +kernel
theorem dX0_justifiedIn_24 : decode cX0_justifiedIn 24 = .ok (.iload_n 1, 1) := by decide +kernel
theorem dX0_justifiedIn_25 : decode cX0_justifiedIn 25 = .ok (.imul, 1) := by decide +kernel
theorem dX0_justifiedIn_26 : decode cX0_justifiedIn 26 = .ok (.iconst 3, 1) := by decide +kernel
theorem dX0_justifiedIn_27 : decode cX0_justifiedIn 27 = .ok (.iadd, 1) := by decide +kernel
theorem dX0_justifiedIn_28 : decode cX0_justifiedIn 28 = .ok (.if_icmp .ge 26, 3) := by decide +kernel
theorem dX0_justifiedIn_31 : decode cX0_justifiedIn 31 = .ok (.iload_n 2, 1) := by decide +kernel
theorem dX0_justifiedIn_32 : decode cX0_justifiedIn 32 = .ok (.aload_n 0, 1) := by decide +kernel
theorem dX0_justifiedIn_33 : decode cX0_justifiedIn 33 = .ok (.getfield 34, 3) := by decide +kernel
theorem dX0_justifiedIn_36 : decode cX0_justifiedIn 36 = .ok (.iload_n 3, 1) := by decide +kernel
theorem dX0_justifiedIn_37 : decode cX0_justifiedIn 37 = .ok (.baload, 1) := by decide +kernel
theorem dX0_justifiedIn_38 : decode cX0_justifiedIn 38 = .ok (.ifCond .eq 7, 3) := by decide +kernel
theorem dX0_justifiedIn_41 : decode cX0_justifiedIn 41 = .ok (.iconst 1, 1) := by decide +kernel
theorem dX0_justifiedIn_42 : decode cX0_justifiedIn 42 = .ok (.goto 4, 3) := by decide +kernel
theorem dX0_justifiedIn_45 : decode cX0_justifiedIn 45 = .ok (.iconst 0, 1) := by decide +kernel
theorem dX0_justifiedIn_46 : decode cX0_justifiedIn 46 = .ok (.iadd, 1) := by decide +kernel
theorem dX0_justifiedIn_47 : decode cX0_justifiedIn 47 = .ok (.istore_n 2, 1) := by decide +kernel
theorem dX0_justifiedIn_48 : decode cX0_justifiedIn 48 = .ok (.iinc 3 1, 3) := by decide +kernel
theorem dX0_justifiedIn_51 : decode cX0_justifiedIn 51 = .ok (.goto (-29), 3) := by decide +kernel
theorem dX0_justifiedIn_54 : decode cX0_justifiedIn 54 = .ok (.iload_n 2, 1) := by decide +kernel
theorem dX0_justifiedIn_55 : decode cX0_justifiedIn 55 = .ok (.ireturn, 1) := by decide +kernel
abbrev cX0_support : ByteArray := prog_1_method_10_code
def yX0_support : MethodName := ⟨RX0, "support", "(II)I"⟩
theorem dX0_support_0 : decode cX0_support 0 = .ok (.aload_n 0, 1) := by decide +kernel
theorem dX0_support_1 : decode cX0_support 1 = .ok (.iload_n 1, 1) := by decide +kernel
theorem dX0_support_2 : decode cX0_support 2 = .ok (.iload_n 2, 1) := by decide +kernel
theorem dX0_support_3 : decode cX0_support 3 = .ok (.invokevirtual 49, 3) := by decide +kernel
theorem dX0_support_6 : decode cX0_support 6 = .ok (.istore_n 3, 1) := by decide +kernel
theorem dX0_support_7 : decode cX0_support 7 = .ok (.iload_n 3, 1) := by decide +kernel
theorem dX0_support_8 : decode cX0_support 8 = .ok (.ifCond .ge 7, 3) := by decide +kernel
theorem dX0_support_11 : decode cX0_support 11 = .ok (.iconst 0, 1) := by decide +kernel
theorem dX0_support_12 : decode cX0_support 12 = .ok (.goto 13, 3) := by decide +kernel
theorem dX0_support_15 : decode cX0_support 15 = .ok (.aload_n 0, 1) := by decide +kernel
theorem dX0_support_16 : decode cX0_support 16 = .ok (.aload_n 0, 1) := by decide +kernel
theorem dX0_support_17 : decode cX0_support 17 = .ok (.getfield 31, 3) := by decide +kernel
theorem dX0_support_20 : decode cX0_support 20 = .ok (.iload_n 3, 1) := by decide +kernel
theorem dX0_support_21 : decode cX0_support 21 = .ok (.iaload, 1) := by decide +kernel
theorem dX0_support_22 : decode cX0_support 22 = .ok (.invokevirtual 71, 3) := by decide +kernel
theorem dX0_support_25 : decode cX0_support 25 = .ok (.ireturn, 1) := by decide +kernel
abbrev cX0_votes : ByteArray := prog_1_method_11_code
def yX0_votes : MethodName := ⟨RX0, "votes", "(I)I"⟩
theorem dX0_votes_0 : decode cX0_votes 0 = .ok (.iload_n 1, 1) := by decide +kernel
theorem dX0_votes_1 : decode cX0_votes 1 = .ok (.invokestatic 38, 3) := by decide +kernel
theorem dX0_votes_4 : decode cX0_votes 4 = .ok (.ifCond .eq 12, 3) := by decide +kernel
theorem dX0_votes_7 : decode cX0_votes 7 = .ok (.aload_n 0, 1) := by decide +kernel
theorem dX0_votes_8 : decode cX0_votes 8 = .ok (.getfield 22, 3) := by decide +kernel
theorem dX0_votes_11 : decode cX0_votes 11 = .ok (.iload_n 1, 1) := by decide +kernel
theorem dX0_votes_12 : decode cX0_votes 12 = .ok (.iaload, 1) := by decide +kernel
theorem dX0_votes_13 : decode cX0_votes 13 = .ok (.goto 4, 3) := by decide +kernel
theorem dX0_votes_16 : decode cX0_votes 16 = .ok (.iconst (-1), 1) := by decide +kernel
theorem dX0_votes_17 : decode cX0_votes 17 = .ok (.ireturn, 1) := by decide +kernel
theorem q12 : (Jvm.Cond.initialized "VoteWatch") ∈ lw_all := lw_g (lw_at lw_m0 1 rfl) rfl
theorem q15 : (Jvm.Cond.instantiable "VoteWatch" (13 : Nat)) ∈ lw_all := lw_g (lw_at lw_m0 4 rfl) rfl
theorem q17 : (Jvm.Cond.instanceMethod ({ cls := "VoteWatch", name := "<init>", desc := "()V" } : Jvm.MethodName)) ∈ lw_all := lw_g (lw_at lw_m0 6 rfl) rfl
theorem q18 : (Jvm.Cond.code ({ cls := "VoteWatch", name := "<init>", desc := "()V" } : Jvm.MethodName) prog_1_method_1_code (2 : Nat) (Option.none : Option Jvm.ClassFile.FieldType)) ∈ lw_all := lw_g (lw_at lw_m0 7 rfl) rfl
theorem q19 : (Jvm.Cond.methodLink "VoteWatch" (1 : Nat) ({ cls := "java/lang/Object", name := "<init>", desc := "()V" } : Jvm.MethodName)) ∈ lw_all := lw_g (lw_at lw_m0 8 rfl) rfl
theorem q22 : (Jvm.Cond.fieldLink "VoteWatch" (7 : Nat) "VoteWatch" "stakeOf" "[I") ∈ lw_all := lw_g (lw_at lw_m0 11 rfl) rfl
theorem q23 : (Jvm.Cond.fieldLink "VoteWatch" (13 : Nat) "VoteWatch" "leastAfter" "[I") ∈ lw_all := lw_g (lw_at lw_m0 12 rfl) rfl
theorem q24 : (Jvm.Cond.fieldLink "VoteWatch" (16 : Nat) "VoteWatch" "greatestBefore" "[I") ∈ lw_all := lw_g (lw_at lw_m0 13 rfl) rfl
theorem q25 : (Jvm.Cond.fieldLink "VoteWatch" (19 : Nat) "VoteWatch" "targetsIn" "[I") ∈ lw_all := lw_g (lw_at lw_m0 14 rfl) rfl
theorem q26 : (Jvm.Cond.fieldLink "VoteWatch" (61 : Nat) "VoteWatch" "offenders" "I") ∈ lw_all := lw_g (lw_at lw_m0 15 rfl) rfl
theorem q27 : (Jvm.Cond.fieldLink "VoteWatch" (22 : Nat) "VoteWatch" "voteCount" "[I") ∈ lw_all := lw_g (lw_at lw_m0 16 rfl) rfl
theorem q28 : (Jvm.Cond.fieldLink "VoteWatch" (53 : Nat) "VoteWatch" "held" "I") ∈ lw_all := lw_g (lw_at lw_m0 17 rfl) rfl
theorem q29 : (Jvm.Cond.fieldLink "VoteWatch" (78 : Nat) "VoteWatch" "links" "I") ∈ lw_all := lw_g (lw_at lw_m0 18 rfl) rfl
theorem q30 : (Jvm.Cond.fieldLink "VoteWatch" (25 : Nat) "VoteWatch" "linkFrom" "[I") ∈ lw_all := lw_g (lw_at lw_m0 19 rfl) rfl
theorem q31 : (Jvm.Cond.fieldLink "VoteWatch" (28 : Nat) "VoteWatch" "linkTo" "[I") ∈ lw_all := lw_g (lw_at lw_m0 20 rfl) rfl
theorem q32 : (Jvm.Cond.fieldLink "VoteWatch" (31 : Nat) "VoteWatch" "linkVoters" "[I") ∈ lw_all := lw_g (lw_at lw_m0 21 rfl) rfl
theorem q33 : (Jvm.Cond.fieldLink "VoteWatch" (42 : Nat) "VoteWatch" "known" "Z") ∈ lw_all := lw_g (lw_at lw_m0 22 rfl) rfl
theorem q34 : (Jvm.Cond.fieldLink "VoteWatch" (34 : Nat) "VoteWatch" "isJustified" "[Z") ∈ lw_all := lw_g (lw_at lw_m0 23 rfl) rfl
theorem q35 : (Jvm.Cond.laysFinal "VoteWatch" "VoteWatch" "stakeOf" "[I") ∈ lw_all := lw_g (lw_at lw_m0 24 rfl) rfl
theorem q36 : (Jvm.Cond.soleField "VoteWatch" "stakeOf") ∈ lw_all := lw_g (lw_at lw_m0 25 rfl) rfl
theorem q37 : (Jvm.Cond.laysFinal "VoteWatch" "VoteWatch" "leastAfter" "[I") ∈ lw_all := lw_g (lw_at lw_m0 26 rfl) rfl
theorem q38 : (Jvm.Cond.soleField "VoteWatch" "leastAfter") ∈ lw_all := lw_g (lw_at lw_m0 27 rfl) rfl
theorem q39 : (Jvm.Cond.laysFinal "VoteWatch" "VoteWatch" "greatestBefore" "[I") ∈ lw_all := lw_g (lw_at lw_m0 28 rfl) rfl
theorem q40 : (Jvm.Cond.soleField "VoteWatch" "greatestBefore") ∈ lw_all := lw_g (lw_at lw_m0 29 rfl) rfl
theorem q41 : (Jvm.Cond.laysFinal "VoteWatch" "VoteWatch" "targetsIn" "[I") ∈ lw_all := lw_g (lw_at lw_m0 30 rfl) rfl
theorem q42 : (Jvm.Cond.soleField "VoteWatch" "targetsIn") ∈ lw_all := lw_g (lw_at lw_m0 31 rfl) rfl
theorem q43 : (Jvm.Cond.lays "VoteWatch" "VoteWatch" "offenders" "I") ∈ lw_all := lw_g (lw_at lw_m0 32 rfl) rfl
theorem q44 : (Jvm.Cond.soleField "VoteWatch" "offenders") ∈ lw_all := lw_g (lw_at lw_m0 33 rfl) rfl
theorem q45 : (Jvm.Cond.laysFinal "VoteWatch" "VoteWatch" "voteCount" "[I") ∈ lw_all := lw_g (lw_at lw_m0 34 rfl) rfl
theorem q46 : (Jvm.Cond.soleField "VoteWatch" "voteCount") ∈ lw_all := lw_g (lw_at lw_m0 35 rfl) rfl
theorem q47 : (Jvm.Cond.lays "VoteWatch" "VoteWatch" "held" "I") ∈ lw_all := lw_g (lw_at lw_m0 36 rfl) rfl
theorem q48 : (Jvm.Cond.soleField "VoteWatch" "held") ∈ lw_all := lw_g (lw_at lw_m0 37 rfl) rfl
theorem q49 : (Jvm.Cond.lays "VoteWatch" "VoteWatch" "links" "I") ∈ lw_all := lw_g (lw_at lw_m0 38 rfl) rfl
theorem q50 : (Jvm.Cond.soleField "VoteWatch" "links") ∈ lw_all := lw_g (lw_at lw_m0 39 rfl) rfl
theorem q51 : (Jvm.Cond.laysFinal "VoteWatch" "VoteWatch" "linkFrom" "[I") ∈ lw_all := lw_g (lw_at lw_m0 40 rfl) rfl
theorem q52 : (Jvm.Cond.soleField "VoteWatch" "linkFrom") ∈ lw_all := lw_g (lw_at lw_m0 41 rfl) rfl
theorem q53 : (Jvm.Cond.laysFinal "VoteWatch" "VoteWatch" "linkTo" "[I") ∈ lw_all := lw_g (lw_at lw_m0 42 rfl) rfl
theorem q54 : (Jvm.Cond.soleField "VoteWatch" "linkTo") ∈ lw_all := lw_g (lw_at lw_m0 43 rfl) rfl
theorem q55 : (Jvm.Cond.laysFinal "VoteWatch" "VoteWatch" "linkVoters" "[I") ∈ lw_all := lw_g (lw_at lw_m0 44 rfl) rfl
theorem q56 : (Jvm.Cond.soleField "VoteWatch" "linkVoters") ∈ lw_all := lw_g (lw_at lw_m0 45 rfl) rfl
theorem q57 : (Jvm.Cond.lays "VoteWatch" "VoteWatch" "known" "Z") ∈ lw_all := lw_g (lw_at lw_m0 46 rfl) rfl
theorem q58 : (Jvm.Cond.soleField "VoteWatch" "known") ∈ lw_all := lw_g (lw_at lw_m0 47 rfl) rfl
theorem q59 : (Jvm.Cond.laysFinal "VoteWatch" "VoteWatch" "isJustified" "[Z") ∈ lw_all := lw_g (lw_at lw_m0 48 rfl) rfl
theorem q60 : (Jvm.Cond.soleField "VoteWatch" "isJustified") ∈ lw_all := lw_g (lw_at lw_m0 49 rfl) rfl
theorem q61 : (Jvm.Cond.superclass "VoteWatch" "java/lang/Object") ∈ lw_all := lw_g (lw_at lw_m0 50 rfl) rfl
theorem q65 : (Jvm.Cond.instanceMethod ({ cls := "VoteWatch", name := "stake", desc := "(II)I" } : Jvm.MethodName)) ∈ lw_all := lw_g (lw_at lw_m0 54 rfl) rfl
theorem q66 : (Jvm.Cond.selects "VoteWatch" ({ cls := "VoteWatch", name := "stake", desc := "(II)I" } : Jvm.MethodName) ({ cls := "VoteWatch", name := "stake", desc := "(II)I" } : Jvm.MethodName)) ∈ lw_all := lw_g (lw_at lw_m0 55 rfl) rfl
theorem q67 : (Jvm.Cond.code ({ cls := "VoteWatch", name := "stake", desc := "(II)I" } : Jvm.MethodName) prog_1_method_2_code (4 : Nat) (Option.some Jvm.ClassFile.FieldType.int)) ∈ lw_all := lw_g (lw_at lw_m0 56 rfl) rfl
theorem q68 : (Jvm.Cond.methodLink "VoteWatch" (38 : Nat) ({ cls := "VoteWatch", name := "isValidator", desc := "(I)Z" } : Jvm.MethodName)) ∈ lw_all := lw_g (lw_at lw_m0 57 rfl) rfl
theorem q69 : (Jvm.Cond.static ({ cls := "VoteWatch", name := "isValidator", desc := "(I)Z" } : Jvm.MethodName)) ∈ lw_all := lw_g (lw_at lw_m0 58 rfl) rfl
theorem q70 : (Jvm.Cond.code ({ cls := "VoteWatch", name := "isValidator", desc := "(I)Z" } : Jvm.MethodName) prog_1_method_12_code (1 : Nat) (Option.some Jvm.ClassFile.FieldType.boolean)) ∈ lw_all := lw_g (lw_at lw_m0 59 rfl) rfl
theorem q72 : (Jvm.Cond.instanceMethod ({ cls := "VoteWatch", name := "vote", desc := "(III)I" } : Jvm.MethodName)) ∈ lw_all := lw_g (lw_at lw_m0 61 rfl) rfl
theorem q73 : (Jvm.Cond.selects "VoteWatch" ({ cls := "VoteWatch", name := "vote", desc := "(III)I" } : Jvm.MethodName) ({ cls := "VoteWatch", name := "vote", desc := "(III)I" } : Jvm.MethodName)) ∈ lw_all := lw_g (lw_at lw_m0 62 rfl) rfl
theorem q74 : (Jvm.Cond.code ({ cls := "VoteWatch", name := "vote", desc := "(III)I" } : Jvm.MethodName) prog_1_method_3_code (7 : Nat) (Option.some Jvm.ClassFile.FieldType.int)) ∈ lw_all := lw_g (lw_at lw_m0 63 rfl) rfl
theorem q75 : (Jvm.Cond.methodLink "VoteWatch" (46 : Nat) ({ cls := "VoteWatch", name := "isCheckpoint", desc := "(I)Z" } : Jvm.MethodName)) ∈ lw_all := lw_g (lw_at lw_m0 64 rfl) rfl
theorem q76 : (Jvm.Cond.static ({ cls := "VoteWatch", name := "isCheckpoint", desc := "(I)Z" } : Jvm.MethodName)) ∈ lw_all := lw_g (lw_at lw_m0 65 rfl) rfl
theorem q77 : (Jvm.Cond.code ({ cls := "VoteWatch", name := "isCheckpoint", desc := "(I)Z" } : Jvm.MethodName) prog_1_method_13_code (1 : Nat) (Option.some Jvm.ClassFile.FieldType.boolean)) ∈ lw_all := lw_g (lw_at lw_m0 66 rfl) rfl
theorem q78 : (Jvm.Cond.methodLink "VoteWatch" (49 : Nat) ({ cls := "VoteWatch", name := "linkOf", desc := "(II)I" } : Jvm.MethodName)) ∈ lw_all := lw_g (lw_at lw_m0 67 rfl) rfl
theorem q79 : (Jvm.Cond.privateMethod ({ cls := "VoteWatch", name := "linkOf", desc := "(II)I" } : Jvm.MethodName)) ∈ lw_tbl := lw_at lw_m0 68 rfl
theorem q80 : (Jvm.Cond.instanceMethod ({ cls := "VoteWatch", name := "linkOf", desc := "(II)I" } : Jvm.MethodName)) ∈ lw_all := lw_g (lw_at lw_m0 69 rfl) rfl
theorem q81 : (Jvm.Cond.code ({ cls := "VoteWatch", name := "linkOf", desc := "(II)I" } : Jvm.MethodName) prog_1_method_16_code (4 : Nat) (Option.some Jvm.ClassFile.FieldType.int)) ∈ lw_all := lw_g (lw_at lw_m0 70 rfl) rfl
theorem q82 : (Jvm.Cond.methodLink "VoteWatch" (57 : Nat) ({ cls := "VoteWatch", name := "judge", desc := "(III)I" } : Jvm.MethodName)) ∈ lw_all := lw_g (lw_at lw_m0 71 rfl) rfl
theorem q83 : (Jvm.Cond.privateMethod ({ cls := "VoteWatch", name := "judge", desc := "(III)I" } : Jvm.MethodName)) ∈ lw_tbl := lw_at lw_m0 72 rfl
theorem q84 : (Jvm.Cond.instanceMethod ({ cls := "VoteWatch", name := "judge", desc := "(III)I" } : Jvm.MethodName)) ∈ lw_all := lw_g (lw_at lw_m0 73 rfl) rfl
theorem q85 : (Jvm.Cond.code ({ cls := "VoteWatch", name := "judge", desc := "(III)I" } : Jvm.MethodName) prog_1_method_14_code (6 : Nat) (Option.some Jvm.ClassFile.FieldType.int)) ∈ lw_all := lw_g (lw_at lw_m0 74 rfl) rfl
theorem q86 : (Jvm.Cond.methodLink "VoteWatch" (64 : Nat) ({ cls := "VoteWatch", name := "enter", desc := "(III)V" } : Jvm.MethodName)) ∈ lw_all := lw_g (lw_at lw_m0 75 rfl) rfl
theorem q87 : (Jvm.Cond.privateMethod ({ cls := "VoteWatch", name := "enter", desc := "(III)V" } : Jvm.MethodName)) ∈ lw_tbl := lw_at lw_m0 76 rfl
theorem q88 : (Jvm.Cond.instanceMethod ({ cls := "VoteWatch", name := "enter", desc := "(III)V" } : Jvm.MethodName)) ∈ lw_all := lw_g (lw_at lw_m0 77 rfl) rfl
theorem q89 : (Jvm.Cond.code ({ cls := "VoteWatch", name := "enter", desc := "(III)V" } : Jvm.MethodName) prog_1_method_15_code (6 : Nat) (Option.none : Option Jvm.ClassFile.FieldType)) ∈ lw_all := lw_g (lw_at lw_m0 78 rfl) rfl
theorem q90 : (Jvm.Cond.methodLink "VoteWatch" (68 : Nat) ({ cls := "VoteWatch", name := "openLink", desc := "(II)I" } : Jvm.MethodName)) ∈ lw_all := lw_g (lw_at lw_m0 79 rfl) rfl
theorem q91 : (Jvm.Cond.privateMethod ({ cls := "VoteWatch", name := "openLink", desc := "(II)I" } : Jvm.MethodName)) ∈ lw_tbl := lw_at lw_m0 80 rfl
theorem q92 : (Jvm.Cond.instanceMethod ({ cls := "VoteWatch", name := "openLink", desc := "(II)I" } : Jvm.MethodName)) ∈ lw_all := lw_g (lw_at lw_m0 81 rfl) rfl
theorem q93 : (Jvm.Cond.code ({ cls := "VoteWatch", name := "openLink", desc := "(II)I" } : Jvm.MethodName) prog_1_method_17_code (5 : Nat) (Option.some Jvm.ClassFile.FieldType.int)) ∈ lw_all := lw_g (lw_at lw_m0 82 rfl) rfl
theorem q95 : (Jvm.Cond.instanceMethod ({ cls := "VoteWatch", name := "offender", desc := "(I)I" } : Jvm.MethodName)) ∈ lw_all := lw_g (lw_at lw_m0 84 rfl) rfl
theorem q96 : (Jvm.Cond.selects "VoteWatch" ({ cls := "VoteWatch", name := "offender", desc := "(I)I" } : Jvm.MethodName) ({ cls := "VoteWatch", name := "offender", desc := "(I)I" } : Jvm.MethodName)) ∈ lw_all := lw_g (lw_at lw_m0 85 rfl) rfl
theorem q97 : (Jvm.Cond.code ({ cls := "VoteWatch", name := "offender", desc := "(I)I" } : Jvm.MethodName) prog_1_method_4_code (2 : Nat) (Option.some Jvm.ClassFile.FieldType.int)) ∈ lw_all := lw_g (lw_at lw_m0 86 rfl) rfl
theorem q99 : (Jvm.Cond.instanceMethod ({ cls := "VoteWatch", name := "offended", desc := "()I" } : Jvm.MethodName)) ∈ lw_all := lw_g (lw_at lw_m0 88 rfl) rfl
theorem q100 : (Jvm.Cond.selects "VoteWatch" ({ cls := "VoteWatch", name := "offended", desc := "()I" } : Jvm.MethodName) ({ cls := "VoteWatch", name := "offended", desc := "()I" } : Jvm.MethodName)) ∈ lw_all := lw_g (lw_at lw_m0 89 rfl) rfl
theorem q101 : (Jvm.Cond.code ({ cls := "VoteWatch", name := "offended", desc := "()I" } : Jvm.MethodName) prog_1_method_5_code (1 : Nat) (Option.some Jvm.ClassFile.FieldType.int)) ∈ lw_all := lw_g (lw_at lw_m0 90 rfl) rfl
theorem q102 : (Jvm.Cond.methodLink "VoteWatch" (71 : Nat) ({ cls := "VoteWatch", name := "stakes", desc := "(I)I" } : Jvm.MethodName)) ∈ lw_all := lw_g (lw_at lw_m0 91 rfl) rfl
theorem q103 : (Jvm.Cond.privateMethod ({ cls := "VoteWatch", name := "stakes", desc := "(I)I" } : Jvm.MethodName)) ∈ lw_tbl := lw_at lw_m0 92 rfl
theorem q104 : (Jvm.Cond.instanceMethod ({ cls := "VoteWatch", name := "stakes", desc := "(I)I" } : Jvm.MethodName)) ∈ lw_all := lw_g (lw_at lw_m0 93 rfl) rfl
theorem q105 : (Jvm.Cond.code ({ cls := "VoteWatch", name := "stakes", desc := "(I)I" } : Jvm.MethodName) prog_1_method_18_code (4 : Nat) (Option.some Jvm.ClassFile.FieldType.int)) ∈ lw_all := lw_g (lw_at lw_m0 94 rfl) rfl
theorem q107 : (Jvm.Cond.instanceMethod ({ cls := "VoteWatch", name := "justified", desc := "(I)I" } : Jvm.MethodName)) ∈ lw_all := lw_g (lw_at lw_m0 96 rfl) rfl
theorem q108 : (Jvm.Cond.selects "VoteWatch" ({ cls := "VoteWatch", name := "justified", desc := "(I)I" } : Jvm.MethodName) ({ cls := "VoteWatch", name := "justified", desc := "(I)I" } : Jvm.MethodName)) ∈ lw_all := lw_g (lw_at lw_m0 97 rfl) rfl
theorem q109 : (Jvm.Cond.code ({ cls := "VoteWatch", name := "justified", desc := "(I)I" } : Jvm.MethodName) prog_1_method_6_code (2 : Nat) (Option.some Jvm.ClassFile.FieldType.int)) ∈ lw_all := lw_g (lw_at lw_m0 98 rfl) rfl
theorem q110 : (Jvm.Cond.methodLink "VoteWatch" (75 : Nat) ({ cls := "VoteWatch", name := "justifyAll", desc := "()V" } : Jvm.MethodName)) ∈ lw_all := lw_g (lw_at lw_m0 99 rfl) rfl
theorem q111 : (Jvm.Cond.privateMethod ({ cls := "VoteWatch", name := "justifyAll", desc := "()V" } : Jvm.MethodName)) ∈ lw_tbl := lw_at lw_m0 100 rfl
theorem q112 : (Jvm.Cond.instanceMethod ({ cls := "VoteWatch", name := "justifyAll", desc := "()V" } : Jvm.MethodName)) ∈ lw_all := lw_g (lw_at lw_m0 101 rfl) rfl
theorem q113 : (Jvm.Cond.code ({ cls := "VoteWatch", name := "justifyAll", desc := "()V" } : Jvm.MethodName) prog_1_method_20_code (2 : Nat) (Option.none : Option Jvm.ClassFile.FieldType)) ∈ lw_all := lw_g (lw_at lw_m0 102 rfl) rfl
theorem q114 : (Jvm.Cond.methodLink "VoteWatch" (81 : Nat) ({ cls := "VoteWatch", name := "isSupported", desc := "(I)Z" } : Jvm.MethodName)) ∈ lw_all := lw_g (lw_at lw_m0 103 rfl) rfl
theorem q115 : (Jvm.Cond.privateMethod ({ cls := "VoteWatch", name := "isSupported", desc := "(I)Z" } : Jvm.MethodName)) ∈ lw_tbl := lw_at lw_m0 104 rfl
theorem q116 : (Jvm.Cond.instanceMethod ({ cls := "VoteWatch", name := "isSupported", desc := "(I)Z" } : Jvm.MethodName)) ∈ lw_all := lw_g (lw_at lw_m0 105 rfl) rfl
theorem q117 : (Jvm.Cond.code ({ cls := "VoteWatch", name := "isSupported", desc := "(I)Z" } : Jvm.MethodName) prog_1_method_19_code (3 : Nat) (Option.some Jvm.ClassFile.FieldType.boolean)) ∈ lw_all := lw_g (lw_at lw_m0 106 rfl) rfl
theorem q119 : (Jvm.Cond.instanceMethod ({ cls := "VoteWatch", name := "isFinal", desc := "(I)I" } : Jvm.MethodName)) ∈ lw_all := lw_g (lw_at lw_m0 108 rfl) rfl
theorem q120 : (Jvm.Cond.selects "VoteWatch" ({ cls := "VoteWatch", name := "isFinal", desc := "(I)I" } : Jvm.MethodName) ({ cls := "VoteWatch", name := "isFinal", desc := "(I)I" } : Jvm.MethodName)) ∈ lw_all := lw_g (lw_at lw_m0 109 rfl) rfl
theorem q121 : (Jvm.Cond.code ({ cls := "VoteWatch", name := "isFinal", desc := "(I)I" } : Jvm.MethodName) prog_1_method_7_code (4 : Nat) (Option.some Jvm.ClassFile.FieldType.int)) ∈ lw_all := lw_g (lw_at lw_m0 110 rfl) rfl
theorem q123 : (Jvm.Cond.instanceMethod ({ cls := "VoteWatch", name := "highest", desc := "()I" } : Jvm.MethodName)) ∈ lw_all := lw_g (lw_at lw_m0 112 rfl) rfl
theorem q124 : (Jvm.Cond.selects "VoteWatch" ({ cls := "VoteWatch", name := "highest", desc := "()I" } : Jvm.MethodName) ({ cls := "VoteWatch", name := "highest", desc := "()I" } : Jvm.MethodName)) ∈ lw_all := lw_g (lw_at lw_m0 113 rfl) rfl
theorem q125 : (Jvm.Cond.code ({ cls := "VoteWatch", name := "highest", desc := "()I" } : Jvm.MethodName) prog_1_method_8_code (3 : Nat) (Option.some Jvm.ClassFile.FieldType.int)) ∈ lw_all := lw_g (lw_at lw_m0 114 rfl) rfl
theorem q127 : (Jvm.Cond.instanceMethod ({ cls := "VoteWatch", name := "justifiedIn", desc := "(I)I" } : Jvm.MethodName)) ∈ lw_all := lw_g (lw_at lw_m0 116 rfl) rfl
theorem q128 : (Jvm.Cond.selects "VoteWatch" ({ cls := "VoteWatch", name := "justifiedIn", desc := "(I)I" } : Jvm.MethodName) ({ cls := "VoteWatch", name := "justifiedIn", desc := "(I)I" } : Jvm.MethodName)) ∈ lw_all := lw_g (lw_at lw_m0 117 rfl) rfl
theorem q129 : (Jvm.Cond.code ({ cls := "VoteWatch", name := "justifiedIn", desc := "(I)I" } : Jvm.MethodName) prog_1_method_9_code (4 : Nat) (Option.some Jvm.ClassFile.FieldType.int)) ∈ lw_all := lw_g (lw_at lw_m0 118 rfl) rfl
theorem q131 : (Jvm.Cond.instanceMethod ({ cls := "VoteWatch", name := "support", desc := "(II)I" } : Jvm.MethodName)) ∈ lw_all := lw_g (lw_at lw_m0 120 rfl) rfl
theorem q132 : (Jvm.Cond.selects "VoteWatch" ({ cls := "VoteWatch", name := "support", desc := "(II)I" } : Jvm.MethodName) ({ cls := "VoteWatch", name := "support", desc := "(II)I" } : Jvm.MethodName)) ∈ lw_all := lw_g (lw_at lw_m0 121 rfl) rfl
theorem q133 : (Jvm.Cond.code ({ cls := "VoteWatch", name := "support", desc := "(II)I" } : Jvm.MethodName) prog_1_method_10_code (4 : Nat) (Option.some Jvm.ClassFile.FieldType.int)) ∈ lw_all := lw_g (lw_at lw_m0 122 rfl) rfl
theorem q135 : (Jvm.Cond.instanceMethod ({ cls := "VoteWatch", name := "votes", desc := "(I)I" } : Jvm.MethodName)) ∈ lw_all := lw_g (lw_at lw_m0 124 rfl) rfl
theorem q136 : (Jvm.Cond.selects "VoteWatch" ({ cls := "VoteWatch", name := "votes", desc := "(I)I" } : Jvm.MethodName) ({ cls := "VoteWatch", name := "votes", desc := "(I)I" } : Jvm.MethodName)) ∈ lw_all := lw_g (lw_at lw_m0 125 rfl) rfl
theorem q137 : (Jvm.Cond.code ({ cls := "VoteWatch", name := "votes", desc := "(I)I" } : Jvm.MethodName) prog_1_method_11_code (2 : Nat) (Option.some Jvm.ClassFile.FieldType.int)) ∈ lw_all := lw_g (lw_at lw_m0 126 rfl) rfl
theorem in_X0 : ∀ w ∈ wsX00, w ∈ lw_all := lw_in wsX00 [35, 37, 39, 41, 43, 45, 47, 49, 51, 53, 55, 57, 59] (by decide +kernel) (by decide +kernel)
end
section
/-! VoteWatchModel -/
set_option maxRecDepth 100000
def RX1 : String := "VoteWatchModel"
def TX1 : u_T := fun k => match k with
  | 0 => ("VoteWatchModel", "stakes", "[I", true)
  | 1 => ("VoteWatchModel", "votes", "I", false)
  | 2 => ("VoteWatchModel", "who", "[I", true)
  | 3 => ("VoteWatchModel", "source", "[I", true)
  | 4 => ("VoteWatchModel", "target", "[I", true)
  | _ => ("VoteWatchModel", "just", "[Z", true)
def tyX1 : Nat → FieldType := fun k => match k with
  | 0 => .array .int
  | 1 => .int
  | 2 => .array .int
  | 3 => .array .int
  | 4 => .array .int
  | _ => .array .boolean
abbrev wsX10 : List Cond := u_ws RX1 TX1 6
theorem nmX1 : ∀ a, a < 6 → ∀ b, b < 6 → a ≠ b → (TX1 a).2.1 ≠ (TX1 b).2.1 := by decide +kernel
theorem tyX1_ok : ∀ k, k < 6 → parseFieldDescriptor (TX1 k).2.2.1 = some (tyX1 k) := by decide +kernel
abbrev cX1_init : ByteArray := prog_3_method_1_code
def yX1_init : MethodName := ⟨RX1, "<init>", "()V"⟩
theorem dX1_init_0 : decode cX1_init 0 = .ok (.aload_n 0, 1) := by decide +kernel
theorem dX1_init_1 : decode cX1_init 1 = .ok (.invokespecial 1, 3) := by decide +kernel
theorem dX1_init_4 : decode cX1_init 4 = .ok (.aload_n 0, 1) := by decide +kernel
theorem dX1_init_5 : decode cX1_init 5 = .ok (.bipush 8, 2) := by decide +kernel
theorem dX1_init_7 : decode cX1_init 7 = .ok (.newarray .int, 2) := by decide +kernel
theorem dX1_init_9 : decode cX1_init 9 = .ok (.putfield 7, 3) := by decide +kernel
theorem dX1_init_12 : decode cX1_init 12 = .ok (.aload_n 0, 1) := by decide +kernel
theorem dX1_init_13 : decode cX1_init 13 = .ok (.bipush 64, 2) := by decide +kernel
theorem dX1_init_15 : decode cX1_init 15 = .ok (.newarray .int, 2) := by decide +kernel
theorem dX1_init_17 : decode cX1_init 17 = .ok (.putfield 13, 3) := by decide +kernel
theorem dX1_init_20 : decode cX1_init 20 = .ok (.aload_n 0, 1) := by decide +kernel
theorem dX1_init_21 : decode cX1_init 21 = .ok (.bipush 64, 2) := by decide +kernel
theorem dX1_init_23 : decode cX1_init 23 = .ok (.newarray .int, 2) := by decide +kernel
theorem dX1_init_25 : decode cX1_init 25 = .ok (.putfield 16, 3) := by decide +kernel
theorem dX1_init_28 : decode cX1_init 28 = .ok (.aload_n 0, 1) := by decide +kernel
theorem dX1_init_29 : decode cX1_init 29 = .ok (.bipush 64, 2) := by decide +kernel
theorem dX1_init_31 : decode cX1_init 31 = .ok (.newarray .int, 2) := by decide +kernel
theorem dX1_init_33 : decode cX1_init 33 = .ok (.putfield 19, 3) := by decide +kernel
theorem dX1_init_36 : decode cX1_init 36 = .ok (.aload_n 0, 1) := by decide +kernel
theorem dX1_init_37 : decode cX1_init 37 = .ok (.sipush 128, 3) := by decide +kernel
theorem dX1_init_40 : decode cX1_init 40 = .ok (.newarray .boolean, 2) := by decide +kernel
theorem dX1_init_42 : decode cX1_init 42 = .ok (.putfield 22, 3) := by decide +kernel
theorem dX1_init_45 : decode cX1_init 45 = .ok (.iconst 0, 1) := by decide +kernel
theorem dX1_init_46 : decode cX1_init 46 = .ok (.istore_n 1, 1) := by decide +kernel
theorem dX1_init_47 : decode cX1_init 47 = .ok (.iload_n 1, 1) := by decide +kernel
theorem dX1_init_48 : decode cX1_init 48 = .ok (.bipush 8, 2) := by decide +kernel
theorem dX1_init_50 : decode cX1_init 50 = .ok (.if_icmp .ge 16, 3) := by decide +kernel
theorem dX1_init_53 : decode cX1_init 53 = .ok (.aload_n 0, 1) := by decide +kernel
theorem dX1_init_54 : decode cX1_init 54 = .ok (.getfield 7, 3) := by decide +kernel
theorem dX1_init_57 : decode cX1_init 57 = .ok (.iload_n 1, 1) := by decide +kernel
theorem dX1_init_58 : decode cX1_init 58 = .ok (.iconst 1, 1) := by decide +kernel
theorem dX1_init_59 : decode cX1_init 59 = .ok (.iastore, 1) := by decide +kernel
theorem dX1_init_60 : decode cX1_init 60 = .ok (.iinc 1 1, 3) := by decide +kernel
theorem dX1_init_63 : decode cX1_init 63 = .ok (.goto (-16), 3) := by decide +kernel
theorem dX1_init_66 : decode cX1_init 66 = .ok (.return_, 1) := by decide +kernel
abbrev cX1_stake : ByteArray := prog_3_method_4_code
def yX1_stake : MethodName := ⟨RX1, "stake", "(II)I"⟩
theorem dX1_stake_0 : decode cX1_stake 0 = .ok (.iload_n 1, 1) := by decide +kernel
theorem dX1_stake_1 : decode cX1_stake 1 = .ok (.invokestatic 26, 3) := by decide +kernel
theorem dX1_stake_4 : decode cX1_stake 4 = .ok (.ifCond .eq 5, 3) := by decide +kernel
theorem dX1_stake_7 : decode cX1_stake 7 = .ok (.iconst (-1), 1) := by decide +kernel
theorem dX1_stake_8 : decode cX1_stake 8 = .ok (.ireturn, 1) := by decide +kernel
theorem dX1_stake_9 : decode cX1_stake 9 = .ok (.aload_n 0, 1) := by decide +kernel
theorem dX1_stake_10 : decode cX1_stake 10 = .ok (.getfield 7, 3) := by decide +kernel
theorem dX1_stake_13 : decode cX1_stake 13 = .ok (.iload_n 1, 1) := by decide +kernel
theorem dX1_stake_14 : decode cX1_stake 14 = .ok (.iaload, 1) := by decide +kernel
theorem dX1_stake_15 : decode cX1_stake 15 = .ok (.istore_n 3, 1) := by decide +kernel
theorem dX1_stake_16 : decode cX1_stake 16 = .ok (.aload_n 0, 1) := by decide +kernel
theorem dX1_stake_17 : decode cX1_stake 17 = .ok (.getfield 7, 3) := by decide +kernel
theorem dX1_stake_20 : decode cX1_stake 20 = .ok (.iload_n 1, 1) := by decide +kernel
theorem dX1_stake_21 : decode cX1_stake 21 = .ok (.iload_n 2, 1) := by decide +kernel
theorem dX1_stake_22 : decode cX1_stake 22 = .ok (.ifCond .ge 7, 3) := by decide +kernel
theorem dX1_stake_25 : decode cX1_stake 25 = .ok (.iconst 0, 1) := by decide +kernel
theorem dX1_stake_26 : decode cX1_stake 26 = .ok (.goto 15, 3) := by decide +kernel
theorem dX1_stake_29 : decode cX1_stake 29 = .ok (.iload_n 2, 1) := by decide +kernel
theorem dX1_stake_30 : decode cX1_stake 30 = .ok (.bipush 100, 2) := by decide +kernel
theorem dX1_stake_32 : decode cX1_stake 32 = .ok (.if_icmp .le 8, 3) := by decide +kernel
theorem dX1_stake_35 : decode cX1_stake 35 = .ok (.bipush 100, 2) := by decide +kernel
theorem dX1_stake_37 : decode cX1_stake 37 = .ok (.goto 4, 3) := by decide +kernel
theorem dX1_stake_40 : decode cX1_stake 40 = .ok (.iload_n 2, 1) := by decide +kernel
theorem dX1_stake_41 : decode cX1_stake 41 = .ok (.iastore, 1) := by decide +kernel
theorem dX1_stake_42 : decode cX1_stake 42 = .ok (.iload_n 3, 1) := by decide +kernel
theorem dX1_stake_43 : decode cX1_stake 43 = .ok (.ireturn, 1) := by decide +kernel
abbrev cX1_bad : ByteArray := prog_3_method_2_code
def yX1_bad : MethodName := ⟨RX1, "bad", "(I)Z"⟩
theorem dX1_bad_0 : decode cX1_bad 0 = .ok (.iload_n 0, 1) := by decide +kernel
theorem dX1_bad_1 : decode cX1_bad 1 = .ok (.ifCond .lt 9, 3) := by decide +kernel
theorem dX1_bad_4 : decode cX1_bad 4 = .ok (.iload_n 0, 1) := by decide +kernel
theorem dX1_bad_5 : decode cX1_bad 5 = .ok (.bipush 7, 2) := by decide +kernel
theorem dX1_bad_7 : decode cX1_bad 7 = .ok (.if_icmp .le 7, 3) := by decide +kernel
theorem dX1_bad_10 : decode cX1_bad 10 = .ok (.iconst 1, 1) := by decide +kernel
theorem dX1_bad_11 : decode cX1_bad 11 = .ok (.goto 4, 3) := by decide +kernel
theorem dX1_bad_14 : decode cX1_bad 14 = .ok (.iconst 0, 1) := by decide +kernel
theorem dX1_bad_15 : decode cX1_bad 15 = .ok (.ireturn, 1) := by decide +kernel
abbrev cX1_vote : ByteArray := prog_3_method_7_code
def yX1_vote : MethodName := ⟨RX1, "vote", "(III)I"⟩
theorem dX1_vote_0 : decode cX1_vote 0 = .ok (.iload_n 1, 1) := by decide +kernel
theorem dX1_vote_1 : decode cX1_vote 1 = .ok (.invokestatic 26, 3) := by decide +kernel
theorem dX1_vote_4 : decode cX1_vote 4 = .ok (.ifCond .ne 26, 3) := by decide +kernel
theorem dX1_vote_7 : decode cX1_vote 7 = .ok (.iload_n 2, 1) := by decide +kernel
theorem dX1_vote_8 : decode cX1_vote 8 = .ok (.invokestatic 34, 3) := by decide +kernel
theorem dX1_vote_11 : decode cX1_vote 11 = .ok (.ifCond .ne 19, 3) := by decide +kernel
theorem dX1_vote_14 : decode cX1_vote 14 = .ok (.iload_n 3, 1) := by decide +kernel
theorem dX1_vote_15 : decode cX1_vote 15 = .ok (.invokestatic 34, 3) := by decide +kernel
theorem dX1_vote_18 : decode cX1_vote 18 = .ok (.ifCond .ne 12, 3) := by decide +kernel
theorem dX1_vote_21 : decode cX1_vote 21 = .ok (.iload_n 3, 1) := by decide +kernel
theorem dX1_vote_22 : decode cX1_vote 22 = .ok (.iconst 4, 1) := by decide +kernel
theorem dX1_vote_23 : decode cX1_vote 23 = .ok (.idiv, 1) := by decide +kernel
theorem dX1_vote_24 : decode cX1_vote 24 = .ok (.iload_n 2, 1) := by decide +kernel
theorem dX1_vote_25 : decode cX1_vote 25 = .ok (.iconst 4, 1) := by decide +kernel
theorem dX1_vote_26 : decode cX1_vote 26 = .ok (.idiv, 1) := by decide +kernel
theorem dX1_vote_27 : decode cX1_vote 27 = .ok (.if_icmp .gt 5, 3) := by decide +kernel
theorem dX1_vote_30 : decode cX1_vote 30 = .ok (.iconst (-1), 1) := by decide +kernel
theorem dX1_vote_31 : decode cX1_vote 31 = .ok (.ireturn, 1) := by decide +kernel
theorem dX1_vote_32 : decode cX1_vote 32 = .ok (.aload_n 0, 1) := by decide +kernel
theorem dX1_vote_33 : decode cX1_vote 33 = .ok (.iload_n 1, 1) := by decide +kernel
theorem dX1_vote_34 : decode cX1_vote 34 = .ok (.iload_n 2, 1) := by decide +kernel
theorem dX1_vote_35 : decode cX1_vote 35 = .ok (.iload_n 3, 1) := by decide +kernel
theorem dX1_vote_36 : decode cX1_vote 36 = .ok (.invokevirtual 37, 3) := by decide +kernel
theorem dX1_vote_39 : decode cX1_vote 39 = .ok (.ifCond .ne 12, 3) := by decide +kernel
theorem dX1_vote_42 : decode cX1_vote 42 = .ok (.aload_n 0, 1) := by decide +kernel
theorem dX1_vote_43 : decode cX1_vote 43 = .ok (.getfield 30, 3) := by decide +kernel
theorem dX1_vote_46 : decode cX1_vote 46 = .ok (.bipush 64, 2) := by decide +kernel
theorem dX1_vote_48 : decode cX1_vote 48 = .ok (.if_icmp .ne 6, 3) := by decide +kernel
theorem dX1_vote_51 : decode cX1_vote 51 = .ok (.bipush (-2), 2) := by decide +kernel
theorem dX1_vote_53 : decode cX1_vote 53 = .ok (.ireturn, 1) := by decide +kernel
theorem dX1_vote_54 : decode cX1_vote 54 = .ok (.iconst 0, 1) := by decide +kernel
theorem dX1_vote_55 : decode cX1_vote 55 = .ok (.istore 4, 2) := by decide +kernel
theorem dX1_vote_57 : decode cX1_vote 57 = .ok (.iconst 0, 1) := by decide +kernel
theorem dX1_vote_58 : decode cX1_vote 58 = .ok (.istore 5, 2) := by decide +kernel
theorem dX1_vote_60 : decode cX1_vote 60 = .ok (.iload 5, 2) := by decide +kernel
theorem dX1_vote_62 : decode cX1_vote 62 = .ok (.aload_n 0, 1) := by decide +kernel
theorem dX1_vote_63 : decode cX1_vote 63 = .ok (.getfield 30, 3) := by decide +kernel
theorem dX1_vote_66 : decode cX1_vote 66 = .ok (.if_icmp .ge 97, 3) := by decide +kernel
theorem dX1_vote_69 : decode cX1_vote 69 = .ok (.aload_n 0, 1) := by decide +kernel
theorem dX1_vote_70 : decode cX1_vote 70 = .ok (.getfield 13, 3) := by decide +kernel
theorem dX1_vote_73 : decode cX1_vote 73 = .ok (.iload 5, 2) := by decide +kernel
theorem dX1_vote_75 : decode cX1_vote 75 = .ok (.iaload, 1) := by decide +kernel
theorem dX1_vote_76 : decode cX1_vote 76 = .ok (.iload_n 1, 1) := by decide +kernel
theorem dX1_vote_77 : decode cX1_vote 77 = .ok (.if_icmp .ne 80, 3) := by decide +kernel
theorem dX1_vote_80 : decode cX1_vote 80 = .ok (.aload_n 0, 1) := by decide +kernel
theorem dX1_vote_81 : decode cX1_vote 81 = .ok (.getfield 19, 3) := by decide +kernel
theorem dX1_vote_84 : decode cX1_vote 84 = .ok (.iload 5, 2) := by decide +kernel
theorem dX1_vote_86 : decode cX1_vote 86 = .ok (.iaload, 1) := by decide +kernel
theorem dX1_vote_87 : decode cX1_vote 87 = .ok (.iconst 4, 1) := by decide +kernel
theorem dX1_vote_88 : decode cX1_vote 88 = .ok (.idiv, 1) := by decide +kernel
theorem dX1_vote_89 : decode cX1_vote 89 = .ok (.iload_n 3, 1) := by decide +kernel
theorem dX1_vote_90 : decode cX1_vote 90 = .ok (.iconst 4, 1) := by decide +kernel
theorem dX1_vote_91 : decode cX1_vote 91 = .ok (.idiv, 1) := by decide +kernel
theorem dX1_vote_92 : decode cX1_vote 92 = .ok (.if_icmp .ne 9, 3) := by decide +kernel
theorem dX1_vote_95 : decode cX1_vote 95 = .ok (.iload 4, 2) := by decide +kernel
theorem dX1_vote_97 : decode cX1_vote 97 = .ok (.iconst 1, 1) := by decide +kernel
theorem dX1_vote_98 : decode cX1_vote 98 = .ok (.ior, 1) := by decide +kernel
theorem dX1_vote_99 : decode cX1_vote 99 = .ok (.istore 4, 2) := by decide +kernel
theorem dX1_vote_101 : decode cX1_vote 101 = .ok (.iload_n 2, 1) := by decide +kernel
theorem dX1_vote_102 : decode cX1_vote 102 = .ok (.iload_n 3, 1) := by decide +kernel
theorem dX1_vote_103 : decode cX1_vote 103 = .ok (.aload_n 0, 1) := by decide +kernel
theorem dX1_vote_104 : decode cX1_vote 104 = .ok (.getfield 16, 3) := by decide +kernel
theorem dX1_vote_107 : decode cX1_vote 107 = .ok (.iload 5, 2) := by decide +kernel
theorem dX1_vote_109 : decode cX1_vote 109 = .ok (.iaload, 1) := by decide +kernel
theorem dX1_vote_110 : decode cX1_vote 110 = .ok (.aload_n 0, 1) := by decide +kernel
theorem dX1_vote_111 : decode cX1_vote 111 = .ok (.getfield 19, 3) := by decide +kernel
theorem dX1_vote_114 : decode cX1_vote 114 = .ok (.iload 5, 2) := by decide +kernel
theorem dX1_vote_116 : decode cX1_vote 116 = .ok (.iaload, 1) := by decide +kernel
theorem dX1_vote_117 : decode cX1_vote 117 = .ok (.invokestatic 41, 3) := by decide +kernel
theorem dX1_vote_120 : decode cX1_vote 120 = .ok (.ifCond .eq 9, 3) := by decide +kernel
theorem dX1_vote_123 : decode cX1_vote 123 = .ok (.iload 4, 2) := by decide +kernel
theorem dX1_vote_125 : decode cX1_vote 125 = .ok (.iconst 2, 1) := by decide +kernel
theorem dX1_vote_126 : decode cX1_vote 126 = .ok (.ior, 1) := by decide +kernel
theorem dX1_vote_127 : decode cX1_vote 127 = .ok (.istore 4, 2) := by decide +kernel
theorem dX1_vote_129 : decode cX1_vote 129 = .ok (.aload_n 0, 1) := by decide +kernel
theorem dX1_vote_130 : decode cX1_vote 130 = .ok (.getfield 16, 3) := by decide +kernel
theorem dX1_vote_133 : decode cX1_vote 133 = .ok (.iload 5, 2) := by decide +kernel
theorem dX1_vote_135 : decode cX1_vote 135 = .ok (.iaload, 1) := by decide +kernel
theorem dX1_vote_136 : decode cX1_vote 136 = .ok (.aload_n 0, 1) := by decide +kernel
theorem dX1_vote_137 : decode cX1_vote 137 = .ok (.getfield 19, 3) := by decide +kernel
theorem dX1_vote_140 : decode cX1_vote 140 = .ok (.iload 5, 2) := by decide +kernel
theorem dX1_vote_142 : decode cX1_vote 142 = .ok (.iaload, 1) := by decide +kernel
theorem dX1_vote_143 : decode cX1_vote 143 = .ok (.iload_n 2, 1) := by decide +kernel
theorem dX1_vote_144 : decode cX1_vote 144 = .ok (.iload_n 3, 1) := by decide +kernel
theorem dX1_vote_145 : decode cX1_vote 145 = .ok (.invokestatic 41, 3) := by decide +kernel
theorem dX1_vote_148 : decode cX1_vote 148 = .ok (.ifCond .eq 9, 3) := by decide +kernel
theorem dX1_vote_151 : decode cX1_vote 151 = .ok (.iload 4, 2) := by decide +kernel
theorem dX1_vote_153 : decode cX1_vote 153 = .ok (.iconst 4, 1) := by decide +kernel
theorem dX1_vote_154 : decode cX1_vote 154 = .ok (.ior, 1) := by decide +kernel
theorem dX1_vote_155 : decode cX1_vote 155 = .ok (.istore 4, 2) := by decide +kernel
theorem dX1_vote_157 : decode cX1_vote 157 = .ok (.iinc 5 1, 3) := by decide +kernel
theorem dX1_vote_160 : decode cX1_vote 160 = .ok (.goto (-100), 3) := by decide +kernel
theorem dX1_vote_163 : decode cX1_vote 163 = .ok (.aload_n 0, 1) := by decide +kernel
theorem dX1_vote_164 : decode cX1_vote 164 = .ok (.getfield 13, 3) := by decide +kernel
theorem dX1_vote_167 : decode cX1_vote 167 = .ok (.aload_n 0, 1) := by decide +kernel
theorem dX1_vote_168 : decode cX1_vote 168 = .ok (.getfield 30, 3) := by decide +kernel
theorem dX1_vote_171 : decode cX1_vote 171 = .ok (.iload_n 1, 1) := by decide +kernel
theorem dX1_vote_172 : decode cX1_vote 172 = .ok (.iastore, 1) := by decide +kernel
theorem dX1_vote_173 : decode cX1_vote 173 = .ok (.aload_n 0, 1) := by decide +kernel
theorem dX1_vote_174 : decode cX1_vote 174 = .ok (.getfield 16, 3) := by decide +kernel
theorem dX1_vote_177 : decode cX1_vote 177 = .ok (.aload_n 0, 1) := by decide +kernel
theorem dX1_vote_178 : decode cX1_vote 178 = .ok (.getfield 30, 3) := by decide +kernel
theorem dX1_vote_181 : decode cX1_vote 181 = .ok (.iload_n 2, 1) := by decide +kernel
theorem dX1_vote_182 : decode cX1_vote 182 = .ok (.iastore, 1) := by decide +kernel
theorem dX1_vote_183 : decode cX1_vote 183 = .ok (.aload_n 0, 1) := by decide +kernel
theorem dX1_vote_184 : decode cX1_vote 184 = .ok (.getfield 19, 3) := by decide +kernel
theorem dX1_vote_187 : decode cX1_vote 187 = .ok (.aload_n 0, 1) := by decide +kernel
theorem dX1_vote_188 : decode cX1_vote 188 = .ok (.getfield 30, 3) := by decide +kernel
theorem dX1_vote_191 : decode cX1_vote 191 = .ok (.iload_n 3, 1) := by decide +kernel
theorem dX1_vote_192 : decode cX1_vote 192 = .ok (.iastore, 1) := by decide +kernel
theorem dX1_vote_193 : decode cX1_vote 193 = .ok (.aload_n 0, 1) := by decide +kernel
theorem dX1_vote_194 : decode cX1_vote 194 = .ok (.dup, 1) := by decide +kernel
theorem dX1_vote_195 : decode cX1_vote 195 = .ok (.getfield 30, 3) := by decide +kernel
theorem dX1_vote_198 : decode cX1_vote 198 = .ok (.iconst 1, 1) := by decide +kernel
theorem dX1_vote_199 : decode cX1_vote 199 = .ok (.iadd, 1) := by decide +kernel
theorem dX1_vote_200 : decode cX1_vote 200 = .ok (.putfield 30, 3) := by decide +kernel
theorem dX1_vote_203 : decode cX1_vote 203 = .ok (.iload 4, 2) := by decide +kernel
theorem dX1_vote_205 : decode cX1_vote 205 = .ok (.ireturn, 1) := by decide +kernel
abbrev cX1_badPoint : ByteArray := prog_3_method_3_code
def yX1_badPoint : MethodName := ⟨RX1, "badPoint", "(I)Z"⟩
theorem dX1_badPoint_0 : decode cX1_badPoint 0 = .ok (.iload_n 0, 1) := by decide +kernel
theorem dX1_badPoint_1 : decode cX1_badPoint 1 = .ok (.ifCond .lt 16, 3) := by decide +kernel
theorem dX1_badPoint_4 : decode cX1_badPoint 4 = .ok (.iload_n 0, 1) := by decide +kernel
theorem dX1_badPoint_5 : decode cX1_badPoint 5 = .ok (.bipush 127, 2) := by decide +kernel
theorem dX1_badPoint_7 : decode cX1_badPoint 7 = .ok (.if_icmp .gt 10, 3) := by decide +kernel
theorem dX1_badPoint_10 : decode cX1_badPoint 10 = .ok (.iload_n 0, 1) := by decide +kernel
theorem dX1_badPoint_11 : decode cX1_badPoint 11 = .ok (.iconst 4, 1) := by decide +kernel
theorem dX1_badPoint_12 : decode cX1_badPoint 12 = .ok (.irem, 1) := by decide +kernel
theorem dX1_badPoint_13 : decode cX1_badPoint 13 = .ok (.iconst 3, 1) := by decide +kernel
theorem dX1_badPoint_14 : decode cX1_badPoint 14 = .ok (.if_icmp .ne 7, 3) := by decide +kernel
theorem dX1_badPoint_17 : decode cX1_badPoint 17 = .ok (.iconst 1, 1) := by decide +kernel
theorem dX1_badPoint_18 : decode cX1_badPoint 18 = .ok (.goto 4, 3) := by decide +kernel
theorem dX1_badPoint_21 : decode cX1_badPoint 21 = .ok (.iconst 0, 1) := by decide +kernel
theorem dX1_badPoint_22 : decode cX1_badPoint 22 = .ok (.ireturn, 1) := by decide +kernel
abbrev cX1_held : ByteArray := prog_3_method_5_code
def yX1_held : MethodName := ⟨RX1, "held", "(III)Z"⟩
theorem dX1_held_0 : decode cX1_held 0 = .ok (.iconst 0, 1) := by decide +kernel
theorem dX1_held_1 : decode cX1_held 1 = .ok (.istore 4, 2) := by decide +kernel
theorem dX1_held_3 : decode cX1_held 3 = .ok (.iload 4, 2) := by decide +kernel
theorem dX1_held_5 : decode cX1_held 5 = .ok (.aload_n 0, 1) := by decide +kernel
theorem dX1_held_6 : decode cX1_held 6 = .ok (.getfield 30, 3) := by decide +kernel
theorem dX1_held_9 : decode cX1_held 9 = .ok (.if_icmp .ge 44, 3) := by decide +kernel
theorem dX1_held_12 : decode cX1_held 12 = .ok (.aload_n 0, 1) := by decide +kernel
theorem dX1_held_13 : decode cX1_held 13 = .ok (.getfield 13, 3) := by decide +kernel
theorem dX1_held_16 : decode cX1_held 16 = .ok (.iload 4, 2) := by decide +kernel
theorem dX1_held_18 : decode cX1_held 18 = .ok (.iaload, 1) := by decide +kernel
theorem dX1_held_19 : decode cX1_held 19 = .ok (.iload_n 1, 1) := by decide +kernel
theorem dX1_held_20 : decode cX1_held 20 = .ok (.if_icmp .ne 27, 3) := by decide +kernel
theorem dX1_held_23 : decode cX1_held 23 = .ok (.aload_n 0, 1) := by decide +kernel
theorem dX1_held_24 : decode cX1_held 24 = .ok (.getfield 16, 3) := by decide +kernel
theorem dX1_held_27 : decode cX1_held 27 = .ok (.iload 4, 2) := by decide +kernel
theorem dX1_held_29 : decode cX1_held 29 = .ok (.iaload, 1) := by decide +kernel
theorem dX1_held_30 : decode cX1_held 30 = .ok (.iload_n 2, 1) := by decide +kernel
theorem dX1_held_31 : decode cX1_held 31 = .ok (.if_icmp .ne 16, 3) := by decide +kernel
theorem dX1_held_34 : decode cX1_held 34 = .ok (.aload_n 0, 1) := by decide +kernel
theorem dX1_held_35 : decode cX1_held 35 = .ok (.getfield 19, 3) := by decide +kernel
theorem dX1_held_38 : decode cX1_held 38 = .ok (.iload 4, 2) := by decide +kernel
theorem dX1_held_40 : decode cX1_held 40 = .ok (.iaload, 1) := by decide +kernel
theorem dX1_held_41 : decode cX1_held 41 = .ok (.iload_n 3, 1) := by decide +kernel
theorem dX1_held_42 : decode cX1_held 42 = .ok (.if_icmp .ne 5, 3) := by decide +kernel
theorem dX1_held_45 : decode cX1_held 45 = .ok (.iconst 1, 1) := by decide +kernel
theorem dX1_held_46 : decode cX1_held 46 = .ok (.ireturn, 1) := by decide +kernel
theorem dX1_held_47 : decode cX1_held 47 = .ok (.iinc 4 1, 3) := by decide +kernel
theorem dX1_held_50 : decode cX1_held 50 = .ok (.goto (-47), 3) := by decide +kernel
theorem dX1_held_53 : decode cX1_held 53 = .ok (.iconst 0, 1) := by decide +kernel
theorem dX1_held_54 : decode cX1_held 54 = .ok (.ireturn, 1) := by decide +kernel
abbrev cX1_surrounds : ByteArray := prog_3_method_6_code
def yX1_surrounds : MethodName := ⟨RX1, "surrounds", "(IIII)Z"⟩
theorem dX1_surrounds_0 : decode cX1_surrounds 0 = .ok (.iload_n 0, 1) := by decide +kernel
theorem dX1_surrounds_1 : decode cX1_surrounds 1 = .ok (.iconst 4, 1) := by decide +kernel
theorem dX1_surrounds_2 : decode cX1_surrounds 2 = .ok (.idiv, 1) := by decide +kernel
theorem dX1_surrounds_3 : decode cX1_surrounds 3 = .ok (.iload_n 2, 1) := by decide +kernel
theorem dX1_surrounds_4 : decode cX1_surrounds 4 = .ok (.iconst 4, 1) := by decide +kernel
theorem dX1_surrounds_5 : decode cX1_surrounds 5 = .ok (.idiv, 1) := by decide +kernel
theorem dX1_surrounds_6 : decode cX1_surrounds 6 = .ok (.if_icmp .ge 16, 3) := by decide +kernel
theorem dX1_surrounds_9 : decode cX1_surrounds 9 = .ok (.iload_n 1, 1) := by decide +kernel
theorem dX1_surrounds_10 : decode cX1_surrounds 10 = .ok (.iconst 4, 1) := by decide +kernel
theorem dX1_surrounds_11 : decode cX1_surrounds 11 = .ok (.idiv, 1) := by decide +kernel
theorem dX1_surrounds_12 : decode cX1_surrounds 12 = .ok (.iload_n 3, 1) := by decide +kernel
theorem dX1_surrounds_13 : decode cX1_surrounds 13 = .ok (.iconst 4, 1) := by decide +kernel
theorem dX1_surrounds_14 : decode cX1_surrounds 14 = .ok (.idiv, 1) := by decide +kernel
theorem dX1_surrounds_15 : decode cX1_surrounds 15 = .ok (.if_icmp .le 7, 3) := by decide +kernel
theorem dX1_surrounds_18 : decode cX1_surrounds 18 = .ok (.iconst 1, 1) := by decide +kernel
theorem dX1_surrounds_19 : decode cX1_surrounds 19 = .ok (.goto 4, 3) := by decide +kernel
theorem dX1_surrounds_22 : decode cX1_surrounds 22 = .ok (.iconst 0, 1) := by decide +kernel
theorem dX1_surrounds_23 : decode cX1_surrounds 23 = .ok (.ireturn, 1) := by decide +kernel
abbrev cX1_offender : ByteArray := prog_3_method_8_code
def yX1_offender : MethodName := ⟨RX1, "offender", "(I)I"⟩
theorem dX1_offender_0 : decode cX1_offender 0 = .ok (.iload_n 1, 1) := by decide +kernel
theorem dX1_offender_1 : decode cX1_offender 1 = .ok (.invokestatic 26, 3) := by decide +kernel
theorem dX1_offender_4 : decode cX1_offender 4 = .ok (.ifCond .eq 5, 3) := by decide +kernel
theorem dX1_offender_7 : decode cX1_offender 7 = .ok (.iconst (-1), 1) := by decide +kernel
theorem dX1_offender_8 : decode cX1_offender 8 = .ok (.ireturn, 1) := by decide +kernel
theorem dX1_offender_9 : decode cX1_offender 9 = .ok (.iconst 0, 1) := by decide +kernel
theorem dX1_offender_10 : decode cX1_offender 10 = .ok (.istore_n 2, 1) := by decide +kernel
theorem dX1_offender_11 : decode cX1_offender 11 = .ok (.iload_n 2, 1) := by decide +kernel
theorem dX1_offender_12 : decode cX1_offender 12 = .ok (.aload_n 0, 1) := by decide +kernel
theorem dX1_offender_13 : decode cX1_offender 13 = .ok (.getfield 30, 3) := by decide +kernel
theorem dX1_offender_16 : decode cX1_offender 16 = .ok (.if_icmp .ge 113, 3) := by decide +kernel
theorem dX1_offender_19 : decode cX1_offender 19 = .ok (.iconst 0, 1) := by decide +kernel
theorem dX1_offender_20 : decode cX1_offender 20 = .ok (.istore_n 3, 1) := by decide +kernel
theorem dX1_offender_21 : decode cX1_offender 21 = .ok (.iload_n 3, 1) := by decide +kernel
theorem dX1_offender_22 : decode cX1_offender 22 = .ok (.aload_n 0, 1) := by decide +kernel
theorem dX1_offender_23 : decode cX1_offender 23 = .ok (.getfield 30, 3) := by decide +kernel
theorem dX1_offender_26 : decode cX1_offender 26 = .ok (.if_icmp .ge 97, 3) := by decide +kernel
theorem dX1_offender_29 : decode cX1_offender 29 = .ok (.iload_n 2, 1) := by decide +kernel
theorem dX1_offender_30 : decode cX1_offender 30 = .ok (.iload_n 3, 1) := by decide +kernel
theorem dX1_offender_31 : decode cX1_offender 31 = .ok (.if_icmp .eq 27, 3) := by decide +kernel
theorem dX1_offender_34 : decode cX1_offender 34 = .ok (.aload_n 0, 1) := by decide +kernel
theorem dX1_offender_35 : decode cX1_offender 35 = .ok (.getfield 13, 3) := by decide +kernel
theorem dX1_offender_38 : decode cX1_offender 38 = .ok (.iload_n 2, 1) := by decide +kernel
theorem dX1_offender_39 : decode cX1_offender 39 = .ok (.iaload, 1) := by decide +kernel
theorem dX1_offender_40 : decode cX1_offender 40 = .ok (.iload_n 1, 1) := by decide +kernel
theorem dX1_offender_41 : decode cX1_offender 41 = .ok (.if_icmp .ne 17, 3) := by decide +kernel
theorem dX1_offender_44 : decode cX1_offender 44 = .ok (.aload_n 0, 1) := by decide +kernel
theorem dX1_offender_45 : decode cX1_offender 45 = .ok (.getfield 13, 3) := by decide +kernel
theorem dX1_offender_48 : decode cX1_offender 48 = .ok (.iload_n 3, 1) := by decide +kernel
theorem dX1_offender_49 : decode cX1_offender 49 = .ok (.iaload, 1) := by decide +kernel
theorem dX1_offender_50 : decode cX1_offender 50 = .ok (.iload_n 1, 1) := by decide +kernel
theorem dX1_offender_51 : decode cX1_offender 51 = .ok (.if_icmp .ne 7, 3) := by decide +kernel
theorem dX1_offender_54 : decode cX1_offender 54 = .ok (.iconst 1, 1) := by decide +kernel
theorem dX1_offender_55 : decode cX1_offender 55 = .ok (.goto 4, 3) := by decide +kernel
theorem dX1_offender_58 : decode cX1_offender 58 = .ok (.iconst 0, 1) := by decide +kernel
theorem dX1_offender_59 : decode cX1_offender 59 = .ok (.istore 4, 2) := by decide +kernel
theorem dX1_offender_61 : decode cX1_offender 61 = .ok (.iload 4, 2) := by decide +kernel
theorem dX1_offender_63 : decode cX1_offender 63 = .ok (.ifCond .eq 54, 3) := by decide +kernel
theorem dX1_offender_66 : decode cX1_offender 66 = .ok (.aload_n 0, 1) := by decide +kernel
theorem dX1_offender_67 : decode cX1_offender 67 = .ok (.getfield 19, 3) := by decide +kernel
theorem dX1_offender_70 : decode cX1_offender 70 = .ok (.iload_n 2, 1) := by decide +kernel
theorem dX1_offender_71 : decode cX1_offender 71 = .ok (.iaload, 1) := by decide +kernel
theorem dX1_offender_72 : decode cX1_offender 72 = .ok (.iconst 4, 1) := by decide +kernel
theorem dX1_offender_73 : decode cX1_offender 73 = .ok (.idiv, 1) := by decide +kernel
theorem dX1_offender_74 : decode cX1_offender 74 = .ok (.aload_n 0, 1) := by decide +kernel
theorem dX1_offender_75 : decode cX1_offender 75 = .ok (.getfield 19, 3) := by decide +kernel
theorem dX1_offender_78 : decode cX1_offender 78 = .ok (.iload_n 3, 1) := by decide +kernel
theorem dX1_offender_79 : decode cX1_offender 79 = .ok (.iaload, 1) := by decide +kernel
theorem dX1_offender_80 : decode cX1_offender 80 = .ok (.iconst 4, 1) := by decide +kernel
theorem dX1_offender_81 : decode cX1_offender 81 = .ok (.idiv, 1) := by decide +kernel
theorem dX1_offender_82 : decode cX1_offender 82 = .ok (.if_icmp .eq 33, 3) := by decide +kernel
theorem dX1_offender_85 : decode cX1_offender 85 = .ok (.aload_n 0, 1) := by decide +kernel
theorem dX1_offender_86 : decode cX1_offender 86 = .ok (.getfield 16, 3) := by decide +kernel
theorem dX1_offender_89 : decode cX1_offender 89 = .ok (.iload_n 2, 1) := by decide +kernel
theorem dX1_offender_90 : decode cX1_offender 90 = .ok (.iaload, 1) := by decide +kernel
theorem dX1_offender_91 : decode cX1_offender 91 = .ok (.aload_n 0, 1) := by decide +kernel
theorem dX1_offender_92 : decode cX1_offender 92 = .ok (.getfield 19, 3) := by decide +kernel
theorem dX1_offender_95 : decode cX1_offender 95 = .ok (.iload_n 2, 1) := by decide +kernel
theorem dX1_offender_96 : decode cX1_offender 96 = .ok (.iaload, 1) := by decide +kernel
theorem dX1_offender_97 : decode cX1_offender 97 = .ok (.aload_n 0, 1) := by decide +kernel
theorem dX1_offender_98 : decode cX1_offender 98 = .ok (.getfield 16, 3) := by decide +kernel
theorem dX1_offender_101 : decode cX1_offender 101 = .ok (.iload_n 3, 1) := by decide +kernel
theorem dX1_offender_102 : decode cX1_offender 102 = .ok (.iaload, 1) := by decide +kernel
theorem dX1_offender_103 : decode cX1_offender 103 = .ok (.aload_n 0, 1) := by decide +kernel
theorem dX1_offender_104 : decode cX1_offender 104 = .ok (.getfield 19, 3) := by decide +kernel
theorem dX1_offender_107 : decode cX1_offender 107 = .ok (.iload_n 3, 1) := by decide +kernel
theorem dX1_offender_108 : decode cX1_offender 108 = .ok (.iaload, 1) := by decide +kernel
theorem dX1_offender_109 : decode cX1_offender 109 = .ok (.invokestatic 41, 3) := by decide +kernel
theorem dX1_offender_112 : decode cX1_offender 112 = .ok (.ifCond .eq 5, 3) := by decide +kernel
theorem dX1_offender_115 : decode cX1_offender 115 = .ok (.iconst 1, 1) := by decide +kernel
theorem dX1_offender_116 : decode cX1_offender 116 = .ok (.ireturn, 1) := by decide +kernel
theorem dX1_offender_117 : decode cX1_offender 117 = .ok (.iinc 3 1, 3) := by decide +kernel
theorem dX1_offender_120 : decode cX1_offender 120 = .ok (.goto (-99), 3) := by decide +kernel
theorem dX1_offender_123 : decode cX1_offender 123 = .ok (.iinc 2 1, 3) := by decide +kernel
theorem dX1_offender_126 : decode cX1_offender 126 = .ok (.goto (-115), 3) := by decide +kernel
theorem dX1_offender_129 : decode cX1_offender 129 = .ok (.iconst 0, 1) := by decide +kernel
theorem dX1_offender_130 : decode cX1_offender 130 = .ok (.ireturn, 1) := by decide +kernel
end
section
set_option maxRecDepth 100000
abbrev cX1_offended : ByteArray := prog_3_method_9_code
def yX1_offended : MethodName := ⟨RX1, "offended", "()I"⟩
theorem dX1_offended_0 : decode cX1_offended 0 = .ok (.iconst 0, 1) := by decide +kernel
theorem dX1_offended_1 : decode cX1_offended 1 = .ok (.istore_n 1, 1) := by decide +kernel
theorem dX1_offended_2 : decode cX1_offended 2 = .ok (.iconst 0, 1) := by decide +kernel
theorem dX1_offended_3 : decode cX1_offended 3 = .ok (.istore_n 2, 1) := by decide +kernel
theorem dX1_offended_4 : decode cX1_offended 4 = .ok (.iload_n 2, 1) := by decide +kernel
theorem dX1_offended_5 : decode cX1_offended 5 = .ok (.bipush 8, 2) := by decide +kernel
theorem dX1_offended_7 : decode cX1_offended 7 = .ok (.if_icmp .ge 24, 3) := by decide +kernel
theorem dX1_offended_10 : decode cX1_offended 10 = .ok (.iload_n 1, 1) := by decide +kernel
theorem dX1_offended_11 : decode cX1_offended 11 = .ok (.aload_n 0, 1) := by decide +kernel
theorem dX1_offended_12 : decode cX1_offended 12 = .ok (.iload_n 2, 1) := by decide +kernel
theorem dX1_offended_13 : decode cX1_offended 13 = .ok (.invokevirtual 45, 3) := by decide +kernel
theorem dX1_offended_16 : decode cX1_offended 16 = .ok (.aload_n 0, 1) := by decide +kernel
theorem dX1_offended_17 : decode cX1_offended 17 = .ok (.getfield 7, 3) := by decide +kernel
theorem dX1_offended_20 : decode cX1_offended 20 = .ok (.iload_n 2, 1) := by decide +kernel
theorem dX1_offended_21 : decode cX1_offended 21 = .ok (.iaload, 1) := by decide +kernel
theorem dX1_offended_22 : decode cX1_offended 22 = .ok (.imul, 1) := by decide +kernel
theorem dX1_offended_23 : decode cX1_offended 23 = .ok (.iadd, 1) := by decide +kernel
theorem dX1_offended_24 : decode cX1_offended 24 = .ok (.istore_n 1, 1) := by decide +kernel
theorem dX1_offended_25 : decode cX1_offended 25 = .ok (.iinc 2 1, 3) := by decide +kernel
theorem dX1_offended_28 : decode cX1_offended 28 = .ok (.goto (-24), 3) := by decide +kernel
theorem dX1_offended_31 : decode cX1_offended 31 = .ok (.iload_n 1, 1) := by decide +kernel
theorem dX1_offended_32 : decode cX1_offended 32 = .ok (.ireturn, 1) := by decide +kernel
abbrev cX1_justified : ByteArray := prog_3_method_13_code
def yX1_justified : MethodName := ⟨RX1, "justified", "(I)I"⟩
theorem dX1_justified_0 : decode cX1_justified 0 = .ok (.iload_n 1, 1) := by decide +kernel
theorem dX1_justified_1 : decode cX1_justified 1 = .ok (.invokestatic 34, 3) := by decide +kernel
theorem dX1_justified_4 : decode cX1_justified 4 = .ok (.ifCond .eq 5, 3) := by decide +kernel
theorem dX1_justified_7 : decode cX1_justified 7 = .ok (.iconst (-1), 1) := by decide +kernel
theorem dX1_justified_8 : decode cX1_justified 8 = .ok (.ireturn, 1) := by decide +kernel
theorem dX1_justified_9 : decode cX1_justified 9 = .ok (.aload_n 0, 1) := by decide +kernel
theorem dX1_justified_10 : decode cX1_justified 10 = .ok (.invokevirtual 61, 3) := by decide +kernel
theorem dX1_justified_13 : decode cX1_justified 13 = .ok (.aload_n 0, 1) := by decide +kernel
theorem dX1_justified_14 : decode cX1_justified 14 = .ok (.getfield 22, 3) := by decide +kernel
theorem dX1_justified_17 : decode cX1_justified 17 = .ok (.iload_n 1, 1) := by decide +kernel
theorem dX1_justified_18 : decode cX1_justified 18 = .ok (.baload, 1) := by decide +kernel
theorem dX1_justified_19 : decode cX1_justified 19 = .ok (.ifCond .eq 7, 3) := by decide +kernel
theorem dX1_justified_22 : decode cX1_justified 22 = .ok (.iconst 1, 1) := by decide +kernel
theorem dX1_justified_23 : decode cX1_justified 23 = .ok (.goto 4, 3) := by decide +kernel
theorem dX1_justified_26 : decode cX1_justified 26 = .ok (.iconst 0, 1) := by decide +kernel
theorem dX1_justified_27 : decode cX1_justified 27 = .ok (.ireturn, 1) := by decide +kernel
abbrev cX1_justify : ByteArray := prog_3_method_12_code
def yX1_justify : MethodName := ⟨RX1, "justify", "()V"⟩
theorem dX1_justify_0 : decode cX1_justify 0 = .ok (.iconst 0, 1) := by decide +kernel
theorem dX1_justify_1 : decode cX1_justify 1 = .ok (.istore_n 1, 1) := by decide +kernel
theorem dX1_justify_2 : decode cX1_justify 2 = .ok (.iload_n 1, 1) := by decide +kernel
theorem dX1_justify_3 : decode cX1_justify 3 = .ok (.sipush 128, 3) := by decide +kernel
theorem dX1_justify_6 : decode cX1_justify 6 = .ok (.if_icmp .ge 24, 3) := by decide +kernel
theorem dX1_justify_9 : decode cX1_justify 9 = .ok (.aload_n 0, 1) := by decide +kernel
theorem dX1_justify_10 : decode cX1_justify 10 = .ok (.getfield 22, 3) := by decide +kernel
theorem dX1_justify_13 : decode cX1_justify 13 = .ok (.iload_n 1, 1) := by decide +kernel
theorem dX1_justify_14 : decode cX1_justify 14 = .ok (.iload_n 1, 1) := by decide +kernel
theorem dX1_justify_15 : decode cX1_justify 15 = .ok (.ifCond .ne 7, 3) := by decide +kernel
theorem dX1_justify_18 : decode cX1_justify 18 = .ok (.iconst 1, 1) := by decide +kernel
theorem dX1_justify_19 : decode cX1_justify 19 = .ok (.goto 4, 3) := by decide +kernel
theorem dX1_justify_22 : decode cX1_justify 22 = .ok (.iconst 0, 1) := by decide +kernel
theorem dX1_justify_23 : decode cX1_justify 23 = .ok (.bastore, 1) := by decide +kernel
theorem dX1_justify_24 : decode cX1_justify 24 = .ok (.iinc 1 1, 3) := by decide +kernel
theorem dX1_justify_27 : decode cX1_justify 27 = .ok (.goto (-25), 3) := by decide +kernel
theorem dX1_justify_30 : decode cX1_justify 30 = .ok (.iconst 1, 1) := by decide +kernel
theorem dX1_justify_31 : decode cX1_justify 31 = .ok (.istore_n 1, 1) := by decide +kernel
theorem dX1_justify_32 : decode cX1_justify 32 = .ok (.iconst 0, 1) := by decide +kernel
theorem dX1_justify_33 : decode cX1_justify 33 = .ok (.istore_n 2, 1) := by decide +kernel
theorem dX1_justify_34 : decode cX1_justify 34 = .ok (.iload_n 2, 1) := by decide +kernel
theorem dX1_justify_35 : decode cX1_justify 35 = .ok (.bipush 65, 2) := by decide +kernel
theorem dX1_justify_37 : decode cX1_justify 37 = .ok (.if_icmp .ge 92, 3) := by decide +kernel
theorem dX1_justify_40 : decode cX1_justify 40 = .ok (.iload_n 1, 1) := by decide +kernel
theorem dX1_justify_41 : decode cX1_justify 41 = .ok (.ifCond .eq 88, 3) := by decide +kernel
theorem dX1_justify_44 : decode cX1_justify 44 = .ok (.iconst 0, 1) := by decide +kernel
theorem dX1_justify_45 : decode cX1_justify 45 = .ok (.istore_n 1, 1) := by decide +kernel
theorem dX1_justify_46 : decode cX1_justify 46 = .ok (.iconst 0, 1) := by decide +kernel
theorem dX1_justify_47 : decode cX1_justify 47 = .ok (.istore_n 3, 1) := by decide +kernel
theorem dX1_justify_48 : decode cX1_justify 48 = .ok (.iload_n 3, 1) := by decide +kernel
theorem dX1_justify_49 : decode cX1_justify 49 = .ok (.aload_n 0, 1) := by decide +kernel
theorem dX1_justify_50 : decode cX1_justify 50 = .ok (.getfield 30, 3) := by decide +kernel
theorem dX1_justify_53 : decode cX1_justify 53 = .ok (.if_icmp .ge 70, 3) := by decide +kernel
theorem dX1_justify_56 : decode cX1_justify 56 = .ok (.aload_n 0, 1) := by decide +kernel
theorem dX1_justify_57 : decode cX1_justify 57 = .ok (.getfield 22, 3) := by decide +kernel
theorem dX1_justify_60 : decode cX1_justify 60 = .ok (.aload_n 0, 1) := by decide +kernel
theorem dX1_justify_61 : decode cX1_justify 61 = .ok (.getfield 16, 3) := by decide +kernel
theorem dX1_justify_64 : decode cX1_justify 64 = .ok (.iload_n 3, 1) := by decide +kernel
theorem dX1_justify_65 : decode cX1_justify 65 = .ok (.iaload, 1) := by decide +kernel
theorem dX1_justify_66 : decode cX1_justify 66 = .ok (.baload, 1) := by decide +kernel
theorem dX1_justify_67 : decode cX1_justify 67 = .ok (.ifCond .eq 50, 3) := by decide +kernel
theorem dX1_justify_70 : decode cX1_justify 70 = .ok (.aload_n 0, 1) := by decide +kernel
theorem dX1_justify_71 : decode cX1_justify 71 = .ok (.getfield 22, 3) := by decide +kernel
theorem dX1_justify_74 : decode cX1_justify 74 = .ok (.aload_n 0, 1) := by decide +kernel
theorem dX1_justify_75 : decode cX1_justify 75 = .ok (.getfield 19, 3) := by decide +kernel
theorem dX1_justify_78 : decode cX1_justify 78 = .ok (.iload_n 3, 1) := by decide +kernel
theorem dX1_justify_79 : decode cX1_justify 79 = .ok (.iaload, 1) := by decide +kernel
theorem dX1_justify_80 : decode cX1_justify 80 = .ok (.baload, 1) := by decide +kernel
theorem dX1_justify_81 : decode cX1_justify 81 = .ok (.ifCond .ne 36, 3) := by decide +kernel
theorem dX1_justify_84 : decode cX1_justify 84 = .ok (.aload_n 0, 1) := by decide +kernel
theorem dX1_justify_85 : decode cX1_justify 85 = .ok (.aload_n 0, 1) := by decide +kernel
theorem dX1_justify_86 : decode cX1_justify 86 = .ok (.getfield 16, 3) := by decide +kernel
theorem dX1_justify_89 : decode cX1_justify 89 = .ok (.iload_n 3, 1) := by decide +kernel
theorem dX1_justify_90 : decode cX1_justify 90 = .ok (.iaload, 1) := by decide +kernel
theorem dX1_justify_91 : decode cX1_justify 91 = .ok (.aload_n 0, 1) := by decide +kernel
theorem dX1_justify_92 : decode cX1_justify 92 = .ok (.getfield 19, 3) := by decide +kernel
theorem dX1_justify_95 : decode cX1_justify 95 = .ok (.iload_n 3, 1) := by decide +kernel
theorem dX1_justify_96 : decode cX1_justify 96 = .ok (.iaload, 1) := by decide +kernel
theorem dX1_justify_97 : decode cX1_justify 97 = .ok (.invokevirtual 57, 3) := by decide +kernel
theorem dX1_justify_100 : decode cX1_justify 100 = .ok (.ifCond .eq 17, 3) := by decide +kernel
theorem dX1_justify_103 : decode cX1_justify 103 = .ok (.aload_n 0, 1) := by decide +kernel
theorem dX1_justify_104 : decode cX1_justify 104 = .ok (.getfield 22, 3) := by decide +kernel
theorem dX1_justify_107 : decode cX1_justify 107 = .ok (.aload_n 0, 1) := by decide +kernel
theorem dX1_justify_108 : decode cX1_justify 108 = .ok (.getfield 19, 3) := by decide +kernel
theorem dX1_justify_111 : decode cX1_justify 111 = .ok (.iload_n 3, 1) := by decide +kernel
theorem dX1_justify_112 : decode cX1_justify 112 = .ok (.iaload, 1) := by decide +kernel
theorem dX1_justify_113 : decode cX1_justify 113 = .ok (.iconst 1, 1) := by decide +kernel
theorem dX1_justify_114 : decode cX1_justify 114 = .ok (.bastore, 1) := by decide +kernel
theorem dX1_justify_115 : decode cX1_justify 115 = .ok (.iconst 1, 1) := by decide +kernel
theorem dX1_justify_116 : decode cX1_justify 116 = .ok (.istore_n 1, 1) := by decide +kernel
theorem dX1_justify_117 : decode cX1_justify 117 = .ok (.iinc 3 1, 3) := by decide +kernel
theorem dX1_justify_120 : decode cX1_justify 120 = .ok (.goto (-72), 3) := by decide +kernel
theorem dX1_justify_123 : decode cX1_justify 123 = .ok (.iinc 2 1, 3) := by decide +kernel
theorem dX1_justify_126 : decode cX1_justify 126 = .ok (.goto (-92), 3) := by decide +kernel
theorem dX1_justify_129 : decode cX1_justify 129 = .ok (.return_, 1) := by decide +kernel
abbrev cX1_supported : ByteArray := prog_3_method_11_code
def yX1_supported : MethodName := ⟨RX1, "supported", "(II)Z"⟩
theorem dX1_supported_0 : decode cX1_supported 0 = .ok (.iconst 3, 1) := by decide +kernel
theorem dX1_supported_1 : decode cX1_supported 1 = .ok (.aload_n 0, 1) := by decide +kernel
theorem dX1_supported_2 : decode cX1_supported 2 = .ok (.iload_n 1, 1) := by decide +kernel
theorem dX1_supported_3 : decode cX1_supported 3 = .ok (.iload_n 2, 1) := by decide +kernel
theorem dX1_supported_4 : decode cX1_supported 4 = .ok (.invokevirtual 49, 3) := by decide +kernel
theorem dX1_supported_7 : decode cX1_supported 7 = .ok (.imul, 1) := by decide +kernel
theorem dX1_supported_8 : decode cX1_supported 8 = .ok (.iconst 2, 1) := by decide +kernel
theorem dX1_supported_9 : decode cX1_supported 9 = .ok (.aload_n 0, 1) := by decide +kernel
theorem dX1_supported_10 : decode cX1_supported 10 = .ok (.invokevirtual 53, 3) := by decide +kernel
theorem dX1_supported_13 : decode cX1_supported 13 = .ok (.imul, 1) := by decide +kernel
theorem dX1_supported_14 : decode cX1_supported 14 = .ok (.if_icmp .le 7, 3) := by decide +kernel
theorem dX1_supported_17 : decode cX1_supported 17 = .ok (.iconst 1, 1) := by decide +kernel
theorem dX1_supported_18 : decode cX1_supported 18 = .ok (.goto 4, 3) := by decide +kernel
theorem dX1_supported_21 : decode cX1_supported 21 = .ok (.iconst 0, 1) := by decide +kernel
theorem dX1_supported_22 : decode cX1_supported 22 = .ok (.ireturn, 1) := by decide +kernel
abbrev cX1_support : ByteArray := prog_3_method_17_code
def yX1_support : MethodName := ⟨RX1, "support", "(II)I"⟩
theorem dX1_support_0 : decode cX1_support 0 = .ok (.iconst 0, 1) := by decide +kernel
theorem dX1_support_1 : decode cX1_support 1 = .ok (.istore_n 3, 1) := by decide +kernel
theorem dX1_support_2 : decode cX1_support 2 = .ok (.iconst 0, 1) := by decide +kernel
theorem dX1_support_3 : decode cX1_support 3 = .ok (.istore 4, 2) := by decide +kernel
theorem dX1_support_5 : decode cX1_support 5 = .ok (.iload 4, 2) := by decide +kernel
theorem dX1_support_7 : decode cX1_support 7 = .ok (.aload_n 0, 1) := by decide +kernel
theorem dX1_support_8 : decode cX1_support 8 = .ok (.getfield 30, 3) := by decide +kernel
theorem dX1_support_11 : decode cX1_support 11 = .ok (.if_icmp .ge 46, 3) := by decide +kernel
theorem dX1_support_14 : decode cX1_support 14 = .ok (.aload_n 0, 1) := by decide +kernel
theorem dX1_support_15 : decode cX1_support 15 = .ok (.getfield 16, 3) := by decide +kernel
theorem dX1_support_18 : decode cX1_support 18 = .ok (.iload 4, 2) := by decide +kernel
theorem dX1_support_20 : decode cX1_support 20 = .ok (.iaload, 1) := by decide +kernel
theorem dX1_support_21 : decode cX1_support 21 = .ok (.iload_n 1, 1) := by decide +kernel
theorem dX1_support_22 : decode cX1_support 22 = .ok (.if_icmp .ne 29, 3) := by decide +kernel
theorem dX1_support_25 : decode cX1_support 25 = .ok (.aload_n 0, 1) := by decide +kernel
theorem dX1_support_26 : decode cX1_support 26 = .ok (.getfield 19, 3) := by decide +kernel
theorem dX1_support_29 : decode cX1_support 29 = .ok (.iload 4, 2) := by decide +kernel
theorem dX1_support_31 : decode cX1_support 31 = .ok (.iaload, 1) := by decide +kernel
theorem dX1_support_32 : decode cX1_support 32 = .ok (.iload_n 2, 1) := by decide +kernel
theorem dX1_support_33 : decode cX1_support 33 = .ok (.if_icmp .ne 18, 3) := by decide +kernel
theorem dX1_support_36 : decode cX1_support 36 = .ok (.iload_n 3, 1) := by decide +kernel
theorem dX1_support_37 : decode cX1_support 37 = .ok (.aload_n 0, 1) := by decide +kernel
theorem dX1_support_38 : decode cX1_support 38 = .ok (.getfield 7, 3) := by decide +kernel
theorem dX1_support_41 : decode cX1_support 41 = .ok (.aload_n 0, 1) := by decide +kernel
theorem dX1_support_42 : decode cX1_support 42 = .ok (.getfield 13, 3) := by decide +kernel
theorem dX1_support_45 : decode cX1_support 45 = .ok (.iload 4, 2) := by decide +kernel
theorem dX1_support_47 : decode cX1_support 47 = .ok (.iaload, 1) := by decide +kernel
theorem dX1_support_48 : decode cX1_support 48 = .ok (.iaload, 1) := by decide +kernel
theorem dX1_support_49 : decode cX1_support 49 = .ok (.iadd, 1) := by decide +kernel
theorem dX1_support_50 : decode cX1_support 50 = .ok (.istore_n 3, 1) := by decide +kernel
theorem dX1_support_51 : decode cX1_support 51 = .ok (.iinc 4 1, 3) := by decide +kernel
theorem dX1_support_54 : decode cX1_support 54 = .ok (.goto (-49), 3) := by decide +kernel
theorem dX1_support_57 : decode cX1_support 57 = .ok (.iload_n 3, 1) := by decide +kernel
theorem dX1_support_58 : decode cX1_support 58 = .ok (.ireturn, 1) := by decide +kernel
abbrev cX1_total : ByteArray := prog_3_method_10_code
def yX1_total : MethodName := ⟨RX1, "total", "()I"⟩
theorem dX1_total_0 : decode cX1_total 0 = .ok (.iconst 0, 1) := by decide +kernel
theorem dX1_total_1 : decode cX1_total 1 = .ok (.istore_n 1, 1) := by decide +kernel
theorem dX1_total_2 : decode cX1_total 2 = .ok (.iconst 0, 1) := by decide +kernel
theorem dX1_total_3 : decode cX1_total 3 = .ok (.istore_n 2, 1) := by decide +kernel
theorem dX1_total_4 : decode cX1_total 4 = .ok (.iload_n 2, 1) := by decide +kernel
theorem dX1_total_5 : decode cX1_total 5 = .ok (.bipush 8, 2) := by decide +kernel
theorem dX1_total_7 : decode cX1_total 7 = .ok (.if_icmp .ge 18, 3) := by decide +kernel
theorem dX1_total_10 : decode cX1_total 10 = .ok (.iload_n 1, 1) := by decide +kernel
theorem dX1_total_11 : decode cX1_total 11 = .ok (.aload_n 0, 1) := by decide +kernel
theorem dX1_total_12 : decode cX1_total 12 = .ok (.getfield 7, 3) := by decide +kernel
theorem dX1_total_15 : decode cX1_total 15 = .ok (.iload_n 2, 1) := by decide +kernel
theorem dX1_total_16 : decode cX1_total 16 = .ok (.iaload, 1) := by decide +kernel
theorem dX1_total_17 : decode cX1_total 17 = .ok (.iadd, 1) := by decide +kernel
theorem dX1_total_18 : decode cX1_total 18 = .ok (.istore_n 1, 1) := by decide +kernel
theorem dX1_total_19 : decode cX1_total 19 = .ok (.iinc 2 1, 3) := by decide +kernel
theorem dX1_total_22 : decode cX1_total 22 = .ok (.goto (-18), 3) := by decide +kernel
theorem dX1_total_25 : decode cX1_total 25 = .ok (.iload_n 1, 1) := by decide +kernel
theorem dX1_total_26 : decode cX1_total 26 = .ok (.ireturn, 1) := by decide +kernel
abbrev cX1_isFinal : ByteArray := prog_3_method_14_code
def yX1_isFinal : MethodName := ⟨RX1, "isFinal", "(I)I"⟩
theorem dX1_isFinal_0 : decode cX1_isFinal 0 = .ok (.iload_n 1, 1) := by decide +kernel
theorem dX1_isFinal_1 : decode cX1_isFinal 1 = .ok (.invokestatic 34, 3) := by decide +kernel
theorem dX1_isFinal_4 : decode cX1_isFinal 4 = .ok (.ifCond .eq 5, 3) := by decide +kernel
theorem dX1_isFinal_7 : decode cX1_isFinal 7 = .ok (.iconst (-1), 1) := by decide +kernel
theorem dX1_isFinal_8 : decode cX1_isFinal 8 = .ok (.ireturn, 1) := by decide +kernel
theorem dX1_isFinal_9 : decode cX1_isFinal 9 = .ok (.aload_n 0, 1) := by decide +kernel
theorem dX1_isFinal_10 : decode cX1_isFinal 10 = .ok (.invokevirtual 61, 3) := by decide +kernel
theorem dX1_isFinal_13 : decode cX1_isFinal 13 = .ok (.iconst 0, 1) := by decide +kernel
theorem dX1_isFinal_14 : decode cX1_isFinal 14 = .ok (.istore_n 2, 1) := by decide +kernel
theorem dX1_isFinal_15 : decode cX1_isFinal 15 = .ok (.iload_n 2, 1) := by decide +kernel
theorem dX1_isFinal_16 : decode cX1_isFinal 16 = .ok (.aload_n 0, 1) := by decide +kernel
theorem dX1_isFinal_17 : decode cX1_isFinal 17 = .ok (.getfield 30, 3) := by decide +kernel
theorem dX1_isFinal_20 : decode cX1_isFinal 20 = .ok (.if_icmp .ge 70, 3) := by decide +kernel
theorem dX1_isFinal_23 : decode cX1_isFinal 23 = .ok (.aload_n 0, 1) := by decide +kernel
theorem dX1_isFinal_24 : decode cX1_isFinal 24 = .ok (.getfield 16, 3) := by decide +kernel
theorem dX1_isFinal_27 : decode cX1_isFinal 27 = .ok (.iload_n 2, 1) := by decide +kernel
theorem dX1_isFinal_28 : decode cX1_isFinal 28 = .ok (.iaload, 1) := by decide +kernel
theorem dX1_isFinal_29 : decode cX1_isFinal 29 = .ok (.iload_n 1, 1) := by decide +kernel
theorem dX1_isFinal_30 : decode cX1_isFinal 30 = .ok (.if_icmp .ne 23, 3) := by decide +kernel
theorem dX1_isFinal_33 : decode cX1_isFinal 33 = .ok (.aload_n 0, 1) := by decide +kernel
theorem dX1_isFinal_34 : decode cX1_isFinal 34 = .ok (.getfield 19, 3) := by decide +kernel
theorem dX1_isFinal_37 : decode cX1_isFinal 37 = .ok (.iload_n 2, 1) := by decide +kernel
theorem dX1_isFinal_38 : decode cX1_isFinal 38 = .ok (.iaload, 1) := by decide +kernel
theorem dX1_isFinal_39 : decode cX1_isFinal 39 = .ok (.iconst 4, 1) := by decide +kernel
theorem dX1_isFinal_40 : decode cX1_isFinal 40 = .ok (.idiv, 1) := by decide +kernel
theorem dX1_isFinal_41 : decode cX1_isFinal 41 = .ok (.iload_n 1, 1) := by decide +kernel
theorem dX1_isFinal_42 : decode cX1_isFinal 42 = .ok (.iconst 4, 1) := by decide +kernel
theorem dX1_isFinal_43 : decode cX1_isFinal 43 = .ok (.idiv, 1) := by decide +kernel
theorem dX1_isFinal_44 : decode cX1_isFinal 44 = .ok (.iconst 1, 1) := by decide +kernel
theorem dX1_isFinal_45 : decode cX1_isFinal 45 = .ok (.iadd, 1) := by decide +kernel
theorem dX1_isFinal_46 : decode cX1_isFinal 46 = .ok (.if_icmp .ne 7, 3) := by decide +kernel
theorem dX1_isFinal_49 : decode cX1_isFinal 49 = .ok (.iconst 1, 1) := by decide +kernel
theorem dX1_isFinal_50 : decode cX1_isFinal 50 = .ok (.goto 4, 3) := by decide +kernel
theorem dX1_isFinal_53 : decode cX1_isFinal 53 = .ok (.iconst 0, 1) := by decide +kernel
theorem dX1_isFinal_54 : decode cX1_isFinal 54 = .ok (.istore_n 3, 1) := by decide +kernel
theorem dX1_isFinal_55 : decode cX1_isFinal 55 = .ok (.iload_n 3, 1) := by decide +kernel
theorem dX1_isFinal_56 : decode cX1_isFinal 56 = .ok (.ifCond .eq 28, 3) := by decide +kernel
theorem dX1_isFinal_59 : decode cX1_isFinal 59 = .ok (.aload_n 0, 1) := by decide +kernel
theorem dX1_isFinal_60 : decode cX1_isFinal 60 = .ok (.getfield 22, 3) := by decide +kernel
theorem dX1_isFinal_63 : decode cX1_isFinal 63 = .ok (.iload_n 1, 1) := by decide +kernel
theorem dX1_isFinal_64 : decode cX1_isFinal 64 = .ok (.baload, 1) := by decide +kernel
theorem dX1_isFinal_65 : decode cX1_isFinal 65 = .ok (.ifCond .eq 19, 3) := by decide +kernel
theorem dX1_isFinal_68 : decode cX1_isFinal 68 = .ok (.aload_n 0, 1) := by decide +kernel
theorem dX1_isFinal_69 : decode cX1_isFinal 69 = .ok (.iload_n 1, 1) := by decide +kernel
theorem dX1_isFinal_70 : decode cX1_isFinal 70 = .ok (.aload_n 0, 1) := by decide +kernel
theorem dX1_isFinal_71 : decode cX1_isFinal 71 = .ok (.getfield 19, 3) := by decide +kernel
theorem dX1_isFinal_74 : decode cX1_isFinal 74 = .ok (.iload_n 2, 1) := by decide +kernel
theorem dX1_isFinal_75 : decode cX1_isFinal 75 = .ok (.iaload, 1) := by decide +kernel
theorem dX1_isFinal_76 : decode cX1_isFinal 76 = .ok (.invokevirtual 57, 3) := by decide +kernel
theorem dX1_isFinal_79 : decode cX1_isFinal 79 = .ok (.ifCond .eq 5, 3) := by decide +kernel
theorem dX1_isFinal_82 : decode cX1_isFinal 82 = .ok (.iconst 1, 1) := by decide +kernel
theorem dX1_isFinal_83 : decode cX1_isFinal 83 = .ok (.ireturn, 1) := by decide +kernel
theorem dX1_isFinal_84 : decode cX1_isFinal 84 = .ok (.iinc 2 1, 3) := by decide +kernel
theorem dX1_isFinal_87 : decode cX1_isFinal 87 = .ok (.goto (-72), 3) := by decide +kernel
theorem dX1_isFinal_90 : decode cX1_isFinal 90 = .ok (.iconst 0, 1) := by decide +kernel
theorem dX1_isFinal_91 : decode cX1_isFinal 91 = .ok (.ireturn, 1) := by decide +kernel
abbrev cX1_highest : ByteArray := prog_3_method_15_code
def yX1_highest : MethodName := ⟨RX1, "highest", "()I"⟩
theorem dX1_highest_0 : decode cX1_highest 0 = .ok (.aload_n 0, 1) := by decide +kernel
theorem dX1_highest_1 : decode cX1_highest 1 = .ok (.invokevirtual 61, 3) := by decide +kernel
theorem dX1_highest_4 : decode cX1_highest 4 = .ok (.iconst 0, 1) := by decide +kernel
theorem dX1_highest_5 : decode cX1_highest 5 = .ok (.istore_n 1, 1) := by decide +kernel
theorem dX1_highest_6 : decode cX1_highest 6 = .ok (.iconst 0, 1) := by decide +kernel
theorem dX1_highest_7 : decode cX1_highest 7 = .ok (.istore_n 2, 1) := by decide +kernel
theorem dX1_highest_8 : decode cX1_highest 8 = .ok (.iload_n 2, 1) := by decide +kernel
theorem dX1_highest_9 : decode cX1_highest 9 = .ok (.sipush 128, 3) := by decide +kernel
theorem dX1_highest_12 : decode cX1_highest 12 = .ok (.if_icmp .ge 20, 3) := by decide +kernel
theorem dX1_highest_15 : decode cX1_highest 15 = .ok (.aload_n 0, 1) := by decide +kernel
theorem dX1_highest_16 : decode cX1_highest 16 = .ok (.getfield 22, 3) := by decide +kernel
theorem dX1_highest_19 : decode cX1_highest 19 = .ok (.iload_n 2, 1) := by decide +kernel
theorem dX1_highest_20 : decode cX1_highest 20 = .ok (.baload, 1) := by decide +kernel
theorem dX1_highest_21 : decode cX1_highest 21 = .ok (.ifCond .eq 5, 3) := by decide +kernel
theorem dX1_highest_24 : decode cX1_highest 24 = .ok (.iload_n 2, 1) := by decide +kernel
theorem dX1_highest_25 : decode cX1_highest 25 = .ok (.istore_n 1, 1) := by decide +kernel
theorem dX1_highest_26 : decode cX1_highest 26 = .ok (.iinc 2 1, 3) := by decide +kernel
theorem dX1_highest_29 : decode cX1_highest 29 = .ok (.goto (-21), 3) := by decide +kernel
theorem dX1_highest_32 : decode cX1_highest 32 = .ok (.iload_n 1, 1) := by decide +kernel
theorem dX1_highest_33 : decode cX1_highest 33 = .ok (.ireturn, 1) := by decide +kernel
abbrev cX1_justifiedIn : ByteArray := prog_3_method_16_code
def yX1_justifiedIn : MethodName := ⟨RX1, "justifiedIn", "(I)I"⟩
theorem dX1_justifiedIn_0 : decode cX1_justifiedIn 0 = .ok (.iload_n 1, 1) := by decide +kernel
theorem dX1_justifiedIn_1 : decode cX1_justifiedIn 1 = .ok (.ifCond .lt 9, 3) := by decide +kernel
theorem dX1_justifiedIn_4 : decode cX1_justifiedIn 4 = .ok (.iload_n 1, 1) := by decide +kernel
theorem dX1_justifiedIn_5 : decode cX1_justifiedIn 5 = .ok (.bipush 31, 2) := by decide +kernel
theorem dX1_justifiedIn_7 : decode cX1_justifiedIn 7 = .ok (.if_icmp .le 5, 3) := by decide +kernel
theorem dX1_justifiedIn_10 : decode cX1_justifiedIn 10 = .ok (.iconst (-1), 1) := by decide +kernel
theorem dX1_justifiedIn_11 : decode cX1_justifiedIn 11 = .ok (.ireturn, 1) := by decide +kernel
theorem dX1_justifiedIn_12 : decode cX1_justifiedIn 12 = .ok (.aload_n 0, 1) := by decide +kernel
theorem dX1_justifiedIn_13 : decode cX1_justifiedIn 13 = .ok (.invokevirtual 61, 3) := by decide +kernel
theorem dX1_justifiedIn_16 : decode cX1_justifiedIn 16 = .ok (.iconst 0, 1) := by decide +kernel
theorem dX1_justifiedIn_17 : decode cX1_justifiedIn 17 = .ok (.istore_n 2, 1) := by decide +kernel
theorem dX1_justifiedIn_18 : decode cX1_justifiedIn 18 = .ok (.iconst 0, 1) := by decide +kernel
theorem dX1_justifiedIn_19 : decode cX1_justifiedIn 19 = .ok (.istore_n 3, 1) := by decide +kernel
theorem dX1_justifiedIn_20 : decode cX1_justifiedIn 20 = .ok (.iload_n 3, 1) := by decide +kernel
theorem dX1_justifiedIn_21 : decode cX1_justifiedIn 21 = .ok (.iconst 3, 1) := by decide +kernel
theorem dX1_justifiedIn_22 : decode cX1_justifiedIn 22 = .ok (.if_icmp .ge 25, 3) := by decide +kernel
theorem dX1_justifiedIn_25 : decode cX1_justifiedIn 25 = .ok (.aload_n 0, 1) := by decide +kernel
theorem dX1_justifiedIn_26 : decode cX1_justifiedIn 26 = .ok (.getfield 22, 3) := by decide +kernel
theorem dX1_justifiedIn_29 : decode cX1_justifiedIn 29 = .ok (.iconst 4, 1) := by decide +kernel
theorem dX1_justifiedIn_30 : decode cX1_justifiedIn 30 = .ok (.iload_n 1, 1) := by decide +kernel
theorem dX1_justifiedIn_31 : decode cX1_justifiedIn 31 = .ok (.imul, 1) := by decide +kernel
theorem dX1_justifiedIn_32 : decode cX1_justifiedIn 32 = .ok (.iload_n 3, 1) := by decide +kernel
theorem dX1_justifiedIn_33 : decode cX1_justifiedIn 33 = .ok (.iadd, 1) := by decide +kernel
theorem dX1_justifiedIn_34 : decode cX1_justifiedIn 34 = .ok (.baload, 1) := by decide +kernel
theorem dX1_justifiedIn_35 : decode cX1_justifiedIn 35 = .ok (.ifCond .eq 6, 3) := by decide +kernel
theorem dX1_justifiedIn_38 : decode cX1_justifiedIn 38 = .ok (.iinc 2 1, 3) := by decide +kernel
theorem dX1_justifiedIn_41 : decode cX1_justifiedIn 41 = .ok (.iinc 3 1, 3) := by decide +kernel
theorem dX1_justifiedIn_44 : decode cX1_justifiedIn 44 = .ok (.goto (-24), 3) := by decide +kernel
theorem dX1_justifiedIn_47 : decode cX1_justifiedIn 47 = .ok (.iload_n 2, 1) := by decide +kernel
theorem dX1_justifiedIn_48 : decode cX1_justifiedIn 48 = .ok (.ireturn, 1) := by decide +kernel
end
section
set_option maxRecDepth 100000
abbrev cX1_votes : ByteArray := prog_3_method_18_code
def yX1_votes : MethodName := ⟨RX1, "votes", "(I)I"⟩
theorem dX1_votes_0 : decode cX1_votes 0 = .ok (.iload_n 1, 1) := by decide +kernel
theorem dX1_votes_1 : decode cX1_votes 1 = .ok (.invokestatic 26, 3) := by decide +kernel
theorem dX1_votes_4 : decode cX1_votes 4 = .ok (.ifCond .eq 5, 3) := by decide +kernel
theorem dX1_votes_7 : decode cX1_votes 7 = .ok (.iconst (-1), 1) := by decide +kernel
theorem dX1_votes_8 : decode cX1_votes 8 = .ok (.ireturn, 1) := by decide +kernel
theorem dX1_votes_9 : decode cX1_votes 9 = .ok (.iconst 0, 1) := by decide +kernel
theorem dX1_votes_10 : decode cX1_votes 10 = .ok (.istore_n 2, 1) := by decide +kernel
theorem dX1_votes_11 : decode cX1_votes 11 = .ok (.iconst 0, 1) := by decide +kernel
theorem dX1_votes_12 : decode cX1_votes 12 = .ok (.istore_n 3, 1) := by decide +kernel
theorem dX1_votes_13 : decode cX1_votes 13 = .ok (.iload_n 3, 1) := by decide +kernel
theorem dX1_votes_14 : decode cX1_votes 14 = .ok (.aload_n 0, 1) := by decide +kernel
theorem dX1_votes_15 : decode cX1_votes 15 = .ok (.getfield 30, 3) := by decide +kernel
theorem dX1_votes_18 : decode cX1_votes 18 = .ok (.if_icmp .ge 22, 3) := by decide +kernel
theorem dX1_votes_21 : decode cX1_votes 21 = .ok (.aload_n 0, 1) := by decide +kernel
theorem dX1_votes_22 : decode cX1_votes 22 = .ok (.getfield 13, 3) := by decide +kernel
theorem dX1_votes_25 : decode cX1_votes 25 = .ok (.iload_n 3, 1) := by decide +kernel
theorem dX1_votes_26 : decode cX1_votes 26 = .ok (.iaload, 1) := by decide +kernel
theorem dX1_votes_27 : decode cX1_votes 27 = .ok (.iload_n 1, 1) := by decide +kernel
theorem dX1_votes_28 : decode cX1_votes 28 = .ok (.if_icmp .ne 6, 3) := by decide +kernel
theorem dX1_votes_31 : decode cX1_votes 31 = .ok (.iinc 2 1, 3) := by decide +kernel
theorem dX1_votes_34 : decode cX1_votes 34 = .ok (.iinc 3 1, 3) := by decide +kernel
theorem dX1_votes_37 : decode cX1_votes 37 = .ok (.goto (-24), 3) := by decide +kernel
theorem dX1_votes_40 : decode cX1_votes 40 = .ok (.iload_n 2, 1) := by decide +kernel
theorem dX1_votes_41 : decode cX1_votes 41 = .ok (.ireturn, 1) := by decide +kernel
theorem q13 : (Jvm.Cond.initialized "VoteWatchModel") ∈ lw_all := lw_g (lw_at lw_m0 2 rfl) rfl
theorem q139 : (Jvm.Cond.instantiable "VoteWatchModel" (6 : Nat)) ∈ lw_all := lw_g (lw_at lw_m0 128 rfl) rfl
theorem q141 : (Jvm.Cond.instanceMethod ({ cls := "VoteWatchModel", name := "<init>", desc := "()V" } : Jvm.MethodName)) ∈ lw_all := lw_g (lw_at lw_m0 130 rfl) rfl
theorem q142 : (Jvm.Cond.code ({ cls := "VoteWatchModel", name := "<init>", desc := "()V" } : Jvm.MethodName) prog_3_method_1_code (2 : Nat) (Option.none : Option Jvm.ClassFile.FieldType)) ∈ lw_all := lw_g (lw_at lw_m0 131 rfl) rfl
theorem q143 : (Jvm.Cond.methodLink "VoteWatchModel" (1 : Nat) ({ cls := "java/lang/Object", name := "<init>", desc := "()V" } : Jvm.MethodName)) ∈ lw_all := lw_g (lw_at lw_m0 132 rfl) rfl
theorem q144 : (Jvm.Cond.fieldLink "VoteWatchModel" (7 : Nat) "VoteWatchModel" "stakes" "[I") ∈ lw_all := lw_g (lw_at lw_m0 133 rfl) rfl
theorem q145 : (Jvm.Cond.fieldLink "VoteWatchModel" (30 : Nat) "VoteWatchModel" "votes" "I") ∈ lw_all := lw_g (lw_at lw_m0 134 rfl) rfl
theorem q146 : (Jvm.Cond.fieldLink "VoteWatchModel" (13 : Nat) "VoteWatchModel" "who" "[I") ∈ lw_all := lw_g (lw_at lw_m0 135 rfl) rfl
theorem q147 : (Jvm.Cond.fieldLink "VoteWatchModel" (16 : Nat) "VoteWatchModel" "source" "[I") ∈ lw_all := lw_g (lw_at lw_m0 136 rfl) rfl
theorem q148 : (Jvm.Cond.fieldLink "VoteWatchModel" (19 : Nat) "VoteWatchModel" "target" "[I") ∈ lw_all := lw_g (lw_at lw_m0 137 rfl) rfl
theorem q149 : (Jvm.Cond.fieldLink "VoteWatchModel" (22 : Nat) "VoteWatchModel" "just" "[Z") ∈ lw_all := lw_g (lw_at lw_m0 138 rfl) rfl
theorem q150 : (Jvm.Cond.laysFinal "VoteWatchModel" "VoteWatchModel" "stakes" "[I") ∈ lw_all := lw_g (lw_at lw_m0 139 rfl) rfl
theorem q151 : (Jvm.Cond.soleField "VoteWatchModel" "stakes") ∈ lw_all := lw_g (lw_at lw_m0 140 rfl) rfl
theorem q152 : (Jvm.Cond.lays "VoteWatchModel" "VoteWatchModel" "votes" "I") ∈ lw_all := lw_g (lw_at lw_m0 141 rfl) rfl
theorem q153 : (Jvm.Cond.soleField "VoteWatchModel" "votes") ∈ lw_all := lw_g (lw_at lw_m0 142 rfl) rfl
theorem q154 : (Jvm.Cond.laysFinal "VoteWatchModel" "VoteWatchModel" "who" "[I") ∈ lw_all := lw_g (lw_at lw_m0 143 rfl) rfl
theorem q155 : (Jvm.Cond.soleField "VoteWatchModel" "who") ∈ lw_all := lw_g (lw_at lw_m0 144 rfl) rfl
theorem q156 : (Jvm.Cond.laysFinal "VoteWatchModel" "VoteWatchModel" "source" "[I") ∈ lw_all := lw_g (lw_at lw_m0 145 rfl) rfl
theorem q157 : (Jvm.Cond.soleField "VoteWatchModel" "source") ∈ lw_all := lw_g (lw_at lw_m0 146 rfl) rfl
theorem q158 : (Jvm.Cond.laysFinal "VoteWatchModel" "VoteWatchModel" "target" "[I") ∈ lw_all := lw_g (lw_at lw_m0 147 rfl) rfl
theorem q159 : (Jvm.Cond.soleField "VoteWatchModel" "target") ∈ lw_all := lw_g (lw_at lw_m0 148 rfl) rfl
theorem q160 : (Jvm.Cond.laysFinal "VoteWatchModel" "VoteWatchModel" "just" "[Z") ∈ lw_all := lw_g (lw_at lw_m0 149 rfl) rfl
theorem q161 : (Jvm.Cond.soleField "VoteWatchModel" "just") ∈ lw_all := lw_g (lw_at lw_m0 150 rfl) rfl
theorem q162 : (Jvm.Cond.superclass "VoteWatchModel" "java/lang/Object") ∈ lw_all := lw_g (lw_at lw_m0 151 rfl) rfl
theorem q164 : (Jvm.Cond.instanceMethod ({ cls := "VoteWatchModel", name := "stake", desc := "(II)I" } : Jvm.MethodName)) ∈ lw_all := lw_g (lw_at lw_m0 153 rfl) rfl
theorem q165 : (Jvm.Cond.selects "VoteWatchModel" ({ cls := "VoteWatchModel", name := "stake", desc := "(II)I" } : Jvm.MethodName) ({ cls := "VoteWatchModel", name := "stake", desc := "(II)I" } : Jvm.MethodName)) ∈ lw_all := lw_g (lw_at lw_m0 154 rfl) rfl
theorem q166 : (Jvm.Cond.code ({ cls := "VoteWatchModel", name := "stake", desc := "(II)I" } : Jvm.MethodName) prog_3_method_4_code (4 : Nat) (Option.some Jvm.ClassFile.FieldType.int)) ∈ lw_all := lw_g (lw_at lw_m0 155 rfl) rfl
theorem q167 : (Jvm.Cond.methodLink "VoteWatchModel" (26 : Nat) ({ cls := "VoteWatchModel", name := "bad", desc := "(I)Z" } : Jvm.MethodName)) ∈ lw_all := lw_g (lw_at lw_m0 156 rfl) rfl
theorem q168 : (Jvm.Cond.static ({ cls := "VoteWatchModel", name := "bad", desc := "(I)Z" } : Jvm.MethodName)) ∈ lw_all := lw_g (lw_at lw_m0 157 rfl) rfl
theorem q169 : (Jvm.Cond.code ({ cls := "VoteWatchModel", name := "bad", desc := "(I)Z" } : Jvm.MethodName) prog_3_method_2_code (1 : Nat) (Option.some Jvm.ClassFile.FieldType.boolean)) ∈ lw_all := lw_g (lw_at lw_m0 158 rfl) rfl
theorem q171 : (Jvm.Cond.instanceMethod ({ cls := "VoteWatchModel", name := "vote", desc := "(III)I" } : Jvm.MethodName)) ∈ lw_all := lw_g (lw_at lw_m0 160 rfl) rfl
theorem q172 : (Jvm.Cond.selects "VoteWatchModel" ({ cls := "VoteWatchModel", name := "vote", desc := "(III)I" } : Jvm.MethodName) ({ cls := "VoteWatchModel", name := "vote", desc := "(III)I" } : Jvm.MethodName)) ∈ lw_all := lw_g (lw_at lw_m0 161 rfl) rfl
theorem q173 : (Jvm.Cond.code ({ cls := "VoteWatchModel", name := "vote", desc := "(III)I" } : Jvm.MethodName) prog_3_method_7_code (6 : Nat) (Option.some Jvm.ClassFile.FieldType.int)) ∈ lw_all := lw_g (lw_at lw_m0 162 rfl) rfl
theorem q174 : (Jvm.Cond.methodLink "VoteWatchModel" (34 : Nat) ({ cls := "VoteWatchModel", name := "badPoint", desc := "(I)Z" } : Jvm.MethodName)) ∈ lw_all := lw_g (lw_at lw_m0 163 rfl) rfl
theorem q175 : (Jvm.Cond.static ({ cls := "VoteWatchModel", name := "badPoint", desc := "(I)Z" } : Jvm.MethodName)) ∈ lw_all := lw_g (lw_at lw_m0 164 rfl) rfl
theorem q176 : (Jvm.Cond.code ({ cls := "VoteWatchModel", name := "badPoint", desc := "(I)Z" } : Jvm.MethodName) prog_3_method_3_code (1 : Nat) (Option.some Jvm.ClassFile.FieldType.boolean)) ∈ lw_all := lw_g (lw_at lw_m0 165 rfl) rfl
theorem q177 : (Jvm.Cond.methodLink "VoteWatchModel" (37 : Nat) ({ cls := "VoteWatchModel", name := "held", desc := "(III)Z" } : Jvm.MethodName)) ∈ lw_all := lw_g (lw_at lw_m0 166 rfl) rfl
theorem q178 : (Jvm.Cond.privateMethod ({ cls := "VoteWatchModel", name := "held", desc := "(III)Z" } : Jvm.MethodName)) ∈ lw_tbl := lw_at lw_m0 167 rfl
theorem q179 : (Jvm.Cond.instanceMethod ({ cls := "VoteWatchModel", name := "held", desc := "(III)Z" } : Jvm.MethodName)) ∈ lw_all := lw_g (lw_at lw_m0 168 rfl) rfl
theorem q180 : (Jvm.Cond.code ({ cls := "VoteWatchModel", name := "held", desc := "(III)Z" } : Jvm.MethodName) prog_3_method_5_code (5 : Nat) (Option.some Jvm.ClassFile.FieldType.boolean)) ∈ lw_all := lw_g (lw_at lw_m0 169 rfl) rfl
theorem q181 : (Jvm.Cond.methodLink "VoteWatchModel" (41 : Nat) ({ cls := "VoteWatchModel", name := "surrounds", desc := "(IIII)Z" } : Jvm.MethodName)) ∈ lw_all := lw_g (lw_at lw_m0 170 rfl) rfl
theorem q182 : (Jvm.Cond.static ({ cls := "VoteWatchModel", name := "surrounds", desc := "(IIII)Z" } : Jvm.MethodName)) ∈ lw_all := lw_g (lw_at lw_m0 171 rfl) rfl
theorem q183 : (Jvm.Cond.code ({ cls := "VoteWatchModel", name := "surrounds", desc := "(IIII)Z" } : Jvm.MethodName) prog_3_method_6_code (4 : Nat) (Option.some Jvm.ClassFile.FieldType.boolean)) ∈ lw_all := lw_g (lw_at lw_m0 172 rfl) rfl
theorem q185 : (Jvm.Cond.instanceMethod ({ cls := "VoteWatchModel", name := "offender", desc := "(I)I" } : Jvm.MethodName)) ∈ lw_all := lw_g (lw_at lw_m0 174 rfl) rfl
theorem q186 : (Jvm.Cond.selects "VoteWatchModel" ({ cls := "VoteWatchModel", name := "offender", desc := "(I)I" } : Jvm.MethodName) ({ cls := "VoteWatchModel", name := "offender", desc := "(I)I" } : Jvm.MethodName)) ∈ lw_all := lw_g (lw_at lw_m0 175 rfl) rfl
theorem q187 : (Jvm.Cond.code ({ cls := "VoteWatchModel", name := "offender", desc := "(I)I" } : Jvm.MethodName) prog_3_method_8_code (5 : Nat) (Option.some Jvm.ClassFile.FieldType.int)) ∈ lw_all := lw_g (lw_at lw_m0 176 rfl) rfl
theorem q189 : (Jvm.Cond.instanceMethod ({ cls := "VoteWatchModel", name := "offended", desc := "()I" } : Jvm.MethodName)) ∈ lw_all := lw_g (lw_at lw_m0 178 rfl) rfl
theorem q190 : (Jvm.Cond.selects "VoteWatchModel" ({ cls := "VoteWatchModel", name := "offended", desc := "()I" } : Jvm.MethodName) ({ cls := "VoteWatchModel", name := "offended", desc := "()I" } : Jvm.MethodName)) ∈ lw_all := lw_g (lw_at lw_m0 179 rfl) rfl
theorem q191 : (Jvm.Cond.code ({ cls := "VoteWatchModel", name := "offended", desc := "()I" } : Jvm.MethodName) prog_3_method_9_code (3 : Nat) (Option.some Jvm.ClassFile.FieldType.int)) ∈ lw_all := lw_g (lw_at lw_m0 180 rfl) rfl
theorem q192 : (Jvm.Cond.methodLink "VoteWatchModel" (45 : Nat) ({ cls := "VoteWatchModel", name := "offender", desc := "(I)I" } : Jvm.MethodName)) ∈ lw_all := lw_g (lw_at lw_m0 181 rfl) rfl
theorem q194 : (Jvm.Cond.instanceMethod ({ cls := "VoteWatchModel", name := "justified", desc := "(I)I" } : Jvm.MethodName)) ∈ lw_all := lw_g (lw_at lw_m0 183 rfl) rfl
theorem q195 : (Jvm.Cond.selects "VoteWatchModel" ({ cls := "VoteWatchModel", name := "justified", desc := "(I)I" } : Jvm.MethodName) ({ cls := "VoteWatchModel", name := "justified", desc := "(I)I" } : Jvm.MethodName)) ∈ lw_all := lw_g (lw_at lw_m0 184 rfl) rfl
theorem q196 : (Jvm.Cond.code ({ cls := "VoteWatchModel", name := "justified", desc := "(I)I" } : Jvm.MethodName) prog_3_method_13_code (2 : Nat) (Option.some Jvm.ClassFile.FieldType.int)) ∈ lw_all := lw_g (lw_at lw_m0 185 rfl) rfl
theorem q197 : (Jvm.Cond.methodLink "VoteWatchModel" (61 : Nat) ({ cls := "VoteWatchModel", name := "justify", desc := "()V" } : Jvm.MethodName)) ∈ lw_all := lw_g (lw_at lw_m0 186 rfl) rfl
theorem q198 : (Jvm.Cond.privateMethod ({ cls := "VoteWatchModel", name := "justify", desc := "()V" } : Jvm.MethodName)) ∈ lw_tbl := lw_at lw_m0 187 rfl
theorem q199 : (Jvm.Cond.instanceMethod ({ cls := "VoteWatchModel", name := "justify", desc := "()V" } : Jvm.MethodName)) ∈ lw_all := lw_g (lw_at lw_m0 188 rfl) rfl
theorem q200 : (Jvm.Cond.code ({ cls := "VoteWatchModel", name := "justify", desc := "()V" } : Jvm.MethodName) prog_3_method_12_code (4 : Nat) (Option.none : Option Jvm.ClassFile.FieldType)) ∈ lw_all := lw_g (lw_at lw_m0 189 rfl) rfl
theorem q201 : (Jvm.Cond.methodLink "VoteWatchModel" (57 : Nat) ({ cls := "VoteWatchModel", name := "supported", desc := "(II)Z" } : Jvm.MethodName)) ∈ lw_all := lw_g (lw_at lw_m0 190 rfl) rfl
theorem q202 : (Jvm.Cond.privateMethod ({ cls := "VoteWatchModel", name := "supported", desc := "(II)Z" } : Jvm.MethodName)) ∈ lw_tbl := lw_at lw_m0 191 rfl
theorem q203 : (Jvm.Cond.instanceMethod ({ cls := "VoteWatchModel", name := "supported", desc := "(II)Z" } : Jvm.MethodName)) ∈ lw_all := lw_g (lw_at lw_m0 192 rfl) rfl
theorem q204 : (Jvm.Cond.code ({ cls := "VoteWatchModel", name := "supported", desc := "(II)Z" } : Jvm.MethodName) prog_3_method_11_code (3 : Nat) (Option.some Jvm.ClassFile.FieldType.boolean)) ∈ lw_all := lw_g (lw_at lw_m0 193 rfl) rfl
theorem q205 : (Jvm.Cond.methodLink "VoteWatchModel" (49 : Nat) ({ cls := "VoteWatchModel", name := "support", desc := "(II)I" } : Jvm.MethodName)) ∈ lw_all := lw_g (lw_at lw_m0 194 rfl) rfl
theorem q206 : (Jvm.Cond.instanceMethod ({ cls := "VoteWatchModel", name := "support", desc := "(II)I" } : Jvm.MethodName)) ∈ lw_all := lw_g (lw_at lw_m0 195 rfl) rfl
theorem q207 : (Jvm.Cond.selects "VoteWatchModel" ({ cls := "VoteWatchModel", name := "support", desc := "(II)I" } : Jvm.MethodName) ({ cls := "VoteWatchModel", name := "support", desc := "(II)I" } : Jvm.MethodName)) ∈ lw_all := lw_g (lw_at lw_m0 196 rfl) rfl
theorem q208 : (Jvm.Cond.code ({ cls := "VoteWatchModel", name := "support", desc := "(II)I" } : Jvm.MethodName) prog_3_method_17_code (5 : Nat) (Option.some Jvm.ClassFile.FieldType.int)) ∈ lw_all := lw_g (lw_at lw_m0 197 rfl) rfl
theorem q209 : (Jvm.Cond.methodLink "VoteWatchModel" (53 : Nat) ({ cls := "VoteWatchModel", name := "total", desc := "()I" } : Jvm.MethodName)) ∈ lw_all := lw_g (lw_at lw_m0 198 rfl) rfl
theorem q210 : (Jvm.Cond.privateMethod ({ cls := "VoteWatchModel", name := "total", desc := "()I" } : Jvm.MethodName)) ∈ lw_tbl := lw_at lw_m0 199 rfl
theorem q211 : (Jvm.Cond.instanceMethod ({ cls := "VoteWatchModel", name := "total", desc := "()I" } : Jvm.MethodName)) ∈ lw_all := lw_g (lw_at lw_m0 200 rfl) rfl
theorem q212 : (Jvm.Cond.code ({ cls := "VoteWatchModel", name := "total", desc := "()I" } : Jvm.MethodName) prog_3_method_10_code (3 : Nat) (Option.some Jvm.ClassFile.FieldType.int)) ∈ lw_all := lw_g (lw_at lw_m0 201 rfl) rfl
theorem q214 : (Jvm.Cond.instanceMethod ({ cls := "VoteWatchModel", name := "isFinal", desc := "(I)I" } : Jvm.MethodName)) ∈ lw_all := lw_g (lw_at lw_m0 203 rfl) rfl
theorem q215 : (Jvm.Cond.selects "VoteWatchModel" ({ cls := "VoteWatchModel", name := "isFinal", desc := "(I)I" } : Jvm.MethodName) ({ cls := "VoteWatchModel", name := "isFinal", desc := "(I)I" } : Jvm.MethodName)) ∈ lw_all := lw_g (lw_at lw_m0 204 rfl) rfl
theorem q216 : (Jvm.Cond.code ({ cls := "VoteWatchModel", name := "isFinal", desc := "(I)I" } : Jvm.MethodName) prog_3_method_14_code (4 : Nat) (Option.some Jvm.ClassFile.FieldType.int)) ∈ lw_all := lw_g (lw_at lw_m0 205 rfl) rfl
theorem q218 : (Jvm.Cond.instanceMethod ({ cls := "VoteWatchModel", name := "highest", desc := "()I" } : Jvm.MethodName)) ∈ lw_all := lw_g (lw_at lw_m0 207 rfl) rfl
theorem q219 : (Jvm.Cond.selects "VoteWatchModel" ({ cls := "VoteWatchModel", name := "highest", desc := "()I" } : Jvm.MethodName) ({ cls := "VoteWatchModel", name := "highest", desc := "()I" } : Jvm.MethodName)) ∈ lw_all := lw_g (lw_at lw_m0 208 rfl) rfl
theorem q220 : (Jvm.Cond.code ({ cls := "VoteWatchModel", name := "highest", desc := "()I" } : Jvm.MethodName) prog_3_method_15_code (3 : Nat) (Option.some Jvm.ClassFile.FieldType.int)) ∈ lw_all := lw_g (lw_at lw_m0 209 rfl) rfl
theorem q222 : (Jvm.Cond.instanceMethod ({ cls := "VoteWatchModel", name := "justifiedIn", desc := "(I)I" } : Jvm.MethodName)) ∈ lw_all := lw_g (lw_at lw_m0 211 rfl) rfl
theorem q223 : (Jvm.Cond.selects "VoteWatchModel" ({ cls := "VoteWatchModel", name := "justifiedIn", desc := "(I)I" } : Jvm.MethodName) ({ cls := "VoteWatchModel", name := "justifiedIn", desc := "(I)I" } : Jvm.MethodName)) ∈ lw_all := lw_g (lw_at lw_m0 212 rfl) rfl
theorem q224 : (Jvm.Cond.code ({ cls := "VoteWatchModel", name := "justifiedIn", desc := "(I)I" } : Jvm.MethodName) prog_3_method_16_code (4 : Nat) (Option.some Jvm.ClassFile.FieldType.int)) ∈ lw_all := lw_g (lw_at lw_m0 213 rfl) rfl
theorem q227 : (Jvm.Cond.instanceMethod ({ cls := "VoteWatchModel", name := "votes", desc := "(I)I" } : Jvm.MethodName)) ∈ lw_all := lw_g (lw_at lw_m0 216 rfl) rfl
theorem q228 : (Jvm.Cond.selects "VoteWatchModel" ({ cls := "VoteWatchModel", name := "votes", desc := "(I)I" } : Jvm.MethodName) ({ cls := "VoteWatchModel", name := "votes", desc := "(I)I" } : Jvm.MethodName)) ∈ lw_all := lw_g (lw_at lw_m0 217 rfl) rfl
theorem q229 : (Jvm.Cond.code ({ cls := "VoteWatchModel", name := "votes", desc := "(I)I" } : Jvm.MethodName) prog_3_method_18_code (4 : Nat) (Option.some Jvm.ClassFile.FieldType.int)) ∈ lw_all := lw_g (lw_at lw_m0 218 rfl) rfl
theorem in_X1 : ∀ w ∈ wsX10, w ∈ lw_all := lw_in wsX10 [150, 152, 154, 156, 158, 160] (by decide +kernel) (by decide +kernel)
end
section
/-! java/lang/Object -/
set_option maxRecDepth 100000
def RJ0 : String := "java/lang/Object"
abbrev cJ0_init : ByteArray := object_method_1_code
def yJ0_init : MethodName := ⟨RJ0, "<init>", "()V"⟩
theorem dJ0_init_0 : decode cJ0_init 0 = .ok (.return_, 1) := by decide +kernel
theorem q20 : (Jvm.Cond.instanceMethod ({ cls := "java/lang/Object", name := "<init>", desc := "()V" } : Jvm.MethodName)) ∈ lw_all := lw_g (lw_at lw_m0 9 rfl) rfl
theorem q21 : (Jvm.Cond.code ({ cls := "java/lang/Object", name := "<init>", desc := "()V" } : Jvm.MethodName) object_method_1_code (1 : Nat) (Option.none : Option Jvm.ClassFile.FieldType)) ∈ lw_all := lw_g (lw_at lw_m0 10 rfl) rfl
theorem q62 : (Jvm.Cond.arrayClass Jvm.ClassFile.FieldType.int) ∈ lw_all := lw_g (lw_at lw_m0 51 rfl) rfl
set_option maxRecDepth 100000
theorem q63 : (Jvm.Cond.arrayClass Jvm.ClassFile.FieldType.boolean) ∈ lw_all := lw_g (lw_at lw_m0 52 rfl) rfl
theorem q11 : (Jvm.Cond.initialized "VoteWatchLaw") ∈ lw_all := lw_g (lw_at lw_m0 0 rfl) rfl
set_option maxRecDepth 100000
theorem q14 : (Jvm.Cond.classLink "VoteWatchLaw" (7 : Nat) "VoteWatch") ∈ lw_all := lw_g (lw_at lw_m0 3 rfl) rfl
theorem q16 : (Jvm.Cond.methodLink "VoteWatchLaw" (9 : Nat) ({ cls := "VoteWatch", name := "<init>", desc := "()V" } : Jvm.MethodName)) ∈ lw_all := lw_g (lw_at lw_m0 5 rfl) rfl
theorem q64 : (Jvm.Cond.methodLink "VoteWatchLaw" (13 : Nat) ({ cls := "VoteWatch", name := "stake", desc := "(II)I" } : Jvm.MethodName)) ∈ lw_all := lw_g (lw_at lw_m0 53 rfl) rfl
theorem q71 : (Jvm.Cond.methodLink "VoteWatchLaw" (18 : Nat) ({ cls := "VoteWatch", name := "vote", desc := "(III)I" } : Jvm.MethodName)) ∈ lw_all := lw_g (lw_at lw_m0 60 rfl) rfl
theorem q94 : (Jvm.Cond.methodLink "VoteWatchLaw" (23 : Nat) ({ cls := "VoteWatch", name := "offender", desc := "(I)I" } : Jvm.MethodName)) ∈ lw_all := lw_g (lw_at lw_m0 83 rfl) rfl
theorem q98 : (Jvm.Cond.methodLink "VoteWatchLaw" (28 : Nat) ({ cls := "VoteWatch", name := "offended", desc := "()I" } : Jvm.MethodName)) ∈ lw_all := lw_g (lw_at lw_m0 87 rfl) rfl
theorem q106 : (Jvm.Cond.methodLink "VoteWatchLaw" (33 : Nat) ({ cls := "VoteWatch", name := "justified", desc := "(I)I" } : Jvm.MethodName)) ∈ lw_all := lw_g (lw_at lw_m0 95 rfl) rfl
theorem q118 : (Jvm.Cond.methodLink "VoteWatchLaw" (37 : Nat) ({ cls := "VoteWatch", name := "isFinal", desc := "(I)I" } : Jvm.MethodName)) ∈ lw_all := lw_g (lw_at lw_m0 107 rfl) rfl
theorem q122 : (Jvm.Cond.methodLink "VoteWatchLaw" (41 : Nat) ({ cls := "VoteWatch", name := "highest", desc := "()I" } : Jvm.MethodName)) ∈ lw_all := lw_g (lw_at lw_m0 111 rfl) rfl
theorem q126 : (Jvm.Cond.methodLink "VoteWatchLaw" (45 : Nat) ({ cls := "VoteWatch", name := "justifiedIn", desc := "(I)I" } : Jvm.MethodName)) ∈ lw_all := lw_g (lw_at lw_m0 115 rfl) rfl
theorem q130 : (Jvm.Cond.methodLink "VoteWatchLaw" (49 : Nat) ({ cls := "VoteWatch", name := "support", desc := "(II)I" } : Jvm.MethodName)) ∈ lw_all := lw_g (lw_at lw_m0 119 rfl) rfl
theorem q134 : (Jvm.Cond.methodLink "VoteWatchLaw" (53 : Nat) ({ cls := "VoteWatch", name := "votes", desc := "(I)I" } : Jvm.MethodName)) ∈ lw_all := lw_g (lw_at lw_m0 123 rfl) rfl
theorem q138 : (Jvm.Cond.classLink "VoteWatchLaw" (10 : Nat) "VoteWatchModel") ∈ lw_all := lw_g (lw_at lw_m0 127 rfl) rfl
theorem q140 : (Jvm.Cond.methodLink "VoteWatchLaw" (12 : Nat) ({ cls := "VoteWatchModel", name := "<init>", desc := "()V" } : Jvm.MethodName)) ∈ lw_all := lw_g (lw_at lw_m0 129 rfl) rfl
theorem q163 : (Jvm.Cond.methodLink "VoteWatchLaw" (17 : Nat) ({ cls := "VoteWatchModel", name := "stake", desc := "(II)I" } : Jvm.MethodName)) ∈ lw_all := lw_g (lw_at lw_m0 152 rfl) rfl
theorem q170 : (Jvm.Cond.methodLink "VoteWatchLaw" (22 : Nat) ({ cls := "VoteWatchModel", name := "vote", desc := "(III)I" } : Jvm.MethodName)) ∈ lw_all := lw_g (lw_at lw_m0 159 rfl) rfl
theorem q184 : (Jvm.Cond.methodLink "VoteWatchLaw" (27 : Nat) ({ cls := "VoteWatchModel", name := "offender", desc := "(I)I" } : Jvm.MethodName)) ∈ lw_all := lw_g (lw_at lw_m0 173 rfl) rfl
theorem q188 : (Jvm.Cond.methodLink "VoteWatchLaw" (32 : Nat) ({ cls := "VoteWatchModel", name := "offended", desc := "()I" } : Jvm.MethodName)) ∈ lw_all := lw_g (lw_at lw_m0 177 rfl) rfl
theorem q193 : (Jvm.Cond.methodLink "VoteWatchLaw" (36 : Nat) ({ cls := "VoteWatchModel", name := "justified", desc := "(I)I" } : Jvm.MethodName)) ∈ lw_all := lw_g (lw_at lw_m0 182 rfl) rfl
theorem q213 : (Jvm.Cond.methodLink "VoteWatchLaw" (40 : Nat) ({ cls := "VoteWatchModel", name := "isFinal", desc := "(I)I" } : Jvm.MethodName)) ∈ lw_all := lw_g (lw_at lw_m0 202 rfl) rfl
theorem q217 : (Jvm.Cond.methodLink "VoteWatchLaw" (44 : Nat) ({ cls := "VoteWatchModel", name := "highest", desc := "()I" } : Jvm.MethodName)) ∈ lw_all := lw_g (lw_at lw_m0 206 rfl) rfl
theorem q221 : (Jvm.Cond.methodLink "VoteWatchLaw" (48 : Nat) ({ cls := "VoteWatchModel", name := "justifiedIn", desc := "(I)I" } : Jvm.MethodName)) ∈ lw_all := lw_g (lw_at lw_m0 210 rfl) rfl
theorem q225 : (Jvm.Cond.methodLink "VoteWatchLaw" (52 : Nat) ({ cls := "VoteWatchModel", name := "support", desc := "(II)I" } : Jvm.MethodName)) ∈ lw_all := lw_g (lw_at lw_m0 214 rfl) rfl
theorem q226 : (Jvm.Cond.methodLink "VoteWatchLaw" (56 : Nat) ({ cls := "VoteWatchModel", name := "votes", desc := "(I)I" } : Jvm.MethodName)) ∈ lw_all := lw_g (lw_at lw_m0 215 rfl) rfl
/-! the law's own entry -/
set_option maxRecDepth 100000
abbrev cL_law : ByteArray := code
theorem dL_law_0 : decode cL_law 0 = .ok (.new 7, 3) := by decide +kernel
theorem dL_law_3 : decode cL_law 3 = .ok (.dup, 1) := by decide +kernel
theorem dL_law_4 : decode cL_law 4 = .ok (.invokespecial 9, 3) := by decide +kernel
theorem dL_law_7 : decode cL_law 7 = .ok (.astore_n 1, 1) := by decide +kernel
theorem dL_law_8 : decode cL_law 8 = .ok (.new 10, 3) := by decide +kernel
theorem dL_law_11 : decode cL_law 11 = .ok (.dup, 1) := by decide +kernel
theorem dL_law_12 : decode cL_law 12 = .ok (.invokespecial 12, 3) := by decide +kernel
theorem dL_law_15 : decode cL_law 15 = .ok (.astore_n 2, 1) := by decide +kernel
theorem dL_law_16 : decode cL_law 16 = .ok (.iconst 0, 1) := by decide +kernel
theorem dL_law_17 : decode cL_law 17 = .ok (.istore_n 3, 1) := by decide +kernel
theorem dL_law_18 : decode cL_law 18 = .ok (.iload_n 3, 1) := by decide +kernel
theorem dL_law_19 : decode cL_law 19 = .ok (.aload_n 0, 1) := by decide +kernel
theorem dL_law_20 : decode cL_law 20 = .ok (.arraylength, 1) := by decide +kernel
theorem dL_law_21 : decode cL_law 21 = .ok (.iconst 4, 1) := by decide +kernel
theorem dL_law_22 : decode cL_law 22 = .ok (.isub, 1) := by decide +kernel
theorem dL_law_23 : decode cL_law 23 = .ok (.if_icmp .gt 321, 3) := by decide +kernel
theorem dL_law_26 : decode cL_law 26 = .ok (.aload_n 0, 1) := by decide +kernel
theorem dL_law_27 : decode cL_law 27 = .ok (.iload_n 3, 1) := by decide +kernel
theorem dL_law_28 : decode cL_law 28 = .ok (.iaload, 1) := by decide +kernel
theorem dL_law_29 : decode cL_law 29 = .ok (.bipush 15, 2) := by decide +kernel
theorem dL_law_31 : decode cL_law 31 = .ok (.iand, 1) := by decide +kernel
theorem dL_law_32 : decode cL_law 32 = .ok (.tableswitch 306 0 9 #[56, 89, 132, 155, 168, 191, 214, 227, 250, 283], 56) := by decide +kernel
theorem dL_law_88 : decode cL_law 88 = .ok (.aload_n 1, 1) := by decide +kernel
theorem dL_law_89 : decode cL_law 89 = .ok (.aload_n 0, 1) := by decide +kernel
theorem dL_law_90 : decode cL_law 90 = .ok (.iload_n 3, 1) := by decide +kernel
theorem dL_law_91 : decode cL_law 91 = .ok (.iconst 1, 1) := by decide +kernel
theorem dL_law_92 : decode cL_law 92 = .ok (.iadd, 1) := by decide +kernel
theorem dL_law_93 : decode cL_law 93 = .ok (.iaload, 1) := by decide +kernel
theorem dL_law_94 : decode cL_law 94 = .ok (.aload_n 0, 1) := by decide +kernel
theorem dL_law_95 : decode cL_law 95 = .ok (.iload_n 3, 1) := by decide +kernel
theorem dL_law_96 : decode cL_law 96 = .ok (.iconst 2, 1) := by decide +kernel
theorem dL_law_97 : decode cL_law 97 = .ok (.iadd, 1) := by decide +kernel
theorem dL_law_98 : decode cL_law 98 = .ok (.iaload, 1) := by decide +kernel
theorem dL_law_99 : decode cL_law 99 = .ok (.invokevirtual 13, 3) := by decide +kernel
theorem dL_law_102 : decode cL_law 102 = .ok (.aload_n 2, 1) := by decide +kernel
theorem dL_law_103 : decode cL_law 103 = .ok (.aload_n 0, 1) := by decide +kernel
theorem dL_law_104 : decode cL_law 104 = .ok (.iload_n 3, 1) := by decide +kernel
theorem dL_law_105 : decode cL_law 105 = .ok (.iconst 1, 1) := by decide +kernel
theorem dL_law_106 : decode cL_law 106 = .ok (.iadd, 1) := by decide +kernel
theorem dL_law_107 : decode cL_law 107 = .ok (.iaload, 1) := by decide +kernel
theorem dL_law_108 : decode cL_law 108 = .ok (.aload_n 0, 1) := by decide +kernel
theorem dL_law_109 : decode cL_law 109 = .ok (.iload_n 3, 1) := by decide +kernel
theorem dL_law_110 : decode cL_law 110 = .ok (.iconst 2, 1) := by decide +kernel
theorem dL_law_111 : decode cL_law 111 = .ok (.iadd, 1) := by decide +kernel
theorem dL_law_112 : decode cL_law 112 = .ok (.iaload, 1) := by decide +kernel
theorem dL_law_113 : decode cL_law 113 = .ok (.invokevirtual 17, 3) := by decide +kernel
theorem dL_law_116 : decode cL_law 116 = .ok (.if_icmp .eq 222, 3) := by decide +kernel
theorem dL_law_119 : decode cL_law 119 = .ok (.iconst 0, 1) := by decide +kernel
theorem dL_law_120 : decode cL_law 120 = .ok (.ireturn, 1) := by decide +kernel
theorem dL_law_121 : decode cL_law 121 = .ok (.aload_n 1, 1) := by decide +kernel
theorem dL_law_122 : decode cL_law 122 = .ok (.aload_n 0, 1) := by decide +kernel
theorem dL_law_123 : decode cL_law 123 = .ok (.iload_n 3, 1) := by decide +kernel
theorem dL_law_124 : decode cL_law 124 = .ok (.iconst 1, 1) := by decide +kernel
theorem dL_law_125 : decode cL_law 125 = .ok (.iadd, 1) := by decide +kernel
theorem dL_law_126 : decode cL_law 126 = .ok (.iaload, 1) := by decide +kernel
theorem dL_law_127 : decode cL_law 127 = .ok (.aload_n 0, 1) := by decide +kernel
theorem dL_law_128 : decode cL_law 128 = .ok (.iload_n 3, 1) := by decide +kernel
theorem dL_law_129 : decode cL_law 129 = .ok (.iconst 2, 1) := by decide +kernel
theorem dL_law_130 : decode cL_law 130 = .ok (.iadd, 1) := by decide +kernel
theorem dL_law_131 : decode cL_law 131 = .ok (.iaload, 1) := by decide +kernel
theorem dL_law_132 : decode cL_law 132 = .ok (.aload_n 0, 1) := by decide +kernel
theorem dL_law_133 : decode cL_law 133 = .ok (.iload_n 3, 1) := by decide +kernel
theorem dL_law_134 : decode cL_law 134 = .ok (.iconst 3, 1) := by decide +kernel
theorem dL_law_135 : decode cL_law 135 = .ok (.iadd, 1) := by decide +kernel
theorem dL_law_136 : decode cL_law 136 = .ok (.iaload, 1) := by decide +kernel
theorem dL_law_137 : decode cL_law 137 = .ok (.invokevirtual 18, 3) := by decide +kernel
theorem dL_law_140 : decode cL_law 140 = .ok (.aload_n 2, 1) := by decide +kernel
theorem dL_law_141 : decode cL_law 141 = .ok (.aload_n 0, 1) := by decide +kernel
theorem dL_law_142 : decode cL_law 142 = .ok (.iload_n 3, 1) := by decide +kernel
theorem dL_law_143 : decode cL_law 143 = .ok (.iconst 1, 1) := by decide +kernel
theorem dL_law_144 : decode cL_law 144 = .ok (.iadd, 1) := by decide +kernel
theorem dL_law_145 : decode cL_law 145 = .ok (.iaload, 1) := by decide +kernel
theorem dL_law_146 : decode cL_law 146 = .ok (.aload_n 0, 1) := by decide +kernel
theorem dL_law_147 : decode cL_law 147 = .ok (.iload_n 3, 1) := by decide +kernel
theorem dL_law_148 : decode cL_law 148 = .ok (.iconst 2, 1) := by decide +kernel
theorem dL_law_149 : decode cL_law 149 = .ok (.iadd, 1) := by decide +kernel
theorem dL_law_150 : decode cL_law 150 = .ok (.iaload, 1) := by decide +kernel
theorem dL_law_151 : decode cL_law 151 = .ok (.aload_n 0, 1) := by decide +kernel
theorem dL_law_152 : decode cL_law 152 = .ok (.iload_n 3, 1) := by decide +kernel
theorem dL_law_153 : decode cL_law 153 = .ok (.iconst 3, 1) := by decide +kernel
theorem dL_law_154 : decode cL_law 154 = .ok (.iadd, 1) := by decide +kernel
theorem dL_law_155 : decode cL_law 155 = .ok (.iaload, 1) := by decide +kernel
theorem dL_law_156 : decode cL_law 156 = .ok (.invokevirtual 22, 3) := by decide +kernel
theorem dL_law_159 : decode cL_law 159 = .ok (.if_icmp .eq 179, 3) := by decide +kernel
theorem dL_law_162 : decode cL_law 162 = .ok (.iconst 0, 1) := by decide +kernel
theorem dL_law_163 : decode cL_law 163 = .ok (.ireturn, 1) := by decide +kernel
theorem dL_law_164 : decode cL_law 164 = .ok (.aload_n 1, 1) := by decide +kernel
theorem dL_law_165 : decode cL_law 165 = .ok (.aload_n 0, 1) := by decide +kernel
theorem dL_law_166 : decode cL_law 166 = .ok (.iload_n 3, 1) := by decide +kernel
theorem dL_law_167 : decode cL_law 167 = .ok (.iconst 1, 1) := by decide +kernel
theorem dL_law_168 : decode cL_law 168 = .ok (.iadd, 1) := by decide +kernel
theorem dL_law_169 : decode cL_law 169 = .ok (.iaload, 1) := by decide +kernel
theorem dL_law_170 : decode cL_law 170 = .ok (.invokevirtual 23, 3) := by decide +kernel
theorem dL_law_173 : decode cL_law 173 = .ok (.aload_n 2, 1) := by decide +kernel
theorem dL_law_174 : decode cL_law 174 = .ok (.aload_n 0, 1) := by decide +kernel
theorem dL_law_175 : decode cL_law 175 = .ok (.iload_n 3, 1) := by decide +kernel
theorem dL_law_176 : decode cL_law 176 = .ok (.iconst 1, 1) := by decide +kernel
theorem dL_law_177 : decode cL_law 177 = .ok (.iadd, 1) := by decide +kernel
theorem dL_law_178 : decode cL_law 178 = .ok (.iaload, 1) := by decide +kernel
theorem dL_law_179 : decode cL_law 179 = .ok (.invokevirtual 27, 3) := by decide +kernel
theorem dL_law_182 : decode cL_law 182 = .ok (.if_icmp .eq 156, 3) := by decide +kernel
theorem dL_law_185 : decode cL_law 185 = .ok (.iconst 0, 1) := by decide +kernel
theorem dL_law_186 : decode cL_law 186 = .ok (.ireturn, 1) := by decide +kernel
theorem dL_law_187 : decode cL_law 187 = .ok (.aload_n 1, 1) := by decide +kernel
theorem dL_law_188 : decode cL_law 188 = .ok (.invokevirtual 28, 3) := by decide +kernel
theorem dL_law_191 : decode cL_law 191 = .ok (.aload_n 2, 1) := by decide +kernel
theorem dL_law_192 : decode cL_law 192 = .ok (.invokevirtual 32, 3) := by decide +kernel
theorem dL_law_195 : decode cL_law 195 = .ok (.if_icmp .eq 143, 3) := by decide +kernel
theorem dL_law_198 : decode cL_law 198 = .ok (.iconst 0, 1) := by decide +kernel
theorem dL_law_199 : decode cL_law 199 = .ok (.ireturn, 1) := by decide +kernel
theorem dL_law_200 : decode cL_law 200 = .ok (.aload_n 1, 1) := by decide +kernel
theorem dL_law_201 : decode cL_law 201 = .ok (.aload_n 0, 1) := by decide +kernel
theorem dL_law_202 : decode cL_law 202 = .ok (.iload_n 3, 1) := by decide +kernel
theorem dL_law_203 : decode cL_law 203 = .ok (.iconst 1, 1) := by decide +kernel
theorem dL_law_204 : decode cL_law 204 = .ok (.iadd, 1) := by decide +kernel
theorem dL_law_205 : decode cL_law 205 = .ok (.iaload, 1) := by decide +kernel
theorem dL_law_206 : decode cL_law 206 = .ok (.invokevirtual 33, 3) := by decide +kernel
theorem dL_law_209 : decode cL_law 209 = .ok (.aload_n 2, 1) := by decide +kernel
theorem dL_law_210 : decode cL_law 210 = .ok (.aload_n 0, 1) := by decide +kernel
theorem dL_law_211 : decode cL_law 211 = .ok (.iload_n 3, 1) := by decide +kernel
theorem dL_law_212 : decode cL_law 212 = .ok (.iconst 1, 1) := by decide +kernel
theorem dL_law_213 : decode cL_law 213 = .ok (.iadd, 1) := by decide +kernel
theorem dL_law_214 : decode cL_law 214 = .ok (.iaload, 1) := by decide +kernel
theorem dL_law_215 : decode cL_law 215 = .ok (.invokevirtual 36, 3) := by decide +kernel
theorem dL_law_218 : decode cL_law 218 = .ok (.if_icmp .eq 120, 3) := by decide +kernel
theorem dL_law_221 : decode cL_law 221 = .ok (.iconst 0, 1) := by decide +kernel
theorem dL_law_222 : decode cL_law 222 = .ok (.ireturn, 1) := by decide +kernel
theorem dL_law_223 : decode cL_law 223 = .ok (.aload_n 1, 1) := by decide +kernel
theorem dL_law_224 : decode cL_law 224 = .ok (.aload_n 0, 1) := by decide +kernel
theorem dL_law_225 : decode cL_law 225 = .ok (.iload_n 3, 1) := by decide +kernel
theorem dL_law_226 : decode cL_law 226 = .ok (.iconst 1, 1) := by decide +kernel
theorem dL_law_227 : decode cL_law 227 = .ok (.iadd, 1) := by decide +kernel
theorem dL_law_228 : decode cL_law 228 = .ok (.iaload, 1) := by decide +kernel
theorem dL_law_229 : decode cL_law 229 = .ok (.invokevirtual 37, 3) := by decide +kernel
theorem dL_law_232 : decode cL_law 232 = .ok (.aload_n 2, 1) := by decide +kernel
theorem dL_law_233 : decode cL_law 233 = .ok (.aload_n 0, 1) := by decide +kernel
theorem dL_law_234 : decode cL_law 234 = .ok (.iload_n 3, 1) := by decide +kernel
theorem dL_law_235 : decode cL_law 235 = .ok (.iconst 1, 1) := by decide +kernel
theorem dL_law_236 : decode cL_law 236 = .ok (.iadd, 1) := by decide +kernel
theorem dL_law_237 : decode cL_law 237 = .ok (.iaload, 1) := by decide +kernel
theorem dL_law_238 : decode cL_law 238 = .ok (.invokevirtual 40, 3) := by decide +kernel
theorem dL_law_241 : decode cL_law 241 = .ok (.if_icmp .eq 97, 3) := by decide +kernel
theorem dL_law_244 : decode cL_law 244 = .ok (.iconst 0, 1) := by decide +kernel
theorem dL_law_245 : decode cL_law 245 = .ok (.ireturn, 1) := by decide +kernel
theorem dL_law_246 : decode cL_law 246 = .ok (.aload_n 1, 1) := by decide +kernel
theorem dL_law_247 : decode cL_law 247 = .ok (.invokevirtual 41, 3) := by decide +kernel
theorem dL_law_250 : decode cL_law 250 = .ok (.aload_n 2, 1) := by decide +kernel
theorem dL_law_251 : decode cL_law 251 = .ok (.invokevirtual 44, 3) := by decide +kernel
theorem dL_law_254 : decode cL_law 254 = .ok (.if_icmp .eq 84, 3) := by decide +kernel
theorem dL_law_257 : decode cL_law 257 = .ok (.iconst 0, 1) := by decide +kernel
theorem dL_law_258 : decode cL_law 258 = .ok (.ireturn, 1) := by decide +kernel
theorem dL_law_259 : decode cL_law 259 = .ok (.aload_n 1, 1) := by decide +kernel
theorem dL_law_260 : decode cL_law 260 = .ok (.aload_n 0, 1) := by decide +kernel
theorem dL_law_261 : decode cL_law 261 = .ok (.iload_n 3, 1) := by decide +kernel
theorem dL_law_262 : decode cL_law 262 = .ok (.iconst 1, 1) := by decide +kernel
theorem dL_law_263 : decode cL_law 263 = .ok (.iadd, 1) := by decide +kernel
theorem dL_law_264 : decode cL_law 264 = .ok (.iaload, 1) := by decide +kernel
theorem dL_law_265 : decode cL_law 265 = .ok (.invokevirtual 45, 3) := by decide +kernel
theorem dL_law_268 : decode cL_law 268 = .ok (.aload_n 2, 1) := by decide +kernel
theorem dL_law_269 : decode cL_law 269 = .ok (.aload_n 0, 1) := by decide +kernel
theorem dL_law_270 : decode cL_law 270 = .ok (.iload_n 3, 1) := by decide +kernel
theorem dL_law_271 : decode cL_law 271 = .ok (.iconst 1, 1) := by decide +kernel
theorem dL_law_272 : decode cL_law 272 = .ok (.iadd, 1) := by decide +kernel
theorem dL_law_273 : decode cL_law 273 = .ok (.iaload, 1) := by decide +kernel
theorem dL_law_274 : decode cL_law 274 = .ok (.invokevirtual 48, 3) := by decide +kernel
theorem dL_law_277 : decode cL_law 277 = .ok (.if_icmp .eq 61, 3) := by decide +kernel
theorem dL_law_280 : decode cL_law 280 = .ok (.iconst 0, 1) := by decide +kernel
theorem dL_law_281 : decode cL_law 281 = .ok (.ireturn, 1) := by decide +kernel
theorem dL_law_282 : decode cL_law 282 = .ok (.aload_n 1, 1) := by decide +kernel
theorem dL_law_283 : decode cL_law 283 = .ok (.aload_n 0, 1) := by decide +kernel
theorem dL_law_284 : decode cL_law 284 = .ok (.iload_n 3, 1) := by decide +kernel
theorem dL_law_285 : decode cL_law 285 = .ok (.iconst 1, 1) := by decide +kernel
theorem dL_law_286 : decode cL_law 286 = .ok (.iadd, 1) := by decide +kernel
theorem dL_law_287 : decode cL_law 287 = .ok (.iaload, 1) := by decide +kernel
theorem dL_law_288 : decode cL_law 288 = .ok (.aload_n 0, 1) := by decide +kernel
theorem dL_law_289 : decode cL_law 289 = .ok (.iload_n 3, 1) := by decide +kernel
theorem dL_law_290 : decode cL_law 290 = .ok (.iconst 2, 1) := by decide +kernel
theorem dL_law_291 : decode cL_law 291 = .ok (.iadd, 1) := by decide +kernel
theorem dL_law_292 : decode cL_law 292 = .ok (.iaload, 1) := by decide +kernel
theorem dL_law_293 : decode cL_law 293 = .ok (.invokevirtual 49, 3) := by decide +kernel
theorem dL_law_296 : decode cL_law 296 = .ok (.aload_n 2, 1) := by decide +kernel
theorem dL_law_297 : decode cL_law 297 = .ok (.aload_n 0, 1) := by decide +kernel
theorem dL_law_298 : decode cL_law 298 = .ok (.iload_n 3, 1) := by decide +kernel
theorem dL_law_299 : decode cL_law 299 = .ok (.iconst 1, 1) := by decide +kernel
theorem dL_law_300 : decode cL_law 300 = .ok (.iadd, 1) := by decide +kernel
theorem dL_law_301 : decode cL_law 301 = .ok (.iaload, 1) := by decide +kernel
theorem dL_law_302 : decode cL_law 302 = .ok (.aload_n 0, 1) := by decide +kernel
theorem dL_law_303 : decode cL_law 303 = .ok (.iload_n 3, 1) := by decide +kernel
theorem dL_law_304 : decode cL_law 304 = .ok (.iconst 2, 1) := by decide +kernel
theorem dL_law_305 : decode cL_law 305 = .ok (.iadd, 1) := by decide +kernel
theorem dL_law_306 : decode cL_law 306 = .ok (.iaload, 1) := by decide +kernel
theorem dL_law_307 : decode cL_law 307 = .ok (.invokevirtual 52, 3) := by decide +kernel
theorem dL_law_310 : decode cL_law 310 = .ok (.if_icmp .eq 28, 3) := by decide +kernel
theorem dL_law_313 : decode cL_law 313 = .ok (.iconst 0, 1) := by decide +kernel
theorem dL_law_314 : decode cL_law 314 = .ok (.ireturn, 1) := by decide +kernel
theorem dL_law_315 : decode cL_law 315 = .ok (.aload_n 1, 1) := by decide +kernel
theorem dL_law_316 : decode cL_law 316 = .ok (.aload_n 0, 1) := by decide +kernel
theorem dL_law_317 : decode cL_law 317 = .ok (.iload_n 3, 1) := by decide +kernel
theorem dL_law_318 : decode cL_law 318 = .ok (.iconst 1, 1) := by decide +kernel
theorem dL_law_319 : decode cL_law 319 = .ok (.iadd, 1) := by decide +kernel
theorem dL_law_320 : decode cL_law 320 = .ok (.iaload, 1) := by decide +kernel
theorem dL_law_321 : decode cL_law 321 = .ok (.invokevirtual 53, 3) := by decide +kernel
theorem dL_law_324 : decode cL_law 324 = .ok (.aload_n 2, 1) := by decide +kernel
theorem dL_law_325 : decode cL_law 325 = .ok (.aload_n 0, 1) := by decide +kernel
theorem dL_law_326 : decode cL_law 326 = .ok (.iload_n 3, 1) := by decide +kernel
theorem dL_law_327 : decode cL_law 327 = .ok (.iconst 1, 1) := by decide +kernel
theorem dL_law_328 : decode cL_law 328 = .ok (.iadd, 1) := by decide +kernel
theorem dL_law_329 : decode cL_law 329 = .ok (.iaload, 1) := by decide +kernel
theorem dL_law_330 : decode cL_law 330 = .ok (.invokevirtual 56, 3) := by decide +kernel
theorem dL_law_333 : decode cL_law 333 = .ok (.if_icmp .eq 5, 3) := by decide +kernel
theorem dL_law_336 : decode cL_law 336 = .ok (.iconst 0, 1) := by decide +kernel
theorem dL_law_337 : decode cL_law 337 = .ok (.ireturn, 1) := by decide +kernel
theorem dL_law_338 : decode cL_law 338 = .ok (.iinc 3 4, 3) := by decide +kernel
theorem dL_law_341 : decode cL_law 341 = .ok (.goto (-323), 3) := by decide +kernel
theorem dL_law_344 : decode cL_law 344 = .ok (.iconst 1, 1) := by decide +kernel
theorem dL_law_345 : decode cL_law 345 = .ok (.ireturn, 1) := by decide +kernel
end
section
/-! our own rows over the kit's: loads and stores by Nat places, a top of stack renamed, joins, loops, a call's start and end -/
abbrev vwCl : List vw_C := [(RX0, TX0, 13), (RX1, TX1, 6)]
section ZX
variable {p : Program} {l : Launch} {e : Env} {R : Room} {s : State} {m : MethodId} {args : Array Value} {below : List Frame} {meth : Method} {c : Code} {H : Heap} {locs : List Loc} {cells slots : Nat} {Q : State → Prop}
variable {cc : ByteArray} {pc : Nat} {ls : Array Slot} {rest : List Value} {D : va_G} {cl : List vw_C} {tys : List (ClassId × FieldType)} {ws : va_W} {a : Nat} {A : Nat → Prop} {H0 : Heap}
theorem zx_top {x y : Int32} (h : x = y) (k : W p l e R s m args below meth c H locs cells slots Q (F0 m pc ls (.int y :: rest))) : W p l e R s m args below meth c H locs cells slots Q (F0 m pc ls (.int x :: rest)) := by
  subst h; exact k
theorem zx_join {g : JFrame} (φ : Int32 → Prop) (k : ∀ v : Int32, φ v → W p l e R s m args below meth c H locs cells slots Q (F0 m pc ls (.int v :: rest))) (b : (∀ v : Int32, φ v → W p l e R s m args below meth c H locs cells slots Q (F0 m pc ls (.int v :: rest))) → W p l e R s m args below meth c H locs cells slots Q g) : W p l e R s m args below meth c H locs cells slots Q g := b k
theorem zx_iald (hexec : p.tables.exec = Jvm.exec) (hb : c.code = cc) (hK : va_K D cl tys s) (hP : va_P D cl ws H) (q0 t0 : Nat) {cA : ClassId} {n : Nat} {f : Nat → Int32} (ha : ws[q0]? = some (a, .inl (cA, n, .inl f))) (ht : tys[t0]? = some (cA, .int)) {i : Int32} {j : Nat} (hi : i = nI j) (hj : j < n) (hn : n < 2 ^ 31) (hdg : decode cc pc = .ok (.iaload, 1))
    (kk : W p l e R s m args below meth c H locs cells slots Q (F0 m (pc + 1) ls (.int (f j) :: rest))) : W p l e R s m args below meth c H locs cells slots Q (F0 m pc ls (.int i :: .ref a :: rest)) := by
  subst hi
  refine va_iald hexec hb hK hP q0 t0 ha ht (vp_in_nI hj hn) hdg ?_
  rw [nI_clamp (Nat.lt_trans hj hn)]
  exact kk
theorem zx_zald (hexec : p.tables.exec = Jvm.exec) (hb : c.code = cc) (hK : va_K D cl tys s) (hP : va_P D cl ws H) (q0 t0 : Nat) {cA : ClassId} {n : Nat} {f : Nat → Int32} (ha : ws[q0]? = some (a, .inl (cA, n, .inl f))) (ht : tys[t0]? = some (cA, .boolean)) {i : Int32} {j : Nat} (hi : i = nI j) (hj : j < n) (hn : n < 2 ^ 31) (hdg : decode cc pc = .ok (.baload, 1))
    (kk : W p l e R s m args below meth c H locs cells slots Q (F0 m (pc + 1) ls (.int (f j) :: rest))) : W p l e R s m args below meth c H locs cells slots Q (F0 m pc ls (.int i :: .ref a :: rest)) := by
  subst hi
  refine va_zald hexec hb hK hP q0 t0 ha ht (vp_in_nI hj hn) hdg ?_
  rw [nI_clamp (Nat.lt_trans hj hn)]
  exact kk
theorem zx_iast (hexec : p.tables.exec = Jvm.exec) (hb : c.code = cc) (hK : va_K D cl tys s) (hP : va_P D cl ws H) (hD : va_D A ws) (hS : va_S A H0 H locs) (q0 t0 : Nat) {cA : ClassId} {n : Nat} {f : Nat → Int32} (ha : ws[q0]? = some (a, .inl (cA, n, .inl f))) (ht : tys[t0]? = some (cA, .int)) {i : Int32} {x : Int32} {j : Nat} (hi : i = nI j) (hj : j < n) (hn : n < 2 ^ 31) (hdg : decode cc pc = .ok (.iastore, 1))
    (kk : ∀ (H1 : Heap) (locs1 : List Loc), va_P D cl (ws.set q0 (a, .inl (cA, n, .inl (upd f j x)))) H1 → va_D A (ws.set q0 (a, .inl (cA, n, .inl (upd f j x)))) → va_S A H0 H1 locs1 → W p l e R s m args below meth c H1 locs1 cells slots Q (F0 m (pc + 1) ls rest)) : W p l e R s m args below meth c H locs cells slots Q (F0 m pc ls (.int x :: .int i :: .ref a :: rest)) := by
  subst hi
  refine va_iast hexec hb hK hP hD hS q0 t0 ha ht (vp_in_nI hj hn) hdg ?_
  rw [nI_clamp (Nat.lt_trans hj hn)]
  exact kk
theorem zx_zast (hexec : p.tables.exec = Jvm.exec) (hb : c.code = cc) (hK : va_K D cl tys s) (hP : va_P D cl ws H) (hD : va_D A ws) (hS : va_S A H0 H locs) (q0 t0 : Nat) {cA : ClassId} {n : Nat} {f : Nat → Int32} (ha : ws[q0]? = some (a, .inl (cA, n, .inl f))) (ht : tys[t0]? = some (cA, .boolean)) {i : Int32} {x : Int32} {j : Nat} (hi : i = nI j) (hj : j < n) (hn : n < 2 ^ 31) (hb1 : vp_nar .boolean x = x) (hdg : decode cc pc = .ok (.bastore, 1))
    (kk : ∀ (H1 : Heap) (locs1 : List Loc), va_P D cl (ws.set q0 (a, .inl (cA, n, .inl (upd f j x)))) H1 → va_D A (ws.set q0 (a, .inl (cA, n, .inl (upd f j x)))) → va_S A H0 H1 locs1 → W p l e R s m args below meth c H1 locs1 cells slots Q (F0 m (pc + 1) ls rest)) : W p l e R s m args below meth c H locs cells slots Q (F0 m pc ls (.int x :: .int i :: .ref a :: rest)) := by
  subst hi
  refine va_zast hexec hb hK hP hD hS q0 t0 ha ht (vp_in_nI hj hn) hdg ?_
  rw [nI_clamp (Nat.lt_trans hj hn), hb1]
  exact kk
/-- a loop whose body writes nothing -/
theorem zx_r1 {α : Type} {st : List Value} (mu : α → Nat) (I : α → Array Slot → Prop)
    (hs : ∀ (x : α) (ls : Array Slot), I x ls → (∀ (y : α) (ls' : Array Slot), mu y < mu x → I y ls' → W p l e R s m args below meth c H locs cells slots Q (F0 m pc ls' st)) → W p l e R s m args below meth c H locs cells slots Q (F0 m pc ls st))
    (x0 : α) (h0 : I x0 ls) : W p l e R s m args below meth c H locs cells slots Q (F0 m pc ls st) := by
  have key : ∀ (n : Nat) (x : α) (ls : Array Slot), mu x < n → I x ls → W p l e R s m args below meth c H locs cells slots Q (F0 m pc ls st) := by
    intro n
    induction n with
    | zero => intro x ls h _; exact absurd h (Nat.not_lt_zero _)
    | succ n ih => intro x ls h hI; exact hs x ls hI (fun y ls' hy hI' => ih y ls' (by omega) hI')
  exact key (mu x0 + 1) x0 ls (Nat.lt_succ_self _) h0
theorem zx_r2 {α β : Type} {st : List Value} (mu : α → β → Nat) (I : α → β → Array Slot → Prop)
    (hs : ∀ (x : α) (z : β) (ls : Array Slot), I x z ls → (∀ (y : α) (z' : β) (ls' : Array Slot), mu y z' < mu x z → I y z' ls' → W p l e R s m args below meth c H locs cells slots Q (F0 m pc ls' st)) → W p l e R s m args below meth c H locs cells slots Q (F0 m pc ls st))
    (x0 : α) (z0 : β) (h0 : I x0 z0 ls) : W p l e R s m args below meth c H locs cells slots Q (F0 m pc ls st) :=
  zx_r1 (α := α × β) (fun q => mu q.1 q.2) (fun q ls => I q.1 q.2 ls) (fun q ls hI ih => hs q.1 q.2 ls hI (fun y z' ls' hm hI' => ih (y, z') ls' hm hI')) (x0, z0) h0
/-- a loop whose body may write -/
theorem zx_w1 {α : Type} {st : List Value} (mu : α → Nat) (I : α → Heap → List Loc → Array Slot → Prop)
    (hs : ∀ (x : α) (H : Heap) (locs : List Loc) (ls : Array Slot), I x H locs ls → (∀ (y : α) (H' : Heap) (locs' : List Loc) (ls' : Array Slot), mu y < mu x → I y H' locs' ls' → W p l e R s m args below meth c H' locs' cells slots Q (F0 m pc ls' st)) → W p l e R s m args below meth c H locs cells slots Q (F0 m pc ls st))
    (x0 : α) (h0 : I x0 H locs ls) : W p l e R s m args below meth c H locs cells slots Q (F0 m pc ls st) := by
  have key : ∀ (n : Nat) (x : α) (H : Heap) (locs : List Loc) (ls : Array Slot), mu x < n → I x H locs ls → W p l e R s m args below meth c H locs cells slots Q (F0 m pc ls st) := by
    intro n
    induction n with
    | zero => intro x H locs ls h _; exact absurd h (Nat.not_lt_zero _)
    | succ n ih => intro x H locs ls h hI; exact hs x H locs ls hI (fun y H' locs' ls' hy hI' => ih y H' locs' ls' (by omega) hI')
  exact key (mu x0 + 1) x0 H locs ls (Nat.lt_succ_self _) h0
theorem zx_w2 {α β : Type} {st : List Value} (mu : α → β → Nat) (I : α → β → Heap → List Loc → Array Slot → Prop)
    (hs : ∀ (x : α) (z : β) (H : Heap) (locs : List Loc) (ls : Array Slot), I x z H locs ls → (∀ (y : α) (z' : β) (H' : Heap) (locs' : List Loc) (ls' : Array Slot), mu y z' < mu x z → I y z' H' locs' ls' → W p l e R s m args below meth c H' locs' cells slots Q (F0 m pc ls' st)) → W p l e R s m args below meth c H locs cells slots Q (F0 m pc ls st))
    (x0 : α) (z0 : β) (h0 : I x0 z0 H locs ls) : W p l e R s m args below meth c H locs cells slots Q (F0 m pc ls st) :=
  zx_w1 (α := α × β) (fun q => mu q.1 q.2) (fun q H locs ls => I q.1 q.2 H locs ls) (fun q H locs ls hI ih => hs q.1 q.2 H locs ls hI (fun y z' H' locs' ls' hm hI' => ih (y, z') H' locs' ls' hm hI')) (x0, z0) h0
theorem zx_w3 {α β γ : Type} {st : List Value} (mu : α → β → γ → Nat) (I : α → β → γ → Heap → List Loc → Array Slot → Prop)
    (hs : ∀ (x : α) (z : β) (u : γ) (H : Heap) (locs : List Loc) (ls : Array Slot), I x z u H locs ls → (∀ (y : α) (z' : β) (u' : γ) (H' : Heap) (locs' : List Loc) (ls' : Array Slot), mu y z' u' < mu x z u → I y z' u' H' locs' ls' → W p l e R s m args below meth c H' locs' cells slots Q (F0 m pc ls' st)) → W p l e R s m args below meth c H locs cells slots Q (F0 m pc ls st))
    (x0 : α) (z0 : β) (u0 : γ) (h0 : I x0 z0 u0 H locs ls) : W p l e R s m args below meth c H locs cells slots Q (F0 m pc ls st) :=
  zx_w1 (α := α × β × γ) (fun q => mu q.1 q.2.1 q.2.2) (fun q H locs ls => I q.1 q.2.1 q.2.2 H locs ls) (fun q H locs ls hI ih => hs q.1 q.2.1 q.2.2 H locs ls hI (fun y z' u' H' locs' ls' hm hI' => ih (y, z', u') H' locs' ls' hm hI')) (x0, z0, u0) h0
end ZX
/-- a contract's start: a method that writes nothing -/
abbrev zx_R (D : va_G) (K2 : List (ClassId × FieldType)) (ws : va_W) : State → Prop := fun U => va_P D vwCl ws U.heap ∧ va_K D vwCl K2 U
/-- a contract's start: a method that writes -/
abbrev zx_M (D : va_G) (K2 : List (ClassId × FieldType)) (ws : va_W) (sz : Nat) : State → Prop := fun U => U.heap.size = sz ∧ va_P D vwCl ws U.heap ∧ va_K D vwCl K2 U ∧ va_D (fun _ => True) ws
/-- a contract's end: the world behind it -/
abbrev zx_E (D : va_G) (K2 : List (ClassId × FieldType)) (A : Nat → Prop) (ws : va_W) (t : State) : Prop := va_P D vwCl ws t.heap ∧ va_K D vwCl K2 t ∧ va_D A ws
theorem zx_pS {s : State} {H : Heap} (As : List Value) : PreS s H (va_Pc As (fun _ => True)) As := ⟨fun a U g mk q => ⟨q.1, trivial⟩, fun U hU hW => ⟨rfl, trivial⟩⟩
theorem zx_pR {s : State} {H : Heap} {D : va_G} {K2 : List (ClassId × FieldType)} {ws : va_W} {b ci : Nat} {fs : List Value} {C : vw_C} (hK : va_K D vwCl K2 s) (hP : va_P D vwCl ws H) (he : ws[0]? = some (b, .inr (ci, fs))) (hc : vwCl[ci]? = some C) (As : List Value) : PreV s H C.1 b (va_Pc (.ref b :: As) (zx_R D K2 ws)) As :=
  ⟨fun a U g mk q => ⟨q.1, q.2.1, va_K.moved (u := U) (U := U.calling g mk a) (Vm.Alike.refl U.vm) q.2.2⟩, va_recv hK hP hc he, fun U hU hW => ⟨rfl, by rw [hU]; exact hP, va_K.moved hW.alike hK⟩⟩
theorem zx_pM {s : State} {H : Heap} {D : va_G} {K2 : List (ClassId × FieldType)} {ws : va_W} {A : Nat → Prop} {b ci : Nat} {fs : List Value} {C : vw_C} (hK : va_K D vwCl K2 s) (hP : va_P D vwCl ws H) (hD : va_D A ws) (he : ws[0]? = some (b, .inr (ci, fs))) (hc : vwCl[ci]? = some C) (As : List Value) : PreV s H C.1 b (va_Pc (.ref b :: As) (zx_M D K2 ws H.size)) As :=
  ⟨fun a U g mk q => ⟨q.1, q.2.1, q.2.2.1, va_K.moved (u := U) (U := U.calling g mk a) (Vm.Alike.refl U.vm) q.2.2.2.1, q.2.2.2.2⟩, va_recv hK hP hc he, fun U hU hW => ⟨rfl, by rw [hU], by rw [hU]; exact hP, va_K.moved hW.alike hK, hD.weaken (fun _ _ _ _ => trivial)⟩⟩
/-- the whole world handed to a callee: what it may change is ours -/
theorem zx_fr {A0 : Nat → Prop} {ws : va_W} {H0 H : Heap} {locs : List Loc} (hD : va_D A0 ws) (hS : va_S A0 H0 H locs) (hA : ∀ q, H0.size ≤ q → A0 q) : ∀ q, va_A ws H.size q → A0 q := by
  intro q h
  rcases h with ⟨k, e, h⟩ | h
  · exact hD.2 k (q, e) h
  · exact hA q (Nat.le_trans hS.1 h)
/-- behind a call that had the whole world -/
theorem zx_bk {D : va_G} {K2 : List (ClassId × FieldType)} {A0 A1 : Nat → Prop} {ws : va_W} {s t : State} {H1 : Heap} (hE : zx_E D K2 A1 ws t) (ht : t.heap = H1) (hvm : s.vm.Alike t.vm) (hF : ∀ q, A1 q → A0 q) : va_P D vwCl ws H1 ∧ va_D A0 ws ∧ va_K D vwCl K2 s :=
  ⟨by rw [← ht]; exact hE.1, hE.2.2.weaken (fun _ q _ h => hF q.1 h), va_K.moved hvm.symm hE.2.1⟩
end
section
/-! ===== Int32 by its bits: bt x i ===== -/
def bt (x : Int32) (i : Nat) : Bool := x.toBitVec.getLsbD i
theorem b_ext {x y : Int32} (h : ∀ i, i < 32 → bt x i = bt y i) : x = y := Int32.toBitVec_inj.mp (BitVec.eq_of_getLsbD_eq (fun i hi => h i hi))
theorem b_or (x y : Int32) (i : Nat) : bt (x ||| y) i = (bt x i || bt y i) := by unfold bt; rw [Int32.toBitVec_or, BitVec.getLsbD_or]
theorem b_and (x y : Int32) (i : Nat) : bt (x &&& y) i = (bt x i && bt y i) := by unfold bt; rw [Int32.toBitVec_and, BitVec.getLsbD_and]
theorem b_xor (x y : Int32) (i : Nat) : bt (x ^^^ y) i = (bt x i ^^ bt y i) := by unfold bt; rw [Int32.toBitVec_xor, BitVec.getLsbD_xor]
theorem b_big {x : Int32} {i : Nat} (h : 32 ≤ i) : bt x i = false := BitVec.getLsbD_of_ge _ _ h
theorem b_255 (i : Nat) : bt 255 i = decide (i < 8) := by
  rcases Nat.lt_or_ge i 32 with h | h
  · exact (by decide +kernel : ∀ i, i < 32 → bt 255 i = decide (i < 8)) i h
  · rw [b_big h, decide_eq_false (by omega)]
theorem b_65535 (i : Nat) : bt 65535 i = decide (i < 16) := by
  rcases Nat.lt_or_ge i 32 with h | h
  · exact (by decide +kernel : ∀ i, i < 32 → bt 65535 i = decide (i < 16)) i h
  · rw [b_big h, decide_eq_false (by omega)]
theorem b_m1 : ∀ i, i < 32 → bt (-1) i = true := by decide +kernel
theorem b_0 (i : Nat) : bt 0 i = false := BitVec.getLsbD_zero
theorem s_l : ∀ n, n < 32 → ((nI n &&& 31).toBitVec.smod 32).toNat = n := by decide +kernel
theorem s_u : ∀ n, n < 32 → (((nI n).toUInt32 &&& Int32.toUInt32 31).toBitVec % 32).toNat = n := by decide +kernel
theorem b_shl (n : Nat) (hn : n < 32) (x : Int32) {i : Nat} (hi : i < 32) : bt (x <<< (nI n &&& 31)) i = (decide (n ≤ i) && bt x (i - n)) := by
  unfold bt
  rw [Int32.toBitVec_shiftLeft]
  show (x.toBitVec <<< ((nI n &&& 31).toBitVec.smod 32).toNat).getLsbD i = _
  rw [s_l n hn, BitVec.getLsbD_shiftLeft]
  rcases Nat.lt_or_ge i n with h | h
  · simp [h, Nat.not_le.mpr h]
  · simp [hi, h, Nat.not_lt.mpr h]
theorem b_ushr (n : Nat) (hn : n < 32) (x : Int32) (i : Nat) : bt ((x.toUInt32 >>> ((nI n).toUInt32 &&& Int32.toUInt32 31)).toInt32) i = bt x (n + i) := by
  show (x.toUInt32 >>> ((nI n).toUInt32 &&& Int32.toUInt32 31)).toBitVec.getLsbD i = x.toUInt32.toBitVec.getLsbD (n + i)
  rw [UInt32.toBitVec_shiftRight]
  show (x.toUInt32.toBitVec >>> (((nI n).toUInt32 &&& Int32.toUInt32 31).toBitVec % 32).toNat).getLsbD i = _
  rw [s_u n hn, BitVec.getLsbD_ushiftRight]
theorem b_sshr (n : Nat) (hn : n < 32) (x : Int32) {i : Nat} (hi : i < 32) : bt (x >>> (nI n &&& 31)) i = if n + i < 32 then bt x (n + i) else bt x 31 := by
  unfold bt
  rw [Int32.toBitVec_shiftRight]
  show (x.toBitVec.sshiftRight ((nI n &&& 31).toBitVec.smod 32).toNat).getLsbD i = _
  rw [s_l n hn, BitVec.getLsbD_sshiftRight, BitVec.msb_eq_getLsbD_last]
  simp [hi]
theorem b_shl8 (x : Int32) {i : Nat} (hi : i < 32) : bt (x <<< ((8 : Int32) &&& 31)) i = (decide (8 ≤ i) && bt x (i - 8)) := b_shl 8 (by omega) x hi
theorem b_shl16 (x : Int32) {i : Nat} (hi : i < 32) : bt (x <<< ((16 : Int32) &&& 31)) i = (decide (16 ≤ i) && bt x (i - 16)) := b_shl 16 (by omega) x hi
theorem b_shl24 (x : Int32) {i : Nat} (hi : i < 32) : bt (x <<< ((24 : Int32) &&& 31)) i = (decide (24 ≤ i) && bt x (i - 24)) := b_shl 24 (by omega) x hi
theorem b_sshr8 (x : Int32) {i : Nat} (hi : i < 32) : bt (x >>> ((8 : Int32) &&& 31)) i = if 8 + i < 32 then bt x (8 + i) else bt x 31 := b_sshr 8 (by omega) x hi
/-! bits as the code asks for them -/
theorem zb_1 : ∀ i, i < 32 → bt 1 i = decide (i = 0) := by decide +kernel
theorem zb_bit {x : Int32} {v : Nat} (hv : v < 32) : ((x.toUInt32 >>> ((nI v).toUInt32 &&& Int32.toUInt32 31)).toInt32 &&& nI 1) = if bt x v = true then 1 else 0 := by
  refine b_ext (fun i hi => ?_)
  rw [b_and, b_ushr v hv, show nI 1 = (1 : Int32) from rfl, zb_1 i hi]
  by_cases h0 : i = 0
  · subst h0
    by_cases hb : bt x v = true
    · rw [if_pos hb, Nat.add_zero, hb, zb_1 0 (by omega)]; rfl
    · rw [if_neg hb, Nat.add_zero, b_0]; simp [hb]
  · by_cases hb : bt x v = true
    · rw [if_pos hb, zb_1 i hi]; simp [h0]
    · rw [if_neg hb, b_0]; simp [h0]
theorem zb_set {x : Int32} {v : Nat} (hv : v < 32) {i : Nat} (hi : i < 32) : bt (x ||| ((nI 1) <<< (nI v &&& 31))) i = (bt x i || decide (i = v)) := by
  rw [b_or, b_shl v hv _ hi, show nI 1 = (1 : Int32) from rfl, zb_1 (i - v) (by omega)]
  by_cases h : i = v
  · subst h; simp
  · simp only [h, decide_false, Bool.or_false]
    by_cases h2 : v ≤ i
    · have : ¬ i - v = 0 := by omega
      simp [this]
    · simp [h2]
end
section
/-! PLAIN: sums, bounded existence; the votes cast (n of them: w who, s source, t target; st the stakes), what each question asks of them -/
def zv_sum (f : Nat → Nat) : Nat → Nat
  | 0 => 0
  | n + 1 => zv_sum f n + f n
def zv_any (p : Nat → Bool) : Nat → Bool
  | 0 => false
  | n + 1 => zv_any p n || p n
theorem zv_any_iff {p : Nat → Bool} {n : Nat} : zv_any p n = true ↔ ∃ i, i < n ∧ p i = true := by
  induction n with
  | zero => simp [zv_any]
  | succ n ih =>
    rw [zv_any, Bool.or_eq_true, ih]
    constructor
    · rintro (⟨i, h1, h2⟩ | h)
      · exact ⟨i, by omega, h2⟩
      · exact ⟨n, by omega, h⟩
    · rintro ⟨i, h1, h2⟩
      by_cases h : i = n
      · subst h; exact Or.inr h2
      · exact Or.inl ⟨i, by omega, h2⟩
theorem zv_any_no {p : Nat → Bool} {n : Nat} (h : ∀ i, i < n → ¬ p i = true) : zv_any p n = false := by
  rw [Bool.eq_false_iff]
  intro h2
  obtain ⟨i, hi, hp⟩ := zv_any_iff.mp h2
  exact h i hi hp
theorem zv_any_yes {p : Nat → Bool} {n i : Nat} (hi : i < n) (h : p i = true) : zv_any p n = true := zv_any_iff.mpr ⟨i, hi, h⟩
theorem zv_any_congr {p q : Nat → Bool} {n : Nat} (h : ∀ i, i < n → p i = q i) : zv_any p n = zv_any q n := by
  induction n with
  | zero => rfl
  | succ n ih => rw [zv_any, zv_any, ih (fun i hi => h i (by omega)), h n (by omega)]
theorem zv_sum_congr {f g : Nat → Nat} {n : Nat} (h : ∀ i, i < n → f i = g i) : zv_sum f n = zv_sum g n := by
  induction n with
  | zero => rfl
  | succ n ih => rw [zv_sum, zv_sum, ih (fun i hi => h i (by omega)), h n (by omega)]
theorem zv_sum_le {f : Nat → Nat} {b n : Nat} (h : ∀ i, i < n → f i ≤ b) : zv_sum f n ≤ b * n := by
  induction n with
  | zero => exact Nat.zero_le _
  | succ n ih =>
    have h1 := ih (fun i hi => h i (by omega))
    have h2 := h n (by omega)
    rw [zv_sum, Nat.mul_succ]
    omega
theorem zv_sum_zero {f : Nat → Nat} {n : Nat} (h : ∀ i, i < n → f i = 0) : zv_sum f n = 0 := by
  have := zv_sum_le (f := f) (b := 0) (n := n) (fun i hi => by rw [h i hi]; exact Nat.le_refl _)
  omega
theorem zv_sum_pos {f : Nat → Nat} {n : Nat} : 0 < zv_sum f n ↔ ∃ i, i < n ∧ 0 < f i := by
  induction n with
  | zero => simp [zv_sum]
  | succ n ih =>
    rw [zv_sum]
    constructor
    · intro h
      by_cases h1 : 0 < zv_sum f n
      · obtain ⟨i, a, b⟩ := ih.mp h1
        exact ⟨i, by omega, b⟩
      · exact ⟨n, by omega, by omega⟩
    · rintro ⟨i, a, b⟩
      by_cases h : i = n
      · subst h; omega
      · have := ih.mpr ⟨i, by omega, b⟩
        omega
/-- one place of a sum changed -/
theorem zv_sum_one {f g : Nat → Nat} {n k d : Nat} (hk : k < n) (h : ∀ i, i < n → i ≠ k → g i = f i) (h2 : g k = f k + d) : zv_sum g n = zv_sum f n + d := by
  induction n with
  | zero => omega
  | succ n ih =>
    rw [zv_sum, zv_sum]
    by_cases e : k = n
    · subst e
      rw [zv_sum_congr (f := g) (g := f) (fun i hi => h i (by omega) (by omega)), h2]
      omega
    · rw [ih (by omega) (fun i hi hne => h i (by omega) hne), h n (by omega) (fun q => e q.symm)]
      omega
def zv_put (f : Nat → Nat) (k v : Nat) : Nat → Nat := fun i => if i = k then v else f i
theorem zv_put_s (f : Nat → Nat) (k v : Nat) : zv_put f k v k = v := by simp [zv_put]
theorem zv_put_n {f : Nat → Nat} {k v i : Nat} (h : i ≠ k) : zv_put f k v i = f i := by simp [zv_put, h]
theorem zv_put_l {f : Nat → Nat} {k v i : Nat} (h : i < k) : zv_put f k v i = f i := zv_put_n (by omega)
/-- checkpoints -/
def zv_c (c : Nat) : Prop := c < 127 ∧ c % 4 ≠ 3
/-- has validator v voted from x to y -/
def zv_hd (w s t : Nat → Nat) (v : Nat) (x y : Int32) (i : Nat) : Bool := decide (w i = v ∧ nI (s i) = x ∧ nI (t i) = y)
def zv_held (n : Nat) (w s t : Nat → Nat) (v : Nat) (x y : Int32) : Bool := zv_any (zv_hd w s t v x y) n
def zv_sup (n : Nat) (w s t st : Nat → Nat) (x y : Int32) : Nat := zv_sum (fun v => if zv_held n w s t v x y = true then st v else 0) 8
def zv_tot (st : Nat → Nat) : Nat := zv_sum st 8
def zv_Sup (n : Nat) (w s t st : Nat → Nat) (x y : Int32) : Prop := 2 * zv_tot st < 3 * zv_sup n w s t st x y
def zv_Just (n : Nat) (w s t st : Nat → Nat) (c : Nat) : Prop := ∀ P : Nat → Prop, P 0 → (∀ i, i < n → P (s i) → zv_Sup n w s t st (nI (s i)) (nI (t i)) → P (t i)) → P c
noncomputable def zv_Ji (n : Nat) (w s t st : Nat → Nat) (c : Nat) : Int32 := @ite _ (zv_Just n w s t st c) (Classical.propDecidable _) 1 0
def zv_Fin (n : Nat) (w s t st : Nat → Nat) (c : Nat) : Prop := zv_Just n w s t st c ∧ ∃ i, i < n ∧ s i = c ∧ t i / 4 = c / 4 + 1 ∧ zv_Sup n w s t st (nI (s i)) (nI (t i))
def zv_off (w s t : Nat → Nat) (v i j : Nat) : Bool := decide (i ≠ j ∧ w i = v ∧ w j = v ∧ (t i / 4 = t j / 4 ∨ (s i / 4 < s j / 4 ∧ t j / 4 < t i / 4)))
def zv_offs (n : Nat) (w s t : Nat → Nat) (v : Nat) : Bool := zv_any (fun i => zv_any (fun j => zv_off w s t v i j) n) n
def zv_b1 (w t : Nat → Nat) (v b i : Nat) : Bool := decide (w i = v ∧ t i / 4 = b / 4)
def zv_b2 (w s t : Nat → Nat) (v a b i : Nat) : Bool := decide (w i = v ∧ a / 4 < s i / 4 ∧ t i / 4 < b / 4)
def zv_b4 (w s t : Nat → Nat) (v a b i : Nat) : Bool := decide (w i = v ∧ s i / 4 < a / 4 ∧ b / 4 < t i / 4)
def zv_v3 (x y z : Bool) : Nat := (if x = true then 1 else 0) + (if y = true then 2 else 0) + (if z = true then 4 else 0)
def zv_verd (n : Nat) (w s t : Nat → Nat) (v a b : Nat) : Nat := zv_v3 (zv_any (zv_b1 w t v b) n) (zv_any (zv_b2 w s t v a b) n) (zv_any (zv_b4 w s t v a b) n)
def zv_cntV (n : Nat) (w : Nat → Nat) (v : Nat) : Nat := zv_sum (fun i => if w i = v then 1 else 0) n
def zv_cntT (n : Nat) (w t : Nat → Nat) (v e : Nat) : Nat := zv_sum (fun i => if w i = v ∧ t i / 4 = e then 1 else 0) n
def zv_best (f : Nat → Int32) : Nat → Nat
  | 0 => 0
  | c + 1 => if f c = 0 then zv_best f c else c
def zv_three (f : Nat → Int32) (e : Nat) : Nat → Nat := zv_sum (fun b => if f (4 * e + b) = 0 then 0 else 1)
def zv_clamp (y : Int32) : Nat := if y < 0 then 0 else if nI 100 < y then 100 else y.toNatClampNeg
/-- well formed votes and stakes -/
def zv_G (n : Nat) (w s t st : Nat → Nat) : Prop := n ≤ 64 ∧ (∀ i, i < n → w i < 8 ∧ s i < 128 ∧ t i < 128 ∧ s i / 4 < t i / 4) ∧ (∀ i j, i < n → j < n → w i = w j → s i = s j → t i = t j → i = j) ∧ ∀ v, st v ≤ 100
/-! what each method answers -/
def zp_stake (st : Nat → Nat) (x y r : Int32) (st' : Nat → Nat) : Prop := (∀ v, v < 8 → x = nI v → r = nI (st v) ∧ st' = zv_put st v (zv_clamp y)) ∧ ((∀ v, v < 8 → ¬ x = nI v) → r = -1 ∧ st' = st)
def zv_okV (x y z : Int32) (v a b : Nat) : Prop := v < 8 ∧ zv_c a ∧ zv_c b ∧ a / 4 < b / 4 ∧ x = nI v ∧ y = nI a ∧ z = nI b
abbrev zv_GT : Type := Nat × (Nat → Nat) × (Nat → Nat) × (Nat → Nat)
def zp_vote (n : Nat) (w s t : Nat → Nat) (x y z r : Int32) (u : zv_GT) : Prop :=
  (∀ v a b, zv_okV x y z v a b → (zv_held n w s t v y z = true ∨ n = 64 → r = -2 ∧ u = (n, w, s, t)) ∧ (zv_held n w s t v y z = false → ¬ n = 64 → r = nI (zv_verd n w s t v a b) ∧ u = (n + 1, zv_put w n v, zv_put s n a, zv_put t n b))) ∧
  ((∀ v a b, ¬ zv_okV x y z v a b) → r = -1 ∧ u = (n, w, s, t))
def zp_off (n : Nat) (w s t : Nat → Nat) (x r : Int32) : Prop := (∀ v, v < 8 → x = nI v → r = if zv_offs n w s t v = true then 1 else 0) ∧ ((∀ v, v < 8 → ¬ x = nI v) → r = -1)
def zp_offd (n : Nat) (w s t st : Nat → Nat) (r : Int32) : Prop := r = nI (zv_sum (fun v => if zv_offs n w s t v = true then st v else 0) 8)
def zp_just (n : Nat) (w s t st : Nat → Nat) (x r : Int32) : Prop := (∀ c, zv_c c → x = nI c → r = zv_Ji n w s t st c) ∧ ((∀ c, zv_c c → ¬ x = nI c) → r = -1)
def zp_fin (n : Nat) (w s t st : Nat → Nat) (x r : Int32) : Prop := (∀ c, zv_c c → x = nI c → (zv_Fin n w s t st c → r = 1) ∧ (¬ zv_Fin n w s t st c → r = 0)) ∧ ((∀ c, zv_c c → ¬ x = nI c) → r = -1)
def zp_high (n : Nat) (w s t st : Nat → Nat) (r : Int32) : Prop := r = nI (zv_best (zv_Ji n w s t st) 128)
def zp_jin (n : Nat) (w s t st : Nat → Nat) (x r : Int32) : Prop := (∀ e, e < 32 → x = nI e → r = nI (zv_three (zv_Ji n w s t st) e 3)) ∧ ((∀ e, e < 32 → ¬ x = nI e) → r = -1)
def zp_sup (n : Nat) (w s t st : Nat → Nat) (x y r : Int32) : Prop := r = nI (zv_sup n w s t st x y)
def zp_votes (n : Nat) (w : Nat → Nat) (x r : Int32) : Prop := (∀ v, v < 8 → x = nI v → r = nI (zv_cntV n w v)) ∧ ((∀ v, v < 8 → ¬ x = nI v) → r = -1)
/-! one answer each -/
theorem zd_stake {st : Nat → Nat} {x y r r' : Int32} {u u' : Nat → Nat} (h : zp_stake st x y r u) (h' : zp_stake st x y r' u') : r = r' ∧ u = u' := by
  by_cases q : ∃ v, v < 8 ∧ x = nI v
  · obtain ⟨v, a, b⟩ := q
    obtain ⟨e1, e2⟩ := h.1 v a b
    obtain ⟨e3, e4⟩ := h'.1 v a b
    exact ⟨e1.trans e3.symm, e2.trans e4.symm⟩
  · obtain ⟨e1, e2⟩ := h.2 (fun v a b => q ⟨v, a, b⟩)
    obtain ⟨e3, e4⟩ := h'.2 (fun v a b => q ⟨v, a, b⟩)
    exact ⟨e1.trans e3.symm, e2.trans e4.symm⟩
theorem zd_vote {n : Nat} {w s t : Nat → Nat} {x y z r r' : Int32} {u u' : zv_GT} (h : zp_vote n w s t x y z r u) (h' : zp_vote n w s t x y z r' u') : r = r' ∧ u = u' := by
  by_cases q : ∃ v a b, zv_okV x y z v a b
  · obtain ⟨v, a, b, hq⟩ := q
    by_cases c : zv_held n w s t v y z = true ∨ n = 64
    · obtain ⟨e1, e2⟩ := (h.1 v a b hq).1 c
      obtain ⟨e3, e4⟩ := (h'.1 v a b hq).1 c
      exact ⟨e1.trans e3.symm, e2.trans e4.symm⟩
    · have c1 : zv_held n w s t v y z = false := by
        rw [Bool.eq_false_iff]; exact fun q => c (Or.inl q)
      have c2 : ¬ n = 64 := fun q => c (Or.inr q)
      obtain ⟨e1, e2⟩ := (h.1 v a b hq).2 c1 c2
      obtain ⟨e3, e4⟩ := (h'.1 v a b hq).2 c1 c2
      exact ⟨e1.trans e3.symm, e2.trans e4.symm⟩
  · obtain ⟨e1, e2⟩ := h.2 (fun v a b hq => q ⟨v, a, b, hq⟩)
    obtain ⟨e3, e4⟩ := h'.2 (fun v a b hq => q ⟨v, a, b, hq⟩)
    exact ⟨e1.trans e3.symm, e2.trans e4.symm⟩
theorem zd_of {P : Nat → Prop} {x r r' : Int32} {f : Nat → Int32} (h : (∀ v, P v → x = nI v → r = f v) ∧ ((∀ v, P v → ¬ x = nI v) → r = -1)) (h' : (∀ v, P v → x = nI v → r' = f v) ∧ ((∀ v, P v → ¬ x = nI v) → r' = -1)) : r = r' := by
  by_cases q : ∃ v, P v ∧ x = nI v
  · obtain ⟨v, a, b⟩ := q
    exact (h.1 v a b).trans (h'.1 v a b).symm
  · exact (h.2 (fun v a b => q ⟨v, a, b⟩)).trans (h'.2 (fun v a b => q ⟨v, a, b⟩)).symm
theorem zd_fin {n : Nat} {w s t st : Nat → Nat} {x r r' : Int32} (h : zp_fin n w s t st x r) (h' : zp_fin n w s t st x r') : r = r' := by
  by_cases q : ∃ v, zv_c v ∧ x = nI v
  · obtain ⟨v, a, b⟩ := q
    by_cases d : zv_Fin n w s t st v
    · exact ((h.1 v a b).1 d).trans ((h'.1 v a b).1 d).symm
    · exact ((h.1 v a b).2 d).trans ((h'.1 v a b).2 d).symm
  · exact (h.2 (fun v a b => q ⟨v, a, b⟩)).trans (h'.2 (fun v a b => q ⟨v, a, b⟩)).symm
/-! justified: how it is made, what it is made of -/
theorem zj_0 {n : Nat} {w s t st : Nat → Nat} : zv_Just n w s t st 0 := fun _ h _ => h
theorem zj_s {n : Nat} {w s t st : Nat → Nat} {i : Nat} (hi : i < n) (h : zv_Just n w s t st (s i)) (hs : zv_Sup n w s t st (nI (s i)) (nI (t i))) : zv_Just n w s t st (t i) := fun P h0 hst => hst i hi (h P h0 hst) hs
theorem zj_inv {n : Nat} {w s t st : Nat → Nat} {c : Nat} (h : zv_Just n w s t st c) : c = 0 ∨ ∃ i, i < n ∧ t i = c ∧ zv_Just n w s t st (s i) ∧ zv_Sup n w s t st (nI (s i)) (nI (t i)) := by
  have h2 := h (fun c => zv_Just n w s t st c ∧ (c = 0 ∨ ∃ i, i < n ∧ t i = c ∧ zv_Just n w s t st (s i) ∧ zv_Sup n w s t st (nI (s i)) (nI (t i)))) ⟨zj_0, Or.inl rfl⟩ (fun i hi hP hs => ⟨zj_s hi hP.1 hs, Or.inr ⟨i, hi, rfl, hP.1, hs⟩⟩)
  exact h2.2
theorem zj_lt {n : Nat} {w s t st : Nat → Nat} {c : Nat} (hG : zv_G n w s t st) (h : zv_Just n w s t st c) : c < 128 := by
  rcases zj_inv h with e | ⟨i, hi, e, -⟩
  · omega
  · rw [← e]; exact (hG.2.1 i hi).2.2.1
theorem zj_1 {n : Nat} {w s t st : Nat → Nat} {c : Nat} (h : zv_Just n w s t st c) : zv_Ji n w s t st c = 1 := by unfold zv_Ji; exact if_pos h
theorem zj_n {n : Nat} {w s t st : Nat → Nat} {c : Nat} (h : ¬ zv_Just n w s t st c) : zv_Ji n w s t st c = 0 := by unfold zv_Ji; exact if_neg h
/-- a marking that is sound, holds 0 and is closed is the justified ones -/
theorem zj_done {n : Nat} {w s t st : Nat → Nat} {g : Nat → Int32} (hG : zv_G n w s t st) (h1 : ∀ c, c < 128 → g c = 0 ∨ (g c = 1 ∧ zv_Just n w s t st c)) (h2 : g 0 = 1) (h3 : ∀ i, i < n → g (s i) = 1 → zv_Sup n w s t st (nI (s i)) (nI (t i)) → g (t i) = 1) : ∀ c, c < 128 → g c = zv_Ji n w s t st c := by
  intro c hc
  by_cases h : zv_Just n w s t st c
  · rw [zj_1 h]
    exact h (fun c => g c = 1) h2 h3
  · rw [zj_n h]
    rcases h1 c hc with e | e
    · exact e
    · exact absurd e.2 h
end
section
/-! PLAIN: the system's cells against the votes: what holds between calls, and how one more vote keeps it -/
def zr_S (st : Nat → Nat) (fS : Nat → Int32) : Prop := ∀ v, v < 8 → fS v = nI (st v)
def zr_V (n : Nat) (w : Nat → Nat) (fV : Nat → Int32) : Prop := ∀ v, v < 8 → fV v = nI (zv_cntV n w v)
def zr_T (n : Nat) (w t : Nat → Nat) (fT : Nat → Int32) : Prop := ∀ v e, v < 8 → e < 32 → fT (32 * v + e) = nI (zv_cntT n w t v e)
def zr_L (n : Nat) (w s t : Nat → Nat) (fL : Nat → Int32) : Prop := ∀ v e z, v < 8 → e < 32 → z < 32 → (fL (32 * v + e) < nI z ↔ ∃ i, i < n ∧ w i = v ∧ e < s i / 4 ∧ t i / 4 < z)
def zr_G (n : Nat) (w s t : Nat → Nat) (fG : Nat → Int32) : Prop := ∀ v e z, v < 8 → e < 32 → z < 32 → (nI z < fG (32 * v + e) ↔ ∃ i, i < n ∧ w i = v ∧ s i / 4 < e ∧ z < t i / 4)
def zr_O (n : Nat) (w s t : Nat → Nat) (o : Int32) : Prop := ∀ v, v < 8 → bt o v = zv_offs n w s t v
def zr_Q (n : Nat) (w s t : Nat → Nat) (q : Nat) (fF fO fB : Nat → Int32) : Prop :=
  q ≤ n ∧ (∀ k, k < q → ∃ i, i < n ∧ fF k = nI (s i) ∧ fO k = nI (t i)) ∧ (∀ i, i < n → ∃ k, k < q ∧ fF k = nI (s i) ∧ fO k = nI (t i)) ∧ (∀ j k, j < q → k < q → fF j = fF k → fO j = fO k → j = k) ∧ (∀ j k, j < k → k < q → fO j ≤ fO k) ∧ ∀ k v, k < q → v < 8 → bt (fB k) v = zv_held n w s t v (fF k) (fO k)
def zr_K (n : Nat) (w s t st : Nat → Nat) (k : Int32) (fJ : Nat → Int32) : Prop := k = 0 ∨ (k = 1 ∧ ∀ c, c < 128 → fJ c = zv_Ji n w s t st c)
def zr_X (n : Nat) (w s t st : Nat → Nat) (fS fL fG fT fV fF fO fB fJ : Nat → Int32) (o hd ln k : Int32) : Prop :=
  zv_G n w s t st ∧ zr_S st fS ∧ hd = nI n ∧ zr_V n w fV ∧ zr_T n w t fT ∧ zr_L n w s t fL ∧ zr_G n w s t fG ∧ zr_O n w s t o ∧ (∃ q, ln = nI q ∧ zr_Q n w s t q fF fO fB) ∧ zr_K n w s t st k fJ
/-- the model's cells against the votes -/
def zr_M (n : Nat) (w s t st : Nat → Nat) (gS gW gF gO : Nat → Int32) (nv : Int32) : Prop :=
  zv_G n w s t st ∧ zr_S st gS ∧ nv = nI n ∧ ∀ i, i < n → gW i = nI (w i) ∧ gF i = nI (s i) ∧ gO i = nI (t i)
/-! numbers -/
theorem zn_lt {x y : Int32} : x < y ↔ x.toInt < y.toInt := Int32.lt_iff_toInt_lt
theorem zn_le {x y : Int32} : x ≤ y ↔ x.toInt ≤ y.toInt := Int32.le_iff_toInt_le
theorem zn_inj {a b : Nat} (ha : a < 2 ^ 31) (hb : b < 2 ^ 31) (h : nI a = nI b) : a = b := (nI_eq ha hb).mp h
theorem zn_ex {n : Nat} {P P' : Nat → Prop} {X : Prop} (h : ∀ i, i < n → (P' i ↔ P i)) (h2 : P' n ↔ X) : (∃ i, i < n + 1 ∧ P' i) ↔ (∃ i, i < n ∧ P i) ∨ X := by
  constructor
  · rintro ⟨i, hi, hp⟩
    by_cases e : i = n
    · subst e; exact Or.inr (h2.mp hp)
    · exact Or.inl ⟨i, by omega, (h i (by omega)).mp hp⟩
  · rintro (⟨i, hi, hp⟩ | hx)
    · exact ⟨i, by omega, (h i hi).mpr hp⟩
    · exact ⟨n, by omega, h2.mpr hx⟩
theorem zu_s {f : Nat → Int32} {k : Nat} {x : Int32} : upd f k x k = x := pk_us
theorem zu_n {f : Nat → Int32} {k j : Nat} {x : Int32} (h : j ≠ k) : upd f k x j = f j := pk_un h
/-! bounds -/
theorem zb_sup {n : Nat} {w s t st : Nat → Nat} (h : ∀ v, st v ≤ 100) (x y : Int32) : zv_sup n w s t st x y ≤ 800 := by
  refine zv_sum_le (b := 100) (n := 8) (fun v _ => ?_)
  by_cases q : zv_held n w s t v x y = true
  · simp only [q, if_true]; exact h v
  · simp only [q, if_false]; exact Nat.zero_le _
theorem zb_tot {st : Nat → Nat} (h : ∀ v, st v ≤ 100) : zv_tot st ≤ 800 := zv_sum_le (b := 100) (n := 8) (fun v _ => h v)
theorem zb_cntV (n : Nat) (w : Nat → Nat) (v : Nat) : zv_cntV n w v ≤ n := by
  have := zv_sum_le (f := fun i => if w i = v then 1 else 0) (b := 1) (n := n) (fun i _ => by
    by_cases q : w i = v
    · simp [q]
    · simp [q])
  unfold zv_cntV; omega
theorem zb_cntT (n : Nat) (w t : Nat → Nat) (v e : Nat) : zv_cntT n w t v e ≤ n := by
  have := zv_sum_le (f := fun i => if w i = v ∧ t i / 4 = e then 1 else 0) (b := 1) (n := n) (fun i _ => by
    by_cases q : w i = v ∧ t i / 4 = e
    · simp only [q]; simp
    · simp only [q]; simp)
  unfold zv_cntT; omega
/-! one more vote (v from a to b) -/
theorem zs_held (n : Nat) (w s t : Nat → Nat) (v a b u : Nat) (x y : Int32) : zv_held (n + 1) (zv_put w n v) (zv_put s n a) (zv_put t n b) u x y = (zv_held n w s t u x y || decide (v = u ∧ nI a = x ∧ nI b = y)) := by
  unfold zv_held
  rw [zv_any]
  congr 1
  · exact zv_any_congr (fun i hi => by unfold zv_hd; rw [zv_put_l hi, zv_put_l hi, zv_put_l hi])
  · unfold zv_hd; rw [zv_put_s, zv_put_s, zv_put_s]
theorem zs_noheld {n : Nat} {w s t st : Nat → Nat} {v a b : Nat} (hG : zv_G n w s t st) (ha : a < 128) (hb : b < 128) (h : zv_held n w s t v (nI a) (nI b) = false) : ∀ i, i < n → ¬ (w i = v ∧ s i = a ∧ t i = b) := by
  intro i hi ⟨h1, h2, h3⟩
  have := zv_any_yes (p := zv_hd w s t v (nI a) (nI b)) hi (by unfold zv_hd; rw [h1, h2, h3]; simp)
  unfold zv_held at h
  rw [h] at this
  cases this
theorem zs_G {n : Nat} {w s t st : Nat → Nat} {v a b : Nat} (hG : zv_G n w s t st) (hn : n < 64) (hv : v < 8) (ha : a < 128) (hb : b < 128) (hab : a / 4 < b / 4) (h : zv_held n w s t v (nI a) (nI b) = false) : zv_G (n + 1) (zv_put w n v) (zv_put s n a) (zv_put t n b) st := by
  have hno := zs_noheld hG ha hb h
  obtain ⟨g1, g2, g3, g4⟩ := hG
  refine ⟨by omega, fun i hi => ?_, fun i j hi hj e1 e2 e3 => ?_, g4⟩
  · by_cases e : i = n
    · subst e; rw [zv_put_s, zv_put_s, zv_put_s]; exact ⟨hv, ha, hb, hab⟩
    · rw [zv_put_n e, zv_put_n e, zv_put_n e]; exact g2 i (by omega)
  · by_cases q1 : i = n
    · by_cases q2 : j = n
      · omega
      · exfalso
        subst q1
        rw [zv_put_s, zv_put_n q2] at e1 e2 e3
        exact hno j (by omega) ⟨e1.symm, e2.symm, e3.symm⟩
    · by_cases q2 : j = n
      · exfalso
        subst q2
        rw [zv_put_s, zv_put_n q1] at e1 e2 e3
        exact hno i (by omega) ⟨e1, e2, e3⟩
      · rw [zv_put_n q1, zv_put_n q2] at e1 e2 e3
        exact g3 i j (by omega) (by omega) e1 e2 e3
theorem zs_V {n : Nat} {w : Nat → Nat} {fV : Nat → Int32} {v : Nat} (h : zr_V n w fV) (hv : v < 8) : zr_V (n + 1) (zv_put w n v) (upd fV v (fV v + nI 1)) := by
  intro u hu
  have e : zv_cntV (n + 1) (zv_put w n v) u = zv_cntV n w u + if v = u then 1 else 0 := by
    unfold zv_cntV
    rw [zv_sum, zv_put_s, zv_sum_congr (g := fun i => if w i = u then 1 else 0) (fun i hi => by rw [zv_put_l hi])]
  rw [e]
  by_cases q : u = v
  · subst q; rw [zu_s, if_pos rfl, h u hu, nI_add]
  · rw [zu_n q, if_neg (fun z => q z.symm), h u hu]; rfl
theorem zs_T {n : Nat} {w t : Nat → Nat} {fT : Nat → Int32} {v b : Nat} (h : zr_T n w t fT) (hv : v < 8) (hb : b < 128) : zr_T (n + 1) (zv_put w n v) (zv_put t n b) (upd fT (32 * v + b / 4) (fT (32 * v + b / 4) + nI 1)) := by
  intro u e hu he
  have ee : zv_cntT (n + 1) (zv_put w n v) (zv_put t n b) u e = zv_cntT n w t u e + if v = u ∧ b / 4 = e then 1 else 0 := by
    unfold zv_cntT
    rw [zv_sum, zv_put_s, zv_put_s, zv_sum_congr (g := fun i => if w i = u ∧ t i / 4 = e then 1 else 0) (fun i hi => by rw [zv_put_l hi, zv_put_l hi])]
  rw [ee]
  by_cases q : v = u ∧ b / 4 = e
  · obtain ⟨q1, q2⟩ := q
    subst q1; subst q2
    rw [zu_s, if_pos ⟨rfl, rfl⟩, h v (b / 4) hu he, nI_add]
  · rw [zu_n (by omega), if_neg q, h u e hu he]; rfl
def zv_lo (fL : Nat → Int32) (v b e : Nat) : Nat → Int32 := fun i => if 32 * v ≤ i ∧ i < 32 * v + e then (if fL i ≤ nI b then fL i else nI b) else fL i
def zv_hi (fG : Nat → Int32) (v a b e : Nat) : Nat → Int32 := fun i => if 32 * v + a + 1 ≤ i ∧ i < 32 * v + e then (if nI b ≤ fG i then fG i else nI b) else fG i
theorem zl_0 (fL : Nat → Int32) (v b : Nat) : zv_lo fL v b 0 = fL := by
  funext i; unfold zv_lo; rw [if_neg (by omega)]
theorem zl_at (fL : Nat → Int32) (v b e : Nat) : zv_lo fL v b e (32 * v + e) = fL (32 * v + e) := by
  unfold zv_lo; rw [if_neg (by omega)]
theorem zl_s {fL : Nat → Int32} {v b e : Nat} {x : Int32} (hx : x = if fL (32 * v + e) ≤ nI b then fL (32 * v + e) else nI b) : upd (zv_lo fL v b e) (32 * v + e) x = zv_lo fL v b (e + 1) := by
  funext i
  by_cases q : i = 32 * v + e
  · subst q; rw [zu_s, hx]; unfold zv_lo; rw [if_pos (show 32 * v ≤ 32 * v + e ∧ 32 * v + e < 32 * v + (e + 1) by omega)]
  · rw [zu_n q]; unfold zv_lo
    by_cases c : 32 * v ≤ i ∧ i < 32 * v + e
    · rw [if_pos c, if_pos (show 32 * v ≤ i ∧ i < 32 * v + (e + 1) by omega)]
    · rw [if_neg c, if_neg (show ¬ (32 * v ≤ i ∧ i < 32 * v + (e + 1)) by omega)]
theorem zh_0 (fG : Nat → Int32) (v a b : Nat) : zv_hi fG v a b (a + 1) = fG := by
  funext i; unfold zv_hi; rw [if_neg (by omega)]
theorem zh_at (fG : Nat → Int32) (v a b e : Nat) : zv_hi fG v a b e (32 * v + e) = fG (32 * v + e) := by
  unfold zv_hi; rw [if_neg (by omega)]
theorem zh_s {fG : Nat → Int32} {v a b e : Nat} {x : Int32} (he : a + 1 ≤ e) (hx : x = if nI b ≤ fG (32 * v + e) then fG (32 * v + e) else nI b) : upd (zv_hi fG v a b e) (32 * v + e) x = zv_hi fG v a b (e + 1) := by
  funext i
  by_cases q : i = 32 * v + e
  · subst q; rw [zu_s, hx]; unfold zv_hi; rw [if_pos (show 32 * v + a + 1 ≤ 32 * v + e ∧ 32 * v + e < 32 * v + (e + 1) by omega)]
  · rw [zu_n q]; unfold zv_hi
    by_cases c : 32 * v + a + 1 ≤ i ∧ i < 32 * v + e
    · rw [if_pos c, if_pos (show 32 * v + a + 1 ≤ i ∧ i < 32 * v + (e + 1) by omega)]
    · rw [if_neg c, if_neg (show ¬ (32 * v + a + 1 ≤ i ∧ i < 32 * v + (e + 1)) by omega)]
theorem zs_L {n : Nat} {w s t : Nat → Nat} {fL : Nat → Int32} {v a b : Nat} (h : zr_L n w s t fL) (hv : v < 8) (ha : a < 128) (hb : b < 128) : zr_L (n + 1) (zv_put w n v) (zv_put s n a) (zv_put t n b) (zv_lo fL v (b / 4) (a / 4)) := by
  intro u e z hu he hz
  rw [zn_ex (P := fun i => w i = u ∧ e < s i / 4 ∧ t i / 4 < z) (X := v = u ∧ e < a / 4 ∧ b / 4 < z) (fun i hi => by rw [zv_put_l hi, zv_put_l hi, zv_put_l hi]) (by rw [zv_put_s, zv_put_s, zv_put_s]), ← h u e z hu he hz]
  unfold zv_lo
  by_cases c : u = v ∧ e < a / 4
  · obtain ⟨c1, c2⟩ := c
    subst c1
    rw [if_pos (by omega)]
    have hz1 : (nI z).toInt = (z : Int) := nI_toInt (by omega)
    have hb1 : (nI (b / 4)).toInt = ((b / 4 : Nat) : Int) := nI_toInt (by omega)
    generalize fL (32 * u + e) = y
    by_cases d : y ≤ nI (b / 4)
    · rw [if_pos d]
      rw [zn_le, hb1] at d
      rw [zn_lt, hz1]
      omega
    · rw [if_neg d]
      rw [zn_le, hb1] at d
      rw [zn_lt, zn_lt, hz1, hb1]
      omega
  · rw [if_neg (by omega)]
    constructor
    · exact fun q => Or.inl q
    · rintro (q | ⟨q1, q2, -⟩)
      · exact q
      · exact absurd ⟨q1.symm, q2⟩ c
theorem zs_Gr {n : Nat} {w s t : Nat → Nat} {fG : Nat → Int32} {v a b : Nat} (h : zr_G n w s t fG) (hv : v < 8) (ha : a < 128) (hb : b < 128) : zr_G (n + 1) (zv_put w n v) (zv_put s n a) (zv_put t n b) (zv_hi fG v (a / 4) (b / 4) 32) := by
  intro u e z hu he hz
  rw [zn_ex (P := fun i => w i = u ∧ s i / 4 < e ∧ z < t i / 4) (X := v = u ∧ a / 4 < e ∧ z < b / 4) (fun i hi => by rw [zv_put_l hi, zv_put_l hi, zv_put_l hi]) (by rw [zv_put_s, zv_put_s, zv_put_s]), ← h u e z hu he hz]
  unfold zv_hi
  by_cases c : u = v ∧ a / 4 < e
  · obtain ⟨c1, c2⟩ := c
    subst c1
    rw [if_pos (by omega)]
    have hz1 : (nI z).toInt = (z : Int) := nI_toInt (by omega)
    have hb1 : (nI (b / 4)).toInt = ((b / 4 : Nat) : Int) := nI_toInt (by omega)
    generalize fG (32 * u + e) = y
    by_cases d : nI (b / 4) ≤ y
    · rw [if_pos d]
      rw [zn_le, hb1] at d
      rw [zn_lt, hz1]
      omega
    · rw [if_neg d]
      rw [zn_le, hb1] at d
      rw [zn_lt, zn_lt, hz1, hb1]
      omega
  · rw [if_neg (by omega)]
    constructor
    · exact fun q => Or.inl q
    · rintro (q | ⟨q1, q2, -⟩)
      · exact q
      · exact absurd ⟨q1.symm, q2⟩ c
/-! verdicts -/
theorem zj_b1 {n : Nat} {w t : Nat → Nat} {fT : Nat → Int32} {v b : Nat} (h : zr_T n w t fT) (hn : n ≤ 64) (hv : v < 8) (hb : b < 128) : fT (32 * v + b / 4) ≤ 0 ↔ ¬ zv_any (zv_b1 w t v b) n = true := by
  have hc := zb_cntT n w t v (b / 4)
  rw [h v (b / 4) hv (by omega), ← nI_0, nI_leI (by omega) (by omega), zv_any_iff]
  have hp := zv_sum_pos (f := fun i => if w i = v ∧ t i / 4 = b / 4 then 1 else 0) (n := n)
  unfold zv_cntT
  constructor
  · rintro h1 ⟨i, hi, h2⟩
    have := hp.mpr ⟨i, hi, by
      unfold zv_b1 at h2
      have h3 := of_decide_eq_true h2
      simp [h3.1, h3.2]⟩
    omega
  · intro h1
    by_cases q : 0 < zv_sum (fun i => if w i = v ∧ t i / 4 = b / 4 then 1 else 0) n
    · obtain ⟨i, hi, h2⟩ := hp.mp q
      exfalso
      apply h1
      refine ⟨i, hi, ?_⟩
      unfold zv_b1
      by_cases c : w i = v ∧ t i / 4 = b / 4
      · exact decide_eq_true c
      · simp only [c, if_false] at h2; omega
    · omega
theorem zj_b2 {n : Nat} {w s t : Nat → Nat} {fL : Nat → Int32} {v a b : Nat} (h : zr_L n w s t fL) (hv : v < 8) (ha : a < 128) (hb : b < 128) : nI (b / 4) ≤ fL (32 * v + a / 4) ↔ ¬ zv_any (zv_b2 w s t v a b) n = true := by
  have h1 := h v (a / 4) (b / 4) hv (by omega) (by omega)
  have h2 : zv_any (zv_b2 w s t v a b) n = true ↔ ∃ i, i < n ∧ w i = v ∧ a / 4 < s i / 4 ∧ t i / 4 < b / 4 := by
    rw [zv_any_iff]
    exact ⟨fun ⟨i, hi, q⟩ => ⟨i, hi, of_decide_eq_true q⟩, fun ⟨i, hi, q⟩ => ⟨i, hi, decide_eq_true q⟩⟩
  rw [h2, ← h1, zn_lt, zn_le]
  omega
theorem zj_b4 {n : Nat} {w s t : Nat → Nat} {fG : Nat → Int32} {v a b : Nat} (h : zr_G n w s t fG) (hv : v < 8) (ha : a < 128) (hb : b < 128) : fG (32 * v + a / 4) ≤ nI (b / 4) ↔ ¬ zv_any (zv_b4 w s t v a b) n = true := by
  have h1 := h v (a / 4) (b / 4) hv (by omega) (by omega)
  have h2 : zv_any (zv_b4 w s t v a b) n = true ↔ ∃ i, i < n ∧ w i = v ∧ s i / 4 < a / 4 ∧ b / 4 < t i / 4 := by
    rw [zv_any_iff]
    exact ⟨fun ⟨i, hi, q⟩ => ⟨i, hi, of_decide_eq_true q⟩, fun ⟨i, hi, q⟩ => ⟨i, hi, decide_eq_true q⟩⟩
  rw [h2, ← h1, zn_lt, zn_le]
  omega
theorem zv_verd_0 {n : Nat} {w s t : Nat → Nat} {v a b : Nat} : zv_verd n w s t v a b = 0 ↔ ¬ (zv_any (zv_b1 w t v b) n = true ∨ zv_any (zv_b2 w s t v a b) n = true ∨ zv_any (zv_b4 w s t v a b) n = true) := by
  unfold zv_verd zv_v3
  cases zv_any (zv_b1 w t v b) n <;> cases zv_any (zv_b2 w s t v a b) n <;> cases zv_any (zv_b4 w s t v a b) n <;> simp
theorem zv_verd_lt (n : Nat) (w s t : Nat → Nat) (v a b : Nat) : zv_verd n w s t v a b < 8 := by
  unfold zv_verd zv_v3
  cases zv_any (zv_b1 w t v b) n <;> cases zv_any (zv_b2 w s t v a b) n <;> cases zv_any (zv_b4 w s t v a b) n <;> simp
theorem zv_offs_iff {n : Nat} {w s t : Nat → Nat} {v : Nat} : zv_offs n w s t v = true ↔ ∃ i j, i < n ∧ j < n ∧ i ≠ j ∧ w i = v ∧ w j = v ∧ (t i / 4 = t j / 4 ∨ (s i / 4 < s j / 4 ∧ t j / 4 < t i / 4)) := by
  unfold zv_offs
  rw [zv_any_iff]
  constructor
  · rintro ⟨i, hi, h⟩
    obtain ⟨j, hj, h2⟩ := zv_any_iff.mp h
    exact ⟨i, j, hi, hj, of_decide_eq_true h2⟩
  · rintro ⟨i, j, hi, hj, h⟩
    exact ⟨i, hi, zv_any_yes hj (decide_eq_true h)⟩
theorem zs_offs {n : Nat} {w s t : Nat → Nat} {v a b u : Nat} : zv_offs (n + 1) (zv_put w n v) (zv_put s n a) (zv_put t n b) u = true ↔ zv_offs n w s t u = true ∨ (v = u ∧ ¬ zv_verd n w s t v a b = 0) := by
  rw [zv_offs_iff, zv_offs_iff, zv_verd_0, Classical.not_not, zv_any_iff, zv_any_iff, zv_any_iff]
  constructor
  · rintro ⟨i, j, hi, hj, hne, h1, h2, h3⟩
    by_cases q1 : i = n
    · subst q1
      have q2 : j ≠ i := fun q => hne q.symm
      rw [zv_put_s] at h1
      rw [zv_put_n q2] at h2
      rw [zv_put_s, zv_put_s, zv_put_n q2, zv_put_n q2] at h3
      refine Or.inr ⟨h1, ?_⟩
      rcases h3 with h3 | ⟨h3, h4⟩
      · exact Or.inl ⟨j, by omega, decide_eq_true ⟨by omega, by omega⟩⟩
      · exact Or.inr (Or.inl ⟨j, by omega, decide_eq_true ⟨by omega, h3, h4⟩⟩)
    · by_cases q2 : j = n
      · subst q2
        rw [zv_put_n q1] at h1
        rw [zv_put_s] at h2
        rw [zv_put_s, zv_put_s, zv_put_n q1, zv_put_n q1] at h3
        refine Or.inr ⟨h2, ?_⟩
        rcases h3 with h3 | ⟨h3, h4⟩
        · exact Or.inl ⟨i, by omega, decide_eq_true ⟨by omega, h3⟩⟩
        · exact Or.inr (Or.inr ⟨i, by omega, decide_eq_true ⟨by omega, h3, h4⟩⟩)
      · rw [zv_put_n q1] at h1
        rw [zv_put_n q2] at h2
        rw [zv_put_n q1, zv_put_n q1, zv_put_n q2, zv_put_n q2] at h3
        exact Or.inl ⟨i, j, by omega, by omega, hne, h1, h2, h3⟩
  · rintro (⟨i, j, hi, hj, hne, h1, h2, h3⟩ | ⟨hvu, h⟩)
    · refine ⟨i, j, by omega, by omega, hne, ?_, ?_, ?_⟩
      · rw [zv_put_l hi]; exact h1
      · rw [zv_put_l hj]; exact h2
      · rw [zv_put_l hi, zv_put_l hi, zv_put_l hj, zv_put_l hj]; exact h3
    · rcases h with ⟨i, hi, h⟩ | ⟨i, hi, h⟩ | ⟨i, hi, h⟩
      · obtain ⟨h1, h2⟩ := of_decide_eq_true h
        refine ⟨i, n, by omega, by omega, by omega, ?_, ?_, Or.inl ?_⟩
        · rw [zv_put_l hi]; omega
        · rw [zv_put_s]; exact hvu
        · rw [zv_put_l hi, zv_put_s]; exact h2
      · obtain ⟨h1, h2, h3⟩ := of_decide_eq_true h
        refine ⟨n, i, by omega, by omega, by omega, ?_, ?_, Or.inr ⟨?_, ?_⟩⟩
        · rw [zv_put_s]; exact hvu
        · rw [zv_put_l hi]; omega
        · rw [zv_put_l hi, zv_put_s]; exact h2
        · rw [zv_put_l hi, zv_put_s]; exact h3
      · obtain ⟨h1, h2, h3⟩ := of_decide_eq_true h
        refine ⟨i, n, by omega, by omega, by omega, ?_, ?_, Or.inr ⟨?_, ?_⟩⟩
        · rw [zv_put_l hi]; omega
        · rw [zv_put_s]; exact hvu
        · rw [zv_put_l hi, zv_put_s]; exact h2
        · rw [zv_put_l hi, zv_put_s]; exact h3
theorem zs_O {n : Nat} {w s t : Nat → Nat} {o o' : Int32} {v a b : Nat} (h : zr_O n w s t o) (hv : v < 8) (h0 : zv_verd n w s t v a b = 0 → o' = o) (h1 : ¬ zv_verd n w s t v a b = 0 → o' = o ||| (nI 1 <<< (nI v &&& 31))) : zr_O (n + 1) (zv_put w n v) (zv_put s n a) (zv_put t n b) o' := by
  intro u hu
  rw [Bool.eq_iff_iff, zs_offs, ← h u hu]
  by_cases q : zv_verd n w s t v a b = 0
  · rw [h0 q]
    exact ⟨Or.inl, fun z => z.elim id (fun z => absurd q z.2)⟩
  · rw [h1 q, zb_set (by omega) (by omega), Bool.or_eq_true, decide_eq_true_iff]
    constructor
    · rintro (z | z)
      · exact Or.inl z
      · exact Or.inr ⟨z.symm, q⟩
    · rintro (z | ⟨z, -⟩)
      · exact Or.inl z
      · exact Or.inr z.symm
end
section
/-! PLAIN: links under one more vote; support two ways; the two ways to justify -/
theorem zq_old {n : Nat} {w s t : Nat → Nat} {q : Nat} {fF fO fB : Nat → Int32} {k v a b : Nat} (h : zr_Q n w s t q fF fO fB) (hk : k < q) (hv : v < 8) (h1 : fF k = nI a) (h2 : fO k = nI b) : zr_Q (n + 1) (zv_put w n v) (zv_put s n a) (zv_put t n b) q fF fO (upd fB k (fB k ||| (nI 1 <<< (nI v &&& 31)))) := by
  obtain ⟨c1, c2, c3, c4, c5, c6⟩ := h
  refine ⟨by omega, fun j hj => ?_, fun i hi => ?_, c4, c5, fun j u hj hu => ?_⟩
  · obtain ⟨i, hi, e1, e2⟩ := c2 j hj
    exact ⟨i, by omega, by rw [zv_put_l hi]; exact e1, by rw [zv_put_l hi]; exact e2⟩
  · by_cases e : i = n
    · subst e; exact ⟨k, hk, by rw [zv_put_s]; exact h1, by rw [zv_put_s]; exact h2⟩
    · rw [zv_put_n e, zv_put_n e]; exact c3 i (by omega)
  · rw [zs_held]
    by_cases e : j = k
    · subst e
      rw [zu_s, zb_set (by omega) (by omega), c6 j u hj hu, h1, h2]
      congr 1
      by_cases z : u = v
      · subst z; simp
      · rw [decide_eq_false z, decide_eq_false (fun q => z q.1.symm)]
    · rw [zu_n e, c6 j u hj hu, decide_eq_false, Bool.or_false]
      rintro ⟨-, q2, q3⟩
      exact e (c4 j k hj hk (by rw [h1]; exact q2.symm) (by rw [h2]; exact q3.symm))
/-- the places from pl on moved up by one -/
def zv_sh (f : Nat → Int32) (pl q : Nat) : Nat → Int32 := fun j => if pl < j ∧ j ≤ q then f (j - 1) else f j
theorem zsh_0 (f : Nat → Int32) (q : Nat) : zv_sh f q q = f := by
  funext j; unfold zv_sh; rw [if_neg (by omega)]
theorem zsh_at (f : Nat → Int32) (pl q : Nat) : zv_sh f pl q pl = f pl := by unfold zv_sh; rw [if_neg (by omega)]
theorem zsh_lt {f : Nat → Int32} {pl q j : Nat} (h : j < pl) : zv_sh f pl q j = f j := by unfold zv_sh; rw [if_neg (by omega)]
theorem zsh_s {f : Nat → Int32} {pl q : Nat} (h : pl + 1 ≤ q) : upd (zv_sh f (pl + 1) q) (pl + 1) (f pl) = zv_sh f pl q := by
  funext j
  by_cases e : j = pl + 1
  · subst e; rw [zu_s]; unfold zv_sh; rw [if_pos (by omega), Nat.add_sub_cancel]
  · rw [zu_n e]; unfold zv_sh
    by_cases c : pl + 1 < j ∧ j ≤ q
    · rw [if_pos c, if_pos (by omega)]
    · rw [if_neg c, if_neg (by omega)]
def zv_od (pl j : Nat) : Nat := if j < pl then j else j - 1
theorem zsh_od {f : Nat → Int32} {pl q j : Nat} {x : Int32} (hp : pl ≤ q) (hj : j < q + 1) (hne : j ≠ pl) : upd (zv_sh f pl q) pl x j = f (zv_od pl j) := by
  rw [zu_n hne]; unfold zv_sh zv_od
  by_cases c : j < pl
  · rw [if_neg (by omega), if_pos c]
  · rw [if_pos (by omega), if_neg c]
theorem zq_new {n : Nat} {w s t : Nat → Nat} {q : Nat} {fF fO fB fB2 : Nat → Int32} {pl v a b : Nat} (h : zr_Q n w s t q fF fO fB) (hp : pl ≤ q) (hv : v < 8) (hno : ∀ k, k < q → ¬ (fF k = nI a ∧ fO k = nI b)) (hl : pl = 0 ∨ fO (pl - 1) ≤ nI b) (hr : ∀ j, pl ≤ j → j < q → nI b < fO j)
    (hB : ∀ j, j < q + 1 → j ≠ pl → fB2 j = fB (zv_od pl j)) (hB2 : ∀ u, u < 8 → bt (fB2 pl) u = decide (u = v)) : zr_Q (n + 1) (zv_put w n v) (zv_put s n a) (zv_put t n b) (q + 1) (upd (zv_sh fF pl q) pl (nI a)) (upd (zv_sh fO pl q) pl (nI b)) fB2 := by
  obtain ⟨c1, c2, c3, c4, c5, c6⟩ := h
  have od : ∀ j, j < q + 1 → j ≠ pl → zv_od pl j < q := by
    intro j h1 h2; unfold zv_od
    by_cases c : j < pl
    · rw [if_pos c]; omega
    · rw [if_neg c]; omega
  have le : ∀ j, j < pl → fO j ≤ nI b := by
    intro j hj
    have e := hl.resolve_left (by omega)
    by_cases z : j = pl - 1
    · rw [z]; exact e
    · have e2 := c5 j (pl - 1) (by omega) (by omega)
      rw [zn_le] at e e2 ⊢
      omega
  refine ⟨by omega, fun j hj => ?_, fun i hi => ?_, fun j k hj hk e1 e2 => ?_, fun j k hjk hk => ?_, fun j u hj hu => ?_⟩
  · by_cases e : j = pl
    · subst e
      exact ⟨n, by omega, by rw [zu_s, zv_put_s], by rw [zu_s, zv_put_s]⟩
    · obtain ⟨i, hi, e1, e2⟩ := c2 _ (od j hj e)
      exact ⟨i, by omega, by rw [zsh_od hp hj e, zv_put_l hi]; exact e1, by rw [zsh_od hp hj e, zv_put_l hi]; exact e2⟩
  · by_cases e : i = n
    · subst e
      exact ⟨pl, by omega, by rw [zu_s, zv_put_s], by rw [zu_s, zv_put_s]⟩
    · obtain ⟨k, hk, e1, e2⟩ := c3 i (by omega)
      rw [zv_put_n e, zv_put_n e]
      by_cases z : k < pl
      · have o1 : zv_od pl k = k := by unfold zv_od; rw [if_pos z]
        exact ⟨k, by omega, by rw [zsh_od hp (by omega) (by omega), o1]; exact e1, by rw [zsh_od hp (by omega) (by omega), o1]; exact e2⟩
      · have o1 : zv_od pl (k + 1) = k := by unfold zv_od; rw [if_neg (by omega)]; omega
        exact ⟨k + 1, by omega, by rw [zsh_od hp (by omega) (by omega), o1]; exact e1, by rw [zsh_od hp (by omega) (by omega), o1]; exact e2⟩
  · by_cases q1 : j = pl
    · by_cases q2 : k = pl
      · omega
      · subst q1
        rw [zu_s, zsh_od hp hk q2] at e1 e2
        exact absurd ⟨e1.symm, e2.symm⟩ (hno _ (od k hk q2))
    · by_cases q2 : k = pl
      · subst q2
        rw [zu_s, zsh_od hp hj q1] at e1 e2
        exact absurd ⟨e1, e2⟩ (hno _ (od j hj q1))
      · rw [zsh_od hp hj q1, zsh_od hp hk q2] at e1 e2
        have e3 := c4 _ _ (od j hj q1) (od k hk q2) e1 e2
        unfold zv_od at e3
        by_cases z1 : j < pl
        · by_cases z2 : k < pl
          · rw [if_pos z1, if_pos z2] at e3; exact e3
          · rw [if_pos z1, if_neg z2] at e3; omega
        · by_cases z2 : k < pl
          · rw [if_neg z1, if_pos z2] at e3; omega
          · rw [if_neg z1, if_neg z2] at e3; omega
  · by_cases q1 : j = pl
    · subst q1
      rw [zu_s, zsh_od hp hk (by omega)]
      have o1 : zv_od j k = k - 1 := by unfold zv_od; rw [if_neg (by omega)]
      have := hr (k - 1) (by omega) (by omega)
      rw [o1]
      rw [zn_lt] at this; rw [zn_le]
      omega
    · by_cases q2 : k = pl
      · subst q2
        rw [zu_s, zsh_od hp (by omega) q1]
        have o1 : zv_od k j = j := by unfold zv_od; rw [if_pos hjk]
        rw [o1]
        exact le j hjk
      · rw [zsh_od hp (by omega) q1, zsh_od hp hk q2]
        refine c5 _ _ ?_ (od k hk q2)
        unfold zv_od
        by_cases z1 : j < pl
        · by_cases z2 : k < pl
          · rw [if_pos z1, if_pos z2]; exact hjk
          · rw [if_pos z1, if_neg z2]; omega
        · rw [if_neg z1, if_neg (by omega)]; omega
  · rw [zs_held]
    by_cases e : j = pl
    · subst e
      rw [hB2 u hu, zu_s, zu_s]
      have : zv_held n w s t u (nI a) (nI b) = false := by
        refine zv_any_no (fun i hi h9 => ?_)
        obtain ⟨-, g2, g3⟩ := of_decide_eq_true h9
        obtain ⟨k, hk, e1, e2⟩ := c3 i hi
        exact hno k hk ⟨e1.trans g2, e2.trans g3⟩
      rw [this, Bool.false_or]
      by_cases z : u = v
      · subst z; simp
      · rw [decide_eq_false z, decide_eq_false (fun q => z q.1.symm)]
    · rw [hB j hj e, zsh_od hp hj e, zsh_od hp hj e, c6 _ u (od j hj e) hu, decide_eq_false, Bool.or_false]
      rintro ⟨-, q2, q3⟩
      exact hno _ (od j hj e) ⟨q2.symm, q3.symm⟩
/-! support, as the model adds it up -/
theorem zm_sup {n : Nat} {w s t st : Nat → Nat} (hG : zv_G n w s t st) (x y : Int32) : ∀ k, k ≤ n → zv_sum (fun i => if nI (s i) = x ∧ nI (t i) = y then st (w i) else 0) k = zv_sum (fun v => if zv_held k w s t v x y = true then st v else 0) 8 := by
  intro k
  induction k with
  | zero => intro _; exact (zv_sum_zero (f := fun v => if zv_held 0 w s t v x y = true then st v else 0) (n := 8) (fun v _ => rfl)).symm
  | succ k ih =>
    intro hk
    rw [zv_sum, ih (by omega)]
    have hs : ∀ v, zv_held (k + 1) w s t v x y = (zv_held k w s t v x y || zv_hd w s t v x y k) := fun v => rfl
    by_cases c : nI (s k) = x ∧ nI (t k) = y
    · rw [if_pos c]
      obtain ⟨b1, b2, b3, -⟩ := hG.2.1 k (by omega)
      have hno : zv_held k w s t (w k) x y = false := by
        refine zv_any_no (fun i hi h9 => ?_)
        obtain ⟨g1, g2, g3⟩ := of_decide_eq_true h9
        obtain ⟨d1, d2, d3, -⟩ := hG.2.1 i (by omega)
        have := hG.2.2.1 i k (by omega) (by omega) g1 (zn_inj (by omega) (by omega) (g2.trans c.1.symm)) (zn_inj (by omega) (by omega) (g3.trans c.2.symm))
        omega
      refine (zv_sum_one (k := w k) b1 (fun v _ hv => ?_) ?_).symm
      · rw [hs v, show zv_hd w s t v x y k = false from decide_eq_false (fun q => hv q.1.symm), Bool.or_false]
      · rw [hs (w k), hno, show zv_hd w s t (w k) x y k = true from decide_eq_true ⟨rfl, c.1, c.2⟩]; simp
    · rw [if_neg c, Nat.add_zero]
      refine zv_sum_congr (fun v _ => ?_)
      rw [hs v, show zv_hd w s t v x y k = false from decide_eq_false (fun q => c q.2), Bool.or_false]
theorem zx_sup0 {n : Nat} {w s t st : Nat → Nat} {q : Nat} {fF fO fB : Nat → Int32} {x y : Int32} (h : zr_Q n w s t q fF fO fB) (hno : ∀ k, k < q → ¬ (fF k = x ∧ fO k = y)) : zv_sup n w s t st x y = 0 := by
  refine zv_sum_zero (fun v _ => ?_)
  rw [if_neg]
  intro h9
  obtain ⟨i, hi, h8⟩ := zv_any_iff.mp h9
  obtain ⟨-, g2, g3⟩ := of_decide_eq_true h8
  obtain ⟨k, hk, e1, e2⟩ := h.2.2.1 i hi
  exact hno k hk ⟨e1.trans g2, e2.trans g3⟩
theorem zx_supk {n : Nat} {w s t st : Nat → Nat} {q : Nat} {fF fO fB : Nat → Int32} {k : Nat} (h : zr_Q n w s t q fF fO fB) (hk : k < q) : zv_sum (fun v => if bt (fB k) v = true then st v else 0) 8 = zv_sup n w s t st (fF k) (fO k) :=
  zv_sum_congr (fun v hv => by rw [h.2.2.2.2.2 k v hk hv])
theorem zx_tot (st : Nat → Nat) : zv_sum (fun v => if bt (nI 255) v = true then st v else 0) 8 = zv_tot st :=
  zv_sum_congr (fun v hv => by rw [show nI 255 = (255 : Int32) from rfl, b_255, if_pos (decide_eq_true hv)])
/-! the system's one pass -/
def zk_I (n : Nat) (w s t st : Nat → Nat) (fF fO : Nat → Int32) (k : Nat) (g : Nat → Int32) : Prop :=
  (∀ c, c < 128 → g c = 0 ∨ (g c = 1 ∧ zv_Just n w s t st c)) ∧ g 0 = 1 ∧ ∀ j a b, j < k → fF j = nI a → fO j = nI b → a < 128 → b < 128 → g a = 1 → zv_Sup n w s t st (nI a) (nI b) → g b = 1
theorem zk_0 {n : Nat} {w s t st : Nat → Nat} {fF fO : Nat → Int32} {g : Nat → Int32} (h : ∀ c, c < 128 → g c = if c = 0 then 1 else 0) : zk_I n w s t st fF fO 0 g := by
  refine ⟨fun c hc => ?_, by rw [h 0 (by omega)]; rfl, fun j a b hj => absurd hj (Nat.not_lt_zero _)⟩
  by_cases e : c = 0
  · subst e; exact Or.inr ⟨by rw [h 0 hc]; rfl, zj_0⟩
  · exact Or.inl (by rw [h c hc, if_neg e])
theorem zk_skip {n : Nat} {w s t st : Nat → Nat} {fF fO : Nat → Int32} {k a b : Nat} {g : Nat → Int32} (h : zk_I n w s t st fF fO k g) (h1 : fF k = nI a) (h2 : fO k = nI b) (ha : a < 128) (hb : b < 128) (hx : g a = 1 → ¬ zv_Sup n w s t st (nI a) (nI b)) : zk_I n w s t st fF fO (k + 1) g := by
  refine ⟨h.1, h.2.1, fun j a' b' hj e1 e2 ha' hb' hg hs => ?_⟩
  by_cases e : j = k
  · subst e
    have q1 : a' = a := zn_inj (by omega) (by omega) (e1.symm.trans h1)
    have q2 : b' = b := zn_inj (by omega) (by omega) (e2.symm.trans h2)
    subst q1; subst q2
    exact absurd hs (hx hg)
  · exact h.2.2 j a' b' (by omega) e1 e2 ha' hb' hg hs
theorem zk_set {n : Nat} {w s t st : Nat → Nat} {q : Nat} {fF fO fB : Nat → Int32} {k i : Nat} {g : Nat → Int32} (hG : zv_G n w s t st) (hQ : zr_Q n w s t q fF fO fB) (h : zk_I n w s t st fF fO k g) (hk : k < q) (hi : i < n) (h1 : fF k = nI (s i)) (h2 : fO k = nI (t i)) (hg : g (s i) = 1) (hs : zv_Sup n w s t st (nI (s i)) (nI (t i))) : zk_I n w s t st fF fO (k + 1) (upd g (t i) 1) := by
  obtain ⟨-, b2, b3, b4⟩ := hG.2.1 i hi
  have hJ : zv_Just n w s t st (t i) := by
    rcases h.1 (s i) b2 with e | e
    · rw [hg] at e; cases e
    · exact zj_s hi e.2 hs
  refine ⟨fun c hc => ?_, ?_, fun j a b hj e1 e2 ha hb hga hsab => ?_⟩
  · by_cases e : c = t i
    · subst e; exact Or.inr ⟨zu_s, hJ⟩
    · rw [zu_n e]; exact h.1 c hc
  · by_cases e : 0 = t i
    · rw [← e, zu_s]
    · rw [zu_n e]; exact h.2.1
  · by_cases eb : b = t i
    · subst eb; exact zu_s
    · rw [zu_n eb]
      by_cases ej : j = k
      · subst ej
        exact absurd (zn_inj (by omega) (by omega) (e2.symm.trans h2)) eb
      · have ea : ¬ a = t i := by
          intro ea
          obtain ⟨i2, hi2, f1, f2⟩ := hQ.2.1 j (by omega)
          obtain ⟨-, d2, d3, d4⟩ := hG.2.1 i2 hi2
          have g1 : a = s i2 := zn_inj (by omega) (by omega) (e1.symm.trans f1)
          have g2 : b = t i2 := zn_inj (by omega) (by omega) (e2.symm.trans f2)
          have g3 := hQ.2.2.2.2.1 j k (by omega) hk
          rw [e2, h2, nI_leI (by omega) (by omega)] at g3
          omega
        rw [zu_n ea] at hga
        exact h.2.2 j a b (by omega) e1 e2 ha hb hga hsab
theorem zk_end {n : Nat} {w s t st : Nat → Nat} {q : Nat} {fF fO fB : Nat → Int32} {g : Nat → Int32} (hG : zv_G n w s t st) (hQ : zr_Q n w s t q fF fO fB) (h : zk_I n w s t st fF fO q g) : ∀ c, c < 128 → g c = zv_Ji n w s t st c := by
  refine zj_done hG h.1 h.2.1 (fun i hi hg hs => ?_)
  obtain ⟨k, hk, e1, e2⟩ := hQ.2.2.1 i hi
  obtain ⟨-, b2, b3, -⟩ := hG.2.1 i hi
  exact h.2.2 k (s i) (t i) hk e1 e2 b2 b3 hg hs
/-! the model's rounds -/
def zm_A (n : Nat) (w s t st : Nat → Nat) (r : Nat) (g : Nat → Int32) : Prop :=
  (∀ c, c < 128 → g c = 0 ∨ (g c = 1 ∧ zv_Just n w s t st c)) ∧ g 0 = 1 ∧ ∀ c, zv_Just n w s t st c → c / 4 ≤ r → g c = 1
def zm_C (n : Nat) (w s t st : Nat → Nat) (k : Nat) (g : Nat → Int32) : Prop := ∀ i, i < k → g (s i) = 1 → zv_Sup n w s t st (nI (s i)) (nI (t i)) → g (t i) = 1
def zm_B (n : Nat) (w s t st : Nat → Nat) (r k : Nat) (g : Nat → Int32) : Prop := ∀ i, i < k → zv_Just n w s t st (s i) → s i / 4 ≤ r → zv_Sup n w s t st (nI (s i)) (nI (t i)) → g (t i) = 1
theorem zm_0 {n : Nat} {w s t st : Nat → Nat} {g : Nat → Int32} (hG : zv_G n w s t st) (h : ∀ c, c < 128 → g c = if c = 0 then 1 else 0) : zm_A n w s t st 0 g := by
  refine ⟨fun c hc => ?_, by rw [h 0 (by omega)]; rfl, fun c hJ hc => ?_⟩
  · by_cases e : c = 0
    · subst e; exact Or.inr ⟨by rw [h 0 hc]; rfl, zj_0⟩
    · exact Or.inl (by rw [h c hc, if_neg e])
  · rcases zj_inv hJ with e | ⟨i, hi, e, -⟩
    · subst e; rw [h 0 (by omega)]; rfl
    · have := (hG.2.1 i hi).2.2.2
      omega
/-- a vote that changes nothing -/
theorem zm_skip {n : Nat} {w s t st : Nat → Nat} {r k : Nat} {g : Nat → Int32} (hA : zm_A n w s t st r g) (hB : zm_B n w s t st r k g) (hx : g (s k) = 1 → zv_Sup n w s t st (nI (s k)) (nI (t k)) → g (t k) = 1) : zm_B n w s t st r (k + 1) g := by
  intro i hi hJ hr hs
  by_cases e : i = k
  · subst e; exact hx (hA.2.2 _ hJ hr) hs
  · exact hB i (by omega) hJ hr hs
theorem zm_skipC {n : Nat} {w s t st : Nat → Nat} {k : Nat} {g : Nat → Int32} (hC : zm_C n w s t st k g) (hx : g (s k) = 1 → zv_Sup n w s t st (nI (s k)) (nI (t k)) → g (t k) = 1) : zm_C n w s t st (k + 1) g := by
  intro i hi hg hs
  by_cases e : i = k
  · subst e; exact hx hg hs
  · exact hC i (by omega) hg hs
theorem zm_set {n : Nat} {w s t st : Nat → Nat} {r k : Nat} {g : Nat → Int32} (hG : zv_G n w s t st) (hk : k < n) (hA : zm_A n w s t st r g) (hB : zm_B n w s t st r k g) (hg : g (s k) = 1) (hs : zv_Sup n w s t st (nI (s k)) (nI (t k))) : zm_A n w s t st r (upd g (t k) 1) ∧ zm_B n w s t st r (k + 1) (upd g (t k) 1) := by
  obtain ⟨-, b2, b3, b4⟩ := hG.2.1 k hk
  have hJ : zv_Just n w s t st (t k) := by
    rcases hA.1 (s k) b2 with e | e
    · rw [hg] at e; cases e
    · exact zj_s hk e.2 hs
  have mono : ∀ c, g c = 1 → upd g (t k) 1 c = 1 := by
    intro c hc
    by_cases e : c = t k
    · subst e; exact zu_s
    · rw [zu_n e]; exact hc
  refine ⟨⟨fun c hc => ?_, mono 0 hA.2.1, fun c h1 h2 => mono c (hA.2.2 c h1 h2)⟩, fun i hi h1 h2 h3 => ?_⟩
  · by_cases e : c = t k
    · subst e; exact Or.inr ⟨zu_s, hJ⟩
    · rw [zu_n e]; exact hA.1 c hc
  · by_cases e : i = k
    · subst e; exact zu_s
    · exact mono _ (hB i (by omega) h1 h2 h3)
theorem zm_next {n : Nat} {w s t st : Nat → Nat} {r : Nat} {g : Nat → Int32} (hG : zv_G n w s t st) (hA : zm_A n w s t st r g) (hB : zm_B n w s t st r n g) : zm_A n w s t st (r + 1) g := by
  refine ⟨hA.1, hA.2.1, fun c hJ hc => ?_⟩
  rcases zj_inv hJ with e | ⟨i, hi, e, h1, h2⟩
  · subst e; exact hA.2.1
  · have := (hG.2.1 i hi).2.2.2
    rw [← e]
    exact hB i hi h1 (by omega) h2
theorem zm_end {n : Nat} {w s t st : Nat → Nat} {r : Nat} {g : Nat → Int32} (hG : zv_G n w s t st) (hA : zm_A n w s t st r g) (h : 65 ≤ r ∨ zm_C n w s t st n g) : ∀ c, c < 128 → g c = zv_Ji n w s t st c := by
  rcases h with h | h
  · intro c hc
    by_cases hJ : zv_Just n w s t st c
    · rw [zj_1 hJ]; exact hA.2.2 c hJ (by omega)
    · rw [zj_n hJ]
      rcases hA.1 c hc with e | e
      · exact e
      · exact absurd e.2 hJ
  · exact zj_done hG hA.1 hA.2.1 h
end
section
/-! the two worlds: the system's ten cells, the model's six -/
abbrev xW (dA dZ : ClassId) (ad : Nat → Nat) (fS fL fG fT fV fF fO fB fJ : Nat → Int32) (o hd ln k : Int32) : va_W :=
  [(ad 0, .inr (0, [.ref (ad 1), .ref (ad 2), .ref (ad 3), .ref (ad 4), .int o, .ref (ad 5), .int hd, .int ln, .ref (ad 6), .ref (ad 7), .ref (ad 8), .int k, .ref (ad 9)])), (ad 1, .inl (dA, 8, .inl fS)), (ad 2, .inl (dA, 256, .inl fL)), (ad 3, .inl (dA, 256, .inl fG)), (ad 4, .inl (dA, 256, .inl fT)), (ad 5, .inl (dA, 8, .inl fV)), (ad 6, .inl (dA, 64, .inl fF)), (ad 7, .inl (dA, 64, .inl fO)), (ad 8, .inl (dA, 64, .inl fB)), (ad 9, .inl (dZ, 128, .inl fJ))]
abbrev mW (dA dZ : ClassId) (ad : Nat → Nat) (gS gW gF gO gJ : Nat → Int32) (nv : Int32) : va_W :=
  [(ad 0, .inr (1, [.ref (ad 1), .int nv, .ref (ad 2), .ref (ad 3), .ref (ad 4), .ref (ad 5)])), (ad 1, .inl (dA, 8, .inl gS)), (ad 2, .inl (dA, 64, .inl gW)), (ad 3, .inl (dA, 64, .inl gF)), (ad 4, .inl (dA, 64, .inl gO)), (ad 5, .inl (dZ, 128, .inl gJ))]
/-! small facts that the walks use -/
theorem zi_0 {c : Prop} [Decidable c] (h : (if c then (1 : Int32) else 0) = 0) : ¬ c := by
  intro hc; rw [if_pos hc] at h; exact absurd h (by decide)
theorem zi_1 {c : Prop} [Decidable c] (h : ¬ (if c then (1 : Int32) else 0) = 0) : c := by
  by_cases hc : c
  · exact hc
  · rw [if_neg hc] at h; exact absurd rfl h
theorem zy_n {r : Int32} {A B : Prop} (h : r = 0) (b : B) : (¬ r = 0 → A) ∧ (r = 0 → B) := ⟨fun q => absurd h q, fun _ => b⟩
theorem zy_y {r : Int32} {A B : Prop} (h : ¬ r = 0) (a : A) : (¬ r = 0 → A) ∧ (r = 0 → B) := ⟨fun _ => a, fun q => absurd q h⟩
theorem zc_neg {x : Int32} {P : Nat → Prop} (hP : ∀ v, P v → v < 2 ^ 31) (h : x < 0) : ∀ v, P v → ¬ x = nI v := by
  intro v hv e; subst e; exact nI_pos (hP v hv) h
theorem zc_big {x : Int32} {P : Nat → Prop} {N : Nat} (hN : N < 2 ^ 31) (hP : ∀ v, P v → v ≤ N) (h : nI N < x) : ∀ v, P v → ¬ x = nI v := by
  intro v hv e; subst e
  have := hP v hv
  rw [nI_ltI hN (by omega)] at h
  omega
theorem zc_in {x : Int32} {N : Nat} (hN : N < 2 ^ 31) (h0 : ¬ x < 0) (h1 : ¬ nI N < x) : ∃ v, v ≤ N ∧ x = nI v := by
  obtain ⟨j, hj, e⟩ := nI_of h0
  subst e
  refine ⟨j, ?_, rfl⟩
  rw [nI_ltI hN hj] at h1
  omega
def zv_bs (x : Int32) (st : Nat → Nat) (v : Nat) : Nat := if bt x v = true then st v else 0
theorem zt_y {x : Int32} {st : Nat → Nat} {i : Nat} (h : bt x i = true) : zv_sum (zv_bs x st) i + st i = zv_sum (zv_bs x st) (i + 1) := by
  rw [zv_sum]; unfold zv_bs; rw [if_pos h]
theorem zt_n {x : Int32} {st : Nat → Nat} {i : Nat} (h : ¬ bt x i = true) : zv_sum (zv_bs x st) i + 0 = zv_sum (zv_bs x st) (i + 1) := by
  rw [zv_sum]; unfold zv_bs; rw [if_neg h]
theorem zt_0 : ¬ nI 1 = 0 := by decide
theorem zt_m1 : nI 0 = 0 := nI_0
/-! MODULE VoteWatch: the methods that write nothing -/
set_option maxHeartbeats 4000000 in
set_option maxRecDepth 100000 in
/-- isValidator(x) -/
theorem cX_isValidator (l : Launch) (x : Int32) : Met l yX0_isValidator (ws_ yX0_isValidator cX0_isValidator 1 (some .boolean)) ({ frames := 0, cells := 0, slots := 0, locals := 0 }) (va_Pc [.int x] (fun _ => True)) (vp_Si (fun r => (¬ r = 0 → ∃ v, v < 8 ∧ x = nI v) ∧ (r = 0 → ∀ v, v < 8 → ¬ x = nI v))) 0 0 (fun _ => False) := by
  refine Met.ofW (cc := cX0_isValidator) (maxL := 1) (ret := (some .boolean)) (by decide) rfl ?_
  intro p e s m args below meth c s₁ B hml hv
  obtain ⟨rfl, -⟩ := hv
  have hx := B.exec
  have hb := B.bytes
  have hr := B.returns
  have hts := atoms_spec (ws := ws_ yX0_isValidator cX0_isValidator 1 (some .boolean)) B.pre
  have hts : ∀ w ∈ lw_all, w.before _ s = true := fun w h => hts w (List.mem_cons_of_mem _ h)
  have hown : s.vm.findClass RX0 = some m.cls := findClass_of_methodNamed B.named
  have hlocks := B.notSynchronized
  have hl := lv_entry ([.int x]) (n := 1) (Nat.le_of_ble_eq_true rfl)
  rw [lg_entry_eq]
  generalize (lg_sl ([.int x]) ++ List.replicate (1 - (lg_sl ([.int x])).length) Slot.unset).toArray = ls at hl ⊢
  have hl : lv_has ls 1 [(0, .int x)] := hl
  refine lv_iload_n hx hb dX0_isValidator_0 rfl (lv_at hl 0 rfl) ?_
  refine lv_if_lt (tgt := 14) hx hb dX0_isValidator_1 (by decide) (fun c1 => ?_) (fun c1 => ?_)
  · refine lv_iconst (v := nI 0) hx hb dX0_isValidator_14 (by decide) ?_
    exact W.zret (v := (nI 0)) hx hb hr (by decide) (fun t ht hW => ⟨_, rfl, zy_n nI_0 (zc_neg (fun v h => by omega) c1), ht⟩) (fun _ h9 => by cases h9) dX0_isValidator_15
  · refine lv_iload_n hx hb dX0_isValidator_4 rfl (lv_at hl 0 rfl) ?_
    refine lv_bipush (v := nI 7) hx hb dX0_isValidator_5 (by decide) ?_
    refine lv_icmp_gt (tgt := 14) hx hb dX0_isValidator_7 (by decide) (fun c2 => ?_) (fun c2 => ?_)
    · refine lv_iconst (v := nI 0) hx hb dX0_isValidator_14 (by decide) ?_
      exact W.zret (v := (nI 0)) hx hb hr (by decide) (fun t ht hW => ⟨_, rfl, zy_n nI_0 (zc_big (N := 7) (by omega) (fun v h => by omega) c2), ht⟩) (fun _ h9 => by cases h9) dX0_isValidator_15
    · refine lv_iconst (v := nI 1) hx hb dX0_isValidator_10 (by decide) ?_
      refine lv_goto (tgt := 15) hx hb dX0_isValidator_11 (by decide) ?_
      obtain ⟨v, hv, rfl⟩ := zc_in (by omega) c1 c2
      exact W.zret (v := (nI 1)) hx hb hr (by decide) (fun t ht hW => ⟨_, rfl, zy_y zt_0 ⟨v, by omega, rfl⟩, ht⟩) (fun _ h9 => by cases h9) dX0_isValidator_15
set_option maxHeartbeats 4000000 in
set_option maxRecDepth 100000 in
/-- isCheckpoint(x) -/
theorem cX_isCheckpoint (l : Launch) (x : Int32) : Met l yX0_isCheckpoint (ws_ yX0_isCheckpoint cX0_isCheckpoint 1 (some .boolean)) ({ frames := 0, cells := 0, slots := 0, locals := 0 }) (va_Pc [.int x] (fun _ => True)) (vp_Si (fun r => (¬ r = 0 → ∃ c, zv_c c ∧ x = nI c) ∧ (r = 0 → ∀ c, zv_c c → ¬ x = nI c))) 0 0 (fun _ => False) := by
  refine Met.ofW (cc := cX0_isCheckpoint) (maxL := 1) (ret := (some .boolean)) (by decide) rfl ?_
  intro p e s m args below meth c s₁ B hml hv
  obtain ⟨rfl, -⟩ := hv
  have hx := B.exec
  have hb := B.bytes
  have hr := B.returns
  have hts := atoms_spec (ws := ws_ yX0_isCheckpoint cX0_isCheckpoint 1 (some .boolean)) B.pre
  have hts : ∀ w ∈ lw_all, w.before _ s = true := fun w h => hts w (List.mem_cons_of_mem _ h)
  have hown : s.vm.findClass RX0 = some m.cls := findClass_of_methodNamed B.named
  have hlocks := B.notSynchronized
  have hl := lv_entry ([.int x]) (n := 1) (Nat.le_of_ble_eq_true rfl)
  rw [lg_entry_eq]
  generalize (lg_sl ([.int x]) ++ List.replicate (1 - (lg_sl ([.int x])).length) Slot.unset).toArray = ls at hl ⊢
  have hl : lv_has ls 1 [(0, .int x)] := hl
  refine lv_iload_n hx hb dX0_isCheckpoint_0 rfl (lv_at hl 0 rfl) ?_
  refine lv_if_lt (tgt := 21) hx hb dX0_isCheckpoint_1 (by decide) (fun c1 => ?_) (fun c1 => ?_)
  · refine lv_iconst (v := nI 0) hx hb dX0_isCheckpoint_21 (by decide) ?_
    exact W.zret (v := (nI 0)) hx hb hr (by decide) (fun t ht hW => ⟨_, rfl, zy_n nI_0 (zc_neg (fun v h => by have := h.1; omega) c1), ht⟩) (fun _ h9 => by cases h9) dX0_isCheckpoint_22
  · refine lv_iload_n hx hb dX0_isCheckpoint_4 rfl (lv_at hl 0 rfl) ?_
    refine lv_bipush (v := nI 126) hx hb dX0_isCheckpoint_5 (by decide) ?_
    refine lv_icmp_gt (tgt := 21) hx hb dX0_isCheckpoint_7 (by decide) (fun c2 => ?_) (fun c2 => ?_)
    · refine lv_iconst (v := nI 0) hx hb dX0_isCheckpoint_21 (by decide) ?_
      exact W.zret (v := (nI 0)) hx hb hr (by decide) (fun t ht hW => ⟨_, rfl, zy_n nI_0 (zc_big (N := 126) (by omega) (fun v h => by have := h.1; omega) c2), ht⟩) (fun _ h9 => by cases h9) dX0_isCheckpoint_22
    · obtain ⟨v, hv, rfl⟩ := zc_in (by omega) c1 c2
      refine lv_iload_n hx hb dX0_isCheckpoint_10 rfl (lv_at hl 0 rfl) ?_
      refine lv_iconst (v := nI 3) hx hb dX0_isCheckpoint_11 (by decide) ?_
      refine lv_iand hx hb dX0_isCheckpoint_12 ?_
      refine zx_top (y := nI (v % 4)) (pk_andN (by omega) 2 (by decide)) ?_
      refine lv_iconst (v := nI 3) hx hb dX0_isCheckpoint_13 (by decide) ?_
      refine lv_icmp_eq (tgt := 21) hx hb dX0_isCheckpoint_14 (by decide) (fun c3 => ?_) (fun c3 => ?_)
      · have c3 : v % 4 = 3 := (nI_eq (by omega) (by omega)).mp c3
        refine lv_iconst (v := nI 0) hx hb dX0_isCheckpoint_21 (by decide) ?_
        exact W.zret (v := (nI 0)) hx hb hr (by decide) (fun t ht hW => ⟨_, rfl, zy_n nI_0 (fun c hc e => by have h1 := zn_inj (by omega) (by have := hc.1; omega) e; have h2 := hc.2; omega), ht⟩) (fun _ h9 => by cases h9) dX0_isCheckpoint_22
      · have c3 : ¬ v % 4 = 3 := fun q => c3 ((nI_eq (by omega) (by omega)).mpr q)
        refine lv_iconst (v := nI 1) hx hb dX0_isCheckpoint_17 (by decide) ?_
        refine lv_goto (tgt := 22) hx hb dX0_isCheckpoint_18 (by decide) ?_
        exact W.zret (v := (nI 1)) hx hb hr (by decide) (fun t ht hW => ⟨_, rfl, zy_y zt_0 ⟨v, ⟨by omega, c3⟩, rfl⟩, ht⟩) (fun _ h9 => by cases h9) dX0_isCheckpoint_22
set_option maxHeartbeats 4000000 in
set_option maxRecDepth 100000 in
/-- stakes(set) -/
theorem cX_stakes (l : Launch) (D : va_G) (dA dZ : ClassId) (ad : Nat → Nat) (fS fL fG fT fV fF fO fB fJ : Nat → Int32) (o hd ln k : Int32) (st : Nat → Nat) (x : Int32) (hst : zr_S st fS) : Met l yX0_stakes (ws_ yX0_stakes cX0_stakes 4 (some .int)) ({ frames := 0, cells := 0, slots := 0, locals := 0 }) (va_Pc [.ref (ad 0), .int x] (zx_R D [(dA, .int), (dZ, .boolean)] (xW dA dZ ad fS fL fG fT fV fF fO fB fJ o hd ln k))) (vp_Si (fun r => r = nI (zv_sum (zv_bs x st) 8))) 0 0 (fun _ => False) := by
  refine Met.ofW (cc := cX0_stakes) (maxL := 4) (ret := (some .int)) (by decide) rfl ?_
  intro p e s m args below meth c s₁ B hml hv
  obtain ⟨rfl, hP, hK⟩ := hv
  have hx := B.exec
  have hb := B.bytes
  have hr := B.returns
  have hts := atoms_spec (ws := ws_ yX0_stakes cX0_stakes 4 (some .int)) B.pre
  have hts : ∀ w ∈ lw_all, w.before _ s = true := fun w h => hts w (List.mem_cons_of_mem _ h)
  have hown : s.vm.findClass RX0 = some m.cls := findClass_of_methodNamed B.named
  have hlocks := B.notSynchronized
  have hl := lv_entry ([.ref (ad 0), .int x]) (n := 4) (Nat.le_of_ble_eq_true rfl)
  rw [lg_entry_eq]
  generalize (lg_sl ([.ref (ad 0), .int x]) ++ List.replicate (4 - (lg_sl ([.ref (ad 0), .int x])).length) Slot.unset).toArray = ls at hl ⊢
  have hl : lv_has ls 4 [(0, .ref (ad 0)), (1, .int x)] := hl
  refine lv_iconst (v := nI 0) hx hb dX0_stakes_0 (by decide) ?_
  refine lv_istore_n (lv' := [(2, .int (nI 0)), (0, .ref (ad 0)), (1, .int x)]) hx hb dX0_stakes_1 rfl hl (by decide) rfl (fun ls hl => ?_)
  refine lv_iconst (v := nI 0) hx hb dX0_stakes_2 (by decide) ?_
  refine lv_istore_n (lv' := [(3, .int (nI 0)), (2, .int (nI 0)), (0, .ref (ad 0)), (1, .int x)]) hx hb dX0_stakes_3 rfl hl (by decide) rfl (fun ls hl => ?_)
  refine zx_r1 (α := Nat) (mu := fun i => 8 - i) (I := fun i ls => (i ≤ 8) ∧ lv_has ls 4 [(0, .ref (ad 0)), (1, .int x), (2, .int (nI (zv_sum (zv_bs x st) i))), (3, .int (nI i))]) ?_ 0 ⟨Nat.zero_le _, lv_sub hl [2, 3, 1, 0] rfl⟩
  intro i ls hI ih
  obtain ⟨hi, hl⟩ := hI
  refine lv_iload_n hx hb dX0_stakes_4 rfl (lv_at hl 3 rfl) ?_
  refine lv_bipush (v := nI 8) hx hb dX0_stakes_5 (by decide) ?_
  refine lv_icmp_ge (tgt := 37) hx hb dX0_stakes_7 (by decide) (fun c1 => ?_) (fun c1 => ?_)
  · have c1 : 8 ≤ i := (nI_leI (by omega) (by omega)).mp c1
    refine lv_iload_n hx hb dX0_stakes_37 rfl (lv_at hl 2 rfl) ?_
    exact W.iret (v := (nI (zv_sum (zv_bs x st) i))) hx hb hr (fun t ht hW => ⟨_, rfl, by rw [show i = 8 by omega], ht⟩) (fun _ h9 => by cases h9) dX0_stakes_38
  · have c1 : ¬ 8 ≤ i := fun q => c1 ((nI_leI (by omega) (by omega)).mpr q)
    refine lv_iload_n hx hb dX0_stakes_10 rfl (lv_at hl 2 rfl) ?_
    refine lv_iload_n hx hb dX0_stakes_11 rfl (lv_at hl 1 rfl) ?_
    refine lv_iload_n hx hb dX0_stakes_12 rfl (lv_at hl 3 rfl) ?_
    refine lv_iushr hx hb dX0_stakes_13 rfl ?_
    refine lv_iconst (v := nI 1) hx hb dX0_stakes_14 (by decide) ?_
    refine lv_iand hx hb dX0_stakes_15 ?_
    refine zx_top (y := if bt x i = true then 1 else 0) (zb_bit (by omega)) ?_
    refine lv_if_eq (tgt := 28) hx hb dX0_stakes_16 (by decide) (fun c2 => ?_) (fun c2 => ?_)
    · have c2 := zi_0 c2
      refine lv_iconst (v := nI 0) hx hb dX0_stakes_28 (by decide) ?_
      refine lv_iadd hx hb dX0_stakes_29 ?_
      refine zx_top (y := nI ((zv_sum (zv_bs x st) i) + 0)) (nI_add _ _) ?_
      refine zx_top (y := nI (zv_sum (zv_bs x st) (i + 1))) (by rw [zt_n c2]) ?_
      refine lv_istore_n (lv' := [(2, .int (nI (zv_sum (zv_bs x st) (i + 1)))), (0, .ref (ad 0)), (1, .int x), (3, .int (nI i))]) hx hb dX0_stakes_30 rfl hl (by decide) rfl (fun ls hl => ?_)
      refine lv_iinc (v := nI (i + 1)) (lv' := [(3, .int (nI (i + 1))), (2, .int (nI (zv_sum (zv_bs x st) (i + 1)))), (0, .ref (ad 0)), (1, .int x)]) hx hb dX0_stakes_31 hl (k := 3) rfl (nI_1 _) (by decide) rfl (fun ls hl => ?_)
      refine lv_goto (tgt := 4) hx hb dX0_stakes_34 (by decide) ?_
      exact ih (i + 1) ls (by omega) ⟨by omega, lv_sub hl [2, 3, 1, 0] rfl⟩
    · have c2 := zi_1 c2
      refine lv_aload_n hx hb dX0_stakes_19 rfl (lv_at hl 0 rfl) ?_
      refine va_get (D := D) (ci := 0) (v := .ref (ad 1)) (C := RX0) (T := TX0) (N := 13) hx hb hts in_X0 hown hK hP 0 rfl rfl 0 (by decide) (hts _ q22) (fun _ h9 => h9) rfl dX0_stakes_20 ?_
      refine lv_iload_n hx hb dX0_stakes_23 rfl (lv_at hl 3 rfl) ?_
      refine zx_iald hx hb hK hP 1 0 rfl rfl (j := i) rfl (by omega) (by decide) dX0_stakes_24 ?_
      refine zx_top (y := nI (st i)) (hst i (by omega)) ?_
      refine lv_goto (tgt := 29) hx hb dX0_stakes_25 (by decide) ?_
      refine lv_iadd hx hb dX0_stakes_29 ?_
      refine zx_top (y := nI ((zv_sum (zv_bs x st) i) + (st i))) (nI_add _ _) ?_
      refine zx_top (y := nI (zv_sum (zv_bs x st) (i + 1))) (by rw [zt_y c2]) ?_
      refine lv_istore_n (lv' := [(2, .int (nI (zv_sum (zv_bs x st) (i + 1)))), (0, .ref (ad 0)), (1, .int x), (3, .int (nI i))]) hx hb dX0_stakes_30 rfl hl (by decide) rfl (fun ls hl => ?_)
      refine lv_iinc (v := nI (i + 1)) (lv' := [(3, .int (nI (i + 1))), (2, .int (nI (zv_sum (zv_bs x st) (i + 1)))), (0, .ref (ad 0)), (1, .int x)]) hx hb dX0_stakes_31 hl (k := 3) rfl (nI_1 _) (by decide) rfl (fun ls hl => ?_)
      refine lv_goto (tgt := 4) hx hb dX0_stakes_34 (by decide) ?_
      exact ih (i + 1) ls (by omega) ⟨by omega, lv_sub hl [2, 3, 1, 0] rfl⟩
end
section
/-! MODULE VoteWatch: the methods that write nothing, on -/
theorem zo_y {P : Nat → Prop} {f : Nat → Int32} {r : Int32} {v : Nat} (hP : ∀ u, P u → u < 2 ^ 31) (hv : P v) (e : r = f v) : (∀ u, P u → nI v = nI u → r = f u) ∧ ((∀ u, P u → ¬ nI v = nI u) → r = -1) :=
  ⟨fun u hu e2 => by rw [← zn_inj (hP v hv) (hP u hu) e2]; exact e, fun h => absurd rfl (h v hv)⟩
theorem zo_n {P : Nat → Prop} {f : Nat → Int32} {x r : Int32} (h : ∀ v, P v → ¬ x = nI v) (e : r = -1) : (∀ u, P u → x = nI u → r = f u) ∧ ((∀ u, P u → ¬ x = nI u) → r = -1) :=
  ⟨fun u hu e2 => absurd e2 (h u hu), fun _ => e⟩
theorem zx_offd {n : Nat} {w s t st : Nat → Nat} {o : Int32} (h : zr_O n w s t o) : zv_sum (zv_bs o st) 8 = zv_sum (fun v => if zv_offs n w s t v = true then st v else 0) 8 :=
  zv_sum_congr (fun v hv => by unfold zv_bs; rw [h v hv])
theorem zx_no1 : ¬ (0 : Int32) ≤ -1 := by decide
def zx_Lk (fF fO : Nat → Int32) (q : Nat) (x y r : Int32) : Prop := (∃ j, j < q ∧ r = nI j ∧ fF j = x ∧ fO j = y) ∨ (r = -1 ∧ ∀ j, j < q → ¬ (fF j = x ∧ fO j = y))
set_option maxHeartbeats 4000000 in
set_option maxRecDepth 100000 in
/-- linkOf(x, y) -/
theorem cX_linkOf (l : Launch) (D : va_G) (dA dZ : ClassId) (ad : Nat → Nat) (fS fL fG fT fV fF fO fB fJ : Nat → Int32) (o hd ln k : Int32) (q : Nat) (x y : Int32) (hq : q ≤ 64) (hln : ln = nI q) : Met l yX0_linkOf (ws_ yX0_linkOf cX0_linkOf 4 (some .int)) ({ frames := 0, cells := 0, slots := 0, locals := 0 }) (va_Pc [.ref (ad 0), .int x, .int y] (zx_R D [(dA, .int), (dZ, .boolean)] (xW dA dZ ad fS fL fG fT fV fF fO fB fJ o hd ln k))) (vp_Si (zx_Lk fF fO q x y)) 0 0 (fun _ => False) := by
  refine Met.ofW (cc := cX0_linkOf) (maxL := 4) (ret := (some .int)) (by decide) rfl ?_
  intro p e s m args below meth c s₁ B hml hv
  obtain ⟨rfl, hP, hK⟩ := hv
  have hx := B.exec
  have hb := B.bytes
  have hr := B.returns
  have hts := atoms_spec (ws := ws_ yX0_linkOf cX0_linkOf 4 (some .int)) B.pre
  have hts : ∀ w ∈ lw_all, w.before _ s = true := fun w h => hts w (List.mem_cons_of_mem _ h)
  have hown : s.vm.findClass RX0 = some m.cls := findClass_of_methodNamed B.named
  have hlocks := B.notSynchronized
  have hl := lv_entry ([.ref (ad 0), .int x, .int y]) (n := 4) (Nat.le_of_ble_eq_true rfl)
  rw [lg_entry_eq]
  generalize (lg_sl ([.ref (ad 0), .int x, .int y]) ++ List.replicate (4 - (lg_sl ([.ref (ad 0), .int x, .int y])).length) Slot.unset).toArray = ls at hl ⊢
  have hl : lv_has ls 4 [(0, .ref (ad 0)), (1, .int x), (2, .int y)] := hl
  subst hln
  refine lv_iconst (v := nI 0) hx hb dX0_linkOf_0 (by decide) ?_
  refine lv_istore_n (lv' := [(3, .int (nI 0)), (0, .ref (ad 0)), (1, .int x), (2, .int y)]) hx hb dX0_linkOf_1 rfl hl (by decide) rfl (fun ls hl => ?_)
  refine zx_r1 (α := Nat) (mu := fun i => q - i) (I := fun i ls => (i ≤ q ∧ ∀ j, j < i → ¬ (fF j = x ∧ fO j = y)) ∧ lv_has ls 4 [(0, .ref (ad 0)), (1, .int x), (2, .int y), (3, .int (nI i))]) ?_ 0 ⟨⟨Nat.zero_le _, fun j hj => absurd hj (Nat.not_lt_zero _)⟩, lv_sub hl [1, 2, 3, 0] rfl⟩
  intro i ls hI ih
  obtain ⟨⟨hi, hno⟩, hl⟩ := hI
  refine lv_iload_n hx hb dX0_linkOf_2 rfl (lv_at hl 3 rfl) ?_
  refine lv_aload_n hx hb dX0_linkOf_3 rfl (lv_at hl 0 rfl) ?_
  refine va_get (D := D) (ci := 0) (v := .int (nI q)) (C := RX0) (T := TX0) (N := 13) hx hb hts in_X0 hown hK hP 0 rfl rfl 7 (by decide) (hts _ q29) (fun _ h9 => h9) rfl dX0_linkOf_4 ?_
  refine lv_icmp_ge (tgt := 38) hx hb dX0_linkOf_7 (by decide) (fun c1 => ?_) (fun c1 => ?_)
  · have c1 : q ≤ i := (nI_leI (by omega) (by omega)).mp c1
    refine lv_iconst (v := (-1)) hx hb dX0_linkOf_38 (by decide) ?_
    exact W.iret (v := (-1)) hx hb hr (fun t ht hW => ⟨_, rfl, Or.inr ⟨rfl, fun j hj => hno j (by omega)⟩, ht⟩) (fun _ h9 => by cases h9) dX0_linkOf_39
  · have c1 : ¬ q ≤ i := fun q => c1 ((nI_leI (by omega) (by omega)).mpr q)
    refine lv_aload_n hx hb dX0_linkOf_10 rfl (lv_at hl 0 rfl) ?_
    refine va_get (D := D) (ci := 0) (v := .ref (ad 6)) (C := RX0) (T := TX0) (N := 13) hx hb hts in_X0 hown hK hP 0 rfl rfl 8 (by decide) (hts _ q30) (fun _ h9 => h9) rfl dX0_linkOf_11 ?_
    refine lv_iload_n hx hb dX0_linkOf_14 rfl (lv_at hl 3 rfl) ?_
    refine zx_iald hx hb hK hP 6 0 rfl rfl (j := i) rfl (by omega) (by decide) dX0_linkOf_15 ?_
    refine lv_iload_n hx hb dX0_linkOf_16 rfl (lv_at hl 1 rfl) ?_
    refine lv_icmp_ne (tgt := 32) hx hb dX0_linkOf_17 (by decide) (fun c2 => ?_) (fun c2 => ?_)
    · refine lv_iinc (v := nI (i + 1)) (lv' := [(3, .int (nI (i + 1))), (0, .ref (ad 0)), (1, .int x), (2, .int y)]) hx hb dX0_linkOf_32 hl (k := 3) rfl (nI_1 _) (by decide) rfl (fun ls hl => ?_)
      refine lv_goto (tgt := 2) hx hb dX0_linkOf_35 (by decide) ?_
      exact ih (i + 1) ls (by omega) ⟨⟨by omega, lt_s hno (fun h9 => c2 h9.1)⟩, lv_sub hl [1, 2, 3, 0] rfl⟩
    · refine lv_aload_n hx hb dX0_linkOf_20 rfl (lv_at hl 0 rfl) ?_
      refine va_get (D := D) (ci := 0) (v := .ref (ad 7)) (C := RX0) (T := TX0) (N := 13) hx hb hts in_X0 hown hK hP 0 rfl rfl 9 (by decide) (hts _ q31) (fun _ h9 => h9) rfl dX0_linkOf_21 ?_
      refine lv_iload_n hx hb dX0_linkOf_24 rfl (lv_at hl 3 rfl) ?_
      refine zx_iald hx hb hK hP 7 0 rfl rfl (j := i) rfl (by omega) (by decide) dX0_linkOf_25 ?_
      refine lv_iload_n hx hb dX0_linkOf_26 rfl (lv_at hl 2 rfl) ?_
      refine lv_icmp_ne (tgt := 32) hx hb dX0_linkOf_27 (by decide) (fun c3 => ?_) (fun c3 => ?_)
      · refine lv_iinc (v := nI (i + 1)) (lv' := [(3, .int (nI (i + 1))), (0, .ref (ad 0)), (1, .int x), (2, .int y)]) hx hb dX0_linkOf_32 hl (k := 3) rfl (nI_1 _) (by decide) rfl (fun ls hl => ?_)
        refine lv_goto (tgt := 2) hx hb dX0_linkOf_35 (by decide) ?_
        exact ih (i + 1) ls (by omega) ⟨⟨by omega, lt_s hno (fun h9 => c3 h9.2)⟩, lv_sub hl [1, 2, 3, 0] rfl⟩
      · refine lv_iload_n hx hb dX0_linkOf_30 rfl (lv_at hl 3 rfl) ?_
        exact W.iret (v := (nI i)) hx hb hr (fun t ht hW => ⟨_, rfl, Or.inl ⟨i, by omega, rfl, c2, c3⟩, ht⟩) (fun _ h9 => by cases h9) dX0_linkOf_31
set_option maxHeartbeats 4000000 in
set_option maxRecDepth 100000 in
/-- judge(v, from, to) -/
theorem cX_judge (l : Launch) (D : va_G) (dA dZ : ClassId) (ad : Nat → Nat) (fS fL fG fT fV fF fO fB fJ : Nat → Int32) (o hd ln k : Int32) (v a b : Nat) (B1 B2 B4 : Bool) (hv : v < 8) (ha : a < 32) (hb0 : b < 32) (h1 : fT (32 * v + b) ≤ 0 ↔ ¬ B1 = true) (h2 : nI b ≤ fL (32 * v + a) ↔ ¬ B2 = true) (h4 : fG (32 * v + a) ≤ nI b ↔ ¬ B4 = true) : Met l yX0_judge (ws_ yX0_judge cX0_judge 6 (some .int)) ({ frames := 0, cells := 0, slots := 0, locals := 0 }) (va_Pc [.ref (ad 0), .int (nI v), .int (nI a), .int (nI b)] (zx_R D [(dA, .int), (dZ, .boolean)] (xW dA dZ ad fS fL fG fT fV fF fO fB fJ o hd ln k))) (vp_Si (fun r => r = nI (zv_v3 B1 B2 B4))) 0 0 (fun _ => False) := by
  refine Met.ofW (cc := cX0_judge) (maxL := 6) (ret := (some .int)) (by decide) rfl ?_
  intro p e s m args below meth c s₁ B hml hv
  obtain ⟨rfl, hP, hK⟩ := hv
  have hx := B.exec
  have hb := B.bytes
  have hr := B.returns
  have hts := atoms_spec (ws := ws_ yX0_judge cX0_judge 6 (some .int)) B.pre
  have hts : ∀ w ∈ lw_all, w.before _ s = true := fun w h => hts w (List.mem_cons_of_mem _ h)
  have hown : s.vm.findClass RX0 = some m.cls := findClass_of_methodNamed B.named
  have hlocks := B.notSynchronized
  have hl := lv_entry ([.ref (ad 0), .int (nI v), .int (nI a), .int (nI b)]) (n := 6) (Nat.le_of_ble_eq_true rfl)
  rw [lg_entry_eq]
  generalize (lg_sl ([.ref (ad 0), .int (nI v), .int (nI a), .int (nI b)]) ++ List.replicate (6 - (lg_sl ([.ref (ad 0), .int (nI v), .int (nI a), .int (nI b)])).length) Slot.unset).toArray = ls at hl ⊢
  have hl : lv_has ls 6 [(0, .ref (ad 0)), (1, .int (nI v)), (2, .int (nI a)), (3, .int (nI b))] := hl
  refine lv_bipush (v := nI 32) hx hb dX0_judge_0 (by decide) ?_
  refine lv_iload_n hx hb dX0_judge_2 rfl (lv_at hl 1 rfl) ?_
  refine lv_imul hx hb dX0_judge_3 ?_
  refine zx_top (y := nI (32 * v)) (pk_mul _ _) ?_
  refine lv_istore (lv' := [(4, .int (nI (32 * v))), (0, .ref (ad 0)), (1, .int (nI v)), (2, .int (nI a)), (3, .int (nI b))]) hx hb dX0_judge_4 hl (by decide) rfl (fun ls hl => ?_)
  refine lv_aload_n hx hb dX0_judge_6 rfl (lv_at hl 1 rfl) ?_
  refine va_get (D := D) (ci := 0) (v := .ref (ad 4)) (C := RX0) (T := TX0) (N := 13) hx hb hts in_X0 hown hK hP 0 rfl rfl 3 (by decide) (hts _ q25) (fun _ h9 => h9) rfl dX0_judge_7 ?_
  refine lv_iload hx hb dX0_judge_10 (lv_at hl 0 rfl) ?_
  refine lv_iload_n hx hb dX0_judge_12 rfl (lv_at hl 4 rfl) ?_
  refine lv_iadd hx hb dX0_judge_13 ?_
  refine zx_top (y := nI ((32 * v) + b)) (nI_add _ _) ?_
  refine zx_iald hx hb hK hP 4 0 rfl rfl (j := (32 * v) + b) rfl (by omega) (by decide) dX0_judge_14 ?_
  refine zx_join (pc := 23) (ls := ls) (rest := []) (fun v1 => v1 = nI (if B1 = true then 1 else 0)) (fun v1 hv1 => ?_) (fun K => ?_)
  · subst hv1
    refine lv_istore (lv' := [(5, .int (nI (if B1 = true then 1 else 0))), (4, .int (nI (32 * v))), (0, .ref (ad 0)), (1, .int (nI v)), (2, .int (nI a)), (3, .int (nI b))]) hx hb dX0_judge_23 hl (by decide) rfl (fun ls hl => ?_)
    refine lv_iload hx hb dX0_judge_25 (lv_at hl 0 rfl) ?_
    refine lv_aload_n hx hb dX0_judge_27 rfl (lv_at hl 2 rfl) ?_
    refine va_get (D := D) (ci := 0) (v := .ref (ad 2)) (C := RX0) (T := TX0) (N := 13) hx hb hts in_X0 hown hK hP 0 rfl rfl 1 (by decide) (hts _ q23) (fun _ h9 => h9) rfl dX0_judge_28 ?_
    refine lv_iload hx hb dX0_judge_31 (lv_at hl 1 rfl) ?_
    refine lv_iload_n hx hb dX0_judge_33 rfl (lv_at hl 4 rfl) ?_
    refine lv_iadd hx hb dX0_judge_34 ?_
    refine zx_top (y := nI ((32 * v) + a)) (nI_add _ _) ?_
    refine zx_iald hx hb hK hP 2 0 rfl rfl (j := (32 * v) + a) rfl (by omega) (by decide) dX0_judge_35 ?_
    refine lv_iload_n hx hb dX0_judge_36 rfl (lv_at hl 5 rfl) ?_
    refine zx_join (pc := 45) (ls := ls) (rest := [.int (nI (if B1 = true then 1 else 0))]) (fun v1 => v1 = nI (if B2 = true then 2 else 0)) (fun v1 hv1 => ?_) (fun K => ?_)
    · subst hv1
      refine lv_iadd hx hb dX0_judge_45 ?_
      refine zx_top (y := nI ((if B1 = true then 1 else 0) + (if B2 = true then 2 else 0))) (nI_add _ _) ?_
      refine lv_istore (lv' := [(5, .int (nI ((if B1 = true then 1 else 0) + (if B2 = true then 2 else 0)))), (4, .int (nI (32 * v))), (0, .ref (ad 0)), (1, .int (nI v)), (2, .int (nI a)), (3, .int (nI b))]) hx hb dX0_judge_46 hl (by decide) rfl (fun ls hl => ?_)
      refine lv_iload hx hb dX0_judge_48 (lv_at hl 0 rfl) ?_
      refine lv_aload_n hx hb dX0_judge_50 rfl (lv_at hl 2 rfl) ?_
      refine va_get (D := D) (ci := 0) (v := .ref (ad 3)) (C := RX0) (T := TX0) (N := 13) hx hb hts in_X0 hown hK hP 0 rfl rfl 2 (by decide) (hts _ q24) (fun _ h9 => h9) rfl dX0_judge_51 ?_
      refine lv_iload hx hb dX0_judge_54 (lv_at hl 1 rfl) ?_
      refine lv_iload_n hx hb dX0_judge_56 rfl (lv_at hl 4 rfl) ?_
      refine lv_iadd hx hb dX0_judge_57 ?_
      refine zx_top (y := nI ((32 * v) + a)) (nI_add _ _) ?_
      refine zx_iald hx hb hK hP 3 0 rfl rfl (j := (32 * v) + a) rfl (by omega) (by decide) dX0_judge_58 ?_
      refine lv_iload_n hx hb dX0_judge_59 rfl (lv_at hl 5 rfl) ?_
      refine lv_icmp_le (tgt := 67) hx hb dX0_judge_60 (by decide) (fun d1 => ?_) (fun d1 => ?_)
      · have d1 := h4.mp d1
        refine lv_iconst (v := nI 0) hx hb dX0_judge_67 (by decide) ?_
        refine lv_iadd hx hb dX0_judge_68 ?_
        refine zx_top (y := nI (((if B1 = true then 1 else 0) + (if B2 = true then 2 else 0)) + 0)) (nI_add _ _) ?_
        refine lv_istore (lv' := [(5, .int (nI (((if B1 = true then 1 else 0) + (if B2 = true then 2 else 0)) + 0))), (4, .int (nI (32 * v))), (0, .ref (ad 0)), (1, .int (nI v)), (2, .int (nI a)), (3, .int (nI b))]) hx hb dX0_judge_69 hl (by decide) rfl (fun ls hl => ?_)
        refine lv_iload hx hb dX0_judge_71 (lv_at hl 0 rfl) ?_
        exact W.iret (v := (nI (((if B1 = true then 1 else 0) + (if B2 = true then 2 else 0)) + 0))) hx hb hr (fun t ht hW => ⟨_, rfl, by unfold zv_v3; rw [if_neg d1], ht⟩) (fun _ h9 => by cases h9) dX0_judge_73
      · have d1 : B4 = true := Classical.not_not.mp (fun q => d1 (h4.mpr q))
        refine lv_iconst (v := nI 4) hx hb dX0_judge_63 (by decide) ?_
        refine lv_goto (tgt := 68) hx hb dX0_judge_64 (by decide) ?_
        refine lv_iadd hx hb dX0_judge_68 ?_
        refine zx_top (y := nI (((if B1 = true then 1 else 0) + (if B2 = true then 2 else 0)) + 4)) (nI_add _ _) ?_
        refine lv_istore (lv' := [(5, .int (nI (((if B1 = true then 1 else 0) + (if B2 = true then 2 else 0)) + 4))), (4, .int (nI (32 * v))), (0, .ref (ad 0)), (1, .int (nI v)), (2, .int (nI a)), (3, .int (nI b))]) hx hb dX0_judge_69 hl (by decide) rfl (fun ls hl => ?_)
        refine lv_iload hx hb dX0_judge_71 (lv_at hl 0 rfl) ?_
        exact W.iret (v := (nI (((if B1 = true then 1 else 0) + (if B2 = true then 2 else 0)) + 4))) hx hb hr (fun t ht hW => ⟨_, rfl, by unfold zv_v3; rw [if_pos d1], ht⟩) (fun _ h9 => by cases h9) dX0_judge_73
    · refine lv_icmp_ge (tgt := 44) hx hb dX0_judge_37 (by decide) (fun d1 => ?_) (fun d1 => ?_)
      · have d1 := h2.mp d1
        refine lv_iconst (v := nI 0) hx hb dX0_judge_44 (by decide) ?_
        exact K _ (by rw [if_neg d1])
      · have d1 : B2 = true := Classical.not_not.mp (fun q => d1 (h2.mpr q))
        refine lv_iconst (v := nI 2) hx hb dX0_judge_40 (by decide) ?_
        refine lv_goto (tgt := 45) hx hb dX0_judge_41 (by decide) ?_
        exact K _ (by rw [if_pos d1])
  · refine lv_if_le (tgt := 22) hx hb dX0_judge_15 (by decide) (fun d1 => ?_) (fun d1 => ?_)
    · have d1 := h1.mp d1
      refine lv_iconst (v := nI 0) hx hb dX0_judge_22 (by decide) ?_
      exact K _ (by rw [if_neg d1])
    · have d1 : B1 = true := Classical.not_not.mp (fun q => d1 (h1.mpr q))
      refine lv_iconst (v := nI 1) hx hb dX0_judge_18 (by decide) ?_
      refine lv_goto (tgt := 23) hx hb dX0_judge_19 (by decide) ?_
      exact K _ (by rw [if_pos d1])
set_option maxHeartbeats 4000000 in
set_option maxRecDepth 100000 in
/-- isSupported(link) -/
theorem cX_isSupported (l : Launch) (D : va_G) (dA dZ : ClassId) (ad : Nat → Nat) (fS fL fG fT fV fF fO fB fJ : Nat → Int32) (o hd ln k : Int32) (n : Nat) (vw vs vt st : Nat → Nat) (q j : Nat) (hst : zr_S st fS) (h100 : ∀ v, st v ≤ 100) (hQ : zr_Q n vw vs vt q fF fO fB) (hq : q ≤ 64) (hj : j < q) : Met l yX0_isSupported (ws_ yX0_isSupported cX0_isSupported 3 (some .boolean)) ({ frames := 1, cells := 0, slots := 0, locals := 23 }) (va_Pc [.ref (ad 0), .int (nI j)] (zx_R D [(dA, .int), (dZ, .boolean)] (xW dA dZ ad fS fL fG fT fV fF fO fB fJ o hd ln k))) (vp_Si (fun r => (¬ r = 0 → zv_Sup n vw vs vt st (fF j) (fO j)) ∧ (r = 0 → ¬ zv_Sup n vw vs vt st (fF j) (fO j)))) 0 0 (fun _ => False) := by
  refine Met.ofW (cc := cX0_isSupported) (maxL := 3) (ret := (some .boolean)) (by decide) rfl ?_
  intro p e s m args below meth c s₁ B hml hv
  obtain ⟨rfl, hP, hK⟩ := hv
  have hx := B.exec
  have hb := B.bytes
  have hr := B.returns
  have hts := atoms_spec (ws := ws_ yX0_isSupported cX0_isSupported 3 (some .boolean)) B.pre
  have hts : ∀ w ∈ lw_all, w.before _ s = true := fun w h => hts w (List.mem_cons_of_mem _ h)
  have hown : s.vm.findClass RX0 = some m.cls := findClass_of_methodNamed B.named
  have hlocks := B.notSynchronized
  have hl := lv_entry ([.ref (ad 0), .int (nI j)]) (n := 3) (Nat.le_of_ble_eq_true rfl)
  rw [lg_entry_eq]
  generalize (lg_sl ([.ref (ad 0), .int (nI j)]) ++ List.replicate (3 - (lg_sl ([.ref (ad 0), .int (nI j)])).length) Slot.unset).toArray = ls at hl ⊢
  have hl : lv_has ls 3 [(0, .ref (ad 0)), (1, .int (nI j))] := hl
  have hb1 := zb_sup (n := n) (w := vw) (s := vs) (t := vt) h100 (fF j) (fO j)
  have hb2 := zb_tot h100
  refine lv_aload_n hx hb dX0_isSupported_0 rfl (lv_at hl 0 rfl) ?_
  refine lv_sipush (v := nI 255) hx hb dX0_isSupported_1 (by decide) ?_
  refine vp_callSi (W.runV (As := [.int (nI 255)]) (rest := []) ⟨hx, hb, hml, hown, hts⟩ (cX_stakes l D dA dZ ad fS fL fG fT fV fF fO fB fJ o hd ln k st (nI 255) hst) (cwV 1 hts (lw_V q102 q104 qs4 q12 q105) rfl rfl rfl (by decide +kernel) ⟨Nat.le_of_ble_eq_true rfl, Nat.le_of_ble_eq_true rfl⟩) (zx_pR hK hP rfl rfl _) rfl rfl hl.1 rfl (lv_room (Nat.le_of_ble_eq_true rfl)) dX0_isSupported_4 ⟨Nat.le_of_ble_eq_true rfl, Nat.le_of_ble_eq_true rfl⟩) (fun r1 hr1 => ?_)
  refine zx_top (y := nI (zv_tot st)) (by rw [hr1]; exact congrArg nI (zx_tot st)) ?_
  refine lv_istore_n (lv' := [(2, .int (nI (zv_tot st))), (0, .ref (ad 0)), (1, .int (nI j))]) hx hb dX0_isSupported_7 rfl hl (by decide) rfl (fun ls hl => ?_)
  refine lv_iconst (v := nI 3) hx hb dX0_isSupported_8 (by decide) ?_
  refine lv_aload_n hx hb dX0_isSupported_9 rfl (lv_at hl 1 rfl) ?_
  refine lv_aload_n hx hb dX0_isSupported_10 rfl (lv_at hl 1 rfl) ?_
  refine va_get (D := D) (ci := 0) (v := .ref (ad 8)) (C := RX0) (T := TX0) (N := 13) hx hb hts in_X0 hown hK hP 0 rfl rfl 10 (by decide) (hts _ q32) (fun _ h9 => h9) rfl dX0_isSupported_11 ?_
  refine lv_iload_n hx hb dX0_isSupported_14 rfl (lv_at hl 2 rfl) ?_
  refine zx_iald hx hb hK hP 8 0 rfl rfl (j := j) rfl (by omega) (by decide) dX0_isSupported_15 ?_
  refine vp_callSi (W.runV (As := [.int (fB j)]) (rest := [.int (nI 3)]) ⟨hx, hb, hml, hown, hts⟩ (cX_stakes l D dA dZ ad fS fL fG fT fV fF fO fB fJ o hd ln k st (fB j) hst) (cwV 1 hts (lw_V q102 q104 qs4 q12 q105) rfl rfl rfl (by decide +kernel) ⟨Nat.le_of_ble_eq_true rfl, Nat.le_of_ble_eq_true rfl⟩) (zx_pR hK hP rfl rfl _) rfl rfl hl.1 rfl (lv_room (Nat.le_of_ble_eq_true rfl)) dX0_isSupported_16 ⟨Nat.le_of_ble_eq_true rfl, Nat.le_of_ble_eq_true rfl⟩) (fun r2 hr2 => ?_)
  refine zx_top (y := nI (zv_sup n vw vs vt st (fF j) (fO j))) (by rw [hr2]; exact congrArg nI (zx_supk hQ hj)) ?_
  refine lv_imul hx hb dX0_isSupported_19 ?_
  refine zx_top (y := nI (3 * (zv_sup n vw vs vt st (fF j) (fO j)))) (pk_mul _ _) ?_
  refine lv_iconst (v := nI 2) hx hb dX0_isSupported_20 (by decide) ?_
  refine lv_iload_n hx hb dX0_isSupported_21 rfl (lv_at hl 0 rfl) ?_
  refine lv_imul hx hb dX0_isSupported_22 ?_
  refine zx_top (y := nI (2 * (zv_tot st))) (pk_mul _ _) ?_
  refine lv_icmp_le (tgt := 30) hx hb dX0_isSupported_23 (by decide) (fun c1 => ?_) (fun c1 => ?_)
  · have c1 : 3 * (zv_sup n vw vs vt st (fF j) (fO j)) ≤ 2 * (zv_tot st) := (nI_leI (by omega) (by omega)).mp c1
    refine lv_iconst (v := nI 0) hx hb dX0_isSupported_30 (by decide) ?_
    exact W.zret (v := (nI 0)) hx hb hr (by decide) (fun t ht hW => ⟨_, rfl, zy_n nI_0 (by unfold zv_Sup; omega), ht⟩) (fun _ h9 => by cases h9) dX0_isSupported_31
  · have c1 : ¬ 3 * (zv_sup n vw vs vt st (fF j) (fO j)) ≤ 2 * (zv_tot st) := fun q => c1 ((nI_leI (by omega) (by omega)).mpr q)
    refine lv_iconst (v := nI 1) hx hb dX0_isSupported_26 (by decide) ?_
    refine lv_goto (tgt := 31) hx hb dX0_isSupported_27 (by decide) ?_
    exact W.zret (v := (nI 1)) hx hb hr (by decide) (fun t ht hW => ⟨_, rfl, zy_y zt_0 (by unfold zv_Sup; omega), ht⟩) (fun _ h9 => by cases h9) dX0_isSupported_31
set_option maxHeartbeats 4000000 in
set_option maxRecDepth 100000 in
/-- offender(x) -/
theorem cX_offender (l : Launch) (D : va_G) (dA dZ : ClassId) (ad : Nat → Nat) (fS fL fG fT fV fF fO fB fJ : Nat → Int32) (o hd ln k : Int32) (n : Nat) (vw vs vt : Nat → Nat) (x : Int32) (hO : zr_O n vw vs vt o) : Met l yX0_offender (ws_ yX0_offender cX0_offender 2 (some .int)) ({ frames := 1, cells := 0, slots := 0, locals := 20 }) (va_Pc [.ref (ad 0), .int x] (zx_R D [(dA, .int), (dZ, .boolean)] (xW dA dZ ad fS fL fG fT fV fF fO fB fJ o hd ln k))) (vp_Si (zp_off n vw vs vt x)) 0 0 (fun _ => False) := by
  refine Met.ofW (cc := cX0_offender) (maxL := 2) (ret := (some .int)) (by decide) rfl ?_
  intro p e s m args below meth c s₁ B hml hv
  obtain ⟨rfl, hP, hK⟩ := hv
  have hx := B.exec
  have hb := B.bytes
  have hr := B.returns
  have hts := atoms_spec (ws := ws_ yX0_offender cX0_offender 2 (some .int)) B.pre
  have hts : ∀ w ∈ lw_all, w.before _ s = true := fun w h => hts w (List.mem_cons_of_mem _ h)
  have hown : s.vm.findClass RX0 = some m.cls := findClass_of_methodNamed B.named
  have hlocks := B.notSynchronized
  have hl := lv_entry ([.ref (ad 0), .int x]) (n := 2) (Nat.le_of_ble_eq_true rfl)
  rw [lg_entry_eq]
  generalize (lg_sl ([.ref (ad 0), .int x]) ++ List.replicate (2 - (lg_sl ([.ref (ad 0), .int x])).length) Slot.unset).toArray = ls at hl ⊢
  have hl : lv_has ls 2 [(0, .ref (ad 0)), (1, .int x)] := hl
  refine lv_iload_n hx hb dX0_offender_0 rfl (lv_at hl 1 rfl) ?_
  refine vp_callSi (W.runS (As := [.int x]) (rest := []) ⟨hx, hb, hml, hown, hts⟩ (cX_isValidator l x) (va_cwS 1 hts (lw_S q68 q69 q12 q70) rfl rfl rfl (by decide +kernel) ⟨Nat.le_of_ble_eq_true rfl, Nat.le_of_ble_eq_true rfl⟩) (zx_pS _) rfl rfl hl.1 rfl (lv_room (Nat.le_of_ble_eq_true rfl)) dX0_offender_1 ⟨Nat.le_of_ble_eq_true rfl, Nat.le_of_ble_eq_true rfl⟩) (fun r1 hr1 => ?_)
  refine lv_if_eq (tgt := 18) hx hb dX0_offender_4 (by decide) (fun c1 => ?_) (fun c1 => ?_)
  · refine lv_iconst (v := (-1)) hx hb dX0_offender_18 (by decide) ?_
    exact W.iret (v := (-1)) hx hb hr (fun t ht hW => ⟨_, rfl, zo_n (hr1.2 c1) rfl, ht⟩) (fun _ h9 => by cases h9) dX0_offender_19
  · obtain ⟨v, hv, rfl⟩ := hr1.1 c1
    refine lv_aload_n hx hb dX0_offender_7 rfl (lv_at hl 0 rfl) ?_
    refine va_get (D := D) (ci := 0) (v := .int o) (C := RX0) (T := TX0) (N := 13) hx hb hts in_X0 hown hK hP 0 rfl rfl 4 (by decide) (hts _ q26) (fun _ h9 => h9) rfl dX0_offender_8 ?_
    refine lv_iload_n hx hb dX0_offender_11 rfl (lv_at hl 1 rfl) ?_
    refine lv_iushr hx hb dX0_offender_12 rfl ?_
    refine lv_iconst (v := nI 1) hx hb dX0_offender_13 (by decide) ?_
    refine lv_iand hx hb dX0_offender_14 ?_
    refine zx_top (y := if bt o v = true then 1 else 0) (zb_bit (by omega)) ?_
    refine lv_goto (tgt := 19) hx hb dX0_offender_15 (by decide) ?_
    exact W.iret (v := (if bt o v = true then 1 else 0)) hx hb hr (fun t ht hW => ⟨_, rfl, zo_y (fun u hu => by omega) hv (by rw [hO v hv]), ht⟩) (fun _ h9 => by cases h9) dX0_offender_19
set_option maxHeartbeats 4000000 in
set_option maxRecDepth 100000 in
/-- offended() -/
theorem cX_offended (l : Launch) (D : va_G) (dA dZ : ClassId) (ad : Nat → Nat) (fS fL fG fT fV fF fO fB fJ : Nat → Int32) (o hd ln k : Int32) (n : Nat) (vw vs vt st : Nat → Nat) (hst : zr_S st fS) (hO : zr_O n vw vs vt o) : Met l yX0_offended (ws_ yX0_offended cX0_offended 1 (some .int)) ({ frames := 1, cells := 0, slots := 0, locals := 23 }) (va_Pc [.ref (ad 0)] (zx_R D [(dA, .int), (dZ, .boolean)] (xW dA dZ ad fS fL fG fT fV fF fO fB fJ o hd ln k))) (vp_Si (zp_offd n vw vs vt st)) 0 0 (fun _ => False) := by
  refine Met.ofW (cc := cX0_offended) (maxL := 1) (ret := (some .int)) (by decide) rfl ?_
  intro p e s m args below meth c s₁ B hml hv
  obtain ⟨rfl, hP, hK⟩ := hv
  have hx := B.exec
  have hb := B.bytes
  have hr := B.returns
  have hts := atoms_spec (ws := ws_ yX0_offended cX0_offended 1 (some .int)) B.pre
  have hts : ∀ w ∈ lw_all, w.before _ s = true := fun w h => hts w (List.mem_cons_of_mem _ h)
  have hown : s.vm.findClass RX0 = some m.cls := findClass_of_methodNamed B.named
  have hlocks := B.notSynchronized
  have hl := lv_entry ([.ref (ad 0)]) (n := 1) (Nat.le_of_ble_eq_true rfl)
  rw [lg_entry_eq]
  generalize (lg_sl ([.ref (ad 0)]) ++ List.replicate (1 - (lg_sl ([.ref (ad 0)])).length) Slot.unset).toArray = ls at hl ⊢
  have hl : lv_has ls 1 [(0, .ref (ad 0))] := hl
  refine lv_aload_n hx hb dX0_offended_0 rfl (lv_at hl 0 rfl) ?_
  refine lv_aload_n hx hb dX0_offended_1 rfl (lv_at hl 0 rfl) ?_
  refine va_get (D := D) (ci := 0) (v := .int o) (C := RX0) (T := TX0) (N := 13) hx hb hts in_X0 hown hK hP 0 rfl rfl 4 (by decide) (hts _ q26) (fun _ h9 => h9) rfl dX0_offended_2 ?_
  refine vp_callSi (W.runV (As := [.int o]) (rest := []) ⟨hx, hb, hml, hown, hts⟩ (cX_stakes l D dA dZ ad fS fL fG fT fV fF fO fB fJ o hd ln k st o hst) (cwV 1 hts (lw_V q102 q104 qs4 q12 q105) rfl rfl rfl (by decide +kernel) ⟨Nat.le_of_ble_eq_true rfl, Nat.le_of_ble_eq_true rfl⟩) (zx_pR hK hP rfl rfl _) rfl rfl hl.1 rfl (lv_room (Nat.le_of_ble_eq_true rfl)) dX0_offended_5 ⟨Nat.le_of_ble_eq_true rfl, Nat.le_of_ble_eq_true rfl⟩) (fun r1 hr1 => ?_)
  exact W.iret (v := r1) hx hb hr (fun t ht hW => ⟨_, rfl, by rw [hr1]; exact congrArg nI (zx_offd hO), ht⟩) (fun _ h9 => by cases h9) dX0_offended_8
set_option maxHeartbeats 4000000 in
set_option maxRecDepth 100000 in
/-- votes(x) -/
theorem cX_votes (l : Launch) (D : va_G) (dA dZ : ClassId) (ad : Nat → Nat) (fS fL fG fT fV fF fO fB fJ : Nat → Int32) (o hd ln k : Int32) (n : Nat) (vw : Nat → Nat) (x : Int32) (hV : zr_V n vw fV) : Met l yX0_votes (ws_ yX0_votes cX0_votes 2 (some .int)) ({ frames := 1, cells := 0, slots := 0, locals := 20 }) (va_Pc [.ref (ad 0), .int x] (zx_R D [(dA, .int), (dZ, .boolean)] (xW dA dZ ad fS fL fG fT fV fF fO fB fJ o hd ln k))) (vp_Si (zp_votes n vw x)) 0 0 (fun _ => False) := by
  refine Met.ofW (cc := cX0_votes) (maxL := 2) (ret := (some .int)) (by decide) rfl ?_
  intro p e s m args below meth c s₁ B hml hv
  obtain ⟨rfl, hP, hK⟩ := hv
  have hx := B.exec
  have hb := B.bytes
  have hr := B.returns
  have hts := atoms_spec (ws := ws_ yX0_votes cX0_votes 2 (some .int)) B.pre
  have hts : ∀ w ∈ lw_all, w.before _ s = true := fun w h => hts w (List.mem_cons_of_mem _ h)
  have hown : s.vm.findClass RX0 = some m.cls := findClass_of_methodNamed B.named
  have hlocks := B.notSynchronized
  have hl := lv_entry ([.ref (ad 0), .int x]) (n := 2) (Nat.le_of_ble_eq_true rfl)
  rw [lg_entry_eq]
  generalize (lg_sl ([.ref (ad 0), .int x]) ++ List.replicate (2 - (lg_sl ([.ref (ad 0), .int x])).length) Slot.unset).toArray = ls at hl ⊢
  have hl : lv_has ls 2 [(0, .ref (ad 0)), (1, .int x)] := hl
  refine lv_iload_n hx hb dX0_votes_0 rfl (lv_at hl 1 rfl) ?_
  refine vp_callSi (W.runS (As := [.int x]) (rest := []) ⟨hx, hb, hml, hown, hts⟩ (cX_isValidator l x) (va_cwS 1 hts (lw_S q68 q69 q12 q70) rfl rfl rfl (by decide +kernel) ⟨Nat.le_of_ble_eq_true rfl, Nat.le_of_ble_eq_true rfl⟩) (zx_pS _) rfl rfl hl.1 rfl (lv_room (Nat.le_of_ble_eq_true rfl)) dX0_votes_1 ⟨Nat.le_of_ble_eq_true rfl, Nat.le_of_ble_eq_true rfl⟩) (fun r1 hr1 => ?_)
  refine lv_if_eq (tgt := 16) hx hb dX0_votes_4 (by decide) (fun c1 => ?_) (fun c1 => ?_)
  · refine lv_iconst (v := (-1)) hx hb dX0_votes_16 (by decide) ?_
    exact W.iret (v := (-1)) hx hb hr (fun t ht hW => ⟨_, rfl, zo_n (hr1.2 c1) rfl, ht⟩) (fun _ h9 => by cases h9) dX0_votes_17
  · obtain ⟨v, hv, rfl⟩ := hr1.1 c1
    refine lv_aload_n hx hb dX0_votes_7 rfl (lv_at hl 0 rfl) ?_
    refine va_get (D := D) (ci := 0) (v := .ref (ad 5)) (C := RX0) (T := TX0) (N := 13) hx hb hts in_X0 hown hK hP 0 rfl rfl 5 (by decide) (hts _ q27) (fun _ h9 => h9) rfl dX0_votes_8 ?_
    refine lv_iload_n hx hb dX0_votes_11 rfl (lv_at hl 1 rfl) ?_
    refine zx_iald hx hb hK hP 5 0 rfl rfl (j := v) rfl (by omega) (by decide) dX0_votes_12 ?_
    refine lv_goto (tgt := 17) hx hb dX0_votes_13 (by decide) ?_
    exact W.iret (v := (fV v)) hx hb hr (fun t ht hW => ⟨_, rfl, zo_y (f := fun v => nI (zv_cntV n vw v)) (fun u hu => by omega) hv (hV v hv), ht⟩) (fun _ h9 => by cases h9) dX0_votes_17
set_option maxHeartbeats 4000000 in
set_option maxRecDepth 100000 in
/-- support(x, y) -/
theorem cX_support (l : Launch) (D : va_G) (dA dZ : ClassId) (ad : Nat → Nat) (fS fL fG fT fV fF fO fB fJ : Nat → Int32) (o hd ln k : Int32) (n : Nat) (vw vs vt st : Nat → Nat) (q : Nat) (x y : Int32) (hst : zr_S st fS) (hQ : zr_Q n vw vs vt q fF fO fB) (hq : q ≤ 64) (hln : ln = nI q) : Met l yX0_support (ws_ yX0_support cX0_support 4 (some .int)) ({ frames := 1, cells := 0, slots := 0, locals := 23 }) (va_Pc [.ref (ad 0), .int x, .int y] (zx_R D [(dA, .int), (dZ, .boolean)] (xW dA dZ ad fS fL fG fT fV fF fO fB fJ o hd ln k))) (vp_Si (zp_sup n vw vs vt st x y)) 0 0 (fun _ => False) := by
  refine Met.ofW (cc := cX0_support) (maxL := 4) (ret := (some .int)) (by decide) rfl ?_
  intro p e s m args below meth c s₁ B hml hv
  obtain ⟨rfl, hP, hK⟩ := hv
  have hx := B.exec
  have hb := B.bytes
  have hr := B.returns
  have hts := atoms_spec (ws := ws_ yX0_support cX0_support 4 (some .int)) B.pre
  have hts : ∀ w ∈ lw_all, w.before _ s = true := fun w h => hts w (List.mem_cons_of_mem _ h)
  have hown : s.vm.findClass RX0 = some m.cls := findClass_of_methodNamed B.named
  have hlocks := B.notSynchronized
  have hl := lv_entry ([.ref (ad 0), .int x, .int y]) (n := 4) (Nat.le_of_ble_eq_true rfl)
  rw [lg_entry_eq]
  generalize (lg_sl ([.ref (ad 0), .int x, .int y]) ++ List.replicate (4 - (lg_sl ([.ref (ad 0), .int x, .int y])).length) Slot.unset).toArray = ls at hl ⊢
  have hl : lv_has ls 4 [(0, .ref (ad 0)), (1, .int x), (2, .int y)] := hl
  refine lv_aload_n hx hb dX0_support_0 rfl (lv_at hl 0 rfl) ?_
  refine lv_iload_n hx hb dX0_support_1 rfl (lv_at hl 1 rfl) ?_
  refine lv_iload_n hx hb dX0_support_2 rfl (lv_at hl 2 rfl) ?_
  refine vp_callSi (W.runV (As := [.int x, .int y]) (rest := []) ⟨hx, hb, hml, hown, hts⟩ (cX_linkOf l D dA dZ ad fS fL fG fT fV fF fO fB fJ o hd ln k q x y hq hln) (cwV 2 hts (lw_V q78 q80 qs0 q12 q81) rfl rfl rfl (by decide +kernel) ⟨Nat.le_of_ble_eq_true rfl, Nat.le_of_ble_eq_true rfl⟩) (zx_pR hK hP rfl rfl _) rfl rfl hl.1 rfl (lv_room (Nat.le_of_ble_eq_true rfl)) dX0_support_3 ⟨Nat.le_of_ble_eq_true rfl, Nat.le_of_ble_eq_true rfl⟩) (fun r1 hr1 => ?_)
  rcases hr1 with ⟨j, hj, rfl, e1, e2⟩ | ⟨rfl, hno⟩
  · refine lv_istore_n (lv' := [(3, .int (nI j)), (0, .ref (ad 0)), (1, .int x), (2, .int y)]) hx hb dX0_support_6 rfl hl (by decide) rfl (fun ls hl => ?_)
    refine lv_iload_n hx hb dX0_support_7 rfl (lv_at hl 0 rfl) ?_
    refine lv_if_ge (tgt := 15) hx hb dX0_support_8 (by decide) (fun c1 => ?_) (fun c1 => ?_)
    · refine lv_aload_n hx hb dX0_support_15 rfl (lv_at hl 1 rfl) ?_
      refine lv_aload_n hx hb dX0_support_16 rfl (lv_at hl 1 rfl) ?_
      refine va_get (D := D) (ci := 0) (v := .ref (ad 8)) (C := RX0) (T := TX0) (N := 13) hx hb hts in_X0 hown hK hP 0 rfl rfl 10 (by decide) (hts _ q32) (fun _ h9 => h9) rfl dX0_support_17 ?_
      refine lv_iload_n hx hb dX0_support_20 rfl (lv_at hl 0 rfl) ?_
      refine zx_iald hx hb hK hP 8 0 rfl rfl (j := j) rfl (by omega) (by decide) dX0_support_21 ?_
      refine vp_callSi (W.runV (As := [.int (fB j)]) (rest := []) ⟨hx, hb, hml, hown, hts⟩ (cX_stakes l D dA dZ ad fS fL fG fT fV fF fO fB fJ o hd ln k st (fB j) hst) (cwV 1 hts (lw_V q102 q104 qs4 q12 q105) rfl rfl rfl (by decide +kernel) ⟨Nat.le_of_ble_eq_true rfl, Nat.le_of_ble_eq_true rfl⟩) (zx_pR hK hP rfl rfl _) rfl rfl hl.1 rfl (lv_room (Nat.le_of_ble_eq_true rfl)) dX0_support_22 ⟨Nat.le_of_ble_eq_true rfl, Nat.le_of_ble_eq_true rfl⟩) (fun r2 hr2 => ?_)
      exact W.iret (v := r2) hx hb hr (fun t ht hW => ⟨_, rfl, by rw [hr2, ← e1, ← e2]; exact congrArg nI (zx_supk hQ hj), ht⟩) (fun _ h9 => by cases h9) dX0_support_25
    · exact absurd (nI_pos' (by omega)) c1
  · refine lv_istore_n (lv' := [(3, .int (-1)), (0, .ref (ad 0)), (1, .int x), (2, .int y)]) hx hb dX0_support_6 rfl hl (by decide) rfl (fun ls hl => ?_)
    refine lv_iload_n hx hb dX0_support_7 rfl (lv_at hl 0 rfl) ?_
    refine lv_if_ge (tgt := 15) hx hb dX0_support_8 (by decide) (fun c1 => ?_) (fun c1 => ?_)
    · exact absurd c1 zx_no1
    · refine lv_iconst (v := nI 0) hx hb dX0_support_11 (by decide) ?_
      refine lv_goto (tgt := 25) hx hb dX0_support_12 (by decide) ?_
      exact W.iret (v := (nI 0)) hx hb hr (fun t ht hW => ⟨_, rfl, congrArg nI (zx_sup0 hQ hno).symm, ht⟩) (fun _ h9 => by cases h9) dX0_support_25
end
section
/-! MODULE VoteWatch: enter, openLink, stake -/
theorem zn_eq0 {a : Nat} (h : a < 2 ^ 31) : nI a = 0 ↔ a = 0 := by rw [← nI_0, nI_eq h (by omega)]
theorem zn_le0 {a : Nat} (h : a < 2 ^ 31) : nI a ≤ 0 ↔ a = 0 := by rw [← nI_0, nI_leI h (by omega)]; omega
theorem zn_gt0 {a : Nat} (h : a < 2 ^ 31) : 0 < nI a ↔ 0 < a := by rw [← nI_0, nI_ltI (by omega) h]
theorem zn_nle {x y : Int32} (h : ¬ x ≤ y) : y < x := by rw [zn_le] at h; rw [zn_lt]; omega
/-- the system's world that holds the votes -/
abbrev zx_X (D : va_G) (dA dZ : ClassId) (ad : Nat → Nat) (A : Nat → Prop) (n : Nat) (w s t st : Nat → Nat) (U : State) : Prop :=
  ∃ (fS fL fG fT fV fF fO fB fJ : Nat → Int32) (o hd ln k : Int32), zr_X n w s t st fS fL fG fT fV fF fO fB fJ o hd ln k ∧ zx_E D [(dA, .int), (dZ, .boolean)] A (xW dA dZ ad fS fL fG fT fV fF fO fB fJ o hd ln k) U
theorem zc_le (y : Int32) : zv_clamp y ≤ 100 := by
  unfold zv_clamp
  by_cases h : y < 0
  · rw [if_pos h]; omega
  · rw [if_neg h]
    by_cases h2 : nI 100 < y
    · rw [if_pos h2]; omega
    · rw [if_neg h2]
      obtain ⟨v, hv, rfl⟩ := zc_in (by omega) h h2
      rw [nI_clamp (by omega)]; exact hv
theorem zs_stake {n : Nat} {w s t st : Nat → Nat} {fS fL fG fT fV fF fO fB fJ : Nat → Int32} {o hd ln k : Int32} {v : Nat} {y x : Int32} (h : zr_X n w s t st fS fL fG fT fV fF fO fB fJ o hd ln k) (hv : v < 8) (hx : x = nI (zv_clamp y)) : zr_X n w s t (zv_put st v (zv_clamp y)) (upd fS v x) fL fG fT fV fF fO fB fJ o hd ln (nI 0) := by
  obtain ⟨⟨g1, g2, g3, g4⟩, h2, h3, h4, h5, h6, h7, h8, h9, h10⟩ := h
  refine ⟨⟨g1, g2, g3, fun u => ?_⟩, fun u hu => ?_, h3, h4, h5, h6, h7, h8, h9, Or.inl nI_0⟩
  · by_cases e : u = v
    · subst e; rw [zv_put_s]; exact zc_le y
    · rw [zv_put_n e]; exact g4 u
  · by_cases e : u = v
    · subst e; rw [zu_s, zv_put_s]; exact hx
    · rw [zu_n e, zv_put_n e]; exact h2 u hu
theorem zp_stake_y {st : Nat → Nat} {v : Nat} {y : Int32} (hv : v < 8) : zp_stake st (nI v) y (nI (st v)) (zv_put st v (zv_clamp y)) :=
  ⟨fun u hu e => by rw [zn_inj (by omega) (by omega) e]; exact ⟨rfl, rfl⟩, fun h => absurd rfl (h v hv)⟩
theorem zp_stake_n {st : Nat → Nat} {x y : Int32} (h : ∀ v, v < 8 → ¬ x = nI v) : zp_stake st x y (-1) st := ⟨fun v hv e => absurd e (h v hv), fun _ => ⟨rfl, rfl⟩⟩
set_option maxHeartbeats 4000000 in
set_option maxRecDepth 100000 in
/-- enter(v, from, to) -/
theorem cX_enter (l : Launch) (D : va_G) (dA dZ : ClassId) (ad : Nat → Nat) (sz : Nat) (fS fL fG fT fV fF fO fB fJ : Nat → Int32) (o hd ln k : Int32) (v a b : Nat) (hv : v < 8) (ha : a < 32) (hb0 : b < 32) : Met l yX0_enter (ws_ yX0_enter cX0_enter 6 none) ({ frames := 0, cells := 0, slots := 0, locals := 0 }) (va_Pc [.ref (ad 0), .int (nI v), .int (nI a), .int (nI b)] (zx_M D [(dA, .int), (dZ, .boolean)] (xW dA dZ ad fS fL fG fT fV fF fO fB fJ o hd ln k) sz)) (va_Qv (S := Unit) (fun _ => True) (fun _ t => zx_E D [(dA, .int), (dZ, .boolean)] (va_A (xW dA dZ ad fS fL fG fT fV fF fO fB fJ o hd ln k) sz) (xW dA dZ ad fS (zv_lo fL v b a) (zv_hi fG v a b 32) (upd fT (32 * v + b) (fT (32 * v + b) + nI 1)) fV fF fO fB fJ o hd ln k) t) (va_A (xW dA dZ ad fS fL fG fT fV fF fO fB fJ o hd ln k) sz)) 0 0 (va_A (xW dA dZ ad fS fL fG fT fV fF fO fB fJ o hd ln k) sz) := by
  refine Met.ofW (cc := cX0_enter) (maxL := 6) (ret := none) (by decide) rfl ?_
  intro p e s m args below meth c s₁ B hml hv
  obtain ⟨rfl, hsz, hP, hK, hD0⟩ := hv
  have hx := B.exec
  have hb := B.bytes
  have hr := B.returns
  have hts := atoms_spec (ws := ws_ yX0_enter cX0_enter 6 none) B.pre
  have hts : ∀ w ∈ lw_all, w.before _ s = true := fun w h => hts w (List.mem_cons_of_mem _ h)
  have hown : s.vm.findClass RX0 = some m.cls := findClass_of_methodNamed B.named
  have hlocks := B.notSynchronized
  subst hsz
  have hD := hD0.self (sz := s.heap.size)
  generalize hAe : va_A (xW dA dZ ad fS fL fG fT fV fF fO fB fJ o hd ln k) s.heap.size = A at hD ⊢
  have hA : ∀ q : Nat, s.heap.size ≤ q → A q := fun q h => by rw [← hAe]; exact Or.inr h
  have hS : va_S A s.heap s.heap [] := va_S.rf
  have hl := lv_entry ([.ref (ad 0), .int (nI v), .int (nI a), .int (nI b)]) (n := 6) (Nat.le_of_ble_eq_true rfl)
  rw [lg_entry_eq]
  generalize (lg_sl ([.ref (ad 0), .int (nI v), .int (nI a), .int (nI b)]) ++ List.replicate (6 - (lg_sl ([.ref (ad 0), .int (nI v), .int (nI a), .int (nI b)])).length) Slot.unset).toArray = ls at hl ⊢
  have hl : lv_has ls 6 [(0, .ref (ad 0)), (1, .int (nI v)), (2, .int (nI a)), (3, .int (nI b))] := hl
  refine lv_bipush (v := nI 32) hx hb dX0_enter_0 (by decide) ?_
  refine lv_iload_n hx hb dX0_enter_2 rfl (lv_at hl 1 rfl) ?_
  refine lv_imul hx hb dX0_enter_3 ?_
  refine zx_top (y := nI (32 * v)) (pk_mul _ _) ?_
  refine lv_istore (lv' := [(4, .int (nI (32 * v))), (0, .ref (ad 0)), (1, .int (nI v)), (2, .int (nI a)), (3, .int (nI b))]) hx hb dX0_enter_4 hl (by decide) rfl (fun ls hl => ?_)
  refine lv_aload_n hx hb dX0_enter_6 rfl (lv_at hl 1 rfl) ?_
  refine va_get (D := D) (ci := 0) (v := .ref (ad 4)) (C := RX0) (T := TX0) (N := 13) hx hb hts in_X0 hown hK hP 0 rfl rfl 3 (by decide) (hts _ q25) (fun _ h9 => h9) rfl dX0_enter_7 ?_
  refine lv_iload hx hb dX0_enter_10 (lv_at hl 0 rfl) ?_
  refine lv_iload_n hx hb dX0_enter_12 rfl (lv_at hl 4 rfl) ?_
  refine lv_iadd hx hb dX0_enter_13 ?_
  refine zx_top (y := nI ((32 * v) + b)) (nI_add _ _) ?_
  refine lv_dup2_11 hx hb dX0_enter_14 rfl rfl ?_
  refine zx_iald hx hb hK hP 4 0 rfl rfl (j := (32 * v) + b) rfl (by omega) (by decide) dX0_enter_15 ?_
  refine lv_iconst (v := nI 1) hx hb dX0_enter_16 (by decide) ?_
  refine lv_iadd hx hb dX0_enter_17 ?_
  refine zx_iast hx hb hK hP hD hS 4 0 rfl rfl (j := (32 * v) + b) rfl (by omega) (by decide) dX0_enter_18 (fun H locs hP hD hS => ?_)
  have hP : va_P D vwCl (xW dA dZ ad fS fL fG (upd fT ((32 * v) + b) ((fT ((32 * v) + b)) + (nI 1))) fV fF fO fB fJ o hd ln k) H := hP
  have hD : va_D A (xW dA dZ ad fS fL fG (upd fT ((32 * v) + b) ((fT ((32 * v) + b)) + (nI 1))) fV fF fO fB fJ o hd ln k) := hD
  refine lv_iconst (v := nI 0) hx hb dX0_enter_19 (by decide) ?_
  refine lv_istore (lv' := [(5, .int (nI 0)), (4, .int (nI (32 * v))), (0, .ref (ad 0)), (1, .int (nI v)), (2, .int (nI a)), (3, .int (nI b))]) hx hb dX0_enter_20 hl (by decide) rfl (fun ls hl => ?_)
  have hP : va_P D vwCl (xW dA dZ ad fS (zv_lo fL v b 0) fG (upd fT ((32 * v) + b) ((fT ((32 * v) + b)) + (nI 1))) fV fF fO fB fJ o hd ln k) H := by rw [zl_0]; exact hP
  have hD : va_D A (xW dA dZ ad fS (zv_lo fL v b 0) fG (upd fT ((32 * v) + b) ((fT ((32 * v) + b)) + (nI 1))) fV fF fO fB fJ o hd ln k) := by rw [zl_0]; exact hD
  refine zx_w1 (α := Nat) (mu := fun e0 => a - e0) (I := fun e0 H locs ls => (e0 ≤ a) ∧ va_P D vwCl (xW dA dZ ad fS (zv_lo fL v b e0) fG (upd fT ((32 * v) + b) ((fT ((32 * v) + b)) + (nI 1))) fV fF fO fB fJ o hd ln k) H ∧ va_D A (xW dA dZ ad fS (zv_lo fL v b e0) fG (upd fT ((32 * v) + b) ((fT ((32 * v) + b)) + (nI 1))) fV fF fO fB fJ o hd ln k) ∧ va_S A s.heap H locs ∧ lv_has ls 6 [(0, .ref (ad 0)), (1, .int (nI v)), (2, .int (nI a)), (3, .int (nI b)), (4, .int (nI (32 * v))), (5, .int (nI e0))]) ?_ 0 ⟨Nat.zero_le _, hP, hD, hS, lv_sub hl [2, 3, 4, 5, 1, 0] rfl⟩
  intro e0 H locs ls hI ih
  obtain ⟨hi, hP, hD, hS, hl⟩ := hI
  refine lv_iload hx hb dX0_enter_22 (lv_at hl 5 rfl) ?_
  refine lv_iload_n hx hb dX0_enter_24 rfl (lv_at hl 2 rfl) ?_
  refine lv_icmp_ge (tgt := 72) hx hb dX0_enter_25 (by decide) (fun c1 => ?_) (fun c1 => ?_)
  · have c1 : a ≤ e0 := (nI_leI (by omega) (by omega)).mp c1
    have h9 : a = e0 := by omega
    subst h9
    refine lv_iload_n hx hb dX0_enter_72 rfl (lv_at hl 2 rfl) ?_
    refine lv_iconst (v := nI 1) hx hb dX0_enter_73 (by decide) ?_
    refine lv_iadd hx hb dX0_enter_74 ?_
    refine zx_top (y := nI (a + 1)) (nI_add _ _) ?_
    refine lv_istore (lv' := [(5, .int (nI (a + 1))), (0, .ref (ad 0)), (1, .int (nI v)), (2, .int (nI a)), (3, .int (nI b)), (4, .int (nI (32 * v)))]) hx hb dX0_enter_75 hl (by decide) rfl (fun ls hl => ?_)
    have hP : va_P D vwCl (xW dA dZ ad fS (zv_lo fL v b a) (zv_hi fG v a b (a + 1)) (upd fT ((32 * v) + b) ((fT ((32 * v) + b)) + (nI 1))) fV fF fO fB fJ o hd ln k) H := by rw [zh_0]; exact hP
    have hD : va_D A (xW dA dZ ad fS (zv_lo fL v b a) (zv_hi fG v a b (a + 1)) (upd fT ((32 * v) + b) ((fT ((32 * v) + b)) + (nI 1))) fV fF fO fB fJ o hd ln k) := by rw [zh_0]; exact hD
    refine zx_w1 (α := Nat) (mu := fun e1 => 32 - e1) (I := fun e1 H locs ls => (a + 1 ≤ e1 ∧ e1 ≤ 32) ∧ va_P D vwCl (xW dA dZ ad fS (zv_lo fL v b a) (zv_hi fG v a b e1) (upd fT ((32 * v) + b) ((fT ((32 * v) + b)) + (nI 1))) fV fF fO fB fJ o hd ln k) H ∧ va_D A (xW dA dZ ad fS (zv_lo fL v b a) (zv_hi fG v a b e1) (upd fT ((32 * v) + b) ((fT ((32 * v) + b)) + (nI 1))) fV fF fO fB fJ o hd ln k) ∧ va_S A s.heap H locs ∧ lv_has ls 6 [(0, .ref (ad 0)), (1, .int (nI v)), (2, .int (nI a)), (3, .int (nI b)), (4, .int (nI (32 * v))), (5, .int (nI e1))]) ?_ (a + 1) ⟨⟨Nat.le_refl _, by omega⟩, hP, hD, hS, lv_sub hl [1, 2, 3, 4, 5, 0] rfl⟩
    intro e1 H locs ls hI ih2
    obtain ⟨⟨he1, he2⟩, hP, hD, hS, hl⟩ := hI
    refine lv_iload hx hb dX0_enter_77 (lv_at hl 5 rfl) ?_
    refine lv_bipush (v := nI 32) hx hb dX0_enter_79 (by decide) ?_
    refine lv_icmp_ge (tgt := 128) hx hb dX0_enter_81 (by decide) (fun c2 => ?_) (fun c2 => ?_)
    · have c2 : 32 ≤ e1 := (nI_leI (by omega) (by omega)).mp c2
      have h9 : 32 = e1 := by omega
      subst h9
      exact W.vret hx hb hr (fun t ht hW => ⟨⟨(), rfl, trivial, by rw [ht]; exact hP, va_K.moved hW.alike hK, hD⟩, hS.F ht⟩) hS.2.2 dX0_enter_128
    · have c2 : ¬ 32 ≤ e1 := fun q => c2 ((nI_leI (by omega) (by omega)).mpr q)
      refine lv_aload_n hx hb dX0_enter_84 rfl (lv_at hl 0 rfl) ?_
      refine va_get (D := D) (ci := 0) (v := .ref (ad 3)) (C := RX0) (T := TX0) (N := 13) hx hb hts in_X0 hown hK hP 0 rfl rfl 2 (by decide) (hts _ q24) (fun _ h9 => h9) rfl dX0_enter_85 ?_
      refine lv_iload hx hb dX0_enter_88 (lv_at hl 4 rfl) ?_
      refine lv_iload hx hb dX0_enter_90 (lv_at hl 5 rfl) ?_
      refine lv_iadd hx hb dX0_enter_92 ?_
      refine zx_top (y := nI ((32 * v) + e1)) (nI_add _ _) ?_
      refine lv_iload_n hx hb dX0_enter_93 rfl (lv_at hl 3 rfl) ?_
      refine lv_aload_n hx hb dX0_enter_94 rfl (lv_at hl 0 rfl) ?_
      refine va_get (D := D) (ci := 0) (v := .ref (ad 3)) (C := RX0) (T := TX0) (N := 13) hx hb hts in_X0 hown hK hP 0 rfl rfl 2 (by decide) (hts _ q24) (fun _ h9 => h9) rfl dX0_enter_95 ?_
      refine lv_iload hx hb dX0_enter_98 (lv_at hl 4 rfl) ?_
      refine lv_iload hx hb dX0_enter_100 (lv_at hl 5 rfl) ?_
      refine lv_iadd hx hb dX0_enter_102 ?_
      refine zx_top (y := nI ((32 * v) + e1)) (nI_add _ _) ?_
      refine zx_iald hx hb hK hP 3 0 rfl rfl (j := (32 * v) + e1) rfl (by omega) (by decide) dX0_enter_103 ?_
      refine zx_top (y := fG (32 * v + e1)) (zh_at _ _ _ _ _) ?_
      refine lv_icmp_le (tgt := 111) hx hb dX0_enter_104 (by decide) (fun c3 => ?_) (fun c3 => ?_)
      · refine lv_aload_n hx hb dX0_enter_111 rfl (lv_at hl 0 rfl) ?_
        refine va_get (D := D) (ci := 0) (v := .ref (ad 3)) (C := RX0) (T := TX0) (N := 13) hx hb hts in_X0 hown hK hP 0 rfl rfl 2 (by decide) (hts _ q24) (fun _ h9 => h9) rfl dX0_enter_112 ?_
        refine lv_iload hx hb dX0_enter_115 (lv_at hl 4 rfl) ?_
        refine lv_iload hx hb dX0_enter_117 (lv_at hl 5 rfl) ?_
        refine lv_iadd hx hb dX0_enter_119 ?_
        refine zx_top (y := nI ((32 * v) + e1)) (nI_add _ _) ?_
        refine zx_iald hx hb hK hP 3 0 rfl rfl (j := (32 * v) + e1) rfl (by omega) (by decide) dX0_enter_120 ?_
        refine zx_top (y := fG (32 * v + e1)) (zh_at _ _ _ _ _) ?_
        refine zx_iast hx hb hK hP hD hS 3 0 rfl rfl (j := (32 * v) + e1) rfl (by omega) (by decide) dX0_enter_121 (fun H locs hP hD hS => ?_)
        have hP : va_P D vwCl (xW dA dZ ad fS (zv_lo fL v b a) (upd (zv_hi fG v a b e1) ((32 * v) + e1) (fG (32 * v + e1))) (upd fT ((32 * v) + b) ((fT ((32 * v) + b)) + (nI 1))) fV fF fO fB fJ o hd ln k) H := hP
        have hD : va_D A (xW dA dZ ad fS (zv_lo fL v b a) (upd (zv_hi fG v a b e1) ((32 * v) + e1) (fG (32 * v + e1))) (upd fT ((32 * v) + b) ((fT ((32 * v) + b)) + (nI 1))) fV fF fO fB fJ o hd ln k) := hD
        have eU : upd (zv_hi fG v a b e1) ((32 * v) + e1) (fG (32 * v + e1)) = zv_hi fG v a b (e1 + 1) := zh_s he1 (by rw [if_pos c3])
        rw [eU] at hP hD
        refine lv_iinc (v := nI (e1 + 1)) (lv' := [(5, .int (nI (e1 + 1))), (0, .ref (ad 0)), (1, .int (nI v)), (2, .int (nI a)), (3, .int (nI b)), (4, .int (nI (32 * v)))]) hx hb dX0_enter_122 hl (k := 5) rfl (nI_1 _) (by decide) rfl (fun ls hl => ?_)
        refine lv_goto (tgt := 77) hx hb dX0_enter_125 (by decide) ?_
        exact ih2 (e1 + 1) H locs ls (by omega) ⟨⟨by omega, by omega⟩, hP, hD, hS, lv_sub hl [1, 2, 3, 4, 5, 0] rfl⟩
      · refine lv_iload_n hx hb dX0_enter_107 rfl (lv_at hl 3 rfl) ?_
        refine lv_goto (tgt := 121) hx hb dX0_enter_108 (by decide) ?_
        refine zx_iast hx hb hK hP hD hS 3 0 rfl rfl (j := (32 * v) + e1) rfl (by omega) (by decide) dX0_enter_121 (fun H locs hP hD hS => ?_)
        have hP : va_P D vwCl (xW dA dZ ad fS (zv_lo fL v b a) (upd (zv_hi fG v a b e1) ((32 * v) + e1) (nI b)) (upd fT ((32 * v) + b) ((fT ((32 * v) + b)) + (nI 1))) fV fF fO fB fJ o hd ln k) H := hP
        have hD : va_D A (xW dA dZ ad fS (zv_lo fL v b a) (upd (zv_hi fG v a b e1) ((32 * v) + e1) (nI b)) (upd fT ((32 * v) + b) ((fT ((32 * v) + b)) + (nI 1))) fV fF fO fB fJ o hd ln k) := hD
        have eU : upd (zv_hi fG v a b e1) ((32 * v) + e1) (nI b) = zv_hi fG v a b (e1 + 1) := zh_s he1 (by rw [if_neg c3])
        rw [eU] at hP hD
        refine lv_iinc (v := nI (e1 + 1)) (lv' := [(5, .int (nI (e1 + 1))), (0, .ref (ad 0)), (1, .int (nI v)), (2, .int (nI a)), (3, .int (nI b)), (4, .int (nI (32 * v)))]) hx hb dX0_enter_122 hl (k := 5) rfl (nI_1 _) (by decide) rfl (fun ls hl => ?_)
        refine lv_goto (tgt := 77) hx hb dX0_enter_125 (by decide) ?_
        exact ih2 (e1 + 1) H locs ls (by omega) ⟨⟨by omega, by omega⟩, hP, hD, hS, lv_sub hl [1, 2, 3, 4, 5, 0] rfl⟩
  · have c1 : ¬ a ≤ e0 := fun q => c1 ((nI_leI (by omega) (by omega)).mpr q)
    refine lv_aload_n hx hb dX0_enter_28 rfl (lv_at hl 0 rfl) ?_
    refine va_get (D := D) (ci := 0) (v := .ref (ad 2)) (C := RX0) (T := TX0) (N := 13) hx hb hts in_X0 hown hK hP 0 rfl rfl 1 (by decide) (hts _ q23) (fun _ h9 => h9) rfl dX0_enter_29 ?_
    refine lv_iload hx hb dX0_enter_32 (lv_at hl 4 rfl) ?_
    refine lv_iload hx hb dX0_enter_34 (lv_at hl 5 rfl) ?_
    refine lv_iadd hx hb dX0_enter_36 ?_
    refine zx_top (y := nI ((32 * v) + e0)) (nI_add _ _) ?_
    refine lv_iload_n hx hb dX0_enter_37 rfl (lv_at hl 3 rfl) ?_
    refine lv_aload_n hx hb dX0_enter_38 rfl (lv_at hl 0 rfl) ?_
    refine va_get (D := D) (ci := 0) (v := .ref (ad 2)) (C := RX0) (T := TX0) (N := 13) hx hb hts in_X0 hown hK hP 0 rfl rfl 1 (by decide) (hts _ q23) (fun _ h9 => h9) rfl dX0_enter_39 ?_
    refine lv_iload hx hb dX0_enter_42 (lv_at hl 4 rfl) ?_
    refine lv_iload hx hb dX0_enter_44 (lv_at hl 5 rfl) ?_
    refine lv_iadd hx hb dX0_enter_46 ?_
    refine zx_top (y := nI ((32 * v) + e0)) (nI_add _ _) ?_
    refine zx_iald hx hb hK hP 2 0 rfl rfl (j := (32 * v) + e0) rfl (by omega) (by decide) dX0_enter_47 ?_
    refine zx_top (y := fL (32 * v + e0)) (zl_at _ _ _ _) ?_
    refine lv_icmp_ge (tgt := 55) hx hb dX0_enter_48 (by decide) (fun c2 => ?_) (fun c2 => ?_)
    · refine lv_aload_n hx hb dX0_enter_55 rfl (lv_at hl 0 rfl) ?_
      refine va_get (D := D) (ci := 0) (v := .ref (ad 2)) (C := RX0) (T := TX0) (N := 13) hx hb hts in_X0 hown hK hP 0 rfl rfl 1 (by decide) (hts _ q23) (fun _ h9 => h9) rfl dX0_enter_56 ?_
      refine lv_iload hx hb dX0_enter_59 (lv_at hl 4 rfl) ?_
      refine lv_iload hx hb dX0_enter_61 (lv_at hl 5 rfl) ?_
      refine lv_iadd hx hb dX0_enter_63 ?_
      refine zx_top (y := nI ((32 * v) + e0)) (nI_add _ _) ?_
      refine zx_iald hx hb hK hP 2 0 rfl rfl (j := (32 * v) + e0) rfl (by omega) (by decide) dX0_enter_64 ?_
      refine zx_top (y := fL (32 * v + e0)) (zl_at _ _ _ _) ?_
      refine zx_iast hx hb hK hP hD hS 2 0 rfl rfl (j := (32 * v) + e0) rfl (by omega) (by decide) dX0_enter_65 (fun H locs hP hD hS => ?_)
      have hP : va_P D vwCl (xW dA dZ ad fS (upd (zv_lo fL v b e0) ((32 * v) + e0) (fL (32 * v + e0))) fG (upd fT ((32 * v) + b) ((fT ((32 * v) + b)) + (nI 1))) fV fF fO fB fJ o hd ln k) H := hP
      have hD : va_D A (xW dA dZ ad fS (upd (zv_lo fL v b e0) ((32 * v) + e0) (fL (32 * v + e0))) fG (upd fT ((32 * v) + b) ((fT ((32 * v) + b)) + (nI 1))) fV fF fO fB fJ o hd ln k) := hD
      have eU : upd (zv_lo fL v b e0) ((32 * v) + e0) (fL (32 * v + e0)) = zv_lo fL v b (e0 + 1) := zl_s (by rw [if_pos c2])
      rw [eU] at hP hD
      refine lv_iinc (v := nI (e0 + 1)) (lv' := [(5, .int (nI (e0 + 1))), (0, .ref (ad 0)), (1, .int (nI v)), (2, .int (nI a)), (3, .int (nI b)), (4, .int (nI (32 * v)))]) hx hb dX0_enter_66 hl (k := 5) rfl (nI_1 _) (by decide) rfl (fun ls hl => ?_)
      refine lv_goto (tgt := 22) hx hb dX0_enter_69 (by decide) ?_
      exact ih (e0 + 1) H locs ls (by omega) ⟨by omega, hP, hD, hS, lv_sub hl [1, 2, 3, 4, 5, 0] rfl⟩
    · refine lv_iload_n hx hb dX0_enter_51 rfl (lv_at hl 3 rfl) ?_
      refine lv_goto (tgt := 65) hx hb dX0_enter_52 (by decide) ?_
      refine zx_iast hx hb hK hP hD hS 2 0 rfl rfl (j := (32 * v) + e0) rfl (by omega) (by decide) dX0_enter_65 (fun H locs hP hD hS => ?_)
      have hP : va_P D vwCl (xW dA dZ ad fS (upd (zv_lo fL v b e0) ((32 * v) + e0) (nI b)) fG (upd fT ((32 * v) + b) ((fT ((32 * v) + b)) + (nI 1))) fV fF fO fB fJ o hd ln k) H := hP
      have hD : va_D A (xW dA dZ ad fS (upd (zv_lo fL v b e0) ((32 * v) + e0) (nI b)) fG (upd fT ((32 * v) + b) ((fT ((32 * v) + b)) + (nI 1))) fV fF fO fB fJ o hd ln k) := hD
      have eU : upd (zv_lo fL v b e0) ((32 * v) + e0) (nI b) = zv_lo fL v b (e0 + 1) := zl_s (by rw [if_neg c2])
      rw [eU] at hP hD
      refine lv_iinc (v := nI (e0 + 1)) (lv' := [(5, .int (nI (e0 + 1))), (0, .ref (ad 0)), (1, .int (nI v)), (2, .int (nI a)), (3, .int (nI b)), (4, .int (nI (32 * v)))]) hx hb dX0_enter_66 hl (k := 5) rfl (nI_1 _) (by decide) rfl (fun ls hl => ?_)
      refine lv_goto (tgt := 22) hx hb dX0_enter_69 (by decide) ?_
      exact ih (e0 + 1) H locs ls (by omega) ⟨by omega, hP, hD, hS, lv_sub hl [1, 2, 3, 4, 5, 0] rfl⟩
set_option maxHeartbeats 4000000 in
set_option maxRecDepth 100000 in
/-- openLink(x, y) -/
theorem cX_openLink (l : Launch) (D : va_G) (dA dZ : ClassId) (ad : Nat → Nat) (sz : Nat) (fS fL fG fT fV fF fO fB fJ : Nat → Int32) (o hd ln k : Int32) (q : Nat) (x y : Int32) (hq : q < 64) (hln : ln = nI q) : Met l yX0_openLink (ws_ yX0_openLink cX0_openLink 5 (some .int)) ({ frames := 0, cells := 0, slots := 0, locals := 0 }) (va_Pc [.ref (ad 0), .int x, .int y] (zx_M D [(dA, .int), (dZ, .boolean)] (xW dA dZ ad fS fL fG fT fV fF fO fB fJ o hd ln k) sz)) (va_Qi (S := Nat) (fun r pl => r = nI pl ∧ pl ≤ q ∧ (pl = 0 ∨ fO (pl - 1) ≤ y) ∧ ∀ j, pl ≤ j → j < q → y < fO j) (fun pl t => zx_E D [(dA, .int), (dZ, .boolean)] (va_A (xW dA dZ ad fS fL fG fT fV fF fO fB fJ o hd ln k) sz) (xW dA dZ ad fS fL fG fT fV (upd (zv_sh fF pl q) pl x) (upd (zv_sh fO pl q) pl y) (upd (zv_sh fB pl q) pl (nI 0)) fJ o hd (nI (q + 1)) k) t) (va_A (xW dA dZ ad fS fL fG fT fV fF fO fB fJ o hd ln k) sz)) 0 0 (va_A (xW dA dZ ad fS fL fG fT fV fF fO fB fJ o hd ln k) sz) := by
  refine Met.ofW (cc := cX0_openLink) (maxL := 5) (ret := (some .int)) (by decide) rfl ?_
  intro p e s m args below meth c s₁ B hml hv
  obtain ⟨rfl, hsz, hP, hK, hD0⟩ := hv
  have hx := B.exec
  have hb := B.bytes
  have hr := B.returns
  have hts := atoms_spec (ws := ws_ yX0_openLink cX0_openLink 5 (some .int)) B.pre
  have hts : ∀ w ∈ lw_all, w.before _ s = true := fun w h => hts w (List.mem_cons_of_mem _ h)
  have hown : s.vm.findClass RX0 = some m.cls := findClass_of_methodNamed B.named
  have hlocks := B.notSynchronized
  subst hsz
  have hD := hD0.self (sz := s.heap.size)
  generalize hAe : va_A (xW dA dZ ad fS fL fG fT fV fF fO fB fJ o hd ln k) s.heap.size = A at hD ⊢
  have hA : ∀ q : Nat, s.heap.size ≤ q → A q := fun q h => by rw [← hAe]; exact Or.inr h
  have hS : va_S A s.heap s.heap [] := va_S.rf
  have hl := lv_entry ([.ref (ad 0), .int x, .int y]) (n := 5) (Nat.le_of_ble_eq_true rfl)
  rw [lg_entry_eq]
  generalize (lg_sl ([.ref (ad 0), .int x, .int y]) ++ List.replicate (5 - (lg_sl ([.ref (ad 0), .int x, .int y])).length) Slot.unset).toArray = ls at hl ⊢
  have hl : lv_has ls 5 [(0, .ref (ad 0)), (1, .int x), (2, .int y)] := hl
  subst hln
  refine lv_aload_n hx hb dX0_openLink_0 rfl (lv_at hl 0 rfl) ?_
  refine va_get (D := D) (ci := 0) (v := .int (nI q)) (C := RX0) (T := TX0) (N := 13) hx hb hts in_X0 hown hK hP 0 rfl rfl 7 (by decide) (hts _ q29) (fun _ h9 => h9) rfl dX0_openLink_1 ?_
  refine lv_istore_n (lv' := [(3, .int (nI q)), (0, .ref (ad 0)), (1, .int x), (2, .int y)]) hx hb dX0_openLink_4 rfl hl (by decide) rfl (fun ls hl => ?_)
  refine lv_aload_n hx hb dX0_openLink_5 rfl (lv_at hl 1 rfl) ?_
  refine va_get (D := D) (ci := 0) (v := .int (nI q)) (C := RX0) (T := TX0) (N := 13) hx hb hts in_X0 hown hK hP 0 rfl rfl 7 (by decide) (hts _ q29) (fun _ h9 => h9) rfl dX0_openLink_6 ?_
  refine lv_istore (lv' := [(4, .int (nI q)), (3, .int (nI q)), (0, .ref (ad 0)), (1, .int x), (2, .int y)]) hx hb dX0_openLink_9 hl (by decide) rfl (fun ls hl => ?_)
  have hP : va_P D vwCl (xW dA dZ ad fS fL fG fT fV (zv_sh fF q q) (zv_sh fO q q) (zv_sh fB q q) fJ o hd (nI q) k) s.heap := by rw [zsh_0, zsh_0, zsh_0]; exact hP
  have hD : va_D A (xW dA dZ ad fS fL fG fT fV (zv_sh fF q q) (zv_sh fO q q) (zv_sh fB q q) fJ o hd (nI q) k) := by rw [zsh_0, zsh_0, zsh_0]; exact hD
  refine zx_w2 (α := Nat) (β := Nat) (mu := fun kk pl => kk) (I := fun kk pl H locs ls => (kk ≤ pl ∧ pl ≤ q ∧ (∀ j, pl ≤ j → j < q → y < fO j) ∧ (kk < pl → fO (pl - 1) ≤ y)) ∧ va_P D vwCl (xW dA dZ ad fS fL fG fT fV (zv_sh fF pl q) (zv_sh fO pl q) (zv_sh fB pl q) fJ o hd (nI q) k) H ∧ va_D A (xW dA dZ ad fS fL fG fT fV (zv_sh fF pl q) (zv_sh fO pl q) (zv_sh fB pl q) fJ o hd (nI q) k) ∧ va_S A s.heap H locs ∧ lv_has ls 5 [(0, .ref (ad 0)), (1, .int x), (2, .int y), (3, .int (nI pl)), (4, .int (nI kk))]) ?_ q q ⟨⟨Nat.le_refl _, Nat.le_refl _, fun j h1 h2 => absurd h1 (by omega), fun h => absurd h (by omega)⟩, hP, hD, hS, lv_sub hl [2, 3, 4, 1, 0] rfl⟩
  intro kk pl H locs ls hI ih
  obtain ⟨⟨h1, h2, h3, h4⟩, hP, hD, hS, hl⟩ := hI
  refine lv_iload hx hb dX0_openLink_11 (lv_at hl 4 rfl) ?_
  refine lv_if_le (tgt := 94) hx hb dX0_openLink_13 (by decide) (fun c1 => ?_) (fun c1 => ?_)
  · have c1 : kk = 0 := (zn_le0 (by omega)).mp c1
    refine lv_aload_n hx hb dX0_openLink_94 rfl (lv_at hl 0 rfl) ?_
    refine va_get (D := D) (ci := 0) (v := .ref (ad 6)) (C := RX0) (T := TX0) (N := 13) hx hb hts in_X0 hown hK hP 0 rfl rfl 8 (by decide) (hts _ q30) (fun _ h9 => h9) rfl dX0_openLink_95 ?_
    refine lv_iload_n hx hb dX0_openLink_98 rfl (lv_at hl 3 rfl) ?_
    refine lv_iload_n hx hb dX0_openLink_99 rfl (lv_at hl 1 rfl) ?_
    refine zx_iast hx hb hK hP hD hS 6 0 rfl rfl (j := pl) rfl (by omega) (by decide) dX0_openLink_100 (fun H locs hP hD hS => ?_)
    have hP : va_P D vwCl (xW dA dZ ad fS fL fG fT fV (upd (zv_sh fF pl q) pl x) (zv_sh fO pl q) (zv_sh fB pl q) fJ o hd (nI q) k) H := hP
    have hD : va_D A (xW dA dZ ad fS fL fG fT fV (upd (zv_sh fF pl q) pl x) (zv_sh fO pl q) (zv_sh fB pl q) fJ o hd (nI q) k) := hD
    refine lv_aload_n hx hb dX0_openLink_101 rfl (lv_at hl 0 rfl) ?_
    refine va_get (D := D) (ci := 0) (v := .ref (ad 7)) (C := RX0) (T := TX0) (N := 13) hx hb hts in_X0 hown hK hP 0 rfl rfl 9 (by decide) (hts _ q31) (fun _ h9 => h9) rfl dX0_openLink_102 ?_
    refine lv_iload_n hx hb dX0_openLink_105 rfl (lv_at hl 3 rfl) ?_
    refine lv_iload_n hx hb dX0_openLink_106 rfl (lv_at hl 2 rfl) ?_
    refine zx_iast hx hb hK hP hD hS 7 0 rfl rfl (j := pl) rfl (by omega) (by decide) dX0_openLink_107 (fun H locs hP hD hS => ?_)
    have hP : va_P D vwCl (xW dA dZ ad fS fL fG fT fV (upd (zv_sh fF pl q) pl x) (upd (zv_sh fO pl q) pl y) (zv_sh fB pl q) fJ o hd (nI q) k) H := hP
    have hD : va_D A (xW dA dZ ad fS fL fG fT fV (upd (zv_sh fF pl q) pl x) (upd (zv_sh fO pl q) pl y) (zv_sh fB pl q) fJ o hd (nI q) k) := hD
    refine lv_aload_n hx hb dX0_openLink_108 rfl (lv_at hl 0 rfl) ?_
    refine va_get (D := D) (ci := 0) (v := .ref (ad 8)) (C := RX0) (T := TX0) (N := 13) hx hb hts in_X0 hown hK hP 0 rfl rfl 10 (by decide) (hts _ q32) (fun _ h9 => h9) rfl dX0_openLink_109 ?_
    refine lv_iload_n hx hb dX0_openLink_112 rfl (lv_at hl 3 rfl) ?_
    refine lv_iconst (v := nI 0) hx hb dX0_openLink_113 (by decide) ?_
    refine zx_iast hx hb hK hP hD hS 8 0 rfl rfl (j := pl) rfl (by omega) (by decide) dX0_openLink_114 (fun H locs hP hD hS => ?_)
    have hP : va_P D vwCl (xW dA dZ ad fS fL fG fT fV (upd (zv_sh fF pl q) pl x) (upd (zv_sh fO pl q) pl y) (upd (zv_sh fB pl q) pl (nI 0)) fJ o hd (nI q) k) H := hP
    have hD : va_D A (xW dA dZ ad fS fL fG fT fV (upd (zv_sh fF pl q) pl x) (upd (zv_sh fO pl q) pl y) (upd (zv_sh fB pl q) pl (nI 0)) fJ o hd (nI q) k) := hD
    refine lv_aload_n hx hb dX0_openLink_115 rfl (lv_at hl 0 rfl) ?_
    refine lv_dup hx hb dX0_openLink_116 rfl ?_
    refine va_get (D := D) (ci := 0) (v := .int (nI q)) (C := RX0) (T := TX0) (N := 13) hx hb hts in_X0 hown hK hP 0 rfl rfl 7 (by decide) (hts _ q29) (fun _ h9 => h9) rfl dX0_openLink_117 ?_
    refine lv_iconst (v := nI 1) hx hb dX0_openLink_120 (by decide) ?_
    refine lv_iadd hx hb dX0_openLink_121 ?_
    refine zx_top (y := nI (q + 1)) (nI_add _ _) ?_
    refine va_put (D := D) (ci := 0) (v := .int (nI (q + 1))) (ty := .int) (C := RX0) (T := TX0) (N := 13) hx hb hts in_X0 tyX0 tyX0_ok nmX0 hown hK hP hD hS 0 rfl rfl 7 (by decide) (hts _ q29) (fun _ h9 => h9) rfl (by decide +kernel) rfl rfl (Nat.le_of_ble_eq_true rfl) dX0_openLink_122 (fun H locs hP hD hS => ?_)
    have hP : va_P D vwCl (xW dA dZ ad fS fL fG fT fV (upd (zv_sh fF pl q) pl x) (upd (zv_sh fO pl q) pl y) (upd (zv_sh fB pl q) pl (nI 0)) fJ o hd (nI (q + 1)) k) H := hP
    have hD : va_D A (xW dA dZ ad fS fL fG fT fV (upd (zv_sh fF pl q) pl x) (upd (zv_sh fO pl q) pl y) (upd (zv_sh fB pl q) pl (nI 0)) fJ o hd (nI (q + 1)) k) := hD
    refine lv_iload_n hx hb dX0_openLink_125 rfl (lv_at hl 3 rfl) ?_
    exact W.iret (v := (nI pl)) hx hb hr (fun t ht hW => ⟨⟨_, pl, rfl, ⟨rfl, h2, (by by_cases e : pl = 0; exact Or.inl e; exact Or.inr (h4 (by omega))), h3⟩, by rw [ht]; exact hP, va_K.moved hW.alike hK, hD⟩, hS.F ht⟩) hS.2.2 dX0_openLink_126
  · have c1 : ¬ kk = 0 := fun q => c1 ((zn_le0 (by omega)).mpr q)
    refine lv_iload_n hx hb dX0_openLink_16 rfl (lv_at hl 3 rfl) ?_
    refine lv_iload hx hb dX0_openLink_17 (lv_at hl 4 rfl) ?_
    refine lv_icmp_ne (tgt := 88) hx hb dX0_openLink_19 (by decide) (fun c2 => ?_) (fun c2 => ?_)
    · have c2 : ¬ pl = kk := fun q => c2 ((nI_eq (by omega) (by omega)).mpr q)
      refine lv_iinc (v := nI (kk - 1)) (lv' := [(4, .int (nI (kk - 1))), (0, .ref (ad 0)), (1, .int x), (2, .int y), (3, .int (nI pl))]) hx hb dX0_openLink_88 hl (k := 4) rfl (sb_m1 (by omega)) (by decide) rfl (fun ls hl => ?_)
      refine lv_goto (tgt := 11) hx hb dX0_openLink_91 (by decide) ?_
      exact ih (kk - 1) pl H locs ls (by omega) ⟨⟨by omega, h2, h3, fun _ => h4 (by omega)⟩, hP, hD, hS, lv_sub hl [1, 2, 3, 4, 0] rfl⟩
    · have c2 : pl = kk := (nI_eq (by omega) (by omega)).mp c2
      subst c2
      obtain ⟨p0, rfl⟩ : ∃ p0, pl = p0 + 1 := ⟨pl - 1, by omega⟩
      refine lv_aload_n hx hb dX0_openLink_22 rfl (lv_at hl 0 rfl) ?_
      refine va_get (D := D) (ci := 0) (v := .ref (ad 7)) (C := RX0) (T := TX0) (N := 13) hx hb hts in_X0 hown hK hP 0 rfl rfl 9 (by decide) (hts _ q31) (fun _ h9 => h9) rfl dX0_openLink_23 ?_
      refine lv_iload hx hb dX0_openLink_26 (lv_at hl 4 rfl) ?_
      refine lv_iconst (v := nI 1) hx hb dX0_openLink_28 (by decide) ?_
      refine lv_isub hx hb dX0_openLink_29 ?_
      refine zx_top (y := nI p0) (nI_pred _) ?_
      refine zx_iald hx hb hK hP 7 0 rfl rfl (j := p0) rfl (by omega) (by decide) dX0_openLink_30 ?_
      refine zx_top (y := fO p0) (zsh_lt (by omega)) ?_
      refine lv_iload_n hx hb dX0_openLink_31 rfl (lv_at hl 2 rfl) ?_
      refine lv_icmp_le (tgt := 88) hx hb dX0_openLink_32 (by decide) (fun c3 => ?_) (fun c3 => ?_)
      · refine lv_iinc (v := nI p0) (lv' := [(4, .int (nI p0)), (0, .ref (ad 0)), (1, .int x), (2, .int y), (3, .int (nI (p0 + 1)))]) hx hb dX0_openLink_88 hl (k := 4) rfl (pk_m1 _) (by decide) rfl (fun ls hl => ?_)
        refine lv_goto (tgt := 11) hx hb dX0_openLink_91 (by decide) ?_
        exact ih p0 (p0 + 1) H locs ls (by omega) ⟨⟨by omega, h2, h3, fun _ => by rw [Nat.add_sub_cancel]; exact c3⟩, hP, hD, hS, lv_sub hl [1, 2, 3, 4, 0] rfl⟩
      · refine lv_aload_n hx hb dX0_openLink_35 rfl (lv_at hl 0 rfl) ?_
        refine va_get (D := D) (ci := 0) (v := .ref (ad 6)) (C := RX0) (T := TX0) (N := 13) hx hb hts in_X0 hown hK hP 0 rfl rfl 8 (by decide) (hts _ q30) (fun _ h9 => h9) rfl dX0_openLink_36 ?_
        refine lv_iload hx hb dX0_openLink_39 (lv_at hl 4 rfl) ?_
        refine lv_aload_n hx hb dX0_openLink_41 rfl (lv_at hl 0 rfl) ?_
        refine va_get (D := D) (ci := 0) (v := .ref (ad 6)) (C := RX0) (T := TX0) (N := 13) hx hb hts in_X0 hown hK hP 0 rfl rfl 8 (by decide) (hts _ q30) (fun _ h9 => h9) rfl dX0_openLink_42 ?_
        refine lv_iload hx hb dX0_openLink_45 (lv_at hl 4 rfl) ?_
        refine lv_iconst (v := nI 1) hx hb dX0_openLink_47 (by decide) ?_
        refine lv_isub hx hb dX0_openLink_48 ?_
        refine zx_top (y := nI p0) (nI_pred _) ?_
        refine zx_iald hx hb hK hP 6 0 rfl rfl (j := p0) rfl (by omega) (by decide) dX0_openLink_49 ?_
        refine zx_top (y := fF p0) (zsh_lt (by omega)) ?_
        refine zx_iast hx hb hK hP hD hS 6 0 rfl rfl (j := p0 + 1) rfl (by omega) (by decide) dX0_openLink_50 (fun H locs hP hD hS => ?_)
        have hP : va_P D vwCl (xW dA dZ ad fS fL fG fT fV (upd (zv_sh fF (p0 + 1) q) (p0 + 1) (fF p0)) (zv_sh fO (p0 + 1) q) (zv_sh fB (p0 + 1) q) fJ o hd (nI q) k) H := hP
        have hD : va_D A (xW dA dZ ad fS fL fG fT fV (upd (zv_sh fF (p0 + 1) q) (p0 + 1) (fF p0)) (zv_sh fO (p0 + 1) q) (zv_sh fB (p0 + 1) q) fJ o hd (nI q) k) := hD
        have eU : upd (zv_sh fF (p0 + 1) q) (p0 + 1) (fF p0) = zv_sh fF p0 q := zsh_s h2
        rw [eU] at hP hD
        refine lv_aload_n hx hb dX0_openLink_51 rfl (lv_at hl 0 rfl) ?_
        refine va_get (D := D) (ci := 0) (v := .ref (ad 7)) (C := RX0) (T := TX0) (N := 13) hx hb hts in_X0 hown hK hP 0 rfl rfl 9 (by decide) (hts _ q31) (fun _ h9 => h9) rfl dX0_openLink_52 ?_
        refine lv_iload hx hb dX0_openLink_55 (lv_at hl 4 rfl) ?_
        refine lv_aload_n hx hb dX0_openLink_57 rfl (lv_at hl 0 rfl) ?_
        refine va_get (D := D) (ci := 0) (v := .ref (ad 7)) (C := RX0) (T := TX0) (N := 13) hx hb hts in_X0 hown hK hP 0 rfl rfl 9 (by decide) (hts _ q31) (fun _ h9 => h9) rfl dX0_openLink_58 ?_
        refine lv_iload hx hb dX0_openLink_61 (lv_at hl 4 rfl) ?_
        refine lv_iconst (v := nI 1) hx hb dX0_openLink_63 (by decide) ?_
        refine lv_isub hx hb dX0_openLink_64 ?_
        refine zx_top (y := nI p0) (nI_pred _) ?_
        refine zx_iald hx hb hK hP 7 0 rfl rfl (j := p0) rfl (by omega) (by decide) dX0_openLink_65 ?_
        refine zx_top (y := fO p0) (zsh_lt (by omega)) ?_
        refine zx_iast hx hb hK hP hD hS 7 0 rfl rfl (j := p0 + 1) rfl (by omega) (by decide) dX0_openLink_66 (fun H locs hP hD hS => ?_)
        have hP : va_P D vwCl (xW dA dZ ad fS fL fG fT fV (zv_sh fF p0 q) (upd (zv_sh fO (p0 + 1) q) (p0 + 1) (fO p0)) (zv_sh fB (p0 + 1) q) fJ o hd (nI q) k) H := hP
        have hD : va_D A (xW dA dZ ad fS fL fG fT fV (zv_sh fF p0 q) (upd (zv_sh fO (p0 + 1) q) (p0 + 1) (fO p0)) (zv_sh fB (p0 + 1) q) fJ o hd (nI q) k) := hD
        have eU : upd (zv_sh fO (p0 + 1) q) (p0 + 1) (fO p0) = zv_sh fO p0 q := zsh_s h2
        rw [eU] at hP hD
        refine lv_aload_n hx hb dX0_openLink_67 rfl (lv_at hl 0 rfl) ?_
        refine va_get (D := D) (ci := 0) (v := .ref (ad 8)) (C := RX0) (T := TX0) (N := 13) hx hb hts in_X0 hown hK hP 0 rfl rfl 10 (by decide) (hts _ q32) (fun _ h9 => h9) rfl dX0_openLink_68 ?_
        refine lv_iload hx hb dX0_openLink_71 (lv_at hl 4 rfl) ?_
        refine lv_aload_n hx hb dX0_openLink_73 rfl (lv_at hl 0 rfl) ?_
        refine va_get (D := D) (ci := 0) (v := .ref (ad 8)) (C := RX0) (T := TX0) (N := 13) hx hb hts in_X0 hown hK hP 0 rfl rfl 10 (by decide) (hts _ q32) (fun _ h9 => h9) rfl dX0_openLink_74 ?_
        refine lv_iload hx hb dX0_openLink_77 (lv_at hl 4 rfl) ?_
        refine lv_iconst (v := nI 1) hx hb dX0_openLink_79 (by decide) ?_
        refine lv_isub hx hb dX0_openLink_80 ?_
        refine zx_top (y := nI p0) (nI_pred _) ?_
        refine zx_iald hx hb hK hP 8 0 rfl rfl (j := p0) rfl (by omega) (by decide) dX0_openLink_81 ?_
        refine zx_top (y := fB p0) (zsh_lt (by omega)) ?_
        refine zx_iast hx hb hK hP hD hS 8 0 rfl rfl (j := p0 + 1) rfl (by omega) (by decide) dX0_openLink_82 (fun H locs hP hD hS => ?_)
        have hP : va_P D vwCl (xW dA dZ ad fS fL fG fT fV (zv_sh fF p0 q) (zv_sh fO p0 q) (upd (zv_sh fB (p0 + 1) q) (p0 + 1) (fB p0)) fJ o hd (nI q) k) H := hP
        have hD : va_D A (xW dA dZ ad fS fL fG fT fV (zv_sh fF p0 q) (zv_sh fO p0 q) (upd (zv_sh fB (p0 + 1) q) (p0 + 1) (fB p0)) fJ o hd (nI q) k) := hD
        have eU : upd (zv_sh fB (p0 + 1) q) (p0 + 1) (fB p0) = zv_sh fB p0 q := zsh_s h2
        rw [eU] at hP hD
        refine lv_iload hx hb dX0_openLink_83 (lv_at hl 4 rfl) ?_
        refine lv_iconst (v := nI 1) hx hb dX0_openLink_85 (by decide) ?_
        refine lv_isub hx hb dX0_openLink_86 ?_
        refine zx_top (y := nI p0) (nI_pred _) ?_
        refine lv_istore_n (lv' := [(3, .int (nI p0)), (0, .ref (ad 0)), (1, .int x), (2, .int y), (4, .int (nI (p0 + 1)))]) hx hb dX0_openLink_87 rfl hl (by decide) rfl (fun ls hl => ?_)
        refine lv_iinc (v := nI p0) (lv' := [(4, .int (nI p0)), (3, .int (nI p0)), (0, .ref (ad 0)), (1, .int x), (2, .int y)]) hx hb dX0_openLink_88 hl (k := 4) rfl (pk_m1 _) (by decide) rfl (fun ls hl => ?_)
        refine lv_goto (tgt := 11) hx hb dX0_openLink_91 (by decide) ?_
        exact ih p0 p0 H locs ls (by omega) ⟨⟨Nat.le_refl _, by omega, fun j g1 g2 => (by by_cases e : j = p0; exact e ▸ zn_nle c3; exact h3 j (by omega) g2), fun h => absurd h (by omega)⟩, hP, hD, hS, lv_sub hl [2, 3, 4, 1, 0] rfl⟩
set_option maxHeartbeats 4000000 in
set_option maxRecDepth 100000 in
/-- stake(x, y) -/
theorem cX_stake (l : Launch) (D : va_G) (dA dZ : ClassId) (ad : Nat → Nat) (sz : Nat) (fS fL fG fT fV fF fO fB fJ : Nat → Int32) (o hd ln k : Int32) (n : Nat) (vw vs vt st : Nat → Nat) (x y : Int32) (hX : zr_X n vw vs vt st fS fL fG fT fV fF fO fB fJ o hd ln k) : Met l yX0_stake (ws_ yX0_stake cX0_stake 4 (some .int)) ({ frames := 1, cells := 0, slots := 0, locals := 20 }) (va_Pc [.ref (ad 0), .int x, .int y] (zx_M D [(dA, .int), (dZ, .boolean)] (xW dA dZ ad fS fL fG fT fV fF fO fB fJ o hd ln k) sz)) (va_Qi (S := Nat → Nat) (fun r u => zp_stake st x y r u) (fun u t => zx_X D dA dZ ad (va_A (xW dA dZ ad fS fL fG fT fV fF fO fB fJ o hd ln k) sz) n vw vs vt u t) (va_A (xW dA dZ ad fS fL fG fT fV fF fO fB fJ o hd ln k) sz)) 0 0 (va_A (xW dA dZ ad fS fL fG fT fV fF fO fB fJ o hd ln k) sz) := by
  refine Met.ofW (cc := cX0_stake) (maxL := 4) (ret := (some .int)) (by decide) rfl ?_
  intro p e s m args below meth c s₁ B hml hv
  obtain ⟨rfl, hsz, hP, hK, hD0⟩ := hv
  have hx := B.exec
  have hb := B.bytes
  have hr := B.returns
  have hts := atoms_spec (ws := ws_ yX0_stake cX0_stake 4 (some .int)) B.pre
  have hts : ∀ w ∈ lw_all, w.before _ s = true := fun w h => hts w (List.mem_cons_of_mem _ h)
  have hown : s.vm.findClass RX0 = some m.cls := findClass_of_methodNamed B.named
  have hlocks := B.notSynchronized
  subst hsz
  have hD := hD0.self (sz := s.heap.size)
  generalize hAe : va_A (xW dA dZ ad fS fL fG fT fV fF fO fB fJ o hd ln k) s.heap.size = A at hD ⊢
  have hA : ∀ q : Nat, s.heap.size ≤ q → A q := fun q h => by rw [← hAe]; exact Or.inr h
  have hS : va_S A s.heap s.heap [] := va_S.rf
  have hl := lv_entry ([.ref (ad 0), .int x, .int y]) (n := 4) (Nat.le_of_ble_eq_true rfl)
  rw [lg_entry_eq]
  generalize (lg_sl ([.ref (ad 0), .int x, .int y]) ++ List.replicate (4 - (lg_sl ([.ref (ad 0), .int x, .int y])).length) Slot.unset).toArray = ls at hl ⊢
  have hl : lv_has ls 4 [(0, .ref (ad 0)), (1, .int x), (2, .int y)] := hl
  refine lv_iload_n hx hb dX0_stake_0 rfl (lv_at hl 1 rfl) ?_
  refine vp_callSi (W.runS (As := [.int x]) (rest := []) ⟨hx, hb, hml, hown, hts⟩ (cX_isValidator l x) (va_cwS 1 hts (lw_S q68 q69 q12 q70) rfl rfl rfl (by decide +kernel) ⟨Nat.le_of_ble_eq_true rfl, Nat.le_of_ble_eq_true rfl⟩) (zx_pS _) rfl rfl hl.1 rfl (lv_room (Nat.le_of_ble_eq_true rfl)) dX0_stake_1 ⟨Nat.le_of_ble_eq_true rfl, Nat.le_of_ble_eq_true rfl⟩) (fun r1 hr1 => ?_)
  refine lv_if_ne (tgt := 9) hx hb dX0_stake_4 (by decide) (fun c1 => ?_) (fun c1 => ?_)
  · obtain ⟨v, hv, rfl⟩ := hr1.1 c1
    refine lv_aload_n hx hb dX0_stake_9 rfl (lv_at hl 0 rfl) ?_
    refine va_get (D := D) (ci := 0) (v := .ref (ad 1)) (C := RX0) (T := TX0) (N := 13) hx hb hts in_X0 hown hK hP 0 rfl rfl 0 (by decide) (hts _ q22) (fun _ h9 => h9) rfl dX0_stake_10 ?_
    refine lv_iload_n hx hb dX0_stake_13 rfl (lv_at hl 1 rfl) ?_
    refine zx_iald hx hb hK hP 1 0 rfl rfl (j := v) rfl (by omega) (by decide) dX0_stake_14 ?_
    refine zx_top (y := nI (st v)) (hX.2.1 v hv) ?_
    refine lv_istore_n (lv' := [(3, .int (nI (st v))), (0, .ref (ad 0)), (1, .int (nI v)), (2, .int y)]) hx hb dX0_stake_15 rfl hl (by decide) rfl (fun ls hl => ?_)
    refine lv_aload_n hx hb dX0_stake_16 rfl (lv_at hl 1 rfl) ?_
    refine va_get (D := D) (ci := 0) (v := .ref (ad 1)) (C := RX0) (T := TX0) (N := 13) hx hb hts in_X0 hown hK hP 0 rfl rfl 0 (by decide) (hts _ q22) (fun _ h9 => h9) rfl dX0_stake_17 ?_
    refine lv_iload_n hx hb dX0_stake_20 rfl (lv_at hl 2 rfl) ?_
    refine lv_iload_n hx hb dX0_stake_21 rfl (lv_at hl 3 rfl) ?_
    refine lv_if_ge (tgt := 29) hx hb dX0_stake_22 (by decide) (fun c2 => ?_) (fun c2 => ?_)
    · refine lv_iload_n hx hb dX0_stake_29 rfl (lv_at hl 3 rfl) ?_
      refine lv_bipush (v := nI 100) hx hb dX0_stake_30 (by decide) ?_
      refine lv_icmp_le (tgt := 40) hx hb dX0_stake_32 (by decide) (fun c3 => ?_) (fun c3 => ?_)
      · obtain ⟨z, hz, rfl⟩ := zc_in (N := 100) (x := y) (by omega) (fun q => by rw [zn_lt] at q; rw [zn_le] at c2; exact absurd c2 (by rw [Int32.toInt_zero] at q ⊢; omega)) (fun q => by rw [zn_lt] at q; rw [zn_le] at c3; omega)
        refine lv_iload_n hx hb dX0_stake_40 rfl (lv_at hl 3 rfl) ?_
        refine zx_iast hx hb hK hP hD hS 1 0 rfl rfl (j := v) rfl (by omega) (by decide) dX0_stake_41 (fun H locs hP hD hS => ?_)
        have hP : va_P D vwCl (xW dA dZ ad (upd fS v (nI z)) fL fG fT fV fF fO fB fJ o hd ln k) H := hP
        have hD : va_D A (xW dA dZ ad (upd fS v (nI z)) fL fG fT fV fF fO fB fJ o hd ln k) := hD
        refine lv_aload_n hx hb dX0_stake_42 rfl (lv_at hl 1 rfl) ?_
        refine lv_iconst (v := nI 0) hx hb dX0_stake_43 (by decide) ?_
        refine va_put (D := D) (ci := 0) (v := .int (nI 0)) (ty := .boolean) (C := RX0) (T := TX0) (N := 13) hx hb hts in_X0 tyX0 tyX0_ok nmX0 hown hK hP hD hS 0 rfl rfl 11 (by decide) (hts _ q33) (fun _ h9 => h9) rfl (by decide +kernel) rfl rfl (Nat.le_of_ble_eq_true rfl) dX0_stake_44 (fun H locs hP hD hS => ?_)
        have hP : va_P D vwCl (xW dA dZ ad (upd fS v (nI z)) fL fG fT fV fF fO fB fJ o hd ln (nI 0)) H := hP
        have hD : va_D A (xW dA dZ ad (upd fS v (nI z)) fL fG fT fV fF fO fB fJ o hd ln (nI 0)) := hD
        refine lv_iload_n hx hb dX0_stake_47 rfl (lv_at hl 0 rfl) ?_
        exact W.iret (v := (nI (st v))) hx hb hr (fun t ht hW => ⟨⟨_, _, rfl, zp_stake_y hv, _, _, _, _, _, _, _, _, _, _, _, _, _, zs_stake (y := nI z) hX hv (by unfold zv_clamp; rw [if_neg (nI_pos (by omega)), if_neg (nI_nlt hz (by omega)), nI_clamp (by omega)]), by rw [ht]; exact hP, va_K.moved hW.alike hK, hD⟩, hS.F ht⟩) hS.2.2 dX0_stake_48
      · refine lv_bipush (v := nI 100) hx hb dX0_stake_35 (by decide) ?_
        refine lv_goto (tgt := 41) hx hb dX0_stake_37 (by decide) ?_
        refine zx_iast hx hb hK hP hD hS 1 0 rfl rfl (j := v) rfl (by omega) (by decide) dX0_stake_41 (fun H locs hP hD hS => ?_)
        have hP : va_P D vwCl (xW dA dZ ad (upd fS v (nI 100)) fL fG fT fV fF fO fB fJ o hd ln k) H := hP
        have hD : va_D A (xW dA dZ ad (upd fS v (nI 100)) fL fG fT fV fF fO fB fJ o hd ln k) := hD
        refine lv_aload_n hx hb dX0_stake_42 rfl (lv_at hl 1 rfl) ?_
        refine lv_iconst (v := nI 0) hx hb dX0_stake_43 (by decide) ?_
        refine va_put (D := D) (ci := 0) (v := .int (nI 0)) (ty := .boolean) (C := RX0) (T := TX0) (N := 13) hx hb hts in_X0 tyX0 tyX0_ok nmX0 hown hK hP hD hS 0 rfl rfl 11 (by decide) (hts _ q33) (fun _ h9 => h9) rfl (by decide +kernel) rfl rfl (Nat.le_of_ble_eq_true rfl) dX0_stake_44 (fun H locs hP hD hS => ?_)
        have hP : va_P D vwCl (xW dA dZ ad (upd fS v (nI 100)) fL fG fT fV fF fO fB fJ o hd ln (nI 0)) H := hP
        have hD : va_D A (xW dA dZ ad (upd fS v (nI 100)) fL fG fT fV fF fO fB fJ o hd ln (nI 0)) := hD
        refine lv_iload_n hx hb dX0_stake_47 rfl (lv_at hl 0 rfl) ?_
        exact W.iret (v := (nI (st v))) hx hb hr (fun t ht hW => ⟨⟨_, _, rfl, zp_stake_y hv, _, _, _, _, _, _, _, _, _, _, _, _, _, zs_stake (y := y) hX hv (by unfold zv_clamp; rw [if_neg (fun q => by rw [zn_lt] at q; rw [zn_le] at c2; exact absurd c2 (by rw [Int32.toInt_zero] at q ⊢; omega)), if_pos (zn_nle c3)]), by rw [ht]; exact hP, va_K.moved hW.alike hK, hD⟩, hS.F ht⟩) hS.2.2 dX0_stake_48
    · refine lv_iconst (v := nI 0) hx hb dX0_stake_25 (by decide) ?_
      refine lv_goto (tgt := 41) hx hb dX0_stake_26 (by decide) ?_
      refine zx_iast hx hb hK hP hD hS 1 0 rfl rfl (j := v) rfl (by omega) (by decide) dX0_stake_41 (fun H locs hP hD hS => ?_)
      have hP : va_P D vwCl (xW dA dZ ad (upd fS v (nI 0)) fL fG fT fV fF fO fB fJ o hd ln k) H := hP
      have hD : va_D A (xW dA dZ ad (upd fS v (nI 0)) fL fG fT fV fF fO fB fJ o hd ln k) := hD
      refine lv_aload_n hx hb dX0_stake_42 rfl (lv_at hl 1 rfl) ?_
      refine lv_iconst (v := nI 0) hx hb dX0_stake_43 (by decide) ?_
      refine va_put (D := D) (ci := 0) (v := .int (nI 0)) (ty := .boolean) (C := RX0) (T := TX0) (N := 13) hx hb hts in_X0 tyX0 tyX0_ok nmX0 hown hK hP hD hS 0 rfl rfl 11 (by decide) (hts _ q33) (fun _ h9 => h9) rfl (by decide +kernel) rfl rfl (Nat.le_of_ble_eq_true rfl) dX0_stake_44 (fun H locs hP hD hS => ?_)
      have hP : va_P D vwCl (xW dA dZ ad (upd fS v (nI 0)) fL fG fT fV fF fO fB fJ o hd ln (nI 0)) H := hP
      have hD : va_D A (xW dA dZ ad (upd fS v (nI 0)) fL fG fT fV fF fO fB fJ o hd ln (nI 0)) := hD
      refine lv_iload_n hx hb dX0_stake_47 rfl (lv_at hl 0 rfl) ?_
      exact W.iret (v := (nI (st v))) hx hb hr (fun t ht hW => ⟨⟨_, _, rfl, zp_stake_y hv, _, _, _, _, _, _, _, _, _, _, _, _, _, zs_stake (y := y) hX hv (by unfold zv_clamp; rw [if_pos (zn_nle c2)]), by rw [ht]; exact hP, va_K.moved hW.alike hK, hD⟩, hS.F ht⟩) hS.2.2 dX0_stake_48
  · refine lv_iconst (v := (-1)) hx hb dX0_stake_7 (by decide) ?_
    exact W.iret (v := (-1)) hx hb hr (fun t ht hW => ⟨⟨_, _, rfl, zp_stake_n (hr1.2 c1), _, _, _, _, _, _, _, _, _, _, _, _, _, hX, by rw [ht]; exact hP, va_K.moved hW.alike hK, hD⟩, hS.F ht⟩) hS.2.2 dX0_stake_8
end
section
/-! MODULE VoteWatch: vote -/
theorem zv_okU {v a b v' a' b' : Nat} (h : zv_okV (nI v) (nI a) (nI b) v' a' b') (hv : v < 8) (ha : zv_c a) (hb : zv_c b) : v' = v ∧ a' = a ∧ b' = b := by
  obtain ⟨h1, h2, h3, -, e1, e2, e3⟩ := h
  have i1 := h2.1
  have i2 := h3.1
  have i3 := ha.1
  have i4 := hb.1
  exact ⟨(zn_inj (by omega) (by omega) e1).symm, (zn_inj (by omega) (by omega) e2).symm, (zn_inj (by omega) (by omega) e3).symm⟩
theorem zp_vote_n {n : Nat} {w s t : Nat → Nat} {x y z : Int32} (h : ∀ v a b, ¬ zv_okV x y z v a b) : zp_vote n w s t x y z (-1) (n, w, s, t) := ⟨fun v a b h1 => absurd h1 (h v a b), fun _ => ⟨rfl, rfl⟩⟩
theorem zp_vote_r {n : Nat} {w s t : Nat → Nat} {v a b : Nat} (hv : v < 8) (ha : zv_c a) (hb : zv_c b) (hab : a / 4 < b / 4) (h : zv_held n w s t v (nI a) (nI b) = true ∨ n = 64) : zp_vote n w s t (nI v) (nI a) (nI b) (-2) (n, w, s, t) := by
  refine ⟨fun v' a' b' h1 => ?_, fun h1 => absurd ⟨hv, ha, hb, hab, rfl, rfl, rfl⟩ (h1 v a b)⟩
  obtain ⟨rfl, rfl, rfl⟩ := zv_okU h1 hv ha hb
  refine ⟨fun _ => ⟨rfl, rfl⟩, fun h2 h3 => ?_⟩
  rcases h with h | h
  · rw [h] at h2; cases h2
  · exact absurd h h3
theorem zp_vote_y {n : Nat} {w s t : Nat → Nat} {v a b : Nat} (hv : v < 8) (ha : zv_c a) (hb : zv_c b) (hab : a / 4 < b / 4) (h : zv_held n w s t v (nI a) (nI b) = false) (hn : ¬ n = 64) : zp_vote n w s t (nI v) (nI a) (nI b) (nI (zv_verd n w s t v a b)) (n + 1, zv_put w n v, zv_put s n a, zv_put t n b) := by
  refine ⟨fun v' a' b' h1 => ?_, fun h1 => absurd ⟨hv, ha, hb, hab, rfl, rfl, rfl⟩ (h1 v a b)⟩
  obtain ⟨rfl, rfl, rfl⟩ := zv_okU h1 hv ha hb
  refine ⟨fun h2 => ?_, fun _ _ => ⟨rfl, rfl⟩⟩
  rcases h2 with h2 | h2
  · rw [h] at h2; cases h2
  · exact absurd h2 hn
theorem zs_vote {n : Nat} {w s t st : Nat → Nat} {fS fL fG fT fV fJ fF' fO' fB' : Nat → Int32} {o o' : Int32} {q : Nat} {v a b : Nat} (hG : zv_G n w s t st) (hS : zr_S st fS) (hV : zr_V n w fV) (hT : zr_T n w t fT) (hL : zr_L n w s t fL) (hGr : zr_G n w s t fG) (hO : zr_O n w s t o) (hn : n < 64) (hv : v < 8) (ha : a < 128) (hb : b < 128) (hab : a / 4 < b / 4) (hh : zv_held n w s t v (nI a) (nI b) = false)
    (h0 : zv_verd n w s t v a b = 0 → o' = o) (h1 : ¬ zv_verd n w s t v a b = 0 → o' = o ||| (nI 1 <<< (nI v &&& 31))) (hQ : zr_Q (n + 1) (zv_put w n v) (zv_put s n a) (zv_put t n b) q fF' fO' fB') :
    zr_X (n + 1) (zv_put w n v) (zv_put s n a) (zv_put t n b) st fS (zv_lo fL v (b / 4) (a / 4)) (zv_hi fG v (a / 4) (b / 4) 32) (upd fT (32 * v + b / 4) (fT (32 * v + b / 4) + nI 1)) (upd fV v (fV v + nI 1)) fF' fO' fB' fJ o' (nI (n + 1)) (nI q) (nI 0) :=
  ⟨zs_G hG hn hv ha hb hab hh, hS, rfl, zs_V hV hv, zs_T hT hv hb, zs_L hL hv ha hb, zs_Gr hGr hv ha hb, zs_O hO hv h0 h1, ⟨q, rfl, hQ⟩, Or.inl nI_0⟩
theorem zx_held0 {n : Nat} {w s t : Nat → Nat} {q : Nat} {fF fO fB : Nat → Int32} {x y : Int32} {v : Nat} (h : zr_Q n w s t q fF fO fB) (hno : ∀ k, k < q → ¬ (fF k = x ∧ fO k = y)) : zv_held n w s t v x y = false := by
  refine zv_any_no (fun i hi h8 => ?_)
  obtain ⟨-, g2, g3⟩ := of_decide_eq_true h8
  obtain ⟨k, hk, e1, e2⟩ := h.2.2.1 i hi
  exact hno k hk ⟨e1.trans g2, e2.trans g3⟩
theorem zx_newB {fB : Nat → Int32} {u q v : Nat} (hv : v < 8) (hu : u ≤ q) : (∀ j, j < q + 1 → j ≠ u → upd (upd (zv_sh fB u q) u (nI 0)) u ((upd (zv_sh fB u q) u (nI 0)) u ||| (nI 1 <<< (nI v &&& 31))) j = fB (zv_od u j)) ∧ ∀ i, i < 8 → bt (upd (upd (zv_sh fB u q) u (nI 0)) u ((upd (zv_sh fB u q) u (nI 0)) u ||| (nI 1 <<< (nI v &&& 31))) u) i = decide (i = v) := by
  refine ⟨fun j hj hne => ?_, fun i hi => ?_⟩
  · rw [zu_n hne]; exact zsh_od hu hj hne
  · rw [zu_s, zu_s, zb_set (by omega) (by omega), nI_0, b_0, Bool.false_or]
set_option maxHeartbeats 4000000 in
set_option maxRecDepth 100000 in
/-- vote(x, y, z) -/
theorem cX_vote (l : Launch) (D : va_G) (dA dZ : ClassId) (ad : Nat → Nat) (sz : Nat) (fS fL fG fT fV fF fO fB fJ : Nat → Int32) (o hd ln k : Int32) (n : Nat) (vw vs vt st : Nat → Nat) (x y z : Int32) (hX : zr_X n vw vs vt st fS fL fG fT fV fF fO fB fJ o hd ln k) : Met l yX0_vote (ws_ yX0_vote cX0_vote 7 (some .int)) ({ frames := 1, cells := 0, slots := 0, locals := 25 }) (va_Pc [.ref (ad 0), .int x, .int y, .int z] (zx_M D [(dA, .int), (dZ, .boolean)] (xW dA dZ ad fS fL fG fT fV fF fO fB fJ o hd ln k) sz)) (va_Qi (S := zv_GT) (fun r u => zp_vote n vw vs vt x y z r u) (fun u t => zx_X D dA dZ ad (va_A (xW dA dZ ad fS fL fG fT fV fF fO fB fJ o hd ln k) sz) u.1 u.2.1 u.2.2.1 u.2.2.2 st t) (va_A (xW dA dZ ad fS fL fG fT fV fF fO fB fJ o hd ln k) sz)) 0 0 (va_A (xW dA dZ ad fS fL fG fT fV fF fO fB fJ o hd ln k) sz) := by
  refine Met.ofW (cc := cX0_vote) (maxL := 7) (ret := (some .int)) (by decide) rfl ?_
  intro p e s m args below meth c s₁ B hml hv
  obtain ⟨rfl, hsz, hP, hK, hD0⟩ := hv
  have hx := B.exec
  have hb := B.bytes
  have hr := B.returns
  have hts := atoms_spec (ws := ws_ yX0_vote cX0_vote 7 (some .int)) B.pre
  have hts : ∀ w ∈ lw_all, w.before _ s = true := fun w h => hts w (List.mem_cons_of_mem _ h)
  have hown : s.vm.findClass RX0 = some m.cls := findClass_of_methodNamed B.named
  have hlocks := B.notSynchronized
  subst hsz
  have hD := hD0.self (sz := s.heap.size)
  generalize hAe : va_A (xW dA dZ ad fS fL fG fT fV fF fO fB fJ o hd ln k) s.heap.size = A at hD ⊢
  have hA : ∀ q : Nat, s.heap.size ≤ q → A q := fun q h => by rw [← hAe]; exact Or.inr h
  have hS : va_S A s.heap s.heap [] := va_S.rf
  have hl := lv_entry ([.ref (ad 0), .int x, .int y, .int z]) (n := 7) (Nat.le_of_ble_eq_true rfl)
  rw [lg_entry_eq]
  generalize (lg_sl ([.ref (ad 0), .int x, .int y, .int z]) ++ List.replicate (7 - (lg_sl ([.ref (ad 0), .int x, .int y, .int z])).length) Slot.unset).toArray = ls at hl ⊢
  have hl : lv_has ls 7 [(0, .ref (ad 0)), (1, .int x), (2, .int y), (3, .int z)] := hl
  refine lv_iload_n hx hb dX0_vote_0 rfl (lv_at hl 1 rfl) ?_
  refine vp_callSi (W.runS (As := [.int x]) (rest := []) ⟨hx, hb, hml, hown, hts⟩ (cX_isValidator l x) (va_cwS 1 hts (lw_S q68 q69 q12 q70) rfl rfl rfl (by decide +kernel) ⟨Nat.le_of_ble_eq_true rfl, Nat.le_of_ble_eq_true rfl⟩) (zx_pS _) rfl rfl hl.1 rfl (lv_room (Nat.le_of_ble_eq_true rfl)) dX0_vote_1 ⟨Nat.le_of_ble_eq_true rfl, Nat.le_of_ble_eq_true rfl⟩) (fun r1 hr1 => ?_)
  refine lv_if_eq (tgt := 30) hx hb dX0_vote_4 (by decide) (fun c1 => ?_) (fun c1 => ?_)
  · refine lv_iconst (v := (-1)) hx hb dX0_vote_30 (by decide) ?_
    exact W.iret (v := (-1)) hx hb hr (fun t ht hW => ⟨⟨_, _, rfl, zp_vote_n (fun v a b h => hr1.2 c1 v h.1 h.2.2.2.2.1), _, _, _, _, _, _, _, _, _, _, _, _, _, hX, by rw [ht]; exact hP, va_K.moved hW.alike hK, hD⟩, hS.F ht⟩) hS.2.2 dX0_vote_31
  · obtain ⟨v, hv, rfl⟩ := hr1.1 c1
    refine lv_iload_n hx hb dX0_vote_7 rfl (lv_at hl 2 rfl) ?_
    refine vp_callSi (W.runS (As := [.int y]) (rest := []) ⟨hx, hb, hml, hown, hts⟩ (cX_isCheckpoint l y) (va_cwS 1 hts (lw_S q75 q76 q12 q77) rfl rfl rfl (by decide +kernel) ⟨Nat.le_of_ble_eq_true rfl, Nat.le_of_ble_eq_true rfl⟩) (zx_pS _) rfl rfl hl.1 rfl (lv_room (Nat.le_of_ble_eq_true rfl)) dX0_vote_8 ⟨Nat.le_of_ble_eq_true rfl, Nat.le_of_ble_eq_true rfl⟩) (fun r2 hr2 => ?_)
    refine lv_if_eq (tgt := 30) hx hb dX0_vote_11 (by decide) (fun c2 => ?_) (fun c2 => ?_)
    · refine lv_iconst (v := (-1)) hx hb dX0_vote_30 (by decide) ?_
      exact W.iret (v := (-1)) hx hb hr (fun t ht hW => ⟨⟨_, _, rfl, zp_vote_n (fun v a b h => hr2.2 c2 a h.2.1 h.2.2.2.2.2.1), _, _, _, _, _, _, _, _, _, _, _, _, _, hX, by rw [ht]; exact hP, va_K.moved hW.alike hK, hD⟩, hS.F ht⟩) hS.2.2 dX0_vote_31
    · obtain ⟨a, ha, rfl⟩ := hr2.1 c2
      refine lv_iload_n hx hb dX0_vote_14 rfl (lv_at hl 3 rfl) ?_
      refine vp_callSi (W.runS (As := [.int z]) (rest := []) ⟨hx, hb, hml, hown, hts⟩ (cX_isCheckpoint l z) (va_cwS 1 hts (lw_S q75 q76 q12 q77) rfl rfl rfl (by decide +kernel) ⟨Nat.le_of_ble_eq_true rfl, Nat.le_of_ble_eq_true rfl⟩) (zx_pS _) rfl rfl hl.1 rfl (lv_room (Nat.le_of_ble_eq_true rfl)) dX0_vote_15 ⟨Nat.le_of_ble_eq_true rfl, Nat.le_of_ble_eq_true rfl⟩) (fun r3 hr3 => ?_)
      refine lv_if_eq (tgt := 30) hx hb dX0_vote_18 (by decide) (fun c3 => ?_) (fun c3 => ?_)
      · refine lv_iconst (v := (-1)) hx hb dX0_vote_30 (by decide) ?_
        exact W.iret (v := (-1)) hx hb hr (fun t ht hW => ⟨⟨_, _, rfl, zp_vote_n (fun v a b h => hr3.2 c3 b h.2.2.1 h.2.2.2.2.2.2), _, _, _, _, _, _, _, _, _, _, _, _, _, hX, by rw [ht]; exact hP, va_K.moved hW.alike hK, hD⟩, hS.F ht⟩) hS.2.2 dX0_vote_31
      · obtain ⟨b, hb0, rfl⟩ := hr3.1 c3
        have ha1 := ha.1
        have hb1 := hb0.1
        refine lv_iload_n hx hb dX0_vote_21 rfl (lv_at hl 3 rfl) ?_
        refine lv_iconst (v := nI 2) hx hb dX0_vote_22 (by decide) ?_
        refine lv_ishr hx hb dX0_vote_23 ?_
        refine zx_top (y := nI (b / 4)) (pk_shrN (by omega) _ 2 (by decide)) ?_
        refine lv_iload_n hx hb dX0_vote_24 rfl (lv_at hl 2 rfl) ?_
        refine lv_iconst (v := nI 2) hx hb dX0_vote_25 (by decide) ?_
        refine lv_ishr hx hb dX0_vote_26 ?_
        refine zx_top (y := nI (a / 4)) (pk_shrN (by omega) _ 2 (by decide)) ?_
        refine lv_icmp_gt (tgt := 32) hx hb dX0_vote_27 (by decide) (fun c4 => ?_) (fun c4 => ?_)
        · have c4 : a / 4 < b / 4 := (nI_ltI (by omega) (by omega)).mp c4
          obtain ⟨hG, hst, rfl, hV, hT, hL, hGr, hO, ⟨q, rfl, hQ⟩, hKn⟩ := id hX
          have hn64 := hG.1
          have hqn := hQ.1
          have hvl := zv_verd_lt n vw vs vt v a b
          refine lv_aload_n hx hb dX0_vote_32 rfl (lv_at hl 0 rfl) ?_
          refine lv_iload_n hx hb dX0_vote_33 rfl (lv_at hl 2 rfl) ?_
          refine lv_iload_n hx hb dX0_vote_34 rfl (lv_at hl 3 rfl) ?_
          refine vp_callSi (W.runV (As := [.int (nI a), .int (nI b)]) (rest := []) ⟨hx, hb, hml, hown, hts⟩ (cX_linkOf l D dA dZ ad fS fL fG fT fV fF fO fB fJ o (nI n) (nI q) k q (nI a) (nI b) (by omega) rfl) (cwV 2 hts (lw_V q78 q80 qs0 q12 q81) rfl rfl rfl (by decide +kernel) ⟨Nat.le_of_ble_eq_true rfl, Nat.le_of_ble_eq_true rfl⟩) (zx_pR hK hP rfl rfl _) rfl rfl hl.1 rfl (lv_room (Nat.le_of_ble_eq_true rfl)) dX0_vote_35 ⟨Nat.le_of_ble_eq_true rfl, Nat.le_of_ble_eq_true rfl⟩) (fun r4 hr4 => ?_)
          rcases hr4 with ⟨j, hj, rfl, e1, e2⟩ | ⟨rfl, hno⟩
          · refine lv_istore (lv' := [(4, .int (nI j)), (0, .ref (ad 0)), (1, .int (nI v)), (2, .int (nI a)), (3, .int (nI b))]) hx hb dX0_vote_38 hl (by decide) rfl (fun ls hl => ?_)
            refine lv_iload hx hb dX0_vote_40 (lv_at hl 0 rfl) ?_
            refine lv_if_lt (tgt := 63) hx hb dX0_vote_42 (by decide) (fun d1 => ?_) (fun d1 => ?_)
            · exact absurd d1 (nI_pos (by omega))
            · refine lv_aload_n hx hb dX0_vote_45 rfl (lv_at hl 1 rfl) ?_
              refine va_get (D := D) (ci := 0) (v := .ref (ad 8)) (C := RX0) (T := TX0) (N := 13) hx hb hts in_X0 hown hK hP 0 rfl rfl 10 (by decide) (hts _ q32) (fun _ h9 => h9) rfl dX0_vote_46 ?_
              refine lv_iload hx hb dX0_vote_49 (lv_at hl 0 rfl) ?_
              refine zx_iald hx hb hK hP 8 0 rfl rfl (j := j) rfl (by omega) (by decide) dX0_vote_51 ?_
              refine lv_iload_n hx hb dX0_vote_52 rfl (lv_at hl 2 rfl) ?_
              refine lv_iushr hx hb dX0_vote_53 rfl ?_
              refine lv_iconst (v := nI 1) hx hb dX0_vote_54 (by decide) ?_
              refine lv_iand hx hb dX0_vote_55 ?_
              refine zx_top (y := if bt (fB j) v = true then 1 else 0) (zb_bit (by omega)) ?_
              refine lv_if_eq (tgt := 63) hx hb dX0_vote_56 (by decide) (fun d2 => ?_) (fun d2 => ?_)
              · have hh : zv_held n vw vs vt v (nI a) (nI b) = false := by rw [← e1, ← e2, ← hQ.2.2.2.2.2 j v hj hv, Bool.eq_false_iff]; exact zi_0 d2
                refine lv_iconst (v := nI 0) hx hb dX0_vote_63 (by decide) ?_
                refine lv_istore (lv' := [(5, .int (nI 0)), (4, .int (nI j)), (0, .ref (ad 0)), (1, .int (nI v)), (2, .int (nI a)), (3, .int (nI b))]) hx hb dX0_vote_64 hl (by decide) rfl (fun ls hl => ?_)
                refine lv_iload hx hb dX0_vote_66 (lv_at hl 0 rfl) ?_
                refine lv_if_ne (tgt := 80) hx hb dX0_vote_68 (by decide) (fun d3 => ?_) (fun d3 => ?_)
                · exact absurd nI_0 d3
                · refine lv_aload_n hx hb dX0_vote_71 rfl (lv_at hl 2 rfl) ?_
                  refine va_get (D := D) (ci := 0) (v := .int (nI n)) (C := RX0) (T := TX0) (N := 13) hx hb hts in_X0 hown hK hP 0 rfl rfl 6 (by decide) (hts _ q28) (fun _ h9 => h9) rfl dX0_vote_72 ?_
                  refine lv_bipush (v := nI 64) hx hb dX0_vote_75 (by decide) ?_
                  refine lv_icmp_lt (tgt := 83) hx hb dX0_vote_77 (by decide) (fun d4 => ?_) (fun d4 => ?_)
                  · have d4 : n < 64 := (nI_ltI (by omega) (by omega)).mp d4
                    refine lv_aload_n hx hb dX0_vote_83 rfl (lv_at hl 2 rfl) ?_
                    refine lv_iload_n hx hb dX0_vote_84 rfl (lv_at hl 3 rfl) ?_
                    refine lv_iload_n hx hb dX0_vote_85 rfl (lv_at hl 4 rfl) ?_
                    refine lv_iconst (v := nI 2) hx hb dX0_vote_86 (by decide) ?_
                    refine lv_ishr hx hb dX0_vote_87 ?_
                    refine zx_top (y := nI (a / 4)) (pk_shrN (by omega) _ 2 (by decide)) ?_
                    refine lv_iload_n hx hb dX0_vote_88 rfl (lv_at hl 5 rfl) ?_
                    refine lv_iconst (v := nI 2) hx hb dX0_vote_89 (by decide) ?_
                    refine lv_ishr hx hb dX0_vote_90 ?_
                    refine zx_top (y := nI (b / 4)) (pk_shrN (by omega) _ 2 (by decide)) ?_
                    refine vp_callSi (W.runV (As := [.int (nI v), .int (nI (a / 4)), .int (nI (b / 4))]) (rest := []) ⟨hx, hb, hml, hown, hts⟩ (cX_judge l D dA dZ ad fS fL fG fT fV fF fO fB fJ o (nI n) (nI q) k v (a / 4) (b / 4) (zv_any (zv_b1 vw vt v b) n) (zv_any (zv_b2 vw vs vt v a b) n) (zv_any (zv_b4 vw vs vt v a b) n) hv (by omega) (by omega) (zj_b1 hT hn64 hv (by omega)) (zj_b2 hL hv (by omega) (by omega)) (zj_b4 hGr hv (by omega) (by omega))) (cwV 3 hts (lw_V q82 q84 qs1 q12 q85) rfl rfl rfl (by decide +kernel) ⟨Nat.le_of_ble_eq_true rfl, Nat.le_of_ble_eq_true rfl⟩) (zx_pR hK hP rfl rfl _) rfl rfl hl.1 rfl (lv_room (Nat.le_of_ble_eq_true rfl)) dX0_vote_91 ⟨Nat.le_of_ble_eq_true rfl, Nat.le_of_ble_eq_true rfl⟩) (fun r5 hr5 => ?_)
                    have hr5 : r5 = nI (zv_verd n vw vs vt v a b) := hr5
                    subst hr5
                    refine lv_istore (lv' := [(6, .int (nI (zv_verd n vw vs vt v a b))), (5, .int (nI 0)), (4, .int (nI j)), (0, .ref (ad 0)), (1, .int (nI v)), (2, .int (nI a)), (3, .int (nI b))]) hx hb dX0_vote_94 hl (by decide) rfl (fun ls hl => ?_)
                    refine lv_iload hx hb dX0_vote_96 (lv_at hl 0 rfl) ?_
                    refine lv_if_eq (tgt := 113) hx hb dX0_vote_98 (by decide) (fun d5 => ?_) (fun d5 => ?_)
                    · have d5 : zv_verd n vw vs vt v a b = 0 := (zn_eq0 (by omega)).mp d5
                      refine lv_aload_n hx hb dX0_vote_113 rfl (lv_at hl 3 rfl) ?_
                      refine lv_iload_n hx hb dX0_vote_114 rfl (lv_at hl 4 rfl) ?_
                      refine lv_iload_n hx hb dX0_vote_115 rfl (lv_at hl 5 rfl) ?_
                      refine lv_iconst (v := nI 2) hx hb dX0_vote_116 (by decide) ?_
                      refine lv_ishr hx hb dX0_vote_117 ?_
                      refine zx_top (y := nI (a / 4)) (pk_shrN (by omega) _ 2 (by decide)) ?_
                      refine lv_iload_n hx hb dX0_vote_118 rfl (lv_at hl 6 rfl) ?_
                      refine lv_iconst (v := nI 2) hx hb dX0_vote_119 (by decide) ?_
                      refine lv_ishr hx hb dX0_vote_120 ?_
                      refine zx_top (y := nI (b / 4)) (pk_shrN (by omega) _ 2 (by decide)) ?_
                      have hFc := zx_fr hD hS hA
                      refine va_callv (va_runV (As := [.int (nI v), .int (nI (a / 4)), .int (nI (b / 4))]) (rest := []) ⟨hx, hb, hml, hown, hts⟩ (cX_enter l D dA dZ ad _ fS fL fG fT fV fF fO fB fJ o (nI n) (nI q) k v (a / 4) (b / 4) hv (by omega) (by omega)) (cwV 3 hts (lw_V q86 q88 qs2 q12 q89) rfl rfl rfl (by decide +kernel) ⟨Nat.le_of_ble_eq_true rfl, Nat.le_of_ble_eq_true rfl⟩) (zx_pM hK hP hD rfl rfl _) rfl rfl hl.1 rfl (lv_room (Nat.le_of_ble_eq_true rfl)) dX0_vote_121 ⟨Nat.le_of_ble_eq_true rfl, Nat.le_of_ble_eq_true rfl⟩) hS (fun q _ h => hFc q h) hFc (fun u t H locs ht hvm hw hB hz1 hk1 hS => ?_)
                      obtain ⟨hP, hD, hK⟩ := zx_bk hB ht hvm hFc
                      refine lv_iload hx hb dX0_vote_124 (lv_at hl 2 rfl) ?_
                      refine lv_if_ge (tgt := 137) hx hb dX0_vote_126 (by decide) (fun d6 => ?_) (fun d6 => ?_)
                      · refine lv_aload_n hx hb dX0_vote_137 rfl (lv_at hl 3 rfl) ?_
                        refine va_get (D := D) (ci := 0) (v := .ref (ad 8)) (C := RX0) (T := TX0) (N := 13) hx hb hts in_X0 hown hK hP 0 rfl rfl 10 (by decide) (hts _ q32) (fun _ h9 => h9) rfl dX0_vote_138 ?_
                        refine lv_iload hx hb dX0_vote_141 (lv_at hl 2 rfl) ?_
                        refine lv_dup2_11 hx hb dX0_vote_143 rfl rfl ?_
                        refine zx_iald hx hb hK hP 8 0 rfl rfl (j := j) rfl (by omega) (by decide) dX0_vote_144 ?_
                        refine lv_iconst (v := nI 1) hx hb dX0_vote_145 (by decide) ?_
                        refine lv_iload_n hx hb dX0_vote_146 rfl (lv_at hl 4 rfl) ?_
                        refine lv_ishl hx hb dX0_vote_147 ?_
                        refine lv_ior hx hb dX0_vote_148 ?_
                        refine zx_iast hx hb hK hP hD hS 8 0 rfl rfl (j := j) rfl (by omega) (by decide) dX0_vote_149 (fun H locs hP hD hS => ?_)
                        have hP : va_P D vwCl (xW dA dZ ad fS (zv_lo fL v (b / 4) (a / 4)) (zv_hi fG v (a / 4) (b / 4) 32) (upd fT (32 * v + b / 4) (fT (32 * v + b / 4) + nI 1)) fV fF fO (upd fB j ((fB j) ||| ((nI 1) <<< ((nI v) &&& 31)))) fJ o (nI n) (nI q) k) H := hP
                        have hD : va_D A (xW dA dZ ad fS (zv_lo fL v (b / 4) (a / 4)) (zv_hi fG v (a / 4) (b / 4) 32) (upd fT (32 * v + b / 4) (fT (32 * v + b / 4) + nI 1)) fV fF fO (upd fB j ((fB j) ||| ((nI 1) <<< ((nI v) &&& 31)))) fJ o (nI n) (nI q) k) := hD
                        refine lv_aload_n hx hb dX0_vote_150 rfl (lv_at hl 3 rfl) ?_
                        refine lv_dup hx hb dX0_vote_151 rfl ?_
                        refine va_get (D := D) (ci := 0) (v := .int (nI n)) (C := RX0) (T := TX0) (N := 13) hx hb hts in_X0 hown hK hP 0 rfl rfl 6 (by decide) (hts _ q28) (fun _ h9 => h9) rfl dX0_vote_152 ?_
                        refine lv_iconst (v := nI 1) hx hb dX0_vote_155 (by decide) ?_
                        refine lv_iadd hx hb dX0_vote_156 ?_
                        refine zx_top (y := nI (n + 1)) (nI_add _ _) ?_
                        refine va_put (D := D) (ci := 0) (v := .int (nI (n + 1))) (ty := .int) (C := RX0) (T := TX0) (N := 13) hx hb hts in_X0 tyX0 tyX0_ok nmX0 hown hK hP hD hS 0 rfl rfl 6 (by decide) (hts _ q28) (fun _ h9 => h9) rfl (by decide +kernel) rfl rfl (Nat.le_of_ble_eq_true rfl) dX0_vote_157 (fun H locs hP hD hS => ?_)
                        have hP : va_P D vwCl (xW dA dZ ad fS (zv_lo fL v (b / 4) (a / 4)) (zv_hi fG v (a / 4) (b / 4) 32) (upd fT (32 * v + b / 4) (fT (32 * v + b / 4) + nI 1)) fV fF fO (upd fB j ((fB j) ||| ((nI 1) <<< ((nI v) &&& 31)))) fJ o (nI (n + 1)) (nI q) k) H := hP
                        have hD : va_D A (xW dA dZ ad fS (zv_lo fL v (b / 4) (a / 4)) (zv_hi fG v (a / 4) (b / 4) 32) (upd fT (32 * v + b / 4) (fT (32 * v + b / 4) + nI 1)) fV fF fO (upd fB j ((fB j) ||| ((nI 1) <<< ((nI v) &&& 31)))) fJ o (nI (n + 1)) (nI q) k) := hD
                        refine lv_aload_n hx hb dX0_vote_160 rfl (lv_at hl 3 rfl) ?_
                        refine va_get (D := D) (ci := 0) (v := .ref (ad 5)) (C := RX0) (T := TX0) (N := 13) hx hb hts in_X0 hown hK hP 0 rfl rfl 5 (by decide) (hts _ q27) (fun _ h9 => h9) rfl dX0_vote_161 ?_
                        refine lv_iload_n hx hb dX0_vote_164 rfl (lv_at hl 4 rfl) ?_
                        refine lv_dup2_11 hx hb dX0_vote_165 rfl rfl ?_
                        refine zx_iald hx hb hK hP 5 0 rfl rfl (j := v) rfl (by omega) (by decide) dX0_vote_166 ?_
                        refine lv_iconst (v := nI 1) hx hb dX0_vote_167 (by decide) ?_
                        refine lv_iadd hx hb dX0_vote_168 ?_
                        refine zx_iast hx hb hK hP hD hS 5 0 rfl rfl (j := v) rfl (by omega) (by decide) dX0_vote_169 (fun H locs hP hD hS => ?_)
                        have hP : va_P D vwCl (xW dA dZ ad fS (zv_lo fL v (b / 4) (a / 4)) (zv_hi fG v (a / 4) (b / 4) 32) (upd fT (32 * v + b / 4) (fT (32 * v + b / 4) + nI 1)) (upd fV v ((fV v) + (nI 1))) fF fO (upd fB j ((fB j) ||| ((nI 1) <<< ((nI v) &&& 31)))) fJ o (nI (n + 1)) (nI q) k) H := hP
                        have hD : va_D A (xW dA dZ ad fS (zv_lo fL v (b / 4) (a / 4)) (zv_hi fG v (a / 4) (b / 4) 32) (upd fT (32 * v + b / 4) (fT (32 * v + b / 4) + nI 1)) (upd fV v ((fV v) + (nI 1))) fF fO (upd fB j ((fB j) ||| ((nI 1) <<< ((nI v) &&& 31)))) fJ o (nI (n + 1)) (nI q) k) := hD
                        refine lv_aload_n hx hb dX0_vote_170 rfl (lv_at hl 3 rfl) ?_
                        refine lv_iconst (v := nI 0) hx hb dX0_vote_171 (by decide) ?_
                        refine va_put (D := D) (ci := 0) (v := .int (nI 0)) (ty := .boolean) (C := RX0) (T := TX0) (N := 13) hx hb hts in_X0 tyX0 tyX0_ok nmX0 hown hK hP hD hS 0 rfl rfl 11 (by decide) (hts _ q33) (fun _ h9 => h9) rfl (by decide +kernel) rfl rfl (Nat.le_of_ble_eq_true rfl) dX0_vote_172 (fun H locs hP hD hS => ?_)
                        have hP : va_P D vwCl (xW dA dZ ad fS (zv_lo fL v (b / 4) (a / 4)) (zv_hi fG v (a / 4) (b / 4) 32) (upd fT (32 * v + b / 4) (fT (32 * v + b / 4) + nI 1)) (upd fV v ((fV v) + (nI 1))) fF fO (upd fB j ((fB j) ||| ((nI 1) <<< ((nI v) &&& 31)))) fJ o (nI (n + 1)) (nI q) (nI 0)) H := hP
                        have hD : va_D A (xW dA dZ ad fS (zv_lo fL v (b / 4) (a / 4)) (zv_hi fG v (a / 4) (b / 4) 32) (upd fT (32 * v + b / 4) (fT (32 * v + b / 4) + nI 1)) (upd fV v ((fV v) + (nI 1))) fF fO (upd fB j ((fB j) ||| ((nI 1) <<< ((nI v) &&& 31)))) fJ o (nI (n + 1)) (nI q) (nI 0)) := hD
                        refine lv_iload hx hb dX0_vote_175 (lv_at hl 0 rfl) ?_
                        exact W.iret (v := (nI (zv_verd n vw vs vt v a b))) hx hb hr (fun t ht hW => ⟨⟨_, _, rfl, zp_vote_y hv ha hb0 c4 hh (by omega), _, _, _, _, _, _, _, _, _, _, _, _, _, zs_vote hG hst hV hT hL hGr hO d4 hv (by omega) (by omega) c4 hh (fun _ => rfl) (fun q => absurd d5 q) (zq_old hQ hj hv e1 e2), by rw [ht]; exact hP, va_K.moved hW.alike hK, hD⟩, hS.F ht⟩) hS.2.2 dX0_vote_177
                      · exact absurd (nI_pos' (by omega)) d6
                    · have d5 : ¬ zv_verd n vw vs vt v a b = 0 := fun q => d5 ((zn_eq0 (by omega)).mpr q)
                      refine lv_aload_n hx hb dX0_vote_101 rfl (lv_at hl 3 rfl) ?_
                      refine lv_dup hx hb dX0_vote_102 rfl ?_
                      refine va_get (D := D) (ci := 0) (v := .int o) (C := RX0) (T := TX0) (N := 13) hx hb hts in_X0 hown hK hP 0 rfl rfl 4 (by decide) (hts _ q26) (fun _ h9 => h9) rfl dX0_vote_103 ?_
                      refine lv_iconst (v := nI 1) hx hb dX0_vote_106 (by decide) ?_
                      refine lv_iload_n hx hb dX0_vote_107 rfl (lv_at hl 4 rfl) ?_
                      refine lv_ishl hx hb dX0_vote_108 ?_
                      refine lv_ior hx hb dX0_vote_109 ?_
                      refine va_put (D := D) (ci := 0) (v := .int (o ||| ((nI 1) <<< ((nI v) &&& 31)))) (ty := .int) (C := RX0) (T := TX0) (N := 13) hx hb hts in_X0 tyX0 tyX0_ok nmX0 hown hK hP hD hS 0 rfl rfl 4 (by decide) (hts _ q26) (fun _ h9 => h9) rfl (by decide +kernel) rfl rfl (Nat.le_of_ble_eq_true rfl) dX0_vote_110 (fun H locs hP hD hS => ?_)
                      have hP : va_P D vwCl (xW dA dZ ad fS fL fG fT fV fF fO fB fJ (o ||| ((nI 1) <<< ((nI v) &&& 31))) (nI n) (nI q) k) H := hP
                      have hD : va_D A (xW dA dZ ad fS fL fG fT fV fF fO fB fJ (o ||| ((nI 1) <<< ((nI v) &&& 31))) (nI n) (nI q) k) := hD
                      refine lv_aload_n hx hb dX0_vote_113 rfl (lv_at hl 3 rfl) ?_
                      refine lv_iload_n hx hb dX0_vote_114 rfl (lv_at hl 4 rfl) ?_
                      refine lv_iload_n hx hb dX0_vote_115 rfl (lv_at hl 5 rfl) ?_
                      refine lv_iconst (v := nI 2) hx hb dX0_vote_116 (by decide) ?_
                      refine lv_ishr hx hb dX0_vote_117 ?_
                      refine zx_top (y := nI (a / 4)) (pk_shrN (by omega) _ 2 (by decide)) ?_
                      refine lv_iload_n hx hb dX0_vote_118 rfl (lv_at hl 6 rfl) ?_
                      refine lv_iconst (v := nI 2) hx hb dX0_vote_119 (by decide) ?_
                      refine lv_ishr hx hb dX0_vote_120 ?_
                      refine zx_top (y := nI (b / 4)) (pk_shrN (by omega) _ 2 (by decide)) ?_
                      have hFc := zx_fr hD hS hA
                      refine va_callv (va_runV (As := [.int (nI v), .int (nI (a / 4)), .int (nI (b / 4))]) (rest := []) ⟨hx, hb, hml, hown, hts⟩ (cX_enter l D dA dZ ad _ fS fL fG fT fV fF fO fB fJ (o ||| ((nI 1) <<< ((nI v) &&& 31))) (nI n) (nI q) k v (a / 4) (b / 4) hv (by omega) (by omega)) (cwV 3 hts (lw_V q86 q88 qs2 q12 q89) rfl rfl rfl (by decide +kernel) ⟨Nat.le_of_ble_eq_true rfl, Nat.le_of_ble_eq_true rfl⟩) (zx_pM hK hP hD rfl rfl _) rfl rfl hl.1 rfl (lv_room (Nat.le_of_ble_eq_true rfl)) dX0_vote_121 ⟨Nat.le_of_ble_eq_true rfl, Nat.le_of_ble_eq_true rfl⟩) hS (fun q _ h => hFc q h) hFc (fun u t H locs ht hvm hw hB hz1 hk1 hS => ?_)
                      obtain ⟨hP, hD, hK⟩ := zx_bk hB ht hvm hFc
                      refine lv_iload hx hb dX0_vote_124 (lv_at hl 2 rfl) ?_
                      refine lv_if_ge (tgt := 137) hx hb dX0_vote_126 (by decide) (fun d6 => ?_) (fun d6 => ?_)
                      · refine lv_aload_n hx hb dX0_vote_137 rfl (lv_at hl 3 rfl) ?_
                        refine va_get (D := D) (ci := 0) (v := .ref (ad 8)) (C := RX0) (T := TX0) (N := 13) hx hb hts in_X0 hown hK hP 0 rfl rfl 10 (by decide) (hts _ q32) (fun _ h9 => h9) rfl dX0_vote_138 ?_
                        refine lv_iload hx hb dX0_vote_141 (lv_at hl 2 rfl) ?_
                        refine lv_dup2_11 hx hb dX0_vote_143 rfl rfl ?_
                        refine zx_iald hx hb hK hP 8 0 rfl rfl (j := j) rfl (by omega) (by decide) dX0_vote_144 ?_
                        refine lv_iconst (v := nI 1) hx hb dX0_vote_145 (by decide) ?_
                        refine lv_iload_n hx hb dX0_vote_146 rfl (lv_at hl 4 rfl) ?_
                        refine lv_ishl hx hb dX0_vote_147 ?_
                        refine lv_ior hx hb dX0_vote_148 ?_
                        refine zx_iast hx hb hK hP hD hS 8 0 rfl rfl (j := j) rfl (by omega) (by decide) dX0_vote_149 (fun H locs hP hD hS => ?_)
                        have hP : va_P D vwCl (xW dA dZ ad fS (zv_lo fL v (b / 4) (a / 4)) (zv_hi fG v (a / 4) (b / 4) 32) (upd fT (32 * v + b / 4) (fT (32 * v + b / 4) + nI 1)) fV fF fO (upd fB j ((fB j) ||| ((nI 1) <<< ((nI v) &&& 31)))) fJ (o ||| ((nI 1) <<< ((nI v) &&& 31))) (nI n) (nI q) k) H := hP
                        have hD : va_D A (xW dA dZ ad fS (zv_lo fL v (b / 4) (a / 4)) (zv_hi fG v (a / 4) (b / 4) 32) (upd fT (32 * v + b / 4) (fT (32 * v + b / 4) + nI 1)) fV fF fO (upd fB j ((fB j) ||| ((nI 1) <<< ((nI v) &&& 31)))) fJ (o ||| ((nI 1) <<< ((nI v) &&& 31))) (nI n) (nI q) k) := hD
                        refine lv_aload_n hx hb dX0_vote_150 rfl (lv_at hl 3 rfl) ?_
                        refine lv_dup hx hb dX0_vote_151 rfl ?_
                        refine va_get (D := D) (ci := 0) (v := .int (nI n)) (C := RX0) (T := TX0) (N := 13) hx hb hts in_X0 hown hK hP 0 rfl rfl 6 (by decide) (hts _ q28) (fun _ h9 => h9) rfl dX0_vote_152 ?_
                        refine lv_iconst (v := nI 1) hx hb dX0_vote_155 (by decide) ?_
                        refine lv_iadd hx hb dX0_vote_156 ?_
                        refine zx_top (y := nI (n + 1)) (nI_add _ _) ?_
                        refine va_put (D := D) (ci := 0) (v := .int (nI (n + 1))) (ty := .int) (C := RX0) (T := TX0) (N := 13) hx hb hts in_X0 tyX0 tyX0_ok nmX0 hown hK hP hD hS 0 rfl rfl 6 (by decide) (hts _ q28) (fun _ h9 => h9) rfl (by decide +kernel) rfl rfl (Nat.le_of_ble_eq_true rfl) dX0_vote_157 (fun H locs hP hD hS => ?_)
                        have hP : va_P D vwCl (xW dA dZ ad fS (zv_lo fL v (b / 4) (a / 4)) (zv_hi fG v (a / 4) (b / 4) 32) (upd fT (32 * v + b / 4) (fT (32 * v + b / 4) + nI 1)) fV fF fO (upd fB j ((fB j) ||| ((nI 1) <<< ((nI v) &&& 31)))) fJ (o ||| ((nI 1) <<< ((nI v) &&& 31))) (nI (n + 1)) (nI q) k) H := hP
                        have hD : va_D A (xW dA dZ ad fS (zv_lo fL v (b / 4) (a / 4)) (zv_hi fG v (a / 4) (b / 4) 32) (upd fT (32 * v + b / 4) (fT (32 * v + b / 4) + nI 1)) fV fF fO (upd fB j ((fB j) ||| ((nI 1) <<< ((nI v) &&& 31)))) fJ (o ||| ((nI 1) <<< ((nI v) &&& 31))) (nI (n + 1)) (nI q) k) := hD
                        refine lv_aload_n hx hb dX0_vote_160 rfl (lv_at hl 3 rfl) ?_
                        refine va_get (D := D) (ci := 0) (v := .ref (ad 5)) (C := RX0) (T := TX0) (N := 13) hx hb hts in_X0 hown hK hP 0 rfl rfl 5 (by decide) (hts _ q27) (fun _ h9 => h9) rfl dX0_vote_161 ?_
                        refine lv_iload_n hx hb dX0_vote_164 rfl (lv_at hl 4 rfl) ?_
                        refine lv_dup2_11 hx hb dX0_vote_165 rfl rfl ?_
                        refine zx_iald hx hb hK hP 5 0 rfl rfl (j := v) rfl (by omega) (by decide) dX0_vote_166 ?_
                        refine lv_iconst (v := nI 1) hx hb dX0_vote_167 (by decide) ?_
                        refine lv_iadd hx hb dX0_vote_168 ?_
                        refine zx_iast hx hb hK hP hD hS 5 0 rfl rfl (j := v) rfl (by omega) (by decide) dX0_vote_169 (fun H locs hP hD hS => ?_)
                        have hP : va_P D vwCl (xW dA dZ ad fS (zv_lo fL v (b / 4) (a / 4)) (zv_hi fG v (a / 4) (b / 4) 32) (upd fT (32 * v + b / 4) (fT (32 * v + b / 4) + nI 1)) (upd fV v ((fV v) + (nI 1))) fF fO (upd fB j ((fB j) ||| ((nI 1) <<< ((nI v) &&& 31)))) fJ (o ||| ((nI 1) <<< ((nI v) &&& 31))) (nI (n + 1)) (nI q) k) H := hP
                        have hD : va_D A (xW dA dZ ad fS (zv_lo fL v (b / 4) (a / 4)) (zv_hi fG v (a / 4) (b / 4) 32) (upd fT (32 * v + b / 4) (fT (32 * v + b / 4) + nI 1)) (upd fV v ((fV v) + (nI 1))) fF fO (upd fB j ((fB j) ||| ((nI 1) <<< ((nI v) &&& 31)))) fJ (o ||| ((nI 1) <<< ((nI v) &&& 31))) (nI (n + 1)) (nI q) k) := hD
                        refine lv_aload_n hx hb dX0_vote_170 rfl (lv_at hl 3 rfl) ?_
                        refine lv_iconst (v := nI 0) hx hb dX0_vote_171 (by decide) ?_
                        refine va_put (D := D) (ci := 0) (v := .int (nI 0)) (ty := .boolean) (C := RX0) (T := TX0) (N := 13) hx hb hts in_X0 tyX0 tyX0_ok nmX0 hown hK hP hD hS 0 rfl rfl 11 (by decide) (hts _ q33) (fun _ h9 => h9) rfl (by decide +kernel) rfl rfl (Nat.le_of_ble_eq_true rfl) dX0_vote_172 (fun H locs hP hD hS => ?_)
                        have hP : va_P D vwCl (xW dA dZ ad fS (zv_lo fL v (b / 4) (a / 4)) (zv_hi fG v (a / 4) (b / 4) 32) (upd fT (32 * v + b / 4) (fT (32 * v + b / 4) + nI 1)) (upd fV v ((fV v) + (nI 1))) fF fO (upd fB j ((fB j) ||| ((nI 1) <<< ((nI v) &&& 31)))) fJ (o ||| ((nI 1) <<< ((nI v) &&& 31))) (nI (n + 1)) (nI q) (nI 0)) H := hP
                        have hD : va_D A (xW dA dZ ad fS (zv_lo fL v (b / 4) (a / 4)) (zv_hi fG v (a / 4) (b / 4) 32) (upd fT (32 * v + b / 4) (fT (32 * v + b / 4) + nI 1)) (upd fV v ((fV v) + (nI 1))) fF fO (upd fB j ((fB j) ||| ((nI 1) <<< ((nI v) &&& 31)))) fJ (o ||| ((nI 1) <<< ((nI v) &&& 31))) (nI (n + 1)) (nI q) (nI 0)) := hD
                        refine lv_iload hx hb dX0_vote_175 (lv_at hl 0 rfl) ?_
                        exact W.iret (v := (nI (zv_verd n vw vs vt v a b))) hx hb hr (fun t ht hW => ⟨⟨_, _, rfl, zp_vote_y hv ha hb0 c4 hh (by omega), _, _, _, _, _, _, _, _, _, _, _, _, _, zs_vote hG hst hV hT hL hGr hO d4 hv (by omega) (by omega) c4 hh (fun q => absurd q d5) (fun _ => rfl) (zq_old hQ hj hv e1 e2), by rw [ht]; exact hP, va_K.moved hW.alike hK, hD⟩, hS.F ht⟩) hS.2.2 dX0_vote_177
                      · exact absurd (nI_pos' (by omega)) d6
                  · have d4 : ¬ n < 64 := fun q => d4 ((nI_ltI (by omega) (by omega)).mpr q)
                    refine lv_bipush (v := (-2)) hx hb dX0_vote_80 (by decide) ?_
                    exact W.iret (v := (-2)) hx hb hr (fun t ht hW => ⟨⟨_, _, rfl, zp_vote_r hv ha hb0 c4 (Or.inr (by omega)), _, _, _, _, _, _, _, _, _, _, _, _, _, hX, by rw [ht]; exact hP, va_K.moved hW.alike hK, hD⟩, hS.F ht⟩) hS.2.2 dX0_vote_82
              · have hh : zv_held n vw vs vt v (nI a) (nI b) = true := by rw [← e1, ← e2, ← hQ.2.2.2.2.2 j v hj hv]; exact zi_1 d2
                refine lv_iconst (v := nI 1) hx hb dX0_vote_59 (by decide) ?_
                refine lv_goto (tgt := 64) hx hb dX0_vote_60 (by decide) ?_
                refine lv_istore (lv' := [(5, .int (nI 1)), (4, .int (nI j)), (0, .ref (ad 0)), (1, .int (nI v)), (2, .int (nI a)), (3, .int (nI b))]) hx hb dX0_vote_64 hl (by decide) rfl (fun ls hl => ?_)
                refine lv_iload hx hb dX0_vote_66 (lv_at hl 0 rfl) ?_
                refine lv_if_ne (tgt := 80) hx hb dX0_vote_68 (by decide) (fun d3 => ?_) (fun d3 => ?_)
                · refine lv_bipush (v := (-2)) hx hb dX0_vote_80 (by decide) ?_
                  exact W.iret (v := (-2)) hx hb hr (fun t ht hW => ⟨⟨_, _, rfl, zp_vote_r hv ha hb0 c4 (Or.inl hh), _, _, _, _, _, _, _, _, _, _, _, _, _, hX, by rw [ht]; exact hP, va_K.moved hW.alike hK, hD⟩, hS.F ht⟩) hS.2.2 dX0_vote_82
                · exact absurd d3 zt_0
          · refine lv_istore (lv' := [(4, .int (-1)), (0, .ref (ad 0)), (1, .int (nI v)), (2, .int (nI a)), (3, .int (nI b))]) hx hb dX0_vote_38 hl (by decide) rfl (fun ls hl => ?_)
            refine lv_iload hx hb dX0_vote_40 (lv_at hl 0 rfl) ?_
            refine lv_if_lt (tgt := 63) hx hb dX0_vote_42 (by decide) (fun d1 => ?_) (fun d1 => ?_)
            · have hh : zv_held n vw vs vt v (nI a) (nI b) = false := zx_held0 hQ hno
              refine lv_iconst (v := nI 0) hx hb dX0_vote_63 (by decide) ?_
              refine lv_istore (lv' := [(5, .int (nI 0)), (4, .int (-1)), (0, .ref (ad 0)), (1, .int (nI v)), (2, .int (nI a)), (3, .int (nI b))]) hx hb dX0_vote_64 hl (by decide) rfl (fun ls hl => ?_)
              refine lv_iload hx hb dX0_vote_66 (lv_at hl 0 rfl) ?_
              refine lv_if_ne (tgt := 80) hx hb dX0_vote_68 (by decide) (fun d3 => ?_) (fun d3 => ?_)
              · exact absurd nI_0 d3
              · refine lv_aload_n hx hb dX0_vote_71 rfl (lv_at hl 2 rfl) ?_
                refine va_get (D := D) (ci := 0) (v := .int (nI n)) (C := RX0) (T := TX0) (N := 13) hx hb hts in_X0 hown hK hP 0 rfl rfl 6 (by decide) (hts _ q28) (fun _ h9 => h9) rfl dX0_vote_72 ?_
                refine lv_bipush (v := nI 64) hx hb dX0_vote_75 (by decide) ?_
                refine lv_icmp_lt (tgt := 83) hx hb dX0_vote_77 (by decide) (fun d4 => ?_) (fun d4 => ?_)
                · have d4 : n < 64 := (nI_ltI (by omega) (by omega)).mp d4
                  refine lv_aload_n hx hb dX0_vote_83 rfl (lv_at hl 2 rfl) ?_
                  refine lv_iload_n hx hb dX0_vote_84 rfl (lv_at hl 3 rfl) ?_
                  refine lv_iload_n hx hb dX0_vote_85 rfl (lv_at hl 4 rfl) ?_
                  refine lv_iconst (v := nI 2) hx hb dX0_vote_86 (by decide) ?_
                  refine lv_ishr hx hb dX0_vote_87 ?_
                  refine zx_top (y := nI (a / 4)) (pk_shrN (by omega) _ 2 (by decide)) ?_
                  refine lv_iload_n hx hb dX0_vote_88 rfl (lv_at hl 5 rfl) ?_
                  refine lv_iconst (v := nI 2) hx hb dX0_vote_89 (by decide) ?_
                  refine lv_ishr hx hb dX0_vote_90 ?_
                  refine zx_top (y := nI (b / 4)) (pk_shrN (by omega) _ 2 (by decide)) ?_
                  refine vp_callSi (W.runV (As := [.int (nI v), .int (nI (a / 4)), .int (nI (b / 4))]) (rest := []) ⟨hx, hb, hml, hown, hts⟩ (cX_judge l D dA dZ ad fS fL fG fT fV fF fO fB fJ o (nI n) (nI q) k v (a / 4) (b / 4) (zv_any (zv_b1 vw vt v b) n) (zv_any (zv_b2 vw vs vt v a b) n) (zv_any (zv_b4 vw vs vt v a b) n) hv (by omega) (by omega) (zj_b1 hT hn64 hv (by omega)) (zj_b2 hL hv (by omega) (by omega)) (zj_b4 hGr hv (by omega) (by omega))) (cwV 3 hts (lw_V q82 q84 qs1 q12 q85) rfl rfl rfl (by decide +kernel) ⟨Nat.le_of_ble_eq_true rfl, Nat.le_of_ble_eq_true rfl⟩) (zx_pR hK hP rfl rfl _) rfl rfl hl.1 rfl (lv_room (Nat.le_of_ble_eq_true rfl)) dX0_vote_91 ⟨Nat.le_of_ble_eq_true rfl, Nat.le_of_ble_eq_true rfl⟩) (fun r5 hr5 => ?_)
                  have hr5 : r5 = nI (zv_verd n vw vs vt v a b) := hr5
                  subst hr5
                  refine lv_istore (lv' := [(6, .int (nI (zv_verd n vw vs vt v a b))), (5, .int (nI 0)), (4, .int (-1)), (0, .ref (ad 0)), (1, .int (nI v)), (2, .int (nI a)), (3, .int (nI b))]) hx hb dX0_vote_94 hl (by decide) rfl (fun ls hl => ?_)
                  refine lv_iload hx hb dX0_vote_96 (lv_at hl 0 rfl) ?_
                  refine lv_if_eq (tgt := 113) hx hb dX0_vote_98 (by decide) (fun d5 => ?_) (fun d5 => ?_)
                  · have d5 : zv_verd n vw vs vt v a b = 0 := (zn_eq0 (by omega)).mp d5
                    refine lv_aload_n hx hb dX0_vote_113 rfl (lv_at hl 3 rfl) ?_
                    refine lv_iload_n hx hb dX0_vote_114 rfl (lv_at hl 4 rfl) ?_
                    refine lv_iload_n hx hb dX0_vote_115 rfl (lv_at hl 5 rfl) ?_
                    refine lv_iconst (v := nI 2) hx hb dX0_vote_116 (by decide) ?_
                    refine lv_ishr hx hb dX0_vote_117 ?_
                    refine zx_top (y := nI (a / 4)) (pk_shrN (by omega) _ 2 (by decide)) ?_
                    refine lv_iload_n hx hb dX0_vote_118 rfl (lv_at hl 6 rfl) ?_
                    refine lv_iconst (v := nI 2) hx hb dX0_vote_119 (by decide) ?_
                    refine lv_ishr hx hb dX0_vote_120 ?_
                    refine zx_top (y := nI (b / 4)) (pk_shrN (by omega) _ 2 (by decide)) ?_
                    have hFc := zx_fr hD hS hA
                    refine va_callv (va_runV (As := [.int (nI v), .int (nI (a / 4)), .int (nI (b / 4))]) (rest := []) ⟨hx, hb, hml, hown, hts⟩ (cX_enter l D dA dZ ad _ fS fL fG fT fV fF fO fB fJ o (nI n) (nI q) k v (a / 4) (b / 4) hv (by omega) (by omega)) (cwV 3 hts (lw_V q86 q88 qs2 q12 q89) rfl rfl rfl (by decide +kernel) ⟨Nat.le_of_ble_eq_true rfl, Nat.le_of_ble_eq_true rfl⟩) (zx_pM hK hP hD rfl rfl _) rfl rfl hl.1 rfl (lv_room (Nat.le_of_ble_eq_true rfl)) dX0_vote_121 ⟨Nat.le_of_ble_eq_true rfl, Nat.le_of_ble_eq_true rfl⟩) hS (fun q _ h => hFc q h) hFc (fun u t H locs ht hvm hw hB hz1 hk1 hS => ?_)
                    obtain ⟨hP, hD, hK⟩ := zx_bk hB ht hvm hFc
                    refine lv_iload hx hb dX0_vote_124 (lv_at hl 2 rfl) ?_
                    refine lv_if_ge (tgt := 137) hx hb dX0_vote_126 (by decide) (fun d6 => ?_) (fun d6 => ?_)
                    · exact absurd d6 zx_no1
                    · refine lv_aload_n hx hb dX0_vote_129 rfl (lv_at hl 3 rfl) ?_
                      refine lv_iload_n hx hb dX0_vote_130 rfl (lv_at hl 5 rfl) ?_
                      refine lv_iload_n hx hb dX0_vote_131 rfl (lv_at hl 6 rfl) ?_
                      have hFc := zx_fr hD hS hA
                      refine va_calli (va_runV (As := [.int (nI a), .int (nI b)]) (rest := []) ⟨hx, hb, hml, hown, hts⟩ (cX_openLink l D dA dZ ad _ fS (zv_lo fL v (b / 4) (a / 4)) (zv_hi fG v (a / 4) (b / 4) 32) (upd fT (32 * v + b / 4) (fT (32 * v + b / 4) + nI 1)) fV fF fO fB fJ o (nI n) (nI q) k q (nI a) (nI b) (by omega) rfl) (cwV 2 hts (lw_V q90 q92 qs3 q12 q93) rfl rfl rfl (by decide +kernel) ⟨Nat.le_of_ble_eq_true rfl, Nat.le_of_ble_eq_true rfl⟩) (zx_pM hK hP hD rfl rfl _) rfl rfl hl.1 rfl (lv_room (Nat.le_of_ble_eq_true rfl)) dX0_vote_132 ⟨Nat.le_of_ble_eq_true rfl, Nat.le_of_ble_eq_true rfl⟩) hS (fun q _ h => hFc q h) hFc (fun r6 u t H locs ht hvm hr6 hB hz1 hk1 hS => ?_)
                      obtain ⟨rfl, hp1, hp2, hp3⟩ := hr6
                      obtain ⟨hP, hD, hK⟩ := zx_bk hB ht hvm hFc
                      refine lv_istore (lv' := [(4, .int (nI u)), (6, .int (nI (zv_verd n vw vs vt v a b))), (5, .int (nI 0)), (0, .ref (ad 0)), (1, .int (nI v)), (2, .int (nI a)), (3, .int (nI b))]) hx hb dX0_vote_135 hl (by decide) rfl (fun ls hl => ?_)
                      refine lv_aload_n hx hb dX0_vote_137 rfl (lv_at hl 3 rfl) ?_
                      refine va_get (D := D) (ci := 0) (v := .ref (ad 8)) (C := RX0) (T := TX0) (N := 13) hx hb hts in_X0 hown hK hP 0 rfl rfl 10 (by decide) (hts _ q32) (fun _ h9 => h9) rfl dX0_vote_138 ?_
                      refine lv_iload hx hb dX0_vote_141 (lv_at hl 0 rfl) ?_
                      refine lv_dup2_11 hx hb dX0_vote_143 rfl rfl ?_
                      refine zx_iald hx hb hK hP 8 0 rfl rfl (j := u) rfl (by omega) (by decide) dX0_vote_144 ?_
                      refine lv_iconst (v := nI 1) hx hb dX0_vote_145 (by decide) ?_
                      refine lv_iload_n hx hb dX0_vote_146 rfl (lv_at hl 4 rfl) ?_
                      refine lv_ishl hx hb dX0_vote_147 ?_
                      refine lv_ior hx hb dX0_vote_148 ?_
                      refine zx_iast hx hb hK hP hD hS 8 0 rfl rfl (j := u) rfl (by omega) (by decide) dX0_vote_149 (fun H locs hP hD hS => ?_)
                      have hP : va_P D vwCl (xW dA dZ ad fS (zv_lo fL v (b / 4) (a / 4)) (zv_hi fG v (a / 4) (b / 4) 32) (upd fT (32 * v + b / 4) (fT (32 * v + b / 4) + nI 1)) fV (upd (zv_sh fF u q) u (nI a)) (upd (zv_sh fO u q) u (nI b)) (upd (upd (zv_sh fB u q) u (nI 0)) u (((upd (zv_sh fB u q) u (nI 0)) u) ||| ((nI 1) <<< ((nI v) &&& 31)))) fJ o (nI n) (nI (q + 1)) k) H := hP
                      have hD : va_D A (xW dA dZ ad fS (zv_lo fL v (b / 4) (a / 4)) (zv_hi fG v (a / 4) (b / 4) 32) (upd fT (32 * v + b / 4) (fT (32 * v + b / 4) + nI 1)) fV (upd (zv_sh fF u q) u (nI a)) (upd (zv_sh fO u q) u (nI b)) (upd (upd (zv_sh fB u q) u (nI 0)) u (((upd (zv_sh fB u q) u (nI 0)) u) ||| ((nI 1) <<< ((nI v) &&& 31)))) fJ o (nI n) (nI (q + 1)) k) := hD
                      refine lv_aload_n hx hb dX0_vote_150 rfl (lv_at hl 3 rfl) ?_
                      refine lv_dup hx hb dX0_vote_151 rfl ?_
                      refine va_get (D := D) (ci := 0) (v := .int (nI n)) (C := RX0) (T := TX0) (N := 13) hx hb hts in_X0 hown hK hP 0 rfl rfl 6 (by decide) (hts _ q28) (fun _ h9 => h9) rfl dX0_vote_152 ?_
                      refine lv_iconst (v := nI 1) hx hb dX0_vote_155 (by decide) ?_
                      refine lv_iadd hx hb dX0_vote_156 ?_
                      refine zx_top (y := nI (n + 1)) (nI_add _ _) ?_
                      refine va_put (D := D) (ci := 0) (v := .int (nI (n + 1))) (ty := .int) (C := RX0) (T := TX0) (N := 13) hx hb hts in_X0 tyX0 tyX0_ok nmX0 hown hK hP hD hS 0 rfl rfl 6 (by decide) (hts _ q28) (fun _ h9 => h9) rfl (by decide +kernel) rfl rfl (Nat.le_of_ble_eq_true rfl) dX0_vote_157 (fun H locs hP hD hS => ?_)
                      have hP : va_P D vwCl (xW dA dZ ad fS (zv_lo fL v (b / 4) (a / 4)) (zv_hi fG v (a / 4) (b / 4) 32) (upd fT (32 * v + b / 4) (fT (32 * v + b / 4) + nI 1)) fV (upd (zv_sh fF u q) u (nI a)) (upd (zv_sh fO u q) u (nI b)) (upd (upd (zv_sh fB u q) u (nI 0)) u (((upd (zv_sh fB u q) u (nI 0)) u) ||| ((nI 1) <<< ((nI v) &&& 31)))) fJ o (nI (n + 1)) (nI (q + 1)) k) H := hP
                      have hD : va_D A (xW dA dZ ad fS (zv_lo fL v (b / 4) (a / 4)) (zv_hi fG v (a / 4) (b / 4) 32) (upd fT (32 * v + b / 4) (fT (32 * v + b / 4) + nI 1)) fV (upd (zv_sh fF u q) u (nI a)) (upd (zv_sh fO u q) u (nI b)) (upd (upd (zv_sh fB u q) u (nI 0)) u (((upd (zv_sh fB u q) u (nI 0)) u) ||| ((nI 1) <<< ((nI v) &&& 31)))) fJ o (nI (n + 1)) (nI (q + 1)) k) := hD
                      refine lv_aload_n hx hb dX0_vote_160 rfl (lv_at hl 3 rfl) ?_
                      refine va_get (D := D) (ci := 0) (v := .ref (ad 5)) (C := RX0) (T := TX0) (N := 13) hx hb hts in_X0 hown hK hP 0 rfl rfl 5 (by decide) (hts _ q27) (fun _ h9 => h9) rfl dX0_vote_161 ?_
                      refine lv_iload_n hx hb dX0_vote_164 rfl (lv_at hl 4 rfl) ?_
                      refine lv_dup2_11 hx hb dX0_vote_165 rfl rfl ?_
                      refine zx_iald hx hb hK hP 5 0 rfl rfl (j := v) rfl (by omega) (by decide) dX0_vote_166 ?_
                      refine lv_iconst (v := nI 1) hx hb dX0_vote_167 (by decide) ?_
                      refine lv_iadd hx hb dX0_vote_168 ?_
                      refine zx_iast hx hb hK hP hD hS 5 0 rfl rfl (j := v) rfl (by omega) (by decide) dX0_vote_169 (fun H locs hP hD hS => ?_)
                      have hP : va_P D vwCl (xW dA dZ ad fS (zv_lo fL v (b / 4) (a / 4)) (zv_hi fG v (a / 4) (b / 4) 32) (upd fT (32 * v + b / 4) (fT (32 * v + b / 4) + nI 1)) (upd fV v ((fV v) + (nI 1))) (upd (zv_sh fF u q) u (nI a)) (upd (zv_sh fO u q) u (nI b)) (upd (upd (zv_sh fB u q) u (nI 0)) u (((upd (zv_sh fB u q) u (nI 0)) u) ||| ((nI 1) <<< ((nI v) &&& 31)))) fJ o (nI (n + 1)) (nI (q + 1)) k) H := hP
                      have hD : va_D A (xW dA dZ ad fS (zv_lo fL v (b / 4) (a / 4)) (zv_hi fG v (a / 4) (b / 4) 32) (upd fT (32 * v + b / 4) (fT (32 * v + b / 4) + nI 1)) (upd fV v ((fV v) + (nI 1))) (upd (zv_sh fF u q) u (nI a)) (upd (zv_sh fO u q) u (nI b)) (upd (upd (zv_sh fB u q) u (nI 0)) u (((upd (zv_sh fB u q) u (nI 0)) u) ||| ((nI 1) <<< ((nI v) &&& 31)))) fJ o (nI (n + 1)) (nI (q + 1)) k) := hD
                      refine lv_aload_n hx hb dX0_vote_170 rfl (lv_at hl 3 rfl) ?_
                      refine lv_iconst (v := nI 0) hx hb dX0_vote_171 (by decide) ?_
                      refine va_put (D := D) (ci := 0) (v := .int (nI 0)) (ty := .boolean) (C := RX0) (T := TX0) (N := 13) hx hb hts in_X0 tyX0 tyX0_ok nmX0 hown hK hP hD hS 0 rfl rfl 11 (by decide) (hts _ q33) (fun _ h9 => h9) rfl (by decide +kernel) rfl rfl (Nat.le_of_ble_eq_true rfl) dX0_vote_172 (fun H locs hP hD hS => ?_)
                      have hP : va_P D vwCl (xW dA dZ ad fS (zv_lo fL v (b / 4) (a / 4)) (zv_hi fG v (a / 4) (b / 4) 32) (upd fT (32 * v + b / 4) (fT (32 * v + b / 4) + nI 1)) (upd fV v ((fV v) + (nI 1))) (upd (zv_sh fF u q) u (nI a)) (upd (zv_sh fO u q) u (nI b)) (upd (upd (zv_sh fB u q) u (nI 0)) u (((upd (zv_sh fB u q) u (nI 0)) u) ||| ((nI 1) <<< ((nI v) &&& 31)))) fJ o (nI (n + 1)) (nI (q + 1)) (nI 0)) H := hP
                      have hD : va_D A (xW dA dZ ad fS (zv_lo fL v (b / 4) (a / 4)) (zv_hi fG v (a / 4) (b / 4) 32) (upd fT (32 * v + b / 4) (fT (32 * v + b / 4) + nI 1)) (upd fV v ((fV v) + (nI 1))) (upd (zv_sh fF u q) u (nI a)) (upd (zv_sh fO u q) u (nI b)) (upd (upd (zv_sh fB u q) u (nI 0)) u (((upd (zv_sh fB u q) u (nI 0)) u) ||| ((nI 1) <<< ((nI v) &&& 31)))) fJ o (nI (n + 1)) (nI (q + 1)) (nI 0)) := hD
                      refine lv_iload hx hb dX0_vote_175 (lv_at hl 1 rfl) ?_
                      exact W.iret (v := (nI (zv_verd n vw vs vt v a b))) hx hb hr (fun t ht hW => ⟨⟨_, _, rfl, zp_vote_y hv ha hb0 c4 hh (by omega), _, _, _, _, _, _, _, _, _, _, _, _, _, zs_vote hG hst hV hT hL hGr hO d4 hv (by omega) (by omega) c4 hh (fun _ => rfl) (fun q => absurd d5 q) (zq_new hQ hp1 hv hno hp2 hp3 (zx_newB hv hp1).1 (zx_newB hv hp1).2), by rw [ht]; exact hP, va_K.moved hW.alike hK, hD⟩, hS.F ht⟩) hS.2.2 dX0_vote_177
                  · have d5 : ¬ zv_verd n vw vs vt v a b = 0 := fun q => d5 ((zn_eq0 (by omega)).mpr q)
                    refine lv_aload_n hx hb dX0_vote_101 rfl (lv_at hl 3 rfl) ?_
                    refine lv_dup hx hb dX0_vote_102 rfl ?_
                    refine va_get (D := D) (ci := 0) (v := .int o) (C := RX0) (T := TX0) (N := 13) hx hb hts in_X0 hown hK hP 0 rfl rfl 4 (by decide) (hts _ q26) (fun _ h9 => h9) rfl dX0_vote_103 ?_
                    refine lv_iconst (v := nI 1) hx hb dX0_vote_106 (by decide) ?_
                    refine lv_iload_n hx hb dX0_vote_107 rfl (lv_at hl 4 rfl) ?_
                    refine lv_ishl hx hb dX0_vote_108 ?_
                    refine lv_ior hx hb dX0_vote_109 ?_
                    refine va_put (D := D) (ci := 0) (v := .int (o ||| ((nI 1) <<< ((nI v) &&& 31)))) (ty := .int) (C := RX0) (T := TX0) (N := 13) hx hb hts in_X0 tyX0 tyX0_ok nmX0 hown hK hP hD hS 0 rfl rfl 4 (by decide) (hts _ q26) (fun _ h9 => h9) rfl (by decide +kernel) rfl rfl (Nat.le_of_ble_eq_true rfl) dX0_vote_110 (fun H locs hP hD hS => ?_)
                    have hP : va_P D vwCl (xW dA dZ ad fS fL fG fT fV fF fO fB fJ (o ||| ((nI 1) <<< ((nI v) &&& 31))) (nI n) (nI q) k) H := hP
                    have hD : va_D A (xW dA dZ ad fS fL fG fT fV fF fO fB fJ (o ||| ((nI 1) <<< ((nI v) &&& 31))) (nI n) (nI q) k) := hD
                    refine lv_aload_n hx hb dX0_vote_113 rfl (lv_at hl 3 rfl) ?_
                    refine lv_iload_n hx hb dX0_vote_114 rfl (lv_at hl 4 rfl) ?_
                    refine lv_iload_n hx hb dX0_vote_115 rfl (lv_at hl 5 rfl) ?_
                    refine lv_iconst (v := nI 2) hx hb dX0_vote_116 (by decide) ?_
                    refine lv_ishr hx hb dX0_vote_117 ?_
                    refine zx_top (y := nI (a / 4)) (pk_shrN (by omega) _ 2 (by decide)) ?_
                    refine lv_iload_n hx hb dX0_vote_118 rfl (lv_at hl 6 rfl) ?_
                    refine lv_iconst (v := nI 2) hx hb dX0_vote_119 (by decide) ?_
                    refine lv_ishr hx hb dX0_vote_120 ?_
                    refine zx_top (y := nI (b / 4)) (pk_shrN (by omega) _ 2 (by decide)) ?_
                    have hFc := zx_fr hD hS hA
                    refine va_callv (va_runV (As := [.int (nI v), .int (nI (a / 4)), .int (nI (b / 4))]) (rest := []) ⟨hx, hb, hml, hown, hts⟩ (cX_enter l D dA dZ ad _ fS fL fG fT fV fF fO fB fJ (o ||| ((nI 1) <<< ((nI v) &&& 31))) (nI n) (nI q) k v (a / 4) (b / 4) hv (by omega) (by omega)) (cwV 3 hts (lw_V q86 q88 qs2 q12 q89) rfl rfl rfl (by decide +kernel) ⟨Nat.le_of_ble_eq_true rfl, Nat.le_of_ble_eq_true rfl⟩) (zx_pM hK hP hD rfl rfl _) rfl rfl hl.1 rfl (lv_room (Nat.le_of_ble_eq_true rfl)) dX0_vote_121 ⟨Nat.le_of_ble_eq_true rfl, Nat.le_of_ble_eq_true rfl⟩) hS (fun q _ h => hFc q h) hFc (fun u t H locs ht hvm hw hB hz1 hk1 hS => ?_)
                    obtain ⟨hP, hD, hK⟩ := zx_bk hB ht hvm hFc
                    refine lv_iload hx hb dX0_vote_124 (lv_at hl 2 rfl) ?_
                    refine lv_if_ge (tgt := 137) hx hb dX0_vote_126 (by decide) (fun d6 => ?_) (fun d6 => ?_)
                    · exact absurd d6 zx_no1
                    · refine lv_aload_n hx hb dX0_vote_129 rfl (lv_at hl 3 rfl) ?_
                      refine lv_iload_n hx hb dX0_vote_130 rfl (lv_at hl 5 rfl) ?_
                      refine lv_iload_n hx hb dX0_vote_131 rfl (lv_at hl 6 rfl) ?_
                      have hFc := zx_fr hD hS hA
                      refine va_calli (va_runV (As := [.int (nI a), .int (nI b)]) (rest := []) ⟨hx, hb, hml, hown, hts⟩ (cX_openLink l D dA dZ ad _ fS (zv_lo fL v (b / 4) (a / 4)) (zv_hi fG v (a / 4) (b / 4) 32) (upd fT (32 * v + b / 4) (fT (32 * v + b / 4) + nI 1)) fV fF fO fB fJ (o ||| ((nI 1) <<< ((nI v) &&& 31))) (nI n) (nI q) k q (nI a) (nI b) (by omega) rfl) (cwV 2 hts (lw_V q90 q92 qs3 q12 q93) rfl rfl rfl (by decide +kernel) ⟨Nat.le_of_ble_eq_true rfl, Nat.le_of_ble_eq_true rfl⟩) (zx_pM hK hP hD rfl rfl _) rfl rfl hl.1 rfl (lv_room (Nat.le_of_ble_eq_true rfl)) dX0_vote_132 ⟨Nat.le_of_ble_eq_true rfl, Nat.le_of_ble_eq_true rfl⟩) hS (fun q _ h => hFc q h) hFc (fun r6 u t H locs ht hvm hr6 hB hz1 hk1 hS => ?_)
                      obtain ⟨rfl, hp1, hp2, hp3⟩ := hr6
                      obtain ⟨hP, hD, hK⟩ := zx_bk hB ht hvm hFc
                      refine lv_istore (lv' := [(4, .int (nI u)), (6, .int (nI (zv_verd n vw vs vt v a b))), (5, .int (nI 0)), (0, .ref (ad 0)), (1, .int (nI v)), (2, .int (nI a)), (3, .int (nI b))]) hx hb dX0_vote_135 hl (by decide) rfl (fun ls hl => ?_)
                      refine lv_aload_n hx hb dX0_vote_137 rfl (lv_at hl 3 rfl) ?_
                      refine va_get (D := D) (ci := 0) (v := .ref (ad 8)) (C := RX0) (T := TX0) (N := 13) hx hb hts in_X0 hown hK hP 0 rfl rfl 10 (by decide) (hts _ q32) (fun _ h9 => h9) rfl dX0_vote_138 ?_
                      refine lv_iload hx hb dX0_vote_141 (lv_at hl 0 rfl) ?_
                      refine lv_dup2_11 hx hb dX0_vote_143 rfl rfl ?_
                      refine zx_iald hx hb hK hP 8 0 rfl rfl (j := u) rfl (by omega) (by decide) dX0_vote_144 ?_
                      refine lv_iconst (v := nI 1) hx hb dX0_vote_145 (by decide) ?_
                      refine lv_iload_n hx hb dX0_vote_146 rfl (lv_at hl 4 rfl) ?_
                      refine lv_ishl hx hb dX0_vote_147 ?_
                      refine lv_ior hx hb dX0_vote_148 ?_
                      refine zx_iast hx hb hK hP hD hS 8 0 rfl rfl (j := u) rfl (by omega) (by decide) dX0_vote_149 (fun H locs hP hD hS => ?_)
                      have hP : va_P D vwCl (xW dA dZ ad fS (zv_lo fL v (b / 4) (a / 4)) (zv_hi fG v (a / 4) (b / 4) 32) (upd fT (32 * v + b / 4) (fT (32 * v + b / 4) + nI 1)) fV (upd (zv_sh fF u q) u (nI a)) (upd (zv_sh fO u q) u (nI b)) (upd (upd (zv_sh fB u q) u (nI 0)) u (((upd (zv_sh fB u q) u (nI 0)) u) ||| ((nI 1) <<< ((nI v) &&& 31)))) fJ (o ||| ((nI 1) <<< ((nI v) &&& 31))) (nI n) (nI (q + 1)) k) H := hP
                      have hD : va_D A (xW dA dZ ad fS (zv_lo fL v (b / 4) (a / 4)) (zv_hi fG v (a / 4) (b / 4) 32) (upd fT (32 * v + b / 4) (fT (32 * v + b / 4) + nI 1)) fV (upd (zv_sh fF u q) u (nI a)) (upd (zv_sh fO u q) u (nI b)) (upd (upd (zv_sh fB u q) u (nI 0)) u (((upd (zv_sh fB u q) u (nI 0)) u) ||| ((nI 1) <<< ((nI v) &&& 31)))) fJ (o ||| ((nI 1) <<< ((nI v) &&& 31))) (nI n) (nI (q + 1)) k) := hD
                      refine lv_aload_n hx hb dX0_vote_150 rfl (lv_at hl 3 rfl) ?_
                      refine lv_dup hx hb dX0_vote_151 rfl ?_
                      refine va_get (D := D) (ci := 0) (v := .int (nI n)) (C := RX0) (T := TX0) (N := 13) hx hb hts in_X0 hown hK hP 0 rfl rfl 6 (by decide) (hts _ q28) (fun _ h9 => h9) rfl dX0_vote_152 ?_
                      refine lv_iconst (v := nI 1) hx hb dX0_vote_155 (by decide) ?_
                      refine lv_iadd hx hb dX0_vote_156 ?_
                      refine zx_top (y := nI (n + 1)) (nI_add _ _) ?_
                      refine va_put (D := D) (ci := 0) (v := .int (nI (n + 1))) (ty := .int) (C := RX0) (T := TX0) (N := 13) hx hb hts in_X0 tyX0 tyX0_ok nmX0 hown hK hP hD hS 0 rfl rfl 6 (by decide) (hts _ q28) (fun _ h9 => h9) rfl (by decide +kernel) rfl rfl (Nat.le_of_ble_eq_true rfl) dX0_vote_157 (fun H locs hP hD hS => ?_)
                      have hP : va_P D vwCl (xW dA dZ ad fS (zv_lo fL v (b / 4) (a / 4)) (zv_hi fG v (a / 4) (b / 4) 32) (upd fT (32 * v + b / 4) (fT (32 * v + b / 4) + nI 1)) fV (upd (zv_sh fF u q) u (nI a)) (upd (zv_sh fO u q) u (nI b)) (upd (upd (zv_sh fB u q) u (nI 0)) u (((upd (zv_sh fB u q) u (nI 0)) u) ||| ((nI 1) <<< ((nI v) &&& 31)))) fJ (o ||| ((nI 1) <<< ((nI v) &&& 31))) (nI (n + 1)) (nI (q + 1)) k) H := hP
                      have hD : va_D A (xW dA dZ ad fS (zv_lo fL v (b / 4) (a / 4)) (zv_hi fG v (a / 4) (b / 4) 32) (upd fT (32 * v + b / 4) (fT (32 * v + b / 4) + nI 1)) fV (upd (zv_sh fF u q) u (nI a)) (upd (zv_sh fO u q) u (nI b)) (upd (upd (zv_sh fB u q) u (nI 0)) u (((upd (zv_sh fB u q) u (nI 0)) u) ||| ((nI 1) <<< ((nI v) &&& 31)))) fJ (o ||| ((nI 1) <<< ((nI v) &&& 31))) (nI (n + 1)) (nI (q + 1)) k) := hD
                      refine lv_aload_n hx hb dX0_vote_160 rfl (lv_at hl 3 rfl) ?_
                      refine va_get (D := D) (ci := 0) (v := .ref (ad 5)) (C := RX0) (T := TX0) (N := 13) hx hb hts in_X0 hown hK hP 0 rfl rfl 5 (by decide) (hts _ q27) (fun _ h9 => h9) rfl dX0_vote_161 ?_
                      refine lv_iload_n hx hb dX0_vote_164 rfl (lv_at hl 4 rfl) ?_
                      refine lv_dup2_11 hx hb dX0_vote_165 rfl rfl ?_
                      refine zx_iald hx hb hK hP 5 0 rfl rfl (j := v) rfl (by omega) (by decide) dX0_vote_166 ?_
                      refine lv_iconst (v := nI 1) hx hb dX0_vote_167 (by decide) ?_
                      refine lv_iadd hx hb dX0_vote_168 ?_
                      refine zx_iast hx hb hK hP hD hS 5 0 rfl rfl (j := v) rfl (by omega) (by decide) dX0_vote_169 (fun H locs hP hD hS => ?_)
                      have hP : va_P D vwCl (xW dA dZ ad fS (zv_lo fL v (b / 4) (a / 4)) (zv_hi fG v (a / 4) (b / 4) 32) (upd fT (32 * v + b / 4) (fT (32 * v + b / 4) + nI 1)) (upd fV v ((fV v) + (nI 1))) (upd (zv_sh fF u q) u (nI a)) (upd (zv_sh fO u q) u (nI b)) (upd (upd (zv_sh fB u q) u (nI 0)) u (((upd (zv_sh fB u q) u (nI 0)) u) ||| ((nI 1) <<< ((nI v) &&& 31)))) fJ (o ||| ((nI 1) <<< ((nI v) &&& 31))) (nI (n + 1)) (nI (q + 1)) k) H := hP
                      have hD : va_D A (xW dA dZ ad fS (zv_lo fL v (b / 4) (a / 4)) (zv_hi fG v (a / 4) (b / 4) 32) (upd fT (32 * v + b / 4) (fT (32 * v + b / 4) + nI 1)) (upd fV v ((fV v) + (nI 1))) (upd (zv_sh fF u q) u (nI a)) (upd (zv_sh fO u q) u (nI b)) (upd (upd (zv_sh fB u q) u (nI 0)) u (((upd (zv_sh fB u q) u (nI 0)) u) ||| ((nI 1) <<< ((nI v) &&& 31)))) fJ (o ||| ((nI 1) <<< ((nI v) &&& 31))) (nI (n + 1)) (nI (q + 1)) k) := hD
                      refine lv_aload_n hx hb dX0_vote_170 rfl (lv_at hl 3 rfl) ?_
                      refine lv_iconst (v := nI 0) hx hb dX0_vote_171 (by decide) ?_
                      refine va_put (D := D) (ci := 0) (v := .int (nI 0)) (ty := .boolean) (C := RX0) (T := TX0) (N := 13) hx hb hts in_X0 tyX0 tyX0_ok nmX0 hown hK hP hD hS 0 rfl rfl 11 (by decide) (hts _ q33) (fun _ h9 => h9) rfl (by decide +kernel) rfl rfl (Nat.le_of_ble_eq_true rfl) dX0_vote_172 (fun H locs hP hD hS => ?_)
                      have hP : va_P D vwCl (xW dA dZ ad fS (zv_lo fL v (b / 4) (a / 4)) (zv_hi fG v (a / 4) (b / 4) 32) (upd fT (32 * v + b / 4) (fT (32 * v + b / 4) + nI 1)) (upd fV v ((fV v) + (nI 1))) (upd (zv_sh fF u q) u (nI a)) (upd (zv_sh fO u q) u (nI b)) (upd (upd (zv_sh fB u q) u (nI 0)) u (((upd (zv_sh fB u q) u (nI 0)) u) ||| ((nI 1) <<< ((nI v) &&& 31)))) fJ (o ||| ((nI 1) <<< ((nI v) &&& 31))) (nI (n + 1)) (nI (q + 1)) (nI 0)) H := hP
                      have hD : va_D A (xW dA dZ ad fS (zv_lo fL v (b / 4) (a / 4)) (zv_hi fG v (a / 4) (b / 4) 32) (upd fT (32 * v + b / 4) (fT (32 * v + b / 4) + nI 1)) (upd fV v ((fV v) + (nI 1))) (upd (zv_sh fF u q) u (nI a)) (upd (zv_sh fO u q) u (nI b)) (upd (upd (zv_sh fB u q) u (nI 0)) u (((upd (zv_sh fB u q) u (nI 0)) u) ||| ((nI 1) <<< ((nI v) &&& 31)))) fJ (o ||| ((nI 1) <<< ((nI v) &&& 31))) (nI (n + 1)) (nI (q + 1)) (nI 0)) := hD
                      refine lv_iload hx hb dX0_vote_175 (lv_at hl 1 rfl) ?_
                      exact W.iret (v := (nI (zv_verd n vw vs vt v a b))) hx hb hr (fun t ht hW => ⟨⟨_, _, rfl, zp_vote_y hv ha hb0 c4 hh (by omega), _, _, _, _, _, _, _, _, _, _, _, _, _, zs_vote hG hst hV hT hL hGr hO d4 hv (by omega) (by omega) c4 hh (fun q => absurd q d5) (fun _ => rfl) (zq_new hQ hp1 hv hno hp2 hp3 (zx_newB hv hp1).1 (zx_newB hv hp1).2), by rw [ht]; exact hP, va_K.moved hW.alike hK, hD⟩, hS.F ht⟩) hS.2.2 dX0_vote_177
                · have d4 : ¬ n < 64 := fun q => d4 ((nI_ltI (by omega) (by omega)).mpr q)
                  refine lv_bipush (v := (-2)) hx hb dX0_vote_80 (by decide) ?_
                  exact W.iret (v := (-2)) hx hb hr (fun t ht hW => ⟨⟨_, _, rfl, zp_vote_r hv ha hb0 c4 (Or.inr (by omega)), _, _, _, _, _, _, _, _, _, _, _, _, _, hX, by rw [ht]; exact hP, va_K.moved hW.alike hK, hD⟩, hS.F ht⟩) hS.2.2 dX0_vote_82
            · exact absurd d1 (by decide)
        · have c4 : ¬ a / 4 < b / 4 := fun q => c4 ((nI_ltI (by omega) (by omega)).mpr q)
          refine lv_iconst (v := (-1)) hx hb dX0_vote_30 (by decide) ?_
          exact W.iret (v := (-1)) hx hb hr (fun t ht hW => ⟨⟨_, _, rfl, zp_vote_n (fun v' a' b' h => c4 (by obtain ⟨rfl, rfl, rfl⟩ := zv_okU h hv ha hb0; exact h.2.2.2.1)), _, _, _, _, _, _, _, _, _, _, _, _, _, hX, by rw [ht]; exact hP, va_K.moved hW.alike hK, hD⟩, hS.F ht⟩) hS.2.2 dX0_vote_31
end
section
/-! MODULE VoteWatch: justifyAll, justified, isFinal, highest, justifiedIn -/
theorem zk_up {g F : Nat → Int32} {i : Nat} {x : Int32} (h : ∀ c, c < i → g c = F c) (hx : x = F i) : ∀ c, c < i + 1 → upd g i x c = F c := by
  intro c hc
  by_cases e : c = i
  · subst e; rw [zu_s]; exact hx
  · rw [zu_n e]; exact h c (by omega)
theorem zk_on {n : Nat} {w s t st : Nat → Nat} {fF fO : Nat → Int32} {k c : Nat} {g : Nat → Int32} (h : zk_I n w s t st fF fO k g) (hc : c < 128) (h0 : ¬ g c = 0) : g c = 1 := by
  rcases h.1 c hc with e | e
  · exact absurd e h0
  · exact e.1
theorem zs_J {n : Nat} {w s t st : Nat → Nat} {fS fL fG fT fV fF fO fB fJ g : Nat → Int32} {o hd ln k : Int32} (h : zr_X n w s t st fS fL fG fT fV fF fO fB fJ o hd ln k) (hg : ∀ c, c < 128 → g c = zv_Ji n w s t st c) : zr_X n w s t st fS fL fG fT fV fF fO fB g o hd ln (nI 1) := by
  obtain ⟨h1, h2, h3, h4, h5, h6, h7, h8, h9, h10⟩ := h
  exact ⟨h1, h2, h3, h4, h5, h6, h7, h8, h9, Or.inr ⟨rfl, hg⟩⟩
theorem zj_ne {n : Nat} {w s t st : Nat → Nat} {c : Nat} (h : ¬ zv_Ji n w s t st c = 0) : zv_Just n w s t st c := Classical.not_not.mp (fun q => h (zj_n q))
theorem zj_eq {n : Nat} {w s t st : Nat → Nat} {c : Nat} (h : zv_Ji n w s t st c = 0) : ¬ zv_Just n w s t st c := fun q => by rw [zj_1 q] at h; exact absurd h (by decide)
theorem zj_one {n : Nat} {w s t st : Nat → Nat} {c : Nat} (h : ¬ zv_Ji n w s t st c = 0) : nI 1 = zv_Ji n w s t st c := (zj_1 (zj_ne h)).symm
theorem zj_zero {n : Nat} {w s t st : Nat → Nat} {c : Nat} (h : zv_Ji n w s t st c = 0) : nI 0 = zv_Ji n w s t st c := nI_0.trans h.symm
theorem zv_c_lt : ∀ u, zv_c u → u < 2 ^ 31 := fun u h => by have := h.1; omega
theorem zn_nlt {x y : Int32} (h : x ≤ y) : ¬ y < x := by rw [zn_le] at h; rw [zn_lt]; omega
def zf_N (n : Nat) (w s t st : Nat → Nat) (fF fO : Nat → Int32) (c i : Nat) : Prop := ∀ k, k < i → ∀ a b, a < 128 → b < 128 → fF k = nI a → fO k = nI b → ¬ (a = c ∧ b / 4 = c / 4 + 1 ∧ zv_Sup n w s t st (nI a) (nI b))
theorem zf_s {n : Nat} {w s t st : Nat → Nat} {fF fO : Nat → Int32} {c i a b : Nat} (h : zf_N n w s t st fF fO c i) (ha : a < 128) (hb : b < 128) (e1 : fF i = nI a) (e2 : fO i = nI b) (hx : ¬ (a = c ∧ b / 4 = c / 4 + 1 ∧ zv_Sup n w s t st (nI a) (nI b))) : zf_N n w s t st fF fO c (i + 1) := by
  intro k hk a' b' ha' hb' f1 f2
  by_cases e : k = i
  · subst e
    have q1 : a' = a := zn_inj (by omega) (by omega) (f1.symm.trans e1)
    have q2 : b' = b := zn_inj (by omega) (by omega) (f2.symm.trans e2)
    subst q1; subst q2
    exact hx
  · exact h k (by omega) a' b' ha' hb' f1 f2
theorem zf_end {n : Nat} {w s t st : Nat → Nat} {q : Nat} {fF fO fB : Nat → Int32} {c i : Nat} (hG : zv_G n w s t st) (hQ : zr_Q n w s t q fF fO fB) (h : zf_N n w s t st fF fO c i) (hi : q ≤ i) : ¬ zv_Fin n w s t st c := by
  rintro ⟨-, j, hj, h1, h2, h3⟩
  obtain ⟨k, hk, e1, e2⟩ := hQ.2.2.1 j hj
  obtain ⟨-, b2, b3, -⟩ := hG.2.1 j hj
  exact h k (by omega) (s j) (t j) b2 b3 e1 e2 ⟨h1, h2, h3⟩
theorem zp_fin_1 {n : Nat} {w s t st : Nat → Nat} {c : Nat} (hc : zv_c c) (h : zv_Fin n w s t st c) : zp_fin n w s t st (nI c) (nI 1) :=
  ⟨fun u hu e => by rw [← zn_inj (zv_c_lt c hc) (zv_c_lt u hu) e]; exact ⟨fun _ => rfl, fun q => absurd h q⟩, fun q => absurd rfl (q c hc)⟩
theorem zp_fin_0 {n : Nat} {w s t st : Nat → Nat} {c : Nat} (hc : zv_c c) (h : ¬ zv_Fin n w s t st c) : zp_fin n w s t st (nI c) (nI 0) :=
  ⟨fun u hu e => by rw [← zn_inj (zv_c_lt c hc) (zv_c_lt u hu) e]; exact ⟨fun q => absurd q h, fun _ => rfl⟩, fun q => absurd rfl (q c hc)⟩
theorem zp_fin_n {n : Nat} {w s t st : Nat → Nat} {x : Int32} (h : ∀ c, zv_c c → ¬ x = nI c) : zp_fin n w s t st x (-1) := ⟨fun c hc e => absurd e (h c hc), fun _ => rfl⟩
theorem zb_z {f : Nat → Int32} {i : Nat} (h : f i = 0) : zv_best f i = zv_best f (i + 1) := by rw [zv_best, if_pos h]
theorem zb_nz {f : Nat → Int32} {i : Nat} (h : ¬ f i = 0) : i = zv_best f (i + 1) := by rw [zv_best, if_neg h]
theorem z3_z {f : Nat → Int32} {e i : Nat} (h : f (4 * e + i) = 0) : zv_three f e i + 0 = zv_three f e (i + 1) := by unfold zv_three; rw [zv_sum, if_pos h]
theorem z3_nz {f : Nat → Int32} {e i : Nat} (h : ¬ f (4 * e + i) = 0) : zv_three f e i + 1 = zv_three f e (i + 1) := by unfold zv_three; rw [zv_sum, if_neg h]
set_option maxHeartbeats 4000000 in
set_option maxRecDepth 100000 in
/-- justifyAll() -/
theorem cX_justifyAll (l : Launch) (D : va_G) (dA dZ : ClassId) (ad : Nat → Nat) (sz : Nat) (fS fL fG fT fV fF fO fB fJ : Nat → Int32) (o hd ln k : Int32) (n : Nat) (vw vs vt st : Nat → Nat) (hX : zr_X n vw vs vt st fS fL fG fT fV fF fO fB fJ o hd ln k) : Met l yX0_justifyAll (ws_ yX0_justifyAll cX0_justifyAll 2 none) ({ frames := 2, cells := 0, slots := 0, locals := 45 }) (va_Pc [.ref (ad 0)] (zx_M D [(dA, .int), (dZ, .boolean)] (xW dA dZ ad fS fL fG fT fV fF fO fB fJ o hd ln k) sz)) (va_Qv (S := Unit) (fun _ => True) (fun _ t => ∃ g : Nat → Int32, (∀ c, c < 128 → g c = zv_Ji n vw vs vt st c) ∧ zx_E D [(dA, .int), (dZ, .boolean)] (va_A (xW dA dZ ad fS fL fG fT fV fF fO fB fJ o hd ln k) sz) (xW dA dZ ad fS fL fG fT fV fF fO fB g o hd ln (nI 1)) t) (va_A (xW dA dZ ad fS fL fG fT fV fF fO fB fJ o hd ln k) sz)) 0 0 (va_A (xW dA dZ ad fS fL fG fT fV fF fO fB fJ o hd ln k) sz) := by
  refine Met.ofW (cc := cX0_justifyAll) (maxL := 2) (ret := none) (by decide) rfl ?_
  intro p e s m args below meth c s₁ B hml hv
  obtain ⟨rfl, hsz, hP, hK, hD0⟩ := hv
  have hx := B.exec
  have hb := B.bytes
  have hr := B.returns
  have hts := atoms_spec (ws := ws_ yX0_justifyAll cX0_justifyAll 2 none) B.pre
  have hts : ∀ w ∈ lw_all, w.before _ s = true := fun w h => hts w (List.mem_cons_of_mem _ h)
  have hown : s.vm.findClass RX0 = some m.cls := findClass_of_methodNamed B.named
  have hlocks := B.notSynchronized
  subst hsz
  have hD := hD0.self (sz := s.heap.size)
  generalize hAe : va_A (xW dA dZ ad fS fL fG fT fV fF fO fB fJ o hd ln k) s.heap.size = A at hD ⊢
  have hA : ∀ q : Nat, s.heap.size ≤ q → A q := fun q h => by rw [← hAe]; exact Or.inr h
  have hS : va_S A s.heap s.heap [] := va_S.rf
  have hl := lv_entry ([.ref (ad 0)]) (n := 2) (Nat.le_of_ble_eq_true rfl)
  rw [lg_entry_eq]
  generalize (lg_sl ([.ref (ad 0)]) ++ List.replicate (2 - (lg_sl ([.ref (ad 0)])).length) Slot.unset).toArray = ls at hl ⊢
  have hl : lv_has ls 2 [(0, .ref (ad 0))] := hl
  obtain ⟨hG, hst, -, -, -, -, -, -, ⟨q, rfl, hQ⟩, hKn⟩ := id hX
  have hn64 := hG.1
  have hqn := hQ.1
  refine lv_aload_n hx hb dX0_justifyAll_0 rfl (lv_at hl 0 rfl) ?_
  refine va_get (D := D) (ci := 0) (v := .int k) (C := RX0) (T := TX0) (N := 13) hx hb hts in_X0 hown hK hP 0 rfl rfl 11 (by decide) (hts _ q33) (fun _ h9 => h9) rfl dX0_justifyAll_1 ?_
  refine lv_if_eq (tgt := 8) hx hb dX0_justifyAll_4 (by decide) (fun c1 => ?_) (fun c1 => ?_)
  · refine lv_aload_n hx hb dX0_justifyAll_8 rfl (lv_at hl 0 rfl) ?_
    refine lv_iconst (v := nI 1) hx hb dX0_justifyAll_9 (by decide) ?_
    refine va_put (D := D) (ci := 0) (v := .int (nI 1)) (ty := .boolean) (C := RX0) (T := TX0) (N := 13) hx hb hts in_X0 tyX0 tyX0_ok nmX0 hown hK hP hD hS 0 rfl rfl 11 (by decide) (hts _ q33) (fun _ h9 => h9) rfl (by decide +kernel) rfl rfl (Nat.le_of_ble_eq_true rfl) dX0_justifyAll_10 (fun H locs hP hD hS => ?_)
    have hP : va_P D vwCl (xW dA dZ ad fS fL fG fT fV fF fO fB fJ o hd (nI q) (nI 1)) H := hP
    have hD : va_D A (xW dA dZ ad fS fL fG fT fV fF fO fB fJ o hd (nI q) (nI 1)) := hD
    refine lv_iconst (v := nI 0) hx hb dX0_justifyAll_13 (by decide) ?_
    refine lv_istore_n (lv' := [(1, .int (nI 0)), (0, .ref (ad 0))]) hx hb dX0_justifyAll_14 rfl hl (by decide) rfl (fun ls hl => ?_)
    refine zx_w2 (α := Nat) (β := Nat → Int32) (mu := fun i g => 128 - i) (I := fun i g H locs ls => (i ≤ 128 ∧ ∀ c, c < i → g c = if c = 0 then 1 else 0) ∧ va_P D vwCl (xW dA dZ ad fS fL fG fT fV fF fO fB g o hd (nI q) (nI 1)) H ∧ va_D A (xW dA dZ ad fS fL fG fT fV fF fO fB g o hd (nI q) (nI 1)) ∧ va_S A s.heap H locs ∧ lv_has ls 2 [(0, .ref (ad 0)), (1, .int (nI i))]) ?_ 0 fJ ⟨⟨Nat.zero_le _, fun c hc => absurd hc (Nat.not_lt_zero _)⟩, hP, hD, hS, lv_sub hl [1, 0] rfl⟩
    intro i g H locs ls hI ih
    obtain ⟨⟨hi, hg⟩, hP, hD, hS, hl⟩ := hI
    refine lv_iload_n hx hb dX0_justifyAll_15 rfl (lv_at hl 1 rfl) ?_
    refine lv_sipush (v := nI 128) hx hb dX0_justifyAll_16 (by decide) ?_
    refine lv_icmp_ge (tgt := 43) hx hb dX0_justifyAll_19 (by decide) (fun c2 => ?_) (fun c2 => ?_)
    · have c2 : 128 ≤ i := (nI_leI (by omega) (by omega)).mp c2
      have h9 : 128 = i := by omega
      subst h9
      refine lv_iconst (v := nI 0) hx hb dX0_justifyAll_43 (by decide) ?_
      refine lv_istore_n (lv' := [(1, .int (nI 0)), (0, .ref (ad 0))]) hx hb dX0_justifyAll_44 rfl hl (by decide) rfl (fun ls hl => ?_)
      refine zx_w2 (α := Nat) (β := Nat → Int32) (mu := fun i g => q - i) (I := fun i g H locs ls => (i ≤ q ∧ zk_I n vw vs vt st fF fO i g) ∧ va_P D vwCl (xW dA dZ ad fS fL fG fT fV fF fO fB g o hd (nI q) (nI 1)) H ∧ va_D A (xW dA dZ ad fS fL fG fT fV fF fO fB g o hd (nI q) (nI 1)) ∧ va_S A s.heap H locs ∧ lv_has ls 2 [(0, .ref (ad 0)), (1, .int (nI i))]) ?_ 0 g ⟨⟨Nat.zero_le _, zk_0 hg⟩, hP, hD, hS, lv_sub hl [1, 0] rfl⟩
      intro i g H locs ls hI ih2
      obtain ⟨⟨hi, hg⟩, hP, hD, hS, hl⟩ := hI
      refine lv_iload_n hx hb dX0_justifyAll_45 rfl (lv_at hl 1 rfl) ?_
      refine lv_aload_n hx hb dX0_justifyAll_46 rfl (lv_at hl 0 rfl) ?_
      refine va_get (D := D) (ci := 0) (v := .int (nI q)) (C := RX0) (T := TX0) (N := 13) hx hb hts in_X0 hown hK hP 0 rfl rfl 7 (by decide) (hts _ q29) (fun _ h9 => h9) rfl dX0_justifyAll_47 ?_
      refine lv_icmp_ge (tgt := 93) hx hb dX0_justifyAll_50 (by decide) (fun c3 => ?_) (fun c3 => ?_)
      · have c3 : q ≤ i := (nI_leI (by omega) (by omega)).mp c3
        have h9 : q = i := by omega
        subst h9
        exact W.vret hx hb hr (fun t ht hW => ⟨⟨(), rfl, trivial, g, zk_end hG hQ hg, by rw [ht]; exact hP, va_K.moved hW.alike hK, hD⟩, hS.F ht⟩) hS.2.2 dX0_justifyAll_93
      · have c3 : ¬ q ≤ i := fun q => c3 ((nI_leI (by omega) (by omega)).mpr q)
        obtain ⟨j, hj, e1, e2⟩ := hQ.2.1 i (by omega)
        obtain ⟨b1, b2, b3, b4⟩ := hG.2.1 j hj
        refine lv_aload_n hx hb dX0_justifyAll_53 rfl (lv_at hl 0 rfl) ?_
        refine va_get (D := D) (ci := 0) (v := .ref (ad 9)) (C := RX0) (T := TX0) (N := 13) hx hb hts in_X0 hown hK hP 0 rfl rfl 12 (by decide) (hts _ q34) (fun _ h9 => h9) rfl dX0_justifyAll_54 ?_
        refine lv_aload_n hx hb dX0_justifyAll_57 rfl (lv_at hl 0 rfl) ?_
        refine va_get (D := D) (ci := 0) (v := .ref (ad 6)) (C := RX0) (T := TX0) (N := 13) hx hb hts in_X0 hown hK hP 0 rfl rfl 8 (by decide) (hts _ q30) (fun _ h9 => h9) rfl dX0_justifyAll_58 ?_
        refine lv_iload_n hx hb dX0_justifyAll_61 rfl (lv_at hl 1 rfl) ?_
        refine zx_iald hx hb hK hP 6 0 rfl rfl (j := i) rfl (by omega) (by decide) dX0_justifyAll_62 ?_
        refine zx_top (y := nI (vs j)) (e1) ?_
        refine zx_zald hx hb hK hP 9 1 rfl rfl (j := vs j) rfl (by omega) (by decide) dX0_justifyAll_63 ?_
        refine lv_if_eq (tgt := 87) hx hb dX0_justifyAll_64 (by decide) (fun c4 => ?_) (fun c4 => ?_)
        · refine lv_iinc (v := nI (i + 1)) (lv' := [(1, .int (nI (i + 1))), (0, .ref (ad 0))]) hx hb dX0_justifyAll_87 hl (k := 1) rfl (nI_1 _) (by decide) rfl (fun ls hl => ?_)
          refine lv_goto (tgt := 45) hx hb dX0_justifyAll_90 (by decide) ?_
          exact ih2 (i + 1) g H locs ls (by omega) ⟨⟨by omega, zk_skip hg e1 e2 b2 b3 (fun h => by rw [c4] at h; cases h)⟩, hP, hD, hS, lv_sub hl [1, 0] rfl⟩
        · have c4 := zk_on hg b2 c4
          refine lv_aload_n hx hb dX0_justifyAll_67 rfl (lv_at hl 0 rfl) ?_
          refine lv_iload_n hx hb dX0_justifyAll_68 rfl (lv_at hl 1 rfl) ?_
          refine vp_callSi (W.runV (As := [.int (nI i)]) (rest := []) ⟨hx, hb, hml, hown, hts⟩ (cX_isSupported l D dA dZ ad fS fL fG fT fV fF fO fB g o hd (nI q) (nI 1) n vw vs vt st q i hst hG.2.2.2 hQ (by omega) (by omega)) (cwV 1 hts (lw_V q114 q116 qs6 q12 q117) rfl rfl rfl (by decide +kernel) ⟨Nat.le_of_ble_eq_true rfl, Nat.le_of_ble_eq_true rfl⟩) (zx_pR hK hP rfl rfl _) rfl rfl hl.1 rfl (lv_room (Nat.le_of_ble_eq_true rfl)) dX0_justifyAll_69 ⟨Nat.le_of_ble_eq_true rfl, Nat.le_of_ble_eq_true rfl⟩) (fun r1 hr1 => ?_)
          refine lv_if_eq (tgt := 87) hx hb dX0_justifyAll_72 (by decide) (fun c5 => ?_) (fun c5 => ?_)
          · refine lv_iinc (v := nI (i + 1)) (lv' := [(1, .int (nI (i + 1))), (0, .ref (ad 0))]) hx hb dX0_justifyAll_87 hl (k := 1) rfl (nI_1 _) (by decide) rfl (fun ls hl => ?_)
            refine lv_goto (tgt := 45) hx hb dX0_justifyAll_90 (by decide) ?_
            exact ih2 (i + 1) g H locs ls (by omega) ⟨⟨by omega, zk_skip hg e1 e2 b2 b3 (fun _ => by rw [← e1, ← e2]; exact hr1.2 c5)⟩, hP, hD, hS, lv_sub hl [1, 0] rfl⟩
          · refine lv_aload_n hx hb dX0_justifyAll_75 rfl (lv_at hl 0 rfl) ?_
            refine va_get (D := D) (ci := 0) (v := .ref (ad 9)) (C := RX0) (T := TX0) (N := 13) hx hb hts in_X0 hown hK hP 0 rfl rfl 12 (by decide) (hts _ q34) (fun _ h9 => h9) rfl dX0_justifyAll_76 ?_
            refine lv_aload_n hx hb dX0_justifyAll_79 rfl (lv_at hl 0 rfl) ?_
            refine va_get (D := D) (ci := 0) (v := .ref (ad 7)) (C := RX0) (T := TX0) (N := 13) hx hb hts in_X0 hown hK hP 0 rfl rfl 9 (by decide) (hts _ q31) (fun _ h9 => h9) rfl dX0_justifyAll_80 ?_
            refine lv_iload_n hx hb dX0_justifyAll_83 rfl (lv_at hl 1 rfl) ?_
            refine zx_iald hx hb hK hP 7 0 rfl rfl (j := i) rfl (by omega) (by decide) dX0_justifyAll_84 ?_
            refine zx_top (y := nI (vt j)) (e2) ?_
            refine lv_iconst (v := nI 1) hx hb dX0_justifyAll_85 (by decide) ?_
            refine zx_zast hx hb hK hP hD hS 9 1 rfl rfl (j := vt j) rfl (by omega) (by decide) (by decide) dX0_justifyAll_86 (fun H locs hP hD hS => ?_)
            have hP : va_P D vwCl (xW dA dZ ad fS fL fG fT fV fF fO fB (upd g (vt j) (nI 1)) o hd (nI q) (nI 1)) H := hP
            have hD : va_D A (xW dA dZ ad fS fL fG fT fV fF fO fB (upd g (vt j) (nI 1)) o hd (nI q) (nI 1)) := hD
            refine lv_iinc (v := nI (i + 1)) (lv' := [(1, .int (nI (i + 1))), (0, .ref (ad 0))]) hx hb dX0_justifyAll_87 hl (k := 1) rfl (nI_1 _) (by decide) rfl (fun ls hl => ?_)
            refine lv_goto (tgt := 45) hx hb dX0_justifyAll_90 (by decide) ?_
            exact ih2 (i + 1) (upd g (vt j) (nI 1)) H locs ls (by omega) ⟨⟨by omega, zk_set hG hQ hg (by omega) hj e1 e2 c4 (by rw [← e1, ← e2]; exact hr1.1 c5)⟩, hP, hD, hS, lv_sub hl [1, 0] rfl⟩
    · have c2 : ¬ 128 ≤ i := fun q => c2 ((nI_leI (by omega) (by omega)).mpr q)
      refine lv_aload_n hx hb dX0_justifyAll_22 rfl (lv_at hl 0 rfl) ?_
      refine va_get (D := D) (ci := 0) (v := .ref (ad 9)) (C := RX0) (T := TX0) (N := 13) hx hb hts in_X0 hown hK hP 0 rfl rfl 12 (by decide) (hts _ q34) (fun _ h9 => h9) rfl dX0_justifyAll_23 ?_
      refine lv_iload_n hx hb dX0_justifyAll_26 rfl (lv_at hl 1 rfl) ?_
      refine lv_iload_n hx hb dX0_justifyAll_27 rfl (lv_at hl 1 rfl) ?_
      refine lv_if_ne (tgt := 35) hx hb dX0_justifyAll_28 (by decide) (fun c3 => ?_) (fun c3 => ?_)
      · have c3 : ¬ i = 0 := fun q => c3 ((zn_eq0 (by omega)).mpr q)
        refine lv_iconst (v := nI 0) hx hb dX0_justifyAll_35 (by decide) ?_
        refine zx_zast hx hb hK hP hD hS 9 1 rfl rfl (j := i) rfl (by omega) (by decide) (by decide) dX0_justifyAll_36 (fun H locs hP hD hS => ?_)
        have hP : va_P D vwCl (xW dA dZ ad fS fL fG fT fV fF fO fB (upd g i (nI 0)) o hd (nI q) (nI 1)) H := hP
        have hD : va_D A (xW dA dZ ad fS fL fG fT fV fF fO fB (upd g i (nI 0)) o hd (nI q) (nI 1)) := hD
        refine lv_iinc (v := nI (i + 1)) (lv' := [(1, .int (nI (i + 1))), (0, .ref (ad 0))]) hx hb dX0_justifyAll_37 hl (k := 1) rfl (nI_1 _) (by decide) rfl (fun ls hl => ?_)
        refine lv_goto (tgt := 15) hx hb dX0_justifyAll_40 (by decide) ?_
        exact ih (i + 1) (upd g i (nI 0)) H locs ls (by omega) ⟨⟨by omega, zk_up hg (by rw [if_neg c3]; exact nI_0)⟩, hP, hD, hS, lv_sub hl [1, 0] rfl⟩
      · have c3 : i = 0 := (zn_eq0 (by omega)).mp c3
        refine lv_iconst (v := nI 1) hx hb dX0_justifyAll_31 (by decide) ?_
        refine lv_goto (tgt := 36) hx hb dX0_justifyAll_32 (by decide) ?_
        refine zx_zast hx hb hK hP hD hS 9 1 rfl rfl (j := i) rfl (by omega) (by decide) (by decide) dX0_justifyAll_36 (fun H locs hP hD hS => ?_)
        have hP : va_P D vwCl (xW dA dZ ad fS fL fG fT fV fF fO fB (upd g i (nI 1)) o hd (nI q) (nI 1)) H := hP
        have hD : va_D A (xW dA dZ ad fS fL fG fT fV fF fO fB (upd g i (nI 1)) o hd (nI q) (nI 1)) := hD
        refine lv_iinc (v := nI (i + 1)) (lv' := [(1, .int (nI (i + 1))), (0, .ref (ad 0))]) hx hb dX0_justifyAll_37 hl (k := 1) rfl (nI_1 _) (by decide) rfl (fun ls hl => ?_)
        refine lv_goto (tgt := 15) hx hb dX0_justifyAll_40 (by decide) ?_
        exact ih (i + 1) (upd g i (nI 1)) H locs ls (by omega) ⟨⟨by omega, zk_up hg (by rw [if_pos c3]; rfl)⟩, hP, hD, hS, lv_sub hl [1, 0] rfl⟩
  · obtain ⟨h9, hJ⟩ := hKn.resolve_left c1
    subst h9
    exact W.vret hx hb hr (fun t ht hW => ⟨⟨(), rfl, trivial, fJ, hJ, by rw [ht]; exact hP, va_K.moved hW.alike hK, hD⟩, hS.F ht⟩) hS.2.2 dX0_justifyAll_7
set_option maxHeartbeats 4000000 in
set_option maxRecDepth 100000 in
/-- justified(x) -/
theorem cX_justified (l : Launch) (D : va_G) (dA dZ : ClassId) (ad : Nat → Nat) (sz : Nat) (fS fL fG fT fV fF fO fB fJ : Nat → Int32) (o hd ln k : Int32) (n : Nat) (vw vs vt st : Nat → Nat) (x : Int32) (hX : zr_X n vw vs vt st fS fL fG fT fV fF fO fB fJ o hd ln k) : Met l yX0_justified (ws_ yX0_justified cX0_justified 2 (some .int)) ({ frames := 3, cells := 0, slots := 0, locals := 66 }) (va_Pc [.ref (ad 0), .int x] (zx_M D [(dA, .int), (dZ, .boolean)] (xW dA dZ ad fS fL fG fT fV fF fO fB fJ o hd ln k) sz)) (va_Qi (S := Unit) (fun r _ => zp_just n vw vs vt st x r) (fun _ t => zx_X D dA dZ ad (va_A (xW dA dZ ad fS fL fG fT fV fF fO fB fJ o hd ln k) sz) n vw vs vt st t) (va_A (xW dA dZ ad fS fL fG fT fV fF fO fB fJ o hd ln k) sz)) 0 0 (va_A (xW dA dZ ad fS fL fG fT fV fF fO fB fJ o hd ln k) sz) := by
  refine Met.ofW (cc := cX0_justified) (maxL := 2) (ret := (some .int)) (by decide) rfl ?_
  intro p e s m args below meth c s₁ B hml hv
  obtain ⟨rfl, hsz, hP, hK, hD0⟩ := hv
  have hx := B.exec
  have hb := B.bytes
  have hr := B.returns
  have hts := atoms_spec (ws := ws_ yX0_justified cX0_justified 2 (some .int)) B.pre
  have hts : ∀ w ∈ lw_all, w.before _ s = true := fun w h => hts w (List.mem_cons_of_mem _ h)
  have hown : s.vm.findClass RX0 = some m.cls := findClass_of_methodNamed B.named
  have hlocks := B.notSynchronized
  subst hsz
  have hD := hD0.self (sz := s.heap.size)
  generalize hAe : va_A (xW dA dZ ad fS fL fG fT fV fF fO fB fJ o hd ln k) s.heap.size = A at hD ⊢
  have hA : ∀ q : Nat, s.heap.size ≤ q → A q := fun q h => by rw [← hAe]; exact Or.inr h
  have hS : va_S A s.heap s.heap [] := va_S.rf
  have hl := lv_entry ([.ref (ad 0), .int x]) (n := 2) (Nat.le_of_ble_eq_true rfl)
  rw [lg_entry_eq]
  generalize (lg_sl ([.ref (ad 0), .int x]) ++ List.replicate (2 - (lg_sl ([.ref (ad 0), .int x])).length) Slot.unset).toArray = ls at hl ⊢
  have hl : lv_has ls 2 [(0, .ref (ad 0)), (1, .int x)] := hl
  refine lv_iload_n hx hb dX0_justified_0 rfl (lv_at hl 1 rfl) ?_
  refine vp_callSi (W.runS (As := [.int x]) (rest := []) ⟨hx, hb, hml, hown, hts⟩ (cX_isCheckpoint l x) (va_cwS 1 hts (lw_S q75 q76 q12 q77) rfl rfl rfl (by decide +kernel) ⟨Nat.le_of_ble_eq_true rfl, Nat.le_of_ble_eq_true rfl⟩) (zx_pS _) rfl rfl hl.1 rfl (lv_room (Nat.le_of_ble_eq_true rfl)) dX0_justified_1 ⟨Nat.le_of_ble_eq_true rfl, Nat.le_of_ble_eq_true rfl⟩) (fun r1 hr1 => ?_)
  refine lv_if_ne (tgt := 9) hx hb dX0_justified_4 (by decide) (fun c1 => ?_) (fun c1 => ?_)
  · obtain ⟨c0, hc, rfl⟩ := hr1.1 c1
    have hc1 := hc.1
    refine lv_aload_n hx hb dX0_justified_9 rfl (lv_at hl 0 rfl) ?_
    have hFc := zx_fr hD hS hA
    refine va_callv (va_runV (As := []) (rest := []) ⟨hx, hb, hml, hown, hts⟩ (cX_justifyAll l D dA dZ ad _ fS fL fG fT fV fF fO fB fJ o hd ln k n vw vs vt st hX) (cwV 0 hts (lw_V q110 q112 qs5 q12 q113) rfl rfl rfl (by decide +kernel) ⟨Nat.le_of_ble_eq_true rfl, Nat.le_of_ble_eq_true rfl⟩) (zx_pM hK hP hD rfl rfl _) rfl rfl hl.1 rfl (lv_room (Nat.le_of_ble_eq_true rfl)) dX0_justified_10 ⟨Nat.le_of_ble_eq_true rfl, Nat.le_of_ble_eq_true rfl⟩) hS (fun q _ h => hFc q h) hFc (fun u t H locs ht hvm hw hB hz1 hk1 hS => ?_)
    obtain ⟨g, hJ, hB⟩ := hB
    obtain ⟨hP, hD, hK⟩ := zx_bk hB ht hvm hFc
    refine lv_aload_n hx hb dX0_justified_13 rfl (lv_at hl 0 rfl) ?_
    refine va_get (D := D) (ci := 0) (v := .ref (ad 9)) (C := RX0) (T := TX0) (N := 13) hx hb hts in_X0 hown hK hP 0 rfl rfl 12 (by decide) (hts _ q34) (fun _ h9 => h9) rfl dX0_justified_14 ?_
    refine lv_iload_n hx hb dX0_justified_17 rfl (lv_at hl 1 rfl) ?_
    refine zx_zald hx hb hK hP 9 1 rfl rfl (j := c0) rfl (by omega) (by decide) dX0_justified_18 ?_
    refine zx_top (y := zv_Ji n vw vs vt st c0) (hJ c0 (by omega)) ?_
    refine lv_if_eq (tgt := 26) hx hb dX0_justified_19 (by decide) (fun c2 => ?_) (fun c2 => ?_)
    · refine lv_iconst (v := nI 0) hx hb dX0_justified_26 (by decide) ?_
      exact W.iret (v := (nI 0)) hx hb hr (fun t ht hW => ⟨⟨_, (), rfl, zo_y (f := zv_Ji n vw vs vt st) zv_c_lt hc (zj_zero c2), _, _, _, _, _, _, _, _, _, _, _, _, _, zs_J hX hJ, by rw [ht]; exact hP, va_K.moved hW.alike hK, hD⟩, hS.F ht⟩) hS.2.2 dX0_justified_27
    · refine lv_iconst (v := nI 1) hx hb dX0_justified_22 (by decide) ?_
      refine lv_goto (tgt := 27) hx hb dX0_justified_23 (by decide) ?_
      exact W.iret (v := (nI 1)) hx hb hr (fun t ht hW => ⟨⟨_, (), rfl, zo_y (f := zv_Ji n vw vs vt st) zv_c_lt hc (zj_one c2), _, _, _, _, _, _, _, _, _, _, _, _, _, zs_J hX hJ, by rw [ht]; exact hP, va_K.moved hW.alike hK, hD⟩, hS.F ht⟩) hS.2.2 dX0_justified_27
  · refine lv_iconst (v := (-1)) hx hb dX0_justified_7 (by decide) ?_
    exact W.iret (v := (-1)) hx hb hr (fun t ht hW => ⟨⟨_, (), rfl, zo_n (hr1.2 c1) rfl, _, _, _, _, _, _, _, _, _, _, _, _, _, hX, by rw [ht]; exact hP, va_K.moved hW.alike hK, hD⟩, hS.F ht⟩) hS.2.2 dX0_justified_8
set_option maxHeartbeats 4000000 in
set_option maxRecDepth 100000 in
/-- isFinal(x) -/
theorem cX_isFinal (l : Launch) (D : va_G) (dA dZ : ClassId) (ad : Nat → Nat) (sz : Nat) (fS fL fG fT fV fF fO fB fJ : Nat → Int32) (o hd ln k : Int32) (n : Nat) (vw vs vt st : Nat → Nat) (x : Int32) (hX : zr_X n vw vs vt st fS fL fG fT fV fF fO fB fJ o hd ln k) : Met l yX0_isFinal (ws_ yX0_isFinal cX0_isFinal 4 (some .int)) ({ frames := 3, cells := 0, slots := 0, locals := 66 }) (va_Pc [.ref (ad 0), .int x] (zx_M D [(dA, .int), (dZ, .boolean)] (xW dA dZ ad fS fL fG fT fV fF fO fB fJ o hd ln k) sz)) (va_Qi (S := Unit) (fun r _ => zp_fin n vw vs vt st x r) (fun _ t => zx_X D dA dZ ad (va_A (xW dA dZ ad fS fL fG fT fV fF fO fB fJ o hd ln k) sz) n vw vs vt st t) (va_A (xW dA dZ ad fS fL fG fT fV fF fO fB fJ o hd ln k) sz)) 0 0 (va_A (xW dA dZ ad fS fL fG fT fV fF fO fB fJ o hd ln k) sz) := by
  refine Met.ofW (cc := cX0_isFinal) (maxL := 4) (ret := (some .int)) (by decide) rfl ?_
  intro p e s m args below meth c s₁ B hml hv
  obtain ⟨rfl, hsz, hP, hK, hD0⟩ := hv
  have hx := B.exec
  have hb := B.bytes
  have hr := B.returns
  have hts := atoms_spec (ws := ws_ yX0_isFinal cX0_isFinal 4 (some .int)) B.pre
  have hts : ∀ w ∈ lw_all, w.before _ s = true := fun w h => hts w (List.mem_cons_of_mem _ h)
  have hown : s.vm.findClass RX0 = some m.cls := findClass_of_methodNamed B.named
  have hlocks := B.notSynchronized
  subst hsz
  have hD := hD0.self (sz := s.heap.size)
  generalize hAe : va_A (xW dA dZ ad fS fL fG fT fV fF fO fB fJ o hd ln k) s.heap.size = A at hD ⊢
  have hA : ∀ q : Nat, s.heap.size ≤ q → A q := fun q h => by rw [← hAe]; exact Or.inr h
  have hS : va_S A s.heap s.heap [] := va_S.rf
  have hl := lv_entry ([.ref (ad 0), .int x]) (n := 4) (Nat.le_of_ble_eq_true rfl)
  rw [lg_entry_eq]
  generalize (lg_sl ([.ref (ad 0), .int x]) ++ List.replicate (4 - (lg_sl ([.ref (ad 0), .int x])).length) Slot.unset).toArray = ls at hl ⊢
  have hl : lv_has ls 4 [(0, .ref (ad 0)), (1, .int x)] := hl
  refine lv_iload_n hx hb dX0_isFinal_0 rfl (lv_at hl 1 rfl) ?_
  refine vp_callSi (W.runS (As := [.int x]) (rest := []) ⟨hx, hb, hml, hown, hts⟩ (cX_isCheckpoint l x) (va_cwS 1 hts (lw_S q75 q76 q12 q77) rfl rfl rfl (by decide +kernel) ⟨Nat.le_of_ble_eq_true rfl, Nat.le_of_ble_eq_true rfl⟩) (zx_pS _) rfl rfl hl.1 rfl (lv_room (Nat.le_of_ble_eq_true rfl)) dX0_isFinal_1 ⟨Nat.le_of_ble_eq_true rfl, Nat.le_of_ble_eq_true rfl⟩) (fun r1 hr1 => ?_)
  refine lv_if_ne (tgt := 9) hx hb dX0_isFinal_4 (by decide) (fun c1 => ?_) (fun c1 => ?_)
  · obtain ⟨c0, hc, rfl⟩ := hr1.1 c1
    have hc1 := hc.1
    refine lv_aload_n hx hb dX0_isFinal_9 rfl (lv_at hl 0 rfl) ?_
    have hFc := zx_fr hD hS hA
    refine va_callv (va_runV (As := []) (rest := []) ⟨hx, hb, hml, hown, hts⟩ (cX_justifyAll l D dA dZ ad _ fS fL fG fT fV fF fO fB fJ o hd ln k n vw vs vt st hX) (cwV 0 hts (lw_V q110 q112 qs5 q12 q113) rfl rfl rfl (by decide +kernel) ⟨Nat.le_of_ble_eq_true rfl, Nat.le_of_ble_eq_true rfl⟩) (zx_pM hK hP hD rfl rfl _) rfl rfl hl.1 rfl (lv_room (Nat.le_of_ble_eq_true rfl)) dX0_isFinal_10 ⟨Nat.le_of_ble_eq_true rfl, Nat.le_of_ble_eq_true rfl⟩) hS (fun q _ h => hFc q h) hFc (fun u t H locs ht hvm hw hB hz1 hk1 hS => ?_)
    obtain ⟨g, hJ, hB⟩ := hB
    obtain ⟨hP, hD, hK⟩ := zx_bk hB ht hvm hFc
    obtain ⟨hG, hst, -, -, -, -, -, -, ⟨q, hln, hQ⟩, -⟩ := id hX
    subst hln
    have hn64 := hG.1
    have hqn := hQ.1
    refine lv_aload_n hx hb dX0_isFinal_13 rfl (lv_at hl 0 rfl) ?_
    refine va_get (D := D) (ci := 0) (v := .ref (ad 9)) (C := RX0) (T := TX0) (N := 13) hx hb hts in_X0 hown hK hP 0 rfl rfl 12 (by decide) (hts _ q34) (fun _ h9 => h9) rfl dX0_isFinal_14 ?_
    refine lv_iload_n hx hb dX0_isFinal_17 rfl (lv_at hl 1 rfl) ?_
    refine zx_zald hx hb hK hP 9 1 rfl rfl (j := c0) rfl (by omega) (by decide) dX0_isFinal_18 ?_
    refine zx_top (y := zv_Ji n vw vs vt st c0) (hJ c0 (by omega)) ?_
    refine lv_if_ne (tgt := 24) hx hb dX0_isFinal_19 (by decide) (fun c2 => ?_) (fun c2 => ?_)
    · have hju := zj_ne c2
      refine lv_iconst (v := nI 0) hx hb dX0_isFinal_24 (by decide) ?_
      refine lv_istore_n (lv' := [(2, .int (nI 0)), (0, .ref (ad 0)), (1, .int (nI c0))]) hx hb dX0_isFinal_25 rfl hl (by decide) rfl (fun ls hl => ?_)
      refine zx_r1 (α := Nat) (mu := fun i => q - i) (I := fun i ls => (i ≤ q ∧ zf_N n vw vs vt st fF fO c0 i) ∧ lv_has ls 4 [(0, .ref (ad 0)), (1, .int (nI c0)), (2, .int (nI i))]) ?_ 0 ⟨⟨Nat.zero_le _, fun k hk => absurd hk (Nat.not_lt_zero _)⟩, lv_sub hl [1, 2, 0] rfl⟩
      intro i ls hI ih
      obtain ⟨⟨hi, hN⟩, hl⟩ := hI
      refine lv_iload_n hx hb dX0_isFinal_26 rfl (lv_at hl 2 rfl) ?_
      refine lv_aload_n hx hb dX0_isFinal_27 rfl (lv_at hl 0 rfl) ?_
      refine va_get (D := D) (ci := 0) (v := .int (nI q)) (C := RX0) (T := TX0) (N := 13) hx hb hts in_X0 hown hK hP 0 rfl rfl 7 (by decide) (hts _ q29) (fun _ h9 => h9) rfl dX0_isFinal_28 ?_
      refine lv_icmp_ge (tgt := 86) hx hb dX0_isFinal_31 (by decide) (fun c3 => ?_) (fun c3 => ?_)
      · have c3 : q ≤ i := (nI_leI (by omega) (by omega)).mp c3
        refine lv_iconst (v := nI 0) hx hb dX0_isFinal_86 (by decide) ?_
        exact W.iret (v := (nI 0)) hx hb hr (fun t ht hW => ⟨⟨_, (), rfl, zp_fin_0 hc (zf_end hG hQ hN c3), _, _, _, _, _, _, _, _, _, _, _, _, _, zs_J hX hJ, by rw [ht]; exact hP, va_K.moved hW.alike hK, hD⟩, hS.F ht⟩) hS.2.2 dX0_isFinal_87
      · have c3 : ¬ q ≤ i := fun q => c3 ((nI_leI (by omega) (by omega)).mpr q)
        obtain ⟨j, hj, e1, e2⟩ := hQ.2.1 i (by omega)
        obtain ⟨b1, b2, b3, b4⟩ := hG.2.1 j hj
        refine lv_aload_n hx hb dX0_isFinal_34 rfl (lv_at hl 0 rfl) ?_
        refine va_get (D := D) (ci := 0) (v := .ref (ad 6)) (C := RX0) (T := TX0) (N := 13) hx hb hts in_X0 hown hK hP 0 rfl rfl 8 (by decide) (hts _ q30) (fun _ h9 => h9) rfl dX0_isFinal_35 ?_
        refine lv_iload_n hx hb dX0_isFinal_38 rfl (lv_at hl 2 rfl) ?_
        refine zx_iald hx hb hK hP 6 0 rfl rfl (j := i) rfl (by omega) (by decide) dX0_isFinal_39 ?_
        refine zx_top (y := nI (vs j)) (e1) ?_
        refine lv_iload_n hx hb dX0_isFinal_40 rfl (lv_at hl 1 rfl) ?_
        refine lv_icmp_ne (tgt := 64) hx hb dX0_isFinal_41 (by decide) (fun c4 => ?_) (fun c4 => ?_)
        · have c4 : ¬ vs j = c0 := fun q => c4 ((nI_eq (by omega) (by omega)).mpr q)
          refine lv_iconst (v := nI 0) hx hb dX0_isFinal_64 (by decide) ?_
          refine lv_istore_n (lv' := [(3, .int (nI 0)), (0, .ref (ad 0)), (1, .int (nI c0)), (2, .int (nI i))]) hx hb dX0_isFinal_65 rfl hl (by decide) rfl (fun ls hl => ?_)
          refine lv_iload_n hx hb dX0_isFinal_66 rfl (lv_at hl 0 rfl) ?_
          refine lv_if_eq (tgt := 80) hx hb dX0_isFinal_67 (by decide) (fun c9 => ?_) (fun c9 => ?_)
          · refine lv_iinc (v := nI (i + 1)) (lv' := [(2, .int (nI (i + 1))), (3, .int (nI 0)), (0, .ref (ad 0)), (1, .int (nI c0))]) hx hb dX0_isFinal_80 hl (k := 3) rfl (nI_1 _) (by decide) rfl (fun ls hl => ?_)
            refine lv_goto (tgt := 26) hx hb dX0_isFinal_83 (by decide) ?_
            exact ih (i + 1) ls (by omega) ⟨⟨by omega, zf_s hN b2 b3 e1 e2 (fun h => c4 h.1)⟩, lv_sub hl [2, 3, 0] rfl⟩
          · exact absurd nI_0 c9
        · have c4 : vs j = c0 := (nI_eq (by omega) (by omega)).mp c4
          refine lv_aload_n hx hb dX0_isFinal_44 rfl (lv_at hl 0 rfl) ?_
          refine va_get (D := D) (ci := 0) (v := .ref (ad 7)) (C := RX0) (T := TX0) (N := 13) hx hb hts in_X0 hown hK hP 0 rfl rfl 9 (by decide) (hts _ q31) (fun _ h9 => h9) rfl dX0_isFinal_45 ?_
          refine lv_iload_n hx hb dX0_isFinal_48 rfl (lv_at hl 2 rfl) ?_
          refine zx_iald hx hb hK hP 7 0 rfl rfl (j := i) rfl (by omega) (by decide) dX0_isFinal_49 ?_
          refine zx_top (y := nI (vt j)) (e2) ?_
          refine lv_iconst (v := nI 2) hx hb dX0_isFinal_50 (by decide) ?_
          refine lv_ishr hx hb dX0_isFinal_51 ?_
          refine zx_top (y := nI ((vt j) / 4)) (pk_shrN (by omega) _ 2 (by decide)) ?_
          refine lv_iload_n hx hb dX0_isFinal_52 rfl (lv_at hl 1 rfl) ?_
          refine lv_iconst (v := nI 2) hx hb dX0_isFinal_53 (by decide) ?_
          refine lv_ishr hx hb dX0_isFinal_54 ?_
          refine zx_top (y := nI (c0 / 4)) (pk_shrN (by omega) _ 2 (by decide)) ?_
          refine lv_iconst (v := nI 1) hx hb dX0_isFinal_55 (by decide) ?_
          refine lv_iadd hx hb dX0_isFinal_56 ?_
          refine zx_top (y := nI ((c0 / 4) + 1)) (nI_add _ _) ?_
          refine lv_icmp_ne (tgt := 64) hx hb dX0_isFinal_57 (by decide) (fun c5 => ?_) (fun c5 => ?_)
          · have c5 : ¬ (vt j) / 4 = (c0 / 4) + 1 := fun q => c5 ((nI_eq (by omega) (by omega)).mpr q)
            refine lv_iconst (v := nI 0) hx hb dX0_isFinal_64 (by decide) ?_
            refine lv_istore_n (lv' := [(3, .int (nI 0)), (0, .ref (ad 0)), (1, .int (nI c0)), (2, .int (nI i))]) hx hb dX0_isFinal_65 rfl hl (by decide) rfl (fun ls hl => ?_)
            refine lv_iload_n hx hb dX0_isFinal_66 rfl (lv_at hl 0 rfl) ?_
            refine lv_if_eq (tgt := 80) hx hb dX0_isFinal_67 (by decide) (fun c9 => ?_) (fun c9 => ?_)
            · refine lv_iinc (v := nI (i + 1)) (lv' := [(2, .int (nI (i + 1))), (3, .int (nI 0)), (0, .ref (ad 0)), (1, .int (nI c0))]) hx hb dX0_isFinal_80 hl (k := 3) rfl (nI_1 _) (by decide) rfl (fun ls hl => ?_)
              refine lv_goto (tgt := 26) hx hb dX0_isFinal_83 (by decide) ?_
              exact ih (i + 1) ls (by omega) ⟨⟨by omega, zf_s hN b2 b3 e1 e2 (fun h => c5 h.2.1)⟩, lv_sub hl [2, 3, 0] rfl⟩
            · exact absurd nI_0 c9
          · have c5 : (vt j) / 4 = (c0 / 4) + 1 := (nI_eq (by omega) (by omega)).mp c5
            refine lv_iconst (v := nI 1) hx hb dX0_isFinal_60 (by decide) ?_
            refine lv_goto (tgt := 65) hx hb dX0_isFinal_61 (by decide) ?_
            refine lv_istore_n (lv' := [(3, .int (nI 1)), (0, .ref (ad 0)), (1, .int (nI c0)), (2, .int (nI i))]) hx hb dX0_isFinal_65 rfl hl (by decide) rfl (fun ls hl => ?_)
            refine lv_iload_n hx hb dX0_isFinal_66 rfl (lv_at hl 0 rfl) ?_
            refine lv_if_eq (tgt := 80) hx hb dX0_isFinal_67 (by decide) (fun c9 => ?_) (fun c9 => ?_)
            · exact absurd c9 zt_0
            · refine lv_aload_n hx hb dX0_isFinal_70 rfl (lv_at hl 1 rfl) ?_
              refine lv_iload_n hx hb dX0_isFinal_71 rfl (lv_at hl 3 rfl) ?_
              refine vp_callSi (W.runV (As := [.int (nI i)]) (rest := []) ⟨hx, hb, hml, hown, hts⟩ (cX_isSupported l D dA dZ ad fS fL fG fT fV fF fO fB g o hd (nI q) (nI 1) n vw vs vt st q i hst hG.2.2.2 hQ (by omega) (by omega)) (cwV 1 hts (lw_V q114 q116 qs6 q12 q117) rfl rfl rfl (by decide +kernel) ⟨Nat.le_of_ble_eq_true rfl, Nat.le_of_ble_eq_true rfl⟩) (zx_pR hK hP rfl rfl _) rfl rfl hl.1 rfl (lv_room (Nat.le_of_ble_eq_true rfl)) dX0_isFinal_72 ⟨Nat.le_of_ble_eq_true rfl, Nat.le_of_ble_eq_true rfl⟩) (fun r2 hr2 => ?_)
              refine lv_if_eq (tgt := 80) hx hb dX0_isFinal_75 (by decide) (fun c6 => ?_) (fun c6 => ?_)
              · refine lv_iinc (v := nI (i + 1)) (lv' := [(2, .int (nI (i + 1))), (3, .int (nI 1)), (0, .ref (ad 0)), (1, .int (nI c0))]) hx hb dX0_isFinal_80 hl (k := 3) rfl (nI_1 _) (by decide) rfl (fun ls hl => ?_)
                refine lv_goto (tgt := 26) hx hb dX0_isFinal_83 (by decide) ?_
                exact ih (i + 1) ls (by omega) ⟨⟨by omega, zf_s hN b2 b3 e1 e2 (fun h => hr2.2 c6 (by rw [e1, e2]; exact h.2.2))⟩, lv_sub hl [2, 3, 0] rfl⟩
              · refine lv_iconst (v := nI 1) hx hb dX0_isFinal_78 (by decide) ?_
                exact W.iret (v := (nI 1)) hx hb hr (fun t ht hW => ⟨⟨_, (), rfl, zp_fin_1 hc ⟨hju, j, hj, c4, c5, by rw [← e1, ← e2]; exact hr2.1 c6⟩, _, _, _, _, _, _, _, _, _, _, _, _, _, zs_J hX hJ, by rw [ht]; exact hP, va_K.moved hW.alike hK, hD⟩, hS.F ht⟩) hS.2.2 dX0_isFinal_79
    · refine lv_iconst (v := nI 0) hx hb dX0_isFinal_22 (by decide) ?_
      exact W.iret (v := (nI 0)) hx hb hr (fun t ht hW => ⟨⟨_, (), rfl, zp_fin_0 hc (fun h => zj_eq c2 h.1), _, _, _, _, _, _, _, _, _, _, _, _, _, zs_J hX hJ, by rw [ht]; exact hP, va_K.moved hW.alike hK, hD⟩, hS.F ht⟩) hS.2.2 dX0_isFinal_23
  · refine lv_iconst (v := (-1)) hx hb dX0_isFinal_7 (by decide) ?_
    exact W.iret (v := (-1)) hx hb hr (fun t ht hW => ⟨⟨_, (), rfl, zp_fin_n (hr1.2 c1), _, _, _, _, _, _, _, _, _, _, _, _, _, hX, by rw [ht]; exact hP, va_K.moved hW.alike hK, hD⟩, hS.F ht⟩) hS.2.2 dX0_isFinal_8
set_option maxHeartbeats 4000000 in
set_option maxRecDepth 100000 in
/-- highest() -/
theorem cX_highest (l : Launch) (D : va_G) (dA dZ : ClassId) (ad : Nat → Nat) (sz : Nat) (fS fL fG fT fV fF fO fB fJ : Nat → Int32) (o hd ln k : Int32) (n : Nat) (vw vs vt st : Nat → Nat) (hX : zr_X n vw vs vt st fS fL fG fT fV fF fO fB fJ o hd ln k) : Met l yX0_highest (ws_ yX0_highest cX0_highest 3 (some .int)) ({ frames := 3, cells := 0, slots := 0, locals := 66 }) (va_Pc [.ref (ad 0)] (zx_M D [(dA, .int), (dZ, .boolean)] (xW dA dZ ad fS fL fG fT fV fF fO fB fJ o hd ln k) sz)) (va_Qi (S := Unit) (fun r _ => zp_high n vw vs vt st r) (fun _ t => zx_X D dA dZ ad (va_A (xW dA dZ ad fS fL fG fT fV fF fO fB fJ o hd ln k) sz) n vw vs vt st t) (va_A (xW dA dZ ad fS fL fG fT fV fF fO fB fJ o hd ln k) sz)) 0 0 (va_A (xW dA dZ ad fS fL fG fT fV fF fO fB fJ o hd ln k) sz) := by
  refine Met.ofW (cc := cX0_highest) (maxL := 3) (ret := (some .int)) (by decide) rfl ?_
  intro p e s m args below meth c s₁ B hml hv
  obtain ⟨rfl, hsz, hP, hK, hD0⟩ := hv
  have hx := B.exec
  have hb := B.bytes
  have hr := B.returns
  have hts := atoms_spec (ws := ws_ yX0_highest cX0_highest 3 (some .int)) B.pre
  have hts : ∀ w ∈ lw_all, w.before _ s = true := fun w h => hts w (List.mem_cons_of_mem _ h)
  have hown : s.vm.findClass RX0 = some m.cls := findClass_of_methodNamed B.named
  have hlocks := B.notSynchronized
  subst hsz
  have hD := hD0.self (sz := s.heap.size)
  generalize hAe : va_A (xW dA dZ ad fS fL fG fT fV fF fO fB fJ o hd ln k) s.heap.size = A at hD ⊢
  have hA : ∀ q : Nat, s.heap.size ≤ q → A q := fun q h => by rw [← hAe]; exact Or.inr h
  have hS : va_S A s.heap s.heap [] := va_S.rf
  have hl := lv_entry ([.ref (ad 0)]) (n := 3) (Nat.le_of_ble_eq_true rfl)
  rw [lg_entry_eq]
  generalize (lg_sl ([.ref (ad 0)]) ++ List.replicate (3 - (lg_sl ([.ref (ad 0)])).length) Slot.unset).toArray = ls at hl ⊢
  have hl : lv_has ls 3 [(0, .ref (ad 0))] := hl
  refine lv_aload_n hx hb dX0_highest_0 rfl (lv_at hl 0 rfl) ?_
  have hFc := zx_fr hD hS hA
  refine va_callv (va_runV (As := []) (rest := []) ⟨hx, hb, hml, hown, hts⟩ (cX_justifyAll l D dA dZ ad _ fS fL fG fT fV fF fO fB fJ o hd ln k n vw vs vt st hX) (cwV 0 hts (lw_V q110 q112 qs5 q12 q113) rfl rfl rfl (by decide +kernel) ⟨Nat.le_of_ble_eq_true rfl, Nat.le_of_ble_eq_true rfl⟩) (zx_pM hK hP hD rfl rfl _) rfl rfl hl.1 rfl (lv_room (Nat.le_of_ble_eq_true rfl)) dX0_highest_1 ⟨Nat.le_of_ble_eq_true rfl, Nat.le_of_ble_eq_true rfl⟩) hS (fun q _ h => hFc q h) hFc (fun u t H locs ht hvm hw hB hz1 hk1 hS => ?_)
  obtain ⟨g, hJ, hB⟩ := hB
  obtain ⟨hP, hD, hK⟩ := zx_bk hB ht hvm hFc
  refine lv_iconst (v := nI 0) hx hb dX0_highest_4 (by decide) ?_
  refine lv_istore_n (lv' := [(1, .int (nI 0)), (0, .ref (ad 0))]) hx hb dX0_highest_5 rfl hl (by decide) rfl (fun ls hl => ?_)
  refine lv_iconst (v := nI 0) hx hb dX0_highest_6 (by decide) ?_
  refine lv_istore_n (lv' := [(2, .int (nI 0)), (1, .int (nI 0)), (0, .ref (ad 0))]) hx hb dX0_highest_7 rfl hl (by decide) rfl (fun ls hl => ?_)
  refine zx_r1 (α := Nat) (mu := fun i => 128 - i) (I := fun i ls => (i ≤ 128) ∧ lv_has ls 3 [(0, .ref (ad 0)), (1, .int (nI (zv_best (zv_Ji n vw vs vt st) i))), (2, .int (nI i))]) ?_ 0 ⟨Nat.zero_le _, lv_sub hl [2, 1, 0] rfl⟩
  intro i ls hI ih
  obtain ⟨hi, hl⟩ := hI
  refine lv_iload_n hx hb dX0_highest_8 rfl (lv_at hl 2 rfl) ?_
  refine lv_sipush (v := nI 128) hx hb dX0_highest_9 (by decide) ?_
  refine lv_icmp_ge (tgt := 36) hx hb dX0_highest_12 (by decide) (fun c1 => ?_) (fun c1 => ?_)
  · have c1 : 128 ≤ i := (nI_leI (by omega) (by omega)).mp c1
    have h9 : 128 = i := by omega
    subst h9
    refine lv_iload_n hx hb dX0_highest_36 rfl (lv_at hl 1 rfl) ?_
    exact W.iret (v := (nI (zv_best (zv_Ji n vw vs vt st) 128))) hx hb hr (fun t ht hW => ⟨⟨_, (), rfl, rfl, _, _, _, _, _, _, _, _, _, _, _, _, _, zs_J hX hJ, by rw [ht]; exact hP, va_K.moved hW.alike hK, hD⟩, hS.F ht⟩) hS.2.2 dX0_highest_37
  · have c1 : ¬ 128 ≤ i := fun q => c1 ((nI_leI (by omega) (by omega)).mpr q)
    refine lv_aload_n hx hb dX0_highest_15 rfl (lv_at hl 0 rfl) ?_
    refine va_get (D := D) (ci := 0) (v := .ref (ad 9)) (C := RX0) (T := TX0) (N := 13) hx hb hts in_X0 hown hK hP 0 rfl rfl 12 (by decide) (hts _ q34) (fun _ h9 => h9) rfl dX0_highest_16 ?_
    refine lv_iload_n hx hb dX0_highest_19 rfl (lv_at hl 2 rfl) ?_
    refine zx_zald hx hb hK hP 9 1 rfl rfl (j := i) rfl (by omega) (by decide) dX0_highest_20 ?_
    refine zx_top (y := zv_Ji n vw vs vt st i) (hJ i (by omega)) ?_
    refine lv_if_eq (tgt := 28) hx hb dX0_highest_21 (by decide) (fun c2 => ?_) (fun c2 => ?_)
    · refine lv_iload_n hx hb dX0_highest_28 rfl (lv_at hl 1 rfl) ?_
      refine zx_top (y := nI (zv_best (zv_Ji n vw vs vt st) (i + 1))) (congrArg nI (zb_z (f := (zv_Ji n vw vs vt st)) c2)) ?_
      refine lv_istore_n (lv' := [(1, .int (nI (zv_best (zv_Ji n vw vs vt st) (i + 1)))), (0, .ref (ad 0)), (2, .int (nI i))]) hx hb dX0_highest_29 rfl hl (by decide) rfl (fun ls hl => ?_)
      refine lv_iinc (v := nI (i + 1)) (lv' := [(2, .int (nI (i + 1))), (1, .int (nI (zv_best (zv_Ji n vw vs vt st) (i + 1)))), (0, .ref (ad 0))]) hx hb dX0_highest_30 hl (k := 2) rfl (nI_1 _) (by decide) rfl (fun ls hl => ?_)
      refine lv_goto (tgt := 8) hx hb dX0_highest_33 (by decide) ?_
      exact ih (i + 1) ls (by omega) ⟨by omega, lv_sub hl [2, 1, 0] rfl⟩
    · refine lv_iload_n hx hb dX0_highest_24 rfl (lv_at hl 2 rfl) ?_
      refine lv_goto (tgt := 29) hx hb dX0_highest_25 (by decide) ?_
      refine zx_top (y := nI (zv_best (zv_Ji n vw vs vt st) (i + 1))) (congrArg nI (zb_nz (f := (zv_Ji n vw vs vt st)) c2)) ?_
      refine lv_istore_n (lv' := [(1, .int (nI (zv_best (zv_Ji n vw vs vt st) (i + 1)))), (0, .ref (ad 0)), (2, .int (nI i))]) hx hb dX0_highest_29 rfl hl (by decide) rfl (fun ls hl => ?_)
      refine lv_iinc (v := nI (i + 1)) (lv' := [(2, .int (nI (i + 1))), (1, .int (nI (zv_best (zv_Ji n vw vs vt st) (i + 1)))), (0, .ref (ad 0))]) hx hb dX0_highest_30 hl (k := 2) rfl (nI_1 _) (by decide) rfl (fun ls hl => ?_)
      refine lv_goto (tgt := 8) hx hb dX0_highest_33 (by decide) ?_
      exact ih (i + 1) ls (by omega) ⟨by omega, lv_sub hl [2, 1, 0] rfl⟩
set_option maxHeartbeats 4000000 in
set_option maxRecDepth 100000 in
/-- justifiedIn(x) -/
theorem cX_justifiedIn (l : Launch) (D : va_G) (dA dZ : ClassId) (ad : Nat → Nat) (sz : Nat) (fS fL fG fT fV fF fO fB fJ : Nat → Int32) (o hd ln k : Int32) (n : Nat) (vw vs vt st : Nat → Nat) (x : Int32) (hX : zr_X n vw vs vt st fS fL fG fT fV fF fO fB fJ o hd ln k) : Met l yX0_justifiedIn (ws_ yX0_justifiedIn cX0_justifiedIn 4 (some .int)) ({ frames := 3, cells := 0, slots := 0, locals := 66 }) (va_Pc [.ref (ad 0), .int x] (zx_M D [(dA, .int), (dZ, .boolean)] (xW dA dZ ad fS fL fG fT fV fF fO fB fJ o hd ln k) sz)) (va_Qi (S := Unit) (fun r _ => zp_jin n vw vs vt st x r) (fun _ t => zx_X D dA dZ ad (va_A (xW dA dZ ad fS fL fG fT fV fF fO fB fJ o hd ln k) sz) n vw vs vt st t) (va_A (xW dA dZ ad fS fL fG fT fV fF fO fB fJ o hd ln k) sz)) 0 0 (va_A (xW dA dZ ad fS fL fG fT fV fF fO fB fJ o hd ln k) sz) := by
  refine Met.ofW (cc := cX0_justifiedIn) (maxL := 4) (ret := (some .int)) (by decide) rfl ?_
  intro p e s m args below meth c s₁ B hml hv
  obtain ⟨rfl, hsz, hP, hK, hD0⟩ := hv
  have hx := B.exec
  have hb := B.bytes
  have hr := B.returns
  have hts := atoms_spec (ws := ws_ yX0_justifiedIn cX0_justifiedIn 4 (some .int)) B.pre
  have hts : ∀ w ∈ lw_all, w.before _ s = true := fun w h => hts w (List.mem_cons_of_mem _ h)
  have hown : s.vm.findClass RX0 = some m.cls := findClass_of_methodNamed B.named
  have hlocks := B.notSynchronized
  subst hsz
  have hD := hD0.self (sz := s.heap.size)
  generalize hAe : va_A (xW dA dZ ad fS fL fG fT fV fF fO fB fJ o hd ln k) s.heap.size = A at hD ⊢
  have hA : ∀ q : Nat, s.heap.size ≤ q → A q := fun q h => by rw [← hAe]; exact Or.inr h
  have hS : va_S A s.heap s.heap [] := va_S.rf
  have hl := lv_entry ([.ref (ad 0), .int x]) (n := 4) (Nat.le_of_ble_eq_true rfl)
  rw [lg_entry_eq]
  generalize (lg_sl ([.ref (ad 0), .int x]) ++ List.replicate (4 - (lg_sl ([.ref (ad 0), .int x])).length) Slot.unset).toArray = ls at hl ⊢
  have hl : lv_has ls 4 [(0, .ref (ad 0)), (1, .int x)] := hl
  refine lv_iload_n hx hb dX0_justifiedIn_0 rfl (lv_at hl 1 rfl) ?_
  refine lv_if_lt (tgt := 10) hx hb dX0_justifiedIn_1 (by decide) (fun c1 => ?_) (fun c1 => ?_)
  · refine lv_iconst (v := (-1)) hx hb dX0_justifiedIn_10 (by decide) ?_
    exact W.iret (v := (-1)) hx hb hr (fun t ht hW => ⟨⟨_, (), rfl, zo_n (P := fun e => e < 32) (f := fun e => nI (zv_three (zv_Ji n vw vs vt st) e 3)) (zc_neg (fun v h => by omega) c1) rfl, _, _, _, _, _, _, _, _, _, _, _, _, _, hX, by rw [ht]; exact hP, va_K.moved hW.alike hK, hD⟩, hS.F ht⟩) hS.2.2 dX0_justifiedIn_11
  · refine lv_iload_n hx hb dX0_justifiedIn_4 rfl (lv_at hl 1 rfl) ?_
    refine lv_bipush (v := nI 31) hx hb dX0_justifiedIn_5 (by decide) ?_
    refine lv_icmp_le (tgt := 12) hx hb dX0_justifiedIn_7 (by decide) (fun c2 => ?_) (fun c2 => ?_)
    · obtain ⟨e0, he, rfl⟩ := zc_in (N := 31) (by omega) c1 (zn_nlt c2)
      refine lv_aload_n hx hb dX0_justifiedIn_12 rfl (lv_at hl 0 rfl) ?_
      have hFc := zx_fr hD hS hA
      refine va_callv (va_runV (As := []) (rest := []) ⟨hx, hb, hml, hown, hts⟩ (cX_justifyAll l D dA dZ ad _ fS fL fG fT fV fF fO fB fJ o hd ln k n vw vs vt st hX) (cwV 0 hts (lw_V q110 q112 qs5 q12 q113) rfl rfl rfl (by decide +kernel) ⟨Nat.le_of_ble_eq_true rfl, Nat.le_of_ble_eq_true rfl⟩) (zx_pM hK hP hD rfl rfl _) rfl rfl hl.1 rfl (lv_room (Nat.le_of_ble_eq_true rfl)) dX0_justifiedIn_13 ⟨Nat.le_of_ble_eq_true rfl, Nat.le_of_ble_eq_true rfl⟩) hS (fun q _ h => hFc q h) hFc (fun u t H locs ht hvm hw hB hz1 hk1 hS => ?_)
      obtain ⟨g, hJ, hB⟩ := hB
      obtain ⟨hP, hD, hK⟩ := zx_bk hB ht hvm hFc
      refine lv_iconst (v := nI 0) hx hb dX0_justifiedIn_16 (by decide) ?_
      refine lv_istore_n (lv' := [(2, .int (nI 0)), (0, .ref (ad 0)), (1, .int (nI e0))]) hx hb dX0_justifiedIn_17 rfl hl (by decide) rfl (fun ls hl => ?_)
      refine lv_iconst (v := nI 4) hx hb dX0_justifiedIn_18 (by decide) ?_
      refine lv_iload_n hx hb dX0_justifiedIn_19 rfl (lv_at hl 2 rfl) ?_
      refine lv_imul hx hb dX0_justifiedIn_20 ?_
      refine zx_top (y := nI (4 * e0)) (pk_mul _ _) ?_
      refine lv_istore_n (lv' := [(3, .int (nI (4 * e0))), (2, .int (nI 0)), (0, .ref (ad 0)), (1, .int (nI e0))]) hx hb dX0_justifiedIn_21 rfl hl (by decide) rfl (fun ls hl => ?_)
      refine zx_r1 (α := Nat) (mu := fun i => 3 - i) (I := fun i ls => (i ≤ 3) ∧ lv_has ls 4 [(0, .ref (ad 0)), (1, .int (nI e0)), (2, .int (nI (zv_three (zv_Ji n vw vs vt st) e0 i))), (3, .int (nI (4 * e0 + i)))]) ?_ 0 ⟨Nat.zero_le _, lv_sub hl [2, 3, 1, 0] rfl⟩
      intro i ls hI ih
      obtain ⟨hi, hl⟩ := hI
      refine lv_iload_n hx hb dX0_justifiedIn_22 rfl (lv_at hl 3 rfl) ?_
      refine lv_iconst (v := nI 4) hx hb dX0_justifiedIn_23 (by decide) ?_
      refine lv_iload_n hx hb dX0_justifiedIn_24 rfl (lv_at hl 1 rfl) ?_
      refine lv_imul hx hb dX0_justifiedIn_25 ?_
      refine zx_top (y := nI (4 * e0)) (pk_mul _ _) ?_
      refine lv_iconst (v := nI 3) hx hb dX0_justifiedIn_26 (by decide) ?_
      refine lv_iadd hx hb dX0_justifiedIn_27 ?_
      refine zx_top (y := nI ((4 * e0) + 3)) (nI_add _ _) ?_
      refine lv_icmp_ge (tgt := 54) hx hb dX0_justifiedIn_28 (by decide) (fun c3 => ?_) (fun c3 => ?_)
      · have c3 : (4 * e0) + 3 ≤ 4 * e0 + i := (nI_leI (by omega) (by omega)).mp c3
        have h9 : 3 = i := by omega
        subst h9
        refine lv_iload_n hx hb dX0_justifiedIn_54 rfl (lv_at hl 2 rfl) ?_
        exact W.iret (v := (nI (zv_three (zv_Ji n vw vs vt st) e0 3))) hx hb hr (fun t ht hW => ⟨⟨_, (), rfl, zo_y (P := fun e => e < 32) (f := fun e => nI (zv_three (zv_Ji n vw vs vt st) e 3)) (fun u hu => by omega) (by omega) rfl, _, _, _, _, _, _, _, _, _, _, _, _, _, zs_J hX hJ, by rw [ht]; exact hP, va_K.moved hW.alike hK, hD⟩, hS.F ht⟩) hS.2.2 dX0_justifiedIn_55
      · have c3 : ¬ (4 * e0) + 3 ≤ 4 * e0 + i := fun q => c3 ((nI_leI (by omega) (by omega)).mpr q)
        refine lv_iload_n hx hb dX0_justifiedIn_31 rfl (lv_at hl 2 rfl) ?_
        refine lv_aload_n hx hb dX0_justifiedIn_32 rfl (lv_at hl 0 rfl) ?_
        refine va_get (D := D) (ci := 0) (v := .ref (ad 9)) (C := RX0) (T := TX0) (N := 13) hx hb hts in_X0 hown hK hP 0 rfl rfl 12 (by decide) (hts _ q34) (fun _ h9 => h9) rfl dX0_justifiedIn_33 ?_
        refine lv_iload_n hx hb dX0_justifiedIn_36 rfl (lv_at hl 3 rfl) ?_
        refine zx_zald hx hb hK hP 9 1 rfl rfl (j := 4 * e0 + i) rfl (by omega) (by decide) dX0_justifiedIn_37 ?_
        refine zx_top (y := zv_Ji n vw vs vt st (4 * e0 + i)) (hJ _ (by omega)) ?_
        refine lv_if_eq (tgt := 45) hx hb dX0_justifiedIn_38 (by decide) (fun c4 => ?_) (fun c4 => ?_)
        · refine lv_iconst (v := nI 0) hx hb dX0_justifiedIn_45 (by decide) ?_
          refine lv_iadd hx hb dX0_justifiedIn_46 ?_
          refine zx_top (y := nI ((zv_three (zv_Ji n vw vs vt st) e0 i) + 0)) (nI_add _ _) ?_
          refine zx_top (y := nI (zv_three (zv_Ji n vw vs vt st) e0 (i + 1))) (congrArg nI (z3_z (f := (zv_Ji n vw vs vt st)) c4)) ?_
          refine lv_istore_n (lv' := [(2, .int (nI (zv_three (zv_Ji n vw vs vt st) e0 (i + 1)))), (0, .ref (ad 0)), (1, .int (nI e0)), (3, .int (nI (4 * e0 + i)))]) hx hb dX0_justifiedIn_47 rfl hl (by decide) rfl (fun ls hl => ?_)
          refine lv_iinc (v := nI ((4 * e0 + i) + 1)) (lv' := [(3, .int (nI ((4 * e0 + i) + 1))), (2, .int (nI (zv_three (zv_Ji n vw vs vt st) e0 (i + 1)))), (0, .ref (ad 0)), (1, .int (nI e0))]) hx hb dX0_justifiedIn_48 hl (k := 3) rfl (nI_1 _) (by decide) rfl (fun ls hl => ?_)
          refine lv_goto (tgt := 22) hx hb dX0_justifiedIn_51 (by decide) ?_
          exact ih (i + 1) ls (by omega) ⟨by omega, lv_sub hl [2, 3, 1, 0] rfl⟩
        · refine lv_iconst (v := nI 1) hx hb dX0_justifiedIn_41 (by decide) ?_
          refine lv_goto (tgt := 46) hx hb dX0_justifiedIn_42 (by decide) ?_
          refine lv_iadd hx hb dX0_justifiedIn_46 ?_
          refine zx_top (y := nI ((zv_three (zv_Ji n vw vs vt st) e0 i) + 1)) (nI_add _ _) ?_
          refine zx_top (y := nI (zv_three (zv_Ji n vw vs vt st) e0 (i + 1))) (congrArg nI (z3_nz (f := (zv_Ji n vw vs vt st)) c4)) ?_
          refine lv_istore_n (lv' := [(2, .int (nI (zv_three (zv_Ji n vw vs vt st) e0 (i + 1)))), (0, .ref (ad 0)), (1, .int (nI e0)), (3, .int (nI (4 * e0 + i)))]) hx hb dX0_justifiedIn_47 rfl hl (by decide) rfl (fun ls hl => ?_)
          refine lv_iinc (v := nI ((4 * e0 + i) + 1)) (lv' := [(3, .int (nI ((4 * e0 + i) + 1))), (2, .int (nI (zv_three (zv_Ji n vw vs vt st) e0 (i + 1)))), (0, .ref (ad 0)), (1, .int (nI e0))]) hx hb dX0_justifiedIn_48 hl (k := 3) rfl (nI_1 _) (by decide) rfl (fun ls hl => ?_)
          refine lv_goto (tgt := 22) hx hb dX0_justifiedIn_51 (by decide) ?_
          exact ih (i + 1) ls (by omega) ⟨by omega, lv_sub hl [2, 3, 1, 0] rfl⟩
    · refine lv_iconst (v := (-1)) hx hb dX0_justifiedIn_10 (by decide) ?_
      exact W.iret (v := (-1)) hx hb hr (fun t ht hW => ⟨⟨_, (), rfl, zo_n (P := fun e => e < 32) (f := fun e => nI (zv_three (zv_Ji n vw vs vt st) e 3)) (zc_big (N := 31) (by omega) (fun v h => by omega) (zn_nle c2)) rfl, _, _, _, _, _, _, _, _, _, _, _, _, _, hX, by rw [ht]; exact hP, va_K.moved hW.alike hK, hD⟩, hS.F ht⟩) hS.2.2 dX0_justifiedIn_11
end
section
/-! MODULE VoteWatchModel: the methods that write nothing -/
def zq_F (w s t st : Nat → Nat) (x y : Int32) (i : Nat) : Nat := if nI (s i) = x ∧ nI (t i) = y then st (w i) else 0
theorem zq_y {w s t st : Nat → Nat} {x y : Int32} {i : Nat} (h1 : nI (s i) = x) (h2 : nI (t i) = y) : zv_sum (zq_F w s t st x y) i + st (w i) = zv_sum (zq_F w s t st x y) (i + 1) := by
  rw [zv_sum]; unfold zq_F; rw [if_pos ⟨h1, h2⟩]
theorem zq_n {w s t st : Nat → Nat} {x y : Int32} {i : Nat} (h : ¬ (nI (s i) = x ∧ nI (t i) = y)) : zv_sum (zq_F w s t st x y) i = zv_sum (zq_F w s t st x y) (i + 1) := by
  rw [zv_sum]; unfold zq_F; rw [if_neg h, Nat.add_zero]
def zq_O (n : Nat) (w s t st : Nat → Nat) (v : Nat) : Nat := if zv_offs n w s t v = true then st v else 0
theorem zq_mul {n : Nat} {w s t st : Nat → Nat} {v : Nat} : (if zv_offs n w s t v = true then (1 : Int32) else 0) * nI (st v) = nI (zq_O n w s t st v) := by
  unfold zq_O
  by_cases h : zv_offs n w s t v = true
  · rw [if_pos h, if_pos h, show (1 : Int32) = nI 1 from rfl, pk_mul, Nat.one_mul]
  · rw [if_neg h, if_neg h, ← nI_0, pk_mul, Nat.zero_mul]
theorem zq_cy {w : Nat → Nat} {v i : Nat} (h : w i = v) : zv_cntV i w v + 1 = zv_cntV (i + 1) w v := by unfold zv_cntV; rw [zv_sum, if_pos h]
theorem zq_cn {w : Nat → Nat} {v i : Nat} (h : ¬ w i = v) : zv_cntV i w v = zv_cntV (i + 1) w v := by unfold zv_cntV; rw [zv_sum, if_neg h, Nat.add_zero]
theorem zq_hd {w s t : Nat → Nat} {v i : Nat} {x y : Int32} (h : ¬ (w i = v ∧ nI (s i) = x ∧ nI (t i) = y)) : ¬ zv_hd w s t v x y i = true := fun q => h (of_decide_eq_true q)
theorem zq_of {w s t : Nat → Nat} {v i j : Nat} (h : ¬ (i ≠ j ∧ w i = v ∧ w j = v ∧ (t i / 4 = t j / 4 ∨ (s i / 4 < s j / 4 ∧ t j / 4 < t i / 4)))) : ¬ zv_off w s t v i j = true := fun q => h (of_decide_eq_true q)
theorem zq_ofs {n : Nat} {w s t : Nat → Nat} {v : Nat} (h : ∀ i, i < n → ∀ j, j < n → ¬ zv_off w s t v i j = true) : ¬ zv_offs n w s t v = true := by
  intro q
  obtain ⟨i, hi, q2⟩ := zv_any_iff.mp q
  obtain ⟨j, hj, q3⟩ := zv_any_iff.mp q2
  exact h i hi j hj q3
theorem zq_ofy {n : Nat} {w s t : Nat → Nat} {v i j : Nat} (hi : i < n) (hj : j < n) (h : i ≠ j ∧ w i = v ∧ w j = v ∧ (t i / 4 = t j / 4 ∨ (s i / 4 < s j / 4 ∧ t j / 4 < t i / 4))) : zv_offs n w s t v = true := zv_any_yes hi (zv_any_yes hj (decide_eq_true h))
set_option maxHeartbeats 4000000 in
set_option maxRecDepth 100000 in
/-- bad(x) -/
theorem cM_bad (l : Launch) (x : Int32) : Met l yX1_bad (ws_ yX1_bad cX1_bad 1 (some .boolean)) ({ frames := 0, cells := 0, slots := 0, locals := 0 }) (va_Pc [.int x] (fun _ => True)) (vp_Si (fun r => (¬ r = 0 → ∀ v, v < 8 → ¬ x = nI v) ∧ (r = 0 → ∃ v, v < 8 ∧ x = nI v))) 0 0 (fun _ => False) := by
  refine Met.ofW (cc := cX1_bad) (maxL := 1) (ret := (some .boolean)) (by decide) rfl ?_
  intro p e s m args below meth c s₁ B hml hv
  obtain ⟨rfl, -⟩ := hv
  have hx := B.exec
  have hb := B.bytes
  have hr := B.returns
  have hts := atoms_spec (ws := ws_ yX1_bad cX1_bad 1 (some .boolean)) B.pre
  have hts : ∀ w ∈ lw_all, w.before _ s = true := fun w h => hts w (List.mem_cons_of_mem _ h)
  have hown : s.vm.findClass RX1 = some m.cls := findClass_of_methodNamed B.named
  have hlocks := B.notSynchronized
  have hl := lv_entry ([.int x]) (n := 1) (Nat.le_of_ble_eq_true rfl)
  rw [lg_entry_eq]
  generalize (lg_sl ([.int x]) ++ List.replicate (1 - (lg_sl ([.int x])).length) Slot.unset).toArray = ls at hl ⊢
  have hl : lv_has ls 1 [(0, .int x)] := hl
  refine lv_iload_n hx hb dX1_bad_0 rfl (lv_at hl 0 rfl) ?_
  refine lv_if_lt (tgt := 10) hx hb dX1_bad_1 (by decide) (fun c1 => ?_) (fun c1 => ?_)
  · refine lv_iconst (v := nI 1) hx hb dX1_bad_10 (by decide) ?_
    refine lv_goto (tgt := 15) hx hb dX1_bad_11 (by decide) ?_
    exact W.zret (v := (nI 1)) hx hb hr (by decide) (fun t ht hW => ⟨_, rfl, zy_y zt_0 (zc_neg (fun v h => by omega) c1), ht⟩) (fun _ h9 => by cases h9) dX1_bad_15
  · refine lv_iload_n hx hb dX1_bad_4 rfl (lv_at hl 0 rfl) ?_
    refine lv_bipush (v := nI 7) hx hb dX1_bad_5 (by decide) ?_
    refine lv_icmp_le (tgt := 14) hx hb dX1_bad_7 (by decide) (fun c2 => ?_) (fun c2 => ?_)
    · obtain ⟨v, hv, rfl⟩ := zc_in (N := 7) (by omega) c1 (zn_nlt c2)
      refine lv_iconst (v := nI 0) hx hb dX1_bad_14 (by decide) ?_
      exact W.zret (v := (nI 0)) hx hb hr (by decide) (fun t ht hW => ⟨_, rfl, zy_n nI_0 ⟨v, by omega, rfl⟩, ht⟩) (fun _ h9 => by cases h9) dX1_bad_15
    · refine lv_iconst (v := nI 1) hx hb dX1_bad_10 (by decide) ?_
      refine lv_goto (tgt := 15) hx hb dX1_bad_11 (by decide) ?_
      exact W.zret (v := (nI 1)) hx hb hr (by decide) (fun t ht hW => ⟨_, rfl, zy_y zt_0 (zc_big (N := 7) (by omega) (fun v h => by omega) (zn_nle c2)), ht⟩) (fun _ h9 => by cases h9) dX1_bad_15
set_option maxHeartbeats 4000000 in
set_option maxRecDepth 100000 in
/-- badPoint(x) -/
theorem cM_badPoint (l : Launch) (x : Int32) : Met l yX1_badPoint (ws_ yX1_badPoint cX1_badPoint 1 (some .boolean)) ({ frames := 0, cells := 0, slots := 0, locals := 0 }) (va_Pc [.int x] (fun _ => True)) (vp_Si (fun r => (¬ r = 0 → ∀ c, zv_c c → ¬ x = nI c) ∧ (r = 0 → ∃ c, zv_c c ∧ x = nI c))) 0 0 (fun _ => False) := by
  refine Met.ofW (cc := cX1_badPoint) (maxL := 1) (ret := (some .boolean)) (by decide) rfl ?_
  intro p e s m args below meth c s₁ B hml hv
  obtain ⟨rfl, -⟩ := hv
  have hx := B.exec
  have hb := B.bytes
  have hr := B.returns
  have hts := atoms_spec (ws := ws_ yX1_badPoint cX1_badPoint 1 (some .boolean)) B.pre
  have hts : ∀ w ∈ lw_all, w.before _ s = true := fun w h => hts w (List.mem_cons_of_mem _ h)
  have hown : s.vm.findClass RX1 = some m.cls := findClass_of_methodNamed B.named
  have hlocks := B.notSynchronized
  have hl := lv_entry ([.int x]) (n := 1) (Nat.le_of_ble_eq_true rfl)
  rw [lg_entry_eq]
  generalize (lg_sl ([.int x]) ++ List.replicate (1 - (lg_sl ([.int x])).length) Slot.unset).toArray = ls at hl ⊢
  have hl : lv_has ls 1 [(0, .int x)] := hl
  refine lv_iload_n hx hb dX1_badPoint_0 rfl (lv_at hl 0 rfl) ?_
  refine lv_if_lt (tgt := 17) hx hb dX1_badPoint_1 (by decide) (fun c1 => ?_) (fun c1 => ?_)
  · refine lv_iconst (v := nI 1) hx hb dX1_badPoint_17 (by decide) ?_
    refine lv_goto (tgt := 22) hx hb dX1_badPoint_18 (by decide) ?_
    exact W.zret (v := (nI 1)) hx hb hr (by decide) (fun t ht hW => ⟨_, rfl, zy_y zt_0 (zc_neg zv_c_lt c1), ht⟩) (fun _ h9 => by cases h9) dX1_badPoint_22
  · refine lv_iload_n hx hb dX1_badPoint_4 rfl (lv_at hl 0 rfl) ?_
    refine lv_bipush (v := nI 127) hx hb dX1_badPoint_5 (by decide) ?_
    refine lv_icmp_gt (tgt := 17) hx hb dX1_badPoint_7 (by decide) (fun c2 => ?_) (fun c2 => ?_)
    · refine lv_iconst (v := nI 1) hx hb dX1_badPoint_17 (by decide) ?_
      refine lv_goto (tgt := 22) hx hb dX1_badPoint_18 (by decide) ?_
      exact W.zret (v := (nI 1)) hx hb hr (by decide) (fun t ht hW => ⟨_, rfl, zy_y zt_0 (zc_big (N := 127) (by omega) (fun v h => by have := h.1; omega) c2), ht⟩) (fun _ h9 => by cases h9) dX1_badPoint_22
    · obtain ⟨v, hv, rfl⟩ := zc_in (by omega) c1 c2
      refine lv_iload_n hx hb dX1_badPoint_10 rfl (lv_at hl 0 rfl) ?_
      refine lv_iconst (v := nI 4) hx hb dX1_badPoint_11 (by decide) ?_
      refine lv_irem hx hb dX1_badPoint_12 (by decide) ?_
      refine zx_top (y := nI (v % 4)) (pk_rem (by omega) (by omega) (by omega)) ?_
      refine lv_iconst (v := nI 3) hx hb dX1_badPoint_13 (by decide) ?_
      refine lv_icmp_ne (tgt := 21) hx hb dX1_badPoint_14 (by decide) (fun c3 => ?_) (fun c3 => ?_)
      · have c3 : ¬ v % 4 = 3 := fun q => c3 ((nI_eq (by omega) (by omega)).mpr q)
        refine lv_iconst (v := nI 0) hx hb dX1_badPoint_21 (by decide) ?_
        exact W.zret (v := (nI 0)) hx hb hr (by decide) (fun t ht hW => ⟨_, rfl, zy_n nI_0 ⟨v, ⟨by omega, c3⟩, rfl⟩, ht⟩) (fun _ h9 => by cases h9) dX1_badPoint_22
      · have c3 : v % 4 = 3 := (nI_eq (by omega) (by omega)).mp c3
        refine lv_iconst (v := nI 1) hx hb dX1_badPoint_17 (by decide) ?_
        refine lv_goto (tgt := 22) hx hb dX1_badPoint_18 (by decide) ?_
        exact W.zret (v := (nI 1)) hx hb hr (by decide) (fun t ht hW => ⟨_, rfl, zy_y zt_0 (fun c hc e => by have h1 := zn_inj (by omega) (by have := hc.1; omega) e; have h2 := hc.2; omega), ht⟩) (fun _ h9 => by cases h9) dX1_badPoint_22
set_option maxHeartbeats 4000000 in
set_option maxRecDepth 100000 in
/-- surrounds(a, b, c, d) -/
theorem cM_surrounds (l : Launch) (a b c0 d0 : Nat) (ha : a < 128) (hb0 : b < 128) (hc : c0 < 128) (hd : d0 < 128) : Met l yX1_surrounds (ws_ yX1_surrounds cX1_surrounds 4 (some .boolean)) ({ frames := 0, cells := 0, slots := 0, locals := 0 }) (va_Pc [.int (nI a), .int (nI b), .int (nI c0), .int (nI d0)] (fun _ => True)) (vp_Si (fun r => (¬ r = 0 → a / 4 < c0 / 4 ∧ d0 / 4 < b / 4) ∧ (r = 0 → ¬ (a / 4 < c0 / 4 ∧ d0 / 4 < b / 4)))) 0 0 (fun _ => False) := by
  refine Met.ofW (cc := cX1_surrounds) (maxL := 4) (ret := (some .boolean)) (by decide) rfl ?_
  intro p e s m args below meth c s₁ B hml hv
  obtain ⟨rfl, -⟩ := hv
  have hx := B.exec
  have hb := B.bytes
  have hr := B.returns
  have hts := atoms_spec (ws := ws_ yX1_surrounds cX1_surrounds 4 (some .boolean)) B.pre
  have hts : ∀ w ∈ lw_all, w.before _ s = true := fun w h => hts w (List.mem_cons_of_mem _ h)
  have hown : s.vm.findClass RX1 = some m.cls := findClass_of_methodNamed B.named
  have hlocks := B.notSynchronized
  have hl := lv_entry ([.int (nI a), .int (nI b), .int (nI c0), .int (nI d0)]) (n := 4) (Nat.le_of_ble_eq_true rfl)
  rw [lg_entry_eq]
  generalize (lg_sl ([.int (nI a), .int (nI b), .int (nI c0), .int (nI d0)]) ++ List.replicate (4 - (lg_sl ([.int (nI a), .int (nI b), .int (nI c0), .int (nI d0)])).length) Slot.unset).toArray = ls at hl ⊢
  have hl : lv_has ls 4 [(0, .int (nI a)), (1, .int (nI b)), (2, .int (nI c0)), (3, .int (nI d0))] := hl
  refine lv_iload_n hx hb dX1_surrounds_0 rfl (lv_at hl 0 rfl) ?_
  refine lv_iconst (v := nI 4) hx hb dX1_surrounds_1 (by decide) ?_
  refine lv_idiv hx hb dX1_surrounds_2 (by decide) ?_
  refine zx_top (y := nI (a / 4)) (pk_div (by omega) (by omega) (by omega)) ?_
  refine lv_iload_n hx hb dX1_surrounds_3 rfl (lv_at hl 2 rfl) ?_
  refine lv_iconst (v := nI 4) hx hb dX1_surrounds_4 (by decide) ?_
  refine lv_idiv hx hb dX1_surrounds_5 (by decide) ?_
  refine zx_top (y := nI (c0 / 4)) (pk_div (by omega) (by omega) (by omega)) ?_
  refine lv_icmp_ge (tgt := 22) hx hb dX1_surrounds_6 (by decide) (fun c1 => ?_) (fun c1 => ?_)
  · have c1 : c0 / 4 ≤ a / 4 := (nI_leI (by omega) (by omega)).mp c1
    refine lv_iconst (v := nI 0) hx hb dX1_surrounds_22 (by decide) ?_
    exact W.zret (v := (nI 0)) hx hb hr (by decide) (fun t ht hW => ⟨_, rfl, zy_n nI_0 (by omega), ht⟩) (fun _ h9 => by cases h9) dX1_surrounds_23
  · have c1 : ¬ c0 / 4 ≤ a / 4 := fun q => c1 ((nI_leI (by omega) (by omega)).mpr q)
    refine lv_iload_n hx hb dX1_surrounds_9 rfl (lv_at hl 1 rfl) ?_
    refine lv_iconst (v := nI 4) hx hb dX1_surrounds_10 (by decide) ?_
    refine lv_idiv hx hb dX1_surrounds_11 (by decide) ?_
    refine zx_top (y := nI (b / 4)) (pk_div (by omega) (by omega) (by omega)) ?_
    refine lv_iload_n hx hb dX1_surrounds_12 rfl (lv_at hl 3 rfl) ?_
    refine lv_iconst (v := nI 4) hx hb dX1_surrounds_13 (by decide) ?_
    refine lv_idiv hx hb dX1_surrounds_14 (by decide) ?_
    refine zx_top (y := nI (d0 / 4)) (pk_div (by omega) (by omega) (by omega)) ?_
    refine lv_icmp_le (tgt := 22) hx hb dX1_surrounds_15 (by decide) (fun c2 => ?_) (fun c2 => ?_)
    · have c2 : b / 4 ≤ d0 / 4 := (nI_leI (by omega) (by omega)).mp c2
      refine lv_iconst (v := nI 0) hx hb dX1_surrounds_22 (by decide) ?_
      exact W.zret (v := (nI 0)) hx hb hr (by decide) (fun t ht hW => ⟨_, rfl, zy_n nI_0 (by omega), ht⟩) (fun _ h9 => by cases h9) dX1_surrounds_23
    · have c2 : ¬ b / 4 ≤ d0 / 4 := fun q => c2 ((nI_leI (by omega) (by omega)).mpr q)
      refine lv_iconst (v := nI 1) hx hb dX1_surrounds_18 (by decide) ?_
      refine lv_goto (tgt := 23) hx hb dX1_surrounds_19 (by decide) ?_
      exact W.zret (v := (nI 1)) hx hb hr (by decide) (fun t ht hW => ⟨_, rfl, zy_y zt_0 (by omega), ht⟩) (fun _ h9 => by cases h9) dX1_surrounds_23
set_option maxHeartbeats 4000000 in
set_option maxRecDepth 100000 in
/-- held(v, y, z) -/
theorem cM_held (l : Launch) (D : va_G) (dA dZ : ClassId) (ad : Nat → Nat) (gS gW gF gO gJ : Nat → Int32) (nv : Int32) (n : Nat) (vw vs vt st : Nat → Nat) (v : Nat) (y z : Int32) (hM : zr_M n vw vs vt st gS gW gF gO nv) (hv : v < 8) : Met l yX1_held (ws_ yX1_held cX1_held 5 (some .boolean)) ({ frames := 0, cells := 0, slots := 0, locals := 0 }) (va_Pc [.ref (ad 0), .int (nI v), .int y, .int z] (zx_R D [(dA, .int), (dZ, .boolean)] (mW dA dZ ad gS gW gF gO gJ nv))) (vp_Si (fun r => r = if zv_held n vw vs vt v y z = true then 1 else 0)) 0 0 (fun _ => False) := by
  refine Met.ofW (cc := cX1_held) (maxL := 5) (ret := (some .boolean)) (by decide) rfl ?_
  intro p e s m args below meth c s₁ B hml hv
  obtain ⟨rfl, hP, hK⟩ := hv
  have hx := B.exec
  have hb := B.bytes
  have hr := B.returns
  have hts := atoms_spec (ws := ws_ yX1_held cX1_held 5 (some .boolean)) B.pre
  have hts : ∀ w ∈ lw_all, w.before _ s = true := fun w h => hts w (List.mem_cons_of_mem _ h)
  have hown : s.vm.findClass RX1 = some m.cls := findClass_of_methodNamed B.named
  have hlocks := B.notSynchronized
  have hl := lv_entry ([.ref (ad 0), .int (nI v), .int y, .int z]) (n := 5) (Nat.le_of_ble_eq_true rfl)
  rw [lg_entry_eq]
  generalize (lg_sl ([.ref (ad 0), .int (nI v), .int y, .int z]) ++ List.replicate (5 - (lg_sl ([.ref (ad 0), .int (nI v), .int y, .int z])).length) Slot.unset).toArray = ls at hl ⊢
  have hl : lv_has ls 5 [(0, .ref (ad 0)), (1, .int (nI v)), (2, .int y), (3, .int z)] := hl
  obtain ⟨hG, hst, rfl, hA0⟩ := id hM
  have hn64 := hG.1
  refine lv_iconst (v := nI 0) hx hb dX1_held_0 (by decide) ?_
  refine lv_istore (lv' := [(4, .int (nI 0)), (0, .ref (ad 0)), (1, .int (nI v)), (2, .int y), (3, .int z)]) hx hb dX1_held_1 hl (by decide) rfl (fun ls hl => ?_)
  refine zx_r1 (α := Nat) (mu := fun i => n - i) (I := fun i ls => (i ≤ n ∧ ∀ j, j < i → ¬ zv_hd vw vs vt v y z j = true) ∧ lv_has ls 5 [(0, .ref (ad 0)), (1, .int (nI v)), (2, .int y), (3, .int z), (4, .int (nI i))]) ?_ 0 ⟨⟨Nat.zero_le _, fun j hj => absurd hj (Nat.not_lt_zero _)⟩, lv_sub hl [1, 2, 3, 4, 0] rfl⟩
  intro i ls hI ih
  obtain ⟨⟨hi, hno⟩, hl⟩ := hI
  refine lv_iload hx hb dX1_held_3 (lv_at hl 4 rfl) ?_
  refine lv_aload_n hx hb dX1_held_5 rfl (lv_at hl 0 rfl) ?_
  refine va_get (D := D) (ci := 1) (v := .int (nI n)) (C := RX1) (T := TX1) (N := 6) hx hb hts in_X1 hown hK hP 0 rfl rfl 1 (by decide) (hts _ q145) (fun _ h9 => h9) rfl dX1_held_6 ?_
  refine lv_icmp_ge (tgt := 53) hx hb dX1_held_9 (by decide) (fun c1 => ?_) (fun c1 => ?_)
  · have c1 : n ≤ i := (nI_leI (by omega) (by omega)).mp c1
    have h9 : n = i := by omega
    refine lv_iconst (v := nI 0) hx hb dX1_held_53 (by decide) ?_
    exact W.zret (v := (nI 0)) hx hb hr (by decide) (fun t ht hW => ⟨_, rfl, by subst h9; rw [show zv_held n vw vs vt v y z = false from zv_any_no hno]; rfl, ht⟩) (fun _ h9 => by cases h9) dX1_held_54
  · have c1 : ¬ n ≤ i := fun q => c1 ((nI_leI (by omega) (by omega)).mpr q)
    obtain ⟨f1, f2, f3⟩ := hA0 i (by omega)
    obtain ⟨b1, b2, b3, b4⟩ := hG.2.1 i (by omega)
    refine lv_aload_n hx hb dX1_held_12 rfl (lv_at hl 0 rfl) ?_
    refine va_get (D := D) (ci := 1) (v := .ref (ad 2)) (C := RX1) (T := TX1) (N := 6) hx hb hts in_X1 hown hK hP 0 rfl rfl 2 (by decide) (hts _ q146) (fun _ h9 => h9) rfl dX1_held_13 ?_
    refine lv_iload hx hb dX1_held_16 (lv_at hl 4 rfl) ?_
    refine zx_iald hx hb hK hP 2 0 rfl rfl (j := i) rfl (by omega) (by decide) dX1_held_18 ?_
    refine zx_top (y := nI (vw i)) (f1) ?_
    refine lv_iload_n hx hb dX1_held_19 rfl (lv_at hl 1 rfl) ?_
    refine lv_icmp_ne (tgt := 47) hx hb dX1_held_20 (by decide) (fun c2 => ?_) (fun c2 => ?_)
    · have c2 : ¬ vw i = v := fun q => c2 ((nI_eq (by omega) (by omega)).mpr q)
      refine lv_iinc (v := nI (i + 1)) (lv' := [(4, .int (nI (i + 1))), (0, .ref (ad 0)), (1, .int (nI v)), (2, .int y), (3, .int z)]) hx hb dX1_held_47 hl (k := 4) rfl (nI_1 _) (by decide) rfl (fun ls hl => ?_)
      refine lv_goto (tgt := 3) hx hb dX1_held_50 (by decide) ?_
      exact ih (i + 1) ls (by omega) ⟨⟨by omega, lt_s hno (zq_hd (fun h => c2 h.1))⟩, lv_sub hl [1, 2, 3, 4, 0] rfl⟩
    · have c2 : vw i = v := (nI_eq (by omega) (by omega)).mp c2
      refine lv_aload_n hx hb dX1_held_23 rfl (lv_at hl 0 rfl) ?_
      refine va_get (D := D) (ci := 1) (v := .ref (ad 3)) (C := RX1) (T := TX1) (N := 6) hx hb hts in_X1 hown hK hP 0 rfl rfl 3 (by decide) (hts _ q147) (fun _ h9 => h9) rfl dX1_held_24 ?_
      refine lv_iload hx hb dX1_held_27 (lv_at hl 4 rfl) ?_
      refine zx_iald hx hb hK hP 3 0 rfl rfl (j := i) rfl (by omega) (by decide) dX1_held_29 ?_
      refine zx_top (y := nI (vs i)) (f2) ?_
      refine lv_iload_n hx hb dX1_held_30 rfl (lv_at hl 2 rfl) ?_
      refine lv_icmp_ne (tgt := 47) hx hb dX1_held_31 (by decide) (fun c3 => ?_) (fun c3 => ?_)
      · refine lv_iinc (v := nI (i + 1)) (lv' := [(4, .int (nI (i + 1))), (0, .ref (ad 0)), (1, .int (nI v)), (2, .int y), (3, .int z)]) hx hb dX1_held_47 hl (k := 4) rfl (nI_1 _) (by decide) rfl (fun ls hl => ?_)
        refine lv_goto (tgt := 3) hx hb dX1_held_50 (by decide) ?_
        exact ih (i + 1) ls (by omega) ⟨⟨by omega, lt_s hno (zq_hd (fun h => c3 h.2.1))⟩, lv_sub hl [1, 2, 3, 4, 0] rfl⟩
      · refine lv_aload_n hx hb dX1_held_34 rfl (lv_at hl 0 rfl) ?_
        refine va_get (D := D) (ci := 1) (v := .ref (ad 4)) (C := RX1) (T := TX1) (N := 6) hx hb hts in_X1 hown hK hP 0 rfl rfl 4 (by decide) (hts _ q148) (fun _ h9 => h9) rfl dX1_held_35 ?_
        refine lv_iload hx hb dX1_held_38 (lv_at hl 4 rfl) ?_
        refine zx_iald hx hb hK hP 4 0 rfl rfl (j := i) rfl (by omega) (by decide) dX1_held_40 ?_
        refine zx_top (y := nI (vt i)) (f3) ?_
        refine lv_iload_n hx hb dX1_held_41 rfl (lv_at hl 3 rfl) ?_
        refine lv_icmp_ne (tgt := 47) hx hb dX1_held_42 (by decide) (fun c4 => ?_) (fun c4 => ?_)
        · refine lv_iinc (v := nI (i + 1)) (lv' := [(4, .int (nI (i + 1))), (0, .ref (ad 0)), (1, .int (nI v)), (2, .int y), (3, .int z)]) hx hb dX1_held_47 hl (k := 4) rfl (nI_1 _) (by decide) rfl (fun ls hl => ?_)
          refine lv_goto (tgt := 3) hx hb dX1_held_50 (by decide) ?_
          exact ih (i + 1) ls (by omega) ⟨⟨by omega, lt_s hno (zq_hd (fun h => c4 h.2.2))⟩, lv_sub hl [1, 2, 3, 4, 0] rfl⟩
        · refine lv_iconst (v := nI 1) hx hb dX1_held_45 (by decide) ?_
          exact W.zret (v := (nI 1)) hx hb hr (by decide) (fun t ht hW => ⟨_, rfl, by rw [show zv_held n vw vs vt v y z = true from zv_any_yes (show i < n by omega) (decide_eq_true ⟨c2, c3, c4⟩)]; rfl, ht⟩) (fun _ h9 => by cases h9) dX1_held_46
set_option maxHeartbeats 4000000 in
set_option maxRecDepth 100000 in
/-- offender(x) -/
theorem cM_offender (l : Launch) (D : va_G) (dA dZ : ClassId) (ad : Nat → Nat) (gS gW gF gO gJ : Nat → Int32) (nv : Int32) (n : Nat) (vw vs vt st : Nat → Nat) (x : Int32) (hM : zr_M n vw vs vt st gS gW gF gO nv) : Met l yX1_offender (ws_ yX1_offender cX1_offender 5 (some .int)) ({ frames := 1, cells := 0, slots := 0, locals := 23 }) (va_Pc [.ref (ad 0), .int x] (zx_R D [(dA, .int), (dZ, .boolean)] (mW dA dZ ad gS gW gF gO gJ nv))) (vp_Si (zp_off n vw vs vt x)) 0 0 (fun _ => False) := by
  refine Met.ofW (cc := cX1_offender) (maxL := 5) (ret := (some .int)) (by decide) rfl ?_
  intro p e s m args below meth c s₁ B hml hv
  obtain ⟨rfl, hP, hK⟩ := hv
  have hx := B.exec
  have hb := B.bytes
  have hr := B.returns
  have hts := atoms_spec (ws := ws_ yX1_offender cX1_offender 5 (some .int)) B.pre
  have hts : ∀ w ∈ lw_all, w.before _ s = true := fun w h => hts w (List.mem_cons_of_mem _ h)
  have hown : s.vm.findClass RX1 = some m.cls := findClass_of_methodNamed B.named
  have hlocks := B.notSynchronized
  have hl := lv_entry ([.ref (ad 0), .int x]) (n := 5) (Nat.le_of_ble_eq_true rfl)
  rw [lg_entry_eq]
  generalize (lg_sl ([.ref (ad 0), .int x]) ++ List.replicate (5 - (lg_sl ([.ref (ad 0), .int x])).length) Slot.unset).toArray = ls at hl ⊢
  have hl : lv_has ls 5 [(0, .ref (ad 0)), (1, .int x)] := hl
  obtain ⟨hG, hst, rfl, hA0⟩ := id hM
  have hn64 := hG.1
  refine lv_iload_n hx hb dX1_offender_0 rfl (lv_at hl 1 rfl) ?_
  refine vp_callSi (W.runS (As := [.int x]) (rest := []) ⟨hx, hb, hml, hown, hts⟩ (cM_bad l x) (va_cwS 1 hts (lw_S q167 q168 q13 q169) rfl rfl rfl (by decide +kernel) ⟨Nat.le_of_ble_eq_true rfl, Nat.le_of_ble_eq_true rfl⟩) (zx_pS _) rfl rfl hl.1 rfl (lv_room (Nat.le_of_ble_eq_true rfl)) dX1_offender_1 ⟨Nat.le_of_ble_eq_true rfl, Nat.le_of_ble_eq_true rfl⟩) (fun r1 hr1 => ?_)
  refine lv_if_eq (tgt := 9) hx hb dX1_offender_4 (by decide) (fun c1 => ?_) (fun c1 => ?_)
  · obtain ⟨v, hv, rfl⟩ := hr1.2 c1
    refine lv_iconst (v := nI 0) hx hb dX1_offender_9 (by decide) ?_
    refine lv_istore_n (lv' := [(2, .int (nI 0)), (0, .ref (ad 0)), (1, .int (nI v))]) hx hb dX1_offender_10 rfl hl (by decide) rfl (fun ls hl => ?_)
    refine zx_r1 (α := Nat) (mu := fun i => n - i) (I := fun i ls => (i ≤ n ∧ ∀ j, j < i → ∀ j2, j2 < n → ¬ zv_off vw vs vt v j j2 = true) ∧ lv_has ls 5 [(0, .ref (ad 0)), (1, .int (nI v)), (2, .int (nI i))]) ?_ 0 ⟨⟨Nat.zero_le _, fun j hj => absurd hj (Nat.not_lt_zero _)⟩, lv_sub hl [1, 2, 0] rfl⟩
    intro i ls hI ih
    obtain ⟨⟨hi, hno⟩, hl⟩ := hI
    refine lv_iload_n hx hb dX1_offender_11 rfl (lv_at hl 2 rfl) ?_
    refine lv_aload_n hx hb dX1_offender_12 rfl (lv_at hl 0 rfl) ?_
    refine va_get (D := D) (ci := 1) (v := .int (nI n)) (C := RX1) (T := TX1) (N := 6) hx hb hts in_X1 hown hK hP 0 rfl rfl 1 (by decide) (hts _ q145) (fun _ h9 => h9) rfl dX1_offender_13 ?_
    refine lv_icmp_ge (tgt := 129) hx hb dX1_offender_16 (by decide) (fun c2 => ?_) (fun c2 => ?_)
    · have c2 : n ≤ i := (nI_leI (by omega) (by omega)).mp c2
      have h9 : n = i := by omega
      refine lv_iconst (v := nI 0) hx hb dX1_offender_129 (by decide) ?_
      exact W.iret (v := (nI 0)) hx hb hr (fun t ht hW => ⟨_, rfl, zo_y (f := fun v => if zv_offs n vw vs vt v = true then 1 else 0) (fun u hu => by omega) hv (by subst h9; show nI 0 = if zv_offs n vw vs vt v = true then 1 else 0; rw [if_neg (zq_ofs hno)]; rfl), ht⟩) (fun _ h9 => by cases h9) dX1_offender_130
    · have c2 : ¬ n ≤ i := fun q => c2 ((nI_leI (by omega) (by omega)).mpr q)
      obtain ⟨f1, f2, f3⟩ := hA0 i (by omega)
      obtain ⟨b1, b2, b3, b4⟩ := hG.2.1 i (by omega)
      refine lv_iconst (v := nI 0) hx hb dX1_offender_19 (by decide) ?_
      refine lv_istore_n (lv' := [(3, .int (nI 0)), (0, .ref (ad 0)), (1, .int (nI v)), (2, .int (nI i))]) hx hb dX1_offender_20 rfl hl (by decide) rfl (fun ls hl => ?_)
      refine zx_r1 (α := Nat) (mu := fun j => n - j) (I := fun j ls => (j ≤ n ∧ ∀ j2, j2 < j → ¬ zv_off vw vs vt v i j2 = true) ∧ lv_has ls 5 [(0, .ref (ad 0)), (1, .int (nI v)), (2, .int (nI i)), (3, .int (nI j))]) ?_ 0 ⟨⟨Nat.zero_le _, fun j hj => absurd hj (Nat.not_lt_zero _)⟩, lv_sub hl [1, 2, 3, 0] rfl⟩
      intro j ls hI ih2
      obtain ⟨⟨hj, hnj⟩, hl⟩ := hI
      refine lv_iload_n hx hb dX1_offender_21 rfl (lv_at hl 3 rfl) ?_
      refine lv_aload_n hx hb dX1_offender_22 rfl (lv_at hl 0 rfl) ?_
      refine va_get (D := D) (ci := 1) (v := .int (nI n)) (C := RX1) (T := TX1) (N := 6) hx hb hts in_X1 hown hK hP 0 rfl rfl 1 (by decide) (hts _ q145) (fun _ h9 => h9) rfl dX1_offender_23 ?_
      refine lv_icmp_ge (tgt := 123) hx hb dX1_offender_26 (by decide) (fun c3 => ?_) (fun c3 => ?_)
      · have c3 : n ≤ j := (nI_leI (by omega) (by omega)).mp c3
        have h9 : n = j := by omega
        refine lv_iinc (v := nI (i + 1)) (lv' := [(2, .int (nI (i + 1))), (0, .ref (ad 0)), (1, .int (nI v)), (3, .int (nI j))]) hx hb dX1_offender_123 hl (k := 2) rfl (nI_1 _) (by decide) rfl (fun ls hl => ?_)
        refine lv_goto (tgt := 11) hx hb dX1_offender_126 (by decide) ?_
        exact ih (i + 1) ls (by omega) ⟨⟨by omega, lt_s hno (by subst h9; exact hnj)⟩, lv_sub hl [1, 2, 0] rfl⟩
      · have c3 : ¬ n ≤ j := fun q => c3 ((nI_leI (by omega) (by omega)).mpr q)
        obtain ⟨g1, g2, g3⟩ := hA0 j (by omega)
        obtain ⟨d1, d2, d3, d4⟩ := hG.2.1 j (by omega)
        refine lv_iload_n hx hb dX1_offender_29 rfl (lv_at hl 2 rfl) ?_
        refine lv_iload_n hx hb dX1_offender_30 rfl (lv_at hl 3 rfl) ?_
        refine lv_icmp_eq (tgt := 58) hx hb dX1_offender_31 (by decide) (fun c4 => ?_) (fun c4 => ?_)
        · have c4 : i = j := (nI_eq (by omega) (by omega)).mp c4
          refine lv_iconst (v := nI 0) hx hb dX1_offender_58 (by decide) ?_
          refine lv_istore (lv' := [(4, .int (nI 0)), (0, .ref (ad 0)), (1, .int (nI v)), (2, .int (nI i)), (3, .int (nI j))]) hx hb dX1_offender_59 hl (by decide) rfl (fun ls hl => ?_)
          refine lv_iload hx hb dX1_offender_61 (lv_at hl 0 rfl) ?_
          refine lv_if_eq (tgt := 117) hx hb dX1_offender_63 (by decide) (fun c9 => ?_) (fun c9 => ?_)
          · refine lv_iinc (v := nI (j + 1)) (lv' := [(3, .int (nI (j + 1))), (4, .int (nI 0)), (0, .ref (ad 0)), (1, .int (nI v)), (2, .int (nI i))]) hx hb dX1_offender_117 hl (k := 4) rfl (nI_1 _) (by decide) rfl (fun ls hl => ?_)
            refine lv_goto (tgt := 21) hx hb dX1_offender_120 (by decide) ?_
            exact ih2 (j + 1) ls (by omega) ⟨⟨by omega, lt_s hnj (zq_of (fun h => h.1 c4))⟩, lv_sub hl [2, 3, 4, 0] rfl⟩
          · exact absurd nI_0 c9
        · have c4 : ¬ i = j := fun q => c4 ((nI_eq (by omega) (by omega)).mpr q)
          refine lv_aload_n hx hb dX1_offender_34 rfl (lv_at hl 0 rfl) ?_
          refine va_get (D := D) (ci := 1) (v := .ref (ad 2)) (C := RX1) (T := TX1) (N := 6) hx hb hts in_X1 hown hK hP 0 rfl rfl 2 (by decide) (hts _ q146) (fun _ h9 => h9) rfl dX1_offender_35 ?_
          refine lv_iload_n hx hb dX1_offender_38 rfl (lv_at hl 2 rfl) ?_
          refine zx_iald hx hb hK hP 2 0 rfl rfl (j := i) rfl (by omega) (by decide) dX1_offender_39 ?_
          refine zx_top (y := nI (vw i)) (f1) ?_
          refine lv_iload_n hx hb dX1_offender_40 rfl (lv_at hl 1 rfl) ?_
          refine lv_icmp_ne (tgt := 58) hx hb dX1_offender_41 (by decide) (fun c5 => ?_) (fun c5 => ?_)
          · have c5 : ¬ vw i = v := fun q => c5 ((nI_eq (by omega) (by omega)).mpr q)
            refine lv_iconst (v := nI 0) hx hb dX1_offender_58 (by decide) ?_
            refine lv_istore (lv' := [(4, .int (nI 0)), (0, .ref (ad 0)), (1, .int (nI v)), (2, .int (nI i)), (3, .int (nI j))]) hx hb dX1_offender_59 hl (by decide) rfl (fun ls hl => ?_)
            refine lv_iload hx hb dX1_offender_61 (lv_at hl 0 rfl) ?_
            refine lv_if_eq (tgt := 117) hx hb dX1_offender_63 (by decide) (fun c9 => ?_) (fun c9 => ?_)
            · refine lv_iinc (v := nI (j + 1)) (lv' := [(3, .int (nI (j + 1))), (4, .int (nI 0)), (0, .ref (ad 0)), (1, .int (nI v)), (2, .int (nI i))]) hx hb dX1_offender_117 hl (k := 4) rfl (nI_1 _) (by decide) rfl (fun ls hl => ?_)
              refine lv_goto (tgt := 21) hx hb dX1_offender_120 (by decide) ?_
              exact ih2 (j + 1) ls (by omega) ⟨⟨by omega, lt_s hnj (zq_of (fun h => c5 h.2.1))⟩, lv_sub hl [2, 3, 4, 0] rfl⟩
            · exact absurd nI_0 c9
          · have c5 : vw i = v := (nI_eq (by omega) (by omega)).mp c5
            refine lv_aload_n hx hb dX1_offender_44 rfl (lv_at hl 0 rfl) ?_
            refine va_get (D := D) (ci := 1) (v := .ref (ad 2)) (C := RX1) (T := TX1) (N := 6) hx hb hts in_X1 hown hK hP 0 rfl rfl 2 (by decide) (hts _ q146) (fun _ h9 => h9) rfl dX1_offender_45 ?_
            refine lv_iload_n hx hb dX1_offender_48 rfl (lv_at hl 3 rfl) ?_
            refine zx_iald hx hb hK hP 2 0 rfl rfl (j := j) rfl (by omega) (by decide) dX1_offender_49 ?_
            refine zx_top (y := nI (vw j)) (g1) ?_
            refine lv_iload_n hx hb dX1_offender_50 rfl (lv_at hl 1 rfl) ?_
            refine lv_icmp_ne (tgt := 58) hx hb dX1_offender_51 (by decide) (fun c6 => ?_) (fun c6 => ?_)
            · have c6 : ¬ vw j = v := fun q => c6 ((nI_eq (by omega) (by omega)).mpr q)
              refine lv_iconst (v := nI 0) hx hb dX1_offender_58 (by decide) ?_
              refine lv_istore (lv' := [(4, .int (nI 0)), (0, .ref (ad 0)), (1, .int (nI v)), (2, .int (nI i)), (3, .int (nI j))]) hx hb dX1_offender_59 hl (by decide) rfl (fun ls hl => ?_)
              refine lv_iload hx hb dX1_offender_61 (lv_at hl 0 rfl) ?_
              refine lv_if_eq (tgt := 117) hx hb dX1_offender_63 (by decide) (fun c9 => ?_) (fun c9 => ?_)
              · refine lv_iinc (v := nI (j + 1)) (lv' := [(3, .int (nI (j + 1))), (4, .int (nI 0)), (0, .ref (ad 0)), (1, .int (nI v)), (2, .int (nI i))]) hx hb dX1_offender_117 hl (k := 4) rfl (nI_1 _) (by decide) rfl (fun ls hl => ?_)
                refine lv_goto (tgt := 21) hx hb dX1_offender_120 (by decide) ?_
                exact ih2 (j + 1) ls (by omega) ⟨⟨by omega, lt_s hnj (zq_of (fun h => c6 h.2.2.1))⟩, lv_sub hl [2, 3, 4, 0] rfl⟩
              · exact absurd nI_0 c9
            · have c6 : vw j = v := (nI_eq (by omega) (by omega)).mp c6
              refine lv_iconst (v := nI 1) hx hb dX1_offender_54 (by decide) ?_
              refine lv_goto (tgt := 59) hx hb dX1_offender_55 (by decide) ?_
              refine lv_istore (lv' := [(4, .int (nI 1)), (0, .ref (ad 0)), (1, .int (nI v)), (2, .int (nI i)), (3, .int (nI j))]) hx hb dX1_offender_59 hl (by decide) rfl (fun ls hl => ?_)
              refine lv_iload hx hb dX1_offender_61 (lv_at hl 0 rfl) ?_
              refine lv_if_eq (tgt := 117) hx hb dX1_offender_63 (by decide) (fun c9 => ?_) (fun c9 => ?_)
              · exact absurd c9 zt_0
              · refine lv_aload_n hx hb dX1_offender_66 rfl (lv_at hl 1 rfl) ?_
                refine va_get (D := D) (ci := 1) (v := .ref (ad 4)) (C := RX1) (T := TX1) (N := 6) hx hb hts in_X1 hown hK hP 0 rfl rfl 4 (by decide) (hts _ q148) (fun _ h9 => h9) rfl dX1_offender_67 ?_
                refine lv_iload_n hx hb dX1_offender_70 rfl (lv_at hl 3 rfl) ?_
                refine zx_iald hx hb hK hP 4 0 rfl rfl (j := i) rfl (by omega) (by decide) dX1_offender_71 ?_
                refine zx_top (y := nI (vt i)) (f3) ?_
                refine lv_iconst (v := nI 4) hx hb dX1_offender_72 (by decide) ?_
                refine lv_idiv hx hb dX1_offender_73 (by decide) ?_
                refine zx_top (y := nI ((vt i) / 4)) (pk_div (by omega) (by omega) (by omega)) ?_
                refine lv_aload_n hx hb dX1_offender_74 rfl (lv_at hl 1 rfl) ?_
                refine va_get (D := D) (ci := 1) (v := .ref (ad 4)) (C := RX1) (T := TX1) (N := 6) hx hb hts in_X1 hown hK hP 0 rfl rfl 4 (by decide) (hts _ q148) (fun _ h9 => h9) rfl dX1_offender_75 ?_
                refine lv_iload_n hx hb dX1_offender_78 rfl (lv_at hl 4 rfl) ?_
                refine zx_iald hx hb hK hP 4 0 rfl rfl (j := j) rfl (by omega) (by decide) dX1_offender_79 ?_
                refine zx_top (y := nI (vt j)) (g3) ?_
                refine lv_iconst (v := nI 4) hx hb dX1_offender_80 (by decide) ?_
                refine lv_idiv hx hb dX1_offender_81 (by decide) ?_
                refine zx_top (y := nI ((vt j) / 4)) (pk_div (by omega) (by omega) (by omega)) ?_
                refine lv_icmp_eq (tgt := 115) hx hb dX1_offender_82 (by decide) (fun c7 => ?_) (fun c7 => ?_)
                · have c7 : (vt i) / 4 = (vt j) / 4 := (nI_eq (by omega) (by omega)).mp c7
                  refine lv_iconst (v := nI 1) hx hb dX1_offender_115 (by decide) ?_
                  exact W.iret (v := (nI 1)) hx hb hr (fun t ht hW => ⟨_, rfl, zo_y (f := fun v => if zv_offs n vw vs vt v = true then 1 else 0) (fun u hu => by omega) hv (by show nI 1 = if zv_offs n vw vs vt v = true then 1 else 0; rw [if_pos (zq_ofy (i := i) (j := j) (by omega) (by omega) ⟨c4, c5, c6, Or.inl c7⟩)]; rfl), ht⟩) (fun _ h9 => by cases h9) dX1_offender_116
                · have c7 : ¬ (vt i) / 4 = (vt j) / 4 := fun q => c7 ((nI_eq (by omega) (by omega)).mpr q)
                  refine lv_aload_n hx hb dX1_offender_85 rfl (lv_at hl 1 rfl) ?_
                  refine va_get (D := D) (ci := 1) (v := .ref (ad 3)) (C := RX1) (T := TX1) (N := 6) hx hb hts in_X1 hown hK hP 0 rfl rfl 3 (by decide) (hts _ q147) (fun _ h9 => h9) rfl dX1_offender_86 ?_
                  refine lv_iload_n hx hb dX1_offender_89 rfl (lv_at hl 3 rfl) ?_
                  refine zx_iald hx hb hK hP 3 0 rfl rfl (j := i) rfl (by omega) (by decide) dX1_offender_90 ?_
                  refine zx_top (y := nI (vs i)) (f2) ?_
                  refine lv_aload_n hx hb dX1_offender_91 rfl (lv_at hl 1 rfl) ?_
                  refine va_get (D := D) (ci := 1) (v := .ref (ad 4)) (C := RX1) (T := TX1) (N := 6) hx hb hts in_X1 hown hK hP 0 rfl rfl 4 (by decide) (hts _ q148) (fun _ h9 => h9) rfl dX1_offender_92 ?_
                  refine lv_iload_n hx hb dX1_offender_95 rfl (lv_at hl 3 rfl) ?_
                  refine zx_iald hx hb hK hP 4 0 rfl rfl (j := i) rfl (by omega) (by decide) dX1_offender_96 ?_
                  refine zx_top (y := nI (vt i)) (f3) ?_
                  refine lv_aload_n hx hb dX1_offender_97 rfl (lv_at hl 1 rfl) ?_
                  refine va_get (D := D) (ci := 1) (v := .ref (ad 3)) (C := RX1) (T := TX1) (N := 6) hx hb hts in_X1 hown hK hP 0 rfl rfl 3 (by decide) (hts _ q147) (fun _ h9 => h9) rfl dX1_offender_98 ?_
                  refine lv_iload_n hx hb dX1_offender_101 rfl (lv_at hl 4 rfl) ?_
                  refine zx_iald hx hb hK hP 3 0 rfl rfl (j := j) rfl (by omega) (by decide) dX1_offender_102 ?_
                  refine zx_top (y := nI (vs j)) (g2) ?_
                  refine lv_aload_n hx hb dX1_offender_103 rfl (lv_at hl 1 rfl) ?_
                  refine va_get (D := D) (ci := 1) (v := .ref (ad 4)) (C := RX1) (T := TX1) (N := 6) hx hb hts in_X1 hown hK hP 0 rfl rfl 4 (by decide) (hts _ q148) (fun _ h9 => h9) rfl dX1_offender_104 ?_
                  refine lv_iload_n hx hb dX1_offender_107 rfl (lv_at hl 4 rfl) ?_
                  refine zx_iald hx hb hK hP 4 0 rfl rfl (j := j) rfl (by omega) (by decide) dX1_offender_108 ?_
                  refine zx_top (y := nI (vt j)) (g3) ?_
                  refine vp_callSi (W.runS (As := [.int (nI (vs i)), .int (nI (vt i)), .int (nI (vs j)), .int (nI (vt j))]) (rest := []) ⟨hx, hb, hml, hown, hts⟩ (cM_surrounds l (vs i) (vt i) (vs j) (vt j) b2 b3 d2 d3) (va_cwS 4 hts (lw_S q181 q182 q13 q183) rfl rfl rfl (by decide +kernel) ⟨Nat.le_of_ble_eq_true rfl, Nat.le_of_ble_eq_true rfl⟩) (zx_pS _) rfl rfl hl.1 rfl (lv_room (Nat.le_of_ble_eq_true rfl)) dX1_offender_109 ⟨Nat.le_of_ble_eq_true rfl, Nat.le_of_ble_eq_true rfl⟩) (fun r2 hr2 => ?_)
                  refine lv_if_eq (tgt := 117) hx hb dX1_offender_112 (by decide) (fun c8 => ?_) (fun c8 => ?_)
                  · refine lv_iinc (v := nI (j + 1)) (lv' := [(3, .int (nI (j + 1))), (4, .int (nI 1)), (0, .ref (ad 0)), (1, .int (nI v)), (2, .int (nI i))]) hx hb dX1_offender_117 hl (k := 4) rfl (nI_1 _) (by decide) rfl (fun ls hl => ?_)
                    refine lv_goto (tgt := 21) hx hb dX1_offender_120 (by decide) ?_
                    exact ih2 (j + 1) ls (by omega) ⟨⟨by omega, lt_s hnj (zq_of (fun h => h.2.2.2.elim c7 (hr2.2 c8)))⟩, lv_sub hl [2, 3, 4, 0] rfl⟩
                  · refine lv_iconst (v := nI 1) hx hb dX1_offender_115 (by decide) ?_
                    exact W.iret (v := (nI 1)) hx hb hr (fun t ht hW => ⟨_, rfl, zo_y (f := fun v => if zv_offs n vw vs vt v = true then 1 else 0) (fun u hu => by omega) hv (by show nI 1 = if zv_offs n vw vs vt v = true then 1 else 0; rw [if_pos (zq_ofy (i := i) (j := j) (by omega) (by omega) ⟨c4, c5, c6, Or.inr (hr2.1 c8)⟩)]; rfl), ht⟩) (fun _ h9 => by cases h9) dX1_offender_116
  · refine lv_iconst (v := (-1)) hx hb dX1_offender_7 (by decide) ?_
    exact W.iret (v := (-1)) hx hb hr (fun t ht hW => ⟨_, rfl, zo_n (hr1.1 c1) rfl, ht⟩) (fun _ h9 => by cases h9) dX1_offender_8
set_option maxHeartbeats 4000000 in
set_option maxRecDepth 100000 in
/-- offended() -/
theorem cM_offended (l : Launch) (D : va_G) (dA dZ : ClassId) (ad : Nat → Nat) (gS gW gF gO gJ : Nat → Int32) (nv : Int32) (n : Nat) (vw vs vt st : Nat → Nat) (hM : zr_M n vw vs vt st gS gW gF gO nv) : Met l yX1_offended (ws_ yX1_offended cX1_offended 3 (some .int)) ({ frames := 2, cells := 0, slots := 0, locals := 47 }) (va_Pc [.ref (ad 0)] (zx_R D [(dA, .int), (dZ, .boolean)] (mW dA dZ ad gS gW gF gO gJ nv))) (vp_Si (zp_offd n vw vs vt st)) 0 0 (fun _ => False) := by
  refine Met.ofW (cc := cX1_offended) (maxL := 3) (ret := (some .int)) (by decide) rfl ?_
  intro p e s m args below meth c s₁ B hml hv
  obtain ⟨rfl, hP, hK⟩ := hv
  have hx := B.exec
  have hb := B.bytes
  have hr := B.returns
  have hts := atoms_spec (ws := ws_ yX1_offended cX1_offended 3 (some .int)) B.pre
  have hts : ∀ w ∈ lw_all, w.before _ s = true := fun w h => hts w (List.mem_cons_of_mem _ h)
  have hown : s.vm.findClass RX1 = some m.cls := findClass_of_methodNamed B.named
  have hlocks := B.notSynchronized
  have hl := lv_entry ([.ref (ad 0)]) (n := 3) (Nat.le_of_ble_eq_true rfl)
  rw [lg_entry_eq]
  generalize (lg_sl ([.ref (ad 0)]) ++ List.replicate (3 - (lg_sl ([.ref (ad 0)])).length) Slot.unset).toArray = ls at hl ⊢
  have hl : lv_has ls 3 [(0, .ref (ad 0))] := hl
  have hst := hM.2.1
  refine lv_iconst (v := nI 0) hx hb dX1_offended_0 (by decide) ?_
  refine lv_istore_n (lv' := [(1, .int (nI 0)), (0, .ref (ad 0))]) hx hb dX1_offended_1 rfl hl (by decide) rfl (fun ls hl => ?_)
  refine lv_iconst (v := nI 0) hx hb dX1_offended_2 (by decide) ?_
  refine lv_istore_n (lv' := [(2, .int (nI 0)), (1, .int (nI 0)), (0, .ref (ad 0))]) hx hb dX1_offended_3 rfl hl (by decide) rfl (fun ls hl => ?_)
  refine zx_r1 (α := Nat) (mu := fun i => 8 - i) (I := fun i ls => (i ≤ 8) ∧ lv_has ls 3 [(0, .ref (ad 0)), (1, .int (nI (zv_sum (zq_O n vw vs vt st) i))), (2, .int (nI i))]) ?_ 0 ⟨Nat.zero_le _, lv_sub hl [2, 1, 0] rfl⟩
  intro i ls hI ih
  obtain ⟨hi, hl⟩ := hI
  refine lv_iload_n hx hb dX1_offended_4 rfl (lv_at hl 2 rfl) ?_
  refine lv_bipush (v := nI 8) hx hb dX1_offended_5 (by decide) ?_
  refine lv_icmp_ge (tgt := 31) hx hb dX1_offended_7 (by decide) (fun c1 => ?_) (fun c1 => ?_)
  · have c1 : 8 ≤ i := (nI_leI (by omega) (by omega)).mp c1
    have h9 : 8 = i := by omega
    subst h9
    refine lv_iload_n hx hb dX1_offended_31 rfl (lv_at hl 1 rfl) ?_
    exact W.iret (v := (nI (zv_sum (zq_O n vw vs vt st) 8))) hx hb hr (fun t ht hW => ⟨_, rfl, rfl, ht⟩) (fun _ h9 => by cases h9) dX1_offended_32
  · have c1 : ¬ 8 ≤ i := fun q => c1 ((nI_leI (by omega) (by omega)).mpr q)
    refine lv_iload_n hx hb dX1_offended_10 rfl (lv_at hl 1 rfl) ?_
    refine lv_aload_n hx hb dX1_offended_11 rfl (lv_at hl 0 rfl) ?_
    refine lv_iload_n hx hb dX1_offended_12 rfl (lv_at hl 2 rfl) ?_
    refine vp_callSi (W.runV (As := [.int (nI i)]) (rest := [.int (nI (zv_sum (zq_O n vw vs vt st) i))]) ⟨hx, hb, hml, hown, hts⟩ (cM_offender l D dA dZ ad gS gW gF gO gJ nv n vw vs vt st (nI i) hM) (cwV 1 hts (lw_V q192 q185 q186 q13 q187) rfl rfl rfl (by decide +kernel) ⟨Nat.le_of_ble_eq_true rfl, Nat.le_of_ble_eq_true rfl⟩) (zx_pR hK hP rfl rfl _) rfl rfl hl.1 rfl (lv_room (Nat.le_of_ble_eq_true rfl)) dX1_offended_13 ⟨Nat.le_of_ble_eq_true rfl, Nat.le_of_ble_eq_true rfl⟩) (fun r1 hr1 => ?_)
    refine zx_top (y := if zv_offs n vw vs vt i = true then 1 else 0) (hr1.1 i (by omega) rfl) ?_
    refine lv_aload_n hx hb dX1_offended_16 rfl (lv_at hl 0 rfl) ?_
    refine va_get (D := D) (ci := 1) (v := .ref (ad 1)) (C := RX1) (T := TX1) (N := 6) hx hb hts in_X1 hown hK hP 0 rfl rfl 0 (by decide) (hts _ q144) (fun _ h9 => h9) rfl dX1_offended_17 ?_
    refine lv_iload_n hx hb dX1_offended_20 rfl (lv_at hl 2 rfl) ?_
    refine zx_iald hx hb hK hP 1 0 rfl rfl (j := i) rfl (by omega) (by decide) dX1_offended_21 ?_
    refine zx_top (y := nI (st i)) (hst i (by omega)) ?_
    refine lv_imul hx hb dX1_offended_22 ?_
    refine zx_top (y := nI (zq_O n vw vs vt st i)) (zq_mul) ?_
    refine lv_iadd hx hb dX1_offended_23 ?_
    refine zx_top (y := nI ((zv_sum (zq_O n vw vs vt st) i) + (zq_O n vw vs vt st i))) (nI_add _ _) ?_
    refine zx_top (y := nI (zv_sum (zq_O n vw vs vt st) (i + 1))) (rfl) ?_
    refine lv_istore_n (lv' := [(1, .int (nI (zv_sum (zq_O n vw vs vt st) (i + 1)))), (0, .ref (ad 0)), (2, .int (nI i))]) hx hb dX1_offended_24 rfl hl (by decide) rfl (fun ls hl => ?_)
    refine lv_iinc (v := nI (i + 1)) (lv' := [(2, .int (nI (i + 1))), (1, .int (nI (zv_sum (zq_O n vw vs vt st) (i + 1)))), (0, .ref (ad 0))]) hx hb dX1_offended_25 hl (k := 2) rfl (nI_1 _) (by decide) rfl (fun ls hl => ?_)
    refine lv_goto (tgt := 4) hx hb dX1_offended_28 (by decide) ?_
    exact ih (i + 1) ls (by omega) ⟨by omega, lv_sub hl [2, 1, 0] rfl⟩
set_option maxHeartbeats 4000000 in
set_option maxRecDepth 100000 in
/-- total() -/
theorem cM_total (l : Launch) (D : va_G) (dA dZ : ClassId) (ad : Nat → Nat) (gS gW gF gO gJ : Nat → Int32) (nv : Int32) (st : Nat → Nat) (hst : zr_S st gS) : Met l yX1_total (ws_ yX1_total cX1_total 3 (some .int)) ({ frames := 0, cells := 0, slots := 0, locals := 0 }) (va_Pc [.ref (ad 0)] (zx_R D [(dA, .int), (dZ, .boolean)] (mW dA dZ ad gS gW gF gO gJ nv))) (vp_Si (fun r => r = nI (zv_tot st))) 0 0 (fun _ => False) := by
  refine Met.ofW (cc := cX1_total) (maxL := 3) (ret := (some .int)) (by decide) rfl ?_
  intro p e s m args below meth c s₁ B hml hv
  obtain ⟨rfl, hP, hK⟩ := hv
  have hx := B.exec
  have hb := B.bytes
  have hr := B.returns
  have hts := atoms_spec (ws := ws_ yX1_total cX1_total 3 (some .int)) B.pre
  have hts : ∀ w ∈ lw_all, w.before _ s = true := fun w h => hts w (List.mem_cons_of_mem _ h)
  have hown : s.vm.findClass RX1 = some m.cls := findClass_of_methodNamed B.named
  have hlocks := B.notSynchronized
  have hl := lv_entry ([.ref (ad 0)]) (n := 3) (Nat.le_of_ble_eq_true rfl)
  rw [lg_entry_eq]
  generalize (lg_sl ([.ref (ad 0)]) ++ List.replicate (3 - (lg_sl ([.ref (ad 0)])).length) Slot.unset).toArray = ls at hl ⊢
  have hl : lv_has ls 3 [(0, .ref (ad 0))] := hl
  refine lv_iconst (v := nI 0) hx hb dX1_total_0 (by decide) ?_
  refine lv_istore_n (lv' := [(1, .int (nI 0)), (0, .ref (ad 0))]) hx hb dX1_total_1 rfl hl (by decide) rfl (fun ls hl => ?_)
  refine lv_iconst (v := nI 0) hx hb dX1_total_2 (by decide) ?_
  refine lv_istore_n (lv' := [(2, .int (nI 0)), (1, .int (nI 0)), (0, .ref (ad 0))]) hx hb dX1_total_3 rfl hl (by decide) rfl (fun ls hl => ?_)
  refine zx_r1 (α := Nat) (mu := fun i => 8 - i) (I := fun i ls => (i ≤ 8) ∧ lv_has ls 3 [(0, .ref (ad 0)), (1, .int (nI (zv_sum st i))), (2, .int (nI i))]) ?_ 0 ⟨Nat.zero_le _, lv_sub hl [2, 1, 0] rfl⟩
  intro i ls hI ih
  obtain ⟨hi, hl⟩ := hI
  refine lv_iload_n hx hb dX1_total_4 rfl (lv_at hl 2 rfl) ?_
  refine lv_bipush (v := nI 8) hx hb dX1_total_5 (by decide) ?_
  refine lv_icmp_ge (tgt := 25) hx hb dX1_total_7 (by decide) (fun c1 => ?_) (fun c1 => ?_)
  · have c1 : 8 ≤ i := (nI_leI (by omega) (by omega)).mp c1
    have h9 : 8 = i := by omega
    subst h9
    refine lv_iload_n hx hb dX1_total_25 rfl (lv_at hl 1 rfl) ?_
    exact W.iret (v := (nI (zv_sum st 8))) hx hb hr (fun t ht hW => ⟨_, rfl, rfl, ht⟩) (fun _ h9 => by cases h9) dX1_total_26
  · have c1 : ¬ 8 ≤ i := fun q => c1 ((nI_leI (by omega) (by omega)).mpr q)
    refine lv_iload_n hx hb dX1_total_10 rfl (lv_at hl 1 rfl) ?_
    refine lv_aload_n hx hb dX1_total_11 rfl (lv_at hl 0 rfl) ?_
    refine va_get (D := D) (ci := 1) (v := .ref (ad 1)) (C := RX1) (T := TX1) (N := 6) hx hb hts in_X1 hown hK hP 0 rfl rfl 0 (by decide) (hts _ q144) (fun _ h9 => h9) rfl dX1_total_12 ?_
    refine lv_iload_n hx hb dX1_total_15 rfl (lv_at hl 2 rfl) ?_
    refine zx_iald hx hb hK hP 1 0 rfl rfl (j := i) rfl (by omega) (by decide) dX1_total_16 ?_
    refine zx_top (y := nI (st i)) (hst i (by omega)) ?_
    refine lv_iadd hx hb dX1_total_17 ?_
    refine zx_top (y := nI ((zv_sum st i) + (st i))) (nI_add _ _) ?_
    refine zx_top (y := nI (zv_sum st (i + 1))) (rfl) ?_
    refine lv_istore_n (lv' := [(1, .int (nI (zv_sum st (i + 1)))), (0, .ref (ad 0)), (2, .int (nI i))]) hx hb dX1_total_18 rfl hl (by decide) rfl (fun ls hl => ?_)
    refine lv_iinc (v := nI (i + 1)) (lv' := [(2, .int (nI (i + 1))), (1, .int (nI (zv_sum st (i + 1)))), (0, .ref (ad 0))]) hx hb dX1_total_19 hl (k := 2) rfl (nI_1 _) (by decide) rfl (fun ls hl => ?_)
    refine lv_goto (tgt := 4) hx hb dX1_total_22 (by decide) ?_
    exact ih (i + 1) ls (by omega) ⟨by omega, lv_sub hl [2, 1, 0] rfl⟩
set_option maxHeartbeats 4000000 in
set_option maxRecDepth 100000 in
/-- support(x, y) -/
theorem cM_support (l : Launch) (D : va_G) (dA dZ : ClassId) (ad : Nat → Nat) (gS gW gF gO gJ : Nat → Int32) (nv : Int32) (n : Nat) (vw vs vt st : Nat → Nat) (x y : Int32) (hM : zr_M n vw vs vt st gS gW gF gO nv) : Met l yX1_support (ws_ yX1_support cX1_support 5 (some .int)) ({ frames := 0, cells := 0, slots := 0, locals := 0 }) (va_Pc [.ref (ad 0), .int x, .int y] (zx_R D [(dA, .int), (dZ, .boolean)] (mW dA dZ ad gS gW gF gO gJ nv))) (vp_Si (zp_sup n vw vs vt st x y)) 0 0 (fun _ => False) := by
  refine Met.ofW (cc := cX1_support) (maxL := 5) (ret := (some .int)) (by decide) rfl ?_
  intro p e s m args below meth c s₁ B hml hv
  obtain ⟨rfl, hP, hK⟩ := hv
  have hx := B.exec
  have hb := B.bytes
  have hr := B.returns
  have hts := atoms_spec (ws := ws_ yX1_support cX1_support 5 (some .int)) B.pre
  have hts : ∀ w ∈ lw_all, w.before _ s = true := fun w h => hts w (List.mem_cons_of_mem _ h)
  have hown : s.vm.findClass RX1 = some m.cls := findClass_of_methodNamed B.named
  have hlocks := B.notSynchronized
  have hl := lv_entry ([.ref (ad 0), .int x, .int y]) (n := 5) (Nat.le_of_ble_eq_true rfl)
  rw [lg_entry_eq]
  generalize (lg_sl ([.ref (ad 0), .int x, .int y]) ++ List.replicate (5 - (lg_sl ([.ref (ad 0), .int x, .int y])).length) Slot.unset).toArray = ls at hl ⊢
  have hl : lv_has ls 5 [(0, .ref (ad 0)), (1, .int x), (2, .int y)] := hl
  obtain ⟨hG, hst, rfl, hA0⟩ := id hM
  have hn64 := hG.1
  refine lv_iconst (v := nI 0) hx hb dX1_support_0 (by decide) ?_
  refine lv_istore_n (lv' := [(3, .int (nI 0)), (0, .ref (ad 0)), (1, .int x), (2, .int y)]) hx hb dX1_support_1 rfl hl (by decide) rfl (fun ls hl => ?_)
  refine lv_iconst (v := nI 0) hx hb dX1_support_2 (by decide) ?_
  refine lv_istore (lv' := [(4, .int (nI 0)), (3, .int (nI 0)), (0, .ref (ad 0)), (1, .int x), (2, .int y)]) hx hb dX1_support_3 hl (by decide) rfl (fun ls hl => ?_)
  refine zx_r1 (α := Nat) (mu := fun i => n - i) (I := fun i ls => (i ≤ n) ∧ lv_has ls 5 [(0, .ref (ad 0)), (1, .int x), (2, .int y), (3, .int (nI (zv_sum (zq_F vw vs vt st x y) i))), (4, .int (nI i))]) ?_ 0 ⟨Nat.zero_le _, lv_sub hl [2, 3, 4, 1, 0] rfl⟩
  intro i ls hI ih
  obtain ⟨hi, hl⟩ := hI
  refine lv_iload hx hb dX1_support_5 (lv_at hl 4 rfl) ?_
  refine lv_aload_n hx hb dX1_support_7 rfl (lv_at hl 0 rfl) ?_
  refine va_get (D := D) (ci := 1) (v := .int (nI n)) (C := RX1) (T := TX1) (N := 6) hx hb hts in_X1 hown hK hP 0 rfl rfl 1 (by decide) (hts _ q145) (fun _ h9 => h9) rfl dX1_support_8 ?_
  refine lv_icmp_ge (tgt := 57) hx hb dX1_support_11 (by decide) (fun c1 => ?_) (fun c1 => ?_)
  · have c1 : n ≤ i := (nI_leI (by omega) (by omega)).mp c1
    have h9 : n = i := by omega
    refine lv_iload_n hx hb dX1_support_57 rfl (lv_at hl 3 rfl) ?_
    exact W.iret (v := (nI (zv_sum (zq_F vw vs vt st x y) i))) hx hb hr (fun t ht hW => ⟨_, rfl, by subst h9; exact congrArg nI (zm_sup hG x y n (Nat.le_refl _)), ht⟩) (fun _ h9 => by cases h9) dX1_support_58
  · have c1 : ¬ n ≤ i := fun q => c1 ((nI_leI (by omega) (by omega)).mpr q)
    obtain ⟨f1, f2, f3⟩ := hA0 i (by omega)
    obtain ⟨b1, b2, b3, b4⟩ := hG.2.1 i (by omega)
    refine lv_aload_n hx hb dX1_support_14 rfl (lv_at hl 0 rfl) ?_
    refine va_get (D := D) (ci := 1) (v := .ref (ad 3)) (C := RX1) (T := TX1) (N := 6) hx hb hts in_X1 hown hK hP 0 rfl rfl 3 (by decide) (hts _ q147) (fun _ h9 => h9) rfl dX1_support_15 ?_
    refine lv_iload hx hb dX1_support_18 (lv_at hl 4 rfl) ?_
    refine zx_iald hx hb hK hP 3 0 rfl rfl (j := i) rfl (by omega) (by decide) dX1_support_20 ?_
    refine zx_top (y := nI (vs i)) (f2) ?_
    refine lv_iload_n hx hb dX1_support_21 rfl (lv_at hl 1 rfl) ?_
    refine lv_icmp_ne (tgt := 51) hx hb dX1_support_22 (by decide) (fun c2 => ?_) (fun c2 => ?_)
    · rw [zq_n (st := st) (w := vw) (fun h => c2 h.1)] at hl
      refine lv_iinc (v := nI (i + 1)) (lv' := [(4, .int (nI (i + 1))), (0, .ref (ad 0)), (1, .int x), (2, .int y), (3, .int (nI (zv_sum (zq_F vw vs vt st x y) (i + 1))))]) hx hb dX1_support_51 hl (k := 4) rfl (nI_1 _) (by decide) rfl (fun ls hl => ?_)
      refine lv_goto (tgt := 5) hx hb dX1_support_54 (by decide) ?_
      exact ih (i + 1) ls (by omega) ⟨by omega, lv_sub hl [1, 2, 3, 4, 0] rfl⟩
    · refine lv_aload_n hx hb dX1_support_25 rfl (lv_at hl 0 rfl) ?_
      refine va_get (D := D) (ci := 1) (v := .ref (ad 4)) (C := RX1) (T := TX1) (N := 6) hx hb hts in_X1 hown hK hP 0 rfl rfl 4 (by decide) (hts _ q148) (fun _ h9 => h9) rfl dX1_support_26 ?_
      refine lv_iload hx hb dX1_support_29 (lv_at hl 4 rfl) ?_
      refine zx_iald hx hb hK hP 4 0 rfl rfl (j := i) rfl (by omega) (by decide) dX1_support_31 ?_
      refine zx_top (y := nI (vt i)) (f3) ?_
      refine lv_iload_n hx hb dX1_support_32 rfl (lv_at hl 2 rfl) ?_
      refine lv_icmp_ne (tgt := 51) hx hb dX1_support_33 (by decide) (fun c3 => ?_) (fun c3 => ?_)
      · rw [zq_n (st := st) (w := vw) (fun h => c3 h.2)] at hl
        refine lv_iinc (v := nI (i + 1)) (lv' := [(4, .int (nI (i + 1))), (0, .ref (ad 0)), (1, .int x), (2, .int y), (3, .int (nI (zv_sum (zq_F vw vs vt st x y) (i + 1))))]) hx hb dX1_support_51 hl (k := 4) rfl (nI_1 _) (by decide) rfl (fun ls hl => ?_)
        refine lv_goto (tgt := 5) hx hb dX1_support_54 (by decide) ?_
        exact ih (i + 1) ls (by omega) ⟨by omega, lv_sub hl [1, 2, 3, 4, 0] rfl⟩
      · refine lv_iload_n hx hb dX1_support_36 rfl (lv_at hl 3 rfl) ?_
        refine lv_aload_n hx hb dX1_support_37 rfl (lv_at hl 0 rfl) ?_
        refine va_get (D := D) (ci := 1) (v := .ref (ad 1)) (C := RX1) (T := TX1) (N := 6) hx hb hts in_X1 hown hK hP 0 rfl rfl 0 (by decide) (hts _ q144) (fun _ h9 => h9) rfl dX1_support_38 ?_
        refine lv_aload_n hx hb dX1_support_41 rfl (lv_at hl 0 rfl) ?_
        refine va_get (D := D) (ci := 1) (v := .ref (ad 2)) (C := RX1) (T := TX1) (N := 6) hx hb hts in_X1 hown hK hP 0 rfl rfl 2 (by decide) (hts _ q146) (fun _ h9 => h9) rfl dX1_support_42 ?_
        refine lv_iload hx hb dX1_support_45 (lv_at hl 4 rfl) ?_
        refine zx_iald hx hb hK hP 2 0 rfl rfl (j := i) rfl (by omega) (by decide) dX1_support_47 ?_
        refine zx_top (y := nI (vw i)) (f1) ?_
        refine zx_iald hx hb hK hP 1 0 rfl rfl (j := vw i) rfl (by omega) (by decide) dX1_support_48 ?_
        refine zx_top (y := nI (st (vw i))) (hst _ b1) ?_
        refine lv_iadd hx hb dX1_support_49 ?_
        refine zx_top (y := nI ((zv_sum (zq_F vw vs vt st x y) i) + (st (vw i)))) (nI_add _ _) ?_
        refine zx_top (y := nI (zv_sum (zq_F vw vs vt st x y) (i + 1))) (congrArg nI (zq_y c2 c3)) ?_
        refine lv_istore_n (lv' := [(3, .int (nI (zv_sum (zq_F vw vs vt st x y) (i + 1)))), (0, .ref (ad 0)), (1, .int x), (2, .int y), (4, .int (nI i))]) hx hb dX1_support_50 rfl hl (by decide) rfl (fun ls hl => ?_)
        refine lv_iinc (v := nI (i + 1)) (lv' := [(4, .int (nI (i + 1))), (3, .int (nI (zv_sum (zq_F vw vs vt st x y) (i + 1)))), (0, .ref (ad 0)), (1, .int x), (2, .int y)]) hx hb dX1_support_51 hl (k := 4) rfl (nI_1 _) (by decide) rfl (fun ls hl => ?_)
        refine lv_goto (tgt := 5) hx hb dX1_support_54 (by decide) ?_
        exact ih (i + 1) ls (by omega) ⟨by omega, lv_sub hl [2, 3, 4, 1, 0] rfl⟩
set_option maxHeartbeats 4000000 in
set_option maxRecDepth 100000 in
/-- supported(x, y) -/
theorem cM_supported (l : Launch) (D : va_G) (dA dZ : ClassId) (ad : Nat → Nat) (gS gW gF gO gJ : Nat → Int32) (nv : Int32) (n : Nat) (vw vs vt st : Nat → Nat) (x y : Int32) (hM : zr_M n vw vs vt st gS gW gF gO nv) : Met l yX1_supported (ws_ yX1_supported cX1_supported 3 (some .boolean)) ({ frames := 1, cells := 0, slots := 0, locals := 24 }) (va_Pc [.ref (ad 0), .int x, .int y] (zx_R D [(dA, .int), (dZ, .boolean)] (mW dA dZ ad gS gW gF gO gJ nv))) (vp_Si (fun r => (¬ r = 0 → zv_Sup n vw vs vt st x y) ∧ (r = 0 → ¬ zv_Sup n vw vs vt st x y))) 0 0 (fun _ => False) := by
  refine Met.ofW (cc := cX1_supported) (maxL := 3) (ret := (some .boolean)) (by decide) rfl ?_
  intro p e s m args below meth c s₁ B hml hv
  obtain ⟨rfl, hP, hK⟩ := hv
  have hx := B.exec
  have hb := B.bytes
  have hr := B.returns
  have hts := atoms_spec (ws := ws_ yX1_supported cX1_supported 3 (some .boolean)) B.pre
  have hts : ∀ w ∈ lw_all, w.before _ s = true := fun w h => hts w (List.mem_cons_of_mem _ h)
  have hown : s.vm.findClass RX1 = some m.cls := findClass_of_methodNamed B.named
  have hlocks := B.notSynchronized
  have hl := lv_entry ([.ref (ad 0), .int x, .int y]) (n := 3) (Nat.le_of_ble_eq_true rfl)
  rw [lg_entry_eq]
  generalize (lg_sl ([.ref (ad 0), .int x, .int y]) ++ List.replicate (3 - (lg_sl ([.ref (ad 0), .int x, .int y])).length) Slot.unset).toArray = ls at hl ⊢
  have hl : lv_has ls 3 [(0, .ref (ad 0)), (1, .int x), (2, .int y)] := hl
  have hb1 := zb_sup (n := n) (w := vw) (s := vs) (t := vt) hM.1.2.2.2 x y
  have hb2 := zb_tot hM.1.2.2.2
  refine lv_iconst (v := nI 3) hx hb dX1_supported_0 (by decide) ?_
  refine lv_aload_n hx hb dX1_supported_1 rfl (lv_at hl 0 rfl) ?_
  refine lv_iload_n hx hb dX1_supported_2 rfl (lv_at hl 1 rfl) ?_
  refine lv_iload_n hx hb dX1_supported_3 rfl (lv_at hl 2 rfl) ?_
  refine vp_callSi (W.runV (As := [.int x, .int y]) (rest := [.int (nI 3)]) ⟨hx, hb, hml, hown, hts⟩ (cM_support l D dA dZ ad gS gW gF gO gJ nv n vw vs vt st x y hM) (cwV 2 hts (lw_V q205 q206 q207 q13 q208) rfl rfl rfl (by decide +kernel) ⟨Nat.le_of_ble_eq_true rfl, Nat.le_of_ble_eq_true rfl⟩) (zx_pR hK hP rfl rfl _) rfl rfl hl.1 rfl (lv_room (Nat.le_of_ble_eq_true rfl)) dX1_supported_4 ⟨Nat.le_of_ble_eq_true rfl, Nat.le_of_ble_eq_true rfl⟩) (fun r1 hr1 => ?_)
  refine zx_top (y := nI (zv_sup n vw vs vt st x y)) (hr1) ?_
  refine lv_imul hx hb dX1_supported_7 ?_
  refine zx_top (y := nI (3 * (zv_sup n vw vs vt st x y))) (pk_mul _ _) ?_
  refine lv_iconst (v := nI 2) hx hb dX1_supported_8 (by decide) ?_
  refine lv_aload_n hx hb dX1_supported_9 rfl (lv_at hl 0 rfl) ?_
  refine vp_callSi (W.runV (As := []) (rest := [.int (nI 2), .int (nI (3 * (zv_sup n vw vs vt st x y)))]) ⟨hx, hb, hml, hown, hts⟩ (cM_total l D dA dZ ad gS gW gF gO gJ nv st hM.2.1) (cwV 0 hts (lw_V q209 q211 qs10 q13 q212) rfl rfl rfl (by decide +kernel) ⟨Nat.le_of_ble_eq_true rfl, Nat.le_of_ble_eq_true rfl⟩) (zx_pR hK hP rfl rfl _) rfl rfl hl.1 rfl (lv_room (Nat.le_of_ble_eq_true rfl)) dX1_supported_10 ⟨Nat.le_of_ble_eq_true rfl, Nat.le_of_ble_eq_true rfl⟩) (fun r2 hr2 => ?_)
  refine zx_top (y := nI (zv_tot st)) (hr2) ?_
  refine lv_imul hx hb dX1_supported_13 ?_
  refine zx_top (y := nI (2 * (zv_tot st))) (pk_mul _ _) ?_
  refine lv_icmp_le (tgt := 21) hx hb dX1_supported_14 (by decide) (fun c1 => ?_) (fun c1 => ?_)
  · have c1 : 3 * (zv_sup n vw vs vt st x y) ≤ 2 * (zv_tot st) := (nI_leI (by omega) (by omega)).mp c1
    refine lv_iconst (v := nI 0) hx hb dX1_supported_21 (by decide) ?_
    exact W.zret (v := (nI 0)) hx hb hr (by decide) (fun t ht hW => ⟨_, rfl, zy_n nI_0 (by unfold zv_Sup; omega), ht⟩) (fun _ h9 => by cases h9) dX1_supported_22
  · have c1 : ¬ 3 * (zv_sup n vw vs vt st x y) ≤ 2 * (zv_tot st) := fun q => c1 ((nI_leI (by omega) (by omega)).mpr q)
    refine lv_iconst (v := nI 1) hx hb dX1_supported_17 (by decide) ?_
    refine lv_goto (tgt := 22) hx hb dX1_supported_18 (by decide) ?_
    exact W.zret (v := (nI 1)) hx hb hr (by decide) (fun t ht hW => ⟨_, rfl, zy_y zt_0 (by unfold zv_Sup; omega), ht⟩) (fun _ h9 => by cases h9) dX1_supported_22
set_option maxHeartbeats 4000000 in
set_option maxRecDepth 100000 in
/-- votes(x) -/
theorem cM_votes (l : Launch) (D : va_G) (dA dZ : ClassId) (ad : Nat → Nat) (gS gW gF gO gJ : Nat → Int32) (nv : Int32) (n : Nat) (vw vs vt st : Nat → Nat) (x : Int32) (hM : zr_M n vw vs vt st gS gW gF gO nv) : Met l yX1_votes (ws_ yX1_votes cX1_votes 4 (some .int)) ({ frames := 1, cells := 0, slots := 0, locals := 20 }) (va_Pc [.ref (ad 0), .int x] (zx_R D [(dA, .int), (dZ, .boolean)] (mW dA dZ ad gS gW gF gO gJ nv))) (vp_Si (zp_votes n vw x)) 0 0 (fun _ => False) := by
  refine Met.ofW (cc := cX1_votes) (maxL := 4) (ret := (some .int)) (by decide) rfl ?_
  intro p e s m args below meth c s₁ B hml hv
  obtain ⟨rfl, hP, hK⟩ := hv
  have hx := B.exec
  have hb := B.bytes
  have hr := B.returns
  have hts := atoms_spec (ws := ws_ yX1_votes cX1_votes 4 (some .int)) B.pre
  have hts : ∀ w ∈ lw_all, w.before _ s = true := fun w h => hts w (List.mem_cons_of_mem _ h)
  have hown : s.vm.findClass RX1 = some m.cls := findClass_of_methodNamed B.named
  have hlocks := B.notSynchronized
  have hl := lv_entry ([.ref (ad 0), .int x]) (n := 4) (Nat.le_of_ble_eq_true rfl)
  rw [lg_entry_eq]
  generalize (lg_sl ([.ref (ad 0), .int x]) ++ List.replicate (4 - (lg_sl ([.ref (ad 0), .int x])).length) Slot.unset).toArray = ls at hl ⊢
  have hl : lv_has ls 4 [(0, .ref (ad 0)), (1, .int x)] := hl
  obtain ⟨hG, hst, rfl, hA0⟩ := id hM
  have hn64 := hG.1
  refine lv_iload_n hx hb dX1_votes_0 rfl (lv_at hl 1 rfl) ?_
  refine vp_callSi (W.runS (As := [.int x]) (rest := []) ⟨hx, hb, hml, hown, hts⟩ (cM_bad l x) (va_cwS 1 hts (lw_S q167 q168 q13 q169) rfl rfl rfl (by decide +kernel) ⟨Nat.le_of_ble_eq_true rfl, Nat.le_of_ble_eq_true rfl⟩) (zx_pS _) rfl rfl hl.1 rfl (lv_room (Nat.le_of_ble_eq_true rfl)) dX1_votes_1 ⟨Nat.le_of_ble_eq_true rfl, Nat.le_of_ble_eq_true rfl⟩) (fun r1 hr1 => ?_)
  refine lv_if_eq (tgt := 9) hx hb dX1_votes_4 (by decide) (fun c1 => ?_) (fun c1 => ?_)
  · obtain ⟨v, hv, rfl⟩ := hr1.2 c1
    refine lv_iconst (v := nI 0) hx hb dX1_votes_9 (by decide) ?_
    refine lv_istore_n (lv' := [(2, .int (nI 0)), (0, .ref (ad 0)), (1, .int (nI v))]) hx hb dX1_votes_10 rfl hl (by decide) rfl (fun ls hl => ?_)
    refine lv_iconst (v := nI 0) hx hb dX1_votes_11 (by decide) ?_
    refine lv_istore_n (lv' := [(3, .int (nI 0)), (2, .int (nI 0)), (0, .ref (ad 0)), (1, .int (nI v))]) hx hb dX1_votes_12 rfl hl (by decide) rfl (fun ls hl => ?_)
    refine zx_r1 (α := Nat) (mu := fun i => n - i) (I := fun i ls => (i ≤ n) ∧ lv_has ls 4 [(0, .ref (ad 0)), (1, .int (nI v)), (2, .int (nI (zv_cntV i vw v))), (3, .int (nI i))]) ?_ 0 ⟨Nat.zero_le _, lv_sub hl [2, 3, 1, 0] rfl⟩
    intro i ls hI ih
    obtain ⟨hi, hl⟩ := hI
    refine lv_iload_n hx hb dX1_votes_13 rfl (lv_at hl 3 rfl) ?_
    refine lv_aload_n hx hb dX1_votes_14 rfl (lv_at hl 0 rfl) ?_
    refine va_get (D := D) (ci := 1) (v := .int (nI n)) (C := RX1) (T := TX1) (N := 6) hx hb hts in_X1 hown hK hP 0 rfl rfl 1 (by decide) (hts _ q145) (fun _ h9 => h9) rfl dX1_votes_15 ?_
    refine lv_icmp_ge (tgt := 40) hx hb dX1_votes_18 (by decide) (fun c2 => ?_) (fun c2 => ?_)
    · have c2 : n ≤ i := (nI_leI (by omega) (by omega)).mp c2
      have h9 : n = i := by omega
      refine lv_iload_n hx hb dX1_votes_40 rfl (lv_at hl 2 rfl) ?_
      exact W.iret (v := (nI (zv_cntV i vw v))) hx hb hr (fun t ht hW => ⟨_, rfl, zo_y (f := fun v => nI (zv_cntV n vw v)) (fun u hu => by omega) hv (by rw [h9]), ht⟩) (fun _ h9 => by cases h9) dX1_votes_41
    · have c2 : ¬ n ≤ i := fun q => c2 ((nI_leI (by omega) (by omega)).mpr q)
      obtain ⟨f1, f2, f3⟩ := hA0 i (by omega)
      obtain ⟨b1, b2, b3, b4⟩ := hG.2.1 i (by omega)
      refine lv_aload_n hx hb dX1_votes_21 rfl (lv_at hl 0 rfl) ?_
      refine va_get (D := D) (ci := 1) (v := .ref (ad 2)) (C := RX1) (T := TX1) (N := 6) hx hb hts in_X1 hown hK hP 0 rfl rfl 2 (by decide) (hts _ q146) (fun _ h9 => h9) rfl dX1_votes_22 ?_
      refine lv_iload_n hx hb dX1_votes_25 rfl (lv_at hl 3 rfl) ?_
      refine zx_iald hx hb hK hP 2 0 rfl rfl (j := i) rfl (by omega) (by decide) dX1_votes_26 ?_
      refine zx_top (y := nI (vw i)) (f1) ?_
      refine lv_iload_n hx hb dX1_votes_27 rfl (lv_at hl 1 rfl) ?_
      refine lv_icmp_ne (tgt := 34) hx hb dX1_votes_28 (by decide) (fun c3 => ?_) (fun c3 => ?_)
      · have c3 : ¬ vw i = v := fun q => c3 ((nI_eq (by omega) (by omega)).mpr q)
        rw [zq_cn c3] at hl
        refine lv_iinc (v := nI (i + 1)) (lv' := [(3, .int (nI (i + 1))), (0, .ref (ad 0)), (1, .int (nI v)), (2, .int (nI (zv_cntV (i + 1) vw v)))]) hx hb dX1_votes_34 hl (k := 3) rfl (nI_1 _) (by decide) rfl (fun ls hl => ?_)
        refine lv_goto (tgt := 13) hx hb dX1_votes_37 (by decide) ?_
        exact ih (i + 1) ls (by omega) ⟨by omega, lv_sub hl [1, 2, 3, 0] rfl⟩
      · have c3 : vw i = v := (nI_eq (by omega) (by omega)).mp c3
        refine lv_iinc (v := nI (zv_cntV (i + 1) vw v)) (lv' := [(2, .int (nI (zv_cntV (i + 1) vw v))), (0, .ref (ad 0)), (1, .int (nI v)), (3, .int (nI i))]) hx hb dX1_votes_31 hl (k := 2) rfl ((nI_1 _).trans (congrArg nI (zq_cy c3))) (by decide) rfl (fun ls hl => ?_)
        refine lv_iinc (v := nI (i + 1)) (lv' := [(3, .int (nI (i + 1))), (2, .int (nI (zv_cntV (i + 1) vw v))), (0, .ref (ad 0)), (1, .int (nI v))]) hx hb dX1_votes_34 hl (k := 3) rfl (nI_1 _) (by decide) rfl (fun ls hl => ?_)
        refine lv_goto (tgt := 13) hx hb dX1_votes_37 (by decide) ?_
        exact ih (i + 1) ls (by omega) ⟨by omega, lv_sub hl [2, 3, 1, 0] rfl⟩
  · refine lv_iconst (v := (-1)) hx hb dX1_votes_7 (by decide) ?_
    exact W.iret (v := (-1)) hx hb hr (fun t ht hW => ⟨_, rfl, zo_n (hr1.1 c1) rfl, ht⟩) (fun _ h9 => by cases h9) dX1_votes_8
end
section
/-! MODULE VoteWatchModel: the methods that write -/
/-- the model's world that holds the votes -/
abbrev zx_Mo (D : va_G) (dA dZ : ClassId) (ad : Nat → Nat) (A : Nat → Prop) (n : Nat) (w s t st : Nat → Nat) (U : State) : Prop :=
  ∃ (gS gW gF gO gJ : Nat → Int32) (nv : Int32), zr_M n w s t st gS gW gF gO nv ∧ zx_E D [(dA, .int), (dZ, .boolean)] A (mW dA dZ ad gS gW gF gO gJ nv) U
theorem zs_stakeM {n : Nat} {w s t st : Nat → Nat} {gS gW gF gO : Nat → Int32} {nv : Int32} {v : Nat} {y x : Int32} (h : zr_M n w s t st gS gW gF gO nv) (hv : v < 8) (hx : x = nI (zv_clamp y)) : zr_M n w s t (zv_put st v (zv_clamp y)) (upd gS v x) gW gF gO nv := by
  obtain ⟨⟨g1, g2, g3, g4⟩, h2, h3, h4⟩ := h
  refine ⟨⟨g1, g2, g3, fun u => ?_⟩, fun u hu => ?_, h3, h4⟩
  · by_cases e : u = v
    · subst e; rw [zv_put_s]; exact zc_le y
    · rw [zv_put_n e]; exact g4 u
  · by_cases e : u = v
    · subst e; rw [zu_s, zv_put_s]; exact hx
    · rw [zu_n e, zv_put_n e]; exact h2 u hu
theorem zs_voteM {n : Nat} {w s t st : Nat → Nat} {gS gW gF gO : Nat → Int32} {v a b : Nat} (h : zr_M n w s t st gS gW gF gO (nI n)) (hn : n < 64) (hv : v < 8) (ha : a < 128) (hb : b < 128) (hab : a / 4 < b / 4) (hh : zv_held n w s t v (nI a) (nI b) = false) : zr_M (n + 1) (zv_put w n v) (zv_put s n a) (zv_put t n b) st gS (upd gW n (nI v)) (upd gF n (nI a)) (upd gO n (nI b)) (nI (n + 1)) := by
  refine ⟨zs_G h.1 hn hv ha hb hab hh, h.2.1, rfl, fun i hi => ?_⟩
  by_cases e : i = n
  · subst e; rw [zu_s, zu_s, zu_s, zv_put_s, zv_put_s, zv_put_s]; exact ⟨rfl, rfl, rfl⟩
  · rw [zu_n e, zu_n e, zu_n e, zv_put_n e, zv_put_n e, zv_put_n e]; exact h.2.2.2 i (by omega)
theorem zo_1 (x y z : Bool) : nI (zv_v3 x y z) ||| nI 1 = nI (zv_v3 true y z) := by cases x <;> cases y <;> cases z <;> decide
theorem zo_2 (x y z : Bool) : nI (zv_v3 x y z) ||| nI 2 = nI (zv_v3 x true z) := by cases x <;> cases y <;> cases z <;> decide
theorem zo_4 (x y z : Bool) : nI (zv_v3 x y z) ||| nI 4 = nI (zv_v3 x y true) := by cases x <;> cases y <;> cases z <;> decide
theorem za_n {p : Nat → Bool} {i : Nat} (h : ¬ p i = true) : zv_any p i = zv_any p (i + 1) := by
  rw [zv_any, Bool.eq_false_iff.mpr h, Bool.or_false]
theorem za_y {p : Nat → Bool} {i : Nat} (h : p i = true) : true = zv_any p (i + 1) := (zv_any_yes (Nat.lt_succ_self i) h).symm
theorem zv3_e {x y z x' y' z' : Bool} (h1 : x = x') (h2 : y = y') (h3 : z = z') : zv_v3 x y z = zv_v3 x' y' z' := by rw [h1, h2, h3]
theorem zm_on {n : Nat} {w s t st : Nat → Nat} {r c : Nat} {g : Nat → Int32} (h : zm_A n w s t st r g) (hc : c < 128) (h0 : ¬ g c = 0) : g c = 1 := by
  rcases h.1 c hc with e | e
  · exact absurd e h0
  · exact e.1
theorem zf_m {n : Nat} {w s t st : Nat → Nat} {c i : Nat} (h : ∀ j, j < i → ¬ (s j = c ∧ t j / 4 = c / 4 + 1 ∧ zv_Just n w s t st c ∧ zv_Sup n w s t st (nI (s j)) (nI (t j)))) (hi : n ≤ i) : ¬ zv_Fin n w s t st c := by
  rintro ⟨h0, j, hj, h1, h2, h3⟩
  exact h j (by omega) ⟨h1, h2, h0, h3⟩
set_option maxHeartbeats 4000000 in
set_option maxRecDepth 100000 in
/-- stake(x, y) -/
theorem cM_stake (l : Launch) (D : va_G) (dA dZ : ClassId) (ad : Nat → Nat) (sz : Nat) (gS gW gF gO gJ : Nat → Int32) (nv : Int32) (n : Nat) (vw vs vt st : Nat → Nat) (x y : Int32) (hM : zr_M n vw vs vt st gS gW gF gO nv) : Met l yX1_stake (ws_ yX1_stake cX1_stake 4 (some .int)) ({ frames := 1, cells := 0, slots := 0, locals := 20 }) (va_Pc [.ref (ad 0), .int x, .int y] (zx_M D [(dA, .int), (dZ, .boolean)] (mW dA dZ ad gS gW gF gO gJ nv) sz)) (va_Qi (S := Nat → Nat) (fun r u => zp_stake st x y r u) (fun u t => zx_Mo D dA dZ ad (va_A (mW dA dZ ad gS gW gF gO gJ nv) sz) n vw vs vt u t) (va_A (mW dA dZ ad gS gW gF gO gJ nv) sz)) 0 0 (va_A (mW dA dZ ad gS gW gF gO gJ nv) sz) := by
  refine Met.ofW (cc := cX1_stake) (maxL := 4) (ret := (some .int)) (by decide) rfl ?_
  intro p e s m args below meth c s₁ B hml hv
  obtain ⟨rfl, hsz, hP, hK, hD0⟩ := hv
  have hx := B.exec
  have hb := B.bytes
  have hr := B.returns
  have hts := atoms_spec (ws := ws_ yX1_stake cX1_stake 4 (some .int)) B.pre
  have hts : ∀ w ∈ lw_all, w.before _ s = true := fun w h => hts w (List.mem_cons_of_mem _ h)
  have hown : s.vm.findClass RX1 = some m.cls := findClass_of_methodNamed B.named
  have hlocks := B.notSynchronized
  subst hsz
  have hD := hD0.self (sz := s.heap.size)
  generalize hAe : va_A (mW dA dZ ad gS gW gF gO gJ nv) s.heap.size = A at hD ⊢
  have hA : ∀ q : Nat, s.heap.size ≤ q → A q := fun q h => by rw [← hAe]; exact Or.inr h
  have hS : va_S A s.heap s.heap [] := va_S.rf
  have hl := lv_entry ([.ref (ad 0), .int x, .int y]) (n := 4) (Nat.le_of_ble_eq_true rfl)
  rw [lg_entry_eq]
  generalize (lg_sl ([.ref (ad 0), .int x, .int y]) ++ List.replicate (4 - (lg_sl ([.ref (ad 0), .int x, .int y])).length) Slot.unset).toArray = ls at hl ⊢
  have hl : lv_has ls 4 [(0, .ref (ad 0)), (1, .int x), (2, .int y)] := hl
  refine lv_iload_n hx hb dX1_stake_0 rfl (lv_at hl 1 rfl) ?_
  refine vp_callSi (W.runS (As := [.int x]) (rest := []) ⟨hx, hb, hml, hown, hts⟩ (cM_bad l x) (va_cwS 1 hts (lw_S q167 q168 q13 q169) rfl rfl rfl (by decide +kernel) ⟨Nat.le_of_ble_eq_true rfl, Nat.le_of_ble_eq_true rfl⟩) (zx_pS _) rfl rfl hl.1 rfl (lv_room (Nat.le_of_ble_eq_true rfl)) dX1_stake_1 ⟨Nat.le_of_ble_eq_true rfl, Nat.le_of_ble_eq_true rfl⟩) (fun r1 hr1 => ?_)
  refine lv_if_eq (tgt := 9) hx hb dX1_stake_4 (by decide) (fun c1 => ?_) (fun c1 => ?_)
  · obtain ⟨v, hv, rfl⟩ := hr1.2 c1
    refine lv_aload_n hx hb dX1_stake_9 rfl (lv_at hl 0 rfl) ?_
    refine va_get (D := D) (ci := 1) (v := .ref (ad 1)) (C := RX1) (T := TX1) (N := 6) hx hb hts in_X1 hown hK hP 0 rfl rfl 0 (by decide) (hts _ q144) (fun _ h9 => h9) rfl dX1_stake_10 ?_
    refine lv_iload_n hx hb dX1_stake_13 rfl (lv_at hl 1 rfl) ?_
    refine zx_iald hx hb hK hP 1 0 rfl rfl (j := v) rfl (by omega) (by decide) dX1_stake_14 ?_
    refine zx_top (y := nI (st v)) (hM.2.1 v hv) ?_
    refine lv_istore_n (lv' := [(3, .int (nI (st v))), (0, .ref (ad 0)), (1, .int (nI v)), (2, .int y)]) hx hb dX1_stake_15 rfl hl (by decide) rfl (fun ls hl => ?_)
    refine lv_aload_n hx hb dX1_stake_16 rfl (lv_at hl 1 rfl) ?_
    refine va_get (D := D) (ci := 1) (v := .ref (ad 1)) (C := RX1) (T := TX1) (N := 6) hx hb hts in_X1 hown hK hP 0 rfl rfl 0 (by decide) (hts _ q144) (fun _ h9 => h9) rfl dX1_stake_17 ?_
    refine lv_iload_n hx hb dX1_stake_20 rfl (lv_at hl 2 rfl) ?_
    refine lv_iload_n hx hb dX1_stake_21 rfl (lv_at hl 3 rfl) ?_
    refine lv_if_ge (tgt := 29) hx hb dX1_stake_22 (by decide) (fun c2 => ?_) (fun c2 => ?_)
    · refine lv_iload_n hx hb dX1_stake_29 rfl (lv_at hl 3 rfl) ?_
      refine lv_bipush (v := nI 100) hx hb dX1_stake_30 (by decide) ?_
      refine lv_icmp_le (tgt := 40) hx hb dX1_stake_32 (by decide) (fun c3 => ?_) (fun c3 => ?_)
      · obtain ⟨z, hz, rfl⟩ := zc_in (N := 100) (x := y) (by omega) (zn_nlt c2) (zn_nlt c3)
        refine lv_iload_n hx hb dX1_stake_40 rfl (lv_at hl 3 rfl) ?_
        refine zx_iast hx hb hK hP hD hS 1 0 rfl rfl (j := v) rfl (by omega) (by decide) dX1_stake_41 (fun H locs hP hD hS => ?_)
        have hP : va_P D vwCl (mW dA dZ ad (upd gS v (nI z)) gW gF gO gJ nv) H := hP
        have hD : va_D A (mW dA dZ ad (upd gS v (nI z)) gW gF gO gJ nv) := hD
        refine lv_iload_n hx hb dX1_stake_42 rfl (lv_at hl 0 rfl) ?_
        exact W.iret (v := (nI (st v))) hx hb hr (fun t ht hW => ⟨⟨_, _, rfl, zp_stake_y hv, _, _, _, _, _, _, zs_stakeM (y := nI z) hM hv (by unfold zv_clamp; rw [if_neg (nI_pos (by omega)), if_neg (nI_nlt hz (by omega)), nI_clamp (by omega)]), by rw [ht]; exact hP, va_K.moved hW.alike hK, hD⟩, hS.F ht⟩) hS.2.2 dX1_stake_43
      · refine lv_bipush (v := nI 100) hx hb dX1_stake_35 (by decide) ?_
        refine lv_goto (tgt := 41) hx hb dX1_stake_37 (by decide) ?_
        refine zx_iast hx hb hK hP hD hS 1 0 rfl rfl (j := v) rfl (by omega) (by decide) dX1_stake_41 (fun H locs hP hD hS => ?_)
        have hP : va_P D vwCl (mW dA dZ ad (upd gS v (nI 100)) gW gF gO gJ nv) H := hP
        have hD : va_D A (mW dA dZ ad (upd gS v (nI 100)) gW gF gO gJ nv) := hD
        refine lv_iload_n hx hb dX1_stake_42 rfl (lv_at hl 0 rfl) ?_
        exact W.iret (v := (nI (st v))) hx hb hr (fun t ht hW => ⟨⟨_, _, rfl, zp_stake_y hv, _, _, _, _, _, _, zs_stakeM (y := y) hM hv (by unfold zv_clamp; rw [if_neg (zn_nlt c2), if_pos (zn_nle c3)]), by rw [ht]; exact hP, va_K.moved hW.alike hK, hD⟩, hS.F ht⟩) hS.2.2 dX1_stake_43
    · refine lv_iconst (v := nI 0) hx hb dX1_stake_25 (by decide) ?_
      refine lv_goto (tgt := 41) hx hb dX1_stake_26 (by decide) ?_
      refine zx_iast hx hb hK hP hD hS 1 0 rfl rfl (j := v) rfl (by omega) (by decide) dX1_stake_41 (fun H locs hP hD hS => ?_)
      have hP : va_P D vwCl (mW dA dZ ad (upd gS v (nI 0)) gW gF gO gJ nv) H := hP
      have hD : va_D A (mW dA dZ ad (upd gS v (nI 0)) gW gF gO gJ nv) := hD
      refine lv_iload_n hx hb dX1_stake_42 rfl (lv_at hl 0 rfl) ?_
      exact W.iret (v := (nI (st v))) hx hb hr (fun t ht hW => ⟨⟨_, _, rfl, zp_stake_y hv, _, _, _, _, _, _, zs_stakeM (y := y) hM hv (by unfold zv_clamp; rw [if_pos (zn_nle c2)]), by rw [ht]; exact hP, va_K.moved hW.alike hK, hD⟩, hS.F ht⟩) hS.2.2 dX1_stake_43
  · refine lv_iconst (v := (-1)) hx hb dX1_stake_7 (by decide) ?_
    exact W.iret (v := (-1)) hx hb hr (fun t ht hW => ⟨⟨_, _, rfl, zp_stake_n (hr1.1 c1), _, _, _, _, _, _, hM, by rw [ht]; exact hP, va_K.moved hW.alike hK, hD⟩, hS.F ht⟩) hS.2.2 dX1_stake_8
set_option maxHeartbeats 4000000 in
set_option maxRecDepth 100000 in
/-- vote(x, y, z) -/
theorem cM_vote (l : Launch) (D : va_G) (dA dZ : ClassId) (ad : Nat → Nat) (sz : Nat) (gS gW gF gO gJ : Nat → Int32) (nv : Int32) (n : Nat) (vw vs vt st : Nat → Nat) (x y z : Int32) (hM : zr_M n vw vs vt st gS gW gF gO nv) : Met l yX1_vote (ws_ yX1_vote cX1_vote 6 (some .int)) ({ frames := 1, cells := 0, slots := 0, locals := 24 }) (va_Pc [.ref (ad 0), .int x, .int y, .int z] (zx_M D [(dA, .int), (dZ, .boolean)] (mW dA dZ ad gS gW gF gO gJ nv) sz)) (va_Qi (S := zv_GT) (fun r u => zp_vote n vw vs vt x y z r u) (fun u t => zx_Mo D dA dZ ad (va_A (mW dA dZ ad gS gW gF gO gJ nv) sz) u.1 u.2.1 u.2.2.1 u.2.2.2 st t) (va_A (mW dA dZ ad gS gW gF gO gJ nv) sz)) 0 0 (va_A (mW dA dZ ad gS gW gF gO gJ nv) sz) := by
  refine Met.ofW (cc := cX1_vote) (maxL := 6) (ret := (some .int)) (by decide) rfl ?_
  intro p e s m args below meth c s₁ B hml hv
  obtain ⟨rfl, hsz, hP, hK, hD0⟩ := hv
  have hx := B.exec
  have hb := B.bytes
  have hr := B.returns
  have hts := atoms_spec (ws := ws_ yX1_vote cX1_vote 6 (some .int)) B.pre
  have hts : ∀ w ∈ lw_all, w.before _ s = true := fun w h => hts w (List.mem_cons_of_mem _ h)
  have hown : s.vm.findClass RX1 = some m.cls := findClass_of_methodNamed B.named
  have hlocks := B.notSynchronized
  subst hsz
  have hD := hD0.self (sz := s.heap.size)
  generalize hAe : va_A (mW dA dZ ad gS gW gF gO gJ nv) s.heap.size = A at hD ⊢
  have hA : ∀ q : Nat, s.heap.size ≤ q → A q := fun q h => by rw [← hAe]; exact Or.inr h
  have hS : va_S A s.heap s.heap [] := va_S.rf
  have hl := lv_entry ([.ref (ad 0), .int x, .int y, .int z]) (n := 6) (Nat.le_of_ble_eq_true rfl)
  rw [lg_entry_eq]
  generalize (lg_sl ([.ref (ad 0), .int x, .int y, .int z]) ++ List.replicate (6 - (lg_sl ([.ref (ad 0), .int x, .int y, .int z])).length) Slot.unset).toArray = ls at hl ⊢
  have hl : lv_has ls 6 [(0, .ref (ad 0)), (1, .int x), (2, .int y), (3, .int z)] := hl
  refine lv_iload_n hx hb dX1_vote_0 rfl (lv_at hl 1 rfl) ?_
  refine vp_callSi (W.runS (As := [.int x]) (rest := []) ⟨hx, hb, hml, hown, hts⟩ (cM_bad l x) (va_cwS 1 hts (lw_S q167 q168 q13 q169) rfl rfl rfl (by decide +kernel) ⟨Nat.le_of_ble_eq_true rfl, Nat.le_of_ble_eq_true rfl⟩) (zx_pS _) rfl rfl hl.1 rfl (lv_room (Nat.le_of_ble_eq_true rfl)) dX1_vote_1 ⟨Nat.le_of_ble_eq_true rfl, Nat.le_of_ble_eq_true rfl⟩) (fun r1 hr1 => ?_)
  refine lv_if_ne (tgt := 30) hx hb dX1_vote_4 (by decide) (fun c1 => ?_) (fun c1 => ?_)
  · refine lv_iconst (v := (-1)) hx hb dX1_vote_30 (by decide) ?_
    exact W.iret (v := (-1)) hx hb hr (fun t ht hW => ⟨⟨_, _, rfl, zp_vote_n (fun v a b h => hr1.1 c1 v h.1 h.2.2.2.2.1), _, _, _, _, _, _, hM, by rw [ht]; exact hP, va_K.moved hW.alike hK, hD⟩, hS.F ht⟩) hS.2.2 dX1_vote_31
  · obtain ⟨v, hv, rfl⟩ := hr1.2 c1
    refine lv_iload_n hx hb dX1_vote_7 rfl (lv_at hl 2 rfl) ?_
    refine vp_callSi (W.runS (As := [.int y]) (rest := []) ⟨hx, hb, hml, hown, hts⟩ (cM_badPoint l y) (va_cwS 1 hts (lw_S q174 q175 q13 q176) rfl rfl rfl (by decide +kernel) ⟨Nat.le_of_ble_eq_true rfl, Nat.le_of_ble_eq_true rfl⟩) (zx_pS _) rfl rfl hl.1 rfl (lv_room (Nat.le_of_ble_eq_true rfl)) dX1_vote_8 ⟨Nat.le_of_ble_eq_true rfl, Nat.le_of_ble_eq_true rfl⟩) (fun r2 hr2 => ?_)
    refine lv_if_ne (tgt := 30) hx hb dX1_vote_11 (by decide) (fun c2 => ?_) (fun c2 => ?_)
    · refine lv_iconst (v := (-1)) hx hb dX1_vote_30 (by decide) ?_
      exact W.iret (v := (-1)) hx hb hr (fun t ht hW => ⟨⟨_, _, rfl, zp_vote_n (fun v a b h => hr2.1 c2 a h.2.1 h.2.2.2.2.2.1), _, _, _, _, _, _, hM, by rw [ht]; exact hP, va_K.moved hW.alike hK, hD⟩, hS.F ht⟩) hS.2.2 dX1_vote_31
    · obtain ⟨a, ha, rfl⟩ := hr2.2 c2
      refine lv_iload_n hx hb dX1_vote_14 rfl (lv_at hl 3 rfl) ?_
      refine vp_callSi (W.runS (As := [.int z]) (rest := []) ⟨hx, hb, hml, hown, hts⟩ (cM_badPoint l z) (va_cwS 1 hts (lw_S q174 q175 q13 q176) rfl rfl rfl (by decide +kernel) ⟨Nat.le_of_ble_eq_true rfl, Nat.le_of_ble_eq_true rfl⟩) (zx_pS _) rfl rfl hl.1 rfl (lv_room (Nat.le_of_ble_eq_true rfl)) dX1_vote_15 ⟨Nat.le_of_ble_eq_true rfl, Nat.le_of_ble_eq_true rfl⟩) (fun r3 hr3 => ?_)
      refine lv_if_ne (tgt := 30) hx hb dX1_vote_18 (by decide) (fun c3 => ?_) (fun c3 => ?_)
      · refine lv_iconst (v := (-1)) hx hb dX1_vote_30 (by decide) ?_
        exact W.iret (v := (-1)) hx hb hr (fun t ht hW => ⟨⟨_, _, rfl, zp_vote_n (fun v a b h => hr3.1 c3 b h.2.2.1 h.2.2.2.2.2.2), _, _, _, _, _, _, hM, by rw [ht]; exact hP, va_K.moved hW.alike hK, hD⟩, hS.F ht⟩) hS.2.2 dX1_vote_31
      · obtain ⟨b, hb0, rfl⟩ := hr3.2 c3
        have ha1 := ha.1
        have hb1 := hb0.1
        refine lv_iload_n hx hb dX1_vote_21 rfl (lv_at hl 3 rfl) ?_
        refine lv_iconst (v := nI 4) hx hb dX1_vote_22 (by decide) ?_
        refine lv_idiv hx hb dX1_vote_23 (by decide) ?_
        refine zx_top (y := nI (b / 4)) (pk_div (by omega) (by omega) (by omega)) ?_
        refine lv_iload_n hx hb dX1_vote_24 rfl (lv_at hl 2 rfl) ?_
        refine lv_iconst (v := nI 4) hx hb dX1_vote_25 (by decide) ?_
        refine lv_idiv hx hb dX1_vote_26 (by decide) ?_
        refine zx_top (y := nI (a / 4)) (pk_div (by omega) (by omega) (by omega)) ?_
        refine lv_icmp_gt (tgt := 32) hx hb dX1_vote_27 (by decide) (fun c4 => ?_) (fun c4 => ?_)
        · have c4 : a / 4 < b / 4 := (nI_ltI (by omega) (by omega)).mp c4
          obtain ⟨hG, hst, rfl, hA0⟩ := id hM
          have hn64 := hG.1
          refine lv_aload_n hx hb dX1_vote_32 rfl (lv_at hl 0 rfl) ?_
          refine lv_iload_n hx hb dX1_vote_33 rfl (lv_at hl 1 rfl) ?_
          refine lv_iload_n hx hb dX1_vote_34 rfl (lv_at hl 2 rfl) ?_
          refine lv_iload_n hx hb dX1_vote_35 rfl (lv_at hl 3 rfl) ?_
          refine vp_callSi (W.runV (As := [.int (nI v), .int (nI a), .int (nI b)]) (rest := []) ⟨hx, hb, hml, hown, hts⟩ (cM_held l D dA dZ ad gS gW gF gO gJ (nI n) n vw vs vt st v (nI a) (nI b) hM hv) (cwV 3 hts (lw_V q177 q179 qs7 q13 q180) rfl rfl rfl (by decide +kernel) ⟨Nat.le_of_ble_eq_true rfl, Nat.le_of_ble_eq_true rfl⟩) (zx_pR hK hP rfl rfl _) rfl rfl hl.1 rfl (lv_room (Nat.le_of_ble_eq_true rfl)) dX1_vote_36 ⟨Nat.le_of_ble_eq_true rfl, Nat.le_of_ble_eq_true rfl⟩) (fun r4 hr4 => ?_)
          refine zx_top (y := if zv_held n vw vs vt v (nI a) (nI b) = true then 1 else 0) (hr4) ?_
          refine lv_if_ne (tgt := 51) hx hb dX1_vote_39 (by decide) (fun d1 => ?_) (fun d1 => ?_)
          · refine lv_bipush (v := (-2)) hx hb dX1_vote_51 (by decide) ?_
            exact W.iret (v := (-2)) hx hb hr (fun t ht hW => ⟨⟨_, _, rfl, zp_vote_r hv ha hb0 c4 (Or.inl (zi_1 d1)), _, _, _, _, _, _, hM, by rw [ht]; exact hP, va_K.moved hW.alike hK, hD⟩, hS.F ht⟩) hS.2.2 dX1_vote_53
          · have hh : zv_held n vw vs vt v (nI a) (nI b) = false := Bool.eq_false_iff.mpr (zi_0 d1)
            refine lv_aload_n hx hb dX1_vote_42 rfl (lv_at hl 0 rfl) ?_
            refine va_get (D := D) (ci := 1) (v := .int (nI n)) (C := RX1) (T := TX1) (N := 6) hx hb hts in_X1 hown hK hP 0 rfl rfl 1 (by decide) (hts _ q145) (fun _ h9 => h9) rfl dX1_vote_43 ?_
            refine lv_bipush (v := nI 64) hx hb dX1_vote_46 (by decide) ?_
            refine lv_icmp_ne (tgt := 54) hx hb dX1_vote_48 (by decide) (fun d2 => ?_) (fun d2 => ?_)
            · have d2 : ¬ n = 64 := fun q => d2 ((nI_eq (by omega) (by omega)).mpr q)
              refine lv_iconst (v := nI 0) hx hb dX1_vote_54 (by decide) ?_
              refine lv_istore (lv' := [(4, .int (nI 0)), (0, .ref (ad 0)), (1, .int (nI v)), (2, .int (nI a)), (3, .int (nI b))]) hx hb dX1_vote_55 hl (by decide) rfl (fun ls hl => ?_)
              refine lv_iconst (v := nI 0) hx hb dX1_vote_57 (by decide) ?_
              refine lv_istore (lv' := [(5, .int (nI 0)), (4, .int (nI 0)), (0, .ref (ad 0)), (1, .int (nI v)), (2, .int (nI a)), (3, .int (nI b))]) hx hb dX1_vote_58 hl (by decide) rfl (fun ls hl => ?_)
              refine zx_r1 (α := Nat) (mu := fun i => n - i) (I := fun i ls => (i ≤ n) ∧ lv_has ls 6 [(0, .ref (ad 0)), (1, .int (nI v)), (2, .int (nI a)), (3, .int (nI b)), (4, .int (nI (zv_v3 (zv_any (zv_b1 vw vt v b) i) (zv_any (zv_b2 vw vs vt v a b) i) (zv_any (zv_b4 vw vs vt v a b) i)))), (5, .int (nI i))]) ?_ 0 ⟨Nat.zero_le _, lv_sub hl [2, 3, 4, 5, 1, 0] rfl⟩
              intro i ls hI ih
              obtain ⟨hi, hl⟩ := hI
              refine lv_iload hx hb dX1_vote_60 (lv_at hl 5 rfl) ?_
              refine lv_aload_n hx hb dX1_vote_62 rfl (lv_at hl 0 rfl) ?_
              refine va_get (D := D) (ci := 1) (v := .int (nI n)) (C := RX1) (T := TX1) (N := 6) hx hb hts in_X1 hown hK hP 0 rfl rfl 1 (by decide) (hts _ q145) (fun _ h9 => h9) rfl dX1_vote_63 ?_
              refine lv_icmp_ge (tgt := 163) hx hb dX1_vote_66 (by decide) (fun d3 => ?_) (fun d3 => ?_)
              · have d3 : n ≤ i := (nI_leI (by omega) (by omega)).mp d3
                have h9 : n = i := by omega
                subst h9
                refine lv_aload_n hx hb dX1_vote_163 rfl (lv_at hl 0 rfl) ?_
                refine va_get (D := D) (ci := 1) (v := .ref (ad 2)) (C := RX1) (T := TX1) (N := 6) hx hb hts in_X1 hown hK hP 0 rfl rfl 2 (by decide) (hts _ q146) (fun _ h9 => h9) rfl dX1_vote_164 ?_
                refine lv_aload_n hx hb dX1_vote_167 rfl (lv_at hl 0 rfl) ?_
                refine va_get (D := D) (ci := 1) (v := .int (nI n)) (C := RX1) (T := TX1) (N := 6) hx hb hts in_X1 hown hK hP 0 rfl rfl 1 (by decide) (hts _ q145) (fun _ h9 => h9) rfl dX1_vote_168 ?_
                refine lv_iload_n hx hb dX1_vote_171 rfl (lv_at hl 1 rfl) ?_
                refine zx_iast hx hb hK hP hD hS 2 0 rfl rfl (j := n) rfl (by omega) (by decide) dX1_vote_172 (fun H locs hP hD hS => ?_)
                have hP : va_P D vwCl (mW dA dZ ad gS (upd gW n (nI v)) gF gO gJ (nI n)) H := hP
                have hD : va_D A (mW dA dZ ad gS (upd gW n (nI v)) gF gO gJ (nI n)) := hD
                refine lv_aload_n hx hb dX1_vote_173 rfl (lv_at hl 0 rfl) ?_
                refine va_get (D := D) (ci := 1) (v := .ref (ad 3)) (C := RX1) (T := TX1) (N := 6) hx hb hts in_X1 hown hK hP 0 rfl rfl 3 (by decide) (hts _ q147) (fun _ h9 => h9) rfl dX1_vote_174 ?_
                refine lv_aload_n hx hb dX1_vote_177 rfl (lv_at hl 0 rfl) ?_
                refine va_get (D := D) (ci := 1) (v := .int (nI n)) (C := RX1) (T := TX1) (N := 6) hx hb hts in_X1 hown hK hP 0 rfl rfl 1 (by decide) (hts _ q145) (fun _ h9 => h9) rfl dX1_vote_178 ?_
                refine lv_iload_n hx hb dX1_vote_181 rfl (lv_at hl 2 rfl) ?_
                refine zx_iast hx hb hK hP hD hS 3 0 rfl rfl (j := n) rfl (by omega) (by decide) dX1_vote_182 (fun H locs hP hD hS => ?_)
                have hP : va_P D vwCl (mW dA dZ ad gS (upd gW n (nI v)) (upd gF n (nI a)) gO gJ (nI n)) H := hP
                have hD : va_D A (mW dA dZ ad gS (upd gW n (nI v)) (upd gF n (nI a)) gO gJ (nI n)) := hD
                refine lv_aload_n hx hb dX1_vote_183 rfl (lv_at hl 0 rfl) ?_
                refine va_get (D := D) (ci := 1) (v := .ref (ad 4)) (C := RX1) (T := TX1) (N := 6) hx hb hts in_X1 hown hK hP 0 rfl rfl 4 (by decide) (hts _ q148) (fun _ h9 => h9) rfl dX1_vote_184 ?_
                refine lv_aload_n hx hb dX1_vote_187 rfl (lv_at hl 0 rfl) ?_
                refine va_get (D := D) (ci := 1) (v := .int (nI n)) (C := RX1) (T := TX1) (N := 6) hx hb hts in_X1 hown hK hP 0 rfl rfl 1 (by decide) (hts _ q145) (fun _ h9 => h9) rfl dX1_vote_188 ?_
                refine lv_iload_n hx hb dX1_vote_191 rfl (lv_at hl 3 rfl) ?_
                refine zx_iast hx hb hK hP hD hS 4 0 rfl rfl (j := n) rfl (by omega) (by decide) dX1_vote_192 (fun H locs hP hD hS => ?_)
                have hP : va_P D vwCl (mW dA dZ ad gS (upd gW n (nI v)) (upd gF n (nI a)) (upd gO n (nI b)) gJ (nI n)) H := hP
                have hD : va_D A (mW dA dZ ad gS (upd gW n (nI v)) (upd gF n (nI a)) (upd gO n (nI b)) gJ (nI n)) := hD
                refine lv_aload_n hx hb dX1_vote_193 rfl (lv_at hl 0 rfl) ?_
                refine lv_dup hx hb dX1_vote_194 rfl ?_
                refine va_get (D := D) (ci := 1) (v := .int (nI n)) (C := RX1) (T := TX1) (N := 6) hx hb hts in_X1 hown hK hP 0 rfl rfl 1 (by decide) (hts _ q145) (fun _ h9 => h9) rfl dX1_vote_195 ?_
                refine lv_iconst (v := nI 1) hx hb dX1_vote_198 (by decide) ?_
                refine lv_iadd hx hb dX1_vote_199 ?_
                refine zx_top (y := nI (n + 1)) (nI_add _ _) ?_
                refine va_put (D := D) (ci := 1) (v := .int (nI (n + 1))) (ty := .int) (C := RX1) (T := TX1) (N := 6) hx hb hts in_X1 tyX1 tyX1_ok nmX1 hown hK hP hD hS 0 rfl rfl 1 (by decide) (hts _ q145) (fun _ h9 => h9) rfl (by decide +kernel) rfl rfl (Nat.le_of_ble_eq_true rfl) dX1_vote_200 (fun H locs hP hD hS => ?_)
                have hP : va_P D vwCl (mW dA dZ ad gS (upd gW n (nI v)) (upd gF n (nI a)) (upd gO n (nI b)) gJ (nI (n + 1))) H := hP
                have hD : va_D A (mW dA dZ ad gS (upd gW n (nI v)) (upd gF n (nI a)) (upd gO n (nI b)) gJ (nI (n + 1))) := hD
                refine lv_iload hx hb dX1_vote_203 (lv_at hl 4 rfl) ?_
                exact W.iret (v := (nI (zv_v3 (zv_any (zv_b1 vw vt v b) n) (zv_any (zv_b2 vw vs vt v a b) n) (zv_any (zv_b4 vw vs vt v a b) n)))) hx hb hr (fun t ht hW => ⟨⟨_, _, rfl, zp_vote_y hv ha hb0 c4 hh (by omega), _, _, _, _, _, _, zs_voteM hM (by omega) hv (by omega) (by omega) c4 hh, by rw [ht]; exact hP, va_K.moved hW.alike hK, hD⟩, hS.F ht⟩) hS.2.2 dX1_vote_205
              · have d3 : ¬ n ≤ i := fun q => d3 ((nI_leI (by omega) (by omega)).mpr q)
                obtain ⟨f1, f2, f3⟩ := hA0 i (by omega)
                obtain ⟨b1, b2, b3, b4⟩ := hG.2.1 i (by omega)
                refine lv_aload_n hx hb dX1_vote_69 rfl (lv_at hl 0 rfl) ?_
                refine va_get (D := D) (ci := 1) (v := .ref (ad 2)) (C := RX1) (T := TX1) (N := 6) hx hb hts in_X1 hown hK hP 0 rfl rfl 2 (by decide) (hts _ q146) (fun _ h9 => h9) rfl dX1_vote_70 ?_
                refine lv_iload hx hb dX1_vote_73 (lv_at hl 5 rfl) ?_
                refine zx_iald hx hb hK hP 2 0 rfl rfl (j := i) rfl (by omega) (by decide) dX1_vote_75 ?_
                refine zx_top (y := nI (vw i)) (f1) ?_
                refine lv_iload_n hx hb dX1_vote_76 rfl (lv_at hl 1 rfl) ?_
                refine lv_icmp_ne (tgt := 157) hx hb dX1_vote_77 (by decide) (fun d4 => ?_) (fun d4 => ?_)
                · have d4 : ¬ vw i = v := fun q => d4 ((nI_eq (by omega) (by omega)).mpr q)
                  rw [show zv_v3 (zv_any (zv_b1 vw vt v b) i) (zv_any (zv_b2 vw vs vt v a b) i) (zv_any (zv_b4 vw vs vt v a b) i) = zv_v3 (zv_any (zv_b1 vw vt v b) (i + 1)) (zv_any (zv_b2 vw vs vt v a b) (i + 1)) (zv_any (zv_b4 vw vs vt v a b) (i + 1)) from zv3_e (za_n (fun q => d4 (of_decide_eq_true q).1)) (za_n (fun q => d4 (of_decide_eq_true q).1)) (za_n (fun q => d4 (of_decide_eq_true q).1))] at hl
                  refine lv_iinc (v := nI (i + 1)) (lv' := [(5, .int (nI (i + 1))), (0, .ref (ad 0)), (1, .int (nI v)), (2, .int (nI a)), (3, .int (nI b)), (4, .int (nI (zv_v3 (zv_any (zv_b1 vw vt v b) (i + 1)) (zv_any (zv_b2 vw vs vt v a b) (i + 1)) (zv_any (zv_b4 vw vs vt v a b) (i + 1)))))]) hx hb dX1_vote_157 hl (k := 5) rfl (nI_1 _) (by decide) rfl (fun ls hl => ?_)
                  refine lv_goto (tgt := 60) hx hb dX1_vote_160 (by decide) ?_
                  exact ih (i + 1) ls (by omega) ⟨by omega, lv_sub hl [1, 2, 3, 4, 5, 0] rfl⟩
                · have d4 : vw i = v := (nI_eq (by omega) (by omega)).mp d4
                  refine lv_aload_n hx hb dX1_vote_80 rfl (lv_at hl 0 rfl) ?_
                  refine va_get (D := D) (ci := 1) (v := .ref (ad 4)) (C := RX1) (T := TX1) (N := 6) hx hb hts in_X1 hown hK hP 0 rfl rfl 4 (by decide) (hts _ q148) (fun _ h9 => h9) rfl dX1_vote_81 ?_
                  refine lv_iload hx hb dX1_vote_84 (lv_at hl 5 rfl) ?_
                  refine zx_iald hx hb hK hP 4 0 rfl rfl (j := i) rfl (by omega) (by decide) dX1_vote_86 ?_
                  refine zx_top (y := nI (vt i)) (f3) ?_
                  refine lv_iconst (v := nI 4) hx hb dX1_vote_87 (by decide) ?_
                  refine lv_idiv hx hb dX1_vote_88 (by decide) ?_
                  refine zx_top (y := nI ((vt i) / 4)) (pk_div (by omega) (by omega) (by omega)) ?_
                  refine lv_iload_n hx hb dX1_vote_89 rfl (lv_at hl 3 rfl) ?_
                  refine lv_iconst (v := nI 4) hx hb dX1_vote_90 (by decide) ?_
                  refine lv_idiv hx hb dX1_vote_91 (by decide) ?_
                  refine zx_top (y := nI (b / 4)) (pk_div (by omega) (by omega) (by omega)) ?_
                  refine lv_icmp_ne (tgt := 101) hx hb dX1_vote_92 (by decide) (fun d5 => ?_) (fun d5 => ?_)
                  · have d5 : ¬ (vt i) / 4 = b / 4 := fun q => d5 ((nI_eq (by omega) (by omega)).mpr q)
                    refine lv_iload_n hx hb dX1_vote_101 rfl (lv_at hl 2 rfl) ?_
                    refine lv_iload_n hx hb dX1_vote_102 rfl (lv_at hl 3 rfl) ?_
                    refine lv_aload_n hx hb dX1_vote_103 rfl (lv_at hl 0 rfl) ?_
                    refine va_get (D := D) (ci := 1) (v := .ref (ad 3)) (C := RX1) (T := TX1) (N := 6) hx hb hts in_X1 hown hK hP 0 rfl rfl 3 (by decide) (hts _ q147) (fun _ h9 => h9) rfl dX1_vote_104 ?_
                    refine lv_iload hx hb dX1_vote_107 (lv_at hl 5 rfl) ?_
                    refine zx_iald hx hb hK hP 3 0 rfl rfl (j := i) rfl (by omega) (by decide) dX1_vote_109 ?_
                    refine zx_top (y := nI (vs i)) (f2) ?_
                    refine lv_aload_n hx hb dX1_vote_110 rfl (lv_at hl 0 rfl) ?_
                    refine va_get (D := D) (ci := 1) (v := .ref (ad 4)) (C := RX1) (T := TX1) (N := 6) hx hb hts in_X1 hown hK hP 0 rfl rfl 4 (by decide) (hts _ q148) (fun _ h9 => h9) rfl dX1_vote_111 ?_
                    refine lv_iload hx hb dX1_vote_114 (lv_at hl 5 rfl) ?_
                    refine zx_iald hx hb hK hP 4 0 rfl rfl (j := i) rfl (by omega) (by decide) dX1_vote_116 ?_
                    refine zx_top (y := nI (vt i)) (f3) ?_
                    refine vp_callSi (W.runS (As := [.int (nI a), .int (nI b), .int (nI (vs i)), .int (nI (vt i))]) (rest := []) ⟨hx, hb, hml, hown, hts⟩ (cM_surrounds l a b (vs i) (vt i) (by omega) (by omega) b2 b3) (va_cwS 4 hts (lw_S q181 q182 q13 q183) rfl rfl rfl (by decide +kernel) ⟨Nat.le_of_ble_eq_true rfl, Nat.le_of_ble_eq_true rfl⟩) (zx_pS _) rfl rfl hl.1 rfl (lv_room (Nat.le_of_ble_eq_true rfl)) dX1_vote_117 ⟨Nat.le_of_ble_eq_true rfl, Nat.le_of_ble_eq_true rfl⟩) (fun r5 hr5 => ?_)
                    refine lv_if_eq (tgt := 129) hx hb dX1_vote_120 (by decide) (fun d6 => ?_) (fun d6 => ?_)
                    · refine lv_aload_n hx hb dX1_vote_129 rfl (lv_at hl 0 rfl) ?_
                      refine va_get (D := D) (ci := 1) (v := .ref (ad 3)) (C := RX1) (T := TX1) (N := 6) hx hb hts in_X1 hown hK hP 0 rfl rfl 3 (by decide) (hts _ q147) (fun _ h9 => h9) rfl dX1_vote_130 ?_
                      refine lv_iload hx hb dX1_vote_133 (lv_at hl 5 rfl) ?_
                      refine zx_iald hx hb hK hP 3 0 rfl rfl (j := i) rfl (by omega) (by decide) dX1_vote_135 ?_
                      refine zx_top (y := nI (vs i)) (f2) ?_
                      refine lv_aload_n hx hb dX1_vote_136 rfl (lv_at hl 0 rfl) ?_
                      refine va_get (D := D) (ci := 1) (v := .ref (ad 4)) (C := RX1) (T := TX1) (N := 6) hx hb hts in_X1 hown hK hP 0 rfl rfl 4 (by decide) (hts _ q148) (fun _ h9 => h9) rfl dX1_vote_137 ?_
                      refine lv_iload hx hb dX1_vote_140 (lv_at hl 5 rfl) ?_
                      refine zx_iald hx hb hK hP 4 0 rfl rfl (j := i) rfl (by omega) (by decide) dX1_vote_142 ?_
                      refine zx_top (y := nI (vt i)) (f3) ?_
                      refine lv_iload_n hx hb dX1_vote_143 rfl (lv_at hl 2 rfl) ?_
                      refine lv_iload_n hx hb dX1_vote_144 rfl (lv_at hl 3 rfl) ?_
                      refine vp_callSi (W.runS (As := [.int (nI (vs i)), .int (nI (vt i)), .int (nI a), .int (nI b)]) (rest := []) ⟨hx, hb, hml, hown, hts⟩ (cM_surrounds l (vs i) (vt i) a b b2 b3 (by omega) (by omega)) (va_cwS 4 hts (lw_S q181 q182 q13 q183) rfl rfl rfl (by decide +kernel) ⟨Nat.le_of_ble_eq_true rfl, Nat.le_of_ble_eq_true rfl⟩) (zx_pS _) rfl rfl hl.1 rfl (lv_room (Nat.le_of_ble_eq_true rfl)) dX1_vote_145 ⟨Nat.le_of_ble_eq_true rfl, Nat.le_of_ble_eq_true rfl⟩) (fun r6 hr6 => ?_)
                      refine lv_if_eq (tgt := 157) hx hb dX1_vote_148 (by decide) (fun d7 => ?_) (fun d7 => ?_)
                      · rw [show zv_v3 (zv_any (zv_b1 vw vt v b) i) (zv_any (zv_b2 vw vs vt v a b) i) (zv_any (zv_b4 vw vs vt v a b) i) = zv_v3 (zv_any (zv_b1 vw vt v b) (i + 1)) (zv_any (zv_b2 vw vs vt v a b) (i + 1)) (zv_any (zv_b4 vw vs vt v a b) (i + 1)) from zv3_e (za_n (fun q => d5 (of_decide_eq_true q).2)) (za_n (fun q => hr5.2 d6 (of_decide_eq_true q).2)) (za_n (fun q => hr6.2 d7 (of_decide_eq_true q).2))] at hl
                        refine lv_iinc (v := nI (i + 1)) (lv' := [(5, .int (nI (i + 1))), (0, .ref (ad 0)), (1, .int (nI v)), (2, .int (nI a)), (3, .int (nI b)), (4, .int (nI (zv_v3 (zv_any (zv_b1 vw vt v b) (i + 1)) (zv_any (zv_b2 vw vs vt v a b) (i + 1)) (zv_any (zv_b4 vw vs vt v a b) (i + 1)))))]) hx hb dX1_vote_157 hl (k := 5) rfl (nI_1 _) (by decide) rfl (fun ls hl => ?_)
                        refine lv_goto (tgt := 60) hx hb dX1_vote_160 (by decide) ?_
                        exact ih (i + 1) ls (by omega) ⟨by omega, lv_sub hl [1, 2, 3, 4, 5, 0] rfl⟩
                      · refine lv_iload hx hb dX1_vote_151 (lv_at hl 4 rfl) ?_
                        refine lv_iconst (v := nI 4) hx hb dX1_vote_153 (by decide) ?_
                        refine lv_ior hx hb dX1_vote_154 ?_
                        refine zx_top (y := nI (zv_v3 (zv_any (zv_b1 vw vt v b) i) (zv_any (zv_b2 vw vs vt v a b) i) true)) (zo_4 _ _ _) ?_
                        refine lv_istore (lv' := [(4, .int (nI (zv_v3 (zv_any (zv_b1 vw vt v b) i) (zv_any (zv_b2 vw vs vt v a b) i) true))), (0, .ref (ad 0)), (1, .int (nI v)), (2, .int (nI a)), (3, .int (nI b)), (5, .int (nI i))]) hx hb dX1_vote_155 hl (by decide) rfl (fun ls hl => ?_)
                        rw [show zv_v3 (zv_any (zv_b1 vw vt v b) i) (zv_any (zv_b2 vw vs vt v a b) i) true = zv_v3 (zv_any (zv_b1 vw vt v b) (i + 1)) (zv_any (zv_b2 vw vs vt v a b) (i + 1)) (zv_any (zv_b4 vw vs vt v a b) (i + 1)) from zv3_e (za_n (fun q => d5 (of_decide_eq_true q).2)) (za_n (fun q => hr5.2 d6 (of_decide_eq_true q).2)) (za_y (decide_eq_true ⟨d4, hr6.1 d7⟩))] at hl
                        refine lv_iinc (v := nI (i + 1)) (lv' := [(5, .int (nI (i + 1))), (4, .int (nI (zv_v3 (zv_any (zv_b1 vw vt v b) (i + 1)) (zv_any (zv_b2 vw vs vt v a b) (i + 1)) (zv_any (zv_b4 vw vs vt v a b) (i + 1))))), (0, .ref (ad 0)), (1, .int (nI v)), (2, .int (nI a)), (3, .int (nI b))]) hx hb dX1_vote_157 hl (k := 5) rfl (nI_1 _) (by decide) rfl (fun ls hl => ?_)
                        refine lv_goto (tgt := 60) hx hb dX1_vote_160 (by decide) ?_
                        exact ih (i + 1) ls (by omega) ⟨by omega, lv_sub hl [2, 3, 4, 5, 1, 0] rfl⟩
                    · refine lv_iload hx hb dX1_vote_123 (lv_at hl 4 rfl) ?_
                      refine lv_iconst (v := nI 2) hx hb dX1_vote_125 (by decide) ?_
                      refine lv_ior hx hb dX1_vote_126 ?_
                      refine zx_top (y := nI (zv_v3 (zv_any (zv_b1 vw vt v b) i) true (zv_any (zv_b4 vw vs vt v a b) i))) (zo_2 _ _ _) ?_
                      refine lv_istore (lv' := [(4, .int (nI (zv_v3 (zv_any (zv_b1 vw vt v b) i) true (zv_any (zv_b4 vw vs vt v a b) i)))), (0, .ref (ad 0)), (1, .int (nI v)), (2, .int (nI a)), (3, .int (nI b)), (5, .int (nI i))]) hx hb dX1_vote_127 hl (by decide) rfl (fun ls hl => ?_)
                      refine lv_aload_n hx hb dX1_vote_129 rfl (lv_at hl 1 rfl) ?_
                      refine va_get (D := D) (ci := 1) (v := .ref (ad 3)) (C := RX1) (T := TX1) (N := 6) hx hb hts in_X1 hown hK hP 0 rfl rfl 3 (by decide) (hts _ q147) (fun _ h9 => h9) rfl dX1_vote_130 ?_
                      refine lv_iload hx hb dX1_vote_133 (lv_at hl 5 rfl) ?_
                      refine zx_iald hx hb hK hP 3 0 rfl rfl (j := i) rfl (by omega) (by decide) dX1_vote_135 ?_
                      refine zx_top (y := nI (vs i)) (f2) ?_
                      refine lv_aload_n hx hb dX1_vote_136 rfl (lv_at hl 1 rfl) ?_
                      refine va_get (D := D) (ci := 1) (v := .ref (ad 4)) (C := RX1) (T := TX1) (N := 6) hx hb hts in_X1 hown hK hP 0 rfl rfl 4 (by decide) (hts _ q148) (fun _ h9 => h9) rfl dX1_vote_137 ?_
                      refine lv_iload hx hb dX1_vote_140 (lv_at hl 5 rfl) ?_
                      refine zx_iald hx hb hK hP 4 0 rfl rfl (j := i) rfl (by omega) (by decide) dX1_vote_142 ?_
                      refine zx_top (y := nI (vt i)) (f3) ?_
                      refine lv_iload_n hx hb dX1_vote_143 rfl (lv_at hl 3 rfl) ?_
                      refine lv_iload_n hx hb dX1_vote_144 rfl (lv_at hl 4 rfl) ?_
                      refine vp_callSi (W.runS (As := [.int (nI (vs i)), .int (nI (vt i)), .int (nI a), .int (nI b)]) (rest := []) ⟨hx, hb, hml, hown, hts⟩ (cM_surrounds l (vs i) (vt i) a b b2 b3 (by omega) (by omega)) (va_cwS 4 hts (lw_S q181 q182 q13 q183) rfl rfl rfl (by decide +kernel) ⟨Nat.le_of_ble_eq_true rfl, Nat.le_of_ble_eq_true rfl⟩) (zx_pS _) rfl rfl hl.1 rfl (lv_room (Nat.le_of_ble_eq_true rfl)) dX1_vote_145 ⟨Nat.le_of_ble_eq_true rfl, Nat.le_of_ble_eq_true rfl⟩) (fun r6 hr6 => ?_)
                      refine lv_if_eq (tgt := 157) hx hb dX1_vote_148 (by decide) (fun d7 => ?_) (fun d7 => ?_)
                      · rw [show zv_v3 (zv_any (zv_b1 vw vt v b) i) true (zv_any (zv_b4 vw vs vt v a b) i) = zv_v3 (zv_any (zv_b1 vw vt v b) (i + 1)) (zv_any (zv_b2 vw vs vt v a b) (i + 1)) (zv_any (zv_b4 vw vs vt v a b) (i + 1)) from zv3_e (za_n (fun q => d5 (of_decide_eq_true q).2)) (za_y (decide_eq_true ⟨d4, hr5.1 d6⟩)) (za_n (fun q => hr6.2 d7 (of_decide_eq_true q).2))] at hl
                        refine lv_iinc (v := nI (i + 1)) (lv' := [(5, .int (nI (i + 1))), (4, .int (nI (zv_v3 (zv_any (zv_b1 vw vt v b) (i + 1)) (zv_any (zv_b2 vw vs vt v a b) (i + 1)) (zv_any (zv_b4 vw vs vt v a b) (i + 1))))), (0, .ref (ad 0)), (1, .int (nI v)), (2, .int (nI a)), (3, .int (nI b))]) hx hb dX1_vote_157 hl (k := 5) rfl (nI_1 _) (by decide) rfl (fun ls hl => ?_)
                        refine lv_goto (tgt := 60) hx hb dX1_vote_160 (by decide) ?_
                        exact ih (i + 1) ls (by omega) ⟨by omega, lv_sub hl [2, 3, 4, 5, 1, 0] rfl⟩
                      · refine lv_iload hx hb dX1_vote_151 (lv_at hl 0 rfl) ?_
                        refine lv_iconst (v := nI 4) hx hb dX1_vote_153 (by decide) ?_
                        refine lv_ior hx hb dX1_vote_154 ?_
                        refine zx_top (y := nI (zv_v3 (zv_any (zv_b1 vw vt v b) i) true true)) (zo_4 _ _ _) ?_
                        refine lv_istore (lv' := [(4, .int (nI (zv_v3 (zv_any (zv_b1 vw vt v b) i) true true))), (0, .ref (ad 0)), (1, .int (nI v)), (2, .int (nI a)), (3, .int (nI b)), (5, .int (nI i))]) hx hb dX1_vote_155 hl (by decide) rfl (fun ls hl => ?_)
                        rw [show zv_v3 (zv_any (zv_b1 vw vt v b) i) true true = zv_v3 (zv_any (zv_b1 vw vt v b) (i + 1)) (zv_any (zv_b2 vw vs vt v a b) (i + 1)) (zv_any (zv_b4 vw vs vt v a b) (i + 1)) from zv3_e (za_n (fun q => d5 (of_decide_eq_true q).2)) (za_y (decide_eq_true ⟨d4, hr5.1 d6⟩)) (za_y (decide_eq_true ⟨d4, hr6.1 d7⟩))] at hl
                        refine lv_iinc (v := nI (i + 1)) (lv' := [(5, .int (nI (i + 1))), (4, .int (nI (zv_v3 (zv_any (zv_b1 vw vt v b) (i + 1)) (zv_any (zv_b2 vw vs vt v a b) (i + 1)) (zv_any (zv_b4 vw vs vt v a b) (i + 1))))), (0, .ref (ad 0)), (1, .int (nI v)), (2, .int (nI a)), (3, .int (nI b))]) hx hb dX1_vote_157 hl (k := 5) rfl (nI_1 _) (by decide) rfl (fun ls hl => ?_)
                        refine lv_goto (tgt := 60) hx hb dX1_vote_160 (by decide) ?_
                        exact ih (i + 1) ls (by omega) ⟨by omega, lv_sub hl [2, 3, 4, 5, 1, 0] rfl⟩
                  · have d5 : (vt i) / 4 = b / 4 := (nI_eq (by omega) (by omega)).mp d5
                    refine lv_iload hx hb dX1_vote_95 (lv_at hl 4 rfl) ?_
                    refine lv_iconst (v := nI 1) hx hb dX1_vote_97 (by decide) ?_
                    refine lv_ior hx hb dX1_vote_98 ?_
                    refine zx_top (y := nI (zv_v3 true (zv_any (zv_b2 vw vs vt v a b) i) (zv_any (zv_b4 vw vs vt v a b) i))) (zo_1 _ _ _) ?_
                    refine lv_istore (lv' := [(4, .int (nI (zv_v3 true (zv_any (zv_b2 vw vs vt v a b) i) (zv_any (zv_b4 vw vs vt v a b) i)))), (0, .ref (ad 0)), (1, .int (nI v)), (2, .int (nI a)), (3, .int (nI b)), (5, .int (nI i))]) hx hb dX1_vote_99 hl (by decide) rfl (fun ls hl => ?_)
                    refine lv_iload_n hx hb dX1_vote_101 rfl (lv_at hl 3 rfl) ?_
                    refine lv_iload_n hx hb dX1_vote_102 rfl (lv_at hl 4 rfl) ?_
                    refine lv_aload_n hx hb dX1_vote_103 rfl (lv_at hl 1 rfl) ?_
                    refine va_get (D := D) (ci := 1) (v := .ref (ad 3)) (C := RX1) (T := TX1) (N := 6) hx hb hts in_X1 hown hK hP 0 rfl rfl 3 (by decide) (hts _ q147) (fun _ h9 => h9) rfl dX1_vote_104 ?_
                    refine lv_iload hx hb dX1_vote_107 (lv_at hl 5 rfl) ?_
                    refine zx_iald hx hb hK hP 3 0 rfl rfl (j := i) rfl (by omega) (by decide) dX1_vote_109 ?_
                    refine zx_top (y := nI (vs i)) (f2) ?_
                    refine lv_aload_n hx hb dX1_vote_110 rfl (lv_at hl 1 rfl) ?_
                    refine va_get (D := D) (ci := 1) (v := .ref (ad 4)) (C := RX1) (T := TX1) (N := 6) hx hb hts in_X1 hown hK hP 0 rfl rfl 4 (by decide) (hts _ q148) (fun _ h9 => h9) rfl dX1_vote_111 ?_
                    refine lv_iload hx hb dX1_vote_114 (lv_at hl 5 rfl) ?_
                    refine zx_iald hx hb hK hP 4 0 rfl rfl (j := i) rfl (by omega) (by decide) dX1_vote_116 ?_
                    refine zx_top (y := nI (vt i)) (f3) ?_
                    refine vp_callSi (W.runS (As := [.int (nI a), .int (nI b), .int (nI (vs i)), .int (nI (vt i))]) (rest := []) ⟨hx, hb, hml, hown, hts⟩ (cM_surrounds l a b (vs i) (vt i) (by omega) (by omega) b2 b3) (va_cwS 4 hts (lw_S q181 q182 q13 q183) rfl rfl rfl (by decide +kernel) ⟨Nat.le_of_ble_eq_true rfl, Nat.le_of_ble_eq_true rfl⟩) (zx_pS _) rfl rfl hl.1 rfl (lv_room (Nat.le_of_ble_eq_true rfl)) dX1_vote_117 ⟨Nat.le_of_ble_eq_true rfl, Nat.le_of_ble_eq_true rfl⟩) (fun r5 hr5 => ?_)
                    refine lv_if_eq (tgt := 129) hx hb dX1_vote_120 (by decide) (fun d6 => ?_) (fun d6 => ?_)
                    · refine lv_aload_n hx hb dX1_vote_129 rfl (lv_at hl 1 rfl) ?_
                      refine va_get (D := D) (ci := 1) (v := .ref (ad 3)) (C := RX1) (T := TX1) (N := 6) hx hb hts in_X1 hown hK hP 0 rfl rfl 3 (by decide) (hts _ q147) (fun _ h9 => h9) rfl dX1_vote_130 ?_
                      refine lv_iload hx hb dX1_vote_133 (lv_at hl 5 rfl) ?_
                      refine zx_iald hx hb hK hP 3 0 rfl rfl (j := i) rfl (by omega) (by decide) dX1_vote_135 ?_
                      refine zx_top (y := nI (vs i)) (f2) ?_
                      refine lv_aload_n hx hb dX1_vote_136 rfl (lv_at hl 1 rfl) ?_
                      refine va_get (D := D) (ci := 1) (v := .ref (ad 4)) (C := RX1) (T := TX1) (N := 6) hx hb hts in_X1 hown hK hP 0 rfl rfl 4 (by decide) (hts _ q148) (fun _ h9 => h9) rfl dX1_vote_137 ?_
                      refine lv_iload hx hb dX1_vote_140 (lv_at hl 5 rfl) ?_
                      refine zx_iald hx hb hK hP 4 0 rfl rfl (j := i) rfl (by omega) (by decide) dX1_vote_142 ?_
                      refine zx_top (y := nI (vt i)) (f3) ?_
                      refine lv_iload_n hx hb dX1_vote_143 rfl (lv_at hl 3 rfl) ?_
                      refine lv_iload_n hx hb dX1_vote_144 rfl (lv_at hl 4 rfl) ?_
                      refine vp_callSi (W.runS (As := [.int (nI (vs i)), .int (nI (vt i)), .int (nI a), .int (nI b)]) (rest := []) ⟨hx, hb, hml, hown, hts⟩ (cM_surrounds l (vs i) (vt i) a b b2 b3 (by omega) (by omega)) (va_cwS 4 hts (lw_S q181 q182 q13 q183) rfl rfl rfl (by decide +kernel) ⟨Nat.le_of_ble_eq_true rfl, Nat.le_of_ble_eq_true rfl⟩) (zx_pS _) rfl rfl hl.1 rfl (lv_room (Nat.le_of_ble_eq_true rfl)) dX1_vote_145 ⟨Nat.le_of_ble_eq_true rfl, Nat.le_of_ble_eq_true rfl⟩) (fun r6 hr6 => ?_)
                      refine lv_if_eq (tgt := 157) hx hb dX1_vote_148 (by decide) (fun d7 => ?_) (fun d7 => ?_)
                      · rw [show zv_v3 true (zv_any (zv_b2 vw vs vt v a b) i) (zv_any (zv_b4 vw vs vt v a b) i) = zv_v3 (zv_any (zv_b1 vw vt v b) (i + 1)) (zv_any (zv_b2 vw vs vt v a b) (i + 1)) (zv_any (zv_b4 vw vs vt v a b) (i + 1)) from zv3_e (za_y (decide_eq_true ⟨d4, d5⟩)) (za_n (fun q => hr5.2 d6 (of_decide_eq_true q).2)) (za_n (fun q => hr6.2 d7 (of_decide_eq_true q).2))] at hl
                        refine lv_iinc (v := nI (i + 1)) (lv' := [(5, .int (nI (i + 1))), (4, .int (nI (zv_v3 (zv_any (zv_b1 vw vt v b) (i + 1)) (zv_any (zv_b2 vw vs vt v a b) (i + 1)) (zv_any (zv_b4 vw vs vt v a b) (i + 1))))), (0, .ref (ad 0)), (1, .int (nI v)), (2, .int (nI a)), (3, .int (nI b))]) hx hb dX1_vote_157 hl (k := 5) rfl (nI_1 _) (by decide) rfl (fun ls hl => ?_)
                        refine lv_goto (tgt := 60) hx hb dX1_vote_160 (by decide) ?_
                        exact ih (i + 1) ls (by omega) ⟨by omega, lv_sub hl [2, 3, 4, 5, 1, 0] rfl⟩
                      · refine lv_iload hx hb dX1_vote_151 (lv_at hl 0 rfl) ?_
                        refine lv_iconst (v := nI 4) hx hb dX1_vote_153 (by decide) ?_
                        refine lv_ior hx hb dX1_vote_154 ?_
                        refine zx_top (y := nI (zv_v3 true (zv_any (zv_b2 vw vs vt v a b) i) true)) (zo_4 _ _ _) ?_
                        refine lv_istore (lv' := [(4, .int (nI (zv_v3 true (zv_any (zv_b2 vw vs vt v a b) i) true))), (0, .ref (ad 0)), (1, .int (nI v)), (2, .int (nI a)), (3, .int (nI b)), (5, .int (nI i))]) hx hb dX1_vote_155 hl (by decide) rfl (fun ls hl => ?_)
                        rw [show zv_v3 true (zv_any (zv_b2 vw vs vt v a b) i) true = zv_v3 (zv_any (zv_b1 vw vt v b) (i + 1)) (zv_any (zv_b2 vw vs vt v a b) (i + 1)) (zv_any (zv_b4 vw vs vt v a b) (i + 1)) from zv3_e (za_y (decide_eq_true ⟨d4, d5⟩)) (za_n (fun q => hr5.2 d6 (of_decide_eq_true q).2)) (za_y (decide_eq_true ⟨d4, hr6.1 d7⟩))] at hl
                        refine lv_iinc (v := nI (i + 1)) (lv' := [(5, .int (nI (i + 1))), (4, .int (nI (zv_v3 (zv_any (zv_b1 vw vt v b) (i + 1)) (zv_any (zv_b2 vw vs vt v a b) (i + 1)) (zv_any (zv_b4 vw vs vt v a b) (i + 1))))), (0, .ref (ad 0)), (1, .int (nI v)), (2, .int (nI a)), (3, .int (nI b))]) hx hb dX1_vote_157 hl (k := 5) rfl (nI_1 _) (by decide) rfl (fun ls hl => ?_)
                        refine lv_goto (tgt := 60) hx hb dX1_vote_160 (by decide) ?_
                        exact ih (i + 1) ls (by omega) ⟨by omega, lv_sub hl [2, 3, 4, 5, 1, 0] rfl⟩
                    · refine lv_iload hx hb dX1_vote_123 (lv_at hl 0 rfl) ?_
                      refine lv_iconst (v := nI 2) hx hb dX1_vote_125 (by decide) ?_
                      refine lv_ior hx hb dX1_vote_126 ?_
                      refine zx_top (y := nI (zv_v3 true true (zv_any (zv_b4 vw vs vt v a b) i))) (zo_2 _ _ _) ?_
                      refine lv_istore (lv' := [(4, .int (nI (zv_v3 true true (zv_any (zv_b4 vw vs vt v a b) i)))), (0, .ref (ad 0)), (1, .int (nI v)), (2, .int (nI a)), (3, .int (nI b)), (5, .int (nI i))]) hx hb dX1_vote_127 hl (by decide) rfl (fun ls hl => ?_)
                      refine lv_aload_n hx hb dX1_vote_129 rfl (lv_at hl 1 rfl) ?_
                      refine va_get (D := D) (ci := 1) (v := .ref (ad 3)) (C := RX1) (T := TX1) (N := 6) hx hb hts in_X1 hown hK hP 0 rfl rfl 3 (by decide) (hts _ q147) (fun _ h9 => h9) rfl dX1_vote_130 ?_
                      refine lv_iload hx hb dX1_vote_133 (lv_at hl 5 rfl) ?_
                      refine zx_iald hx hb hK hP 3 0 rfl rfl (j := i) rfl (by omega) (by decide) dX1_vote_135 ?_
                      refine zx_top (y := nI (vs i)) (f2) ?_
                      refine lv_aload_n hx hb dX1_vote_136 rfl (lv_at hl 1 rfl) ?_
                      refine va_get (D := D) (ci := 1) (v := .ref (ad 4)) (C := RX1) (T := TX1) (N := 6) hx hb hts in_X1 hown hK hP 0 rfl rfl 4 (by decide) (hts _ q148) (fun _ h9 => h9) rfl dX1_vote_137 ?_
                      refine lv_iload hx hb dX1_vote_140 (lv_at hl 5 rfl) ?_
                      refine zx_iald hx hb hK hP 4 0 rfl rfl (j := i) rfl (by omega) (by decide) dX1_vote_142 ?_
                      refine zx_top (y := nI (vt i)) (f3) ?_
                      refine lv_iload_n hx hb dX1_vote_143 rfl (lv_at hl 3 rfl) ?_
                      refine lv_iload_n hx hb dX1_vote_144 rfl (lv_at hl 4 rfl) ?_
                      refine vp_callSi (W.runS (As := [.int (nI (vs i)), .int (nI (vt i)), .int (nI a), .int (nI b)]) (rest := []) ⟨hx, hb, hml, hown, hts⟩ (cM_surrounds l (vs i) (vt i) a b b2 b3 (by omega) (by omega)) (va_cwS 4 hts (lw_S q181 q182 q13 q183) rfl rfl rfl (by decide +kernel) ⟨Nat.le_of_ble_eq_true rfl, Nat.le_of_ble_eq_true rfl⟩) (zx_pS _) rfl rfl hl.1 rfl (lv_room (Nat.le_of_ble_eq_true rfl)) dX1_vote_145 ⟨Nat.le_of_ble_eq_true rfl, Nat.le_of_ble_eq_true rfl⟩) (fun r6 hr6 => ?_)
                      refine lv_if_eq (tgt := 157) hx hb dX1_vote_148 (by decide) (fun d7 => ?_) (fun d7 => ?_)
                      · rw [show zv_v3 true true (zv_any (zv_b4 vw vs vt v a b) i) = zv_v3 (zv_any (zv_b1 vw vt v b) (i + 1)) (zv_any (zv_b2 vw vs vt v a b) (i + 1)) (zv_any (zv_b4 vw vs vt v a b) (i + 1)) from zv3_e (za_y (decide_eq_true ⟨d4, d5⟩)) (za_y (decide_eq_true ⟨d4, hr5.1 d6⟩)) (za_n (fun q => hr6.2 d7 (of_decide_eq_true q).2))] at hl
                        refine lv_iinc (v := nI (i + 1)) (lv' := [(5, .int (nI (i + 1))), (4, .int (nI (zv_v3 (zv_any (zv_b1 vw vt v b) (i + 1)) (zv_any (zv_b2 vw vs vt v a b) (i + 1)) (zv_any (zv_b4 vw vs vt v a b) (i + 1))))), (0, .ref (ad 0)), (1, .int (nI v)), (2, .int (nI a)), (3, .int (nI b))]) hx hb dX1_vote_157 hl (k := 5) rfl (nI_1 _) (by decide) rfl (fun ls hl => ?_)
                        refine lv_goto (tgt := 60) hx hb dX1_vote_160 (by decide) ?_
                        exact ih (i + 1) ls (by omega) ⟨by omega, lv_sub hl [2, 3, 4, 5, 1, 0] rfl⟩
                      · refine lv_iload hx hb dX1_vote_151 (lv_at hl 0 rfl) ?_
                        refine lv_iconst (v := nI 4) hx hb dX1_vote_153 (by decide) ?_
                        refine lv_ior hx hb dX1_vote_154 ?_
                        refine zx_top (y := nI (zv_v3 true true true)) (zo_4 _ _ _) ?_
                        refine lv_istore (lv' := [(4, .int (nI (zv_v3 true true true))), (0, .ref (ad 0)), (1, .int (nI v)), (2, .int (nI a)), (3, .int (nI b)), (5, .int (nI i))]) hx hb dX1_vote_155 hl (by decide) rfl (fun ls hl => ?_)
                        rw [show zv_v3 true true true = zv_v3 (zv_any (zv_b1 vw vt v b) (i + 1)) (zv_any (zv_b2 vw vs vt v a b) (i + 1)) (zv_any (zv_b4 vw vs vt v a b) (i + 1)) from zv3_e (za_y (decide_eq_true ⟨d4, d5⟩)) (za_y (decide_eq_true ⟨d4, hr5.1 d6⟩)) (za_y (decide_eq_true ⟨d4, hr6.1 d7⟩))] at hl
                        refine lv_iinc (v := nI (i + 1)) (lv' := [(5, .int (nI (i + 1))), (4, .int (nI (zv_v3 (zv_any (zv_b1 vw vt v b) (i + 1)) (zv_any (zv_b2 vw vs vt v a b) (i + 1)) (zv_any (zv_b4 vw vs vt v a b) (i + 1))))), (0, .ref (ad 0)), (1, .int (nI v)), (2, .int (nI a)), (3, .int (nI b))]) hx hb dX1_vote_157 hl (k := 5) rfl (nI_1 _) (by decide) rfl (fun ls hl => ?_)
                        refine lv_goto (tgt := 60) hx hb dX1_vote_160 (by decide) ?_
                        exact ih (i + 1) ls (by omega) ⟨by omega, lv_sub hl [2, 3, 4, 5, 1, 0] rfl⟩
            · have d2 : n = 64 := (nI_eq (by omega) (by omega)).mp d2
              refine lv_bipush (v := (-2)) hx hb dX1_vote_51 (by decide) ?_
              exact W.iret (v := (-2)) hx hb hr (fun t ht hW => ⟨⟨_, _, rfl, zp_vote_r hv ha hb0 c4 (Or.inr d2), _, _, _, _, _, _, hM, by rw [ht]; exact hP, va_K.moved hW.alike hK, hD⟩, hS.F ht⟩) hS.2.2 dX1_vote_53
        · have c4 : ¬ a / 4 < b / 4 := fun q => c4 ((nI_ltI (by omega) (by omega)).mpr q)
          refine lv_iconst (v := (-1)) hx hb dX1_vote_30 (by decide) ?_
          exact W.iret (v := (-1)) hx hb hr (fun t ht hW => ⟨⟨_, _, rfl, zp_vote_n (fun v' a' b' h => c4 (by obtain ⟨rfl, rfl, rfl⟩ := zv_okU h hv ha hb0; exact h.2.2.2.1)), _, _, _, _, _, _, hM, by rw [ht]; exact hP, va_K.moved hW.alike hK, hD⟩, hS.F ht⟩) hS.2.2 dX1_vote_31
set_option maxHeartbeats 4000000 in
set_option maxRecDepth 100000 in
/-- justify() -/
theorem cM_justify (l : Launch) (D : va_G) (dA dZ : ClassId) (ad : Nat → Nat) (sz : Nat) (gS gW gF gO gJ : Nat → Int32) (nv : Int32) (n : Nat) (vw vs vt st : Nat → Nat) (hM : zr_M n vw vs vt st gS gW gF gO nv) : Met l yX1_justify (ws_ yX1_justify cX1_justify 4 none) ({ frames := 2, cells := 0, slots := 0, locals := 46 }) (va_Pc [.ref (ad 0)] (zx_M D [(dA, .int), (dZ, .boolean)] (mW dA dZ ad gS gW gF gO gJ nv) sz)) (va_Qv (S := Unit) (fun _ => True) (fun _ t => ∃ g : Nat → Int32, (∀ c, c < 128 → g c = zv_Ji n vw vs vt st c) ∧ zx_E D [(dA, .int), (dZ, .boolean)] (va_A (mW dA dZ ad gS gW gF gO gJ nv) sz) (mW dA dZ ad gS gW gF gO g nv) t) (va_A (mW dA dZ ad gS gW gF gO gJ nv) sz)) 0 0 (va_A (mW dA dZ ad gS gW gF gO gJ nv) sz) := by
  refine Met.ofW (cc := cX1_justify) (maxL := 4) (ret := none) (by decide) rfl ?_
  intro p e s m args below meth c s₁ B hml hv
  obtain ⟨rfl, hsz, hP, hK, hD0⟩ := hv
  have hx := B.exec
  have hb := B.bytes
  have hr := B.returns
  have hts := atoms_spec (ws := ws_ yX1_justify cX1_justify 4 none) B.pre
  have hts : ∀ w ∈ lw_all, w.before _ s = true := fun w h => hts w (List.mem_cons_of_mem _ h)
  have hown : s.vm.findClass RX1 = some m.cls := findClass_of_methodNamed B.named
  have hlocks := B.notSynchronized
  subst hsz
  have hD := hD0.self (sz := s.heap.size)
  generalize hAe : va_A (mW dA dZ ad gS gW gF gO gJ nv) s.heap.size = A at hD ⊢
  have hA : ∀ q : Nat, s.heap.size ≤ q → A q := fun q h => by rw [← hAe]; exact Or.inr h
  have hS : va_S A s.heap s.heap [] := va_S.rf
  have hl := lv_entry ([.ref (ad 0)]) (n := 4) (Nat.le_of_ble_eq_true rfl)
  rw [lg_entry_eq]
  generalize (lg_sl ([.ref (ad 0)]) ++ List.replicate (4 - (lg_sl ([.ref (ad 0)])).length) Slot.unset).toArray = ls at hl ⊢
  have hl : lv_has ls 4 [(0, .ref (ad 0))] := hl
  obtain ⟨hG, hst, rfl, hA0⟩ := id hM
  have hn64 := hG.1
  refine lv_iconst (v := nI 0) hx hb dX1_justify_0 (by decide) ?_
  refine lv_istore_n (lv' := [(1, .int (nI 0)), (0, .ref (ad 0))]) hx hb dX1_justify_1 rfl hl (by decide) rfl (fun ls hl => ?_)
  refine zx_w2 (α := Nat) (β := Nat → Int32) (mu := fun i g => 128 - i) (I := fun i g H locs ls => (i ≤ 128 ∧ ∀ c, c < i → g c = if c = 0 then 1 else 0) ∧ va_P D vwCl (mW dA dZ ad gS gW gF gO g (nI n)) H ∧ va_D A (mW dA dZ ad gS gW gF gO g (nI n)) ∧ va_S A s.heap H locs ∧ lv_has ls 4 [(0, .ref (ad 0)), (1, .int (nI i))]) ?_ 0 gJ ⟨⟨Nat.zero_le _, fun c hc => absurd hc (Nat.not_lt_zero _)⟩, hP, hD, hS, lv_sub hl [1, 0] rfl⟩
  intro i g H locs ls hI ih
  obtain ⟨⟨hi, hg⟩, hP, hD, hS, hl⟩ := hI
  refine lv_iload_n hx hb dX1_justify_2 rfl (lv_at hl 1 rfl) ?_
  refine lv_sipush (v := nI 128) hx hb dX1_justify_3 (by decide) ?_
  refine lv_icmp_ge (tgt := 30) hx hb dX1_justify_6 (by decide) (fun c1 => ?_) (fun c1 => ?_)
  · have c1 : 128 ≤ i := (nI_leI (by omega) (by omega)).mp c1
    have h9 : 128 = i := by omega
    subst h9
    refine lv_iconst (v := nI 1) hx hb dX1_justify_30 (by decide) ?_
    refine lv_istore_n (lv' := [(1, .int (nI 1)), (0, .ref (ad 0))]) hx hb dX1_justify_31 rfl hl (by decide) rfl (fun ls hl => ?_)
    refine lv_iconst (v := nI 0) hx hb dX1_justify_32 (by decide) ?_
    refine lv_istore_n (lv' := [(2, .int (nI 0)), (1, .int (nI 1)), (0, .ref (ad 0))]) hx hb dX1_justify_33 rfl hl (by decide) rfl (fun ls hl => ?_)
    refine zx_w3 (α := Nat) (β := Nat) (γ := Nat → Int32) (mu := fun r0 mo g => 65 - r0) (I := fun r0 mo g H locs ls => (r0 ≤ 65 ∧ mo ≤ 1 ∧ zm_A n vw vs vt st r0 g ∧ (mo = 0 → zm_C n vw vs vt st n g)) ∧ va_P D vwCl (mW dA dZ ad gS gW gF gO g (nI n)) H ∧ va_D A (mW dA dZ ad gS gW gF gO g (nI n)) ∧ va_S A s.heap H locs ∧ lv_has ls 4 [(0, .ref (ad 0)), (1, .int (nI mo)), (2, .int (nI r0))]) ?_ 0 1 g ⟨⟨Nat.zero_le _, Nat.le_refl _, zm_0 hG hg, fun h => absurd h (by decide)⟩, hP, hD, hS, lv_sub hl [2, 1, 0] rfl⟩
    intro r0 mo g H locs ls hI ih2
    obtain ⟨⟨hr0, hmo, hA1, hC1⟩, hP, hD, hS, hl⟩ := hI
    refine lv_iload_n hx hb dX1_justify_34 rfl (lv_at hl 2 rfl) ?_
    refine lv_bipush (v := nI 65) hx hb dX1_justify_35 (by decide) ?_
    refine lv_icmp_ge (tgt := 129) hx hb dX1_justify_37 (by decide) (fun c2 => ?_) (fun c2 => ?_)
    · have c2 : 65 ≤ r0 := (nI_leI (by omega) (by omega)).mp c2
      exact W.vret hx hb hr (fun t ht hW => ⟨⟨(), rfl, trivial, g, zm_end hG hA1 (Or.inl c2), by rw [ht]; exact hP, va_K.moved hW.alike hK, hD⟩, hS.F ht⟩) hS.2.2 dX1_justify_129
    · have c2 : ¬ 65 ≤ r0 := fun q => c2 ((nI_leI (by omega) (by omega)).mpr q)
      refine lv_iload_n hx hb dX1_justify_40 rfl (lv_at hl 1 rfl) ?_
      refine lv_if_eq (tgt := 129) hx hb dX1_justify_41 (by decide) (fun c3 => ?_) (fun c3 => ?_)
      · have c3 : mo = 0 := (zn_eq0 (by omega)).mp c3
        exact W.vret hx hb hr (fun t ht hW => ⟨⟨(), rfl, trivial, g, zm_end hG hA1 (Or.inr (hC1 c3)), by rw [ht]; exact hP, va_K.moved hW.alike hK, hD⟩, hS.F ht⟩) hS.2.2 dX1_justify_129
      · have c3 : ¬ mo = 0 := fun q => c3 ((zn_eq0 (by omega)).mpr q)
        refine lv_iconst (v := nI 0) hx hb dX1_justify_44 (by decide) ?_
        refine lv_istore_n (lv' := [(1, .int (nI 0)), (0, .ref (ad 0)), (2, .int (nI r0))]) hx hb dX1_justify_45 rfl hl (by decide) rfl (fun ls hl => ?_)
        refine lv_iconst (v := nI 0) hx hb dX1_justify_46 (by decide) ?_
        refine lv_istore_n (lv' := [(3, .int (nI 0)), (1, .int (nI 0)), (0, .ref (ad 0)), (2, .int (nI r0))]) hx hb dX1_justify_47 rfl hl (by decide) rfl (fun ls hl => ?_)
        refine zx_w3 (α := Nat) (β := Nat) (γ := Nat → Int32) (mu := fun i mo g => n - i) (I := fun i mo g H locs ls => (i ≤ n ∧ mo ≤ 1 ∧ zm_A n vw vs vt st r0 g ∧ zm_B n vw vs vt st r0 i g ∧ (mo = 0 → zm_C n vw vs vt st i g)) ∧ va_P D vwCl (mW dA dZ ad gS gW gF gO g (nI n)) H ∧ va_D A (mW dA dZ ad gS gW gF gO g (nI n)) ∧ va_S A s.heap H locs ∧ lv_has ls 4 [(0, .ref (ad 0)), (1, .int (nI mo)), (2, .int (nI r0)), (3, .int (nI i))]) ?_ 0 0 g ⟨⟨Nat.zero_le _, by omega, hA1, fun i hi => absurd hi (Nat.not_lt_zero _), fun _ i hi => absurd hi (Nat.not_lt_zero _)⟩, hP, hD, hS, lv_sub hl [2, 1, 3, 0] rfl⟩
        intro i mo g H locs ls hI ih3
        obtain ⟨⟨hi, hmo, hA1, hB1, hC1⟩, hP, hD, hS, hl⟩ := hI
        refine lv_iload_n hx hb dX1_justify_48 rfl (lv_at hl 3 rfl) ?_
        refine lv_aload_n hx hb dX1_justify_49 rfl (lv_at hl 0 rfl) ?_
        refine va_get (D := D) (ci := 1) (v := .int (nI n)) (C := RX1) (T := TX1) (N := 6) hx hb hts in_X1 hown hK hP 0 rfl rfl 1 (by decide) (hts _ q145) (fun _ h9 => h9) rfl dX1_justify_50 ?_
        refine lv_icmp_ge (tgt := 123) hx hb dX1_justify_53 (by decide) (fun c4 => ?_) (fun c4 => ?_)
        · have c4 : n ≤ i := (nI_leI (by omega) (by omega)).mp c4
          have h9 : n = i := by omega
          subst h9
          refine lv_iinc (v := nI (r0 + 1)) (lv' := [(2, .int (nI (r0 + 1))), (0, .ref (ad 0)), (1, .int (nI mo)), (3, .int (nI n))]) hx hb dX1_justify_123 hl (k := 2) rfl (nI_1 _) (by decide) rfl (fun ls hl => ?_)
          refine lv_goto (tgt := 34) hx hb dX1_justify_126 (by decide) ?_
          exact ih2 (r0 + 1) mo g H locs ls (by omega) ⟨⟨by omega, hmo, zm_next hG hA1 hB1, hC1⟩, hP, hD, hS, lv_sub hl [1, 2, 0] rfl⟩
        · have c4 : ¬ n ≤ i := fun q => c4 ((nI_leI (by omega) (by omega)).mpr q)
          obtain ⟨f1, f2, f3⟩ := hA0 i (by omega)
          obtain ⟨b1, b2, b3, b4⟩ := hG.2.1 i (by omega)
          refine lv_aload_n hx hb dX1_justify_56 rfl (lv_at hl 0 rfl) ?_
          refine va_get (D := D) (ci := 1) (v := .ref (ad 5)) (C := RX1) (T := TX1) (N := 6) hx hb hts in_X1 hown hK hP 0 rfl rfl 5 (by decide) (hts _ q149) (fun _ h9 => h9) rfl dX1_justify_57 ?_
          refine lv_aload_n hx hb dX1_justify_60 rfl (lv_at hl 0 rfl) ?_
          refine va_get (D := D) (ci := 1) (v := .ref (ad 3)) (C := RX1) (T := TX1) (N := 6) hx hb hts in_X1 hown hK hP 0 rfl rfl 3 (by decide) (hts _ q147) (fun _ h9 => h9) rfl dX1_justify_61 ?_
          refine lv_iload_n hx hb dX1_justify_64 rfl (lv_at hl 3 rfl) ?_
          refine zx_iald hx hb hK hP 3 0 rfl rfl (j := i) rfl (by omega) (by decide) dX1_justify_65 ?_
          refine zx_top (y := nI (vs i)) (f2) ?_
          refine zx_zald hx hb hK hP 5 1 rfl rfl (j := vs i) rfl (by omega) (by decide) dX1_justify_66 ?_
          refine lv_if_eq (tgt := 117) hx hb dX1_justify_67 (by decide) (fun d1 => ?_) (fun d1 => ?_)
          · have hsk : g (vs i) = 1 → zv_Sup n vw vs vt st (nI (vs i)) (nI (vt i)) → g (vt i) = 1 := fun h => by rw [d1] at h; cases h
            refine lv_iinc (v := nI (i + 1)) (lv' := [(3, .int (nI (i + 1))), (0, .ref (ad 0)), (1, .int (nI mo)), (2, .int (nI r0))]) hx hb dX1_justify_117 hl (k := 3) rfl (nI_1 _) (by decide) rfl (fun ls hl => ?_)
            refine lv_goto (tgt := 48) hx hb dX1_justify_120 (by decide) ?_
            exact ih3 (i + 1) mo g H locs ls (by omega) ⟨⟨by omega, hmo, hA1, zm_skip hA1 hB1 hsk, fun h => zm_skipC (hC1 h) hsk⟩, hP, hD, hS, lv_sub hl [1, 2, 3, 0] rfl⟩
          · have d1 := zm_on hA1 b2 d1
            refine lv_aload_n hx hb dX1_justify_70 rfl (lv_at hl 0 rfl) ?_
            refine va_get (D := D) (ci := 1) (v := .ref (ad 5)) (C := RX1) (T := TX1) (N := 6) hx hb hts in_X1 hown hK hP 0 rfl rfl 5 (by decide) (hts _ q149) (fun _ h9 => h9) rfl dX1_justify_71 ?_
            refine lv_aload_n hx hb dX1_justify_74 rfl (lv_at hl 0 rfl) ?_
            refine va_get (D := D) (ci := 1) (v := .ref (ad 4)) (C := RX1) (T := TX1) (N := 6) hx hb hts in_X1 hown hK hP 0 rfl rfl 4 (by decide) (hts _ q148) (fun _ h9 => h9) rfl dX1_justify_75 ?_
            refine lv_iload_n hx hb dX1_justify_78 rfl (lv_at hl 3 rfl) ?_
            refine zx_iald hx hb hK hP 4 0 rfl rfl (j := i) rfl (by omega) (by decide) dX1_justify_79 ?_
            refine zx_top (y := nI (vt i)) (f3) ?_
            refine zx_zald hx hb hK hP 5 1 rfl rfl (j := vt i) rfl (by omega) (by decide) dX1_justify_80 ?_
            refine lv_if_ne (tgt := 117) hx hb dX1_justify_81 (by decide) (fun d2 => ?_) (fun d2 => ?_)
            · have hsk : g (vs i) = 1 → zv_Sup n vw vs vt st (nI (vs i)) (nI (vt i)) → g (vt i) = 1 := fun _ _ => zm_on hA1 b3 d2
              refine lv_iinc (v := nI (i + 1)) (lv' := [(3, .int (nI (i + 1))), (0, .ref (ad 0)), (1, .int (nI mo)), (2, .int (nI r0))]) hx hb dX1_justify_117 hl (k := 3) rfl (nI_1 _) (by decide) rfl (fun ls hl => ?_)
              refine lv_goto (tgt := 48) hx hb dX1_justify_120 (by decide) ?_
              exact ih3 (i + 1) mo g H locs ls (by omega) ⟨⟨by omega, hmo, hA1, zm_skip hA1 hB1 hsk, fun h => zm_skipC (hC1 h) hsk⟩, hP, hD, hS, lv_sub hl [1, 2, 3, 0] rfl⟩
            · refine lv_aload_n hx hb dX1_justify_84 rfl (lv_at hl 0 rfl) ?_
              refine lv_aload_n hx hb dX1_justify_85 rfl (lv_at hl 0 rfl) ?_
              refine va_get (D := D) (ci := 1) (v := .ref (ad 3)) (C := RX1) (T := TX1) (N := 6) hx hb hts in_X1 hown hK hP 0 rfl rfl 3 (by decide) (hts _ q147) (fun _ h9 => h9) rfl dX1_justify_86 ?_
              refine lv_iload_n hx hb dX1_justify_89 rfl (lv_at hl 3 rfl) ?_
              refine zx_iald hx hb hK hP 3 0 rfl rfl (j := i) rfl (by omega) (by decide) dX1_justify_90 ?_
              refine zx_top (y := nI (vs i)) (f2) ?_
              refine lv_aload_n hx hb dX1_justify_91 rfl (lv_at hl 0 rfl) ?_
              refine va_get (D := D) (ci := 1) (v := .ref (ad 4)) (C := RX1) (T := TX1) (N := 6) hx hb hts in_X1 hown hK hP 0 rfl rfl 4 (by decide) (hts _ q148) (fun _ h9 => h9) rfl dX1_justify_92 ?_
              refine lv_iload_n hx hb dX1_justify_95 rfl (lv_at hl 3 rfl) ?_
              refine zx_iald hx hb hK hP 4 0 rfl rfl (j := i) rfl (by omega) (by decide) dX1_justify_96 ?_
              refine zx_top (y := nI (vt i)) (f3) ?_
              refine vp_callSi (W.runV (As := [.int (nI (vs i)), .int (nI (vt i))]) (rest := []) ⟨hx, hb, hml, hown, hts⟩ (cM_supported l D dA dZ ad gS gW gF gO g (nI n) n vw vs vt st (nI (vs i)) (nI (vt i)) hM) (cwV 2 hts (lw_V q201 q203 qs9 q13 q204) rfl rfl rfl (by decide +kernel) ⟨Nat.le_of_ble_eq_true rfl, Nat.le_of_ble_eq_true rfl⟩) (zx_pR hK hP rfl rfl _) rfl rfl hl.1 rfl (lv_room (Nat.le_of_ble_eq_true rfl)) dX1_justify_97 ⟨Nat.le_of_ble_eq_true rfl, Nat.le_of_ble_eq_true rfl⟩) (fun r1 hr1 => ?_)
              refine lv_if_eq (tgt := 117) hx hb dX1_justify_100 (by decide) (fun d3 => ?_) (fun d3 => ?_)
              · have hsk : g (vs i) = 1 → zv_Sup n vw vs vt st (nI (vs i)) (nI (vt i)) → g (vt i) = 1 := fun _ h => absurd h (hr1.2 d3)
                refine lv_iinc (v := nI (i + 1)) (lv' := [(3, .int (nI (i + 1))), (0, .ref (ad 0)), (1, .int (nI mo)), (2, .int (nI r0))]) hx hb dX1_justify_117 hl (k := 3) rfl (nI_1 _) (by decide) rfl (fun ls hl => ?_)
                refine lv_goto (tgt := 48) hx hb dX1_justify_120 (by decide) ?_
                exact ih3 (i + 1) mo g H locs ls (by omega) ⟨⟨by omega, hmo, hA1, zm_skip hA1 hB1 hsk, fun h => zm_skipC (hC1 h) hsk⟩, hP, hD, hS, lv_sub hl [1, 2, 3, 0] rfl⟩
              · refine lv_aload_n hx hb dX1_justify_103 rfl (lv_at hl 0 rfl) ?_
                refine va_get (D := D) (ci := 1) (v := .ref (ad 5)) (C := RX1) (T := TX1) (N := 6) hx hb hts in_X1 hown hK hP 0 rfl rfl 5 (by decide) (hts _ q149) (fun _ h9 => h9) rfl dX1_justify_104 ?_
                refine lv_aload_n hx hb dX1_justify_107 rfl (lv_at hl 0 rfl) ?_
                refine va_get (D := D) (ci := 1) (v := .ref (ad 4)) (C := RX1) (T := TX1) (N := 6) hx hb hts in_X1 hown hK hP 0 rfl rfl 4 (by decide) (hts _ q148) (fun _ h9 => h9) rfl dX1_justify_108 ?_
                refine lv_iload_n hx hb dX1_justify_111 rfl (lv_at hl 3 rfl) ?_
                refine zx_iald hx hb hK hP 4 0 rfl rfl (j := i) rfl (by omega) (by decide) dX1_justify_112 ?_
                refine zx_top (y := nI (vt i)) (f3) ?_
                refine lv_iconst (v := nI 1) hx hb dX1_justify_113 (by decide) ?_
                refine zx_zast hx hb hK hP hD hS 5 1 rfl rfl (j := vt i) rfl (by omega) (by decide) (by decide) dX1_justify_114 (fun H locs hP hD hS => ?_)
                have hP : va_P D vwCl (mW dA dZ ad gS gW gF gO (upd g (vt i) (nI 1)) (nI n)) H := hP
                have hD : va_D A (mW dA dZ ad gS gW gF gO (upd g (vt i) (nI 1)) (nI n)) := hD
                refine lv_iconst (v := nI 1) hx hb dX1_justify_115 (by decide) ?_
                refine lv_istore_n (lv' := [(1, .int (nI 1)), (0, .ref (ad 0)), (2, .int (nI r0)), (3, .int (nI i))]) hx hb dX1_justify_116 rfl hl (by decide) rfl (fun ls hl => ?_)
                refine lv_iinc (v := nI (i + 1)) (lv' := [(3, .int (nI (i + 1))), (1, .int (nI 1)), (0, .ref (ad 0)), (2, .int (nI r0))]) hx hb dX1_justify_117 hl (k := 3) rfl (nI_1 _) (by decide) rfl (fun ls hl => ?_)
                refine lv_goto (tgt := 48) hx hb dX1_justify_120 (by decide) ?_
                have hst2 := zm_set hG (by omega) hA1 hB1 d1 (hr1.1 d3)
                exact ih3 (i + 1) 1 (upd g (vt i) (nI 1)) H locs ls (by omega) ⟨⟨by omega, Nat.le_refl _, hst2.1, hst2.2, fun h => absurd h (by decide)⟩, hP, hD, hS, lv_sub hl [2, 1, 3, 0] rfl⟩
  · have c1 : ¬ 128 ≤ i := fun q => c1 ((nI_leI (by omega) (by omega)).mpr q)
    refine lv_aload_n hx hb dX1_justify_9 rfl (lv_at hl 0 rfl) ?_
    refine va_get (D := D) (ci := 1) (v := .ref (ad 5)) (C := RX1) (T := TX1) (N := 6) hx hb hts in_X1 hown hK hP 0 rfl rfl 5 (by decide) (hts _ q149) (fun _ h9 => h9) rfl dX1_justify_10 ?_
    refine lv_iload_n hx hb dX1_justify_13 rfl (lv_at hl 1 rfl) ?_
    refine lv_iload_n hx hb dX1_justify_14 rfl (lv_at hl 1 rfl) ?_
    refine lv_if_ne (tgt := 22) hx hb dX1_justify_15 (by decide) (fun c3 => ?_) (fun c3 => ?_)
    · have c3 : ¬ i = 0 := fun q => c3 ((zn_eq0 (by omega)).mpr q)
      refine lv_iconst (v := nI 0) hx hb dX1_justify_22 (by decide) ?_
      refine zx_zast hx hb hK hP hD hS 5 1 rfl rfl (j := i) rfl (by omega) (by decide) (by decide) dX1_justify_23 (fun H locs hP hD hS => ?_)
      have hP : va_P D vwCl (mW dA dZ ad gS gW gF gO (upd g i (nI 0)) (nI n)) H := hP
      have hD : va_D A (mW dA dZ ad gS gW gF gO (upd g i (nI 0)) (nI n)) := hD
      refine lv_iinc (v := nI (i + 1)) (lv' := [(1, .int (nI (i + 1))), (0, .ref (ad 0))]) hx hb dX1_justify_24 hl (k := 1) rfl (nI_1 _) (by decide) rfl (fun ls hl => ?_)
      refine lv_goto (tgt := 2) hx hb dX1_justify_27 (by decide) ?_
      exact ih (i + 1) (upd g i (nI 0)) H locs ls (by omega) ⟨⟨by omega, zk_up hg (by rw [if_neg c3]; exact nI_0)⟩, hP, hD, hS, lv_sub hl [1, 0] rfl⟩
    · have c3 : i = 0 := (zn_eq0 (by omega)).mp c3
      refine lv_iconst (v := nI 1) hx hb dX1_justify_18 (by decide) ?_
      refine lv_goto (tgt := 23) hx hb dX1_justify_19 (by decide) ?_
      refine zx_zast hx hb hK hP hD hS 5 1 rfl rfl (j := i) rfl (by omega) (by decide) (by decide) dX1_justify_23 (fun H locs hP hD hS => ?_)
      have hP : va_P D vwCl (mW dA dZ ad gS gW gF gO (upd g i (nI 1)) (nI n)) H := hP
      have hD : va_D A (mW dA dZ ad gS gW gF gO (upd g i (nI 1)) (nI n)) := hD
      refine lv_iinc (v := nI (i + 1)) (lv' := [(1, .int (nI (i + 1))), (0, .ref (ad 0))]) hx hb dX1_justify_24 hl (k := 1) rfl (nI_1 _) (by decide) rfl (fun ls hl => ?_)
      refine lv_goto (tgt := 2) hx hb dX1_justify_27 (by decide) ?_
      exact ih (i + 1) (upd g i (nI 1)) H locs ls (by omega) ⟨⟨by omega, zk_up hg (by rw [if_pos c3]; rfl)⟩, hP, hD, hS, lv_sub hl [1, 0] rfl⟩
set_option maxHeartbeats 4000000 in
set_option maxRecDepth 100000 in
/-- justified(x) -/
theorem cM_justified (l : Launch) (D : va_G) (dA dZ : ClassId) (ad : Nat → Nat) (sz : Nat) (gS gW gF gO gJ : Nat → Int32) (nv : Int32) (n : Nat) (vw vs vt st : Nat → Nat) (x : Int32) (hM : zr_M n vw vs vt st gS gW gF gO nv) : Met l yX1_justified (ws_ yX1_justified cX1_justified 2 (some .int)) ({ frames := 3, cells := 0, slots := 0, locals := 69 }) (va_Pc [.ref (ad 0), .int x] (zx_M D [(dA, .int), (dZ, .boolean)] (mW dA dZ ad gS gW gF gO gJ nv) sz)) (va_Qi (S := Unit) (fun r _ => zp_just n vw vs vt st x r) (fun _ t => zx_Mo D dA dZ ad (va_A (mW dA dZ ad gS gW gF gO gJ nv) sz) n vw vs vt st t) (va_A (mW dA dZ ad gS gW gF gO gJ nv) sz)) 0 0 (va_A (mW dA dZ ad gS gW gF gO gJ nv) sz) := by
  refine Met.ofW (cc := cX1_justified) (maxL := 2) (ret := (some .int)) (by decide) rfl ?_
  intro p e s m args below meth c s₁ B hml hv
  obtain ⟨rfl, hsz, hP, hK, hD0⟩ := hv
  have hx := B.exec
  have hb := B.bytes
  have hr := B.returns
  have hts := atoms_spec (ws := ws_ yX1_justified cX1_justified 2 (some .int)) B.pre
  have hts : ∀ w ∈ lw_all, w.before _ s = true := fun w h => hts w (List.mem_cons_of_mem _ h)
  have hown : s.vm.findClass RX1 = some m.cls := findClass_of_methodNamed B.named
  have hlocks := B.notSynchronized
  subst hsz
  have hD := hD0.self (sz := s.heap.size)
  generalize hAe : va_A (mW dA dZ ad gS gW gF gO gJ nv) s.heap.size = A at hD ⊢
  have hA : ∀ q : Nat, s.heap.size ≤ q → A q := fun q h => by rw [← hAe]; exact Or.inr h
  have hS : va_S A s.heap s.heap [] := va_S.rf
  have hl := lv_entry ([.ref (ad 0), .int x]) (n := 2) (Nat.le_of_ble_eq_true rfl)
  rw [lg_entry_eq]
  generalize (lg_sl ([.ref (ad 0), .int x]) ++ List.replicate (2 - (lg_sl ([.ref (ad 0), .int x])).length) Slot.unset).toArray = ls at hl ⊢
  have hl : lv_has ls 2 [(0, .ref (ad 0)), (1, .int x)] := hl
  refine lv_iload_n hx hb dX1_justified_0 rfl (lv_at hl 1 rfl) ?_
  refine vp_callSi (W.runS (As := [.int x]) (rest := []) ⟨hx, hb, hml, hown, hts⟩ (cM_badPoint l x) (va_cwS 1 hts (lw_S q174 q175 q13 q176) rfl rfl rfl (by decide +kernel) ⟨Nat.le_of_ble_eq_true rfl, Nat.le_of_ble_eq_true rfl⟩) (zx_pS _) rfl rfl hl.1 rfl (lv_room (Nat.le_of_ble_eq_true rfl)) dX1_justified_1 ⟨Nat.le_of_ble_eq_true rfl, Nat.le_of_ble_eq_true rfl⟩) (fun r1 hr1 => ?_)
  refine lv_if_eq (tgt := 9) hx hb dX1_justified_4 (by decide) (fun c1 => ?_) (fun c1 => ?_)
  · obtain ⟨c0, hc, rfl⟩ := hr1.2 c1
    have hc1 := hc.1
    refine lv_aload_n hx hb dX1_justified_9 rfl (lv_at hl 0 rfl) ?_
    have hFc := zx_fr hD hS hA
    refine va_callv (va_runV (As := []) (rest := []) ⟨hx, hb, hml, hown, hts⟩ (cM_justify l D dA dZ ad _ gS gW gF gO gJ nv n vw vs vt st hM) (cwV 0 hts (lw_V q197 q199 qs8 q13 q200) rfl rfl rfl (by decide +kernel) ⟨Nat.le_of_ble_eq_true rfl, Nat.le_of_ble_eq_true rfl⟩) (zx_pM hK hP hD rfl rfl _) rfl rfl hl.1 rfl (lv_room (Nat.le_of_ble_eq_true rfl)) dX1_justified_10 ⟨Nat.le_of_ble_eq_true rfl, Nat.le_of_ble_eq_true rfl⟩) hS (fun q _ h => hFc q h) hFc (fun u t H locs ht hvm hw hB hz1 hk1 hS => ?_)
    obtain ⟨g, hJ, hB⟩ := hB
    obtain ⟨hP, hD, hK⟩ := zx_bk hB ht hvm hFc
    refine lv_aload_n hx hb dX1_justified_13 rfl (lv_at hl 0 rfl) ?_
    refine va_get (D := D) (ci := 1) (v := .ref (ad 5)) (C := RX1) (T := TX1) (N := 6) hx hb hts in_X1 hown hK hP 0 rfl rfl 5 (by decide) (hts _ q149) (fun _ h9 => h9) rfl dX1_justified_14 ?_
    refine lv_iload_n hx hb dX1_justified_17 rfl (lv_at hl 1 rfl) ?_
    refine zx_zald hx hb hK hP 5 1 rfl rfl (j := c0) rfl (by omega) (by decide) dX1_justified_18 ?_
    refine zx_top (y := zv_Ji n vw vs vt st c0) (hJ c0 (by omega)) ?_
    refine lv_if_eq (tgt := 26) hx hb dX1_justified_19 (by decide) (fun c2 => ?_) (fun c2 => ?_)
    · refine lv_iconst (v := nI 0) hx hb dX1_justified_26 (by decide) ?_
      exact W.iret (v := (nI 0)) hx hb hr (fun t ht hW => ⟨⟨_, (), rfl, zo_y (f := zv_Ji n vw vs vt st) zv_c_lt hc (zj_zero c2), _, _, _, _, _, _, hM, by rw [ht]; exact hP, va_K.moved hW.alike hK, hD⟩, hS.F ht⟩) hS.2.2 dX1_justified_27
    · refine lv_iconst (v := nI 1) hx hb dX1_justified_22 (by decide) ?_
      refine lv_goto (tgt := 27) hx hb dX1_justified_23 (by decide) ?_
      exact W.iret (v := (nI 1)) hx hb hr (fun t ht hW => ⟨⟨_, (), rfl, zo_y (f := zv_Ji n vw vs vt st) zv_c_lt hc (zj_one c2), _, _, _, _, _, _, hM, by rw [ht]; exact hP, va_K.moved hW.alike hK, hD⟩, hS.F ht⟩) hS.2.2 dX1_justified_27
  · refine lv_iconst (v := (-1)) hx hb dX1_justified_7 (by decide) ?_
    exact W.iret (v := (-1)) hx hb hr (fun t ht hW => ⟨⟨_, (), rfl, zo_n (hr1.1 c1) rfl, _, _, _, _, _, _, hM, by rw [ht]; exact hP, va_K.moved hW.alike hK, hD⟩, hS.F ht⟩) hS.2.2 dX1_justified_8
set_option maxHeartbeats 4000000 in
set_option maxRecDepth 100000 in
/-- isFinal(x) -/
theorem cM_isFinal (l : Launch) (D : va_G) (dA dZ : ClassId) (ad : Nat → Nat) (sz : Nat) (gS gW gF gO gJ : Nat → Int32) (nv : Int32) (n : Nat) (vw vs vt st : Nat → Nat) (x : Int32) (hM : zr_M n vw vs vt st gS gW gF gO nv) : Met l yX1_isFinal (ws_ yX1_isFinal cX1_isFinal 4 (some .int)) ({ frames := 3, cells := 0, slots := 0, locals := 69 }) (va_Pc [.ref (ad 0), .int x] (zx_M D [(dA, .int), (dZ, .boolean)] (mW dA dZ ad gS gW gF gO gJ nv) sz)) (va_Qi (S := Unit) (fun r _ => zp_fin n vw vs vt st x r) (fun _ t => zx_Mo D dA dZ ad (va_A (mW dA dZ ad gS gW gF gO gJ nv) sz) n vw vs vt st t) (va_A (mW dA dZ ad gS gW gF gO gJ nv) sz)) 0 0 (va_A (mW dA dZ ad gS gW gF gO gJ nv) sz) := by
  refine Met.ofW (cc := cX1_isFinal) (maxL := 4) (ret := (some .int)) (by decide) rfl ?_
  intro p e s m args below meth c s₁ B hml hv
  obtain ⟨rfl, hsz, hP, hK, hD0⟩ := hv
  have hx := B.exec
  have hb := B.bytes
  have hr := B.returns
  have hts := atoms_spec (ws := ws_ yX1_isFinal cX1_isFinal 4 (some .int)) B.pre
  have hts : ∀ w ∈ lw_all, w.before _ s = true := fun w h => hts w (List.mem_cons_of_mem _ h)
  have hown : s.vm.findClass RX1 = some m.cls := findClass_of_methodNamed B.named
  have hlocks := B.notSynchronized
  subst hsz
  have hD := hD0.self (sz := s.heap.size)
  generalize hAe : va_A (mW dA dZ ad gS gW gF gO gJ nv) s.heap.size = A at hD ⊢
  have hA : ∀ q : Nat, s.heap.size ≤ q → A q := fun q h => by rw [← hAe]; exact Or.inr h
  have hS : va_S A s.heap s.heap [] := va_S.rf
  have hl := lv_entry ([.ref (ad 0), .int x]) (n := 4) (Nat.le_of_ble_eq_true rfl)
  rw [lg_entry_eq]
  generalize (lg_sl ([.ref (ad 0), .int x]) ++ List.replicate (4 - (lg_sl ([.ref (ad 0), .int x])).length) Slot.unset).toArray = ls at hl ⊢
  have hl : lv_has ls 4 [(0, .ref (ad 0)), (1, .int x)] := hl
  refine lv_iload_n hx hb dX1_isFinal_0 rfl (lv_at hl 1 rfl) ?_
  refine vp_callSi (W.runS (As := [.int x]) (rest := []) ⟨hx, hb, hml, hown, hts⟩ (cM_badPoint l x) (va_cwS 1 hts (lw_S q174 q175 q13 q176) rfl rfl rfl (by decide +kernel) ⟨Nat.le_of_ble_eq_true rfl, Nat.le_of_ble_eq_true rfl⟩) (zx_pS _) rfl rfl hl.1 rfl (lv_room (Nat.le_of_ble_eq_true rfl)) dX1_isFinal_1 ⟨Nat.le_of_ble_eq_true rfl, Nat.le_of_ble_eq_true rfl⟩) (fun r1 hr1 => ?_)
  refine lv_if_eq (tgt := 9) hx hb dX1_isFinal_4 (by decide) (fun c1 => ?_) (fun c1 => ?_)
  · obtain ⟨c0, hc, rfl⟩ := hr1.2 c1
    have hc1 := hc.1
    refine lv_aload_n hx hb dX1_isFinal_9 rfl (lv_at hl 0 rfl) ?_
    have hFc := zx_fr hD hS hA
    refine va_callv (va_runV (As := []) (rest := []) ⟨hx, hb, hml, hown, hts⟩ (cM_justify l D dA dZ ad _ gS gW gF gO gJ nv n vw vs vt st hM) (cwV 0 hts (lw_V q197 q199 qs8 q13 q200) rfl rfl rfl (by decide +kernel) ⟨Nat.le_of_ble_eq_true rfl, Nat.le_of_ble_eq_true rfl⟩) (zx_pM hK hP hD rfl rfl _) rfl rfl hl.1 rfl (lv_room (Nat.le_of_ble_eq_true rfl)) dX1_isFinal_10 ⟨Nat.le_of_ble_eq_true rfl, Nat.le_of_ble_eq_true rfl⟩) hS (fun q _ h => hFc q h) hFc (fun u t H locs ht hvm hw hB hz1 hk1 hS => ?_)
    obtain ⟨g, hJ, hB⟩ := hB
    obtain ⟨hP, hD, hK⟩ := zx_bk hB ht hvm hFc
    obtain ⟨hG, hst, rfl, hA0⟩ := id hM
    have hn64 := hG.1
    refine lv_iconst (v := nI 0) hx hb dX1_isFinal_13 (by decide) ?_
    refine lv_istore_n (lv' := [(2, .int (nI 0)), (0, .ref (ad 0)), (1, .int (nI c0))]) hx hb dX1_isFinal_14 rfl hl (by decide) rfl (fun ls hl => ?_)
    refine zx_r1 (α := Nat) (mu := fun i => n - i) (I := fun i ls => (i ≤ n ∧ ∀ j, j < i → ¬ (vs j = c0 ∧ vt j / 4 = c0 / 4 + 1 ∧ zv_Just n vw vs vt st c0 ∧ zv_Sup n vw vs vt st (nI (vs j)) (nI (vt j)))) ∧ lv_has ls 4 [(0, .ref (ad 0)), (1, .int (nI c0)), (2, .int (nI i))]) ?_ 0 ⟨⟨Nat.zero_le _, fun k hk => absurd hk (Nat.not_lt_zero _)⟩, lv_sub hl [1, 2, 0] rfl⟩
    intro i ls hI ih
    obtain ⟨⟨hi, hN⟩, hl⟩ := hI
    refine lv_iload_n hx hb dX1_isFinal_15 rfl (lv_at hl 2 rfl) ?_
    refine lv_aload_n hx hb dX1_isFinal_16 rfl (lv_at hl 0 rfl) ?_
    refine va_get (D := D) (ci := 1) (v := .int (nI n)) (C := RX1) (T := TX1) (N := 6) hx hb hts in_X1 hown hK hP 0 rfl rfl 1 (by decide) (hts _ q145) (fun _ h9 => h9) rfl dX1_isFinal_17 ?_
    refine lv_icmp_ge (tgt := 90) hx hb dX1_isFinal_20 (by decide) (fun c3 => ?_) (fun c3 => ?_)
    · have c3 : n ≤ i := (nI_leI (by omega) (by omega)).mp c3
      refine lv_iconst (v := nI 0) hx hb dX1_isFinal_90 (by decide) ?_
      exact W.iret (v := (nI 0)) hx hb hr (fun t ht hW => ⟨⟨_, (), rfl, zp_fin_0 hc (zf_m hN c3), _, _, _, _, _, _, hM, by rw [ht]; exact hP, va_K.moved hW.alike hK, hD⟩, hS.F ht⟩) hS.2.2 dX1_isFinal_91
    · have c3 : ¬ n ≤ i := fun q => c3 ((nI_leI (by omega) (by omega)).mpr q)
      obtain ⟨f1, f2, f3⟩ := hA0 i (by omega)
      obtain ⟨b1, b2, b3, b4⟩ := hG.2.1 i (by omega)
      refine lv_aload_n hx hb dX1_isFinal_23 rfl (lv_at hl 0 rfl) ?_
      refine va_get (D := D) (ci := 1) (v := .ref (ad 3)) (C := RX1) (T := TX1) (N := 6) hx hb hts in_X1 hown hK hP 0 rfl rfl 3 (by decide) (hts _ q147) (fun _ h9 => h9) rfl dX1_isFinal_24 ?_
      refine lv_iload_n hx hb dX1_isFinal_27 rfl (lv_at hl 2 rfl) ?_
      refine zx_iald hx hb hK hP 3 0 rfl rfl (j := i) rfl (by omega) (by decide) dX1_isFinal_28 ?_
      refine zx_top (y := nI (vs i)) (f2) ?_
      refine lv_iload_n hx hb dX1_isFinal_29 rfl (lv_at hl 1 rfl) ?_
      refine lv_icmp_ne (tgt := 53) hx hb dX1_isFinal_30 (by decide) (fun c4 => ?_) (fun c4 => ?_)
      · have c4 : ¬ vs i = c0 := fun q => c4 ((nI_eq (by omega) (by omega)).mpr q)
        refine lv_iconst (v := nI 0) hx hb dX1_isFinal_53 (by decide) ?_
        refine lv_istore_n (lv' := [(3, .int (nI 0)), (0, .ref (ad 0)), (1, .int (nI c0)), (2, .int (nI i))]) hx hb dX1_isFinal_54 rfl hl (by decide) rfl (fun ls hl => ?_)
        refine lv_iload_n hx hb dX1_isFinal_55 rfl (lv_at hl 0 rfl) ?_
        refine lv_if_eq (tgt := 84) hx hb dX1_isFinal_56 (by decide) (fun c9 => ?_) (fun c9 => ?_)
        · refine lv_iinc (v := nI (i + 1)) (lv' := [(2, .int (nI (i + 1))), (3, .int (nI 0)), (0, .ref (ad 0)), (1, .int (nI c0))]) hx hb dX1_isFinal_84 hl (k := 3) rfl (nI_1 _) (by decide) rfl (fun ls hl => ?_)
          refine lv_goto (tgt := 15) hx hb dX1_isFinal_87 (by decide) ?_
          exact ih (i + 1) ls (by omega) ⟨⟨by omega, lt_s hN (fun h => c4 h.1)⟩, lv_sub hl [2, 3, 0] rfl⟩
        · exact absurd nI_0 c9
      · have c4 : vs i = c0 := (nI_eq (by omega) (by omega)).mp c4
        refine lv_aload_n hx hb dX1_isFinal_33 rfl (lv_at hl 0 rfl) ?_
        refine va_get (D := D) (ci := 1) (v := .ref (ad 4)) (C := RX1) (T := TX1) (N := 6) hx hb hts in_X1 hown hK hP 0 rfl rfl 4 (by decide) (hts _ q148) (fun _ h9 => h9) rfl dX1_isFinal_34 ?_
        refine lv_iload_n hx hb dX1_isFinal_37 rfl (lv_at hl 2 rfl) ?_
        refine zx_iald hx hb hK hP 4 0 rfl rfl (j := i) rfl (by omega) (by decide) dX1_isFinal_38 ?_
        refine zx_top (y := nI (vt i)) (f3) ?_
        refine lv_iconst (v := nI 4) hx hb dX1_isFinal_39 (by decide) ?_
        refine lv_idiv hx hb dX1_isFinal_40 (by decide) ?_
        refine zx_top (y := nI ((vt i) / 4)) (pk_div (by omega) (by omega) (by omega)) ?_
        refine lv_iload_n hx hb dX1_isFinal_41 rfl (lv_at hl 1 rfl) ?_
        refine lv_iconst (v := nI 4) hx hb dX1_isFinal_42 (by decide) ?_
        refine lv_idiv hx hb dX1_isFinal_43 (by decide) ?_
        refine zx_top (y := nI (c0 / 4)) (pk_div (by omega) (by omega) (by omega)) ?_
        refine lv_iconst (v := nI 1) hx hb dX1_isFinal_44 (by decide) ?_
        refine lv_iadd hx hb dX1_isFinal_45 ?_
        refine zx_top (y := nI ((c0 / 4) + 1)) (nI_add _ _) ?_
        refine lv_icmp_ne (tgt := 53) hx hb dX1_isFinal_46 (by decide) (fun c5 => ?_) (fun c5 => ?_)
        · have c5 : ¬ (vt i) / 4 = (c0 / 4) + 1 := fun q => c5 ((nI_eq (by omega) (by omega)).mpr q)
          refine lv_iconst (v := nI 0) hx hb dX1_isFinal_53 (by decide) ?_
          refine lv_istore_n (lv' := [(3, .int (nI 0)), (0, .ref (ad 0)), (1, .int (nI c0)), (2, .int (nI i))]) hx hb dX1_isFinal_54 rfl hl (by decide) rfl (fun ls hl => ?_)
          refine lv_iload_n hx hb dX1_isFinal_55 rfl (lv_at hl 0 rfl) ?_
          refine lv_if_eq (tgt := 84) hx hb dX1_isFinal_56 (by decide) (fun c9 => ?_) (fun c9 => ?_)
          · refine lv_iinc (v := nI (i + 1)) (lv' := [(2, .int (nI (i + 1))), (3, .int (nI 0)), (0, .ref (ad 0)), (1, .int (nI c0))]) hx hb dX1_isFinal_84 hl (k := 3) rfl (nI_1 _) (by decide) rfl (fun ls hl => ?_)
            refine lv_goto (tgt := 15) hx hb dX1_isFinal_87 (by decide) ?_
            exact ih (i + 1) ls (by omega) ⟨⟨by omega, lt_s hN (fun h => c5 h.2.1)⟩, lv_sub hl [2, 3, 0] rfl⟩
          · exact absurd nI_0 c9
        · have c5 : (vt i) / 4 = (c0 / 4) + 1 := (nI_eq (by omega) (by omega)).mp c5
          refine lv_iconst (v := nI 1) hx hb dX1_isFinal_49 (by decide) ?_
          refine lv_goto (tgt := 54) hx hb dX1_isFinal_50 (by decide) ?_
          refine lv_istore_n (lv' := [(3, .int (nI 1)), (0, .ref (ad 0)), (1, .int (nI c0)), (2, .int (nI i))]) hx hb dX1_isFinal_54 rfl hl (by decide) rfl (fun ls hl => ?_)
          refine lv_iload_n hx hb dX1_isFinal_55 rfl (lv_at hl 0 rfl) ?_
          refine lv_if_eq (tgt := 84) hx hb dX1_isFinal_56 (by decide) (fun c9 => ?_) (fun c9 => ?_)
          · exact absurd c9 zt_0
          · refine lv_aload_n hx hb dX1_isFinal_59 rfl (lv_at hl 1 rfl) ?_
            refine va_get (D := D) (ci := 1) (v := .ref (ad 5)) (C := RX1) (T := TX1) (N := 6) hx hb hts in_X1 hown hK hP 0 rfl rfl 5 (by decide) (hts _ q149) (fun _ h9 => h9) rfl dX1_isFinal_60 ?_
            refine lv_iload_n hx hb dX1_isFinal_63 rfl (lv_at hl 2 rfl) ?_
            refine zx_zald hx hb hK hP 5 1 rfl rfl (j := c0) rfl (by omega) (by decide) dX1_isFinal_64 ?_
            refine zx_top (y := zv_Ji n vw vs vt st c0) (hJ c0 (by omega)) ?_
            refine lv_if_eq (tgt := 84) hx hb dX1_isFinal_65 (by decide) (fun c7 => ?_) (fun c7 => ?_)
            · refine lv_iinc (v := nI (i + 1)) (lv' := [(2, .int (nI (i + 1))), (3, .int (nI 1)), (0, .ref (ad 0)), (1, .int (nI c0))]) hx hb dX1_isFinal_84 hl (k := 3) rfl (nI_1 _) (by decide) rfl (fun ls hl => ?_)
              refine lv_goto (tgt := 15) hx hb dX1_isFinal_87 (by decide) ?_
              exact ih (i + 1) ls (by omega) ⟨⟨by omega, lt_s hN (fun h => zj_eq c7 h.2.2.1)⟩, lv_sub hl [2, 3, 0] rfl⟩
            · refine lv_aload_n hx hb dX1_isFinal_68 rfl (lv_at hl 1 rfl) ?_
              refine lv_iload_n hx hb dX1_isFinal_69 rfl (lv_at hl 2 rfl) ?_
              refine lv_aload_n hx hb dX1_isFinal_70 rfl (lv_at hl 1 rfl) ?_
              refine va_get (D := D) (ci := 1) (v := .ref (ad 4)) (C := RX1) (T := TX1) (N := 6) hx hb hts in_X1 hown hK hP 0 rfl rfl 4 (by decide) (hts _ q148) (fun _ h9 => h9) rfl dX1_isFinal_71 ?_
              refine lv_iload_n hx hb dX1_isFinal_74 rfl (lv_at hl 3 rfl) ?_
              refine zx_iald hx hb hK hP 4 0 rfl rfl (j := i) rfl (by omega) (by decide) dX1_isFinal_75 ?_
              refine zx_top (y := nI (vt i)) (f3) ?_
              refine vp_callSi (W.runV (As := [.int (nI c0), .int (nI (vt i))]) (rest := []) ⟨hx, hb, hml, hown, hts⟩ (cM_supported l D dA dZ ad gS gW gF gO g (nI n) n vw vs vt st (nI c0) (nI (vt i)) hM) (cwV 2 hts (lw_V q201 q203 qs9 q13 q204) rfl rfl rfl (by decide +kernel) ⟨Nat.le_of_ble_eq_true rfl, Nat.le_of_ble_eq_true rfl⟩) (zx_pR hK hP rfl rfl _) rfl rfl hl.1 rfl (lv_room (Nat.le_of_ble_eq_true rfl)) dX1_isFinal_76 ⟨Nat.le_of_ble_eq_true rfl, Nat.le_of_ble_eq_true rfl⟩) (fun r2 hr2 => ?_)
              refine lv_if_eq (tgt := 84) hx hb dX1_isFinal_79 (by decide) (fun c6 => ?_) (fun c6 => ?_)
              · refine lv_iinc (v := nI (i + 1)) (lv' := [(2, .int (nI (i + 1))), (3, .int (nI 1)), (0, .ref (ad 0)), (1, .int (nI c0))]) hx hb dX1_isFinal_84 hl (k := 3) rfl (nI_1 _) (by decide) rfl (fun ls hl => ?_)
                refine lv_goto (tgt := 15) hx hb dX1_isFinal_87 (by decide) ?_
                exact ih (i + 1) ls (by omega) ⟨⟨by omega, lt_s hN (fun h => hr2.2 c6 (by rw [← c4]; exact h.2.2.2))⟩, lv_sub hl [2, 3, 0] rfl⟩
              · refine lv_iconst (v := nI 1) hx hb dX1_isFinal_82 (by decide) ?_
                exact W.iret (v := (nI 1)) hx hb hr (fun t ht hW => ⟨⟨_, (), rfl, zp_fin_1 hc ⟨zj_ne c7, i, by omega, c4, c5, by rw [c4]; exact hr2.1 c6⟩, _, _, _, _, _, _, hM, by rw [ht]; exact hP, va_K.moved hW.alike hK, hD⟩, hS.F ht⟩) hS.2.2 dX1_isFinal_83
  · refine lv_iconst (v := (-1)) hx hb dX1_isFinal_7 (by decide) ?_
    exact W.iret (v := (-1)) hx hb hr (fun t ht hW => ⟨⟨_, (), rfl, zp_fin_n (hr1.1 c1), _, _, _, _, _, _, hM, by rw [ht]; exact hP, va_K.moved hW.alike hK, hD⟩, hS.F ht⟩) hS.2.2 dX1_isFinal_8
set_option maxHeartbeats 4000000 in
set_option maxRecDepth 100000 in
/-- highest() -/
theorem cM_highest (l : Launch) (D : va_G) (dA dZ : ClassId) (ad : Nat → Nat) (sz : Nat) (gS gW gF gO gJ : Nat → Int32) (nv : Int32) (n : Nat) (vw vs vt st : Nat → Nat) (hM : zr_M n vw vs vt st gS gW gF gO nv) : Met l yX1_highest (ws_ yX1_highest cX1_highest 3 (some .int)) ({ frames := 3, cells := 0, slots := 0, locals := 69 }) (va_Pc [.ref (ad 0)] (zx_M D [(dA, .int), (dZ, .boolean)] (mW dA dZ ad gS gW gF gO gJ nv) sz)) (va_Qi (S := Unit) (fun r _ => zp_high n vw vs vt st r) (fun _ t => zx_Mo D dA dZ ad (va_A (mW dA dZ ad gS gW gF gO gJ nv) sz) n vw vs vt st t) (va_A (mW dA dZ ad gS gW gF gO gJ nv) sz)) 0 0 (va_A (mW dA dZ ad gS gW gF gO gJ nv) sz) := by
  refine Met.ofW (cc := cX1_highest) (maxL := 3) (ret := (some .int)) (by decide) rfl ?_
  intro p e s m args below meth c s₁ B hml hv
  obtain ⟨rfl, hsz, hP, hK, hD0⟩ := hv
  have hx := B.exec
  have hb := B.bytes
  have hr := B.returns
  have hts := atoms_spec (ws := ws_ yX1_highest cX1_highest 3 (some .int)) B.pre
  have hts : ∀ w ∈ lw_all, w.before _ s = true := fun w h => hts w (List.mem_cons_of_mem _ h)
  have hown : s.vm.findClass RX1 = some m.cls := findClass_of_methodNamed B.named
  have hlocks := B.notSynchronized
  subst hsz
  have hD := hD0.self (sz := s.heap.size)
  generalize hAe : va_A (mW dA dZ ad gS gW gF gO gJ nv) s.heap.size = A at hD ⊢
  have hA : ∀ q : Nat, s.heap.size ≤ q → A q := fun q h => by rw [← hAe]; exact Or.inr h
  have hS : va_S A s.heap s.heap [] := va_S.rf
  have hl := lv_entry ([.ref (ad 0)]) (n := 3) (Nat.le_of_ble_eq_true rfl)
  rw [lg_entry_eq]
  generalize (lg_sl ([.ref (ad 0)]) ++ List.replicate (3 - (lg_sl ([.ref (ad 0)])).length) Slot.unset).toArray = ls at hl ⊢
  have hl : lv_has ls 3 [(0, .ref (ad 0))] := hl
  refine lv_aload_n hx hb dX1_highest_0 rfl (lv_at hl 0 rfl) ?_
  have hFc := zx_fr hD hS hA
  refine va_callv (va_runV (As := []) (rest := []) ⟨hx, hb, hml, hown, hts⟩ (cM_justify l D dA dZ ad _ gS gW gF gO gJ nv n vw vs vt st hM) (cwV 0 hts (lw_V q197 q199 qs8 q13 q200) rfl rfl rfl (by decide +kernel) ⟨Nat.le_of_ble_eq_true rfl, Nat.le_of_ble_eq_true rfl⟩) (zx_pM hK hP hD rfl rfl _) rfl rfl hl.1 rfl (lv_room (Nat.le_of_ble_eq_true rfl)) dX1_highest_1 ⟨Nat.le_of_ble_eq_true rfl, Nat.le_of_ble_eq_true rfl⟩) hS (fun q _ h => hFc q h) hFc (fun u t H locs ht hvm hw hB hz1 hk1 hS => ?_)
  obtain ⟨g, hJ, hB⟩ := hB
  obtain ⟨hP, hD, hK⟩ := zx_bk hB ht hvm hFc
  refine lv_iconst (v := nI 0) hx hb dX1_highest_4 (by decide) ?_
  refine lv_istore_n (lv' := [(1, .int (nI 0)), (0, .ref (ad 0))]) hx hb dX1_highest_5 rfl hl (by decide) rfl (fun ls hl => ?_)
  refine lv_iconst (v := nI 0) hx hb dX1_highest_6 (by decide) ?_
  refine lv_istore_n (lv' := [(2, .int (nI 0)), (1, .int (nI 0)), (0, .ref (ad 0))]) hx hb dX1_highest_7 rfl hl (by decide) rfl (fun ls hl => ?_)
  refine zx_r1 (α := Nat) (mu := fun i => 128 - i) (I := fun i ls => (i ≤ 128) ∧ lv_has ls 3 [(0, .ref (ad 0)), (1, .int (nI (zv_best (zv_Ji n vw vs vt st) i))), (2, .int (nI i))]) ?_ 0 ⟨Nat.zero_le _, lv_sub hl [2, 1, 0] rfl⟩
  intro i ls hI ih
  obtain ⟨hi, hl⟩ := hI
  refine lv_iload_n hx hb dX1_highest_8 rfl (lv_at hl 2 rfl) ?_
  refine lv_sipush (v := nI 128) hx hb dX1_highest_9 (by decide) ?_
  refine lv_icmp_ge (tgt := 32) hx hb dX1_highest_12 (by decide) (fun c1 => ?_) (fun c1 => ?_)
  · have c1 : 128 ≤ i := (nI_leI (by omega) (by omega)).mp c1
    have h9 : 128 = i := by omega
    subst h9
    refine lv_iload_n hx hb dX1_highest_32 rfl (lv_at hl 1 rfl) ?_
    exact W.iret (v := (nI (zv_best (zv_Ji n vw vs vt st) 128))) hx hb hr (fun t ht hW => ⟨⟨_, (), rfl, rfl, _, _, _, _, _, _, hM, by rw [ht]; exact hP, va_K.moved hW.alike hK, hD⟩, hS.F ht⟩) hS.2.2 dX1_highest_33
  · have c1 : ¬ 128 ≤ i := fun q => c1 ((nI_leI (by omega) (by omega)).mpr q)
    refine lv_aload_n hx hb dX1_highest_15 rfl (lv_at hl 0 rfl) ?_
    refine va_get (D := D) (ci := 1) (v := .ref (ad 5)) (C := RX1) (T := TX1) (N := 6) hx hb hts in_X1 hown hK hP 0 rfl rfl 5 (by decide) (hts _ q149) (fun _ h9 => h9) rfl dX1_highest_16 ?_
    refine lv_iload_n hx hb dX1_highest_19 rfl (lv_at hl 2 rfl) ?_
    refine zx_zald hx hb hK hP 5 1 rfl rfl (j := i) rfl (by omega) (by decide) dX1_highest_20 ?_
    refine zx_top (y := zv_Ji n vw vs vt st i) (hJ i (by omega)) ?_
    refine lv_if_eq (tgt := 26) hx hb dX1_highest_21 (by decide) (fun c2 => ?_) (fun c2 => ?_)
    · rw [zb_z (f := (zv_Ji n vw vs vt st)) c2] at hl
      refine lv_iinc (v := nI (i + 1)) (lv' := [(2, .int (nI (i + 1))), (0, .ref (ad 0)), (1, .int (nI (zv_best (zv_Ji n vw vs vt st) (i + 1))))]) hx hb dX1_highest_26 hl (k := 2) rfl (nI_1 _) (by decide) rfl (fun ls hl => ?_)
      refine lv_goto (tgt := 8) hx hb dX1_highest_29 (by decide) ?_
      exact ih (i + 1) ls (by omega) ⟨by omega, lv_sub hl [1, 2, 0] rfl⟩
    · refine lv_iload_n hx hb dX1_highest_24 rfl (lv_at hl 2 rfl) ?_
      refine zx_top (y := nI (zv_best (zv_Ji n vw vs vt st) (i + 1))) (congrArg nI (zb_nz (f := (zv_Ji n vw vs vt st)) c2)) ?_
      refine lv_istore_n (lv' := [(1, .int (nI (zv_best (zv_Ji n vw vs vt st) (i + 1)))), (0, .ref (ad 0)), (2, .int (nI i))]) hx hb dX1_highest_25 rfl hl (by decide) rfl (fun ls hl => ?_)
      refine lv_iinc (v := nI (i + 1)) (lv' := [(2, .int (nI (i + 1))), (1, .int (nI (zv_best (zv_Ji n vw vs vt st) (i + 1)))), (0, .ref (ad 0))]) hx hb dX1_highest_26 hl (k := 2) rfl (nI_1 _) (by decide) rfl (fun ls hl => ?_)
      refine lv_goto (tgt := 8) hx hb dX1_highest_29 (by decide) ?_
      exact ih (i + 1) ls (by omega) ⟨by omega, lv_sub hl [2, 1, 0] rfl⟩
set_option maxHeartbeats 4000000 in
set_option maxRecDepth 100000 in
/-- justifiedIn(x) -/
theorem cM_justifiedIn (l : Launch) (D : va_G) (dA dZ : ClassId) (ad : Nat → Nat) (sz : Nat) (gS gW gF gO gJ : Nat → Int32) (nv : Int32) (n : Nat) (vw vs vt st : Nat → Nat) (x : Int32) (hM : zr_M n vw vs vt st gS gW gF gO nv) : Met l yX1_justifiedIn (ws_ yX1_justifiedIn cX1_justifiedIn 4 (some .int)) ({ frames := 3, cells := 0, slots := 0, locals := 69 }) (va_Pc [.ref (ad 0), .int x] (zx_M D [(dA, .int), (dZ, .boolean)] (mW dA dZ ad gS gW gF gO gJ nv) sz)) (va_Qi (S := Unit) (fun r _ => zp_jin n vw vs vt st x r) (fun _ t => zx_Mo D dA dZ ad (va_A (mW dA dZ ad gS gW gF gO gJ nv) sz) n vw vs vt st t) (va_A (mW dA dZ ad gS gW gF gO gJ nv) sz)) 0 0 (va_A (mW dA dZ ad gS gW gF gO gJ nv) sz) := by
  refine Met.ofW (cc := cX1_justifiedIn) (maxL := 4) (ret := (some .int)) (by decide) rfl ?_
  intro p e s m args below meth c s₁ B hml hv
  obtain ⟨rfl, hsz, hP, hK, hD0⟩ := hv
  have hx := B.exec
  have hb := B.bytes
  have hr := B.returns
  have hts := atoms_spec (ws := ws_ yX1_justifiedIn cX1_justifiedIn 4 (some .int)) B.pre
  have hts : ∀ w ∈ lw_all, w.before _ s = true := fun w h => hts w (List.mem_cons_of_mem _ h)
  have hown : s.vm.findClass RX1 = some m.cls := findClass_of_methodNamed B.named
  have hlocks := B.notSynchronized
  subst hsz
  have hD := hD0.self (sz := s.heap.size)
  generalize hAe : va_A (mW dA dZ ad gS gW gF gO gJ nv) s.heap.size = A at hD ⊢
  have hA : ∀ q : Nat, s.heap.size ≤ q → A q := fun q h => by rw [← hAe]; exact Or.inr h
  have hS : va_S A s.heap s.heap [] := va_S.rf
  have hl := lv_entry ([.ref (ad 0), .int x]) (n := 4) (Nat.le_of_ble_eq_true rfl)
  rw [lg_entry_eq]
  generalize (lg_sl ([.ref (ad 0), .int x]) ++ List.replicate (4 - (lg_sl ([.ref (ad 0), .int x])).length) Slot.unset).toArray = ls at hl ⊢
  have hl : lv_has ls 4 [(0, .ref (ad 0)), (1, .int x)] := hl
  refine lv_iload_n hx hb dX1_justifiedIn_0 rfl (lv_at hl 1 rfl) ?_
  refine lv_if_lt (tgt := 10) hx hb dX1_justifiedIn_1 (by decide) (fun c1 => ?_) (fun c1 => ?_)
  · refine lv_iconst (v := (-1)) hx hb dX1_justifiedIn_10 (by decide) ?_
    exact W.iret (v := (-1)) hx hb hr (fun t ht hW => ⟨⟨_, (), rfl, zo_n (P := fun e => e < 32) (f := fun e => nI (zv_three (zv_Ji n vw vs vt st) e 3)) (zc_neg (fun v h => by omega) c1) rfl, _, _, _, _, _, _, hM, by rw [ht]; exact hP, va_K.moved hW.alike hK, hD⟩, hS.F ht⟩) hS.2.2 dX1_justifiedIn_11
  · refine lv_iload_n hx hb dX1_justifiedIn_4 rfl (lv_at hl 1 rfl) ?_
    refine lv_bipush (v := nI 31) hx hb dX1_justifiedIn_5 (by decide) ?_
    refine lv_icmp_le (tgt := 12) hx hb dX1_justifiedIn_7 (by decide) (fun c2 => ?_) (fun c2 => ?_)
    · obtain ⟨e0, he, rfl⟩ := zc_in (N := 31) (by omega) c1 (zn_nlt c2)
      refine lv_aload_n hx hb dX1_justifiedIn_12 rfl (lv_at hl 0 rfl) ?_
      have hFc := zx_fr hD hS hA
      refine va_callv (va_runV (As := []) (rest := []) ⟨hx, hb, hml, hown, hts⟩ (cM_justify l D dA dZ ad _ gS gW gF gO gJ nv n vw vs vt st hM) (cwV 0 hts (lw_V q197 q199 qs8 q13 q200) rfl rfl rfl (by decide +kernel) ⟨Nat.le_of_ble_eq_true rfl, Nat.le_of_ble_eq_true rfl⟩) (zx_pM hK hP hD rfl rfl _) rfl rfl hl.1 rfl (lv_room (Nat.le_of_ble_eq_true rfl)) dX1_justifiedIn_13 ⟨Nat.le_of_ble_eq_true rfl, Nat.le_of_ble_eq_true rfl⟩) hS (fun q _ h => hFc q h) hFc (fun u t H locs ht hvm hw hB hz1 hk1 hS => ?_)
      obtain ⟨g, hJ, hB⟩ := hB
      obtain ⟨hP, hD, hK⟩ := zx_bk hB ht hvm hFc
      refine lv_iconst (v := nI 0) hx hb dX1_justifiedIn_16 (by decide) ?_
      refine lv_istore_n (lv' := [(2, .int (nI 0)), (0, .ref (ad 0)), (1, .int (nI e0))]) hx hb dX1_justifiedIn_17 rfl hl (by decide) rfl (fun ls hl => ?_)
      refine lv_iconst (v := nI 0) hx hb dX1_justifiedIn_18 (by decide) ?_
      refine lv_istore_n (lv' := [(3, .int (nI 0)), (2, .int (nI 0)), (0, .ref (ad 0)), (1, .int (nI e0))]) hx hb dX1_justifiedIn_19 rfl hl (by decide) rfl (fun ls hl => ?_)
      refine zx_r1 (α := Nat) (mu := fun i => 3 - i) (I := fun i ls => (i ≤ 3) ∧ lv_has ls 4 [(0, .ref (ad 0)), (1, .int (nI e0)), (2, .int (nI (zv_three (zv_Ji n vw vs vt st) e0 i))), (3, .int (nI i))]) ?_ 0 ⟨Nat.zero_le _, lv_sub hl [2, 3, 1, 0] rfl⟩
      intro i ls hI ih
      obtain ⟨hi, hl⟩ := hI
      refine lv_iload_n hx hb dX1_justifiedIn_20 rfl (lv_at hl 3 rfl) ?_
      refine lv_iconst (v := nI 3) hx hb dX1_justifiedIn_21 (by decide) ?_
      refine lv_icmp_ge (tgt := 47) hx hb dX1_justifiedIn_22 (by decide) (fun c3 => ?_) (fun c3 => ?_)
      · have c3 : 3 ≤ i := (nI_leI (by omega) (by omega)).mp c3
        have h9 : 3 = i := by omega
        subst h9
        refine lv_iload_n hx hb dX1_justifiedIn_47 rfl (lv_at hl 2 rfl) ?_
        exact W.iret (v := (nI (zv_three (zv_Ji n vw vs vt st) e0 3))) hx hb hr (fun t ht hW => ⟨⟨_, (), rfl, zo_y (P := fun e => e < 32) (f := fun e => nI (zv_three (zv_Ji n vw vs vt st) e 3)) (fun u hu => by omega) (by omega) rfl, _, _, _, _, _, _, hM, by rw [ht]; exact hP, va_K.moved hW.alike hK, hD⟩, hS.F ht⟩) hS.2.2 dX1_justifiedIn_48
      · have c3 : ¬ 3 ≤ i := fun q => c3 ((nI_leI (by omega) (by omega)).mpr q)
        refine lv_aload_n hx hb dX1_justifiedIn_25 rfl (lv_at hl 0 rfl) ?_
        refine va_get (D := D) (ci := 1) (v := .ref (ad 5)) (C := RX1) (T := TX1) (N := 6) hx hb hts in_X1 hown hK hP 0 rfl rfl 5 (by decide) (hts _ q149) (fun _ h9 => h9) rfl dX1_justifiedIn_26 ?_
        refine lv_iconst (v := nI 4) hx hb dX1_justifiedIn_29 (by decide) ?_
        refine lv_iload_n hx hb dX1_justifiedIn_30 rfl (lv_at hl 1 rfl) ?_
        refine lv_imul hx hb dX1_justifiedIn_31 ?_
        refine zx_top (y := nI (4 * e0)) (pk_mul _ _) ?_
        refine lv_iload_n hx hb dX1_justifiedIn_32 rfl (lv_at hl 3 rfl) ?_
        refine lv_iadd hx hb dX1_justifiedIn_33 ?_
        refine zx_top (y := nI ((4 * e0) + i)) (nI_add _ _) ?_
        refine zx_zald hx hb hK hP 5 1 rfl rfl (j := (4 * e0) + i) rfl (by omega) (by decide) dX1_justifiedIn_34 ?_
        refine zx_top (y := zv_Ji n vw vs vt st (4 * e0 + i)) (hJ _ (by omega)) ?_
        refine lv_if_eq (tgt := 41) hx hb dX1_justifiedIn_35 (by decide) (fun c4 => ?_) (fun c4 => ?_)
        · rw [show zv_three (zv_Ji n vw vs vt st) e0 i = zv_three (zv_Ji n vw vs vt st) e0 (i + 1) from z3_z (f := (zv_Ji n vw vs vt st)) c4] at hl
          refine lv_iinc (v := nI (i + 1)) (lv' := [(3, .int (nI (i + 1))), (0, .ref (ad 0)), (1, .int (nI e0)), (2, .int (nI (zv_three (zv_Ji n vw vs vt st) e0 (i + 1))))]) hx hb dX1_justifiedIn_41 hl (k := 3) rfl (nI_1 _) (by decide) rfl (fun ls hl => ?_)
          refine lv_goto (tgt := 20) hx hb dX1_justifiedIn_44 (by decide) ?_
          exact ih (i + 1) ls (by omega) ⟨by omega, lv_sub hl [1, 2, 3, 0] rfl⟩
        · refine lv_iinc (v := nI (zv_three (zv_Ji n vw vs vt st) e0 (i + 1))) (lv' := [(2, .int (nI (zv_three (zv_Ji n vw vs vt st) e0 (i + 1)))), (0, .ref (ad 0)), (1, .int (nI e0)), (3, .int (nI i))]) hx hb dX1_justifiedIn_38 hl (k := 2) rfl ((nI_1 _).trans (congrArg nI (z3_nz (f := (zv_Ji n vw vs vt st)) c4))) (by decide) rfl (fun ls hl => ?_)
          refine lv_iinc (v := nI (i + 1)) (lv' := [(3, .int (nI (i + 1))), (2, .int (nI (zv_three (zv_Ji n vw vs vt st) e0 (i + 1)))), (0, .ref (ad 0)), (1, .int (nI e0))]) hx hb dX1_justifiedIn_41 hl (k := 3) rfl (nI_1 _) (by decide) rfl (fun ls hl => ?_)
          refine lv_goto (tgt := 20) hx hb dX1_justifiedIn_44 (by decide) ?_
          exact ih (i + 1) ls (by omega) ⟨by omega, lv_sub hl [2, 3, 1, 0] rfl⟩
    · refine lv_iconst (v := (-1)) hx hb dX1_justifiedIn_10 (by decide) ?_
      exact W.iret (v := (-1)) hx hb hr (fun t ht hW => ⟨⟨_, (), rfl, zo_n (P := fun e => e < 32) (f := fun e => nI (zv_three (zv_Ji n vw vs vt st) e 3)) (zc_big (N := 31) (by omega) (fun v h => by omega) (zn_nle c2)) rfl, _, _, _, _, _, _, hM, by rw [ht]; exact hP, va_K.moved hW.alike hK, hD⟩, hS.F ht⟩) hS.2.2 dX1_justifiedIn_11
end
section
/-! the two constructors -/
theorem zx_same {D : va_G} {cl : List vw_C} {tys : List (ClassId × FieldType)} {s : State} (hK : va_K D cl tys s) (i j : Nat) {a b : ClassId} (hi : tys[i]? = some (a, .int)) (hj : tys[j]? = some (b, .int)) : a = b := by
  have h1 : s.vm.findClass ("[" ++ FieldType.int.toString) = some a := (hK.2 i _ hi).2
  have h2 : s.vm.findClass ("[" ++ FieldType.int.toString) = some b := (hK.2 j _ hj).2
  exact Option.some.inj (h1.symm.trans h2)
def zx_adX (h q1 q2 q3 q4 q5 q6 q7 q8 q9 : Nat) : Nat → Nat := fun i => match i with
  | 0 => h
  | 1 => q1
  | 2 => q2
  | 3 => q3
  | 4 => q4
  | 5 => q5
  | 6 => q6
  | 7 => q7
  | 8 => q8
  | _ => q9
def zx_adM (h q1 q2 q3 q4 q5 : Nat) : Nat → Nat := fun i => match i with
  | 0 => h
  | 1 => q1
  | 2 => q2
  | 3 => q3
  | 4 => q4
  | _ => q5
theorem zi_X {g g1 g2 : Nat → Int32} (h : ∀ v, v < 8 → g v = nI 1) (h1 : ∀ j, j < 256 → g1 j = nI 32) (h2 : ∀ j, j < 256 → g2 j = -1) : zr_X 0 (fun _ => 0) (fun _ => 0) (fun _ => 0) (fun _ => 1) g g1 g2 (fun _ => 0) (fun _ => 0) (fun _ => 0) (fun _ => 0) (fun _ => 0) (fun _ => 0) 0 0 0 0 := by
  refine ⟨⟨by omega, fun i hi => absurd hi (Nat.not_lt_zero _), fun i j hi => absurd hi (Nat.not_lt_zero _), fun v => (by decide : 1 ≤ 100)⟩, h, nI_0.symm, fun v _ => nI_0.symm, fun v e _ _ => nI_0.symm, fun v e z hv he hz => ?_, fun v e z hv he hz => ?_, fun v hv => by rw [b_0]; rfl, ⟨0, nI_0.symm, Nat.le_refl _, fun k hk => absurd hk (Nat.not_lt_zero _), fun k hk => absurd hk (Nat.not_lt_zero _), fun j k hj => absurd hj (Nat.not_lt_zero _), fun j k _ hk => absurd hk (Nat.not_lt_zero _), fun k v hk => absurd hk (Nat.not_lt_zero _)⟩, Or.inl rfl⟩
  · rw [h1 _ (by omega), nI_ltI (by omega) (by omega)]
    exact ⟨fun q => absurd q (by omega), fun ⟨i, hi, _⟩ => absurd hi (Nat.not_lt_zero _)⟩
  · rw [h2 _ (by omega), zn_lt, nI_toInt (by omega)]
    exact ⟨fun q => absurd q (by rw [show (-1 : Int32).toInt = -1 from by decide]; omega), fun ⟨i, hi, _⟩ => absurd hi (Nat.not_lt_zero _)⟩
theorem zi_M {g : Nat → Int32} (h : ∀ v, v < 8 → g v = nI 1) : zr_M 0 (fun _ => 0) (fun _ => 0) (fun _ => 0) (fun _ => 1) g (fun _ => 0) (fun _ => 0) (fun _ => 0) 0 :=
  ⟨⟨by omega, fun i hi => absurd hi (Nat.not_lt_zero _), fun i j hi => absurd hi (Nat.not_lt_zero _), fun v => (by decide : 1 ≤ 100)⟩, h, nI_0.symm, fun i hi => absurd hi (Nat.not_lt_zero _)⟩
theorem zi_up {g : Nat → Int32} {i : Nat} {x y : Int32} (h : ∀ c, c < i → g c = y) (hx : x = y) : ∀ c, c < i + 1 → upd g i x c = y := zk_up (F := fun _ => y) h hx
set_option maxHeartbeats 4000000 in
set_option maxRecDepth 100000 in
/-- the constructor -/
theorem cX_init (l : Launch) (D : va_G) (h0 sz : Nat) : Met l yX0_init (ws_ yX0_init cX0_init 2 none) ({ frames := 1, cells := 9, slots := 1104, locals := 12 }) (va_Pc [.ref h0] (zx_M D [] [(h0, .inr (0, [.null, .null, .null, .null, .int 0, .null, .int 0, .int 0, .null, .null, .null, .int 0, .null]))] sz)) (va_Qv (S := Unit) (fun _ => True) (fun _ t => ∃ (dA dZ : ClassId) (ad : Nat → Nat), ad 0 = h0 ∧ zx_X D dA dZ ad (va_A [(h0, .inr (0, [.null, .null, .null, .null, .int 0, .null, .int 0, .int 0, .null, .null, .null, .int 0, .null]))] sz) 0 (fun _ => 0) (fun _ => 0) (fun _ => 0) (fun _ => 1) t) (va_A [(h0, .inr (0, [.null, .null, .null, .null, .int 0, .null, .int 0, .int 0, .null, .null, .null, .int 0, .null]))] sz)) 9 1104 (va_A [(h0, .inr (0, [.null, .null, .null, .null, .int 0, .null, .int 0, .int 0, .null, .null, .null, .int 0, .null]))] sz) := by
  refine Met.ofW (cc := cX0_init) (maxL := 2) (ret := none) (by decide) rfl ?_
  intro p e s m args below meth c s₁ B hml hv
  obtain ⟨rfl, hsz, hP, hK, hD0⟩ := hv
  have hx := B.exec
  have hb := B.bytes
  have hr := B.returns
  have hts := atoms_spec (ws := ws_ yX0_init cX0_init 2 none) B.pre
  have hts : ∀ w ∈ lw_all, w.before _ s = true := fun w h => hts w (List.mem_cons_of_mem _ h)
  have hown : s.vm.findClass RX0 = some m.cls := findClass_of_methodNamed B.named
  have hlocks := B.notSynchronized
  subst hsz
  have hD := hD0.self (sz := s.heap.size)
  generalize hAe : va_A [(h0, .inr (0, [.null, .null, .null, .null, .int 0, .null, .int 0, .int 0, .null, .null, .null, .int 0, .null]))] s.heap.size = A at hD ⊢
  have hA : ∀ q : Nat, s.heap.size ≤ q → A q := fun q h => by rw [← hAe]; exact Or.inr h
  have hS : va_S A s.heap s.heap [] := va_S.rf
  have hl := lv_entry ([.ref h0]) (n := 2) (Nat.le_of_ble_eq_true rfl)
  rw [lg_entry_eq]
  generalize (lg_sl ([.ref h0]) ++ List.replicate (2 - (lg_sl ([.ref h0])).length) Slot.unset).toArray = ls at hl ⊢
  have hl : lv_has ls 2 [(0, .ref h0)] := hl
  have hin : meth.name = "<init>" := (name_of_methodNamed B.named B.method).1
  refine lv_aload_n hx hb dX0_init_0 rfl (lv_at hl 0 rfl) ?_
  refine W.objInit hx hb hown (hts _ q19) (hts _ q20) (hts _ q21) rfl (by rw [hml]; exact hl.1) rfl dX0_init_1 (Nat.le_of_ble_eq_true rfl) (Nat.le_of_ble_eq_true rfl) ?_
  refine W.eq (g2 := F0 m 4 ls []) rfl ?_
  refine lv_aload_n hx hb dX0_init_4 rfl (lv_at hl 0 rfl) ?_
  refine lv_bipush (v := nI 8) hx hb dX0_init_5 (by decide) ?_
  refine va_newa (atype := .int) (ty := .int) (N' := 8) (a0 := (8, .inl (fun _ => 0))) hx hb (hts _ q62) rfl hK hP hD hS hA (fun _ => rfl) (by decide) (by decide) (by decide) (Nat.le_of_ble_eq_true rfl) (Nat.le_of_ble_eq_true rfl) dX0_init_7 (fun q1 dA H hK hP hD hS => ?_)
  have hK : va_K D vwCl [(dA, .int)] s := hK
  have hP : va_P D vwCl [(h0, .inr (0, [.null, .null, .null, .null, .int 0, .null, .int 0, .int 0, .null, .null, .null, .int 0, .null])), (q1, .inl (dA, 8, .inl (fun _ => 0)))] H := hP
  have hD : va_D A [(h0, .inr (0, [.null, .null, .null, .null, .int 0, .null, .int 0, .int 0, .null, .null, .null, .int 0, .null])), (q1, .inl (dA, 8, .inl (fun _ => 0)))] := hD
  refine W.widen (k := 1) (n := 8) (Nat.le_refl _) (Nat.le_refl _) ?_
  refine va_putF (D := D) (ci := 0) (v := .ref q1) (ty := .array .int) (C := RX0) (T := TX0) (N := 13) hx hb hts in_X0 tyX0 tyX0_ok nmX0 hown hK hP hD hS 0 rfl rfl 0 (by decide) (hts _ q22) (fun _ h9 => h9) rfl hin rfl (by decide +kernel) rfl rfl (Nat.le_of_ble_eq_true rfl) dX0_init_9 (fun H locs hP hD hS => ?_)
  have hP : va_P D vwCl [(h0, .inr (0, [.ref q1, .null, .null, .null, .int 0, .null, .int 0, .int 0, .null, .null, .null, .int 0, .null])), (q1, .inl (dA, 8, .inl (fun _ => 0)))] H := hP
  have hD : va_D A [(h0, .inr (0, [.ref q1, .null, .null, .null, .int 0, .null, .int 0, .int 0, .null, .null, .null, .int 0, .null])), (q1, .inl (dA, 8, .inl (fun _ => 0)))] := hD
  refine lv_aload_n hx hb dX0_init_12 rfl (lv_at hl 0 rfl) ?_
  refine lv_sipush (v := nI 256) hx hb dX0_init_13 (by decide) ?_
  refine va_newa (atype := .int) (ty := .int) (N' := 256) (a0 := (256, .inl (fun _ => 0))) hx hb (hts _ q62) rfl hK hP hD hS hA (fun _ => rfl) (by decide) (by decide) (by decide) (Nat.le_of_ble_eq_true rfl) (Nat.le_of_ble_eq_true rfl) dX0_init_16 (fun q2 c1 H hK hP hD hS => ?_)
  have e1 : dA = c1 := zx_same hK 0 1 rfl rfl
  subst e1
  have hK := hK.sub (tys' := [(dA, .int)]) [0] rfl
  have hP : va_P D vwCl [(h0, .inr (0, [.ref q1, .null, .null, .null, .int 0, .null, .int 0, .int 0, .null, .null, .null, .int 0, .null])), (q1, .inl (dA, 8, .inl (fun _ => 0))), (q2, .inl (dA, 256, .inl (fun _ => 0)))] H := hP
  have hD : va_D A [(h0, .inr (0, [.ref q1, .null, .null, .null, .int 0, .null, .int 0, .int 0, .null, .null, .null, .int 0, .null])), (q1, .inl (dA, 8, .inl (fun _ => 0))), (q2, .inl (dA, 256, .inl (fun _ => 0)))] := hD
  refine W.widen (k := 2) (n := 264) (Nat.le_refl _) (Nat.le_refl _) ?_
  refine va_putF (D := D) (ci := 0) (v := .ref q2) (ty := .array .int) (C := RX0) (T := TX0) (N := 13) hx hb hts in_X0 tyX0 tyX0_ok nmX0 hown hK hP hD hS 0 rfl rfl 1 (by decide) (hts _ q23) (fun _ h9 => h9) rfl hin rfl (by decide +kernel) rfl rfl (Nat.le_of_ble_eq_true rfl) dX0_init_18 (fun H locs hP hD hS => ?_)
  have hP : va_P D vwCl [(h0, .inr (0, [.ref q1, .ref q2, .null, .null, .int 0, .null, .int 0, .int 0, .null, .null, .null, .int 0, .null])), (q1, .inl (dA, 8, .inl (fun _ => 0))), (q2, .inl (dA, 256, .inl (fun _ => 0)))] H := hP
  have hD : va_D A [(h0, .inr (0, [.ref q1, .ref q2, .null, .null, .int 0, .null, .int 0, .int 0, .null, .null, .null, .int 0, .null])), (q1, .inl (dA, 8, .inl (fun _ => 0))), (q2, .inl (dA, 256, .inl (fun _ => 0)))] := hD
  refine lv_aload_n hx hb dX0_init_21 rfl (lv_at hl 0 rfl) ?_
  refine lv_sipush (v := nI 256) hx hb dX0_init_22 (by decide) ?_
  refine va_newa (atype := .int) (ty := .int) (N' := 256) (a0 := (256, .inl (fun _ => 0))) hx hb (hts _ q62) rfl hK hP hD hS hA (fun _ => rfl) (by decide) (by decide) (by decide) (Nat.le_of_ble_eq_true rfl) (Nat.le_of_ble_eq_true rfl) dX0_init_25 (fun q3 c1 H hK hP hD hS => ?_)
  have e1 : dA = c1 := zx_same hK 0 1 rfl rfl
  subst e1
  have hK := hK.sub (tys' := [(dA, .int)]) [0] rfl
  have hP : va_P D vwCl [(h0, .inr (0, [.ref q1, .ref q2, .null, .null, .int 0, .null, .int 0, .int 0, .null, .null, .null, .int 0, .null])), (q1, .inl (dA, 8, .inl (fun _ => 0))), (q2, .inl (dA, 256, .inl (fun _ => 0))), (q3, .inl (dA, 256, .inl (fun _ => 0)))] H := hP
  have hD : va_D A [(h0, .inr (0, [.ref q1, .ref q2, .null, .null, .int 0, .null, .int 0, .int 0, .null, .null, .null, .int 0, .null])), (q1, .inl (dA, 8, .inl (fun _ => 0))), (q2, .inl (dA, 256, .inl (fun _ => 0))), (q3, .inl (dA, 256, .inl (fun _ => 0)))] := hD
  refine W.widen (k := 3) (n := 520) (Nat.le_refl _) (Nat.le_refl _) ?_
  refine va_putF (D := D) (ci := 0) (v := .ref q3) (ty := .array .int) (C := RX0) (T := TX0) (N := 13) hx hb hts in_X0 tyX0 tyX0_ok nmX0 hown hK hP hD hS 0 rfl rfl 2 (by decide) (hts _ q24) (fun _ h9 => h9) rfl hin rfl (by decide +kernel) rfl rfl (Nat.le_of_ble_eq_true rfl) dX0_init_27 (fun H locs hP hD hS => ?_)
  have hP : va_P D vwCl [(h0, .inr (0, [.ref q1, .ref q2, .ref q3, .null, .int 0, .null, .int 0, .int 0, .null, .null, .null, .int 0, .null])), (q1, .inl (dA, 8, .inl (fun _ => 0))), (q2, .inl (dA, 256, .inl (fun _ => 0))), (q3, .inl (dA, 256, .inl (fun _ => 0)))] H := hP
  have hD : va_D A [(h0, .inr (0, [.ref q1, .ref q2, .ref q3, .null, .int 0, .null, .int 0, .int 0, .null, .null, .null, .int 0, .null])), (q1, .inl (dA, 8, .inl (fun _ => 0))), (q2, .inl (dA, 256, .inl (fun _ => 0))), (q3, .inl (dA, 256, .inl (fun _ => 0)))] := hD
  refine lv_aload_n hx hb dX0_init_30 rfl (lv_at hl 0 rfl) ?_
  refine lv_sipush (v := nI 256) hx hb dX0_init_31 (by decide) ?_
  refine va_newa (atype := .int) (ty := .int) (N' := 256) (a0 := (256, .inl (fun _ => 0))) hx hb (hts _ q62) rfl hK hP hD hS hA (fun _ => rfl) (by decide) (by decide) (by decide) (Nat.le_of_ble_eq_true rfl) (Nat.le_of_ble_eq_true rfl) dX0_init_34 (fun q4 c1 H hK hP hD hS => ?_)
  have e1 : dA = c1 := zx_same hK 0 1 rfl rfl
  subst e1
  have hK := hK.sub (tys' := [(dA, .int)]) [0] rfl
  have hP : va_P D vwCl [(h0, .inr (0, [.ref q1, .ref q2, .ref q3, .null, .int 0, .null, .int 0, .int 0, .null, .null, .null, .int 0, .null])), (q1, .inl (dA, 8, .inl (fun _ => 0))), (q2, .inl (dA, 256, .inl (fun _ => 0))), (q3, .inl (dA, 256, .inl (fun _ => 0))), (q4, .inl (dA, 256, .inl (fun _ => 0)))] H := hP
  have hD : va_D A [(h0, .inr (0, [.ref q1, .ref q2, .ref q3, .null, .int 0, .null, .int 0, .int 0, .null, .null, .null, .int 0, .null])), (q1, .inl (dA, 8, .inl (fun _ => 0))), (q2, .inl (dA, 256, .inl (fun _ => 0))), (q3, .inl (dA, 256, .inl (fun _ => 0))), (q4, .inl (dA, 256, .inl (fun _ => 0)))] := hD
  refine W.widen (k := 4) (n := 776) (Nat.le_refl _) (Nat.le_refl _) ?_
  refine va_putF (D := D) (ci := 0) (v := .ref q4) (ty := .array .int) (C := RX0) (T := TX0) (N := 13) hx hb hts in_X0 tyX0 tyX0_ok nmX0 hown hK hP hD hS 0 rfl rfl 3 (by decide) (hts _ q25) (fun _ h9 => h9) rfl hin rfl (by decide +kernel) rfl rfl (Nat.le_of_ble_eq_true rfl) dX0_init_36 (fun H locs hP hD hS => ?_)
  have hP : va_P D vwCl [(h0, .inr (0, [.ref q1, .ref q2, .ref q3, .ref q4, .int 0, .null, .int 0, .int 0, .null, .null, .null, .int 0, .null])), (q1, .inl (dA, 8, .inl (fun _ => 0))), (q2, .inl (dA, 256, .inl (fun _ => 0))), (q3, .inl (dA, 256, .inl (fun _ => 0))), (q4, .inl (dA, 256, .inl (fun _ => 0)))] H := hP
  have hD : va_D A [(h0, .inr (0, [.ref q1, .ref q2, .ref q3, .ref q4, .int 0, .null, .int 0, .int 0, .null, .null, .null, .int 0, .null])), (q1, .inl (dA, 8, .inl (fun _ => 0))), (q2, .inl (dA, 256, .inl (fun _ => 0))), (q3, .inl (dA, 256, .inl (fun _ => 0))), (q4, .inl (dA, 256, .inl (fun _ => 0)))] := hD
  refine lv_aload_n hx hb dX0_init_39 rfl (lv_at hl 0 rfl) ?_
  refine lv_bipush (v := nI 8) hx hb dX0_init_40 (by decide) ?_
  refine va_newa (atype := .int) (ty := .int) (N' := 8) (a0 := (8, .inl (fun _ => 0))) hx hb (hts _ q62) rfl hK hP hD hS hA (fun _ => rfl) (by decide) (by decide) (by decide) (Nat.le_of_ble_eq_true rfl) (Nat.le_of_ble_eq_true rfl) dX0_init_42 (fun q5 c1 H hK hP hD hS => ?_)
  have e1 : dA = c1 := zx_same hK 0 1 rfl rfl
  subst e1
  have hK := hK.sub (tys' := [(dA, .int)]) [0] rfl
  have hP : va_P D vwCl [(h0, .inr (0, [.ref q1, .ref q2, .ref q3, .ref q4, .int 0, .null, .int 0, .int 0, .null, .null, .null, .int 0, .null])), (q1, .inl (dA, 8, .inl (fun _ => 0))), (q2, .inl (dA, 256, .inl (fun _ => 0))), (q3, .inl (dA, 256, .inl (fun _ => 0))), (q4, .inl (dA, 256, .inl (fun _ => 0))), (q5, .inl (dA, 8, .inl (fun _ => 0)))] H := hP
  have hD : va_D A [(h0, .inr (0, [.ref q1, .ref q2, .ref q3, .ref q4, .int 0, .null, .int 0, .int 0, .null, .null, .null, .int 0, .null])), (q1, .inl (dA, 8, .inl (fun _ => 0))), (q2, .inl (dA, 256, .inl (fun _ => 0))), (q3, .inl (dA, 256, .inl (fun _ => 0))), (q4, .inl (dA, 256, .inl (fun _ => 0))), (q5, .inl (dA, 8, .inl (fun _ => 0)))] := hD
  refine W.widen (k := 5) (n := 784) (Nat.le_refl _) (Nat.le_refl _) ?_
  refine va_putF (D := D) (ci := 0) (v := .ref q5) (ty := .array .int) (C := RX0) (T := TX0) (N := 13) hx hb hts in_X0 tyX0 tyX0_ok nmX0 hown hK hP hD hS 0 rfl rfl 5 (by decide) (hts _ q27) (fun _ h9 => h9) rfl hin rfl (by decide +kernel) rfl rfl (Nat.le_of_ble_eq_true rfl) dX0_init_44 (fun H locs hP hD hS => ?_)
  have hP : va_P D vwCl [(h0, .inr (0, [.ref q1, .ref q2, .ref q3, .ref q4, .int 0, .ref q5, .int 0, .int 0, .null, .null, .null, .int 0, .null])), (q1, .inl (dA, 8, .inl (fun _ => 0))), (q2, .inl (dA, 256, .inl (fun _ => 0))), (q3, .inl (dA, 256, .inl (fun _ => 0))), (q4, .inl (dA, 256, .inl (fun _ => 0))), (q5, .inl (dA, 8, .inl (fun _ => 0)))] H := hP
  have hD : va_D A [(h0, .inr (0, [.ref q1, .ref q2, .ref q3, .ref q4, .int 0, .ref q5, .int 0, .int 0, .null, .null, .null, .int 0, .null])), (q1, .inl (dA, 8, .inl (fun _ => 0))), (q2, .inl (dA, 256, .inl (fun _ => 0))), (q3, .inl (dA, 256, .inl (fun _ => 0))), (q4, .inl (dA, 256, .inl (fun _ => 0))), (q5, .inl (dA, 8, .inl (fun _ => 0)))] := hD
  refine lv_aload_n hx hb dX0_init_47 rfl (lv_at hl 0 rfl) ?_
  refine lv_bipush (v := nI 64) hx hb dX0_init_48 (by decide) ?_
  refine va_newa (atype := .int) (ty := .int) (N' := 64) (a0 := (64, .inl (fun _ => 0))) hx hb (hts _ q62) rfl hK hP hD hS hA (fun _ => rfl) (by decide) (by decide) (by decide) (Nat.le_of_ble_eq_true rfl) (Nat.le_of_ble_eq_true rfl) dX0_init_50 (fun q6 c1 H hK hP hD hS => ?_)
  have e1 : dA = c1 := zx_same hK 0 1 rfl rfl
  subst e1
  have hK := hK.sub (tys' := [(dA, .int)]) [0] rfl
  have hP : va_P D vwCl [(h0, .inr (0, [.ref q1, .ref q2, .ref q3, .ref q4, .int 0, .ref q5, .int 0, .int 0, .null, .null, .null, .int 0, .null])), (q1, .inl (dA, 8, .inl (fun _ => 0))), (q2, .inl (dA, 256, .inl (fun _ => 0))), (q3, .inl (dA, 256, .inl (fun _ => 0))), (q4, .inl (dA, 256, .inl (fun _ => 0))), (q5, .inl (dA, 8, .inl (fun _ => 0))), (q6, .inl (dA, 64, .inl (fun _ => 0)))] H := hP
  have hD : va_D A [(h0, .inr (0, [.ref q1, .ref q2, .ref q3, .ref q4, .int 0, .ref q5, .int 0, .int 0, .null, .null, .null, .int 0, .null])), (q1, .inl (dA, 8, .inl (fun _ => 0))), (q2, .inl (dA, 256, .inl (fun _ => 0))), (q3, .inl (dA, 256, .inl (fun _ => 0))), (q4, .inl (dA, 256, .inl (fun _ => 0))), (q5, .inl (dA, 8, .inl (fun _ => 0))), (q6, .inl (dA, 64, .inl (fun _ => 0)))] := hD
  refine W.widen (k := 6) (n := 848) (Nat.le_refl _) (Nat.le_refl _) ?_
  refine va_putF (D := D) (ci := 0) (v := .ref q6) (ty := .array .int) (C := RX0) (T := TX0) (N := 13) hx hb hts in_X0 tyX0 tyX0_ok nmX0 hown hK hP hD hS 0 rfl rfl 8 (by decide) (hts _ q30) (fun _ h9 => h9) rfl hin rfl (by decide +kernel) rfl rfl (Nat.le_of_ble_eq_true rfl) dX0_init_52 (fun H locs hP hD hS => ?_)
  have hP : va_P D vwCl [(h0, .inr (0, [.ref q1, .ref q2, .ref q3, .ref q4, .int 0, .ref q5, .int 0, .int 0, .ref q6, .null, .null, .int 0, .null])), (q1, .inl (dA, 8, .inl (fun _ => 0))), (q2, .inl (dA, 256, .inl (fun _ => 0))), (q3, .inl (dA, 256, .inl (fun _ => 0))), (q4, .inl (dA, 256, .inl (fun _ => 0))), (q5, .inl (dA, 8, .inl (fun _ => 0))), (q6, .inl (dA, 64, .inl (fun _ => 0)))] H := hP
  have hD : va_D A [(h0, .inr (0, [.ref q1, .ref q2, .ref q3, .ref q4, .int 0, .ref q5, .int 0, .int 0, .ref q6, .null, .null, .int 0, .null])), (q1, .inl (dA, 8, .inl (fun _ => 0))), (q2, .inl (dA, 256, .inl (fun _ => 0))), (q3, .inl (dA, 256, .inl (fun _ => 0))), (q4, .inl (dA, 256, .inl (fun _ => 0))), (q5, .inl (dA, 8, .inl (fun _ => 0))), (q6, .inl (dA, 64, .inl (fun _ => 0)))] := hD
  refine lv_aload_n hx hb dX0_init_55 rfl (lv_at hl 0 rfl) ?_
  refine lv_bipush (v := nI 64) hx hb dX0_init_56 (by decide) ?_
  refine va_newa (atype := .int) (ty := .int) (N' := 64) (a0 := (64, .inl (fun _ => 0))) hx hb (hts _ q62) rfl hK hP hD hS hA (fun _ => rfl) (by decide) (by decide) (by decide) (Nat.le_of_ble_eq_true rfl) (Nat.le_of_ble_eq_true rfl) dX0_init_58 (fun q7 c1 H hK hP hD hS => ?_)
  have e1 : dA = c1 := zx_same hK 0 1 rfl rfl
  subst e1
  have hK := hK.sub (tys' := [(dA, .int)]) [0] rfl
  have hP : va_P D vwCl [(h0, .inr (0, [.ref q1, .ref q2, .ref q3, .ref q4, .int 0, .ref q5, .int 0, .int 0, .ref q6, .null, .null, .int 0, .null])), (q1, .inl (dA, 8, .inl (fun _ => 0))), (q2, .inl (dA, 256, .inl (fun _ => 0))), (q3, .inl (dA, 256, .inl (fun _ => 0))), (q4, .inl (dA, 256, .inl (fun _ => 0))), (q5, .inl (dA, 8, .inl (fun _ => 0))), (q6, .inl (dA, 64, .inl (fun _ => 0))), (q7, .inl (dA, 64, .inl (fun _ => 0)))] H := hP
  have hD : va_D A [(h0, .inr (0, [.ref q1, .ref q2, .ref q3, .ref q4, .int 0, .ref q5, .int 0, .int 0, .ref q6, .null, .null, .int 0, .null])), (q1, .inl (dA, 8, .inl (fun _ => 0))), (q2, .inl (dA, 256, .inl (fun _ => 0))), (q3, .inl (dA, 256, .inl (fun _ => 0))), (q4, .inl (dA, 256, .inl (fun _ => 0))), (q5, .inl (dA, 8, .inl (fun _ => 0))), (q6, .inl (dA, 64, .inl (fun _ => 0))), (q7, .inl (dA, 64, .inl (fun _ => 0)))] := hD
  refine W.widen (k := 7) (n := 912) (Nat.le_refl _) (Nat.le_refl _) ?_
  refine va_putF (D := D) (ci := 0) (v := .ref q7) (ty := .array .int) (C := RX0) (T := TX0) (N := 13) hx hb hts in_X0 tyX0 tyX0_ok nmX0 hown hK hP hD hS 0 rfl rfl 9 (by decide) (hts _ q31) (fun _ h9 => h9) rfl hin rfl (by decide +kernel) rfl rfl (Nat.le_of_ble_eq_true rfl) dX0_init_60 (fun H locs hP hD hS => ?_)
  have hP : va_P D vwCl [(h0, .inr (0, [.ref q1, .ref q2, .ref q3, .ref q4, .int 0, .ref q5, .int 0, .int 0, .ref q6, .ref q7, .null, .int 0, .null])), (q1, .inl (dA, 8, .inl (fun _ => 0))), (q2, .inl (dA, 256, .inl (fun _ => 0))), (q3, .inl (dA, 256, .inl (fun _ => 0))), (q4, .inl (dA, 256, .inl (fun _ => 0))), (q5, .inl (dA, 8, .inl (fun _ => 0))), (q6, .inl (dA, 64, .inl (fun _ => 0))), (q7, .inl (dA, 64, .inl (fun _ => 0)))] H := hP
  have hD : va_D A [(h0, .inr (0, [.ref q1, .ref q2, .ref q3, .ref q4, .int 0, .ref q5, .int 0, .int 0, .ref q6, .ref q7, .null, .int 0, .null])), (q1, .inl (dA, 8, .inl (fun _ => 0))), (q2, .inl (dA, 256, .inl (fun _ => 0))), (q3, .inl (dA, 256, .inl (fun _ => 0))), (q4, .inl (dA, 256, .inl (fun _ => 0))), (q5, .inl (dA, 8, .inl (fun _ => 0))), (q6, .inl (dA, 64, .inl (fun _ => 0))), (q7, .inl (dA, 64, .inl (fun _ => 0)))] := hD
  refine lv_aload_n hx hb dX0_init_63 rfl (lv_at hl 0 rfl) ?_
  refine lv_bipush (v := nI 64) hx hb dX0_init_64 (by decide) ?_
  refine va_newa (atype := .int) (ty := .int) (N' := 64) (a0 := (64, .inl (fun _ => 0))) hx hb (hts _ q62) rfl hK hP hD hS hA (fun _ => rfl) (by decide) (by decide) (by decide) (Nat.le_of_ble_eq_true rfl) (Nat.le_of_ble_eq_true rfl) dX0_init_66 (fun q8 c1 H hK hP hD hS => ?_)
  have e1 : dA = c1 := zx_same hK 0 1 rfl rfl
  subst e1
  have hK := hK.sub (tys' := [(dA, .int)]) [0] rfl
  have hP : va_P D vwCl [(h0, .inr (0, [.ref q1, .ref q2, .ref q3, .ref q4, .int 0, .ref q5, .int 0, .int 0, .ref q6, .ref q7, .null, .int 0, .null])), (q1, .inl (dA, 8, .inl (fun _ => 0))), (q2, .inl (dA, 256, .inl (fun _ => 0))), (q3, .inl (dA, 256, .inl (fun _ => 0))), (q4, .inl (dA, 256, .inl (fun _ => 0))), (q5, .inl (dA, 8, .inl (fun _ => 0))), (q6, .inl (dA, 64, .inl (fun _ => 0))), (q7, .inl (dA, 64, .inl (fun _ => 0))), (q8, .inl (dA, 64, .inl (fun _ => 0)))] H := hP
  have hD : va_D A [(h0, .inr (0, [.ref q1, .ref q2, .ref q3, .ref q4, .int 0, .ref q5, .int 0, .int 0, .ref q6, .ref q7, .null, .int 0, .null])), (q1, .inl (dA, 8, .inl (fun _ => 0))), (q2, .inl (dA, 256, .inl (fun _ => 0))), (q3, .inl (dA, 256, .inl (fun _ => 0))), (q4, .inl (dA, 256, .inl (fun _ => 0))), (q5, .inl (dA, 8, .inl (fun _ => 0))), (q6, .inl (dA, 64, .inl (fun _ => 0))), (q7, .inl (dA, 64, .inl (fun _ => 0))), (q8, .inl (dA, 64, .inl (fun _ => 0)))] := hD
  refine W.widen (k := 8) (n := 976) (Nat.le_refl _) (Nat.le_refl _) ?_
  refine va_putF (D := D) (ci := 0) (v := .ref q8) (ty := .array .int) (C := RX0) (T := TX0) (N := 13) hx hb hts in_X0 tyX0 tyX0_ok nmX0 hown hK hP hD hS 0 rfl rfl 10 (by decide) (hts _ q32) (fun _ h9 => h9) rfl hin rfl (by decide +kernel) rfl rfl (Nat.le_of_ble_eq_true rfl) dX0_init_68 (fun H locs hP hD hS => ?_)
  have hP : va_P D vwCl [(h0, .inr (0, [.ref q1, .ref q2, .ref q3, .ref q4, .int 0, .ref q5, .int 0, .int 0, .ref q6, .ref q7, .ref q8, .int 0, .null])), (q1, .inl (dA, 8, .inl (fun _ => 0))), (q2, .inl (dA, 256, .inl (fun _ => 0))), (q3, .inl (dA, 256, .inl (fun _ => 0))), (q4, .inl (dA, 256, .inl (fun _ => 0))), (q5, .inl (dA, 8, .inl (fun _ => 0))), (q6, .inl (dA, 64, .inl (fun _ => 0))), (q7, .inl (dA, 64, .inl (fun _ => 0))), (q8, .inl (dA, 64, .inl (fun _ => 0)))] H := hP
  have hD : va_D A [(h0, .inr (0, [.ref q1, .ref q2, .ref q3, .ref q4, .int 0, .ref q5, .int 0, .int 0, .ref q6, .ref q7, .ref q8, .int 0, .null])), (q1, .inl (dA, 8, .inl (fun _ => 0))), (q2, .inl (dA, 256, .inl (fun _ => 0))), (q3, .inl (dA, 256, .inl (fun _ => 0))), (q4, .inl (dA, 256, .inl (fun _ => 0))), (q5, .inl (dA, 8, .inl (fun _ => 0))), (q6, .inl (dA, 64, .inl (fun _ => 0))), (q7, .inl (dA, 64, .inl (fun _ => 0))), (q8, .inl (dA, 64, .inl (fun _ => 0)))] := hD
  refine lv_aload_n hx hb dX0_init_71 rfl (lv_at hl 0 rfl) ?_
  refine lv_sipush (v := nI 128) hx hb dX0_init_72 (by decide) ?_
  refine va_newa (atype := .boolean) (ty := .boolean) (N' := 128) (a0 := (128, .inl (fun _ => 0))) hx hb (hts _ q63) rfl hK hP hD hS hA (fun _ => rfl) (by decide) (by decide) (by decide) (Nat.le_of_ble_eq_true rfl) (Nat.le_of_ble_eq_true rfl) dX0_init_75 (fun q9 dZ H hK hP hD hS => ?_)
  have hK : va_K D vwCl [(dA, .int), (dZ, .boolean)] s := hK
  have hP : va_P D vwCl [(h0, .inr (0, [.ref q1, .ref q2, .ref q3, .ref q4, .int 0, .ref q5, .int 0, .int 0, .ref q6, .ref q7, .ref q8, .int 0, .null])), (q1, .inl (dA, 8, .inl (fun _ => 0))), (q2, .inl (dA, 256, .inl (fun _ => 0))), (q3, .inl (dA, 256, .inl (fun _ => 0))), (q4, .inl (dA, 256, .inl (fun _ => 0))), (q5, .inl (dA, 8, .inl (fun _ => 0))), (q6, .inl (dA, 64, .inl (fun _ => 0))), (q7, .inl (dA, 64, .inl (fun _ => 0))), (q8, .inl (dA, 64, .inl (fun _ => 0))), (q9, .inl (dZ, 128, .inl (fun _ => 0)))] H := hP
  have hD : va_D A [(h0, .inr (0, [.ref q1, .ref q2, .ref q3, .ref q4, .int 0, .ref q5, .int 0, .int 0, .ref q6, .ref q7, .ref q8, .int 0, .null])), (q1, .inl (dA, 8, .inl (fun _ => 0))), (q2, .inl (dA, 256, .inl (fun _ => 0))), (q3, .inl (dA, 256, .inl (fun _ => 0))), (q4, .inl (dA, 256, .inl (fun _ => 0))), (q5, .inl (dA, 8, .inl (fun _ => 0))), (q6, .inl (dA, 64, .inl (fun _ => 0))), (q7, .inl (dA, 64, .inl (fun _ => 0))), (q8, .inl (dA, 64, .inl (fun _ => 0))), (q9, .inl (dZ, 128, .inl (fun _ => 0)))] := hD
  refine W.widen (k := 9) (n := 1104) (Nat.le_refl _) (Nat.le_refl _) ?_
  refine va_putF (D := D) (ci := 0) (v := .ref q9) (ty := .array .boolean) (C := RX0) (T := TX0) (N := 13) hx hb hts in_X0 tyX0 tyX0_ok nmX0 hown hK hP hD hS 0 rfl rfl 12 (by decide) (hts _ q34) (fun _ h9 => h9) rfl hin rfl (by decide +kernel) rfl rfl (Nat.le_of_ble_eq_true rfl) dX0_init_77 (fun H locs hP hD hS => ?_)
  have hP : va_P D vwCl [(h0, .inr (0, [.ref q1, .ref q2, .ref q3, .ref q4, .int 0, .ref q5, .int 0, .int 0, .ref q6, .ref q7, .ref q8, .int 0, .ref q9])), (q1, .inl (dA, 8, .inl (fun _ => 0))), (q2, .inl (dA, 256, .inl (fun _ => 0))), (q3, .inl (dA, 256, .inl (fun _ => 0))), (q4, .inl (dA, 256, .inl (fun _ => 0))), (q5, .inl (dA, 8, .inl (fun _ => 0))), (q6, .inl (dA, 64, .inl (fun _ => 0))), (q7, .inl (dA, 64, .inl (fun _ => 0))), (q8, .inl (dA, 64, .inl (fun _ => 0))), (q9, .inl (dZ, 128, .inl (fun _ => 0)))] H := hP
  have hD : va_D A [(h0, .inr (0, [.ref q1, .ref q2, .ref q3, .ref q4, .int 0, .ref q5, .int 0, .int 0, .ref q6, .ref q7, .ref q8, .int 0, .ref q9])), (q1, .inl (dA, 8, .inl (fun _ => 0))), (q2, .inl (dA, 256, .inl (fun _ => 0))), (q3, .inl (dA, 256, .inl (fun _ => 0))), (q4, .inl (dA, 256, .inl (fun _ => 0))), (q5, .inl (dA, 8, .inl (fun _ => 0))), (q6, .inl (dA, 64, .inl (fun _ => 0))), (q7, .inl (dA, 64, .inl (fun _ => 0))), (q8, .inl (dA, 64, .inl (fun _ => 0))), (q9, .inl (dZ, 128, .inl (fun _ => 0)))] := hD
  have hP : va_P D vwCl (xW dA dZ (zx_adX h0 q1 q2 q3 q4 q5 q6 q7 q8 q9) (fun _ => 0) (fun _ => 0) (fun _ => 0) (fun _ => 0) (fun _ => 0) (fun _ => 0) (fun _ => 0) (fun _ => 0) (fun _ => 0) 0 0 0 0) H := hP
  have hD : va_D A (xW dA dZ (zx_adX h0 q1 q2 q3 q4 q5 q6 q7 q8 q9) (fun _ => 0) (fun _ => 0) (fun _ => 0) (fun _ => 0) (fun _ => 0) (fun _ => 0) (fun _ => 0) (fun _ => 0) (fun _ => 0) 0 0 0 0) := hD
  obtain ⟨ad, hadE⟩ : ∃ ad, zx_adX h0 q1 q2 q3 q4 q5 q6 q7 q8 q9 = ad := ⟨_, rfl⟩
  have had0 : ad 0 = h0 := by rw [← hadE]; rfl
  rw [hadE] at hP hD
  rw [← had0] at hl
  refine lv_iconst (v := nI 0) hx hb dX0_init_80 (by decide) ?_
  refine lv_istore_n (lv' := [(1, .int (nI 0)), (0, .ref (ad 0))]) hx hb dX0_init_81 rfl hl (by decide) rfl (fun ls hl => ?_)
  refine zx_w2 (α := Nat) (β := Nat → Int32) (mu := fun i g => 8 - i) (I := fun i g H locs ls => (i ≤ 8 ∧ ∀ c, c < i → g c = nI 1) ∧ va_P D vwCl (xW dA dZ ad g (fun _ => 0) (fun _ => 0) (fun _ => 0) (fun _ => 0) (fun _ => 0) (fun _ => 0) (fun _ => 0) (fun _ => 0) 0 0 0 0) H ∧ va_D A (xW dA dZ ad g (fun _ => 0) (fun _ => 0) (fun _ => 0) (fun _ => 0) (fun _ => 0) (fun _ => 0) (fun _ => 0) (fun _ => 0) 0 0 0 0) ∧ va_S A s.heap H locs ∧ lv_has ls 2 [(0, .ref (ad 0)), (1, .int (nI i))]) ?_ 0 (fun _ => 0) ⟨⟨Nat.zero_le _, fun c hc => absurd hc (Nat.not_lt_zero _)⟩, hP, hD, hS, lv_sub hl [1, 0] rfl⟩
  intro i g H locs ls hI ih
  obtain ⟨⟨hi, hg⟩, hP, hD, hS, hl⟩ := hI
  refine lv_iload_n hx hb dX0_init_82 rfl (lv_at hl 1 rfl) ?_
  refine lv_bipush (v := nI 8) hx hb dX0_init_83 (by decide) ?_
  refine lv_icmp_ge (tgt := 101) hx hb dX0_init_85 (by decide) (fun c1 => ?_) (fun c1 => ?_)
  · have c1 : 8 ≤ i := (nI_leI (by omega) (by omega)).mp c1
    have h9 : 8 = i := by omega
    subst h9
    refine lv_iconst (v := nI 0) hx hb dX0_init_101 (by decide) ?_
    refine lv_istore_n (lv' := [(1, .int (nI 0)), (0, .ref (ad 0))]) hx hb dX0_init_102 rfl hl (by decide) rfl (fun ls hl => ?_)
    refine zx_w3 (α := Nat) (β := Nat → Int32) (γ := Nat → Int32) (mu := fun i g1 g2 => 256 - i) (I := fun i g1 g2 H locs ls => (i ≤ 256 ∧ (∀ c, c < i → g1 c = nI 32) ∧ ∀ c, c < i → g2 c = -1) ∧ va_P D vwCl (xW dA dZ ad g g1 g2 (fun _ => 0) (fun _ => 0) (fun _ => 0) (fun _ => 0) (fun _ => 0) (fun _ => 0) 0 0 0 0) H ∧ va_D A (xW dA dZ ad g g1 g2 (fun _ => 0) (fun _ => 0) (fun _ => 0) (fun _ => 0) (fun _ => 0) (fun _ => 0) 0 0 0 0) ∧ va_S A s.heap H locs ∧ lv_has ls 2 [(0, .ref (ad 0)), (1, .int (nI i))]) ?_ 0 (fun _ => 0) (fun _ => 0) ⟨⟨Nat.zero_le _, fun c hc => absurd hc (Nat.not_lt_zero _), fun c hc => absurd hc (Nat.not_lt_zero _)⟩, hP, hD, hS, lv_sub hl [1, 0] rfl⟩
    intro i g1 g2 H locs ls hI ih2
    obtain ⟨⟨hi, hg1, hg2⟩, hP, hD, hS, hl⟩ := hI
    refine lv_iload_n hx hb dX0_init_103 rfl (lv_at hl 1 rfl) ?_
    refine lv_sipush (v := nI 256) hx hb dX0_init_104 (by decide) ?_
    refine lv_icmp_ge (tgt := 131) hx hb dX0_init_107 (by decide) (fun c2 => ?_) (fun c2 => ?_)
    · have c2 : 256 ≤ i := (nI_leI (by omega) (by omega)).mp c2
      have h9 : 256 = i := by omega
      subst h9
      exact W.vret hx hb hr (fun t ht hW => ⟨⟨(), rfl, trivial, dA, dZ, ad, had0, _, _, _, _, _, _, _, _, _, _, _, _, _, zi_X hg hg1 hg2, by rw [ht]; exact hP, va_K.moved hW.alike hK, hD⟩, hS.F ht⟩) hS.2.2 dX0_init_131
    · have c2 : ¬ 256 ≤ i := fun q => c2 ((nI_leI (by omega) (by omega)).mpr q)
      refine lv_aload_n hx hb dX0_init_110 rfl (lv_at hl 0 rfl) ?_
      refine va_get (D := D) (ci := 0) (v := .ref (ad 2)) (C := RX0) (T := TX0) (N := 13) hx hb hts in_X0 hown hK hP 0 rfl rfl 1 (by decide) (hts _ q23) (fun _ h9 => h9) rfl dX0_init_111 ?_
      refine lv_iload_n hx hb dX0_init_114 rfl (lv_at hl 1 rfl) ?_
      refine lv_bipush (v := nI 32) hx hb dX0_init_115 (by decide) ?_
      refine zx_iast hx hb hK hP hD hS 2 0 rfl rfl (j := i) rfl (by omega) (by decide) dX0_init_117 (fun H locs hP hD hS => ?_)
      have hP : va_P D vwCl (xW dA dZ ad g (upd g1 i (nI 32)) g2 (fun _ => 0) (fun _ => 0) (fun _ => 0) (fun _ => 0) (fun _ => 0) (fun _ => 0) 0 0 0 0) H := hP
      have hD : va_D A (xW dA dZ ad g (upd g1 i (nI 32)) g2 (fun _ => 0) (fun _ => 0) (fun _ => 0) (fun _ => 0) (fun _ => 0) (fun _ => 0) 0 0 0 0) := hD
      refine lv_aload_n hx hb dX0_init_118 rfl (lv_at hl 0 rfl) ?_
      refine va_get (D := D) (ci := 0) (v := .ref (ad 3)) (C := RX0) (T := TX0) (N := 13) hx hb hts in_X0 hown hK hP 0 rfl rfl 2 (by decide) (hts _ q24) (fun _ h9 => h9) rfl dX0_init_119 ?_
      refine lv_iload_n hx hb dX0_init_122 rfl (lv_at hl 1 rfl) ?_
      refine lv_iconst (v := (-1)) hx hb dX0_init_123 (by decide) ?_
      refine zx_iast hx hb hK hP hD hS 3 0 rfl rfl (j := i) rfl (by omega) (by decide) dX0_init_124 (fun H locs hP hD hS => ?_)
      have hP : va_P D vwCl (xW dA dZ ad g (upd g1 i (nI 32)) (upd g2 i (-1)) (fun _ => 0) (fun _ => 0) (fun _ => 0) (fun _ => 0) (fun _ => 0) (fun _ => 0) 0 0 0 0) H := hP
      have hD : va_D A (xW dA dZ ad g (upd g1 i (nI 32)) (upd g2 i (-1)) (fun _ => 0) (fun _ => 0) (fun _ => 0) (fun _ => 0) (fun _ => 0) (fun _ => 0) 0 0 0 0) := hD
      refine lv_iinc (v := nI (i + 1)) (lv' := [(1, .int (nI (i + 1))), (0, .ref (ad 0))]) hx hb dX0_init_125 hl (k := 1) rfl (nI_1 _) (by decide) rfl (fun ls hl => ?_)
      refine lv_goto (tgt := 103) hx hb dX0_init_128 (by decide) ?_
      exact ih2 (i + 1) (upd g1 i (nI 32)) (upd g2 i (-1)) H locs ls (by omega) ⟨⟨by omega, zi_up hg1 rfl, zi_up hg2 rfl⟩, hP, hD, hS, lv_sub hl [1, 0] rfl⟩
  · have c1 : ¬ 8 ≤ i := fun q => c1 ((nI_leI (by omega) (by omega)).mpr q)
    refine lv_aload_n hx hb dX0_init_88 rfl (lv_at hl 0 rfl) ?_
    refine va_get (D := D) (ci := 0) (v := .ref (ad 1)) (C := RX0) (T := TX0) (N := 13) hx hb hts in_X0 hown hK hP 0 rfl rfl 0 (by decide) (hts _ q22) (fun _ h9 => h9) rfl dX0_init_89 ?_
    refine lv_iload_n hx hb dX0_init_92 rfl (lv_at hl 1 rfl) ?_
    refine lv_iconst (v := nI 1) hx hb dX0_init_93 (by decide) ?_
    refine zx_iast hx hb hK hP hD hS 1 0 rfl rfl (j := i) rfl (by omega) (by decide) dX0_init_94 (fun H locs hP hD hS => ?_)
    have hP : va_P D vwCl (xW dA dZ ad (upd g i (nI 1)) (fun _ => 0) (fun _ => 0) (fun _ => 0) (fun _ => 0) (fun _ => 0) (fun _ => 0) (fun _ => 0) (fun _ => 0) 0 0 0 0) H := hP
    have hD : va_D A (xW dA dZ ad (upd g i (nI 1)) (fun _ => 0) (fun _ => 0) (fun _ => 0) (fun _ => 0) (fun _ => 0) (fun _ => 0) (fun _ => 0) (fun _ => 0) 0 0 0 0) := hD
    refine lv_iinc (v := nI (i + 1)) (lv' := [(1, .int (nI (i + 1))), (0, .ref (ad 0))]) hx hb dX0_init_95 hl (k := 1) rfl (nI_1 _) (by decide) rfl (fun ls hl => ?_)
    refine lv_goto (tgt := 82) hx hb dX0_init_98 (by decide) ?_
    exact ih (i + 1) (upd g i (nI 1)) H locs ls (by omega) ⟨⟨by omega, zi_up hg rfl⟩, hP, hD, hS, lv_sub hl [1, 0] rfl⟩
set_option maxHeartbeats 4000000 in
set_option maxRecDepth 100000 in
/-- the constructor -/
theorem cM_init (l : Launch) (D : va_G) (h0 sz : Nat) : Met l yX1_init (ws_ yX1_init cX1_init 2 none) ({ frames := 1, cells := 5, slots := 328, locals := 12 }) (va_Pc [.ref h0] (zx_M D [] [(h0, .inr (1, [.null, .int 0, .null, .null, .null, .null]))] sz)) (va_Qv (S := Unit) (fun _ => True) (fun _ t => ∃ (dA dZ : ClassId) (ad : Nat → Nat), ad 0 = h0 ∧ zx_Mo D dA dZ ad (va_A [(h0, .inr (1, [.null, .int 0, .null, .null, .null, .null]))] sz) 0 (fun _ => 0) (fun _ => 0) (fun _ => 0) (fun _ => 1) t) (va_A [(h0, .inr (1, [.null, .int 0, .null, .null, .null, .null]))] sz)) 5 328 (va_A [(h0, .inr (1, [.null, .int 0, .null, .null, .null, .null]))] sz) := by
  refine Met.ofW (cc := cX1_init) (maxL := 2) (ret := none) (by decide) rfl ?_
  intro p e s m args below meth c s₁ B hml hv
  obtain ⟨rfl, hsz, hP, hK, hD0⟩ := hv
  have hx := B.exec
  have hb := B.bytes
  have hr := B.returns
  have hts := atoms_spec (ws := ws_ yX1_init cX1_init 2 none) B.pre
  have hts : ∀ w ∈ lw_all, w.before _ s = true := fun w h => hts w (List.mem_cons_of_mem _ h)
  have hown : s.vm.findClass RX1 = some m.cls := findClass_of_methodNamed B.named
  have hlocks := B.notSynchronized
  subst hsz
  have hD := hD0.self (sz := s.heap.size)
  generalize hAe : va_A [(h0, .inr (1, [.null, .int 0, .null, .null, .null, .null]))] s.heap.size = A at hD ⊢
  have hA : ∀ q : Nat, s.heap.size ≤ q → A q := fun q h => by rw [← hAe]; exact Or.inr h
  have hS : va_S A s.heap s.heap [] := va_S.rf
  have hl := lv_entry ([.ref h0]) (n := 2) (Nat.le_of_ble_eq_true rfl)
  rw [lg_entry_eq]
  generalize (lg_sl ([.ref h0]) ++ List.replicate (2 - (lg_sl ([.ref h0])).length) Slot.unset).toArray = ls at hl ⊢
  have hl : lv_has ls 2 [(0, .ref h0)] := hl
  have hin : meth.name = "<init>" := (name_of_methodNamed B.named B.method).1
  refine lv_aload_n hx hb dX1_init_0 rfl (lv_at hl 0 rfl) ?_
  refine W.objInit hx hb hown (hts _ q143) (hts _ q20) (hts _ q21) rfl (by rw [hml]; exact hl.1) rfl dX1_init_1 (Nat.le_of_ble_eq_true rfl) (Nat.le_of_ble_eq_true rfl) ?_
  refine W.eq (g2 := F0 m 4 ls []) rfl ?_
  refine lv_aload_n hx hb dX1_init_4 rfl (lv_at hl 0 rfl) ?_
  refine lv_bipush (v := nI 8) hx hb dX1_init_5 (by decide) ?_
  refine va_newa (atype := .int) (ty := .int) (N' := 8) (a0 := (8, .inl (fun _ => 0))) hx hb (hts _ q62) rfl hK hP hD hS hA (fun _ => rfl) (by decide) (by decide) (by decide) (Nat.le_of_ble_eq_true rfl) (Nat.le_of_ble_eq_true rfl) dX1_init_7 (fun q1 dA H hK hP hD hS => ?_)
  have hK : va_K D vwCl [(dA, .int)] s := hK
  have hP : va_P D vwCl [(h0, .inr (1, [.null, .int 0, .null, .null, .null, .null])), (q1, .inl (dA, 8, .inl (fun _ => 0)))] H := hP
  have hD : va_D A [(h0, .inr (1, [.null, .int 0, .null, .null, .null, .null])), (q1, .inl (dA, 8, .inl (fun _ => 0)))] := hD
  refine W.widen (k := 1) (n := 8) (Nat.le_refl _) (Nat.le_refl _) ?_
  refine va_putF (D := D) (ci := 1) (v := .ref q1) (ty := .array .int) (C := RX1) (T := TX1) (N := 6) hx hb hts in_X1 tyX1 tyX1_ok nmX1 hown hK hP hD hS 0 rfl rfl 0 (by decide) (hts _ q144) (fun _ h9 => h9) rfl hin rfl (by decide +kernel) rfl rfl (Nat.le_of_ble_eq_true rfl) dX1_init_9 (fun H locs hP hD hS => ?_)
  have hP : va_P D vwCl [(h0, .inr (1, [.ref q1, .int 0, .null, .null, .null, .null])), (q1, .inl (dA, 8, .inl (fun _ => 0)))] H := hP
  have hD : va_D A [(h0, .inr (1, [.ref q1, .int 0, .null, .null, .null, .null])), (q1, .inl (dA, 8, .inl (fun _ => 0)))] := hD
  refine lv_aload_n hx hb dX1_init_12 rfl (lv_at hl 0 rfl) ?_
  refine lv_bipush (v := nI 64) hx hb dX1_init_13 (by decide) ?_
  refine va_newa (atype := .int) (ty := .int) (N' := 64) (a0 := (64, .inl (fun _ => 0))) hx hb (hts _ q62) rfl hK hP hD hS hA (fun _ => rfl) (by decide) (by decide) (by decide) (Nat.le_of_ble_eq_true rfl) (Nat.le_of_ble_eq_true rfl) dX1_init_15 (fun q2 c1 H hK hP hD hS => ?_)
  have e1 : dA = c1 := zx_same hK 0 1 rfl rfl
  subst e1
  have hK := hK.sub (tys' := [(dA, .int)]) [0] rfl
  have hP : va_P D vwCl [(h0, .inr (1, [.ref q1, .int 0, .null, .null, .null, .null])), (q1, .inl (dA, 8, .inl (fun _ => 0))), (q2, .inl (dA, 64, .inl (fun _ => 0)))] H := hP
  have hD : va_D A [(h0, .inr (1, [.ref q1, .int 0, .null, .null, .null, .null])), (q1, .inl (dA, 8, .inl (fun _ => 0))), (q2, .inl (dA, 64, .inl (fun _ => 0)))] := hD
  refine W.widen (k := 2) (n := 72) (Nat.le_refl _) (Nat.le_refl _) ?_
  refine va_putF (D := D) (ci := 1) (v := .ref q2) (ty := .array .int) (C := RX1) (T := TX1) (N := 6) hx hb hts in_X1 tyX1 tyX1_ok nmX1 hown hK hP hD hS 0 rfl rfl 2 (by decide) (hts _ q146) (fun _ h9 => h9) rfl hin rfl (by decide +kernel) rfl rfl (Nat.le_of_ble_eq_true rfl) dX1_init_17 (fun H locs hP hD hS => ?_)
  have hP : va_P D vwCl [(h0, .inr (1, [.ref q1, .int 0, .ref q2, .null, .null, .null])), (q1, .inl (dA, 8, .inl (fun _ => 0))), (q2, .inl (dA, 64, .inl (fun _ => 0)))] H := hP
  have hD : va_D A [(h0, .inr (1, [.ref q1, .int 0, .ref q2, .null, .null, .null])), (q1, .inl (dA, 8, .inl (fun _ => 0))), (q2, .inl (dA, 64, .inl (fun _ => 0)))] := hD
  refine lv_aload_n hx hb dX1_init_20 rfl (lv_at hl 0 rfl) ?_
  refine lv_bipush (v := nI 64) hx hb dX1_init_21 (by decide) ?_
  refine va_newa (atype := .int) (ty := .int) (N' := 64) (a0 := (64, .inl (fun _ => 0))) hx hb (hts _ q62) rfl hK hP hD hS hA (fun _ => rfl) (by decide) (by decide) (by decide) (Nat.le_of_ble_eq_true rfl) (Nat.le_of_ble_eq_true rfl) dX1_init_23 (fun q3 c1 H hK hP hD hS => ?_)
  have e1 : dA = c1 := zx_same hK 0 1 rfl rfl
  subst e1
  have hK := hK.sub (tys' := [(dA, .int)]) [0] rfl
  have hP : va_P D vwCl [(h0, .inr (1, [.ref q1, .int 0, .ref q2, .null, .null, .null])), (q1, .inl (dA, 8, .inl (fun _ => 0))), (q2, .inl (dA, 64, .inl (fun _ => 0))), (q3, .inl (dA, 64, .inl (fun _ => 0)))] H := hP
  have hD : va_D A [(h0, .inr (1, [.ref q1, .int 0, .ref q2, .null, .null, .null])), (q1, .inl (dA, 8, .inl (fun _ => 0))), (q2, .inl (dA, 64, .inl (fun _ => 0))), (q3, .inl (dA, 64, .inl (fun _ => 0)))] := hD
  refine W.widen (k := 3) (n := 136) (Nat.le_refl _) (Nat.le_refl _) ?_
  refine va_putF (D := D) (ci := 1) (v := .ref q3) (ty := .array .int) (C := RX1) (T := TX1) (N := 6) hx hb hts in_X1 tyX1 tyX1_ok nmX1 hown hK hP hD hS 0 rfl rfl 3 (by decide) (hts _ q147) (fun _ h9 => h9) rfl hin rfl (by decide +kernel) rfl rfl (Nat.le_of_ble_eq_true rfl) dX1_init_25 (fun H locs hP hD hS => ?_)
  have hP : va_P D vwCl [(h0, .inr (1, [.ref q1, .int 0, .ref q2, .ref q3, .null, .null])), (q1, .inl (dA, 8, .inl (fun _ => 0))), (q2, .inl (dA, 64, .inl (fun _ => 0))), (q3, .inl (dA, 64, .inl (fun _ => 0)))] H := hP
  have hD : va_D A [(h0, .inr (1, [.ref q1, .int 0, .ref q2, .ref q3, .null, .null])), (q1, .inl (dA, 8, .inl (fun _ => 0))), (q2, .inl (dA, 64, .inl (fun _ => 0))), (q3, .inl (dA, 64, .inl (fun _ => 0)))] := hD
  refine lv_aload_n hx hb dX1_init_28 rfl (lv_at hl 0 rfl) ?_
  refine lv_bipush (v := nI 64) hx hb dX1_init_29 (by decide) ?_
  refine va_newa (atype := .int) (ty := .int) (N' := 64) (a0 := (64, .inl (fun _ => 0))) hx hb (hts _ q62) rfl hK hP hD hS hA (fun _ => rfl) (by decide) (by decide) (by decide) (Nat.le_of_ble_eq_true rfl) (Nat.le_of_ble_eq_true rfl) dX1_init_31 (fun q4 c1 H hK hP hD hS => ?_)
  have e1 : dA = c1 := zx_same hK 0 1 rfl rfl
  subst e1
  have hK := hK.sub (tys' := [(dA, .int)]) [0] rfl
  have hP : va_P D vwCl [(h0, .inr (1, [.ref q1, .int 0, .ref q2, .ref q3, .null, .null])), (q1, .inl (dA, 8, .inl (fun _ => 0))), (q2, .inl (dA, 64, .inl (fun _ => 0))), (q3, .inl (dA, 64, .inl (fun _ => 0))), (q4, .inl (dA, 64, .inl (fun _ => 0)))] H := hP
  have hD : va_D A [(h0, .inr (1, [.ref q1, .int 0, .ref q2, .ref q3, .null, .null])), (q1, .inl (dA, 8, .inl (fun _ => 0))), (q2, .inl (dA, 64, .inl (fun _ => 0))), (q3, .inl (dA, 64, .inl (fun _ => 0))), (q4, .inl (dA, 64, .inl (fun _ => 0)))] := hD
  refine W.widen (k := 4) (n := 200) (Nat.le_refl _) (Nat.le_refl _) ?_
  refine va_putF (D := D) (ci := 1) (v := .ref q4) (ty := .array .int) (C := RX1) (T := TX1) (N := 6) hx hb hts in_X1 tyX1 tyX1_ok nmX1 hown hK hP hD hS 0 rfl rfl 4 (by decide) (hts _ q148) (fun _ h9 => h9) rfl hin rfl (by decide +kernel) rfl rfl (Nat.le_of_ble_eq_true rfl) dX1_init_33 (fun H locs hP hD hS => ?_)
  have hP : va_P D vwCl [(h0, .inr (1, [.ref q1, .int 0, .ref q2, .ref q3, .ref q4, .null])), (q1, .inl (dA, 8, .inl (fun _ => 0))), (q2, .inl (dA, 64, .inl (fun _ => 0))), (q3, .inl (dA, 64, .inl (fun _ => 0))), (q4, .inl (dA, 64, .inl (fun _ => 0)))] H := hP
  have hD : va_D A [(h0, .inr (1, [.ref q1, .int 0, .ref q2, .ref q3, .ref q4, .null])), (q1, .inl (dA, 8, .inl (fun _ => 0))), (q2, .inl (dA, 64, .inl (fun _ => 0))), (q3, .inl (dA, 64, .inl (fun _ => 0))), (q4, .inl (dA, 64, .inl (fun _ => 0)))] := hD
  refine lv_aload_n hx hb dX1_init_36 rfl (lv_at hl 0 rfl) ?_
  refine lv_sipush (v := nI 128) hx hb dX1_init_37 (by decide) ?_
  refine va_newa (atype := .boolean) (ty := .boolean) (N' := 128) (a0 := (128, .inl (fun _ => 0))) hx hb (hts _ q63) rfl hK hP hD hS hA (fun _ => rfl) (by decide) (by decide) (by decide) (Nat.le_of_ble_eq_true rfl) (Nat.le_of_ble_eq_true rfl) dX1_init_40 (fun q5 dZ H hK hP hD hS => ?_)
  have hK : va_K D vwCl [(dA, .int), (dZ, .boolean)] s := hK
  have hP : va_P D vwCl [(h0, .inr (1, [.ref q1, .int 0, .ref q2, .ref q3, .ref q4, .null])), (q1, .inl (dA, 8, .inl (fun _ => 0))), (q2, .inl (dA, 64, .inl (fun _ => 0))), (q3, .inl (dA, 64, .inl (fun _ => 0))), (q4, .inl (dA, 64, .inl (fun _ => 0))), (q5, .inl (dZ, 128, .inl (fun _ => 0)))] H := hP
  have hD : va_D A [(h0, .inr (1, [.ref q1, .int 0, .ref q2, .ref q3, .ref q4, .null])), (q1, .inl (dA, 8, .inl (fun _ => 0))), (q2, .inl (dA, 64, .inl (fun _ => 0))), (q3, .inl (dA, 64, .inl (fun _ => 0))), (q4, .inl (dA, 64, .inl (fun _ => 0))), (q5, .inl (dZ, 128, .inl (fun _ => 0)))] := hD
  refine W.widen (k := 5) (n := 328) (Nat.le_refl _) (Nat.le_refl _) ?_
  refine va_putF (D := D) (ci := 1) (v := .ref q5) (ty := .array .boolean) (C := RX1) (T := TX1) (N := 6) hx hb hts in_X1 tyX1 tyX1_ok nmX1 hown hK hP hD hS 0 rfl rfl 5 (by decide) (hts _ q149) (fun _ h9 => h9) rfl hin rfl (by decide +kernel) rfl rfl (Nat.le_of_ble_eq_true rfl) dX1_init_42 (fun H locs hP hD hS => ?_)
  have hP : va_P D vwCl [(h0, .inr (1, [.ref q1, .int 0, .ref q2, .ref q3, .ref q4, .ref q5])), (q1, .inl (dA, 8, .inl (fun _ => 0))), (q2, .inl (dA, 64, .inl (fun _ => 0))), (q3, .inl (dA, 64, .inl (fun _ => 0))), (q4, .inl (dA, 64, .inl (fun _ => 0))), (q5, .inl (dZ, 128, .inl (fun _ => 0)))] H := hP
  have hD : va_D A [(h0, .inr (1, [.ref q1, .int 0, .ref q2, .ref q3, .ref q4, .ref q5])), (q1, .inl (dA, 8, .inl (fun _ => 0))), (q2, .inl (dA, 64, .inl (fun _ => 0))), (q3, .inl (dA, 64, .inl (fun _ => 0))), (q4, .inl (dA, 64, .inl (fun _ => 0))), (q5, .inl (dZ, 128, .inl (fun _ => 0)))] := hD
  have hP : va_P D vwCl (mW dA dZ (zx_adM h0 q1 q2 q3 q4 q5) (fun _ => 0) (fun _ => 0) (fun _ => 0) (fun _ => 0) (fun _ => 0) 0) H := hP
  have hD : va_D A (mW dA dZ (zx_adM h0 q1 q2 q3 q4 q5) (fun _ => 0) (fun _ => 0) (fun _ => 0) (fun _ => 0) (fun _ => 0) 0) := hD
  obtain ⟨ad, hadE⟩ : ∃ ad, zx_adM h0 q1 q2 q3 q4 q5 = ad := ⟨_, rfl⟩
  have had0 : ad 0 = h0 := by rw [← hadE]; rfl
  rw [hadE] at hP hD
  rw [← had0] at hl
  refine lv_iconst (v := nI 0) hx hb dX1_init_45 (by decide) ?_
  refine lv_istore_n (lv' := [(1, .int (nI 0)), (0, .ref (ad 0))]) hx hb dX1_init_46 rfl hl (by decide) rfl (fun ls hl => ?_)
  refine zx_w2 (α := Nat) (β := Nat → Int32) (mu := fun i g => 8 - i) (I := fun i g H locs ls => (i ≤ 8 ∧ ∀ c, c < i → g c = nI 1) ∧ va_P D vwCl (mW dA dZ ad g (fun _ => 0) (fun _ => 0) (fun _ => 0) (fun _ => 0) 0) H ∧ va_D A (mW dA dZ ad g (fun _ => 0) (fun _ => 0) (fun _ => 0) (fun _ => 0) 0) ∧ va_S A s.heap H locs ∧ lv_has ls 2 [(0, .ref (ad 0)), (1, .int (nI i))]) ?_ 0 (fun _ => 0) ⟨⟨Nat.zero_le _, fun c hc => absurd hc (Nat.not_lt_zero _)⟩, hP, hD, hS, lv_sub hl [1, 0] rfl⟩
  intro i g H locs ls hI ih
  obtain ⟨⟨hi, hg⟩, hP, hD, hS, hl⟩ := hI
  refine lv_iload_n hx hb dX1_init_47 rfl (lv_at hl 1 rfl) ?_
  refine lv_bipush (v := nI 8) hx hb dX1_init_48 (by decide) ?_
  refine lv_icmp_ge (tgt := 66) hx hb dX1_init_50 (by decide) (fun c1 => ?_) (fun c1 => ?_)
  · have c1 : 8 ≤ i := (nI_leI (by omega) (by omega)).mp c1
    have h9 : 8 = i := by omega
    subst h9
    exact W.vret hx hb hr (fun t ht hW => ⟨⟨(), rfl, trivial, dA, dZ, ad, had0, _, _, _, _, _, _, zi_M hg, by rw [ht]; exact hP, va_K.moved hW.alike hK, hD⟩, hS.F ht⟩) hS.2.2 dX1_init_66
  · have c1 : ¬ 8 ≤ i := fun q => c1 ((nI_leI (by omega) (by omega)).mpr q)
    refine lv_aload_n hx hb dX1_init_53 rfl (lv_at hl 0 rfl) ?_
    refine va_get (D := D) (ci := 1) (v := .ref (ad 1)) (C := RX1) (T := TX1) (N := 6) hx hb hts in_X1 hown hK hP 0 rfl rfl 0 (by decide) (hts _ q144) (fun _ h9 => h9) rfl dX1_init_54 ?_
    refine lv_iload_n hx hb dX1_init_57 rfl (lv_at hl 1 rfl) ?_
    refine lv_iconst (v := nI 1) hx hb dX1_init_58 (by decide) ?_
    refine zx_iast hx hb hK hP hD hS 1 0 rfl rfl (j := i) rfl (by omega) (by decide) dX1_init_59 (fun H locs hP hD hS => ?_)
    have hP : va_P D vwCl (mW dA dZ ad (upd g i (nI 1)) (fun _ => 0) (fun _ => 0) (fun _ => 0) (fun _ => 0) 0) H := hP
    have hD : va_D A (mW dA dZ ad (upd g i (nI 1)) (fun _ => 0) (fun _ => 0) (fun _ => 0) (fun _ => 0) 0) := hD
    refine lv_iinc (v := nI (i + 1)) (lv' := [(1, .int (nI (i + 1))), (0, .ref (ad 0))]) hx hb dX1_init_60 hl (k := 1) rfl (nI_1 _) (by decide) rfl (fun ls hl => ?_)
    refine lv_goto (tgt := 47) hx hb dX1_init_63 (by decide) ?_
    exact ih (i + 1) (upd g i (nI 1)) H locs ls (by omega) ⟨⟨by omega, zi_up hg rfl⟩, hP, hD, hS, lv_sub hl [1, 0] rfl⟩
end
section
/-! THE CLAIM OUT OF ONE WALK OF THE LAW'S BODY. Your part is whole_start (and what it stands on); all else here is the same for every law, but numbers. -/
def R_law : String := "VoteWatchLaw"
def lw_P (b : Addr) (xs : List Int32) (args : Array Value) (s : State) : Prop := args = #[.ref b] ∧ s.IntsAt b xs ∧ xs.length ≤ 256 ∧ (Jvm.Cond.and given_1 narrow_1).before args s = true
def lw_Q (_ : Array Value) (s : State) (o : Outcome) (t : State) : Prop := o = .returned (some (.int 1)) ∧ Framed s o t [] 600000 7290000
def lw_Z (below : List Frame) (a : Array Value) (s : State) : State → Prop := fun t => ∃ o, t.status = .running ∧ Ended t below o ∧ lw_Q a s o t
/-- the law's own end, with 1 on the stack, nothing written that was there before, its room as the claim has it -/
theorem lw_ret {p : Program} {l : Launch} {e : Env} {s : State} {m : MethodId} {below : List Frame} {meth : Method} {c : Code} {b : Nat} (hx : p.tables.exec = Jvm.exec) (hb : c.code = code) (hr : meth.sig.returnType = ret) (hlocks : meth.locks = false) {pc : Nat} {H : Heap} {ls : Array Slot} (hdg : decode code pc = .ok (.ireturn, 1)) : W p l e room_1 s m #[Value.ref b] below meth c H [] 600000 7290000 (lw_Z below #[Value.ref b] s) (F0 m pc ls [.int 1]) := by
  intro T hT X
  obtain ⟨fs, hret, hrun, hended, hW, hframe⟩ := X.leave (v := some (.int 1)) (hlocks := hlocks) (fun h => by rw [hr] at h; cases h)
  have hmeth' : T.vm.method? m = some meth := X.method'
  refine ⟨T.setFrames fs, ?_, .returned (some (.int 1)), hrun, hended, rfl, ⟨_, rfl⟩, hW, hframe⟩
  jvm_step X.here [X.here.top, hx, hb, hdg, hmeth', hr, ret, narrow_b1]
  (try refine ⟨rfl, ?_⟩); (try refine ⟨rfl, ?_⟩)
  first | (intro acts; rw [hret _ acts rfl rfl rfl]) | rw [hret _ _ rfl rfl rfl]
  exact Steps.refl _
/-- what holds at the law's entry: the machine, the code, the tables' words (any of lw_tbl by 'hts w (by decide +kernel)'), the script of L ints xs at the cell b, what the Statement gives of the start (any of its parts by flat_of_before) -/
def lw_At (p : Program) (s : State) (m : MethodId) (meth : Method) (c : Code) (b L : Nat) (xs : Nat → Int32) : Prop :=
  p.tables.exec = Jvm.exec ∧ c.code = code ∧ meth.sig.returnType = ret ∧ c.maxLocals = 4 ∧ s.vm.findClass R_law = some m.cls ∧ (∀ w ∈ lw_tbl, w.before #[Value.ref b] s = true) ∧ va_X b L xs s s.heap ∧ b < s.heap.size ∧ meth.locks = false ∧ (Jvm.Cond.and given_1 narrow_1).before #[Value.ref b] s = true
end
section
/-! THE LAW -/
theorem zx_Pl {D : va_G} {cl : List vw_C} {w1 w2 : va_W} {H : Heap} (h : va_P D cl (w1 ++ w2) H) : va_P D cl w1 H := fun k q hk => h k q (by rw [List.getElem?_append_left (List.getElem?_eq_some_iff.mp hk).1]; exact hk)
theorem zx_Pr {D : va_G} {cl : List vw_C} {w1 w2 : va_W} {H : Heap} (h : va_P D cl (w1 ++ w2) H) : va_P D cl w2 H := fun k q hk => h (w1.length + k) q (by rw [List.getElem?_append_right (by omega), Nat.add_sub_cancel_left]; exact hk)
theorem zx_Dl {A : Nat → Prop} {w1 w2 : va_W} (h : va_D A (w1 ++ w2)) : va_D A w1 := by
  have key : ∀ (k : Nat) (q : Nat × va_E), w1[k]? = some q → (w1 ++ w2)[k]? = some q := fun k q hk => by
    rw [List.getElem?_append_left (List.getElem?_eq_some_iff.mp hk).1]; exact hk
  exact ⟨fun i j p q hi hj e => h.1 i j p q (key i p hi) (key j q hj) e, fun k q hk => h.2 k q (key k q hk)⟩
theorem zx_Dr {A : Nat → Prop} {w1 w2 : va_W} (h : va_D A (w1 ++ w2)) : va_D A w2 := by
  have key : ∀ (k : Nat) (q : Nat × va_E), w2[k]? = some q → (w1 ++ w2)[w1.length + k]? = some q := fun k q hk => by
    rw [List.getElem?_append_right (by omega), Nat.add_sub_cancel_left]; exact hk
  exact ⟨fun i j p q hi hj e => by have := h.1 _ _ p q (key i p hi) (key j q hj) e; omega, fun k q hk => h.2 _ q (key k q hk)⟩
/-- the two parts lie apart -/
theorem zx_ap {D : va_G} {cl : List vw_C} {A : Nat → Prop} {w1 w2 : va_W} {H : Heap} (hP : va_P D cl (w1 ++ w2) H) (hD : va_D A (w1 ++ w2)) : (∀ (k : Nat) (q : Nat × va_E), w2[k]? = some q → q.1 < H.size ∧ ¬ va_A w1 H.size q.1) ∧ ∀ (k : Nat) (q : Nat × va_E), w1[k]? = some q → q.1 < H.size ∧ ¬ va_A w2 H.size q.1 := by
  have k1 : ∀ (k : Nat) (q : Nat × va_E), w1[k]? = some q → k < w1.length ∧ (w1 ++ w2)[k]? = some q := fun k q hk => by
    have hl := (List.getElem?_eq_some_iff.mp hk).1
    exact ⟨hl, by rw [List.getElem?_append_left hl]; exact hk⟩
  have k2 : ∀ (k : Nat) (q : Nat × va_E), w2[k]? = some q → (w1 ++ w2)[w1.length + k]? = some q := fun k q hk => by
    rw [List.getElem?_append_right (by omega), Nat.add_sub_cancel_left]; exact hk
  refine ⟨fun k q hk => ?_, fun k q hk => ?_⟩
  · have hl := (hP _ q (k2 k q hk)).lt
    refine ⟨hl, fun h => ?_⟩
    rcases h with ⟨j, e, h⟩ | h
    · obtain ⟨a1, a2⟩ := k1 j (q.1, e) h
      have := hD.1 _ _ q (q.1, e) (k2 k q hk) a2 rfl
      omega
    · omega
  · obtain ⟨a1, a2⟩ := k1 k q hk
    have hl := (hP _ q a2).lt
    refine ⟨hl, fun h => ?_⟩
    rcases h with ⟨j, e, h⟩ | h
    · have := hD.1 _ _ q (q.1, e) a2 (k2 j (q.1, e) h) rfl
      omega
    · omega
/-- behind a call that had the left part -/
theorem zx_jl {D : va_G} {K2 : List (ClassId × FieldType)} {A0 : Nat → Prop} {w1 w1' w2 : va_W} {t : State} {H H1 : Heap} (hP : va_P D vwCl (w1 ++ w2) H) (hD : va_D A0 (w1 ++ w2)) (hE : zx_E D K2 (va_A w1 H.size) w1' t) (ht : t.heap = H1) (hk : ∀ q : Nat, q < H.size → ¬ va_A w1 H.size q → H1[q]? = H[q]?) (hF : ∀ q, va_A w1 H.size q → A0 q) : va_P D vwCl (w1' ++ w2) H1 ∧ va_D A0 (w1' ++ w2) := by
  have ap := (zx_ap hP hD).1
  refine ⟨va_P.app (by rw [← ht]; exact hE.1) ((zx_Pr hP).kept (fun k q h => hk q.1 (ap k q h).1 (ap k q h).2)), va_D.app (hE.2.2.weaken (fun k q _ h => hF q.1 h)) (zx_Dr hD) (fun i j p q hi hj e => ?_)⟩
  exact (ap j q hj).2 (by rw [← e]; exact hE.2.2.2 i p hi)
/-- behind a call that had the right part -/
theorem zx_jr {D : va_G} {K2 : List (ClassId × FieldType)} {A0 : Nat → Prop} {w1 w2 w2' : va_W} {t : State} {H H1 : Heap} (hP : va_P D vwCl (w1 ++ w2) H) (hD : va_D A0 (w1 ++ w2)) (hE : zx_E D K2 (va_A w2 H.size) w2' t) (ht : t.heap = H1) (hk : ∀ q : Nat, q < H.size → ¬ va_A w2 H.size q → H1[q]? = H[q]?) (hF : ∀ q, va_A w2 H.size q → A0 q) : va_P D vwCl (w1 ++ w2') H1 ∧ va_D A0 (w1 ++ w2') := by
  have ap := (zx_ap hP hD).2
  refine ⟨va_P.app ((zx_Pl hP).kept (fun k q h => hk q.1 (ap k q h).1 (ap k q h).2)) (by rw [← ht]; exact hE.1), va_D.app (zx_Dl hD) (hE.2.2.weaken (fun k q _ h => hF q.1 h)) (fun i j p q hi hj e => ?_)⟩
  exact (ap i p hi).2 (by rw [e]; exact hE.2.2.2 j q hj)
theorem zx_pI {s : State} {H : Heap} {D : va_G} {K2 : List (ClassId × FieldType)} {ws : va_W} {A : Nat → Prop} (hK : va_K D vwCl K2 s) (hP : va_P D vwCl ws H) (hD : va_D A ws) (As : List Value) : PreS s H (va_Pc As (zx_M D K2 ws H.size)) As :=
  ⟨fun a U g mk q => ⟨q.1, q.2.1, q.2.2.1, va_K.moved (u := U) (U := U.calling g mk a) (Vm.Alike.refl U.vm) q.2.2.2.1, q.2.2.2.2⟩, fun U hU hW => ⟨rfl, by rw [hU], by rw [hU]; exact hP, va_K.moved hW.alike hK, hD.weaken (fun _ _ _ _ => trivial)⟩⟩
section ZL
variable {p : Program} {l : Launch} {e : Env} {R : Room} {s : State} {m : MethodId} {args : Array Value} {below : List Frame} {meth : Method} {c : Code} {H : Heap} {locs : List Loc} {cells slots : Nat} {Q : State → Prop}
variable {cc : ByteArray} {pc : Nat} {ls : Array Slot} {rest : List Value} {A : Nat → Prop} {H0 : Heap}
theorem zx_sld (hexec : p.tables.exec = Jvm.exec) (hb : c.code = cc) {b L : Nat} {xs : Nat → Int32} (hX : va_X b L xs s H0) (hbl : b < H0.size) (hbA : ¬ A b) (hS : va_S A H0 H locs) {i : Int32} {j : Nat} (hi : i = nI j) (hj : j < L) (hL : L < 2 ^ 31) (hdg : decode cc pc = .ok (.iaload, 1))
    (kk : W p l e R s m args below meth c H locs cells slots Q (F0 m (pc + 1) ls (.int (xs j) :: rest))) : W p l e R s m args below meth c H locs cells slots Q (F0 m pc ls (.int i :: .ref b :: rest)) := by
  subst hi
  refine va_sld hexec hb hX hbl hbA hS (vp_in_nI hj hL) hdg ?_
  rw [nI_clamp (Nat.lt_trans hj hL)]
  exact kk
end ZL
theorem zl_end {L i : Nat} (hL : L ≤ 256) (hi : i ≤ 260) (h : ¬ nI L - nI 4 < nI i) : i + 4 ≤ L := by
  rw [zn_lt, pk_sub_toInt (by omega) (by omega), nI_toInt (by omega)] at h
  omega
/-- between two calls of the script: both hold the same votes and stakes -/
def zx_LI (D : va_G) (dA dZ : ClassId) (ad : Nat → Nat) (eA eZ : ClassId) (bd : Nat → Nat) (A : Nat → Prop) (H : Heap) : Prop :=
  ∃ (n : Nat) (vw vs vt st : Nat → Nat) (fS fL fG fT fV fF fO fB fJ : Nat → Int32) (o hd ln k : Int32) (gS gW gF gO gJ : Nat → Int32) (nv : Int32), zr_X n vw vs vt st fS fL fG fT fV fF fO fB fJ o hd ln k ∧ zr_M n vw vs vt st gS gW gF gO nv ∧ va_P D vwCl (xW dA dZ ad fS fL fG fT fV fF fO fB fJ o hd ln k ++ mW eA eZ bd gS gW gF gO gJ nv) H ∧ va_D A (xW dA dZ ad fS fL fG fT fV fF fO fB fJ o hd ln k ++ mW eA eZ bd gS gW gF gO gJ nv)
set_option maxHeartbeats 4000000 in
set_option maxRecDepth 100000 in
/-- the law's loop -/
theorem law_loop {p : Program} {e : Env} {s : State} {m : MethodId} {below : List Frame} {meth : Method} {c : Code} (l : Launch) {b L : Nat} {xs : Nat → Int32} (hL : L ≤ 256) (C0 : lw_At p s m meth c b L xs) {D : va_G} {dA dZ eA eZ : ClassId} {ad bd : Nat → Nat} (hKx : va_K D vwCl [(dA, .int), (dZ, .boolean)] s) (hKm : va_K D vwCl [(eA, .int), (eZ, .boolean)] s) {H : Heap} {locs : List Loc} (hI0 : zx_LI D dA dZ ad eA eZ bd (fun q : Nat => s.heap.size ≤ q) H) (hS : va_S (fun q : Nat => s.heap.size ≤ q) s.heap H locs) {ls : Array Slot} (hl : lv_has ls 4 [(0, .ref b), (1, .ref (ad 0)), (2, .ref (bd 0)), (3, .int (nI 0))]) : W p l e room_1 s m #[Value.ref b] below meth c H locs 16 1451 (lw_Z below #[Value.ref b] s) (F0 m 18 ls []) := by
  obtain ⟨hx, hb, hr, hml, hown, hts0, hX, hbl, hlocks, hgv⟩ := id C0
  have hts : ∀ w ∈ lw_all, w.before #[Value.ref b] s = true := fun w h => hts0 w (lw_all_tbl h)
  have hA : ∀ q : Nat, s.heap.size ≤ q → (fun q : Nat => s.heap.size ≤ q) q := fun _ h => h
  have hbA : ¬ (fun q : Nat => s.heap.size ≤ q) b := Nat.not_le.mpr hbl
  generalize hAe : (fun q : Nat => s.heap.size ≤ q) = A at *
  refine zx_w1 (α := Nat) (mu := fun i => 300 - i) (I := fun i H locs ls => i ≤ 260 ∧ zx_LI D dA dZ ad eA eZ bd A H ∧ va_S A s.heap H locs ∧ lv_has ls 4 [(0, .ref b), (1, .ref (ad 0)), (2, .ref (bd 0)), (3, .int (nI i))]) ?_ 0 ⟨Nat.zero_le _, hI0, hS, hl⟩
  intro i H locs ls hI ih
  obtain ⟨hi, ⟨n, vw, vs, vt, st, fS, fL, fG, fT, fV, fF, fO, fB, fJ, o, hd, ln, k, gS, gW, gF, gO, gJ, nv, hRx, hRm, hP, hD⟩, hS, hl⟩ := hI
  refine lv_iload_n hx hb dL_law_18 rfl (lv_at hl 3 rfl) ?_
  refine lv_aload_n hx hb dL_law_19 rfl (lv_at hl 0 rfl) ?_
  refine va_slen hx hb hX hbl hbA hS dL_law_20 ?_
  refine zx_top (y := nI L) (rfl) ?_
  refine lv_iconst (v := nI 4) hx hb dL_law_21 (by decide) ?_
  refine lv_isub hx hb dL_law_22 ?_
  refine lv_icmp_gt (tgt := 344) hx hb dL_law_23 (by decide) (fun c1 => ?_) (fun c1 => ?_)
  · refine lv_iconst (v := 1) hx hb dL_law_344 (by decide) ?_
    refine va_forget (fun q hq => by have := hS.2.2 q hq; rw [← hAe] at this; exact this) ?_
    refine W.widen (k := 600000) (n := 7290000) (by decide) (by decide) ?_
    exact lw_ret hx hb hr hlocks dL_law_345
  · have hi4 := zl_end hL hi c1
    refine lv_aload_n hx hb dL_law_26 rfl (lv_at hl 0 rfl) ?_
    refine lv_iload_n hx hb dL_law_27 rfl (lv_at hl 3 rfl) ?_
    refine zx_sld hx hb hX hbl hbA hS (j := i) rfl (by omega) (by omega) dL_law_28 ?_
    refine lv_bipush (v := nI 15) hx hb dL_law_29 (by decide) ?_
    refine lv_iand hx hb dL_law_31 ?_
    obtain ⟨jj, hjj, ejj⟩ := pk_andE (xs (i)) (m := nI 15) 4 (by decide)
    refine zx_top (y := nI jj) (ejj) ?_
    clear ejj
    by_cases h10 : 10 ≤ jj
    · refine lv_tableOut (tgt := 338) hx hb dL_law_32 (Or.inr (by rw [nI_toInt (by omega)]; omega)) (by decide) ?_
      refine lv_iinc (v := nI (i + 4)) (lv' := [(3, .int (nI (i + 4))), (0, .ref b), (1, .ref (ad 0)), (2, .ref (bd 0))]) hx hb dL_law_338 hl (k := 3) rfl (nI_add _ 4) (by decide) rfl (fun ls hl => ?_)
      refine lv_goto (tgt := 18) hx hb dL_law_341 (by decide) ?_
      exact ih (i + 4) _ _ ls (by omega) ⟨by omega, ⟨n, vw, vs, vt, st, _, _, _, _, _, _, _, _, _, _, _, _, _, _, _, _, _, _, _, hRx, hRm, hP, hD⟩, hS, lv_sub hl [1, 2, 3, 0] rfl⟩
    · obtain rfl | rfl | rfl | rfl | rfl | rfl | rfl | rfl | rfl | rfl : jj = 0 ∨ jj = 1 ∨ jj = 2 ∨ jj = 3 ∨ jj = 4 ∨ jj = 5 ∨ jj = 6 ∨ jj = 7 ∨ jj = 8 ∨ jj = 9 := by omega
      · refine lv_tableIn (off := 56) (tgt := 88) hx hb dL_law_32 (by decide) (by decide) (by decide) (by decide) ?_
        refine lv_aload_n hx hb dL_law_88 rfl (lv_at hl 1 rfl) ?_
        refine lv_aload_n hx hb dL_law_89 rfl (lv_at hl 0 rfl) ?_
        refine lv_iload_n hx hb dL_law_90 rfl (lv_at hl 3 rfl) ?_
        refine lv_iconst (v := nI 1) hx hb dL_law_91 (by decide) ?_
        refine lv_iadd hx hb dL_law_92 ?_
        refine zx_top (y := nI (i + 1)) (nI_add _ _) ?_
        refine zx_sld hx hb hX hbl hbA hS (j := i + 1) rfl (by omega) (by omega) dL_law_93 ?_
        refine lv_aload_n hx hb dL_law_94 rfl (lv_at hl 0 rfl) ?_
        refine lv_iload_n hx hb dL_law_95 rfl (lv_at hl 3 rfl) ?_
        refine lv_iconst (v := nI 2) hx hb dL_law_96 (by decide) ?_
        refine lv_iadd hx hb dL_law_97 ?_
        refine zx_top (y := nI (i + 2)) (nI_add _ _) ?_
        refine zx_sld hx hb hX hbl hbA hS (j := i + 2) rfl (by omega) (by omega) dL_law_98 ?_
        have hFc := zx_fr (zx_Dl hD) hS hA
        refine va_calli (va_runV (As := [.int (xs (i + 1)), .int (xs (i + 2))]) (rest := []) ⟨hx, hb, hml, hown, hts⟩ (cX_stake l D dA dZ ad _ fS fL fG fT fV fF fO fB fJ o hd ln k n vw vs vt st (xs (i + 1)) (xs (i + 2)) hRx) (cwV 2 hts (lw_V q64 q65 q66 q12 q67) rfl rfl rfl (by decide +kernel) ⟨Nat.le_of_ble_eq_true rfl, Nat.le_of_ble_eq_true rfl⟩) (zx_pM hKx (zx_Pl hP) (zx_Dl hD) rfl rfl _) rfl rfl hl.1 rfl (lv_room (Nat.le_of_ble_eq_true rfl)) dL_law_99 ⟨Nat.le_of_ble_eq_true rfl, Nat.le_of_ble_eq_true rfl⟩) hS (fun q _ h => hFc q h) hFc (fun r1 ur1 t H1 locs ht hvm hw1 hB hz1 hk1 hS => ?_)
        obtain ⟨fS, fL, fG, fT, fV, fF, fO, fB, fJ, o, hd, ln, k, hRx, hB⟩ := hB
        obtain ⟨hP, hD⟩ := zx_jl hP hD hB ht hk1 hFc
        refine lv_aload_n hx hb dL_law_102 rfl (lv_at hl 2 rfl) ?_
        refine lv_aload_n hx hb dL_law_103 rfl (lv_at hl 0 rfl) ?_
        refine lv_iload_n hx hb dL_law_104 rfl (lv_at hl 3 rfl) ?_
        refine lv_iconst (v := nI 1) hx hb dL_law_105 (by decide) ?_
        refine lv_iadd hx hb dL_law_106 ?_
        refine zx_top (y := nI (i + 1)) (nI_add _ _) ?_
        refine zx_sld hx hb hX hbl hbA hS (j := i + 1) rfl (by omega) (by omega) dL_law_107 ?_
        refine lv_aload_n hx hb dL_law_108 rfl (lv_at hl 0 rfl) ?_
        refine lv_iload_n hx hb dL_law_109 rfl (lv_at hl 3 rfl) ?_
        refine lv_iconst (v := nI 2) hx hb dL_law_110 (by decide) ?_
        refine lv_iadd hx hb dL_law_111 ?_
        refine zx_top (y := nI (i + 2)) (nI_add _ _) ?_
        refine zx_sld hx hb hX hbl hbA hS (j := i + 2) rfl (by omega) (by omega) dL_law_112 ?_
        have hFc := zx_fr (zx_Dr hD) hS hA
        refine va_calli (va_runV (As := [.int (xs (i + 1)), .int (xs (i + 2))]) (rest := [.int r1]) ⟨hx, hb, hml, hown, hts⟩ (cM_stake l D eA eZ bd _ gS gW gF gO gJ nv n vw vs vt st (xs (i + 1)) (xs (i + 2)) hRm) (cwV 2 hts (lw_V q163 q164 q165 q13 q166) rfl rfl rfl (by decide +kernel) ⟨Nat.le_of_ble_eq_true rfl, Nat.le_of_ble_eq_true rfl⟩) (zx_pM hKm (zx_Pr hP) (zx_Dr hD) rfl rfl _) rfl rfl hl.1 rfl (lv_room (Nat.le_of_ble_eq_true rfl)) dL_law_113 ⟨Nat.le_of_ble_eq_true rfl, Nat.le_of_ble_eq_true rfl⟩) hS (fun q _ h => hFc q h) hFc (fun r2 ur2 t H1 locs ht hvm hw2 hB hz1 hk1 hS => ?_)
        obtain ⟨gS, gW, gF, gO, gJ, nv, hRm, hB⟩ := hB
        obtain ⟨hP, hD⟩ := zx_jr hP hD hB ht hk1 hFc
        obtain ⟨e1, e2⟩ := zd_stake hw1 hw2; subst e2
        refine lv_icmp_eq (tgt := 338) hx hb dL_law_116 (by decide) (fun c2 => ?_) (fun c2 => ?_)
        · refine lv_iinc (v := nI (i + 4)) (lv' := [(3, .int (nI (i + 4))), (0, .ref b), (1, .ref (ad 0)), (2, .ref (bd 0))]) hx hb dL_law_338 hl (k := 3) rfl (nI_add _ 4) (by decide) rfl (fun ls hl => ?_)
          refine lv_goto (tgt := 18) hx hb dL_law_341 (by decide) ?_
          exact ih (i + 4) _ _ ls (by omega) ⟨by omega, ⟨n, vw, vs, vt, ur1, _, _, _, _, _, _, _, _, _, _, _, _, _, _, _, _, _, _, _, hRx, hRm, hP, hD⟩, hS, lv_sub hl [1, 2, 3, 0] rfl⟩
        · exact absurd (e1) c2
      · refine lv_tableIn (off := 89) (tgt := 121) hx hb dL_law_32 (by decide) (by decide) (by decide) (by decide) ?_
        refine lv_aload_n hx hb dL_law_121 rfl (lv_at hl 1 rfl) ?_
        refine lv_aload_n hx hb dL_law_122 rfl (lv_at hl 0 rfl) ?_
        refine lv_iload_n hx hb dL_law_123 rfl (lv_at hl 3 rfl) ?_
        refine lv_iconst (v := nI 1) hx hb dL_law_124 (by decide) ?_
        refine lv_iadd hx hb dL_law_125 ?_
        refine zx_top (y := nI (i + 1)) (nI_add _ _) ?_
        refine zx_sld hx hb hX hbl hbA hS (j := i + 1) rfl (by omega) (by omega) dL_law_126 ?_
        refine lv_aload_n hx hb dL_law_127 rfl (lv_at hl 0 rfl) ?_
        refine lv_iload_n hx hb dL_law_128 rfl (lv_at hl 3 rfl) ?_
        refine lv_iconst (v := nI 2) hx hb dL_law_129 (by decide) ?_
        refine lv_iadd hx hb dL_law_130 ?_
        refine zx_top (y := nI (i + 2)) (nI_add _ _) ?_
        refine zx_sld hx hb hX hbl hbA hS (j := i + 2) rfl (by omega) (by omega) dL_law_131 ?_
        refine lv_aload_n hx hb dL_law_132 rfl (lv_at hl 0 rfl) ?_
        refine lv_iload_n hx hb dL_law_133 rfl (lv_at hl 3 rfl) ?_
        refine lv_iconst (v := nI 3) hx hb dL_law_134 (by decide) ?_
        refine lv_iadd hx hb dL_law_135 ?_
        refine zx_top (y := nI (i + 3)) (nI_add _ _) ?_
        refine zx_sld hx hb hX hbl hbA hS (j := i + 3) rfl (by omega) (by omega) dL_law_136 ?_
        have hFc := zx_fr (zx_Dl hD) hS hA
        refine va_calli (va_runV (As := [.int (xs (i + 1)), .int (xs (i + 2)), .int (xs (i + 3))]) (rest := []) ⟨hx, hb, hml, hown, hts⟩ (cX_vote l D dA dZ ad _ fS fL fG fT fV fF fO fB fJ o hd ln k n vw vs vt st (xs (i + 1)) (xs (i + 2)) (xs (i + 3)) hRx) (cwV 3 hts (lw_V q71 q72 q73 q12 q74) rfl rfl rfl (by decide +kernel) ⟨Nat.le_of_ble_eq_true rfl, Nat.le_of_ble_eq_true rfl⟩) (zx_pM hKx (zx_Pl hP) (zx_Dl hD) rfl rfl _) rfl rfl hl.1 rfl (lv_room (Nat.le_of_ble_eq_true rfl)) dL_law_137 ⟨Nat.le_of_ble_eq_true rfl, Nat.le_of_ble_eq_true rfl⟩) hS (fun q _ h => hFc q h) hFc (fun r1 ur1 t H1 locs ht hvm hw1 hB hz1 hk1 hS => ?_)
        obtain ⟨fS, fL, fG, fT, fV, fF, fO, fB, fJ, o, hd, ln, k, hRx, hB⟩ := hB
        obtain ⟨hP, hD⟩ := zx_jl hP hD hB ht hk1 hFc
        refine lv_aload_n hx hb dL_law_140 rfl (lv_at hl 2 rfl) ?_
        refine lv_aload_n hx hb dL_law_141 rfl (lv_at hl 0 rfl) ?_
        refine lv_iload_n hx hb dL_law_142 rfl (lv_at hl 3 rfl) ?_
        refine lv_iconst (v := nI 1) hx hb dL_law_143 (by decide) ?_
        refine lv_iadd hx hb dL_law_144 ?_
        refine zx_top (y := nI (i + 1)) (nI_add _ _) ?_
        refine zx_sld hx hb hX hbl hbA hS (j := i + 1) rfl (by omega) (by omega) dL_law_145 ?_
        refine lv_aload_n hx hb dL_law_146 rfl (lv_at hl 0 rfl) ?_
        refine lv_iload_n hx hb dL_law_147 rfl (lv_at hl 3 rfl) ?_
        refine lv_iconst (v := nI 2) hx hb dL_law_148 (by decide) ?_
        refine lv_iadd hx hb dL_law_149 ?_
        refine zx_top (y := nI (i + 2)) (nI_add _ _) ?_
        refine zx_sld hx hb hX hbl hbA hS (j := i + 2) rfl (by omega) (by omega) dL_law_150 ?_
        refine lv_aload_n hx hb dL_law_151 rfl (lv_at hl 0 rfl) ?_
        refine lv_iload_n hx hb dL_law_152 rfl (lv_at hl 3 rfl) ?_
        refine lv_iconst (v := nI 3) hx hb dL_law_153 (by decide) ?_
        refine lv_iadd hx hb dL_law_154 ?_
        refine zx_top (y := nI (i + 3)) (nI_add _ _) ?_
        refine zx_sld hx hb hX hbl hbA hS (j := i + 3) rfl (by omega) (by omega) dL_law_155 ?_
        have hFc := zx_fr (zx_Dr hD) hS hA
        refine va_calli (va_runV (As := [.int (xs (i + 1)), .int (xs (i + 2)), .int (xs (i + 3))]) (rest := [.int r1]) ⟨hx, hb, hml, hown, hts⟩ (cM_vote l D eA eZ bd _ gS gW gF gO gJ nv n vw vs vt st (xs (i + 1)) (xs (i + 2)) (xs (i + 3)) hRm) (cwV 3 hts (lw_V q170 q171 q172 q13 q173) rfl rfl rfl (by decide +kernel) ⟨Nat.le_of_ble_eq_true rfl, Nat.le_of_ble_eq_true rfl⟩) (zx_pM hKm (zx_Pr hP) (zx_Dr hD) rfl rfl _) rfl rfl hl.1 rfl (lv_room (Nat.le_of_ble_eq_true rfl)) dL_law_156 ⟨Nat.le_of_ble_eq_true rfl, Nat.le_of_ble_eq_true rfl⟩) hS (fun q _ h => hFc q h) hFc (fun r2 ur2 t H1 locs ht hvm hw2 hB hz1 hk1 hS => ?_)
        obtain ⟨gS, gW, gF, gO, gJ, nv, hRm, hB⟩ := hB
        obtain ⟨hP, hD⟩ := zx_jr hP hD hB ht hk1 hFc
        obtain ⟨e1, e2⟩ := zd_vote hw1 hw2; subst e2
        refine lv_icmp_eq (tgt := 338) hx hb dL_law_159 (by decide) (fun c2 => ?_) (fun c2 => ?_)
        · refine lv_iinc (v := nI (i + 4)) (lv' := [(3, .int (nI (i + 4))), (0, .ref b), (1, .ref (ad 0)), (2, .ref (bd 0))]) hx hb dL_law_338 hl (k := 3) rfl (nI_add _ 4) (by decide) rfl (fun ls hl => ?_)
          refine lv_goto (tgt := 18) hx hb dL_law_341 (by decide) ?_
          exact ih (i + 4) _ _ ls (by omega) ⟨by omega, ⟨ur1.1, ur1.2.1, ur1.2.2.1, ur1.2.2.2, st, _, _, _, _, _, _, _, _, _, _, _, _, _, _, _, _, _, _, _, hRx, hRm, hP, hD⟩, hS, lv_sub hl [1, 2, 3, 0] rfl⟩
        · exact absurd (e1) c2
      · refine lv_tableIn (off := 132) (tgt := 164) hx hb dL_law_32 (by decide) (by decide) (by decide) (by decide) ?_
        refine lv_aload_n hx hb dL_law_164 rfl (lv_at hl 1 rfl) ?_
        refine lv_aload_n hx hb dL_law_165 rfl (lv_at hl 0 rfl) ?_
        refine lv_iload_n hx hb dL_law_166 rfl (lv_at hl 3 rfl) ?_
        refine lv_iconst (v := nI 1) hx hb dL_law_167 (by decide) ?_
        refine lv_iadd hx hb dL_law_168 ?_
        refine zx_top (y := nI (i + 1)) (nI_add _ _) ?_
        refine zx_sld hx hb hX hbl hbA hS (j := i + 1) rfl (by omega) (by omega) dL_law_169 ?_
        refine vp_callSi (W.runV (As := [.int (xs (i + 1))]) (rest := []) ⟨hx, hb, hml, hown, hts⟩ (cX_offender l D dA dZ ad fS fL fG fT fV fF fO fB fJ o hd ln k n vw vs vt (xs (i + 1)) hRx.2.2.2.2.2.2.2.1) (cwV 1 hts (lw_V q94 q95 q96 q12 q97) rfl rfl rfl (by decide +kernel) ⟨Nat.le_of_ble_eq_true rfl, Nat.le_of_ble_eq_true rfl⟩) (zx_pR hKx (zx_Pl hP) rfl rfl _) rfl rfl hl.1 rfl (lv_room (Nat.le_of_ble_eq_true rfl)) dL_law_170 ⟨Nat.le_of_ble_eq_true rfl, Nat.le_of_ble_eq_true rfl⟩) (fun r1 hw1 => ?_)
        refine lv_aload_n hx hb dL_law_173 rfl (lv_at hl 2 rfl) ?_
        refine lv_aload_n hx hb dL_law_174 rfl (lv_at hl 0 rfl) ?_
        refine lv_iload_n hx hb dL_law_175 rfl (lv_at hl 3 rfl) ?_
        refine lv_iconst (v := nI 1) hx hb dL_law_176 (by decide) ?_
        refine lv_iadd hx hb dL_law_177 ?_
        refine zx_top (y := nI (i + 1)) (nI_add _ _) ?_
        refine zx_sld hx hb hX hbl hbA hS (j := i + 1) rfl (by omega) (by omega) dL_law_178 ?_
        refine vp_callSi (W.runV (As := [.int (xs (i + 1))]) (rest := [.int r1]) ⟨hx, hb, hml, hown, hts⟩ (cM_offender l D eA eZ bd gS gW gF gO gJ nv n vw vs vt st (xs (i + 1)) hRm) (cwV 1 hts (lw_V q184 q185 q186 q13 q187) rfl rfl rfl (by decide +kernel) ⟨Nat.le_of_ble_eq_true rfl, Nat.le_of_ble_eq_true rfl⟩) (zx_pR hKm (zx_Pr hP) rfl rfl _) rfl rfl hl.1 rfl (lv_room (Nat.le_of_ble_eq_true rfl)) dL_law_179 ⟨Nat.le_of_ble_eq_true rfl, Nat.le_of_ble_eq_true rfl⟩) (fun r2 hw2 => ?_)
        refine lv_icmp_eq (tgt := 338) hx hb dL_law_182 (by decide) (fun c2 => ?_) (fun c2 => ?_)
        · refine lv_iinc (v := nI (i + 4)) (lv' := [(3, .int (nI (i + 4))), (0, .ref b), (1, .ref (ad 0)), (2, .ref (bd 0))]) hx hb dL_law_338 hl (k := 3) rfl (nI_add _ 4) (by decide) rfl (fun ls hl => ?_)
          refine lv_goto (tgt := 18) hx hb dL_law_341 (by decide) ?_
          exact ih (i + 4) _ _ ls (by omega) ⟨by omega, ⟨n, vw, vs, vt, st, _, _, _, _, _, _, _, _, _, _, _, _, _, _, _, _, _, _, _, hRx, hRm, hP, hD⟩, hS, lv_sub hl [1, 2, 3, 0] rfl⟩
        · exact absurd (zd_of hw1 hw2) c2
      · refine lv_tableIn (off := 155) (tgt := 187) hx hb dL_law_32 (by decide) (by decide) (by decide) (by decide) ?_
        refine lv_aload_n hx hb dL_law_187 rfl (lv_at hl 1 rfl) ?_
        refine vp_callSi (W.runV (As := []) (rest := []) ⟨hx, hb, hml, hown, hts⟩ (cX_offended l D dA dZ ad fS fL fG fT fV fF fO fB fJ o hd ln k n vw vs vt st hRx.2.1 hRx.2.2.2.2.2.2.2.1) (cwV 0 hts (lw_V q98 q99 q100 q12 q101) rfl rfl rfl (by decide +kernel) ⟨Nat.le_of_ble_eq_true rfl, Nat.le_of_ble_eq_true rfl⟩) (zx_pR hKx (zx_Pl hP) rfl rfl _) rfl rfl hl.1 rfl (lv_room (Nat.le_of_ble_eq_true rfl)) dL_law_188 ⟨Nat.le_of_ble_eq_true rfl, Nat.le_of_ble_eq_true rfl⟩) (fun r1 hw1 => ?_)
        refine lv_aload_n hx hb dL_law_191 rfl (lv_at hl 2 rfl) ?_
        refine vp_callSi (W.runV (As := []) (rest := [.int r1]) ⟨hx, hb, hml, hown, hts⟩ (cM_offended l D eA eZ bd gS gW gF gO gJ nv n vw vs vt st hRm) (cwV 0 hts (lw_V q188 q189 q190 q13 q191) rfl rfl rfl (by decide +kernel) ⟨Nat.le_of_ble_eq_true rfl, Nat.le_of_ble_eq_true rfl⟩) (zx_pR hKm (zx_Pr hP) rfl rfl _) rfl rfl hl.1 rfl (lv_room (Nat.le_of_ble_eq_true rfl)) dL_law_192 ⟨Nat.le_of_ble_eq_true rfl, Nat.le_of_ble_eq_true rfl⟩) (fun r2 hw2 => ?_)
        refine lv_icmp_eq (tgt := 338) hx hb dL_law_195 (by decide) (fun c2 => ?_) (fun c2 => ?_)
        · refine lv_iinc (v := nI (i + 4)) (lv' := [(3, .int (nI (i + 4))), (0, .ref b), (1, .ref (ad 0)), (2, .ref (bd 0))]) hx hb dL_law_338 hl (k := 3) rfl (nI_add _ 4) (by decide) rfl (fun ls hl => ?_)
          refine lv_goto (tgt := 18) hx hb dL_law_341 (by decide) ?_
          exact ih (i + 4) _ _ ls (by omega) ⟨by omega, ⟨n, vw, vs, vt, st, _, _, _, _, _, _, _, _, _, _, _, _, _, _, _, _, _, _, _, hRx, hRm, hP, hD⟩, hS, lv_sub hl [1, 2, 3, 0] rfl⟩
        · exact absurd (Eq.trans hw1 (Eq.symm hw2)) c2
      · refine lv_tableIn (off := 168) (tgt := 200) hx hb dL_law_32 (by decide) (by decide) (by decide) (by decide) ?_
        refine lv_aload_n hx hb dL_law_200 rfl (lv_at hl 1 rfl) ?_
        refine lv_aload_n hx hb dL_law_201 rfl (lv_at hl 0 rfl) ?_
        refine lv_iload_n hx hb dL_law_202 rfl (lv_at hl 3 rfl) ?_
        refine lv_iconst (v := nI 1) hx hb dL_law_203 (by decide) ?_
        refine lv_iadd hx hb dL_law_204 ?_
        refine zx_top (y := nI (i + 1)) (nI_add _ _) ?_
        refine zx_sld hx hb hX hbl hbA hS (j := i + 1) rfl (by omega) (by omega) dL_law_205 ?_
        have hFc := zx_fr (zx_Dl hD) hS hA
        refine va_calli (va_runV (As := [.int (xs (i + 1))]) (rest := []) ⟨hx, hb, hml, hown, hts⟩ (cX_justified l D dA dZ ad _ fS fL fG fT fV fF fO fB fJ o hd ln k n vw vs vt st (xs (i + 1)) hRx) (cwV 1 hts (lw_V q106 q107 q108 q12 q109) rfl rfl rfl (by decide +kernel) ⟨Nat.le_of_ble_eq_true rfl, Nat.le_of_ble_eq_true rfl⟩) (zx_pM hKx (zx_Pl hP) (zx_Dl hD) rfl rfl _) rfl rfl hl.1 rfl (lv_room (Nat.le_of_ble_eq_true rfl)) dL_law_206 ⟨Nat.le_of_ble_eq_true rfl, Nat.le_of_ble_eq_true rfl⟩) hS (fun q _ h => hFc q h) hFc (fun r1 ur1 t H1 locs ht hvm hw1 hB hz1 hk1 hS => ?_)
        obtain ⟨fS, fL, fG, fT, fV, fF, fO, fB, fJ, o, hd, ln, k, hRx, hB⟩ := hB
        obtain ⟨hP, hD⟩ := zx_jl hP hD hB ht hk1 hFc
        refine lv_aload_n hx hb dL_law_209 rfl (lv_at hl 2 rfl) ?_
        refine lv_aload_n hx hb dL_law_210 rfl (lv_at hl 0 rfl) ?_
        refine lv_iload_n hx hb dL_law_211 rfl (lv_at hl 3 rfl) ?_
        refine lv_iconst (v := nI 1) hx hb dL_law_212 (by decide) ?_
        refine lv_iadd hx hb dL_law_213 ?_
        refine zx_top (y := nI (i + 1)) (nI_add _ _) ?_
        refine zx_sld hx hb hX hbl hbA hS (j := i + 1) rfl (by omega) (by omega) dL_law_214 ?_
        have hFc := zx_fr (zx_Dr hD) hS hA
        refine va_calli (va_runV (As := [.int (xs (i + 1))]) (rest := [.int r1]) ⟨hx, hb, hml, hown, hts⟩ (cM_justified l D eA eZ bd _ gS gW gF gO gJ nv n vw vs vt st (xs (i + 1)) hRm) (cwV 1 hts (lw_V q193 q194 q195 q13 q196) rfl rfl rfl (by decide +kernel) ⟨Nat.le_of_ble_eq_true rfl, Nat.le_of_ble_eq_true rfl⟩) (zx_pM hKm (zx_Pr hP) (zx_Dr hD) rfl rfl _) rfl rfl hl.1 rfl (lv_room (Nat.le_of_ble_eq_true rfl)) dL_law_215 ⟨Nat.le_of_ble_eq_true rfl, Nat.le_of_ble_eq_true rfl⟩) hS (fun q _ h => hFc q h) hFc (fun r2 ur2 t H1 locs ht hvm hw2 hB hz1 hk1 hS => ?_)
        obtain ⟨gS, gW, gF, gO, gJ, nv, hRm, hB⟩ := hB
        obtain ⟨hP, hD⟩ := zx_jr hP hD hB ht hk1 hFc
        refine lv_icmp_eq (tgt := 338) hx hb dL_law_218 (by decide) (fun c2 => ?_) (fun c2 => ?_)
        · refine lv_iinc (v := nI (i + 4)) (lv' := [(3, .int (nI (i + 4))), (0, .ref b), (1, .ref (ad 0)), (2, .ref (bd 0))]) hx hb dL_law_338 hl (k := 3) rfl (nI_add _ 4) (by decide) rfl (fun ls hl => ?_)
          refine lv_goto (tgt := 18) hx hb dL_law_341 (by decide) ?_
          exact ih (i + 4) _ _ ls (by omega) ⟨by omega, ⟨n, vw, vs, vt, st, _, _, _, _, _, _, _, _, _, _, _, _, _, _, _, _, _, _, _, hRx, hRm, hP, hD⟩, hS, lv_sub hl [1, 2, 3, 0] rfl⟩
        · exact absurd (zd_of hw1 hw2) c2
      · refine lv_tableIn (off := 191) (tgt := 223) hx hb dL_law_32 (by decide) (by decide) (by decide) (by decide) ?_
        refine lv_aload_n hx hb dL_law_223 rfl (lv_at hl 1 rfl) ?_
        refine lv_aload_n hx hb dL_law_224 rfl (lv_at hl 0 rfl) ?_
        refine lv_iload_n hx hb dL_law_225 rfl (lv_at hl 3 rfl) ?_
        refine lv_iconst (v := nI 1) hx hb dL_law_226 (by decide) ?_
        refine lv_iadd hx hb dL_law_227 ?_
        refine zx_top (y := nI (i + 1)) (nI_add _ _) ?_
        refine zx_sld hx hb hX hbl hbA hS (j := i + 1) rfl (by omega) (by omega) dL_law_228 ?_
        have hFc := zx_fr (zx_Dl hD) hS hA
        refine va_calli (va_runV (As := [.int (xs (i + 1))]) (rest := []) ⟨hx, hb, hml, hown, hts⟩ (cX_isFinal l D dA dZ ad _ fS fL fG fT fV fF fO fB fJ o hd ln k n vw vs vt st (xs (i + 1)) hRx) (cwV 1 hts (lw_V q118 q119 q120 q12 q121) rfl rfl rfl (by decide +kernel) ⟨Nat.le_of_ble_eq_true rfl, Nat.le_of_ble_eq_true rfl⟩) (zx_pM hKx (zx_Pl hP) (zx_Dl hD) rfl rfl _) rfl rfl hl.1 rfl (lv_room (Nat.le_of_ble_eq_true rfl)) dL_law_229 ⟨Nat.le_of_ble_eq_true rfl, Nat.le_of_ble_eq_true rfl⟩) hS (fun q _ h => hFc q h) hFc (fun r1 ur1 t H1 locs ht hvm hw1 hB hz1 hk1 hS => ?_)
        obtain ⟨fS, fL, fG, fT, fV, fF, fO, fB, fJ, o, hd, ln, k, hRx, hB⟩ := hB
        obtain ⟨hP, hD⟩ := zx_jl hP hD hB ht hk1 hFc
        refine lv_aload_n hx hb dL_law_232 rfl (lv_at hl 2 rfl) ?_
        refine lv_aload_n hx hb dL_law_233 rfl (lv_at hl 0 rfl) ?_
        refine lv_iload_n hx hb dL_law_234 rfl (lv_at hl 3 rfl) ?_
        refine lv_iconst (v := nI 1) hx hb dL_law_235 (by decide) ?_
        refine lv_iadd hx hb dL_law_236 ?_
        refine zx_top (y := nI (i + 1)) (nI_add _ _) ?_
        refine zx_sld hx hb hX hbl hbA hS (j := i + 1) rfl (by omega) (by omega) dL_law_237 ?_
        have hFc := zx_fr (zx_Dr hD) hS hA
        refine va_calli (va_runV (As := [.int (xs (i + 1))]) (rest := [.int r1]) ⟨hx, hb, hml, hown, hts⟩ (cM_isFinal l D eA eZ bd _ gS gW gF gO gJ nv n vw vs vt st (xs (i + 1)) hRm) (cwV 1 hts (lw_V q213 q214 q215 q13 q216) rfl rfl rfl (by decide +kernel) ⟨Nat.le_of_ble_eq_true rfl, Nat.le_of_ble_eq_true rfl⟩) (zx_pM hKm (zx_Pr hP) (zx_Dr hD) rfl rfl _) rfl rfl hl.1 rfl (lv_room (Nat.le_of_ble_eq_true rfl)) dL_law_238 ⟨Nat.le_of_ble_eq_true rfl, Nat.le_of_ble_eq_true rfl⟩) hS (fun q _ h => hFc q h) hFc (fun r2 ur2 t H1 locs ht hvm hw2 hB hz1 hk1 hS => ?_)
        obtain ⟨gS, gW, gF, gO, gJ, nv, hRm, hB⟩ := hB
        obtain ⟨hP, hD⟩ := zx_jr hP hD hB ht hk1 hFc
        refine lv_icmp_eq (tgt := 338) hx hb dL_law_241 (by decide) (fun c2 => ?_) (fun c2 => ?_)
        · refine lv_iinc (v := nI (i + 4)) (lv' := [(3, .int (nI (i + 4))), (0, .ref b), (1, .ref (ad 0)), (2, .ref (bd 0))]) hx hb dL_law_338 hl (k := 3) rfl (nI_add _ 4) (by decide) rfl (fun ls hl => ?_)
          refine lv_goto (tgt := 18) hx hb dL_law_341 (by decide) ?_
          exact ih (i + 4) _ _ ls (by omega) ⟨by omega, ⟨n, vw, vs, vt, st, _, _, _, _, _, _, _, _, _, _, _, _, _, _, _, _, _, _, _, hRx, hRm, hP, hD⟩, hS, lv_sub hl [1, 2, 3, 0] rfl⟩
        · exact absurd (zd_fin hw1 hw2) c2
      · refine lv_tableIn (off := 214) (tgt := 246) hx hb dL_law_32 (by decide) (by decide) (by decide) (by decide) ?_
        refine lv_aload_n hx hb dL_law_246 rfl (lv_at hl 1 rfl) ?_
        have hFc := zx_fr (zx_Dl hD) hS hA
        refine va_calli (va_runV (As := []) (rest := []) ⟨hx, hb, hml, hown, hts⟩ (cX_highest l D dA dZ ad _ fS fL fG fT fV fF fO fB fJ o hd ln k n vw vs vt st hRx) (cwV 0 hts (lw_V q122 q123 q124 q12 q125) rfl rfl rfl (by decide +kernel) ⟨Nat.le_of_ble_eq_true rfl, Nat.le_of_ble_eq_true rfl⟩) (zx_pM hKx (zx_Pl hP) (zx_Dl hD) rfl rfl _) rfl rfl hl.1 rfl (lv_room (Nat.le_of_ble_eq_true rfl)) dL_law_247 ⟨Nat.le_of_ble_eq_true rfl, Nat.le_of_ble_eq_true rfl⟩) hS (fun q _ h => hFc q h) hFc (fun r1 ur1 t H1 locs ht hvm hw1 hB hz1 hk1 hS => ?_)
        obtain ⟨fS, fL, fG, fT, fV, fF, fO, fB, fJ, o, hd, ln, k, hRx, hB⟩ := hB
        obtain ⟨hP, hD⟩ := zx_jl hP hD hB ht hk1 hFc
        refine lv_aload_n hx hb dL_law_250 rfl (lv_at hl 2 rfl) ?_
        have hFc := zx_fr (zx_Dr hD) hS hA
        refine va_calli (va_runV (As := []) (rest := [.int r1]) ⟨hx, hb, hml, hown, hts⟩ (cM_highest l D eA eZ bd _ gS gW gF gO gJ nv n vw vs vt st hRm) (cwV 0 hts (lw_V q217 q218 q219 q13 q220) rfl rfl rfl (by decide +kernel) ⟨Nat.le_of_ble_eq_true rfl, Nat.le_of_ble_eq_true rfl⟩) (zx_pM hKm (zx_Pr hP) (zx_Dr hD) rfl rfl _) rfl rfl hl.1 rfl (lv_room (Nat.le_of_ble_eq_true rfl)) dL_law_251 ⟨Nat.le_of_ble_eq_true rfl, Nat.le_of_ble_eq_true rfl⟩) hS (fun q _ h => hFc q h) hFc (fun r2 ur2 t H1 locs ht hvm hw2 hB hz1 hk1 hS => ?_)
        obtain ⟨gS, gW, gF, gO, gJ, nv, hRm, hB⟩ := hB
        obtain ⟨hP, hD⟩ := zx_jr hP hD hB ht hk1 hFc
        refine lv_icmp_eq (tgt := 338) hx hb dL_law_254 (by decide) (fun c2 => ?_) (fun c2 => ?_)
        · refine lv_iinc (v := nI (i + 4)) (lv' := [(3, .int (nI (i + 4))), (0, .ref b), (1, .ref (ad 0)), (2, .ref (bd 0))]) hx hb dL_law_338 hl (k := 3) rfl (nI_add _ 4) (by decide) rfl (fun ls hl => ?_)
          refine lv_goto (tgt := 18) hx hb dL_law_341 (by decide) ?_
          exact ih (i + 4) _ _ ls (by omega) ⟨by omega, ⟨n, vw, vs, vt, st, _, _, _, _, _, _, _, _, _, _, _, _, _, _, _, _, _, _, _, hRx, hRm, hP, hD⟩, hS, lv_sub hl [1, 2, 3, 0] rfl⟩
        · exact absurd (Eq.trans hw1 (Eq.symm hw2)) c2
      · refine lv_tableIn (off := 227) (tgt := 259) hx hb dL_law_32 (by decide) (by decide) (by decide) (by decide) ?_
        refine lv_aload_n hx hb dL_law_259 rfl (lv_at hl 1 rfl) ?_
        refine lv_aload_n hx hb dL_law_260 rfl (lv_at hl 0 rfl) ?_
        refine lv_iload_n hx hb dL_law_261 rfl (lv_at hl 3 rfl) ?_
        refine lv_iconst (v := nI 1) hx hb dL_law_262 (by decide) ?_
        refine lv_iadd hx hb dL_law_263 ?_
        refine zx_top (y := nI (i + 1)) (nI_add _ _) ?_
        refine zx_sld hx hb hX hbl hbA hS (j := i + 1) rfl (by omega) (by omega) dL_law_264 ?_
        have hFc := zx_fr (zx_Dl hD) hS hA
        refine va_calli (va_runV (As := [.int (xs (i + 1))]) (rest := []) ⟨hx, hb, hml, hown, hts⟩ (cX_justifiedIn l D dA dZ ad _ fS fL fG fT fV fF fO fB fJ o hd ln k n vw vs vt st (xs (i + 1)) hRx) (cwV 1 hts (lw_V q126 q127 q128 q12 q129) rfl rfl rfl (by decide +kernel) ⟨Nat.le_of_ble_eq_true rfl, Nat.le_of_ble_eq_true rfl⟩) (zx_pM hKx (zx_Pl hP) (zx_Dl hD) rfl rfl _) rfl rfl hl.1 rfl (lv_room (Nat.le_of_ble_eq_true rfl)) dL_law_265 ⟨Nat.le_of_ble_eq_true rfl, Nat.le_of_ble_eq_true rfl⟩) hS (fun q _ h => hFc q h) hFc (fun r1 ur1 t H1 locs ht hvm hw1 hB hz1 hk1 hS => ?_)
        obtain ⟨fS, fL, fG, fT, fV, fF, fO, fB, fJ, o, hd, ln, k, hRx, hB⟩ := hB
        obtain ⟨hP, hD⟩ := zx_jl hP hD hB ht hk1 hFc
        refine lv_aload_n hx hb dL_law_268 rfl (lv_at hl 2 rfl) ?_
        refine lv_aload_n hx hb dL_law_269 rfl (lv_at hl 0 rfl) ?_
        refine lv_iload_n hx hb dL_law_270 rfl (lv_at hl 3 rfl) ?_
        refine lv_iconst (v := nI 1) hx hb dL_law_271 (by decide) ?_
        refine lv_iadd hx hb dL_law_272 ?_
        refine zx_top (y := nI (i + 1)) (nI_add _ _) ?_
        refine zx_sld hx hb hX hbl hbA hS (j := i + 1) rfl (by omega) (by omega) dL_law_273 ?_
        have hFc := zx_fr (zx_Dr hD) hS hA
        refine va_calli (va_runV (As := [.int (xs (i + 1))]) (rest := [.int r1]) ⟨hx, hb, hml, hown, hts⟩ (cM_justifiedIn l D eA eZ bd _ gS gW gF gO gJ nv n vw vs vt st (xs (i + 1)) hRm) (cwV 1 hts (lw_V q221 q222 q223 q13 q224) rfl rfl rfl (by decide +kernel) ⟨Nat.le_of_ble_eq_true rfl, Nat.le_of_ble_eq_true rfl⟩) (zx_pM hKm (zx_Pr hP) (zx_Dr hD) rfl rfl _) rfl rfl hl.1 rfl (lv_room (Nat.le_of_ble_eq_true rfl)) dL_law_274 ⟨Nat.le_of_ble_eq_true rfl, Nat.le_of_ble_eq_true rfl⟩) hS (fun q _ h => hFc q h) hFc (fun r2 ur2 t H1 locs ht hvm hw2 hB hz1 hk1 hS => ?_)
        obtain ⟨gS, gW, gF, gO, gJ, nv, hRm, hB⟩ := hB
        obtain ⟨hP, hD⟩ := zx_jr hP hD hB ht hk1 hFc
        refine lv_icmp_eq (tgt := 338) hx hb dL_law_277 (by decide) (fun c2 => ?_) (fun c2 => ?_)
        · refine lv_iinc (v := nI (i + 4)) (lv' := [(3, .int (nI (i + 4))), (0, .ref b), (1, .ref (ad 0)), (2, .ref (bd 0))]) hx hb dL_law_338 hl (k := 3) rfl (nI_add _ 4) (by decide) rfl (fun ls hl => ?_)
          refine lv_goto (tgt := 18) hx hb dL_law_341 (by decide) ?_
          exact ih (i + 4) _ _ ls (by omega) ⟨by omega, ⟨n, vw, vs, vt, st, _, _, _, _, _, _, _, _, _, _, _, _, _, _, _, _, _, _, _, hRx, hRm, hP, hD⟩, hS, lv_sub hl [1, 2, 3, 0] rfl⟩
        · exact absurd (zd_of (P := fun e => e < 32) hw1 hw2) c2
      · refine lv_tableIn (off := 250) (tgt := 282) hx hb dL_law_32 (by decide) (by decide) (by decide) (by decide) ?_
        obtain ⟨q, hln, hQ⟩ := hRx.2.2.2.2.2.2.2.2.1
        refine lv_aload_n hx hb dL_law_282 rfl (lv_at hl 1 rfl) ?_
        refine lv_aload_n hx hb dL_law_283 rfl (lv_at hl 0 rfl) ?_
        refine lv_iload_n hx hb dL_law_284 rfl (lv_at hl 3 rfl) ?_
        refine lv_iconst (v := nI 1) hx hb dL_law_285 (by decide) ?_
        refine lv_iadd hx hb dL_law_286 ?_
        refine zx_top (y := nI (i + 1)) (nI_add _ _) ?_
        refine zx_sld hx hb hX hbl hbA hS (j := i + 1) rfl (by omega) (by omega) dL_law_287 ?_
        refine lv_aload_n hx hb dL_law_288 rfl (lv_at hl 0 rfl) ?_
        refine lv_iload_n hx hb dL_law_289 rfl (lv_at hl 3 rfl) ?_
        refine lv_iconst (v := nI 2) hx hb dL_law_290 (by decide) ?_
        refine lv_iadd hx hb dL_law_291 ?_
        refine zx_top (y := nI (i + 2)) (nI_add _ _) ?_
        refine zx_sld hx hb hX hbl hbA hS (j := i + 2) rfl (by omega) (by omega) dL_law_292 ?_
        refine vp_callSi (W.runV (As := [.int (xs (i + 1)), .int (xs (i + 2))]) (rest := []) ⟨hx, hb, hml, hown, hts⟩ (cX_support l D dA dZ ad fS fL fG fT fV fF fO fB fJ o hd ln k n vw vs vt st q (xs (i + 1)) (xs (i + 2)) hRx.2.1 hQ (by have := hQ.1; have := hRx.1.1; omega) hln) (cwV 2 hts (lw_V q130 q131 q132 q12 q133) rfl rfl rfl (by decide +kernel) ⟨Nat.le_of_ble_eq_true rfl, Nat.le_of_ble_eq_true rfl⟩) (zx_pR hKx (zx_Pl hP) rfl rfl _) rfl rfl hl.1 rfl (lv_room (Nat.le_of_ble_eq_true rfl)) dL_law_293 ⟨Nat.le_of_ble_eq_true rfl, Nat.le_of_ble_eq_true rfl⟩) (fun r1 hw1 => ?_)
        refine lv_aload_n hx hb dL_law_296 rfl (lv_at hl 2 rfl) ?_
        refine lv_aload_n hx hb dL_law_297 rfl (lv_at hl 0 rfl) ?_
        refine lv_iload_n hx hb dL_law_298 rfl (lv_at hl 3 rfl) ?_
        refine lv_iconst (v := nI 1) hx hb dL_law_299 (by decide) ?_
        refine lv_iadd hx hb dL_law_300 ?_
        refine zx_top (y := nI (i + 1)) (nI_add _ _) ?_
        refine zx_sld hx hb hX hbl hbA hS (j := i + 1) rfl (by omega) (by omega) dL_law_301 ?_
        refine lv_aload_n hx hb dL_law_302 rfl (lv_at hl 0 rfl) ?_
        refine lv_iload_n hx hb dL_law_303 rfl (lv_at hl 3 rfl) ?_
        refine lv_iconst (v := nI 2) hx hb dL_law_304 (by decide) ?_
        refine lv_iadd hx hb dL_law_305 ?_
        refine zx_top (y := nI (i + 2)) (nI_add _ _) ?_
        refine zx_sld hx hb hX hbl hbA hS (j := i + 2) rfl (by omega) (by omega) dL_law_306 ?_
        refine vp_callSi (W.runV (As := [.int (xs (i + 1)), .int (xs (i + 2))]) (rest := [.int r1]) ⟨hx, hb, hml, hown, hts⟩ (cM_support l D eA eZ bd gS gW gF gO gJ nv n vw vs vt st (xs (i + 1)) (xs (i + 2)) hRm) (cwV 2 hts (lw_V q225 q206 q207 q13 q208) rfl rfl rfl (by decide +kernel) ⟨Nat.le_of_ble_eq_true rfl, Nat.le_of_ble_eq_true rfl⟩) (zx_pR hKm (zx_Pr hP) rfl rfl _) rfl rfl hl.1 rfl (lv_room (Nat.le_of_ble_eq_true rfl)) dL_law_307 ⟨Nat.le_of_ble_eq_true rfl, Nat.le_of_ble_eq_true rfl⟩) (fun r2 hw2 => ?_)
        refine lv_icmp_eq (tgt := 338) hx hb dL_law_310 (by decide) (fun c2 => ?_) (fun c2 => ?_)
        · refine lv_iinc (v := nI (i + 4)) (lv' := [(3, .int (nI (i + 4))), (0, .ref b), (1, .ref (ad 0)), (2, .ref (bd 0))]) hx hb dL_law_338 hl (k := 3) rfl (nI_add _ 4) (by decide) rfl (fun ls hl => ?_)
          refine lv_goto (tgt := 18) hx hb dL_law_341 (by decide) ?_
          exact ih (i + 4) _ _ ls (by omega) ⟨by omega, ⟨n, vw, vs, vt, st, _, _, _, _, _, _, _, _, _, _, _, _, _, _, _, _, _, _, _, hRx, hRm, hP, hD⟩, hS, lv_sub hl [1, 2, 3, 0] rfl⟩
        · exact absurd (Eq.trans hw1 (Eq.symm hw2)) c2
      · refine lv_tableIn (off := 283) (tgt := 315) hx hb dL_law_32 (by decide) (by decide) (by decide) (by decide) ?_
        refine lv_aload_n hx hb dL_law_315 rfl (lv_at hl 1 rfl) ?_
        refine lv_aload_n hx hb dL_law_316 rfl (lv_at hl 0 rfl) ?_
        refine lv_iload_n hx hb dL_law_317 rfl (lv_at hl 3 rfl) ?_
        refine lv_iconst (v := nI 1) hx hb dL_law_318 (by decide) ?_
        refine lv_iadd hx hb dL_law_319 ?_
        refine zx_top (y := nI (i + 1)) (nI_add _ _) ?_
        refine zx_sld hx hb hX hbl hbA hS (j := i + 1) rfl (by omega) (by omega) dL_law_320 ?_
        refine vp_callSi (W.runV (As := [.int (xs (i + 1))]) (rest := []) ⟨hx, hb, hml, hown, hts⟩ (cX_votes l D dA dZ ad fS fL fG fT fV fF fO fB fJ o hd ln k n vw (xs (i + 1)) hRx.2.2.2.1) (cwV 1 hts (lw_V q134 q135 q136 q12 q137) rfl rfl rfl (by decide +kernel) ⟨Nat.le_of_ble_eq_true rfl, Nat.le_of_ble_eq_true rfl⟩) (zx_pR hKx (zx_Pl hP) rfl rfl _) rfl rfl hl.1 rfl (lv_room (Nat.le_of_ble_eq_true rfl)) dL_law_321 ⟨Nat.le_of_ble_eq_true rfl, Nat.le_of_ble_eq_true rfl⟩) (fun r1 hw1 => ?_)
        refine lv_aload_n hx hb dL_law_324 rfl (lv_at hl 2 rfl) ?_
        refine lv_aload_n hx hb dL_law_325 rfl (lv_at hl 0 rfl) ?_
        refine lv_iload_n hx hb dL_law_326 rfl (lv_at hl 3 rfl) ?_
        refine lv_iconst (v := nI 1) hx hb dL_law_327 (by decide) ?_
        refine lv_iadd hx hb dL_law_328 ?_
        refine zx_top (y := nI (i + 1)) (nI_add _ _) ?_
        refine zx_sld hx hb hX hbl hbA hS (j := i + 1) rfl (by omega) (by omega) dL_law_329 ?_
        refine vp_callSi (W.runV (As := [.int (xs (i + 1))]) (rest := [.int r1]) ⟨hx, hb, hml, hown, hts⟩ (cM_votes l D eA eZ bd gS gW gF gO gJ nv n vw vs vt st (xs (i + 1)) hRm) (cwV 1 hts (lw_V q226 q227 q228 q13 q229) rfl rfl rfl (by decide +kernel) ⟨Nat.le_of_ble_eq_true rfl, Nat.le_of_ble_eq_true rfl⟩) (zx_pR hKm (zx_Pr hP) rfl rfl _) rfl rfl hl.1 rfl (lv_room (Nat.le_of_ble_eq_true rfl)) dL_law_330 ⟨Nat.le_of_ble_eq_true rfl, Nat.le_of_ble_eq_true rfl⟩) (fun r2 hw2 => ?_)
        refine lv_icmp_eq (tgt := 338) hx hb dL_law_333 (by decide) (fun c2 => ?_) (fun c2 => ?_)
        · refine lv_iinc (v := nI (i + 4)) (lv' := [(3, .int (nI (i + 4))), (0, .ref b), (1, .ref (ad 0)), (2, .ref (bd 0))]) hx hb dL_law_338 hl (k := 3) rfl (nI_add _ 4) (by decide) rfl (fun ls hl => ?_)
          refine lv_goto (tgt := 18) hx hb dL_law_341 (by decide) ?_
          exact ih (i + 4) _ _ ls (by omega) ⟨by omega, ⟨n, vw, vs, vt, st, _, _, _, _, _, _, _, _, _, _, _, _, _, _, _, _, _, _, _, hRx, hRm, hP, hD⟩, hS, lv_sub hl [1, 2, 3, 0] rfl⟩
        · exact absurd (zd_of (P := fun v => v < 8) (f := fun v => nI (zv_cntV n vw v)) hw1 hw2) c2
set_option maxHeartbeats 4000000 in
set_option maxRecDepth 100000 in
/-- THE LAW, from its entry -/
theorem whole_start {p : Program} {e : Env} {s : State} {m : MethodId} {below : List Frame} {meth : Method} {c : Code} (l : Launch) {b L : Nat} {xs : Nat → Int32} (hL : L ≤ 256) (C0 : lw_At p s m meth c b L xs) : W p l e room_1 s m #[Value.ref b] below meth c s.heap [] 0 0 (lw_Z below #[Value.ref b] s) (entryFrame m ([Value.ref b] : List Value).toArray 4) := by
  obtain ⟨hx, hb, hr, hml, hown, hts0, hX, hbl, hlocks, hgv⟩ := id C0
  have hts : ∀ w ∈ lw_all, w.before #[Value.ref b] s = true := fun w h => hts0 w (lw_all_tbl h)
  have hA : ∀ q : Nat, s.heap.size ≤ q → (fun q : Nat => s.heap.size ≤ q) q := fun _ h => h
  obtain ⟨c0, iS0, hKn0⟩ := u_known (C := RX0) (T := TX0) (N := 13) (n := 13) hts in_X0 (hts _ q15)
  obtain ⟨c1, iS1, hKn1⟩ := u_known (C := RX1) (T := TX1) (N := 6) (n := 6) hts in_X1 (hts _ q139)
  obtain ⟨D, hKc⟩ : ∃ D : va_G, ∀ (k : Nat) (q : vw_C), vwCl[k]? = some q → u_Kn s q.1 q.2.1 q.2.2 (D.1 k) (D.2 k) := by
    refine ⟨(fun k => if k = 0 then c0 else c1, fun k => if k = 0 then iS0 else iS1), ?_⟩
    intro k q hq
    match k, hq with
    | 0, hq => cases hq; exact hKn0
    | 1, hq => cases hq; exact hKn1
    | k + 2, hq => simp [vwCl] at hq
  have hS : va_S (fun q : Nat => s.heap.size ≤ q) s.heap s.heap [] := va_S.rf
  have hK : va_K D vwCl [] s := ⟨hKc, fun k q h => by simp at h⟩
  have hP : va_P D vwCl [] s.heap := fun k q h => by simp at h
  have hD : va_D (fun q : Nat => s.heap.size ≤ q) [] := ⟨fun i j p q h => by simp at h, fun k q h => by simp at h⟩
  have hl := lv_entry ([.ref b]) (n := 4) (Nat.le_of_ble_eq_true rfl)
  rw [lg_entry_eq]
  generalize (lg_sl ([.ref b]) ++ List.replicate (4 - (lg_sl ([.ref b])).length) Slot.unset).toArray = ls at hl ⊢
  have hl : lv_has ls 4 [(0, .ref b)] := hl
  generalize hAe : (fun q : Nat => s.heap.size ≤ q) = A at hS hD hA
  refine va_new (ci := 0) (fs := [.null, .null, .null, .null, .int 0, .null, .int 0, .int 0, .null, .null, .null, .int 0, .null]) (C := RX0) (T := TX0) (N := 13) hx hb hts in_X0 tyX0 tyX0_ok hown (hts _ q14) (hts _ q15) (hts _ q12) hK hP hD hS hA rfl (fun j hj => by rcases (show j = 0 ∨ j = 1 ∨ j = 2 ∨ j = 3 ∨ j = 4 ∨ j = 5 ∨ j = 6 ∨ j = 7 ∨ j = 8 ∨ j = 9 ∨ j = 10 ∨ j = 11 ∨ j = 12 by omega) with rfl | rfl | rfl | rfl | rfl | rfl | rfl | rfl | rfl | rfl | rfl | rfl | rfl <;> rfl) (Nat.le_of_ble_eq_true rfl) (Nat.le_of_ble_eq_true rfl) dL_law_0 (fun q0 H hP hD hS => ?_)
  refine W.widen (k := 1) (n := 13) (Nat.le_refl _) (Nat.le_refl _) ?_
  refine lv_dup hx hb dL_law_3 rfl ?_
  have hP : va_P D vwCl [(q0, .inr (0, [.null, .null, .null, .null, .int 0, .null, .int 0, .int 0, .null, .null, .null, .int 0, .null]))] H := hP
  have hD : va_D A [(q0, .inr (0, [.null, .null, .null, .null, .int 0, .null, .int 0, .int 0, .null, .null, .null, .int 0, .null]))] := hD
  have hFc := zx_fr hD hS hA
  refine va_callv (va_runI (As := []) (rest := [.ref q0]) ⟨hx, hb, hml, hown, hts⟩ (cX_init l D q0 _) (cwI 0 hts (lw_meth q18) rfl rfl rfl (hts _ q12) (hts _ q16) (hts _ q17) rfl (by decide +kernel) ⟨Nat.le_of_ble_eq_true rfl, Nat.le_of_ble_eq_true rfl⟩) (zx_pI hK hP hD _) rfl rfl hl.1 rfl (lv_room (Nat.le_of_ble_eq_true rfl)) dL_law_4 ⟨Nat.le_of_ble_eq_true rfl, Nat.le_of_ble_eq_true rfl⟩) hS (fun q _ h => hFc q h) hFc (fun u t H1 locs ht hvm hw hB hz1 hk1 hS => ?_)
  obtain ⟨dA, dZ, ad, had, fS, fL, fG, fT, fV, fF, fO, fB, fJ, o, hd, ln, k, hRx, hB⟩ := hB
  subst had
  obtain ⟨hP, hD, hK⟩ := zx_bk hB ht hvm hFc
  refine W.widen (k := 10) (n := 1117) (Nat.le_refl _) (Nat.le_refl _) ?_
  refine lv_astore_n (lv' := [(1, .ref (ad 0)), (0, .ref b)]) hx hb dL_law_7 rfl hl (by decide) rfl (fun ls hl => ?_)
  refine va_new (ci := 1) (fs := [.null, .int 0, .null, .null, .null, .null]) (C := RX1) (T := TX1) (N := 6) hx hb hts in_X1 tyX1 tyX1_ok hown (hts _ q138) (hts _ q139) (hts _ q13) hK hP hD hS hA rfl (fun j hj => by rcases (show j = 0 ∨ j = 1 ∨ j = 2 ∨ j = 3 ∨ j = 4 ∨ j = 5 by omega) with rfl | rfl | rfl | rfl | rfl | rfl <;> rfl) (Nat.le_of_ble_eq_true rfl) (Nat.le_of_ble_eq_true rfl) dL_law_8 (fun q1 H hP hD hS => ?_)
  refine W.widen (k := 11) (n := 1123) (Nat.le_refl _) (Nat.le_refl _) ?_
  refine lv_dup hx hb dL_law_11 rfl ?_
  have hP : va_P D vwCl (xW dA dZ ad fS fL fG fT fV fF fO fB fJ o hd ln k ++ [(q1, .inr (1, [.null, .int 0, .null, .null, .null, .null]))]) H := hP
  have hD : va_D A (xW dA dZ ad fS fL fG fT fV fF fO fB fJ o hd ln k ++ [(q1, .inr (1, [.null, .int 0, .null, .null, .null, .null]))]) := hD
  have hFc := zx_fr (zx_Dr hD) hS hA
  refine va_callv (va_runI (As := []) (rest := [.ref q1]) ⟨hx, hb, hml, hown, hts⟩ (cM_init l D q1 _) (cwI 0 hts (lw_meth q142) rfl rfl rfl (hts _ q13) (hts _ q140) (hts _ q141) rfl (by decide +kernel) ⟨Nat.le_of_ble_eq_true rfl, Nat.le_of_ble_eq_true rfl⟩) (zx_pI (hK.sub (tys' := []) [] rfl) (zx_Pr hP) (zx_Dr hD) _) rfl rfl hl.1 rfl (lv_room (Nat.le_of_ble_eq_true rfl)) dL_law_12 ⟨Nat.le_of_ble_eq_true rfl, Nat.le_of_ble_eq_true rfl⟩) hS (fun q _ h => hFc q h) hFc (fun u t H1 locs ht hvm hw hB hz1 hk1 hS => ?_)
  obtain ⟨eA, eZ, bd, had, gS, gW, gF, gO, gJ, nv, hRm, hB⟩ := hB
  subst had
  have hKm := va_K.moved hvm.symm hB.2.1
  obtain ⟨hP, hD⟩ := zx_jr hP hD hB ht hk1 hFc
  refine W.widen (k := 16) (n := 1451) (Nat.le_refl _) (Nat.le_refl _) ?_
  refine lv_astore_n (lv' := [(2, .ref (bd 0)), (1, .ref (ad 0)), (0, .ref b)]) hx hb dL_law_15 rfl hl (by decide) rfl (fun ls hl => ?_)
  refine lv_iconst (v := nI 0) hx hb dL_law_16 (by decide) ?_
  refine lv_istore_n (lv' := [(3, .int (nI 0)), (2, .ref (bd 0)), (1, .ref (ad 0)), (0, .ref b)]) hx hb dL_law_17 rfl hl (by decide) rfl (fun ls hl => ?_)
  subst hAe
  exact law_loop l hL C0 hK hKm ⟨0, fun _ => 0, fun _ => 0, fun _ => 0, fun _ => 1, _, _, _, _, _, _, _, _, _, _, _, _, _, _, _, _, _, _, _, hRx, hRm, hP, hD⟩ hS (lv_sub hl [3, 2, 1, 0] rfl)
end
section
set_option maxHeartbeats 4000000 in
theorem lw_walk (l : Launch) (b : Addr) (xs : List Int32) : MetFree l x (headSpec (Jvm.Cond.code x code maxLocals ret :: tables_1) room_1) (lw_P b xs) (fun _ _ _ _ _ => True) lw_Q := by
  refine MetFree.of_bodyS (code := code) (maxLocals := maxLocals) (ret := ret) (by decide) ?_ ?_
  · intro args s m h hn
    obtain ⟨meth, c, h1, h2, h3, h4, h5, h6, -, -⟩ := Cond.code_spec hn (atoms_spec (ws := Jvm.Cond.code x code maxLocals ret :: tables_1) h _ List.mem_cons_self)
    exact ⟨meth, c, h1, h2, h3, h4, h5, h6⟩
  · intro p e s m args below meth c s₁ B hml0 hP _
    obtain ⟨rfl, hx, hbd, hgv⟩ := hP
    obtain ⟨scr, harrAt, hlist, hof, hsmall⟩ := hx
    obtain ⟨hcb, hkn, -, -⟩ := State.arrayAt?_spec harrAt
    have hown : s.vm.findClass R_law = some m.cls := findClass_of_methodNamed B.named
    have hts0 : ∀ c ∈ (Jvm.Cond.code x code maxLocals ret :: tables_1), c.before #[Value.ref b] s = true := atoms_spec (ws := Jvm.Cond.code x code maxLocals ret :: tables_1) B.pre
    have hts : ∀ w ∈ lw_tbl, w.before #[Value.ref b] s = true := k2_hts_sels lw_privs (fun w hw => hts0 w (List.mem_cons_of_mem _ hw)) lw_privs_ok
    have hml : c.maxLocals = 4 := B.maxLocals_eq (hts0 _ List.mem_cons_self)
    have X₀ : Stand p l e room_1 s m #[Value.ref b] below meth c s₁ [] 0 0 := Stand.of_body B
    have hh0 : s₁.heap = s.heap := by rw [B.state]; rfl
    have hsz : scr.slots.size = xs.length := by rw [← Array.length_toList, hlist, List.length_map]
    have hval : ∀ j : Nat, j < xs.length → scr.slots[j]? = some (.int (xs.getD j 0)) := fun j hj => by
      rw [← Array.getElem?_toList, hlist]
      simp [hj]
    have hbl : b < s.heap.size := (Array.getElem?_eq_some_iff.mp hcb).1
    have hX : va_X b xs.length (fun j => xs.getD j 0) s s.heap := ⟨scr, hcb, hof, hkn, hsz, hval⟩
    have K : W p l e room_1 s m #[Value.ref b] below meth c s₁.heap [] 0 0 (lw_Z below #[Value.ref b] s) (entryFrame m ([Value.ref b] : List Value).toArray 4) := by
      rw [hh0]
      exact whole_start l hbd ⟨B.exec, B.bytes, B.returns, hml, hown, hts, hX, hbl, B.notSynchronized, hgv⟩
    obtain ⟨t, a1, o, b1, b2, b3⟩ := K s₁ rfl X₀
    exact ⟨t, o, a1, b1, b2, b3⟩
theorem lw_pre_spec {args : Array Value} {s : State} (h : (Jvm.Cond.and given_1 narrow_1).before args s = true) (hr : rest_1_c.before args s = true) : ∃ (b : Addr) (xs : List Int32), lw_P b xs args s := by
  have hs := flat_of_before _ h
  have hq := flat_of_before _ hr
  have hc : (Cond.count 1).before args s = true := hs _ (by decide +kernel)
  have harr : (Cond.arrayOf (.arg 0) .int).before args s = true := hs _ (by decide +kernel)
  have hle : (Cond.le (.length (.arg 0)) (.int 256)).before args s = true := hs _ (by decide +kernel)
  have hlen : (Cond.isInt (.length (.arg 0))).before args s = true := hq _ (by decide +kernel)
  have hall : (Cond.all (.arg 0) (.isInt (.elem (.arg 0) (.index 0)))).before args s = true := hq _ (by decide +kernel)
  obtain ⟨b, xs, hb, hx⟩ := State.ints_of_pre rfl harr hlen hall
  have hsm : xs.length < 2 ^ 31 := hx.choose_spec.2.2.2
  have hev : (Term.length (.arg 0)).eval args s none [] s = some (.int xs.length.toInt32) := hx.length_eval hb
  have hv := Cond.le_ints hev (show (Term.int 256).eval args s none [] s = some (.int 256) from rfl)
  have hd : xs.length.toInt32 ≤ 256 := by
    simpa [Cond.before, Cond.holds, hv] using hle
  have hN : xs.length ≤ 256 := (Int32.ofNat_le_ofNat hsm (by decide)).mp (show Int32.ofNat xs.length ≤ Int32.ofNat 256 from hd)
  exact ⟨b, xs, Cond.one_arg hc (show args[0]? = some (.ref b) from hb), hx, hN, h⟩
theorem lw_comes (l : Launch) : Comes l x (Jvm.Cond.code x code maxLocals ret :: tables_1) room_1 (fun tb e args s => Calls_1 tb e args s ∧ rest_1 tb e args s ∧ Pre_1 tb e args s)
    (fun _ _ args s o t => lw_Q args s o t) := by
  intro p e ha hc hk s m args below hf hfit hheap happ hpre
  obtain ⟨b, xs, hP⟩ := lw_pre_spec hpre.2.2 hpre.2.1
  obtain ⟨k, o, h1, h2, h3, hQ⟩ := lw_walk l b xs p e ha hc hk s m args below hf ((Spec.applies_iff_loose hf).mp happ).1 hP trivial
  exact ⟨k, o, h1, h2, h3, hQ⟩
theorem lw_frame {s t : State} {o : Outcome} {args : Array Value} (h : Framed s o t [] 600000 7290000) :
    Framed s o t (fieldLocs frame_1_writes args s ++ arrayLocs frame_1_arrays args s ++ staticLocs frame_1_statics s) 600000 7290000 := h
theorem lw_limb (L : Cond) (hL : ∀ (args : Array Value) (s t : State), L.after args s (.returned (some (.int 1))) t = true) :
    ArmFor flags0 classFile x code maxLocals ret World_1 tables_1 room_1 Calls_1 rest_1 Pre_1
      (fun tb e a s o t => postC L tb e a s o t ∧ Framed s o t (fieldLocs frame_1_writes a s ++ arrayLocs frame_1_arrays a s ++ staticLocs frame_1_statics s) 600000 7290000) := by
  intro l _ _ _ p e ha hc hk s m args below hf hfit hheap happ hpre
  obtain ⟨k, o, h1, h2, h3, rfl, hF⟩ := lw_comes l p e ha hc hk s m args below hf hfit hheap happ hpre
  exact ⟨k, _, h1, h2, h3, hL args s _, lw_frame hF⟩
theorem i_vc : Claimed_1_1 ∧ Claimed_1_2 := ⟨lw_limb limb_1_1 (fun args s t => by simp [limb_1_1, Cond.after, Cond.holds, Cond.value]), lw_limb limb_1_2 (fun args s t => Cond.after_iff.mpr (by
  first | (rw [show limb_1_2 = Cond.eq .result (.int 1) from rfl, Cond.eq_ints (x := 1) (y := 1) rfl rfl]; simp; done) | (simp [limb_1_2, Cond.value, Term.eval]; done)))⟩
end
