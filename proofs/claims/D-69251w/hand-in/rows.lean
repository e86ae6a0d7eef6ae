section
-- ===== PART A: goes FIRST, ahead of the names: the tables' words, and 'selects' of the private methods out of them =====
/-- a private method of a class that the tables say can be made, by its rows of tables_1 -/
def lw_okq (q : MethodName × Nat) : Prop := (q.1.cls ≠ "java/lang/invoke/MethodHandle" ∧ q.1.cls ≠ "java/lang/invoke/VarHandle") ∧ Cond.instantiable q.1.cls q.2 ∈ tables_1 ∧ Cond.privateMethod q.1 ∈ tables_1 ∧ Cond.instanceMethod q.1 ∈ tables_1
set_option maxRecDepth 100000
theorem lw_p0 : lw_okq (⟨"StrideHeap", "isClient", "(I)Z"⟩, 11) := ⟨⟨by decide +kernel, by decide +kernel⟩, List.mem_of_getElem? (i := 4) rfl, List.mem_of_getElem? (i := 51) rfl, List.mem_of_getElem? (i := 52) rfl⟩
theorem lw_p1 : lw_okq (⟨"StrideHeap", "isIn", "(I)Z"⟩, 11) := ⟨⟨by decide +kernel, by decide +kernel⟩, List.mem_of_getElem? (i := 4) rfl, List.mem_of_getElem? (i := 55) rfl, List.mem_of_getElem? (i := 56) rfl⟩
theorem lw_p2 : lw_okq (⟨"StrideHeap", "areTickets", "(I)Z"⟩, 11) := ⟨⟨by decide +kernel, by decide +kernel⟩, List.mem_of_getElem? (i := 4) rfl, List.mem_of_getElem? (i := 59) rfl, List.mem_of_getElem? (i := 60) rfl⟩
theorem lw_p3 : lw_okq (⟨"StrideHeap", "up", "(II)V"⟩, 11) := ⟨⟨by decide +kernel, by decide +kernel⟩, List.mem_of_getElem? (i := 4) rfl, List.mem_of_getElem? (i := 63) rfl, List.mem_of_getElem? (i := 64) rfl⟩
theorem lw_p4 : lw_okq (⟨"StrideHeap", "isBefore", "(II)Z"⟩, 11) := ⟨⟨by decide +kernel, by decide +kernel⟩, List.mem_of_getElem? (i := 4) rfl, List.mem_of_getElem? (i := 67) rfl, List.mem_of_getElem? (i := 68) rfl⟩
theorem lw_p5 : lw_okq (⟨"StrideHeap", "put", "(II)V"⟩, 11) := ⟨⟨by decide +kernel, by decide +kernel⟩, List.mem_of_getElem? (i := 4) rfl, List.mem_of_getElem? (i := 71) rfl, List.mem_of_getElem? (i := 72) rfl⟩
theorem lw_p6 : lw_okq (⟨"StrideHeap", "down", "(II)V"⟩, 11) := ⟨⟨by decide +kernel, by decide +kernel⟩, List.mem_of_getElem? (i := 4) rfl, List.mem_of_getElem? (i := 79) rfl, List.mem_of_getElem? (i := 80) rfl⟩
theorem lw_p7 : lw_okq (⟨"StrideHeapModel", "isClient", "(I)Z"⟩, 8) := ⟨⟨by decide +kernel, by decide +kernel⟩, List.mem_of_getElem? (i := 124) rfl, List.mem_of_getElem? (i := 161) rfl, List.mem_of_getElem? (i := 162) rfl⟩
theorem lw_p8 : lw_okq (⟨"StrideHeapModel", "areTickets", "(I)Z"⟩, 8) := ⟨⟨by decide +kernel, by decide +kernel⟩, List.mem_of_getElem? (i := 124) rfl, List.mem_of_getElem? (i := 165) rfl, List.mem_of_getElem? (i := 166) rfl⟩
theorem lw_p9 : lw_okq (⟨"StrideHeapModel", "first", "()I"⟩, 8) := ⟨⟨by decide +kernel, by decide +kernel⟩, List.mem_of_getElem? (i := 124) rfl, List.mem_of_getElem? (i := 169) rfl, List.mem_of_getElem? (i := 170) rfl⟩
theorem lw_p10 : lw_okq (⟨"StrideHeapModel", "isBefore", "(II)Z"⟩, 8) := ⟨⟨by decide +kernel, by decide +kernel⟩, List.mem_of_getElem? (i := 124) rfl, List.mem_of_getElem? (i := 173) rfl, List.mem_of_getElem? (i := 174) rfl⟩
theorem lw_p11 : lw_okq (⟨"StrideHeapModel", "isIn", "(I)Z"⟩, 8) := ⟨⟨by decide +kernel, by decide +kernel⟩, List.mem_of_getElem? (i := 124) rfl, List.mem_of_getElem? (i := 203) rfl, List.mem_of_getElem? (i := 204) rfl⟩
def lw_privs_1 : List (MethodName × Nat) := [(⟨"StrideHeap", "isClient", "(I)Z"⟩, 11), (⟨"StrideHeap", "isIn", "(I)Z"⟩, 11), (⟨"StrideHeap", "areTickets", "(I)Z"⟩, 11), (⟨"StrideHeap", "up", "(II)V"⟩, 11), (⟨"StrideHeap", "isBefore", "(II)Z"⟩, 11), (⟨"StrideHeap", "put", "(II)V"⟩, 11), (⟨"StrideHeap", "down", "(II)V"⟩, 11), (⟨"StrideHeapModel", "isClient", "(I)Z"⟩, 8), (⟨"StrideHeapModel", "areTickets", "(I)Z"⟩, 8), (⟨"StrideHeapModel", "first", "()I"⟩, 8), (⟨"StrideHeapModel", "isBefore", "(II)Z"⟩, 8), (⟨"StrideHeapModel", "isIn", "(I)Z"⟩, 8)]
theorem lw_r1 : ∀ q ∈ lw_privs_1, lw_okq q := List.forall_mem_cons.mpr ⟨lw_p0, List.forall_mem_cons.mpr ⟨lw_p1, List.forall_mem_cons.mpr ⟨lw_p2, List.forall_mem_cons.mpr ⟨lw_p3, List.forall_mem_cons.mpr ⟨lw_p4, List.forall_mem_cons.mpr ⟨lw_p5, List.forall_mem_cons.mpr ⟨lw_p6, List.forall_mem_cons.mpr ⟨lw_p7, List.forall_mem_cons.mpr ⟨lw_p8, List.forall_mem_cons.mpr ⟨lw_p9, List.forall_mem_cons.mpr ⟨lw_p10, List.forall_mem_cons.mpr ⟨lw_p11, fun _ h => absurd h List.not_mem_nil⟩⟩⟩⟩⟩⟩⟩⟩⟩⟩⟩⟩
def lw_privs : List (MethodName × Nat) := lw_privs_1
def lw_tbl : List Cond := k2_sels lw_privs ++ tables_1
theorem lw_privs_ok : ∀ q ∈ lw_privs, lw_okq q := lw_r1
-- ===== ONE list of words for every method: the tables' words that hold all through a run =====
def lw_all : List Cond := lw_tbl.filter goodWord
/-- a word of the tables by its place: claim/WORDS.tsv -/
theorem lw_w {w : Cond} (i : Nat) (h : lw_tbl[i]? = some w) (g : goodWord w = true) : w ∈ lw_all := List.mem_filter.mpr ⟨List.mem_of_getElem? h, g⟩
theorem lw_all_tbl {w : Cond} (h : w ∈ lw_all) : w ∈ lw_tbl := (List.mem_filter.mp h).1
theorem lw_self : GoodIn lw_all lw_all := fun w h => ⟨h, good_of_word (List.mem_filter.mp h).2⟩
/-- a class's field words, by their places -/
theorem lw_in (ws : List Cond) (ps : List Nat) (hp : ws = ps.filterMap (fun i => lw_tbl[i]?)) (hg : ws.all goodWord = true) : ∀ w ∈ ws, w ∈ lw_all := by
  intro w h
  have h1 := List.all_eq_true.mp hg w h
  rw [hp] at h
  obtain ⟨i, -, hi⟩ := List.mem_filterMap.mp h
  exact lw_w i hi h1
/-- the words of a contract for the method y with code b, L locals, answer r -/
abbrev ws_ (y : MethodName) (b : ByteArray) (L : Nat) (r : Option FieldType) : List Cond := Cond.code y b L r :: lw_all
theorem lw_meth {y : MethodName} {b : ByteArray} {L : Nat} {r : Option FieldType} (h : Cond.code y b L r ∈ lw_all) : GoodIn lw_all (ws_ y b L r) := by
  intro w hw
  rcases List.mem_cons.mp hw with e | e
  · rw [e]
    exact lw_self _ h
  · exact lw_self _ e
theorem lw_app {a c : List Cond} (ha : ∀ w ∈ a, w ∈ lw_all) (hc : GoodIn lw_all c) : GoodIn lw_all (a ++ c) := by
  intro w hw
  rcases List.mem_append.mp hw with e | e
  · exact lw_self w (ha w e)
  · exact hc w e
/-- what a call through an object asks: cwV n hts (lw_V ..) -/
theorem lw_V {own : String} {idx : Nat} {C : String} {y : MethodName} {b : ByteArray} {L : Nat} {r : Option FieldType} (h1 : Cond.methodLink own idx y ∈ lw_all) (h2 : Cond.instanceMethod y ∈ lw_all) (h3 : Cond.selects C y y ∈ lw_all) (h4 : Cond.initialized C ∈ lw_all) (h5 : Cond.code y b L r ∈ lw_all) : GoodIn lw_all (wsV own idx C y (ws_ y b L r)) := by
  refine lw_app ?_ (lw_meth h5)
  intro w hw
  simp only [List.mem_cons, List.not_mem_nil, or_false] at hw
  rcases hw with e | e | e | e
  · rw [e]; exact h1
  · rw [e]; exact h2
  · rw [e]; exact h3
  · rw [e]; exact h4
/-- what a static call asks: va_cwS n hts (lw_S ..) -/
theorem lw_S {own : String} {idx : Nat} {y : MethodName} {b : ByteArray} {L : Nat} {r : Option FieldType} (h1 : Cond.methodLink own idx y ∈ lw_all) (h2 : Cond.static y ∈ lw_all) (h3 : Cond.initialized y.cls ∈ lw_all) (h4 : Cond.code y b L r ∈ lw_all) : GoodIn lw_all (va_wsS own idx y (ws_ y b L r)) := by
  refine lw_app ?_ (lw_meth h4)
  intro w hw
  simp only [List.mem_cons, List.not_mem_nil, or_false] at hw
  rcases hw with e | e | e
  · rw [e]; exact h1
  · rw [e]; exact h2
  · rw [e]; exact h3
/-- the words of a contract for a method WITH HANDLERS (hh: its table) -/
abbrev wsW_ (y : MethodName) (b : ByteArray) (L : Nat) (r : Option FieldType) (hh : List (Nat × Nat × Nat × Nat)) : List Cond := Cond.codeWith y b L r hh :: lw_all
theorem lw_methW {y : MethodName} {b : ByteArray} {L : Nat} {r : Option FieldType} {hh : List (Nat × Nat × Nat × Nat)} (h : Cond.codeWith y b L r hh ∈ lw_all) : GoodIn lw_all (wsW_ y b L r hh) := by
  intro w hw
  rcases List.mem_cons.mp hw with e | e
  · rw [e]
    exact lw_self _ h
  · exact lw_self _ e
/-- any list of words by their places (lw_in), good -/
theorem lw_good {ws : List Cond} (h : ∀ w ∈ ws, w ∈ lw_all) : GoodIn lw_all ws := fun w hw => lw_self w (h w hw)
/-- what a call of a method with handlers asks: vx_cwVW n hts (lw_VW ..), vx_cwSW n hts (lw_SW ..) -/
theorem lw_VW {own : String} {idx : Nat} {C : String} {y : MethodName} {b : ByteArray} {L : Nat} {r : Option FieldType} {hh : List (Nat × Nat × Nat × Nat)} (h1 : Cond.methodLink own idx y ∈ lw_all) (h2 : Cond.instanceMethod y ∈ lw_all) (h3 : Cond.selects C y y ∈ lw_all) (h4 : Cond.initialized C ∈ lw_all) (h5 : Cond.codeWith y b L r hh ∈ lw_all) : GoodIn lw_all (wsV own idx C y (wsW_ y b L r hh)) := by
  refine lw_app ?_ (lw_methW h5)
  intro w hw
  simp only [List.mem_cons, List.not_mem_nil, or_false] at hw
  rcases hw with e | e | e | e
  · rw [e]; exact h1
  · rw [e]; exact h2
  · rw [e]; exact h3
  · rw [e]; exact h4
theorem lw_SW {own : String} {idx : Nat} {y : MethodName} {b : ByteArray} {L : Nat} {r : Option FieldType} {hh : List (Nat × Nat × Nat × Nat)} (h1 : Cond.methodLink own idx y ∈ lw_all) (h2 : Cond.static y ∈ lw_all) (h3 : Cond.initialized y.cls ∈ lw_all) (h4 : Cond.codeWith y b L r hh ∈ lw_all) : GoodIn lw_all (va_wsS own idx y (wsW_ y b L r hh)) := by
  refine lw_app ?_ (lw_methW h4)
  intro w hw
  simp only [List.mem_cons, List.not_mem_nil, or_false] at hw
  rcases hw with e | e | e
  · rw [e]; exact h1
  · rw [e]; exact h2
  · rw [e]; exact h3
/-- a word by its place in its run of the tables -/
theorem lw_at {r : List Cond} (hr : ∀ w ∈ r, w ∈ lw_tbl) {w : Cond} (i : Nat) (h : r[i]? = some w) : w ∈ lw_tbl := hr w (List.mem_of_getElem? h)
theorem lw_g {w : Cond} (h : w ∈ lw_tbl) (g : goodWord w = true) : w ∈ lw_all := List.mem_filter.mpr ⟨h, g⟩
theorem lw_ms : ∀ w ∈ k2_sels lw_privs, w ∈ lw_tbl := fun w h => show w ∈ k2_sels lw_privs ++ tables_1 from List.mem_append_left _ h
theorem lw_m0 : ∀ w ∈ tables_1, w ∈ lw_tbl := fun w h => show w ∈ k2_sels lw_privs ++ tables_1 from List.mem_append_right (k2_sels lw_privs) h
theorem qs0 : (Cond.selects "StrideHeap" ⟨"StrideHeap", "isClient", "(I)Z"⟩ ⟨"StrideHeap", "isClient", "(I)Z"⟩) ∈ lw_all := lw_g (lw_at lw_ms 0 rfl) rfl
theorem qs1 : (Cond.selects "StrideHeap" ⟨"StrideHeap", "isIn", "(I)Z"⟩ ⟨"StrideHeap", "isIn", "(I)Z"⟩) ∈ lw_all := lw_g (lw_at lw_ms 1 rfl) rfl
theorem qs2 : (Cond.selects "StrideHeap" ⟨"StrideHeap", "areTickets", "(I)Z"⟩ ⟨"StrideHeap", "areTickets", "(I)Z"⟩) ∈ lw_all := lw_g (lw_at lw_ms 2 rfl) rfl
theorem qs3 : (Cond.selects "StrideHeap" ⟨"StrideHeap", "up", "(II)V"⟩ ⟨"StrideHeap", "up", "(II)V"⟩) ∈ lw_all := lw_g (lw_at lw_ms 3 rfl) rfl
theorem qs4 : (Cond.selects "StrideHeap" ⟨"StrideHeap", "isBefore", "(II)Z"⟩ ⟨"StrideHeap", "isBefore", "(II)Z"⟩) ∈ lw_all := lw_g (lw_at lw_ms 4 rfl) rfl
theorem qs5 : (Cond.selects "StrideHeap" ⟨"StrideHeap", "put", "(II)V"⟩ ⟨"StrideHeap", "put", "(II)V"⟩) ∈ lw_all := lw_g (lw_at lw_ms 5 rfl) rfl
theorem qs6 : (Cond.selects "StrideHeap" ⟨"StrideHeap", "down", "(II)V"⟩ ⟨"StrideHeap", "down", "(II)V"⟩) ∈ lw_all := lw_g (lw_at lw_ms 6 rfl) rfl
theorem qs7 : (Cond.selects "StrideHeapModel" ⟨"StrideHeapModel", "isClient", "(I)Z"⟩ ⟨"StrideHeapModel", "isClient", "(I)Z"⟩) ∈ lw_all := lw_g (lw_at lw_ms 7 rfl) rfl
theorem qs8 : (Cond.selects "StrideHeapModel" ⟨"StrideHeapModel", "areTickets", "(I)Z"⟩ ⟨"StrideHeapModel", "areTickets", "(I)Z"⟩) ∈ lw_all := lw_g (lw_at lw_ms 8 rfl) rfl
theorem qs9 : (Cond.selects "StrideHeapModel" ⟨"StrideHeapModel", "first", "()I"⟩ ⟨"StrideHeapModel", "first", "()I"⟩) ∈ lw_all := lw_g (lw_at lw_ms 9 rfl) rfl
theorem qs10 : (Cond.selects "StrideHeapModel" ⟨"StrideHeapModel", "isBefore", "(II)Z"⟩ ⟨"StrideHeapModel", "isBefore", "(II)Z"⟩) ∈ lw_all := lw_g (lw_at lw_ms 10 rfl) rfl
theorem qs11 : (Cond.selects "StrideHeapModel" ⟨"StrideHeapModel", "isIn", "(I)Z"⟩ ⟨"StrideHeapModel", "isIn", "(I)Z"⟩) ∈ lw_all := lw_g (lw_at lw_ms 11 rfl) rfl
end
section
/-! StrideHeap -/
set_option maxRecDepth 100000
def RX1 : String := "StrideHeap"
def TX1 : u_T := fun k => match k with
  | 0 => ("StrideHeap", "tickets", "[I", true)
  | 1 => ("StrideHeap", "stride", "[I", true)
  | 2 => ("StrideHeap", "pass", "[I", true)
  | 3 => ("StrideHeap", "ran", "[I", true)
  | 4 => ("StrideHeap", "heap", "[I", true)
  | 5 => ("StrideHeap", "pos", "[I", true)
  | 6 => ("StrideHeap", "spare", "[I", true)
  | 7 => ("StrideHeap", "cap", "I", true)
  | 8 => ("StrideHeap", "big", "I", true)
  | 9 => ("StrideHeap", "n", "I", false)
  | _ => ("StrideHeap", "globalPass", "I", false)
def tyX1 : Nat → FieldType := fun k => match k with
  | 0 => .array .int
  | 1 => .array .int
  | 2 => .array .int
  | 3 => .array .int
  | 4 => .array .int
  | 5 => .array .int
  | 6 => .array .int
  | 7 => .int
  | 8 => .int
  | 9 => .int
  | _ => .int
abbrev wsX10 : List Cond := u_ws RX1 TX1 11
theorem nmX1 : ∀ a, a < 11 → ∀ b, b < 11 → a ≠ b → (TX1 a).2.1 ≠ (TX1 b).2.1 := by decide +kernel
theorem tyX1_ok : ∀ k, k < 11 → parseFieldDescriptor (TX1 k).2.2.1 = some (tyX1 k) := by decide +kernel
abbrev cX1_init : ByteArray := prog_1_method_1_code
def yX1_init : MethodName := ⟨RX1, "<init>", "(II)V"⟩
theorem dX1_init_0 : decode cX1_init 0 = .ok (.aload_n 0, 1) := by decide +kernel
theorem dX1_init_1 : decode cX1_init 1 = .ok (.invokespecial 1, 3) := by decide +kernel
theorem dX1_init_4 : decode cX1_init 4 = .ok (.aload_n 0, 1) := by decide +kernel
theorem dX1_init_5 : decode cX1_init 5 = .ok (.bipush 64, 2) := by decide +kernel
theorem dX1_init_7 : decode cX1_init 7 = .ok (.newarray .int, 2) := by decide +kernel
theorem dX1_init_9 : decode cX1_init 9 = .ok (.putfield 7, 3) := by decide +kernel
theorem dX1_init_12 : decode cX1_init 12 = .ok (.aload_n 0, 1) := by decide +kernel
theorem dX1_init_13 : decode cX1_init 13 = .ok (.bipush 64, 2) := by decide +kernel
theorem dX1_init_15 : decode cX1_init 15 = .ok (.newarray .int, 2) := by decide +kernel
theorem dX1_init_17 : decode cX1_init 17 = .ok (.putfield 13, 3) := by decide +kernel
theorem dX1_init_20 : decode cX1_init 20 = .ok (.aload_n 0, 1) := by decide +kernel
theorem dX1_init_21 : decode cX1_init 21 = .ok (.bipush 64, 2) := by decide +kernel
theorem dX1_init_23 : decode cX1_init 23 = .ok (.newarray .int, 2) := by decide +kernel
theorem dX1_init_25 : decode cX1_init 25 = .ok (.putfield 16, 3) := by decide +kernel
theorem dX1_init_28 : decode cX1_init 28 = .ok (.aload_n 0, 1) := by decide +kernel
theorem dX1_init_29 : decode cX1_init 29 = .ok (.bipush 64, 2) := by decide +kernel
theorem dX1_init_31 : decode cX1_init 31 = .ok (.newarray .int, 2) := by decide +kernel
theorem dX1_init_33 : decode cX1_init 33 = .ok (.putfield 19, 3) := by decide +kernel
theorem dX1_init_36 : decode cX1_init 36 = .ok (.aload_n 0, 1) := by decide +kernel
theorem dX1_init_37 : decode cX1_init 37 = .ok (.bipush 64, 2) := by decide +kernel
theorem dX1_init_39 : decode cX1_init 39 = .ok (.newarray .int, 2) := by decide +kernel
theorem dX1_init_41 : decode cX1_init 41 = .ok (.putfield 22, 3) := by decide +kernel
theorem dX1_init_44 : decode cX1_init 44 = .ok (.aload_n 0, 1) := by decide +kernel
theorem dX1_init_45 : decode cX1_init 45 = .ok (.bipush 64, 2) := by decide +kernel
theorem dX1_init_47 : decode cX1_init 47 = .ok (.newarray .int, 2) := by decide +kernel
theorem dX1_init_49 : decode cX1_init 49 = .ok (.putfield 25, 3) := by decide +kernel
theorem dX1_init_52 : decode cX1_init 52 = .ok (.aload_n 0, 1) := by decide +kernel
theorem dX1_init_53 : decode cX1_init 53 = .ok (.bipush 64, 2) := by decide +kernel
theorem dX1_init_55 : decode cX1_init 55 = .ok (.newarray .int, 2) := by decide +kernel
theorem dX1_init_57 : decode cX1_init 57 = .ok (.putfield 28, 3) := by decide +kernel
theorem dX1_init_60 : decode cX1_init 60 = .ok (.iload_n 1, 1) := by decide +kernel
theorem dX1_init_61 : decode cX1_init 61 = .ok (.bipush 64, 2) := by decide +kernel
theorem dX1_init_63 : decode cX1_init 63 = .ok (.irem, 1) := by decide +kernel
theorem dX1_init_64 : decode cX1_init 64 = .ok (.istore_n 3, 1) := by decide +kernel
theorem dX1_init_65 : decode cX1_init 65 = .ok (.iload_n 2, 1) := by decide +kernel
theorem dX1_init_66 : decode cX1_init 66 = .ok (.sipush 32767, 3) := by decide +kernel
theorem dX1_init_69 : decode cX1_init 69 = .ok (.irem, 1) := by decide +kernel
theorem dX1_init_70 : decode cX1_init 70 = .ok (.istore 4, 2) := by decide +kernel
theorem dX1_init_72 : decode cX1_init 72 = .ok (.aload_n 0, 1) := by decide +kernel
theorem dX1_init_73 : decode cX1_init 73 = .ok (.iconst 1, 1) := by decide +kernel
theorem dX1_init_74 : decode cX1_init 74 = .ok (.iload_n 3, 1) := by decide +kernel
theorem dX1_init_75 : decode cX1_init 75 = .ok (.ifCond .ge 10, 3) := by decide +kernel
theorem dX1_init_78 : decode cX1_init 78 = .ok (.iload_n 3, 1) := by decide +kernel
theorem dX1_init_79 : decode cX1_init 79 = .ok (.bipush 64, 2) := by decide +kernel
theorem dX1_init_81 : decode cX1_init 81 = .ok (.iadd, 1) := by decide +kernel
theorem dX1_init_82 : decode cX1_init 82 = .ok (.goto 4, 3) := by decide +kernel
theorem dX1_init_85 : decode cX1_init 85 = .ok (.iload_n 3, 1) := by decide +kernel
theorem dX1_init_86 : decode cX1_init 86 = .ok (.iadd, 1) := by decide +kernel
theorem dX1_init_87 : decode cX1_init 87 = .ok (.putfield 31, 3) := by decide +kernel
theorem dX1_init_90 : decode cX1_init 90 = .ok (.aload_n 0, 1) := by decide +kernel
theorem dX1_init_91 : decode cX1_init 91 = .ok (.iconst 2, 1) := by decide +kernel
theorem dX1_init_92 : decode cX1_init 92 = .ok (.iload 4, 2) := by decide +kernel
theorem dX1_init_94 : decode cX1_init 94 = .ok (.ifCond .ge 12, 3) := by decide +kernel
theorem dX1_init_97 : decode cX1_init 97 = .ok (.iload 4, 2) := by decide +kernel
theorem dX1_init_99 : decode cX1_init 99 = .ok (.sipush 32767, 3) := by decide +kernel
theorem dX1_init_102 : decode cX1_init 102 = .ok (.iadd, 1) := by decide +kernel
theorem dX1_init_103 : decode cX1_init 103 = .ok (.goto 5, 3) := by decide +kernel
theorem dX1_init_106 : decode cX1_init 106 = .ok (.iload 4, 2) := by decide +kernel
theorem dX1_init_108 : decode cX1_init 108 = .ok (.iadd, 1) := by decide +kernel
theorem dX1_init_109 : decode cX1_init 109 = .ok (.putfield 35, 3) := by decide +kernel
theorem dX1_init_112 : decode cX1_init 112 = .ok (.return_, 1) := by decide +kernel
abbrev cX1_join : ByteArray := prog_1_method_9_code
def yX1_join : MethodName := ⟨RX1, "join", "(II)I"⟩
theorem dX1_join_0 : decode cX1_join 0 = .ok (.aload_n 0, 1) := by decide +kernel
theorem dX1_join_1 : decode cX1_join 1 = .ok (.iload_n 1, 1) := by decide +kernel
theorem dX1_join_2 : decode cX1_join 2 = .ok (.invokevirtual 49, 3) := by decide +kernel
theorem dX1_join_5 : decode cX1_join 5 = .ok (.ifCond .ne 5, 3) := by decide +kernel
theorem dX1_join_8 : decode cX1_join 8 = .ok (.iconst (-1), 1) := by decide +kernel
theorem dX1_join_9 : decode cX1_join 9 = .ok (.ireturn, 1) := by decide +kernel
theorem dX1_join_10 : decode cX1_join 10 = .ok (.aload_n 0, 1) := by decide +kernel
theorem dX1_join_11 : decode cX1_join 11 = .ok (.iload_n 1, 1) := by decide +kernel
theorem dX1_join_12 : decode cX1_join 12 = .ok (.invokevirtual 53, 3) := by decide +kernel
theorem dX1_join_15 : decode cX1_join 15 = .ok (.ifCond .eq 6, 3) := by decide +kernel
theorem dX1_join_18 : decode cX1_join 18 = .ok (.bipush (-2), 2) := by decide +kernel
theorem dX1_join_20 : decode cX1_join 20 = .ok (.ireturn, 1) := by decide +kernel
theorem dX1_join_21 : decode cX1_join 21 = .ok (.aload_n 0, 1) := by decide +kernel
theorem dX1_join_22 : decode cX1_join 22 = .ok (.iload_n 2, 1) := by decide +kernel
theorem dX1_join_23 : decode cX1_join 23 = .ok (.invokevirtual 56, 3) := by decide +kernel
theorem dX1_join_26 : decode cX1_join 26 = .ok (.ifCond .ne 6, 3) := by decide +kernel
theorem dX1_join_29 : decode cX1_join 29 = .ok (.bipush (-3), 2) := by decide +kernel
theorem dX1_join_31 : decode cX1_join 31 = .ok (.ireturn, 1) := by decide +kernel
theorem dX1_join_32 : decode cX1_join 32 = .ok (.aload_n 0, 1) := by decide +kernel
theorem dX1_join_33 : decode cX1_join 33 = .ok (.getfield 7, 3) := by decide +kernel
theorem dX1_join_36 : decode cX1_join 36 = .ok (.iload_n 1, 1) := by decide +kernel
theorem dX1_join_37 : decode cX1_join 37 = .ok (.iload_n 2, 1) := by decide +kernel
theorem dX1_join_38 : decode cX1_join 38 = .ok (.iastore, 1) := by decide +kernel
theorem dX1_join_39 : decode cX1_join 39 = .ok (.aload_n 0, 1) := by decide +kernel
theorem dX1_join_40 : decode cX1_join 40 = .ok (.getfield 13, 3) := by decide +kernel
theorem dX1_join_43 : decode cX1_join 43 = .ok (.iload_n 1, 1) := by decide +kernel
theorem dX1_join_44 : decode cX1_join 44 = .ok (.aload_n 0, 1) := by decide +kernel
theorem dX1_join_45 : decode cX1_join 45 = .ok (.getfield 35, 3) := by decide +kernel
theorem dX1_join_48 : decode cX1_join 48 = .ok (.iload_n 2, 1) := by decide +kernel
theorem dX1_join_49 : decode cX1_join 49 = .ok (.idiv, 1) := by decide +kernel
theorem dX1_join_50 : decode cX1_join 50 = .ok (.iastore, 1) := by decide +kernel
theorem dX1_join_51 : decode cX1_join 51 = .ok (.aload_n 0, 1) := by decide +kernel
theorem dX1_join_52 : decode cX1_join 52 = .ok (.getfield 16, 3) := by decide +kernel
theorem dX1_join_55 : decode cX1_join 55 = .ok (.iload_n 1, 1) := by decide +kernel
theorem dX1_join_56 : decode cX1_join 56 = .ok (.aload_n 0, 1) := by decide +kernel
theorem dX1_join_57 : decode cX1_join 57 = .ok (.getfield 46, 3) := by decide +kernel
theorem dX1_join_60 : decode cX1_join 60 = .ok (.ifCond .ne 10, 3) := by decide +kernel
theorem dX1_join_63 : decode cX1_join 63 = .ok (.aload_n 0, 1) := by decide +kernel
theorem dX1_join_64 : decode cX1_join 64 = .ok (.getfield 59, 3) := by decide +kernel
theorem dX1_join_67 : decode cX1_join 67 = .ok (.goto 14, 3) := by decide +kernel
theorem dX1_join_70 : decode cX1_join 70 = .ok (.aload_n 0, 1) := by decide +kernel
theorem dX1_join_71 : decode cX1_join 71 = .ok (.getfield 16, 3) := by decide +kernel
theorem dX1_join_74 : decode cX1_join 74 = .ok (.aload_n 0, 1) := by decide +kernel
theorem dX1_join_75 : decode cX1_join 75 = .ok (.getfield 22, 3) := by decide +kernel
theorem dX1_join_78 : decode cX1_join 78 = .ok (.iconst 0, 1) := by decide +kernel
theorem dX1_join_79 : decode cX1_join 79 = .ok (.iaload, 1) := by decide +kernel
theorem dX1_join_80 : decode cX1_join 80 = .ok (.iaload, 1) := by decide +kernel
theorem dX1_join_81 : decode cX1_join 81 = .ok (.iastore, 1) := by decide +kernel
theorem dX1_join_82 : decode cX1_join 82 = .ok (.aload_n 0, 1) := by decide +kernel
theorem dX1_join_83 : decode cX1_join 83 = .ok (.dup, 1) := by decide +kernel
theorem dX1_join_84 : decode cX1_join 84 = .ok (.getfield 46, 3) := by decide +kernel
theorem dX1_join_87 : decode cX1_join 87 = .ok (.iconst 1, 1) := by decide +kernel
theorem dX1_join_88 : decode cX1_join 88 = .ok (.iadd, 1) := by decide +kernel
theorem dX1_join_89 : decode cX1_join 89 = .ok (.putfield 46, 3) := by decide +kernel
theorem dX1_join_92 : decode cX1_join 92 = .ok (.aload_n 0, 1) := by decide +kernel
theorem dX1_join_93 : decode cX1_join 93 = .ok (.aload_n 0, 1) := by decide +kernel
theorem dX1_join_94 : decode cX1_join 94 = .ok (.getfield 46, 3) := by decide +kernel
theorem dX1_join_97 : decode cX1_join 97 = .ok (.iconst 1, 1) := by decide +kernel
theorem dX1_join_98 : decode cX1_join 98 = .ok (.isub, 1) := by decide +kernel
theorem dX1_join_99 : decode cX1_join 99 = .ok (.iload_n 1, 1) := by decide +kernel
theorem dX1_join_100 : decode cX1_join 100 = .ok (.invokevirtual 62, 3) := by decide +kernel
theorem dX1_join_103 : decode cX1_join 103 = .ok (.iconst 1, 1) := by decide +kernel
theorem dX1_join_104 : decode cX1_join 104 = .ok (.ireturn, 1) := by decide +kernel
abbrev cX1_isClient : ByteArray := prog_1_method_6_code
def yX1_isClient : MethodName := ⟨RX1, "isClient", "(I)Z"⟩
theorem dX1_isClient_0 : decode cX1_isClient 0 = .ok (.iload_n 1, 1) := by decide +kernel
theorem dX1_isClient_1 : decode cX1_isClient 1 = .ok (.ifCond .lt 15, 3) := by decide +kernel
theorem dX1_isClient_4 : decode cX1_isClient 4 = .ok (.iload_n 1, 1) := by decide +kernel
theorem dX1_isClient_5 : decode cX1_isClient 5 = .ok (.aload_n 0, 1) := by decide +kernel
theorem dX1_isClient_6 : decode cX1_isClient 6 = .ok (.getfield 31, 3) := by decide +kernel
theorem dX1_isClient_9 : decode cX1_isClient 9 = .ok (.if_icmp .ge 7, 3) := by decide +kernel
theorem dX1_isClient_12 : decode cX1_isClient 12 = .ok (.iconst 1, 1) := by decide +kernel
theorem dX1_isClient_13 : decode cX1_isClient 13 = .ok (.goto 4, 3) := by decide +kernel
theorem dX1_isClient_16 : decode cX1_isClient 16 = .ok (.iconst 0, 1) := by decide +kernel
theorem dX1_isClient_17 : decode cX1_isClient 17 = .ok (.ireturn, 1) := by decide +kernel
abbrev cX1_isIn : ByteArray := prog_1_method_7_code
def yX1_isIn : MethodName := ⟨RX1, "isIn", "(I)Z"⟩
theorem dX1_isIn_0 : decode cX1_isIn 0 = .ok (.aload_n 0, 1) := by decide +kernel
theorem dX1_isIn_1 : decode cX1_isIn 1 = .ok (.getfield 25, 3) := by decide +kernel
theorem dX1_isIn_4 : decode cX1_isIn 4 = .ok (.iload_n 1, 1) := by decide +kernel
theorem dX1_isIn_5 : decode cX1_isIn 5 = .ok (.iaload, 1) := by decide +kernel
theorem dX1_isIn_6 : decode cX1_isIn 6 = .ok (.ifCond .le 7, 3) := by decide +kernel
theorem dX1_isIn_9 : decode cX1_isIn 9 = .ok (.iconst 1, 1) := by decide +kernel
theorem dX1_isIn_10 : decode cX1_isIn 10 = .ok (.goto 4, 3) := by decide +kernel
theorem dX1_isIn_13 : decode cX1_isIn 13 = .ok (.iconst 0, 1) := by decide +kernel
theorem dX1_isIn_14 : decode cX1_isIn 14 = .ok (.ireturn, 1) := by decide +kernel
abbrev cX1_areTickets : ByteArray := prog_1_method_8_code
def yX1_areTickets : MethodName := ⟨RX1, "areTickets", "(I)Z"⟩
theorem dX1_areTickets_0 : decode cX1_areTickets 0 = .ok (.iload_n 1, 1) := by decide +kernel
theorem dX1_areTickets_1 : decode cX1_areTickets 1 = .ok (.ifCond .le 15, 3) := by decide +kernel
theorem dX1_areTickets_4 : decode cX1_areTickets 4 = .ok (.iload_n 1, 1) := by decide +kernel
theorem dX1_areTickets_5 : decode cX1_areTickets 5 = .ok (.aload_n 0, 1) := by decide +kernel
theorem dX1_areTickets_6 : decode cX1_areTickets 6 = .ok (.getfield 35, 3) := by decide +kernel
theorem dX1_areTickets_9 : decode cX1_areTickets 9 = .ok (.if_icmp .ge 7, 3) := by decide +kernel
theorem dX1_areTickets_12 : decode cX1_areTickets 12 = .ok (.iconst 1, 1) := by decide +kernel
theorem dX1_areTickets_13 : decode cX1_areTickets 13 = .ok (.goto 4, 3) := by decide +kernel
theorem dX1_areTickets_16 : decode cX1_areTickets 16 = .ok (.iconst 0, 1) := by decide +kernel
theorem dX1_areTickets_17 : decode cX1_areTickets 17 = .ok (.ireturn, 1) := by decide +kernel
abbrev cX1_up : ByteArray := prog_1_method_4_code
def yX1_up : MethodName := ⟨RX1, "up", "(II)V"⟩
theorem dX1_up_0 : decode cX1_up 0 = .ok (.iload_n 1, 1) := by decide +kernel
theorem dX1_up_1 : decode cX1_up 1 = .ok (.istore_n 3, 1) := by decide +kernel
theorem dX1_up_2 : decode cX1_up 2 = .ok (.iload_n 3, 1) := by decide +kernel
theorem dX1_up_3 : decode cX1_up 3 = .ok (.ifCond .le 45, 3) := by decide +kernel
theorem dX1_up_6 : decode cX1_up 6 = .ok (.aload_n 0, 1) := by decide +kernel
theorem dX1_up_7 : decode cX1_up 7 = .ok (.iload_n 2, 1) := by decide +kernel
theorem dX1_up_8 : decode cX1_up 8 = .ok (.aload_n 0, 1) := by decide +kernel
theorem dX1_up_9 : decode cX1_up 9 = .ok (.getfield 22, 3) := by decide +kernel
theorem dX1_up_12 : decode cX1_up 12 = .ok (.iload_n 3, 1) := by decide +kernel
theorem dX1_up_13 : decode cX1_up 13 = .ok (.iconst 1, 1) := by decide +kernel
theorem dX1_up_14 : decode cX1_up 14 = .ok (.isub, 1) := by decide +kernel
theorem dX1_up_15 : decode cX1_up 15 = .ok (.iconst 1, 1) := by decide +kernel
theorem dX1_up_16 : decode cX1_up 16 = .ok (.ishr, 1) := by decide +kernel
theorem dX1_up_17 : decode cX1_up 17 = .ok (.iaload, 1) := by decide +kernel
theorem dX1_up_18 : decode cX1_up 18 = .ok (.invokevirtual 38, 3) := by decide +kernel
theorem dX1_up_21 : decode cX1_up 21 = .ok (.ifCond .eq 27, 3) := by decide +kernel
theorem dX1_up_24 : decode cX1_up 24 = .ok (.aload_n 0, 1) := by decide +kernel
theorem dX1_up_25 : decode cX1_up 25 = .ok (.iload_n 3, 1) := by decide +kernel
theorem dX1_up_26 : decode cX1_up 26 = .ok (.aload_n 0, 1) := by decide +kernel
theorem dX1_up_27 : decode cX1_up 27 = .ok (.getfield 22, 3) := by decide +kernel
theorem dX1_up_30 : decode cX1_up 30 = .ok (.iload_n 3, 1) := by decide +kernel
theorem dX1_up_31 : decode cX1_up 31 = .ok (.iconst 1, 1) := by decide +kernel
theorem dX1_up_32 : decode cX1_up 32 = .ok (.isub, 1) := by decide +kernel
theorem dX1_up_33 : decode cX1_up 33 = .ok (.iconst 1, 1) := by decide +kernel
theorem dX1_up_34 : decode cX1_up 34 = .ok (.ishr, 1) := by decide +kernel
theorem dX1_up_35 : decode cX1_up 35 = .ok (.iaload, 1) := by decide +kernel
theorem dX1_up_36 : decode cX1_up 36 = .ok (.invokevirtual 42, 3) := by decide +kernel
theorem dX1_up_39 : decode cX1_up 39 = .ok (.iload_n 3, 1) := by decide +kernel
theorem dX1_up_40 : decode cX1_up 40 = .ok (.iconst 1, 1) := by decide +kernel
theorem dX1_up_41 : decode cX1_up 41 = .ok (.isub, 1) := by decide +kernel
theorem dX1_up_42 : decode cX1_up 42 = .ok (.iconst 1, 1) := by decide +kernel
theorem dX1_up_43 : decode cX1_up 43 = .ok (.ishr, 1) := by decide +kernel
theorem dX1_up_44 : decode cX1_up 44 = .ok (.istore_n 3, 1) := by decide +kernel
theorem dX1_up_45 : decode cX1_up 45 = .ok (.goto (-43), 3) := by decide +kernel
theorem dX1_up_48 : decode cX1_up 48 = .ok (.aload_n 0, 1) := by decide +kernel
theorem dX1_up_49 : decode cX1_up 49 = .ok (.iload_n 3, 1) := by decide +kernel
theorem dX1_up_50 : decode cX1_up 50 = .ok (.iload_n 2, 1) := by decide +kernel
theorem dX1_up_51 : decode cX1_up 51 = .ok (.invokevirtual 42, 3) := by decide +kernel
theorem dX1_up_54 : decode cX1_up 54 = .ok (.return_, 1) := by decide +kernel
abbrev cX1_isBefore : ByteArray := prog_1_method_2_code
def yX1_isBefore : MethodName := ⟨RX1, "isBefore", "(II)Z"⟩
theorem dX1_isBefore_0 : decode cX1_isBefore 0 = .ok (.aload_n 0, 1) := by decide +kernel
theorem dX1_isBefore_1 : decode cX1_isBefore 1 = .ok (.getfield 16, 3) := by decide +kernel
theorem dX1_isBefore_4 : decode cX1_isBefore 4 = .ok (.iload_n 1, 1) := by decide +kernel
theorem dX1_isBefore_5 : decode cX1_isBefore 5 = .ok (.iaload, 1) := by decide +kernel
theorem dX1_isBefore_6 : decode cX1_isBefore 6 = .ok (.aload_n 0, 1) := by decide +kernel
theorem dX1_isBefore_7 : decode cX1_isBefore 7 = .ok (.getfield 16, 3) := by decide +kernel
theorem dX1_isBefore_10 : decode cX1_isBefore 10 = .ok (.iload_n 2, 1) := by decide +kernel
theorem dX1_isBefore_11 : decode cX1_isBefore 11 = .ok (.iaload, 1) := by decide +kernel
theorem dX1_isBefore_12 : decode cX1_isBefore 12 = .ok (.if_icmp .lt 23, 3) := by decide +kernel
theorem dX1_isBefore_15 : decode cX1_isBefore 15 = .ok (.aload_n 0, 1) := by decide +kernel
theorem dX1_isBefore_16 : decode cX1_isBefore 16 = .ok (.getfield 16, 3) := by decide +kernel
theorem dX1_isBefore_19 : decode cX1_isBefore 19 = .ok (.iload_n 1, 1) := by decide +kernel
theorem dX1_isBefore_20 : decode cX1_isBefore 20 = .ok (.iaload, 1) := by decide +kernel
theorem dX1_isBefore_21 : decode cX1_isBefore 21 = .ok (.aload_n 0, 1) := by decide +kernel
theorem dX1_isBefore_22 : decode cX1_isBefore 22 = .ok (.getfield 16, 3) := by decide +kernel
theorem dX1_isBefore_25 : decode cX1_isBefore 25 = .ok (.iload_n 2, 1) := by decide +kernel
theorem dX1_isBefore_26 : decode cX1_isBefore 26 = .ok (.iaload, 1) := by decide +kernel
theorem dX1_isBefore_27 : decode cX1_isBefore 27 = .ok (.if_icmp .ne 12, 3) := by decide +kernel
theorem dX1_isBefore_30 : decode cX1_isBefore 30 = .ok (.iload_n 1, 1) := by decide +kernel
theorem dX1_isBefore_31 : decode cX1_isBefore 31 = .ok (.iload_n 2, 1) := by decide +kernel
theorem dX1_isBefore_32 : decode cX1_isBefore 32 = .ok (.if_icmp .ge 7, 3) := by decide +kernel
theorem dX1_isBefore_35 : decode cX1_isBefore 35 = .ok (.iconst 1, 1) := by decide +kernel
theorem dX1_isBefore_36 : decode cX1_isBefore 36 = .ok (.goto 4, 3) := by decide +kernel
theorem dX1_isBefore_39 : decode cX1_isBefore 39 = .ok (.iconst 0, 1) := by decide +kernel
theorem dX1_isBefore_40 : decode cX1_isBefore 40 = .ok (.ireturn, 1) := by decide +kernel
abbrev cX1_put : ByteArray := prog_1_method_3_code
def yX1_put : MethodName := ⟨RX1, "put", "(II)V"⟩
theorem dX1_put_0 : decode cX1_put 0 = .ok (.aload_n 0, 1) := by decide +kernel
theorem dX1_put_1 : decode cX1_put 1 = .ok (.getfield 22, 3) := by decide +kernel
theorem dX1_put_4 : decode cX1_put 4 = .ok (.iload_n 1, 1) := by decide +kernel
theorem dX1_put_5 : decode cX1_put 5 = .ok (.iload_n 2, 1) := by decide +kernel
theorem dX1_put_6 : decode cX1_put 6 = .ok (.iastore, 1) := by decide +kernel
theorem dX1_put_7 : decode cX1_put 7 = .ok (.aload_n 0, 1) := by decide +kernel
theorem dX1_put_8 : decode cX1_put 8 = .ok (.getfield 25, 3) := by decide +kernel
theorem dX1_put_11 : decode cX1_put 11 = .ok (.iload_n 2, 1) := by decide +kernel
theorem dX1_put_12 : decode cX1_put 12 = .ok (.iload_n 1, 1) := by decide +kernel
theorem dX1_put_13 : decode cX1_put 13 = .ok (.iconst 1, 1) := by decide +kernel
theorem dX1_put_14 : decode cX1_put 14 = .ok (.iadd, 1) := by decide +kernel
theorem dX1_put_15 : decode cX1_put 15 = .ok (.iastore, 1) := by decide +kernel
theorem dX1_put_16 : decode cX1_put 16 = .ok (.return_, 1) := by decide +kernel
abbrev cX1_leave : ByteArray := prog_1_method_10_code
def yX1_leave : MethodName := ⟨RX1, "leave", "(I)I"⟩
theorem dX1_leave_0 : decode cX1_leave 0 = .ok (.aload_n 0, 1) := by decide +kernel
theorem dX1_leave_1 : decode cX1_leave 1 = .ok (.iload_n 1, 1) := by decide +kernel
theorem dX1_leave_2 : decode cX1_leave 2 = .ok (.invokevirtual 49, 3) := by decide +kernel
theorem dX1_leave_5 : decode cX1_leave 5 = .ok (.ifCond .ne 5, 3) := by decide +kernel
theorem dX1_leave_8 : decode cX1_leave 8 = .ok (.iconst (-1), 1) := by decide +kernel
theorem dX1_leave_9 : decode cX1_leave 9 = .ok (.ireturn, 1) := by decide +kernel
theorem dX1_leave_10 : decode cX1_leave 10 = .ok (.aload_n 0, 1) := by decide +kernel
theorem dX1_leave_11 : decode cX1_leave 11 = .ok (.iload_n 1, 1) := by decide +kernel
theorem dX1_leave_12 : decode cX1_leave 12 = .ok (.invokevirtual 53, 3) := by decide +kernel
theorem dX1_leave_15 : decode cX1_leave 15 = .ok (.ifCond .ne 6, 3) := by decide +kernel
theorem dX1_leave_18 : decode cX1_leave 18 = .ok (.bipush (-2), 2) := by decide +kernel
theorem dX1_leave_20 : decode cX1_leave 20 = .ok (.ireturn, 1) := by decide +kernel
theorem dX1_leave_21 : decode cX1_leave 21 = .ok (.aload_n 0, 1) := by decide +kernel
theorem dX1_leave_22 : decode cX1_leave 22 = .ok (.getfield 25, 3) := by decide +kernel
theorem dX1_leave_25 : decode cX1_leave 25 = .ok (.iload_n 1, 1) := by decide +kernel
theorem dX1_leave_26 : decode cX1_leave 26 = .ok (.iaload, 1) := by decide +kernel
theorem dX1_leave_27 : decode cX1_leave 27 = .ok (.iconst 1, 1) := by decide +kernel
theorem dX1_leave_28 : decode cX1_leave 28 = .ok (.isub, 1) := by decide +kernel
theorem dX1_leave_29 : decode cX1_leave 29 = .ok (.istore_n 2, 1) := by decide +kernel
theorem dX1_leave_30 : decode cX1_leave 30 = .ok (.aload_n 0, 1) := by decide +kernel
theorem dX1_leave_31 : decode cX1_leave 31 = .ok (.aload_n 0, 1) := by decide +kernel
theorem dX1_leave_32 : decode cX1_leave 32 = .ok (.getfield 16, 3) := by decide +kernel
theorem dX1_leave_35 : decode cX1_leave 35 = .ok (.iload_n 1, 1) := by decide +kernel
theorem dX1_leave_36 : decode cX1_leave 36 = .ok (.iaload, 1) := by decide +kernel
theorem dX1_leave_37 : decode cX1_leave 37 = .ok (.putfield 59, 3) := by decide +kernel
theorem dX1_leave_40 : decode cX1_leave 40 = .ok (.aload_n 0, 1) := by decide +kernel
theorem dX1_leave_41 : decode cX1_leave 41 = .ok (.getfield 25, 3) := by decide +kernel
theorem dX1_leave_44 : decode cX1_leave 44 = .ok (.iload_n 1, 1) := by decide +kernel
theorem dX1_leave_45 : decode cX1_leave 45 = .ok (.iconst 0, 1) := by decide +kernel
theorem dX1_leave_46 : decode cX1_leave 46 = .ok (.iastore, 1) := by decide +kernel
theorem dX1_leave_47 : decode cX1_leave 47 = .ok (.aload_n 0, 1) := by decide +kernel
theorem dX1_leave_48 : decode cX1_leave 48 = .ok (.dup, 1) := by decide +kernel
theorem dX1_leave_49 : decode cX1_leave 49 = .ok (.getfield 46, 3) := by decide +kernel
theorem dX1_leave_52 : decode cX1_leave 52 = .ok (.iconst 1, 1) := by decide +kernel
theorem dX1_leave_53 : decode cX1_leave 53 = .ok (.isub, 1) := by decide +kernel
theorem dX1_leave_54 : decode cX1_leave 54 = .ok (.putfield 46, 3) := by decide +kernel
theorem dX1_leave_57 : decode cX1_leave 57 = .ok (.aload_n 0, 1) := by decide +kernel
theorem dX1_leave_58 : decode cX1_leave 58 = .ok (.getfield 22, 3) := by decide +kernel
theorem dX1_leave_61 : decode cX1_leave 61 = .ok (.aload_n 0, 1) := by decide +kernel
theorem dX1_leave_62 : decode cX1_leave 62 = .ok (.getfield 46, 3) := by decide +kernel
theorem dX1_leave_65 : decode cX1_leave 65 = .ok (.iaload, 1) := by decide +kernel
theorem dX1_leave_66 : decode cX1_leave 66 = .ok (.istore_n 3, 1) := by decide +kernel
theorem dX1_leave_67 : decode cX1_leave 67 = .ok (.iload_n 2, 1) := by decide +kernel
theorem dX1_leave_68 : decode cX1_leave 68 = .ok (.aload_n 0, 1) := by decide +kernel
theorem dX1_leave_69 : decode cX1_leave 69 = .ok (.getfield 46, 3) := by decide +kernel
theorem dX1_leave_72 : decode cX1_leave 72 = .ok (.if_icmp .ne 5, 3) := by decide +kernel
theorem dX1_leave_75 : decode cX1_leave 75 = .ok (.iconst 1, 1) := by decide +kernel
theorem dX1_leave_76 : decode cX1_leave 76 = .ok (.ireturn, 1) := by decide +kernel
theorem dX1_leave_77 : decode cX1_leave 77 = .ok (.iload_n 2, 1) := by decide +kernel
theorem dX1_leave_78 : decode cX1_leave 78 = .ok (.ifCond .le 30, 3) := by decide +kernel
theorem dX1_leave_81 : decode cX1_leave 81 = .ok (.aload_n 0, 1) := by decide +kernel
theorem dX1_leave_82 : decode cX1_leave 82 = .ok (.iload_n 3, 1) := by decide +kernel
theorem dX1_leave_83 : decode cX1_leave 83 = .ok (.aload_n 0, 1) := by decide +kernel
theorem dX1_leave_84 : decode cX1_leave 84 = .ok (.getfield 22, 3) := by decide +kernel
theorem dX1_leave_87 : decode cX1_leave 87 = .ok (.iload_n 2, 1) := by decide +kernel
theorem dX1_leave_88 : decode cX1_leave 88 = .ok (.iconst 1, 1) := by decide +kernel
theorem dX1_leave_89 : decode cX1_leave 89 = .ok (.isub, 1) := by decide +kernel
theorem dX1_leave_90 : decode cX1_leave 90 = .ok (.iconst 1, 1) := by decide +kernel
theorem dX1_leave_91 : decode cX1_leave 91 = .ok (.ishr, 1) := by decide +kernel
theorem dX1_leave_92 : decode cX1_leave 92 = .ok (.iaload, 1) := by decide +kernel
theorem dX1_leave_93 : decode cX1_leave 93 = .ok (.invokevirtual 38, 3) := by decide +kernel
theorem dX1_leave_96 : decode cX1_leave 96 = .ok (.ifCond .eq 12, 3) := by decide +kernel
theorem dX1_leave_99 : decode cX1_leave 99 = .ok (.aload_n 0, 1) := by decide +kernel
theorem dX1_leave_100 : decode cX1_leave 100 = .ok (.iload_n 2, 1) := by decide +kernel
theorem dX1_leave_101 : decode cX1_leave 101 = .ok (.iload_n 3, 1) := by decide +kernel
theorem dX1_leave_102 : decode cX1_leave 102 = .ok (.invokevirtual 62, 3) := by decide +kernel
theorem dX1_leave_105 : decode cX1_leave 105 = .ok (.goto 9, 3) := by decide +kernel
theorem dX1_leave_108 : decode cX1_leave 108 = .ok (.aload_n 0, 1) := by decide +kernel
theorem dX1_leave_109 : decode cX1_leave 109 = .ok (.iload_n 2, 1) := by decide +kernel
theorem dX1_leave_110 : decode cX1_leave 110 = .ok (.iload_n 3, 1) := by decide +kernel
theorem dX1_leave_111 : decode cX1_leave 111 = .ok (.invokevirtual 65, 3) := by decide +kernel
theorem dX1_leave_114 : decode cX1_leave 114 = .ok (.iconst 1, 1) := by decide +kernel
theorem dX1_leave_115 : decode cX1_leave 115 = .ok (.ireturn, 1) := by decide +kernel
abbrev cX1_down : ByteArray := prog_1_method_5_code
def yX1_down : MethodName := ⟨RX1, "down", "(II)V"⟩
theorem dX1_down_0 : decode cX1_down 0 = .ok (.iload_n 1, 1) := by decide +kernel
theorem dX1_down_1 : decode cX1_down 1 = .ok (.istore_n 3, 1) := by decide +kernel
theorem dX1_down_2 : decode cX1_down 2 = .ok (.iconst 2, 1) := by decide +kernel
theorem dX1_down_3 : decode cX1_down 3 = .ok (.iload_n 3, 1) := by decide +kernel
theorem dX1_down_4 : decode cX1_down 4 = .ok (.imul, 1) := by decide +kernel
theorem dX1_down_5 : decode cX1_down 5 = .ok (.iconst 1, 1) := by decide +kernel
theorem dX1_down_6 : decode cX1_down 6 = .ok (.iadd, 1) := by decide +kernel
theorem dX1_down_7 : decode cX1_down 7 = .ok (.istore 4, 2) := by decide +kernel
theorem dX1_down_9 : decode cX1_down 9 = .ok (.iload 4, 2) := by decide +kernel
theorem dX1_down_11 : decode cX1_down 11 = .ok (.aload_n 0, 1) := by decide +kernel
theorem dX1_down_12 : decode cX1_down 12 = .ok (.getfield 46, 3) := by decide +kernel
theorem dX1_down_15 : decode cX1_down 15 = .ok (.if_icmp .ge 83, 3) := by decide +kernel
theorem dX1_down_18 : decode cX1_down 18 = .ok (.iload 4, 2) := by decide +kernel
theorem dX1_down_20 : decode cX1_down 20 = .ok (.iconst 1, 1) := by decide +kernel
theorem dX1_down_21 : decode cX1_down 21 = .ok (.iadd, 1) := by decide +kernel
theorem dX1_down_22 : decode cX1_down 22 = .ok (.aload_n 0, 1) := by decide +kernel
theorem dX1_down_23 : decode cX1_down 23 = .ok (.getfield 46, 3) := by decide +kernel
theorem dX1_down_26 : decode cX1_down 26 = .ok (.if_icmp .ge 29, 3) := by decide +kernel
theorem dX1_down_29 : decode cX1_down 29 = .ok (.aload_n 0, 1) := by decide +kernel
theorem dX1_down_30 : decode cX1_down 30 = .ok (.aload_n 0, 1) := by decide +kernel
theorem dX1_down_31 : decode cX1_down 31 = .ok (.getfield 22, 3) := by decide +kernel
theorem dX1_down_34 : decode cX1_down 34 = .ok (.iload 4, 2) := by decide +kernel
theorem dX1_down_36 : decode cX1_down 36 = .ok (.iconst 1, 1) := by decide +kernel
theorem dX1_down_37 : decode cX1_down 37 = .ok (.iadd, 1) := by decide +kernel
theorem dX1_down_38 : decode cX1_down 38 = .ok (.iaload, 1) := by decide +kernel
theorem dX1_down_39 : decode cX1_down 39 = .ok (.aload_n 0, 1) := by decide +kernel
theorem dX1_down_40 : decode cX1_down 40 = .ok (.getfield 22, 3) := by decide +kernel
theorem dX1_down_43 : decode cX1_down 43 = .ok (.iload 4, 2) := by decide +kernel
theorem dX1_down_45 : decode cX1_down 45 = .ok (.iaload, 1) := by decide +kernel
theorem dX1_down_46 : decode cX1_down 46 = .ok (.invokevirtual 38, 3) := by decide +kernel
theorem dX1_down_49 : decode cX1_down 49 = .ok (.ifCond .eq 6, 3) := by decide +kernel
theorem dX1_down_52 : decode cX1_down 52 = .ok (.iinc 4 1, 3) := by decide +kernel
theorem dX1_down_55 : decode cX1_down 55 = .ok (.aload_n 0, 1) := by decide +kernel
theorem dX1_down_56 : decode cX1_down 56 = .ok (.aload_n 0, 1) := by decide +kernel
theorem dX1_down_57 : decode cX1_down 57 = .ok (.getfield 22, 3) := by decide +kernel
theorem dX1_down_60 : decode cX1_down 60 = .ok (.iload 4, 2) := by decide +kernel
theorem dX1_down_62 : decode cX1_down 62 = .ok (.iaload, 1) := by decide +kernel
theorem dX1_down_63 : decode cX1_down 63 = .ok (.iload_n 2, 1) := by decide +kernel
theorem dX1_down_64 : decode cX1_down 64 = .ok (.invokevirtual 38, 3) := by decide +kernel
theorem dX1_down_67 : decode cX1_down 67 = .ok (.ifCond .ne 6, 3) := by decide +kernel
theorem dX1_down_70 : decode cX1_down 70 = .ok (.goto 28, 3) := by decide +kernel
theorem dX1_down_73 : decode cX1_down 73 = .ok (.aload_n 0, 1) := by decide +kernel
theorem dX1_down_74 : decode cX1_down 74 = .ok (.iload_n 3, 1) := by decide +kernel
theorem dX1_down_75 : decode cX1_down 75 = .ok (.aload_n 0, 1) := by decide +kernel
theorem dX1_down_76 : decode cX1_down 76 = .ok (.getfield 22, 3) := by decide +kernel
theorem dX1_down_79 : decode cX1_down 79 = .ok (.iload 4, 2) := by decide +kernel
theorem dX1_down_81 : decode cX1_down 81 = .ok (.iaload, 1) := by decide +kernel
theorem dX1_down_82 : decode cX1_down 82 = .ok (.invokevirtual 42, 3) := by decide +kernel
theorem dX1_down_85 : decode cX1_down 85 = .ok (.iload 4, 2) := by decide +kernel
theorem dX1_down_87 : decode cX1_down 87 = .ok (.istore_n 3, 1) := by decide +kernel
theorem dX1_down_88 : decode cX1_down 88 = .ok (.iconst 2, 1) := by decide +kernel
theorem dX1_down_89 : decode cX1_down 89 = .ok (.iload_n 3, 1) := by decide +kernel
theorem dX1_down_90 : decode cX1_down 90 = .ok (.imul, 1) := by decide +kernel
theorem dX1_down_91 : decode cX1_down 91 = .ok (.iconst 1, 1) := by decide +kernel
theorem dX1_down_92 : decode cX1_down 92 = .ok (.iadd, 1) := by decide +kernel
theorem dX1_down_93 : decode cX1_down 93 = .ok (.istore 4, 2) := by decide +kernel
theorem dX1_down_95 : decode cX1_down 95 = .ok (.goto (-86), 3) := by decide +kernel
theorem dX1_down_98 : decode cX1_down 98 = .ok (.aload_n 0, 1) := by decide +kernel
theorem dX1_down_99 : decode cX1_down 99 = .ok (.iload_n 3, 1) := by decide +kernel
theorem dX1_down_100 : decode cX1_down 100 = .ok (.iload_n 2, 1) := by decide +kernel
theorem dX1_down_101 : decode cX1_down 101 = .ok (.invokevirtual 42, 3) := by decide +kernel
theorem dX1_down_104 : decode cX1_down 104 = .ok (.return_, 1) := by decide +kernel
abbrev cX1_next : ByteArray := prog_1_method_11_code
def yX1_next : MethodName := ⟨RX1, "next", "()I"⟩
theorem dX1_next_0 : decode cX1_next 0 = .ok (.aload_n 0, 1) := by decide +kernel
theorem dX1_next_1 : decode cX1_next 1 = .ok (.getfield 46, 3) := by decide +kernel
theorem dX1_next_4 : decode cX1_next 4 = .ok (.ifCond .ne 5, 3) := by decide +kernel
theorem dX1_next_7 : decode cX1_next 7 = .ok (.iconst (-1), 1) := by decide +kernel
theorem dX1_next_8 : decode cX1_next 8 = .ok (.ireturn, 1) := by decide +kernel
theorem dX1_next_9 : decode cX1_next 9 = .ok (.aload_n 0, 1) := by decide +kernel
theorem dX1_next_10 : decode cX1_next 10 = .ok (.getfield 22, 3) := by decide +kernel
theorem dX1_next_13 : decode cX1_next 13 = .ok (.iconst 0, 1) := by decide +kernel
theorem dX1_next_14 : decode cX1_next 14 = .ok (.iaload, 1) := by decide +kernel
theorem dX1_next_15 : decode cX1_next 15 = .ok (.istore_n 1, 1) := by decide +kernel
theorem dX1_next_16 : decode cX1_next 16 = .ok (.aload_n 0, 1) := by decide +kernel
theorem dX1_next_17 : decode cX1_next 17 = .ok (.getfield 16, 3) := by decide +kernel
theorem dX1_next_20 : decode cX1_next 20 = .ok (.iload_n 1, 1) := by decide +kernel
theorem dX1_next_21 : decode cX1_next 21 = .ok (.iaload, 1) := by decide +kernel
theorem dX1_next_22 : decode cX1_next 22 = .ok (.ldc 68, 2) := by decide +kernel
theorem dX1_next_24 : decode cX1_next 24 = .ok (.aload_n 0, 1) := by decide +kernel
theorem dX1_next_25 : decode cX1_next 25 = .ok (.getfield 13, 3) := by decide +kernel
theorem dX1_next_28 : decode cX1_next 28 = .ok (.iload_n 1, 1) := by decide +kernel
theorem dX1_next_29 : decode cX1_next 29 = .ok (.iaload, 1) := by decide +kernel
theorem dX1_next_30 : decode cX1_next 30 = .ok (.isub, 1) := by decide +kernel
theorem dX1_next_31 : decode cX1_next 31 = .ok (.if_icmp .le 6, 3) := by decide +kernel
theorem dX1_next_34 : decode cX1_next 34 = .ok (.bipush (-2), 2) := by decide +kernel
theorem dX1_next_36 : decode cX1_next 36 = .ok (.ireturn, 1) := by decide +kernel
theorem dX1_next_37 : decode cX1_next 37 = .ok (.aload_n 0, 1) := by decide +kernel
theorem dX1_next_38 : decode cX1_next 38 = .ok (.getfield 16, 3) := by decide +kernel
theorem dX1_next_41 : decode cX1_next 41 = .ok (.iload_n 1, 1) := by decide +kernel
theorem dX1_next_42 : decode cX1_next 42 = .ok (.dup2, 1) := by decide +kernel
theorem dX1_next_43 : decode cX1_next 43 = .ok (.iaload, 1) := by decide +kernel
theorem dX1_next_44 : decode cX1_next 44 = .ok (.aload_n 0, 1) := by decide +kernel
theorem dX1_next_45 : decode cX1_next 45 = .ok (.getfield 13, 3) := by decide +kernel
theorem dX1_next_48 : decode cX1_next 48 = .ok (.iload_n 1, 1) := by decide +kernel
theorem dX1_next_49 : decode cX1_next 49 = .ok (.iaload, 1) := by decide +kernel
theorem dX1_next_50 : decode cX1_next 50 = .ok (.iadd, 1) := by decide +kernel
theorem dX1_next_51 : decode cX1_next 51 = .ok (.iastore, 1) := by decide +kernel
theorem dX1_next_52 : decode cX1_next 52 = .ok (.aload_n 0, 1) := by decide +kernel
theorem dX1_next_53 : decode cX1_next 53 = .ok (.getfield 19, 3) := by decide +kernel
theorem dX1_next_56 : decode cX1_next 56 = .ok (.iload_n 1, 1) := by decide +kernel
theorem dX1_next_57 : decode cX1_next 57 = .ok (.dup2, 1) := by decide +kernel
theorem dX1_next_58 : decode cX1_next 58 = .ok (.iaload, 1) := by decide +kernel
theorem dX1_next_59 : decode cX1_next 59 = .ok (.iconst 1, 1) := by decide +kernel
theorem dX1_next_60 : decode cX1_next 60 = .ok (.iadd, 1) := by decide +kernel
theorem dX1_next_61 : decode cX1_next 61 = .ok (.iastore, 1) := by decide +kernel
theorem dX1_next_62 : decode cX1_next 62 = .ok (.aload_n 0, 1) := by decide +kernel
theorem dX1_next_63 : decode cX1_next 63 = .ok (.iconst 0, 1) := by decide +kernel
theorem dX1_next_64 : decode cX1_next 64 = .ok (.iload_n 1, 1) := by decide +kernel
theorem dX1_next_65 : decode cX1_next 65 = .ok (.invokevirtual 65, 3) := by decide +kernel
theorem dX1_next_68 : decode cX1_next 68 = .ok (.iload_n 1, 1) := by decide +kernel
theorem dX1_next_69 : decode cX1_next 69 = .ok (.ireturn, 1) := by decide +kernel
abbrev cX1_turns : ByteArray := prog_1_method_12_code
def yX1_turns : MethodName := ⟨RX1, "turns", "(I)I"⟩
theorem dX1_turns_0 : decode cX1_turns 0 = .ok (.iload_n 1, 1) := by decide +kernel
theorem dX1_turns_1 : decode cX1_turns 1 = .ok (.iconst 1, 1) := by decide +kernel
theorem dX1_turns_2 : decode cX1_turns 2 = .ok (.if_icmp .lt 10, 3) := by decide +kernel
theorem dX1_turns_5 : decode cX1_turns 5 = .ok (.iload_n 1, 1) := by decide +kernel
theorem dX1_turns_6 : decode cX1_turns 6 = .ok (.sipush 1000, 3) := by decide +kernel
theorem dX1_turns_9 : decode cX1_turns 9 = .ok (.if_icmp .le 5, 3) := by decide +kernel
theorem dX1_turns_12 : decode cX1_turns 12 = .ok (.iconst (-1), 1) := by decide +kernel
theorem dX1_turns_13 : decode cX1_turns 13 = .ok (.ireturn, 1) := by decide +kernel
theorem dX1_turns_14 : decode cX1_turns 14 = .ok (.iconst 0, 1) := by decide +kernel
theorem dX1_turns_15 : decode cX1_turns 15 = .ok (.istore_n 2, 1) := by decide +kernel
theorem dX1_turns_16 : decode cX1_turns 16 = .ok (.iload_n 2, 1) := by decide +kernel
theorem dX1_turns_17 : decode cX1_turns 17 = .ok (.iload_n 1, 1) := by decide +kernel
theorem dX1_turns_18 : decode cX1_turns 18 = .ok (.if_icmp .ge 16, 3) := by decide +kernel
theorem dX1_turns_21 : decode cX1_turns 21 = .ok (.aload_n 0, 1) := by decide +kernel
theorem dX1_turns_22 : decode cX1_turns 22 = .ok (.invokevirtual 69, 3) := by decide +kernel
theorem dX1_turns_25 : decode cX1_turns 25 = .ok (.ifCond .lt 9, 3) := by decide +kernel
theorem dX1_turns_28 : decode cX1_turns 28 = .ok (.iinc 2 1, 3) := by decide +kernel
theorem dX1_turns_31 : decode cX1_turns 31 = .ok (.goto (-15), 3) := by decide +kernel
theorem dX1_turns_34 : decode cX1_turns 34 = .ok (.iload_n 2, 1) := by decide +kernel
theorem dX1_turns_35 : decode cX1_turns 35 = .ok (.ireturn, 1) := by decide +kernel
abbrev cX1_change : ByteArray := prog_1_method_13_code
def yX1_change : MethodName := ⟨RX1, "change", "(II)I"⟩
theorem dX1_change_0 : decode cX1_change 0 = .ok (.aload_n 0, 1) := by decide +kernel
theorem dX1_change_1 : decode cX1_change 1 = .ok (.iload_n 1, 1) := by decide +kernel
theorem dX1_change_2 : decode cX1_change 2 = .ok (.invokevirtual 49, 3) := by decide +kernel
theorem dX1_change_5 : decode cX1_change 5 = .ok (.ifCond .ne 5, 3) := by decide +kernel
theorem dX1_change_8 : decode cX1_change 8 = .ok (.iconst (-1), 1) := by decide +kernel
theorem dX1_change_9 : decode cX1_change 9 = .ok (.ireturn, 1) := by decide +kernel
theorem dX1_change_10 : decode cX1_change 10 = .ok (.aload_n 0, 1) := by decide +kernel
theorem dX1_change_11 : decode cX1_change 11 = .ok (.iload_n 1, 1) := by decide +kernel
theorem dX1_change_12 : decode cX1_change 12 = .ok (.invokevirtual 53, 3) := by decide +kernel
theorem dX1_change_15 : decode cX1_change 15 = .ok (.ifCond .ne 6, 3) := by decide +kernel
theorem dX1_change_18 : decode cX1_change 18 = .ok (.bipush (-2), 2) := by decide +kernel
theorem dX1_change_20 : decode cX1_change 20 = .ok (.ireturn, 1) := by decide +kernel
theorem dX1_change_21 : decode cX1_change 21 = .ok (.aload_n 0, 1) := by decide +kernel
theorem dX1_change_22 : decode cX1_change 22 = .ok (.iload_n 2, 1) := by decide +kernel
theorem dX1_change_23 : decode cX1_change 23 = .ok (.invokevirtual 56, 3) := by decide +kernel
theorem dX1_change_26 : decode cX1_change 26 = .ok (.ifCond .ne 6, 3) := by decide +kernel
theorem dX1_change_29 : decode cX1_change 29 = .ok (.bipush (-3), 2) := by decide +kernel
theorem dX1_change_31 : decode cX1_change 31 = .ok (.ireturn, 1) := by decide +kernel
theorem dX1_change_32 : decode cX1_change 32 = .ok (.aload_n 0, 1) := by decide +kernel
theorem dX1_change_33 : decode cX1_change 33 = .ok (.getfield 7, 3) := by decide +kernel
theorem dX1_change_36 : decode cX1_change 36 = .ok (.iload_n 1, 1) := by decide +kernel
theorem dX1_change_37 : decode cX1_change 37 = .ok (.iaload, 1) := by decide +kernel
theorem dX1_change_38 : decode cX1_change 38 = .ok (.istore_n 3, 1) := by decide +kernel
theorem dX1_change_39 : decode cX1_change 39 = .ok (.aload_n 0, 1) := by decide +kernel
theorem dX1_change_40 : decode cX1_change 40 = .ok (.getfield 7, 3) := by decide +kernel
theorem dX1_change_43 : decode cX1_change 43 = .ok (.iload_n 1, 1) := by decide +kernel
theorem dX1_change_44 : decode cX1_change 44 = .ok (.iload_n 2, 1) := by decide +kernel
theorem dX1_change_45 : decode cX1_change 45 = .ok (.iastore, 1) := by decide +kernel
theorem dX1_change_46 : decode cX1_change 46 = .ok (.aload_n 0, 1) := by decide +kernel
theorem dX1_change_47 : decode cX1_change 47 = .ok (.getfield 13, 3) := by decide +kernel
theorem dX1_change_50 : decode cX1_change 50 = .ok (.iload_n 1, 1) := by decide +kernel
theorem dX1_change_51 : decode cX1_change 51 = .ok (.aload_n 0, 1) := by decide +kernel
theorem dX1_change_52 : decode cX1_change 52 = .ok (.getfield 35, 3) := by decide +kernel
theorem dX1_change_55 : decode cX1_change 55 = .ok (.iload_n 2, 1) := by decide +kernel
theorem dX1_change_56 : decode cX1_change 56 = .ok (.idiv, 1) := by decide +kernel
theorem dX1_change_57 : decode cX1_change 57 = .ok (.iastore, 1) := by decide +kernel
theorem dX1_change_58 : decode cX1_change 58 = .ok (.iload_n 3, 1) := by decide +kernel
theorem dX1_change_59 : decode cX1_change 59 = .ok (.ireturn, 1) := by decide +kernel
abbrev cX1_ranOf : ByteArray := prog_1_method_14_code
def yX1_ranOf : MethodName := ⟨RX1, "ranOf", "(I)I"⟩
theorem dX1_ranOf_0 : decode cX1_ranOf 0 = .ok (.aload_n 0, 1) := by decide +kernel
theorem dX1_ranOf_1 : decode cX1_ranOf 1 = .ok (.iload_n 1, 1) := by decide +kernel
theorem dX1_ranOf_2 : decode cX1_ranOf 2 = .ok (.invokevirtual 49, 3) := by decide +kernel
theorem dX1_ranOf_5 : decode cX1_ranOf 5 = .ok (.ifCond .eq 12, 3) := by decide +kernel
theorem dX1_ranOf_8 : decode cX1_ranOf 8 = .ok (.aload_n 0, 1) := by decide +kernel
theorem dX1_ranOf_9 : decode cX1_ranOf 9 = .ok (.getfield 19, 3) := by decide +kernel
theorem dX1_ranOf_12 : decode cX1_ranOf 12 = .ok (.iload_n 1, 1) := by decide +kernel
theorem dX1_ranOf_13 : decode cX1_ranOf 13 = .ok (.iaload, 1) := by decide +kernel
theorem dX1_ranOf_14 : decode cX1_ranOf 14 = .ok (.goto 4, 3) := by decide +kernel
theorem dX1_ranOf_17 : decode cX1_ranOf 17 = .ok (.iconst (-1), 1) := by decide +kernel
theorem dX1_ranOf_18 : decode cX1_ranOf 18 = .ok (.ireturn, 1) := by decide +kernel
abbrev cX1_passOf : ByteArray := prog_1_method_15_code
def yX1_passOf : MethodName := ⟨RX1, "passOf", "(I)I"⟩
theorem dX1_passOf_0 : decode cX1_passOf 0 = .ok (.aload_n 0, 1) := by decide +kernel
theorem dX1_passOf_1 : decode cX1_passOf 1 = .ok (.iload_n 1, 1) := by decide +kernel
theorem dX1_passOf_2 : decode cX1_passOf 2 = .ok (.invokevirtual 49, 3) := by decide +kernel
theorem dX1_passOf_5 : decode cX1_passOf 5 = .ok (.ifCond .eq 20, 3) := by decide +kernel
theorem dX1_passOf_8 : decode cX1_passOf 8 = .ok (.aload_n 0, 1) := by decide +kernel
theorem dX1_passOf_9 : decode cX1_passOf 9 = .ok (.iload_n 1, 1) := by decide +kernel
theorem dX1_passOf_10 : decode cX1_passOf 10 = .ok (.invokevirtual 53, 3) := by decide +kernel
theorem dX1_passOf_13 : decode cX1_passOf 13 = .ok (.ifCond .eq 12, 3) := by decide +kernel
theorem dX1_passOf_16 : decode cX1_passOf 16 = .ok (.aload_n 0, 1) := by decide +kernel
theorem dX1_passOf_17 : decode cX1_passOf 17 = .ok (.getfield 16, 3) := by decide +kernel
theorem dX1_passOf_20 : decode cX1_passOf 20 = .ok (.iload_n 1, 1) := by decide +kernel
theorem dX1_passOf_21 : decode cX1_passOf 21 = .ok (.iaload, 1) := by decide +kernel
theorem dX1_passOf_22 : decode cX1_passOf 22 = .ok (.goto 4, 3) := by decide +kernel
theorem dX1_passOf_25 : decode cX1_passOf 25 = .ok (.iconst (-1), 1) := by decide +kernel
theorem dX1_passOf_26 : decode cX1_passOf 26 = .ok (.ireturn, 1) := by decide +kernel
abbrev cX1_strideOf : ByteArray := prog_1_method_16_code
def yX1_strideOf : MethodName := ⟨RX1, "strideOf", "(I)I"⟩
theorem dX1_strideOf_0 : decode cX1_strideOf 0 = .ok (.aload_n 0, 1) := by decide +kernel
theorem dX1_strideOf_1 : decode cX1_strideOf 1 = .ok (.iload_n 1, 1) := by decide +kernel
theorem dX1_strideOf_2 : decode cX1_strideOf 2 = .ok (.invokevirtual 49, 3) := by decide +kernel
theorem dX1_strideOf_5 : decode cX1_strideOf 5 = .ok (.ifCond .eq 20, 3) := by decide +kernel
theorem dX1_strideOf_8 : decode cX1_strideOf 8 = .ok (.aload_n 0, 1) := by decide +kernel
theorem dX1_strideOf_9 : decode cX1_strideOf 9 = .ok (.iload_n 1, 1) := by decide +kernel
theorem dX1_strideOf_10 : decode cX1_strideOf 10 = .ok (.invokevirtual 53, 3) := by decide +kernel
theorem dX1_strideOf_13 : decode cX1_strideOf 13 = .ok (.ifCond .eq 12, 3) := by decide +kernel
theorem dX1_strideOf_16 : decode cX1_strideOf 16 = .ok (.aload_n 0, 1) := by decide +kernel
theorem dX1_strideOf_17 : decode cX1_strideOf 17 = .ok (.getfield 13, 3) := by decide +kernel
theorem dX1_strideOf_20 : decode cX1_strideOf 20 = .ok (.iload_n 1, 1) := by decide +kernel
theorem dX1_strideOf_21 : decode cX1_strideOf 21 = .ok (.iaload, 1) := by decide +kernel
theorem dX1_strideOf_22 : decode cX1_strideOf 22 = .ok (.goto 4, 3) := by decide +kernel
theorem dX1_strideOf_25 : decode cX1_strideOf 25 = .ok (.iconst (-1), 1) := by decide +kernel
theorem dX1_strideOf_26 : decode cX1_strideOf 26 = .ok (.ireturn, 1) := by decide +kernel
abbrev cX1_clients : ByteArray := prog_1_method_17_code
def yX1_clients : MethodName := ⟨RX1, "clients", "()I"⟩
theorem dX1_clients_0 : decode cX1_clients 0 = .ok (.aload_n 0, 1) := by decide +kernel
theorem dX1_clients_1 : decode cX1_clients 1 = .ok (.getfield 46, 3) := by decide +kernel
theorem dX1_clients_4 : decode cX1_clients 4 = .ok (.ireturn, 1) := by decide +kernel
abbrev cX1_spread : ByteArray := prog_1_method_18_code
def yX1_spread : MethodName := ⟨RX1, "spread", "()I"⟩
theorem dX1_spread_0 : decode cX1_spread 0 = .ok (.aload_n 0, 1) := by decide +kernel
theorem dX1_spread_1 : decode cX1_spread 1 = .ok (.getfield 46, 3) := by decide +kernel
theorem dX1_spread_4 : decode cX1_spread 4 = .ok (.ifCond .ne 5, 3) := by decide +kernel
theorem dX1_spread_7 : decode cX1_spread 7 = .ok (.iconst (-1), 1) := by decide +kernel
theorem dX1_spread_8 : decode cX1_spread 8 = .ok (.ireturn, 1) := by decide +kernel
theorem dX1_spread_9 : decode cX1_spread 9 = .ok (.aload_n 0, 1) := by decide +kernel
theorem dX1_spread_10 : decode cX1_spread 10 = .ok (.getfield 16, 3) := by decide +kernel
theorem dX1_spread_13 : decode cX1_spread 13 = .ok (.aload_n 0, 1) := by decide +kernel
theorem dX1_spread_14 : decode cX1_spread 14 = .ok (.getfield 22, 3) := by decide +kernel
theorem dX1_spread_17 : decode cX1_spread 17 = .ok (.iconst 0, 1) := by decide +kernel
theorem dX1_spread_18 : decode cX1_spread 18 = .ok (.iaload, 1) := by decide +kernel
theorem dX1_spread_19 : decode cX1_spread 19 = .ok (.iaload, 1) := by decide +kernel
theorem dX1_spread_20 : decode cX1_spread 20 = .ok (.istore_n 1, 1) := by decide +kernel
theorem dX1_spread_21 : decode cX1_spread 21 = .ok (.iconst 1, 1) := by decide +kernel
theorem dX1_spread_22 : decode cX1_spread 22 = .ok (.istore_n 2, 1) := by decide +kernel
theorem dX1_spread_23 : decode cX1_spread 23 = .ok (.iload_n 2, 1) := by decide +kernel
theorem dX1_spread_24 : decode cX1_spread 24 = .ok (.aload_n 0, 1) := by decide +kernel
theorem dX1_spread_25 : decode cX1_spread 25 = .ok (.getfield 46, 3) := by decide +kernel
theorem dX1_spread_28 : decode cX1_spread 28 = .ok (.if_icmp .ge 36, 3) := by decide +kernel
theorem dX1_spread_31 : decode cX1_spread 31 = .ok (.aload_n 0, 1) := by decide +kernel
theorem dX1_spread_32 : decode cX1_spread 32 = .ok (.getfield 16, 3) := by decide +kernel
theorem dX1_spread_35 : decode cX1_spread 35 = .ok (.aload_n 0, 1) := by decide +kernel
theorem dX1_spread_36 : decode cX1_spread 36 = .ok (.getfield 22, 3) := by decide +kernel
theorem dX1_spread_39 : decode cX1_spread 39 = .ok (.iload_n 2, 1) := by decide +kernel
theorem dX1_spread_40 : decode cX1_spread 40 = .ok (.iaload, 1) := by decide +kernel
theorem dX1_spread_41 : decode cX1_spread 41 = .ok (.iaload, 1) := by decide +kernel
theorem dX1_spread_42 : decode cX1_spread 42 = .ok (.iload_n 1, 1) := by decide +kernel
theorem dX1_spread_43 : decode cX1_spread 43 = .ok (.if_icmp .le 15, 3) := by decide +kernel
theorem dX1_spread_46 : decode cX1_spread 46 = .ok (.aload_n 0, 1) := by decide +kernel
theorem dX1_spread_47 : decode cX1_spread 47 = .ok (.getfield 16, 3) := by decide +kernel
theorem dX1_spread_50 : decode cX1_spread 50 = .ok (.aload_n 0, 1) := by decide +kernel
theorem dX1_spread_51 : decode cX1_spread 51 = .ok (.getfield 22, 3) := by decide +kernel
theorem dX1_spread_54 : decode cX1_spread 54 = .ok (.iload_n 2, 1) := by decide +kernel
theorem dX1_spread_55 : decode cX1_spread 55 = .ok (.iaload, 1) := by decide +kernel
theorem dX1_spread_56 : decode cX1_spread 56 = .ok (.iaload, 1) := by decide +kernel
theorem dX1_spread_57 : decode cX1_spread 57 = .ok (.istore_n 1, 1) := by decide +kernel
theorem dX1_spread_58 : decode cX1_spread 58 = .ok (.iinc 2 1, 3) := by decide +kernel
theorem dX1_spread_61 : decode cX1_spread 61 = .ok (.goto (-38), 3) := by decide +kernel
theorem dX1_spread_64 : decode cX1_spread 64 = .ok (.iload_n 1, 1) := by decide +kernel
theorem dX1_spread_65 : decode cX1_spread 65 = .ok (.aload_n 0, 1) := by decide +kernel
theorem dX1_spread_66 : decode cX1_spread 66 = .ok (.getfield 16, 3) := by decide +kernel
theorem dX1_spread_69 : decode cX1_spread 69 = .ok (.aload_n 0, 1) := by decide +kernel
theorem dX1_spread_70 : decode cX1_spread 70 = .ok (.getfield 22, 3) := by decide +kernel
theorem dX1_spread_73 : decode cX1_spread 73 = .ok (.iconst 0, 1) := by decide +kernel
theorem dX1_spread_74 : decode cX1_spread 74 = .ok (.iaload, 1) := by decide +kernel
theorem dX1_spread_75 : decode cX1_spread 75 = .ok (.iaload, 1) := by decide +kernel
theorem dX1_spread_76 : decode cX1_spread 76 = .ok (.isub, 1) := by decide +kernel
theorem dX1_spread_77 : decode cX1_spread 77 = .ok (.ireturn, 1) := by decide +kernel
abbrev cX1_order : ByteArray := prog_1_method_19_code
def yX1_order : MethodName := ⟨RX1, "order", "(I)I"⟩
theorem dX1_order_0 : decode cX1_order 0 = .ok (.iload_n 1, 1) := by decide +kernel
theorem dX1_order_1 : decode cX1_order 1 = .ok (.ifCond .lt 11, 3) := by decide +kernel
theorem dX1_order_4 : decode cX1_order 4 = .ok (.iload_n 1, 1) := by decide +kernel
theorem dX1_order_5 : decode cX1_order 5 = .ok (.aload_n 0, 1) := by decide +kernel
theorem dX1_order_6 : decode cX1_order 6 = .ok (.getfield 46, 3) := by decide +kernel
theorem dX1_order_9 : decode cX1_order 9 = .ok (.if_icmp .lt 5, 3) := by decide +kernel
theorem dX1_order_12 : decode cX1_order 12 = .ok (.iconst (-1), 1) := by decide +kernel
theorem dX1_order_13 : decode cX1_order 13 = .ok (.ireturn, 1) := by decide +kernel
theorem dX1_order_14 : decode cX1_order 14 = .ok (.iconst 0, 1) := by decide +kernel
theorem dX1_order_15 : decode cX1_order 15 = .ok (.istore_n 2, 1) := by decide +kernel
theorem dX1_order_16 : decode cX1_order 16 = .ok (.iload_n 2, 1) := by decide +kernel
theorem dX1_order_17 : decode cX1_order 17 = .ok (.aload_n 0, 1) := by decide +kernel
theorem dX1_order_18 : decode cX1_order 18 = .ok (.getfield 46, 3) := by decide +kernel
theorem dX1_order_21 : decode cX1_order 21 = .ok (.if_icmp .ge 71, 3) := by decide +kernel
theorem dX1_order_24 : decode cX1_order 24 = .ok (.aload_n 0, 1) := by decide +kernel
theorem dX1_order_25 : decode cX1_order 25 = .ok (.getfield 22, 3) := by decide +kernel
theorem dX1_order_28 : decode cX1_order 28 = .ok (.iload_n 2, 1) := by decide +kernel
theorem dX1_order_29 : decode cX1_order 29 = .ok (.iaload, 1) := by decide +kernel
theorem dX1_order_30 : decode cX1_order 30 = .ok (.istore_n 3, 1) := by decide +kernel
theorem dX1_order_31 : decode cX1_order 31 = .ok (.iload_n 2, 1) := by decide +kernel
theorem dX1_order_32 : decode cX1_order 32 = .ok (.istore 4, 2) := by decide +kernel
theorem dX1_order_34 : decode cX1_order 34 = .ok (.iload 4, 2) := by decide +kernel
theorem dX1_order_36 : decode cX1_order 36 = .ok (.ifCond .le 42, 3) := by decide +kernel
theorem dX1_order_39 : decode cX1_order 39 = .ok (.aload_n 0, 1) := by decide +kernel
theorem dX1_order_40 : decode cX1_order 40 = .ok (.iload_n 3, 1) := by decide +kernel
theorem dX1_order_41 : decode cX1_order 41 = .ok (.aload_n 0, 1) := by decide +kernel
theorem dX1_order_42 : decode cX1_order 42 = .ok (.getfield 28, 3) := by decide +kernel
theorem dX1_order_45 : decode cX1_order 45 = .ok (.iload 4, 2) := by decide +kernel
theorem dX1_order_47 : decode cX1_order 47 = .ok (.iconst 1, 1) := by decide +kernel
theorem dX1_order_48 : decode cX1_order 48 = .ok (.isub, 1) := by decide +kernel
theorem dX1_order_49 : decode cX1_order 49 = .ok (.iaload, 1) := by decide +kernel
theorem dX1_order_50 : decode cX1_order 50 = .ok (.invokevirtual 38, 3) := by decide +kernel
theorem dX1_order_53 : decode cX1_order 53 = .ok (.ifCond .eq 25, 3) := by decide +kernel
theorem dX1_order_56 : decode cX1_order 56 = .ok (.aload_n 0, 1) := by decide +kernel
theorem dX1_order_57 : decode cX1_order 57 = .ok (.getfield 28, 3) := by decide +kernel
theorem dX1_order_60 : decode cX1_order 60 = .ok (.iload 4, 2) := by decide +kernel
theorem dX1_order_62 : decode cX1_order 62 = .ok (.aload_n 0, 1) := by decide +kernel
theorem dX1_order_63 : decode cX1_order 63 = .ok (.getfield 28, 3) := by decide +kernel
theorem dX1_order_66 : decode cX1_order 66 = .ok (.iload 4, 2) := by decide +kernel
theorem dX1_order_68 : decode cX1_order 68 = .ok (.iconst 1, 1) := by decide +kernel
theorem dX1_order_69 : decode cX1_order 69 = .ok (.isub, 1) := by decide +kernel
theorem dX1_order_70 : decode cX1_order 70 = .ok (.iaload, 1) := by decide +kernel
theorem dX1_order_71 : decode cX1_order 71 = .ok (.iastore, 1) := by decide +kernel
theorem dX1_order_72 : decode cX1_order 72 = .ok (.iinc 4 (-1), 3) := by decide +kernel
theorem dX1_order_75 : decode cX1_order 75 = .ok (.goto (-41), 3) := by decide +kernel
theorem dX1_order_78 : decode cX1_order 78 = .ok (.aload_n 0, 1) := by decide +kernel
theorem dX1_order_79 : decode cX1_order 79 = .ok (.getfield 28, 3) := by decide +kernel
theorem dX1_order_82 : decode cX1_order 82 = .ok (.iload 4, 2) := by decide +kernel
theorem dX1_order_84 : decode cX1_order 84 = .ok (.iload_n 3, 1) := by decide +kernel
theorem dX1_order_85 : decode cX1_order 85 = .ok (.iastore, 1) := by decide +kernel
theorem dX1_order_86 : decode cX1_order 86 = .ok (.iinc 2 1, 3) := by decide +kernel
theorem dX1_order_89 : decode cX1_order 89 = .ok (.goto (-73), 3) := by decide +kernel
theorem dX1_order_92 : decode cX1_order 92 = .ok (.aload_n 0, 1) := by decide +kernel
theorem dX1_order_93 : decode cX1_order 93 = .ok (.getfield 28, 3) := by decide +kernel
theorem dX1_order_96 : decode cX1_order 96 = .ok (.iload_n 1, 1) := by decide +kernel
theorem dX1_order_97 : decode cX1_order 97 = .ok (.iaload, 1) := by decide +kernel
theorem dX1_order_98 : decode cX1_order 98 = .ok (.ireturn, 1) := by decide +kernel
theorem q13 : (Jvm.Cond.initialized "StrideHeap") ∈ lw_all := lw_g (lw_at lw_m0 1 rfl) rfl
theorem q16 : (Jvm.Cond.instantiable "StrideHeap" (11 : Nat)) ∈ lw_all := lw_g (lw_at lw_m0 4 rfl) rfl
theorem q18 : (Jvm.Cond.instanceMethod ({ cls := "StrideHeap", name := "<init>", desc := "(II)V" } : Jvm.MethodName)) ∈ lw_all := lw_g (lw_at lw_m0 6 rfl) rfl
theorem q19 : (Jvm.Cond.code ({ cls := "StrideHeap", name := "<init>", desc := "(II)V" } : Jvm.MethodName) prog_1_method_1_code (5 : Nat) (Option.none : Option Jvm.ClassFile.FieldType)) ∈ lw_all := lw_g (lw_at lw_m0 7 rfl) rfl
theorem q20 : (Jvm.Cond.methodLink "StrideHeap" (1 : Nat) ({ cls := "java/lang/Object", name := "<init>", desc := "()V" } : Jvm.MethodName)) ∈ lw_all := lw_g (lw_at lw_m0 8 rfl) rfl
theorem q23 : (Jvm.Cond.fieldLink "StrideHeap" (7 : Nat) "StrideHeap" "tickets" "[I") ∈ lw_all := lw_g (lw_at lw_m0 11 rfl) rfl
theorem q24 : (Jvm.Cond.fieldLink "StrideHeap" (13 : Nat) "StrideHeap" "stride" "[I") ∈ lw_all := lw_g (lw_at lw_m0 12 rfl) rfl
theorem q25 : (Jvm.Cond.fieldLink "StrideHeap" (16 : Nat) "StrideHeap" "pass" "[I") ∈ lw_all := lw_g (lw_at lw_m0 13 rfl) rfl
theorem q26 : (Jvm.Cond.fieldLink "StrideHeap" (19 : Nat) "StrideHeap" "ran" "[I") ∈ lw_all := lw_g (lw_at lw_m0 14 rfl) rfl
theorem q27 : (Jvm.Cond.fieldLink "StrideHeap" (22 : Nat) "StrideHeap" "heap" "[I") ∈ lw_all := lw_g (lw_at lw_m0 15 rfl) rfl
theorem q28 : (Jvm.Cond.fieldLink "StrideHeap" (25 : Nat) "StrideHeap" "pos" "[I") ∈ lw_all := lw_g (lw_at lw_m0 16 rfl) rfl
theorem q29 : (Jvm.Cond.fieldLink "StrideHeap" (28 : Nat) "StrideHeap" "spare" "[I") ∈ lw_all := lw_g (lw_at lw_m0 17 rfl) rfl
theorem q30 : (Jvm.Cond.fieldLink "StrideHeap" (31 : Nat) "StrideHeap" "cap" "I") ∈ lw_all := lw_g (lw_at lw_m0 18 rfl) rfl
theorem q31 : (Jvm.Cond.fieldLink "StrideHeap" (35 : Nat) "StrideHeap" "big" "I") ∈ lw_all := lw_g (lw_at lw_m0 19 rfl) rfl
theorem q32 : (Jvm.Cond.fieldLink "StrideHeap" (46 : Nat) "StrideHeap" "n" "I") ∈ lw_all := lw_g (lw_at lw_m0 20 rfl) rfl
theorem q33 : (Jvm.Cond.fieldLink "StrideHeap" (59 : Nat) "StrideHeap" "globalPass" "I") ∈ lw_all := lw_g (lw_at lw_m0 21 rfl) rfl
theorem q34 : (Jvm.Cond.laysFinal "StrideHeap" "StrideHeap" "tickets" "[I") ∈ lw_all := lw_g (lw_at lw_m0 22 rfl) rfl
theorem q35 : (Jvm.Cond.soleField "StrideHeap" "tickets") ∈ lw_all := lw_g (lw_at lw_m0 23 rfl) rfl
theorem q36 : (Jvm.Cond.laysFinal "StrideHeap" "StrideHeap" "stride" "[I") ∈ lw_all := lw_g (lw_at lw_m0 24 rfl) rfl
theorem q37 : (Jvm.Cond.soleField "StrideHeap" "stride") ∈ lw_all := lw_g (lw_at lw_m0 25 rfl) rfl
theorem q38 : (Jvm.Cond.laysFinal "StrideHeap" "StrideHeap" "pass" "[I") ∈ lw_all := lw_g (lw_at lw_m0 26 rfl) rfl
theorem q39 : (Jvm.Cond.soleField "StrideHeap" "pass") ∈ lw_all := lw_g (lw_at lw_m0 27 rfl) rfl
theorem q40 : (Jvm.Cond.laysFinal "StrideHeap" "StrideHeap" "ran" "[I") ∈ lw_all := lw_g (lw_at lw_m0 28 rfl) rfl
theorem q41 : (Jvm.Cond.soleField "StrideHeap" "ran") ∈ lw_all := lw_g (lw_at lw_m0 29 rfl) rfl
theorem q42 : (Jvm.Cond.laysFinal "StrideHeap" "StrideHeap" "heap" "[I") ∈ lw_all := lw_g (lw_at lw_m0 30 rfl) rfl
theorem q43 : (Jvm.Cond.soleField "StrideHeap" "heap") ∈ lw_all := lw_g (lw_at lw_m0 31 rfl) rfl
theorem q44 : (Jvm.Cond.laysFinal "StrideHeap" "StrideHeap" "pos" "[I") ∈ lw_all := lw_g (lw_at lw_m0 32 rfl) rfl
theorem q45 : (Jvm.Cond.soleField "StrideHeap" "pos") ∈ lw_all := lw_g (lw_at lw_m0 33 rfl) rfl
theorem q46 : (Jvm.Cond.laysFinal "StrideHeap" "StrideHeap" "spare" "[I") ∈ lw_all := lw_g (lw_at lw_m0 34 rfl) rfl
theorem q47 : (Jvm.Cond.soleField "StrideHeap" "spare") ∈ lw_all := lw_g (lw_at lw_m0 35 rfl) rfl
theorem q48 : (Jvm.Cond.laysFinal "StrideHeap" "StrideHeap" "cap" "I") ∈ lw_all := lw_g (lw_at lw_m0 36 rfl) rfl
theorem q49 : (Jvm.Cond.soleField "StrideHeap" "cap") ∈ lw_all := lw_g (lw_at lw_m0 37 rfl) rfl
theorem q50 : (Jvm.Cond.laysFinal "StrideHeap" "StrideHeap" "big" "I") ∈ lw_all := lw_g (lw_at lw_m0 38 rfl) rfl
theorem q51 : (Jvm.Cond.soleField "StrideHeap" "big") ∈ lw_all := lw_g (lw_at lw_m0 39 rfl) rfl
theorem q52 : (Jvm.Cond.lays "StrideHeap" "StrideHeap" "n" "I") ∈ lw_all := lw_g (lw_at lw_m0 40 rfl) rfl
theorem q53 : (Jvm.Cond.soleField "StrideHeap" "n") ∈ lw_all := lw_g (lw_at lw_m0 41 rfl) rfl
theorem q54 : (Jvm.Cond.lays "StrideHeap" "StrideHeap" "globalPass" "I") ∈ lw_all := lw_g (lw_at lw_m0 42 rfl) rfl
theorem q55 : (Jvm.Cond.soleField "StrideHeap" "globalPass") ∈ lw_all := lw_g (lw_at lw_m0 43 rfl) rfl
theorem q56 : (Jvm.Cond.superclass "StrideHeap" "java/lang/Object") ∈ lw_all := lw_g (lw_at lw_m0 44 rfl) rfl
theorem q59 : (Jvm.Cond.instanceMethod ({ cls := "StrideHeap", name := "join", desc := "(II)I" } : Jvm.MethodName)) ∈ lw_all := lw_g (lw_at lw_m0 47 rfl) rfl
theorem q60 : (Jvm.Cond.selects "StrideHeap" ({ cls := "StrideHeap", name := "join", desc := "(II)I" } : Jvm.MethodName) ({ cls := "StrideHeap", name := "join", desc := "(II)I" } : Jvm.MethodName)) ∈ lw_all := lw_g (lw_at lw_m0 48 rfl) rfl
theorem q61 : (Jvm.Cond.code ({ cls := "StrideHeap", name := "join", desc := "(II)I" } : Jvm.MethodName) prog_1_method_9_code (3 : Nat) (Option.some Jvm.ClassFile.FieldType.int)) ∈ lw_all := lw_g (lw_at lw_m0 49 rfl) rfl
theorem q62 : (Jvm.Cond.methodLink "StrideHeap" (49 : Nat) ({ cls := "StrideHeap", name := "isClient", desc := "(I)Z" } : Jvm.MethodName)) ∈ lw_all := lw_g (lw_at lw_m0 50 rfl) rfl
theorem q63 : (Jvm.Cond.privateMethod ({ cls := "StrideHeap", name := "isClient", desc := "(I)Z" } : Jvm.MethodName)) ∈ lw_tbl := lw_at lw_m0 51 rfl
theorem q64 : (Jvm.Cond.instanceMethod ({ cls := "StrideHeap", name := "isClient", desc := "(I)Z" } : Jvm.MethodName)) ∈ lw_all := lw_g (lw_at lw_m0 52 rfl) rfl
theorem q65 : (Jvm.Cond.code ({ cls := "StrideHeap", name := "isClient", desc := "(I)Z" } : Jvm.MethodName) prog_1_method_6_code (2 : Nat) (Option.some Jvm.ClassFile.FieldType.boolean)) ∈ lw_all := lw_g (lw_at lw_m0 53 rfl) rfl
theorem q66 : (Jvm.Cond.methodLink "StrideHeap" (53 : Nat) ({ cls := "StrideHeap", name := "isIn", desc := "(I)Z" } : Jvm.MethodName)) ∈ lw_all := lw_g (lw_at lw_m0 54 rfl) rfl
theorem q67 : (Jvm.Cond.privateMethod ({ cls := "StrideHeap", name := "isIn", desc := "(I)Z" } : Jvm.MethodName)) ∈ lw_tbl := lw_at lw_m0 55 rfl
theorem q68 : (Jvm.Cond.instanceMethod ({ cls := "StrideHeap", name := "isIn", desc := "(I)Z" } : Jvm.MethodName)) ∈ lw_all := lw_g (lw_at lw_m0 56 rfl) rfl
theorem q69 : (Jvm.Cond.code ({ cls := "StrideHeap", name := "isIn", desc := "(I)Z" } : Jvm.MethodName) prog_1_method_7_code (2 : Nat) (Option.some Jvm.ClassFile.FieldType.boolean)) ∈ lw_all := lw_g (lw_at lw_m0 57 rfl) rfl
theorem q70 : (Jvm.Cond.methodLink "StrideHeap" (56 : Nat) ({ cls := "StrideHeap", name := "areTickets", desc := "(I)Z" } : Jvm.MethodName)) ∈ lw_all := lw_g (lw_at lw_m0 58 rfl) rfl
theorem q71 : (Jvm.Cond.privateMethod ({ cls := "StrideHeap", name := "areTickets", desc := "(I)Z" } : Jvm.MethodName)) ∈ lw_tbl := lw_at lw_m0 59 rfl
theorem q72 : (Jvm.Cond.instanceMethod ({ cls := "StrideHeap", name := "areTickets", desc := "(I)Z" } : Jvm.MethodName)) ∈ lw_all := lw_g (lw_at lw_m0 60 rfl) rfl
theorem q73 : (Jvm.Cond.code ({ cls := "StrideHeap", name := "areTickets", desc := "(I)Z" } : Jvm.MethodName) prog_1_method_8_code (2 : Nat) (Option.some Jvm.ClassFile.FieldType.boolean)) ∈ lw_all := lw_g (lw_at lw_m0 61 rfl) rfl
theorem q74 : (Jvm.Cond.methodLink "StrideHeap" (62 : Nat) ({ cls := "StrideHeap", name := "up", desc := "(II)V" } : Jvm.MethodName)) ∈ lw_all := lw_g (lw_at lw_m0 62 rfl) rfl
theorem q75 : (Jvm.Cond.privateMethod ({ cls := "StrideHeap", name := "up", desc := "(II)V" } : Jvm.MethodName)) ∈ lw_tbl := lw_at lw_m0 63 rfl
theorem q76 : (Jvm.Cond.instanceMethod ({ cls := "StrideHeap", name := "up", desc := "(II)V" } : Jvm.MethodName)) ∈ lw_all := lw_g (lw_at lw_m0 64 rfl) rfl
theorem q77 : (Jvm.Cond.code ({ cls := "StrideHeap", name := "up", desc := "(II)V" } : Jvm.MethodName) prog_1_method_4_code (4 : Nat) (Option.none : Option Jvm.ClassFile.FieldType)) ∈ lw_all := lw_g (lw_at lw_m0 65 rfl) rfl
theorem q78 : (Jvm.Cond.methodLink "StrideHeap" (38 : Nat) ({ cls := "StrideHeap", name := "isBefore", desc := "(II)Z" } : Jvm.MethodName)) ∈ lw_all := lw_g (lw_at lw_m0 66 rfl) rfl
theorem q79 : (Jvm.Cond.privateMethod ({ cls := "StrideHeap", name := "isBefore", desc := "(II)Z" } : Jvm.MethodName)) ∈ lw_tbl := lw_at lw_m0 67 rfl
theorem q80 : (Jvm.Cond.instanceMethod ({ cls := "StrideHeap", name := "isBefore", desc := "(II)Z" } : Jvm.MethodName)) ∈ lw_all := lw_g (lw_at lw_m0 68 rfl) rfl
theorem q81 : (Jvm.Cond.code ({ cls := "StrideHeap", name := "isBefore", desc := "(II)Z" } : Jvm.MethodName) prog_1_method_2_code (3 : Nat) (Option.some Jvm.ClassFile.FieldType.boolean)) ∈ lw_all := lw_g (lw_at lw_m0 69 rfl) rfl
theorem q82 : (Jvm.Cond.methodLink "StrideHeap" (42 : Nat) ({ cls := "StrideHeap", name := "put", desc := "(II)V" } : Jvm.MethodName)) ∈ lw_all := lw_g (lw_at lw_m0 70 rfl) rfl
theorem q83 : (Jvm.Cond.privateMethod ({ cls := "StrideHeap", name := "put", desc := "(II)V" } : Jvm.MethodName)) ∈ lw_tbl := lw_at lw_m0 71 rfl
theorem q84 : (Jvm.Cond.instanceMethod ({ cls := "StrideHeap", name := "put", desc := "(II)V" } : Jvm.MethodName)) ∈ lw_all := lw_g (lw_at lw_m0 72 rfl) rfl
theorem q85 : (Jvm.Cond.code ({ cls := "StrideHeap", name := "put", desc := "(II)V" } : Jvm.MethodName) prog_1_method_3_code (3 : Nat) (Option.none : Option Jvm.ClassFile.FieldType)) ∈ lw_all := lw_g (lw_at lw_m0 73 rfl) rfl
theorem q87 : (Jvm.Cond.instanceMethod ({ cls := "StrideHeap", name := "leave", desc := "(I)I" } : Jvm.MethodName)) ∈ lw_all := lw_g (lw_at lw_m0 75 rfl) rfl
theorem q88 : (Jvm.Cond.selects "StrideHeap" ({ cls := "StrideHeap", name := "leave", desc := "(I)I" } : Jvm.MethodName) ({ cls := "StrideHeap", name := "leave", desc := "(I)I" } : Jvm.MethodName)) ∈ lw_all := lw_g (lw_at lw_m0 76 rfl) rfl
theorem q89 : (Jvm.Cond.code ({ cls := "StrideHeap", name := "leave", desc := "(I)I" } : Jvm.MethodName) prog_1_method_10_code (4 : Nat) (Option.some Jvm.ClassFile.FieldType.int)) ∈ lw_all := lw_g (lw_at lw_m0 77 rfl) rfl
theorem q90 : (Jvm.Cond.methodLink "StrideHeap" (65 : Nat) ({ cls := "StrideHeap", name := "down", desc := "(II)V" } : Jvm.MethodName)) ∈ lw_all := lw_g (lw_at lw_m0 78 rfl) rfl
theorem q91 : (Jvm.Cond.privateMethod ({ cls := "StrideHeap", name := "down", desc := "(II)V" } : Jvm.MethodName)) ∈ lw_tbl := lw_at lw_m0 79 rfl
theorem q92 : (Jvm.Cond.instanceMethod ({ cls := "StrideHeap", name := "down", desc := "(II)V" } : Jvm.MethodName)) ∈ lw_all := lw_g (lw_at lw_m0 80 rfl) rfl
theorem q93 : (Jvm.Cond.code ({ cls := "StrideHeap", name := "down", desc := "(II)V" } : Jvm.MethodName) prog_1_method_5_code (5 : Nat) (Option.none : Option Jvm.ClassFile.FieldType)) ∈ lw_all := lw_g (lw_at lw_m0 81 rfl) rfl
theorem q95 : (Jvm.Cond.instanceMethod ({ cls := "StrideHeap", name := "next", desc := "()I" } : Jvm.MethodName)) ∈ lw_all := lw_g (lw_at lw_m0 83 rfl) rfl
theorem q96 : (Jvm.Cond.selects "StrideHeap" ({ cls := "StrideHeap", name := "next", desc := "()I" } : Jvm.MethodName) ({ cls := "StrideHeap", name := "next", desc := "()I" } : Jvm.MethodName)) ∈ lw_all := lw_g (lw_at lw_m0 84 rfl) rfl
theorem q97 : (Jvm.Cond.code ({ cls := "StrideHeap", name := "next", desc := "()I" } : Jvm.MethodName) prog_1_method_11_code (2 : Nat) (Option.some Jvm.ClassFile.FieldType.int)) ∈ lw_all := lw_g (lw_at lw_m0 85 rfl) rfl
theorem q98 : (Jvm.Cond.constant "StrideHeap" (68 : Nat) (2147483647 : Int32)) ∈ lw_all := lw_g (lw_at lw_m0 86 rfl) rfl
theorem q100 : (Jvm.Cond.instanceMethod ({ cls := "StrideHeap", name := "turns", desc := "(I)I" } : Jvm.MethodName)) ∈ lw_all := lw_g (lw_at lw_m0 88 rfl) rfl
theorem q101 : (Jvm.Cond.selects "StrideHeap" ({ cls := "StrideHeap", name := "turns", desc := "(I)I" } : Jvm.MethodName) ({ cls := "StrideHeap", name := "turns", desc := "(I)I" } : Jvm.MethodName)) ∈ lw_all := lw_g (lw_at lw_m0 89 rfl) rfl
theorem q102 : (Jvm.Cond.code ({ cls := "StrideHeap", name := "turns", desc := "(I)I" } : Jvm.MethodName) prog_1_method_12_code (3 : Nat) (Option.some Jvm.ClassFile.FieldType.int)) ∈ lw_all := lw_g (lw_at lw_m0 90 rfl) rfl
theorem q103 : (Jvm.Cond.methodLink "StrideHeap" (69 : Nat) ({ cls := "StrideHeap", name := "next", desc := "()I" } : Jvm.MethodName)) ∈ lw_all := lw_g (lw_at lw_m0 91 rfl) rfl
theorem q105 : (Jvm.Cond.instanceMethod ({ cls := "StrideHeap", name := "change", desc := "(II)I" } : Jvm.MethodName)) ∈ lw_all := lw_g (lw_at lw_m0 93 rfl) rfl
theorem q106 : (Jvm.Cond.selects "StrideHeap" ({ cls := "StrideHeap", name := "change", desc := "(II)I" } : Jvm.MethodName) ({ cls := "StrideHeap", name := "change", desc := "(II)I" } : Jvm.MethodName)) ∈ lw_all := lw_g (lw_at lw_m0 94 rfl) rfl
theorem q107 : (Jvm.Cond.code ({ cls := "StrideHeap", name := "change", desc := "(II)I" } : Jvm.MethodName) prog_1_method_13_code (4 : Nat) (Option.some Jvm.ClassFile.FieldType.int)) ∈ lw_all := lw_g (lw_at lw_m0 95 rfl) rfl
theorem q109 : (Jvm.Cond.instanceMethod ({ cls := "StrideHeap", name := "ranOf", desc := "(I)I" } : Jvm.MethodName)) ∈ lw_all := lw_g (lw_at lw_m0 97 rfl) rfl
theorem q110 : (Jvm.Cond.selects "StrideHeap" ({ cls := "StrideHeap", name := "ranOf", desc := "(I)I" } : Jvm.MethodName) ({ cls := "StrideHeap", name := "ranOf", desc := "(I)I" } : Jvm.MethodName)) ∈ lw_all := lw_g (lw_at lw_m0 98 rfl) rfl
theorem q111 : (Jvm.Cond.code ({ cls := "StrideHeap", name := "ranOf", desc := "(I)I" } : Jvm.MethodName) prog_1_method_14_code (2 : Nat) (Option.some Jvm.ClassFile.FieldType.int)) ∈ lw_all := lw_g (lw_at lw_m0 99 rfl) rfl
theorem q113 : (Jvm.Cond.instanceMethod ({ cls := "StrideHeap", name := "passOf", desc := "(I)I" } : Jvm.MethodName)) ∈ lw_all := lw_g (lw_at lw_m0 101 rfl) rfl
theorem q114 : (Jvm.Cond.selects "StrideHeap" ({ cls := "StrideHeap", name := "passOf", desc := "(I)I" } : Jvm.MethodName) ({ cls := "StrideHeap", name := "passOf", desc := "(I)I" } : Jvm.MethodName)) ∈ lw_all := lw_g (lw_at lw_m0 102 rfl) rfl
theorem q115 : (Jvm.Cond.code ({ cls := "StrideHeap", name := "passOf", desc := "(I)I" } : Jvm.MethodName) prog_1_method_15_code (2 : Nat) (Option.some Jvm.ClassFile.FieldType.int)) ∈ lw_all := lw_g (lw_at lw_m0 103 rfl) rfl
theorem q117 : (Jvm.Cond.instanceMethod ({ cls := "StrideHeap", name := "strideOf", desc := "(I)I" } : Jvm.MethodName)) ∈ lw_all := lw_g (lw_at lw_m0 105 rfl) rfl
theorem q118 : (Jvm.Cond.selects "StrideHeap" ({ cls := "StrideHeap", name := "strideOf", desc := "(I)I" } : Jvm.MethodName) ({ cls := "StrideHeap", name := "strideOf", desc := "(I)I" } : Jvm.MethodName)) ∈ lw_all := lw_g (lw_at lw_m0 106 rfl) rfl
theorem q119 : (Jvm.Cond.code ({ cls := "StrideHeap", name := "strideOf", desc := "(I)I" } : Jvm.MethodName) prog_1_method_16_code (2 : Nat) (Option.some Jvm.ClassFile.FieldType.int)) ∈ lw_all := lw_g (lw_at lw_m0 107 rfl) rfl
theorem q121 : (Jvm.Cond.instanceMethod ({ cls := "StrideHeap", name := "clients", desc := "()I" } : Jvm.MethodName)) ∈ lw_all := lw_g (lw_at lw_m0 109 rfl) rfl
theorem q122 : (Jvm.Cond.selects "StrideHeap" ({ cls := "StrideHeap", name := "clients", desc := "()I" } : Jvm.MethodName) ({ cls := "StrideHeap", name := "clients", desc := "()I" } : Jvm.MethodName)) ∈ lw_all := lw_g (lw_at lw_m0 110 rfl) rfl
theorem q123 : (Jvm.Cond.code ({ cls := "StrideHeap", name := "clients", desc := "()I" } : Jvm.MethodName) prog_1_method_17_code (1 : Nat) (Option.some Jvm.ClassFile.FieldType.int)) ∈ lw_all := lw_g (lw_at lw_m0 111 rfl) rfl
theorem q125 : (Jvm.Cond.instanceMethod ({ cls := "StrideHeap", name := "spread", desc := "()I" } : Jvm.MethodName)) ∈ lw_all := lw_g (lw_at lw_m0 113 rfl) rfl
theorem q126 : (Jvm.Cond.selects "StrideHeap" ({ cls := "StrideHeap", name := "spread", desc := "()I" } : Jvm.MethodName) ({ cls := "StrideHeap", name := "spread", desc := "()I" } : Jvm.MethodName)) ∈ lw_all := lw_g (lw_at lw_m0 114 rfl) rfl
theorem q127 : (Jvm.Cond.code ({ cls := "StrideHeap", name := "spread", desc := "()I" } : Jvm.MethodName) prog_1_method_18_code (3 : Nat) (Option.some Jvm.ClassFile.FieldType.int)) ∈ lw_all := lw_g (lw_at lw_m0 115 rfl) rfl
theorem q129 : (Jvm.Cond.instanceMethod ({ cls := "StrideHeap", name := "order", desc := "(I)I" } : Jvm.MethodName)) ∈ lw_all := lw_g (lw_at lw_m0 117 rfl) rfl
theorem q130 : (Jvm.Cond.selects "StrideHeap" ({ cls := "StrideHeap", name := "order", desc := "(I)I" } : Jvm.MethodName) ({ cls := "StrideHeap", name := "order", desc := "(I)I" } : Jvm.MethodName)) ∈ lw_all := lw_g (lw_at lw_m0 118 rfl) rfl
theorem q131 : (Jvm.Cond.code ({ cls := "StrideHeap", name := "order", desc := "(I)I" } : Jvm.MethodName) prog_1_method_19_code (5 : Nat) (Option.some Jvm.ClassFile.FieldType.int)) ∈ lw_all := lw_g (lw_at lw_m0 119 rfl) rfl
theorem in_X1 : ∀ w ∈ wsX10, w ∈ lw_all := lw_in wsX10 [34, 36, 38, 40, 42, 44, 46, 48, 50, 52, 54] (by decide +kernel) (by decide +kernel)
end
section
/-! StrideHeapModel -/
set_option maxRecDepth 100000
def RX2 : String := "StrideHeapModel"
def TX2 : u_T := fun k => match k with
  | 0 => ("StrideHeapModel", "cap", "I", true)
  | 1 => ("StrideHeapModel", "big", "I", true)
  | 2 => ("StrideHeapModel", "in", "[Z", true)
  | 3 => ("StrideHeapModel", "tickets", "[I", true)
  | 4 => ("StrideHeapModel", "pass", "[J", true)
  | 5 => ("StrideHeapModel", "ran", "[I", true)
  | 6 => ("StrideHeapModel", "many", "I", false)
  | _ => ("StrideHeapModel", "latest", "J", false)
def tyX2 : Nat → FieldType := fun k => match k with
  | 0 => .int
  | 1 => .int
  | 2 => .array .boolean
  | 3 => .array .int
  | 4 => .array .long
  | 5 => .array .int
  | 6 => .int
  | _ => .long
abbrev wsX20 : List Cond := u_ws RX2 TX2 8
theorem nmX2 : ∀ a, a < 8 → ∀ b, b < 8 → a ≠ b → (TX2 a).2.1 ≠ (TX2 b).2.1 := by decide +kernel
theorem tyX2_ok : ∀ k, k < 8 → parseFieldDescriptor (TX2 k).2.2.1 = some (tyX2 k) := by decide +kernel
abbrev cX2_init : ByteArray := prog_3_method_1_code
def yX2_init : MethodName := ⟨RX2, "<init>", "(II)V"⟩
theorem dX2_init_0 : decode cX2_init 0 = .ok (.aload_n 0, 1) := by decide +kernel
theorem dX2_init_1 : decode cX2_init 1 = .ok (.invokespecial 1, 3) := by decide +kernel
theorem dX2_init_4 : decode cX2_init 4 = .ok (.aload_n 0, 1) := by decide +kernel
theorem dX2_init_5 : decode cX2_init 5 = .ok (.bipush 64, 2) := by decide +kernel
theorem dX2_init_7 : decode cX2_init 7 = .ok (.newarray .boolean, 2) := by decide +kernel
theorem dX2_init_9 : decode cX2_init 9 = .ok (.putfield 7, 3) := by decide +kernel
theorem dX2_init_12 : decode cX2_init 12 = .ok (.aload_n 0, 1) := by decide +kernel
theorem dX2_init_13 : decode cX2_init 13 = .ok (.bipush 64, 2) := by decide +kernel
theorem dX2_init_15 : decode cX2_init 15 = .ok (.newarray .int, 2) := by decide +kernel
theorem dX2_init_17 : decode cX2_init 17 = .ok (.putfield 13, 3) := by decide +kernel
theorem dX2_init_20 : decode cX2_init 20 = .ok (.aload_n 0, 1) := by decide +kernel
theorem dX2_init_21 : decode cX2_init 21 = .ok (.bipush 64, 2) := by decide +kernel
theorem dX2_init_23 : decode cX2_init 23 = .ok (.newarray .long, 2) := by decide +kernel
theorem dX2_init_25 : decode cX2_init 25 = .ok (.putfield 17, 3) := by decide +kernel
theorem dX2_init_28 : decode cX2_init 28 = .ok (.aload_n 0, 1) := by decide +kernel
theorem dX2_init_29 : decode cX2_init 29 = .ok (.bipush 64, 2) := by decide +kernel
theorem dX2_init_31 : decode cX2_init 31 = .ok (.newarray .int, 2) := by decide +kernel
theorem dX2_init_33 : decode cX2_init 33 = .ok (.putfield 21, 3) := by decide +kernel
theorem dX2_init_36 : decode cX2_init 36 = .ok (.aload_n 0, 1) := by decide +kernel
theorem dX2_init_37 : decode cX2_init 37 = .ok (.iload_n 1, 1) := by decide +kernel
theorem dX2_init_38 : decode cX2_init 38 = .ok (.bipush 63, 2) := by decide +kernel
theorem dX2_init_40 : decode cX2_init 40 = .ok (.iand, 1) := by decide +kernel
theorem dX2_init_41 : decode cX2_init 41 = .ok (.iconst 1, 1) := by decide +kernel
theorem dX2_init_42 : decode cX2_init 42 = .ok (.iadd, 1) := by decide +kernel
theorem dX2_init_43 : decode cX2_init 43 = .ok (.putfield 24, 3) := by decide +kernel
theorem dX2_init_46 : decode cX2_init 46 = .ok (.iload_n 2, 1) := by decide +kernel
theorem dX2_init_47 : decode cX2_init 47 = .ok (.sipush 32767, 3) := by decide +kernel
theorem dX2_init_50 : decode cX2_init 50 = .ok (.irem, 1) := by decide +kernel
theorem dX2_init_51 : decode cX2_init 51 = .ok (.istore_n 3, 1) := by decide +kernel
theorem dX2_init_52 : decode cX2_init 52 = .ok (.aload_n 0, 1) := by decide +kernel
theorem dX2_init_53 : decode cX2_init 53 = .ok (.iload_n 3, 1) := by decide +kernel
theorem dX2_init_54 : decode cX2_init 54 = .ok (.ifCond .ge 11, 3) := by decide +kernel
theorem dX2_init_57 : decode cX2_init 57 = .ok (.iload_n 3, 1) := by decide +kernel
theorem dX2_init_58 : decode cX2_init 58 = .ok (.sipush 32767, 3) := by decide +kernel
theorem dX2_init_61 : decode cX2_init 61 = .ok (.iadd, 1) := by decide +kernel
theorem dX2_init_62 : decode cX2_init 62 = .ok (.goto 4, 3) := by decide +kernel
theorem dX2_init_65 : decode cX2_init 65 = .ok (.iload_n 3, 1) := by decide +kernel
theorem dX2_init_66 : decode cX2_init 66 = .ok (.iconst 2, 1) := by decide +kernel
theorem dX2_init_67 : decode cX2_init 67 = .ok (.iadd, 1) := by decide +kernel
theorem dX2_init_68 : decode cX2_init 68 = .ok (.putfield 28, 3) := by decide +kernel
theorem dX2_init_71 : decode cX2_init 71 = .ok (.return_, 1) := by decide +kernel
abbrev cX2_join : ByteArray := prog_3_method_7_code
def yX2_join : MethodName := ⟨RX2, "join", "(II)I"⟩
theorem dX2_join_0 : decode cX2_join 0 = .ok (.aload_n 0, 1) := by decide +kernel
theorem dX2_join_1 : decode cX2_join 1 = .ok (.iload_n 1, 1) := by decide +kernel
theorem dX2_join_2 : decode cX2_join 2 = .ok (.invokevirtual 31, 3) := by decide +kernel
theorem dX2_join_5 : decode cX2_join 5 = .ok (.ifCond .ne 5, 3) := by decide +kernel
theorem dX2_join_8 : decode cX2_join 8 = .ok (.iconst (-1), 1) := by decide +kernel
theorem dX2_join_9 : decode cX2_join 9 = .ok (.ireturn, 1) := by decide +kernel
theorem dX2_join_10 : decode cX2_join 10 = .ok (.aload_n 0, 1) := by decide +kernel
theorem dX2_join_11 : decode cX2_join 11 = .ok (.getfield 7, 3) := by decide +kernel
theorem dX2_join_14 : decode cX2_join 14 = .ok (.iload_n 1, 1) := by decide +kernel
theorem dX2_join_15 : decode cX2_join 15 = .ok (.baload, 1) := by decide +kernel
theorem dX2_join_16 : decode cX2_join 16 = .ok (.ifCond .eq 6, 3) := by decide +kernel
theorem dX2_join_19 : decode cX2_join 19 = .ok (.bipush (-2), 2) := by decide +kernel
theorem dX2_join_21 : decode cX2_join 21 = .ok (.ireturn, 1) := by decide +kernel
theorem dX2_join_22 : decode cX2_join 22 = .ok (.aload_n 0, 1) := by decide +kernel
theorem dX2_join_23 : decode cX2_join 23 = .ok (.iload_n 2, 1) := by decide +kernel
theorem dX2_join_24 : decode cX2_join 24 = .ok (.invokevirtual 39, 3) := by decide +kernel
theorem dX2_join_27 : decode cX2_join 27 = .ok (.ifCond .ne 6, 3) := by decide +kernel
theorem dX2_join_30 : decode cX2_join 30 = .ok (.bipush (-3), 2) := by decide +kernel
theorem dX2_join_32 : decode cX2_join 32 = .ok (.ireturn, 1) := by decide +kernel
theorem dX2_join_33 : decode cX2_join 33 = .ok (.aload_n 0, 1) := by decide +kernel
theorem dX2_join_34 : decode cX2_join 34 = .ok (.invokevirtual 42, 3) := by decide +kernel
theorem dX2_join_37 : decode cX2_join 37 = .ok (.istore_n 3, 1) := by decide +kernel
theorem dX2_join_38 : decode cX2_join 38 = .ok (.aload_n 0, 1) := by decide +kernel
theorem dX2_join_39 : decode cX2_join 39 = .ok (.getfield 17, 3) := by decide +kernel
theorem dX2_join_42 : decode cX2_join 42 = .ok (.iload_n 1, 1) := by decide +kernel
theorem dX2_join_43 : decode cX2_join 43 = .ok (.iload_n 3, 1) := by decide +kernel
theorem dX2_join_44 : decode cX2_join 44 = .ok (.ifCond .ge 10, 3) := by decide +kernel
theorem dX2_join_47 : decode cX2_join 47 = .ok (.aload_n 0, 1) := by decide +kernel
theorem dX2_join_48 : decode cX2_join 48 = .ok (.getfield 46, 3) := by decide +kernel
theorem dX2_join_51 : decode cX2_join 51 = .ok (.goto 9, 3) := by decide +kernel
theorem dX2_join_54 : decode cX2_join 54 = .ok (.aload_n 0, 1) := by decide +kernel
theorem dX2_join_55 : decode cX2_join 55 = .ok (.getfield 17, 3) := by decide +kernel
theorem dX2_join_58 : decode cX2_join 58 = .ok (.iload_n 3, 1) := by decide +kernel
theorem dX2_join_59 : decode cX2_join 59 = .ok (.laload, 1) := by decide +kernel
theorem dX2_join_60 : decode cX2_join 60 = .ok (.lastore, 1) := by decide +kernel
theorem dX2_join_61 : decode cX2_join 61 = .ok (.aload_n 0, 1) := by decide +kernel
theorem dX2_join_62 : decode cX2_join 62 = .ok (.getfield 7, 3) := by decide +kernel
theorem dX2_join_65 : decode cX2_join 65 = .ok (.iload_n 1, 1) := by decide +kernel
theorem dX2_join_66 : decode cX2_join 66 = .ok (.iconst 1, 1) := by decide +kernel
theorem dX2_join_67 : decode cX2_join 67 = .ok (.bastore, 1) := by decide +kernel
theorem dX2_join_68 : decode cX2_join 68 = .ok (.aload_n 0, 1) := by decide +kernel
theorem dX2_join_69 : decode cX2_join 69 = .ok (.getfield 13, 3) := by decide +kernel
theorem dX2_join_72 : decode cX2_join 72 = .ok (.iload_n 1, 1) := by decide +kernel
theorem dX2_join_73 : decode cX2_join 73 = .ok (.iload_n 2, 1) := by decide +kernel
theorem dX2_join_74 : decode cX2_join 74 = .ok (.iastore, 1) := by decide +kernel
theorem dX2_join_75 : decode cX2_join 75 = .ok (.aload_n 0, 1) := by decide +kernel
theorem dX2_join_76 : decode cX2_join 76 = .ok (.dup, 1) := by decide +kernel
theorem dX2_join_77 : decode cX2_join 77 = .ok (.getfield 50, 3) := by decide +kernel
theorem dX2_join_80 : decode cX2_join 80 = .ok (.iconst 1, 1) := by decide +kernel
theorem dX2_join_81 : decode cX2_join 81 = .ok (.iadd, 1) := by decide +kernel
theorem dX2_join_82 : decode cX2_join 82 = .ok (.putfield 50, 3) := by decide +kernel
theorem dX2_join_85 : decode cX2_join 85 = .ok (.iconst 1, 1) := by decide +kernel
theorem dX2_join_86 : decode cX2_join 86 = .ok (.ireturn, 1) := by decide +kernel
abbrev cX2_isClient : ByteArray := prog_3_method_2_code
def yX2_isClient : MethodName := ⟨RX2, "isClient", "(I)Z"⟩
theorem dX2_isClient_0 : decode cX2_isClient 0 = .ok (.iload_n 1, 1) := by decide +kernel
theorem dX2_isClient_1 : decode cX2_isClient 1 = .ok (.ifCond .lt 15, 3) := by decide +kernel
theorem dX2_isClient_4 : decode cX2_isClient 4 = .ok (.iload_n 1, 1) := by decide +kernel
theorem dX2_isClient_5 : decode cX2_isClient 5 = .ok (.aload_n 0, 1) := by decide +kernel
theorem dX2_isClient_6 : decode cX2_isClient 6 = .ok (.getfield 24, 3) := by decide +kernel
theorem dX2_isClient_9 : decode cX2_isClient 9 = .ok (.if_icmp .ge 7, 3) := by decide +kernel
theorem dX2_isClient_12 : decode cX2_isClient 12 = .ok (.iconst 1, 1) := by decide +kernel
theorem dX2_isClient_13 : decode cX2_isClient 13 = .ok (.goto 4, 3) := by decide +kernel
theorem dX2_isClient_16 : decode cX2_isClient 16 = .ok (.iconst 0, 1) := by decide +kernel
theorem dX2_isClient_17 : decode cX2_isClient 17 = .ok (.ireturn, 1) := by decide +kernel
abbrev cX2_areTickets : ByteArray := prog_3_method_4_code
def yX2_areTickets : MethodName := ⟨RX2, "areTickets", "(I)Z"⟩
theorem dX2_areTickets_0 : decode cX2_areTickets 0 = .ok (.iload_n 1, 1) := by decide +kernel
theorem dX2_areTickets_1 : decode cX2_areTickets 1 = .ok (.ifCond .le 15, 3) := by decide +kernel
theorem dX2_areTickets_4 : decode cX2_areTickets 4 = .ok (.iload_n 1, 1) := by decide +kernel
theorem dX2_areTickets_5 : decode cX2_areTickets 5 = .ok (.aload_n 0, 1) := by decide +kernel
theorem dX2_areTickets_6 : decode cX2_areTickets 6 = .ok (.getfield 28, 3) := by decide +kernel
theorem dX2_areTickets_9 : decode cX2_areTickets 9 = .ok (.if_icmp .ge 7, 3) := by decide +kernel
theorem dX2_areTickets_12 : decode cX2_areTickets 12 = .ok (.iconst 1, 1) := by decide +kernel
theorem dX2_areTickets_13 : decode cX2_areTickets 13 = .ok (.goto 4, 3) := by decide +kernel
theorem dX2_areTickets_16 : decode cX2_areTickets 16 = .ok (.iconst 0, 1) := by decide +kernel
theorem dX2_areTickets_17 : decode cX2_areTickets 17 = .ok (.ireturn, 1) := by decide +kernel
abbrev cX2_first : ByteArray := prog_3_method_6_code
def yX2_first : MethodName := ⟨RX2, "first", "()I"⟩
theorem dX2_first_0 : decode cX2_first 0 = .ok (.iconst (-1), 1) := by decide +kernel
theorem dX2_first_1 : decode cX2_first 1 = .ok (.istore_n 1, 1) := by decide +kernel
theorem dX2_first_2 : decode cX2_first 2 = .ok (.iconst 0, 1) := by decide +kernel
theorem dX2_first_3 : decode cX2_first 3 = .ok (.istore_n 2, 1) := by decide +kernel
theorem dX2_first_4 : decode cX2_first 4 = .ok (.iload_n 2, 1) := by decide +kernel
theorem dX2_first_5 : decode cX2_first 5 = .ok (.aload_n 0, 1) := by decide +kernel
theorem dX2_first_6 : decode cX2_first 6 = .ok (.getfield 24, 3) := by decide +kernel
theorem dX2_first_9 : decode cX2_first 9 = .ok (.if_icmp .ge 33, 3) := by decide +kernel
theorem dX2_first_12 : decode cX2_first 12 = .ok (.aload_n 0, 1) := by decide +kernel
theorem dX2_first_13 : decode cX2_first 13 = .ok (.getfield 7, 3) := by decide +kernel
theorem dX2_first_16 : decode cX2_first 16 = .ok (.iload_n 2, 1) := by decide +kernel
theorem dX2_first_17 : decode cX2_first 17 = .ok (.baload, 1) := by decide +kernel
theorem dX2_first_18 : decode cX2_first 18 = .ok (.ifCond .eq 18, 3) := by decide +kernel
theorem dX2_first_21 : decode cX2_first 21 = .ok (.iload_n 1, 1) := by decide +kernel
theorem dX2_first_22 : decode cX2_first 22 = .ok (.ifCond .lt 12, 3) := by decide +kernel
theorem dX2_first_25 : decode cX2_first 25 = .ok (.aload_n 0, 1) := by decide +kernel
theorem dX2_first_26 : decode cX2_first 26 = .ok (.iload_n 2, 1) := by decide +kernel
theorem dX2_first_27 : decode cX2_first 27 = .ok (.iload_n 1, 1) := by decide +kernel
theorem dX2_first_28 : decode cX2_first 28 = .ok (.invokevirtual 35, 3) := by decide +kernel
theorem dX2_first_31 : decode cX2_first 31 = .ok (.ifCond .eq 5, 3) := by decide +kernel
theorem dX2_first_34 : decode cX2_first 34 = .ok (.iload_n 2, 1) := by decide +kernel
theorem dX2_first_35 : decode cX2_first 35 = .ok (.istore_n 1, 1) := by decide +kernel
theorem dX2_first_36 : decode cX2_first 36 = .ok (.iinc 2 1, 3) := by decide +kernel
theorem dX2_first_39 : decode cX2_first 39 = .ok (.goto (-35), 3) := by decide +kernel
theorem dX2_first_42 : decode cX2_first 42 = .ok (.iload_n 1, 1) := by decide +kernel
theorem dX2_first_43 : decode cX2_first 43 = .ok (.ireturn, 1) := by decide +kernel
abbrev cX2_isBefore : ByteArray := prog_3_method_5_code
def yX2_isBefore : MethodName := ⟨RX2, "isBefore", "(II)Z"⟩
theorem dX2_isBefore_0 : decode cX2_isBefore 0 = .ok (.aload_n 0, 1) := by decide +kernel
theorem dX2_isBefore_1 : decode cX2_isBefore 1 = .ok (.getfield 17, 3) := by decide +kernel
theorem dX2_isBefore_4 : decode cX2_isBefore 4 = .ok (.iload_n 1, 1) := by decide +kernel
theorem dX2_isBefore_5 : decode cX2_isBefore 5 = .ok (.laload, 1) := by decide +kernel
theorem dX2_isBefore_6 : decode cX2_isBefore 6 = .ok (.aload_n 0, 1) := by decide +kernel
theorem dX2_isBefore_7 : decode cX2_isBefore 7 = .ok (.getfield 17, 3) := by decide +kernel
theorem dX2_isBefore_10 : decode cX2_isBefore 10 = .ok (.iload_n 2, 1) := by decide +kernel
theorem dX2_isBefore_11 : decode cX2_isBefore 11 = .ok (.laload, 1) := by decide +kernel
theorem dX2_isBefore_12 : decode cX2_isBefore 12 = .ok (.lcmp, 1) := by decide +kernel
theorem dX2_isBefore_13 : decode cX2_isBefore 13 = .ok (.ifCond .lt 24, 3) := by decide +kernel
theorem dX2_isBefore_16 : decode cX2_isBefore 16 = .ok (.aload_n 0, 1) := by decide +kernel
theorem dX2_isBefore_17 : decode cX2_isBefore 17 = .ok (.getfield 17, 3) := by decide +kernel
theorem dX2_isBefore_20 : decode cX2_isBefore 20 = .ok (.iload_n 1, 1) := by decide +kernel
theorem dX2_isBefore_21 : decode cX2_isBefore 21 = .ok (.laload, 1) := by decide +kernel
theorem dX2_isBefore_22 : decode cX2_isBefore 22 = .ok (.aload_n 0, 1) := by decide +kernel
theorem dX2_isBefore_23 : decode cX2_isBefore 23 = .ok (.getfield 17, 3) := by decide +kernel
theorem dX2_isBefore_26 : decode cX2_isBefore 26 = .ok (.iload_n 2, 1) := by decide +kernel
theorem dX2_isBefore_27 : decode cX2_isBefore 27 = .ok (.laload, 1) := by decide +kernel
theorem dX2_isBefore_28 : decode cX2_isBefore 28 = .ok (.lcmp, 1) := by decide +kernel
theorem dX2_isBefore_29 : decode cX2_isBefore 29 = .ok (.ifCond .ne 12, 3) := by decide +kernel
theorem dX2_isBefore_32 : decode cX2_isBefore 32 = .ok (.iload_n 1, 1) := by decide +kernel
theorem dX2_isBefore_33 : decode cX2_isBefore 33 = .ok (.iload_n 2, 1) := by decide +kernel
theorem dX2_isBefore_34 : decode cX2_isBefore 34 = .ok (.if_icmp .ge 7, 3) := by decide +kernel
theorem dX2_isBefore_37 : decode cX2_isBefore 37 = .ok (.iconst 1, 1) := by decide +kernel
theorem dX2_isBefore_38 : decode cX2_isBefore 38 = .ok (.goto 4, 3) := by decide +kernel
theorem dX2_isBefore_41 : decode cX2_isBefore 41 = .ok (.iconst 0, 1) := by decide +kernel
theorem dX2_isBefore_42 : decode cX2_isBefore 42 = .ok (.ireturn, 1) := by decide +kernel
abbrev cX2_leave : ByteArray := prog_3_method_8_code
def yX2_leave : MethodName := ⟨RX2, "leave", "(I)I"⟩
theorem dX2_leave_0 : decode cX2_leave 0 = .ok (.aload_n 0, 1) := by decide +kernel
theorem dX2_leave_1 : decode cX2_leave 1 = .ok (.iload_n 1, 1) := by decide +kernel
theorem dX2_leave_2 : decode cX2_leave 2 = .ok (.invokevirtual 31, 3) := by decide +kernel
theorem dX2_leave_5 : decode cX2_leave 5 = .ok (.ifCond .ne 5, 3) := by decide +kernel
theorem dX2_leave_8 : decode cX2_leave 8 = .ok (.iconst (-1), 1) := by decide +kernel
theorem dX2_leave_9 : decode cX2_leave 9 = .ok (.ireturn, 1) := by decide +kernel
theorem dX2_leave_10 : decode cX2_leave 10 = .ok (.aload_n 0, 1) := by decide +kernel
theorem dX2_leave_11 : decode cX2_leave 11 = .ok (.getfield 7, 3) := by decide +kernel
theorem dX2_leave_14 : decode cX2_leave 14 = .ok (.iload_n 1, 1) := by decide +kernel
theorem dX2_leave_15 : decode cX2_leave 15 = .ok (.baload, 1) := by decide +kernel
theorem dX2_leave_16 : decode cX2_leave 16 = .ok (.ifCond .ne 6, 3) := by decide +kernel
theorem dX2_leave_19 : decode cX2_leave 19 = .ok (.bipush (-2), 2) := by decide +kernel
theorem dX2_leave_21 : decode cX2_leave 21 = .ok (.ireturn, 1) := by decide +kernel
theorem dX2_leave_22 : decode cX2_leave 22 = .ok (.aload_n 0, 1) := by decide +kernel
theorem dX2_leave_23 : decode cX2_leave 23 = .ok (.getfield 7, 3) := by decide +kernel
theorem dX2_leave_26 : decode cX2_leave 26 = .ok (.iload_n 1, 1) := by decide +kernel
theorem dX2_leave_27 : decode cX2_leave 27 = .ok (.iconst 0, 1) := by decide +kernel
theorem dX2_leave_28 : decode cX2_leave 28 = .ok (.bastore, 1) := by decide +kernel
theorem dX2_leave_29 : decode cX2_leave 29 = .ok (.aload_n 0, 1) := by decide +kernel
theorem dX2_leave_30 : decode cX2_leave 30 = .ok (.aload_n 0, 1) := by decide +kernel
theorem dX2_leave_31 : decode cX2_leave 31 = .ok (.getfield 17, 3) := by decide +kernel
theorem dX2_leave_34 : decode cX2_leave 34 = .ok (.iload_n 1, 1) := by decide +kernel
theorem dX2_leave_35 : decode cX2_leave 35 = .ok (.laload, 1) := by decide +kernel
theorem dX2_leave_36 : decode cX2_leave 36 = .ok (.putfield 46, 3) := by decide +kernel
theorem dX2_leave_39 : decode cX2_leave 39 = .ok (.aload_n 0, 1) := by decide +kernel
theorem dX2_leave_40 : decode cX2_leave 40 = .ok (.dup, 1) := by decide +kernel
theorem dX2_leave_41 : decode cX2_leave 41 = .ok (.getfield 50, 3) := by decide +kernel
theorem dX2_leave_44 : decode cX2_leave 44 = .ok (.iconst 1, 1) := by decide +kernel
theorem dX2_leave_45 : decode cX2_leave 45 = .ok (.isub, 1) := by decide +kernel
theorem dX2_leave_46 : decode cX2_leave 46 = .ok (.putfield 50, 3) := by decide +kernel
theorem dX2_leave_49 : decode cX2_leave 49 = .ok (.iconst 1, 1) := by decide +kernel
theorem dX2_leave_50 : decode cX2_leave 50 = .ok (.ireturn, 1) := by decide +kernel
abbrev cX2_next : ByteArray := prog_3_method_9_code
def yX2_next : MethodName := ⟨RX2, "next", "()I"⟩
theorem dX2_next_0 : decode cX2_next 0 = .ok (.aload_n 0, 1) := by decide +kernel
theorem dX2_next_1 : decode cX2_next 1 = .ok (.invokevirtual 42, 3) := by decide +kernel
theorem dX2_next_4 : decode cX2_next 4 = .ok (.istore_n 1, 1) := by decide +kernel
theorem dX2_next_5 : decode cX2_next 5 = .ok (.iload_n 1, 1) := by decide +kernel
theorem dX2_next_6 : decode cX2_next 6 = .ok (.ifCond .ge 5, 3) := by decide +kernel
theorem dX2_next_9 : decode cX2_next 9 = .ok (.iconst (-1), 1) := by decide +kernel
theorem dX2_next_10 : decode cX2_next 10 = .ok (.ireturn, 1) := by decide +kernel
theorem dX2_next_11 : decode cX2_next 11 = .ok (.aload_n 0, 1) := by decide +kernel
theorem dX2_next_12 : decode cX2_next 12 = .ok (.getfield 17, 3) := by decide +kernel
theorem dX2_next_15 : decode cX2_next 15 = .ok (.iload_n 1, 1) := by decide +kernel
theorem dX2_next_16 : decode cX2_next 16 = .ok (.laload, 1) := by decide +kernel
theorem dX2_next_17 : decode cX2_next 17 = .ok (.aload_n 0, 1) := by decide +kernel
theorem dX2_next_18 : decode cX2_next 18 = .ok (.getfield 28, 3) := by decide +kernel
theorem dX2_next_21 : decode cX2_next 21 = .ok (.aload_n 0, 1) := by decide +kernel
theorem dX2_next_22 : decode cX2_next 22 = .ok (.getfield 13, 3) := by decide +kernel
theorem dX2_next_25 : decode cX2_next 25 = .ok (.iload_n 1, 1) := by decide +kernel
theorem dX2_next_26 : decode cX2_next 26 = .ok (.iaload, 1) := by decide +kernel
theorem dX2_next_27 : decode cX2_next 27 = .ok (.idiv, 1) := by decide +kernel
theorem dX2_next_28 : decode cX2_next 28 = .ok (.i2l, 1) := by decide +kernel
theorem dX2_next_29 : decode cX2_next 29 = .ok (.ladd, 1) := by decide +kernel
theorem dX2_next_30 : decode cX2_next 30 = .ok (.lstore_n 2, 1) := by decide +kernel
theorem dX2_next_31 : decode cX2_next 31 = .ok (.lload_n 2, 1) := by decide +kernel
theorem dX2_next_32 : decode cX2_next 32 = .ok (.ldc2_w 53, 3) := by decide +kernel
theorem dX2_next_35 : decode cX2_next 35 = .ok (.lcmp, 1) := by decide +kernel
theorem dX2_next_36 : decode cX2_next 36 = .ok (.ifCond .le 6, 3) := by decide +kernel
theorem dX2_next_39 : decode cX2_next 39 = .ok (.bipush (-2), 2) := by decide +kernel
theorem dX2_next_41 : decode cX2_next 41 = .ok (.ireturn, 1) := by decide +kernel
theorem dX2_next_42 : decode cX2_next 42 = .ok (.aload_n 0, 1) := by decide +kernel
theorem dX2_next_43 : decode cX2_next 43 = .ok (.getfield 17, 3) := by decide +kernel
theorem dX2_next_46 : decode cX2_next 46 = .ok (.iload_n 1, 1) := by decide +kernel
theorem dX2_next_47 : decode cX2_next 47 = .ok (.lload_n 2, 1) := by decide +kernel
theorem dX2_next_48 : decode cX2_next 48 = .ok (.lastore, 1) := by decide +kernel
theorem dX2_next_49 : decode cX2_next 49 = .ok (.aload_n 0, 1) := by decide +kernel
theorem dX2_next_50 : decode cX2_next 50 = .ok (.getfield 21, 3) := by decide +kernel
theorem dX2_next_53 : decode cX2_next 53 = .ok (.iload_n 1, 1) := by decide +kernel
theorem dX2_next_54 : decode cX2_next 54 = .ok (.dup2, 1) := by decide +kernel
theorem dX2_next_55 : decode cX2_next 55 = .ok (.iaload, 1) := by decide +kernel
theorem dX2_next_56 : decode cX2_next 56 = .ok (.iconst 1, 1) := by decide +kernel
theorem dX2_next_57 : decode cX2_next 57 = .ok (.iadd, 1) := by decide +kernel
theorem dX2_next_58 : decode cX2_next 58 = .ok (.iastore, 1) := by decide +kernel
theorem dX2_next_59 : decode cX2_next 59 = .ok (.iload_n 1, 1) := by decide +kernel
theorem dX2_next_60 : decode cX2_next 60 = .ok (.ireturn, 1) := by decide +kernel
abbrev cX2_turns : ByteArray := prog_3_method_10_code
def yX2_turns : MethodName := ⟨RX2, "turns", "(I)I"⟩
theorem dX2_turns_0 : decode cX2_turns 0 = .ok (.iload_n 1, 1) := by decide +kernel
theorem dX2_turns_1 : decode cX2_turns 1 = .ok (.iconst 1, 1) := by decide +kernel
theorem dX2_turns_2 : decode cX2_turns 2 = .ok (.if_icmp .lt 10, 3) := by decide +kernel
theorem dX2_turns_5 : decode cX2_turns 5 = .ok (.iload_n 1, 1) := by decide +kernel
theorem dX2_turns_6 : decode cX2_turns 6 = .ok (.sipush 1000, 3) := by decide +kernel
theorem dX2_turns_9 : decode cX2_turns 9 = .ok (.if_icmp .le 5, 3) := by decide +kernel
theorem dX2_turns_12 : decode cX2_turns 12 = .ok (.iconst (-1), 1) := by decide +kernel
theorem dX2_turns_13 : decode cX2_turns 13 = .ok (.ireturn, 1) := by decide +kernel
theorem dX2_turns_14 : decode cX2_turns 14 = .ok (.iconst 0, 1) := by decide +kernel
theorem dX2_turns_15 : decode cX2_turns 15 = .ok (.istore_n 2, 1) := by decide +kernel
theorem dX2_turns_16 : decode cX2_turns 16 = .ok (.iconst 1, 1) := by decide +kernel
theorem dX2_turns_17 : decode cX2_turns 17 = .ok (.istore_n 3, 1) := by decide +kernel
theorem dX2_turns_18 : decode cX2_turns 18 = .ok (.iload_n 3, 1) := by decide +kernel
theorem dX2_turns_19 : decode cX2_turns 19 = .ok (.ifCond .eq 36, 3) := by decide +kernel
theorem dX2_turns_22 : decode cX2_turns 22 = .ok (.iload_n 2, 1) := by decide +kernel
theorem dX2_turns_23 : decode cX2_turns 23 = .ok (.iload_n 1, 1) := by decide +kernel
theorem dX2_turns_24 : decode cX2_turns 24 = .ok (.if_icmp .ge 31, 3) := by decide +kernel
theorem dX2_turns_27 : decode cX2_turns 27 = .ok (.aload_n 0, 1) := by decide +kernel
theorem dX2_turns_28 : decode cX2_turns 28 = .ok (.invokevirtual 55, 3) := by decide +kernel
theorem dX2_turns_31 : decode cX2_turns 31 = .ok (.ifCond .lt 7, 3) := by decide +kernel
theorem dX2_turns_34 : decode cX2_turns 34 = .ok (.iconst 1, 1) := by decide +kernel
theorem dX2_turns_35 : decode cX2_turns 35 = .ok (.goto 4, 3) := by decide +kernel
theorem dX2_turns_38 : decode cX2_turns 38 = .ok (.iconst 0, 1) := by decide +kernel
theorem dX2_turns_39 : decode cX2_turns 39 = .ok (.istore_n 3, 1) := by decide +kernel
theorem dX2_turns_40 : decode cX2_turns 40 = .ok (.iload_n 3, 1) := by decide +kernel
theorem dX2_turns_41 : decode cX2_turns 41 = .ok (.ifCond .eq 9, 3) := by decide +kernel
theorem dX2_turns_44 : decode cX2_turns 44 = .ok (.iload_n 2, 1) := by decide +kernel
theorem dX2_turns_45 : decode cX2_turns 45 = .ok (.iconst 1, 1) := by decide +kernel
theorem dX2_turns_46 : decode cX2_turns 46 = .ok (.iadd, 1) := by decide +kernel
theorem dX2_turns_47 : decode cX2_turns 47 = .ok (.goto 4, 3) := by decide +kernel
theorem dX2_turns_50 : decode cX2_turns 50 = .ok (.iload_n 2, 1) := by decide +kernel
theorem dX2_turns_51 : decode cX2_turns 51 = .ok (.istore_n 2, 1) := by decide +kernel
theorem dX2_turns_52 : decode cX2_turns 52 = .ok (.goto (-34), 3) := by decide +kernel
theorem dX2_turns_55 : decode cX2_turns 55 = .ok (.iload_n 2, 1) := by decide +kernel
theorem dX2_turns_56 : decode cX2_turns 56 = .ok (.ireturn, 1) := by decide +kernel
abbrev cX2_change : ByteArray := prog_3_method_11_code
def yX2_change : MethodName := ⟨RX2, "change", "(II)I"⟩
theorem dX2_change_0 : decode cX2_change 0 = .ok (.aload_n 0, 1) := by decide +kernel
theorem dX2_change_1 : decode cX2_change 1 = .ok (.iload_n 1, 1) := by decide +kernel
theorem dX2_change_2 : decode cX2_change 2 = .ok (.invokevirtual 31, 3) := by decide +kernel
theorem dX2_change_5 : decode cX2_change 5 = .ok (.ifCond .ne 5, 3) := by decide +kernel
theorem dX2_change_8 : decode cX2_change 8 = .ok (.iconst (-1), 1) := by decide +kernel
theorem dX2_change_9 : decode cX2_change 9 = .ok (.ireturn, 1) := by decide +kernel
theorem dX2_change_10 : decode cX2_change 10 = .ok (.aload_n 0, 1) := by decide +kernel
theorem dX2_change_11 : decode cX2_change 11 = .ok (.getfield 7, 3) := by decide +kernel
theorem dX2_change_14 : decode cX2_change 14 = .ok (.iload_n 1, 1) := by decide +kernel
theorem dX2_change_15 : decode cX2_change 15 = .ok (.baload, 1) := by decide +kernel
theorem dX2_change_16 : decode cX2_change 16 = .ok (.ifCond .ne 6, 3) := by decide +kernel
theorem dX2_change_19 : decode cX2_change 19 = .ok (.bipush (-2), 2) := by decide +kernel
theorem dX2_change_21 : decode cX2_change 21 = .ok (.ireturn, 1) := by decide +kernel
theorem dX2_change_22 : decode cX2_change 22 = .ok (.aload_n 0, 1) := by decide +kernel
theorem dX2_change_23 : decode cX2_change 23 = .ok (.iload_n 2, 1) := by decide +kernel
theorem dX2_change_24 : decode cX2_change 24 = .ok (.invokevirtual 39, 3) := by decide +kernel
theorem dX2_change_27 : decode cX2_change 27 = .ok (.ifCond .ne 6, 3) := by decide +kernel
theorem dX2_change_30 : decode cX2_change 30 = .ok (.bipush (-3), 2) := by decide +kernel
theorem dX2_change_32 : decode cX2_change 32 = .ok (.ireturn, 1) := by decide +kernel
theorem dX2_change_33 : decode cX2_change 33 = .ok (.aload_n 0, 1) := by decide +kernel
theorem dX2_change_34 : decode cX2_change 34 = .ok (.getfield 13, 3) := by decide +kernel
theorem dX2_change_37 : decode cX2_change 37 = .ok (.iload_n 1, 1) := by decide +kernel
theorem dX2_change_38 : decode cX2_change 38 = .ok (.iaload, 1) := by decide +kernel
theorem dX2_change_39 : decode cX2_change 39 = .ok (.istore_n 3, 1) := by decide +kernel
theorem dX2_change_40 : decode cX2_change 40 = .ok (.aload_n 0, 1) := by decide +kernel
theorem dX2_change_41 : decode cX2_change 41 = .ok (.getfield 13, 3) := by decide +kernel
theorem dX2_change_44 : decode cX2_change 44 = .ok (.iload_n 1, 1) := by decide +kernel
theorem dX2_change_45 : decode cX2_change 45 = .ok (.iload_n 2, 1) := by decide +kernel
theorem dX2_change_46 : decode cX2_change 46 = .ok (.iastore, 1) := by decide +kernel
theorem dX2_change_47 : decode cX2_change 47 = .ok (.iload_n 3, 1) := by decide +kernel
theorem dX2_change_48 : decode cX2_change 48 = .ok (.ireturn, 1) := by decide +kernel
abbrev cX2_ranOf : ByteArray := prog_3_method_12_code
def yX2_ranOf : MethodName := ⟨RX2, "ranOf", "(I)I"⟩
theorem dX2_ranOf_0 : decode cX2_ranOf 0 = .ok (.aload_n 0, 1) := by decide +kernel
theorem dX2_ranOf_1 : decode cX2_ranOf 1 = .ok (.iload_n 1, 1) := by decide +kernel
theorem dX2_ranOf_2 : decode cX2_ranOf 2 = .ok (.invokevirtual 31, 3) := by decide +kernel
theorem dX2_ranOf_5 : decode cX2_ranOf 5 = .ok (.ifCond .eq 12, 3) := by decide +kernel
theorem dX2_ranOf_8 : decode cX2_ranOf 8 = .ok (.aload_n 0, 1) := by decide +kernel
theorem dX2_ranOf_9 : decode cX2_ranOf 9 = .ok (.getfield 21, 3) := by decide +kernel
theorem dX2_ranOf_12 : decode cX2_ranOf 12 = .ok (.iload_n 1, 1) := by decide +kernel
theorem dX2_ranOf_13 : decode cX2_ranOf 13 = .ok (.iaload, 1) := by decide +kernel
theorem dX2_ranOf_14 : decode cX2_ranOf 14 = .ok (.goto 4, 3) := by decide +kernel
theorem dX2_ranOf_17 : decode cX2_ranOf 17 = .ok (.iconst (-1), 1) := by decide +kernel
theorem dX2_ranOf_18 : decode cX2_ranOf 18 = .ok (.ireturn, 1) := by decide +kernel
abbrev cX2_passOf : ByteArray := prog_3_method_13_code
def yX2_passOf : MethodName := ⟨RX2, "passOf", "(I)I"⟩
theorem dX2_passOf_0 : decode cX2_passOf 0 = .ok (.aload_n 0, 1) := by decide +kernel
theorem dX2_passOf_1 : decode cX2_passOf 1 = .ok (.iload_n 1, 1) := by decide +kernel
theorem dX2_passOf_2 : decode cX2_passOf 2 = .ok (.invokevirtual 58, 3) := by decide +kernel
theorem dX2_passOf_5 : decode cX2_passOf 5 = .ok (.ifCond .eq 13, 3) := by decide +kernel
theorem dX2_passOf_8 : decode cX2_passOf 8 = .ok (.aload_n 0, 1) := by decide +kernel
theorem dX2_passOf_9 : decode cX2_passOf 9 = .ok (.getfield 17, 3) := by decide +kernel
theorem dX2_passOf_12 : decode cX2_passOf 12 = .ok (.iload_n 1, 1) := by decide +kernel
theorem dX2_passOf_13 : decode cX2_passOf 13 = .ok (.laload, 1) := by decide +kernel
theorem dX2_passOf_14 : decode cX2_passOf 14 = .ok (.l2i, 1) := by decide +kernel
theorem dX2_passOf_15 : decode cX2_passOf 15 = .ok (.goto 4, 3) := by decide +kernel
theorem dX2_passOf_18 : decode cX2_passOf 18 = .ok (.iconst (-1), 1) := by decide +kernel
theorem dX2_passOf_19 : decode cX2_passOf 19 = .ok (.ireturn, 1) := by decide +kernel
abbrev cX2_isIn : ByteArray := prog_3_method_3_code
def yX2_isIn : MethodName := ⟨RX2, "isIn", "(I)Z"⟩
theorem dX2_isIn_0 : decode cX2_isIn 0 = .ok (.aload_n 0, 1) := by decide +kernel
theorem dX2_isIn_1 : decode cX2_isIn 1 = .ok (.iload_n 1, 1) := by decide +kernel
theorem dX2_isIn_2 : decode cX2_isIn 2 = .ok (.invokevirtual 31, 3) := by decide +kernel
theorem dX2_isIn_5 : decode cX2_isIn 5 = .ok (.ifCond .eq 16, 3) := by decide +kernel
theorem dX2_isIn_8 : decode cX2_isIn 8 = .ok (.aload_n 0, 1) := by decide +kernel
theorem dX2_isIn_9 : decode cX2_isIn 9 = .ok (.getfield 7, 3) := by decide +kernel
theorem dX2_isIn_12 : decode cX2_isIn 12 = .ok (.iload_n 1, 1) := by decide +kernel
theorem dX2_isIn_13 : decode cX2_isIn 13 = .ok (.baload, 1) := by decide +kernel
theorem dX2_isIn_14 : decode cX2_isIn 14 = .ok (.ifCond .eq 7, 3) := by decide +kernel
theorem dX2_isIn_17 : decode cX2_isIn 17 = .ok (.iconst 1, 1) := by decide +kernel
theorem dX2_isIn_18 : decode cX2_isIn 18 = .ok (.goto 4, 3) := by decide +kernel
theorem dX2_isIn_21 : decode cX2_isIn 21 = .ok (.iconst 0, 1) := by decide +kernel
theorem dX2_isIn_22 : decode cX2_isIn 22 = .ok (.ireturn, 1) := by decide +kernel
abbrev cX2_strideOf : ByteArray := prog_3_method_14_code
def yX2_strideOf : MethodName := ⟨RX2, "strideOf", "(I)I"⟩
theorem dX2_strideOf_0 : decode cX2_strideOf 0 = .ok (.aload_n 0, 1) := by decide +kernel
theorem dX2_strideOf_1 : decode cX2_strideOf 1 = .ok (.iload_n 1, 1) := by decide +kernel
theorem dX2_strideOf_2 : decode cX2_strideOf 2 = .ok (.invokevirtual 58, 3) := by decide +kernel
theorem dX2_strideOf_5 : decode cX2_strideOf 5 = .ok (.ifCond .eq 17, 3) := by decide +kernel
theorem dX2_strideOf_8 : decode cX2_strideOf 8 = .ok (.aload_n 0, 1) := by decide +kernel
theorem dX2_strideOf_9 : decode cX2_strideOf 9 = .ok (.getfield 28, 3) := by decide +kernel
theorem dX2_strideOf_12 : decode cX2_strideOf 12 = .ok (.aload_n 0, 1) := by decide +kernel
theorem dX2_strideOf_13 : decode cX2_strideOf 13 = .ok (.getfield 13, 3) := by decide +kernel
theorem dX2_strideOf_16 : decode cX2_strideOf 16 = .ok (.iload_n 1, 1) := by decide +kernel
theorem dX2_strideOf_17 : decode cX2_strideOf 17 = .ok (.iaload, 1) := by decide +kernel
theorem dX2_strideOf_18 : decode cX2_strideOf 18 = .ok (.idiv, 1) := by decide +kernel
theorem dX2_strideOf_19 : decode cX2_strideOf 19 = .ok (.goto 4, 3) := by decide +kernel
theorem dX2_strideOf_22 : decode cX2_strideOf 22 = .ok (.iconst (-1), 1) := by decide +kernel
theorem dX2_strideOf_23 : decode cX2_strideOf 23 = .ok (.ireturn, 1) := by decide +kernel
abbrev cX2_clients : ByteArray := prog_3_method_15_code
def yX2_clients : MethodName := ⟨RX2, "clients", "()I"⟩
theorem dX2_clients_0 : decode cX2_clients 0 = .ok (.aload_n 0, 1) := by decide +kernel
theorem dX2_clients_1 : decode cX2_clients 1 = .ok (.getfield 50, 3) := by decide +kernel
theorem dX2_clients_4 : decode cX2_clients 4 = .ok (.ireturn, 1) := by decide +kernel
abbrev cX2_spread : ByteArray := prog_3_method_16_code
def yX2_spread : MethodName := ⟨RX2, "spread", "()I"⟩
theorem dX2_spread_0 : decode cX2_spread 0 = .ok (.aload_n 0, 1) := by decide +kernel
theorem dX2_spread_1 : decode cX2_spread 1 = .ok (.invokevirtual 42, 3) := by decide +kernel
theorem dX2_spread_4 : decode cX2_spread 4 = .ok (.istore_n 1, 1) := by decide +kernel
theorem dX2_spread_5 : decode cX2_spread 5 = .ok (.lconst 0, 1) := by decide +kernel
theorem dX2_spread_6 : decode cX2_spread 6 = .ok (.lstore_n 2, 1) := by decide +kernel
theorem dX2_spread_7 : decode cX2_spread 7 = .ok (.iconst 0, 1) := by decide +kernel
theorem dX2_spread_8 : decode cX2_spread 8 = .ok (.istore 4, 2) := by decide +kernel
theorem dX2_spread_10 : decode cX2_spread 10 = .ok (.iload 4, 2) := by decide +kernel
theorem dX2_spread_12 : decode cX2_spread 12 = .ok (.aload_n 0, 1) := by decide +kernel
theorem dX2_spread_13 : decode cX2_spread 13 = .ok (.getfield 24, 3) := by decide +kernel
theorem dX2_spread_16 : decode cX2_spread 16 = .ok (.if_icmp .ge 43, 3) := by decide +kernel
theorem dX2_spread_19 : decode cX2_spread 19 = .ok (.aload_n 0, 1) := by decide +kernel
theorem dX2_spread_20 : decode cX2_spread 20 = .ok (.getfield 7, 3) := by decide +kernel
theorem dX2_spread_23 : decode cX2_spread 23 = .ok (.iload 4, 2) := by decide +kernel
theorem dX2_spread_25 : decode cX2_spread 25 = .ok (.baload, 1) := by decide +kernel
theorem dX2_spread_26 : decode cX2_spread 26 = .ok (.ifCond .eq 25, 3) := by decide +kernel
theorem dX2_spread_29 : decode cX2_spread 29 = .ok (.aload_n 0, 1) := by decide +kernel
theorem dX2_spread_30 : decode cX2_spread 30 = .ok (.getfield 17, 3) := by decide +kernel
theorem dX2_spread_33 : decode cX2_spread 33 = .ok (.iload 4, 2) := by decide +kernel
theorem dX2_spread_35 : decode cX2_spread 35 = .ok (.laload, 1) := by decide +kernel
theorem dX2_spread_36 : decode cX2_spread 36 = .ok (.lload_n 2, 1) := by decide +kernel
theorem dX2_spread_37 : decode cX2_spread 37 = .ok (.lcmp, 1) := by decide +kernel
theorem dX2_spread_38 : decode cX2_spread 38 = .ok (.ifCond .le 13, 3) := by decide +kernel
theorem dX2_spread_41 : decode cX2_spread 41 = .ok (.aload_n 0, 1) := by decide +kernel
theorem dX2_spread_42 : decode cX2_spread 42 = .ok (.getfield 17, 3) := by decide +kernel
theorem dX2_spread_45 : decode cX2_spread 45 = .ok (.iload 4, 2) := by decide +kernel
theorem dX2_spread_47 : decode cX2_spread 47 = .ok (.laload, 1) := by decide +kernel
theorem dX2_spread_48 : decode cX2_spread 48 = .ok (.goto 4, 3) := by decide +kernel
theorem dX2_spread_51 : decode cX2_spread 51 = .ok (.lload_n 2, 1) := by decide +kernel
theorem dX2_spread_52 : decode cX2_spread 52 = .ok (.lstore_n 2, 1) := by decide +kernel
theorem dX2_spread_53 : decode cX2_spread 53 = .ok (.iinc 4 1, 3) := by decide +kernel
theorem dX2_spread_56 : decode cX2_spread 56 = .ok (.goto (-46), 3) := by decide +kernel
theorem dX2_spread_59 : decode cX2_spread 59 = .ok (.iload_n 1, 1) := by decide +kernel
theorem dX2_spread_60 : decode cX2_spread 60 = .ok (.ifCond .ge 7, 3) := by decide +kernel
theorem dX2_spread_63 : decode cX2_spread 63 = .ok (.iconst (-1), 1) := by decide +kernel
theorem dX2_spread_64 : decode cX2_spread 64 = .ok (.goto 12, 3) := by decide +kernel
theorem dX2_spread_67 : decode cX2_spread 67 = .ok (.lload_n 2, 1) := by decide +kernel
theorem dX2_spread_68 : decode cX2_spread 68 = .ok (.aload_n 0, 1) := by decide +kernel
theorem dX2_spread_69 : decode cX2_spread 69 = .ok (.getfield 17, 3) := by decide +kernel
theorem dX2_spread_72 : decode cX2_spread 72 = .ok (.iload_n 1, 1) := by decide +kernel
theorem dX2_spread_73 : decode cX2_spread 73 = .ok (.laload, 1) := by decide +kernel
theorem dX2_spread_74 : decode cX2_spread 74 = .ok (.lsub, 1) := by decide +kernel
theorem dX2_spread_75 : decode cX2_spread 75 = .ok (.l2i, 1) := by decide +kernel
theorem dX2_spread_76 : decode cX2_spread 76 = .ok (.ireturn, 1) := by decide +kernel
abbrev cX2_order : ByteArray := prog_3_method_17_code
def yX2_order : MethodName := ⟨RX2, "order", "(I)I"⟩
theorem dX2_order_0 : decode cX2_order 0 = .ok (.iload_n 1, 1) := by decide +kernel
theorem dX2_order_1 : decode cX2_order 1 = .ok (.ifCond .lt 11, 3) := by decide +kernel
theorem dX2_order_4 : decode cX2_order 4 = .ok (.iload_n 1, 1) := by decide +kernel
theorem dX2_order_5 : decode cX2_order 5 = .ok (.aload_n 0, 1) := by decide +kernel
theorem dX2_order_6 : decode cX2_order 6 = .ok (.getfield 50, 3) := by decide +kernel
theorem dX2_order_9 : decode cX2_order 9 = .ok (.if_icmp .lt 5, 3) := by decide +kernel
theorem dX2_order_12 : decode cX2_order 12 = .ok (.iconst (-1), 1) := by decide +kernel
theorem dX2_order_13 : decode cX2_order 13 = .ok (.ireturn, 1) := by decide +kernel
theorem dX2_order_14 : decode cX2_order 14 = .ok (.iconst 0, 1) := by decide +kernel
theorem dX2_order_15 : decode cX2_order 15 = .ok (.istore_n 2, 1) := by decide +kernel
theorem dX2_order_16 : decode cX2_order 16 = .ok (.iload_n 2, 1) := by decide +kernel
theorem dX2_order_17 : decode cX2_order 17 = .ok (.aload_n 0, 1) := by decide +kernel
theorem dX2_order_18 : decode cX2_order 18 = .ok (.getfield 24, 3) := by decide +kernel
theorem dX2_order_21 : decode cX2_order 21 = .ok (.if_icmp .ge 88, 3) := by decide +kernel
theorem dX2_order_24 : decode cX2_order 24 = .ok (.iconst 0, 1) := by decide +kernel
theorem dX2_order_25 : decode cX2_order 25 = .ok (.istore_n 3, 1) := by decide +kernel
theorem dX2_order_26 : decode cX2_order 26 = .ok (.iconst 0, 1) := by decide +kernel
theorem dX2_order_27 : decode cX2_order 27 = .ok (.istore 4, 2) := by decide +kernel
theorem dX2_order_29 : decode cX2_order 29 = .ok (.iload 4, 2) := by decide +kernel
theorem dX2_order_31 : decode cX2_order 31 = .ok (.aload_n 0, 1) := by decide +kernel
theorem dX2_order_32 : decode cX2_order 32 = .ok (.getfield 24, 3) := by decide +kernel
theorem dX2_order_35 : decode cX2_order 35 = .ok (.if_icmp .ge 52, 3) := by decide +kernel
theorem dX2_order_38 : decode cX2_order 38 = .ok (.aload_n 0, 1) := by decide +kernel
theorem dX2_order_39 : decode cX2_order 39 = .ok (.getfield 7, 3) := by decide +kernel
theorem dX2_order_42 : decode cX2_order 42 = .ok (.iload_n 2, 1) := by decide +kernel
theorem dX2_order_43 : decode cX2_order 43 = .ok (.baload, 1) := by decide +kernel
theorem dX2_order_44 : decode cX2_order 44 = .ok (.ifCond .eq 35, 3) := by decide +kernel
theorem dX2_order_47 : decode cX2_order 47 = .ok (.aload_n 0, 1) := by decide +kernel
theorem dX2_order_48 : decode cX2_order 48 = .ok (.getfield 7, 3) := by decide +kernel
theorem dX2_order_51 : decode cX2_order 51 = .ok (.iload 4, 2) := by decide +kernel
theorem dX2_order_53 : decode cX2_order 53 = .ok (.baload, 1) := by decide +kernel
theorem dX2_order_54 : decode cX2_order 54 = .ok (.ifCond .eq 25, 3) := by decide +kernel
theorem dX2_order_57 : decode cX2_order 57 = .ok (.iload 4, 2) := by decide +kernel
theorem dX2_order_59 : decode cX2_order 59 = .ok (.iload_n 2, 1) := by decide +kernel
theorem dX2_order_60 : decode cX2_order 60 = .ok (.if_icmp .eq 19, 3) := by decide +kernel
theorem dX2_order_63 : decode cX2_order 63 = .ok (.aload_n 0, 1) := by decide +kernel
theorem dX2_order_64 : decode cX2_order 64 = .ok (.iload 4, 2) := by decide +kernel
theorem dX2_order_66 : decode cX2_order 66 = .ok (.iload_n 2, 1) := by decide +kernel
theorem dX2_order_67 : decode cX2_order 67 = .ok (.invokevirtual 35, 3) := by decide +kernel
theorem dX2_order_70 : decode cX2_order 70 = .ok (.ifCond .eq 9, 3) := by decide +kernel
theorem dX2_order_73 : decode cX2_order 73 = .ok (.iload_n 3, 1) := by decide +kernel
theorem dX2_order_74 : decode cX2_order 74 = .ok (.iconst 1, 1) := by decide +kernel
theorem dX2_order_75 : decode cX2_order 75 = .ok (.iadd, 1) := by decide +kernel
theorem dX2_order_76 : decode cX2_order 76 = .ok (.goto 4, 3) := by decide +kernel
theorem dX2_order_79 : decode cX2_order 79 = .ok (.iload_n 3, 1) := by decide +kernel
theorem dX2_order_80 : decode cX2_order 80 = .ok (.istore_n 3, 1) := by decide +kernel
theorem dX2_order_81 : decode cX2_order 81 = .ok (.iinc 4 1, 3) := by decide +kernel
theorem dX2_order_84 : decode cX2_order 84 = .ok (.goto (-55), 3) := by decide +kernel
theorem dX2_order_87 : decode cX2_order 87 = .ok (.aload_n 0, 1) := by decide +kernel
theorem dX2_order_88 : decode cX2_order 88 = .ok (.getfield 7, 3) := by decide +kernel
theorem dX2_order_91 : decode cX2_order 91 = .ok (.iload_n 2, 1) := by decide +kernel
theorem dX2_order_92 : decode cX2_order 92 = .ok (.baload, 1) := by decide +kernel
theorem dX2_order_93 : decode cX2_order 93 = .ok (.ifCond .eq 10, 3) := by decide +kernel
theorem dX2_order_96 : decode cX2_order 96 = .ok (.iload_n 3, 1) := by decide +kernel
theorem dX2_order_97 : decode cX2_order 97 = .ok (.iload_n 1, 1) := by decide +kernel
theorem dX2_order_98 : decode cX2_order 98 = .ok (.if_icmp .ne 5, 3) := by decide +kernel
theorem dX2_order_101 : decode cX2_order 101 = .ok (.iload_n 2, 1) := by decide +kernel
theorem dX2_order_102 : decode cX2_order 102 = .ok (.ireturn, 1) := by decide +kernel
theorem dX2_order_103 : decode cX2_order 103 = .ok (.iinc 2 1, 3) := by decide +kernel
theorem dX2_order_106 : decode cX2_order 106 = .ok (.goto (-90), 3) := by decide +kernel
theorem dX2_order_109 : decode cX2_order 109 = .ok (.iconst (-1), 1) := by decide +kernel
theorem dX2_order_110 : decode cX2_order 110 = .ok (.ireturn, 1) := by decide +kernel
theorem q14 : (Jvm.Cond.initialized "StrideHeapModel") ∈ lw_all := lw_g (lw_at lw_m0 2 rfl) rfl
theorem q136 : (Jvm.Cond.instantiable "StrideHeapModel" (8 : Nat)) ∈ lw_all := lw_g (lw_at lw_m0 124 rfl) rfl
theorem q138 : (Jvm.Cond.instanceMethod ({ cls := "StrideHeapModel", name := "<init>", desc := "(II)V" } : Jvm.MethodName)) ∈ lw_all := lw_g (lw_at lw_m0 126 rfl) rfl
theorem q139 : (Jvm.Cond.code ({ cls := "StrideHeapModel", name := "<init>", desc := "(II)V" } : Jvm.MethodName) prog_3_method_1_code (4 : Nat) (Option.none : Option Jvm.ClassFile.FieldType)) ∈ lw_all := lw_g (lw_at lw_m0 127 rfl) rfl
theorem q140 : (Jvm.Cond.methodLink "StrideHeapModel" (1 : Nat) ({ cls := "java/lang/Object", name := "<init>", desc := "()V" } : Jvm.MethodName)) ∈ lw_all := lw_g (lw_at lw_m0 128 rfl) rfl
theorem q141 : (Jvm.Cond.fieldLink "StrideHeapModel" (24 : Nat) "StrideHeapModel" "cap" "I") ∈ lw_all := lw_g (lw_at lw_m0 129 rfl) rfl
theorem q142 : (Jvm.Cond.fieldLink "StrideHeapModel" (28 : Nat) "StrideHeapModel" "big" "I") ∈ lw_all := lw_g (lw_at lw_m0 130 rfl) rfl
theorem q143 : (Jvm.Cond.fieldLink "StrideHeapModel" (7 : Nat) "StrideHeapModel" "in" "[Z") ∈ lw_all := lw_g (lw_at lw_m0 131 rfl) rfl
theorem q144 : (Jvm.Cond.fieldLink "StrideHeapModel" (13 : Nat) "StrideHeapModel" "tickets" "[I") ∈ lw_all := lw_g (lw_at lw_m0 132 rfl) rfl
theorem q145 : (Jvm.Cond.fieldLink "StrideHeapModel" (17 : Nat) "StrideHeapModel" "pass" "[J") ∈ lw_all := lw_g (lw_at lw_m0 133 rfl) rfl
theorem q146 : (Jvm.Cond.fieldLink "StrideHeapModel" (21 : Nat) "StrideHeapModel" "ran" "[I") ∈ lw_all := lw_g (lw_at lw_m0 134 rfl) rfl
theorem q147 : (Jvm.Cond.fieldLink "StrideHeapModel" (50 : Nat) "StrideHeapModel" "many" "I") ∈ lw_all := lw_g (lw_at lw_m0 135 rfl) rfl
theorem q148 : (Jvm.Cond.fieldLink "StrideHeapModel" (46 : Nat) "StrideHeapModel" "latest" "J") ∈ lw_all := lw_g (lw_at lw_m0 136 rfl) rfl
theorem q149 : (Jvm.Cond.laysFinal "StrideHeapModel" "StrideHeapModel" "cap" "I") ∈ lw_all := lw_g (lw_at lw_m0 137 rfl) rfl
theorem q150 : (Jvm.Cond.soleField "StrideHeapModel" "cap") ∈ lw_all := lw_g (lw_at lw_m0 138 rfl) rfl
theorem q151 : (Jvm.Cond.laysFinal "StrideHeapModel" "StrideHeapModel" "big" "I") ∈ lw_all := lw_g (lw_at lw_m0 139 rfl) rfl
theorem q152 : (Jvm.Cond.soleField "StrideHeapModel" "big") ∈ lw_all := lw_g (lw_at lw_m0 140 rfl) rfl
theorem q153 : (Jvm.Cond.laysFinal "StrideHeapModel" "StrideHeapModel" "in" "[Z") ∈ lw_all := lw_g (lw_at lw_m0 141 rfl) rfl
theorem q154 : (Jvm.Cond.soleField "StrideHeapModel" "in") ∈ lw_all := lw_g (lw_at lw_m0 142 rfl) rfl
theorem q155 : (Jvm.Cond.laysFinal "StrideHeapModel" "StrideHeapModel" "tickets" "[I") ∈ lw_all := lw_g (lw_at lw_m0 143 rfl) rfl
theorem q156 : (Jvm.Cond.soleField "StrideHeapModel" "tickets") ∈ lw_all := lw_g (lw_at lw_m0 144 rfl) rfl
theorem q157 : (Jvm.Cond.laysFinal "StrideHeapModel" "StrideHeapModel" "pass" "[J") ∈ lw_all := lw_g (lw_at lw_m0 145 rfl) rfl
theorem q158 : (Jvm.Cond.soleField "StrideHeapModel" "pass") ∈ lw_all := lw_g (lw_at lw_m0 146 rfl) rfl
theorem q159 : (Jvm.Cond.laysFinal "StrideHeapModel" "StrideHeapModel" "ran" "[I") ∈ lw_all := lw_g (lw_at lw_m0 147 rfl) rfl
theorem q160 : (Jvm.Cond.soleField "StrideHeapModel" "ran") ∈ lw_all := lw_g (lw_at lw_m0 148 rfl) rfl
theorem q161 : (Jvm.Cond.lays "StrideHeapModel" "StrideHeapModel" "many" "I") ∈ lw_all := lw_g (lw_at lw_m0 149 rfl) rfl
theorem q162 : (Jvm.Cond.soleField "StrideHeapModel" "many") ∈ lw_all := lw_g (lw_at lw_m0 150 rfl) rfl
theorem q163 : (Jvm.Cond.lays "StrideHeapModel" "StrideHeapModel" "latest" "J") ∈ lw_all := lw_g (lw_at lw_m0 151 rfl) rfl
theorem q164 : (Jvm.Cond.soleField "StrideHeapModel" "latest") ∈ lw_all := lw_g (lw_at lw_m0 152 rfl) rfl
theorem q165 : (Jvm.Cond.superclass "StrideHeapModel" "java/lang/Object") ∈ lw_all := lw_g (lw_at lw_m0 153 rfl) rfl
theorem q169 : (Jvm.Cond.instanceMethod ({ cls := "StrideHeapModel", name := "join", desc := "(II)I" } : Jvm.MethodName)) ∈ lw_all := lw_g (lw_at lw_m0 157 rfl) rfl
theorem q170 : (Jvm.Cond.selects "StrideHeapModel" ({ cls := "StrideHeapModel", name := "join", desc := "(II)I" } : Jvm.MethodName) ({ cls := "StrideHeapModel", name := "join", desc := "(II)I" } : Jvm.MethodName)) ∈ lw_all := lw_g (lw_at lw_m0 158 rfl) rfl
theorem q171 : (Jvm.Cond.code ({ cls := "StrideHeapModel", name := "join", desc := "(II)I" } : Jvm.MethodName) prog_3_method_7_code (4 : Nat) (Option.some Jvm.ClassFile.FieldType.int)) ∈ lw_all := lw_g (lw_at lw_m0 159 rfl) rfl
theorem q172 : (Jvm.Cond.methodLink "StrideHeapModel" (31 : Nat) ({ cls := "StrideHeapModel", name := "isClient", desc := "(I)Z" } : Jvm.MethodName)) ∈ lw_all := lw_g (lw_at lw_m0 160 rfl) rfl
theorem q173 : (Jvm.Cond.privateMethod ({ cls := "StrideHeapModel", name := "isClient", desc := "(I)Z" } : Jvm.MethodName)) ∈ lw_tbl := lw_at lw_m0 161 rfl
theorem q174 : (Jvm.Cond.instanceMethod ({ cls := "StrideHeapModel", name := "isClient", desc := "(I)Z" } : Jvm.MethodName)) ∈ lw_all := lw_g (lw_at lw_m0 162 rfl) rfl
theorem q175 : (Jvm.Cond.code ({ cls := "StrideHeapModel", name := "isClient", desc := "(I)Z" } : Jvm.MethodName) prog_3_method_2_code (2 : Nat) (Option.some Jvm.ClassFile.FieldType.boolean)) ∈ lw_all := lw_g (lw_at lw_m0 163 rfl) rfl
theorem q176 : (Jvm.Cond.methodLink "StrideHeapModel" (39 : Nat) ({ cls := "StrideHeapModel", name := "areTickets", desc := "(I)Z" } : Jvm.MethodName)) ∈ lw_all := lw_g (lw_at lw_m0 164 rfl) rfl
theorem q177 : (Jvm.Cond.privateMethod ({ cls := "StrideHeapModel", name := "areTickets", desc := "(I)Z" } : Jvm.MethodName)) ∈ lw_tbl := lw_at lw_m0 165 rfl
theorem q178 : (Jvm.Cond.instanceMethod ({ cls := "StrideHeapModel", name := "areTickets", desc := "(I)Z" } : Jvm.MethodName)) ∈ lw_all := lw_g (lw_at lw_m0 166 rfl) rfl
theorem q179 : (Jvm.Cond.code ({ cls := "StrideHeapModel", name := "areTickets", desc := "(I)Z" } : Jvm.MethodName) prog_3_method_4_code (2 : Nat) (Option.some Jvm.ClassFile.FieldType.boolean)) ∈ lw_all := lw_g (lw_at lw_m0 167 rfl) rfl
theorem q180 : (Jvm.Cond.methodLink "StrideHeapModel" (42 : Nat) ({ cls := "StrideHeapModel", name := "first", desc := "()I" } : Jvm.MethodName)) ∈ lw_all := lw_g (lw_at lw_m0 168 rfl) rfl
theorem q181 : (Jvm.Cond.privateMethod ({ cls := "StrideHeapModel", name := "first", desc := "()I" } : Jvm.MethodName)) ∈ lw_tbl := lw_at lw_m0 169 rfl
theorem q182 : (Jvm.Cond.instanceMethod ({ cls := "StrideHeapModel", name := "first", desc := "()I" } : Jvm.MethodName)) ∈ lw_all := lw_g (lw_at lw_m0 170 rfl) rfl
theorem q183 : (Jvm.Cond.code ({ cls := "StrideHeapModel", name := "first", desc := "()I" } : Jvm.MethodName) prog_3_method_6_code (3 : Nat) (Option.some Jvm.ClassFile.FieldType.int)) ∈ lw_all := lw_g (lw_at lw_m0 171 rfl) rfl
theorem q184 : (Jvm.Cond.methodLink "StrideHeapModel" (35 : Nat) ({ cls := "StrideHeapModel", name := "isBefore", desc := "(II)Z" } : Jvm.MethodName)) ∈ lw_all := lw_g (lw_at lw_m0 172 rfl) rfl
theorem q185 : (Jvm.Cond.privateMethod ({ cls := "StrideHeapModel", name := "isBefore", desc := "(II)Z" } : Jvm.MethodName)) ∈ lw_tbl := lw_at lw_m0 173 rfl
theorem q186 : (Jvm.Cond.instanceMethod ({ cls := "StrideHeapModel", name := "isBefore", desc := "(II)Z" } : Jvm.MethodName)) ∈ lw_all := lw_g (lw_at lw_m0 174 rfl) rfl
theorem q187 : (Jvm.Cond.code ({ cls := "StrideHeapModel", name := "isBefore", desc := "(II)Z" } : Jvm.MethodName) prog_3_method_5_code (3 : Nat) (Option.some Jvm.ClassFile.FieldType.boolean)) ∈ lw_all := lw_g (lw_at lw_m0 175 rfl) rfl
theorem q189 : (Jvm.Cond.instanceMethod ({ cls := "StrideHeapModel", name := "leave", desc := "(I)I" } : Jvm.MethodName)) ∈ lw_all := lw_g (lw_at lw_m0 177 rfl) rfl
theorem q190 : (Jvm.Cond.selects "StrideHeapModel" ({ cls := "StrideHeapModel", name := "leave", desc := "(I)I" } : Jvm.MethodName) ({ cls := "StrideHeapModel", name := "leave", desc := "(I)I" } : Jvm.MethodName)) ∈ lw_all := lw_g (lw_at lw_m0 178 rfl) rfl
theorem q191 : (Jvm.Cond.code ({ cls := "StrideHeapModel", name := "leave", desc := "(I)I" } : Jvm.MethodName) prog_3_method_8_code (2 : Nat) (Option.some Jvm.ClassFile.FieldType.int)) ∈ lw_all := lw_g (lw_at lw_m0 179 rfl) rfl
theorem q193 : (Jvm.Cond.instanceMethod ({ cls := "StrideHeapModel", name := "next", desc := "()I" } : Jvm.MethodName)) ∈ lw_all := lw_g (lw_at lw_m0 181 rfl) rfl
theorem q194 : (Jvm.Cond.selects "StrideHeapModel" ({ cls := "StrideHeapModel", name := "next", desc := "()I" } : Jvm.MethodName) ({ cls := "StrideHeapModel", name := "next", desc := "()I" } : Jvm.MethodName)) ∈ lw_all := lw_g (lw_at lw_m0 182 rfl) rfl
theorem q195 : (Jvm.Cond.code ({ cls := "StrideHeapModel", name := "next", desc := "()I" } : Jvm.MethodName) prog_3_method_9_code (4 : Nat) (Option.some Jvm.ClassFile.FieldType.int)) ∈ lw_all := lw_g (lw_at lw_m0 183 rfl) rfl
theorem q196 : (Jvm.Cond.constantLong "StrideHeapModel" (53 : Nat) (2147483647 : Int64)) ∈ lw_all := lw_g (lw_at lw_m0 184 rfl) rfl
theorem q198 : (Jvm.Cond.instanceMethod ({ cls := "StrideHeapModel", name := "turns", desc := "(I)I" } : Jvm.MethodName)) ∈ lw_all := lw_g (lw_at lw_m0 186 rfl) rfl
theorem q199 : (Jvm.Cond.selects "StrideHeapModel" ({ cls := "StrideHeapModel", name := "turns", desc := "(I)I" } : Jvm.MethodName) ({ cls := "StrideHeapModel", name := "turns", desc := "(I)I" } : Jvm.MethodName)) ∈ lw_all := lw_g (lw_at lw_m0 187 rfl) rfl
theorem q200 : (Jvm.Cond.code ({ cls := "StrideHeapModel", name := "turns", desc := "(I)I" } : Jvm.MethodName) prog_3_method_10_code (4 : Nat) (Option.some Jvm.ClassFile.FieldType.int)) ∈ lw_all := lw_g (lw_at lw_m0 188 rfl) rfl
theorem q201 : (Jvm.Cond.methodLink "StrideHeapModel" (55 : Nat) ({ cls := "StrideHeapModel", name := "next", desc := "()I" } : Jvm.MethodName)) ∈ lw_all := lw_g (lw_at lw_m0 189 rfl) rfl
theorem q203 : (Jvm.Cond.instanceMethod ({ cls := "StrideHeapModel", name := "change", desc := "(II)I" } : Jvm.MethodName)) ∈ lw_all := lw_g (lw_at lw_m0 191 rfl) rfl
theorem q204 : (Jvm.Cond.selects "StrideHeapModel" ({ cls := "StrideHeapModel", name := "change", desc := "(II)I" } : Jvm.MethodName) ({ cls := "StrideHeapModel", name := "change", desc := "(II)I" } : Jvm.MethodName)) ∈ lw_all := lw_g (lw_at lw_m0 192 rfl) rfl
theorem q205 : (Jvm.Cond.code ({ cls := "StrideHeapModel", name := "change", desc := "(II)I" } : Jvm.MethodName) prog_3_method_11_code (4 : Nat) (Option.some Jvm.ClassFile.FieldType.int)) ∈ lw_all := lw_g (lw_at lw_m0 193 rfl) rfl
theorem q207 : (Jvm.Cond.instanceMethod ({ cls := "StrideHeapModel", name := "ranOf", desc := "(I)I" } : Jvm.MethodName)) ∈ lw_all := lw_g (lw_at lw_m0 195 rfl) rfl
theorem q208 : (Jvm.Cond.selects "StrideHeapModel" ({ cls := "StrideHeapModel", name := "ranOf", desc := "(I)I" } : Jvm.MethodName) ({ cls := "StrideHeapModel", name := "ranOf", desc := "(I)I" } : Jvm.MethodName)) ∈ lw_all := lw_g (lw_at lw_m0 196 rfl) rfl
theorem q209 : (Jvm.Cond.code ({ cls := "StrideHeapModel", name := "ranOf", desc := "(I)I" } : Jvm.MethodName) prog_3_method_12_code (2 : Nat) (Option.some Jvm.ClassFile.FieldType.int)) ∈ lw_all := lw_g (lw_at lw_m0 197 rfl) rfl
theorem q211 : (Jvm.Cond.instanceMethod ({ cls := "StrideHeapModel", name := "passOf", desc := "(I)I" } : Jvm.MethodName)) ∈ lw_all := lw_g (lw_at lw_m0 199 rfl) rfl
theorem q212 : (Jvm.Cond.selects "StrideHeapModel" ({ cls := "StrideHeapModel", name := "passOf", desc := "(I)I" } : Jvm.MethodName) ({ cls := "StrideHeapModel", name := "passOf", desc := "(I)I" } : Jvm.MethodName)) ∈ lw_all := lw_g (lw_at lw_m0 200 rfl) rfl
theorem q213 : (Jvm.Cond.code ({ cls := "StrideHeapModel", name := "passOf", desc := "(I)I" } : Jvm.MethodName) prog_3_method_13_code (2 : Nat) (Option.some Jvm.ClassFile.FieldType.int)) ∈ lw_all := lw_g (lw_at lw_m0 201 rfl) rfl
theorem q214 : (Jvm.Cond.methodLink "StrideHeapModel" (58 : Nat) ({ cls := "StrideHeapModel", name := "isIn", desc := "(I)Z" } : Jvm.MethodName)) ∈ lw_all := lw_g (lw_at lw_m0 202 rfl) rfl
theorem q215 : (Jvm.Cond.privateMethod ({ cls := "StrideHeapModel", name := "isIn", desc := "(I)Z" } : Jvm.MethodName)) ∈ lw_tbl := lw_at lw_m0 203 rfl
theorem q216 : (Jvm.Cond.instanceMethod ({ cls := "StrideHeapModel", name := "isIn", desc := "(I)Z" } : Jvm.MethodName)) ∈ lw_all := lw_g (lw_at lw_m0 204 rfl) rfl
theorem q217 : (Jvm.Cond.code ({ cls := "StrideHeapModel", name := "isIn", desc := "(I)Z" } : Jvm.MethodName) prog_3_method_3_code (2 : Nat) (Option.some Jvm.ClassFile.FieldType.boolean)) ∈ lw_all := lw_g (lw_at lw_m0 205 rfl) rfl
theorem q219 : (Jvm.Cond.instanceMethod ({ cls := "StrideHeapModel", name := "strideOf", desc := "(I)I" } : Jvm.MethodName)) ∈ lw_all := lw_g (lw_at lw_m0 207 rfl) rfl
theorem q220 : (Jvm.Cond.selects "StrideHeapModel" ({ cls := "StrideHeapModel", name := "strideOf", desc := "(I)I" } : Jvm.MethodName) ({ cls := "StrideHeapModel", name := "strideOf", desc := "(I)I" } : Jvm.MethodName)) ∈ lw_all := lw_g (lw_at lw_m0 208 rfl) rfl
theorem q221 : (Jvm.Cond.code ({ cls := "StrideHeapModel", name := "strideOf", desc := "(I)I" } : Jvm.MethodName) prog_3_method_14_code (2 : Nat) (Option.some Jvm.ClassFile.FieldType.int)) ∈ lw_all := lw_g (lw_at lw_m0 209 rfl) rfl
theorem q223 : (Jvm.Cond.instanceMethod ({ cls := "StrideHeapModel", name := "clients", desc := "()I" } : Jvm.MethodName)) ∈ lw_all := lw_g (lw_at lw_m0 211 rfl) rfl
theorem q224 : (Jvm.Cond.selects "StrideHeapModel" ({ cls := "StrideHeapModel", name := "clients", desc := "()I" } : Jvm.MethodName) ({ cls := "StrideHeapModel", name := "clients", desc := "()I" } : Jvm.MethodName)) ∈ lw_all := lw_g (lw_at lw_m0 212 rfl) rfl
theorem q225 : (Jvm.Cond.code ({ cls := "StrideHeapModel", name := "clients", desc := "()I" } : Jvm.MethodName) prog_3_method_15_code (1 : Nat) (Option.some Jvm.ClassFile.FieldType.int)) ∈ lw_all := lw_g (lw_at lw_m0 213 rfl) rfl
theorem q227 : (Jvm.Cond.instanceMethod ({ cls := "StrideHeapModel", name := "spread", desc := "()I" } : Jvm.MethodName)) ∈ lw_all := lw_g (lw_at lw_m0 215 rfl) rfl
theorem q228 : (Jvm.Cond.selects "StrideHeapModel" ({ cls := "StrideHeapModel", name := "spread", desc := "()I" } : Jvm.MethodName) ({ cls := "StrideHeapModel", name := "spread", desc := "()I" } : Jvm.MethodName)) ∈ lw_all := lw_g (lw_at lw_m0 216 rfl) rfl
theorem q229 : (Jvm.Cond.code ({ cls := "StrideHeapModel", name := "spread", desc := "()I" } : Jvm.MethodName) prog_3_method_16_code (5 : Nat) (Option.some Jvm.ClassFile.FieldType.int)) ∈ lw_all := lw_g (lw_at lw_m0 217 rfl) rfl
theorem q231 : (Jvm.Cond.instanceMethod ({ cls := "StrideHeapModel", name := "order", desc := "(I)I" } : Jvm.MethodName)) ∈ lw_all := lw_g (lw_at lw_m0 219 rfl) rfl
theorem q232 : (Jvm.Cond.selects "StrideHeapModel" ({ cls := "StrideHeapModel", name := "order", desc := "(I)I" } : Jvm.MethodName) ({ cls := "StrideHeapModel", name := "order", desc := "(I)I" } : Jvm.MethodName)) ∈ lw_all := lw_g (lw_at lw_m0 220 rfl) rfl
theorem q233 : (Jvm.Cond.code ({ cls := "StrideHeapModel", name := "order", desc := "(I)I" } : Jvm.MethodName) prog_3_method_17_code (5 : Nat) (Option.some Jvm.ClassFile.FieldType.int)) ∈ lw_all := lw_g (lw_at lw_m0 221 rfl) rfl
theorem in_X2 : ∀ w ∈ wsX20, w ∈ lw_all := lw_in wsX20 [149, 151, 153, 155, 157, 159, 161, 163] (by decide +kernel) (by decide +kernel)
end
section
/-! java/lang/Object -/
set_option maxRecDepth 100000
def RJ0 : String := "java/lang/Object"
abbrev cJ0_init : ByteArray := object_method_1_code
def yJ0_init : MethodName := ⟨RJ0, "<init>", "()V"⟩
theorem dJ0_init_0 : decode cJ0_init 0 = .ok (.return_, 1) := by decide +kernel
theorem q21 : (Jvm.Cond.instanceMethod ({ cls := "java/lang/Object", name := "<init>", desc := "()V" } : Jvm.MethodName)) ∈ lw_all := lw_g (lw_at lw_m0 9 rfl) rfl
theorem q22 : (Jvm.Cond.code ({ cls := "java/lang/Object", name := "<init>", desc := "()V" } : Jvm.MethodName) object_method_1_code (1 : Nat) (Option.none : Option Jvm.ClassFile.FieldType)) ∈ lw_all := lw_g (lw_at lw_m0 10 rfl) rfl
theorem q57 : (Jvm.Cond.arrayClass Jvm.ClassFile.FieldType.int) ∈ lw_all := lw_g (lw_at lw_m0 45 rfl) rfl
set_option maxRecDepth 100000
theorem q166 : (Jvm.Cond.arrayClass Jvm.ClassFile.FieldType.boolean) ∈ lw_all := lw_g (lw_at lw_m0 154 rfl) rfl
theorem q167 : (Jvm.Cond.arrayClass Jvm.ClassFile.FieldType.long) ∈ lw_all := lw_g (lw_at lw_m0 155 rfl) rfl
/-! StrideHeapLaw -/
set_option maxRecDepth 100000
def RX0 : String := "StrideHeapLaw"
abbrev cX0_cell : ByteArray := method_2_code
def yX0_cell : MethodName := ⟨RX0, "cell", "([II)I"⟩
theorem dX0_cell_0 : decode cX0_cell 0 = .ok (.iload_n 1, 1) := by decide +kernel
theorem dX0_cell_1 : decode cX0_cell 1 = .ok (.aload_n 0, 1) := by decide +kernel
theorem dX0_cell_2 : decode cX0_cell 2 = .ok (.arraylength, 1) := by decide +kernel
theorem dX0_cell_3 : decode cX0_cell 3 = .ok (.if_icmp .ge 9, 3) := by decide +kernel
theorem dX0_cell_6 : decode cX0_cell 6 = .ok (.aload_n 0, 1) := by decide +kernel
theorem dX0_cell_7 : decode cX0_cell 7 = .ok (.iload_n 1, 1) := by decide +kernel
theorem dX0_cell_8 : decode cX0_cell 8 = .ok (.iaload, 1) := by decide +kernel
theorem dX0_cell_9 : decode cX0_cell 9 = .ok (.goto 4, 3) := by decide +kernel
theorem dX0_cell_12 : decode cX0_cell 12 = .ok (.iconst 0, 1) := by decide +kernel
theorem dX0_cell_13 : decode cX0_cell 13 = .ok (.ireturn, 1) := by decide +kernel
theorem q12 : (Jvm.Cond.initialized "StrideHeapLaw") ∈ lw_all := lw_g (lw_at lw_m0 0 rfl) rfl
theorem q15 : (Jvm.Cond.classLink "StrideHeapLaw" (7 : Nat) "StrideHeap") ∈ lw_all := lw_g (lw_at lw_m0 3 rfl) rfl
theorem q17 : (Jvm.Cond.methodLink "StrideHeapLaw" (15 : Nat) ({ cls := "StrideHeap", name := "<init>", desc := "(II)V" } : Jvm.MethodName)) ∈ lw_all := lw_g (lw_at lw_m0 5 rfl) rfl
theorem q58 : (Jvm.Cond.methodLink "StrideHeapLaw" (21 : Nat) ({ cls := "StrideHeap", name := "join", desc := "(II)I" } : Jvm.MethodName)) ∈ lw_all := lw_g (lw_at lw_m0 46 rfl) rfl
theorem q86 : (Jvm.Cond.methodLink "StrideHeapLaw" (26 : Nat) ({ cls := "StrideHeap", name := "leave", desc := "(I)I" } : Jvm.MethodName)) ∈ lw_all := lw_g (lw_at lw_m0 74 rfl) rfl
theorem q94 : (Jvm.Cond.methodLink "StrideHeapLaw" (31 : Nat) ({ cls := "StrideHeap", name := "next", desc := "()I" } : Jvm.MethodName)) ∈ lw_all := lw_g (lw_at lw_m0 82 rfl) rfl
theorem q99 : (Jvm.Cond.methodLink "StrideHeapLaw" (36 : Nat) ({ cls := "StrideHeap", name := "turns", desc := "(I)I" } : Jvm.MethodName)) ∈ lw_all := lw_g (lw_at lw_m0 87 rfl) rfl
theorem q104 : (Jvm.Cond.methodLink "StrideHeapLaw" (40 : Nat) ({ cls := "StrideHeap", name := "change", desc := "(II)I" } : Jvm.MethodName)) ∈ lw_all := lw_g (lw_at lw_m0 92 rfl) rfl
theorem q108 : (Jvm.Cond.methodLink "StrideHeapLaw" (44 : Nat) ({ cls := "StrideHeap", name := "ranOf", desc := "(I)I" } : Jvm.MethodName)) ∈ lw_all := lw_g (lw_at lw_m0 96 rfl) rfl
theorem q112 : (Jvm.Cond.methodLink "StrideHeapLaw" (48 : Nat) ({ cls := "StrideHeap", name := "passOf", desc := "(I)I" } : Jvm.MethodName)) ∈ lw_all := lw_g (lw_at lw_m0 100 rfl) rfl
theorem q116 : (Jvm.Cond.methodLink "StrideHeapLaw" (52 : Nat) ({ cls := "StrideHeap", name := "strideOf", desc := "(I)I" } : Jvm.MethodName)) ∈ lw_all := lw_g (lw_at lw_m0 104 rfl) rfl
theorem q120 : (Jvm.Cond.methodLink "StrideHeapLaw" (56 : Nat) ({ cls := "StrideHeap", name := "clients", desc := "()I" } : Jvm.MethodName)) ∈ lw_all := lw_g (lw_at lw_m0 108 rfl) rfl
theorem q124 : (Jvm.Cond.methodLink "StrideHeapLaw" (60 : Nat) ({ cls := "StrideHeap", name := "spread", desc := "()I" } : Jvm.MethodName)) ∈ lw_all := lw_g (lw_at lw_m0 112 rfl) rfl
theorem q128 : (Jvm.Cond.methodLink "StrideHeapLaw" (64 : Nat) ({ cls := "StrideHeap", name := "order", desc := "(I)I" } : Jvm.MethodName)) ∈ lw_all := lw_g (lw_at lw_m0 116 rfl) rfl
theorem q132 : (Jvm.Cond.methodLink "StrideHeapLaw" (9 : Nat) ({ cls := "StrideHeapLaw", name := "cell", desc := "([II)I" } : Jvm.MethodName)) ∈ lw_all := lw_g (lw_at lw_m0 120 rfl) rfl
theorem q133 : (Jvm.Cond.static ({ cls := "StrideHeapLaw", name := "cell", desc := "([II)I" } : Jvm.MethodName)) ∈ lw_all := lw_g (lw_at lw_m0 121 rfl) rfl
theorem q134 : (Jvm.Cond.code ({ cls := "StrideHeapLaw", name := "cell", desc := "([II)I" } : Jvm.MethodName) method_2_code (2 : Nat) (Option.some Jvm.ClassFile.FieldType.int)) ∈ lw_all := lw_g (lw_at lw_m0 122 rfl) rfl
theorem q135 : (Jvm.Cond.classLink "StrideHeapLaw" (18 : Nat) "StrideHeapModel") ∈ lw_all := lw_g (lw_at lw_m0 123 rfl) rfl
theorem q137 : (Jvm.Cond.methodLink "StrideHeapLaw" (20 : Nat) ({ cls := "StrideHeapModel", name := "<init>", desc := "(II)V" } : Jvm.MethodName)) ∈ lw_all := lw_g (lw_at lw_m0 125 rfl) rfl
theorem q168 : (Jvm.Cond.methodLink "StrideHeapLaw" (25 : Nat) ({ cls := "StrideHeapModel", name := "join", desc := "(II)I" } : Jvm.MethodName)) ∈ lw_all := lw_g (lw_at lw_m0 156 rfl) rfl
theorem q188 : (Jvm.Cond.methodLink "StrideHeapLaw" (30 : Nat) ({ cls := "StrideHeapModel", name := "leave", desc := "(I)I" } : Jvm.MethodName)) ∈ lw_all := lw_g (lw_at lw_m0 176 rfl) rfl
theorem q192 : (Jvm.Cond.methodLink "StrideHeapLaw" (35 : Nat) ({ cls := "StrideHeapModel", name := "next", desc := "()I" } : Jvm.MethodName)) ∈ lw_all := lw_g (lw_at lw_m0 180 rfl) rfl
theorem q197 : (Jvm.Cond.methodLink "StrideHeapLaw" (39 : Nat) ({ cls := "StrideHeapModel", name := "turns", desc := "(I)I" } : Jvm.MethodName)) ∈ lw_all := lw_g (lw_at lw_m0 185 rfl) rfl
theorem q202 : (Jvm.Cond.methodLink "StrideHeapLaw" (43 : Nat) ({ cls := "StrideHeapModel", name := "change", desc := "(II)I" } : Jvm.MethodName)) ∈ lw_all := lw_g (lw_at lw_m0 190 rfl) rfl
theorem q206 : (Jvm.Cond.methodLink "StrideHeapLaw" (47 : Nat) ({ cls := "StrideHeapModel", name := "ranOf", desc := "(I)I" } : Jvm.MethodName)) ∈ lw_all := lw_g (lw_at lw_m0 194 rfl) rfl
theorem q210 : (Jvm.Cond.methodLink "StrideHeapLaw" (51 : Nat) ({ cls := "StrideHeapModel", name := "passOf", desc := "(I)I" } : Jvm.MethodName)) ∈ lw_all := lw_g (lw_at lw_m0 198 rfl) rfl
theorem q218 : (Jvm.Cond.methodLink "StrideHeapLaw" (55 : Nat) ({ cls := "StrideHeapModel", name := "strideOf", desc := "(I)I" } : Jvm.MethodName)) ∈ lw_all := lw_g (lw_at lw_m0 206 rfl) rfl
theorem q222 : (Jvm.Cond.methodLink "StrideHeapLaw" (59 : Nat) ({ cls := "StrideHeapModel", name := "clients", desc := "()I" } : Jvm.MethodName)) ∈ lw_all := lw_g (lw_at lw_m0 210 rfl) rfl
theorem q226 : (Jvm.Cond.methodLink "StrideHeapLaw" (63 : Nat) ({ cls := "StrideHeapModel", name := "spread", desc := "()I" } : Jvm.MethodName)) ∈ lw_all := lw_g (lw_at lw_m0 214 rfl) rfl
theorem q230 : (Jvm.Cond.methodLink "StrideHeapLaw" (67 : Nat) ({ cls := "StrideHeapModel", name := "order", desc := "(I)I" } : Jvm.MethodName)) ∈ lw_all := lw_g (lw_at lw_m0 218 rfl) rfl
/-! the law's own entry -/
set_option maxRecDepth 100000
abbrev cL_law : ByteArray := code
theorem dL_law_0 : decode cL_law 0 = .ok (.new 7, 3) := by decide +kernel
theorem dL_law_3 : decode cL_law 3 = .ok (.dup, 1) := by decide +kernel
theorem dL_law_4 : decode cL_law 4 = .ok (.aload_n 0, 1) := by decide +kernel
theorem dL_law_5 : decode cL_law 5 = .ok (.iconst 0, 1) := by decide +kernel
theorem dL_law_6 : decode cL_law 6 = .ok (.invokestatic 9, 3) := by decide +kernel
theorem dL_law_9 : decode cL_law 9 = .ok (.aload_n 0, 1) := by decide +kernel
theorem dL_law_10 : decode cL_law 10 = .ok (.iconst 1, 1) := by decide +kernel
theorem dL_law_11 : decode cL_law 11 = .ok (.invokestatic 9, 3) := by decide +kernel
theorem dL_law_14 : decode cL_law 14 = .ok (.invokespecial 15, 3) := by decide +kernel
theorem dL_law_17 : decode cL_law 17 = .ok (.astore_n 1, 1) := by decide +kernel
theorem dL_law_18 : decode cL_law 18 = .ok (.new 18, 3) := by decide +kernel
theorem dL_law_21 : decode cL_law 21 = .ok (.dup, 1) := by decide +kernel
theorem dL_law_22 : decode cL_law 22 = .ok (.aload_n 0, 1) := by decide +kernel
theorem dL_law_23 : decode cL_law 23 = .ok (.iconst 0, 1) := by decide +kernel
theorem dL_law_24 : decode cL_law 24 = .ok (.invokestatic 9, 3) := by decide +kernel
theorem dL_law_27 : decode cL_law 27 = .ok (.aload_n 0, 1) := by decide +kernel
theorem dL_law_28 : decode cL_law 28 = .ok (.iconst 1, 1) := by decide +kernel
theorem dL_law_29 : decode cL_law 29 = .ok (.invokestatic 9, 3) := by decide +kernel
theorem dL_law_32 : decode cL_law 32 = .ok (.invokespecial 20, 3) := by decide +kernel
theorem dL_law_35 : decode cL_law 35 = .ok (.astore_n 2, 1) := by decide +kernel
theorem dL_law_36 : decode cL_law 36 = .ok (.iconst 2, 1) := by decide +kernel
theorem dL_law_37 : decode cL_law 37 = .ok (.istore_n 3, 1) := by decide +kernel
theorem dL_law_38 : decode cL_law 38 = .ok (.iload_n 3, 1) := by decide +kernel
theorem dL_law_39 : decode cL_law 39 = .ok (.aload_n 0, 1) := by decide +kernel
theorem dL_law_40 : decode cL_law 40 = .ok (.arraylength, 1) := by decide +kernel
theorem dL_law_41 : decode cL_law 41 = .ok (.iconst 3, 1) := by decide +kernel
theorem dL_law_42 : decode cL_law 42 = .ok (.isub, 1) := by decide +kernel
theorem dL_law_43 : decode cL_law 43 = .ok (.if_icmp .gt 318, 3) := by decide +kernel
theorem dL_law_46 : decode cL_law 46 = .ok (.aload_n 0, 1) := by decide +kernel
theorem dL_law_47 : decode cL_law 47 = .ok (.iload_n 3, 1) := by decide +kernel
theorem dL_law_48 : decode cL_law 48 = .ok (.iaload, 1) := by decide +kernel
theorem dL_law_49 : decode cL_law 49 = .ok (.bipush 15, 2) := by decide +kernel
theorem dL_law_51 : decode cL_law 51 = .ok (.iand, 1) := by decide +kernel
theorem dL_law_52 : decode cL_law 52 = .ok (.tableswitch 303 0 10 #[60, 93, 116, 129, 152, 185, 208, 231, 254, 267, 280], 60) := by decide +kernel
theorem dL_law_112 : decode cL_law 112 = .ok (.aload_n 1, 1) := by decide +kernel
theorem dL_law_113 : decode cL_law 113 = .ok (.aload_n 0, 1) := by decide +kernel
theorem dL_law_114 : decode cL_law 114 = .ok (.iload_n 3, 1) := by decide +kernel
theorem dL_law_115 : decode cL_law 115 = .ok (.iconst 1, 1) := by decide +kernel
theorem dL_law_116 : decode cL_law 116 = .ok (.iadd, 1) := by decide +kernel
theorem dL_law_117 : decode cL_law 117 = .ok (.iaload, 1) := by decide +kernel
theorem dL_law_118 : decode cL_law 118 = .ok (.aload_n 0, 1) := by decide +kernel
theorem dL_law_119 : decode cL_law 119 = .ok (.iload_n 3, 1) := by decide +kernel
theorem dL_law_120 : decode cL_law 120 = .ok (.iconst 2, 1) := by decide +kernel
theorem dL_law_121 : decode cL_law 121 = .ok (.iadd, 1) := by decide +kernel
theorem dL_law_122 : decode cL_law 122 = .ok (.iaload, 1) := by decide +kernel
theorem dL_law_123 : decode cL_law 123 = .ok (.invokevirtual 21, 3) := by decide +kernel
theorem dL_law_126 : decode cL_law 126 = .ok (.aload_n 2, 1) := by decide +kernel
theorem dL_law_127 : decode cL_law 127 = .ok (.aload_n 0, 1) := by decide +kernel
theorem dL_law_128 : decode cL_law 128 = .ok (.iload_n 3, 1) := by decide +kernel
theorem dL_law_129 : decode cL_law 129 = .ok (.iconst 1, 1) := by decide +kernel
theorem dL_law_130 : decode cL_law 130 = .ok (.iadd, 1) := by decide +kernel
theorem dL_law_131 : decode cL_law 131 = .ok (.iaload, 1) := by decide +kernel
theorem dL_law_132 : decode cL_law 132 = .ok (.aload_n 0, 1) := by decide +kernel
theorem dL_law_133 : decode cL_law 133 = .ok (.iload_n 3, 1) := by decide +kernel
theorem dL_law_134 : decode cL_law 134 = .ok (.iconst 2, 1) := by decide +kernel
theorem dL_law_135 : decode cL_law 135 = .ok (.iadd, 1) := by decide +kernel
theorem dL_law_136 : decode cL_law 136 = .ok (.iaload, 1) := by decide +kernel
theorem dL_law_137 : decode cL_law 137 = .ok (.invokevirtual 25, 3) := by decide +kernel
theorem dL_law_140 : decode cL_law 140 = .ok (.if_icmp .eq 215, 3) := by decide +kernel
theorem dL_law_143 : decode cL_law 143 = .ok (.iconst 0, 1) := by decide +kernel
theorem dL_law_144 : decode cL_law 144 = .ok (.ireturn, 1) := by decide +kernel
theorem dL_law_145 : decode cL_law 145 = .ok (.aload_n 1, 1) := by decide +kernel
theorem dL_law_146 : decode cL_law 146 = .ok (.aload_n 0, 1) := by decide +kernel
theorem dL_law_147 : decode cL_law 147 = .ok (.iload_n 3, 1) := by decide +kernel
theorem dL_law_148 : decode cL_law 148 = .ok (.iconst 1, 1) := by decide +kernel
theorem dL_law_149 : decode cL_law 149 = .ok (.iadd, 1) := by decide +kernel
theorem dL_law_150 : decode cL_law 150 = .ok (.iaload, 1) := by decide +kernel
theorem dL_law_151 : decode cL_law 151 = .ok (.invokevirtual 26, 3) := by decide +kernel
theorem dL_law_154 : decode cL_law 154 = .ok (.aload_n 2, 1) := by decide +kernel
theorem dL_law_155 : decode cL_law 155 = .ok (.aload_n 0, 1) := by decide +kernel
theorem dL_law_156 : decode cL_law 156 = .ok (.iload_n 3, 1) := by decide +kernel
theorem dL_law_157 : decode cL_law 157 = .ok (.iconst 1, 1) := by decide +kernel
theorem dL_law_158 : decode cL_law 158 = .ok (.iadd, 1) := by decide +kernel
theorem dL_law_159 : decode cL_law 159 = .ok (.iaload, 1) := by decide +kernel
theorem dL_law_160 : decode cL_law 160 = .ok (.invokevirtual 30, 3) := by decide +kernel
theorem dL_law_163 : decode cL_law 163 = .ok (.if_icmp .eq 192, 3) := by decide +kernel
theorem dL_law_166 : decode cL_law 166 = .ok (.iconst 0, 1) := by decide +kernel
theorem dL_law_167 : decode cL_law 167 = .ok (.ireturn, 1) := by decide +kernel
theorem dL_law_168 : decode cL_law 168 = .ok (.aload_n 1, 1) := by decide +kernel
theorem dL_law_169 : decode cL_law 169 = .ok (.invokevirtual 31, 3) := by decide +kernel
theorem dL_law_172 : decode cL_law 172 = .ok (.aload_n 2, 1) := by decide +kernel
theorem dL_law_173 : decode cL_law 173 = .ok (.invokevirtual 35, 3) := by decide +kernel
theorem dL_law_176 : decode cL_law 176 = .ok (.if_icmp .eq 179, 3) := by decide +kernel
theorem dL_law_179 : decode cL_law 179 = .ok (.iconst 0, 1) := by decide +kernel
theorem dL_law_180 : decode cL_law 180 = .ok (.ireturn, 1) := by decide +kernel
theorem dL_law_181 : decode cL_law 181 = .ok (.aload_n 1, 1) := by decide +kernel
theorem dL_law_182 : decode cL_law 182 = .ok (.aload_n 0, 1) := by decide +kernel
theorem dL_law_183 : decode cL_law 183 = .ok (.iload_n 3, 1) := by decide +kernel
theorem dL_law_184 : decode cL_law 184 = .ok (.iconst 1, 1) := by decide +kernel
theorem dL_law_185 : decode cL_law 185 = .ok (.iadd, 1) := by decide +kernel
theorem dL_law_186 : decode cL_law 186 = .ok (.iaload, 1) := by decide +kernel
theorem dL_law_187 : decode cL_law 187 = .ok (.invokevirtual 36, 3) := by decide +kernel
theorem dL_law_190 : decode cL_law 190 = .ok (.aload_n 2, 1) := by decide +kernel
theorem dL_law_191 : decode cL_law 191 = .ok (.aload_n 0, 1) := by decide +kernel
theorem dL_law_192 : decode cL_law 192 = .ok (.iload_n 3, 1) := by decide +kernel
theorem dL_law_193 : decode cL_law 193 = .ok (.iconst 1, 1) := by decide +kernel
theorem dL_law_194 : decode cL_law 194 = .ok (.iadd, 1) := by decide +kernel
theorem dL_law_195 : decode cL_law 195 = .ok (.iaload, 1) := by decide +kernel
theorem dL_law_196 : decode cL_law 196 = .ok (.invokevirtual 39, 3) := by decide +kernel
theorem dL_law_199 : decode cL_law 199 = .ok (.if_icmp .eq 156, 3) := by decide +kernel
theorem dL_law_202 : decode cL_law 202 = .ok (.iconst 0, 1) := by decide +kernel
theorem dL_law_203 : decode cL_law 203 = .ok (.ireturn, 1) := by decide +kernel
theorem dL_law_204 : decode cL_law 204 = .ok (.aload_n 1, 1) := by decide +kernel
theorem dL_law_205 : decode cL_law 205 = .ok (.aload_n 0, 1) := by decide +kernel
theorem dL_law_206 : decode cL_law 206 = .ok (.iload_n 3, 1) := by decide +kernel
theorem dL_law_207 : decode cL_law 207 = .ok (.iconst 1, 1) := by decide +kernel
theorem dL_law_208 : decode cL_law 208 = .ok (.iadd, 1) := by decide +kernel
theorem dL_law_209 : decode cL_law 209 = .ok (.iaload, 1) := by decide +kernel
theorem dL_law_210 : decode cL_law 210 = .ok (.aload_n 0, 1) := by decide +kernel
theorem dL_law_211 : decode cL_law 211 = .ok (.iload_n 3, 1) := by decide +kernel
theorem dL_law_212 : decode cL_law 212 = .ok (.iconst 2, 1) := by decide +kernel
theorem dL_law_213 : decode cL_law 213 = .ok (.iadd, 1) := by decide +kernel
theorem dL_law_214 : decode cL_law 214 = .ok (.iaload, 1) := by decide +kernel
theorem dL_law_215 : decode cL_law 215 = .ok (.invokevirtual 40, 3) := by decide +kernel
theorem dL_law_218 : decode cL_law 218 = .ok (.aload_n 2, 1) := by decide +kernel
theorem dL_law_219 : decode cL_law 219 = .ok (.aload_n 0, 1) := by decide +kernel
theorem dL_law_220 : decode cL_law 220 = .ok (.iload_n 3, 1) := by decide +kernel
theorem dL_law_221 : decode cL_law 221 = .ok (.iconst 1, 1) := by decide +kernel
theorem dL_law_222 : decode cL_law 222 = .ok (.iadd, 1) := by decide +kernel
theorem dL_law_223 : decode cL_law 223 = .ok (.iaload, 1) := by decide +kernel
theorem dL_law_224 : decode cL_law 224 = .ok (.aload_n 0, 1) := by decide +kernel
theorem dL_law_225 : decode cL_law 225 = .ok (.iload_n 3, 1) := by decide +kernel
theorem dL_law_226 : decode cL_law 226 = .ok (.iconst 2, 1) := by decide +kernel
theorem dL_law_227 : decode cL_law 227 = .ok (.iadd, 1) := by decide +kernel
theorem dL_law_228 : decode cL_law 228 = .ok (.iaload, 1) := by decide +kernel
theorem dL_law_229 : decode cL_law 229 = .ok (.invokevirtual 43, 3) := by decide +kernel
theorem dL_law_232 : decode cL_law 232 = .ok (.if_icmp .eq 123, 3) := by decide +kernel
theorem dL_law_235 : decode cL_law 235 = .ok (.iconst 0, 1) := by decide +kernel
theorem dL_law_236 : decode cL_law 236 = .ok (.ireturn, 1) := by decide +kernel
theorem dL_law_237 : decode cL_law 237 = .ok (.aload_n 1, 1) := by decide +kernel
theorem dL_law_238 : decode cL_law 238 = .ok (.aload_n 0, 1) := by decide +kernel
theorem dL_law_239 : decode cL_law 239 = .ok (.iload_n 3, 1) := by decide +kernel
theorem dL_law_240 : decode cL_law 240 = .ok (.iconst 1, 1) := by decide +kernel
theorem dL_law_241 : decode cL_law 241 = .ok (.iadd, 1) := by decide +kernel
theorem dL_law_242 : decode cL_law 242 = .ok (.iaload, 1) := by decide +kernel
theorem dL_law_243 : decode cL_law 243 = .ok (.invokevirtual 44, 3) := by decide +kernel
theorem dL_law_246 : decode cL_law 246 = .ok (.aload_n 2, 1) := by decide +kernel
theorem dL_law_247 : decode cL_law 247 = .ok (.aload_n 0, 1) := by decide +kernel
theorem dL_law_248 : decode cL_law 248 = .ok (.iload_n 3, 1) := by decide +kernel
theorem dL_law_249 : decode cL_law 249 = .ok (.iconst 1, 1) := by decide +kernel
theorem dL_law_250 : decode cL_law 250 = .ok (.iadd, 1) := by decide +kernel
theorem dL_law_251 : decode cL_law 251 = .ok (.iaload, 1) := by decide +kernel
theorem dL_law_252 : decode cL_law 252 = .ok (.invokevirtual 47, 3) := by decide +kernel
theorem dL_law_255 : decode cL_law 255 = .ok (.if_icmp .eq 100, 3) := by decide +kernel
theorem dL_law_258 : decode cL_law 258 = .ok (.iconst 0, 1) := by decide +kernel
theorem dL_law_259 : decode cL_law 259 = .ok (.ireturn, 1) := by decide +kernel
theorem dL_law_260 : decode cL_law 260 = .ok (.aload_n 1, 1) := by decide +kernel
theorem dL_law_261 : decode cL_law 261 = .ok (.aload_n 0, 1) := by decide +kernel
theorem dL_law_262 : decode cL_law 262 = .ok (.iload_n 3, 1) := by decide +kernel
theorem dL_law_263 : decode cL_law 263 = .ok (.iconst 1, 1) := by decide +kernel
theorem dL_law_264 : decode cL_law 264 = .ok (.iadd, 1) := by decide +kernel
theorem dL_law_265 : decode cL_law 265 = .ok (.iaload, 1) := by decide +kernel
theorem dL_law_266 : decode cL_law 266 = .ok (.invokevirtual 48, 3) := by decide +kernel
theorem dL_law_269 : decode cL_law 269 = .ok (.aload_n 2, 1) := by decide +kernel
theorem dL_law_270 : decode cL_law 270 = .ok (.aload_n 0, 1) := by decide +kernel
theorem dL_law_271 : decode cL_law 271 = .ok (.iload_n 3, 1) := by decide +kernel
theorem dL_law_272 : decode cL_law 272 = .ok (.iconst 1, 1) := by decide +kernel
theorem dL_law_273 : decode cL_law 273 = .ok (.iadd, 1) := by decide +kernel
theorem dL_law_274 : decode cL_law 274 = .ok (.iaload, 1) := by decide +kernel
theorem dL_law_275 : decode cL_law 275 = .ok (.invokevirtual 51, 3) := by decide +kernel
theorem dL_law_278 : decode cL_law 278 = .ok (.if_icmp .eq 77, 3) := by decide +kernel
theorem dL_law_281 : decode cL_law 281 = .ok (.iconst 0, 1) := by decide +kernel
theorem dL_law_282 : decode cL_law 282 = .ok (.ireturn, 1) := by decide +kernel
theorem dL_law_283 : decode cL_law 283 = .ok (.aload_n 1, 1) := by decide +kernel
theorem dL_law_284 : decode cL_law 284 = .ok (.aload_n 0, 1) := by decide +kernel
theorem dL_law_285 : decode cL_law 285 = .ok (.iload_n 3, 1) := by decide +kernel
theorem dL_law_286 : decode cL_law 286 = .ok (.iconst 1, 1) := by decide +kernel
theorem dL_law_287 : decode cL_law 287 = .ok (.iadd, 1) := by decide +kernel
theorem dL_law_288 : decode cL_law 288 = .ok (.iaload, 1) := by decide +kernel
theorem dL_law_289 : decode cL_law 289 = .ok (.invokevirtual 52, 3) := by decide +kernel
theorem dL_law_292 : decode cL_law 292 = .ok (.aload_n 2, 1) := by decide +kernel
theorem dL_law_293 : decode cL_law 293 = .ok (.aload_n 0, 1) := by decide +kernel
theorem dL_law_294 : decode cL_law 294 = .ok (.iload_n 3, 1) := by decide +kernel
theorem dL_law_295 : decode cL_law 295 = .ok (.iconst 1, 1) := by decide +kernel
theorem dL_law_296 : decode cL_law 296 = .ok (.iadd, 1) := by decide +kernel
theorem dL_law_297 : decode cL_law 297 = .ok (.iaload, 1) := by decide +kernel
theorem dL_law_298 : decode cL_law 298 = .ok (.invokevirtual 55, 3) := by decide +kernel
theorem dL_law_301 : decode cL_law 301 = .ok (.if_icmp .eq 54, 3) := by decide +kernel
theorem dL_law_304 : decode cL_law 304 = .ok (.iconst 0, 1) := by decide +kernel
theorem dL_law_305 : decode cL_law 305 = .ok (.ireturn, 1) := by decide +kernel
theorem dL_law_306 : decode cL_law 306 = .ok (.aload_n 1, 1) := by decide +kernel
theorem dL_law_307 : decode cL_law 307 = .ok (.invokevirtual 56, 3) := by decide +kernel
theorem dL_law_310 : decode cL_law 310 = .ok (.aload_n 2, 1) := by decide +kernel
theorem dL_law_311 : decode cL_law 311 = .ok (.invokevirtual 59, 3) := by decide +kernel
theorem dL_law_314 : decode cL_law 314 = .ok (.if_icmp .eq 41, 3) := by decide +kernel
theorem dL_law_317 : decode cL_law 317 = .ok (.iconst 0, 1) := by decide +kernel
theorem dL_law_318 : decode cL_law 318 = .ok (.ireturn, 1) := by decide +kernel
theorem dL_law_319 : decode cL_law 319 = .ok (.aload_n 1, 1) := by decide +kernel
theorem dL_law_320 : decode cL_law 320 = .ok (.invokevirtual 60, 3) := by decide +kernel
theorem dL_law_323 : decode cL_law 323 = .ok (.aload_n 2, 1) := by decide +kernel
theorem dL_law_324 : decode cL_law 324 = .ok (.invokevirtual 63, 3) := by decide +kernel
theorem dL_law_327 : decode cL_law 327 = .ok (.if_icmp .eq 28, 3) := by decide +kernel
theorem dL_law_330 : decode cL_law 330 = .ok (.iconst 0, 1) := by decide +kernel
theorem dL_law_331 : decode cL_law 331 = .ok (.ireturn, 1) := by decide +kernel
theorem dL_law_332 : decode cL_law 332 = .ok (.aload_n 1, 1) := by decide +kernel
theorem dL_law_333 : decode cL_law 333 = .ok (.aload_n 0, 1) := by decide +kernel
theorem dL_law_334 : decode cL_law 334 = .ok (.iload_n 3, 1) := by decide +kernel
theorem dL_law_335 : decode cL_law 335 = .ok (.iconst 1, 1) := by decide +kernel
theorem dL_law_336 : decode cL_law 336 = .ok (.iadd, 1) := by decide +kernel
theorem dL_law_337 : decode cL_law 337 = .ok (.iaload, 1) := by decide +kernel
theorem dL_law_338 : decode cL_law 338 = .ok (.invokevirtual 64, 3) := by decide +kernel
theorem dL_law_341 : decode cL_law 341 = .ok (.aload_n 2, 1) := by decide +kernel
theorem dL_law_342 : decode cL_law 342 = .ok (.aload_n 0, 1) := by decide +kernel
theorem dL_law_343 : decode cL_law 343 = .ok (.iload_n 3, 1) := by decide +kernel
theorem dL_law_344 : decode cL_law 344 = .ok (.iconst 1, 1) := by decide +kernel
theorem dL_law_345 : decode cL_law 345 = .ok (.iadd, 1) := by decide +kernel
theorem dL_law_346 : decode cL_law 346 = .ok (.iaload, 1) := by decide +kernel
theorem dL_law_347 : decode cL_law 347 = .ok (.invokevirtual 67, 3) := by decide +kernel
theorem dL_law_350 : decode cL_law 350 = .ok (.if_icmp .eq 5, 3) := by decide +kernel
theorem dL_law_353 : decode cL_law 353 = .ok (.iconst 0, 1) := by decide +kernel
theorem dL_law_354 : decode cL_law 354 = .ok (.ireturn, 1) := by decide +kernel
theorem dL_law_355 : decode cL_law 355 = .ok (.iinc 3 3, 3) := by decide +kernel
theorem dL_law_358 : decode cL_law 358 = .ok (.goto (-320), 3) := by decide +kernel
theorem dL_law_361 : decode cL_law 361 = .ok (.iconst 1, 1) := by decide +kernel
theorem dL_law_362 : decode cL_law 362 = .ok (.ireturn, 1) := by decide +kernel
end
section
/-! numbers: the machine's rows over natural numbers -/
def bI (b : Bool) : Int32 := if b = true then 1 else 0
def nF (f : Nat → Nat) : Nat → Int32 := fun i => nI (f i)
def lF (f : Nat → Nat) : Nat → Int64 := fun i => lN (f i)
theorem nF_upd {f : Nat → Nat} {k v : Nat} (hk : k < 2 ^ 31) : upd (nF f) (nI k).toNatClampNeg (nI v) = nF (va_up f k v) := by
  rw [nI_clamp hk]
  funext j
  by_cases h : j = k
  · simp [upd, nF, va_up, h]
  · simp [upd, nF, va_up, h]
theorem lF_upd {f : Nat → Nat} {k v : Nat} (hk : k < 2 ^ 31) : vp_updL (lF f) (nI k).toNatClampNeg (lN v) = lF (va_up f k v) := by
  rw [nI_clamp hk]
  funext j
  by_cases h : j = k
  · simp [vp_updL, lF, va_up, h]
  · simp [vp_updL, lF, va_up, h]
theorem lc_lt {x y : Nat} (hx : x < 2 ^ 31) (hy : y < 2 ^ 31) : lg_cmp (lN x) (lN y) < 0 ↔ x < y := by
  unfold lg_cmp
  have h1 : (lN x > lN y) ↔ y < x := lN_lt hy hx
  have h2 := lN_eq hx hy
  by_cases a : y < x
  · rw [if_pos (h1.mpr a)]
    exact ⟨fun h => absurd h (by decide), fun h => by omega⟩
  · rw [if_neg (fun q => a (h1.mp q))]
    by_cases b : x = y
    · rw [if_pos (h2.mpr b)]
      exact ⟨fun h => absurd h (by decide), fun h => by omega⟩
    · rw [if_neg (fun q => b (h2.mp q))]
      exact ⟨fun h => by omega, fun h => by decide⟩
theorem lc_eq {x y : Nat} (hx : x < 2 ^ 31) (hy : y < 2 ^ 31) : lg_cmp (lN x) (lN y) = 0 ↔ x = y := by
  unfold lg_cmp
  have h1 : (lN x > lN y) ↔ y < x := lN_lt hy hx
  have h2 := lN_eq hx hy
  by_cases a : y < x
  · rw [if_pos (h1.mpr a)]
    exact ⟨fun h => absurd h (by decide), fun h => by omega⟩
  · rw [if_neg (fun q => a (h1.mp q))]
    by_cases b : x = y
    · rw [if_pos (h2.mpr b)]
      exact ⟨fun h => b, fun h => rfl⟩
    · rw [if_neg (fun q => b (h2.mp q))]
      exact ⟨fun h => absurd h (by decide), fun h => by omega⟩
theorem lc_le {x y : Nat} (hx : x < 2 ^ 32) (hy : y < 2 ^ 32) : lg_cmp (lN x) (lN y) ≤ 0 ↔ x ≤ y := by
  unfold lg_cmp
  have h1 : (lN x > lN y) ↔ y < x := pk_lLT (by omega) (by omega)
  have h2 := pk_lEQ (a := x) (b := y) (by omega) (by omega)
  by_cases a : y < x
  · rw [if_pos (h1.mpr a)]
    exact ⟨fun h => absurd h (by decide), fun h => by omega⟩
  · rw [if_neg (fun q => a (h1.mp q))]
    by_cases b : x = y
    · rw [if_pos (h2.mpr b)]
      exact ⟨fun h => by omega, fun h => by decide⟩
    · rw [if_neg (fun q => b (h2.mp q))]
      exact ⟨fun h => by omega, fun h => by decide⟩
section NR
variable {p : Program} {l : Launch} {e : Env} {R : Room} {s : State} {m : MethodId} {args : Array Value} {below : List Frame} {meth : Method} {c : Code} {H : Heap} {locs : List Loc} {cells slots : Nat} {Q : State → Prop}
variable {cc : ByteArray} {pc : Nat} {ls : Array Slot} {rest : List Value}
theorem n_iadd (hx : p.tables.exec = Jvm.exec) (hb : c.code = cc) {x y : Nat} (hdg : decode cc pc = .ok (.iadd, 1)) (k : W p l e R s m args below meth c H locs cells slots Q (F0 m (pc + 1) ls (.int (nI (x + y)) :: rest))) : W p l e R s m args below meth c H locs cells slots Q (F0 m pc ls (.int (nI y) :: .int (nI x) :: rest)) := lv_iadd hx hb hdg (by rw [nI_add]; exact k)
theorem n_isub (hx : p.tables.exec = Jvm.exec) (hb : c.code = cc) {x y : Nat} (h : y ≤ x) (hdg : decode cc pc = .ok (.isub, 1)) (k : W p l e R s m args below meth c H locs cells slots Q (F0 m (pc + 1) ls (.int (nI (x - y)) :: rest))) : W p l e R s m args below meth c H locs cells slots Q (F0 m pc ls (.int (nI y) :: .int (nI x) :: rest)) := lv_isub hx hb hdg (by rw [pk_sub h]; exact k)
theorem n_imul (hx : p.tables.exec = Jvm.exec) (hb : c.code = cc) {x y : Nat} (hdg : decode cc pc = .ok (.imul, 1)) (k : W p l e R s m args below meth c H locs cells slots Q (F0 m (pc + 1) ls (.int (nI (x * y)) :: rest))) : W p l e R s m args below meth c H locs cells slots Q (F0 m pc ls (.int (nI y) :: .int (nI x) :: rest)) := lv_imul hx hb hdg (by rw [pk_mul]; exact k)
theorem n_ishr1 (hx : p.tables.exec = Jvm.exec) (hb : c.code = cc) {x : Nat} (h : x < 2 ^ 31) (hdg : decode cc pc = .ok (.ishr, 1)) (k : W p l e R s m args below meth c H locs cells slots Q (F0 m (pc + 1) ls (.int (nI (x / 2)) :: rest))) : W p l e R s m args below meth c H locs cells slots Q (F0 m pc ls (.int (nI 1) :: .int (nI x) :: rest)) := lv_ishr hx hb hdg (by rw [pk_shrN h (nI 1 &&& 31) 1 (by decide +kernel)]; exact k)
theorem n_idiv (hx : p.tables.exec = Jvm.exec) (hb : c.code = cc) {x y : Nat} (h : x < 2 ^ 31) (h0 : 0 < y) (h1 : y < 2 ^ 31) (hdg : decode cc pc = .ok (.idiv, 1)) (k : W p l e R s m args below meth c H locs cells slots Q (F0 m (pc + 1) ls (.int (nI (x / y)) :: rest))) : W p l e R s m args below meth c H locs cells slots Q (F0 m pc ls (.int (nI y) :: .int (nI x) :: rest)) := lv_idiv hx hb hdg (nI_ne0 h0 h1) (by rw [pk_div h h0 h1]; exact k)
theorem n_i2l (hx : p.tables.exec = Jvm.exec) (hb : c.code = cc) {x : Nat} (h : x < 2 ^ 31) (hdg : decode cc pc = .ok (.i2l, 1)) (k : W p l e R s m args below meth c H locs cells slots Q (F0 m (pc + 1) ls (.long (lN x) :: rest))) : W p l e R s m args below meth c H locs cells slots Q (F0 m pc ls (.int (nI x) :: rest)) := lv_i2l hx hb hdg (nI_l h) k
theorem n_l2i (hx : p.tables.exec = Jvm.exec) (hb : c.code = cc) {x : Nat} (hdg : decode cc pc = .ok (.l2i, 1)) (k : W p l e R s m args below meth c H locs cells slots Q (F0 m (pc + 1) ls (.int (nI x) :: rest))) : W p l e R s m args below meth c H locs cells slots Q (F0 m pc ls (.long (lN x) :: rest)) := lv_l2i hx hb hdg (lN_i x) k
theorem n_ladd (hx : p.tables.exec = Jvm.exec) (hb : c.code = cc) {x y : Nat} (hdg : decode cc pc = .ok (.ladd, 1)) (k : W p l e R s m args below meth c H locs cells slots Q (F0 m (pc + 1) ls (.long (lN (x + y)) :: rest))) : W p l e R s m args below meth c H locs cells slots Q (F0 m pc ls (.long (lN y) :: .long (lN x) :: rest)) := lv_ladd hx hb hdg (by rw [lN_add]; exact k)
theorem n_lsub (hx : p.tables.exec = Jvm.exec) (hb : c.code = cc) {x y : Nat} (h : y ≤ x) (hdg : decode cc pc = .ok (.lsub, 1)) (k : W p l e R s m args below meth c H locs cells slots Q (F0 m (pc + 1) ls (.long (lN (x - y)) :: rest))) : W p l e R s m args below meth c H locs cells slots Q (F0 m pc ls (.long (lN y) :: .long (lN x) :: rest)) := lv_lsub hx hb hdg (by rw [lN_sub h]; exact k)
theorem n_icmp_ge (hx : p.tables.exec = Jvm.exec) (hb : c.code = cc) {off : Int} {tgt : Nat} {x y : Nat} (h1 : x < 2 ^ 31) (h2 : y < 2 ^ 31) (hdg : decode cc pc = .ok (.if_icmp .ge off, 3)) (ht : (pc : Int) + off = (tgt : Int)) (kt : y ≤ x → W p l e R s m args below meth c H locs cells slots Q (F0 m tgt ls rest)) (kf : x < y → W p l e R s m args below meth c H locs cells slots Q (F0 m (pc + 3) ls rest)) : W p l e R s m args below meth c H locs cells slots Q (F0 m pc ls (.int (nI y) :: .int (nI x) :: rest)) := lv_icmp_ge hx hb hdg ht (fun h => kt ((nI_leI h2 h1).mp h)) (fun h => kf (Nat.lt_of_not_le (fun q => h ((nI_leI h2 h1).mpr q))))
theorem n_icmp_lt (hx : p.tables.exec = Jvm.exec) (hb : c.code = cc) {off : Int} {tgt : Nat} {x y : Nat} (h1 : x < 2 ^ 31) (h2 : y < 2 ^ 31) (hdg : decode cc pc = .ok (.if_icmp .lt off, 3)) (ht : (pc : Int) + off = (tgt : Int)) (kt : x < y → W p l e R s m args below meth c H locs cells slots Q (F0 m tgt ls rest)) (kf : y ≤ x → W p l e R s m args below meth c H locs cells slots Q (F0 m (pc + 3) ls rest)) : W p l e R s m args below meth c H locs cells slots Q (F0 m pc ls (.int (nI y) :: .int (nI x) :: rest)) := lv_icmp_lt hx hb hdg ht (fun h => kt ((nI_ltI h1 h2).mp h)) (fun h => kf (Nat.le_of_not_lt (fun q => h ((nI_ltI h1 h2).mpr q))))
theorem n_icmp_le (hx : p.tables.exec = Jvm.exec) (hb : c.code = cc) {off : Int} {tgt : Nat} {x y : Nat} (h1 : x < 2 ^ 31) (h2 : y < 2 ^ 31) (hdg : decode cc pc = .ok (.if_icmp .le off, 3)) (ht : (pc : Int) + off = (tgt : Int)) (kt : x ≤ y → W p l e R s m args below meth c H locs cells slots Q (F0 m tgt ls rest)) (kf : y < x → W p l e R s m args below meth c H locs cells slots Q (F0 m (pc + 3) ls rest)) : W p l e R s m args below meth c H locs cells slots Q (F0 m pc ls (.int (nI y) :: .int (nI x) :: rest)) := lv_icmp_le hx hb hdg ht (fun h => kt ((nI_leI h1 h2).mp h)) (fun h => kf (Nat.lt_of_not_le (fun q => h ((nI_leI h1 h2).mpr q))))
theorem n_icmp_gt (hx : p.tables.exec = Jvm.exec) (hb : c.code = cc) {off : Int} {tgt : Nat} {x y : Nat} (h1 : x < 2 ^ 31) (h2 : y < 2 ^ 31) (hdg : decode cc pc = .ok (.if_icmp .gt off, 3)) (ht : (pc : Int) + off = (tgt : Int)) (kt : y < x → W p l e R s m args below meth c H locs cells slots Q (F0 m tgt ls rest)) (kf : x ≤ y → W p l e R s m args below meth c H locs cells slots Q (F0 m (pc + 3) ls rest)) : W p l e R s m args below meth c H locs cells slots Q (F0 m pc ls (.int (nI y) :: .int (nI x) :: rest)) := lv_icmp_gt hx hb hdg ht (fun h => kt ((nI_ltI h2 h1).mp h)) (fun h => kf (Nat.le_of_not_lt (fun q => h ((nI_ltI h2 h1).mpr q))))
theorem n_icmp_eq (hx : p.tables.exec = Jvm.exec) (hb : c.code = cc) {off : Int} {tgt : Nat} {x y : Nat} (h1 : x < 2 ^ 31) (h2 : y < 2 ^ 31) (hdg : decode cc pc = .ok (.if_icmp .eq off, 3)) (ht : (pc : Int) + off = (tgt : Int)) (kt : x = y → W p l e R s m args below meth c H locs cells slots Q (F0 m tgt ls rest)) (kf : x ≠ y → W p l e R s m args below meth c H locs cells slots Q (F0 m (pc + 3) ls rest)) : W p l e R s m args below meth c H locs cells slots Q (F0 m pc ls (.int (nI y) :: .int (nI x) :: rest)) := lv_icmp_eq hx hb hdg ht (fun h => kt ((nI_eq h1 h2).mp h)) (fun h => kf (fun q => h ((nI_eq h1 h2).mpr q)))
theorem n_icmp_ne (hx : p.tables.exec = Jvm.exec) (hb : c.code = cc) {off : Int} {tgt : Nat} {x y : Nat} (h1 : x < 2 ^ 31) (h2 : y < 2 ^ 31) (hdg : decode cc pc = .ok (.if_icmp .ne off, 3)) (ht : (pc : Int) + off = (tgt : Int)) (kt : x ≠ y → W p l e R s m args below meth c H locs cells slots Q (F0 m tgt ls rest)) (kf : x = y → W p l e R s m args below meth c H locs cells slots Q (F0 m (pc + 3) ls rest)) : W p l e R s m args below meth c H locs cells slots Q (F0 m pc ls (.int (nI y) :: .int (nI x) :: rest)) := lv_icmp_ne hx hb hdg ht (fun h => kt (fun q => h ((nI_eq h1 h2).mpr q))) (fun h => kf ((nI_eq h1 h2).mp h))
theorem n_if_eq (hx : p.tables.exec = Jvm.exec) (hb : c.code = cc) {off : Int} {tgt : Nat} {x : Nat} (h1 : x < 2 ^ 31) (hdg : decode cc pc = .ok (.ifCond .eq off, 3)) (ht : (pc : Int) + off = (tgt : Int)) (kt : x = 0 → W p l e R s m args below meth c H locs cells slots Q (F0 m tgt ls rest)) (kf : 0 < x → W p l e R s m args below meth c H locs cells slots Q (F0 m (pc + 3) ls rest)) : W p l e R s m args below meth c H locs cells slots Q (F0 m pc ls (.int (nI x) :: rest)) := lv_if_eq hx hb hdg ht (fun h => kt ((nI_eq h1 (by decide)).mp (h.trans nI_0.symm))) (fun h => kf (Nat.pos_of_ne_zero (fun q => h (by rw [q]; exact nI_0))))
theorem n_if_ne (hx : p.tables.exec = Jvm.exec) (hb : c.code = cc) {off : Int} {tgt : Nat} {x : Nat} (h1 : x < 2 ^ 31) (hdg : decode cc pc = .ok (.ifCond .ne off, 3)) (ht : (pc : Int) + off = (tgt : Int)) (kt : 0 < x → W p l e R s m args below meth c H locs cells slots Q (F0 m tgt ls rest)) (kf : x = 0 → W p l e R s m args below meth c H locs cells slots Q (F0 m (pc + 3) ls rest)) : W p l e R s m args below meth c H locs cells slots Q (F0 m pc ls (.int (nI x) :: rest)) := lv_if_ne hx hb hdg ht (fun h => kt (Nat.pos_of_ne_zero (fun q => h (by rw [q]; exact nI_0)))) (fun h => kf ((nI_eq h1 (by decide)).mp (h.trans nI_0.symm)))
theorem n_if_le (hx : p.tables.exec = Jvm.exec) (hb : c.code = cc) {off : Int} {tgt : Nat} {x : Nat} (h1 : x < 2 ^ 31) (hdg : decode cc pc = .ok (.ifCond .le off, 3)) (ht : (pc : Int) + off = (tgt : Int)) (kt : x = 0 → W p l e R s m args below meth c H locs cells slots Q (F0 m tgt ls rest)) (kf : 0 < x → W p l e R s m args below meth c H locs cells slots Q (F0 m (pc + 3) ls rest)) : W p l e R s m args below meth c H locs cells slots Q (F0 m pc ls (.int (nI x) :: rest)) := lv_if_le hx hb hdg ht (fun h => kt (Nat.eq_zero_of_not_pos (fun q => nI_nle q h1 h))) (fun h => kf (Nat.pos_of_ne_zero (fun q => h (by rw [q, nI_0]; decide))))
theorem n_if_lt (hx : p.tables.exec = Jvm.exec) (hb : c.code = cc) {off : Int} {tgt : Nat} {x : Nat} (h1 : x < 2 ^ 31) (hdg : decode cc pc = .ok (.ifCond .lt off, 3)) (ht : (pc : Int) + off = (tgt : Int)) (kt : x < 0 → W p l e R s m args below meth c H locs cells slots Q (F0 m tgt ls rest)) (kf : 0 ≤ x → W p l e R s m args below meth c H locs cells slots Q (F0 m (pc + 3) ls rest)) : W p l e R s m args below meth c H locs cells slots Q (F0 m pc ls (.int (nI x) :: rest)) := lv_if_lt hx hb hdg ht (fun h => absurd h (nI_pos h1)) (fun _ => kf (Nat.zero_le _))
theorem n_if_ge (hx : p.tables.exec = Jvm.exec) (hb : c.code = cc) {off : Int} {tgt : Nat} {x : Nat} (h1 : x < 2 ^ 31) (hdg : decode cc pc = .ok (.ifCond .ge off, 3)) (ht : (pc : Int) + off = (tgt : Int)) (kt : 0 ≤ x → W p l e R s m args below meth c H locs cells slots Q (F0 m tgt ls rest)) (kf : x < 0 → W p l e R s m args below meth c H locs cells slots Q (F0 m (pc + 3) ls rest)) : W p l e R s m args below meth c H locs cells slots Q (F0 m pc ls (.int (nI x) :: rest)) := lv_if_ge hx hb hdg ht (fun _ => kt (Nat.zero_le _)) (fun h => absurd (nI_pos' h1) h)
theorem b_if_eq (hx : p.tables.exec = Jvm.exec) (hb : c.code = cc) {off : Int} {tgt : Nat} {b : Bool} (hdg : decode cc pc = .ok (.ifCond .eq off, 3)) (ht : (pc : Int) + off = (tgt : Int)) (kt : b = false → W p l e R s m args below meth c H locs cells slots Q (F0 m tgt ls rest)) (kf : b = true → W p l e R s m args below meth c H locs cells slots Q (F0 m (pc + 3) ls rest)) : W p l e R s m args below meth c H locs cells slots Q (F0 m pc ls (.int (bI b) :: rest)) := lv_if_eq hx hb hdg ht (fun h => kt (by cases b with | false => rfl | true => exact absurd h (by decide))) (fun h => kf (by cases b with | true => rfl | false => exact absurd (by decide) h))
theorem b_if_ne (hx : p.tables.exec = Jvm.exec) (hb : c.code = cc) {off : Int} {tgt : Nat} {b : Bool} (hdg : decode cc pc = .ok (.ifCond .ne off, 3)) (ht : (pc : Int) + off = (tgt : Int)) (kt : b = true → W p l e R s m args below meth c H locs cells slots Q (F0 m tgt ls rest)) (kf : b = false → W p l e R s m args below meth c H locs cells slots Q (F0 m (pc + 3) ls rest)) : W p l e R s m args below meth c H locs cells slots Q (F0 m pc ls (.int (bI b) :: rest)) := lv_if_ne hx hb hdg ht (fun h => kt (by cases b with | true => rfl | false => exact absurd (by decide) h)) (fun h => kf (by cases b with | false => rfl | true => exact absurd h (by decide)))
theorem l_if_lt (hx : p.tables.exec = Jvm.exec) (hb : c.code = cc) {off : Int} {tgt : Nat} {x y : Nat} (h1 : x < 2 ^ 31) (h2 : y < 2 ^ 31) (hdg : decode cc pc = .ok (.ifCond .lt off, 3)) (ht : (pc : Int) + off = (tgt : Int)) (kt : x < y → W p l e R s m args below meth c H locs cells slots Q (F0 m tgt ls rest)) (kf : y ≤ x → W p l e R s m args below meth c H locs cells slots Q (F0 m (pc + 3) ls rest)) : W p l e R s m args below meth c H locs cells slots Q (F0 m pc ls (.int (lg_cmp (lN x) (lN y)) :: rest)) := lv_if_lt hx hb hdg ht (fun h => kt ((lc_lt h1 h2).mp h)) (fun h => kf (Nat.le_of_not_lt (fun q => h ((lc_lt h1 h2).mpr q))))
theorem l_if_ne (hx : p.tables.exec = Jvm.exec) (hb : c.code = cc) {off : Int} {tgt : Nat} {x y : Nat} (h1 : x < 2 ^ 31) (h2 : y < 2 ^ 31) (hdg : decode cc pc = .ok (.ifCond .ne off, 3)) (ht : (pc : Int) + off = (tgt : Int)) (kt : x ≠ y → W p l e R s m args below meth c H locs cells slots Q (F0 m tgt ls rest)) (kf : x = y → W p l e R s m args below meth c H locs cells slots Q (F0 m (pc + 3) ls rest)) : W p l e R s m args below meth c H locs cells slots Q (F0 m pc ls (.int (lg_cmp (lN x) (lN y)) :: rest)) := lv_if_ne hx hb hdg ht (fun h => kt (fun q => h ((lc_eq h1 h2).mpr q))) (fun h => kf ((lc_eq h1 h2).mp h))
theorem l_if_le (hx : p.tables.exec = Jvm.exec) (hb : c.code = cc) {off : Int} {tgt : Nat} {x y : Nat} (h1 : x < 2 ^ 32) (h2 : y < 2 ^ 32) (hdg : decode cc pc = .ok (.ifCond .le off, 3)) (ht : (pc : Int) + off = (tgt : Int)) (kt : x ≤ y → W p l e R s m args below meth c H locs cells slots Q (F0 m tgt ls rest)) (kf : y < x → W p l e R s m args below meth c H locs cells slots Q (F0 m (pc + 3) ls rest)) : W p l e R s m args below meth c H locs cells slots Q (F0 m pc ls (.int (lg_cmp (lN x) (lN y)) :: rest)) := lv_if_le hx hb hdg ht (fun h => kt ((lc_le h1 h2).mp h)) (fun h => kf (Nat.lt_of_not_le (fun q => h ((lc_le h1 h2).mpr q))))
end NR
end
section
/-! the component's world: StrideHeap and its seven arrays -/
abbrev vwCl : List vw_C := [(RX1, TX1, 11), (RX2, TX2, 8)]
def wX (a : Nat → Nat) (d : ClassId) (tk sd ps rn hp po sp : Nat → Nat) (cap big n gp : Nat) : va_W := [(a 0, .inr (0, [.ref (a 1), .ref (a 2), .ref (a 3), .ref (a 4), .ref (a 5), .ref (a 6), .ref (a 7), .int (nI cap), .int (nI big), .int (nI n), .int (nI gp)])), (a 1, .inl (d, 64, .inl (nF tk))), (a 2, .inl (d, 64, .inl (nF sd))), (a 3, .inl (d, 64, .inl (nF ps))), (a 4, .inl (d, 64, .inl (nF rn))), (a 5, .inl (d, 64, .inl (nF hp))), (a 6, .inl (d, 64, .inl (nF po))), (a 7, .inl (d, 64, .inl (nF sp)))]
def hC (p : Program) (s : State) (m : MethodId) (args : Array Value) (c : Code) (cc : ByteArray) (nL : Nat) (D : va_G) (d : ClassId) (A : Nat → Prop) : Prop := p.tables.exec = Jvm.exec ∧ c.code = cc ∧ c.maxLocals = nL ∧ s.vm.findClass RX1 = some m.cls ∧ (∀ w ∈ lw_all, w.before args s = true) ∧ (∀ q, s.heap.size ≤ q → A q) ∧ va_K D vwCl [(d, .int)] s
def hW (D : va_G) (A : Nat → Prop) (s : State) (a : Nat → Nat) (d : ClassId) (tk sd ps rn hp po sp : Nat → Nat) (cap big n gp : Nat) (H : Heap) (locs : List Loc) : Prop := va_P D vwCl (wX a d tk sd ps rn hp po sp cap big n gp) H ∧ va_D A (wX a d tk sd ps rn hp po sp cap big n gp) ∧ va_S A s.heap H locs
abbrev HS : Type := (Nat → Nat) × (Nat → Nat) × (Nat → Nat) × (Nat → Nat) × (Nat → Nat) × (Nat → Nat) × (Nat → Nat) × Nat × Nat × Nat × Nat
abbrev wS (a : Nat → Nat) (d : ClassId) (u : HS) : va_W := wX a d u.1 u.2.1 u.2.2.1 u.2.2.2.1 u.2.2.2.2.1 u.2.2.2.2.2.1 u.2.2.2.2.2.2.1 u.2.2.2.2.2.2.2.1 u.2.2.2.2.2.2.2.2.1 u.2.2.2.2.2.2.2.2.2.1 u.2.2.2.2.2.2.2.2.2.2
abbrev hWs (D : va_G) (A : Nat → Prop) (s : State) (a : Nat → Nat) (d : ClassId) (u : HS) (H : Heap) (locs : List Loc) : Prop := hW D A s a d u.1 u.2.1 u.2.2.1 u.2.2.2.1 u.2.2.2.2.1 u.2.2.2.2.2.1 u.2.2.2.2.2.2.1 u.2.2.2.2.2.2.2.1 u.2.2.2.2.2.2.2.2.1 u.2.2.2.2.2.2.2.2.2.1 u.2.2.2.2.2.2.2.2.2.2 H locs
def hB (D : va_G) (a : Nat → Nat) (d : ClassId) (A : Nat → Prop) (u : HS) (t : State) : Prop := va_P D vwCl (wS a d u) t.heap ∧ va_K D vwCl [(d, .int)] t ∧ va_D A (wS a d u)
def hPre (D : va_G) (a : Nat → Nat) (d : ClassId) (u0 : HS) (sz : Nat) (U : State) : Prop := U.heap.size = sz ∧ va_P D vwCl (wS a d u0) U.heap ∧ va_K D vwCl [(d, .int)] U ∧ va_D (fun _ => True) (wS a d u0)
def hMet (y : MethodName) (cc : ByteArray) (nL : Nat) (rt : Option FieldType) (rm : Room) (As : List Value) (u0 : HS) (Qp : Int32 → HS → Prop) : Prop := ∀ (l : Launch) (D : va_G) (a : Nat → Nat) (d : ClassId) (sz : Nat), Met l y (ws_ y cc nL rt) rm (va_Pc (.ref (a 0) :: As) (hPre D a d u0 sz)) (va_Qi Qp (hB D a d (va_A (wS a d u0) sz)) (va_A (wS a d u0) sz)) 0 0 (va_A (wS a d u0) sz)
def hMetV (y : MethodName) (cc : ByteArray) (nL : Nat) (rm : Room) (As : List Value) (u0 : HS) (Qp : HS → Prop) : Prop := ∀ (l : Launch) (D : va_G) (a : Nat → Nat) (d : ClassId) (sz : Nat), Met l y (ws_ y cc nL none) rm (va_Pc (.ref (a 0) :: As) (hPre D a d u0 sz)) (va_Qv Qp (hB D a d (va_A (wS a d u0) sz)) (va_A (wS a d u0) sz)) 0 0 (va_A (wS a d u0) sz)
set_option maxHeartbeats 4000000 in
set_option maxRecDepth 100000 in
theorem hMet_i {y : MethodName} {cc : ByteArray} {nL : Nat} {rm : Room} {As : List Value} {u0 : HS} {Qp : Int32 → HS → Prop} (hy : plainName y.cls = true) (hyc : y.cls = RX1) (hnl : ∀ x : Nat, (lg_sl (.ref x :: As)).length ≤ nL)
    (body : ∀ (p : Program) (l : Launch) (e : Env) (s : State) (m : MethodId) (args : Array Value) (below : List Frame) (meth : Method) (c : Code) (D : va_G) (a : Nat → Nat) (d : ClassId) (A : Nat → Prop) (Q : State → Prop) (ls : Array Slot), hC p s m args c cc nL D d A →
      (∀ (v : Int32) (u : HS) (H : Heap) (locs : List Loc) (pc : Nat) (ls : Array Slot), Qp v u → hWs D A s a d u H locs → decode cc pc = .ok (.ireturn, 1) → W p l e rm s m args below meth c H locs 0 0 Q (F0 m pc ls [.int v])) →
      hWs D A s a d u0 s.heap [] → lv_has ls nL (lv_args 0 (.ref (a 0) :: As)) → W p l e rm s m args below meth c s.heap [] 0 0 Q (F0 m 0 ls [])) : hMet y cc nL (some .int) rm As u0 Qp := by
  intro l D a d sz
  refine Met.ofW (cc := cc) (maxL := nL) (ret := some .int) hy rfl ?_
  intro p e s m args below meth c s₁ B hml hv
  obtain ⟨rfl, hsz, hP, hK, hD0⟩ := hv
  have hts := atoms_spec (ws := ws_ y cc nL (some .int)) B.pre
  have hts : ∀ w ∈ lw_all, w.before _ s = true := fun w h => hts w (List.mem_cons_of_mem _ h)
  have hown : s.vm.findClass RX1 = some m.cls := by rw [← hyc]; exact findClass_of_methodNamed B.named
  have hlocks := B.notSynchronized
  subst hsz
  have hD := hD0.self (sz := s.heap.size)
  have hl := lv_entry (.ref (a 0) :: As) (n := nL) (hnl _)
  rw [lg_entry_eq]
  refine body p l e s m _ below meth c D a d (va_A (wS a d u0) s.heap.size) _ _ ⟨B.exec, B.bytes, hml, hown, hts, fun q h => Or.inr h, hK⟩ ?_ ⟨hP, hD, va_S.rf⟩ hl
  exact fun v u H locs pc ls hq w hd => W.iret (v := v) B.exec B.bytes B.returns (fun t ht hW => ⟨⟨v, u, rfl, hq, by rw [ht]; exact w.1, va_K.moved hW.alike hK, w.2.1⟩, w.2.2.F ht⟩) w.2.2.2.2 hd
set_option maxHeartbeats 4000000 in
set_option maxRecDepth 100000 in
theorem hMet_z {y : MethodName} {cc : ByteArray} {nL : Nat} {rm : Room} {As : List Value} {u0 : HS} {Qp : Int32 → HS → Prop} (hy : plainName y.cls = true) (hyc : y.cls = RX1) (hnl : ∀ x : Nat, (lg_sl (.ref x :: As)).length ≤ nL)
    (body : ∀ (p : Program) (l : Launch) (e : Env) (s : State) (m : MethodId) (args : Array Value) (below : List Frame) (meth : Method) (c : Code) (D : va_G) (a : Nat → Nat) (d : ClassId) (A : Nat → Prop) (Q : State → Prop) (ls : Array Slot), hC p s m args c cc nL D d A →
      (∀ (v : Bool) (u : HS) (H : Heap) (locs : List Loc) (pc : Nat) (ls : Array Slot), Qp (bI v) u → hWs D A s a d u H locs → decode cc pc = .ok (.ireturn, 1) → W p l e rm s m args below meth c H locs 0 0 Q (F0 m pc ls [.int (bI v)])) →
      hWs D A s a d u0 s.heap [] → lv_has ls nL (lv_args 0 (.ref (a 0) :: As)) → W p l e rm s m args below meth c s.heap [] 0 0 Q (F0 m 0 ls [])) : hMet y cc nL (some .boolean) rm As u0 Qp := by
  intro l D a d sz
  refine Met.ofW (cc := cc) (maxL := nL) (ret := some .boolean) hy rfl ?_
  intro p e s m args below meth c s₁ B hml hv
  obtain ⟨rfl, hsz, hP, hK, hD0⟩ := hv
  have hts := atoms_spec (ws := ws_ y cc nL (some .boolean)) B.pre
  have hts : ∀ w ∈ lw_all, w.before _ s = true := fun w h => hts w (List.mem_cons_of_mem _ h)
  have hown : s.vm.findClass RX1 = some m.cls := by rw [← hyc]; exact findClass_of_methodNamed B.named
  have hlocks := B.notSynchronized
  subst hsz
  have hD := hD0.self (sz := s.heap.size)
  have hl := lv_entry (.ref (a 0) :: As) (n := nL) (hnl _)
  rw [lg_entry_eq]
  refine body p l e s m _ below meth c D a d (va_A (wS a d u0) s.heap.size) _ _ ⟨B.exec, B.bytes, hml, hown, hts, fun q h => Or.inr h, hK⟩ ?_ ⟨hP, hD, va_S.rf⟩ hl
  exact fun v u H locs pc ls hq w hd => W.zret (v := bI v) B.exec B.bytes B.returns (by cases v <;> rfl) (fun t ht hW => ⟨⟨bI v, u, rfl, hq, by rw [ht]; exact w.1, va_K.moved hW.alike hK, w.2.1⟩, w.2.2.F ht⟩) w.2.2.2.2 hd
set_option maxHeartbeats 4000000 in
set_option maxRecDepth 100000 in
theorem hMet_v {y : MethodName} {cc : ByteArray} {nL : Nat} {rm : Room} {As : List Value} {u0 : HS} {Qp : HS → Prop} (hy : plainName y.cls = true) (hyc : y.cls = RX1) (hnl : ∀ x : Nat, (lg_sl (.ref x :: As)).length ≤ nL)
    (body : ∀ (p : Program) (l : Launch) (e : Env) (s : State) (m : MethodId) (args : Array Value) (below : List Frame) (meth : Method) (c : Code) (D : va_G) (a : Nat → Nat) (d : ClassId) (A : Nat → Prop) (Q : State → Prop) (ls : Array Slot), hC p s m args c cc nL D d A →
      (∀ (u : HS) (H : Heap) (locs : List Loc) (pc : Nat) (ls : Array Slot), Qp u → hWs D A s a d u H locs → decode cc pc = .ok (.return_, 1) → W p l e rm s m args below meth c H locs 0 0 Q (F0 m pc ls [])) →
      hWs D A s a d u0 s.heap [] → lv_has ls nL (lv_args 0 (.ref (a 0) :: As)) → W p l e rm s m args below meth c s.heap [] 0 0 Q (F0 m 0 ls [])) : hMetV y cc nL rm As u0 Qp := by
  intro l D a d sz
  refine Met.ofW (cc := cc) (maxL := nL) (ret := none) hy rfl ?_
  intro p e s m args below meth c s₁ B hml hv
  obtain ⟨rfl, hsz, hP, hK, hD0⟩ := hv
  have hts := atoms_spec (ws := ws_ y cc nL (none)) B.pre
  have hts : ∀ w ∈ lw_all, w.before _ s = true := fun w h => hts w (List.mem_cons_of_mem _ h)
  have hown : s.vm.findClass RX1 = some m.cls := by rw [← hyc]; exact findClass_of_methodNamed B.named
  have hlocks := B.notSynchronized
  subst hsz
  have hD := hD0.self (sz := s.heap.size)
  have hl := lv_entry (.ref (a 0) :: As) (n := nL) (hnl _)
  rw [lg_entry_eq]
  refine body p l e s m _ below meth c D a d (va_A (wS a d u0) s.heap.size) _ _ ⟨B.exec, B.bytes, hml, hown, hts, fun q h => Or.inr h, hK⟩ ?_ ⟨hP, hD, va_S.rf⟩ hl
  exact fun u H locs pc ls hq w hd => W.vret B.exec B.bytes B.returns (fun t ht hW => ⟨⟨u, rfl, hq, by rw [ht]; exact w.1, va_K.moved hW.alike hK, w.2.1⟩, w.2.2.F ht⟩) w.2.2.2.2 hd
section HR
variable {p : Program} {l : Launch} {e : Env} {R : Room} {s : State} {m : MethodId} {args : Array Value} {below : List Frame} {meth : Method} {c : Code} {H : Heap} {locs : List Loc} {cells slots : Nat} {Q : State → Prop}
variable {cc : ByteArray} {pc : Nat} {ls : Array Slot} {rest : List Value}
variable {D : va_G} {A : Nat → Prop} {a : Nat → Nat} {d : ClassId} {nL : Nat} {tk sd ps rn hp po sp : Nat → Nat} {cap big n gp : Nat}
theorem hg_tk (C : hC p s m args c cc nL D d A) (w : hW D A s a d tk sd ps rn hp po sp cap big n gp H locs) (hdg : decode cc pc = .ok (.getfield 7, 3)) (kk : W p l e R s m args below meth c H locs cells slots Q (F0 m (pc + 3) ls (.ref (a 1) :: rest))) : W p l e R s m args below meth c H locs cells slots Q (F0 m pc ls (.ref (a 0) :: rest)) := va_get (D := D) (ci := 0) (v := .ref (a 1)) (C := RX1) (T := TX1) (N := 11) C.1 C.2.1 C.2.2.2.2.1 in_X1 C.2.2.2.1 C.2.2.2.2.2.2 w.1 0 rfl rfl 0 (by decide) (C.2.2.2.2.1 _ q23) (fun _ h9 => h9) rfl hdg kk
theorem hg_sd (C : hC p s m args c cc nL D d A) (w : hW D A s a d tk sd ps rn hp po sp cap big n gp H locs) (hdg : decode cc pc = .ok (.getfield 13, 3)) (kk : W p l e R s m args below meth c H locs cells slots Q (F0 m (pc + 3) ls (.ref (a 2) :: rest))) : W p l e R s m args below meth c H locs cells slots Q (F0 m pc ls (.ref (a 0) :: rest)) := va_get (D := D) (ci := 0) (v := .ref (a 2)) (C := RX1) (T := TX1) (N := 11) C.1 C.2.1 C.2.2.2.2.1 in_X1 C.2.2.2.1 C.2.2.2.2.2.2 w.1 0 rfl rfl 1 (by decide) (C.2.2.2.2.1 _ q24) (fun _ h9 => h9) rfl hdg kk
theorem hg_ps (C : hC p s m args c cc nL D d A) (w : hW D A s a d tk sd ps rn hp po sp cap big n gp H locs) (hdg : decode cc pc = .ok (.getfield 16, 3)) (kk : W p l e R s m args below meth c H locs cells slots Q (F0 m (pc + 3) ls (.ref (a 3) :: rest))) : W p l e R s m args below meth c H locs cells slots Q (F0 m pc ls (.ref (a 0) :: rest)) := va_get (D := D) (ci := 0) (v := .ref (a 3)) (C := RX1) (T := TX1) (N := 11) C.1 C.2.1 C.2.2.2.2.1 in_X1 C.2.2.2.1 C.2.2.2.2.2.2 w.1 0 rfl rfl 2 (by decide) (C.2.2.2.2.1 _ q25) (fun _ h9 => h9) rfl hdg kk
theorem hg_rn (C : hC p s m args c cc nL D d A) (w : hW D A s a d tk sd ps rn hp po sp cap big n gp H locs) (hdg : decode cc pc = .ok (.getfield 19, 3)) (kk : W p l e R s m args below meth c H locs cells slots Q (F0 m (pc + 3) ls (.ref (a 4) :: rest))) : W p l e R s m args below meth c H locs cells slots Q (F0 m pc ls (.ref (a 0) :: rest)) := va_get (D := D) (ci := 0) (v := .ref (a 4)) (C := RX1) (T := TX1) (N := 11) C.1 C.2.1 C.2.2.2.2.1 in_X1 C.2.2.2.1 C.2.2.2.2.2.2 w.1 0 rfl rfl 3 (by decide) (C.2.2.2.2.1 _ q26) (fun _ h9 => h9) rfl hdg kk
theorem hg_hp (C : hC p s m args c cc nL D d A) (w : hW D A s a d tk sd ps rn hp po sp cap big n gp H locs) (hdg : decode cc pc = .ok (.getfield 22, 3)) (kk : W p l e R s m args below meth c H locs cells slots Q (F0 m (pc + 3) ls (.ref (a 5) :: rest))) : W p l e R s m args below meth c H locs cells slots Q (F0 m pc ls (.ref (a 0) :: rest)) := va_get (D := D) (ci := 0) (v := .ref (a 5)) (C := RX1) (T := TX1) (N := 11) C.1 C.2.1 C.2.2.2.2.1 in_X1 C.2.2.2.1 C.2.2.2.2.2.2 w.1 0 rfl rfl 4 (by decide) (C.2.2.2.2.1 _ q27) (fun _ h9 => h9) rfl hdg kk
theorem hg_po (C : hC p s m args c cc nL D d A) (w : hW D A s a d tk sd ps rn hp po sp cap big n gp H locs) (hdg : decode cc pc = .ok (.getfield 25, 3)) (kk : W p l e R s m args below meth c H locs cells slots Q (F0 m (pc + 3) ls (.ref (a 6) :: rest))) : W p l e R s m args below meth c H locs cells slots Q (F0 m pc ls (.ref (a 0) :: rest)) := va_get (D := D) (ci := 0) (v := .ref (a 6)) (C := RX1) (T := TX1) (N := 11) C.1 C.2.1 C.2.2.2.2.1 in_X1 C.2.2.2.1 C.2.2.2.2.2.2 w.1 0 rfl rfl 5 (by decide) (C.2.2.2.2.1 _ q28) (fun _ h9 => h9) rfl hdg kk
theorem hg_sp (C : hC p s m args c cc nL D d A) (w : hW D A s a d tk sd ps rn hp po sp cap big n gp H locs) (hdg : decode cc pc = .ok (.getfield 28, 3)) (kk : W p l e R s m args below meth c H locs cells slots Q (F0 m (pc + 3) ls (.ref (a 7) :: rest))) : W p l e R s m args below meth c H locs cells slots Q (F0 m pc ls (.ref (a 0) :: rest)) := va_get (D := D) (ci := 0) (v := .ref (a 7)) (C := RX1) (T := TX1) (N := 11) C.1 C.2.1 C.2.2.2.2.1 in_X1 C.2.2.2.1 C.2.2.2.2.2.2 w.1 0 rfl rfl 6 (by decide) (C.2.2.2.2.1 _ q29) (fun _ h9 => h9) rfl hdg kk
theorem hg_cap (C : hC p s m args c cc nL D d A) (w : hW D A s a d tk sd ps rn hp po sp cap big n gp H locs) (hdg : decode cc pc = .ok (.getfield 31, 3)) (kk : W p l e R s m args below meth c H locs cells slots Q (F0 m (pc + 3) ls (.int (nI cap) :: rest))) : W p l e R s m args below meth c H locs cells slots Q (F0 m pc ls (.ref (a 0) :: rest)) := va_get (D := D) (ci := 0) (v := .int (nI cap)) (C := RX1) (T := TX1) (N := 11) C.1 C.2.1 C.2.2.2.2.1 in_X1 C.2.2.2.1 C.2.2.2.2.2.2 w.1 0 rfl rfl 7 (by decide) (C.2.2.2.2.1 _ q30) (fun _ h9 => h9) rfl hdg kk
theorem hg_big (C : hC p s m args c cc nL D d A) (w : hW D A s a d tk sd ps rn hp po sp cap big n gp H locs) (hdg : decode cc pc = .ok (.getfield 35, 3)) (kk : W p l e R s m args below meth c H locs cells slots Q (F0 m (pc + 3) ls (.int (nI big) :: rest))) : W p l e R s m args below meth c H locs cells slots Q (F0 m pc ls (.ref (a 0) :: rest)) := va_get (D := D) (ci := 0) (v := .int (nI big)) (C := RX1) (T := TX1) (N := 11) C.1 C.2.1 C.2.2.2.2.1 in_X1 C.2.2.2.1 C.2.2.2.2.2.2 w.1 0 rfl rfl 8 (by decide) (C.2.2.2.2.1 _ q31) (fun _ h9 => h9) rfl hdg kk
theorem hg_n (C : hC p s m args c cc nL D d A) (w : hW D A s a d tk sd ps rn hp po sp cap big n gp H locs) (hdg : decode cc pc = .ok (.getfield 46, 3)) (kk : W p l e R s m args below meth c H locs cells slots Q (F0 m (pc + 3) ls (.int (nI n) :: rest))) : W p l e R s m args below meth c H locs cells slots Q (F0 m pc ls (.ref (a 0) :: rest)) := va_get (D := D) (ci := 0) (v := .int (nI n)) (C := RX1) (T := TX1) (N := 11) C.1 C.2.1 C.2.2.2.2.1 in_X1 C.2.2.2.1 C.2.2.2.2.2.2 w.1 0 rfl rfl 9 (by decide) (C.2.2.2.2.1 _ q32) (fun _ h9 => h9) rfl hdg kk
theorem hg_gp (C : hC p s m args c cc nL D d A) (w : hW D A s a d tk sd ps rn hp po sp cap big n gp H locs) (hdg : decode cc pc = .ok (.getfield 59, 3)) (kk : W p l e R s m args below meth c H locs cells slots Q (F0 m (pc + 3) ls (.int (nI gp) :: rest))) : W p l e R s m args below meth c H locs cells slots Q (F0 m pc ls (.ref (a 0) :: rest)) := va_get (D := D) (ci := 0) (v := .int (nI gp)) (C := RX1) (T := TX1) (N := 11) C.1 C.2.1 C.2.2.2.2.1 in_X1 C.2.2.2.1 C.2.2.2.2.2.2 w.1 0 rfl rfl 10 (by decide) (C.2.2.2.2.1 _ q33) (fun _ h9 => h9) rfl hdg kk
theorem hl_tk (C : hC p s m args c cc nL D d A) (w : hW D A s a d tk sd ps rn hp po sp cap big n gp H locs) {i : Nat} (hi : i < 64) (hdg : decode cc pc = .ok (.iaload, 1)) (kk : W p l e R s m args below meth c H locs cells slots Q (F0 m (pc + 1) ls (.int (nI (tk i)) :: rest))) : W p l e R s m args below meth c H locs cells slots Q (F0 m pc ls (.int (nI i) :: .ref (a 1) :: rest)) := va_iald (f := nF tk) C.1 C.2.1 C.2.2.2.2.2.2 w.1 1 0 rfl rfl (vp_in_nI hi (by decide)) hdg (by rw [nI_clamp (by omega)]; exact kk)
theorem hs_tk (C : hC p s m args c cc nL D d A) (w : hW D A s a d tk sd ps rn hp po sp cap big n gp H locs) {i v : Nat} (hi : i < 64) (hdg : decode cc pc = .ok (.iastore, 1)) (kk : ∀ (H1 : Heap) (locs1 : List Loc), hW D A s a d (va_up tk i v) sd ps rn hp po sp cap big n gp H1 locs1 → W p l e R s m args below meth c H1 locs1 cells slots Q (F0 m (pc + 1) ls rest)) : W p l e R s m args below meth c H locs cells slots Q (F0 m pc ls (.int (nI v) :: .int (nI i) :: .ref (a 1) :: rest)) := va_iast (f := nF tk) C.1 C.2.1 C.2.2.2.2.2.2 w.1 w.2.1 w.2.2 1 0 rfl rfl (vp_in_nI hi (by decide)) hdg (fun H1 locs1 p1 d1 s1 => kk H1 locs1 ⟨by rw [nF_upd (by omega)] at p1; exact p1, by rw [nF_upd (by omega)] at d1; exact d1, s1⟩)
theorem hl_sd (C : hC p s m args c cc nL D d A) (w : hW D A s a d tk sd ps rn hp po sp cap big n gp H locs) {i : Nat} (hi : i < 64) (hdg : decode cc pc = .ok (.iaload, 1)) (kk : W p l e R s m args below meth c H locs cells slots Q (F0 m (pc + 1) ls (.int (nI (sd i)) :: rest))) : W p l e R s m args below meth c H locs cells slots Q (F0 m pc ls (.int (nI i) :: .ref (a 2) :: rest)) := va_iald (f := nF sd) C.1 C.2.1 C.2.2.2.2.2.2 w.1 2 0 rfl rfl (vp_in_nI hi (by decide)) hdg (by rw [nI_clamp (by omega)]; exact kk)
theorem hs_sd (C : hC p s m args c cc nL D d A) (w : hW D A s a d tk sd ps rn hp po sp cap big n gp H locs) {i v : Nat} (hi : i < 64) (hdg : decode cc pc = .ok (.iastore, 1)) (kk : ∀ (H1 : Heap) (locs1 : List Loc), hW D A s a d tk (va_up sd i v) ps rn hp po sp cap big n gp H1 locs1 → W p l e R s m args below meth c H1 locs1 cells slots Q (F0 m (pc + 1) ls rest)) : W p l e R s m args below meth c H locs cells slots Q (F0 m pc ls (.int (nI v) :: .int (nI i) :: .ref (a 2) :: rest)) := va_iast (f := nF sd) C.1 C.2.1 C.2.2.2.2.2.2 w.1 w.2.1 w.2.2 2 0 rfl rfl (vp_in_nI hi (by decide)) hdg (fun H1 locs1 p1 d1 s1 => kk H1 locs1 ⟨by rw [nF_upd (by omega)] at p1; exact p1, by rw [nF_upd (by omega)] at d1; exact d1, s1⟩)
theorem hl_ps (C : hC p s m args c cc nL D d A) (w : hW D A s a d tk sd ps rn hp po sp cap big n gp H locs) {i : Nat} (hi : i < 64) (hdg : decode cc pc = .ok (.iaload, 1)) (kk : W p l e R s m args below meth c H locs cells slots Q (F0 m (pc + 1) ls (.int (nI (ps i)) :: rest))) : W p l e R s m args below meth c H locs cells slots Q (F0 m pc ls (.int (nI i) :: .ref (a 3) :: rest)) := va_iald (f := nF ps) C.1 C.2.1 C.2.2.2.2.2.2 w.1 3 0 rfl rfl (vp_in_nI hi (by decide)) hdg (by rw [nI_clamp (by omega)]; exact kk)
theorem hs_ps (C : hC p s m args c cc nL D d A) (w : hW D A s a d tk sd ps rn hp po sp cap big n gp H locs) {i v : Nat} (hi : i < 64) (hdg : decode cc pc = .ok (.iastore, 1)) (kk : ∀ (H1 : Heap) (locs1 : List Loc), hW D A s a d tk sd (va_up ps i v) rn hp po sp cap big n gp H1 locs1 → W p l e R s m args below meth c H1 locs1 cells slots Q (F0 m (pc + 1) ls rest)) : W p l e R s m args below meth c H locs cells slots Q (F0 m pc ls (.int (nI v) :: .int (nI i) :: .ref (a 3) :: rest)) := va_iast (f := nF ps) C.1 C.2.1 C.2.2.2.2.2.2 w.1 w.2.1 w.2.2 3 0 rfl rfl (vp_in_nI hi (by decide)) hdg (fun H1 locs1 p1 d1 s1 => kk H1 locs1 ⟨by rw [nF_upd (by omega)] at p1; exact p1, by rw [nF_upd (by omega)] at d1; exact d1, s1⟩)
theorem hl_rn (C : hC p s m args c cc nL D d A) (w : hW D A s a d tk sd ps rn hp po sp cap big n gp H locs) {i : Nat} (hi : i < 64) (hdg : decode cc pc = .ok (.iaload, 1)) (kk : W p l e R s m args below meth c H locs cells slots Q (F0 m (pc + 1) ls (.int (nI (rn i)) :: rest))) : W p l e R s m args below meth c H locs cells slots Q (F0 m pc ls (.int (nI i) :: .ref (a 4) :: rest)) := va_iald (f := nF rn) C.1 C.2.1 C.2.2.2.2.2.2 w.1 4 0 rfl rfl (vp_in_nI hi (by decide)) hdg (by rw [nI_clamp (by omega)]; exact kk)
theorem hs_rn (C : hC p s m args c cc nL D d A) (w : hW D A s a d tk sd ps rn hp po sp cap big n gp H locs) {i v : Nat} (hi : i < 64) (hdg : decode cc pc = .ok (.iastore, 1)) (kk : ∀ (H1 : Heap) (locs1 : List Loc), hW D A s a d tk sd ps (va_up rn i v) hp po sp cap big n gp H1 locs1 → W p l e R s m args below meth c H1 locs1 cells slots Q (F0 m (pc + 1) ls rest)) : W p l e R s m args below meth c H locs cells slots Q (F0 m pc ls (.int (nI v) :: .int (nI i) :: .ref (a 4) :: rest)) := va_iast (f := nF rn) C.1 C.2.1 C.2.2.2.2.2.2 w.1 w.2.1 w.2.2 4 0 rfl rfl (vp_in_nI hi (by decide)) hdg (fun H1 locs1 p1 d1 s1 => kk H1 locs1 ⟨by rw [nF_upd (by omega)] at p1; exact p1, by rw [nF_upd (by omega)] at d1; exact d1, s1⟩)
theorem hl_hp (C : hC p s m args c cc nL D d A) (w : hW D A s a d tk sd ps rn hp po sp cap big n gp H locs) {i : Nat} (hi : i < 64) (hdg : decode cc pc = .ok (.iaload, 1)) (kk : W p l e R s m args below meth c H locs cells slots Q (F0 m (pc + 1) ls (.int (nI (hp i)) :: rest))) : W p l e R s m args below meth c H locs cells slots Q (F0 m pc ls (.int (nI i) :: .ref (a 5) :: rest)) := va_iald (f := nF hp) C.1 C.2.1 C.2.2.2.2.2.2 w.1 5 0 rfl rfl (vp_in_nI hi (by decide)) hdg (by rw [nI_clamp (by omega)]; exact kk)
theorem hs_hp (C : hC p s m args c cc nL D d A) (w : hW D A s a d tk sd ps rn hp po sp cap big n gp H locs) {i v : Nat} (hi : i < 64) (hdg : decode cc pc = .ok (.iastore, 1)) (kk : ∀ (H1 : Heap) (locs1 : List Loc), hW D A s a d tk sd ps rn (va_up hp i v) po sp cap big n gp H1 locs1 → W p l e R s m args below meth c H1 locs1 cells slots Q (F0 m (pc + 1) ls rest)) : W p l e R s m args below meth c H locs cells slots Q (F0 m pc ls (.int (nI v) :: .int (nI i) :: .ref (a 5) :: rest)) := va_iast (f := nF hp) C.1 C.2.1 C.2.2.2.2.2.2 w.1 w.2.1 w.2.2 5 0 rfl rfl (vp_in_nI hi (by decide)) hdg (fun H1 locs1 p1 d1 s1 => kk H1 locs1 ⟨by rw [nF_upd (by omega)] at p1; exact p1, by rw [nF_upd (by omega)] at d1; exact d1, s1⟩)
theorem hl_po (C : hC p s m args c cc nL D d A) (w : hW D A s a d tk sd ps rn hp po sp cap big n gp H locs) {i : Nat} (hi : i < 64) (hdg : decode cc pc = .ok (.iaload, 1)) (kk : W p l e R s m args below meth c H locs cells slots Q (F0 m (pc + 1) ls (.int (nI (po i)) :: rest))) : W p l e R s m args below meth c H locs cells slots Q (F0 m pc ls (.int (nI i) :: .ref (a 6) :: rest)) := va_iald (f := nF po) C.1 C.2.1 C.2.2.2.2.2.2 w.1 6 0 rfl rfl (vp_in_nI hi (by decide)) hdg (by rw [nI_clamp (by omega)]; exact kk)
theorem hs_po (C : hC p s m args c cc nL D d A) (w : hW D A s a d tk sd ps rn hp po sp cap big n gp H locs) {i v : Nat} (hi : i < 64) (hdg : decode cc pc = .ok (.iastore, 1)) (kk : ∀ (H1 : Heap) (locs1 : List Loc), hW D A s a d tk sd ps rn hp (va_up po i v) sp cap big n gp H1 locs1 → W p l e R s m args below meth c H1 locs1 cells slots Q (F0 m (pc + 1) ls rest)) : W p l e R s m args below meth c H locs cells slots Q (F0 m pc ls (.int (nI v) :: .int (nI i) :: .ref (a 6) :: rest)) := va_iast (f := nF po) C.1 C.2.1 C.2.2.2.2.2.2 w.1 w.2.1 w.2.2 6 0 rfl rfl (vp_in_nI hi (by decide)) hdg (fun H1 locs1 p1 d1 s1 => kk H1 locs1 ⟨by rw [nF_upd (by omega)] at p1; exact p1, by rw [nF_upd (by omega)] at d1; exact d1, s1⟩)
theorem hl_sp (C : hC p s m args c cc nL D d A) (w : hW D A s a d tk sd ps rn hp po sp cap big n gp H locs) {i : Nat} (hi : i < 64) (hdg : decode cc pc = .ok (.iaload, 1)) (kk : W p l e R s m args below meth c H locs cells slots Q (F0 m (pc + 1) ls (.int (nI (sp i)) :: rest))) : W p l e R s m args below meth c H locs cells slots Q (F0 m pc ls (.int (nI i) :: .ref (a 7) :: rest)) := va_iald (f := nF sp) C.1 C.2.1 C.2.2.2.2.2.2 w.1 7 0 rfl rfl (vp_in_nI hi (by decide)) hdg (by rw [nI_clamp (by omega)]; exact kk)
theorem hs_sp (C : hC p s m args c cc nL D d A) (w : hW D A s a d tk sd ps rn hp po sp cap big n gp H locs) {i v : Nat} (hi : i < 64) (hdg : decode cc pc = .ok (.iastore, 1)) (kk : ∀ (H1 : Heap) (locs1 : List Loc), hW D A s a d tk sd ps rn hp po (va_up sp i v) cap big n gp H1 locs1 → W p l e R s m args below meth c H1 locs1 cells slots Q (F0 m (pc + 1) ls rest)) : W p l e R s m args below meth c H locs cells slots Q (F0 m pc ls (.int (nI v) :: .int (nI i) :: .ref (a 7) :: rest)) := va_iast (f := nF sp) C.1 C.2.1 C.2.2.2.2.2.2 w.1 w.2.1 w.2.2 7 0 rfl rfl (vp_in_nI hi (by decide)) hdg (fun H1 locs1 p1 d1 s1 => kk H1 locs1 ⟨by rw [nF_upd (by omega)] at p1; exact p1, by rw [nF_upd (by omega)] at d1; exact d1, s1⟩)
theorem hq_n (C : hC p s m args c cc nL D d A) (w : hW D A s a d tk sd ps rn hp po sp cap big n gp H locs) {v : Nat} (hdg : decode cc pc = .ok (.putfield 46, 3)) (kk : ∀ (H1 : Heap) (locs1 : List Loc), hW D A s a d tk sd ps rn hp po sp cap big v gp H1 locs1 → W p l e R s m args below meth c H1 locs1 cells slots Q (F0 m (pc + 3) ls rest)) : W p l e R s m args below meth c H locs cells slots Q (F0 m pc ls (.int (nI v) :: .ref (a 0) :: rest)) := va_put (D := D) (ci := 0) (v := .int (nI v)) (ty := .int) (C := RX1) (T := TX1) (N := 11) C.1 C.2.1 C.2.2.2.2.1 in_X1 tyX1 tyX1_ok nmX1 C.2.2.2.1 C.2.2.2.2.2.2 w.1 w.2.1 w.2.2 0 rfl rfl 9 (by decide) (C.2.2.2.2.1 _ q32) (fun _ h9 => h9) rfl (by decide +kernel) rfl rfl (Nat.le_of_ble_eq_true rfl) hdg (fun H1 locs1 p1 d1 s1 => kk H1 locs1 ⟨p1, d1, s1⟩)
theorem hq_gp (C : hC p s m args c cc nL D d A) (w : hW D A s a d tk sd ps rn hp po sp cap big n gp H locs) {v : Nat} (hdg : decode cc pc = .ok (.putfield 59, 3)) (kk : ∀ (H1 : Heap) (locs1 : List Loc), hW D A s a d tk sd ps rn hp po sp cap big n v H1 locs1 → W p l e R s m args below meth c H1 locs1 cells slots Q (F0 m (pc + 3) ls rest)) : W p l e R s m args below meth c H locs cells slots Q (F0 m pc ls (.int (nI v) :: .ref (a 0) :: rest)) := va_put (D := D) (ci := 0) (v := .int (nI v)) (ty := .int) (C := RX1) (T := TX1) (N := 11) C.1 C.2.1 C.2.2.2.2.1 in_X1 tyX1 tyX1_ok nmX1 C.2.2.2.1 C.2.2.2.2.2.2 w.1 w.2.1 w.2.2 0 rfl rfl 10 (by decide) (C.2.2.2.2.1 _ q33) (fun _ h9 => h9) rfl (by decide +kernel) rfl rfl (Nat.le_of_ble_eq_true rfl) hdg (fun H1 locs1 p1 d1 s1 => kk H1 locs1 ⟨p1, d1, s1⟩)
set_option maxHeartbeats 4000000 in
set_option maxRecDepth 100000 in
theorem hcall_i {y : MethodName} {bytes : ByteArray} {maxL index k : Nat} {rt : Option FieldType} {rm : Room} {As st0 : List Value} {u0 : HS} {Qp : Int32 → HS → Prop} (M : hMet y bytes maxL rt rm As u0 Qp) (C : hC p s m args c cc nL D d A) (cw : CallW R s args RX1 RX1 index y bytes maxL rt (ws_ y bytes maxL rt) rm 0 0 k) (w : hWs D A s a d u0 H locs) (hn : As.length = k) (hst : st0 = As.reverse ++ .ref (a 0) :: rest) (hrm : (rest.map fun v => v.category).sum ≤ 8) (hsz : ls.size = nL) (hdg : decode cc pc = .ok (.invokevirtual index, 3)) (hf : cells + 0 ≤ R.cells ∧ slots + 0 ≤ R.slots)
    (kk : ∀ (r : Int32) (u : HS) (H1 : Heap) (locs1 : List Loc), Qp r u → hWs D A s a d u H1 locs1 → W p l e R s m args below meth c H1 locs1 cells slots Q (F0 m (pc + 3) ls (.int r :: rest))) : W p l e R s m args below meth c H locs cells slots Q (F0 m pc ls st0) := by
  obtain ⟨hx, hb, hml, hown, hts, hA, hK⟩ := C
  obtain ⟨hP, hD, hS⟩ := w
  have hF := va_free (wc := wS a d u0) hD hS hA [0, 1, 2, 3, 4, 5, 6, 7] rfl
  refine va_calli (va_runV (As := As) (rest := rest) ⟨hx, hb, hml, hown, hts⟩ (M l D a d H.size) cw ⟨fun a' U g mk q => by obtain ⟨q0, q1, qP, qK, qD⟩ := q; exact ⟨q0, q1, qP, va_K.moved (u := U) (U := U.calling g mk a') (Vm.Alike.refl U.vm) qK, qD⟩, va_recv hK hP (ci := 0) (q0 := 0) rfl rfl, fun U hU hW => ⟨rfl, by rw [hU], by rw [hU]; exact hP, va_K.moved hW.alike hK, hD.weaken (fun _ _ _ _ => trivial)⟩⟩ rfl hn hsz hst (lv_room hrm) hdg hf) hS (fun q _ h => hF q h) hF (fun r u t H1 locs1 ht hvm hq hB hz hk hS1 => ?_)
  obtain ⟨hP1, hK1, hD1⟩ := hB
  rw [ht] at hP1
  exact kk r u H1 locs1 hq ⟨hP1, hD1.weaken (fun _ q _ h => hF q.1 h), hS1⟩
set_option maxHeartbeats 4000000 in
set_option maxRecDepth 100000 in
theorem hcall_v {y : MethodName} {bytes : ByteArray} {maxL index k : Nat} {rm : Room} {As st0 : List Value} {u0 : HS} {Qp : HS → Prop} (M : hMetV y bytes maxL rm As u0 Qp) (C : hC p s m args c cc nL D d A) (cw : CallW R s args RX1 RX1 index y bytes maxL none (ws_ y bytes maxL none) rm 0 0 k) (w : hWs D A s a d u0 H locs) (hn : As.length = k) (hst : st0 = As.reverse ++ .ref (a 0) :: rest) (hrm : (rest.map fun v => v.category).sum ≤ 8) (hsz : ls.size = nL) (hdg : decode cc pc = .ok (.invokevirtual index, 3)) (hf : cells + 0 ≤ R.cells ∧ slots + 0 ≤ R.slots)
    (kk : ∀ (u : HS) (H1 : Heap) (locs1 : List Loc), Qp u → hWs D A s a d u H1 locs1 → W p l e R s m args below meth c H1 locs1 cells slots Q (F0 m (pc + 3) ls rest)) : W p l e R s m args below meth c H locs cells slots Q (F0 m pc ls st0) := by
  obtain ⟨hx, hb, hml, hown, hts, hA, hK⟩ := C
  obtain ⟨hP, hD, hS⟩ := w
  have hF := va_free (wc := wS a d u0) hD hS hA [0, 1, 2, 3, 4, 5, 6, 7] rfl
  refine va_callv (va_runV (As := As) (rest := rest) ⟨hx, hb, hml, hown, hts⟩ (M l D a d H.size) cw ⟨fun a' U g mk q => by obtain ⟨q0, q1, qP, qK, qD⟩ := q; exact ⟨q0, q1, qP, va_K.moved (u := U) (U := U.calling g mk a') (Vm.Alike.refl U.vm) qK, qD⟩, va_recv hK hP (ci := 0) (q0 := 0) rfl rfl, fun U hU hW => ⟨rfl, by rw [hU], by rw [hU]; exact hP, va_K.moved hW.alike hK, hD.weaken (fun _ _ _ _ => trivial)⟩⟩ rfl hn hsz hst (lv_room hrm) hdg hf) hS (fun q _ h => hF q h) hF (fun u t H1 locs1 ht hvm hq hB hz hk hS1 => ?_)
  obtain ⟨hP1, hK1, hD1⟩ := hB
  rw [ht] at hP1
  exact kk u H1 locs1 hq ⟨hP1, hD1.weaken (fun _ q _ h => hF q.1 h), hS1⟩
end HR
end
section
/-! what the two classes compute, in plain functions -/
def befB (ps : Nat → Nat) (x y : Nat) : Bool := decide (ps x < ps y ∨ ps x = ps y ∧ x < y)
def isC (cap : Nat) (x : Int32) : Bool := decide (0 ≤ x ∧ x < nI cap)
def isT (big : Nat) (t : Int32) : Bool := decide (0 < t ∧ t < nI big)
theorem isC_true {cap : Nat} {x : Int32} (h : isC cap x = true) (hc : cap < 2 ^ 31) : ∃ k : Nat, k < cap ∧ x = nI k := by
  have h2 := of_decide_eq_true h
  rcases pk_ix x hc with q | q | q
  · exact absurd q (Int32.not_lt.mpr h2.1)
  · exact absurd h2.2 (Int32.not_lt.mpr q)
  · exact q
theorem isC_nI {cap k : Nat} (h : k < cap) (hc : cap < 2 ^ 31) : isC cap (nI k) = true := decide_eq_true ⟨nI_pos' (by omega), nI_lt h hc⟩
theorem isC_lt {cap : Nat} {x : Int32} (h : x < 0) : isC cap x = false := decide_eq_false (fun q => absurd h (Int32.not_lt.mpr q.1))
theorem isC_ge {cap : Nat} {x : Int32} (h : nI cap ≤ x) : isC cap x = false := decide_eq_false (fun q => absurd q.2 (Int32.not_lt.mpr h))
theorem isC_of {cap : Nat} {x : Int32} (h0 : ¬ x < 0) (h : ¬ nI cap ≤ x) : isC cap x = true := decide_eq_true ⟨Int32.not_lt.mp h0, Int32.not_le.mp h⟩
theorem isT_true {big : Nat} {t : Int32} (h : isT big t = true) (hb : big < 2 ^ 31) : ∃ k : Nat, 0 < k ∧ k < big ∧ t = nI k := by
  have h2 := of_decide_eq_true h
  rcases pk_ix t hb with q | q | ⟨k, q, rfl⟩
  · exact absurd h2.1 (Int32.not_lt.mpr (Int32.le_of_lt q))
  · exact absurd h2.2 (Int32.not_lt.mpr q)
  · refine ⟨k, Nat.pos_of_ne_zero (fun z => ?_), q, rfl⟩
    subst z
    exact absurd h2.1 (by rw [nI_0]; decide)
theorem isT_nI {big k : Nat} (h0 : 0 < k) (h : k < big) (hb : big < 2 ^ 31) : isT big (nI k) = true := decide_eq_true ⟨by rw [← nI_0]; exact nI_lt h0 (by omega), nI_lt h hb⟩
theorem isT_le {big : Nat} {t : Int32} (h : t ≤ 0) : isT big t = false := decide_eq_false (fun q => absurd q.1 (Int32.not_lt.mpr h))
theorem isT_ge {big : Nat} {t : Int32} (h : nI big ≤ t) : isT big t = false := decide_eq_false (fun q => absurd q.2 (Int32.not_lt.mpr h))
theorem isT_of {big : Nat} {t : Int32} (h0 : ¬ t ≤ 0) (h : ¬ nI big ≤ t) : isT big t = true := decide_eq_true ⟨Int32.not_le.mp h0, Int32.not_le.mp h⟩
/-- a client goes up from the place k -/
def upF (ps : Nat → Nat) (x : Nat) : Nat → (Nat → Nat) → (Nat → Nat) → Nat → (Nat → Nat) × (Nat → Nat)
  | 0, hp, po, k => (va_up hp k x, va_up po x (k + 1))
  | f + 1, hp, po, k => if 0 < k ∧ befB ps x (hp ((k - 1) / 2)) = true then upF ps x f (va_up hp k (hp ((k - 1) / 2))) (va_up po (hp ((k - 1) / 2)) (k + 1)) ((k - 1) / 2) else (va_up hp k x, va_up po x (k + 1))
/-- the child that goes up -/
def chF (ps : Nat → Nat) (n : Nat) (hp : Nat → Nat) (k : Nat) : Nat := if 2 * k + 1 + 1 < n ∧ befB ps (hp (2 * k + 1 + 1)) (hp (2 * k + 1)) = true then 2 * k + 1 + 1 else 2 * k + 1
def dnF (ps : Nat → Nat) (n x : Nat) : Nat → (Nat → Nat) → (Nat → Nat) → Nat → (Nat → Nat) × (Nat → Nat)
  | 0, hp, po, k => (va_up hp k x, va_up po x (k + 1))
  | f + 1, hp, po, k => if 2 * k + 1 < n ∧ befB ps (hp (chF ps n hp k)) x = true then dnF ps n x f (va_up hp k (hp (chF ps n hp k))) (va_up po (hp (chF ps n hp k)) (k + 1)) (chF ps n hp k) else (va_up hp k x, va_up po x (k + 1))
/-- the greatest pass among the first k places -/
def gmF (ps hp : Nat → Nat) : Nat → Nat
  | 0 => ps (hp 0)
  | k + 1 => if gmF ps hp k < ps (hp k) then ps (hp k) else gmF ps hp k
/-- a client is put among those in order ahead of the place k -/
def inF (ps : Nat → Nat) (x : Nat) : Nat → (Nat → Nat) → (Nat → Nat)
  | 0, sp => va_up sp 0 x
  | k + 1, sp => if befB ps x (sp k) = true then inF ps x k (va_up sp (k + 1) (sp k)) else va_up sp (k + 1) x
def srF (ps hp : Nat → Nat) : Nat → (Nat → Nat) → (Nat → Nat)
  | 0, sp => sp
  | i + 1, sp => inF ps (hp i) i (srF ps hp i sp)
def jnF : HS → Int32 → Int32 → Int32 × HS
  | (tk, sd, ps, rn, hp, po, sp, cap, big, n, gp), x, t =>
    if isC cap x = true then
      if 0 < po x.toNatClampNeg then (-2, (tk, sd, ps, rn, hp, po, sp, cap, big, n, gp))
      else if isT big t = true then
        (nI 1, (va_up tk x.toNatClampNeg t.toNatClampNeg, va_up sd x.toNatClampNeg (big / t.toNatClampNeg), va_up ps x.toNatClampNeg (if n = 0 then gp else ps (hp 0)), rn,
          (upF (va_up ps x.toNatClampNeg (if n = 0 then gp else ps (hp 0))) x.toNatClampNeg n hp po n).1, (upF (va_up ps x.toNatClampNeg (if n = 0 then gp else ps (hp 0))) x.toNatClampNeg n hp po n).2, sp, cap, big, n + 1, gp))
      else (-3, (tk, sd, ps, rn, hp, po, sp, cap, big, n, gp))
    else (-1, (tk, sd, ps, rn, hp, po, sp, cap, big, n, gp))
/-- the last one takes the place k that is free -/
def rpF (ps : Nat → Nat) (n x : Nat) (hp po : Nat → Nat) (k : Nat) : (Nat → Nat) × (Nat → Nat) := if 0 < k ∧ befB ps x (hp ((k - 1) / 2)) = true then upF ps x k hp po k else dnF ps n x n hp po k
def lvF : HS → Int32 → Int32 × HS
  | (tk, sd, ps, rn, hp, po, sp, cap, big, n, gp), x =>
    if isC cap x = true then
      if 0 < po x.toNatClampNeg then
        if po x.toNatClampNeg - 1 = n - 1 then (nI 1, (tk, sd, ps, rn, hp, va_up po x.toNatClampNeg 0, sp, cap, big, n - 1, ps x.toNatClampNeg))
        else (nI 1, (tk, sd, ps, rn, (rpF ps (n - 1) (hp (n - 1)) hp (va_up po x.toNatClampNeg 0) (po x.toNatClampNeg - 1)).1, (rpF ps (n - 1) (hp (n - 1)) hp (va_up po x.toNatClampNeg 0) (po x.toNatClampNeg - 1)).2, sp, cap, big, n - 1, ps x.toNatClampNeg))
      else (-2, (tk, sd, ps, rn, hp, po, sp, cap, big, n, gp))
    else (-1, (tk, sd, ps, rn, hp, po, sp, cap, big, n, gp))
def nxF : HS → Int32 × HS
  | (tk, sd, ps, rn, hp, po, sp, cap, big, n, gp) =>
    if n = 0 then (-1, (tk, sd, ps, rn, hp, po, sp, cap, big, n, gp))
    else if 2147483647 - sd (hp 0) < ps (hp 0) then (-2, (tk, sd, ps, rn, hp, po, sp, cap, big, n, gp))
    else (nI (hp 0), (tk, sd, va_up ps (hp 0) (ps (hp 0) + sd (hp 0)), va_up rn (hp 0) (rn (hp 0) + 1), (dnF (va_up ps (hp 0) (ps (hp 0) + sd (hp 0))) n (hp 0) n hp po 0).1, (dnF (va_up ps (hp 0) (ps (hp 0) + sd (hp 0))) n (hp 0) n hp po 0).2, sp, cap, big, n, gp))
/-- at most k turns: how many went, and what stands then -/
def tuG : Nat → HS → Nat × HS
  | 0, u => (0, u)
  | f + 1, u => if 0 ≤ (nxF u).1 then ((tuG f (nxF u).2).1 + 1, (tuG f (nxF u).2).2) else (0, (nxF u).2)
def tuF (u : HS) (x : Int32) : Int32 × HS := if 1 ≤ x ∧ x ≤ 1000 then (nI (tuG x.toNatClampNeg u).1, (tuG x.toNatClampNeg u).2) else (-1, u)
def cgF : HS → Int32 → Int32 → Int32 × HS
  | (tk, sd, ps, rn, hp, po, sp, cap, big, n, gp), x, t =>
    if isC cap x = true then
      if 0 < po x.toNatClampNeg then
        if isT big t = true then (nI (tk x.toNatClampNeg), (va_up tk x.toNatClampNeg t.toNatClampNeg, va_up sd x.toNatClampNeg (big / t.toNatClampNeg), ps, rn, hp, po, sp, cap, big, n, gp))
        else (-3, (tk, sd, ps, rn, hp, po, sp, cap, big, n, gp))
      else (-2, (tk, sd, ps, rn, hp, po, sp, cap, big, n, gp))
    else (-1, (tk, sd, ps, rn, hp, po, sp, cap, big, n, gp))
def raF : HS → Int32 → Int32 × HS
  | (tk, sd, ps, rn, hp, po, sp, cap, big, n, gp), x => (if isC cap x = true then nI (rn x.toNatClampNeg) else -1, (tk, sd, ps, rn, hp, po, sp, cap, big, n, gp))
def paF : HS → Int32 → Int32 × HS
  | (tk, sd, ps, rn, hp, po, sp, cap, big, n, gp), x => (if isC cap x = true ∧ 0 < po x.toNatClampNeg then nI (ps x.toNatClampNeg) else -1, (tk, sd, ps, rn, hp, po, sp, cap, big, n, gp))
def sdF : HS → Int32 → Int32 × HS
  | (tk, sd, ps, rn, hp, po, sp, cap, big, n, gp), x => (if isC cap x = true ∧ 0 < po x.toNatClampNeg then nI (sd x.toNatClampNeg) else -1, (tk, sd, ps, rn, hp, po, sp, cap, big, n, gp))
def clF : HS → Int32 × HS
  | (tk, sd, ps, rn, hp, po, sp, cap, big, n, gp) => (nI n, (tk, sd, ps, rn, hp, po, sp, cap, big, n, gp))
def spF : HS → Int32 × HS
  | (tk, sd, ps, rn, hp, po, sp, cap, big, n, gp) => (if n = 0 then -1 else nI (gmF ps hp n - ps (hp 0)), (tk, sd, ps, rn, hp, po, sp, cap, big, n, gp))
def odF : HS → Int32 → Int32 × HS
  | (tk, sd, ps, rn, hp, po, sp, cap, big, n, gp), x =>
    if isC n x = true then (nI (srF ps hp n sp x.toNatClampNeg), (tk, sd, ps, rn, hp, po, srF ps hp n sp, cap, big, n, gp))
    else (-1, (tk, sd, ps, rn, hp, po, sp, cap, big, n, gp))
/-! bounds that the component's walks ask -/
def hOk : HS → Prop
  | (_, sd, ps, _, hp, po, sp, cap, big, n, gp) => cap ≤ 64 ∧ big ≤ 40000 ∧ n ≤ 64 ∧ gp < 2 ^ 31 ∧ (∀ i, sd i ≤ 40000) ∧ (∀ i, ps i < 2 ^ 31) ∧ (∀ i, hp i < 64) ∧ (∀ i, po i ≤ n) ∧ (∀ i, sp i < 64)
theorem up_lt {f : Nat → Nat} {k v b : Nat} (h : ∀ i, f i < b) (hv : v < b) : ∀ i, va_up f k v i < b := by
  intro i
  by_cases q : i = k
  · simp [va_up, q, hv]
  · simp [va_up, q, h i]
theorem up_le {f : Nat → Nat} {k v b : Nat} (h : ∀ i, f i ≤ b) (hv : v ≤ b) : ∀ i, va_up f k v i ≤ b := by
  intro i
  by_cases q : i = k
  · simp [va_up, q, hv]
  · simp [va_up, q, h i]
theorem up_s {α : Type} {f : Nat → α} {k : Nat} {v : α} : va_up f k v k = v := by simp [va_up]
theorem up_n {α : Type} {f : Nat → α} {k i : Nat} {v : α} (h : i ≠ k) : va_up f k v i = f i := by simp [va_up, h]
theorem gm_ge (ps hp : Nat → Nat) : ∀ k, ps (hp 0) ≤ gmF ps hp k
  | 0 => Nat.le_refl _
  | k + 1 => by
    have h := gm_ge ps hp k
    unfold gmF
    split
    · omega
    · exact h
theorem gm_lt {ps hp : Nat → Nat} {b : Nat} (h : ∀ i, ps i < b) : ∀ k, gmF ps hp k < b
  | 0 => h _
  | k + 1 => by
    have h1 := gm_lt h (hp := hp) k
    have h2 := h (hp k)
    unfold gmF
    split
    · exact h2
    · exact h1
theorem in_lt {ps : Nat → Nat} {x b : Nat} (hx : x < b) : ∀ (k : Nat) (sp : Nat → Nat), (∀ i, sp i < b) → ∀ i, inF ps x k sp i < b
  | 0, sp, h => up_lt h hx
  | k + 1, sp, h => by
    unfold inF
    split
    · exact in_lt hx k _ (up_lt h (h k))
    · exact up_lt h hx
theorem sr_lt {ps hp : Nat → Nat} {b : Nat} (hh : ∀ i, hp i < b) : ∀ (k : Nat) (sp : Nat → Nat), (∀ i, sp i < b) → ∀ i, srF ps hp k sp i < b
  | 0, sp, h => h
  | k + 1, sp, h => in_lt (hh k) k _ (sr_lt hh k sp h)
theorem upF_b {ps : Nat → Nat} {x : Nat} (hx : x < 64) : ∀ (f : Nat) (hp po : Nat → Nat) (k n : Nat), k < n → (∀ i, hp i < 64) → (∀ i, po i ≤ n) → (∀ i, (upF ps x f hp po k).1 i < 64) ∧ ∀ i, (upF ps x f hp po k).2 i ≤ n
  | 0, hp, po, k, n, hk, h1, h2 => ⟨up_lt h1 hx, up_le h2 hk⟩
  | f + 1, hp, po, k, n, hk, h1, h2 => by
    unfold upF
    split
    · exact upF_b hx f _ _ _ n (by omega) (up_lt h1 (h1 _)) (up_le h2 hk)
    · exact ⟨up_lt h1 hx, up_le h2 hk⟩
theorem chF_lt {ps hp : Nat → Nat} {n k : Nat} (h : 2 * k + 1 < n) : chF ps n hp k < n := by
  unfold chF
  split
  · rename_i q; exact q.1
  · exact h
theorem chF_gt {ps hp : Nat → Nat} {n k : Nat} : k < chF ps n hp k ∧ chF ps n hp k ≤ 2 * k + 2 := by
  unfold chF
  split <;> omega
theorem dnF_b {ps : Nat → Nat} {n x : Nat} (hx : x < 64) : ∀ (f : Nat) (hp po : Nat → Nat) (k : Nat), k < n → (∀ i, hp i < 64) → (∀ i, po i ≤ n) → (∀ i, (dnF ps n x f hp po k).1 i < 64) ∧ ∀ i, (dnF ps n x f hp po k).2 i ≤ n
  | 0, hp, po, k, hk, h1, h2 => ⟨up_lt h1 hx, up_le h2 hk⟩
  | f + 1, hp, po, k, hk, h1, h2 => by
    unfold dnF
    split
    · rename_i q
      exact dnF_b hx f _ _ _ (chF_lt q.1) (up_lt h1 (h1 _)) (up_le h2 hk)
    · exact ⟨up_lt h1 hx, up_le h2 hk⟩
theorem nxF_ok {u : HS} (h : hOk u) : hOk (nxF u).2 := by
  obtain ⟨tk, sd, ps, rn, hp, po, sp, cap, big, n, gp⟩ := u
  obtain ⟨h1, h2, h3, h4, h5, h6, h7, h8, h9⟩ := h
  have hok : hOk (tk, sd, ps, rn, hp, po, sp, cap, big, n, gp) := ⟨h1, h2, h3, h4, h5, h6, h7, h8, h9⟩
  unfold nxF
  dsimp only
  by_cases c1 : n = 0
  · rw [if_pos c1]; exact hok
  · rw [if_neg c1]
    by_cases c2 : 2147483647 - sd (hp 0) < ps (hp 0)
    · rw [if_pos c2]; exact hok
    · rw [if_neg c2]
      have hs := h5 (hp 0)
      have hb := dnF_b (ps := va_up ps (hp 0) (ps (hp 0) + sd (hp 0))) (n := n) (h7 0) n hp po 0 (by omega) h7 h8
      exact ⟨h1, h2, h3, h4, h5, up_lt h6 (by omega), hb.1, hb.2, h9⟩
theorem upF_s {ps : Nat → Nat} {x f k : Nat} {hp po : Nat → Nat} (h : 0 < k) (h2 : befB ps x (hp ((k - 1) / 2)) = true) : upF ps x (f + 1) hp po k = upF ps x f (va_up hp k (hp ((k - 1) / 2))) (va_up po (hp ((k - 1) / 2)) (k + 1)) ((k - 1) / 2) := by
  rw [upF, if_pos ⟨h, h2⟩]
theorem upF_0 {ps : Nat → Nat} {x f k : Nat} {hp po : Nat → Nat} (h : k = 0) : upF ps x f hp po k = (va_up hp k x, va_up po x (k + 1)) := by
  cases f with
  | zero => rfl
  | succ f => rw [upF, if_neg (by omega)]
theorem upF_n {ps : Nat → Nat} {x f k : Nat} {hp po : Nat → Nat} (h2 : befB ps x (hp ((k - 1) / 2)) = false) : upF ps x f hp po k = (va_up hp k x, va_up po x (k + 1)) := by
  cases f with
  | zero => rfl
  | succ f => rw [upF, if_neg (fun q => by rw [h2] at q; exact absurd q.2 (by decide))]
theorem dnF_s {ps : Nat → Nat} {n x f k E : Nat} {hp po : Nat → Nat} (hE : chF ps n hp k = E) (h1 : 2 * k + 1 < n) (h2 : befB ps (hp E) x = true) : dnF ps n x (f + 1) hp po k = dnF ps n x f (va_up hp k (hp E)) (va_up po (hp E) (k + 1)) E := by
  subst hE
  rw [dnF, if_pos ⟨h1, h2⟩]
theorem dnF_0 {ps : Nat → Nat} {n x f k : Nat} {hp po : Nat → Nat} (h : n ≤ 2 * k + 1) : dnF ps n x f hp po k = (va_up hp k x, va_up po x (k + 1)) := by
  cases f with
  | zero => rfl
  | succ f => rw [dnF, if_neg (by omega)]
theorem dnF_n {ps : Nat → Nat} {n x f k E : Nat} {hp po : Nat → Nat} (hE : chF ps n hp k = E) (h2 : befB ps (hp E) x = false) : dnF ps n x f hp po k = (va_up hp k x, va_up po x (k + 1)) := by
  subst hE
  cases f with
  | zero => rfl
  | succ f => rw [dnF, if_neg (fun q => by rw [h2] at q; exact absurd q.2 (by decide))]
theorem gm_1 {ps hp : Nat → Nat} : gmF ps hp 1 = ps (hp 0) := by
  show (if ps (hp 0) < ps (hp 0) then ps (hp 0) else ps (hp 0)) = _
  rw [if_neg (Nat.lt_irrefl _)]
theorem gm_y {ps hp : Nat → Nat} {k : Nat} (h : gmF ps hp k < ps (hp k)) : gmF ps hp (k + 1) = ps (hp k) := by
  rw [gmF, if_pos h]
theorem gm_n {ps hp : Nat → Nat} {k : Nat} (h : ps (hp k) ≤ gmF ps hp k) : gmF ps hp (k + 1) = gmF ps hp k := by
  rw [gmF, if_neg (by omega)]
theorem in_y {ps : Nat → Nat} {x k : Nat} {sp : Nat → Nat} (h : befB ps x (sp k) = true) : inF ps x (k + 1) sp = inF ps x k (va_up sp (k + 1) (sp k)) := by
  rw [inF, if_pos h]
theorem in_n {ps : Nat → Nat} {x k : Nat} {sp : Nat → Nat} (h : befB ps x (sp k) = false) : inF ps x (k + 1) sp = va_up sp (k + 1) x := by
  rw [inF, if_neg (by rw [h]; decide)]
theorem tu_y {f : Nat} {u : HS} (h : ¬ (nxF u).1 < 0) : tuG (f + 1) u = ((tuG f (nxF u).2).1 + 1, (tuG f (nxF u).2).2) := by
  rw [tuG, if_pos (Int32.not_lt.mp h)]
theorem tu_n {f : Nat} {u : HS} (h : (nxF u).1 < 0) : tuG (f + 1) u = (0, (nxF u).2) := by
  rw [tuG, if_neg (Int32.not_le.mpr h)]
theorem tu_arg {x : Int32} (h1 : ¬ x < nI 1) (h2 : x ≤ nI 1000) : ∃ k : Nat, 1 ≤ k ∧ k ≤ 1000 ∧ x = nI k := by
  have h0 : ¬ x < 0 := fun q => h1 (Int32.lt_trans q (by decide +kernel))
  obtain ⟨k, hk, rfl⟩ := nI_of2 (M := nI 1000) (n := 1000) (nI_toInt (by decide)) h0 h2
  refine ⟨k, Nat.pos_of_ne_zero (fun z => ?_), hk, rfl⟩
  subst z
  exact h1 (by decide +kernel)
end
section
set_option maxHeartbeats 4000000 in
set_option maxRecDepth 100000 in
/-- isBefore(x, y) -/
theorem met_isBefore {tk sd ps rn hp po sp : Nat → Nat} {cap big n gp : Nat} {x y : Nat} (hps : ∀ i, ps i < 2 ^ 31) (hx1 : x < 64) (hy1 : y < 64) : hMet yX1_isBefore cX1_isBefore 3 (some .boolean) { frames := 0, cells := 0, slots := 0, locals := 0 } [.int (nI x), .int (nI y)] (tk, sd, ps, rn, hp, po, sp, cap, big, n, gp) (fun r u => r = bI (befB ps x y) ∧ u = (tk, sd, ps, rn, hp, po, sp, cap, big, n, gp)) := by
  refine hMet_z (by decide) rfl (fun _ => Nat.le_of_ble_eq_true rfl) ?_
  intro p l e s m args below meth c D a d A Q ls C hret w hl
  have hx := C.1
  have hb := C.2.1
  have w : hW D A s a d tk sd ps rn hp po sp cap big n gp s.heap [] := w
  have hl : lv_has ls 3 [(0, .ref (a 0)), (1, .int (nI x)), (2, .int (nI y))] := hl
  refine lv_aload_n hx hb dX1_isBefore_0 rfl (lv_at hl 0 rfl) ?_
  refine hg_ps C w dX1_isBefore_1 ?_
  refine lv_iload_n hx hb dX1_isBefore_4 rfl (lv_at hl 1 rfl) ?_
  refine hl_ps C w (by omega) dX1_isBefore_5 ?_
  refine lv_aload_n hx hb dX1_isBefore_6 rfl (lv_at hl 0 rfl) ?_
  refine hg_ps C w dX1_isBefore_7 ?_
  refine lv_iload_n hx hb dX1_isBefore_10 rfl (lv_at hl 2 rfl) ?_
  refine hl_ps C w (by omega) dX1_isBefore_11 ?_
  refine n_icmp_lt (tgt := 35) hx hb (hps _) (hps _) dX1_isBefore_12 (by decide) (fun c12 => ?_) (fun c12 => ?_)
  · refine lv_iconst (v := bI true) hx hb dX1_isBefore_35 (by decide +kernel) ?_
    refine lv_goto (tgt := 40) hx hb dX1_isBefore_36 (by decide) ?_
    exact hret true _ _ _ _ _ ⟨congrArg bI (decide_eq_true (by omega)).symm, rfl⟩ w dX1_isBefore_40
  · refine lv_aload_n hx hb dX1_isBefore_15 rfl (lv_at hl 0 rfl) ?_
    refine hg_ps C w dX1_isBefore_16 ?_
    refine lv_iload_n hx hb dX1_isBefore_19 rfl (lv_at hl 1 rfl) ?_
    refine hl_ps C w (by omega) dX1_isBefore_20 ?_
    refine lv_aload_n hx hb dX1_isBefore_21 rfl (lv_at hl 0 rfl) ?_
    refine hg_ps C w dX1_isBefore_22 ?_
    refine lv_iload_n hx hb dX1_isBefore_25 rfl (lv_at hl 2 rfl) ?_
    refine hl_ps C w (by omega) dX1_isBefore_26 ?_
    refine n_icmp_ne (tgt := 39) hx hb (hps _) (hps _) dX1_isBefore_27 (by decide) (fun c27 => ?_) (fun c27 => ?_)
    · refine lv_iconst (v := bI false) hx hb dX1_isBefore_39 (by decide +kernel) ?_
      exact hret false _ _ _ _ _ ⟨congrArg bI (decide_eq_false (by omega)).symm, rfl⟩ w dX1_isBefore_40
    · refine lv_iload_n hx hb dX1_isBefore_30 rfl (lv_at hl 1 rfl) ?_
      refine lv_iload_n hx hb dX1_isBefore_31 rfl (lv_at hl 2 rfl) ?_
      refine n_icmp_ge (tgt := 39) hx hb (by omega) (by omega) dX1_isBefore_32 (by decide) (fun c32 => ?_) (fun c32 => ?_)
      · refine lv_iconst (v := bI false) hx hb dX1_isBefore_39 (by decide +kernel) ?_
        exact hret false _ _ _ _ _ ⟨congrArg bI (decide_eq_false (by omega)).symm, rfl⟩ w dX1_isBefore_40
      · refine lv_iconst (v := bI true) hx hb dX1_isBefore_35 (by decide +kernel) ?_
        refine lv_goto (tgt := 40) hx hb dX1_isBefore_36 (by decide) ?_
        exact hret true _ _ _ _ _ ⟨congrArg bI (decide_eq_true (by omega)).symm, rfl⟩ w dX1_isBefore_40
set_option maxHeartbeats 4000000 in
theorem call_isBefore {p : Program} {l : Launch} {e : Env} {R : Room} {s : State} {m : MethodId} {args : Array Value} {below : List Frame} {meth : Method} {c : Code} {H : Heap} {locs : List Loc} {cells slots : Nat} {Q : State → Prop} {cc : ByteArray} {pc : Nat} {ls : Array Slot} {rest : List Value} {D : va_G} {A : Nat → Prop} {a : Nat → Nat} {d : ClassId} {nL : Nat} {tk sd ps rn hp po sp : Nat → Nat} {cap big n gp : Nat} {x y : Nat} (C : hC p s m args c cc nL D d A) (w : hW D A s a d tk sd ps rn hp po sp cap big n gp H locs) (hps : ∀ i, ps i < 2 ^ 31) (hx1 : x < 64) (hy1 : y < 64) (hR : 0 + 1 ≤ R.frames ∧ 8 + (3 + 11) + 0 ≤ R.locals) (hrm : (rest.map fun v => v.category).sum ≤ 8) (hsz : ls.size = nL) (hdg : decode cc pc = .ok (.invokevirtual 38, 3)) (hf : cells + 0 ≤ R.cells ∧ slots + 0 ≤ R.slots)
    (kk : ∀ (H1 : Heap) (locs1 : List Loc), hW D A s a d tk sd ps rn hp po sp cap big n gp H1 locs1 → W p l e R s m args below meth c H1 locs1 cells slots Q (F0 m (pc + 3) ls (.int (bI (befB ps x y)) :: rest))) : W p l e R s m args below meth c H locs cells slots Q (F0 m pc ls (.int (nI y) :: .int (nI x) :: .ref (a 0) :: rest)) :=
  hcall_i (As := [.int (nI x), .int (nI y)]) (met_isBefore hps hx1 hy1) C (cwV 2 C.2.2.2.2.1 (lw_V q78 q80 qs4 q13 q81) rfl rfl rfl (by decide +kernel) hR) w rfl rfl hrm hsz hdg hf (fun r u H1 locs1 hq w1 => by obtain ⟨rfl, rfl⟩ := hq; exact kk H1 locs1 w1)
set_option maxHeartbeats 4000000 in
set_option maxRecDepth 100000 in
/-- put(k, x) -/
theorem met_put {tk sd ps rn hp po sp : Nat → Nat} {cap big n gp : Nat} {k x : Nat} (hk1 : k < 64) (hx1 : x < 64) : hMetV yX1_put cX1_put 3 { frames := 0, cells := 0, slots := 0, locals := 0 } [.int (nI k), .int (nI x)] (tk, sd, ps, rn, hp, po, sp, cap, big, n, gp) (fun u => u = (tk, sd, ps, rn, va_up hp k x, va_up po x (k + 1), sp, cap, big, n, gp)) := by
  refine hMet_v (by decide) rfl (fun _ => Nat.le_of_ble_eq_true rfl) ?_
  intro p l e s m args below meth c D a d A Q ls C hret w hl
  have hx := C.1
  have hb := C.2.1
  have w : hW D A s a d tk sd ps rn hp po sp cap big n gp s.heap [] := w
  have hl : lv_has ls 3 [(0, .ref (a 0)), (1, .int (nI k)), (2, .int (nI x))] := hl
  refine lv_aload_n hx hb dX1_put_0 rfl (lv_at hl 0 rfl) ?_
  refine hg_hp C w dX1_put_1 ?_
  refine lv_iload_n hx hb dX1_put_4 rfl (lv_at hl 1 rfl) ?_
  refine lv_iload_n hx hb dX1_put_5 rfl (lv_at hl 2 rfl) ?_
  refine hs_hp C w (by omega) dX1_put_6 (fun H locs w => ?_)
  refine lv_aload_n hx hb dX1_put_7 rfl (lv_at hl 0 rfl) ?_
  refine hg_po C w dX1_put_8 ?_
  refine lv_iload_n hx hb dX1_put_11 rfl (lv_at hl 2 rfl) ?_
  refine lv_iload_n hx hb dX1_put_12 rfl (lv_at hl 1 rfl) ?_
  refine lv_iconst (v := nI 1) hx hb dX1_put_13 (by decide +kernel) ?_
  refine n_iadd hx hb dX1_put_14 ?_
  refine hs_po C w (by omega) dX1_put_15 (fun H locs w => ?_)
  exact hret _ _ _ _ _ rfl w dX1_put_16
set_option maxHeartbeats 4000000 in
theorem call_put {p : Program} {l : Launch} {e : Env} {R : Room} {s : State} {m : MethodId} {args : Array Value} {below : List Frame} {meth : Method} {c : Code} {H : Heap} {locs : List Loc} {cells slots : Nat} {Q : State → Prop} {cc : ByteArray} {pc : Nat} {ls : Array Slot} {rest : List Value} {D : va_G} {A : Nat → Prop} {a : Nat → Nat} {d : ClassId} {nL : Nat} {tk sd ps rn hp po sp : Nat → Nat} {cap big n gp : Nat} {k x : Nat} (C : hC p s m args c cc nL D d A) (w : hW D A s a d tk sd ps rn hp po sp cap big n gp H locs) (hk1 : k < 64) (hx1 : x < 64) (hR : 0 + 1 ≤ R.frames ∧ 8 + (3 + 11) + 0 ≤ R.locals) (hrm : (rest.map fun v => v.category).sum ≤ 8) (hsz : ls.size = nL) (hdg : decode cc pc = .ok (.invokevirtual 42, 3)) (hf : cells + 0 ≤ R.cells ∧ slots + 0 ≤ R.slots)
    (kk : ∀ (H1 : Heap) (locs1 : List Loc), hW D A s a d tk sd ps rn (va_up hp k x) (va_up po x (k + 1)) sp cap big n gp H1 locs1 → W p l e R s m args below meth c H1 locs1 cells slots Q (F0 m (pc + 3) ls (rest))) : W p l e R s m args below meth c H locs cells slots Q (F0 m pc ls (.int (nI x) :: .int (nI k) :: .ref (a 0) :: rest)) :=
  hcall_v (As := [.int (nI k), .int (nI x)]) (met_put hk1 hx1) C (cwV 2 C.2.2.2.2.1 (lw_V q82 q84 qs5 q13 q85) rfl rfl rfl (by decide +kernel) hR) w rfl rfl hrm hsz hdg hf (fun u H1 locs1 hq w1 => by subst hq; exact kk H1 locs1 w1)
set_option maxHeartbeats 4000000 in
set_option maxRecDepth 100000 in
/-- isClient(x) -/
theorem met_isClient {tk sd ps rn hp po sp : Nat → Nat} {cap big n gp : Nat} {x : Int32} : hMet yX1_isClient cX1_isClient 2 (some .boolean) { frames := 0, cells := 0, slots := 0, locals := 0 } [.int x] (tk, sd, ps, rn, hp, po, sp, cap, big, n, gp) (fun r u => r = bI (isC cap x) ∧ u = (tk, sd, ps, rn, hp, po, sp, cap, big, n, gp)) := by
  refine hMet_z (by decide) rfl (fun _ => Nat.le_of_ble_eq_true rfl) ?_
  intro p l e s m args below meth c D a d A Q ls C hret w hl
  have hx := C.1
  have hb := C.2.1
  have w : hW D A s a d tk sd ps rn hp po sp cap big n gp s.heap [] := w
  have hl : lv_has ls 2 [(0, .ref (a 0)), (1, .int x)] := hl
  refine lv_iload_n hx hb dX1_isClient_0 rfl (lv_at hl 1 rfl) ?_
  refine lv_if_lt (tgt := 16) hx hb dX1_isClient_1 (by decide) (fun c1 => ?_) (fun c1 => ?_)
  · refine lv_iconst (v := bI false) hx hb dX1_isClient_16 (by decide +kernel) ?_
    exact hret false _ _ _ _ _ ⟨(congrArg bI (isC_lt c1)).symm, rfl⟩ w dX1_isClient_17
  · refine lv_iload_n hx hb dX1_isClient_4 rfl (lv_at hl 1 rfl) ?_
    refine lv_aload_n hx hb dX1_isClient_5 rfl (lv_at hl 0 rfl) ?_
    refine hg_cap C w dX1_isClient_6 ?_
    refine lv_icmp_ge (tgt := 16) hx hb dX1_isClient_9 (by decide) (fun c9 => ?_) (fun c9 => ?_)
    · refine lv_iconst (v := bI false) hx hb dX1_isClient_16 (by decide +kernel) ?_
      exact hret false _ _ _ _ _ ⟨(congrArg bI (isC_ge c9)).symm, rfl⟩ w dX1_isClient_17
    · refine lv_iconst (v := bI true) hx hb dX1_isClient_12 (by decide +kernel) ?_
      refine lv_goto (tgt := 17) hx hb dX1_isClient_13 (by decide) ?_
      exact hret true _ _ _ _ _ ⟨(congrArg bI (isC_of c1 c9)).symm, rfl⟩ w dX1_isClient_17
set_option maxHeartbeats 4000000 in
theorem call_isClient {p : Program} {l : Launch} {e : Env} {R : Room} {s : State} {m : MethodId} {args : Array Value} {below : List Frame} {meth : Method} {c : Code} {H : Heap} {locs : List Loc} {cells slots : Nat} {Q : State → Prop} {cc : ByteArray} {pc : Nat} {ls : Array Slot} {rest : List Value} {D : va_G} {A : Nat → Prop} {a : Nat → Nat} {d : ClassId} {nL : Nat} {tk sd ps rn hp po sp : Nat → Nat} {cap big n gp : Nat} {x : Int32} (C : hC p s m args c cc nL D d A) (w : hW D A s a d tk sd ps rn hp po sp cap big n gp H locs)  (hR : 0 + 1 ≤ R.frames ∧ 8 + (2 + 11) + 0 ≤ R.locals) (hrm : (rest.map fun v => v.category).sum ≤ 8) (hsz : ls.size = nL) (hdg : decode cc pc = .ok (.invokevirtual 49, 3)) (hf : cells + 0 ≤ R.cells ∧ slots + 0 ≤ R.slots)
    (kk : ∀ (H1 : Heap) (locs1 : List Loc), hW D A s a d tk sd ps rn hp po sp cap big n gp H1 locs1 → W p l e R s m args below meth c H1 locs1 cells slots Q (F0 m (pc + 3) ls (.int (bI (isC cap x)) :: rest))) : W p l e R s m args below meth c H locs cells slots Q (F0 m pc ls (.int x :: .ref (a 0) :: rest)) :=
  hcall_i (As := [.int x]) (met_isClient ) C (cwV 1 C.2.2.2.2.1 (lw_V q62 q64 qs0 q13 q65) rfl rfl rfl (by decide +kernel) hR) w rfl rfl hrm hsz hdg hf (fun r u H1 locs1 hq w1 => by obtain ⟨rfl, rfl⟩ := hq; exact kk H1 locs1 w1)
set_option maxHeartbeats 4000000 in
set_option maxRecDepth 100000 in
/-- areTickets(t) -/
theorem met_areTickets {tk sd ps rn hp po sp : Nat → Nat} {cap big n gp : Nat} {t : Int32} : hMet yX1_areTickets cX1_areTickets 2 (some .boolean) { frames := 0, cells := 0, slots := 0, locals := 0 } [.int t] (tk, sd, ps, rn, hp, po, sp, cap, big, n, gp) (fun r u => r = bI (isT big t) ∧ u = (tk, sd, ps, rn, hp, po, sp, cap, big, n, gp)) := by
  refine hMet_z (by decide) rfl (fun _ => Nat.le_of_ble_eq_true rfl) ?_
  intro p l e s m args below meth c D a d A Q ls C hret w hl
  have hx := C.1
  have hb := C.2.1
  have w : hW D A s a d tk sd ps rn hp po sp cap big n gp s.heap [] := w
  have hl : lv_has ls 2 [(0, .ref (a 0)), (1, .int t)] := hl
  refine lv_iload_n hx hb dX1_areTickets_0 rfl (lv_at hl 1 rfl) ?_
  refine lv_if_le (tgt := 16) hx hb dX1_areTickets_1 (by decide) (fun c1 => ?_) (fun c1 => ?_)
  · refine lv_iconst (v := bI false) hx hb dX1_areTickets_16 (by decide +kernel) ?_
    exact hret false _ _ _ _ _ ⟨(congrArg bI (isT_le c1)).symm, rfl⟩ w dX1_areTickets_17
  · refine lv_iload_n hx hb dX1_areTickets_4 rfl (lv_at hl 1 rfl) ?_
    refine lv_aload_n hx hb dX1_areTickets_5 rfl (lv_at hl 0 rfl) ?_
    refine hg_big C w dX1_areTickets_6 ?_
    refine lv_icmp_ge (tgt := 16) hx hb dX1_areTickets_9 (by decide) (fun c9 => ?_) (fun c9 => ?_)
    · refine lv_iconst (v := bI false) hx hb dX1_areTickets_16 (by decide +kernel) ?_
      exact hret false _ _ _ _ _ ⟨(congrArg bI (isT_ge c9)).symm, rfl⟩ w dX1_areTickets_17
    · refine lv_iconst (v := bI true) hx hb dX1_areTickets_12 (by decide +kernel) ?_
      refine lv_goto (tgt := 17) hx hb dX1_areTickets_13 (by decide) ?_
      exact hret true _ _ _ _ _ ⟨(congrArg bI (isT_of c1 c9)).symm, rfl⟩ w dX1_areTickets_17
set_option maxHeartbeats 4000000 in
theorem call_areTickets {p : Program} {l : Launch} {e : Env} {R : Room} {s : State} {m : MethodId} {args : Array Value} {below : List Frame} {meth : Method} {c : Code} {H : Heap} {locs : List Loc} {cells slots : Nat} {Q : State → Prop} {cc : ByteArray} {pc : Nat} {ls : Array Slot} {rest : List Value} {D : va_G} {A : Nat → Prop} {a : Nat → Nat} {d : ClassId} {nL : Nat} {tk sd ps rn hp po sp : Nat → Nat} {cap big n gp : Nat} {t : Int32} (C : hC p s m args c cc nL D d A) (w : hW D A s a d tk sd ps rn hp po sp cap big n gp H locs)  (hR : 0 + 1 ≤ R.frames ∧ 8 + (2 + 11) + 0 ≤ R.locals) (hrm : (rest.map fun v => v.category).sum ≤ 8) (hsz : ls.size = nL) (hdg : decode cc pc = .ok (.invokevirtual 56, 3)) (hf : cells + 0 ≤ R.cells ∧ slots + 0 ≤ R.slots)
    (kk : ∀ (H1 : Heap) (locs1 : List Loc), hW D A s a d tk sd ps rn hp po sp cap big n gp H1 locs1 → W p l e R s m args below meth c H1 locs1 cells slots Q (F0 m (pc + 3) ls (.int (bI (isT big t)) :: rest))) : W p l e R s m args below meth c H locs cells slots Q (F0 m pc ls (.int t :: .ref (a 0) :: rest)) :=
  hcall_i (As := [.int t]) (met_areTickets ) C (cwV 1 C.2.2.2.2.1 (lw_V q70 q72 qs2 q13 q73) rfl rfl rfl (by decide +kernel) hR) w rfl rfl hrm hsz hdg hf (fun r u H1 locs1 hq w1 => by obtain ⟨rfl, rfl⟩ := hq; exact kk H1 locs1 w1)
set_option maxHeartbeats 4000000 in
set_option maxRecDepth 100000 in
/-- isIn(x) -/
theorem met_isIn {tk sd ps rn hp po sp : Nat → Nat} {cap big n gp : Nat} {x : Nat} (hpo1 : po x < 2 ^ 31) (hx1 : x < 64) : hMet yX1_isIn cX1_isIn 2 (some .boolean) { frames := 0, cells := 0, slots := 0, locals := 0 } [.int (nI x)] (tk, sd, ps, rn, hp, po, sp, cap, big, n, gp) (fun r u => r = bI (decide (0 < po x)) ∧ u = (tk, sd, ps, rn, hp, po, sp, cap, big, n, gp)) := by
  refine hMet_z (by decide) rfl (fun _ => Nat.le_of_ble_eq_true rfl) ?_
  intro p l e s m args below meth c D a d A Q ls C hret w hl
  have hx := C.1
  have hb := C.2.1
  have w : hW D A s a d tk sd ps rn hp po sp cap big n gp s.heap [] := w
  have hl : lv_has ls 2 [(0, .ref (a 0)), (1, .int (nI x))] := hl
  refine lv_aload_n hx hb dX1_isIn_0 rfl (lv_at hl 0 rfl) ?_
  refine hg_po C w dX1_isIn_1 ?_
  refine lv_iload_n hx hb dX1_isIn_4 rfl (lv_at hl 1 rfl) ?_
  refine hl_po C w (by omega) dX1_isIn_5 ?_
  refine n_if_le (tgt := 13) hx hb hpo1 dX1_isIn_6 (by decide) (fun c6 => ?_) (fun c6 => ?_)
  · refine lv_iconst (v := bI false) hx hb dX1_isIn_13 (by decide +kernel) ?_
    exact hret false _ _ _ _ _ ⟨congrArg bI (decide_eq_false (by omega)).symm, rfl⟩ w dX1_isIn_14
  · refine lv_iconst (v := bI true) hx hb dX1_isIn_9 (by decide +kernel) ?_
    refine lv_goto (tgt := 14) hx hb dX1_isIn_10 (by decide) ?_
    exact hret true _ _ _ _ _ ⟨congrArg bI (decide_eq_true (by omega)).symm, rfl⟩ w dX1_isIn_14
set_option maxHeartbeats 4000000 in
theorem call_isIn {p : Program} {l : Launch} {e : Env} {R : Room} {s : State} {m : MethodId} {args : Array Value} {below : List Frame} {meth : Method} {c : Code} {H : Heap} {locs : List Loc} {cells slots : Nat} {Q : State → Prop} {cc : ByteArray} {pc : Nat} {ls : Array Slot} {rest : List Value} {D : va_G} {A : Nat → Prop} {a : Nat → Nat} {d : ClassId} {nL : Nat} {tk sd ps rn hp po sp : Nat → Nat} {cap big n gp : Nat} {x : Nat} (C : hC p s m args c cc nL D d A) (w : hW D A s a d tk sd ps rn hp po sp cap big n gp H locs) (hpo1 : po x < 2 ^ 31) (hx1 : x < 64) (hR : 0 + 1 ≤ R.frames ∧ 8 + (2 + 11) + 0 ≤ R.locals) (hrm : (rest.map fun v => v.category).sum ≤ 8) (hsz : ls.size = nL) (hdg : decode cc pc = .ok (.invokevirtual 53, 3)) (hf : cells + 0 ≤ R.cells ∧ slots + 0 ≤ R.slots)
    (kk : ∀ (H1 : Heap) (locs1 : List Loc), hW D A s a d tk sd ps rn hp po sp cap big n gp H1 locs1 → W p l e R s m args below meth c H1 locs1 cells slots Q (F0 m (pc + 3) ls (.int (bI (decide (0 < po x))) :: rest))) : W p l e R s m args below meth c H locs cells slots Q (F0 m pc ls (.int (nI x) :: .ref (a 0) :: rest)) :=
  hcall_i (As := [.int (nI x)]) (met_isIn hpo1 hx1) C (cwV 1 C.2.2.2.2.1 (lw_V q66 q68 qs1 q13 q69) rfl rfl rfl (by decide +kernel) hR) w rfl rfl hrm hsz hdg hf (fun r u H1 locs1 hq w1 => by obtain ⟨rfl, rfl⟩ := hq; exact kk H1 locs1 w1)
end
section
set_option maxHeartbeats 4000000 in
set_option maxRecDepth 100000 in
/-- up(k0, x) -/
theorem met_up {tk sd ps rn hp po sp : Nat → Nat} {cap big n gp : Nat} {k0 x : Nat} (hps : ∀ i, ps i < 2 ^ 31) (hhp : ∀ i, hp i < 64) (hk0 : k0 < 64) (hx1 : x < 64) : hMetV yX1_up cX1_up 4 { frames := 1, cells := 0, slots := 0, locals := 22 } [.int (nI k0), .int (nI x)] (tk, sd, ps, rn, hp, po, sp, cap, big, n, gp) (fun u => u = (tk, sd, ps, rn, (upF ps x k0 hp po k0).1, (upF ps x k0 hp po k0).2, sp, cap, big, n, gp)) := by
  refine hMet_v (by decide) rfl (fun _ => Nat.le_of_ble_eq_true rfl) ?_
  intro p l e s m args below meth c D a d A Q ls C hret w hl
  have hx := C.1
  have hb := C.2.1
  have w : hW D A s a d tk sd ps rn hp po sp cap big n gp s.heap [] := w
  have hl : lv_has ls 4 [(0, .ref (a 0)), (1, .int (nI k0)), (2, .int (nI x))] := hl
  have loop : ∀ (f k : Nat) (hp1 po1 : Nat → Nat) (H : Heap) (locs : List Loc) (ls : Array Slot), k ≤ f → k < 64 → (∀ i, hp1 i < 64) → upF ps x f hp1 po1 k = upF ps x k0 hp po k0 → hW D A s a d tk sd ps rn hp1 po1 sp cap big n gp H locs → lv_has ls 4 [(3, .int (nI k)), (0, .ref (a 0)), (1, .int (nI k0)), (2, .int (nI x))] → W p l e { frames := 1, cells := 0, slots := 0, locals := 22 } s m args below meth c H locs 0 0 Q (F0 m 2 ls []) := by
    clear w hl
    intro f
    induction f with
    | zero =>
      intro k hp1 po1 H locs ls hkf hk hhp1 he w hl
      refine lv_iload_n hx hb dX1_up_2 rfl (lv_at hl 0 rfl) ?_
      refine n_if_le (tgt := 48) hx hb (by omega) dX1_up_3 (by decide) (fun c3 => ?_) (fun c3 => ?_)
      · refine lv_aload_n hx hb dX1_up_48 rfl (lv_at hl 1 rfl) ?_
        refine lv_iload_n hx hb dX1_up_49 rfl (lv_at hl 0 rfl) ?_
        refine lv_iload_n hx hb dX1_up_50 rfl (lv_at hl 3 rfl) ?_
        refine call_put C w (by omega) (by omega) ⟨Nat.le_of_ble_eq_true rfl, Nat.le_of_ble_eq_true rfl⟩ (Nat.le_of_ble_eq_true rfl) hl.1 dX1_up_51 ⟨Nat.le_refl _, Nat.le_refl _⟩ (fun H locs w => ?_)
        exact hret _ _ _ _ _ (by rw [← he, upF_0 c3]) w dX1_up_54
      · exact absurd c3 (by omega)
    | succ f ih =>
      intro k hp1 po1 H locs ls hkf hk hhp1 he w hl
      refine lv_iload_n hx hb dX1_up_2 rfl (lv_at hl 0 rfl) ?_
      refine n_if_le (tgt := 48) hx hb (by omega) dX1_up_3 (by decide) (fun c3 => ?_) (fun c3 => ?_)
      · refine lv_aload_n hx hb dX1_up_48 rfl (lv_at hl 1 rfl) ?_
        refine lv_iload_n hx hb dX1_up_49 rfl (lv_at hl 0 rfl) ?_
        refine lv_iload_n hx hb dX1_up_50 rfl (lv_at hl 3 rfl) ?_
        refine call_put C w (by omega) (by omega) ⟨Nat.le_of_ble_eq_true rfl, Nat.le_of_ble_eq_true rfl⟩ (Nat.le_of_ble_eq_true rfl) hl.1 dX1_up_51 ⟨Nat.le_refl _, Nat.le_refl _⟩ (fun H locs w => ?_)
        exact hret _ _ _ _ _ (by rw [← he, upF_0 c3]) w dX1_up_54
      · refine lv_aload_n hx hb dX1_up_6 rfl (lv_at hl 1 rfl) ?_
        refine lv_iload_n hx hb dX1_up_7 rfl (lv_at hl 3 rfl) ?_
        refine lv_aload_n hx hb dX1_up_8 rfl (lv_at hl 1 rfl) ?_
        refine hg_hp C w dX1_up_9 ?_
        refine lv_iload_n hx hb dX1_up_12 rfl (lv_at hl 0 rfl) ?_
        refine lv_iconst (v := nI 1) hx hb dX1_up_13 (by decide +kernel) ?_
        refine n_isub hx hb (by omega) dX1_up_14 ?_
        refine lv_iconst (v := nI 1) hx hb dX1_up_15 (by decide +kernel) ?_
        refine n_ishr1 hx hb (by omega) dX1_up_16 ?_
        refine hl_hp C w (by omega) dX1_up_17 ?_
        refine call_isBefore C w hps (by omega) (hhp1 _) ⟨Nat.le_of_ble_eq_true rfl, Nat.le_of_ble_eq_true rfl⟩ (Nat.le_of_ble_eq_true rfl) hl.1 dX1_up_18 ⟨Nat.le_refl _, Nat.le_refl _⟩ (fun H locs w => ?_)
        refine b_if_eq (tgt := 48) hx hb dX1_up_21 (by decide) (fun c21 => ?_) (fun c21 => ?_)
        · refine lv_aload_n hx hb dX1_up_48 rfl (lv_at hl 1 rfl) ?_
          refine lv_iload_n hx hb dX1_up_49 rfl (lv_at hl 0 rfl) ?_
          refine lv_iload_n hx hb dX1_up_50 rfl (lv_at hl 3 rfl) ?_
          refine call_put C w (by omega) (by omega) ⟨Nat.le_of_ble_eq_true rfl, Nat.le_of_ble_eq_true rfl⟩ (Nat.le_of_ble_eq_true rfl) hl.1 dX1_up_51 ⟨Nat.le_refl _, Nat.le_refl _⟩ (fun H locs w => ?_)
          exact hret _ _ _ _ _ (by rw [← he, upF_n c21]) w dX1_up_54
        · refine lv_aload_n hx hb dX1_up_24 rfl (lv_at hl 1 rfl) ?_
          refine lv_iload_n hx hb dX1_up_25 rfl (lv_at hl 0 rfl) ?_
          refine lv_aload_n hx hb dX1_up_26 rfl (lv_at hl 1 rfl) ?_
          refine hg_hp C w dX1_up_27 ?_
          refine lv_iload_n hx hb dX1_up_30 rfl (lv_at hl 0 rfl) ?_
          refine lv_iconst (v := nI 1) hx hb dX1_up_31 (by decide +kernel) ?_
          refine n_isub hx hb (by omega) dX1_up_32 ?_
          refine lv_iconst (v := nI 1) hx hb dX1_up_33 (by decide +kernel) ?_
          refine n_ishr1 hx hb (by omega) dX1_up_34 ?_
          refine hl_hp C w (by omega) dX1_up_35 ?_
          refine call_put C w (by omega) (hhp1 _) ⟨Nat.le_of_ble_eq_true rfl, Nat.le_of_ble_eq_true rfl⟩ (Nat.le_of_ble_eq_true rfl) hl.1 dX1_up_36 ⟨Nat.le_refl _, Nat.le_refl _⟩ (fun H locs w => ?_)
          refine lv_iload_n hx hb dX1_up_39 rfl (lv_at hl 0 rfl) ?_
          refine lv_iconst (v := nI 1) hx hb dX1_up_40 (by decide +kernel) ?_
          refine n_isub hx hb (by omega) dX1_up_41 ?_
          refine lv_iconst (v := nI 1) hx hb dX1_up_42 (by decide +kernel) ?_
          refine n_ishr1 hx hb (by omega) dX1_up_43 ?_
          refine lv_istore_n (lv' := [(3, .int (nI ((k - 1) / 2))), (0, .ref (a 0)), (1, .int (nI k0)), (2, .int (nI x))]) hx hb dX1_up_44 rfl hl (by decide) rfl (fun ls hl => ?_)
          refine lv_goto (tgt := 2) hx hb dX1_up_45 (by decide) ?_
          exact ih ((k - 1) / 2) (va_up hp1 k (hp1 ((k - 1) / 2))) (va_up po1 (hp1 ((k - 1) / 2)) (k + 1)) _ _ _ (by omega) (by omega) (up_lt hhp1 (hhp1 _)) ((upF_s c3 c21).symm.trans he) w (lv_sub hl [0, 1, 2, 3] rfl)
  refine lv_iload_n hx hb dX1_up_0 rfl (lv_at hl 1 rfl) ?_
  refine lv_istore_n (lv' := [(3, .int (nI k0)), (0, .ref (a 0)), (1, .int (nI k0)), (2, .int (nI x))]) hx hb dX1_up_1 rfl hl (by decide) rfl (fun ls hl => ?_)
  exact loop k0 k0 hp po _ _ _ (Nat.le_refl _) hk0 hhp rfl w (lv_sub hl [0, 1, 2, 3] rfl)
set_option maxHeartbeats 4000000 in
theorem call_up {p : Program} {l : Launch} {e : Env} {R : Room} {s : State} {m : MethodId} {args : Array Value} {below : List Frame} {meth : Method} {c : Code} {H : Heap} {locs : List Loc} {cells slots : Nat} {Q : State → Prop} {cc : ByteArray} {pc : Nat} {ls : Array Slot} {rest : List Value} {D : va_G} {A : Nat → Prop} {a : Nat → Nat} {d : ClassId} {nL : Nat} {tk sd ps rn hp po sp : Nat → Nat} {cap big n gp : Nat} {k0 x : Nat} (C : hC p s m args c cc nL D d A) (w : hW D A s a d tk sd ps rn hp po sp cap big n gp H locs) (hps : ∀ i, ps i < 2 ^ 31) (hhp : ∀ i, hp i < 64) (hk0 : k0 < 64) (hx1 : x < 64) (hR : 1 + 1 ≤ R.frames ∧ 8 + (4 + 11) + 22 ≤ R.locals) (hrm : (rest.map fun v => v.category).sum ≤ 8) (hsz : ls.size = nL) (hdg : decode cc pc = .ok (.invokevirtual 62, 3)) (hf : cells + 0 ≤ R.cells ∧ slots + 0 ≤ R.slots)
    (kk : ∀ (H1 : Heap) (locs1 : List Loc), hW D A s a d tk sd ps rn (upF ps x k0 hp po k0).1 (upF ps x k0 hp po k0).2 sp cap big n gp H1 locs1 → W p l e R s m args below meth c H1 locs1 cells slots Q (F0 m (pc + 3) ls (rest))) : W p l e R s m args below meth c H locs cells slots Q (F0 m pc ls (.int (nI x) :: .int (nI k0) :: .ref (a 0) :: rest)) :=
  hcall_v (As := [.int (nI k0), .int (nI x)]) (met_up hps hhp hk0 hx1) C (cwV 2 C.2.2.2.2.1 (lw_V q74 q76 qs3 q13 q77) rfl rfl rfl (by decide +kernel) hR) w rfl rfl hrm hsz hdg hf (fun u H1 locs1 hq w1 => by subst hq; exact kk H1 locs1 w1)
set_option maxHeartbeats 4000000 in
set_option maxRecDepth 100000 in
/-- down(k0, x) -/
theorem met_down {tk sd ps rn hp po sp : Nat → Nat} {cap big n gp : Nat} {k0 x : Nat} (hps : ∀ i, ps i < 2 ^ 31) (hhp : ∀ i, hp i < 64) (hn1 : n ≤ 64) (hk0 : k0 < 64) (hx1 : x < 64) : hMetV yX1_down cX1_down 5 { frames := 1, cells := 0, slots := 0, locals := 22 } [.int (nI k0), .int (nI x)] (tk, sd, ps, rn, hp, po, sp, cap, big, n, gp) (fun u => u = (tk, sd, ps, rn, (dnF ps n x n hp po k0).1, (dnF ps n x n hp po k0).2, sp, cap, big, n, gp)) := by
  refine hMet_v (by decide) rfl (fun _ => Nat.le_of_ble_eq_true rfl) ?_
  intro p l e s m args below meth c D a d A Q ls C hret w hl
  have hx := C.1
  have hb := C.2.1
  have w : hW D A s a d tk sd ps rn hp po sp cap big n gp s.heap [] := w
  have hl : lv_has ls 5 [(0, .ref (a 0)), (1, .int (nI k0)), (2, .int (nI x))] := hl
  have loop : ∀ (f k : Nat) (hp1 po1 : Nat → Nat) (H : Heap) (locs : List Loc) (ls : Array Slot), n ≤ k + f → k < 64 → (∀ i, hp1 i < 64) → dnF ps n x f hp1 po1 k = dnF ps n x n hp po k0 → hW D A s a d tk sd ps rn hp1 po1 sp cap big n gp H locs → lv_has ls 5 [(4, .int (nI (2 * k + 1))), (3, .int (nI k)), (0, .ref (a 0)), (1, .int (nI k0)), (2, .int (nI x))] → W p l e { frames := 1, cells := 0, slots := 0, locals := 22 } s m args below meth c H locs 0 0 Q (F0 m 9 ls []) := by
    clear w hl
    intro f
    induction f with
    | zero =>
      intro k hp1 po1 H locs ls hkf hk hhp1 he w hl
      refine lv_iload hx hb dX1_down_9 (lv_at hl 0 rfl) ?_
      refine lv_aload_n hx hb dX1_down_11 rfl (lv_at hl 2 rfl) ?_
      refine hg_n C w dX1_down_12 ?_
      refine n_icmp_ge (tgt := 98) hx hb (by omega) (by omega) dX1_down_15 (by decide) (fun c15 => ?_) (fun c15 => ?_)
      · refine lv_aload_n hx hb dX1_down_98 rfl (lv_at hl 2 rfl) ?_
        refine lv_iload_n hx hb dX1_down_99 rfl (lv_at hl 1 rfl) ?_
        refine lv_iload_n hx hb dX1_down_100 rfl (lv_at hl 4 rfl) ?_
        refine call_put C w (by omega) (by omega) ⟨Nat.le_of_ble_eq_true rfl, Nat.le_of_ble_eq_true rfl⟩ (Nat.le_of_ble_eq_true rfl) hl.1 dX1_down_101 ⟨Nat.le_refl _, Nat.le_refl _⟩ (fun H locs w => ?_)
        exact hret _ _ _ _ _ (by rw [← he, dnF_0 c15]) w dX1_down_104
      · exact absurd c15 (by omega)
    | succ f ih =>
      intro k hp1 po1 H locs ls hkf hk hhp1 he w hl
      refine lv_iload hx hb dX1_down_9 (lv_at hl 0 rfl) ?_
      refine lv_aload_n hx hb dX1_down_11 rfl (lv_at hl 2 rfl) ?_
      refine hg_n C w dX1_down_12 ?_
      refine n_icmp_ge (tgt := 98) hx hb (by omega) (by omega) dX1_down_15 (by decide) (fun c15 => ?_) (fun c15 => ?_)
      · refine lv_aload_n hx hb dX1_down_98 rfl (lv_at hl 2 rfl) ?_
        refine lv_iload_n hx hb dX1_down_99 rfl (lv_at hl 1 rfl) ?_
        refine lv_iload_n hx hb dX1_down_100 rfl (lv_at hl 4 rfl) ?_
        refine call_put C w (by omega) (by omega) ⟨Nat.le_of_ble_eq_true rfl, Nat.le_of_ble_eq_true rfl⟩ (Nat.le_of_ble_eq_true rfl) hl.1 dX1_down_101 ⟨Nat.le_refl _, Nat.le_refl _⟩ (fun H locs w => ?_)
        exact hret _ _ _ _ _ (by rw [← he, dnF_0 c15]) w dX1_down_104
      · refine lv_iload hx hb dX1_down_18 (lv_at hl 0 rfl) ?_
        refine lv_iconst (v := nI 1) hx hb dX1_down_20 (by decide +kernel) ?_
        refine n_iadd hx hb dX1_down_21 ?_
        refine lv_aload_n hx hb dX1_down_22 rfl (lv_at hl 2 rfl) ?_
        refine hg_n C w dX1_down_23 ?_
        refine n_icmp_ge (tgt := 55) hx hb (by omega) (by omega) dX1_down_26 (by decide) (fun c26 => ?_) (fun c26 => ?_)
        · have hE : chF ps n hp1 k = 2 * k + 1 := if_neg (by omega)
          refine lv_aload_n hx hb dX1_down_55 rfl (lv_at hl 2 rfl) ?_
          refine lv_aload_n hx hb dX1_down_56 rfl (lv_at hl 2 rfl) ?_
          refine hg_hp C w dX1_down_57 ?_
          refine lv_iload hx hb dX1_down_60 (lv_at hl 0 rfl) ?_
          refine hl_hp C w (by omega) dX1_down_62 ?_
          refine lv_iload_n hx hb dX1_down_63 rfl (lv_at hl 4 rfl) ?_
          refine call_isBefore C w hps (hhp1 _) (by omega) ⟨Nat.le_of_ble_eq_true rfl, Nat.le_of_ble_eq_true rfl⟩ (Nat.le_of_ble_eq_true rfl) hl.1 dX1_down_64 ⟨Nat.le_refl _, Nat.le_refl _⟩ (fun H locs w => ?_)
          refine b_if_ne (tgt := 73) hx hb dX1_down_67 (by decide) (fun c67 => ?_) (fun c67 => ?_)
          · refine lv_aload_n hx hb dX1_down_73 rfl (lv_at hl 2 rfl) ?_
            refine lv_iload_n hx hb dX1_down_74 rfl (lv_at hl 1 rfl) ?_
            refine lv_aload_n hx hb dX1_down_75 rfl (lv_at hl 2 rfl) ?_
            refine hg_hp C w dX1_down_76 ?_
            refine lv_iload hx hb dX1_down_79 (lv_at hl 0 rfl) ?_
            refine hl_hp C w (by omega) dX1_down_81 ?_
            refine call_put C w (by omega) (hhp1 _) ⟨Nat.le_of_ble_eq_true rfl, Nat.le_of_ble_eq_true rfl⟩ (Nat.le_of_ble_eq_true rfl) hl.1 dX1_down_82 ⟨Nat.le_refl _, Nat.le_refl _⟩ (fun H locs w => ?_)
            refine lv_iload hx hb dX1_down_85 (lv_at hl 0 rfl) ?_
            refine lv_istore_n (lv' := [(3, .int (nI (2 * k + 1))), (4, .int (nI (2 * k + 1))), (0, .ref (a 0)), (1, .int (nI k0)), (2, .int (nI x))]) hx hb dX1_down_87 rfl hl (by decide) rfl (fun ls hl => ?_)
            refine lv_iconst (v := nI 2) hx hb dX1_down_88 (by decide +kernel) ?_
            refine lv_iload_n hx hb dX1_down_89 rfl (lv_at hl 0 rfl) ?_
            refine n_imul hx hb dX1_down_90 ?_
            refine lv_iconst (v := nI 1) hx hb dX1_down_91 (by decide +kernel) ?_
            refine n_iadd hx hb dX1_down_92 ?_
            refine lv_istore (lv' := [(4, .int (nI ((2 * (2 * k + 1)) + 1))), (3, .int (nI (2 * k + 1))), (0, .ref (a 0)), (1, .int (nI k0)), (2, .int (nI x))]) hx hb dX1_down_93 hl (by decide) rfl (fun ls hl => ?_)
            refine lv_goto (tgt := 9) hx hb dX1_down_95 (by decide) ?_
            exact ih (2 * k + 1) (va_up hp1 k (hp1 (2 * k + 1))) (va_up po1 (hp1 (2 * k + 1)) (k + 1)) _ _ _ (by omega) (by omega) (up_lt hhp1 (hhp1 _)) ((dnF_s hE c15 c67).symm.trans he) w (lv_sub hl [0, 1, 2, 3, 4] rfl)
          · refine lv_goto (tgt := 98) hx hb dX1_down_70 (by decide) ?_
            refine lv_aload_n hx hb dX1_down_98 rfl (lv_at hl 2 rfl) ?_
            refine lv_iload_n hx hb dX1_down_99 rfl (lv_at hl 1 rfl) ?_
            refine lv_iload_n hx hb dX1_down_100 rfl (lv_at hl 4 rfl) ?_
            refine call_put C w (by omega) (by omega) ⟨Nat.le_of_ble_eq_true rfl, Nat.le_of_ble_eq_true rfl⟩ (Nat.le_of_ble_eq_true rfl) hl.1 dX1_down_101 ⟨Nat.le_refl _, Nat.le_refl _⟩ (fun H locs w => ?_)
            exact hret _ _ _ _ _ (by rw [← he, dnF_n hE c67]) w dX1_down_104
        · refine lv_aload_n hx hb dX1_down_29 rfl (lv_at hl 2 rfl) ?_
          refine lv_aload_n hx hb dX1_down_30 rfl (lv_at hl 2 rfl) ?_
          refine hg_hp C w dX1_down_31 ?_
          refine lv_iload hx hb dX1_down_34 (lv_at hl 0 rfl) ?_
          refine lv_iconst (v := nI 1) hx hb dX1_down_36 (by decide +kernel) ?_
          refine n_iadd hx hb dX1_down_37 ?_
          refine hl_hp C w (by omega) dX1_down_38 ?_
          refine lv_aload_n hx hb dX1_down_39 rfl (lv_at hl 2 rfl) ?_
          refine hg_hp C w dX1_down_40 ?_
          refine lv_iload hx hb dX1_down_43 (lv_at hl 0 rfl) ?_
          refine hl_hp C w (by omega) dX1_down_45 ?_
          refine call_isBefore C w hps (hhp1 _) (hhp1 _) ⟨Nat.le_of_ble_eq_true rfl, Nat.le_of_ble_eq_true rfl⟩ (Nat.le_of_ble_eq_true rfl) hl.1 dX1_down_46 ⟨Nat.le_refl _, Nat.le_refl _⟩ (fun H locs w => ?_)
          refine b_if_eq (tgt := 55) hx hb dX1_down_49 (by decide) (fun c49 => ?_) (fun c49 => ?_)
          · have hE : chF ps n hp1 k = 2 * k + 1 := if_neg (fun q => by rw [c49] at q; exact absurd q.2 (by decide))
            refine lv_aload_n hx hb dX1_down_55 rfl (lv_at hl 2 rfl) ?_
            refine lv_aload_n hx hb dX1_down_56 rfl (lv_at hl 2 rfl) ?_
            refine hg_hp C w dX1_down_57 ?_
            refine lv_iload hx hb dX1_down_60 (lv_at hl 0 rfl) ?_
            refine hl_hp C w (by omega) dX1_down_62 ?_
            refine lv_iload_n hx hb dX1_down_63 rfl (lv_at hl 4 rfl) ?_
            refine call_isBefore C w hps (hhp1 _) (by omega) ⟨Nat.le_of_ble_eq_true rfl, Nat.le_of_ble_eq_true rfl⟩ (Nat.le_of_ble_eq_true rfl) hl.1 dX1_down_64 ⟨Nat.le_refl _, Nat.le_refl _⟩ (fun H locs w => ?_)
            refine b_if_ne (tgt := 73) hx hb dX1_down_67 (by decide) (fun c67 => ?_) (fun c67 => ?_)
            · refine lv_aload_n hx hb dX1_down_73 rfl (lv_at hl 2 rfl) ?_
              refine lv_iload_n hx hb dX1_down_74 rfl (lv_at hl 1 rfl) ?_
              refine lv_aload_n hx hb dX1_down_75 rfl (lv_at hl 2 rfl) ?_
              refine hg_hp C w dX1_down_76 ?_
              refine lv_iload hx hb dX1_down_79 (lv_at hl 0 rfl) ?_
              refine hl_hp C w (by omega) dX1_down_81 ?_
              refine call_put C w (by omega) (hhp1 _) ⟨Nat.le_of_ble_eq_true rfl, Nat.le_of_ble_eq_true rfl⟩ (Nat.le_of_ble_eq_true rfl) hl.1 dX1_down_82 ⟨Nat.le_refl _, Nat.le_refl _⟩ (fun H locs w => ?_)
              refine lv_iload hx hb dX1_down_85 (lv_at hl 0 rfl) ?_
              refine lv_istore_n (lv' := [(3, .int (nI (2 * k + 1))), (4, .int (nI (2 * k + 1))), (0, .ref (a 0)), (1, .int (nI k0)), (2, .int (nI x))]) hx hb dX1_down_87 rfl hl (by decide) rfl (fun ls hl => ?_)
              refine lv_iconst (v := nI 2) hx hb dX1_down_88 (by decide +kernel) ?_
              refine lv_iload_n hx hb dX1_down_89 rfl (lv_at hl 0 rfl) ?_
              refine n_imul hx hb dX1_down_90 ?_
              refine lv_iconst (v := nI 1) hx hb dX1_down_91 (by decide +kernel) ?_
              refine n_iadd hx hb dX1_down_92 ?_
              refine lv_istore (lv' := [(4, .int (nI ((2 * (2 * k + 1)) + 1))), (3, .int (nI (2 * k + 1))), (0, .ref (a 0)), (1, .int (nI k0)), (2, .int (nI x))]) hx hb dX1_down_93 hl (by decide) rfl (fun ls hl => ?_)
              refine lv_goto (tgt := 9) hx hb dX1_down_95 (by decide) ?_
              exact ih (2 * k + 1) (va_up hp1 k (hp1 (2 * k + 1))) (va_up po1 (hp1 (2 * k + 1)) (k + 1)) _ _ _ (by omega) (by omega) (up_lt hhp1 (hhp1 _)) ((dnF_s hE c15 c67).symm.trans he) w (lv_sub hl [0, 1, 2, 3, 4] rfl)
            · refine lv_goto (tgt := 98) hx hb dX1_down_70 (by decide) ?_
              refine lv_aload_n hx hb dX1_down_98 rfl (lv_at hl 2 rfl) ?_
              refine lv_iload_n hx hb dX1_down_99 rfl (lv_at hl 1 rfl) ?_
              refine lv_iload_n hx hb dX1_down_100 rfl (lv_at hl 4 rfl) ?_
              refine call_put C w (by omega) (by omega) ⟨Nat.le_of_ble_eq_true rfl, Nat.le_of_ble_eq_true rfl⟩ (Nat.le_of_ble_eq_true rfl) hl.1 dX1_down_101 ⟨Nat.le_refl _, Nat.le_refl _⟩ (fun H locs w => ?_)
              exact hret _ _ _ _ _ (by rw [← he, dnF_n hE c67]) w dX1_down_104
          · refine lv_iinc (v := nI (2 * k + 1 + 1)) (lv' := [(4, .int (nI (2 * k + 1 + 1))), (3, .int (nI k)), (0, .ref (a 0)), (1, .int (nI k0)), (2, .int (nI x))]) hx hb dX1_down_52 hl (k := 0) rfl (nI_1 _) (by decide) rfl (fun ls hl => ?_)
            have hE : chF ps n hp1 k = 2 * k + 1 + 1 := if_pos ⟨c26, c49⟩
            refine lv_aload_n hx hb dX1_down_55 rfl (lv_at hl 2 rfl) ?_
            refine lv_aload_n hx hb dX1_down_56 rfl (lv_at hl 2 rfl) ?_
            refine hg_hp C w dX1_down_57 ?_
            refine lv_iload hx hb dX1_down_60 (lv_at hl 0 rfl) ?_
            refine hl_hp C w (by omega) dX1_down_62 ?_
            refine lv_iload_n hx hb dX1_down_63 rfl (lv_at hl 4 rfl) ?_
            refine call_isBefore C w hps (hhp1 _) (by omega) ⟨Nat.le_of_ble_eq_true rfl, Nat.le_of_ble_eq_true rfl⟩ (Nat.le_of_ble_eq_true rfl) hl.1 dX1_down_64 ⟨Nat.le_refl _, Nat.le_refl _⟩ (fun H locs w => ?_)
            refine b_if_ne (tgt := 73) hx hb dX1_down_67 (by decide) (fun c67 => ?_) (fun c67 => ?_)
            · refine lv_aload_n hx hb dX1_down_73 rfl (lv_at hl 2 rfl) ?_
              refine lv_iload_n hx hb dX1_down_74 rfl (lv_at hl 1 rfl) ?_
              refine lv_aload_n hx hb dX1_down_75 rfl (lv_at hl 2 rfl) ?_
              refine hg_hp C w dX1_down_76 ?_
              refine lv_iload hx hb dX1_down_79 (lv_at hl 0 rfl) ?_
              refine hl_hp C w (by omega) dX1_down_81 ?_
              refine call_put C w (by omega) (hhp1 _) ⟨Nat.le_of_ble_eq_true rfl, Nat.le_of_ble_eq_true rfl⟩ (Nat.le_of_ble_eq_true rfl) hl.1 dX1_down_82 ⟨Nat.le_refl _, Nat.le_refl _⟩ (fun H locs w => ?_)
              refine lv_iload hx hb dX1_down_85 (lv_at hl 0 rfl) ?_
              refine lv_istore_n (lv' := [(3, .int (nI (2 * k + 1 + 1))), (4, .int (nI (2 * k + 1 + 1))), (0, .ref (a 0)), (1, .int (nI k0)), (2, .int (nI x))]) hx hb dX1_down_87 rfl hl (by decide) rfl (fun ls hl => ?_)
              refine lv_iconst (v := nI 2) hx hb dX1_down_88 (by decide +kernel) ?_
              refine lv_iload_n hx hb dX1_down_89 rfl (lv_at hl 0 rfl) ?_
              refine n_imul hx hb dX1_down_90 ?_
              refine lv_iconst (v := nI 1) hx hb dX1_down_91 (by decide +kernel) ?_
              refine n_iadd hx hb dX1_down_92 ?_
              refine lv_istore (lv' := [(4, .int (nI ((2 * (2 * k + 1 + 1)) + 1))), (3, .int (nI (2 * k + 1 + 1))), (0, .ref (a 0)), (1, .int (nI k0)), (2, .int (nI x))]) hx hb dX1_down_93 hl (by decide) rfl (fun ls hl => ?_)
              refine lv_goto (tgt := 9) hx hb dX1_down_95 (by decide) ?_
              exact ih (2 * k + 1 + 1) (va_up hp1 k (hp1 (2 * k + 1 + 1))) (va_up po1 (hp1 (2 * k + 1 + 1)) (k + 1)) _ _ _ (by omega) (by omega) (up_lt hhp1 (hhp1 _)) ((dnF_s hE c15 c67).symm.trans he) w (lv_sub hl [0, 1, 2, 3, 4] rfl)
            · refine lv_goto (tgt := 98) hx hb dX1_down_70 (by decide) ?_
              refine lv_aload_n hx hb dX1_down_98 rfl (lv_at hl 2 rfl) ?_
              refine lv_iload_n hx hb dX1_down_99 rfl (lv_at hl 1 rfl) ?_
              refine lv_iload_n hx hb dX1_down_100 rfl (lv_at hl 4 rfl) ?_
              refine call_put C w (by omega) (by omega) ⟨Nat.le_of_ble_eq_true rfl, Nat.le_of_ble_eq_true rfl⟩ (Nat.le_of_ble_eq_true rfl) hl.1 dX1_down_101 ⟨Nat.le_refl _, Nat.le_refl _⟩ (fun H locs w => ?_)
              exact hret _ _ _ _ _ (by rw [← he, dnF_n hE c67]) w dX1_down_104
  refine lv_iload_n hx hb dX1_down_0 rfl (lv_at hl 1 rfl) ?_
  refine lv_istore_n (lv' := [(3, .int (nI k0)), (0, .ref (a 0)), (1, .int (nI k0)), (2, .int (nI x))]) hx hb dX1_down_1 rfl hl (by decide) rfl (fun ls hl => ?_)
  refine lv_iconst (v := nI 2) hx hb dX1_down_2 (by decide +kernel) ?_
  refine lv_iload_n hx hb dX1_down_3 rfl (lv_at hl 0 rfl) ?_
  refine n_imul hx hb dX1_down_4 ?_
  refine lv_iconst (v := nI 1) hx hb dX1_down_5 (by decide +kernel) ?_
  refine n_iadd hx hb dX1_down_6 ?_
  refine lv_istore (lv' := [(4, .int (nI ((2 * k0) + 1))), (3, .int (nI k0)), (0, .ref (a 0)), (1, .int (nI k0)), (2, .int (nI x))]) hx hb dX1_down_7 hl (by decide) rfl (fun ls hl => ?_)
  exact loop n k0 hp po _ _ _ (by omega) hk0 hhp rfl w (lv_sub hl [0, 1, 2, 3, 4] rfl)
set_option maxHeartbeats 4000000 in
theorem call_down {p : Program} {l : Launch} {e : Env} {R : Room} {s : State} {m : MethodId} {args : Array Value} {below : List Frame} {meth : Method} {c : Code} {H : Heap} {locs : List Loc} {cells slots : Nat} {Q : State → Prop} {cc : ByteArray} {pc : Nat} {ls : Array Slot} {rest : List Value} {D : va_G} {A : Nat → Prop} {a : Nat → Nat} {d : ClassId} {nL : Nat} {tk sd ps rn hp po sp : Nat → Nat} {cap big n gp : Nat} {k0 x : Nat} (C : hC p s m args c cc nL D d A) (w : hW D A s a d tk sd ps rn hp po sp cap big n gp H locs) (hps : ∀ i, ps i < 2 ^ 31) (hhp : ∀ i, hp i < 64) (hn1 : n ≤ 64) (hk0 : k0 < 64) (hx1 : x < 64) (hR : 1 + 1 ≤ R.frames ∧ 8 + (5 + 11) + 22 ≤ R.locals) (hrm : (rest.map fun v => v.category).sum ≤ 8) (hsz : ls.size = nL) (hdg : decode cc pc = .ok (.invokevirtual 65, 3)) (hf : cells + 0 ≤ R.cells ∧ slots + 0 ≤ R.slots)
    (kk : ∀ (H1 : Heap) (locs1 : List Loc), hW D A s a d tk sd ps rn (dnF ps n x n hp po k0).1 (dnF ps n x n hp po k0).2 sp cap big n gp H1 locs1 → W p l e R s m args below meth c H1 locs1 cells slots Q (F0 m (pc + 3) ls (rest))) : W p l e R s m args below meth c H locs cells slots Q (F0 m pc ls (.int (nI x) :: .int (nI k0) :: .ref (a 0) :: rest)) :=
  hcall_v (As := [.int (nI k0), .int (nI x)]) (met_down hps hhp hn1 hk0 hx1) C (cwV 2 C.2.2.2.2.1 (lw_V q90 q92 qs6 q13 q93) rfl rfl rfl (by decide +kernel) hR) w rfl rfl hrm hsz hdg hf (fun u H1 locs1 hq w1 => by subst hq; exact kk H1 locs1 w1)
end
section
set_option maxHeartbeats 4000000 in
set_option maxRecDepth 100000 in
/-- join(x, t) -/
theorem met_join {tk sd ps rn hp po sp : Nat → Nat} {cap big n gp : Nat} {x t : Int32} (ok : hOk (tk, sd, ps, rn, hp, po, sp, cap, big, n, gp)) (hj1 : ∀ i, i < cap → po i = 0 → n < 64) : hMet yX1_join cX1_join 3 (some .int) { frames := 2, cells := 0, slots := 0, locals := 45 } [.int x, .int t] (tk, sd, ps, rn, hp, po, sp, cap, big, n, gp) (fun r u => (r, u) = jnF (tk, sd, ps, rn, hp, po, sp, cap, big, n, gp) x t) := by
  refine hMet_i (by decide) rfl (fun _ => Nat.le_of_ble_eq_true rfl) ?_
  intro p l e s m args below meth c D a d A Q ls C hret w hl
  have hx := C.1
  have hb := C.2.1
  have w : hW D A s a d tk sd ps rn hp po sp cap big n gp s.heap [] := w
  have hl : lv_has ls 3 [(0, .ref (a 0)), (1, .int x), (2, .int t)] := hl
  obtain ⟨hcap, hbig, hn1, hgp, hsd, hps, hhp, hpo, hsp⟩ := ok
  refine lv_aload_n hx hb dX1_join_0 rfl (lv_at hl 0 rfl) ?_
  refine lv_iload_n hx hb dX1_join_1 rfl (lv_at hl 1 rfl) ?_
  refine call_isClient (x := x) C w ⟨Nat.le_of_ble_eq_true rfl, Nat.le_of_ble_eq_true rfl⟩ (Nat.le_of_ble_eq_true rfl) hl.1 dX1_join_2 ⟨Nat.le_refl _, Nat.le_refl _⟩ (fun H locs w => ?_)
  refine b_if_ne (tgt := 10) hx hb dX1_join_5 (by decide) (fun c5 => ?_) (fun c5 => ?_)
  · obtain ⟨k, hk, rfl⟩ := isC_true c5 (by omega)
    have hcl : (nI k).toNatClampNeg = k := nI_clamp (by omega)
    have hk2 := hpo k
    refine lv_aload_n hx hb dX1_join_10 rfl (lv_at hl 0 rfl) ?_
    refine lv_iload_n hx hb dX1_join_11 rfl (lv_at hl 1 rfl) ?_
    refine call_isIn C w (by omega) (by omega) ⟨Nat.le_of_ble_eq_true rfl, Nat.le_of_ble_eq_true rfl⟩ (Nat.le_of_ble_eq_true rfl) hl.1 dX1_join_12 ⟨Nat.le_refl _, Nat.le_refl _⟩ (fun H locs w => ?_)
    refine b_if_eq (tgt := 21) hx hb dX1_join_15 (by decide) (fun c15 => ?_) (fun c15 => ?_)
    · have h15 := of_decide_eq_false c15
      refine lv_aload_n hx hb dX1_join_21 rfl (lv_at hl 0 rfl) ?_
      refine lv_iload_n hx hb dX1_join_22 rfl (lv_at hl 2 rfl) ?_
      refine call_areTickets (t := t) C w ⟨Nat.le_of_ble_eq_true rfl, Nat.le_of_ble_eq_true rfl⟩ (Nat.le_of_ble_eq_true rfl) hl.1 dX1_join_23 ⟨Nat.le_refl _, Nat.le_refl _⟩ (fun H locs w => ?_)
      refine b_if_ne (tgt := 32) hx hb dX1_join_26 (by decide) (fun c26 => ?_) (fun c26 => ?_)
      · obtain ⟨j, hj0, hj, rfl⟩ := isT_true c26 (by omega)
        have hcl2 : (nI j).toNatClampNeg = j := nI_clamp (by omega)
        refine lv_aload_n hx hb dX1_join_32 rfl (lv_at hl 0 rfl) ?_
        refine hg_tk C w dX1_join_33 ?_
        refine lv_iload_n hx hb dX1_join_36 rfl (lv_at hl 1 rfl) ?_
        refine lv_iload_n hx hb dX1_join_37 rfl (lv_at hl 2 rfl) ?_
        refine hs_tk C w (by omega) dX1_join_38 (fun H locs w => ?_)
        refine lv_aload_n hx hb dX1_join_39 rfl (lv_at hl 0 rfl) ?_
        refine hg_sd C w dX1_join_40 ?_
        refine lv_iload_n hx hb dX1_join_43 rfl (lv_at hl 1 rfl) ?_
        refine lv_aload_n hx hb dX1_join_44 rfl (lv_at hl 0 rfl) ?_
        refine hg_big C w dX1_join_45 ?_
        refine lv_iload_n hx hb dX1_join_48 rfl (lv_at hl 2 rfl) ?_
        refine n_idiv hx hb (by omega) (by omega) (by omega) dX1_join_49 ?_
        refine hs_sd C w (by omega) dX1_join_50 (fun H locs w => ?_)
        refine lv_aload_n hx hb dX1_join_51 rfl (lv_at hl 0 rfl) ?_
        refine hg_ps C w dX1_join_52 ?_
        refine lv_iload_n hx hb dX1_join_55 rfl (lv_at hl 1 rfl) ?_
        refine lv_aload_n hx hb dX1_join_56 rfl (lv_at hl 0 rfl) ?_
        refine hg_n C w dX1_join_57 ?_
        refine n_if_ne (tgt := 70) hx hb (by omega) dX1_join_60 (by decide) (fun c60 => ?_) (fun c60 => ?_)
        · refine lv_aload_n hx hb dX1_join_70 rfl (lv_at hl 0 rfl) ?_
          refine hg_ps C w dX1_join_71 ?_
          refine lv_aload_n hx hb dX1_join_74 rfl (lv_at hl 0 rfl) ?_
          refine hg_hp C w dX1_join_75 ?_
          refine lv_iconst (v := nI 0) hx hb dX1_join_78 (by decide +kernel) ?_
          refine hl_hp C w (by omega) dX1_join_79 ?_
          refine hl_ps C w (hhp _) dX1_join_80 ?_
          refine hs_ps C w (by omega) dX1_join_81 (fun H locs w => ?_)
          refine lv_aload_n hx hb dX1_join_82 rfl (lv_at hl 0 rfl) ?_
          refine lv_dup hx hb dX1_join_83 rfl ?_
          refine hg_n C w dX1_join_84 ?_
          refine lv_iconst (v := nI 1) hx hb dX1_join_87 (by decide +kernel) ?_
          refine n_iadd hx hb dX1_join_88 ?_
          refine hq_n C w dX1_join_89 (fun H locs w => ?_)
          refine lv_aload_n hx hb dX1_join_92 rfl (lv_at hl 0 rfl) ?_
          refine lv_aload_n hx hb dX1_join_93 rfl (lv_at hl 0 rfl) ?_
          refine hg_n C w dX1_join_94 ?_
          refine lv_iconst (v := nI 1) hx hb dX1_join_97 (by decide +kernel) ?_
          refine n_isub hx hb (by omega) dX1_join_98 ?_
          refine lv_iload_n hx hb dX1_join_99 rfl (lv_at hl 1 rfl) ?_
          refine call_up C w (up_lt hps (hps _)) hhp (by have := hj1 k hk (by omega); omega) (by omega) ⟨Nat.le_of_ble_eq_true rfl, Nat.le_of_ble_eq_true rfl⟩ (Nat.le_of_ble_eq_true rfl) hl.1 dX1_join_100 ⟨Nat.le_refl _, Nat.le_refl _⟩ (fun H locs w => ?_)
          refine lv_iconst (v := nI 1) hx hb dX1_join_103 (by decide +kernel) ?_
          exact hret _ _ _ _ _ _ (by rw [jnF, if_pos c5, hcl, hcl2, if_neg h15, if_pos c26, if_neg (by omega : ¬ n = 0)]) w dX1_join_104
        · refine lv_aload_n hx hb dX1_join_63 rfl (lv_at hl 0 rfl) ?_
          refine hg_gp C w dX1_join_64 ?_
          refine lv_goto (tgt := 81) hx hb dX1_join_67 (by decide) ?_
          refine hs_ps C w (by omega) dX1_join_81 (fun H locs w => ?_)
          refine lv_aload_n hx hb dX1_join_82 rfl (lv_at hl 0 rfl) ?_
          refine lv_dup hx hb dX1_join_83 rfl ?_
          refine hg_n C w dX1_join_84 ?_
          refine lv_iconst (v := nI 1) hx hb dX1_join_87 (by decide +kernel) ?_
          refine n_iadd hx hb dX1_join_88 ?_
          refine hq_n C w dX1_join_89 (fun H locs w => ?_)
          refine lv_aload_n hx hb dX1_join_92 rfl (lv_at hl 0 rfl) ?_
          refine lv_aload_n hx hb dX1_join_93 rfl (lv_at hl 0 rfl) ?_
          refine hg_n C w dX1_join_94 ?_
          refine lv_iconst (v := nI 1) hx hb dX1_join_97 (by decide +kernel) ?_
          refine n_isub hx hb (by omega) dX1_join_98 ?_
          refine lv_iload_n hx hb dX1_join_99 rfl (lv_at hl 1 rfl) ?_
          refine call_up C w (up_lt hps hgp) hhp (by have := hj1 k hk (by omega); omega) (by omega) ⟨Nat.le_of_ble_eq_true rfl, Nat.le_of_ble_eq_true rfl⟩ (Nat.le_of_ble_eq_true rfl) hl.1 dX1_join_100 ⟨Nat.le_refl _, Nat.le_refl _⟩ (fun H locs w => ?_)
          refine lv_iconst (v := nI 1) hx hb dX1_join_103 (by decide +kernel) ?_
          exact hret _ _ _ _ _ _ (by rw [jnF, if_pos c5, hcl, hcl2, if_neg h15, if_pos c26, if_pos c60]) w dX1_join_104
      · refine lv_bipush (v := (-3)) hx hb dX1_join_29 (by decide +kernel) ?_
        exact hret _ _ _ _ _ _ (by rw [jnF, if_pos c5, hcl, if_neg h15, if_neg (by rw [c26]; decide)]) w dX1_join_31
    · have h15 := of_decide_eq_true c15
      refine lv_bipush (v := (-2)) hx hb dX1_join_18 (by decide +kernel) ?_
      exact hret _ _ _ _ _ _ (by rw [jnF, if_pos c5, hcl, if_pos h15]) w dX1_join_20
  · refine lv_iconst (v := (-1)) hx hb dX1_join_8 (by decide +kernel) ?_
    exact hret _ _ _ _ _ _ (by rw [jnF, if_neg (by rw [c5]; decide)]) w dX1_join_9
set_option maxHeartbeats 4000000 in
set_option maxRecDepth 100000 in
/-- leave(x) -/
theorem met_leave {tk sd ps rn hp po sp : Nat → Nat} {cap big n gp : Nat} {x : Int32} (ok : hOk (tk, sd, ps, rn, hp, po, sp, cap, big, n, gp)) : hMet yX1_leave cX1_leave 4 (some .int) { frames := 2, cells := 0, slots := 0, locals := 46 } [.int x] (tk, sd, ps, rn, hp, po, sp, cap, big, n, gp) (fun r u => (r, u) = lvF (tk, sd, ps, rn, hp, po, sp, cap, big, n, gp) x) := by
  refine hMet_i (by decide) rfl (fun _ => Nat.le_of_ble_eq_true rfl) ?_
  intro p l e s m args below meth c D a d A Q ls C hret w hl
  have hx := C.1
  have hb := C.2.1
  have w : hW D A s a d tk sd ps rn hp po sp cap big n gp s.heap [] := w
  have hl : lv_has ls 4 [(0, .ref (a 0)), (1, .int x)] := hl
  obtain ⟨hcap, hbig, hn1, hgp, hsd, hps, hhp, hpo, hsp⟩ := ok
  refine lv_aload_n hx hb dX1_leave_0 rfl (lv_at hl 0 rfl) ?_
  refine lv_iload_n hx hb dX1_leave_1 rfl (lv_at hl 1 rfl) ?_
  refine call_isClient (x := x) C w ⟨Nat.le_of_ble_eq_true rfl, Nat.le_of_ble_eq_true rfl⟩ (Nat.le_of_ble_eq_true rfl) hl.1 dX1_leave_2 ⟨Nat.le_refl _, Nat.le_refl _⟩ (fun H locs w => ?_)
  refine b_if_ne (tgt := 10) hx hb dX1_leave_5 (by decide) (fun c5 => ?_) (fun c5 => ?_)
  · obtain ⟨k, hk, rfl⟩ := isC_true c5 (by omega)
    have hcl : (nI k).toNatClampNeg = k := nI_clamp (by omega)
    have hk2 := hpo k
    refine lv_aload_n hx hb dX1_leave_10 rfl (lv_at hl 0 rfl) ?_
    refine lv_iload_n hx hb dX1_leave_11 rfl (lv_at hl 1 rfl) ?_
    refine call_isIn C w (by omega) (by omega) ⟨Nat.le_of_ble_eq_true rfl, Nat.le_of_ble_eq_true rfl⟩ (Nat.le_of_ble_eq_true rfl) hl.1 dX1_leave_12 ⟨Nat.le_refl _, Nat.le_refl _⟩ (fun H locs w => ?_)
    refine b_if_ne (tgt := 21) hx hb dX1_leave_15 (by decide) (fun c15 => ?_) (fun c15 => ?_)
    · have h15 := of_decide_eq_true c15
      refine lv_aload_n hx hb dX1_leave_21 rfl (lv_at hl 0 rfl) ?_
      refine hg_po C w dX1_leave_22 ?_
      refine lv_iload_n hx hb dX1_leave_25 rfl (lv_at hl 1 rfl) ?_
      refine hl_po C w (by omega) dX1_leave_26 ?_
      refine lv_iconst (v := nI 1) hx hb dX1_leave_27 (by decide +kernel) ?_
      refine n_isub hx hb (by omega) dX1_leave_28 ?_
      refine lv_istore_n (lv' := [(2, .int (nI ((po k) - 1))), (0, .ref (a 0)), (1, .int (nI k))]) hx hb dX1_leave_29 rfl hl (by decide) rfl (fun ls hl => ?_)
      refine lv_aload_n hx hb dX1_leave_30 rfl (lv_at hl 1 rfl) ?_
      refine lv_aload_n hx hb dX1_leave_31 rfl (lv_at hl 1 rfl) ?_
      refine hg_ps C w dX1_leave_32 ?_
      refine lv_iload_n hx hb dX1_leave_35 rfl (lv_at hl 2 rfl) ?_
      refine hl_ps C w (by omega) dX1_leave_36 ?_
      refine hq_gp C w dX1_leave_37 (fun H locs w => ?_)
      refine lv_aload_n hx hb dX1_leave_40 rfl (lv_at hl 1 rfl) ?_
      refine hg_po C w dX1_leave_41 ?_
      refine lv_iload_n hx hb dX1_leave_44 rfl (lv_at hl 2 rfl) ?_
      refine lv_iconst (v := nI 0) hx hb dX1_leave_45 (by decide +kernel) ?_
      refine hs_po C w (by omega) dX1_leave_46 (fun H locs w => ?_)
      refine lv_aload_n hx hb dX1_leave_47 rfl (lv_at hl 1 rfl) ?_
      refine lv_dup hx hb dX1_leave_48 rfl ?_
      refine hg_n C w dX1_leave_49 ?_
      refine lv_iconst (v := nI 1) hx hb dX1_leave_52 (by decide +kernel) ?_
      refine n_isub hx hb (by omega) dX1_leave_53 ?_
      refine hq_n C w dX1_leave_54 (fun H locs w => ?_)
      refine lv_aload_n hx hb dX1_leave_57 rfl (lv_at hl 1 rfl) ?_
      refine hg_hp C w dX1_leave_58 ?_
      refine lv_aload_n hx hb dX1_leave_61 rfl (lv_at hl 1 rfl) ?_
      refine hg_n C w dX1_leave_62 ?_
      refine hl_hp C w (by omega) dX1_leave_65 ?_
      refine lv_istore_n (lv' := [(3, .int (nI (hp (n - 1)))), (2, .int (nI ((po k) - 1))), (0, .ref (a 0)), (1, .int (nI k))]) hx hb dX1_leave_66 rfl hl (by decide) rfl (fun ls hl => ?_)
      refine lv_iload_n hx hb dX1_leave_67 rfl (lv_at hl 1 rfl) ?_
      refine lv_aload_n hx hb dX1_leave_68 rfl (lv_at hl 2 rfl) ?_
      refine hg_n C w dX1_leave_69 ?_
      refine n_icmp_ne (tgt := 77) hx hb (by omega) (by omega) dX1_leave_72 (by decide) (fun c72 => ?_) (fun c72 => ?_)
      · refine lv_iload_n hx hb dX1_leave_77 rfl (lv_at hl 1 rfl) ?_
        refine n_if_le (tgt := 108) hx hb (by omega) dX1_leave_78 (by decide) (fun c78 => ?_) (fun c78 => ?_)
        · refine lv_aload_n hx hb dX1_leave_108 rfl (lv_at hl 2 rfl) ?_
          refine lv_iload_n hx hb dX1_leave_109 rfl (lv_at hl 1 rfl) ?_
          refine lv_iload_n hx hb dX1_leave_110 rfl (lv_at hl 0 rfl) ?_
          refine call_down C w hps hhp (by omega) (by omega) (hhp _) ⟨Nat.le_of_ble_eq_true rfl, Nat.le_of_ble_eq_true rfl⟩ (Nat.le_of_ble_eq_true rfl) hl.1 dX1_leave_111 ⟨Nat.le_refl _, Nat.le_refl _⟩ (fun H locs w => ?_)
          refine lv_iconst (v := nI 1) hx hb dX1_leave_114 (by decide +kernel) ?_
          exact hret _ _ _ _ _ _ (by rw [lvF, if_pos c5, hcl, if_pos h15, if_neg c72, rpF, if_neg (by omega)]) w dX1_leave_115
        · refine lv_aload_n hx hb dX1_leave_81 rfl (lv_at hl 2 rfl) ?_
          refine lv_iload_n hx hb dX1_leave_82 rfl (lv_at hl 0 rfl) ?_
          refine lv_aload_n hx hb dX1_leave_83 rfl (lv_at hl 2 rfl) ?_
          refine hg_hp C w dX1_leave_84 ?_
          refine lv_iload_n hx hb dX1_leave_87 rfl (lv_at hl 1 rfl) ?_
          refine lv_iconst (v := nI 1) hx hb dX1_leave_88 (by decide +kernel) ?_
          refine n_isub hx hb (by omega) dX1_leave_89 ?_
          refine lv_iconst (v := nI 1) hx hb dX1_leave_90 (by decide +kernel) ?_
          refine n_ishr1 hx hb (by omega) dX1_leave_91 ?_
          refine hl_hp C w (by omega) dX1_leave_92 ?_
          refine call_isBefore C w hps (hhp _) (hhp _) ⟨Nat.le_of_ble_eq_true rfl, Nat.le_of_ble_eq_true rfl⟩ (Nat.le_of_ble_eq_true rfl) hl.1 dX1_leave_93 ⟨Nat.le_refl _, Nat.le_refl _⟩ (fun H locs w => ?_)
          refine b_if_eq (tgt := 108) hx hb dX1_leave_96 (by decide) (fun c96 => ?_) (fun c96 => ?_)
          · refine lv_aload_n hx hb dX1_leave_108 rfl (lv_at hl 2 rfl) ?_
            refine lv_iload_n hx hb dX1_leave_109 rfl (lv_at hl 1 rfl) ?_
            refine lv_iload_n hx hb dX1_leave_110 rfl (lv_at hl 0 rfl) ?_
            refine call_down C w hps hhp (by omega) (by omega) (hhp _) ⟨Nat.le_of_ble_eq_true rfl, Nat.le_of_ble_eq_true rfl⟩ (Nat.le_of_ble_eq_true rfl) hl.1 dX1_leave_111 ⟨Nat.le_refl _, Nat.le_refl _⟩ (fun H locs w => ?_)
            refine lv_iconst (v := nI 1) hx hb dX1_leave_114 (by decide +kernel) ?_
            exact hret _ _ _ _ _ _ (by rw [lvF, if_pos c5, hcl, if_pos h15, if_neg c72, rpF, if_neg (fun q => by rw [c96] at q; exact absurd q.2 (by decide))]) w dX1_leave_115
          · refine lv_aload_n hx hb dX1_leave_99 rfl (lv_at hl 2 rfl) ?_
            refine lv_iload_n hx hb dX1_leave_100 rfl (lv_at hl 1 rfl) ?_
            refine lv_iload_n hx hb dX1_leave_101 rfl (lv_at hl 0 rfl) ?_
            refine call_up C w hps hhp (by omega) (hhp _) ⟨Nat.le_of_ble_eq_true rfl, Nat.le_of_ble_eq_true rfl⟩ (Nat.le_of_ble_eq_true rfl) hl.1 dX1_leave_102 ⟨Nat.le_refl _, Nat.le_refl _⟩ (fun H locs w => ?_)
            refine lv_goto (tgt := 114) hx hb dX1_leave_105 (by decide) ?_
            refine lv_iconst (v := nI 1) hx hb dX1_leave_114 (by decide +kernel) ?_
            exact hret _ _ _ _ _ _ (by rw [lvF, if_pos c5, hcl, if_pos h15, if_neg c72, rpF, if_pos ⟨c78, c96⟩]) w dX1_leave_115
      · refine lv_iconst (v := nI 1) hx hb dX1_leave_75 (by decide +kernel) ?_
        exact hret _ _ _ _ _ _ (by rw [lvF, if_pos c5, hcl, if_pos h15, if_pos c72]) w dX1_leave_76
    · have h15 := of_decide_eq_false c15
      refine lv_bipush (v := (-2)) hx hb dX1_leave_18 (by decide +kernel) ?_
      exact hret _ _ _ _ _ _ (by rw [lvF, if_pos c5, hcl, if_neg h15]) w dX1_leave_20
  · refine lv_iconst (v := (-1)) hx hb dX1_leave_8 (by decide +kernel) ?_
    exact hret _ _ _ _ _ _ (by rw [lvF, if_neg (by rw [c5]; decide)]) w dX1_leave_9
set_option maxHeartbeats 4000000 in
set_option maxRecDepth 100000 in
/-- next() -/
theorem met_next {tk sd ps rn hp po sp : Nat → Nat} {cap big n gp : Nat} (ok : hOk (tk, sd, ps, rn, hp, po, sp, cap, big, n, gp)) : hMet yX1_next cX1_next 2 (some .int) { frames := 2, cells := 0, slots := 0, locals := 46 } [] (tk, sd, ps, rn, hp, po, sp, cap, big, n, gp) (fun r u => (r, u) = nxF (tk, sd, ps, rn, hp, po, sp, cap, big, n, gp)) := by
  refine hMet_i (by decide) rfl (fun _ => Nat.le_of_ble_eq_true rfl) ?_
  intro p l e s m args below meth c D a d A Q ls C hret w hl
  have hx := C.1
  have hb := C.2.1
  have w : hW D A s a d tk sd ps rn hp po sp cap big n gp s.heap [] := w
  have hl : lv_has ls 2 [(0, .ref (a 0))] := hl
  obtain ⟨hcap, hbig, hn1, hgp, hsd, hps, hhp, hpo, hsp⟩ := ok
  have hs0 := hsd (hp 0)
  have hp0 := hps (hp 0)
  refine lv_aload_n hx hb dX1_next_0 rfl (lv_at hl 0 rfl) ?_
  refine hg_n C w dX1_next_1 ?_
  refine n_if_ne (tgt := 9) hx hb (by omega) dX1_next_4 (by decide) (fun c4 => ?_) (fun c4 => ?_)
  · refine lv_aload_n hx hb dX1_next_9 rfl (lv_at hl 0 rfl) ?_
    refine hg_hp C w dX1_next_10 ?_
    refine lv_iconst (v := nI 0) hx hb dX1_next_13 (by decide +kernel) ?_
    refine hl_hp C w (by omega) dX1_next_14 ?_
    refine lv_istore_n (lv' := [(1, .int (nI (hp 0))), (0, .ref (a 0))]) hx hb dX1_next_15 rfl hl (by decide) rfl (fun ls hl => ?_)
    refine lv_aload_n hx hb dX1_next_16 rfl (lv_at hl 1 rfl) ?_
    refine hg_ps C w dX1_next_17 ?_
    refine lv_iload_n hx hb dX1_next_20 rfl (lv_at hl 0 rfl) ?_
    refine hl_ps C w (hhp _) dX1_next_21 ?_
    refine lv_ldc (v := nI 2147483647) hx hb C.2.2.2.1 (C.2.2.2.2.1 _ q98) dX1_next_22 ?_
    refine lv_aload_n hx hb dX1_next_24 rfl (lv_at hl 1 rfl) ?_
    refine hg_sd C w dX1_next_25 ?_
    refine lv_iload_n hx hb dX1_next_28 rfl (lv_at hl 0 rfl) ?_
    refine hl_sd C w (hhp _) dX1_next_29 ?_
    refine n_isub hx hb (by omega) dX1_next_30 ?_
    refine n_icmp_le (tgt := 37) hx hb (hps _) (by omega) dX1_next_31 (by decide) (fun c31 => ?_) (fun c31 => ?_)
    · refine lv_aload_n hx hb dX1_next_37 rfl (lv_at hl 1 rfl) ?_
      refine hg_ps C w dX1_next_38 ?_
      refine lv_iload_n hx hb dX1_next_41 rfl (lv_at hl 0 rfl) ?_
      refine lv_dup2_11 hx hb dX1_next_42 rfl rfl ?_
      refine hl_ps C w (hhp _) dX1_next_43 ?_
      refine lv_aload_n hx hb dX1_next_44 rfl (lv_at hl 1 rfl) ?_
      refine hg_sd C w dX1_next_45 ?_
      refine lv_iload_n hx hb dX1_next_48 rfl (lv_at hl 0 rfl) ?_
      refine hl_sd C w (hhp _) dX1_next_49 ?_
      refine n_iadd hx hb dX1_next_50 ?_
      refine hs_ps C w (hhp 0) dX1_next_51 (fun H locs w => ?_)
      refine lv_aload_n hx hb dX1_next_52 rfl (lv_at hl 1 rfl) ?_
      refine hg_rn C w dX1_next_53 ?_
      refine lv_iload_n hx hb dX1_next_56 rfl (lv_at hl 0 rfl) ?_
      refine lv_dup2_11 hx hb dX1_next_57 rfl rfl ?_
      refine hl_rn C w (hhp _) dX1_next_58 ?_
      refine lv_iconst (v := nI 1) hx hb dX1_next_59 (by decide +kernel) ?_
      refine n_iadd hx hb dX1_next_60 ?_
      refine hs_rn C w (hhp 0) dX1_next_61 (fun H locs w => ?_)
      refine lv_aload_n hx hb dX1_next_62 rfl (lv_at hl 1 rfl) ?_
      refine lv_iconst (v := nI 0) hx hb dX1_next_63 (by decide +kernel) ?_
      refine lv_iload_n hx hb dX1_next_64 rfl (lv_at hl 0 rfl) ?_
      refine call_down C w (up_lt hps (by omega)) hhp hn1 (by decide) (hhp 0) ⟨Nat.le_of_ble_eq_true rfl, Nat.le_of_ble_eq_true rfl⟩ (Nat.le_of_ble_eq_true rfl) hl.1 dX1_next_65 ⟨Nat.le_refl _, Nat.le_refl _⟩ (fun H locs w => ?_)
      refine lv_iload_n hx hb dX1_next_68 rfl (lv_at hl 0 rfl) ?_
      exact hret _ _ _ _ _ _ (by rw [nxF, if_neg (by omega), if_neg (by omega)]) w dX1_next_69
    · refine lv_bipush (v := (-2)) hx hb dX1_next_34 (by decide +kernel) ?_
      exact hret _ _ _ _ _ _ (by rw [nxF, if_neg (by omega), if_pos c31]) w dX1_next_36
  · refine lv_iconst (v := (-1)) hx hb dX1_next_7 (by decide +kernel) ?_
    exact hret _ _ _ _ _ _ (by rw [nxF, if_pos c4]) w dX1_next_8
set_option maxHeartbeats 4000000 in
set_option maxRecDepth 100000 in
/-- change(x, t) -/
theorem met_change {tk sd ps rn hp po sp : Nat → Nat} {cap big n gp : Nat} {x t : Int32} (ok : hOk (tk, sd, ps, rn, hp, po, sp, cap, big, n, gp)) : hMet yX1_change cX1_change 4 (some .int) { frames := 1, cells := 0, slots := 0, locals := 21 } [.int x, .int t] (tk, sd, ps, rn, hp, po, sp, cap, big, n, gp) (fun r u => (r, u) = cgF (tk, sd, ps, rn, hp, po, sp, cap, big, n, gp) x t) := by
  refine hMet_i (by decide) rfl (fun _ => Nat.le_of_ble_eq_true rfl) ?_
  intro p l e s m args below meth c D a d A Q ls C hret w hl
  have hx := C.1
  have hb := C.2.1
  have w : hW D A s a d tk sd ps rn hp po sp cap big n gp s.heap [] := w
  have hl : lv_has ls 4 [(0, .ref (a 0)), (1, .int x), (2, .int t)] := hl
  obtain ⟨hcap, hbig, hn1, hgp, hsd, hps, hhp, hpo, hsp⟩ := ok
  refine lv_aload_n hx hb dX1_change_0 rfl (lv_at hl 0 rfl) ?_
  refine lv_iload_n hx hb dX1_change_1 rfl (lv_at hl 1 rfl) ?_
  refine call_isClient (x := x) C w ⟨Nat.le_of_ble_eq_true rfl, Nat.le_of_ble_eq_true rfl⟩ (Nat.le_of_ble_eq_true rfl) hl.1 dX1_change_2 ⟨Nat.le_refl _, Nat.le_refl _⟩ (fun H locs w => ?_)
  refine b_if_ne (tgt := 10) hx hb dX1_change_5 (by decide) (fun c5 => ?_) (fun c5 => ?_)
  · obtain ⟨k, hk, rfl⟩ := isC_true c5 (by omega)
    have hcl : (nI k).toNatClampNeg = k := nI_clamp (by omega)
    have hk2 := hpo k
    refine lv_aload_n hx hb dX1_change_10 rfl (lv_at hl 0 rfl) ?_
    refine lv_iload_n hx hb dX1_change_11 rfl (lv_at hl 1 rfl) ?_
    refine call_isIn C w (by omega) (by omega) ⟨Nat.le_of_ble_eq_true rfl, Nat.le_of_ble_eq_true rfl⟩ (Nat.le_of_ble_eq_true rfl) hl.1 dX1_change_12 ⟨Nat.le_refl _, Nat.le_refl _⟩ (fun H locs w => ?_)
    refine b_if_ne (tgt := 21) hx hb dX1_change_15 (by decide) (fun c15 => ?_) (fun c15 => ?_)
    · have h15 := of_decide_eq_true c15
      refine lv_aload_n hx hb dX1_change_21 rfl (lv_at hl 0 rfl) ?_
      refine lv_iload_n hx hb dX1_change_22 rfl (lv_at hl 2 rfl) ?_
      refine call_areTickets (t := t) C w ⟨Nat.le_of_ble_eq_true rfl, Nat.le_of_ble_eq_true rfl⟩ (Nat.le_of_ble_eq_true rfl) hl.1 dX1_change_23 ⟨Nat.le_refl _, Nat.le_refl _⟩ (fun H locs w => ?_)
      refine b_if_ne (tgt := 32) hx hb dX1_change_26 (by decide) (fun c26 => ?_) (fun c26 => ?_)
      · obtain ⟨j, hj0, hj, rfl⟩ := isT_true c26 (by omega)
        have hcl2 : (nI j).toNatClampNeg = j := nI_clamp (by omega)
        refine lv_aload_n hx hb dX1_change_32 rfl (lv_at hl 0 rfl) ?_
        refine hg_tk C w dX1_change_33 ?_
        refine lv_iload_n hx hb dX1_change_36 rfl (lv_at hl 1 rfl) ?_
        refine hl_tk C w (by omega) dX1_change_37 ?_
        refine lv_istore_n (lv' := [(3, .int (nI (tk k))), (0, .ref (a 0)), (1, .int (nI k)), (2, .int (nI j))]) hx hb dX1_change_38 rfl hl (by decide) rfl (fun ls hl => ?_)
        refine lv_aload_n hx hb dX1_change_39 rfl (lv_at hl 1 rfl) ?_
        refine hg_tk C w dX1_change_40 ?_
        refine lv_iload_n hx hb dX1_change_43 rfl (lv_at hl 2 rfl) ?_
        refine lv_iload_n hx hb dX1_change_44 rfl (lv_at hl 3 rfl) ?_
        refine hs_tk C w (by omega) dX1_change_45 (fun H locs w => ?_)
        refine lv_aload_n hx hb dX1_change_46 rfl (lv_at hl 1 rfl) ?_
        refine hg_sd C w dX1_change_47 ?_
        refine lv_iload_n hx hb dX1_change_50 rfl (lv_at hl 2 rfl) ?_
        refine lv_aload_n hx hb dX1_change_51 rfl (lv_at hl 1 rfl) ?_
        refine hg_big C w dX1_change_52 ?_
        refine lv_iload_n hx hb dX1_change_55 rfl (lv_at hl 3 rfl) ?_
        refine n_idiv hx hb (by omega) (by omega) (by omega) dX1_change_56 ?_
        refine hs_sd C w (by omega) dX1_change_57 (fun H locs w => ?_)
        refine lv_iload_n hx hb dX1_change_58 rfl (lv_at hl 0 rfl) ?_
        exact hret _ _ _ _ _ _ (by rw [cgF, if_pos c5, hcl, hcl2, if_pos h15, if_pos c26]) w dX1_change_59
      · refine lv_bipush (v := (-3)) hx hb dX1_change_29 (by decide +kernel) ?_
        exact hret _ _ _ _ _ _ (by rw [cgF, if_pos c5, hcl, if_pos h15, if_neg (by rw [c26]; decide)]) w dX1_change_31
    · have h15 := of_decide_eq_false c15
      refine lv_bipush (v := (-2)) hx hb dX1_change_18 (by decide +kernel) ?_
      exact hret _ _ _ _ _ _ (by rw [cgF, if_pos c5, hcl, if_neg h15]) w dX1_change_20
  · refine lv_iconst (v := (-1)) hx hb dX1_change_8 (by decide +kernel) ?_
    exact hret _ _ _ _ _ _ (by rw [cgF, if_neg (by rw [c5]; decide)]) w dX1_change_9
set_option maxHeartbeats 4000000 in
set_option maxRecDepth 100000 in
/-- ranOf(x) -/
theorem met_ranOf {tk sd ps rn hp po sp : Nat → Nat} {cap big n gp : Nat} {x : Int32} (ok : hOk (tk, sd, ps, rn, hp, po, sp, cap, big, n, gp)) : hMet yX1_ranOf cX1_ranOf 2 (some .int) { frames := 1, cells := 0, slots := 0, locals := 21 } [.int x] (tk, sd, ps, rn, hp, po, sp, cap, big, n, gp) (fun r u => (r, u) = raF (tk, sd, ps, rn, hp, po, sp, cap, big, n, gp) x) := by
  refine hMet_i (by decide) rfl (fun _ => Nat.le_of_ble_eq_true rfl) ?_
  intro p l e s m args below meth c D a d A Q ls C hret w hl
  have hx := C.1
  have hb := C.2.1
  have w : hW D A s a d tk sd ps rn hp po sp cap big n gp s.heap [] := w
  have hl : lv_has ls 2 [(0, .ref (a 0)), (1, .int x)] := hl
  obtain ⟨hcap, hbig, hn1, hgp, hsd, hps, hhp, hpo, hsp⟩ := ok
  refine lv_aload_n hx hb dX1_ranOf_0 rfl (lv_at hl 0 rfl) ?_
  refine lv_iload_n hx hb dX1_ranOf_1 rfl (lv_at hl 1 rfl) ?_
  refine call_isClient (x := x) C w ⟨Nat.le_of_ble_eq_true rfl, Nat.le_of_ble_eq_true rfl⟩ (Nat.le_of_ble_eq_true rfl) hl.1 dX1_ranOf_2 ⟨Nat.le_refl _, Nat.le_refl _⟩ (fun H locs w => ?_)
  refine b_if_eq (tgt := 17) hx hb dX1_ranOf_5 (by decide) (fun c5 => ?_) (fun c5 => ?_)
  · refine lv_iconst (v := (-1)) hx hb dX1_ranOf_17 (by decide +kernel) ?_
    exact hret _ _ _ _ _ _ (by rw [raF, if_neg (by rw [c5]; decide)]) w dX1_ranOf_18
  · obtain ⟨k, hk, rfl⟩ := isC_true c5 (by omega)
    have hcl : (nI k).toNatClampNeg = k := nI_clamp (by omega)
    have hk2 := hpo k
    refine lv_aload_n hx hb dX1_ranOf_8 rfl (lv_at hl 0 rfl) ?_
    refine hg_rn C w dX1_ranOf_9 ?_
    refine lv_iload_n hx hb dX1_ranOf_12 rfl (lv_at hl 1 rfl) ?_
    refine hl_rn C w (by omega) dX1_ranOf_13 ?_
    refine lv_goto (tgt := 18) hx hb dX1_ranOf_14 (by decide) ?_
    exact hret _ _ _ _ _ _ (by rw [raF, if_pos c5, hcl]) w dX1_ranOf_18
set_option maxHeartbeats 4000000 in
set_option maxRecDepth 100000 in
/-- passOf(x) -/
theorem met_passOf {tk sd ps rn hp po sp : Nat → Nat} {cap big n gp : Nat} {x : Int32} (ok : hOk (tk, sd, ps, rn, hp, po, sp, cap, big, n, gp)) : hMet yX1_passOf cX1_passOf 2 (some .int) { frames := 1, cells := 0, slots := 0, locals := 21 } [.int x] (tk, sd, ps, rn, hp, po, sp, cap, big, n, gp) (fun r u => (r, u) = paF (tk, sd, ps, rn, hp, po, sp, cap, big, n, gp) x) := by
  refine hMet_i (by decide) rfl (fun _ => Nat.le_of_ble_eq_true rfl) ?_
  intro p l e s m args below meth c D a d A Q ls C hret w hl
  have hx := C.1
  have hb := C.2.1
  have w : hW D A s a d tk sd ps rn hp po sp cap big n gp s.heap [] := w
  have hl : lv_has ls 2 [(0, .ref (a 0)), (1, .int x)] := hl
  obtain ⟨hcap, hbig, hn1, hgp, hsd, hps, hhp, hpo, hsp⟩ := ok
  refine lv_aload_n hx hb dX1_passOf_0 rfl (lv_at hl 0 rfl) ?_
  refine lv_iload_n hx hb dX1_passOf_1 rfl (lv_at hl 1 rfl) ?_
  refine call_isClient (x := x) C w ⟨Nat.le_of_ble_eq_true rfl, Nat.le_of_ble_eq_true rfl⟩ (Nat.le_of_ble_eq_true rfl) hl.1 dX1_passOf_2 ⟨Nat.le_refl _, Nat.le_refl _⟩ (fun H locs w => ?_)
  refine b_if_eq (tgt := 25) hx hb dX1_passOf_5 (by decide) (fun c5 => ?_) (fun c5 => ?_)
  · refine lv_iconst (v := (-1)) hx hb dX1_passOf_25 (by decide +kernel) ?_
    exact hret _ _ _ _ _ _ (by rw [paF, if_neg (fun q => by rw [c5] at q; exact absurd q.1 (by decide))]) w dX1_passOf_26
  · obtain ⟨k, hk, rfl⟩ := isC_true c5 (by omega)
    have hcl : (nI k).toNatClampNeg = k := nI_clamp (by omega)
    have hk2 := hpo k
    refine lv_aload_n hx hb dX1_passOf_8 rfl (lv_at hl 0 rfl) ?_
    refine lv_iload_n hx hb dX1_passOf_9 rfl (lv_at hl 1 rfl) ?_
    refine call_isIn C w (by omega) (by omega) ⟨Nat.le_of_ble_eq_true rfl, Nat.le_of_ble_eq_true rfl⟩ (Nat.le_of_ble_eq_true rfl) hl.1 dX1_passOf_10 ⟨Nat.le_refl _, Nat.le_refl _⟩ (fun H locs w => ?_)
    refine b_if_eq (tgt := 25) hx hb dX1_passOf_13 (by decide) (fun c13 => ?_) (fun c13 => ?_)
    · have h15 := of_decide_eq_false c13
      refine lv_iconst (v := (-1)) hx hb dX1_passOf_25 (by decide +kernel) ?_
      exact hret _ _ _ _ _ _ (by rw [paF, hcl, if_neg (fun q => h15 q.2)]) w dX1_passOf_26
    · have h15 := of_decide_eq_true c13
      refine lv_aload_n hx hb dX1_passOf_16 rfl (lv_at hl 0 rfl) ?_
      refine hg_ps C w dX1_passOf_17 ?_
      refine lv_iload_n hx hb dX1_passOf_20 rfl (lv_at hl 1 rfl) ?_
      refine hl_ps C w (by omega) dX1_passOf_21 ?_
      refine lv_goto (tgt := 26) hx hb dX1_passOf_22 (by decide) ?_
      exact hret _ _ _ _ _ _ (by rw [paF, hcl, if_pos ⟨c5, h15⟩]) w dX1_passOf_26
set_option maxHeartbeats 4000000 in
set_option maxRecDepth 100000 in
/-- strideOf(x) -/
theorem met_strideOf {tk sd ps rn hp po sp : Nat → Nat} {cap big n gp : Nat} {x : Int32} (ok : hOk (tk, sd, ps, rn, hp, po, sp, cap, big, n, gp)) : hMet yX1_strideOf cX1_strideOf 2 (some .int) { frames := 1, cells := 0, slots := 0, locals := 21 } [.int x] (tk, sd, ps, rn, hp, po, sp, cap, big, n, gp) (fun r u => (r, u) = sdF (tk, sd, ps, rn, hp, po, sp, cap, big, n, gp) x) := by
  refine hMet_i (by decide) rfl (fun _ => Nat.le_of_ble_eq_true rfl) ?_
  intro p l e s m args below meth c D a d A Q ls C hret w hl
  have hx := C.1
  have hb := C.2.1
  have w : hW D A s a d tk sd ps rn hp po sp cap big n gp s.heap [] := w
  have hl : lv_has ls 2 [(0, .ref (a 0)), (1, .int x)] := hl
  obtain ⟨hcap, hbig, hn1, hgp, hsd, hps, hhp, hpo, hsp⟩ := ok
  refine lv_aload_n hx hb dX1_strideOf_0 rfl (lv_at hl 0 rfl) ?_
  refine lv_iload_n hx hb dX1_strideOf_1 rfl (lv_at hl 1 rfl) ?_
  refine call_isClient (x := x) C w ⟨Nat.le_of_ble_eq_true rfl, Nat.le_of_ble_eq_true rfl⟩ (Nat.le_of_ble_eq_true rfl) hl.1 dX1_strideOf_2 ⟨Nat.le_refl _, Nat.le_refl _⟩ (fun H locs w => ?_)
  refine b_if_eq (tgt := 25) hx hb dX1_strideOf_5 (by decide) (fun c5 => ?_) (fun c5 => ?_)
  · refine lv_iconst (v := (-1)) hx hb dX1_strideOf_25 (by decide +kernel) ?_
    exact hret _ _ _ _ _ _ (by rw [sdF, if_neg (fun q => by rw [c5] at q; exact absurd q.1 (by decide))]) w dX1_strideOf_26
  · obtain ⟨k, hk, rfl⟩ := isC_true c5 (by omega)
    have hcl : (nI k).toNatClampNeg = k := nI_clamp (by omega)
    have hk2 := hpo k
    refine lv_aload_n hx hb dX1_strideOf_8 rfl (lv_at hl 0 rfl) ?_
    refine lv_iload_n hx hb dX1_strideOf_9 rfl (lv_at hl 1 rfl) ?_
    refine call_isIn C w (by omega) (by omega) ⟨Nat.le_of_ble_eq_true rfl, Nat.le_of_ble_eq_true rfl⟩ (Nat.le_of_ble_eq_true rfl) hl.1 dX1_strideOf_10 ⟨Nat.le_refl _, Nat.le_refl _⟩ (fun H locs w => ?_)
    refine b_if_eq (tgt := 25) hx hb dX1_strideOf_13 (by decide) (fun c13 => ?_) (fun c13 => ?_)
    · have h15 := of_decide_eq_false c13
      refine lv_iconst (v := (-1)) hx hb dX1_strideOf_25 (by decide +kernel) ?_
      exact hret _ _ _ _ _ _ (by rw [sdF, hcl, if_neg (fun q => h15 q.2)]) w dX1_strideOf_26
    · have h15 := of_decide_eq_true c13
      refine lv_aload_n hx hb dX1_strideOf_16 rfl (lv_at hl 0 rfl) ?_
      refine hg_sd C w dX1_strideOf_17 ?_
      refine lv_iload_n hx hb dX1_strideOf_20 rfl (lv_at hl 1 rfl) ?_
      refine hl_sd C w (by omega) dX1_strideOf_21 ?_
      refine lv_goto (tgt := 26) hx hb dX1_strideOf_22 (by decide) ?_
      exact hret _ _ _ _ _ _ (by rw [sdF, hcl, if_pos ⟨c5, h15⟩]) w dX1_strideOf_26
set_option maxHeartbeats 4000000 in
set_option maxRecDepth 100000 in
/-- clients() -/
theorem met_clients {tk sd ps rn hp po sp : Nat → Nat} {cap big n gp : Nat}  : hMet yX1_clients cX1_clients 1 (some .int) { frames := 0, cells := 0, slots := 0, locals := 0 } [] (tk, sd, ps, rn, hp, po, sp, cap, big, n, gp) (fun r u => (r, u) = clF (tk, sd, ps, rn, hp, po, sp, cap, big, n, gp)) := by
  refine hMet_i (by decide) rfl (fun _ => Nat.le_of_ble_eq_true rfl) ?_
  intro p l e s m args below meth c D a d A Q ls C hret w hl
  have hx := C.1
  have hb := C.2.1
  have w : hW D A s a d tk sd ps rn hp po sp cap big n gp s.heap [] := w
  have hl : lv_has ls 1 [(0, .ref (a 0))] := hl
  refine lv_aload_n hx hb dX1_clients_0 rfl (lv_at hl 0 rfl) ?_
  refine hg_n C w dX1_clients_1 ?_
  exact hret _ _ _ _ _ _ rfl w dX1_clients_4
end
section
set_option maxHeartbeats 4000000 in
theorem call_next {p : Program} {l : Launch} {e : Env} {R : Room} {s : State} {m : MethodId} {args : Array Value} {below : List Frame} {meth : Method} {c : Code} {H : Heap} {locs : List Loc} {cells slots : Nat} {Q : State → Prop} {cc : ByteArray} {pc : Nat} {ls : Array Slot} {rest : List Value} {D : va_G} {A : Nat → Prop} {a : Nat → Nat} {d : ClassId} {nL : Nat} {u : HS} (C : hC p s m args c cc nL D d A) (w : hWs D A s a d u H locs) (ok : hOk u) (hR : 2 + 1 ≤ R.frames ∧ 8 + (2 + 11) + 46 ≤ R.locals) (hrm : (rest.map fun v => v.category).sum ≤ 8) (hsz : ls.size = nL) (hdg : decode cc pc = .ok (.invokevirtual 69, 3)) (hf : cells + 0 ≤ R.cells ∧ slots + 0 ≤ R.slots)
    (kk : ∀ (H1 : Heap) (locs1 : List Loc), hWs D A s a d (nxF u).2 H1 locs1 → W p l e R s m args below meth c H1 locs1 cells slots Q (F0 m (pc + 3) ls (.int (nxF u).1 :: rest))) : W p l e R s m args below meth c H locs cells slots Q (F0 m pc ls (.ref (a 0) :: rest)) := by
  obtain ⟨tk, sd, ps, rn, hp, po, sp, cap, big, n, gp⟩ := u
  refine hcall_i (As := []) (met_next ok) C (cwV 0 C.2.2.2.2.1 (lw_V q103 q95 q96 q13 q97) rfl rfl rfl (by decide +kernel) hR) w rfl rfl hrm hsz hdg hf (fun r u H1 locs1 hq w1 => ?_)
  have h1 : r = _ := congrArg Prod.fst hq
  have h2 : u = _ := congrArg Prod.snd hq
  subst h1
  subst h2
  exact kk H1 locs1 w1
set_option maxHeartbeats 4000000 in
set_option maxRecDepth 100000 in
/-- turns(x) -/
theorem met_turns {u0 : HS} {x : Int32} (ok : hOk u0) : hMet yX1_turns cX1_turns 3 (some .int) { frames := 3, cells := 0, slots := 0, locals := 67 } [.int x] u0 (fun r u => (r, u) = tuF u0 x) := by
  refine hMet_i (by decide) rfl (fun _ => Nat.le_of_ble_eq_true rfl) ?_
  intro p l e s m args below meth c D a d A Q ls C hret w hl
  have hx := C.1
  have hb := C.2.1
  have hl : lv_has ls 3 [(0, .ref (a 0)), (1, .int x)] := hl
  refine lv_iload_n hx hb dX1_turns_0 rfl (lv_at hl 1 rfl) ?_
  refine lv_iconst (v := nI 1) hx hb dX1_turns_1 (by decide +kernel) ?_
  refine lv_icmp_lt (tgt := 12) hx hb dX1_turns_2 (by decide) (fun c2 => ?_) (fun c2 => ?_)
  · refine lv_iconst (v := (-1)) hx hb dX1_turns_12 (by decide +kernel) ?_
    exact hret _ _ _ _ _ _ (by rw [tuF, if_neg (fun q => absurd c2 (Int32.not_lt.mpr q.1))]) w dX1_turns_13
  · refine lv_iload_n hx hb dX1_turns_5 rfl (lv_at hl 1 rfl) ?_
    refine lv_sipush (v := nI 1000) hx hb dX1_turns_6 (by decide +kernel) ?_
    refine lv_icmp_le (tgt := 14) hx hb dX1_turns_9 (by decide) (fun c9 => ?_) (fun c9 => ?_)
    · obtain ⟨K, hK1, hK2, rfl⟩ := tu_arg c2 c9
      have hcl : (nI K).toNatClampNeg = K := nI_clamp (by omega)
      have hin : 1 ≤ nI K ∧ nI K ≤ 1000 := ⟨by rw [show (1 : Int32) = nI 1 from rfl]; exact nI_le hK1 (by omega), by rw [show (1000 : Int32) = nI 1000 from rfl]; exact nI_le hK2 (by omega)⟩
      refine lv_iconst (v := nI 0) hx hb dX1_turns_14 (by decide +kernel) ?_
      refine lv_istore_n (lv' := [(2, .int (nI 0)), (0, .ref (a 0)), (1, .int (nI K))]) hx hb dX1_turns_15 rfl hl (by decide) rfl (fun ls hl => ?_)
      have loop : ∀ (f k : Nat) (v : HS) (H : Heap) (locs : List Loc) (ls : Array Slot), k + f = K → hOk v → (tuG f v).1 + k = (tuG K u0).1 → (tuG f v).2 = (tuG K u0).2 → hWs D A s a d v H locs → lv_has ls 3 [(2, .int (nI k)), (0, .ref (a 0)), (1, .int (nI K))] → W p l e { frames := 3, cells := 0, slots := 0, locals := 67 } s m args below meth c H locs 0 0 Q (F0 m 16 ls []) := by
        clear w hl
        intro f
        induction f with
        | zero =>
          intro k v H locs ls hkf ok he1 he2 w hl
          refine lv_iload_n hx hb dX1_turns_16 rfl (lv_at hl 0 rfl) ?_
          refine lv_iload_n hx hb dX1_turns_17 rfl (lv_at hl 2 rfl) ?_
          refine n_icmp_ge (tgt := 34) hx hb (by omega) (by omega) dX1_turns_18 (by decide) (fun c18 => ?_) (fun c18 => ?_)
          · refine lv_iload_n hx hb dX1_turns_34 rfl (lv_at hl 0 rfl) ?_
            exact hret _ _ _ _ _ _ (by rw [tuF, if_pos hin, hcl, ← he1, ← he2]; simp [tuG]) w dX1_turns_35
          · exact absurd c18 (by omega)
        | succ f ih =>
          intro k v H locs ls hkf ok he1 he2 w hl
          refine lv_iload_n hx hb dX1_turns_16 rfl (lv_at hl 0 rfl) ?_
          refine lv_iload_n hx hb dX1_turns_17 rfl (lv_at hl 2 rfl) ?_
          refine n_icmp_ge (tgt := 34) hx hb (by omega) (by omega) dX1_turns_18 (by decide) (fun c18 => ?_) (fun c18 => ?_)
          · refine lv_iload_n hx hb dX1_turns_34 rfl (lv_at hl 0 rfl) ?_
            exact absurd c18 (by omega)
          · refine lv_aload_n hx hb dX1_turns_21 rfl (lv_at hl 1 rfl) ?_
            refine call_next C w ok ⟨Nat.le_of_ble_eq_true rfl, Nat.le_of_ble_eq_true rfl⟩ (Nat.le_of_ble_eq_true rfl) hl.1 dX1_turns_22 ⟨Nat.le_refl _, Nat.le_refl _⟩ (fun H locs w => ?_)
            refine lv_if_lt (tgt := 34) hx hb dX1_turns_25 (by decide) (fun c25 => ?_) (fun c25 => ?_)
            · refine lv_iload_n hx hb dX1_turns_34 rfl (lv_at hl 0 rfl) ?_
              exact hret _ _ _ _ _ _ (by rw [tuF, if_pos hin, hcl, ← he1, ← he2, tu_n c25]; simp) w dX1_turns_35
            · refine lv_iinc (v := nI (k + 1)) (lv' := [(2, .int (nI (k + 1))), (0, .ref (a 0)), (1, .int (nI K))]) hx hb dX1_turns_28 hl (k := 0) rfl (nI_1 _) (by decide) rfl (fun ls hl => ?_)
              refine lv_goto (tgt := 16) hx hb dX1_turns_31 (by decide) ?_
              exact ih (k + 1) (nxF v).2 _ _ _ (by omega) (nxF_ok ok) (by rw [← he1, tu_y c25]; show _ = _ + 1 + k; omega) (by rw [← he2, tu_y c25]) w (lv_sub hl [0, 1, 2] rfl)
      exact loop K 0 u0 _ _ _ (by omega) ok rfl rfl w (lv_sub hl [0, 1, 2] rfl)
    · refine lv_iconst (v := (-1)) hx hb dX1_turns_12 (by decide +kernel) ?_
      exact hret _ _ _ _ _ _ (by rw [tuF, if_neg (fun q => c9 q.2)]) w dX1_turns_13
set_option maxHeartbeats 4000000 in
set_option maxRecDepth 100000 in
/-- spread() -/
theorem met_spread {tk sd ps rn hp po sp : Nat → Nat} {cap big n gp : Nat} (ok : hOk (tk, sd, ps, rn, hp, po, sp, cap, big, n, gp)) : hMet yX1_spread cX1_spread 3 (some .int) { frames := 0, cells := 0, slots := 0, locals := 0 } [] (tk, sd, ps, rn, hp, po, sp, cap, big, n, gp) (fun r u => (r, u) = spF (tk, sd, ps, rn, hp, po, sp, cap, big, n, gp)) := by
  refine hMet_i (by decide) rfl (fun _ => Nat.le_of_ble_eq_true rfl) ?_
  intro p l e s m args below meth c D a d A Q ls C hret w hl
  have hx := C.1
  have hb := C.2.1
  have w : hW D A s a d tk sd ps rn hp po sp cap big n gp s.heap [] := w
  have hl : lv_has ls 3 [(0, .ref (a 0))] := hl
  obtain ⟨hcap, hbig, hn1, hgp, hsd, hps, hhp, hpo, hsp⟩ := ok
  have loop : ∀ (f k : Nat) (H : Heap) (locs : List Loc) (ls : Array Slot), 0 < n → k + f = n → hW D A s a d tk sd ps rn hp po sp cap big n gp H locs → lv_has ls 3 [(2, .int (nI k)), (1, .int (nI (gmF ps hp k))), (0, .ref (a 0))] → W p l e { frames := 0, cells := 0, slots := 0, locals := 0 } s m args below meth c H locs 0 0 Q (F0 m 23 ls []) := by
    clear w hl
    intro f
    induction f with
    | zero =>
      intro k H locs ls hn0 hkf w hl
      refine lv_iload_n hx hb dX1_spread_23 rfl (lv_at hl 0 rfl) ?_
      refine lv_aload_n hx hb dX1_spread_24 rfl (lv_at hl 2 rfl) ?_
      refine hg_n C w dX1_spread_25 ?_
      refine n_icmp_ge (tgt := 64) hx hb (by omega) (by omega) dX1_spread_28 (by decide) (fun c28 => ?_) (fun c28 => ?_)
      · refine lv_iload_n hx hb dX1_spread_64 rfl (lv_at hl 1 rfl) ?_
        refine lv_aload_n hx hb dX1_spread_65 rfl (lv_at hl 2 rfl) ?_
        refine hg_ps C w dX1_spread_66 ?_
        refine lv_aload_n hx hb dX1_spread_69 rfl (lv_at hl 2 rfl) ?_
        refine hg_hp C w dX1_spread_70 ?_
        refine lv_iconst (v := nI 0) hx hb dX1_spread_73 (by decide +kernel) ?_
        refine hl_hp C w (by omega) dX1_spread_74 ?_
        refine hl_ps C w (hhp _) dX1_spread_75 ?_
        refine n_isub hx hb (gm_ge ps hp _) dX1_spread_76 ?_
        exact hret _ _ _ _ _ _ (by rw [spF, if_neg (by omega), show gmF ps hp n = gmF ps hp k from by rw [(by omega : n = k)]]) w dX1_spread_77
      · exact absurd c28 (by omega)
    | succ f ih =>
      intro k H locs ls hn0 hkf w hl
      refine lv_iload_n hx hb dX1_spread_23 rfl (lv_at hl 0 rfl) ?_
      refine lv_aload_n hx hb dX1_spread_24 rfl (lv_at hl 2 rfl) ?_
      refine hg_n C w dX1_spread_25 ?_
      refine n_icmp_ge (tgt := 64) hx hb (by omega) (by omega) dX1_spread_28 (by decide) (fun c28 => ?_) (fun c28 => ?_)
      · exact absurd c28 (by omega)
      · refine lv_aload_n hx hb dX1_spread_31 rfl (lv_at hl 2 rfl) ?_
        refine hg_ps C w dX1_spread_32 ?_
        refine lv_aload_n hx hb dX1_spread_35 rfl (lv_at hl 2 rfl) ?_
        refine hg_hp C w dX1_spread_36 ?_
        refine lv_iload_n hx hb dX1_spread_39 rfl (lv_at hl 0 rfl) ?_
        refine hl_hp C w (by omega) dX1_spread_40 ?_
        refine hl_ps C w (hhp _) dX1_spread_41 ?_
        refine lv_iload_n hx hb dX1_spread_42 rfl (lv_at hl 1 rfl) ?_
        refine n_icmp_le (tgt := 58) hx hb (hps _) (gm_lt hps _) dX1_spread_43 (by decide) (fun c43 => ?_) (fun c43 => ?_)
        · refine lv_iinc (v := nI (k + 1)) (lv' := [(2, .int (nI (k + 1))), (1, .int (nI (gmF ps hp k))), (0, .ref (a 0))]) hx hb dX1_spread_58 hl (k := 0) rfl (nI_1 _) (by decide) rfl (fun ls hl => ?_)
          refine lv_goto (tgt := 23) hx hb dX1_spread_61 (by decide) ?_
          exact ih (k + 1) _ _ _ hn0 (by omega) w (by rw [gm_n c43]; exact lv_sub hl [0, 1, 2] rfl)
        · refine lv_aload_n hx hb dX1_spread_46 rfl (lv_at hl 2 rfl) ?_
          refine hg_ps C w dX1_spread_47 ?_
          refine lv_aload_n hx hb dX1_spread_50 rfl (lv_at hl 2 rfl) ?_
          refine hg_hp C w dX1_spread_51 ?_
          refine lv_iload_n hx hb dX1_spread_54 rfl (lv_at hl 0 rfl) ?_
          refine hl_hp C w (by omega) dX1_spread_55 ?_
          refine hl_ps C w (hhp _) dX1_spread_56 ?_
          refine lv_istore_n (lv' := [(1, .int (nI (ps (hp k)))), (2, .int (nI k)), (0, .ref (a 0))]) hx hb dX1_spread_57 rfl hl (by decide) rfl (fun ls hl => ?_)
          refine lv_iinc (v := nI (k + 1)) (lv' := [(2, .int (nI (k + 1))), (1, .int (nI (ps (hp k)))), (0, .ref (a 0))]) hx hb dX1_spread_58 hl (k := 1) rfl (nI_1 _) (by decide) rfl (fun ls hl => ?_)
          refine lv_goto (tgt := 23) hx hb dX1_spread_61 (by decide) ?_
          exact ih (k + 1) _ _ _ hn0 (by omega) w (by rw [gm_y c43]; exact lv_sub hl [0, 1, 2] rfl)
  refine lv_aload_n hx hb dX1_spread_0 rfl (lv_at hl 0 rfl) ?_
  refine hg_n C w dX1_spread_1 ?_
  refine n_if_ne (tgt := 9) hx hb (by omega) dX1_spread_4 (by decide) (fun c4 => ?_) (fun c4 => ?_)
  · refine lv_aload_n hx hb dX1_spread_9 rfl (lv_at hl 0 rfl) ?_
    refine hg_ps C w dX1_spread_10 ?_
    refine lv_aload_n hx hb dX1_spread_13 rfl (lv_at hl 0 rfl) ?_
    refine hg_hp C w dX1_spread_14 ?_
    refine lv_iconst (v := nI 0) hx hb dX1_spread_17 (by decide +kernel) ?_
    refine hl_hp C w (by omega) dX1_spread_18 ?_
    refine hl_ps C w (hhp _) dX1_spread_19 ?_
    refine lv_istore_n (lv' := [(1, .int (nI (ps (hp 0)))), (0, .ref (a 0))]) hx hb dX1_spread_20 rfl hl (by decide) rfl (fun ls hl => ?_)
    refine lv_iconst (v := nI 1) hx hb dX1_spread_21 (by decide +kernel) ?_
    refine lv_istore_n (lv' := [(2, .int (nI 1)), (1, .int (nI (ps (hp 0)))), (0, .ref (a 0))]) hx hb dX1_spread_22 rfl hl (by decide) rfl (fun ls hl => ?_)
    exact loop (n - 1) 1 _ _ _ (by omega) (by omega) w (by rw [gm_1]; exact lv_sub hl [0, 1, 2] rfl)
  · refine lv_iconst (v := (-1)) hx hb dX1_spread_7 (by decide +kernel) ?_
    exact hret _ _ _ _ _ _ (by rw [spF, if_pos c4]) w dX1_spread_8
set_option maxHeartbeats 4000000 in
set_option maxRecDepth 100000 in
/-- order(x) -/
theorem met_order {tk sd ps rn hp po sp : Nat → Nat} {cap big n gp : Nat} {x : Int32} (ok : hOk (tk, sd, ps, rn, hp, po, sp, cap, big, n, gp)) : hMet yX1_order cX1_order 5 (some .int) { frames := 1, cells := 0, slots := 0, locals := 22 } [.int x] (tk, sd, ps, rn, hp, po, sp, cap, big, n, gp) (fun r u => (r, u) = odF (tk, sd, ps, rn, hp, po, sp, cap, big, n, gp) x) := by
  refine hMet_i (by decide) rfl (fun _ => Nat.le_of_ble_eq_true rfl) ?_
  intro p l e s m args below meth c D a d A Q ls C hret w hl
  have hx := C.1
  have hb := C.2.1
  have w : hW D A s a d tk sd ps rn hp po sp cap big n gp s.heap [] := w
  have hl : lv_has ls 5 [(0, .ref (a 0)), (1, .int x)] := hl
  obtain ⟨hcap, hbig, hn1, hgp, hsd, hps, hhp, hpo, hsp⟩ := ok
  refine lv_iload_n hx hb dX1_order_0 rfl (lv_at hl 1 rfl) ?_
  refine lv_if_lt (tgt := 12) hx hb dX1_order_1 (by decide) (fun c1 => ?_) (fun c1 => ?_)
  · refine lv_iconst (v := (-1)) hx hb dX1_order_12 (by decide +kernel) ?_
    exact hret _ _ _ _ _ _ (by rw [odF, if_neg (by rw [isC_lt c1]; decide)]) w dX1_order_13
  · refine lv_iload_n hx hb dX1_order_4 rfl (lv_at hl 1 rfl) ?_
    refine lv_aload_n hx hb dX1_order_5 rfl (lv_at hl 0 rfl) ?_
    refine hg_n C w dX1_order_6 ?_
    refine lv_icmp_lt (tgt := 14) hx hb dX1_order_9 (by decide) (fun c9 => ?_) (fun c9 => ?_)
    · obtain ⟨k, hk, rfl⟩ := isC_true (isC_of c1 (Int32.not_le.mpr c9)) (by omega)
      have hcl : (nI k).toNatClampNeg = k := nI_clamp (by omega)
      refine lv_iconst (v := nI 0) hx hb dX1_order_14 (by decide +kernel) ?_
      refine lv_istore_n (lv' := [(2, .int (nI 0)), (0, .ref (a 0)), (1, .int (nI k))]) hx hb dX1_order_15 rfl hl (by decide) rfl (fun ls hl => ?_)
      have loop : ∀ (f i : Nat) (H : Heap) (locs : List Loc) (ls : Array Slot), i + f = n → hW D A s a d tk sd ps rn hp po (srF ps hp i sp) cap big n gp H locs → lv_has ls 5 [(2, .int (nI i)), (0, .ref (a 0)), (1, .int (nI k))] → W p l e { frames := 1, cells := 0, slots := 0, locals := 22 } s m args below meth c H locs 0 0 Q (F0 m 16 ls []) := by
        clear w hl
        intro f
        induction f with
        | zero =>
          intro i H locs ls hif w hl
          refine lv_iload_n hx hb dX1_order_16 rfl (lv_at hl 0 rfl) ?_
          refine lv_aload_n hx hb dX1_order_17 rfl (lv_at hl 1 rfl) ?_
          refine hg_n C w dX1_order_18 ?_
          refine n_icmp_ge (tgt := 92) hx hb (by omega) (by omega) dX1_order_21 (by decide) (fun c21 => ?_) (fun c21 => ?_)
          · refine lv_aload_n hx hb dX1_order_92 rfl (lv_at hl 1 rfl) ?_
            refine hg_sp C w dX1_order_93 ?_
            refine lv_iload_n hx hb dX1_order_96 rfl (lv_at hl 2 rfl) ?_
            refine hl_sp C w (by omega) dX1_order_97 ?_
            exact hret _ _ _ _ _ _ (by rw [odF, if_pos (isC_nI hk (by omega)), hcl, show srF ps hp n sp = srF ps hp i sp from by rw [(by omega : n = i)]]) w dX1_order_98
          · exact absurd c21 (by omega)
        | succ f ih =>
          intro i H locs ls hif w hl
          refine lv_iload_n hx hb dX1_order_16 rfl (lv_at hl 0 rfl) ?_
          refine lv_aload_n hx hb dX1_order_17 rfl (lv_at hl 1 rfl) ?_
          refine hg_n C w dX1_order_18 ?_
          refine n_icmp_ge (tgt := 92) hx hb (by omega) (by omega) dX1_order_21 (by decide) (fun c21 => ?_) (fun c21 => ?_)
          · exact absurd c21 (by omega)
          · refine lv_aload_n hx hb dX1_order_24 rfl (lv_at hl 1 rfl) ?_
            refine hg_hp C w dX1_order_25 ?_
            refine lv_iload_n hx hb dX1_order_28 rfl (lv_at hl 0 rfl) ?_
            refine hl_hp C w (by omega) dX1_order_29 ?_
            refine lv_istore_n (lv' := [(3, .int (nI (hp i))), (2, .int (nI i)), (0, .ref (a 0)), (1, .int (nI k))]) hx hb dX1_order_30 rfl hl (by decide) rfl (fun ls hl => ?_)
            refine lv_iload_n hx hb dX1_order_31 rfl (lv_at hl 1 rfl) ?_
            refine lv_istore (lv' := [(4, .int (nI i)), (3, .int (nI (hp i))), (2, .int (nI i)), (0, .ref (a 0)), (1, .int (nI k))]) hx hb dX1_order_32 hl (by decide) rfl (fun ls hl => ?_)
            have inner : ∀ (q : Nat) (sp1 : Nat → Nat) (H : Heap) (locs : List Loc) (ls : Array Slot), q ≤ i → (∀ j, sp1 j < 64) → inF ps (hp i) q sp1 = srF ps hp (i + 1) sp → hW D A s a d tk sd ps rn hp po sp1 cap big n gp H locs → lv_has ls 5 [(4, .int (nI q)), (3, .int (nI (hp i))), (2, .int (nI i)), (0, .ref (a 0)), (1, .int (nI k))] → W p l e { frames := 1, cells := 0, slots := 0, locals := 22 } s m args below meth c H locs 0 0 Q (F0 m 34 ls []) := by
              clear w hl
              intro q
              induction q with
              | zero =>
                intro sp1 H locs ls hqi hsp1 he w hl
                refine lv_iload hx hb dX1_order_34 (lv_at hl 0 rfl) ?_
                refine n_if_le (tgt := 78) hx hb (by omega) dX1_order_36 (by decide) (fun c36 => ?_) (fun c36 => ?_)
                · refine lv_aload_n hx hb dX1_order_78 rfl (lv_at hl 3 rfl) ?_
                  refine hg_sp C w dX1_order_79 ?_
                  refine lv_iload hx hb dX1_order_82 (lv_at hl 0 rfl) ?_
                  refine lv_iload_n hx hb dX1_order_84 rfl (lv_at hl 1 rfl) ?_
                  refine hs_sp C w (by omega) dX1_order_85 (fun H locs w => ?_)
                  refine lv_iinc (v := nI (i + 1)) (lv' := [(2, .int (nI (i + 1))), (4, .int (nI 0)), (3, .int (nI (hp i))), (0, .ref (a 0)), (1, .int (nI k))]) hx hb dX1_order_86 hl (k := 2) rfl (nI_1 _) (by decide) rfl (fun ls hl => ?_)
                  refine lv_goto (tgt := 16) hx hb dX1_order_89 (by decide) ?_
                  exact ih (i + 1) _ _ _ (by omega) (by rw [← he]; exact w) (lv_sub hl [0, 3, 4] rfl)
                · exact absurd c36 (by omega)
              | succ q ihq =>
                intro sp1 H locs ls hqi hsp1 he w hl
                refine lv_iload hx hb dX1_order_34 (lv_at hl 0 rfl) ?_
                refine n_if_le (tgt := 78) hx hb (by omega) dX1_order_36 (by decide) (fun c36 => ?_) (fun c36 => ?_)
                · exact absurd c36 (by omega)
                · refine lv_aload_n hx hb dX1_order_39 rfl (lv_at hl 3 rfl) ?_
                  refine lv_iload_n hx hb dX1_order_40 rfl (lv_at hl 1 rfl) ?_
                  refine lv_aload_n hx hb dX1_order_41 rfl (lv_at hl 3 rfl) ?_
                  refine hg_sp C w dX1_order_42 ?_
                  refine lv_iload hx hb dX1_order_45 (lv_at hl 0 rfl) ?_
                  refine lv_iconst (v := nI 1) hx hb dX1_order_47 (by decide +kernel) ?_
                  refine n_isub hx hb (by omega) dX1_order_48 ?_
                  refine hl_sp C w (by omega) dX1_order_49 ?_
                  refine call_isBefore C w hps (hhp _) (hsp1 _) ⟨Nat.le_of_ble_eq_true rfl, Nat.le_of_ble_eq_true rfl⟩ (Nat.le_of_ble_eq_true rfl) hl.1 dX1_order_50 ⟨Nat.le_refl _, Nat.le_refl _⟩ (fun H locs w => ?_)
                  refine b_if_eq (tgt := 78) hx hb dX1_order_53 (by decide) (fun c53 => ?_) (fun c53 => ?_)
                  · refine lv_aload_n hx hb dX1_order_78 rfl (lv_at hl 3 rfl) ?_
                    refine hg_sp C w dX1_order_79 ?_
                    refine lv_iload hx hb dX1_order_82 (lv_at hl 0 rfl) ?_
                    refine lv_iload_n hx hb dX1_order_84 rfl (lv_at hl 1 rfl) ?_
                    refine hs_sp C w (by omega) dX1_order_85 (fun H locs w => ?_)
                    refine lv_iinc (v := nI (i + 1)) (lv' := [(2, .int (nI (i + 1))), (4, .int (nI (q + 1))), (3, .int (nI (hp i))), (0, .ref (a 0)), (1, .int (nI k))]) hx hb dX1_order_86 hl (k := 2) rfl (nI_1 _) (by decide) rfl (fun ls hl => ?_)
                    refine lv_goto (tgt := 16) hx hb dX1_order_89 (by decide) ?_
                    exact ih (i + 1) _ _ _ (by omega) (by rw [← (in_n c53).symm.trans he]; exact w) (lv_sub hl [0, 3, 4] rfl)
                  · refine lv_aload_n hx hb dX1_order_56 rfl (lv_at hl 3 rfl) ?_
                    refine hg_sp C w dX1_order_57 ?_
                    refine lv_iload hx hb dX1_order_60 (lv_at hl 0 rfl) ?_
                    refine lv_aload_n hx hb dX1_order_62 rfl (lv_at hl 3 rfl) ?_
                    refine hg_sp C w dX1_order_63 ?_
                    refine lv_iload hx hb dX1_order_66 (lv_at hl 0 rfl) ?_
                    refine lv_iconst (v := nI 1) hx hb dX1_order_68 (by decide +kernel) ?_
                    refine n_isub hx hb (by omega) dX1_order_69 ?_
                    refine hl_sp C w (by omega) dX1_order_70 ?_
                    refine hs_sp C w (by omega) dX1_order_71 (fun H locs w => ?_)
                    refine lv_iinc (v := nI q) (lv' := [(4, .int (nI q)), (3, .int (nI (hp i))), (2, .int (nI i)), (0, .ref (a 0)), (1, .int (nI k))]) hx hb dX1_order_72 hl (k := 0) rfl (pk_m1 _) (by decide) rfl (fun ls hl => ?_)
                    refine lv_goto (tgt := 34) hx hb dX1_order_75 (by decide) ?_
                    exact ihq (va_up sp1 (q + 1) (sp1 q)) _ _ _ (by omega) (up_lt hsp1 (hsp1 _)) ((in_y c53).symm.trans he) w (lv_sub hl [0, 1, 2, 3, 4] rfl)
            exact inner i (srF ps hp i sp) _ _ _ (Nat.le_refl _) (sr_lt hhp i sp hsp) rfl w (lv_sub hl [0, 1, 2, 3, 4] rfl)
      exact loop n 0 _ _ _ (by omega) w (lv_sub hl [0, 1, 2] rfl)
    · refine lv_iconst (v := (-1)) hx hb dX1_order_12 (by decide +kernel) ?_
      exact hret _ _ _ _ _ _ (by rw [odF, if_neg (by rw [isC_ge (Int32.not_lt.mp c9)]; decide)]) w dX1_order_13
end
section
/-! the model's world: StrideHeapModel and its four arrays -/
def wY (a : Nat → Nat) (d dz dl : ClassId) (inn tk ps rn : Nat → Nat) (cap big n gp : Nat) : va_W := [(a 0, .inr (1, [.int (nI cap), .int (nI big), .ref (a 1), .ref (a 2), .ref (a 3), .ref (a 4), .int (nI n), .long (lN gp)])), (a 1, .inl (dz, 64, .inl (nF inn))), (a 2, .inl (d, 64, .inl (nF tk))), (a 3, .inl (dl, 64, .inr (.inl (lF ps)))), (a 4, .inl (d, 64, .inl (nF rn)))]
def mC (p : Program) (s : State) (m : MethodId) (args : Array Value) (c : Code) (cc : ByteArray) (nL : Nat) (D : va_G) (d dz dl : ClassId) (A : Nat → Prop) : Prop := p.tables.exec = Jvm.exec ∧ c.code = cc ∧ c.maxLocals = nL ∧ s.vm.findClass RX2 = some m.cls ∧ (∀ w ∈ lw_all, w.before args s = true) ∧ (∀ q, s.heap.size ≤ q → A q) ∧ va_K D vwCl [(d, .int), (dz, .boolean), (dl, .long)] s
def mW (D : va_G) (A : Nat → Prop) (s : State) (a : Nat → Nat) (d dz dl : ClassId) (inn tk ps rn : Nat → Nat) (cap big n gp : Nat) (H : Heap) (locs : List Loc) : Prop := va_P D vwCl (wY a d dz dl inn tk ps rn cap big n gp) H ∧ va_D A (wY a d dz dl inn tk ps rn cap big n gp) ∧ va_S A s.heap H locs
abbrev MS : Type := (Nat → Nat) × (Nat → Nat) × (Nat → Nat) × (Nat → Nat) × Nat × Nat × Nat × Nat
abbrev wT (a : Nat → Nat) (d dz dl : ClassId) (u : MS) : va_W := wY a d dz dl u.1 u.2.1 u.2.2.1 u.2.2.2.1 u.2.2.2.2.1 u.2.2.2.2.2.1 u.2.2.2.2.2.2.1 u.2.2.2.2.2.2.2
abbrev mWs (D : va_G) (A : Nat → Prop) (s : State) (a : Nat → Nat) (d dz dl : ClassId) (u : MS) (H : Heap) (locs : List Loc) : Prop := mW D A s a d dz dl u.1 u.2.1 u.2.2.1 u.2.2.2.1 u.2.2.2.2.1 u.2.2.2.2.2.1 u.2.2.2.2.2.2.1 u.2.2.2.2.2.2.2 H locs
def mB (D : va_G) (a : Nat → Nat) (d dz dl : ClassId) (A : Nat → Prop) (u : MS) (t : State) : Prop := va_P D vwCl (wT a d dz dl u) t.heap ∧ va_K D vwCl [(d, .int), (dz, .boolean), (dl, .long)] t ∧ va_D A (wT a d dz dl u)
def mPre (D : va_G) (a : Nat → Nat) (d dz dl : ClassId) (u0 : MS) (sz : Nat) (U : State) : Prop := U.heap.size = sz ∧ va_P D vwCl (wT a d dz dl u0) U.heap ∧ va_K D vwCl [(d, .int), (dz, .boolean), (dl, .long)] U ∧ va_D (fun _ => True) (wT a d dz dl u0)
def mMet (y : MethodName) (cc : ByteArray) (nL : Nat) (rt : Option FieldType) (rm : Room) (As : List Value) (u0 : MS) (Qp : Int32 → MS → Prop) : Prop := ∀ (l : Launch) (D : va_G) (a : Nat → Nat) (d dz dl : ClassId) (sz : Nat), Met l y (ws_ y cc nL rt) rm (va_Pc (.ref (a 0) :: As) (mPre D a d dz dl u0 sz)) (va_Qi Qp (mB D a d dz dl (va_A (wT a d dz dl u0) sz)) (va_A (wT a d dz dl u0) sz)) 0 0 (va_A (wT a d dz dl u0) sz)
def mMetV (y : MethodName) (cc : ByteArray) (nL : Nat) (rm : Room) (As : List Value) (u0 : MS) (Qp : MS → Prop) : Prop := ∀ (l : Launch) (D : va_G) (a : Nat → Nat) (d dz dl : ClassId) (sz : Nat), Met l y (ws_ y cc nL none) rm (va_Pc (.ref (a 0) :: As) (mPre D a d dz dl u0 sz)) (va_Qv Qp (mB D a d dz dl (va_A (wT a d dz dl u0) sz)) (va_A (wT a d dz dl u0) sz)) 0 0 (va_A (wT a d dz dl u0) sz)
set_option maxHeartbeats 4000000 in
set_option maxRecDepth 100000 in
theorem mMet_i {y : MethodName} {cc : ByteArray} {nL : Nat} {rm : Room} {As : List Value} {u0 : MS} {Qp : Int32 → MS → Prop} (hy : plainName y.cls = true) (hyc : y.cls = RX2) (hnl : ∀ x : Nat, (lg_sl (.ref x :: As)).length ≤ nL)
    (body : ∀ (p : Program) (l : Launch) (e : Env) (s : State) (m : MethodId) (args : Array Value) (below : List Frame) (meth : Method) (c : Code) (D : va_G) (a : Nat → Nat) (d dz dl : ClassId) (A : Nat → Prop) (Q : State → Prop) (ls : Array Slot), mC p s m args c cc nL D d dz dl A →
      (∀ (v : Int32) (u : MS) (H : Heap) (locs : List Loc) (pc : Nat) (ls : Array Slot), Qp v u → mWs D A s a d dz dl u H locs → decode cc pc = .ok (.ireturn, 1) → W p l e rm s m args below meth c H locs 0 0 Q (F0 m pc ls [.int v])) →
      mWs D A s a d dz dl u0 s.heap [] → lv_has ls nL (lv_args 0 (.ref (a 0) :: As)) → W p l e rm s m args below meth c s.heap [] 0 0 Q (F0 m 0 ls [])) : mMet y cc nL (some .int) rm As u0 Qp := by
  intro l D a d dz dl sz
  refine Met.ofW (cc := cc) (maxL := nL) (ret := some .int) hy rfl ?_
  intro p e s m args below meth c s₁ B hml hv
  obtain ⟨rfl, hsz, hP, hK, hD0⟩ := hv
  have hts := atoms_spec (ws := ws_ y cc nL (some .int)) B.pre
  have hts : ∀ w ∈ lw_all, w.before _ s = true := fun w h => hts w (List.mem_cons_of_mem _ h)
  have hown : s.vm.findClass RX2 = some m.cls := by rw [← hyc]; exact findClass_of_methodNamed B.named
  have hlocks := B.notSynchronized
  subst hsz
  have hD := hD0.self (sz := s.heap.size)
  have hl := lv_entry (.ref (a 0) :: As) (n := nL) (hnl _)
  rw [lg_entry_eq]
  refine body p l e s m _ below meth c D a d dz dl (va_A (wT a d dz dl u0) s.heap.size) _ _ ⟨B.exec, B.bytes, hml, hown, hts, fun q h => Or.inr h, hK⟩ ?_ ⟨hP, hD, va_S.rf⟩ hl
  exact fun v u H locs pc ls hq w hd => W.iret (v := v) B.exec B.bytes B.returns (fun t ht mW => ⟨⟨v, u, rfl, hq, by rw [ht]; exact w.1, va_K.moved mW.alike hK, w.2.1⟩, w.2.2.F ht⟩) w.2.2.2.2 hd
set_option maxHeartbeats 4000000 in
set_option maxRecDepth 100000 in
theorem mMet_z {y : MethodName} {cc : ByteArray} {nL : Nat} {rm : Room} {As : List Value} {u0 : MS} {Qp : Int32 → MS → Prop} (hy : plainName y.cls = true) (hyc : y.cls = RX2) (hnl : ∀ x : Nat, (lg_sl (.ref x :: As)).length ≤ nL)
    (body : ∀ (p : Program) (l : Launch) (e : Env) (s : State) (m : MethodId) (args : Array Value) (below : List Frame) (meth : Method) (c : Code) (D : va_G) (a : Nat → Nat) (d dz dl : ClassId) (A : Nat → Prop) (Q : State → Prop) (ls : Array Slot), mC p s m args c cc nL D d dz dl A →
      (∀ (v : Bool) (u : MS) (H : Heap) (locs : List Loc) (pc : Nat) (ls : Array Slot), Qp (bI v) u → mWs D A s a d dz dl u H locs → decode cc pc = .ok (.ireturn, 1) → W p l e rm s m args below meth c H locs 0 0 Q (F0 m pc ls [.int (bI v)])) →
      mWs D A s a d dz dl u0 s.heap [] → lv_has ls nL (lv_args 0 (.ref (a 0) :: As)) → W p l e rm s m args below meth c s.heap [] 0 0 Q (F0 m 0 ls [])) : mMet y cc nL (some .boolean) rm As u0 Qp := by
  intro l D a d dz dl sz
  refine Met.ofW (cc := cc) (maxL := nL) (ret := some .boolean) hy rfl ?_
  intro p e s m args below meth c s₁ B hml hv
  obtain ⟨rfl, hsz, hP, hK, hD0⟩ := hv
  have hts := atoms_spec (ws := ws_ y cc nL (some .boolean)) B.pre
  have hts : ∀ w ∈ lw_all, w.before _ s = true := fun w h => hts w (List.mem_cons_of_mem _ h)
  have hown : s.vm.findClass RX2 = some m.cls := by rw [← hyc]; exact findClass_of_methodNamed B.named
  have hlocks := B.notSynchronized
  subst hsz
  have hD := hD0.self (sz := s.heap.size)
  have hl := lv_entry (.ref (a 0) :: As) (n := nL) (hnl _)
  rw [lg_entry_eq]
  refine body p l e s m _ below meth c D a d dz dl (va_A (wT a d dz dl u0) s.heap.size) _ _ ⟨B.exec, B.bytes, hml, hown, hts, fun q h => Or.inr h, hK⟩ ?_ ⟨hP, hD, va_S.rf⟩ hl
  exact fun v u H locs pc ls hq w hd => W.zret (v := bI v) B.exec B.bytes B.returns (by cases v <;> rfl) (fun t ht mW => ⟨⟨bI v, u, rfl, hq, by rw [ht]; exact w.1, va_K.moved mW.alike hK, w.2.1⟩, w.2.2.F ht⟩) w.2.2.2.2 hd
set_option maxHeartbeats 4000000 in
set_option maxRecDepth 100000 in
theorem mMet_v {y : MethodName} {cc : ByteArray} {nL : Nat} {rm : Room} {As : List Value} {u0 : MS} {Qp : MS → Prop} (hy : plainName y.cls = true) (hyc : y.cls = RX2) (hnl : ∀ x : Nat, (lg_sl (.ref x :: As)).length ≤ nL)
    (body : ∀ (p : Program) (l : Launch) (e : Env) (s : State) (m : MethodId) (args : Array Value) (below : List Frame) (meth : Method) (c : Code) (D : va_G) (a : Nat → Nat) (d dz dl : ClassId) (A : Nat → Prop) (Q : State → Prop) (ls : Array Slot), mC p s m args c cc nL D d dz dl A →
      (∀ (u : MS) (H : Heap) (locs : List Loc) (pc : Nat) (ls : Array Slot), Qp u → mWs D A s a d dz dl u H locs → decode cc pc = .ok (.return_, 1) → W p l e rm s m args below meth c H locs 0 0 Q (F0 m pc ls [])) →
      mWs D A s a d dz dl u0 s.heap [] → lv_has ls nL (lv_args 0 (.ref (a 0) :: As)) → W p l e rm s m args below meth c s.heap [] 0 0 Q (F0 m 0 ls [])) : mMetV y cc nL rm As u0 Qp := by
  intro l D a d dz dl sz
  refine Met.ofW (cc := cc) (maxL := nL) (ret := none) hy rfl ?_
  intro p e s m args below meth c s₁ B hml hv
  obtain ⟨rfl, hsz, hP, hK, hD0⟩ := hv
  have hts := atoms_spec (ws := ws_ y cc nL (none)) B.pre
  have hts : ∀ w ∈ lw_all, w.before _ s = true := fun w h => hts w (List.mem_cons_of_mem _ h)
  have hown : s.vm.findClass RX2 = some m.cls := by rw [← hyc]; exact findClass_of_methodNamed B.named
  have hlocks := B.notSynchronized
  subst hsz
  have hD := hD0.self (sz := s.heap.size)
  have hl := lv_entry (.ref (a 0) :: As) (n := nL) (hnl _)
  rw [lg_entry_eq]
  refine body p l e s m _ below meth c D a d dz dl (va_A (wT a d dz dl u0) s.heap.size) _ _ ⟨B.exec, B.bytes, hml, hown, hts, fun q h => Or.inr h, hK⟩ ?_ ⟨hP, hD, va_S.rf⟩ hl
  exact fun u H locs pc ls hq w hd => W.vret B.exec B.bytes B.returns (fun t ht mW => ⟨⟨u, rfl, hq, by rw [ht]; exact w.1, va_K.moved mW.alike hK, w.2.1⟩, w.2.2.F ht⟩) w.2.2.2.2 hd
theorem nar_z {v : Nat} (hv : v ≤ 1) : vp_nar .boolean (nI v) = nI v := by
  rcases (by omega : v = 0 ∨ v = 1) with rfl | rfl
  · decide +kernel
  · decide +kernel
section MR
variable {p : Program} {l : Launch} {e : Env} {R : Room} {s : State} {m : MethodId} {args : Array Value} {below : List Frame} {meth : Method} {c : Code} {H : Heap} {locs : List Loc} {cells slots : Nat} {Q : State → Prop}
variable {cc : ByteArray} {pc : Nat} {ls : Array Slot} {rest : List Value}
variable {D : va_G} {A : Nat → Prop} {a : Nat → Nat} {d dz dl : ClassId} {nL : Nat} {inn tk ps rn : Nat → Nat} {cap big n gp : Nat}
theorem mg_cap (C : mC p s m args c cc nL D d dz dl A) (w : mW D A s a d dz dl inn tk ps rn cap big n gp H locs) (hdg : decode cc pc = .ok (.getfield 24, 3)) (kk : W p l e R s m args below meth c H locs cells slots Q (F0 m (pc + 3) ls (.int (nI cap) :: rest))) : W p l e R s m args below meth c H locs cells slots Q (F0 m pc ls (.ref (a 0) :: rest)) := va_get (D := D) (ci := 1) (v := .int (nI cap)) (C := RX2) (T := TX2) (N := 8) C.1 C.2.1 C.2.2.2.2.1 in_X2 C.2.2.2.1 C.2.2.2.2.2.2 w.1 0 rfl rfl 0 (by decide) (C.2.2.2.2.1 _ q141) (fun _ h9 => h9) rfl hdg kk
theorem mg_big (C : mC p s m args c cc nL D d dz dl A) (w : mW D A s a d dz dl inn tk ps rn cap big n gp H locs) (hdg : decode cc pc = .ok (.getfield 28, 3)) (kk : W p l e R s m args below meth c H locs cells slots Q (F0 m (pc + 3) ls (.int (nI big) :: rest))) : W p l e R s m args below meth c H locs cells slots Q (F0 m pc ls (.ref (a 0) :: rest)) := va_get (D := D) (ci := 1) (v := .int (nI big)) (C := RX2) (T := TX2) (N := 8) C.1 C.2.1 C.2.2.2.2.1 in_X2 C.2.2.2.1 C.2.2.2.2.2.2 w.1 0 rfl rfl 1 (by decide) (C.2.2.2.2.1 _ q142) (fun _ h9 => h9) rfl hdg kk
theorem mg_inn (C : mC p s m args c cc nL D d dz dl A) (w : mW D A s a d dz dl inn tk ps rn cap big n gp H locs) (hdg : decode cc pc = .ok (.getfield 7, 3)) (kk : W p l e R s m args below meth c H locs cells slots Q (F0 m (pc + 3) ls (.ref (a 1) :: rest))) : W p l e R s m args below meth c H locs cells slots Q (F0 m pc ls (.ref (a 0) :: rest)) := va_get (D := D) (ci := 1) (v := .ref (a 1)) (C := RX2) (T := TX2) (N := 8) C.1 C.2.1 C.2.2.2.2.1 in_X2 C.2.2.2.1 C.2.2.2.2.2.2 w.1 0 rfl rfl 2 (by decide) (C.2.2.2.2.1 _ q143) (fun _ h9 => h9) rfl hdg kk
theorem mg_tk (C : mC p s m args c cc nL D d dz dl A) (w : mW D A s a d dz dl inn tk ps rn cap big n gp H locs) (hdg : decode cc pc = .ok (.getfield 13, 3)) (kk : W p l e R s m args below meth c H locs cells slots Q (F0 m (pc + 3) ls (.ref (a 2) :: rest))) : W p l e R s m args below meth c H locs cells slots Q (F0 m pc ls (.ref (a 0) :: rest)) := va_get (D := D) (ci := 1) (v := .ref (a 2)) (C := RX2) (T := TX2) (N := 8) C.1 C.2.1 C.2.2.2.2.1 in_X2 C.2.2.2.1 C.2.2.2.2.2.2 w.1 0 rfl rfl 3 (by decide) (C.2.2.2.2.1 _ q144) (fun _ h9 => h9) rfl hdg kk
theorem mg_ps (C : mC p s m args c cc nL D d dz dl A) (w : mW D A s a d dz dl inn tk ps rn cap big n gp H locs) (hdg : decode cc pc = .ok (.getfield 17, 3)) (kk : W p l e R s m args below meth c H locs cells slots Q (F0 m (pc + 3) ls (.ref (a 3) :: rest))) : W p l e R s m args below meth c H locs cells slots Q (F0 m pc ls (.ref (a 0) :: rest)) := va_get (D := D) (ci := 1) (v := .ref (a 3)) (C := RX2) (T := TX2) (N := 8) C.1 C.2.1 C.2.2.2.2.1 in_X2 C.2.2.2.1 C.2.2.2.2.2.2 w.1 0 rfl rfl 4 (by decide) (C.2.2.2.2.1 _ q145) (fun _ h9 => h9) rfl hdg kk
theorem mg_rn (C : mC p s m args c cc nL D d dz dl A) (w : mW D A s a d dz dl inn tk ps rn cap big n gp H locs) (hdg : decode cc pc = .ok (.getfield 21, 3)) (kk : W p l e R s m args below meth c H locs cells slots Q (F0 m (pc + 3) ls (.ref (a 4) :: rest))) : W p l e R s m args below meth c H locs cells slots Q (F0 m pc ls (.ref (a 0) :: rest)) := va_get (D := D) (ci := 1) (v := .ref (a 4)) (C := RX2) (T := TX2) (N := 8) C.1 C.2.1 C.2.2.2.2.1 in_X2 C.2.2.2.1 C.2.2.2.2.2.2 w.1 0 rfl rfl 5 (by decide) (C.2.2.2.2.1 _ q146) (fun _ h9 => h9) rfl hdg kk
theorem mg_n (C : mC p s m args c cc nL D d dz dl A) (w : mW D A s a d dz dl inn tk ps rn cap big n gp H locs) (hdg : decode cc pc = .ok (.getfield 50, 3)) (kk : W p l e R s m args below meth c H locs cells slots Q (F0 m (pc + 3) ls (.int (nI n) :: rest))) : W p l e R s m args below meth c H locs cells slots Q (F0 m pc ls (.ref (a 0) :: rest)) := va_get (D := D) (ci := 1) (v := .int (nI n)) (C := RX2) (T := TX2) (N := 8) C.1 C.2.1 C.2.2.2.2.1 in_X2 C.2.2.2.1 C.2.2.2.2.2.2 w.1 0 rfl rfl 6 (by decide) (C.2.2.2.2.1 _ q147) (fun _ h9 => h9) rfl hdg kk
theorem mg_gp (C : mC p s m args c cc nL D d dz dl A) (w : mW D A s a d dz dl inn tk ps rn cap big n gp H locs) (hdg : decode cc pc = .ok (.getfield 46, 3)) (kk : W p l e R s m args below meth c H locs cells slots Q (F0 m (pc + 3) ls (.long (lN gp) :: rest))) : W p l e R s m args below meth c H locs cells slots Q (F0 m pc ls (.ref (a 0) :: rest)) := va_get (D := D) (ci := 1) (v := .long (lN gp)) (C := RX2) (T := TX2) (N := 8) C.1 C.2.1 C.2.2.2.2.1 in_X2 C.2.2.2.1 C.2.2.2.2.2.2 w.1 0 rfl rfl 7 (by decide) (C.2.2.2.2.1 _ q148) (fun _ h9 => h9) rfl hdg kk
theorem ml_inn (C : mC p s m args c cc nL D d dz dl A) (w : mW D A s a d dz dl inn tk ps rn cap big n gp H locs) {i : Nat} (hi : i < 64) (hdg : decode cc pc = .ok (.baload, 1)) (kk : W p l e R s m args below meth c H locs cells slots Q (F0 m (pc + 1) ls (.int (nI (inn i)) :: rest))) : W p l e R s m args below meth c H locs cells slots Q (F0 m pc ls (.int (nI i) :: .ref (a 1) :: rest)) := va_zald (f := nF inn) C.1 C.2.1 C.2.2.2.2.2.2 w.1 1 1 rfl rfl (vp_in_nI hi (by decide)) hdg (by rw [nI_clamp (by omega)]; exact kk)
theorem ms_inn (C : mC p s m args c cc nL D d dz dl A) (w : mW D A s a d dz dl inn tk ps rn cap big n gp H locs) {i v : Nat} (hv : v ≤ 1) (hi : i < 64) (hdg : decode cc pc = .ok (.bastore, 1)) (kk : ∀ (H1 : Heap) (locs1 : List Loc), mW D A s a d dz dl (va_up inn i v) tk ps rn cap big n gp H1 locs1 → W p l e R s m args below meth c H1 locs1 cells slots Q (F0 m (pc + 1) ls rest)) : W p l e R s m args below meth c H locs cells slots Q (F0 m pc ls (.int (nI v) :: .int (nI i) :: .ref (a 1) :: rest)) := va_zast (f := nF inn) C.1 C.2.1 C.2.2.2.2.2.2 w.1 w.2.1 w.2.2 1 1 rfl rfl (vp_in_nI hi (by decide)) hdg (fun H1 locs1 p1 d1 s1 => kk H1 locs1 ⟨by rw [nar_z hv, nF_upd (by omega)] at p1; exact p1, by rw [nar_z hv, nF_upd (by omega)] at d1; exact d1, s1⟩)
theorem ml_tk (C : mC p s m args c cc nL D d dz dl A) (w : mW D A s a d dz dl inn tk ps rn cap big n gp H locs) {i : Nat} (hi : i < 64) (hdg : decode cc pc = .ok (.iaload, 1)) (kk : W p l e R s m args below meth c H locs cells slots Q (F0 m (pc + 1) ls (.int (nI (tk i)) :: rest))) : W p l e R s m args below meth c H locs cells slots Q (F0 m pc ls (.int (nI i) :: .ref (a 2) :: rest)) := va_iald (f := nF tk) C.1 C.2.1 C.2.2.2.2.2.2 w.1 2 0 rfl rfl (vp_in_nI hi (by decide)) hdg (by rw [nI_clamp (by omega)]; exact kk)
theorem ms_tk (C : mC p s m args c cc nL D d dz dl A) (w : mW D A s a d dz dl inn tk ps rn cap big n gp H locs) {i v : Nat} (hi : i < 64) (hdg : decode cc pc = .ok (.iastore, 1)) (kk : ∀ (H1 : Heap) (locs1 : List Loc), mW D A s a d dz dl inn (va_up tk i v) ps rn cap big n gp H1 locs1 → W p l e R s m args below meth c H1 locs1 cells slots Q (F0 m (pc + 1) ls rest)) : W p l e R s m args below meth c H locs cells slots Q (F0 m pc ls (.int (nI v) :: .int (nI i) :: .ref (a 2) :: rest)) := va_iast (f := nF tk) C.1 C.2.1 C.2.2.2.2.2.2 w.1 w.2.1 w.2.2 2 0 rfl rfl (vp_in_nI hi (by decide)) hdg (fun H1 locs1 p1 d1 s1 => kk H1 locs1 ⟨by rw [nF_upd (by omega)] at p1; exact p1, by rw [nF_upd (by omega)] at d1; exact d1, s1⟩)
theorem ml_ps (C : mC p s m args c cc nL D d dz dl A) (w : mW D A s a d dz dl inn tk ps rn cap big n gp H locs) {i : Nat} (hi : i < 64) (hdg : decode cc pc = .ok (.laload, 1)) (kk : W p l e R s m args below meth c H locs cells slots Q (F0 m (pc + 1) ls (.long (lN (ps i)) :: rest))) : W p l e R s m args below meth c H locs cells slots Q (F0 m pc ls (.int (nI i) :: .ref (a 3) :: rest)) := va_lald (f := lF ps) C.1 C.2.1 C.2.2.2.2.2.2 w.1 3 2 rfl rfl (vp_in_nI hi (by decide)) hdg (by rw [nI_clamp (by omega)]; exact kk)
theorem ms_ps (C : mC p s m args c cc nL D d dz dl A) (w : mW D A s a d dz dl inn tk ps rn cap big n gp H locs) {i v : Nat} (hi : i < 64) (hdg : decode cc pc = .ok (.lastore, 1)) (kk : ∀ (H1 : Heap) (locs1 : List Loc), mW D A s a d dz dl inn tk (va_up ps i v) rn cap big n gp H1 locs1 → W p l e R s m args below meth c H1 locs1 cells slots Q (F0 m (pc + 1) ls rest)) : W p l e R s m args below meth c H locs cells slots Q (F0 m pc ls (.long (lN v) :: .int (nI i) :: .ref (a 3) :: rest)) := va_last (f := lF ps) C.1 C.2.1 C.2.2.2.2.2.2 w.1 w.2.1 w.2.2 3 2 rfl rfl (vp_in_nI hi (by decide)) hdg (fun H1 locs1 p1 d1 s1 => kk H1 locs1 ⟨by rw [lF_upd (by omega)] at p1; exact p1, by rw [lF_upd (by omega)] at d1; exact d1, s1⟩)
theorem ml_rn (C : mC p s m args c cc nL D d dz dl A) (w : mW D A s a d dz dl inn tk ps rn cap big n gp H locs) {i : Nat} (hi : i < 64) (hdg : decode cc pc = .ok (.iaload, 1)) (kk : W p l e R s m args below meth c H locs cells slots Q (F0 m (pc + 1) ls (.int (nI (rn i)) :: rest))) : W p l e R s m args below meth c H locs cells slots Q (F0 m pc ls (.int (nI i) :: .ref (a 4) :: rest)) := va_iald (f := nF rn) C.1 C.2.1 C.2.2.2.2.2.2 w.1 4 0 rfl rfl (vp_in_nI hi (by decide)) hdg (by rw [nI_clamp (by omega)]; exact kk)
theorem ms_rn (C : mC p s m args c cc nL D d dz dl A) (w : mW D A s a d dz dl inn tk ps rn cap big n gp H locs) {i v : Nat} (hi : i < 64) (hdg : decode cc pc = .ok (.iastore, 1)) (kk : ∀ (H1 : Heap) (locs1 : List Loc), mW D A s a d dz dl inn tk ps (va_up rn i v) cap big n gp H1 locs1 → W p l e R s m args below meth c H1 locs1 cells slots Q (F0 m (pc + 1) ls rest)) : W p l e R s m args below meth c H locs cells slots Q (F0 m pc ls (.int (nI v) :: .int (nI i) :: .ref (a 4) :: rest)) := va_iast (f := nF rn) C.1 C.2.1 C.2.2.2.2.2.2 w.1 w.2.1 w.2.2 4 0 rfl rfl (vp_in_nI hi (by decide)) hdg (fun H1 locs1 p1 d1 s1 => kk H1 locs1 ⟨by rw [nF_upd (by omega)] at p1; exact p1, by rw [nF_upd (by omega)] at d1; exact d1, s1⟩)
theorem mq_n (C : mC p s m args c cc nL D d dz dl A) (w : mW D A s a d dz dl inn tk ps rn cap big n gp H locs) {v : Nat} (hdg : decode cc pc = .ok (.putfield 50, 3)) (kk : ∀ (H1 : Heap) (locs1 : List Loc), mW D A s a d dz dl inn tk ps rn cap big v gp H1 locs1 → W p l e R s m args below meth c H1 locs1 cells slots Q (F0 m (pc + 3) ls rest)) : W p l e R s m args below meth c H locs cells slots Q (F0 m pc ls (.int (nI v) :: .ref (a 0) :: rest)) := va_put (D := D) (ci := 1) (v := .int (nI v)) (ty := .int) (C := RX2) (T := TX2) (N := 8) C.1 C.2.1 C.2.2.2.2.1 in_X2 tyX2 tyX2_ok nmX2 C.2.2.2.1 C.2.2.2.2.2.2 w.1 w.2.1 w.2.2 0 rfl rfl 6 (by decide) (C.2.2.2.2.1 _ q147) (fun _ h9 => h9) rfl (by decide +kernel) rfl rfl (Nat.le_of_ble_eq_true rfl) hdg (fun H1 locs1 p1 d1 s1 => kk H1 locs1 ⟨p1, d1, s1⟩)
theorem mq_gp (C : mC p s m args c cc nL D d dz dl A) (w : mW D A s a d dz dl inn tk ps rn cap big n gp H locs) {v : Nat} (hdg : decode cc pc = .ok (.putfield 46, 3)) (kk : ∀ (H1 : Heap) (locs1 : List Loc), mW D A s a d dz dl inn tk ps rn cap big n v H1 locs1 → W p l e R s m args below meth c H1 locs1 cells slots Q (F0 m (pc + 3) ls rest)) : W p l e R s m args below meth c H locs cells slots Q (F0 m pc ls (.long (lN v) :: .ref (a 0) :: rest)) := va_put (D := D) (ci := 1) (v := .long (lN v)) (ty := .long) (C := RX2) (T := TX2) (N := 8) C.1 C.2.1 C.2.2.2.2.1 in_X2 tyX2 tyX2_ok nmX2 C.2.2.2.1 C.2.2.2.2.2.2 w.1 w.2.1 w.2.2 0 rfl rfl 7 (by decide) (C.2.2.2.2.1 _ q148) (fun _ h9 => h9) rfl (by decide +kernel) rfl rfl (Nat.le_of_ble_eq_true rfl) hdg (fun H1 locs1 p1 d1 s1 => kk H1 locs1 ⟨p1, d1, s1⟩)
set_option maxHeartbeats 4000000 in
set_option maxRecDepth 100000 in
theorem mcall_i {y : MethodName} {bytes : ByteArray} {maxL index k : Nat} {rt : Option FieldType} {rm : Room} {As st0 : List Value} {u0 : MS} {Qp : Int32 → MS → Prop} (M : mMet y bytes maxL rt rm As u0 Qp) (C : mC p s m args c cc nL D d dz dl A) (cw : CallW R s args RX2 RX2 index y bytes maxL rt (ws_ y bytes maxL rt) rm 0 0 k) (w : mWs D A s a d dz dl u0 H locs) (hn : As.length = k) (hst : st0 = As.reverse ++ .ref (a 0) :: rest) (hrm : (rest.map fun v => v.category).sum ≤ 8) (hsz : ls.size = nL) (hdg : decode cc pc = .ok (.invokevirtual index, 3)) (hf : cells + 0 ≤ R.cells ∧ slots + 0 ≤ R.slots)
    (kk : ∀ (r : Int32) (u : MS) (H1 : Heap) (locs1 : List Loc), Qp r u → mWs D A s a d dz dl u H1 locs1 → W p l e R s m args below meth c H1 locs1 cells slots Q (F0 m (pc + 3) ls (.int r :: rest))) : W p l e R s m args below meth c H locs cells slots Q (F0 m pc ls st0) := by
  obtain ⟨hx, hb, hml, hown, hts, hA, hK⟩ := C
  obtain ⟨hP, hD, hS⟩ := w
  have hF := va_free (wc := wT a d dz dl u0) hD hS hA [0, 1, 2, 3, 4] rfl
  refine va_calli (va_runV (As := As) (rest := rest) ⟨hx, hb, hml, hown, hts⟩ (M l D a d dz dl H.size) cw ⟨fun a' U g mk q => by obtain ⟨q0, q1, qP, qK, qD⟩ := q; exact ⟨q0, q1, qP, va_K.moved (u := U) (U := U.calling g mk a') (Vm.Alike.refl U.vm) qK, qD⟩, va_recv hK hP (ci := 1) (q0 := 0) rfl rfl, fun U hU mW => ⟨rfl, by rw [hU], by rw [hU]; exact hP, va_K.moved mW.alike hK, hD.weaken (fun _ _ _ _ => trivial)⟩⟩ rfl hn hsz hst (lv_room hrm) hdg hf) hS (fun q _ h => hF q h) hF (fun r u t H1 locs1 ht hvm hq mB hz hk hS1 => ?_)
  obtain ⟨hP1, hK1, hD1⟩ := mB
  rw [ht] at hP1
  exact kk r u H1 locs1 hq ⟨hP1, hD1.weaken (fun _ q _ h => hF q.1 h), hS1⟩
set_option maxHeartbeats 4000000 in
set_option maxRecDepth 100000 in
theorem mcall_v {y : MethodName} {bytes : ByteArray} {maxL index k : Nat} {rm : Room} {As st0 : List Value} {u0 : MS} {Qp : MS → Prop} (M : mMetV y bytes maxL rm As u0 Qp) (C : mC p s m args c cc nL D d dz dl A) (cw : CallW R s args RX2 RX2 index y bytes maxL none (ws_ y bytes maxL none) rm 0 0 k) (w : mWs D A s a d dz dl u0 H locs) (hn : As.length = k) (hst : st0 = As.reverse ++ .ref (a 0) :: rest) (hrm : (rest.map fun v => v.category).sum ≤ 8) (hsz : ls.size = nL) (hdg : decode cc pc = .ok (.invokevirtual index, 3)) (hf : cells + 0 ≤ R.cells ∧ slots + 0 ≤ R.slots)
    (kk : ∀ (u : MS) (H1 : Heap) (locs1 : List Loc), Qp u → mWs D A s a d dz dl u H1 locs1 → W p l e R s m args below meth c H1 locs1 cells slots Q (F0 m (pc + 3) ls rest)) : W p l e R s m args below meth c H locs cells slots Q (F0 m pc ls st0) := by
  obtain ⟨hx, hb, hml, hown, hts, hA, hK⟩ := C
  obtain ⟨hP, hD, hS⟩ := w
  have hF := va_free (wc := wT a d dz dl u0) hD hS hA [0, 1, 2, 3, 4] rfl
  refine va_callv (va_runV (As := As) (rest := rest) ⟨hx, hb, hml, hown, hts⟩ (M l D a d dz dl H.size) cw ⟨fun a' U g mk q => by obtain ⟨q0, q1, qP, qK, qD⟩ := q; exact ⟨q0, q1, qP, va_K.moved (u := U) (U := U.calling g mk a') (Vm.Alike.refl U.vm) qK, qD⟩, va_recv hK hP (ci := 1) (q0 := 0) rfl rfl, fun U hU mW => ⟨rfl, by rw [hU], by rw [hU]; exact hP, va_K.moved mW.alike hK, hD.weaken (fun _ _ _ _ => trivial)⟩⟩ rfl hn hsz hst (lv_room hrm) hdg hf) hS (fun q _ h => hF q h) hF (fun u t H1 locs1 ht hvm hq mB hz hk hS1 => ?_)
  obtain ⟨hP1, hK1, hD1⟩ := mB
  rw [ht] at hP1
  exact kk u H1 locs1 hq ⟨hP1, hD1.weaken (fun _ q _ h => hF q.1 h), hS1⟩
end MR
end
section
/-! what the model computes, in plain functions -/
def oI : Option Nat → Int32
  | none => -1
  | some k => nI k
/-- the first one among the clients below k -/
def frF (inn ps : Nat → Nat) : Nat → Option Nat
  | 0 => none
  | k + 1 => match frF inn ps k with
    | none => if 0 < inn k then some k else none
    | some f => if 0 < inn k ∧ befB ps k f = true then some k else some f
def moF (inn ps : Nat → Nat) : Nat → Nat
  | 0 => 0
  | k + 1 => if 0 < inn k ∧ moF inn ps k < ps k then ps k else moF inn ps k
/-- how many below j stand before x -/
def rkF (inn ps : Nat → Nat) (x : Nat) : Nat → Nat
  | 0 => 0
  | j + 1 => if 0 < inn x ∧ 0 < inn j ∧ j ≠ x ∧ befB ps j x = true then rkF inn ps x j + 1 else rkF inn ps x j
def orF (inn ps : Nat → Nat) (cap k : Nat) : Nat → Nat → Int32
  | 0, _ => -1
  | f + 1, x => if 0 < inn x ∧ rkF inn ps x cap = k then nI x else orF inn ps cap k f (x + 1)
def fpF (o : Option Nat) (ps : Nat → Nat) (gp : Nat) : Nat := match o with
  | none => gp
  | some f => ps f
def isN (cap : Nat) (inn : Nat → Nat) (x : Int32) : Bool := isC cap x && decide (0 < inn x.toNatClampNeg)
def jnM : MS → Int32 → Int32 → Int32 × MS
  | (inn, tk, ps, rn, cap, big, n, gp), x, t =>
    if isC cap x = true then
      if 0 < inn x.toNatClampNeg then (-2, (inn, tk, ps, rn, cap, big, n, gp))
      else if isT big t = true then
        (nI 1, (va_up inn x.toNatClampNeg 1, va_up tk x.toNatClampNeg t.toNatClampNeg, va_up ps x.toNatClampNeg (fpF (frF inn ps cap) ps gp), rn, cap, big, n + 1, gp))
      else (-3, (inn, tk, ps, rn, cap, big, n, gp))
    else (-1, (inn, tk, ps, rn, cap, big, n, gp))
def lvM : MS → Int32 → Int32 × MS
  | (inn, tk, ps, rn, cap, big, n, gp), x =>
    if isC cap x = true then
      if 0 < inn x.toNatClampNeg then (nI 1, (va_up inn x.toNatClampNeg 0, tk, ps, rn, cap, big, n - 1, ps x.toNatClampNeg))
      else (-2, (inn, tk, ps, rn, cap, big, n, gp))
    else (-1, (inn, tk, ps, rn, cap, big, n, gp))
def nxM : MS → Int32 × MS
  | (inn, tk, ps, rn, cap, big, n, gp) => match frF inn ps cap with
    | none => (-1, (inn, tk, ps, rn, cap, big, n, gp))
    | some f => if 2147483647 < ps f + big / tk f then (-2, (inn, tk, ps, rn, cap, big, n, gp)) else (nI f, (inn, tk, va_up ps f (ps f + big / tk f), va_up rn f (rn f + 1), cap, big, n, gp))
def tuH : Nat → MS → Nat × MS
  | 0, u => (0, u)
  | f + 1, u => if 0 ≤ (nxM u).1 then ((tuH f (nxM u).2).1 + 1, (tuH f (nxM u).2).2) else (0, (nxM u).2)
def tuM (u : MS) (x : Int32) : Int32 × MS := if 1 ≤ x ∧ x ≤ 1000 then (nI (tuH x.toNatClampNeg u).1, (tuH x.toNatClampNeg u).2) else (-1, u)
def cgM : MS → Int32 → Int32 → Int32 × MS
  | (inn, tk, ps, rn, cap, big, n, gp), x, t =>
    if isC cap x = true then
      if 0 < inn x.toNatClampNeg then
        if isT big t = true then (nI (tk x.toNatClampNeg), (inn, va_up tk x.toNatClampNeg t.toNatClampNeg, ps, rn, cap, big, n, gp))
        else (-3, (inn, tk, ps, rn, cap, big, n, gp))
      else (-2, (inn, tk, ps, rn, cap, big, n, gp))
    else (-1, (inn, tk, ps, rn, cap, big, n, gp))
def raM : MS → Int32 → Int32 × MS
  | (inn, tk, ps, rn, cap, big, n, gp), x => (if isC cap x = true then nI (rn x.toNatClampNeg) else -1, (inn, tk, ps, rn, cap, big, n, gp))
def paM : MS → Int32 → Int32 × MS
  | (inn, tk, ps, rn, cap, big, n, gp), x => (if isN cap inn x = true then nI (ps x.toNatClampNeg) else -1, (inn, tk, ps, rn, cap, big, n, gp))
def sdM : MS → Int32 → Int32 × MS
  | (inn, tk, ps, rn, cap, big, n, gp), x => (if isN cap inn x = true then nI (big / tk x.toNatClampNeg) else -1, (inn, tk, ps, rn, cap, big, n, gp))
def clM : MS → Int32 × MS
  | (inn, tk, ps, rn, cap, big, n, gp) => (nI n, (inn, tk, ps, rn, cap, big, n, gp))
def spM : MS → Int32 × MS
  | (inn, tk, ps, rn, cap, big, n, gp) => (match frF inn ps cap with
    | none => -1
    | some f => nI (moF inn ps cap - ps f), (inn, tk, ps, rn, cap, big, n, gp))
def odM : MS → Int32 → Int32 × MS
  | (inn, tk, ps, rn, cap, big, n, gp), x => (if isC n x = true then orF inn ps cap x.toNatClampNeg cap 0 else -1, (inn, tk, ps, rn, cap, big, n, gp))
def mOk : MS → Prop
  | (inn, tk, ps, _, cap, big, n, gp) => cap ≤ 64 ∧ big ≤ 40000 ∧ n ≤ 64 ∧ gp < 2 ^ 31 ∧ (∀ i, inn i ≤ 1) ∧ (∀ i, tk i ≤ 40000) ∧ (∀ i, ps i < 2 ^ 31) ∧ ∀ i, 0 < inn i → 0 < tk i ∧ 0 < n
theorem fr_z {inn ps : Nat → Nat} {k : Nat} (h : inn k = 0) : frF inn ps (k + 1) = frF inn ps k := by
  rw [frF]
  cases frF inn ps k with
  | none => show (if 0 < inn k then _ else _) = _; rw [if_neg (by omega)]
  | some f => show (if 0 < inn k ∧ _ then _ else _) = _; rw [if_neg (by omega)]
theorem fr_n {inn ps : Nat → Nat} {k : Nat} (h : 0 < inn k) (h2 : frF inn ps k = none) : frF inn ps (k + 1) = some k := by
  rw [frF, h2]
  show (if 0 < inn k then _ else _) = _
  rw [if_pos h]
theorem fr_y {inn ps : Nat → Nat} {k f : Nat} (h : 0 < inn k) (h2 : frF inn ps k = some f) (h3 : befB ps k f = true) : frF inn ps (k + 1) = some k := by
  rw [frF, h2]
  show (if 0 < inn k ∧ _ then _ else _) = _
  rw [if_pos ⟨h, h3⟩]
theorem fr_f {inn ps : Nat → Nat} {k f : Nat} (h2 : frF inn ps k = some f) (h3 : befB ps k f = false) : frF inn ps (k + 1) = some f := by
  rw [frF, h2]
  show (if 0 < inn k ∧ _ then _ else _) = _
  rw [if_neg (fun q => by rw [h3] at q; exact absurd q.2 (by decide))]
theorem fr_in {inn ps : Nat → Nat} : ∀ {k f : Nat}, frF inn ps k = some f → f < k ∧ 0 < inn f
  | 0, f, h => by cases h
  | k + 1, f, h => by
    by_cases hi : inn k = 0
    · rw [fr_z hi] at h
      have := fr_in h
      exact ⟨by omega, this.2⟩
    · cases hf : frF inn ps k with
      | none =>
        rw [fr_n (by omega) hf] at h
        cases h
        exact ⟨by omega, by omega⟩
      | some g =>
        cases hb : befB ps k g with
        | true =>
          rw [fr_y (by omega) hf hb] at h
          cases h
          exact ⟨by omega, by omega⟩
        | false =>
          rw [fr_f hf hb] at h
          cases h
          have := fr_in hf
          exact ⟨by omega, this.2⟩
theorem mo_y {inn ps : Nat → Nat} {k : Nat} (h : 0 < inn k) (h2 : moF inn ps k < ps k) : moF inn ps (k + 1) = ps k := by
  rw [moF, if_pos ⟨h, h2⟩]
theorem mo_z {inn ps : Nat → Nat} {k : Nat} (h : inn k = 0) : moF inn ps (k + 1) = moF inn ps k := by
  rw [moF, if_neg (by omega)]
theorem mo_n {inn ps : Nat → Nat} {k : Nat} (h2 : ps k ≤ moF inn ps k) : moF inn ps (k + 1) = moF inn ps k := by
  rw [moF, if_neg (by omega)]
theorem mo_lt {inn ps : Nat → Nat} {b : Nat} (hb : 0 < b) (h : ∀ i, ps i < b) : ∀ k, moF inn ps k < b
  | 0 => hb
  | k + 1 => by
    have h1 := mo_lt hb h (inn := inn) k
    have h2 := h k
    unfold moF
    split
    · exact h2
    · exact h1
theorem mo_ge {inn ps : Nat → Nat} : ∀ (k f : Nat), f < k → 0 < inn f → ps f ≤ moF inn ps k
  | 0, f, h, _ => by omega
  | k + 1, f, h, hi => by
    unfold moF
    by_cases e : f = k
    · subst e
      split <;> omega
    · have := mo_ge (ps := ps) k f (by omega) hi
      split <;> omega
theorem rk_le {inn ps : Nat → Nat} {x : Nat} : ∀ j, rkF inn ps x j ≤ j
  | 0 => Nat.le_refl _
  | j + 1 => by
    have := rk_le (inn := inn) (ps := ps) (x := x) j
    unfold rkF
    split <;> omega
theorem rk_y {inn ps : Nat → Nat} {x j : Nat} (h1 : 0 < inn x) (h2 : 0 < inn j) (h3 : j ≠ x) (h4 : befB ps j x = true) : rkF inn ps x (j + 1) = rkF inn ps x j + 1 := by
  rw [rkF, if_pos ⟨h1, h2, h3, h4⟩]
theorem rk_1 {inn ps : Nat → Nat} {x j : Nat} (h : inn x = 0) : rkF inn ps x (j + 1) = rkF inn ps x j := by
  rw [rkF, if_neg (fun q => by omega)]
theorem rk_2 {inn ps : Nat → Nat} {x j : Nat} (h : inn j = 0) : rkF inn ps x (j + 1) = rkF inn ps x j := by
  rw [rkF, if_neg (fun q => by omega)]
theorem rk_3 {inn ps : Nat → Nat} {x j : Nat} (h : j = x) : rkF inn ps x (j + 1) = rkF inn ps x j := by
  rw [rkF, if_neg (fun q => q.2.2.1 h)]
theorem rk_4 {inn ps : Nat → Nat} {x j : Nat} (h : befB ps j x = false) : rkF inn ps x (j + 1) = rkF inn ps x j := by
  rw [rkF, if_neg (fun q => by rw [h] at q; exact absurd q.2.2.2 (by decide))]
theorem or_y {inn ps : Nat → Nat} {cap k f x : Nat} (h : 0 < inn x) (h2 : rkF inn ps x cap = k) : orF inn ps cap k (f + 1) x = nI x := by
  rw [orF, if_pos ⟨h, h2⟩]
theorem or_1 {inn ps : Nat → Nat} {cap k f x : Nat} (h : inn x = 0) : orF inn ps cap k (f + 1) x = orF inn ps cap k f (x + 1) := by
  rw [orF, if_neg (fun q => by omega)]
theorem or_2 {inn ps : Nat → Nat} {cap k f x : Nat} (h : rkF inn ps x cap ≠ k) : orF inn ps cap k (f + 1) x = orF inn ps cap k f (x + 1) := by
  rw [orF, if_neg (fun q => h q.2)]
theorem tv_y {f : Nat} {u : MS} (h : ¬ (nxM u).1 < 0) : tuH (f + 1) u = ((tuH f (nxM u).2).1 + 1, (tuH f (nxM u).2).2) := by
  rw [tuH, if_pos (Int32.not_lt.mp h)]
theorem tv_n {f : Nat} {u : MS} (h : (nxM u).1 < 0) : tuH (f + 1) u = (0, (nxM u).2) := by
  rw [tuH, if_neg (Int32.not_le.mpr h)]
theorem nxM_ok {u : MS} (h : mOk u) : mOk (nxM u).2 := by
  obtain ⟨inn, tk, ps, rn, cap, big, n, gp⟩ := u
  have hok := h
  obtain ⟨h1, h2, h3, h4, h5, h6, h7, h8⟩ := h
  unfold nxM
  dsimp only
  cases hf : frF inn ps cap with
  | none => exact hok
  | some f =>
    show mOk (if _ then _ else _ : Int32 × MS).2
    by_cases c2 : 2147483647 < ps f + big / tk f
    · rw [if_pos c2]; exact hok
    · rw [if_neg c2]
      exact ⟨h1, h2, h3, h4, h5, h6, up_lt h7 (by omega), h8⟩
end
section
set_option maxHeartbeats 4000000 in
set_option maxRecDepth 100000 in
/-- the model: isBefore(x, y) -/
theorem metM_isBefore {inn tk ps rn : Nat → Nat} {cap big n gp : Nat} {x y : Nat} (hps : ∀ i, ps i < 2 ^ 31) (hx1 : x < 64) (hy1 : y < 64) : mMet yX2_isBefore cX2_isBefore 3 (some .boolean) { frames := 0, cells := 0, slots := 0, locals := 0 } [.int (nI x), .int (nI y)] (inn, tk, ps, rn, cap, big, n, gp) (fun r u => r = bI (befB ps x y) ∧ u = (inn, tk, ps, rn, cap, big, n, gp)) := by
  refine mMet_z (by decide) rfl (fun _ => Nat.le_of_ble_eq_true rfl) ?_
  intro p l e s m args below meth c D a d dz dl A Q ls C hret w hl
  have hx := C.1
  have hb := C.2.1
  have w : mW D A s a d dz dl inn tk ps rn cap big n gp s.heap [] := w
  have hl : lv_has ls 3 [(0, .ref (a 0)), (1, .int (nI x)), (2, .int (nI y))] := hl
  refine lv_aload_n hx hb dX2_isBefore_0 rfl (lv_at hl 0 rfl) ?_
  refine mg_ps C w dX2_isBefore_1 ?_
  refine lv_iload_n hx hb dX2_isBefore_4 rfl (lv_at hl 1 rfl) ?_
  refine ml_ps C w (by omega) dX2_isBefore_5 ?_
  refine lv_aload_n hx hb dX2_isBefore_6 rfl (lv_at hl 0 rfl) ?_
  refine mg_ps C w dX2_isBefore_7 ?_
  refine lv_iload_n hx hb dX2_isBefore_10 rfl (lv_at hl 2 rfl) ?_
  refine ml_ps C w (by omega) dX2_isBefore_11 ?_
  refine W.lcmp hx hb dX2_isBefore_12 ?_
  refine l_if_lt (tgt := 37) hx hb (hps _) (hps _) dX2_isBefore_13 (by decide) (fun c13 => ?_) (fun c13 => ?_)
  · refine lv_iconst (v := bI true) hx hb dX2_isBefore_37 (by decide +kernel) ?_
    refine lv_goto (tgt := 42) hx hb dX2_isBefore_38 (by decide) ?_
    exact hret true _ _ _ _ _ ⟨congrArg bI (decide_eq_true (by omega)).symm, rfl⟩ w dX2_isBefore_42
  · refine lv_aload_n hx hb dX2_isBefore_16 rfl (lv_at hl 0 rfl) ?_
    refine mg_ps C w dX2_isBefore_17 ?_
    refine lv_iload_n hx hb dX2_isBefore_20 rfl (lv_at hl 1 rfl) ?_
    refine ml_ps C w (by omega) dX2_isBefore_21 ?_
    refine lv_aload_n hx hb dX2_isBefore_22 rfl (lv_at hl 0 rfl) ?_
    refine mg_ps C w dX2_isBefore_23 ?_
    refine lv_iload_n hx hb dX2_isBefore_26 rfl (lv_at hl 2 rfl) ?_
    refine ml_ps C w (by omega) dX2_isBefore_27 ?_
    refine W.lcmp hx hb dX2_isBefore_28 ?_
    refine l_if_ne (tgt := 41) hx hb (hps _) (hps _) dX2_isBefore_29 (by decide) (fun c29 => ?_) (fun c29 => ?_)
    · refine lv_iconst (v := bI false) hx hb dX2_isBefore_41 (by decide +kernel) ?_
      exact hret false _ _ _ _ _ ⟨congrArg bI (decide_eq_false (by omega)).symm, rfl⟩ w dX2_isBefore_42
    · refine lv_iload_n hx hb dX2_isBefore_32 rfl (lv_at hl 1 rfl) ?_
      refine lv_iload_n hx hb dX2_isBefore_33 rfl (lv_at hl 2 rfl) ?_
      refine n_icmp_ge (tgt := 41) hx hb (by omega) (by omega) dX2_isBefore_34 (by decide) (fun c34 => ?_) (fun c34 => ?_)
      · refine lv_iconst (v := bI false) hx hb dX2_isBefore_41 (by decide +kernel) ?_
        exact hret false _ _ _ _ _ ⟨congrArg bI (decide_eq_false (by omega)).symm, rfl⟩ w dX2_isBefore_42
      · refine lv_iconst (v := bI true) hx hb dX2_isBefore_37 (by decide +kernel) ?_
        refine lv_goto (tgt := 42) hx hb dX2_isBefore_38 (by decide) ?_
        exact hret true _ _ _ _ _ ⟨congrArg bI (decide_eq_true (by omega)).symm, rfl⟩ w dX2_isBefore_42
set_option maxHeartbeats 4000000 in
theorem callM_isBefore {p : Program} {l : Launch} {e : Env} {R : Room} {s : State} {m : MethodId} {args : Array Value} {below : List Frame} {meth : Method} {c : Code} {H : Heap} {locs : List Loc} {cells slots : Nat} {Q : State → Prop} {cc : ByteArray} {pc : Nat} {ls : Array Slot} {rest : List Value} {D : va_G} {A : Nat → Prop} {a : Nat → Nat} {d dz dl : ClassId} {nL : Nat} {inn tk ps rn : Nat → Nat} {cap big n gp : Nat} {x y : Nat} (C : mC p s m args c cc nL D d dz dl A) (w : mW D A s a d dz dl inn tk ps rn cap big n gp H locs) (hps : ∀ i, ps i < 2 ^ 31) (hx1 : x < 64) (hy1 : y < 64) (hR : 0 + 1 ≤ R.frames ∧ 8 + (3 + 11) + 0 ≤ R.locals) (hrm : (rest.map fun v => v.category).sum ≤ 8) (hsz : ls.size = nL) (hdg : decode cc pc = .ok (.invokevirtual 35, 3)) (hf : cells + 0 ≤ R.cells ∧ slots + 0 ≤ R.slots)
    (kk : ∀ (H1 : Heap) (locs1 : List Loc), mW D A s a d dz dl inn tk ps rn cap big n gp H1 locs1 → W p l e R s m args below meth c H1 locs1 cells slots Q (F0 m (pc + 3) ls (.int (bI (befB ps x y)) :: rest))) : W p l e R s m args below meth c H locs cells slots Q (F0 m pc ls (.int (nI y) :: .int (nI x) :: .ref (a 0) :: rest)) :=
  mcall_i (As := [.int (nI x), .int (nI y)]) (metM_isBefore hps hx1 hy1) C (cwV 2 C.2.2.2.2.1 (lw_V q184 q186 qs10 q14 q187) rfl rfl rfl (by decide +kernel) hR) w rfl rfl hrm hsz hdg hf (fun r u H1 locs1 hq w1 => by obtain ⟨rfl, rfl⟩ := hq; exact kk H1 locs1 w1)
set_option maxHeartbeats 4000000 in
set_option maxRecDepth 100000 in
/-- the model: isClient(x) -/
theorem metM_isClient {inn tk ps rn : Nat → Nat} {cap big n gp : Nat} {x : Int32} : mMet yX2_isClient cX2_isClient 2 (some .boolean) { frames := 0, cells := 0, slots := 0, locals := 0 } [.int x] (inn, tk, ps, rn, cap, big, n, gp) (fun r u => r = bI (isC cap x) ∧ u = (inn, tk, ps, rn, cap, big, n, gp)) := by
  refine mMet_z (by decide) rfl (fun _ => Nat.le_of_ble_eq_true rfl) ?_
  intro p l e s m args below meth c D a d dz dl A Q ls C hret w hl
  have hx := C.1
  have hb := C.2.1
  have w : mW D A s a d dz dl inn tk ps rn cap big n gp s.heap [] := w
  have hl : lv_has ls 2 [(0, .ref (a 0)), (1, .int x)] := hl
  refine lv_iload_n hx hb dX2_isClient_0 rfl (lv_at hl 1 rfl) ?_
  refine lv_if_lt (tgt := 16) hx hb dX2_isClient_1 (by decide) (fun c1 => ?_) (fun c1 => ?_)
  · refine lv_iconst (v := bI false) hx hb dX2_isClient_16 (by decide +kernel) ?_
    exact hret false _ _ _ _ _ ⟨(congrArg bI (isC_lt c1)).symm, rfl⟩ w dX2_isClient_17
  · refine lv_iload_n hx hb dX2_isClient_4 rfl (lv_at hl 1 rfl) ?_
    refine lv_aload_n hx hb dX2_isClient_5 rfl (lv_at hl 0 rfl) ?_
    refine mg_cap C w dX2_isClient_6 ?_
    refine lv_icmp_ge (tgt := 16) hx hb dX2_isClient_9 (by decide) (fun c9 => ?_) (fun c9 => ?_)
    · refine lv_iconst (v := bI false) hx hb dX2_isClient_16 (by decide +kernel) ?_
      exact hret false _ _ _ _ _ ⟨(congrArg bI (isC_ge c9)).symm, rfl⟩ w dX2_isClient_17
    · refine lv_iconst (v := bI true) hx hb dX2_isClient_12 (by decide +kernel) ?_
      refine lv_goto (tgt := 17) hx hb dX2_isClient_13 (by decide) ?_
      exact hret true _ _ _ _ _ ⟨(congrArg bI (isC_of c1 c9)).symm, rfl⟩ w dX2_isClient_17
set_option maxHeartbeats 4000000 in
theorem callM_isClient {p : Program} {l : Launch} {e : Env} {R : Room} {s : State} {m : MethodId} {args : Array Value} {below : List Frame} {meth : Method} {c : Code} {H : Heap} {locs : List Loc} {cells slots : Nat} {Q : State → Prop} {cc : ByteArray} {pc : Nat} {ls : Array Slot} {rest : List Value} {D : va_G} {A : Nat → Prop} {a : Nat → Nat} {d dz dl : ClassId} {nL : Nat} {inn tk ps rn : Nat → Nat} {cap big n gp : Nat} {x : Int32} (C : mC p s m args c cc nL D d dz dl A) (w : mW D A s a d dz dl inn tk ps rn cap big n gp H locs)  (hR : 0 + 1 ≤ R.frames ∧ 8 + (2 + 11) + 0 ≤ R.locals) (hrm : (rest.map fun v => v.category).sum ≤ 8) (hsz : ls.size = nL) (hdg : decode cc pc = .ok (.invokevirtual 31, 3)) (hf : cells + 0 ≤ R.cells ∧ slots + 0 ≤ R.slots)
    (kk : ∀ (H1 : Heap) (locs1 : List Loc), mW D A s a d dz dl inn tk ps rn cap big n gp H1 locs1 → W p l e R s m args below meth c H1 locs1 cells slots Q (F0 m (pc + 3) ls (.int (bI (isC cap x)) :: rest))) : W p l e R s m args below meth c H locs cells slots Q (F0 m pc ls (.int x :: .ref (a 0) :: rest)) :=
  mcall_i (As := [.int x]) (metM_isClient ) C (cwV 1 C.2.2.2.2.1 (lw_V q172 q174 qs7 q14 q175) rfl rfl rfl (by decide +kernel) hR) w rfl rfl hrm hsz hdg hf (fun r u H1 locs1 hq w1 => by obtain ⟨rfl, rfl⟩ := hq; exact kk H1 locs1 w1)
set_option maxHeartbeats 4000000 in
set_option maxRecDepth 100000 in
/-- the model: areTickets(t) -/
theorem metM_areTickets {inn tk ps rn : Nat → Nat} {cap big n gp : Nat} {t : Int32} : mMet yX2_areTickets cX2_areTickets 2 (some .boolean) { frames := 0, cells := 0, slots := 0, locals := 0 } [.int t] (inn, tk, ps, rn, cap, big, n, gp) (fun r u => r = bI (isT big t) ∧ u = (inn, tk, ps, rn, cap, big, n, gp)) := by
  refine mMet_z (by decide) rfl (fun _ => Nat.le_of_ble_eq_true rfl) ?_
  intro p l e s m args below meth c D a d dz dl A Q ls C hret w hl
  have hx := C.1
  have hb := C.2.1
  have w : mW D A s a d dz dl inn tk ps rn cap big n gp s.heap [] := w
  have hl : lv_has ls 2 [(0, .ref (a 0)), (1, .int t)] := hl
  refine lv_iload_n hx hb dX2_areTickets_0 rfl (lv_at hl 1 rfl) ?_
  refine lv_if_le (tgt := 16) hx hb dX2_areTickets_1 (by decide) (fun c1 => ?_) (fun c1 => ?_)
  · refine lv_iconst (v := bI false) hx hb dX2_areTickets_16 (by decide +kernel) ?_
    exact hret false _ _ _ _ _ ⟨(congrArg bI (isT_le c1)).symm, rfl⟩ w dX2_areTickets_17
  · refine lv_iload_n hx hb dX2_areTickets_4 rfl (lv_at hl 1 rfl) ?_
    refine lv_aload_n hx hb dX2_areTickets_5 rfl (lv_at hl 0 rfl) ?_
    refine mg_big C w dX2_areTickets_6 ?_
    refine lv_icmp_ge (tgt := 16) hx hb dX2_areTickets_9 (by decide) (fun c9 => ?_) (fun c9 => ?_)
    · refine lv_iconst (v := bI false) hx hb dX2_areTickets_16 (by decide +kernel) ?_
      exact hret false _ _ _ _ _ ⟨(congrArg bI (isT_ge c9)).symm, rfl⟩ w dX2_areTickets_17
    · refine lv_iconst (v := bI true) hx hb dX2_areTickets_12 (by decide +kernel) ?_
      refine lv_goto (tgt := 17) hx hb dX2_areTickets_13 (by decide) ?_
      exact hret true _ _ _ _ _ ⟨(congrArg bI (isT_of c1 c9)).symm, rfl⟩ w dX2_areTickets_17
set_option maxHeartbeats 4000000 in
theorem callM_areTickets {p : Program} {l : Launch} {e : Env} {R : Room} {s : State} {m : MethodId} {args : Array Value} {below : List Frame} {meth : Method} {c : Code} {H : Heap} {locs : List Loc} {cells slots : Nat} {Q : State → Prop} {cc : ByteArray} {pc : Nat} {ls : Array Slot} {rest : List Value} {D : va_G} {A : Nat → Prop} {a : Nat → Nat} {d dz dl : ClassId} {nL : Nat} {inn tk ps rn : Nat → Nat} {cap big n gp : Nat} {t : Int32} (C : mC p s m args c cc nL D d dz dl A) (w : mW D A s a d dz dl inn tk ps rn cap big n gp H locs)  (hR : 0 + 1 ≤ R.frames ∧ 8 + (2 + 11) + 0 ≤ R.locals) (hrm : (rest.map fun v => v.category).sum ≤ 8) (hsz : ls.size = nL) (hdg : decode cc pc = .ok (.invokevirtual 39, 3)) (hf : cells + 0 ≤ R.cells ∧ slots + 0 ≤ R.slots)
    (kk : ∀ (H1 : Heap) (locs1 : List Loc), mW D A s a d dz dl inn tk ps rn cap big n gp H1 locs1 → W p l e R s m args below meth c H1 locs1 cells slots Q (F0 m (pc + 3) ls (.int (bI (isT big t)) :: rest))) : W p l e R s m args below meth c H locs cells slots Q (F0 m pc ls (.int t :: .ref (a 0) :: rest)) :=
  mcall_i (As := [.int t]) (metM_areTickets ) C (cwV 1 C.2.2.2.2.1 (lw_V q176 q178 qs8 q14 q179) rfl rfl rfl (by decide +kernel) hR) w rfl rfl hrm hsz hdg hf (fun r u H1 locs1 hq w1 => by obtain ⟨rfl, rfl⟩ := hq; exact kk H1 locs1 w1)
set_option maxHeartbeats 4000000 in
set_option maxRecDepth 100000 in
/-- the model: isIn(x) -/
theorem metM_isIn {inn tk ps rn : Nat → Nat} {cap big n gp : Nat} {x : Int32} (hcap : cap ≤ 64) (hin : ∀ i, inn i ≤ 1) : mMet yX2_isIn cX2_isIn 2 (some .boolean) { frames := 1, cells := 0, slots := 0, locals := 21 } [.int x] (inn, tk, ps, rn, cap, big, n, gp) (fun r u => r = bI (isN cap inn x) ∧ u = (inn, tk, ps, rn, cap, big, n, gp)) := by
  refine mMet_z (by decide) rfl (fun _ => Nat.le_of_ble_eq_true rfl) ?_
  intro p l e s m args below meth c D a d dz dl A Q ls C hret w hl
  have hx := C.1
  have hb := C.2.1
  have w : mW D A s a d dz dl inn tk ps rn cap big n gp s.heap [] := w
  have hl : lv_has ls 2 [(0, .ref (a 0)), (1, .int x)] := hl
  refine lv_aload_n hx hb dX2_isIn_0 rfl (lv_at hl 0 rfl) ?_
  refine lv_iload_n hx hb dX2_isIn_1 rfl (lv_at hl 1 rfl) ?_
  refine callM_isClient (x := x) C w ⟨Nat.le_of_ble_eq_true rfl, Nat.le_of_ble_eq_true rfl⟩ (Nat.le_of_ble_eq_true rfl) hl.1 dX2_isIn_2 ⟨Nat.le_refl _, Nat.le_refl _⟩ (fun H locs w => ?_)
  refine b_if_eq (tgt := 21) hx hb dX2_isIn_5 (by decide) (fun c5 => ?_) (fun c5 => ?_)
  · refine lv_iconst (v := bI false) hx hb dX2_isIn_21 (by decide +kernel) ?_
    exact hret false _ _ _ _ _ ⟨congrArg bI (by rw [isN, c5]; rfl), rfl⟩ w dX2_isIn_22
  · obtain ⟨k, hk, rfl⟩ := isC_true c5 (by omega)
    have hcl : (nI k).toNatClampNeg = k := nI_clamp (by omega)
    refine lv_aload_n hx hb dX2_isIn_8 rfl (lv_at hl 0 rfl) ?_
    refine mg_inn C w dX2_isIn_9 ?_
    refine lv_iload_n hx hb dX2_isIn_12 rfl (lv_at hl 1 rfl) ?_
    refine ml_inn C w (by omega) dX2_isIn_13 ?_
    refine n_if_eq (tgt := 21) hx hb (by have := hin (k); omega) dX2_isIn_14 (by decide) (fun c14 => ?_) (fun c14 => ?_)
    · refine lv_iconst (v := bI false) hx hb dX2_isIn_21 (by decide +kernel) ?_
      exact hret false _ _ _ _ _ ⟨congrArg bI (by rw [isN, hcl, c5, decide_eq_false (by omega)]; rfl), rfl⟩ w dX2_isIn_22
    · refine lv_iconst (v := bI true) hx hb dX2_isIn_17 (by decide +kernel) ?_
      refine lv_goto (tgt := 22) hx hb dX2_isIn_18 (by decide) ?_
      exact hret true _ _ _ _ _ ⟨congrArg bI (by rw [isN, hcl, c5, decide_eq_true c14]; rfl), rfl⟩ w dX2_isIn_22
set_option maxHeartbeats 4000000 in
theorem callM_isIn {p : Program} {l : Launch} {e : Env} {R : Room} {s : State} {m : MethodId} {args : Array Value} {below : List Frame} {meth : Method} {c : Code} {H : Heap} {locs : List Loc} {cells slots : Nat} {Q : State → Prop} {cc : ByteArray} {pc : Nat} {ls : Array Slot} {rest : List Value} {D : va_G} {A : Nat → Prop} {a : Nat → Nat} {d dz dl : ClassId} {nL : Nat} {inn tk ps rn : Nat → Nat} {cap big n gp : Nat} {x : Int32} (C : mC p s m args c cc nL D d dz dl A) (w : mW D A s a d dz dl inn tk ps rn cap big n gp H locs) (hcap : cap ≤ 64) (hin : ∀ i, inn i ≤ 1) (hR : 1 + 1 ≤ R.frames ∧ 8 + (2 + 11) + 21 ≤ R.locals) (hrm : (rest.map fun v => v.category).sum ≤ 8) (hsz : ls.size = nL) (hdg : decode cc pc = .ok (.invokevirtual 58, 3)) (hf : cells + 0 ≤ R.cells ∧ slots + 0 ≤ R.slots)
    (kk : ∀ (H1 : Heap) (locs1 : List Loc), mW D A s a d dz dl inn tk ps rn cap big n gp H1 locs1 → W p l e R s m args below meth c H1 locs1 cells slots Q (F0 m (pc + 3) ls (.int (bI (isN cap inn x)) :: rest))) : W p l e R s m args below meth c H locs cells slots Q (F0 m pc ls (.int x :: .ref (a 0) :: rest)) :=
  mcall_i (As := [.int x]) (metM_isIn hcap hin) C (cwV 1 C.2.2.2.2.1 (lw_V q214 q216 qs11 q14 q217) rfl rfl rfl (by decide +kernel) hR) w rfl rfl hrm hsz hdg hf (fun r u H1 locs1 hq w1 => by obtain ⟨rfl, rfl⟩ := hq; exact kk H1 locs1 w1)
set_option maxHeartbeats 4000000 in
set_option maxRecDepth 100000 in
/-- the model: first() -/
theorem metM_first {inn tk ps rn : Nat → Nat} {cap big n gp : Nat} (hcap : cap ≤ 64) (hin : ∀ i, inn i ≤ 1) (hps : ∀ i, ps i < 2 ^ 31) : mMet yX2_first cX2_first 3 (some .int) { frames := 1, cells := 0, slots := 0, locals := 22 } [] (inn, tk, ps, rn, cap, big, n, gp) (fun r u => r = oI (frF inn ps cap) ∧ u = (inn, tk, ps, rn, cap, big, n, gp)) := by
  refine mMet_i (by decide) rfl (fun _ => Nat.le_of_ble_eq_true rfl) ?_
  intro p l e s m args below meth c D a d dz dl A Q ls C hret w hl
  have hx := C.1
  have hb := C.2.1
  have w : mW D A s a d dz dl inn tk ps rn cap big n gp s.heap [] := w
  have hl : lv_has ls 3 [(0, .ref (a 0))] := hl
  have loop : ∀ (f k : Nat) (H : Heap) (locs : List Loc) (ls : Array Slot), k + f = cap → mW D A s a d dz dl inn tk ps rn cap big n gp H locs → lv_has ls 3 [(2, .int (nI k)), (1, .int (oI (frF inn ps k))), (0, .ref (a 0))] → W p l e { frames := 1, cells := 0, slots := 0, locals := 22 } s m args below meth c H locs 0 0 Q (F0 m 4 ls []) := by
    clear w hl
    intro f
    induction f with
    | zero =>
      intro k H locs ls hkf w hl
      refine lv_iload_n hx hb dX2_first_4 rfl (lv_at hl 0 rfl) ?_
      refine lv_aload_n hx hb dX2_first_5 rfl (lv_at hl 2 rfl) ?_
      refine mg_cap C w dX2_first_6 ?_
      refine n_icmp_ge (tgt := 42) hx hb (by omega) (by omega) dX2_first_9 (by decide) (fun c9 => ?_) (fun c9 => ?_)
      · refine lv_iload_n hx hb dX2_first_42 rfl (lv_at hl 1 rfl) ?_
        exact hret _ _ _ _ _ _ ⟨by rw [show frF inn ps cap = frF inn ps k from by rw [(by omega : cap = k)]], rfl⟩ w dX2_first_43
      · exact absurd c9 (by omega)
    | succ f ih =>
      intro k H locs ls hkf w hl
      refine lv_iload_n hx hb dX2_first_4 rfl (lv_at hl 0 rfl) ?_
      refine lv_aload_n hx hb dX2_first_5 rfl (lv_at hl 2 rfl) ?_
      refine mg_cap C w dX2_first_6 ?_
      refine n_icmp_ge (tgt := 42) hx hb (by omega) (by omega) dX2_first_9 (by decide) (fun c9 => ?_) (fun c9 => ?_)
      · exact absurd c9 (by omega)
      · refine lv_aload_n hx hb dX2_first_12 rfl (lv_at hl 2 rfl) ?_
        refine mg_inn C w dX2_first_13 ?_
        refine lv_iload_n hx hb dX2_first_16 rfl (lv_at hl 0 rfl) ?_
        refine ml_inn C w (by omega) dX2_first_17 ?_
        refine n_if_eq (tgt := 36) hx hb (by have := hin (k); omega) dX2_first_18 (by decide) (fun c18 => ?_) (fun c18 => ?_)
        · refine lv_iinc (v := nI (k + 1)) (lv' := [(2, .int (nI (k + 1))), (1, .int (oI (frF inn ps k))), (0, .ref (a 0))]) hx hb dX2_first_36 hl (k := 0) rfl (nI_1 _) (by decide) rfl (fun ls hl => ?_)
          refine lv_goto (tgt := 4) hx hb dX2_first_39 (by decide) ?_
          exact ih (k + 1) _ _ _ (by omega) w (by rw [fr_z c18]; exact lv_sub hl [0, 1, 2] rfl)
        · rcases ho : frF inn ps k with _ | b
          · rw [ho] at hl
            have hl : lv_has ls 3 [(2, .int (nI k)), (1, .int (-1)), (0, .ref (a 0))] := hl
            refine lv_iload_n hx hb dX2_first_21 rfl (lv_at hl 1 rfl) ?_
            refine lv_if_lt (tgt := 34) hx hb dX2_first_22 (by decide) (fun c22 => ?_) (fun c22 => ?_)
            · refine lv_iload_n hx hb dX2_first_34 rfl (lv_at hl 0 rfl) ?_
              refine lv_istore_n (lv' := [(1, .int (nI k)), (2, .int (nI k)), (0, .ref (a 0))]) hx hb dX2_first_35 rfl hl (by decide) rfl (fun ls hl => ?_)
              refine lv_iinc (v := nI (k + 1)) (lv' := [(2, .int (nI (k + 1))), (1, .int (nI k)), (0, .ref (a 0))]) hx hb dX2_first_36 hl (k := 1) rfl (nI_1 _) (by decide) rfl (fun ls hl => ?_)
              refine lv_goto (tgt := 4) hx hb dX2_first_39 (by decide) ?_
              exact ih (k + 1) _ _ _ (by omega) w (by rw [fr_n c18 ho]; exact lv_sub hl [0, 1, 2] rfl)
            · exact absurd (by decide) c22
          · rw [ho] at hl
            have hl : lv_has ls 3 [(2, .int (nI k)), (1, .int (nI b)), (0, .ref (a 0))] := hl
            have hf1 := fr_in ho
            refine lv_iload_n hx hb dX2_first_21 rfl (lv_at hl 1 rfl) ?_
            refine n_if_lt (tgt := 34) hx hb (by omega) dX2_first_22 (by decide) (fun c22 => ?_) (fun c22 => ?_)
            · exact absurd c22 (Nat.not_lt_zero _)
            · refine lv_aload_n hx hb dX2_first_25 rfl (lv_at hl 2 rfl) ?_
              refine lv_iload_n hx hb dX2_first_26 rfl (lv_at hl 0 rfl) ?_
              refine lv_iload_n hx hb dX2_first_27 rfl (lv_at hl 1 rfl) ?_
              refine callM_isBefore C w hps (by omega) (by omega) ⟨Nat.le_of_ble_eq_true rfl, Nat.le_of_ble_eq_true rfl⟩ (Nat.le_of_ble_eq_true rfl) hl.1 dX2_first_28 ⟨Nat.le_refl _, Nat.le_refl _⟩ (fun H locs w => ?_)
              refine b_if_eq (tgt := 36) hx hb dX2_first_31 (by decide) (fun c31 => ?_) (fun c31 => ?_)
              · refine lv_iinc (v := nI (k + 1)) (lv' := [(2, .int (nI (k + 1))), (1, .int (nI b)), (0, .ref (a 0))]) hx hb dX2_first_36 hl (k := 0) rfl (nI_1 _) (by decide) rfl (fun ls hl => ?_)
                refine lv_goto (tgt := 4) hx hb dX2_first_39 (by decide) ?_
                exact ih (k + 1) _ _ _ (by omega) w (by rw [fr_f ho c31]; exact lv_sub hl [0, 1, 2] rfl)
              · refine lv_iload_n hx hb dX2_first_34 rfl (lv_at hl 0 rfl) ?_
                refine lv_istore_n (lv' := [(1, .int (nI k)), (2, .int (nI k)), (0, .ref (a 0))]) hx hb dX2_first_35 rfl hl (by decide) rfl (fun ls hl => ?_)
                refine lv_iinc (v := nI (k + 1)) (lv' := [(2, .int (nI (k + 1))), (1, .int (nI k)), (0, .ref (a 0))]) hx hb dX2_first_36 hl (k := 1) rfl (nI_1 _) (by decide) rfl (fun ls hl => ?_)
                refine lv_goto (tgt := 4) hx hb dX2_first_39 (by decide) ?_
                exact ih (k + 1) _ _ _ (by omega) w (by rw [fr_y c18 ho c31]; exact lv_sub hl [0, 1, 2] rfl)
  refine lv_iconst (v := (-1)) hx hb dX2_first_0 (by decide +kernel) ?_
  refine lv_istore_n (lv' := [(1, .int (-1)), (0, .ref (a 0))]) hx hb dX2_first_1 rfl hl (by decide) rfl (fun ls hl => ?_)
  refine lv_iconst (v := nI 0) hx hb dX2_first_2 (by decide +kernel) ?_
  refine lv_istore_n (lv' := [(2, .int (nI 0)), (1, .int (-1)), (0, .ref (a 0))]) hx hb dX2_first_3 rfl hl (by decide) rfl (fun ls hl => ?_)
  exact loop cap 0 _ _ _ (by omega) w (lv_sub hl [0, 1, 2] rfl)
set_option maxHeartbeats 4000000 in
theorem callM_first {p : Program} {l : Launch} {e : Env} {R : Room} {s : State} {m : MethodId} {args : Array Value} {below : List Frame} {meth : Method} {c : Code} {H : Heap} {locs : List Loc} {cells slots : Nat} {Q : State → Prop} {cc : ByteArray} {pc : Nat} {ls : Array Slot} {rest : List Value} {D : va_G} {A : Nat → Prop} {a : Nat → Nat} {d dz dl : ClassId} {nL : Nat} {inn tk ps rn : Nat → Nat} {cap big n gp : Nat}  (C : mC p s m args c cc nL D d dz dl A) (w : mW D A s a d dz dl inn tk ps rn cap big n gp H locs) (hcap : cap ≤ 64) (hin : ∀ i, inn i ≤ 1) (hps : ∀ i, ps i < 2 ^ 31) (hR : 1 + 1 ≤ R.frames ∧ 8 + (3 + 11) + 22 ≤ R.locals) (hrm : (rest.map fun v => v.category).sum ≤ 8) (hsz : ls.size = nL) (hdg : decode cc pc = .ok (.invokevirtual 42, 3)) (hf : cells + 0 ≤ R.cells ∧ slots + 0 ≤ R.slots)
    (kk : ∀ (H1 : Heap) (locs1 : List Loc), mW D A s a d dz dl inn tk ps rn cap big n gp H1 locs1 → W p l e R s m args below meth c H1 locs1 cells slots Q (F0 m (pc + 3) ls (.int (oI (frF inn ps cap)) :: rest))) : W p l e R s m args below meth c H locs cells slots Q (F0 m pc ls (.ref (a 0) :: rest)) :=
  mcall_i (As := []) (metM_first hcap hin hps) C (cwV 0 C.2.2.2.2.1 (lw_V q180 q182 qs9 q14 q183) rfl rfl rfl (by decide +kernel) hR) w rfl rfl hrm hsz hdg hf (fun r u H1 locs1 hq w1 => by obtain ⟨rfl, rfl⟩ := hq; exact kk H1 locs1 w1)
end
section
set_option maxHeartbeats 4000000 in
set_option maxRecDepth 100000 in
/-- the model: join(x, t) -/
theorem metM_join {inn tk ps rn : Nat → Nat} {cap big n gp : Nat} {x t : Int32} (ok : mOk (inn, tk, ps, rn, cap, big, n, gp)) : mMet yX2_join cX2_join 4 (some .int) { frames := 2, cells := 0, slots := 0, locals := 44 } [.int x, .int t] (inn, tk, ps, rn, cap, big, n, gp) (fun r u => (r, u) = jnM (inn, tk, ps, rn, cap, big, n, gp) x t) := by
  refine mMet_i (by decide) rfl (fun _ => Nat.le_of_ble_eq_true rfl) ?_
  intro p l e s m args below meth c D a d dz dl A Q ls C hret w hl
  have hx := C.1
  have hb := C.2.1
  have w : mW D A s a d dz dl inn tk ps rn cap big n gp s.heap [] := w
  have hl : lv_has ls 4 [(0, .ref (a 0)), (1, .int x), (2, .int t)] := hl
  obtain ⟨hcap, hbig, hn1, hgp, hin, htk, hps, hio⟩ := ok
  refine lv_aload_n hx hb dX2_join_0 rfl (lv_at hl 0 rfl) ?_
  refine lv_iload_n hx hb dX2_join_1 rfl (lv_at hl 1 rfl) ?_
  refine callM_isClient (x := x) C w ⟨Nat.le_of_ble_eq_true rfl, Nat.le_of_ble_eq_true rfl⟩ (Nat.le_of_ble_eq_true rfl) hl.1 dX2_join_2 ⟨Nat.le_refl _, Nat.le_refl _⟩ (fun H locs w => ?_)
  refine b_if_ne (tgt := 10) hx hb dX2_join_5 (by decide) (fun c5 => ?_) (fun c5 => ?_)
  · obtain ⟨k, hk, rfl⟩ := isC_true c5 (by omega)
    have hcl : (nI k).toNatClampNeg = k := nI_clamp (by omega)
    refine lv_aload_n hx hb dX2_join_10 rfl (lv_at hl 0 rfl) ?_
    refine mg_inn C w dX2_join_11 ?_
    refine lv_iload_n hx hb dX2_join_14 rfl (lv_at hl 1 rfl) ?_
    refine ml_inn C w (by omega) dX2_join_15 ?_
    refine n_if_eq (tgt := 22) hx hb (by have := hin (k); omega) dX2_join_16 (by decide) (fun c16 => ?_) (fun c16 => ?_)
    · refine lv_aload_n hx hb dX2_join_22 rfl (lv_at hl 0 rfl) ?_
      refine lv_iload_n hx hb dX2_join_23 rfl (lv_at hl 2 rfl) ?_
      refine callM_areTickets (t := t) C w ⟨Nat.le_of_ble_eq_true rfl, Nat.le_of_ble_eq_true rfl⟩ (Nat.le_of_ble_eq_true rfl) hl.1 dX2_join_24 ⟨Nat.le_refl _, Nat.le_refl _⟩ (fun H locs w => ?_)
      refine b_if_ne (tgt := 33) hx hb dX2_join_27 (by decide) (fun c27 => ?_) (fun c27 => ?_)
      · obtain ⟨j, hj0, hj, rfl⟩ := isT_true c27 (by omega)
        have hcl2 : (nI j).toNatClampNeg = j := nI_clamp (by omega)
        refine lv_aload_n hx hb dX2_join_33 rfl (lv_at hl 0 rfl) ?_
        refine callM_first C w hcap hin hps ⟨Nat.le_of_ble_eq_true rfl, Nat.le_of_ble_eq_true rfl⟩ (Nat.le_of_ble_eq_true rfl) hl.1 dX2_join_34 ⟨Nat.le_refl _, Nat.le_refl _⟩ (fun H locs w => ?_)
        refine lv_istore_n (lv' := [(3, .int (oI (frF inn ps cap))), (0, .ref (a 0)), (1, .int (nI k)), (2, .int (nI j))]) hx hb dX2_join_37 rfl hl (by decide) rfl (fun ls hl => ?_)
        rcases ho : frF inn ps cap with _ | f
        · rw [ho] at hl
          have hl : lv_has ls 4 [(3, .int (-1)), (0, .ref (a 0)), (1, .int (nI k)), (2, .int (nI j))] := hl
          refine lv_aload_n hx hb dX2_join_38 rfl (lv_at hl 1 rfl) ?_
          refine mg_ps C w dX2_join_39 ?_
          refine lv_iload_n hx hb dX2_join_42 rfl (lv_at hl 2 rfl) ?_
          refine lv_iload_n hx hb dX2_join_43 rfl (lv_at hl 0 rfl) ?_
          refine lv_if_ge (tgt := 54) hx hb dX2_join_44 (by decide) (fun c44 => ?_) (fun c44 => ?_)
          · exact absurd c44 (by decide)
          · refine lv_aload_n hx hb dX2_join_47 rfl (lv_at hl 1 rfl) ?_
            refine mg_gp C w dX2_join_48 ?_
            refine lv_goto (tgt := 60) hx hb dX2_join_51 (by decide) ?_
            refine ms_ps C w (by omega) dX2_join_60 (fun H locs w => ?_)
            refine lv_aload_n hx hb dX2_join_61 rfl (lv_at hl 1 rfl) ?_
            refine mg_inn C w dX2_join_62 ?_
            refine lv_iload_n hx hb dX2_join_65 rfl (lv_at hl 2 rfl) ?_
            refine lv_iconst (v := nI 1) hx hb dX2_join_66 (by decide +kernel) ?_
            refine ms_inn C w (by decide) (by omega) dX2_join_67 (fun H locs w => ?_)
            refine lv_aload_n hx hb dX2_join_68 rfl (lv_at hl 1 rfl) ?_
            refine mg_tk C w dX2_join_69 ?_
            refine lv_iload_n hx hb dX2_join_72 rfl (lv_at hl 2 rfl) ?_
            refine lv_iload_n hx hb dX2_join_73 rfl (lv_at hl 3 rfl) ?_
            refine ms_tk C w (by omega) dX2_join_74 (fun H locs w => ?_)
            refine lv_aload_n hx hb dX2_join_75 rfl (lv_at hl 1 rfl) ?_
            refine lv_dup hx hb dX2_join_76 rfl ?_
            refine mg_n C w dX2_join_77 ?_
            refine lv_iconst (v := nI 1) hx hb dX2_join_80 (by decide +kernel) ?_
            refine n_iadd hx hb dX2_join_81 ?_
            refine mq_n C w dX2_join_82 (fun H locs w => ?_)
            refine lv_iconst (v := nI 1) hx hb dX2_join_85 (by decide +kernel) ?_
            exact hret _ _ _ _ _ _ (by rw [jnM, if_pos c5, hcl, hcl2, if_neg (by omega), if_pos c27, ho, fpF]) w dX2_join_86
        · rw [ho] at hl
          have hl : lv_has ls 4 [(3, .int (nI f)), (0, .ref (a 0)), (1, .int (nI k)), (2, .int (nI j))] := hl
          have hf1 := fr_in ho
          refine lv_aload_n hx hb dX2_join_38 rfl (lv_at hl 1 rfl) ?_
          refine mg_ps C w dX2_join_39 ?_
          refine lv_iload_n hx hb dX2_join_42 rfl (lv_at hl 2 rfl) ?_
          refine lv_iload_n hx hb dX2_join_43 rfl (lv_at hl 0 rfl) ?_
          refine n_if_ge (tgt := 54) hx hb (by omega) dX2_join_44 (by decide) (fun c44 => ?_) (fun c44 => ?_)
          · refine lv_aload_n hx hb dX2_join_54 rfl (lv_at hl 1 rfl) ?_
            refine mg_ps C w dX2_join_55 ?_
            refine lv_iload_n hx hb dX2_join_58 rfl (lv_at hl 0 rfl) ?_
            refine ml_ps C w (by omega) dX2_join_59 ?_
            refine ms_ps C w (by omega) dX2_join_60 (fun H locs w => ?_)
            refine lv_aload_n hx hb dX2_join_61 rfl (lv_at hl 1 rfl) ?_
            refine mg_inn C w dX2_join_62 ?_
            refine lv_iload_n hx hb dX2_join_65 rfl (lv_at hl 2 rfl) ?_
            refine lv_iconst (v := nI 1) hx hb dX2_join_66 (by decide +kernel) ?_
            refine ms_inn C w (by decide) (by omega) dX2_join_67 (fun H locs w => ?_)
            refine lv_aload_n hx hb dX2_join_68 rfl (lv_at hl 1 rfl) ?_
            refine mg_tk C w dX2_join_69 ?_
            refine lv_iload_n hx hb dX2_join_72 rfl (lv_at hl 2 rfl) ?_
            refine lv_iload_n hx hb dX2_join_73 rfl (lv_at hl 3 rfl) ?_
            refine ms_tk C w (by omega) dX2_join_74 (fun H locs w => ?_)
            refine lv_aload_n hx hb dX2_join_75 rfl (lv_at hl 1 rfl) ?_
            refine lv_dup hx hb dX2_join_76 rfl ?_
            refine mg_n C w dX2_join_77 ?_
            refine lv_iconst (v := nI 1) hx hb dX2_join_80 (by decide +kernel) ?_
            refine n_iadd hx hb dX2_join_81 ?_
            refine mq_n C w dX2_join_82 (fun H locs w => ?_)
            refine lv_iconst (v := nI 1) hx hb dX2_join_85 (by decide +kernel) ?_
            exact hret _ _ _ _ _ _ (by rw [jnM, if_pos c5, hcl, hcl2, if_neg (by omega), if_pos c27, ho, fpF]) w dX2_join_86
          · exact absurd c44 (Nat.not_lt_zero _)
      · refine lv_bipush (v := (-3)) hx hb dX2_join_30 (by decide +kernel) ?_
        exact hret _ _ _ _ _ _ (by rw [jnM, if_pos c5, hcl, if_neg (by omega), if_neg (by rw [c27]; decide)]) w dX2_join_32
    · refine lv_bipush (v := (-2)) hx hb dX2_join_19 (by decide +kernel) ?_
      exact hret _ _ _ _ _ _ (by rw [jnM, if_pos c5, hcl, if_pos c16]) w dX2_join_21
  · refine lv_iconst (v := (-1)) hx hb dX2_join_8 (by decide +kernel) ?_
    exact hret _ _ _ _ _ _ (by rw [jnM, if_neg (by rw [c5]; decide)]) w dX2_join_9
set_option maxHeartbeats 4000000 in
set_option maxRecDepth 100000 in
/-- the model: leave(x) -/
theorem metM_leave {inn tk ps rn : Nat → Nat} {cap big n gp : Nat} {x : Int32} (ok : mOk (inn, tk, ps, rn, cap, big, n, gp)) : mMet yX2_leave cX2_leave 2 (some .int) { frames := 1, cells := 0, slots := 0, locals := 21 } [.int x] (inn, tk, ps, rn, cap, big, n, gp) (fun r u => (r, u) = lvM (inn, tk, ps, rn, cap, big, n, gp) x) := by
  refine mMet_i (by decide) rfl (fun _ => Nat.le_of_ble_eq_true rfl) ?_
  intro p l e s m args below meth c D a d dz dl A Q ls C hret w hl
  have hx := C.1
  have hb := C.2.1
  have w : mW D A s a d dz dl inn tk ps rn cap big n gp s.heap [] := w
  have hl : lv_has ls 2 [(0, .ref (a 0)), (1, .int x)] := hl
  obtain ⟨hcap, hbig, hn1, hgp, hin, htk, hps, hio⟩ := ok
  refine lv_aload_n hx hb dX2_leave_0 rfl (lv_at hl 0 rfl) ?_
  refine lv_iload_n hx hb dX2_leave_1 rfl (lv_at hl 1 rfl) ?_
  refine callM_isClient (x := x) C w ⟨Nat.le_of_ble_eq_true rfl, Nat.le_of_ble_eq_true rfl⟩ (Nat.le_of_ble_eq_true rfl) hl.1 dX2_leave_2 ⟨Nat.le_refl _, Nat.le_refl _⟩ (fun H locs w => ?_)
  refine b_if_ne (tgt := 10) hx hb dX2_leave_5 (by decide) (fun c5 => ?_) (fun c5 => ?_)
  · obtain ⟨k, hk, rfl⟩ := isC_true c5 (by omega)
    have hcl : (nI k).toNatClampNeg = k := nI_clamp (by omega)
    refine lv_aload_n hx hb dX2_leave_10 rfl (lv_at hl 0 rfl) ?_
    refine mg_inn C w dX2_leave_11 ?_
    refine lv_iload_n hx hb dX2_leave_14 rfl (lv_at hl 1 rfl) ?_
    refine ml_inn C w (by omega) dX2_leave_15 ?_
    refine n_if_ne (tgt := 22) hx hb (by have := hin (k); omega) dX2_leave_16 (by decide) (fun c16 => ?_) (fun c16 => ?_)
    · refine lv_aload_n hx hb dX2_leave_22 rfl (lv_at hl 0 rfl) ?_
      refine mg_inn C w dX2_leave_23 ?_
      refine lv_iload_n hx hb dX2_leave_26 rfl (lv_at hl 1 rfl) ?_
      refine lv_iconst (v := nI 0) hx hb dX2_leave_27 (by decide +kernel) ?_
      refine ms_inn C w (by decide) (by omega) dX2_leave_28 (fun H locs w => ?_)
      refine lv_aload_n hx hb dX2_leave_29 rfl (lv_at hl 0 rfl) ?_
      refine lv_aload_n hx hb dX2_leave_30 rfl (lv_at hl 0 rfl) ?_
      refine mg_ps C w dX2_leave_31 ?_
      refine lv_iload_n hx hb dX2_leave_34 rfl (lv_at hl 1 rfl) ?_
      refine ml_ps C w (by omega) dX2_leave_35 ?_
      refine mq_gp C w dX2_leave_36 (fun H locs w => ?_)
      refine lv_aload_n hx hb dX2_leave_39 rfl (lv_at hl 0 rfl) ?_
      refine lv_dup hx hb dX2_leave_40 rfl ?_
      refine mg_n C w dX2_leave_41 ?_
      refine lv_iconst (v := nI 1) hx hb dX2_leave_44 (by decide +kernel) ?_
      refine n_isub hx hb (hio k c16).2 dX2_leave_45 ?_
      refine mq_n C w dX2_leave_46 (fun H locs w => ?_)
      refine lv_iconst (v := nI 1) hx hb dX2_leave_49 (by decide +kernel) ?_
      exact hret _ _ _ _ _ _ (by rw [lvM, if_pos c5, hcl, if_pos c16]) w dX2_leave_50
    · refine lv_bipush (v := (-2)) hx hb dX2_leave_19 (by decide +kernel) ?_
      exact hret _ _ _ _ _ _ (by rw [lvM, if_pos c5, hcl, if_neg (by omega)]) w dX2_leave_21
  · refine lv_iconst (v := (-1)) hx hb dX2_leave_8 (by decide +kernel) ?_
    exact hret _ _ _ _ _ _ (by rw [lvM, if_neg (by rw [c5]; decide)]) w dX2_leave_9
set_option maxHeartbeats 4000000 in
set_option maxRecDepth 100000 in
/-- the model: next() -/
theorem metM_next {inn tk ps rn : Nat → Nat} {cap big n gp : Nat} (ok : mOk (inn, tk, ps, rn, cap, big, n, gp)) : mMet yX2_next cX2_next 4 (some .int) { frames := 2, cells := 0, slots := 0, locals := 44 } [] (inn, tk, ps, rn, cap, big, n, gp) (fun r u => (r, u) = nxM (inn, tk, ps, rn, cap, big, n, gp)) := by
  refine mMet_i (by decide) rfl (fun _ => Nat.le_of_ble_eq_true rfl) ?_
  intro p l e s m args below meth c D a d dz dl A Q ls C hret w hl
  have hx := C.1
  have hb := C.2.1
  have w : mW D A s a d dz dl inn tk ps rn cap big n gp s.heap [] := w
  have hl : lv_has ls 4 [(0, .ref (a 0))] := hl
  obtain ⟨hcap, hbig, hn1, hgp, hin, htk, hps, hio⟩ := ok
  refine lv_aload_n hx hb dX2_next_0 rfl (lv_at hl 0 rfl) ?_
  refine callM_first C w hcap hin hps ⟨Nat.le_of_ble_eq_true rfl, Nat.le_of_ble_eq_true rfl⟩ (Nat.le_of_ble_eq_true rfl) hl.1 dX2_next_1 ⟨Nat.le_refl _, Nat.le_refl _⟩ (fun H locs w => ?_)
  refine lv_istore_n (lv' := [(1, .int (oI (frF inn ps cap))), (0, .ref (a 0))]) hx hb dX2_next_4 rfl hl (by decide) rfl (fun ls hl => ?_)
  rcases ho : frF inn ps cap with _ | f
  · rw [ho] at hl
    have hl : lv_has ls 4 [(1, .int (-1)), (0, .ref (a 0))] := hl
    refine lv_iload_n hx hb dX2_next_5 rfl (lv_at hl 0 rfl) ?_
    refine lv_if_ge (tgt := 11) hx hb dX2_next_6 (by decide) (fun c6 => ?_) (fun c6 => ?_)
    · exact absurd c6 (by decide)
    · refine lv_iconst (v := (-1)) hx hb dX2_next_9 (by decide +kernel) ?_
      exact hret _ _ _ _ _ _ (by rw [nxM, ho]) w dX2_next_10
  · rw [ho] at hl
    have hl : lv_has ls 4 [(1, .int (nI f)), (0, .ref (a 0))] := hl
    have hf1 := fr_in ho
    refine lv_iload_n hx hb dX2_next_5 rfl (lv_at hl 0 rfl) ?_
    refine n_if_ge (tgt := 11) hx hb (by omega) dX2_next_6 (by decide) (fun c6 => ?_) (fun c6 => ?_)
    · have hio1 := hio f hf1.2
      have htk1 := htk f
      have hps1 := hps f
      have hdv := Nat.div_le_self big (tk f)
      refine lv_aload_n hx hb dX2_next_11 rfl (lv_at hl 1 rfl) ?_
      refine mg_ps C w dX2_next_12 ?_
      refine lv_iload_n hx hb dX2_next_15 rfl (lv_at hl 0 rfl) ?_
      refine ml_ps C w (by omega) dX2_next_16 ?_
      refine lv_aload_n hx hb dX2_next_17 rfl (lv_at hl 1 rfl) ?_
      refine mg_big C w dX2_next_18 ?_
      refine lv_aload_n hx hb dX2_next_21 rfl (lv_at hl 1 rfl) ?_
      refine mg_tk C w dX2_next_22 ?_
      refine lv_iload_n hx hb dX2_next_25 rfl (lv_at hl 0 rfl) ?_
      refine ml_tk C w (by omega) dX2_next_26 ?_
      refine n_idiv hx hb (by omega) hio1.1 (by omega) dX2_next_27 ?_
      refine n_i2l hx hb (by omega) dX2_next_28 ?_
      refine n_ladd hx hb dX2_next_29 ?_
      refine lv_lstore_n (lv' := [(2, .long (lN ((ps f) + (big / (tk f))))), (1, .int (nI f)), (0, .ref (a 0))]) hx hb dX2_next_30 rfl hl (by decide) rfl (fun ls hl => ?_)
      refine lv_lload_n hx hb dX2_next_31 rfl (lv_at hl 0 rfl) ?_
      refine lv_ldc2 (v := lN 2147483647) hx hb C.2.2.2.1 (C.2.2.2.2.1 _ q196) dX2_next_32 ?_
      refine W.lcmp hx hb dX2_next_35 ?_
      refine l_if_le (tgt := 42) hx hb (by omega) (by decide) dX2_next_36 (by decide) (fun c36 => ?_) (fun c36 => ?_)
      · refine lv_aload_n hx hb dX2_next_42 rfl (lv_at hl 2 rfl) ?_
        refine mg_ps C w dX2_next_43 ?_
        refine lv_iload_n hx hb dX2_next_46 rfl (lv_at hl 1 rfl) ?_
        refine lv_lload_n hx hb dX2_next_47 rfl (lv_at hl 0 rfl) ?_
        refine ms_ps C w (by omega) dX2_next_48 (fun H locs w => ?_)
        refine lv_aload_n hx hb dX2_next_49 rfl (lv_at hl 2 rfl) ?_
        refine mg_rn C w dX2_next_50 ?_
        refine lv_iload_n hx hb dX2_next_53 rfl (lv_at hl 1 rfl) ?_
        refine lv_dup2_11 hx hb dX2_next_54 rfl rfl ?_
        refine ml_rn C w (by omega) dX2_next_55 ?_
        refine lv_iconst (v := nI 1) hx hb dX2_next_56 (by decide +kernel) ?_
        refine n_iadd hx hb dX2_next_57 ?_
        refine ms_rn C w (by omega) dX2_next_58 (fun H locs w => ?_)
        refine lv_iload_n hx hb dX2_next_59 rfl (lv_at hl 1 rfl) ?_
        exact hret _ _ _ _ _ _ (by rw [nxM, ho]; exact (if_neg (by omega)).symm) w dX2_next_60
      · refine lv_bipush (v := (-2)) hx hb dX2_next_39 (by decide +kernel) ?_
        exact hret _ _ _ _ _ _ (by rw [nxM, ho]; exact (if_pos c36).symm) w dX2_next_41
    · exact absurd c6 (Nat.not_lt_zero _)
set_option maxHeartbeats 4000000 in
set_option maxRecDepth 100000 in
/-- the model: change(x, t) -/
theorem metM_change {inn tk ps rn : Nat → Nat} {cap big n gp : Nat} {x t : Int32} (ok : mOk (inn, tk, ps, rn, cap, big, n, gp)) : mMet yX2_change cX2_change 4 (some .int) { frames := 1, cells := 0, slots := 0, locals := 21 } [.int x, .int t] (inn, tk, ps, rn, cap, big, n, gp) (fun r u => (r, u) = cgM (inn, tk, ps, rn, cap, big, n, gp) x t) := by
  refine mMet_i (by decide) rfl (fun _ => Nat.le_of_ble_eq_true rfl) ?_
  intro p l e s m args below meth c D a d dz dl A Q ls C hret w hl
  have hx := C.1
  have hb := C.2.1
  have w : mW D A s a d dz dl inn tk ps rn cap big n gp s.heap [] := w
  have hl : lv_has ls 4 [(0, .ref (a 0)), (1, .int x), (2, .int t)] := hl
  obtain ⟨hcap, hbig, hn1, hgp, hin, htk, hps, hio⟩ := ok
  refine lv_aload_n hx hb dX2_change_0 rfl (lv_at hl 0 rfl) ?_
  refine lv_iload_n hx hb dX2_change_1 rfl (lv_at hl 1 rfl) ?_
  refine callM_isClient (x := x) C w ⟨Nat.le_of_ble_eq_true rfl, Nat.le_of_ble_eq_true rfl⟩ (Nat.le_of_ble_eq_true rfl) hl.1 dX2_change_2 ⟨Nat.le_refl _, Nat.le_refl _⟩ (fun H locs w => ?_)
  refine b_if_ne (tgt := 10) hx hb dX2_change_5 (by decide) (fun c5 => ?_) (fun c5 => ?_)
  · obtain ⟨k, hk, rfl⟩ := isC_true c5 (by omega)
    have hcl : (nI k).toNatClampNeg = k := nI_clamp (by omega)
    refine lv_aload_n hx hb dX2_change_10 rfl (lv_at hl 0 rfl) ?_
    refine mg_inn C w dX2_change_11 ?_
    refine lv_iload_n hx hb dX2_change_14 rfl (lv_at hl 1 rfl) ?_
    refine ml_inn C w (by omega) dX2_change_15 ?_
    refine n_if_ne (tgt := 22) hx hb (by have := hin (k); omega) dX2_change_16 (by decide) (fun c16 => ?_) (fun c16 => ?_)
    · refine lv_aload_n hx hb dX2_change_22 rfl (lv_at hl 0 rfl) ?_
      refine lv_iload_n hx hb dX2_change_23 rfl (lv_at hl 2 rfl) ?_
      refine callM_areTickets (t := t) C w ⟨Nat.le_of_ble_eq_true rfl, Nat.le_of_ble_eq_true rfl⟩ (Nat.le_of_ble_eq_true rfl) hl.1 dX2_change_24 ⟨Nat.le_refl _, Nat.le_refl _⟩ (fun H locs w => ?_)
      refine b_if_ne (tgt := 33) hx hb dX2_change_27 (by decide) (fun c27 => ?_) (fun c27 => ?_)
      · obtain ⟨j, hj0, hj, rfl⟩ := isT_true c27 (by omega)
        have hcl2 : (nI j).toNatClampNeg = j := nI_clamp (by omega)
        refine lv_aload_n hx hb dX2_change_33 rfl (lv_at hl 0 rfl) ?_
        refine mg_tk C w dX2_change_34 ?_
        refine lv_iload_n hx hb dX2_change_37 rfl (lv_at hl 1 rfl) ?_
        refine ml_tk C w (by omega) dX2_change_38 ?_
        refine lv_istore_n (lv' := [(3, .int (nI (tk k))), (0, .ref (a 0)), (1, .int (nI k)), (2, .int (nI j))]) hx hb dX2_change_39 rfl hl (by decide) rfl (fun ls hl => ?_)
        refine lv_aload_n hx hb dX2_change_40 rfl (lv_at hl 1 rfl) ?_
        refine mg_tk C w dX2_change_41 ?_
        refine lv_iload_n hx hb dX2_change_44 rfl (lv_at hl 2 rfl) ?_
        refine lv_iload_n hx hb dX2_change_45 rfl (lv_at hl 3 rfl) ?_
        refine ms_tk C w (by omega) dX2_change_46 (fun H locs w => ?_)
        refine lv_iload_n hx hb dX2_change_47 rfl (lv_at hl 0 rfl) ?_
        exact hret _ _ _ _ _ _ (by rw [cgM, if_pos c5, hcl, hcl2, if_pos c16, if_pos c27]) w dX2_change_48
      · refine lv_bipush (v := (-3)) hx hb dX2_change_30 (by decide +kernel) ?_
        exact hret _ _ _ _ _ _ (by rw [cgM, if_pos c5, hcl, if_pos c16, if_neg (by rw [c27]; decide)]) w dX2_change_32
    · refine lv_bipush (v := (-2)) hx hb dX2_change_19 (by decide +kernel) ?_
      exact hret _ _ _ _ _ _ (by rw [cgM, if_pos c5, hcl, if_neg (by omega)]) w dX2_change_21
  · refine lv_iconst (v := (-1)) hx hb dX2_change_8 (by decide +kernel) ?_
    exact hret _ _ _ _ _ _ (by rw [cgM, if_neg (by rw [c5]; decide)]) w dX2_change_9
set_option maxHeartbeats 4000000 in
set_option maxRecDepth 100000 in
/-- the model: ranOf(x) -/
theorem metM_ranOf {inn tk ps rn : Nat → Nat} {cap big n gp : Nat} {x : Int32} (ok : mOk (inn, tk, ps, rn, cap, big, n, gp)) : mMet yX2_ranOf cX2_ranOf 2 (some .int) { frames := 1, cells := 0, slots := 0, locals := 21 } [.int x] (inn, tk, ps, rn, cap, big, n, gp) (fun r u => (r, u) = raM (inn, tk, ps, rn, cap, big, n, gp) x) := by
  refine mMet_i (by decide) rfl (fun _ => Nat.le_of_ble_eq_true rfl) ?_
  intro p l e s m args below meth c D a d dz dl A Q ls C hret w hl
  have hx := C.1
  have hb := C.2.1
  have w : mW D A s a d dz dl inn tk ps rn cap big n gp s.heap [] := w
  have hl : lv_has ls 2 [(0, .ref (a 0)), (1, .int x)] := hl
  obtain ⟨hcap, hbig, hn1, hgp, hin, htk, hps, hio⟩ := ok
  refine lv_aload_n hx hb dX2_ranOf_0 rfl (lv_at hl 0 rfl) ?_
  refine lv_iload_n hx hb dX2_ranOf_1 rfl (lv_at hl 1 rfl) ?_
  refine callM_isClient (x := x) C w ⟨Nat.le_of_ble_eq_true rfl, Nat.le_of_ble_eq_true rfl⟩ (Nat.le_of_ble_eq_true rfl) hl.1 dX2_ranOf_2 ⟨Nat.le_refl _, Nat.le_refl _⟩ (fun H locs w => ?_)
  refine b_if_eq (tgt := 17) hx hb dX2_ranOf_5 (by decide) (fun c5 => ?_) (fun c5 => ?_)
  · refine lv_iconst (v := (-1)) hx hb dX2_ranOf_17 (by decide +kernel) ?_
    exact hret _ _ _ _ _ _ (by rw [raM, if_neg (by rw [c5]; decide)]) w dX2_ranOf_18
  · obtain ⟨k, hk, rfl⟩ := isC_true c5 (by omega)
    have hcl : (nI k).toNatClampNeg = k := nI_clamp (by omega)
    refine lv_aload_n hx hb dX2_ranOf_8 rfl (lv_at hl 0 rfl) ?_
    refine mg_rn C w dX2_ranOf_9 ?_
    refine lv_iload_n hx hb dX2_ranOf_12 rfl (lv_at hl 1 rfl) ?_
    refine ml_rn C w (by omega) dX2_ranOf_13 ?_
    refine lv_goto (tgt := 18) hx hb dX2_ranOf_14 (by decide) ?_
    exact hret _ _ _ _ _ _ (by rw [raM, if_pos c5, hcl]) w dX2_ranOf_18
set_option maxHeartbeats 4000000 in
set_option maxRecDepth 100000 in
/-- the model: passOf(x) -/
theorem metM_passOf {inn tk ps rn : Nat → Nat} {cap big n gp : Nat} {x : Int32} (ok : mOk (inn, tk, ps, rn, cap, big, n, gp)) : mMet yX2_passOf cX2_passOf 2 (some .int) { frames := 2, cells := 0, slots := 0, locals := 42 } [.int x] (inn, tk, ps, rn, cap, big, n, gp) (fun r u => (r, u) = paM (inn, tk, ps, rn, cap, big, n, gp) x) := by
  refine mMet_i (by decide) rfl (fun _ => Nat.le_of_ble_eq_true rfl) ?_
  intro p l e s m args below meth c D a d dz dl A Q ls C hret w hl
  have hx := C.1
  have hb := C.2.1
  have w : mW D A s a d dz dl inn tk ps rn cap big n gp s.heap [] := w
  have hl : lv_has ls 2 [(0, .ref (a 0)), (1, .int x)] := hl
  obtain ⟨hcap, hbig, hn1, hgp, hin, htk, hps, hio⟩ := ok
  refine lv_aload_n hx hb dX2_passOf_0 rfl (lv_at hl 0 rfl) ?_
  refine lv_iload_n hx hb dX2_passOf_1 rfl (lv_at hl 1 rfl) ?_
  refine callM_isIn (x := x) C w hcap hin ⟨Nat.le_of_ble_eq_true rfl, Nat.le_of_ble_eq_true rfl⟩ (Nat.le_of_ble_eq_true rfl) hl.1 dX2_passOf_2 ⟨Nat.le_refl _, Nat.le_refl _⟩ (fun H locs w => ?_)
  refine b_if_eq (tgt := 18) hx hb dX2_passOf_5 (by decide) (fun c5 => ?_) (fun c5 => ?_)
  · refine lv_iconst (v := (-1)) hx hb dX2_passOf_18 (by decide +kernel) ?_
    exact hret _ _ _ _ _ _ (by rw [paM, if_neg (by rw [c5]; decide)]) w dX2_passOf_19
  · obtain ⟨h51, h52⟩ := Bool.and_eq_true_iff.mp c5
    obtain ⟨k, hk, rfl⟩ := isC_true h51 (by omega)
    have hcl : (nI k).toNatClampNeg = k := nI_clamp (by omega)
    rw [hcl] at h52
    have hio1 := hio k (of_decide_eq_true h52)
    have htk1 := htk k
    refine lv_aload_n hx hb dX2_passOf_8 rfl (lv_at hl 0 rfl) ?_
    refine mg_ps C w dX2_passOf_9 ?_
    refine lv_iload_n hx hb dX2_passOf_12 rfl (lv_at hl 1 rfl) ?_
    refine ml_ps C w (by omega) dX2_passOf_13 ?_
    refine n_l2i hx hb dX2_passOf_14 ?_
    refine lv_goto (tgt := 19) hx hb dX2_passOf_15 (by decide) ?_
    exact hret _ _ _ _ _ _ (by rw [paM, if_pos c5, hcl]) w dX2_passOf_19
set_option maxHeartbeats 4000000 in
set_option maxRecDepth 100000 in
/-- the model: strideOf(x) -/
theorem metM_strideOf {inn tk ps rn : Nat → Nat} {cap big n gp : Nat} {x : Int32} (ok : mOk (inn, tk, ps, rn, cap, big, n, gp)) : mMet yX2_strideOf cX2_strideOf 2 (some .int) { frames := 2, cells := 0, slots := 0, locals := 42 } [.int x] (inn, tk, ps, rn, cap, big, n, gp) (fun r u => (r, u) = sdM (inn, tk, ps, rn, cap, big, n, gp) x) := by
  refine mMet_i (by decide) rfl (fun _ => Nat.le_of_ble_eq_true rfl) ?_
  intro p l e s m args below meth c D a d dz dl A Q ls C hret w hl
  have hx := C.1
  have hb := C.2.1
  have w : mW D A s a d dz dl inn tk ps rn cap big n gp s.heap [] := w
  have hl : lv_has ls 2 [(0, .ref (a 0)), (1, .int x)] := hl
  obtain ⟨hcap, hbig, hn1, hgp, hin, htk, hps, hio⟩ := ok
  refine lv_aload_n hx hb dX2_strideOf_0 rfl (lv_at hl 0 rfl) ?_
  refine lv_iload_n hx hb dX2_strideOf_1 rfl (lv_at hl 1 rfl) ?_
  refine callM_isIn (x := x) C w hcap hin ⟨Nat.le_of_ble_eq_true rfl, Nat.le_of_ble_eq_true rfl⟩ (Nat.le_of_ble_eq_true rfl) hl.1 dX2_strideOf_2 ⟨Nat.le_refl _, Nat.le_refl _⟩ (fun H locs w => ?_)
  refine b_if_eq (tgt := 22) hx hb dX2_strideOf_5 (by decide) (fun c5 => ?_) (fun c5 => ?_)
  · refine lv_iconst (v := (-1)) hx hb dX2_strideOf_22 (by decide +kernel) ?_
    exact hret _ _ _ _ _ _ (by rw [sdM, if_neg (by rw [c5]; decide)]) w dX2_strideOf_23
  · obtain ⟨h51, h52⟩ := Bool.and_eq_true_iff.mp c5
    obtain ⟨k, hk, rfl⟩ := isC_true h51 (by omega)
    have hcl : (nI k).toNatClampNeg = k := nI_clamp (by omega)
    rw [hcl] at h52
    have hio1 := hio k (of_decide_eq_true h52)
    have htk1 := htk k
    refine lv_aload_n hx hb dX2_strideOf_8 rfl (lv_at hl 0 rfl) ?_
    refine mg_big C w dX2_strideOf_9 ?_
    refine lv_aload_n hx hb dX2_strideOf_12 rfl (lv_at hl 0 rfl) ?_
    refine mg_tk C w dX2_strideOf_13 ?_
    refine lv_iload_n hx hb dX2_strideOf_16 rfl (lv_at hl 1 rfl) ?_
    refine ml_tk C w (by omega) dX2_strideOf_17 ?_
    refine n_idiv hx hb (by omega) hio1.1 (by omega) dX2_strideOf_18 ?_
    refine lv_goto (tgt := 23) hx hb dX2_strideOf_19 (by decide) ?_
    exact hret _ _ _ _ _ _ (by rw [sdM, if_pos c5, hcl]) w dX2_strideOf_23
set_option maxHeartbeats 4000000 in
set_option maxRecDepth 100000 in
/-- the model: clients() -/
theorem metM_clients {inn tk ps rn : Nat → Nat} {cap big n gp : Nat}  : mMet yX2_clients cX2_clients 1 (some .int) { frames := 0, cells := 0, slots := 0, locals := 0 } [] (inn, tk, ps, rn, cap, big, n, gp) (fun r u => (r, u) = clM (inn, tk, ps, rn, cap, big, n, gp)) := by
  refine mMet_i (by decide) rfl (fun _ => Nat.le_of_ble_eq_true rfl) ?_
  intro p l e s m args below meth c D a d dz dl A Q ls C hret w hl
  have hx := C.1
  have hb := C.2.1
  have w : mW D A s a d dz dl inn tk ps rn cap big n gp s.heap [] := w
  have hl : lv_has ls 1 [(0, .ref (a 0))] := hl
  refine lv_aload_n hx hb dX2_clients_0 rfl (lv_at hl 0 rfl) ?_
  refine mg_n C w dX2_clients_1 ?_
  exact hret _ _ _ _ _ _ rfl w dX2_clients_4
end
section
set_option maxHeartbeats 4000000 in
theorem callM_next {p : Program} {l : Launch} {e : Env} {R : Room} {s : State} {m : MethodId} {args : Array Value} {below : List Frame} {meth : Method} {c : Code} {H : Heap} {locs : List Loc} {cells slots : Nat} {Q : State → Prop} {cc : ByteArray} {pc : Nat} {ls : Array Slot} {rest : List Value} {D : va_G} {A : Nat → Prop} {a : Nat → Nat} {d dz dl : ClassId} {nL : Nat} {u : MS} (C : mC p s m args c cc nL D d dz dl A) (w : mWs D A s a d dz dl u H locs) (ok : mOk u) (hR : 2 + 1 ≤ R.frames ∧ 8 + (4 + 11) + 44 ≤ R.locals) (hrm : (rest.map fun v => v.category).sum ≤ 8) (hsz : ls.size = nL) (hdg : decode cc pc = .ok (.invokevirtual 55, 3)) (hf : cells + 0 ≤ R.cells ∧ slots + 0 ≤ R.slots)
    (kk : ∀ (H1 : Heap) (locs1 : List Loc), mWs D A s a d dz dl (nxM u).2 H1 locs1 → W p l e R s m args below meth c H1 locs1 cells slots Q (F0 m (pc + 3) ls (.int (nxM u).1 :: rest))) : W p l e R s m args below meth c H locs cells slots Q (F0 m pc ls (.ref (a 0) :: rest)) := by
  obtain ⟨inn, tk, ps, rn, cap, big, n, gp⟩ := u
  refine mcall_i (As := []) (metM_next ok) C (cwV 0 C.2.2.2.2.1 (lw_V q201 q193 q194 q14 q195) rfl rfl rfl (by decide +kernel) hR) w rfl rfl hrm hsz hdg hf (fun r u H1 locs1 hq w1 => ?_)
  have h1 : r = _ := congrArg Prod.fst hq
  have h2 : u = _ := congrArg Prod.snd hq
  subst h1
  subst h2
  exact kk H1 locs1 w1
set_option maxHeartbeats 4000000 in
set_option maxRecDepth 100000 in
/-- the model: turns(x) -/
theorem metM_turns {u0 : MS} {x : Int32} (ok : mOk u0) : mMet yX2_turns cX2_turns 4 (some .int) { frames := 3, cells := 0, slots := 0, locals := 67 } [.int x] u0 (fun r u => (r, u) = tuM u0 x) := by
  refine mMet_i (by decide) rfl (fun _ => Nat.le_of_ble_eq_true rfl) ?_
  intro p l e s m args below meth c D a d dz dl A Q ls C hret w hl
  have hx := C.1
  have hb := C.2.1
  have hl : lv_has ls 4 [(0, .ref (a 0)), (1, .int x)] := hl
  refine lv_iload_n hx hb dX2_turns_0 rfl (lv_at hl 1 rfl) ?_
  refine lv_iconst (v := nI 1) hx hb dX2_turns_1 (by decide +kernel) ?_
  refine lv_icmp_lt (tgt := 12) hx hb dX2_turns_2 (by decide) (fun c2 => ?_) (fun c2 => ?_)
  · refine lv_iconst (v := (-1)) hx hb dX2_turns_12 (by decide +kernel) ?_
    exact hret _ _ _ _ _ _ (by rw [tuM, if_neg (fun q => absurd c2 (Int32.not_lt.mpr q.1))]) w dX2_turns_13
  · refine lv_iload_n hx hb dX2_turns_5 rfl (lv_at hl 1 rfl) ?_
    refine lv_sipush (v := nI 1000) hx hb dX2_turns_6 (by decide +kernel) ?_
    refine lv_icmp_le (tgt := 14) hx hb dX2_turns_9 (by decide) (fun c9 => ?_) (fun c9 => ?_)
    · obtain ⟨K, hK1, hK2, rfl⟩ := tu_arg c2 c9
      have hcl : (nI K).toNatClampNeg = K := nI_clamp (by omega)
      have hin : 1 ≤ nI K ∧ nI K ≤ 1000 := ⟨by rw [show (1 : Int32) = nI 1 from rfl]; exact nI_le hK1 (by omega), by rw [show (1000 : Int32) = nI 1000 from rfl]; exact nI_le hK2 (by omega)⟩
      refine lv_iconst (v := nI 0) hx hb dX2_turns_14 (by decide +kernel) ?_
      refine lv_istore_n (lv' := [(2, .int (nI 0)), (0, .ref (a 0)), (1, .int (nI K))]) hx hb dX2_turns_15 rfl hl (by decide) rfl (fun ls hl => ?_)
      refine lv_iconst (v := nI 1) hx hb dX2_turns_16 (by decide +kernel) ?_
      refine lv_istore_n (lv' := [(3, .int (nI 1)), (2, .int (nI 0)), (0, .ref (a 0)), (1, .int (nI K))]) hx hb dX2_turns_17 rfl hl (by decide) rfl (fun ls hl => ?_)
      have loop : ∀ (f k : Nat) (v : MS) (H : Heap) (locs : List Loc) (ls : Array Slot), k + f = K → mOk v → (tuH f v).1 + k = (tuH K u0).1 → (tuH f v).2 = (tuH K u0).2 → mWs D A s a d dz dl v H locs → lv_has ls 4 [(3, .int (nI 1)), (2, .int (nI k)), (0, .ref (a 0)), (1, .int (nI K))] → W p l e { frames := 3, cells := 0, slots := 0, locals := 67 } s m args below meth c H locs 0 0 Q (F0 m 18 ls []) := by
        clear w hl
        intro f
        induction f with
        | zero =>
          intro k v H locs ls hkf ok he1 he2 w hl
          refine lv_iload_n hx hb dX2_turns_18 rfl (lv_at hl 0 rfl) ?_
          refine n_if_eq (tgt := 55) hx hb (by omega) dX2_turns_19 (by decide) (fun c19 => ?_) (fun c19 => ?_)
          · exact absurd c19 (by decide)
          · refine lv_iload_n hx hb dX2_turns_22 rfl (lv_at hl 1 rfl) ?_
            refine lv_iload_n hx hb dX2_turns_23 rfl (lv_at hl 3 rfl) ?_
            refine n_icmp_ge (tgt := 55) hx hb (by omega) (by omega) dX2_turns_24 (by decide) (fun c24 => ?_) (fun c24 => ?_)
            · refine lv_iload_n hx hb dX2_turns_55 rfl (lv_at hl 1 rfl) ?_
              exact hret _ _ _ _ _ _ (by rw [tuM, if_pos hin, hcl, ← he1, ← he2]; simp [tuH]) w dX2_turns_56
            · exact absurd c24 (by omega)
        | succ f ih =>
          intro k v H locs ls hkf ok he1 he2 w hl
          refine lv_iload_n hx hb dX2_turns_18 rfl (lv_at hl 0 rfl) ?_
          refine n_if_eq (tgt := 55) hx hb (by omega) dX2_turns_19 (by decide) (fun c19 => ?_) (fun c19 => ?_)
          · exact absurd c19 (by decide)
          · refine lv_iload_n hx hb dX2_turns_22 rfl (lv_at hl 1 rfl) ?_
            refine lv_iload_n hx hb dX2_turns_23 rfl (lv_at hl 3 rfl) ?_
            refine n_icmp_ge (tgt := 55) hx hb (by omega) (by omega) dX2_turns_24 (by decide) (fun c24 => ?_) (fun c24 => ?_)
            · exact absurd c24 (by omega)
            · refine lv_aload_n hx hb dX2_turns_27 rfl (lv_at hl 2 rfl) ?_
              refine callM_next C w ok ⟨Nat.le_of_ble_eq_true rfl, Nat.le_of_ble_eq_true rfl⟩ (Nat.le_of_ble_eq_true rfl) hl.1 dX2_turns_28 ⟨Nat.le_refl _, Nat.le_refl _⟩ (fun H locs w => ?_)
              refine lv_if_lt (tgt := 38) hx hb dX2_turns_31 (by decide) (fun c31 => ?_) (fun c31 => ?_)
              · refine lv_iconst (v := nI 0) hx hb dX2_turns_38 (by decide +kernel) ?_
                refine lv_istore_n (lv' := [(3, .int (nI 0)), (2, .int (nI k)), (0, .ref (a 0)), (1, .int (nI K))]) hx hb dX2_turns_39 rfl hl (by decide) rfl (fun ls hl => ?_)
                refine lv_iload_n hx hb dX2_turns_40 rfl (lv_at hl 0 rfl) ?_
                refine n_if_eq (tgt := 50) hx hb (by omega) dX2_turns_41 (by decide) (fun c41 => ?_) (fun c41 => ?_)
                · refine lv_iload_n hx hb dX2_turns_50 rfl (lv_at hl 1 rfl) ?_
                  refine lv_istore_n (lv' := [(2, .int (nI k)), (3, .int (nI 0)), (0, .ref (a 0)), (1, .int (nI K))]) hx hb dX2_turns_51 rfl hl (by decide) rfl (fun ls hl => ?_)
                  refine lv_goto (tgt := 18) hx hb dX2_turns_52 (by decide) ?_
                  refine lv_iload_n hx hb dX2_turns_18 rfl (lv_at hl 1 rfl) ?_
                  refine n_if_eq (tgt := 55) hx hb (by omega) dX2_turns_19 (by decide) (fun c19 => ?_) (fun c19 => ?_)
                  · refine lv_iload_n hx hb dX2_turns_55 rfl (lv_at hl 0 rfl) ?_
                    exact hret _ _ _ _ _ _ (by rw [tuM, if_pos hin, hcl, ← he1, ← he2, tv_n c31]; simp) w dX2_turns_56
                  · exact absurd c19 (by decide)
                · exact absurd c41 (by decide)
              · refine lv_iconst (v := nI 1) hx hb dX2_turns_34 (by decide +kernel) ?_
                refine lv_goto (tgt := 39) hx hb dX2_turns_35 (by decide) ?_
                refine lv_istore_n (lv' := [(3, .int (nI 1)), (2, .int (nI k)), (0, .ref (a 0)), (1, .int (nI K))]) hx hb dX2_turns_39 rfl hl (by decide) rfl (fun ls hl => ?_)
                refine lv_iload_n hx hb dX2_turns_40 rfl (lv_at hl 0 rfl) ?_
                refine n_if_eq (tgt := 50) hx hb (by omega) dX2_turns_41 (by decide) (fun c41 => ?_) (fun c41 => ?_)
                · exact absurd c41 (by decide)
                · refine lv_iload_n hx hb dX2_turns_44 rfl (lv_at hl 1 rfl) ?_
                  refine lv_iconst (v := nI 1) hx hb dX2_turns_45 (by decide +kernel) ?_
                  refine n_iadd hx hb dX2_turns_46 ?_
                  refine lv_goto (tgt := 51) hx hb dX2_turns_47 (by decide) ?_
                  refine lv_istore_n (lv' := [(2, .int (nI (k + 1))), (3, .int (nI 1)), (0, .ref (a 0)), (1, .int (nI K))]) hx hb dX2_turns_51 rfl hl (by decide) rfl (fun ls hl => ?_)
                  refine lv_goto (tgt := 18) hx hb dX2_turns_52 (by decide) ?_
                  exact ih (k + 1) (nxM v).2 _ _ _ (by omega) (nxM_ok ok) (by rw [← he1, tv_y c31]; show _ = _ + 1 + k; omega) (by rw [← he2, tv_y c31]) w (lv_sub hl [1, 0, 2, 3] rfl)
      exact loop K 0 u0 _ _ _ (by omega) ok rfl rfl w (lv_sub hl [0, 1, 2, 3] rfl)
    · refine lv_iconst (v := (-1)) hx hb dX2_turns_12 (by decide +kernel) ?_
      exact hret _ _ _ _ _ _ (by rw [tuM, if_neg (fun q => c9 q.2)]) w dX2_turns_13
set_option maxHeartbeats 4000000 in
set_option maxRecDepth 100000 in
/-- the model: spread() -/
theorem metM_spread {inn tk ps rn : Nat → Nat} {cap big n gp : Nat} (ok : mOk (inn, tk, ps, rn, cap, big, n, gp)) : mMet yX2_spread cX2_spread 5 (some .int) { frames := 2, cells := 0, slots := 0, locals := 44 } [] (inn, tk, ps, rn, cap, big, n, gp) (fun r u => (r, u) = spM (inn, tk, ps, rn, cap, big, n, gp)) := by
  refine mMet_i (by decide) rfl (fun _ => Nat.le_of_ble_eq_true rfl) ?_
  intro p l e s m args below meth c D a d dz dl A Q ls C hret w hl
  have hx := C.1
  have hb := C.2.1
  have w : mW D A s a d dz dl inn tk ps rn cap big n gp s.heap [] := w
  have hl : lv_has ls 5 [(0, .ref (a 0))] := hl
  obtain ⟨hcap, hbig, hn1, hgp, hin, htk, hps, hio⟩ := ok
  have loop : ∀ (f k : Nat) (H : Heap) (locs : List Loc) (ls : Array Slot), k + f = cap → mW D A s a d dz dl inn tk ps rn cap big n gp H locs → lv_has ls 5 [(4, .int (nI k)), (2, .long (lN (moF inn ps k))), (1, .int (oI (frF inn ps cap))), (0, .ref (a 0))] → W p l e { frames := 2, cells := 0, slots := 0, locals := 44 } s m args below meth c H locs 0 0 Q (F0 m 10 ls []) := by
    clear w hl
    intro f
    induction f with
    | zero =>
      intro k H locs ls hkf w hl
      refine lv_iload hx hb dX2_spread_10 (lv_at hl 0 rfl) ?_
      refine lv_aload_n hx hb dX2_spread_12 rfl (lv_at hl 3 rfl) ?_
      refine mg_cap C w dX2_spread_13 ?_
      refine n_icmp_ge (tgt := 59) hx hb (by omega) (by omega) dX2_spread_16 (by decide) (fun c16 => ?_) (fun c16 => ?_)
      · rcases ho : frF inn ps cap with _ | f
        · rw [ho] at hl
          have hl : lv_has ls 5 [(4, .int (nI k)), (2, .long (lN (moF inn ps k))), (1, .int (-1)), (0, .ref (a 0))] := hl
          refine lv_iload_n hx hb dX2_spread_59 rfl (lv_at hl 2 rfl) ?_
          refine lv_if_ge (tgt := 67) hx hb dX2_spread_60 (by decide) (fun c60 => ?_) (fun c60 => ?_)
          · exact absurd c60 (by decide)
          · refine lv_iconst (v := (-1)) hx hb dX2_spread_63 (by decide +kernel) ?_
            refine lv_goto (tgt := 76) hx hb dX2_spread_64 (by decide) ?_
            exact hret _ _ _ _ _ _ (by rw [spM, ho]) w dX2_spread_76
        · rw [ho] at hl
          have hl : lv_has ls 5 [(4, .int (nI k)), (2, .long (lN (moF inn ps k))), (1, .int (nI f)), (0, .ref (a 0))] := hl
          have hf1 := fr_in ho
          refine lv_iload_n hx hb dX2_spread_59 rfl (lv_at hl 2 rfl) ?_
          refine n_if_ge (tgt := 67) hx hb (by omega) dX2_spread_60 (by decide) (fun c60 => ?_) (fun c60 => ?_)
          · refine lv_lload_n hx hb dX2_spread_67 rfl (lv_at hl 1 rfl) ?_
            refine lv_aload_n hx hb dX2_spread_68 rfl (lv_at hl 3 rfl) ?_
            refine mg_ps C w dX2_spread_69 ?_
            refine lv_iload_n hx hb dX2_spread_72 rfl (lv_at hl 2 rfl) ?_
            refine ml_ps C w (by omega) dX2_spread_73 ?_
            refine n_lsub hx hb (by have := mo_ge (ps := ps) cap f hf1.1 hf1.2; rw [(by omega : k = cap)]; exact this) dX2_spread_74 ?_
            refine n_l2i hx hb dX2_spread_75 ?_
            exact hret _ _ _ _ _ _ (by rw [spM, ho]; show _ = (nI (moF inn ps cap - ps f), _); rw [show moF inn ps cap = moF inn ps k from by rw [(by omega : cap = k)]]) w dX2_spread_76
          · exact absurd c60 (Nat.not_lt_zero _)
      · exact absurd c16 (by omega)
    | succ f ih =>
      intro k H locs ls hkf w hl
      refine lv_iload hx hb dX2_spread_10 (lv_at hl 0 rfl) ?_
      refine lv_aload_n hx hb dX2_spread_12 rfl (lv_at hl 3 rfl) ?_
      refine mg_cap C w dX2_spread_13 ?_
      refine n_icmp_ge (tgt := 59) hx hb (by omega) (by omega) dX2_spread_16 (by decide) (fun c16 => ?_) (fun c16 => ?_)
      · exact absurd c16 (by omega)
      · refine lv_aload_n hx hb dX2_spread_19 rfl (lv_at hl 3 rfl) ?_
        refine mg_inn C w dX2_spread_20 ?_
        refine lv_iload hx hb dX2_spread_23 (lv_at hl 0 rfl) ?_
        refine ml_inn C w (by omega) dX2_spread_25 ?_
        refine n_if_eq (tgt := 51) hx hb (by have := hin (k); omega) dX2_spread_26 (by decide) (fun c26 => ?_) (fun c26 => ?_)
        · refine lv_lload_n hx hb dX2_spread_51 rfl (lv_at hl 1 rfl) ?_
          refine lv_lstore_n (lv' := [(2, .long (lN (moF inn ps k))), (4, .int (nI k)), (1, .int (oI (frF inn ps cap))), (0, .ref (a 0))]) hx hb dX2_spread_52 rfl hl (by decide) rfl (fun ls hl => ?_)
          refine lv_iinc (v := nI (k + 1)) (lv' := [(4, .int (nI (k + 1))), (2, .long (lN (moF inn ps k))), (1, .int (oI (frF inn ps cap))), (0, .ref (a 0))]) hx hb dX2_spread_53 hl (k := 1) rfl (nI_1 _) (by decide) rfl (fun ls hl => ?_)
          refine lv_goto (tgt := 10) hx hb dX2_spread_56 (by decide) ?_
          exact ih (k + 1) _ _ _ (by omega) w (by rw [mo_z c26]; exact lv_sub hl [0, 1, 2, 3] rfl)
        · refine lv_aload_n hx hb dX2_spread_29 rfl (lv_at hl 3 rfl) ?_
          refine mg_ps C w dX2_spread_30 ?_
          refine lv_iload hx hb dX2_spread_33 (lv_at hl 0 rfl) ?_
          refine ml_ps C w (by omega) dX2_spread_35 ?_
          refine lv_lload_n hx hb dX2_spread_36 rfl (lv_at hl 1 rfl) ?_
          refine W.lcmp hx hb dX2_spread_37 ?_
          refine l_if_le (tgt := 51) hx hb (by have := hps k; omega) (by have := mo_lt (inn := inn) (b := 2 ^ 31) (by decide) hps k; omega) dX2_spread_38 (by decide) (fun c38 => ?_) (fun c38 => ?_)
          · refine lv_lload_n hx hb dX2_spread_51 rfl (lv_at hl 1 rfl) ?_
            refine lv_lstore_n (lv' := [(2, .long (lN (moF inn ps k))), (4, .int (nI k)), (1, .int (oI (frF inn ps cap))), (0, .ref (a 0))]) hx hb dX2_spread_52 rfl hl (by decide) rfl (fun ls hl => ?_)
            refine lv_iinc (v := nI (k + 1)) (lv' := [(4, .int (nI (k + 1))), (2, .long (lN (moF inn ps k))), (1, .int (oI (frF inn ps cap))), (0, .ref (a 0))]) hx hb dX2_spread_53 hl (k := 1) rfl (nI_1 _) (by decide) rfl (fun ls hl => ?_)
            refine lv_goto (tgt := 10) hx hb dX2_spread_56 (by decide) ?_
            exact ih (k + 1) _ _ _ (by omega) w (by rw [mo_n c38]; exact lv_sub hl [0, 1, 2, 3] rfl)
          · refine lv_aload_n hx hb dX2_spread_41 rfl (lv_at hl 3 rfl) ?_
            refine mg_ps C w dX2_spread_42 ?_
            refine lv_iload hx hb dX2_spread_45 (lv_at hl 0 rfl) ?_
            refine ml_ps C w (by omega) dX2_spread_47 ?_
            refine lv_goto (tgt := 52) hx hb dX2_spread_48 (by decide) ?_
            refine lv_lstore_n (lv' := [(2, .long (lN (ps k))), (4, .int (nI k)), (1, .int (oI (frF inn ps cap))), (0, .ref (a 0))]) hx hb dX2_spread_52 rfl hl (by decide) rfl (fun ls hl => ?_)
            refine lv_iinc (v := nI (k + 1)) (lv' := [(4, .int (nI (k + 1))), (2, .long (lN (ps k))), (1, .int (oI (frF inn ps cap))), (0, .ref (a 0))]) hx hb dX2_spread_53 hl (k := 1) rfl (nI_1 _) (by decide) rfl (fun ls hl => ?_)
            refine lv_goto (tgt := 10) hx hb dX2_spread_56 (by decide) ?_
            exact ih (k + 1) _ _ _ (by omega) w (by rw [mo_y c26 c38]; exact lv_sub hl [0, 1, 2, 3] rfl)
  refine lv_aload_n hx hb dX2_spread_0 rfl (lv_at hl 0 rfl) ?_
  refine callM_first C w hcap hin hps ⟨Nat.le_of_ble_eq_true rfl, Nat.le_of_ble_eq_true rfl⟩ (Nat.le_of_ble_eq_true rfl) hl.1 dX2_spread_1 ⟨Nat.le_refl _, Nat.le_refl _⟩ (fun H locs w => ?_)
  refine lv_istore_n (lv' := [(1, .int (oI (frF inn ps cap))), (0, .ref (a 0))]) hx hb dX2_spread_4 rfl hl (by decide) rfl (fun ls hl => ?_)
  refine lv_lconst (v := lN 0) hx hb dX2_spread_5 rfl ?_
  refine lv_lstore_n (lv' := [(2, .long (lN 0)), (1, .int (oI (frF inn ps cap))), (0, .ref (a 0))]) hx hb dX2_spread_6 rfl hl (by decide) rfl (fun ls hl => ?_)
  refine lv_iconst (v := nI 0) hx hb dX2_spread_7 (by decide +kernel) ?_
  refine lv_istore (lv' := [(4, .int (nI 0)), (2, .long (lN 0)), (1, .int (oI (frF inn ps cap))), (0, .ref (a 0))]) hx hb dX2_spread_8 hl (by decide) rfl (fun ls hl => ?_)
  exact loop cap 0 _ _ _ (by omega) w (lv_sub hl [0, 1, 2, 3] rfl)
set_option maxHeartbeats 4000000 in
set_option maxRecDepth 100000 in
/-- the model: order(x) -/
theorem metM_order {inn tk ps rn : Nat → Nat} {cap big n gp : Nat} {x : Int32} (ok : mOk (inn, tk, ps, rn, cap, big, n, gp)) : mMet yX2_order cX2_order 5 (some .int) { frames := 1, cells := 0, slots := 0, locals := 22 } [.int x] (inn, tk, ps, rn, cap, big, n, gp) (fun r u => (r, u) = odM (inn, tk, ps, rn, cap, big, n, gp) x) := by
  refine mMet_i (by decide) rfl (fun _ => Nat.le_of_ble_eq_true rfl) ?_
  intro p l e s m args below meth c D a d dz dl A Q ls C hret w hl
  have hx := C.1
  have hb := C.2.1
  have w : mW D A s a d dz dl inn tk ps rn cap big n gp s.heap [] := w
  have hl : lv_has ls 5 [(0, .ref (a 0)), (1, .int x)] := hl
  obtain ⟨hcap, hbig, hn1, hgp, hin, htk, hps, hio⟩ := ok
  refine lv_iload_n hx hb dX2_order_0 rfl (lv_at hl 1 rfl) ?_
  refine lv_if_lt (tgt := 12) hx hb dX2_order_1 (by decide) (fun c1 => ?_) (fun c1 => ?_)
  · refine lv_iconst (v := (-1)) hx hb dX2_order_12 (by decide +kernel) ?_
    exact hret _ _ _ _ _ _ (by rw [odM, if_neg (by rw [isC_lt c1]; decide)]) w dX2_order_13
  · refine lv_iload_n hx hb dX2_order_4 rfl (lv_at hl 1 rfl) ?_
    refine lv_aload_n hx hb dX2_order_5 rfl (lv_at hl 0 rfl) ?_
    refine mg_n C w dX2_order_6 ?_
    refine lv_icmp_lt (tgt := 14) hx hb dX2_order_9 (by decide) (fun c9 => ?_) (fun c9 => ?_)
    · obtain ⟨k, hk, rfl⟩ := isC_true (isC_of c1 (Int32.not_le.mpr c9)) (by omega)
      have hcl : (nI k).toNatClampNeg = k := nI_clamp (by omega)
      refine lv_iconst (v := nI 0) hx hb dX2_order_14 (by decide +kernel) ?_
      refine lv_istore_n (lv' := [(2, .int (nI 0)), (0, .ref (a 0)), (1, .int (nI k))]) hx hb dX2_order_15 rfl hl (by decide) rfl (fun ls hl => ?_)
      have loop : ∀ (f x : Nat) (H : Heap) (locs : List Loc) (ls : Array Slot), x + f = cap → orF inn ps cap k f x = orF inn ps cap k cap 0 → mW D A s a d dz dl inn tk ps rn cap big n gp H locs → lv_has ls 5 [(2, .int (nI x)), (0, .ref (a 0)), (1, .int (nI k))] → W p l e { frames := 1, cells := 0, slots := 0, locals := 22 } s m args below meth c H locs 0 0 Q (F0 m 16 ls []) := by
        clear w hl
        intro f
        induction f with
        | zero =>
          intro x H locs ls hxf he w hl
          refine lv_iload_n hx hb dX2_order_16 rfl (lv_at hl 0 rfl) ?_
          refine lv_aload_n hx hb dX2_order_17 rfl (lv_at hl 1 rfl) ?_
          refine mg_cap C w dX2_order_18 ?_
          refine n_icmp_ge (tgt := 109) hx hb (by omega) (by omega) dX2_order_21 (by decide) (fun c21 => ?_) (fun c21 => ?_)
          · refine lv_iconst (v := (-1)) hx hb dX2_order_109 (by decide +kernel) ?_
            exact hret _ _ _ _ _ _ (by rw [odM, if_pos (isC_nI hk (by omega)), hcl, ← he]; rfl) w dX2_order_110
          · exact absurd c21 (by omega)
        | succ f ih =>
          intro x H locs ls hxf he w hl
          refine lv_iload_n hx hb dX2_order_16 rfl (lv_at hl 0 rfl) ?_
          refine lv_aload_n hx hb dX2_order_17 rfl (lv_at hl 1 rfl) ?_
          refine mg_cap C w dX2_order_18 ?_
          refine n_icmp_ge (tgt := 109) hx hb (by omega) (by omega) dX2_order_21 (by decide) (fun c21 => ?_) (fun c21 => ?_)
          · exact absurd c21 (by omega)
          · refine lv_iconst (v := nI 0) hx hb dX2_order_24 (by decide +kernel) ?_
            refine lv_istore_n (lv' := [(3, .int (nI 0)), (2, .int (nI x)), (0, .ref (a 0)), (1, .int (nI k))]) hx hb dX2_order_25 rfl hl (by decide) rfl (fun ls hl => ?_)
            refine lv_iconst (v := nI 0) hx hb dX2_order_26 (by decide +kernel) ?_
            refine lv_istore (lv' := [(4, .int (nI 0)), (3, .int (nI 0)), (2, .int (nI x)), (0, .ref (a 0)), (1, .int (nI k))]) hx hb dX2_order_27 hl (by decide) rfl (fun ls hl => ?_)
            have inner : ∀ (g j : Nat) (H : Heap) (locs : List Loc) (ls : Array Slot), j + g = cap → mW D A s a d dz dl inn tk ps rn cap big n gp H locs → lv_has ls 5 [(4, .int (nI j)), (3, .int (nI (rkF inn ps x j))), (2, .int (nI x)), (0, .ref (a 0)), (1, .int (nI k))] → W p l e { frames := 1, cells := 0, slots := 0, locals := 22 } s m args below meth c H locs 0 0 Q (F0 m 29 ls []) := by
              clear w hl
              intro g
              induction g with
              | zero =>
                intro j H locs ls hjg w hl
                refine lv_iload hx hb dX2_order_29 (lv_at hl 0 rfl) ?_
                refine lv_aload_n hx hb dX2_order_31 rfl (lv_at hl 3 rfl) ?_
                refine mg_cap C w dX2_order_32 ?_
                refine n_icmp_ge (tgt := 87) hx hb (by omega) (by omega) dX2_order_35 (by decide) (fun c35 => ?_) (fun c35 => ?_)
                · refine lv_aload_n hx hb dX2_order_87 rfl (lv_at hl 3 rfl) ?_
                  refine mg_inn C w dX2_order_88 ?_
                  refine lv_iload_n hx hb dX2_order_91 rfl (lv_at hl 2 rfl) ?_
                  refine ml_inn C w (by omega) dX2_order_92 ?_
                  refine n_if_eq (tgt := 103) hx hb (by have := hin (x); omega) dX2_order_93 (by decide) (fun c93 => ?_) (fun c93 => ?_)
                  · refine lv_iinc (v := nI (x + 1)) (lv' := [(2, .int (nI (x + 1))), (4, .int (nI j)), (3, .int (nI (rkF inn ps x j))), (0, .ref (a 0)), (1, .int (nI k))]) hx hb dX2_order_103 hl (k := 2) rfl (nI_1 _) (by decide) rfl (fun ls hl => ?_)
                    refine lv_goto (tgt := 16) hx hb dX2_order_106 (by decide) ?_
                    exact ih (x + 1) _ _ _ (by omega) ((or_1 c93).symm.trans he) w (lv_sub hl [0, 3, 4] rfl)
                  · refine lv_iload_n hx hb dX2_order_96 rfl (lv_at hl 1 rfl) ?_
                    refine lv_iload_n hx hb dX2_order_97 rfl (lv_at hl 4 rfl) ?_
                    refine n_icmp_ne (tgt := 103) hx hb (by have := rk_le (inn := inn) (ps := ps) (x := x) j; omega) (by omega) dX2_order_98 (by decide) (fun c98 => ?_) (fun c98 => ?_)
                    · refine lv_iinc (v := nI (x + 1)) (lv' := [(2, .int (nI (x + 1))), (4, .int (nI j)), (3, .int (nI (rkF inn ps x j))), (0, .ref (a 0)), (1, .int (nI k))]) hx hb dX2_order_103 hl (k := 2) rfl (nI_1 _) (by decide) rfl (fun ls hl => ?_)
                      refine lv_goto (tgt := 16) hx hb dX2_order_106 (by decide) ?_
                      have h98 : rkF inn ps x cap ≠ k := by rw [show rkF inn ps x cap = rkF inn ps x j from by rw [(by omega : cap = j)]]; exact c98
                      exact ih (x + 1) _ _ _ (by omega) ((or_2 h98).symm.trans he) w (lv_sub hl [0, 3, 4] rfl)
                    · refine lv_iload_n hx hb dX2_order_101 rfl (lv_at hl 2 rfl) ?_
                      exact hret _ _ _ _ _ _ (by rw [odM, if_pos (isC_nI hk (by omega)), hcl, ← he, or_y c93 (by rw [show rkF inn ps x cap = rkF inn ps x j from by rw [(by omega : cap = j)]]; exact c98)]) w dX2_order_102
                · exact absurd c35 (by omega)
              | succ g ihg =>
                intro j H locs ls hjg w hl
                refine lv_iload hx hb dX2_order_29 (lv_at hl 0 rfl) ?_
                refine lv_aload_n hx hb dX2_order_31 rfl (lv_at hl 3 rfl) ?_
                refine mg_cap C w dX2_order_32 ?_
                refine n_icmp_ge (tgt := 87) hx hb (by omega) (by omega) dX2_order_35 (by decide) (fun c35 => ?_) (fun c35 => ?_)
                · exact absurd c35 (by omega)
                · refine lv_aload_n hx hb dX2_order_38 rfl (lv_at hl 3 rfl) ?_
                  refine mg_inn C w dX2_order_39 ?_
                  refine lv_iload_n hx hb dX2_order_42 rfl (lv_at hl 2 rfl) ?_
                  refine ml_inn C w (by omega) dX2_order_43 ?_
                  refine n_if_eq (tgt := 79) hx hb (by have := hin (x); omega) dX2_order_44 (by decide) (fun c44 => ?_) (fun c44 => ?_)
                  · refine lv_iload_n hx hb dX2_order_79 rfl (lv_at hl 1 rfl) ?_
                    refine lv_istore_n (lv' := [(3, .int (nI (rkF inn ps x j))), (4, .int (nI j)), (2, .int (nI x)), (0, .ref (a 0)), (1, .int (nI k))]) hx hb dX2_order_80 rfl hl (by decide) rfl (fun ls hl => ?_)
                    refine lv_iinc (v := nI (j + 1)) (lv' := [(4, .int (nI (j + 1))), (3, .int (nI (rkF inn ps x j))), (2, .int (nI x)), (0, .ref (a 0)), (1, .int (nI k))]) hx hb dX2_order_81 hl (k := 1) rfl (nI_1 _) (by decide) rfl (fun ls hl => ?_)
                    refine lv_goto (tgt := 29) hx hb dX2_order_84 (by decide) ?_
                    exact ihg (j + 1) _ _ _ (by omega) w (by rw [rk_1 c44]; exact lv_sub hl [0, 1, 2, 3, 4] rfl)
                  · refine lv_aload_n hx hb dX2_order_47 rfl (lv_at hl 3 rfl) ?_
                    refine mg_inn C w dX2_order_48 ?_
                    refine lv_iload hx hb dX2_order_51 (lv_at hl 0 rfl) ?_
                    refine ml_inn C w (by omega) dX2_order_53 ?_
                    refine n_if_eq (tgt := 79) hx hb (by have := hin (j); omega) dX2_order_54 (by decide) (fun c54 => ?_) (fun c54 => ?_)
                    · refine lv_iload_n hx hb dX2_order_79 rfl (lv_at hl 1 rfl) ?_
                      refine lv_istore_n (lv' := [(3, .int (nI (rkF inn ps x j))), (4, .int (nI j)), (2, .int (nI x)), (0, .ref (a 0)), (1, .int (nI k))]) hx hb dX2_order_80 rfl hl (by decide) rfl (fun ls hl => ?_)
                      refine lv_iinc (v := nI (j + 1)) (lv' := [(4, .int (nI (j + 1))), (3, .int (nI (rkF inn ps x j))), (2, .int (nI x)), (0, .ref (a 0)), (1, .int (nI k))]) hx hb dX2_order_81 hl (k := 1) rfl (nI_1 _) (by decide) rfl (fun ls hl => ?_)
                      refine lv_goto (tgt := 29) hx hb dX2_order_84 (by decide) ?_
                      exact ihg (j + 1) _ _ _ (by omega) w (by rw [rk_2 c54]; exact lv_sub hl [0, 1, 2, 3, 4] rfl)
                    · refine lv_iload hx hb dX2_order_57 (lv_at hl 0 rfl) ?_
                      refine lv_iload_n hx hb dX2_order_59 rfl (lv_at hl 2 rfl) ?_
                      refine n_icmp_eq (tgt := 79) hx hb (by omega) (by omega) dX2_order_60 (by decide) (fun c60 => ?_) (fun c60 => ?_)
                      · refine lv_iload_n hx hb dX2_order_79 rfl (lv_at hl 1 rfl) ?_
                        refine lv_istore_n (lv' := [(3, .int (nI (rkF inn ps x j))), (4, .int (nI j)), (2, .int (nI x)), (0, .ref (a 0)), (1, .int (nI k))]) hx hb dX2_order_80 rfl hl (by decide) rfl (fun ls hl => ?_)
                        refine lv_iinc (v := nI (j + 1)) (lv' := [(4, .int (nI (j + 1))), (3, .int (nI (rkF inn ps x j))), (2, .int (nI x)), (0, .ref (a 0)), (1, .int (nI k))]) hx hb dX2_order_81 hl (k := 1) rfl (nI_1 _) (by decide) rfl (fun ls hl => ?_)
                        refine lv_goto (tgt := 29) hx hb dX2_order_84 (by decide) ?_
                        exact ihg (j + 1) _ _ _ (by omega) w (by rw [rk_3 c60]; exact lv_sub hl [0, 1, 2, 3, 4] rfl)
                      · refine lv_aload_n hx hb dX2_order_63 rfl (lv_at hl 3 rfl) ?_
                        refine lv_iload hx hb dX2_order_64 (lv_at hl 0 rfl) ?_
                        refine lv_iload_n hx hb dX2_order_66 rfl (lv_at hl 2 rfl) ?_
                        refine callM_isBefore C w hps (by omega) (by omega) ⟨Nat.le_of_ble_eq_true rfl, Nat.le_of_ble_eq_true rfl⟩ (Nat.le_of_ble_eq_true rfl) hl.1 dX2_order_67 ⟨Nat.le_refl _, Nat.le_refl _⟩ (fun H locs w => ?_)
                        refine b_if_eq (tgt := 79) hx hb dX2_order_70 (by decide) (fun c70 => ?_) (fun c70 => ?_)
                        · refine lv_iload_n hx hb dX2_order_79 rfl (lv_at hl 1 rfl) ?_
                          refine lv_istore_n (lv' := [(3, .int (nI (rkF inn ps x j))), (4, .int (nI j)), (2, .int (nI x)), (0, .ref (a 0)), (1, .int (nI k))]) hx hb dX2_order_80 rfl hl (by decide) rfl (fun ls hl => ?_)
                          refine lv_iinc (v := nI (j + 1)) (lv' := [(4, .int (nI (j + 1))), (3, .int (nI (rkF inn ps x j))), (2, .int (nI x)), (0, .ref (a 0)), (1, .int (nI k))]) hx hb dX2_order_81 hl (k := 1) rfl (nI_1 _) (by decide) rfl (fun ls hl => ?_)
                          refine lv_goto (tgt := 29) hx hb dX2_order_84 (by decide) ?_
                          exact ihg (j + 1) _ _ _ (by omega) w (by rw [rk_4 c70]; exact lv_sub hl [0, 1, 2, 3, 4] rfl)
                        · refine lv_iload_n hx hb dX2_order_73 rfl (lv_at hl 1 rfl) ?_
                          refine lv_iconst (v := nI 1) hx hb dX2_order_74 (by decide +kernel) ?_
                          refine n_iadd hx hb dX2_order_75 ?_
                          refine lv_goto (tgt := 80) hx hb dX2_order_76 (by decide) ?_
                          refine lv_istore_n (lv' := [(3, .int (nI ((rkF inn ps x j) + 1))), (4, .int (nI j)), (2, .int (nI x)), (0, .ref (a 0)), (1, .int (nI k))]) hx hb dX2_order_80 rfl hl (by decide) rfl (fun ls hl => ?_)
                          refine lv_iinc (v := nI (j + 1)) (lv' := [(4, .int (nI (j + 1))), (3, .int (nI ((rkF inn ps x j) + 1))), (2, .int (nI x)), (0, .ref (a 0)), (1, .int (nI k))]) hx hb dX2_order_81 hl (k := 1) rfl (nI_1 _) (by decide) rfl (fun ls hl => ?_)
                          refine lv_goto (tgt := 29) hx hb dX2_order_84 (by decide) ?_
                          exact ihg (j + 1) _ _ _ (by omega) w (by rw [rk_y c44 c54 c60 c70]; exact lv_sub hl [0, 1, 2, 3, 4] rfl)
            exact inner cap 0 _ _ _ (by omega) w (lv_sub hl [0, 1, 2, 3, 4] rfl)
      exact loop cap 0 _ _ _ (by omega) rfl w (lv_sub hl [0, 1, 2] rfl)
    · refine lv_iconst (v := (-1)) hx hb dX2_order_12 (by decide +kernel) ?_
      exact hret _ _ _ _ _ _ (by rw [odM, if_neg (by rw [isC_ge (Int32.not_lt.mp c9)]; decide)]) w dX2_order_13
end
section
/-! the plain law: the order, and how a place changes hands in the heap -/
theorem bef_t {ps : Nat → Nat} {x y : Nat} : befB ps x y = true ↔ (ps x < ps y ∨ ps x = ps y ∧ x < y) := decide_eq_true_iff
theorem bef_f {ps : Nat → Nat} {x y : Nat} : befB ps x y = false ↔ ¬ (ps x < ps y ∨ ps x = ps y ∧ x < y) := decide_eq_false_iff_not
theorem bef_as {ps : Nat → Nat} {x y : Nat} (h : befB ps x y = true) : befB ps y x = false := by
  rw [bef_f]; rw [bef_t] at h; omega
theorem bef_tr {ps : Nat → Nat} {x y z : Nat} (h : befB ps x y = true) (h2 : befB ps y z = true) : befB ps x z = true := by
  rw [bef_t] at *; omega
theorem bef_ff {ps : Nat → Nat} {x y z : Nat} (h : befB ps x y = false) (h2 : befB ps y z = false) : befB ps x z = false := by
  rw [bef_f] at *; omega
theorem bef_tf {ps : Nat → Nat} {x y z : Nat} (h : befB ps x y = true) (h2 : befB ps z y = false) : befB ps z x = false := by
  rw [bef_f] at *; rw [bef_t] at h; omega
theorem bef_eq {ps : Nat → Nat} {x y : Nat} (h : befB ps x y = false) (h2 : befB ps y x = false) : x = y := by
  rw [bef_f] at *; omega
theorem bef_tot {ps : Nat → Nat} {x y : Nat} (hn : x ≠ y) (h : befB ps x y = false) : befB ps y x = true := by
  rw [bef_f] at h; rw [bef_t]; omega
theorem bef_self {ps : Nat → Nat} {x : Nat} : befB ps x x = false := by
  rw [bef_f]; omega
/-- another client's pass doesn't matter -/
theorem bef_up {ps : Nat → Nat} {x y z v : Nat} (hx : x ≠ z) (hy : y ≠ z) : befB (va_up ps z v) x y = befB ps x y := by
  unfold befB
  rw [up_n hx, up_n hy]
def PB (n : Nat) (hp po : Nat → Nat) : Prop := (∀ i, i < n → po (hp i) = i + 1) ∧ ∀ z, 0 < po z → po z ≤ n ∧ hp (po z - 1) = z
def Od (ps : Nat → Nat) (n : Nat) (hp : Nat → Nat) : Prop := ∀ i, 0 < i → i < n → befB ps (hp i) (hp ((i - 1) / 2)) = false
theorem PB_y {n x k q : Nat} {hp po : Nat → Nat} (hq : q < n) (hne : q ≠ k) (h : PB n (va_up hp k x) (va_up po x (k + 1))) : hp q ≠ x ∧ po (hp q) = q + 1 := by
  have h1 := h.1 q hq
  rw [up_n hne] at h1
  have hx : hp q ≠ x := by
    intro e
    rw [e, up_s] at h1
    omega
  rw [up_n hx] at h1
  exact ⟨hx, h1⟩
theorem PB_swap {n x k q : Nat} {hp po : Nat → Nat} (hk : k < n) (hq : q < n) (hne : q ≠ k) (h : PB n (va_up hp k x) (va_up po x (k + 1))) : PB n (va_up (va_up hp k (hp q)) q x) (va_up (va_up po (hp q) (k + 1)) x (q + 1)) := by
  obtain ⟨hyx, hpy⟩ := PB_y hq hne h
  refine ⟨fun i hi => ?_, fun z hz => ?_⟩
  · by_cases e1 : i = q
    · rw [e1, up_s, up_s]
    · rw [up_n e1]
      by_cases e2 : i = k
      · rw [e2, up_s, up_n hyx, up_s]
      · rw [up_n e2]
        obtain ⟨h1, h2⟩ := PB_y hi e2 h
        have h3 : hp i ≠ hp q := fun e => by rw [e, hpy] at h2; omega
        rw [up_n h1, up_n h3, h2]
  · by_cases e1 : z = x
    · rw [e1, up_s]
      exact ⟨by omega, by rw [Nat.add_sub_cancel, up_s]⟩
    · rw [up_n e1] at hz ⊢
      by_cases e2 : z = hp q
      · rw [e2, up_s]
        refine ⟨by omega, ?_⟩
        rw [Nat.add_sub_cancel, up_n (Ne.symm hne), up_s]
      · rw [up_n e2] at hz ⊢
        have h1 := h.2 z (by rw [up_n e1]; exact hz)
        rw [up_n e1] at h1
        refine ⟨h1.1, ?_⟩
        have n1 : po z - 1 ≠ k := fun e => e1 (by rw [e, up_s] at h1; exact h1.2.symm)
        have h2 := h1.2
        rw [up_n n1] at h2
        have n2 : po z - 1 ≠ q := fun e => e2 (by rw [e] at h2; exact h2.symm)
        rw [up_n n2, up_n n1, h2]
theorem PB_same {n x k q : Nat} {hp po : Nat → Nat} (hq : q < n) (hne : q ≠ k) (h : PB n (va_up hp k x) (va_up po x (k + 1))) (z : Nat) : 0 < va_up (va_up po (hp q) (k + 1)) x (q + 1) z ↔ 0 < va_up po x (k + 1) z := by
  obtain ⟨hyx, hpy⟩ := PB_y hq hne h
  by_cases e1 : z = x
  · rw [e1, up_s, up_s]; omega
  · rw [up_n e1, up_n e1]
    by_cases e2 : z = hp q
    · rw [e2, up_s, hpy]; omega
    · rw [up_n e2]
/-- up: all places hold their own, the order is right but at the place k -/
theorem upT {ps : Nat → Nat} {n x : Nat} : ∀ (f k : Nat) (hp po : Nat → Nat), k ≤ f → k < n → PB n (va_up hp k x) (va_up po x (k + 1)) → (∀ i, 0 < i → i < n → i ≠ k → befB ps (va_up hp k x i) (va_up hp k x ((i - 1) / 2)) = false) → (0 < k → ∀ i, 0 < i → i < n → (i - 1) / 2 = k → befB ps (va_up hp k x i) (va_up hp k x ((k - 1) / 2)) = false) →
    PB n (upF ps x f hp po k).1 (upF ps x f hp po k).2 ∧ Od ps n (upF ps x f hp po k).1 ∧ ∀ z, 0 < (upF ps x f hp po k).2 z ↔ 0 < va_up po x (k + 1) z := by
  intro f
  induction f with
  | zero =>
    intro k hp po hf hk h1 h2 h3
    have hk0 : k = 0 := by omega
    rw [upF_0 hk0]
    refine ⟨h1, fun i hi hn => h2 i hi hn (by omega), fun z => Iff.rfl⟩
  | succ f ih =>
    intro k hp po hf hk h1 h2 h3
    by_cases hk0 : k = 0
    · rw [upF_0 hk0]
      exact ⟨h1, fun i hi hn => h2 i hi hn (by omega), fun z => Iff.rfl⟩
    · cases hb : befB ps x (hp ((k - 1) / 2)) with
      | false =>
        rw [upF_n hb]
        refine ⟨h1, fun i hi hn => ?_, fun z => Iff.rfl⟩
        by_cases e : i = k
        · show befB ps (va_up hp k x i) (va_up hp k x ((i - 1) / 2)) = false
          rw [e, up_s, up_n (by omega)]
          exact hb
        · exact h2 i hi hn e
      | true =>
        rw [upF_s (by omega) hb]
        have hq : (k - 1) / 2 < k := by omega
        generalize hqe : (k - 1) / 2 = q at hb hq h3 ⊢
        have hyp : va_up hp k x q = hp q := up_n (by omega)
        refine (fun r => ⟨r.1, r.2.1, fun z => (r.2.2 z).trans (PB_same (by omega) (by omega) h1 z)⟩) (ih q (va_up hp k (hp q)) (va_up po (hp q) (k + 1)) (by omega) (by omega) (PB_swap hk (by omega) (by omega) h1) (fun i hi hn hne => ?_) (fun hq0 i hi hn hc => ?_))
        · rw [up_n hne]
          by_cases e1 : i = k
          · rw [e1, up_s, hqe, up_s]
            exact bef_as hb
          · rw [up_n e1]
            have g1 := h2 i hi hn e1
            rw [up_n e1] at g1
            by_cases e2 : (i - 1) / 2 = q
            · rw [e2, up_s]
              rw [e2, hyp] at g1
              exact bef_tf hb g1
            · rw [up_n e2]
              by_cases e3 : (i - 1) / 2 = k
              · have g2 := h3 (by omega) i hi hn e3
                rw [up_n e1, hyp] at g2
                rw [e3, up_s]
                exact g2
              · rw [up_n e3] at g1 ⊢
                exact g1
        · have hi1 : i ≠ q := by omega
          have hq1 : (q - 1) / 2 ≠ q := by omega
          have hq2 : (q - 1) / 2 ≠ k := by omega
          rw [up_n hi1, up_n hq1, up_n hq2]
          have g3 := h2 q hq0 (by omega) (by omega)
          rw [hyp, up_n hq2] at g3
          by_cases e1 : i = k
          · rw [e1, up_s]
            exact g3
          · rw [up_n e1]
            have g1 := h2 i hi hn e1
            rw [up_n e1, hc, hyp] at g1
            exact bef_ff g1 g3
theorem ch_min {ps : Nat → Nat} {n k : Nat} {hp : Nat → Nat} (i : Nat) (hi : 0 < i) (hn : i < n) (hc : (i - 1) / 2 = k) : befB ps (hp i) (hp (chF ps n hp k)) = false := by
  have h12 : i = 2 * k + 1 ∨ i = 2 * k + 1 + 1 := by omega
  unfold chF
  by_cases c : 2 * k + 1 + 1 < n ∧ befB ps (hp (2 * k + 1 + 1)) (hp (2 * k + 1)) = true
  · rw [if_pos c]
    rcases h12 with e | e
    · rw [e]; exact bef_as c.2
    · rw [e]; exact bef_self
  · rw [if_neg c]
    rcases h12 with e | e
    · rw [e]; exact bef_self
    · rw [e]
      cases hb : befB ps (hp (2 * k + 1 + 1)) (hp (2 * k + 1)) with
      | false => rfl
      | true => exact absurd ⟨by omega, hb⟩ c
theorem ch_par {ps : Nat → Nat} {n k : Nat} {hp : Nat → Nat} : (chF ps n hp k - 1) / 2 = k := by
  unfold chF
  split <;> omega
/-- down: all places hold their own, the order is right but for the children of the place k -/
theorem dnT {ps : Nat → Nat} {n x : Nat} : ∀ (f k : Nat) (hp po : Nat → Nat), n ≤ k + f → k < n → PB n (va_up hp k x) (va_up po x (k + 1)) → (∀ i, 0 < i → i < n → (i - 1) / 2 ≠ k → befB ps (va_up hp k x i) (va_up hp k x ((i - 1) / 2)) = false) → (0 < k → ∀ i, 0 < i → i < n → (i - 1) / 2 = k → befB ps (va_up hp k x i) (va_up hp k x ((k - 1) / 2)) = false) →
    PB n (dnF ps n x f hp po k).1 (dnF ps n x f hp po k).2 ∧ Od ps n (dnF ps n x f hp po k).1 ∧ ∀ z, 0 < (dnF ps n x f hp po k).2 z ↔ 0 < va_up po x (k + 1) z := by
  intro f
  induction f with
  | zero =>
    intro k hp po hf hk
    omega
  | succ f ih =>
    intro k hp po hf hk h1 h2 h3
    by_cases hlast : n ≤ 2 * k + 1
    · rw [dnF_0 hlast]
      exact ⟨h1, fun i hi hn => h2 i hi hn (by omega), fun z => Iff.rfl⟩
    · have hcl := chF_lt (ps := ps) (hp := hp) (show 2 * k + 1 < n by omega)
      have hcg := chF_gt (ps := ps) (hp := hp) (n := n) (k := k)
      have hcp := ch_par (ps := ps) (hp := hp) (n := n) (k := k)
      have hcm := ch_min (ps := ps) (hp := hp) (n := n) (k := k)
      generalize hE : chF ps n hp k = q at hcl hcg hcp hcm
      have hyp : va_up hp k x q = hp q := up_n (by omega)
      cases hb : befB ps (hp q) x with
      | false =>
        rw [dnF_n hE hb]
        refine ⟨h1, fun i hi hn => ?_, fun z => Iff.rfl⟩
        by_cases e : (i - 1) / 2 = k
        · show befB ps (va_up hp k x i) (va_up hp k x ((i - 1) / 2)) = false
          rw [e, up_s, up_n (by omega)]
          exact bef_ff (hcm i hi hn e) hb
        · exact h2 i hi hn e
      | true =>
        rw [dnF_s hE (by omega) hb]
        refine (fun r => ⟨r.1, r.2.1, fun z => (r.2.2 z).trans (PB_same hcl (by omega) h1 z)⟩) (ih q (va_up hp k (hp q)) (va_up po (hp q) (k + 1)) (by omega) hcl (PB_swap hk hcl (by omega) h1) (fun i hi hn hne => ?_) (fun hq0 i hi hn hc => ?_))
        · rw [up_n hne]
          by_cases e1 : i = q
          · rw [e1, up_s, hcp, up_s]
            exact bef_as hb
          · rw [up_n e1]
            by_cases e2 : i = k
            · have hp2 : (k - 1) / 2 ≠ k := by omega
              rw [e2, up_s, up_n hp2]
              have g := h3 (by omega) q (by omega) hcl hcp
              rw [hyp, up_n hp2] at g
              exact g
            · rw [up_n e2]
              by_cases e3 : (i - 1) / 2 = k
              · rw [e3, up_s]
                exact hcm i hi hn e3
              · rw [up_n e3]
                have g := h2 i hi hn e3
                rw [up_n e2, up_n e3] at g
                exact g
        · have e1 : i ≠ q := by omega
          have e2 : i ≠ k := by omega
          have e3 : k ≠ q := by omega
          rw [up_n e1, up_n e2, hcp, up_n e3, up_s]
          have g := h2 i hi hn (by omega)
          rw [up_n e2, hc, hyp] at g
          exact g
end
section
/-! counts, the top of the heap, the clients in order -/
def cnF (f : Nat → Nat) : Nat → Nat
  | 0 => 0
  | k + 1 => if 0 < f k then cnF f k + 1 else cnF f k
theorem cn_le (f : Nat → Nat) : ∀ k, cnF f k ≤ k
  | 0 => Nat.le_refl _
  | k + 1 => by
    have := cn_le f k
    unfold cnF
    split <;> omega
theorem cn_lt {f : Nat → Nat} {x : Nat} (h0 : f x = 0) : ∀ k, x < k → cnF f k < k
  | 0, h => by omega
  | k + 1, h => by
    unfold cnF
    by_cases e : x = k
    · subst e
      have := cn_le f x
      rw [if_neg (by omega)]
      omega
    · have := cn_lt h0 k (by omega)
      split <;> omega
theorem cn_eq {f g : Nat → Nat} (h : ∀ i, 0 < f i ↔ 0 < g i) : ∀ k, cnF f k = cnF g k
  | 0 => rfl
  | k + 1 => by
    have := cn_eq h k
    unfold cnF
    by_cases c : 0 < f k
    · rw [if_pos c, if_pos ((h k).mp c), this]
    · rw [if_neg c, if_neg (fun q => c ((h k).mpr q)), this]
theorem cn_add {f g : Nat → Nat} {x : Nat} (h0 : f x = 0) (h1 : 0 < g x) (h : ∀ i, i ≠ x → (0 < f i ↔ 0 < g i)) : ∀ k, (x < k → cnF g k = cnF f k + 1) ∧ (k ≤ x → cnF g k = cnF f k)
  | 0 => ⟨fun q => by omega, fun _ => rfl⟩
  | k + 1 => by
    have ih := cn_add h0 h1 h k
    unfold cnF
    by_cases e : x = k
    · subst e
      refine ⟨fun _ => ?_, fun q => by omega⟩
      rw [if_pos h1, if_neg (by omega), ih.2 (Nat.le_refl _)]
    · have hk := h k (Ne.symm e)
      refine ⟨fun q => ?_, fun q => ?_⟩
      · have := ih.1 (by omega)
        by_cases c : 0 < f k
        · rw [if_pos c, if_pos (hk.mp c), this]
        · rw [if_neg c, if_neg (fun q => c (hk.mpr q)), this]
      · have := ih.2 (by omega)
        by_cases c : 0 < f k
        · rw [if_pos c, if_pos (hk.mp c), this]
        · rw [if_neg c, if_neg (fun q => c (hk.mpr q)), this]
def inO (po : Nat → Nat) : Nat → Nat := fun z => if 0 < po z then 1 else 0
theorem in_pos {po : Nat → Nat} {z : Nat} : 0 < inO po z ↔ 0 < po z := by
  unfold inO
  split <;> omega
theorem in_le {po : Nat → Nat} (z : Nat) : inO po z ≤ 1 := by
  unfold inO
  split <;> omega
theorem in_same {po po1 : Nat → Nat} (h : ∀ z, 0 < po1 z ↔ 0 < po z) : inO po1 = inO po := by
  funext z
  unfold inO
  by_cases c : 0 < po z
  · rw [if_pos c, if_pos ((h z).mpr c)]
  · rw [if_neg c, if_neg (fun q => c ((h z).mp q))]
theorem in_up1 {po po1 : Nat → Nat} {x k : Nat} (h : ∀ z, 0 < po1 z ↔ 0 < va_up po x (k + 1) z) : inO po1 = va_up (inO po) x 1 := by
  rw [in_same h]
  funext z
  by_cases e : z = x
  · rw [e, up_s]
    unfold inO
    rw [up_s, if_pos (by omega)]
  · rw [up_n e]
    unfold inO
    rw [up_n e]
theorem in_up0 {po : Nat → Nat} {x : Nat} : inO (va_up po x 0) = va_up (inO po) x 0 := by
  funext z
  by_cases e : z = x
  · rw [e, up_s]
    unfold inO
    rw [up_s, if_neg (by omega)]
  · rw [up_n e]
    unfold inO
    rw [up_n e]
theorem up_id {f : Nat → Nat} {k v : Nat} (h : f k = v) : va_up f k v = f := by
  funext z
  by_cases e : z = k
  · rw [e, up_s, h]
  · rw [up_n e]
theorem top_min {ps hp : Nat → Nat} {n : Nat} (h : Od ps n hp) : ∀ (f i : Nat), i ≤ f → i < n → befB ps (hp i) (hp 0) = false
  | 0, i, hf, hn => by
    rw [(by omega : i = 0)]
    exact bef_self
  | f + 1, i, hf, hn => by
    by_cases e : i = 0
    · rw [e]; exact bef_self
    · exact bef_ff (h i (by omega) hn) (top_min h f ((i - 1) / 2) (by omega) (by omega))
theorem fr_none {inn ps : Nat → Nat} : ∀ k, frF inn ps k = none → ∀ j, j < k → inn j = 0
  | 0, _, j, hj => by omega
  | k + 1, h, j, hj => by
    by_cases hi : inn k = 0
    · rw [fr_z hi] at h
      by_cases e : j = k
      · rw [e]; exact hi
      · exact fr_none k h j (by omega)
    · exfalso
      cases hf : frF inn ps k with
      | none => rw [fr_n (by omega) hf] at h; cases h
      | some g =>
        cases hb : befB ps k g with
        | true => rw [fr_y (by omega) hf hb] at h; cases h
        | false => rw [fr_f hf hb] at h; cases h
theorem fr_min {inn ps : Nat → Nat} : ∀ (k f : Nat), frF inn ps k = some f → ∀ j, j < k → 0 < inn j → befB ps j f = false
  | 0, _, _, j, hj, _ => by omega
  | k + 1, f, h, j, hj, hj0 => by
    by_cases hi : inn k = 0
    · rw [fr_z hi] at h
      by_cases e : j = k
      · rw [e] at hj0; omega
      · exact fr_min k f h j (by omega) hj0
    · cases hf : frF inn ps k with
      | none =>
        rw [fr_n (by omega) hf] at h
        cases h
        by_cases e : j = k
        · rw [e]; exact bef_self
        · have := fr_none k hf j (by omega)
          omega
      | some g =>
        cases hb : befB ps k g with
        | true =>
          rw [fr_y (by omega) hf hb] at h
          cases h
          by_cases e : j = k
          · rw [e]; exact bef_self
          · exact bef_tf hb (fr_min k g hf j (by omega) hj0)
        | false =>
          rw [fr_f hf hb] at h
          cases h
          by_cases e : j = k
          · rw [e]; exact hb
          · exact fr_min k f hf j (by omega) hj0
theorem fr_top {ps hp po : Nat → Nat} {n cap : Nat} (hB : PB n hp po) (hO : Od ps n hp) (hc : ∀ z, 0 < po z → z < cap) (hn : 0 < n) : frF (inO po) ps cap = some (hp 0) := by
  have h0 := hB.1 0 hn
  cases hf : frF (inO po) ps cap with
  | none =>
    have := fr_none cap hf (hp 0) (hc _ (by omega))
    have := (in_pos (po := po) (z := hp 0)).mpr (by omega)
    omega
  | some f =>
    obtain ⟨h1, h2⟩ := fr_in hf
    have h3 := in_pos.mp h2
    have h4 := hB.2 f h3
    have h5 := top_min hO _ (po f - 1) (Nat.le_refl _) (by omega)
    rw [h4.2] at h5
    have h6 := fr_min cap f hf (hp 0) (hc _ (by omega)) (in_pos.mpr (by omega))
    rw [bef_eq h5 h6]
theorem fr_bot {ps hp po : Nat → Nat} {cap : Nat} (hB : PB 0 hp po) : frF (inO po) ps cap = none := by
  cases hf : frF (inO po) ps cap with
  | none => rfl
  | some f =>
    obtain ⟨h1, h2⟩ := fr_in hf
    have h3 := in_pos.mp h2
    have h4 := hB.2 f h3
    omega
theorem mo_le {inn ps : Nat → Nat} {b : Nat} : ∀ k, (∀ j, j < k → 0 < inn j → ps j ≤ b) → moF inn ps k ≤ b
  | 0, _ => Nat.zero_le _
  | k + 1, h => by
    have h1 := mo_le k (fun j hj hi => h j (by omega) hi)
    unfold moF
    split
    · rename_i q
      exact h k (by omega) q.1
    · exact h1
theorem gm_le {ps hp : Nat → Nat} {b : Nat} (h0 : ps (hp 0) ≤ b) : ∀ k, (∀ j, j < k → ps (hp j) ≤ b) → gmF ps hp k ≤ b
  | 0, _ => h0
  | k + 1, h => by
    have h1 := gm_le h0 k (fun j hj => h j (by omega))
    unfold gmF
    split
    · exact h k (by omega)
    · exact h1
theorem gm_at {ps hp : Nat → Nat} : ∀ k i, i < k → ps (hp i) ≤ gmF ps hp k
  | 0, i, h => by omega
  | k + 1, i, h => by
    unfold gmF
    by_cases e : i = k
    · rw [e]
      split <;> omega
    · have := gm_at (ps := ps) (hp := hp) k i (by omega)
      split <;> omega
theorem mo_gm {ps hp po : Nat → Nat} {n cap : Nat} (hB : PB n hp po) (hc : ∀ z, 0 < po z → z < cap) (hn : 0 < n) : moF (inO po) ps cap = gmF ps hp n := by
  have hm : ∀ i, i < n → ps (hp i) ≤ moF (inO po) ps cap := fun i hi => mo_ge cap (hp i) (hc _ (by have := hB.1 i hi; omega)) (in_pos.mpr (by have := hB.1 i hi; omega))
  apply Nat.le_antisymm
  · refine mo_le cap (fun j hj hi => ?_)
    have h4 := hB.2 j (in_pos.mp hi)
    have h5 := in_pos.mp hi
    have := gm_at (ps := ps) (hp := hp) n (po j - 1) (by omega)
    rw [h4.2] at this
    exact this
  · exact gm_le (hm 0 hn) n hm
/-! the clients in order -/
theorem in_sp {ps : Nat → Nat} {x : Nat} : ∀ (k : Nat) (sp : Nat → Nat), ∃ q, q ≤ k ∧ (∀ j, j < q → inF ps x k sp j = sp j) ∧ inF ps x k sp q = x ∧ (∀ j, q ≤ j → j < k → inF ps x k sp (j + 1) = sp j) ∧ (∀ j, q ≤ j → j < k → befB ps x (sp j) = true) ∧ (0 < q → befB ps x (sp (q - 1)) = false) ∧ ∀ j, k < j → inF ps x k sp j = sp j
  | 0, sp => ⟨0, Nat.le_refl _, fun j h => by omega, up_s, fun j h1 h2 => by omega, fun j h1 h2 => by omega, fun h => by omega, fun j h => up_n (by omega)⟩
  | k + 1, sp => by
    cases hb : befB ps x (sp k) with
    | false =>
      rw [in_n hb]
      exact ⟨k + 1, Nat.le_refl _, fun j h => up_n (by omega), up_s, fun j h1 h2 => by omega, fun j h1 h2 => by omega, fun _ => hb, fun j h => up_n (by omega)⟩
    | true =>
      rw [in_y hb]
      obtain ⟨q, h1, h2, h3, h4, h5, h6, h7⟩ := in_sp (ps := ps) (x := x) k (va_up sp (k + 1) (sp k))
      refine ⟨q, by omega, fun j h => ?_, h3, fun j ha hb => ?_, fun j ha hc => ?_, fun h => ?_, fun j h => ?_⟩
      · rw [h2 j h, up_n (by omega)]
      · by_cases e : j = k
        · rw [e, h7 (k + 1) (by omega), up_s]
        · rw [h4 j ha (by omega), up_n (by omega)]
      · by_cases e : j = k
        · rw [e]; exact hb
        · have := h5 j ha (by omega)
          rw [up_n (by omega)] at this
          exact this
      · have := h6 h
        rw [up_n (by omega)] at this
        exact this
      · rw [h7 j (by omega), up_n (by omega)]
def So (ps : Nat → Nat) (n : Nat) (f : Nat → Nat) : Prop := ∀ i j, i < j → j < n → befB ps (f i) (f j) = true
theorem sr_so {ps hp sp : Nat → Nat} {n : Nat} (hi : ∀ i j, i < n → j < n → hp i = hp j → i = j) : ∀ i, i ≤ n → So ps i (srF ps hp i sp) ∧ (∀ k, k < i → ∃ j, j < i ∧ srF ps hp i sp k = hp j) ∧ ∀ j, j < i → ∃ k, k < i ∧ srF ps hp i sp k = hp j
  | 0, _ => ⟨fun i j h1 h2 => by omega, fun k h => by omega, fun k h => by omega⟩
  | i + 1, hin => by
    obtain ⟨s1, s2, s3⟩ := sr_so (sp := sp) (ps := ps) hi i (by omega)
    show So ps (i + 1) (inF ps (hp i) i (srF ps hp i sp)) ∧ (∀ k, k < i + 1 → ∃ j, j < i + 1 ∧ inF ps (hp i) i (srF ps hp i sp) k = hp j) ∧ ∀ j, j < i + 1 → ∃ k, k < i + 1 ∧ inF ps (hp i) i (srF ps hp i sp) k = hp j
    generalize srF ps hp i sp = g at s1 s2 s3 ⊢
    have hx : ∀ k, k < i → g k ≠ hp i := fun k hk e => by
      obtain ⟨j, hj, ej⟩ := s2 k hk
      have := hi j i (by omega) (by omega) (by rw [← ej, e])
      omega
    obtain ⟨q, h1, h2, h3, h4, h5, h6, -⟩ := in_sp (ps := ps) (x := hp i) i g
    generalize inF ps (hp i) i g = T at h2 h3 h4 ⊢
    have hT : ∀ k, q < k → k ≤ i → T k = g (k - 1) := fun k ha hb => by
      have := h4 (k - 1) (by omega) (by omega)
      rw [(by omega : k - 1 + 1 = k)] at this
      exact this
    refine ⟨fun a b hab hb => ?_, fun k hk => ?_, fun j hj => ?_⟩
    · by_cases c1 : b < q
      · rw [h2 a (by omega), h2 b c1]
        exact s1 a b hab (by omega)
      · by_cases c2 : b = q
        · rw [c2, h3, h2 a (by omega)]
          have e1 : befB ps (hp i) (g a) = false := by
            have e0 := h6 (by omega)
            by_cases e : a = q - 1
            · rw [e]; exact e0
            · exact bef_tf (s1 a (q - 1) (by omega) (by omega)) e0
          exact bef_tot (Ne.symm (hx a (by omega))) e1
        · rw [hT b (by omega) (by omega)]
          by_cases c3 : a < q
          · rw [h2 a c3]
            exact s1 a (b - 1) (by omega) (by omega)
          · by_cases c4 : a = q
            · rw [c4, h3]
              exact h5 (b - 1) (by omega) (by omega)
            · rw [hT a (by omega) (by omega)]
              exact s1 (a - 1) (b - 1) (by omega) (by omega)
    · by_cases c1 : k < q
      · obtain ⟨j, hj, e⟩ := s2 k (by omega)
        exact ⟨j, by omega, by rw [h2 k c1, e]⟩
      · by_cases c2 : k = q
        · exact ⟨i, by omega, by rw [c2, h3]⟩
        · obtain ⟨j, hj, e⟩ := s2 (k - 1) (by omega)
          exact ⟨j, by omega, by rw [hT k (by omega) (by omega), e]⟩
    · by_cases c0 : j = i
      · exact ⟨q, by omega, by rw [h3, c0]⟩
      · obtain ⟨k, hk, e⟩ := s3 j (by omega)
        by_cases c1 : k < q
        · exact ⟨k, by omega, by rw [h2 k c1, e]⟩
        · exact ⟨k + 1, by omega, by rw [h4 k (by omega) hk, e]⟩
def gkF (f : Nat → Nat) : Nat → (Nat → Nat)
  | 0 => fun _ => 0
  | k + 1 => va_up (gkF f k) (f k) 1
theorem gk_pos {f : Nat → Nat} : ∀ (k z : Nat), 0 < gkF f k z ↔ ∃ j, j < k ∧ f j = z
  | 0, z => ⟨fun h => absurd h (Nat.lt_irrefl 0), fun ⟨j, hj, _⟩ => by omega⟩
  | k + 1, z => by
    have ih := gk_pos (f := f) k z
    unfold gkF
    by_cases e : z = f k
    · rw [e, up_s]
      exact ⟨fun _ => ⟨k, by omega, rfl⟩, fun _ => by omega⟩
    · rw [up_n e]
      refine ⟨fun h => ?_, fun ⟨j, hj, ej⟩ => ?_⟩
      · obtain ⟨j, hj, ej⟩ := ih.mp h
        exact ⟨j, by omega, ej⟩
      · refine ih.mpr ⟨j, ?_, ej⟩
        have : j ≠ k := fun q => e (by rw [← ej, q])
        omega
theorem gk_cn {f : Nat → Nat} {N : Nat} : ∀ k, (∀ i j, i < j → j < k → f i ≠ f j) → (∀ j, j < k → f j < N) → cnF (gkF f k) N = k
  | 0, _, _ => by
    have h : ∀ m, cnF (gkF f 0) m = 0 := fun m => by
      induction m with
      | zero => rfl
      | succ m ih =>
        unfold cnF
        rw [if_neg (by show ¬ 0 < 0; omega), ih]
    exact h N
  | k + 1, h1, h2 => by
    have ih := gk_cn (f := f) (N := N) k (fun i j a b => h1 i j a (by omega)) (fun j hj => h2 j (by omega))
    have h0 : gkF f k (f k) = 0 := by
      have : ¬ 0 < gkF f k (f k) := fun q => by
        obtain ⟨j, hj, ej⟩ := (gk_pos k (f k)).mp q
        exact h1 j k hj (by omega) ej
      omega
    have := (cn_add (f := gkF f k) (g := gkF f (k + 1)) (x := f k) h0 (by unfold gkF; rw [up_s]; omega) (fun i hi => by rw [show gkF f (k + 1) i = gkF f k i from up_n hi]) N).1 (h2 k (by omega))
    rw [this, ih]
theorem rk_cn {inn ps g : Nat → Nat} {x : Nat} : ∀ N, (∀ j, j < N → ((0 < inn x ∧ 0 < inn j ∧ j ≠ x ∧ befB ps j x = true) ↔ 0 < g j)) → rkF inn ps x N = cnF g N
  | 0, _ => rfl
  | N + 1, h => by
    have ih := rk_cn N (fun j hj => h j (by omega))
    unfold rkF cnF
    by_cases c : 0 < g N
    · rw [if_pos c, if_pos ((h N (by omega)).mpr c), ih]
    · rw [if_neg c, if_neg (fun q => c ((h N (by omega)).mp q)), ih]
theorem or_find {inn ps : Nat → Nat} {cap k z : Nat} (hz : z < cap) (h0 : 0 < inn z) (hr : rkF inn ps z cap = k) (hu : ∀ y, y < cap → 0 < inn y → rkF inn ps y cap = k → y = z) : ∀ f x, x + f = cap → x ≤ z → orF inn ps cap k f x = nI z
  | 0, x, h1, h2 => by omega
  | f + 1, x, h1, h2 => by
    by_cases e : x = z
    · rw [e]
      exact or_y h0 hr
    · have ih := or_find hz h0 hr hu f (x + 1) (by omega) (by omega)
      by_cases c1 : inn x = 0
      · rw [or_1 c1, ih]
      · rw [or_2 (fun q => e (hu x (by omega) (by omega) q)), ih]
/-- the place k of the order: what the insertion finds is what the search by rank finds -/
theorem ord_eq {ps hp po sp : Nat → Nat} {n cap k : Nat} (hB : PB n hp po) (hc : ∀ z, 0 < po z → z < cap) (hk : k < n) : orF (inO po) ps cap k cap 0 = nI (srF ps hp n sp k) := by
  have hinj : ∀ i j, i < n → j < n → hp i = hp j → i = j := fun i j hi hj e => by
    have h1 := hB.1 i hi
    have h2 := hB.1 j hj
    rw [e] at h1
    omega
  obtain ⟨s1, s2, s3⟩ := sr_so (ps := ps) (sp := sp) hinj n (Nat.le_refl _)
  generalize srF ps hp n sp = g at s1 s2 s3 ⊢
  have gin : ∀ j, j < n → 0 < po (g j) := fun j hj => by
    obtain ⟨i, hi, e⟩ := s2 j hj
    rw [e, hB.1 i hi]
    omega
  have gall : ∀ z, 0 < po z → ∃ j, j < n ∧ g j = z := fun z hz => by
    obtain ⟨h1, h2⟩ := hB.2 z hz
    obtain ⟨j, hj, e⟩ := s3 (po z - 1) (by omega)
    exact ⟨j, hj, by rw [e, h2]⟩
  have gne : ∀ i j, i < j → j < n → g i ≠ g j := fun i j hij hj e => by
    have := s1 i j hij hj
    rw [e, bef_self] at this
    cases this
  have rk : ∀ q, q < n → rkF (inO po) ps (g q) cap = q := fun q hq => by
    rw [rk_cn (g := gkF g q) cap (fun j hj => ?_), gk_cn q (fun a b hab hb => gne a b hab (by omega)) (fun j hj => hc _ (gin j (by omega)))]
    rw [gk_pos]
    refine ⟨fun ⟨_, h2, h3, h4⟩ => ?_, fun ⟨b, hb, eb⟩ => ?_⟩
    · obtain ⟨b, hb, eb⟩ := gall j (in_pos.mp h2)
      refine ⟨b, ?_, eb⟩
      rcases Nat.lt_trichotomy b q with h | h | h
      · exact h
      · exact absurd (by rw [← eb, h]) h3
      · have e1 := bef_as (s1 q b h hb)
        rw [eb, h4] at e1
        cases e1
    · have e1 := s1 b q hb hq
      rw [eb] at e1
      refine ⟨in_pos.mpr (gin q hq), in_pos.mpr (by rw [← eb]; exact gin b (by omega)), fun e => ?_, e1⟩
      exact gne b q hb hq (by rw [eb, e])
  refine or_find (hc _ (gin k hk)) (in_pos.mpr (gin k hk)) (rk k hk) (fun y hy h0 hr => ?_) cap 0 (by omega) (Nat.zero_le _)
  obtain ⟨b, hb, eb⟩ := gall y (in_pos.mp h0)
  rw [← eb, rk b hb] at hr
  rw [← eb, hr]
end
section
/-! the component's invariant, the model's state out of it, and: every call answers alike -/
def HI : HS → Prop
  | (tk, sd, ps, _, hp, po, sp, cap, big, n, gp) => cap ≤ 64 ∧ big ≤ 40000 ∧ gp < 2 ^ 31 ∧ (∀ i, sd i ≤ 40000) ∧ (∀ i, tk i ≤ 40000) ∧ (∀ i, ps i < 2 ^ 31) ∧ (∀ i, hp i < 64) ∧ (∀ i, sp i < 64) ∧ (∀ z, 0 < po z → z < cap ∧ 0 < tk z ∧ sd z = big / tk z) ∧ n = cnF po cap ∧ PB n hp po ∧ Od ps n hp
def toM : HS → MS
  | (tk, _, ps, rn, _, po, _, cap, big, n, gp) => (inO po, tk, ps, rn, cap, big, n, gp)
theorem HI_ok {u : HS} (h : HI u) : hOk u := by
  obtain ⟨tk, sd, ps, rn, hp, po, sp, cap, big, n, gp⟩ := u
  obtain ⟨h1, h2, h3, h4, h5, h6, h7, h8, h9, h10, h11, h12⟩ := h
  have := cn_le po cap
  refine ⟨h1, h2, by omega, h3, h4, h6, h7, fun i => ?_, h8⟩
  by_cases c : 0 < po i
  · exact (h11.2 i c).1
  · omega
theorem HI_mok {u : HS} (h : HI u) : mOk (toM u) := by
  obtain ⟨tk, sd, ps, rn, hp, po, sp, cap, big, n, gp⟩ := u
  obtain ⟨h1, h2, h3, h4, h5, h6, h7, h8, h9, h10, h11, h12⟩ := h
  have := cn_le po cap
  refine ⟨h1, h2, by omega, h3, in_le, h5, h6, fun i hi => ?_⟩
  have h0 := in_pos.mp hi
  have := (h11.2 i h0).1
  exact ⟨(h9 i h0).2.1, by omega⟩
theorem HI_j {tk sd ps rn hp po sp : Nat → Nat} {cap big n gp : Nat} (h : HI (tk, sd, ps, rn, hp, po, sp, cap, big, n, gp)) : ∀ i, i < cap → po i = 0 → n < 64 := by
  obtain ⟨h1, h2, h3, h4, h5, h6, h7, h8, h9, h10, h11, h12⟩ := h
  intro i hi h0
  have := cn_lt h0 cap hi
  omega
theorem sim_join {u : HS} (h : HI u) (x t : Int32) : jnM (toM u) x t = ((jnF u x t).1, toM (jnF u x t).2) ∧ HI (jnF u x t).2 := by
  obtain ⟨tk, sd, ps, rn, hp, po, sp, cap, big, n, gp⟩ := u
  have h0 := h
  obtain ⟨h1, h2, h3, h4, h5, h6, h7, h8, h9, h10, h11, h12⟩ := h
  have hcn := cn_le po cap
  show jnM (inO po, tk, ps, rn, cap, big, n, gp) x t = _ ∧ _
  rw [jnM, jnF]
  by_cases c1 : isC cap x = true
  · rw [if_pos c1, if_pos c1]
    obtain ⟨k, hk, rfl⟩ := isC_true c1 (by omega)
    rw [nI_clamp (show k < 2 ^ 31 by omega)]
    by_cases c2 : 0 < po k
    · rw [if_pos (in_pos.mpr c2), if_pos c2]
      exact ⟨rfl, h0⟩
    · rw [if_neg (fun q => c2 (in_pos.mp q)), if_neg c2]
      by_cases c3 : isT big t = true
      · rw [if_pos c3, if_pos c3]
        obtain ⟨j, hj0, hj, rfl⟩ := isT_true c3 (by omega)
        rw [nI_clamp (show j < 2 ^ 31 by omega)]
        have hpk : po k = 0 := by omega
        have hn64 := cn_lt hpk cap hk
        have hv : fpF (frF (inO po) ps cap) ps gp = if n = 0 then gp else ps (hp 0) := by
          by_cases e : n = 0
          · rw [if_pos e, fr_bot (by rw [e] at h11; exact h11)]; rfl
          · rw [if_neg e, fr_top h11 h12 (fun z q => (h9 z q).1) (by omega)]; rfl
        rw [hv]
        have hv2 : (if n = 0 then gp else ps (hp 0)) < 2 ^ 31 := by
          by_cases e : n = 0
          · rw [if_pos e]; exact h3
          · rw [if_neg e]; exact h6 _
        generalize (if n = 0 then gp else ps (hp 0)) = v at hv2 ⊢
        have hne : ∀ i, i < n → hp i ≠ k := fun i hi e => by
          have := h11.1 i hi
          rw [e] at this
          omega
        have hvB : PB (n + 1) (va_up hp n k) (va_up po k (n + 1)) := by
          refine ⟨fun i hi => ?_, fun z hz => ?_⟩
          · by_cases e : i = n
            · rw [e, up_s, up_s]
            · rw [up_n e, up_n (hne i (by omega)), h11.1 i (by omega)]
          · by_cases e : z = k
            · rw [e, up_s]
              exact ⟨Nat.le_refl _, by rw [Nat.add_sub_cancel, up_s]⟩
            · rw [up_n e] at hz ⊢
              obtain ⟨g1, g2⟩ := h11.2 z hz
              exact ⟨by omega, by rw [up_n (by omega), g2]⟩
        have hb := upF_b (ps := va_up ps k v) (show k < 64 by omega) n hp po n (n + 1) (by omega) h7 (fun i => by
          by_cases c : 0 < po i
          · have := (h11.2 i c).1; omega
          · omega)
        obtain ⟨r1, r2, r3⟩ := upT (ps := va_up ps k v) (n := n + 1) (x := k) n n hp po (Nat.le_refl _) (by omega) hvB (fun i hi hn hne2 => by
          rw [up_n hne2, up_n (by omega), bef_up (hne i (by omega)) (hne _ (by omega))]
          exact h12 i hi (by omega)) (fun hk0 i hi hn hc => by omega)
        generalize upF (va_up ps k v) k n hp po n = r at hb r1 r2 r3 ⊢
        refine ⟨?_, h1, h2, h3, up_le h4 (by have := Nat.div_le_self big j; omega), up_le h5 (by omega), up_lt h6 hv2, hb.1, h8, fun z hz => ?_, ?_, r1, r2⟩
        · show (nI 1, (va_up (inO po) k 1, va_up tk k j, va_up ps k v, rn, cap, big, n + 1, gp)) = (nI 1, (inO r.2, va_up tk k j, va_up ps k v, rn, cap, big, n + 1, gp))
          rw [in_up1 r3]
        · have hz2 := (r3 z).mp hz
          by_cases e : z = k
          · rw [e, up_s, up_s]
            exact ⟨hk, hj0, rfl⟩
          · rw [up_n e] at hz2
            rw [up_n e, up_n e]
            exact h9 z hz2
        · rw [(cn_add (f := po) (g := r.2) hpk ((r3 k).mpr (by rw [up_s]; omega)) (fun i hi => by rw [r3 i, up_n hi]) cap).1 hk, h10]
      · rw [if_neg c3, if_neg c3]
        exact ⟨rfl, h0⟩
  · rw [if_neg c1, if_neg c1]
    exact ⟨rfl, h0⟩
/-- the last one takes a free place -/
theorem rp_ok {ps hp po : Nat → Nat} {n k : Nat} (hB : PB n hp po) (hO : Od ps n hp) (hk : 0 < po k) (hne : po k - 1 ≠ n - 1) : PB (n - 1) (rpF ps (n - 1) (hp (n - 1)) hp (va_up po k 0) (po k - 1)).1 (rpF ps (n - 1) (hp (n - 1)) hp (va_up po k 0) (po k - 1)).2 ∧ Od ps (n - 1) (rpF ps (n - 1) (hp (n - 1)) hp (va_up po k 0) (po k - 1)).1 ∧ ∀ z, 0 < (rpF ps (n - 1) (hp (n - 1)) hp (va_up po k 0) (po k - 1)).2 z ↔ 0 < va_up po k 0 z := by
  obtain ⟨g1, g2⟩ := hB.2 k hk
  have hl := hB.1 (n - 1) (by omega)
  generalize hq : po k - 1 = q at hne g2 ⊢
  have hpk : po k = q + 1 := by omega
  generalize hy : hp (n - 1) = y at hl ⊢
  have hyk : y ≠ k := fun e => by rw [e] at hl; omega
  have hney : ∀ i, i < n - 1 → hp i ≠ y := fun i hi e => by
    have := hB.1 i (by omega)
    rw [e, hl] at this
    omega
  have hnek : ∀ i, i < n → i ≠ q → hp i ≠ k := fun i hi hiq e => by
    have := hB.1 i hi
    rw [e, hpk] at this
    omega
  have hvB : PB (n - 1) (va_up hp q y) (va_up (va_up po k 0) y (q + 1)) := by
    refine ⟨fun i hi => ?_, fun z hz => ?_⟩
    · by_cases e : i = q
      · rw [e, up_s, up_s]
      · rw [up_n e, up_n (hney i hi), up_n (hnek i (by omega) e), hB.1 i (by omega)]
    · by_cases e : z = y
      · rw [e, up_s]
        exact ⟨by omega, by rw [Nat.add_sub_cancel, up_s]⟩
      · rw [up_n e] at hz ⊢
        by_cases e2 : z = k
        · rw [e2, up_s] at hz; omega
        · rw [up_n e2] at hz ⊢
          obtain ⟨f1, f2⟩ := hB.2 z hz
          have n1 : po z - 1 ≠ q := fun e3 => e2 (by rw [e3, g2] at f2; exact f2.symm)
          have n2 : po z - 1 ≠ n - 1 := fun e3 => e (by rw [e3, hy] at f2; exact f2.symm)
          exact ⟨by omega, by rw [up_n n1, f2]⟩
  have hset : ∀ z, 0 < va_up (va_up po k 0) y (q + 1) z ↔ 0 < va_up po k 0 z := fun z => by
    by_cases e : z = y
    · rw [e, up_s, up_n hyk, hl]; omega
    · rw [up_n e]
  have hE : 0 < q → ∀ i, 0 < i → i < n - 1 → (i - 1) / 2 = q → befB ps (va_up hp q y i) (va_up hp q y ((q - 1) / 2)) = false := fun hq0 i hi hn hc => by
    rw [up_n (by omega), up_n (by omega)]
    have f1 := hO i hi (by omega)
    have f2 := hO q hq0 (by omega)
    rw [hc] at f1
    exact bef_ff f1 f2
  unfold rpF
  by_cases c : 0 < q ∧ befB ps y (hp ((q - 1) / 2)) = true
  · rw [if_pos c]
    obtain ⟨r1, r2, r3⟩ := upT (ps := ps) (n := n - 1) (x := y) q q hp (va_up po k 0) (Nat.le_refl _) (by omega) hvB (fun i hi hn hiq => by
      rw [up_n hiq]
      by_cases e : (i - 1) / 2 = q
      · rw [e, up_s]
        have f1 := hE c.1 i hi hn e
        rw [up_n hiq, up_n (by omega)] at f1
        exact bef_tf c.2 f1
      · rw [up_n e]
        exact hO i hi (by omega)) hE
    exact ⟨r1, r2, fun z => (r3 z).trans (hset z)⟩
  · rw [if_neg c]
    obtain ⟨r1, r2, r3⟩ := dnT (ps := ps) (n := n - 1) (x := y) (n - 1) q hp (va_up po k 0) (by omega) (by omega) hvB (fun i hi hn hiq => by
      rw [up_n hiq]
      by_cases e : i = q
      · rw [e, up_s]
        cases hb : befB ps y (hp ((q - 1) / 2)) with
        | false => rfl
        | true => exact absurd ⟨by omega, hb⟩ c
      · rw [up_n e]
        exact hO i hi (by omega)) hE
    exact ⟨r1, r2, fun z => (r3 z).trans (hset z)⟩
theorem rp_b {ps hp po : Nat → Nat} {n x k : Nat} (hx : x < 64) (hk : k < n) (h1 : ∀ i, hp i < 64) (h2 : ∀ i, po i ≤ 64) : ∀ i, (rpF ps n x hp po k).1 i < 64 := by
  have u : ∀ (f : Nat) (hp po : Nat → Nat) (k : Nat), (∀ i, hp i < 64) → ∀ i, (upF ps x f hp po k).1 i < 64 := fun f => by
    induction f with
    | zero => exact fun hp po k h => up_lt h hx
    | succ f ih =>
      intro hp po k h
      unfold upF
      split
      · exact ih _ _ _ (up_lt h (h _))
      · exact up_lt h hx
  have d : ∀ (f : Nat) (hp po : Nat → Nat) (k : Nat), (∀ i, hp i < 64) → ∀ i, (dnF ps n x f hp po k).1 i < 64 := fun f => by
    induction f with
    | zero => exact fun hp po k h => up_lt h hx
    | succ f ih =>
      intro hp po k h
      unfold dnF
      split
      · exact ih _ _ _ (up_lt h (h _))
      · exact up_lt h hx
  unfold rpF
  split
  · exact u _ _ _ _ h1
  · exact d _ _ _ _ h1
theorem sim_leave {u : HS} (h : HI u) (x : Int32) : lvM (toM u) x = ((lvF u x).1, toM (lvF u x).2) ∧ HI (lvF u x).2 := by
  obtain ⟨tk, sd, ps, rn, hp, po, sp, cap, big, n, gp⟩ := u
  have h0 := h
  obtain ⟨h1, h2, h3, h4, h5, h6, h7, h8, h9, h10, h11, h12⟩ := h
  have hcn := cn_le po cap
  show lvM (inO po, tk, ps, rn, cap, big, n, gp) x = _ ∧ _
  rw [lvM, lvF]
  by_cases c1 : isC cap x = true
  · rw [if_pos c1, if_pos c1]
    obtain ⟨k, hk, rfl⟩ := isC_true c1 (by omega)
    rw [nI_clamp (show k < 2 ^ 31 by omega)]
    by_cases c2 : 0 < po k
    · rw [if_pos (in_pos.mpr c2), if_pos c2]
      obtain ⟨g1, g2⟩ := h11.2 k c2
      have hct : cnF (va_up po k 0) cap + 1 = cnF po cap := ((cn_add (f := va_up po k 0) (g := po) (x := k) up_s c2 (fun i hi => by rw [up_n hi]) cap).1 hk).symm
      have h9' : ∀ z, 0 < va_up po k 0 z → z < cap ∧ 0 < tk z ∧ sd z = big / tk z := fun z hz => by
        by_cases e : z = k
        · rw [e, up_s] at hz; omega
        · rw [up_n e] at hz
          exact h9 z hz
      by_cases c3 : po k - 1 = n - 1
      · rw [if_pos c3]
        refine ⟨?_, h1, h2, h6 k, h4, h5, h6, h7, h8, h9', by omega, ?_, fun i hi hn => h12 i hi (by omega)⟩
        · show (nI 1, (va_up (inO po) k 0, tk, ps, rn, cap, big, n - 1, ps k)) = (nI 1, (inO (va_up po k 0), tk, ps, rn, cap, big, n - 1, ps k))
          rw [in_up0]
        · refine ⟨fun i hi => ?_, fun z hz => ?_⟩
          · have f1 := h11.1 i (by omega)
            rw [up_n (fun e => by rw [e] at f1; omega), f1]
          · by_cases e : z = k
            · rw [e, up_s] at hz; omega
            · rw [up_n e] at hz ⊢
              obtain ⟨f1, f2⟩ := h11.2 z hz
              have : po z - 1 ≠ po k - 1 := fun e3 => e (by rw [e3, g2] at f2; exact f2.symm)
              exact ⟨by omega, f2⟩
      · rw [if_neg c3]
        obtain ⟨r1, r2, r3⟩ := rp_ok h11 h12 c2 c3
        have hb := rp_b (ps := ps) (n := n - 1) (x := hp (n - 1)) (po := va_up po k 0) (k := po k - 1) (h7 _) (by omega) h7 (up_le (fun i => by
          by_cases c : 0 < po i
          · have := (h11.2 i c).1; omega
          · omega) (by omega))
        generalize rpF ps (n - 1) (hp (n - 1)) hp (va_up po k 0) (po k - 1) = r at r1 r2 r3 hb ⊢
        refine ⟨?_, h1, h2, h6 k, h4, h5, h6, hb, h8, fun z hz => h9' z ((r3 z).mp hz), by have := cn_eq r3 cap; omega, r1, r2⟩
        show (nI 1, (va_up (inO po) k 0, tk, ps, rn, cap, big, n - 1, ps k)) = (nI 1, (inO r.2, tk, ps, rn, cap, big, n - 1, ps k))
        rw [in_same r3, in_up0]
    · rw [if_neg (fun q => c2 (in_pos.mp q)), if_neg c2]
      exact ⟨rfl, h0⟩
  · rw [if_neg c1, if_neg c1]
    exact ⟨rfl, h0⟩
theorem sim_next {u : HS} (h : HI u) : nxM (toM u) = ((nxF u).1, toM (nxF u).2) ∧ HI (nxF u).2 := by
  obtain ⟨tk, sd, ps, rn, hp, po, sp, cap, big, n, gp⟩ := u
  have h0 := h
  obtain ⟨h1, h2, h3, h4, h5, h6, h7, h8, h9, h10, h11, h12⟩ := h
  have hcn := cn_le po cap
  show nxM (inO po, tk, ps, rn, cap, big, n, gp) = _ ∧ _
  rw [nxM, nxF]
  by_cases c1 : n = 0
  · rw [if_pos c1, fr_bot (by rw [c1] at h11; exact h11)]
    exact ⟨rfl, h0⟩
  · rw [if_neg c1, fr_top h11 h12 (fun z q => (h9 z q).1) (by omega)]
    have hp0 := h11.1 0 (by omega)
    obtain ⟨e1, e2, e3⟩ := h9 (hp 0) (by omega)
    have hs := h4 (hp 0)
    have hs2 := h6 (hp 0)
    show (if 2147483647 < ps (hp 0) + big / tk (hp 0) then _ else _ : Int32 × MS) = _ ∧ _
    rw [← e3]
    by_cases c2 : 2147483647 - sd (hp 0) < ps (hp 0)
    · rw [if_pos c2, if_pos (by omega)]
      exact ⟨rfl, h0⟩
    · rw [if_neg c2, if_neg (by omega)]
      have hb := dnF_b (ps := va_up ps (hp 0) (ps (hp 0) + sd (hp 0))) (n := n) (h7 0) n hp po 0 (by omega) h7 (fun i => by
        by_cases c : 0 < po i
        · exact (h11.2 i c).1
        · omega)
      have hv1 : va_up hp 0 (hp 0) = hp := up_id rfl
      have hv2 : va_up po (hp 0) (0 + 1) = po := up_id hp0
      have hne : ∀ i, 0 < i → i < n → hp i ≠ hp 0 := fun i hi hn e => by
        have := h11.1 i hn
        rw [e] at this
        omega
      obtain ⟨r1, r2, r3⟩ := dnT (ps := va_up ps (hp 0) (ps (hp 0) + sd (hp 0))) (n := n) (x := hp 0) n 0 hp po (by omega) (by omega) (by rw [hv1, hv2]; exact h11) (fun i hi hn hi2 => by
        rw [hv1, bef_up (hne i hi hn) (hne _ (by omega) (by omega))]
        exact h12 i hi hn) (fun q => absurd q (by omega))
      rw [hv2] at r3
      generalize dnF (va_up ps (hp 0) (ps (hp 0) + sd (hp 0))) n (hp 0) n hp po 0 = r at hb r1 r2 r3 ⊢
      refine ⟨?_, h1, h2, h3, h4, h5, up_lt h6 (by omega), hb.1, h8, fun z hz => h9 z ((r3 z).mp hz), by rw [cn_eq r3 cap]; exact h10, r1, r2⟩
      show (nI (hp 0), (inO po, tk, va_up ps (hp 0) (ps (hp 0) + sd (hp 0)), va_up rn (hp 0) (rn (hp 0) + 1), cap, big, n, gp)) = (nI (hp 0), (inO r.2, tk, va_up ps (hp 0) (ps (hp 0) + sd (hp 0)), va_up rn (hp 0) (rn (hp 0) + 1), cap, big, n, gp))
      rw [in_same r3]
theorem sim_turnsG : ∀ (f : Nat) (u : HS), HI u → tuH f (toM u) = ((tuG f u).1, toM (tuG f u).2) ∧ HI (tuG f u).2
  | 0, u, h => ⟨rfl, h⟩
  | f + 1, u, h => by
    obtain ⟨e, h2⟩ := sim_next h
    obtain ⟨e3, h3⟩ := sim_turnsG f (nxF u).2 h2
    rw [tuH, tuG, e]
    by_cases c : 0 ≤ (nxF u).1
    · rw [if_pos c, if_pos c]
      show ((tuH f (toM (nxF u).2)).1 + 1, (tuH f (toM (nxF u).2)).2) = _ ∧ _
      rw [e3]
      exact ⟨rfl, h3⟩
    · rw [if_neg c, if_neg c]
      exact ⟨rfl, h2⟩
theorem sim_turns {u : HS} (h : HI u) (x : Int32) : tuM (toM u) x = ((tuF u x).1, toM (tuF u x).2) ∧ HI (tuF u x).2 := by
  rw [tuM, tuF]
  by_cases c : 1 ≤ x ∧ x ≤ 1000
  · rw [if_pos c, if_pos c]
    obtain ⟨e, h2⟩ := sim_turnsG x.toNatClampNeg u h
    rw [e]
    exact ⟨rfl, h2⟩
  · rw [if_neg c, if_neg c]
    exact ⟨rfl, h⟩
theorem sim_change {u : HS} (h : HI u) (x t : Int32) : cgM (toM u) x t = ((cgF u x t).1, toM (cgF u x t).2) ∧ HI (cgF u x t).2 := by
  obtain ⟨tk, sd, ps, rn, hp, po, sp, cap, big, n, gp⟩ := u
  have h0 := h
  obtain ⟨h1, h2, h3, h4, h5, h6, h7, h8, h9, h10, h11, h12⟩ := h
  show cgM (inO po, tk, ps, rn, cap, big, n, gp) x t = _ ∧ _
  rw [cgM, cgF]
  by_cases c1 : isC cap x = true
  · rw [if_pos c1, if_pos c1]
    obtain ⟨k, hk, rfl⟩ := isC_true c1 (by omega)
    rw [nI_clamp (show k < 2 ^ 31 by omega)]
    by_cases c2 : 0 < po k
    · rw [if_pos (in_pos.mpr c2), if_pos c2]
      by_cases c3 : isT big t = true
      · rw [if_pos c3, if_pos c3]
        obtain ⟨j, hj0, hj, rfl⟩ := isT_true c3 (by omega)
        rw [nI_clamp (show j < 2 ^ 31 by omega)]
        refine ⟨rfl, h1, h2, h3, up_le h4 (by have := Nat.div_le_self big j; omega), up_le h5 (by omega), h6, h7, h8, fun z hz => ?_, h10, h11, h12⟩
        by_cases e : z = k
        · rw [e, up_s, up_s]
          exact ⟨hk, hj0, rfl⟩
        · rw [up_n e, up_n e]
          exact h9 z hz
      · rw [if_neg c3, if_neg c3]
        exact ⟨rfl, h0⟩
    · rw [if_neg (fun q => c2 (in_pos.mp q)), if_neg c2]
      exact ⟨rfl, h0⟩
  · rw [if_neg c1, if_neg c1]
    exact ⟨rfl, h0⟩
theorem sim_ran {u : HS} (h : HI u) (x : Int32) : raM (toM u) x = ((raF u x).1, toM (raF u x).2) ∧ HI (raF u x).2 := by
  obtain ⟨tk, sd, ps, rn, hp, po, sp, cap, big, n, gp⟩ := u
  exact ⟨rfl, h⟩
theorem isN_iff {cap : Nat} {po : Nat → Nat} {x : Int32} : isN cap (inO po) x = true ↔ (isC cap x = true ∧ 0 < po x.toNatClampNeg) := by
  rw [isN, Bool.and_eq_true_iff, decide_eq_true_iff, in_pos]
theorem sim_pass {u : HS} (h : HI u) (x : Int32) : paM (toM u) x = ((paF u x).1, toM (paF u x).2) ∧ HI (paF u x).2 := by
  obtain ⟨tk, sd, ps, rn, hp, po, sp, cap, big, n, gp⟩ := u
  refine ⟨?_, h⟩
  show (if isN cap (inO po) x = true then nI (ps x.toNatClampNeg) else -1, _) = (if isC cap x = true ∧ 0 < po x.toNatClampNeg then nI (ps x.toNatClampNeg) else -1, _)
  by_cases c : isN cap (inO po) x = true
  · rw [if_pos c, if_pos (isN_iff.mp c)]; rfl
  · rw [if_neg c, if_neg (fun q => c (isN_iff.mpr q))]; rfl
theorem sim_stride {u : HS} (h : HI u) (x : Int32) : sdM (toM u) x = ((sdF u x).1, toM (sdF u x).2) ∧ HI (sdF u x).2 := by
  obtain ⟨tk, sd, ps, rn, hp, po, sp, cap, big, n, gp⟩ := u
  refine ⟨?_, h⟩
  obtain ⟨h1, h2, h3, h4, h5, h6, h7, h8, h9, h10, h11, h12⟩ := h
  show (if isN cap (inO po) x = true then nI (big / tk x.toNatClampNeg) else -1, _) = (if isC cap x = true ∧ 0 < po x.toNatClampNeg then nI (sd x.toNatClampNeg) else -1, _)
  by_cases c : isN cap (inO po) x = true
  · have c2 := isN_iff.mp c
    rw [if_pos c, if_pos c2, (h9 _ c2.2).2.2]; rfl
  · rw [if_neg c, if_neg (fun q => c (isN_iff.mpr q))]; rfl
theorem sim_clients {u : HS} (h : HI u) : clM (toM u) = ((clF u).1, toM (clF u).2) ∧ HI (clF u).2 := by
  obtain ⟨tk, sd, ps, rn, hp, po, sp, cap, big, n, gp⟩ := u
  exact ⟨rfl, h⟩
theorem sim_spread {u : HS} (h : HI u) : spM (toM u) = ((spF u).1, toM (spF u).2) ∧ HI (spF u).2 := by
  obtain ⟨tk, sd, ps, rn, hp, po, sp, cap, big, n, gp⟩ := u
  refine ⟨?_, h⟩
  obtain ⟨h1, h2, h3, h4, h5, h6, h7, h8, h9, h10, h11, h12⟩ := h
  show spM (inO po, tk, ps, rn, cap, big, n, gp) = _
  rw [spM, spF]
  by_cases c1 : n = 0
  · rw [if_pos c1, fr_bot (by rw [c1] at h11; exact h11)]; rfl
  · rw [if_neg c1, fr_top h11 h12 (fun z q => (h9 z q).1) (by omega)]
    show (nI (moF (inO po) ps cap - ps (hp 0)), _) = (nI (gmF ps hp n - ps (hp 0)), _)
    rw [mo_gm h11 (fun z q => (h9 z q).1) (by omega)]; rfl
theorem sim_order {u : HS} (h : HI u) (x : Int32) : odM (toM u) x = ((odF u x).1, toM (odF u x).2) ∧ HI (odF u x).2 := by
  obtain ⟨tk, sd, ps, rn, hp, po, sp, cap, big, n, gp⟩ := u
  have h0 := h
  obtain ⟨h1, h2, h3, h4, h5, h6, h7, h8, h9, h10, h11, h12⟩ := h
  have hcn := cn_le po cap
  show odM (inO po, tk, ps, rn, cap, big, n, gp) x = _ ∧ _
  rw [odM, odF]
  by_cases c1 : isC n x = true
  · rw [if_pos c1, if_pos c1]
    obtain ⟨k, hk, rfl⟩ := isC_true c1 (by omega)
    rw [nI_clamp (show k < 2 ^ 31 by omega)]
    refine ⟨?_, h1, h2, h3, h4, h5, h6, h7, sr_lt h7 n sp h8, h9, h10, h11, h12⟩
    rw [ord_eq (sp := sp) h11 (fun z q => (h9 z q).1) hk]; rfl
  · rw [if_neg c1, if_neg c1]
    exact ⟨rfl, h0⟩
end
section
/-! numbers of the constructors -/
def cOf (x : Int32) : Nat := (x.toInt % 64).toNat
def bOf (x : Int32) : Nat := (x.toInt % 32767).toNat
theorem cOf_lt (x : Int32) : cOf x < 64 := by unfold cOf; omega
theorem bOf_lt (x : Int32) : bOf x < 32767 := by unfold bOf; omega
theorem c_rem {x r : Int32} (er : r = x - x / nI 64 * nI 64) : (0 ≤ r → r = nI (cOf x)) ∧ (¬ 0 ≤ r → r + nI 64 = nI (cOf x)) := by
  have h := rem_toInt x (nI 64)
  rw [← er, nI_toInt (by decide)] at h
  have t := tmod_bounds (a := x.toInt) (M := 64) (by decide)
  have q := Int.mul_tdiv_add_tmod x.toInt 64
  have hc := cOf_lt x
  have h2 : r.toInt = x.toInt.tmod 64 := h
  have hu : (cOf x : Int) = x.toInt % 64 := by unfold cOf; omega
  refine ⟨fun h0 => ?_, fun h0 => ?_⟩
  · have h1 := Jvm.Kit.i32_nonneg.mp h0
    apply Int32.toInt_inj.mp
    rw [nI_toInt (by omega), hu]
    omega
  · have h1 : ¬ 0 ≤ r.toInt := mt Jvm.Kit.i32_nonneg.mpr h0
    have h64 : (nI 64).toInt = 64 := nI_toInt (by decide)
    apply Int32.toInt_inj.mp
    rw [nI_toInt (by omega), hu, Jvm.Kit.i32_add (by omega) (by omega), h64]
    omega
theorem b_rem {x r : Int32} (er : r = x - x / nI 32767 * nI 32767) : (0 ≤ r → r = nI (bOf x)) ∧ (¬ 0 ≤ r → r + nI 32767 = nI (bOf x)) := by
  have h := rem_toInt x (nI 32767)
  rw [← er, nI_toInt (by decide)] at h
  have t := tmod_bounds (a := x.toInt) (M := 32767) (by decide)
  have q := Int.mul_tdiv_add_tmod x.toInt 32767
  have hc := bOf_lt x
  have h2 : r.toInt = x.toInt.tmod 32767 := h
  have hu : (bOf x : Int) = x.toInt % 32767 := by unfold bOf; omega
  refine ⟨fun h0 => ?_, fun h0 => ?_⟩
  · have h1 := Jvm.Kit.i32_nonneg.mp h0
    apply Int32.toInt_inj.mp
    rw [nI_toInt (by omega), hu]
    omega
  · have h1 : ¬ 0 ≤ r.toInt := mt Jvm.Kit.i32_nonneg.mpr h0
    have h64 : (nI 32767).toInt = 32767 := nI_toInt (by decide)
    apply Int32.toInt_inj.mp
    rw [nI_toInt (by omega), hu, Jvm.Kit.i32_add (by omega) (by omega), h64]
    omega
theorem c_and (x : Int32) : x &&& nI 63 = nI (cOf x) := by
  rw [pk_and x (m := nI 63) 6 (by decide +kernel)]
  congr 1
  unfold cOf
  have h : x.toInt = x.toBitVec.toInt := rfl
  rw [h, BitVec.toInt_eq_toNat_cond]
  have := x.toBitVec.isLt
  split <;> omega
def ad8 (h q1 q2 q3 q4 q5 q6 q7 : Nat) : Nat → Nat
  | 0 => h
  | 1 => q1
  | 2 => q2
  | 3 => q3
  | 4 => q4
  | 5 => q5
  | 6 => q6
  | _ => q7
def ad5 (h q1 q2 q3 q4 : Nat) : Nat → Nat
  | 0 => h
  | 1 => q1
  | 2 => q2
  | 3 => q3
  | _ => q4
abbrev zF : Nat → Nat := fun _ => 0
def iniH (x y : Int32) : HS := (zF, zF, zF, zF, zF, zF, zF, 1 + cOf x, 2 + bOf y, 0, 0)
def iniM (x y : Int32) : MS := (zF, zF, zF, zF, cOf x + 1, bOf y + 2, 0, 0)
def hBi (D : va_G) (h0 : Nat) (A : Nat → Prop) (u : HS) (t : State) : Prop := ∃ (a : Nat → Nat) (d : ClassId), a 0 = h0 ∧ va_P D vwCl (wS a d u) t.heap ∧ va_K D vwCl [(d, .int)] t ∧ va_D A (wS a d u)
def mBi (D : va_G) (h0 : Nat) (A : Nat → Prop) (u : MS) (t : State) : Prop := ∃ (a : Nat → Nat) (d dz dl : ClassId), a 0 = h0 ∧ va_P D vwCl (wT a d dz dl u) t.heap ∧ va_K D vwCl [(d, .int), (dz, .boolean), (dl, .long)] t ∧ va_D A (wT a d dz dl u)
abbrev met_init_w (h0 : Nat) : va_W := [(h0, .inr (0, [.null, .null, .null, .null, .null, .null, .null, .int 0, .int 0, .int 0, .int 0]))]
def met_init_P (D : va_G) (h0 sz : Nat) (U : State) : Prop := U.heap.size = sz ∧ va_P D vwCl (met_init_w h0) U.heap ∧ va_K D vwCl [] U ∧ va_D (fun _ => True) (met_init_w h0)
set_option maxHeartbeats 8000000 in
set_option maxRecDepth 100000 in
/-- StrideHeap(x, y): seven arrays of 64, all 0 -/
theorem met_init (l : Launch) (D : va_G) (h0 sz : Nat) (x y : Int32) : Met l yX1_init (ws_ yX1_init cX1_init 5 none) { frames := 1, cells := 7, slots := 448, locals := 12 } (va_Pc [.ref h0, .int x, .int y] (met_init_P D h0 sz)) (va_Qv (fun u => u = iniH x y) (hBi D h0 (va_A (met_init_w h0) sz)) (va_A (met_init_w h0) sz)) 7 448 (va_A (met_init_w h0) sz) := by
  refine Met.ofW (cc := cX1_init) (maxL := 5) (ret := none) (by decide) rfl ?_
  intro p e s m args below meth c s₁ B hml hv
  obtain ⟨rfl, hsz, hP, hK, hD0⟩ := hv
  have hx := B.exec
  have hb := B.bytes
  have hr := B.returns
  have hts := atoms_spec (ws := ws_ yX1_init cX1_init 5 none) B.pre
  have hts : ∀ w ∈ lw_all, w.before _ s = true := fun w h => hts w (List.mem_cons_of_mem _ h)
  have hown : s.vm.findClass RX1 = some m.cls := findClass_of_methodNamed B.named
  have hlocks := B.notSynchronized
  have hin : meth.name = "<init>" := (name_of_methodNamed B.named B.method).1
  subst hsz
  have hD := hD0.self (sz := s.heap.size)
  generalize hAe : va_A (met_init_w h0) s.heap.size = A at hD ⊢
  have hA : ∀ q : Nat, s.heap.size ≤ q → A q := fun q h => by rw [← hAe]; exact Or.inr h
  have hS : va_S A s.heap s.heap [] := va_S.rf
  have hl := lv_entry ([.ref h0, .int x, .int y]) (n := 5) (Nat.le_of_ble_eq_true rfl)
  rw [lg_entry_eq]
  generalize (lg_sl ([.ref h0, .int x, .int y]) ++ List.replicate (5 - (lg_sl ([.ref h0, .int x, .int y])).length) Slot.unset).toArray = ls at hl ⊢
  have hl : lv_has ls 5 [(0, .ref h0), (1, .int x), (2, .int y)] := hl
  refine lv_aload_n hx hb dX1_init_0 rfl (lv_at hl 0 rfl) ?_
  refine W.objInit hx hb hown (hts _ q20) (hts _ q21) (hts _ q22) rfl (by rw [hml]; exact hl.1) rfl dX1_init_1 (Nat.le_of_ble_eq_true rfl) (Nat.le_of_ble_eq_true rfl) ?_
  refine W.eq (g2 := F0 m 4 ls []) rfl ?_
  refine lv_aload_n hx hb dX1_init_4 rfl (lv_at hl 0 rfl) ?_
  refine lv_bipush (v := nI 64) hx hb dX1_init_5 (by decide +kernel) ?_
  refine va_newa (atype := .int) (n := nI 64) (N' := 64) (a0 := (64, .inl (nF zF))) (ty := .int) hx hb (hts _ q57) rfl hK hP hD hS hA (fun _ => rfl) (by decide +kernel) (by decide +kernel) (by decide +kernel) (Nat.le_of_ble_eq_true rfl) (Nat.le_of_ble_eq_true rfl) dX1_init_7 (fun q1 d H hK hP hD hS => ?_)
  have hK : va_K D vwCl [(d, .int)] s := hK
  refine W.widen (k := 1) (n := 64) (Nat.le_of_ble_eq_true rfl) (Nat.le_of_ble_eq_true rfl) ?_
  have hP : va_P D vwCl [(h0, .inr (0, [.null, .null, .null, .null, .null, .null, .null, .int 0, .int 0, .int 0, .int 0])), (q1, .inl (d, 64, .inl (nF zF)))] H := hP
  have hD : va_D A [(h0, .inr (0, [.null, .null, .null, .null, .null, .null, .null, .int 0, .int 0, .int 0, .int 0])), (q1, .inl (d, 64, .inl (nF zF)))] := hD
  refine va_putF (D := D) (ci := 0) (v := .ref q1) (ty := .array .int) (C := RX1) (T := TX1) (N := 11) hx hb hts in_X1 tyX1 tyX1_ok nmX1 hown hK hP hD hS 0 rfl rfl 0 (by decide) (hts _ q23) (fun _ h9 => h9) rfl hin rfl (by decide +kernel) rfl rfl (Nat.le_of_ble_eq_true rfl) dX1_init_9 (fun H locs hP hD hS => ?_)
  have hP : va_P D vwCl [(h0, .inr (0, [.ref q1, .null, .null, .null, .null, .null, .null, .int 0, .int 0, .int 0, .int 0])), (q1, .inl (d, 64, .inl (nF zF)))] H := hP
  have hD : va_D A [(h0, .inr (0, [.ref q1, .null, .null, .null, .null, .null, .null, .int 0, .int 0, .int 0, .int 0])), (q1, .inl (d, 64, .inl (nF zF)))] := hD
  refine lv_aload_n hx hb dX1_init_12 rfl (lv_at hl 0 rfl) ?_
  refine lv_bipush (v := nI 64) hx hb dX1_init_13 (by decide +kernel) ?_
  refine va_newa (atype := .int) (n := nI 64) (N' := 64) (a0 := (64, .inl (nF zF))) (ty := .int) hx hb (hts _ q57) rfl hK hP hD hS hA (fun _ => rfl) (by decide +kernel) (by decide +kernel) (by decide +kernel) (Nat.le_of_ble_eq_true rfl) (Nat.le_of_ble_eq_true rfl) dX1_init_15 (fun q2 cA H hK hP hD hS => ?_)
  have e1 : s.vm.findClass ("[" ++ FieldType.int.toString) = some d := (hK.2 0 _ rfl).2
  have e2 : s.vm.findClass ("[" ++ FieldType.int.toString) = some cA := (hK.2 1 _ rfl).2
  have e3 : d = cA := Option.some.inj (e1.symm.trans e2)
  subst e3
  have hK : va_K D vwCl [(d, .int)] s := hK.sub [0] rfl
  refine W.widen (k := 2) (n := 128) (Nat.le_of_ble_eq_true rfl) (Nat.le_of_ble_eq_true rfl) ?_
  have hP : va_P D vwCl [(h0, .inr (0, [.ref q1, .null, .null, .null, .null, .null, .null, .int 0, .int 0, .int 0, .int 0])), (q1, .inl (d, 64, .inl (nF zF))), (q2, .inl (d, 64, .inl (nF zF)))] H := hP
  have hD : va_D A [(h0, .inr (0, [.ref q1, .null, .null, .null, .null, .null, .null, .int 0, .int 0, .int 0, .int 0])), (q1, .inl (d, 64, .inl (nF zF))), (q2, .inl (d, 64, .inl (nF zF)))] := hD
  refine va_putF (D := D) (ci := 0) (v := .ref q2) (ty := .array .int) (C := RX1) (T := TX1) (N := 11) hx hb hts in_X1 tyX1 tyX1_ok nmX1 hown hK hP hD hS 0 rfl rfl 1 (by decide) (hts _ q24) (fun _ h9 => h9) rfl hin rfl (by decide +kernel) rfl rfl (Nat.le_of_ble_eq_true rfl) dX1_init_17 (fun H locs hP hD hS => ?_)
  have hP : va_P D vwCl [(h0, .inr (0, [.ref q1, .ref q2, .null, .null, .null, .null, .null, .int 0, .int 0, .int 0, .int 0])), (q1, .inl (d, 64, .inl (nF zF))), (q2, .inl (d, 64, .inl (nF zF)))] H := hP
  have hD : va_D A [(h0, .inr (0, [.ref q1, .ref q2, .null, .null, .null, .null, .null, .int 0, .int 0, .int 0, .int 0])), (q1, .inl (d, 64, .inl (nF zF))), (q2, .inl (d, 64, .inl (nF zF)))] := hD
  refine lv_aload_n hx hb dX1_init_20 rfl (lv_at hl 0 rfl) ?_
  refine lv_bipush (v := nI 64) hx hb dX1_init_21 (by decide +kernel) ?_
  refine va_newa (atype := .int) (n := nI 64) (N' := 64) (a0 := (64, .inl (nF zF))) (ty := .int) hx hb (hts _ q57) rfl hK hP hD hS hA (fun _ => rfl) (by decide +kernel) (by decide +kernel) (by decide +kernel) (Nat.le_of_ble_eq_true rfl) (Nat.le_of_ble_eq_true rfl) dX1_init_23 (fun q3 cA H hK hP hD hS => ?_)
  have e1 : s.vm.findClass ("[" ++ FieldType.int.toString) = some d := (hK.2 0 _ rfl).2
  have e2 : s.vm.findClass ("[" ++ FieldType.int.toString) = some cA := (hK.2 1 _ rfl).2
  have e3 : d = cA := Option.some.inj (e1.symm.trans e2)
  subst e3
  have hK : va_K D vwCl [(d, .int)] s := hK.sub [0] rfl
  refine W.widen (k := 3) (n := 192) (Nat.le_of_ble_eq_true rfl) (Nat.le_of_ble_eq_true rfl) ?_
  have hP : va_P D vwCl [(h0, .inr (0, [.ref q1, .ref q2, .null, .null, .null, .null, .null, .int 0, .int 0, .int 0, .int 0])), (q1, .inl (d, 64, .inl (nF zF))), (q2, .inl (d, 64, .inl (nF zF))), (q3, .inl (d, 64, .inl (nF zF)))] H := hP
  have hD : va_D A [(h0, .inr (0, [.ref q1, .ref q2, .null, .null, .null, .null, .null, .int 0, .int 0, .int 0, .int 0])), (q1, .inl (d, 64, .inl (nF zF))), (q2, .inl (d, 64, .inl (nF zF))), (q3, .inl (d, 64, .inl (nF zF)))] := hD
  refine va_putF (D := D) (ci := 0) (v := .ref q3) (ty := .array .int) (C := RX1) (T := TX1) (N := 11) hx hb hts in_X1 tyX1 tyX1_ok nmX1 hown hK hP hD hS 0 rfl rfl 2 (by decide) (hts _ q25) (fun _ h9 => h9) rfl hin rfl (by decide +kernel) rfl rfl (Nat.le_of_ble_eq_true rfl) dX1_init_25 (fun H locs hP hD hS => ?_)
  have hP : va_P D vwCl [(h0, .inr (0, [.ref q1, .ref q2, .ref q3, .null, .null, .null, .null, .int 0, .int 0, .int 0, .int 0])), (q1, .inl (d, 64, .inl (nF zF))), (q2, .inl (d, 64, .inl (nF zF))), (q3, .inl (d, 64, .inl (nF zF)))] H := hP
  have hD : va_D A [(h0, .inr (0, [.ref q1, .ref q2, .ref q3, .null, .null, .null, .null, .int 0, .int 0, .int 0, .int 0])), (q1, .inl (d, 64, .inl (nF zF))), (q2, .inl (d, 64, .inl (nF zF))), (q3, .inl (d, 64, .inl (nF zF)))] := hD
  refine lv_aload_n hx hb dX1_init_28 rfl (lv_at hl 0 rfl) ?_
  refine lv_bipush (v := nI 64) hx hb dX1_init_29 (by decide +kernel) ?_
  refine va_newa (atype := .int) (n := nI 64) (N' := 64) (a0 := (64, .inl (nF zF))) (ty := .int) hx hb (hts _ q57) rfl hK hP hD hS hA (fun _ => rfl) (by decide +kernel) (by decide +kernel) (by decide +kernel) (Nat.le_of_ble_eq_true rfl) (Nat.le_of_ble_eq_true rfl) dX1_init_31 (fun q4 cA H hK hP hD hS => ?_)
  have e1 : s.vm.findClass ("[" ++ FieldType.int.toString) = some d := (hK.2 0 _ rfl).2
  have e2 : s.vm.findClass ("[" ++ FieldType.int.toString) = some cA := (hK.2 1 _ rfl).2
  have e3 : d = cA := Option.some.inj (e1.symm.trans e2)
  subst e3
  have hK : va_K D vwCl [(d, .int)] s := hK.sub [0] rfl
  refine W.widen (k := 4) (n := 256) (Nat.le_of_ble_eq_true rfl) (Nat.le_of_ble_eq_true rfl) ?_
  have hP : va_P D vwCl [(h0, .inr (0, [.ref q1, .ref q2, .ref q3, .null, .null, .null, .null, .int 0, .int 0, .int 0, .int 0])), (q1, .inl (d, 64, .inl (nF zF))), (q2, .inl (d, 64, .inl (nF zF))), (q3, .inl (d, 64, .inl (nF zF))), (q4, .inl (d, 64, .inl (nF zF)))] H := hP
  have hD : va_D A [(h0, .inr (0, [.ref q1, .ref q2, .ref q3, .null, .null, .null, .null, .int 0, .int 0, .int 0, .int 0])), (q1, .inl (d, 64, .inl (nF zF))), (q2, .inl (d, 64, .inl (nF zF))), (q3, .inl (d, 64, .inl (nF zF))), (q4, .inl (d, 64, .inl (nF zF)))] := hD
  refine va_putF (D := D) (ci := 0) (v := .ref q4) (ty := .array .int) (C := RX1) (T := TX1) (N := 11) hx hb hts in_X1 tyX1 tyX1_ok nmX1 hown hK hP hD hS 0 rfl rfl 3 (by decide) (hts _ q26) (fun _ h9 => h9) rfl hin rfl (by decide +kernel) rfl rfl (Nat.le_of_ble_eq_true rfl) dX1_init_33 (fun H locs hP hD hS => ?_)
  have hP : va_P D vwCl [(h0, .inr (0, [.ref q1, .ref q2, .ref q3, .ref q4, .null, .null, .null, .int 0, .int 0, .int 0, .int 0])), (q1, .inl (d, 64, .inl (nF zF))), (q2, .inl (d, 64, .inl (nF zF))), (q3, .inl (d, 64, .inl (nF zF))), (q4, .inl (d, 64, .inl (nF zF)))] H := hP
  have hD : va_D A [(h0, .inr (0, [.ref q1, .ref q2, .ref q3, .ref q4, .null, .null, .null, .int 0, .int 0, .int 0, .int 0])), (q1, .inl (d, 64, .inl (nF zF))), (q2, .inl (d, 64, .inl (nF zF))), (q3, .inl (d, 64, .inl (nF zF))), (q4, .inl (d, 64, .inl (nF zF)))] := hD
  refine lv_aload_n hx hb dX1_init_36 rfl (lv_at hl 0 rfl) ?_
  refine lv_bipush (v := nI 64) hx hb dX1_init_37 (by decide +kernel) ?_
  refine va_newa (atype := .int) (n := nI 64) (N' := 64) (a0 := (64, .inl (nF zF))) (ty := .int) hx hb (hts _ q57) rfl hK hP hD hS hA (fun _ => rfl) (by decide +kernel) (by decide +kernel) (by decide +kernel) (Nat.le_of_ble_eq_true rfl) (Nat.le_of_ble_eq_true rfl) dX1_init_39 (fun q5 cA H hK hP hD hS => ?_)
  have e1 : s.vm.findClass ("[" ++ FieldType.int.toString) = some d := (hK.2 0 _ rfl).2
  have e2 : s.vm.findClass ("[" ++ FieldType.int.toString) = some cA := (hK.2 1 _ rfl).2
  have e3 : d = cA := Option.some.inj (e1.symm.trans e2)
  subst e3
  have hK : va_K D vwCl [(d, .int)] s := hK.sub [0] rfl
  refine W.widen (k := 5) (n := 320) (Nat.le_of_ble_eq_true rfl) (Nat.le_of_ble_eq_true rfl) ?_
  have hP : va_P D vwCl [(h0, .inr (0, [.ref q1, .ref q2, .ref q3, .ref q4, .null, .null, .null, .int 0, .int 0, .int 0, .int 0])), (q1, .inl (d, 64, .inl (nF zF))), (q2, .inl (d, 64, .inl (nF zF))), (q3, .inl (d, 64, .inl (nF zF))), (q4, .inl (d, 64, .inl (nF zF))), (q5, .inl (d, 64, .inl (nF zF)))] H := hP
  have hD : va_D A [(h0, .inr (0, [.ref q1, .ref q2, .ref q3, .ref q4, .null, .null, .null, .int 0, .int 0, .int 0, .int 0])), (q1, .inl (d, 64, .inl (nF zF))), (q2, .inl (d, 64, .inl (nF zF))), (q3, .inl (d, 64, .inl (nF zF))), (q4, .inl (d, 64, .inl (nF zF))), (q5, .inl (d, 64, .inl (nF zF)))] := hD
  refine va_putF (D := D) (ci := 0) (v := .ref q5) (ty := .array .int) (C := RX1) (T := TX1) (N := 11) hx hb hts in_X1 tyX1 tyX1_ok nmX1 hown hK hP hD hS 0 rfl rfl 4 (by decide) (hts _ q27) (fun _ h9 => h9) rfl hin rfl (by decide +kernel) rfl rfl (Nat.le_of_ble_eq_true rfl) dX1_init_41 (fun H locs hP hD hS => ?_)
  have hP : va_P D vwCl [(h0, .inr (0, [.ref q1, .ref q2, .ref q3, .ref q4, .ref q5, .null, .null, .int 0, .int 0, .int 0, .int 0])), (q1, .inl (d, 64, .inl (nF zF))), (q2, .inl (d, 64, .inl (nF zF))), (q3, .inl (d, 64, .inl (nF zF))), (q4, .inl (d, 64, .inl (nF zF))), (q5, .inl (d, 64, .inl (nF zF)))] H := hP
  have hD : va_D A [(h0, .inr (0, [.ref q1, .ref q2, .ref q3, .ref q4, .ref q5, .null, .null, .int 0, .int 0, .int 0, .int 0])), (q1, .inl (d, 64, .inl (nF zF))), (q2, .inl (d, 64, .inl (nF zF))), (q3, .inl (d, 64, .inl (nF zF))), (q4, .inl (d, 64, .inl (nF zF))), (q5, .inl (d, 64, .inl (nF zF)))] := hD
  refine lv_aload_n hx hb dX1_init_44 rfl (lv_at hl 0 rfl) ?_
  refine lv_bipush (v := nI 64) hx hb dX1_init_45 (by decide +kernel) ?_
  refine va_newa (atype := .int) (n := nI 64) (N' := 64) (a0 := (64, .inl (nF zF))) (ty := .int) hx hb (hts _ q57) rfl hK hP hD hS hA (fun _ => rfl) (by decide +kernel) (by decide +kernel) (by decide +kernel) (Nat.le_of_ble_eq_true rfl) (Nat.le_of_ble_eq_true rfl) dX1_init_47 (fun q6 cA H hK hP hD hS => ?_)
  have e1 : s.vm.findClass ("[" ++ FieldType.int.toString) = some d := (hK.2 0 _ rfl).2
  have e2 : s.vm.findClass ("[" ++ FieldType.int.toString) = some cA := (hK.2 1 _ rfl).2
  have e3 : d = cA := Option.some.inj (e1.symm.trans e2)
  subst e3
  have hK : va_K D vwCl [(d, .int)] s := hK.sub [0] rfl
  refine W.widen (k := 6) (n := 384) (Nat.le_of_ble_eq_true rfl) (Nat.le_of_ble_eq_true rfl) ?_
  have hP : va_P D vwCl [(h0, .inr (0, [.ref q1, .ref q2, .ref q3, .ref q4, .ref q5, .null, .null, .int 0, .int 0, .int 0, .int 0])), (q1, .inl (d, 64, .inl (nF zF))), (q2, .inl (d, 64, .inl (nF zF))), (q3, .inl (d, 64, .inl (nF zF))), (q4, .inl (d, 64, .inl (nF zF))), (q5, .inl (d, 64, .inl (nF zF))), (q6, .inl (d, 64, .inl (nF zF)))] H := hP
  have hD : va_D A [(h0, .inr (0, [.ref q1, .ref q2, .ref q3, .ref q4, .ref q5, .null, .null, .int 0, .int 0, .int 0, .int 0])), (q1, .inl (d, 64, .inl (nF zF))), (q2, .inl (d, 64, .inl (nF zF))), (q3, .inl (d, 64, .inl (nF zF))), (q4, .inl (d, 64, .inl (nF zF))), (q5, .inl (d, 64, .inl (nF zF))), (q6, .inl (d, 64, .inl (nF zF)))] := hD
  refine va_putF (D := D) (ci := 0) (v := .ref q6) (ty := .array .int) (C := RX1) (T := TX1) (N := 11) hx hb hts in_X1 tyX1 tyX1_ok nmX1 hown hK hP hD hS 0 rfl rfl 5 (by decide) (hts _ q28) (fun _ h9 => h9) rfl hin rfl (by decide +kernel) rfl rfl (Nat.le_of_ble_eq_true rfl) dX1_init_49 (fun H locs hP hD hS => ?_)
  have hP : va_P D vwCl [(h0, .inr (0, [.ref q1, .ref q2, .ref q3, .ref q4, .ref q5, .ref q6, .null, .int 0, .int 0, .int 0, .int 0])), (q1, .inl (d, 64, .inl (nF zF))), (q2, .inl (d, 64, .inl (nF zF))), (q3, .inl (d, 64, .inl (nF zF))), (q4, .inl (d, 64, .inl (nF zF))), (q5, .inl (d, 64, .inl (nF zF))), (q6, .inl (d, 64, .inl (nF zF)))] H := hP
  have hD : va_D A [(h0, .inr (0, [.ref q1, .ref q2, .ref q3, .ref q4, .ref q5, .ref q6, .null, .int 0, .int 0, .int 0, .int 0])), (q1, .inl (d, 64, .inl (nF zF))), (q2, .inl (d, 64, .inl (nF zF))), (q3, .inl (d, 64, .inl (nF zF))), (q4, .inl (d, 64, .inl (nF zF))), (q5, .inl (d, 64, .inl (nF zF))), (q6, .inl (d, 64, .inl (nF zF)))] := hD
  refine lv_aload_n hx hb dX1_init_52 rfl (lv_at hl 0 rfl) ?_
  refine lv_bipush (v := nI 64) hx hb dX1_init_53 (by decide +kernel) ?_
  refine va_newa (atype := .int) (n := nI 64) (N' := 64) (a0 := (64, .inl (nF zF))) (ty := .int) hx hb (hts _ q57) rfl hK hP hD hS hA (fun _ => rfl) (by decide +kernel) (by decide +kernel) (by decide +kernel) (Nat.le_of_ble_eq_true rfl) (Nat.le_of_ble_eq_true rfl) dX1_init_55 (fun q7 cA H hK hP hD hS => ?_)
  have e1 : s.vm.findClass ("[" ++ FieldType.int.toString) = some d := (hK.2 0 _ rfl).2
  have e2 : s.vm.findClass ("[" ++ FieldType.int.toString) = some cA := (hK.2 1 _ rfl).2
  have e3 : d = cA := Option.some.inj (e1.symm.trans e2)
  subst e3
  have hK : va_K D vwCl [(d, .int)] s := hK.sub [0] rfl
  refine W.widen (k := 7) (n := 448) (Nat.le_of_ble_eq_true rfl) (Nat.le_of_ble_eq_true rfl) ?_
  have hP : va_P D vwCl [(h0, .inr (0, [.ref q1, .ref q2, .ref q3, .ref q4, .ref q5, .ref q6, .null, .int 0, .int 0, .int 0, .int 0])), (q1, .inl (d, 64, .inl (nF zF))), (q2, .inl (d, 64, .inl (nF zF))), (q3, .inl (d, 64, .inl (nF zF))), (q4, .inl (d, 64, .inl (nF zF))), (q5, .inl (d, 64, .inl (nF zF))), (q6, .inl (d, 64, .inl (nF zF))), (q7, .inl (d, 64, .inl (nF zF)))] H := hP
  have hD : va_D A [(h0, .inr (0, [.ref q1, .ref q2, .ref q3, .ref q4, .ref q5, .ref q6, .null, .int 0, .int 0, .int 0, .int 0])), (q1, .inl (d, 64, .inl (nF zF))), (q2, .inl (d, 64, .inl (nF zF))), (q3, .inl (d, 64, .inl (nF zF))), (q4, .inl (d, 64, .inl (nF zF))), (q5, .inl (d, 64, .inl (nF zF))), (q6, .inl (d, 64, .inl (nF zF))), (q7, .inl (d, 64, .inl (nF zF)))] := hD
  refine va_putF (D := D) (ci := 0) (v := .ref q7) (ty := .array .int) (C := RX1) (T := TX1) (N := 11) hx hb hts in_X1 tyX1 tyX1_ok nmX1 hown hK hP hD hS 0 rfl rfl 6 (by decide) (hts _ q29) (fun _ h9 => h9) rfl hin rfl (by decide +kernel) rfl rfl (Nat.le_of_ble_eq_true rfl) dX1_init_57 (fun H locs hP hD hS => ?_)
  have hP : va_P D vwCl [(h0, .inr (0, [.ref q1, .ref q2, .ref q3, .ref q4, .ref q5, .ref q6, .ref q7, .int 0, .int 0, .int 0, .int 0])), (q1, .inl (d, 64, .inl (nF zF))), (q2, .inl (d, 64, .inl (nF zF))), (q3, .inl (d, 64, .inl (nF zF))), (q4, .inl (d, 64, .inl (nF zF))), (q5, .inl (d, 64, .inl (nF zF))), (q6, .inl (d, 64, .inl (nF zF))), (q7, .inl (d, 64, .inl (nF zF)))] H := hP
  have hD : va_D A [(h0, .inr (0, [.ref q1, .ref q2, .ref q3, .ref q4, .ref q5, .ref q6, .ref q7, .int 0, .int 0, .int 0, .int 0])), (q1, .inl (d, 64, .inl (nF zF))), (q2, .inl (d, 64, .inl (nF zF))), (q3, .inl (d, 64, .inl (nF zF))), (q4, .inl (d, 64, .inl (nF zF))), (q5, .inl (d, 64, .inl (nF zF))), (q6, .inl (d, 64, .inl (nF zF))), (q7, .inl (d, 64, .inl (nF zF)))] := hD
  refine lv_iload_n hx hb dX1_init_60 rfl (lv_at hl 1 rfl) ?_
  refine lv_bipush (v := nI 64) hx hb dX1_init_61 (by decide +kernel) ?_
  refine lv_irem hx hb dX1_init_63 (by decide +kernel) ?_
  refine lv_topi (fun r er => ?_)
  refine lv_istore_n (lv' := [(3, .int r), (0, .ref h0), (1, .int x), (2, .int y)]) hx hb dX1_init_64 rfl hl (by decide) rfl (fun ls hl => ?_)
  refine lv_iload_n hx hb dX1_init_65 rfl (lv_at hl 3 rfl) ?_
  refine lv_sipush (v := nI 32767) hx hb dX1_init_66 (by decide +kernel) ?_
  refine lv_irem hx hb dX1_init_69 (by decide +kernel) ?_
  refine lv_topi (fun r2 er2 => ?_)
  refine lv_istore (lv' := [(4, .int r2), (3, .int r), (0, .ref h0), (1, .int x), (2, .int y)]) hx hb dX1_init_70 hl (by decide) rfl (fun ls hl => ?_)
  refine lv_aload_n hx hb dX1_init_72 rfl (lv_at hl 2 rfl) ?_
  refine lv_iconst (v := nI 1) hx hb dX1_init_73 (by decide +kernel) ?_
  refine lv_iload_n hx hb dX1_init_74 rfl (lv_at hl 1 rfl) ?_
  refine lv_if_ge (tgt := 85) hx hb dX1_init_75 (by decide) (fun c75 => ?_) (fun c75 => ?_)
  · refine lv_iload_n hx hb dX1_init_85 rfl (lv_at hl 1 rfl) ?_
    rw [(c_rem er).1 c75]
    refine n_iadd hx hb dX1_init_86 ?_
    refine va_putF (D := D) (ci := 0) (v := .int (nI (1 + cOf x))) (ty := .int) (C := RX1) (T := TX1) (N := 11) hx hb hts in_X1 tyX1 tyX1_ok nmX1 hown hK hP hD hS 0 rfl rfl 7 (by decide) (hts _ q30) (fun _ h9 => h9) rfl hin rfl (by decide +kernel) rfl rfl (Nat.le_of_ble_eq_true rfl) dX1_init_87 (fun H locs hP hD hS => ?_)
    have hP : va_P D vwCl [(h0, .inr (0, [.ref q1, .ref q2, .ref q3, .ref q4, .ref q5, .ref q6, .ref q7, .int (nI (1 + cOf x)), .int 0, .int 0, .int 0])), (q1, .inl (d, 64, .inl (nF zF))), (q2, .inl (d, 64, .inl (nF zF))), (q3, .inl (d, 64, .inl (nF zF))), (q4, .inl (d, 64, .inl (nF zF))), (q5, .inl (d, 64, .inl (nF zF))), (q6, .inl (d, 64, .inl (nF zF))), (q7, .inl (d, 64, .inl (nF zF)))] H := hP
    have hD : va_D A [(h0, .inr (0, [.ref q1, .ref q2, .ref q3, .ref q4, .ref q5, .ref q6, .ref q7, .int (nI (1 + cOf x)), .int 0, .int 0, .int 0])), (q1, .inl (d, 64, .inl (nF zF))), (q2, .inl (d, 64, .inl (nF zF))), (q3, .inl (d, 64, .inl (nF zF))), (q4, .inl (d, 64, .inl (nF zF))), (q5, .inl (d, 64, .inl (nF zF))), (q6, .inl (d, 64, .inl (nF zF))), (q7, .inl (d, 64, .inl (nF zF)))] := hD
    refine lv_aload_n hx hb dX1_init_90 rfl (lv_at hl 2 rfl) ?_
    refine lv_iconst (v := nI 2) hx hb dX1_init_91 (by decide +kernel) ?_
    refine lv_iload hx hb dX1_init_92 (lv_at hl 0 rfl) ?_
    refine lv_if_ge (tgt := 106) hx hb dX1_init_94 (by decide) (fun c94 => ?_) (fun c94 => ?_)
    · refine lv_iload hx hb dX1_init_106 (lv_at hl 0 rfl) ?_
      rw [(b_rem er2).1 c94]
      refine n_iadd hx hb dX1_init_108 ?_
      refine va_putF (D := D) (ci := 0) (v := .int (nI (2 + bOf y))) (ty := .int) (C := RX1) (T := TX1) (N := 11) hx hb hts in_X1 tyX1 tyX1_ok nmX1 hown hK hP hD hS 0 rfl rfl 8 (by decide) (hts _ q31) (fun _ h9 => h9) rfl hin rfl (by decide +kernel) rfl rfl (Nat.le_of_ble_eq_true rfl) dX1_init_109 (fun H locs hP hD hS => ?_)
      have hP : va_P D vwCl (wS (ad8 h0 q1 q2 q3 q4 q5 q6 q7) d (iniH x y)) H := hP
      have hD : va_D A (wS (ad8 h0 q1 q2 q3 q4 q5 q6 q7) d (iniH x y)) := hD
      exact W.vret hx hb hr (fun t ht hW => ⟨⟨iniH x y, rfl, rfl, ad8 h0 q1 q2 q3 q4 q5 q6 q7, d, rfl, by rw [ht]; exact hP, va_K.moved hW.alike hK, hD⟩, hS.F ht⟩) hS.2.2 dX1_init_112
    · refine lv_iload hx hb dX1_init_97 (lv_at hl 0 rfl) ?_
      refine lv_sipush (v := nI 32767) hx hb dX1_init_99 (by decide +kernel) ?_
      refine lv_iadd hx hb dX1_init_102 ?_
      refine lv_goto (tgt := 108) hx hb dX1_init_103 (by decide) ?_
      rw [(b_rem er2).2 c94]
      refine n_iadd hx hb dX1_init_108 ?_
      refine va_putF (D := D) (ci := 0) (v := .int (nI (2 + bOf y))) (ty := .int) (C := RX1) (T := TX1) (N := 11) hx hb hts in_X1 tyX1 tyX1_ok nmX1 hown hK hP hD hS 0 rfl rfl 8 (by decide) (hts _ q31) (fun _ h9 => h9) rfl hin rfl (by decide +kernel) rfl rfl (Nat.le_of_ble_eq_true rfl) dX1_init_109 (fun H locs hP hD hS => ?_)
      have hP : va_P D vwCl (wS (ad8 h0 q1 q2 q3 q4 q5 q6 q7) d (iniH x y)) H := hP
      have hD : va_D A (wS (ad8 h0 q1 q2 q3 q4 q5 q6 q7) d (iniH x y)) := hD
      exact W.vret hx hb hr (fun t ht hW => ⟨⟨iniH x y, rfl, rfl, ad8 h0 q1 q2 q3 q4 q5 q6 q7, d, rfl, by rw [ht]; exact hP, va_K.moved hW.alike hK, hD⟩, hS.F ht⟩) hS.2.2 dX1_init_112
  · refine lv_iload_n hx hb dX1_init_78 rfl (lv_at hl 1 rfl) ?_
    refine lv_bipush (v := nI 64) hx hb dX1_init_79 (by decide +kernel) ?_
    refine lv_iadd hx hb dX1_init_81 ?_
    refine lv_goto (tgt := 86) hx hb dX1_init_82 (by decide) ?_
    rw [(c_rem er).2 c75]
    refine n_iadd hx hb dX1_init_86 ?_
    refine va_putF (D := D) (ci := 0) (v := .int (nI (1 + cOf x))) (ty := .int) (C := RX1) (T := TX1) (N := 11) hx hb hts in_X1 tyX1 tyX1_ok nmX1 hown hK hP hD hS 0 rfl rfl 7 (by decide) (hts _ q30) (fun _ h9 => h9) rfl hin rfl (by decide +kernel) rfl rfl (Nat.le_of_ble_eq_true rfl) dX1_init_87 (fun H locs hP hD hS => ?_)
    have hP : va_P D vwCl [(h0, .inr (0, [.ref q1, .ref q2, .ref q3, .ref q4, .ref q5, .ref q6, .ref q7, .int (nI (1 + cOf x)), .int 0, .int 0, .int 0])), (q1, .inl (d, 64, .inl (nF zF))), (q2, .inl (d, 64, .inl (nF zF))), (q3, .inl (d, 64, .inl (nF zF))), (q4, .inl (d, 64, .inl (nF zF))), (q5, .inl (d, 64, .inl (nF zF))), (q6, .inl (d, 64, .inl (nF zF))), (q7, .inl (d, 64, .inl (nF zF)))] H := hP
    have hD : va_D A [(h0, .inr (0, [.ref q1, .ref q2, .ref q3, .ref q4, .ref q5, .ref q6, .ref q7, .int (nI (1 + cOf x)), .int 0, .int 0, .int 0])), (q1, .inl (d, 64, .inl (nF zF))), (q2, .inl (d, 64, .inl (nF zF))), (q3, .inl (d, 64, .inl (nF zF))), (q4, .inl (d, 64, .inl (nF zF))), (q5, .inl (d, 64, .inl (nF zF))), (q6, .inl (d, 64, .inl (nF zF))), (q7, .inl (d, 64, .inl (nF zF)))] := hD
    refine lv_aload_n hx hb dX1_init_90 rfl (lv_at hl 2 rfl) ?_
    refine lv_iconst (v := nI 2) hx hb dX1_init_91 (by decide +kernel) ?_
    refine lv_iload hx hb dX1_init_92 (lv_at hl 0 rfl) ?_
    refine lv_if_ge (tgt := 106) hx hb dX1_init_94 (by decide) (fun c94 => ?_) (fun c94 => ?_)
    · refine lv_iload hx hb dX1_init_106 (lv_at hl 0 rfl) ?_
      rw [(b_rem er2).1 c94]
      refine n_iadd hx hb dX1_init_108 ?_
      refine va_putF (D := D) (ci := 0) (v := .int (nI (2 + bOf y))) (ty := .int) (C := RX1) (T := TX1) (N := 11) hx hb hts in_X1 tyX1 tyX1_ok nmX1 hown hK hP hD hS 0 rfl rfl 8 (by decide) (hts _ q31) (fun _ h9 => h9) rfl hin rfl (by decide +kernel) rfl rfl (Nat.le_of_ble_eq_true rfl) dX1_init_109 (fun H locs hP hD hS => ?_)
      have hP : va_P D vwCl (wS (ad8 h0 q1 q2 q3 q4 q5 q6 q7) d (iniH x y)) H := hP
      have hD : va_D A (wS (ad8 h0 q1 q2 q3 q4 q5 q6 q7) d (iniH x y)) := hD
      exact W.vret hx hb hr (fun t ht hW => ⟨⟨iniH x y, rfl, rfl, ad8 h0 q1 q2 q3 q4 q5 q6 q7, d, rfl, by rw [ht]; exact hP, va_K.moved hW.alike hK, hD⟩, hS.F ht⟩) hS.2.2 dX1_init_112
    · refine lv_iload hx hb dX1_init_97 (lv_at hl 0 rfl) ?_
      refine lv_sipush (v := nI 32767) hx hb dX1_init_99 (by decide +kernel) ?_
      refine lv_iadd hx hb dX1_init_102 ?_
      refine lv_goto (tgt := 108) hx hb dX1_init_103 (by decide) ?_
      rw [(b_rem er2).2 c94]
      refine n_iadd hx hb dX1_init_108 ?_
      refine va_putF (D := D) (ci := 0) (v := .int (nI (2 + bOf y))) (ty := .int) (C := RX1) (T := TX1) (N := 11) hx hb hts in_X1 tyX1 tyX1_ok nmX1 hown hK hP hD hS 0 rfl rfl 8 (by decide) (hts _ q31) (fun _ h9 => h9) rfl hin rfl (by decide +kernel) rfl rfl (Nat.le_of_ble_eq_true rfl) dX1_init_109 (fun H locs hP hD hS => ?_)
      have hP : va_P D vwCl (wS (ad8 h0 q1 q2 q3 q4 q5 q6 q7) d (iniH x y)) H := hP
      have hD : va_D A (wS (ad8 h0 q1 q2 q3 q4 q5 q6 q7) d (iniH x y)) := hD
      exact W.vret hx hb hr (fun t ht hW => ⟨⟨iniH x y, rfl, rfl, ad8 h0 q1 q2 q3 q4 q5 q6 q7, d, rfl, by rw [ht]; exact hP, va_K.moved hW.alike hK, hD⟩, hS.F ht⟩) hS.2.2 dX1_init_112
abbrev metM_init_w (h0 : Nat) : va_W := [(h0, .inr (1, [.int 0, .int 0, .null, .null, .null, .null, .int 0, .long 0]))]
def metM_init_P (D : va_G) (h0 sz : Nat) (U : State) : Prop := U.heap.size = sz ∧ va_P D vwCl (metM_init_w h0) U.heap ∧ va_K D vwCl [] U ∧ va_D (fun _ => True) (metM_init_w h0)
set_option maxHeartbeats 8000000 in
set_option maxRecDepth 100000 in
/-- StrideHeapModel(x, y): four arrays of 64, all 0 -/
theorem metM_init (l : Launch) (D : va_G) (h0 sz : Nat) (x y : Int32) : Met l yX2_init (ws_ yX2_init cX2_init 4 none) { frames := 1, cells := 4, slots := 256, locals := 12 } (va_Pc [.ref h0, .int x, .int y] (metM_init_P D h0 sz)) (va_Qv (fun u => u = iniM x y) (mBi D h0 (va_A (metM_init_w h0) sz)) (va_A (metM_init_w h0) sz)) 4 256 (va_A (metM_init_w h0) sz) := by
  refine Met.ofW (cc := cX2_init) (maxL := 4) (ret := none) (by decide) rfl ?_
  intro p e s m args below meth c s₁ B hml hv
  obtain ⟨rfl, hsz, hP, hK, hD0⟩ := hv
  have hx := B.exec
  have hb := B.bytes
  have hr := B.returns
  have hts := atoms_spec (ws := ws_ yX2_init cX2_init 4 none) B.pre
  have hts : ∀ w ∈ lw_all, w.before _ s = true := fun w h => hts w (List.mem_cons_of_mem _ h)
  have hown : s.vm.findClass RX2 = some m.cls := findClass_of_methodNamed B.named
  have hlocks := B.notSynchronized
  have hin : meth.name = "<init>" := (name_of_methodNamed B.named B.method).1
  subst hsz
  have hD := hD0.self (sz := s.heap.size)
  generalize hAe : va_A (metM_init_w h0) s.heap.size = A at hD ⊢
  have hA : ∀ q : Nat, s.heap.size ≤ q → A q := fun q h => by rw [← hAe]; exact Or.inr h
  have hS : va_S A s.heap s.heap [] := va_S.rf
  have hl := lv_entry ([.ref h0, .int x, .int y]) (n := 4) (Nat.le_of_ble_eq_true rfl)
  rw [lg_entry_eq]
  generalize (lg_sl ([.ref h0, .int x, .int y]) ++ List.replicate (4 - (lg_sl ([.ref h0, .int x, .int y])).length) Slot.unset).toArray = ls at hl ⊢
  have hl : lv_has ls 4 [(0, .ref h0), (1, .int x), (2, .int y)] := hl
  refine lv_aload_n hx hb dX2_init_0 rfl (lv_at hl 0 rfl) ?_
  refine W.objInit hx hb hown (hts _ q140) (hts _ q21) (hts _ q22) rfl (by rw [hml]; exact hl.1) rfl dX2_init_1 (Nat.le_of_ble_eq_true rfl) (Nat.le_of_ble_eq_true rfl) ?_
  refine W.eq (g2 := F0 m 4 ls []) rfl ?_
  refine lv_aload_n hx hb dX2_init_4 rfl (lv_at hl 0 rfl) ?_
  refine lv_bipush (v := nI 64) hx hb dX2_init_5 (by decide +kernel) ?_
  refine va_newa (atype := .boolean) (n := nI 64) (N' := 64) (a0 := (64, .inl (nF zF))) (ty := .boolean) hx hb (hts _ q166) rfl hK hP hD hS hA (fun _ => rfl) (by decide +kernel) (by decide +kernel) (by decide +kernel) (Nat.le_of_ble_eq_true rfl) (Nat.le_of_ble_eq_true rfl) dX2_init_7 (fun q1 dz H hK hP hD hS => ?_)
  have hK : va_K D vwCl [(dz, .boolean)] s := hK
  refine W.widen (k := 1) (n := 64) (Nat.le_of_ble_eq_true rfl) (Nat.le_of_ble_eq_true rfl) ?_
  have hP : va_P D vwCl [(h0, .inr (1, [.int 0, .int 0, .null, .null, .null, .null, .int 0, .long 0])), (q1, .inl (dz, 64, .inl (nF zF)))] H := hP
  have hD : va_D A [(h0, .inr (1, [.int 0, .int 0, .null, .null, .null, .null, .int 0, .long 0])), (q1, .inl (dz, 64, .inl (nF zF)))] := hD
  refine va_putF (D := D) (ci := 1) (v := .ref q1) (ty := .array .boolean) (C := RX2) (T := TX2) (N := 8) hx hb hts in_X2 tyX2 tyX2_ok nmX2 hown hK hP hD hS 0 rfl rfl 2 (by decide) (hts _ q143) (fun _ h9 => h9) rfl hin rfl (by decide +kernel) rfl rfl (Nat.le_of_ble_eq_true rfl) dX2_init_9 (fun H locs hP hD hS => ?_)
  have hP : va_P D vwCl [(h0, .inr (1, [.int 0, .int 0, .ref q1, .null, .null, .null, .int 0, .long 0])), (q1, .inl (dz, 64, .inl (nF zF)))] H := hP
  have hD : va_D A [(h0, .inr (1, [.int 0, .int 0, .ref q1, .null, .null, .null, .int 0, .long 0])), (q1, .inl (dz, 64, .inl (nF zF)))] := hD
  refine lv_aload_n hx hb dX2_init_12 rfl (lv_at hl 0 rfl) ?_
  refine lv_bipush (v := nI 64) hx hb dX2_init_13 (by decide +kernel) ?_
  refine va_newa (atype := .int) (n := nI 64) (N' := 64) (a0 := (64, .inl (nF zF))) (ty := .int) hx hb (hts _ q57) rfl hK hP hD hS hA (fun _ => rfl) (by decide +kernel) (by decide +kernel) (by decide +kernel) (Nat.le_of_ble_eq_true rfl) (Nat.le_of_ble_eq_true rfl) dX2_init_15 (fun q2 d H hK hP hD hS => ?_)
  have hK : va_K D vwCl [(dz, .boolean), (d, .int)] s := hK
  refine W.widen (k := 2) (n := 128) (Nat.le_of_ble_eq_true rfl) (Nat.le_of_ble_eq_true rfl) ?_
  have hP : va_P D vwCl [(h0, .inr (1, [.int 0, .int 0, .ref q1, .null, .null, .null, .int 0, .long 0])), (q1, .inl (dz, 64, .inl (nF zF))), (q2, .inl (d, 64, .inl (nF zF)))] H := hP
  have hD : va_D A [(h0, .inr (1, [.int 0, .int 0, .ref q1, .null, .null, .null, .int 0, .long 0])), (q1, .inl (dz, 64, .inl (nF zF))), (q2, .inl (d, 64, .inl (nF zF)))] := hD
  refine va_putF (D := D) (ci := 1) (v := .ref q2) (ty := .array .int) (C := RX2) (T := TX2) (N := 8) hx hb hts in_X2 tyX2 tyX2_ok nmX2 hown hK hP hD hS 0 rfl rfl 3 (by decide) (hts _ q144) (fun _ h9 => h9) rfl hin rfl (by decide +kernel) rfl rfl (Nat.le_of_ble_eq_true rfl) dX2_init_17 (fun H locs hP hD hS => ?_)
  have hP : va_P D vwCl [(h0, .inr (1, [.int 0, .int 0, .ref q1, .ref q2, .null, .null, .int 0, .long 0])), (q1, .inl (dz, 64, .inl (nF zF))), (q2, .inl (d, 64, .inl (nF zF)))] H := hP
  have hD : va_D A [(h0, .inr (1, [.int 0, .int 0, .ref q1, .ref q2, .null, .null, .int 0, .long 0])), (q1, .inl (dz, 64, .inl (nF zF))), (q2, .inl (d, 64, .inl (nF zF)))] := hD
  refine lv_aload_n hx hb dX2_init_20 rfl (lv_at hl 0 rfl) ?_
  refine lv_bipush (v := nI 64) hx hb dX2_init_21 (by decide +kernel) ?_
  refine va_newa (atype := .long) (n := nI 64) (N' := 64) (a0 := (64, .inr (.inl (lF zF)))) (ty := .long) hx hb (hts _ q167) rfl hK hP hD hS hA (fun _ => rfl) (by decide +kernel) (by decide +kernel) (by decide +kernel) (Nat.le_of_ble_eq_true rfl) (Nat.le_of_ble_eq_true rfl) dX2_init_23 (fun q3 dl H hK hP hD hS => ?_)
  have hK : va_K D vwCl [(dz, .boolean), (d, .int), (dl, .long)] s := hK
  refine W.widen (k := 3) (n := 192) (Nat.le_of_ble_eq_true rfl) (Nat.le_of_ble_eq_true rfl) ?_
  have hP : va_P D vwCl [(h0, .inr (1, [.int 0, .int 0, .ref q1, .ref q2, .null, .null, .int 0, .long 0])), (q1, .inl (dz, 64, .inl (nF zF))), (q2, .inl (d, 64, .inl (nF zF))), (q3, .inl (dl, 64, .inr (.inl (lF zF))))] H := hP
  have hD : va_D A [(h0, .inr (1, [.int 0, .int 0, .ref q1, .ref q2, .null, .null, .int 0, .long 0])), (q1, .inl (dz, 64, .inl (nF zF))), (q2, .inl (d, 64, .inl (nF zF))), (q3, .inl (dl, 64, .inr (.inl (lF zF))))] := hD
  refine va_putF (D := D) (ci := 1) (v := .ref q3) (ty := .array .long) (C := RX2) (T := TX2) (N := 8) hx hb hts in_X2 tyX2 tyX2_ok nmX2 hown hK hP hD hS 0 rfl rfl 4 (by decide) (hts _ q145) (fun _ h9 => h9) rfl hin rfl (by decide +kernel) rfl rfl (Nat.le_of_ble_eq_true rfl) dX2_init_25 (fun H locs hP hD hS => ?_)
  have hP : va_P D vwCl [(h0, .inr (1, [.int 0, .int 0, .ref q1, .ref q2, .ref q3, .null, .int 0, .long 0])), (q1, .inl (dz, 64, .inl (nF zF))), (q2, .inl (d, 64, .inl (nF zF))), (q3, .inl (dl, 64, .inr (.inl (lF zF))))] H := hP
  have hD : va_D A [(h0, .inr (1, [.int 0, .int 0, .ref q1, .ref q2, .ref q3, .null, .int 0, .long 0])), (q1, .inl (dz, 64, .inl (nF zF))), (q2, .inl (d, 64, .inl (nF zF))), (q3, .inl (dl, 64, .inr (.inl (lF zF))))] := hD
  refine lv_aload_n hx hb dX2_init_28 rfl (lv_at hl 0 rfl) ?_
  refine lv_bipush (v := nI 64) hx hb dX2_init_29 (by decide +kernel) ?_
  refine va_newa (atype := .int) (n := nI 64) (N' := 64) (a0 := (64, .inl (nF zF))) (ty := .int) hx hb (hts _ q57) rfl hK hP hD hS hA (fun _ => rfl) (by decide +kernel) (by decide +kernel) (by decide +kernel) (Nat.le_of_ble_eq_true rfl) (Nat.le_of_ble_eq_true rfl) dX2_init_31 (fun q4 cA H hK hP hD hS => ?_)
  have e1 : s.vm.findClass ("[" ++ FieldType.int.toString) = some d := (hK.2 1 _ rfl).2
  have e2 : s.vm.findClass ("[" ++ FieldType.int.toString) = some cA := (hK.2 3 _ rfl).2
  have e3 : d = cA := Option.some.inj (e1.symm.trans e2)
  subst e3
  have hK : va_K D vwCl [(d, .int), (dz, .boolean), (dl, .long)] s := hK.sub [1, 0, 2] rfl
  refine W.widen (k := 4) (n := 256) (Nat.le_of_ble_eq_true rfl) (Nat.le_of_ble_eq_true rfl) ?_
  have hP : va_P D vwCl [(h0, .inr (1, [.int 0, .int 0, .ref q1, .ref q2, .ref q3, .null, .int 0, .long 0])), (q1, .inl (dz, 64, .inl (nF zF))), (q2, .inl (d, 64, .inl (nF zF))), (q3, .inl (dl, 64, .inr (.inl (lF zF)))), (q4, .inl (d, 64, .inl (nF zF)))] H := hP
  have hD : va_D A [(h0, .inr (1, [.int 0, .int 0, .ref q1, .ref q2, .ref q3, .null, .int 0, .long 0])), (q1, .inl (dz, 64, .inl (nF zF))), (q2, .inl (d, 64, .inl (nF zF))), (q3, .inl (dl, 64, .inr (.inl (lF zF)))), (q4, .inl (d, 64, .inl (nF zF)))] := hD
  refine va_putF (D := D) (ci := 1) (v := .ref q4) (ty := .array .int) (C := RX2) (T := TX2) (N := 8) hx hb hts in_X2 tyX2 tyX2_ok nmX2 hown hK hP hD hS 0 rfl rfl 5 (by decide) (hts _ q146) (fun _ h9 => h9) rfl hin rfl (by decide +kernel) rfl rfl (Nat.le_of_ble_eq_true rfl) dX2_init_33 (fun H locs hP hD hS => ?_)
  have hP : va_P D vwCl [(h0, .inr (1, [.int 0, .int 0, .ref q1, .ref q2, .ref q3, .ref q4, .int 0, .long 0])), (q1, .inl (dz, 64, .inl (nF zF))), (q2, .inl (d, 64, .inl (nF zF))), (q3, .inl (dl, 64, .inr (.inl (lF zF)))), (q4, .inl (d, 64, .inl (nF zF)))] H := hP
  have hD : va_D A [(h0, .inr (1, [.int 0, .int 0, .ref q1, .ref q2, .ref q3, .ref q4, .int 0, .long 0])), (q1, .inl (dz, 64, .inl (nF zF))), (q2, .inl (d, 64, .inl (nF zF))), (q3, .inl (dl, 64, .inr (.inl (lF zF)))), (q4, .inl (d, 64, .inl (nF zF)))] := hD
  refine lv_aload_n hx hb dX2_init_36 rfl (lv_at hl 0 rfl) ?_
  refine lv_iload_n hx hb dX2_init_37 rfl (lv_at hl 1 rfl) ?_
  refine lv_bipush (v := nI 63) hx hb dX2_init_38 (by decide +kernel) ?_
  refine lv_iand hx hb dX2_init_40 ?_
  rw [c_and]
  refine lv_iconst (v := nI 1) hx hb dX2_init_41 (by decide +kernel) ?_
  refine n_iadd hx hb dX2_init_42 ?_
  refine va_putF (D := D) (ci := 1) (v := .int (nI (cOf x + 1))) (ty := .int) (C := RX2) (T := TX2) (N := 8) hx hb hts in_X2 tyX2 tyX2_ok nmX2 hown hK hP hD hS 0 rfl rfl 0 (by decide) (hts _ q141) (fun _ h9 => h9) rfl hin rfl (by decide +kernel) rfl rfl (Nat.le_of_ble_eq_true rfl) dX2_init_43 (fun H locs hP hD hS => ?_)
  have hP : va_P D vwCl [(h0, .inr (1, [.int (nI (cOf x + 1)), .int 0, .ref q1, .ref q2, .ref q3, .ref q4, .int 0, .long 0])), (q1, .inl (dz, 64, .inl (nF zF))), (q2, .inl (d, 64, .inl (nF zF))), (q3, .inl (dl, 64, .inr (.inl (lF zF)))), (q4, .inl (d, 64, .inl (nF zF)))] H := hP
  have hD : va_D A [(h0, .inr (1, [.int (nI (cOf x + 1)), .int 0, .ref q1, .ref q2, .ref q3, .ref q4, .int 0, .long 0])), (q1, .inl (dz, 64, .inl (nF zF))), (q2, .inl (d, 64, .inl (nF zF))), (q3, .inl (dl, 64, .inr (.inl (lF zF)))), (q4, .inl (d, 64, .inl (nF zF)))] := hD
  refine lv_iload_n hx hb dX2_init_46 rfl (lv_at hl 2 rfl) ?_
  refine lv_sipush (v := nI 32767) hx hb dX2_init_47 (by decide +kernel) ?_
  refine lv_irem hx hb dX2_init_50 (by decide +kernel) ?_
  refine lv_topi (fun r2 er2 => ?_)
  refine lv_istore_n (lv' := [(3, .int r2), (0, .ref h0), (1, .int x), (2, .int y)]) hx hb dX2_init_51 rfl hl (by decide) rfl (fun ls hl => ?_)
  refine lv_aload_n hx hb dX2_init_52 rfl (lv_at hl 1 rfl) ?_
  refine lv_iload_n hx hb dX2_init_53 rfl (lv_at hl 0 rfl) ?_
  refine lv_if_ge (tgt := 65) hx hb dX2_init_54 (by decide) (fun c54 => ?_) (fun c54 => ?_)
  · refine lv_iload_n hx hb dX2_init_65 rfl (lv_at hl 0 rfl) ?_
    rw [(b_rem er2).1 c54]
    refine lv_iconst (v := nI 2) hx hb dX2_init_66 (by decide +kernel) ?_
    refine n_iadd hx hb dX2_init_67 ?_
    refine va_putF (D := D) (ci := 1) (v := .int (nI (bOf y + 2))) (ty := .int) (C := RX2) (T := TX2) (N := 8) hx hb hts in_X2 tyX2 tyX2_ok nmX2 hown hK hP hD hS 0 rfl rfl 1 (by decide) (hts _ q142) (fun _ h9 => h9) rfl hin rfl (by decide +kernel) rfl rfl (Nat.le_of_ble_eq_true rfl) dX2_init_68 (fun H locs hP hD hS => ?_)
    have hP : va_P D vwCl (wT (ad5 h0 q1 q2 q3 q4) d dz dl (iniM x y)) H := hP
    have hD : va_D A (wT (ad5 h0 q1 q2 q3 q4) d dz dl (iniM x y)) := hD
    exact W.vret hx hb hr (fun t ht hW => ⟨⟨iniM x y, rfl, rfl, ad5 h0 q1 q2 q3 q4, d, dz, dl, rfl, by rw [ht]; exact hP, va_K.moved hW.alike hK, hD⟩, hS.F ht⟩) hS.2.2 dX2_init_71
  · refine lv_iload_n hx hb dX2_init_57 rfl (lv_at hl 0 rfl) ?_
    refine lv_sipush (v := nI 32767) hx hb dX2_init_58 (by decide +kernel) ?_
    refine lv_iadd hx hb dX2_init_61 ?_
    refine lv_goto (tgt := 66) hx hb dX2_init_62 (by decide) ?_
    rw [(b_rem er2).2 c54]
    refine lv_iconst (v := nI 2) hx hb dX2_init_66 (by decide +kernel) ?_
    refine n_iadd hx hb dX2_init_67 ?_
    refine va_putF (D := D) (ci := 1) (v := .int (nI (bOf y + 2))) (ty := .int) (C := RX2) (T := TX2) (N := 8) hx hb hts in_X2 tyX2 tyX2_ok nmX2 hown hK hP hD hS 0 rfl rfl 1 (by decide) (hts _ q142) (fun _ h9 => h9) rfl hin rfl (by decide +kernel) rfl rfl (Nat.le_of_ble_eq_true rfl) dX2_init_68 (fun H locs hP hD hS => ?_)
    have hP : va_P D vwCl (wT (ad5 h0 q1 q2 q3 q4) d dz dl (iniM x y)) H := hP
    have hD : va_D A (wT (ad5 h0 q1 q2 q3 q4) d dz dl (iniM x y)) := hD
    exact W.vret hx hb hr (fun t ht hW => ⟨⟨iniM x y, rfl, rfl, ad5 h0 q1 q2 q3 q4, d, dz, dl, rfl, by rw [ht]; exact hP, va_K.moved hW.alike hK, hD⟩, hS.F ht⟩) hS.2.2 dX2_init_71
end
section
/-! THE CLAIM OUT OF ONE WALK OF THE LAW'S BODY. Your part is whole_start (and what it stands on); all else here is the same for every law, but numbers. -/
def R_law : String := "StrideHeapLaw"
def lw_P (b : Addr) (xs : List Int32) (args : Array Value) (s : State) : Prop := args = #[.ref b] ∧ s.IntsAt b xs ∧ xs.length ≤ 194 ∧ (Jvm.Cond.and given_1 narrow_1).before args s = true
def lw_Q (_ : Array Value) (s : State) (o : Outcome) (t : State) : Prop := o = .returned (some (.int 1)) ∧ Framed s o t [] 600000 7290000
def lw_Z (below : List Frame) (a : Array Value) (s : State) : State → Prop := fun t => ∃ o, t.status = .running ∧ Ended t below o ∧ lw_Q a s o t
/-- the law's own end, with 1 on the stack, nothing written that was there before, its room as the claim has it -/
theorem lw_ret {p : Program} {l : Launch} {e : Env} {s : State} {m : MethodId} {below : List Frame} {meth : Method} {c : Code} {b : Nat} (hx : p.tables.exec = Jvm.exec) (hb : c.code = code) (hr : meth.sig.returnType = ret) (hlocks : meth.locks = false) {pc : Nat} {H : Heap} {ls : Array Slot} (hdg : decode code pc = .ok (.ireturn, 1)) : W p l e room_1 s m #[Value.ref b] below meth c H [] 600000 7290000 (lw_Z below #[Value.ref b] s) (F0 m pc ls [.int 1]) := by
  intro T hT X
  obtain ⟨fs, hret, hrun, hended, hW, hframe⟩ := X.leave (v := some (.int 1)) (hlocks := hlocks) (fun h => by rw [hr] at h; cases h)
  have hmeth' : T.vm.method? m = some meth := X.method'
  refine ⟨T.setFrames fs, ?_, .returned (some (.int 1)), hrun, hended, rfl, ⟨_, rfl⟩, hW, hframe⟩
  jvm_step X.here [X.here.top, hx, hb, hdg, hmeth', hr, ret, narrow_b1]
  (try refine ⟨rfl, ?_⟩); (try refine ⟨rfl, ?_⟩)
  first | (intro acts; rw [hret _ acts rfl rfl rfl]) | rw [hret _ _ rfl rfl rfl]
  exact Steps.refl _
/-- what holds at the law's entry: the machine, the code, the tables' words (any of lw_tbl by 'hts w (by decide +kernel)'), the script of L ints xs at the cell b, what the Statement gives of the start (any of its parts by flat_of_before) -/
def lw_At (p : Program) (s : State) (m : MethodId) (meth : Method) (c : Code) (b L : Nat) (xs : Nat → Int32) : Prop :=
  p.tables.exec = Jvm.exec ∧ c.code = code ∧ meth.sig.returnType = ret ∧ c.maxLocals = 4 ∧ s.vm.findClass R_law = some m.cls ∧ (∀ w ∈ lw_tbl, w.before #[Value.ref b] s = true) ∧ va_X b L xs s s.heap ∧ b < s.heap.size ∧ meth.locks = false ∧ (Jvm.Cond.and given_1 narrow_1).before #[Value.ref b] s = true
end
section
/-! the law's own rows: its script, its calls -/
def sc (xs : Nat → Int32) (L k : Nat) : Int32 := if k < L then xs k else 0
def lA (s : State) : Nat → Prop := fun q => s.heap.size ≤ q
def lX (p : Program) (s : State) (m : MethodId) (c : Code) (b L : Nat) (xs : Nat → Int32) : Prop := p.tables.exec = Jvm.exec ∧ c.code = code ∧ c.maxLocals = 4 ∧ s.vm.findClass RX0 = some m.cls ∧ (∀ w ∈ lw_all, w.before #[Value.ref b] s = true) ∧ va_X b L xs s s.heap ∧ b < s.heap.size ∧ L ≤ 194
def lW (D : va_G) (s : State) (a a2 : Nat → Nat) (d dz dl : ClassId) (u : HS) (v : MS) (H : Heap) (locs : List Loc) : Prop := va_P D vwCl (wS a d u ++ wT a2 d dz dl v) H ∧ va_D (lA s) (wS a d u ++ wT a2 d dz dl v) ∧ va_S (lA s) s.heap H locs
set_option maxHeartbeats 4000000 in
set_option maxRecDepth 100000 in
/-- cell(script, k) -/
theorem met_cell (l : Launch) (b L k : Nat) (xs : Nat → Int32) (hk : k < 2) (hL : L ≤ 194) : Met l yX0_cell (ws_ yX0_cell cX0_cell 2 (some .int)) { frames := 0, cells := 0, slots := 0, locals := 0 } (va_Pc [.ref b, .int (nI k)] (fun U => va_X b L xs U U.heap)) (va_Qi (fun (r : Int32) (_ : Unit) => r = sc xs L k) (fun _ _ => True) (fun _ => False)) 0 0 (fun _ => False) := by
  refine Met.ofW (cc := cX0_cell) (maxL := 2) (ret := some .int) (by decide) rfl ?_
  intro p e s m args below meth c s₁ B hml hv
  obtain ⟨rfl, hX⟩ := hv
  have hx := B.exec
  have hb := B.bytes
  have hr := B.returns
  have hlocks := B.notSynchronized
  have hbl : b < s.heap.size := by
    obtain ⟨scr, h1, -⟩ := hX
    exact (Array.getElem?_eq_some_iff.mp h1).1
  have hS : va_S (fun _ => False) s.heap s.heap [] := va_S.rf
  have hbA : ¬ (fun _ : Nat => False) b := fun h => h
  have hl := lv_entry ([.ref b, .int (nI k)]) (n := 2) (Nat.le_of_ble_eq_true rfl)
  rw [lg_entry_eq]
  generalize (lg_sl ([.ref b, .int (nI k)]) ++ List.replicate (2 - (lg_sl ([.ref b, .int (nI k)])).length) Slot.unset).toArray = ls at hl ⊢
  have hl : lv_has ls 2 [(0, .ref b), (1, .int (nI k))] := hl
  refine lv_iload_n hx hb dX0_cell_0 rfl (lv_at hl 1 rfl) ?_
  refine lv_aload_n hx hb dX0_cell_1 rfl (lv_at hl 0 rfl) ?_
  refine va_slen hx hb hX hbl hbA hS dX0_cell_2 ?_
  refine n_icmp_ge (y := L) (tgt := 12) hx hb (by omega) (by omega) dX0_cell_3 (by decide) (fun c3 => ?_) (fun c3 => ?_)
  · refine lv_iconst (v := 0) hx hb dX0_cell_12 (by decide) ?_
    exact W.iret (v := 0) hx hb hr (fun t ht hW => ⟨⟨0, (), rfl, (if_neg (by omega)).symm, trivial⟩, hS.F ht⟩) hS.2.2 dX0_cell_13
  · refine lv_aload_n hx hb dX0_cell_6 rfl (lv_at hl 0 rfl) ?_
    refine lv_iload_n hx hb dX0_cell_7 rfl (lv_at hl 1 rfl) ?_
    refine va_sld hx hb hX hbl hbA hS (vp_in_nI c3 (by omega)) dX0_cell_8 ?_
    rw [nI_clamp (by omega)]
    refine lv_goto (tgt := 13) hx hb dX0_cell_9 (by decide) ?_
    exact W.iret (v := xs k) hx hb hr (fun t ht hW => ⟨⟨xs k, (), rfl, (if_pos c3).symm, trivial⟩, hS.F ht⟩) hS.2.2 dX0_cell_13
section LR
variable {p : Program} {l : Launch} {e : Env} {R : Room} {s : State} {m : MethodId} {below : List Frame} {meth : Method} {c : Code} {H : Heap} {locs : List Loc} {cells slots : Nat} {Q : State → Prop} {pc : Nat} {ls : Array Slot} {rest : List Value} {D : va_G} {b L : Nat} {xs : Nat → Int32}
set_option maxHeartbeats 4000000 in
set_option maxRecDepth 100000 in
theorem lcall_c {ws : va_W} {k : Nat} (hk : k < 2) (C : lX p s m c b L xs) (hP : va_P D vwCl ws H) (hS : va_S (lA s) s.heap H locs) (hR : 0 + 1 ≤ R.frames ∧ 8 + (2 + 11) + 0 ≤ R.locals) (hrm : (rest.map fun v => v.category).sum ≤ 8) (hsz : ls.size = 4) (hdg : decode code pc = .ok (.invokestatic 9, 3)) (hf : cells + 0 ≤ R.cells ∧ slots + 0 ≤ R.slots)
    (kk : ∀ (H1 : Heap) (locs1 : List Loc), va_P D vwCl ws H1 → va_S (lA s) s.heap H1 locs1 → W p l e R s m #[Value.ref b] below meth c H1 locs1 cells slots Q (F0 m (pc + 3) ls (.int (sc xs L k) :: rest))) : W p l e R s m #[Value.ref b] below meth c H locs cells slots Q (F0 m pc ls (.int (nI k) :: .ref b :: rest)) := by
  obtain ⟨hx, hb, hml, hown, hts, hX, hbl, hL⟩ := C
  have hbA : ¬ lA s b := Nat.not_le.mpr hbl
  refine va_calli (va_runS (As := [.ref b, .int (nI k)]) (rest := rest) ⟨hx, hb, hml, hown, hts⟩ (met_cell l b L k xs hk hL) (va_cwS 2 hts (lw_S q132 q133 q12 q134) rfl rfl rfl (by decide +kernel) hR) ⟨fun a' U g mk q => by obtain ⟨q0, qX⟩ := q; exact ⟨q0, va_X.moved (u := U) (U := U.calling g mk a') (Vm.Alike.refl U.vm) qX⟩, fun U hU hW => ⟨rfl, (hX.kept (by rw [hU]; exact hS.2.1 b hbl hbA)).moved hW.alike⟩⟩ rfl rfl hsz rfl (lv_room hrm) hdg hf) hS (fun q _ h => h.elim) (fun q h => h.elim) (fun r u t H1 locs1 ht hvm hq hB hz hk1 hS1 => ?_)
  subst hq
  exact kk H1 locs1 (hP.kept (fun i q hi => hk1 q.1 (hP i q hi).lt (fun z => z))) hS1
variable {a a2 : Nat → Nat} {d dz dl : ClassId} {u : HS} {v : MS}
theorem l_sld (C : lX p s m c b L xs) (w : lW D s a a2 d dz dl u v H locs) {i : Nat} (hi : i < L) (hdg : decode code pc = .ok (.iaload, 1)) (kk : W p l e R s m #[Value.ref b] below meth c H locs cells slots Q (F0 m (pc + 1) ls (.int (xs i) :: rest))) : W p l e R s m #[Value.ref b] below meth c H locs cells slots Q (F0 m pc ls (.int (nI i) :: .ref b :: rest)) := by
  obtain ⟨hx, hb, hml, hown, hts, hX, hbl, hL⟩ := C
  exact va_sld hx hb hX hbl (Nat.not_le.mpr hbl : ¬ lA s b) w.2.2 (vp_in_nI hi (by omega)) hdg (by rw [nI_clamp (by omega)]; exact kk)
theorem l_slen (C : lX p s m c b L xs) (w : lW D s a a2 d dz dl u v H locs) (hdg : decode code pc = .ok (.arraylength, 1)) (kk : W p l e R s m #[Value.ref b] below meth c H locs cells slots Q (F0 m (pc + 1) ls (.int (nI L) :: rest))) : W p l e R s m #[Value.ref b] below meth c H locs cells slots Q (F0 m pc ls (.ref b :: rest)) := by
  obtain ⟨hx, hb, hml, hown, hts, hX, hbl, hL⟩ := C
  exact va_slen hx hb hX hbl (Nat.not_le.mpr hbl : ¬ lA s b) w.2.2 hdg kk
set_option maxHeartbeats 4000000 in
set_option maxRecDepth 100000 in
theorem lcall_h {y : MethodName} {bytes : ByteArray} {maxL index k : Nat} {rm : Room} {As st0 : List Value} {Qp : Int32 → HS → Prop} (M : hMet y bytes maxL (some .int) rm As u Qp) (C : lX p s m c b L xs) (hK : va_K D vwCl [(d, .int), (dz, .boolean), (dl, .long)] s) (cw : CallW R s #[Value.ref b] RX0 RX1 index y bytes maxL (some .int) (ws_ y bytes maxL (some .int)) rm 0 0 k) (w : lW D s a a2 d dz dl u v H locs) (hn : As.length = k) (hst : st0 = As.reverse ++ .ref (a 0) :: rest) (hrm : (rest.map fun v => v.category).sum ≤ 8) (hsz : ls.size = 4) (hdg : decode code pc = .ok (.invokevirtual index, 3)) (hf : cells + 0 ≤ R.cells ∧ slots + 0 ≤ R.slots)
    (kk : ∀ (r : Int32) (z : HS) (H1 : Heap) (locs1 : List Loc), Qp r z → lW D s a a2 d dz dl z v H1 locs1 → W p l e R s m #[Value.ref b] below meth c H1 locs1 cells slots Q (F0 m (pc + 3) ls (.int r :: rest))) : W p l e R s m #[Value.ref b] below meth c H locs cells slots Q (F0 m pc ls st0) := by
  obtain ⟨hx, hb, hml, hown, hts, hX, hbl, hL⟩ := C
  obtain ⟨hP, hD, hS⟩ := w
  have hA : ∀ q : Nat, s.heap.size ≤ q → lA s q := fun _ h => h
  have hPc := hP.sub (ws' := wS a d u) [0, 1, 2, 3, 4, 5, 6, 7] rfl
  have hDc := hD.sub (ws' := wS a d u) [0, 1, 2, 3, 4, 5, 6, 7] (by decide) rfl
  have hKc := hK.sub (tys' := [(d, .int)]) [0] rfl
  have hFc := va_free (wc := wS a d u) hD hS hA [0, 1, 2, 3, 4, 5, 6, 7] rfl
  refine va_calli (va_runV (As := As) (rest := rest) ⟨hx, hb, hml, hown, hts⟩ (M l D a d H.size) cw ⟨fun a' U g mk q => by obtain ⟨q0, q1, qP, qK, qD⟩ := q; exact ⟨q0, q1, qP, va_K.moved (u := U) (U := U.calling g mk a') (Vm.Alike.refl U.vm) qK, qD⟩, va_recv hKc hPc (ci := 0) (q0 := 0) rfl rfl, fun U hU hW => ⟨rfl, by rw [hU], by rw [hU]; exact hPc, va_K.moved hW.alike hKc, hDc.weaken (fun _ _ _ _ => trivial)⟩⟩ rfl hn hsz hst (lv_room hrm) hdg hf) hS (fun q _ h => hFc q h) hFc (fun r z t H1 locs1 ht hvm hq hB hz hk hS1 => ?_)
  obtain ⟨hP1, hK1, hD1⟩ := hB
  rw [ht] at hP1
  obtain ⟨hP2, hD2⟩ := va_join (wr := wT a2 d dz dl v) (w1 := wS a d z) hP hD [0, 1, 2, 3, 4, 5, 6, 7] [8, 9, 10, 11, 12] rfl rfl (by decide) (by decide) hk hFc hP1 hD1
  exact kk r z H1 locs1 hq ⟨hP2.sub [5, 6, 7, 8, 9, 10, 11, 12, 0, 1, 2, 3, 4] rfl, hD2.sub [5, 6, 7, 8, 9, 10, 11, 12, 0, 1, 2, 3, 4] (by decide) rfl, hS1⟩
set_option maxHeartbeats 4000000 in
set_option maxRecDepth 100000 in
theorem lcall_m {y : MethodName} {bytes : ByteArray} {maxL index k : Nat} {rm : Room} {As st0 : List Value} {Qp : Int32 → MS → Prop} (M : mMet y bytes maxL (some .int) rm As v Qp) (C : lX p s m c b L xs) (hK : va_K D vwCl [(d, .int), (dz, .boolean), (dl, .long)] s) (cw : CallW R s #[Value.ref b] RX0 RX2 index y bytes maxL (some .int) (ws_ y bytes maxL (some .int)) rm 0 0 k) (w : lW D s a a2 d dz dl u v H locs) (hn : As.length = k) (hst : st0 = As.reverse ++ .ref (a2 0) :: rest) (hrm : (rest.map fun v => v.category).sum ≤ 8) (hsz : ls.size = 4) (hdg : decode code pc = .ok (.invokevirtual index, 3)) (hf : cells + 0 ≤ R.cells ∧ slots + 0 ≤ R.slots)
    (kk : ∀ (r : Int32) (z : MS) (H1 : Heap) (locs1 : List Loc), Qp r z → lW D s a a2 d dz dl u z H1 locs1 → W p l e R s m #[Value.ref b] below meth c H1 locs1 cells slots Q (F0 m (pc + 3) ls (.int r :: rest))) : W p l e R s m #[Value.ref b] below meth c H locs cells slots Q (F0 m pc ls st0) := by
  obtain ⟨hx, hb, hml, hown, hts, hX, hbl, hL⟩ := C
  obtain ⟨hP, hD, hS⟩ := w
  have hA : ∀ q : Nat, s.heap.size ≤ q → lA s q := fun _ h => h
  have hPc := hP.sub (ws' := wT a2 d dz dl v) [8, 9, 10, 11, 12] rfl
  have hDc := hD.sub (ws' := wT a2 d dz dl v) [8, 9, 10, 11, 12] (by decide) rfl
  have hKc := hK.sub (tys' := [(d, .int), (dz, .boolean), (dl, .long)]) [0, 1, 2] rfl
  have hFc := va_free (wc := wT a2 d dz dl v) hD hS hA [8, 9, 10, 11, 12] rfl
  refine va_calli (va_runV (As := As) (rest := rest) ⟨hx, hb, hml, hown, hts⟩ (M l D a2 d dz dl H.size) cw ⟨fun a' U g mk q => by obtain ⟨q0, q1, qP, qK, qD⟩ := q; exact ⟨q0, q1, qP, va_K.moved (u := U) (U := U.calling g mk a') (Vm.Alike.refl U.vm) qK, qD⟩, va_recv hKc hPc (ci := 1) (q0 := 0) rfl rfl, fun U hU hW => ⟨rfl, by rw [hU], by rw [hU]; exact hPc, va_K.moved hW.alike hKc, hDc.weaken (fun _ _ _ _ => trivial)⟩⟩ rfl hn hsz hst (lv_room hrm) hdg hf) hS (fun q _ h => hFc q h) hFc (fun r z t H1 locs1 ht hvm hq hB hz hk hS1 => ?_)
  obtain ⟨hP1, hK1, hD1⟩ := hB
  rw [ht] at hP1
  obtain ⟨hP2, hD2⟩ := va_join (wr := wS a d u) (w1 := wT a2 d dz dl z) hP hD [8, 9, 10, 11, 12] [0, 1, 2, 3, 4, 5, 6, 7] rfl rfl (by decide) (by decide) hk hFc hP1 hD1
  exact kk r z H1 locs1 hq ⟨hP2.sub [0, 1, 2, 3, 4, 5, 6, 7, 8, 9, 10, 11, 12] rfl, hD2.sub [0, 1, 2, 3, 4, 5, 6, 7, 8, 9, 10, 11, 12] (by decide) rfl, hS1⟩
end LR
theorem fin_op {f : Int32 × HS} {g : Int32 × MS} {r1 r2 : Int32} {u1 : HS} {v1 : MS} (h1 : (r1, u1) = f) (h2 : (r2, v1) = g) (sm : g = (f.1, toM f.2) ∧ HI f.2) : r1 = r2 ∧ v1 = toM u1 ∧ HI u1 := by
  subst h1
  subst h2
  have e := sm.1
  exact ⟨(congrArg Prod.fst e).symm, congrArg Prod.snd e, sm.2⟩
theorem l_inc3 (i : Nat) : nI i + Int32.ofInt 3 = nI (i + 3) := by
  rw [show Int32.ofInt 3 = nI 3 from by decide +kernel, nI_add]
theorem l_guard {i L : Nat} (hi : i ≤ 194) (hL : L ≤ 194) : (nI L - nI 3 < nI i → L < i + 3) ∧ (¬ nI L - nI 3 < nI i → i + 3 ≤ L) := by
  have h1 : (nI L - nI 3).toInt = (L : Int) - 3 := pk_sub_toInt (by omega) (by decide)
  have h2 : (nI i).toInt = (i : Int) := nI_toInt (by omega)
  constructor
  · intro h
    have := Int32.lt_iff_toInt_lt.mp h
    omega
  · intro h
    have : ¬ (nI L - nI 3).toInt < (nI i).toInt := fun q => h (Int32.lt_iff_toInt_lt.mpr q)
    omega
theorem ini_eq (x y : Int32) : toM (iniH x y) = iniM x y := by
  show (inO zF, zF, zF, zF, 1 + cOf x, 2 + bOf y, 0, 0) = (zF, zF, zF, zF, cOf x + 1, bOf y + 2, 0, 0)
  rw [Nat.add_comm 1, Nat.add_comm 2]
  rfl
theorem ini_ok (x y : Int32) : HI (iniH x y) := by
  have h1 := cOf_lt x
  have h2 := bOf_lt y
  have hc : ∀ k, cnF zF k = 0 := fun k => by
    induction k with
    | zero => rfl
    | succ k ih =>
      unfold cnF
      rw [if_neg (by show ¬ 0 < 0; omega), ih]
  exact ⟨by omega, by omega, by decide, fun _ => Nat.zero_le _, fun _ => Nat.zero_le _, fun _ => Nat.two_pow_pos 31, fun _ => (by decide : 0 < 64), fun _ => (by decide : 0 < 64), fun z h => absurd h (Nat.lt_irrefl 0), (hc _).symm, ⟨fun i h => absurd h (Nat.not_lt_zero i), fun z h => absurd h (Nat.lt_irrefl 0)⟩, fun i _ h => absurd h (Nat.not_lt_zero i)⟩
theorem metL_join {u : HS} {x t : Int32} (h : HI u) : hMet yX1_join cX1_join 3 (some .int) { frames := 2, cells := 0, slots := 0, locals := 45 } [.int x, .int t] u (fun r z => (r, z) = jnF u x t) := by obtain ⟨tk, sd, ps, rn, hp, po, sp, cap, big, n, gp⟩ := u; exact met_join (HI_ok h) (HI_j h)
theorem metK_join {u : HS} {x t : Int32} (h : HI u) : mMet yX2_join cX2_join 4 (some .int) { frames := 2, cells := 0, slots := 0, locals := 44 } [.int x, .int t] (toM u) (fun r z => (r, z) = jnM (toM u) x t) := by obtain ⟨tk, sd, ps, rn, hp, po, sp, cap, big, n, gp⟩ := u; exact metM_join (HI_mok h)
theorem metL_leave {u : HS} {x : Int32} (h : HI u) : hMet yX1_leave cX1_leave 4 (some .int) { frames := 2, cells := 0, slots := 0, locals := 46 } [.int x] u (fun r z => (r, z) = lvF u x) := by obtain ⟨tk, sd, ps, rn, hp, po, sp, cap, big, n, gp⟩ := u; exact met_leave (HI_ok h)
theorem metK_leave {u : HS} {x : Int32} (h : HI u) : mMet yX2_leave cX2_leave 2 (some .int) { frames := 1, cells := 0, slots := 0, locals := 21 } [.int x] (toM u) (fun r z => (r, z) = lvM (toM u) x) := by obtain ⟨tk, sd, ps, rn, hp, po, sp, cap, big, n, gp⟩ := u; exact metM_leave (HI_mok h)
theorem metL_next {u : HS} (h : HI u) : hMet yX1_next cX1_next 2 (some .int) { frames := 2, cells := 0, slots := 0, locals := 46 } [] u (fun r z => (r, z) = nxF u) := by obtain ⟨tk, sd, ps, rn, hp, po, sp, cap, big, n, gp⟩ := u; exact met_next (HI_ok h)
theorem metK_next {u : HS} (h : HI u) : mMet yX2_next cX2_next 4 (some .int) { frames := 2, cells := 0, slots := 0, locals := 44 } [] (toM u) (fun r z => (r, z) = nxM (toM u)) := by obtain ⟨tk, sd, ps, rn, hp, po, sp, cap, big, n, gp⟩ := u; exact metM_next (HI_mok h)
theorem metL_turns {u : HS} {x : Int32} (h : HI u) : hMet yX1_turns cX1_turns 3 (some .int) { frames := 3, cells := 0, slots := 0, locals := 67 } [.int x] u (fun r z => (r, z) = tuF u x) := by obtain ⟨tk, sd, ps, rn, hp, po, sp, cap, big, n, gp⟩ := u; exact met_turns (HI_ok h)
theorem metK_turns {u : HS} {x : Int32} (h : HI u) : mMet yX2_turns cX2_turns 4 (some .int) { frames := 3, cells := 0, slots := 0, locals := 67 } [.int x] (toM u) (fun r z => (r, z) = tuM (toM u) x) := by obtain ⟨tk, sd, ps, rn, hp, po, sp, cap, big, n, gp⟩ := u; exact metM_turns (HI_mok h)
theorem metL_change {u : HS} {x t : Int32} (h : HI u) : hMet yX1_change cX1_change 4 (some .int) { frames := 1, cells := 0, slots := 0, locals := 21 } [.int x, .int t] u (fun r z => (r, z) = cgF u x t) := by obtain ⟨tk, sd, ps, rn, hp, po, sp, cap, big, n, gp⟩ := u; exact met_change (HI_ok h)
theorem metK_change {u : HS} {x t : Int32} (h : HI u) : mMet yX2_change cX2_change 4 (some .int) { frames := 1, cells := 0, slots := 0, locals := 21 } [.int x, .int t] (toM u) (fun r z => (r, z) = cgM (toM u) x t) := by obtain ⟨tk, sd, ps, rn, hp, po, sp, cap, big, n, gp⟩ := u; exact metM_change (HI_mok h)
theorem metL_ranOf {u : HS} {x : Int32} (h : HI u) : hMet yX1_ranOf cX1_ranOf 2 (some .int) { frames := 1, cells := 0, slots := 0, locals := 21 } [.int x] u (fun r z => (r, z) = raF u x) := by obtain ⟨tk, sd, ps, rn, hp, po, sp, cap, big, n, gp⟩ := u; exact met_ranOf (HI_ok h)
theorem metK_ranOf {u : HS} {x : Int32} (h : HI u) : mMet yX2_ranOf cX2_ranOf 2 (some .int) { frames := 1, cells := 0, slots := 0, locals := 21 } [.int x] (toM u) (fun r z => (r, z) = raM (toM u) x) := by obtain ⟨tk, sd, ps, rn, hp, po, sp, cap, big, n, gp⟩ := u; exact metM_ranOf (HI_mok h)
theorem metL_passOf {u : HS} {x : Int32} (h : HI u) : hMet yX1_passOf cX1_passOf 2 (some .int) { frames := 1, cells := 0, slots := 0, locals := 21 } [.int x] u (fun r z => (r, z) = paF u x) := by obtain ⟨tk, sd, ps, rn, hp, po, sp, cap, big, n, gp⟩ := u; exact met_passOf (HI_ok h)
theorem metK_passOf {u : HS} {x : Int32} (h : HI u) : mMet yX2_passOf cX2_passOf 2 (some .int) { frames := 2, cells := 0, slots := 0, locals := 42 } [.int x] (toM u) (fun r z => (r, z) = paM (toM u) x) := by obtain ⟨tk, sd, ps, rn, hp, po, sp, cap, big, n, gp⟩ := u; exact metM_passOf (HI_mok h)
theorem metL_strideOf {u : HS} {x : Int32} (h : HI u) : hMet yX1_strideOf cX1_strideOf 2 (some .int) { frames := 1, cells := 0, slots := 0, locals := 21 } [.int x] u (fun r z => (r, z) = sdF u x) := by obtain ⟨tk, sd, ps, rn, hp, po, sp, cap, big, n, gp⟩ := u; exact met_strideOf (HI_ok h)
theorem metK_strideOf {u : HS} {x : Int32} (h : HI u) : mMet yX2_strideOf cX2_strideOf 2 (some .int) { frames := 2, cells := 0, slots := 0, locals := 42 } [.int x] (toM u) (fun r z => (r, z) = sdM (toM u) x) := by obtain ⟨tk, sd, ps, rn, hp, po, sp, cap, big, n, gp⟩ := u; exact metM_strideOf (HI_mok h)
theorem metL_clients {u : HS} (h : HI u) : hMet yX1_clients cX1_clients 1 (some .int) { frames := 0, cells := 0, slots := 0, locals := 0 } [] u (fun r z => (r, z) = clF u) := by obtain ⟨tk, sd, ps, rn, hp, po, sp, cap, big, n, gp⟩ := u; exact met_clients 
theorem metK_clients {u : HS} (h : HI u) : mMet yX2_clients cX2_clients 1 (some .int) { frames := 0, cells := 0, slots := 0, locals := 0 } [] (toM u) (fun r z => (r, z) = clM (toM u)) := by obtain ⟨tk, sd, ps, rn, hp, po, sp, cap, big, n, gp⟩ := u; exact metM_clients 
theorem metL_spread {u : HS} (h : HI u) : hMet yX1_spread cX1_spread 3 (some .int) { frames := 0, cells := 0, slots := 0, locals := 0 } [] u (fun r z => (r, z) = spF u) := by obtain ⟨tk, sd, ps, rn, hp, po, sp, cap, big, n, gp⟩ := u; exact met_spread (HI_ok h)
theorem metK_spread {u : HS} (h : HI u) : mMet yX2_spread cX2_spread 5 (some .int) { frames := 2, cells := 0, slots := 0, locals := 44 } [] (toM u) (fun r z => (r, z) = spM (toM u)) := by obtain ⟨tk, sd, ps, rn, hp, po, sp, cap, big, n, gp⟩ := u; exact metM_spread (HI_mok h)
theorem metL_order {u : HS} {x : Int32} (h : HI u) : hMet yX1_order cX1_order 5 (some .int) { frames := 1, cells := 0, slots := 0, locals := 22 } [.int x] u (fun r z => (r, z) = odF u x) := by obtain ⟨tk, sd, ps, rn, hp, po, sp, cap, big, n, gp⟩ := u; exact met_order (HI_ok h)
theorem metK_order {u : HS} {x : Int32} (h : HI u) : mMet yX2_order cX2_order 5 (some .int) { frames := 1, cells := 0, slots := 0, locals := 22 } [.int x] (toM u) (fun r z => (r, z) = odM (toM u) x) := by obtain ⟨tk, sd, ps, rn, hp, po, sp, cap, big, n, gp⟩ := u; exact metM_order (HI_mok h)
end
section
set_option maxHeartbeats 16000000 in
set_option maxRecDepth 100000 in
/-- the law's loop, at its head: both worlds hold one state -/
theorem law_loop {p : Program} {l : Launch} {e : Env} {s : State} {m : MethodId} {below : List Frame} {meth : Method} {c : Code} {b L : Nat} {xs : Nat → Int32} {D : va_G} {a a2 : Nat → Nat} {d dz dl : ClassId} (hr : meth.sig.returnType = ret) (hlocks : meth.locks = false) (C : lX p s m c b L xs) (hK : va_K D vwCl [(d, .int), (dz, .boolean), (dl, .long)] s) :
    ∀ (n i : Nat) (u : HS) (H : Heap) (locs : List Loc) (ls : Array Slot), L < i + n → i ≤ 194 → HI u → lW D s a a2 d dz dl u (toM u) H locs → lv_has ls 4 [(0, .ref b), (1, .ref (a 0)), (2, .ref (a2 0)), (3, .int (nI i))] → W p l e room_1 s m #[Value.ref b] below meth c H locs 13 723 (lw_Z below #[Value.ref b] s) (F0 m 38 ls []) := by
  have hx := C.1
  have hb := C.2.1
  have hL := C.2.2.2.2.2.2.2
  intro n
  induction n with
  | zero =>
    intro i u H locs ls hin hi hI w hl
    refine lv_iload_n hx hb dL_law_38 rfl (lv_at hl 3 rfl) ?_
    refine lv_aload_n hx hb dL_law_39 rfl (lv_at hl 0 rfl) ?_
    refine l_slen C w dL_law_40 ?_
    refine lv_iconst (v := nI 3) hx hb dL_law_41 (by decide +kernel) ?_
    refine lv_isub hx hb dL_law_42 ?_
    refine lv_icmp_gt (tgt := 361) hx hb dL_law_43 (by decide) (fun c43 => ?_) (fun c43 => ?_)
    · refine lv_iconst (v := 1) hx hb dL_law_361 (by decide) ?_
      refine va_forget (fun q hq => w.2.2.2.2 q hq) ?_
      refine W.widen (k := 600000) (n := 7290000) (Nat.le_of_ble_eq_true rfl) (Nat.le_of_ble_eq_true rfl) ?_
      exact lw_ret hx hb hr hlocks dL_law_362
    · have hle := (l_guard hi hL).2 c43
      omega
  | succ n ih =>
    intro i u H locs ls hin hi hI w hl
    refine lv_iload_n hx hb dL_law_38 rfl (lv_at hl 3 rfl) ?_
    refine lv_aload_n hx hb dL_law_39 rfl (lv_at hl 0 rfl) ?_
    refine l_slen C w dL_law_40 ?_
    refine lv_iconst (v := nI 3) hx hb dL_law_41 (by decide +kernel) ?_
    refine lv_isub hx hb dL_law_42 ?_
    refine lv_icmp_gt (tgt := 361) hx hb dL_law_43 (by decide) (fun c43 => ?_) (fun c43 => ?_)
    · refine lv_iconst (v := 1) hx hb dL_law_361 (by decide) ?_
      refine va_forget (fun q hq => w.2.2.2.2 q hq) ?_
      refine W.widen (k := 600000) (n := 7290000) (Nat.le_of_ble_eq_true rfl) (Nat.le_of_ble_eq_true rfl) ?_
      exact lw_ret hx hb hr hlocks dL_law_362
    · have hle := (l_guard hi hL).2 c43
      refine lv_aload_n hx hb dL_law_46 rfl (lv_at hl 0 rfl) ?_
      refine lv_iload_n hx hb dL_law_47 rfl (lv_at hl 3 rfl) ?_
      refine l_sld C w (by omega) dL_law_48 ?_
      refine lv_bipush (v := nI 15) hx hb dL_law_49 (by decide +kernel) ?_
      refine lv_iand hx hb dL_law_51 ?_
      obtain ⟨j, hj, ej⟩ := pk_andE (xs i) (m := nI 15) 4 (by decide +kernel)
      rw [ej]
      rcases (show j = 0 ∨ j = 1 ∨ j = 2 ∨ j = 3 ∨ j = 4 ∨ j = 5 ∨ j = 6 ∨ j = 7 ∨ j = 8 ∨ j = 9 ∨ j = 10 ∨ 11 ≤ j by omega) with rfl | rfl | rfl | rfl | rfl | rfl | rfl | rfl | rfl | rfl | rfl | hj11
      · refine lv_tableIn (off := 60) (tgt := 112) hx hb dL_law_52 (by decide +kernel) (by decide +kernel) (by decide +kernel) (by decide) ?_
        refine lv_aload_n hx hb dL_law_112 rfl (lv_at hl 1 rfl) ?_
        refine lv_aload_n hx hb dL_law_113 rfl (lv_at hl 0 rfl) ?_
        refine lv_iload_n hx hb dL_law_114 rfl (lv_at hl 3 rfl) ?_
        refine lv_iconst (v := nI 1) hx hb dL_law_115 (by decide +kernel) ?_
        refine n_iadd hx hb dL_law_116 ?_
        refine l_sld C w (by omega) dL_law_117 ?_
        refine lv_aload_n hx hb dL_law_118 rfl (lv_at hl 0 rfl) ?_
        refine lv_iload_n hx hb dL_law_119 rfl (lv_at hl 3 rfl) ?_
        refine lv_iconst (v := nI 2) hx hb dL_law_120 (by decide +kernel) ?_
        refine n_iadd hx hb dL_law_121 ?_
        refine l_sld C w (by omega) dL_law_122 ?_
        refine lcall_h (As := [.int (xs (i + 1)), .int (xs (i + 2))]) (metL_join hI) C hK (cwV 2 C.2.2.2.2.1 (lw_V q58 q59 q60 q13 q61) rfl rfl rfl (by decide +kernel) ⟨Nat.le_of_ble_eq_true rfl, Nat.le_of_ble_eq_true rfl⟩) w rfl rfl (Nat.le_of_ble_eq_true rfl) hl.1 dL_law_123 ⟨Nat.le_of_ble_eq_true rfl, Nat.le_of_ble_eq_true rfl⟩ (fun r1 u1 H locs hq1 w => ?_)
        refine lv_aload_n hx hb dL_law_126 rfl (lv_at hl 2 rfl) ?_
        refine lv_aload_n hx hb dL_law_127 rfl (lv_at hl 0 rfl) ?_
        refine lv_iload_n hx hb dL_law_128 rfl (lv_at hl 3 rfl) ?_
        refine lv_iconst (v := nI 1) hx hb dL_law_129 (by decide +kernel) ?_
        refine n_iadd hx hb dL_law_130 ?_
        refine l_sld C w (by omega) dL_law_131 ?_
        refine lv_aload_n hx hb dL_law_132 rfl (lv_at hl 0 rfl) ?_
        refine lv_iload_n hx hb dL_law_133 rfl (lv_at hl 3 rfl) ?_
        refine lv_iconst (v := nI 2) hx hb dL_law_134 (by decide +kernel) ?_
        refine n_iadd hx hb dL_law_135 ?_
        refine l_sld C w (by omega) dL_law_136 ?_
        refine lcall_m (As := [.int (xs (i + 1)), .int (xs (i + 2))]) (metK_join hI) C hK (cwV 2 C.2.2.2.2.1 (lw_V q168 q169 q170 q14 q171) rfl rfl rfl (by decide +kernel) ⟨Nat.le_of_ble_eq_true rfl, Nat.le_of_ble_eq_true rfl⟩) w rfl rfl (Nat.le_of_ble_eq_true rfl) hl.1 dL_law_137 ⟨Nat.le_of_ble_eq_true rfl, Nat.le_of_ble_eq_true rfl⟩ (fun r2 v1 H locs hq2 w => ?_)
        obtain ⟨e1, rfl, hI1⟩ := fin_op hq1 hq2 (sim_join hI (xs (i + 1)) (xs (i + 2)))
        refine lv_icmp_eq (tgt := 355) hx hb dL_law_140 (by decide) (fun ce => ?_) (fun ce => absurd e1 ce)
        refine lv_iinc (v := nI (i + 3)) (lv' := [(3, .int (nI (i + 3))), (0, .ref b), (1, .ref (a 0)), (2, .ref (a2 0))]) hx hb dL_law_355 hl (k := 3) rfl (l_inc3 i) (by decide) rfl (fun ls hl => ?_)
        refine lv_goto (tgt := 38) hx hb dL_law_358 (by decide) ?_
        exact ih (i + 3) u1 _ _ _ (by omega) (by omega) hI1 w (lv_sub hl [1, 2, 3, 0] rfl)
      · refine lv_tableIn (off := 93) (tgt := 145) hx hb dL_law_52 (by decide +kernel) (by decide +kernel) (by decide +kernel) (by decide) ?_
        refine lv_aload_n hx hb dL_law_145 rfl (lv_at hl 1 rfl) ?_
        refine lv_aload_n hx hb dL_law_146 rfl (lv_at hl 0 rfl) ?_
        refine lv_iload_n hx hb dL_law_147 rfl (lv_at hl 3 rfl) ?_
        refine lv_iconst (v := nI 1) hx hb dL_law_148 (by decide +kernel) ?_
        refine n_iadd hx hb dL_law_149 ?_
        refine l_sld C w (by omega) dL_law_150 ?_
        refine lcall_h (As := [.int (xs (i + 1))]) (metL_leave hI) C hK (cwV 1 C.2.2.2.2.1 (lw_V q86 q87 q88 q13 q89) rfl rfl rfl (by decide +kernel) ⟨Nat.le_of_ble_eq_true rfl, Nat.le_of_ble_eq_true rfl⟩) w rfl rfl (Nat.le_of_ble_eq_true rfl) hl.1 dL_law_151 ⟨Nat.le_of_ble_eq_true rfl, Nat.le_of_ble_eq_true rfl⟩ (fun r1 u1 H locs hq1 w => ?_)
        refine lv_aload_n hx hb dL_law_154 rfl (lv_at hl 2 rfl) ?_
        refine lv_aload_n hx hb dL_law_155 rfl (lv_at hl 0 rfl) ?_
        refine lv_iload_n hx hb dL_law_156 rfl (lv_at hl 3 rfl) ?_
        refine lv_iconst (v := nI 1) hx hb dL_law_157 (by decide +kernel) ?_
        refine n_iadd hx hb dL_law_158 ?_
        refine l_sld C w (by omega) dL_law_159 ?_
        refine lcall_m (As := [.int (xs (i + 1))]) (metK_leave hI) C hK (cwV 1 C.2.2.2.2.1 (lw_V q188 q189 q190 q14 q191) rfl rfl rfl (by decide +kernel) ⟨Nat.le_of_ble_eq_true rfl, Nat.le_of_ble_eq_true rfl⟩) w rfl rfl (Nat.le_of_ble_eq_true rfl) hl.1 dL_law_160 ⟨Nat.le_of_ble_eq_true rfl, Nat.le_of_ble_eq_true rfl⟩ (fun r2 v1 H locs hq2 w => ?_)
        obtain ⟨e1, rfl, hI1⟩ := fin_op hq1 hq2 (sim_leave hI (xs (i + 1)))
        refine lv_icmp_eq (tgt := 355) hx hb dL_law_163 (by decide) (fun ce => ?_) (fun ce => absurd e1 ce)
        refine lv_iinc (v := nI (i + 3)) (lv' := [(3, .int (nI (i + 3))), (0, .ref b), (1, .ref (a 0)), (2, .ref (a2 0))]) hx hb dL_law_355 hl (k := 3) rfl (l_inc3 i) (by decide) rfl (fun ls hl => ?_)
        refine lv_goto (tgt := 38) hx hb dL_law_358 (by decide) ?_
        exact ih (i + 3) u1 _ _ _ (by omega) (by omega) hI1 w (lv_sub hl [1, 2, 3, 0] rfl)
      · refine lv_tableIn (off := 116) (tgt := 168) hx hb dL_law_52 (by decide +kernel) (by decide +kernel) (by decide +kernel) (by decide) ?_
        refine lv_aload_n hx hb dL_law_168 rfl (lv_at hl 1 rfl) ?_
        refine lcall_h (As := []) (metL_next hI) C hK (cwV 0 C.2.2.2.2.1 (lw_V q94 q95 q96 q13 q97) rfl rfl rfl (by decide +kernel) ⟨Nat.le_of_ble_eq_true rfl, Nat.le_of_ble_eq_true rfl⟩) w rfl rfl (Nat.le_of_ble_eq_true rfl) hl.1 dL_law_169 ⟨Nat.le_of_ble_eq_true rfl, Nat.le_of_ble_eq_true rfl⟩ (fun r1 u1 H locs hq1 w => ?_)
        refine lv_aload_n hx hb dL_law_172 rfl (lv_at hl 2 rfl) ?_
        refine lcall_m (As := []) (metK_next hI) C hK (cwV 0 C.2.2.2.2.1 (lw_V q192 q193 q194 q14 q195) rfl rfl rfl (by decide +kernel) ⟨Nat.le_of_ble_eq_true rfl, Nat.le_of_ble_eq_true rfl⟩) w rfl rfl (Nat.le_of_ble_eq_true rfl) hl.1 dL_law_173 ⟨Nat.le_of_ble_eq_true rfl, Nat.le_of_ble_eq_true rfl⟩ (fun r2 v1 H locs hq2 w => ?_)
        obtain ⟨e1, rfl, hI1⟩ := fin_op hq1 hq2 (sim_next hI)
        refine lv_icmp_eq (tgt := 355) hx hb dL_law_176 (by decide) (fun ce => ?_) (fun ce => absurd e1 ce)
        refine lv_iinc (v := nI (i + 3)) (lv' := [(3, .int (nI (i + 3))), (0, .ref b), (1, .ref (a 0)), (2, .ref (a2 0))]) hx hb dL_law_355 hl (k := 3) rfl (l_inc3 i) (by decide) rfl (fun ls hl => ?_)
        refine lv_goto (tgt := 38) hx hb dL_law_358 (by decide) ?_
        exact ih (i + 3) u1 _ _ _ (by omega) (by omega) hI1 w (lv_sub hl [1, 2, 3, 0] rfl)
      · refine lv_tableIn (off := 129) (tgt := 181) hx hb dL_law_52 (by decide +kernel) (by decide +kernel) (by decide +kernel) (by decide) ?_
        refine lv_aload_n hx hb dL_law_181 rfl (lv_at hl 1 rfl) ?_
        refine lv_aload_n hx hb dL_law_182 rfl (lv_at hl 0 rfl) ?_
        refine lv_iload_n hx hb dL_law_183 rfl (lv_at hl 3 rfl) ?_
        refine lv_iconst (v := nI 1) hx hb dL_law_184 (by decide +kernel) ?_
        refine n_iadd hx hb dL_law_185 ?_
        refine l_sld C w (by omega) dL_law_186 ?_
        refine lcall_h (As := [.int (xs (i + 1))]) (metL_turns hI) C hK (cwV 1 C.2.2.2.2.1 (lw_V q99 q100 q101 q13 q102) rfl rfl rfl (by decide +kernel) ⟨Nat.le_of_ble_eq_true rfl, Nat.le_of_ble_eq_true rfl⟩) w rfl rfl (Nat.le_of_ble_eq_true rfl) hl.1 dL_law_187 ⟨Nat.le_of_ble_eq_true rfl, Nat.le_of_ble_eq_true rfl⟩ (fun r1 u1 H locs hq1 w => ?_)
        refine lv_aload_n hx hb dL_law_190 rfl (lv_at hl 2 rfl) ?_
        refine lv_aload_n hx hb dL_law_191 rfl (lv_at hl 0 rfl) ?_
        refine lv_iload_n hx hb dL_law_192 rfl (lv_at hl 3 rfl) ?_
        refine lv_iconst (v := nI 1) hx hb dL_law_193 (by decide +kernel) ?_
        refine n_iadd hx hb dL_law_194 ?_
        refine l_sld C w (by omega) dL_law_195 ?_
        refine lcall_m (As := [.int (xs (i + 1))]) (metK_turns hI) C hK (cwV 1 C.2.2.2.2.1 (lw_V q197 q198 q199 q14 q200) rfl rfl rfl (by decide +kernel) ⟨Nat.le_of_ble_eq_true rfl, Nat.le_of_ble_eq_true rfl⟩) w rfl rfl (Nat.le_of_ble_eq_true rfl) hl.1 dL_law_196 ⟨Nat.le_of_ble_eq_true rfl, Nat.le_of_ble_eq_true rfl⟩ (fun r2 v1 H locs hq2 w => ?_)
        obtain ⟨e1, rfl, hI1⟩ := fin_op hq1 hq2 (sim_turns hI (xs (i + 1)))
        refine lv_icmp_eq (tgt := 355) hx hb dL_law_199 (by decide) (fun ce => ?_) (fun ce => absurd e1 ce)
        refine lv_iinc (v := nI (i + 3)) (lv' := [(3, .int (nI (i + 3))), (0, .ref b), (1, .ref (a 0)), (2, .ref (a2 0))]) hx hb dL_law_355 hl (k := 3) rfl (l_inc3 i) (by decide) rfl (fun ls hl => ?_)
        refine lv_goto (tgt := 38) hx hb dL_law_358 (by decide) ?_
        exact ih (i + 3) u1 _ _ _ (by omega) (by omega) hI1 w (lv_sub hl [1, 2, 3, 0] rfl)
      · refine lv_tableIn (off := 152) (tgt := 204) hx hb dL_law_52 (by decide +kernel) (by decide +kernel) (by decide +kernel) (by decide) ?_
        refine lv_aload_n hx hb dL_law_204 rfl (lv_at hl 1 rfl) ?_
        refine lv_aload_n hx hb dL_law_205 rfl (lv_at hl 0 rfl) ?_
        refine lv_iload_n hx hb dL_law_206 rfl (lv_at hl 3 rfl) ?_
        refine lv_iconst (v := nI 1) hx hb dL_law_207 (by decide +kernel) ?_
        refine n_iadd hx hb dL_law_208 ?_
        refine l_sld C w (by omega) dL_law_209 ?_
        refine lv_aload_n hx hb dL_law_210 rfl (lv_at hl 0 rfl) ?_
        refine lv_iload_n hx hb dL_law_211 rfl (lv_at hl 3 rfl) ?_
        refine lv_iconst (v := nI 2) hx hb dL_law_212 (by decide +kernel) ?_
        refine n_iadd hx hb dL_law_213 ?_
        refine l_sld C w (by omega) dL_law_214 ?_
        refine lcall_h (As := [.int (xs (i + 1)), .int (xs (i + 2))]) (metL_change hI) C hK (cwV 2 C.2.2.2.2.1 (lw_V q104 q105 q106 q13 q107) rfl rfl rfl (by decide +kernel) ⟨Nat.le_of_ble_eq_true rfl, Nat.le_of_ble_eq_true rfl⟩) w rfl rfl (Nat.le_of_ble_eq_true rfl) hl.1 dL_law_215 ⟨Nat.le_of_ble_eq_true rfl, Nat.le_of_ble_eq_true rfl⟩ (fun r1 u1 H locs hq1 w => ?_)
        refine lv_aload_n hx hb dL_law_218 rfl (lv_at hl 2 rfl) ?_
        refine lv_aload_n hx hb dL_law_219 rfl (lv_at hl 0 rfl) ?_
        refine lv_iload_n hx hb dL_law_220 rfl (lv_at hl 3 rfl) ?_
        refine lv_iconst (v := nI 1) hx hb dL_law_221 (by decide +kernel) ?_
        refine n_iadd hx hb dL_law_222 ?_
        refine l_sld C w (by omega) dL_law_223 ?_
        refine lv_aload_n hx hb dL_law_224 rfl (lv_at hl 0 rfl) ?_
        refine lv_iload_n hx hb dL_law_225 rfl (lv_at hl 3 rfl) ?_
        refine lv_iconst (v := nI 2) hx hb dL_law_226 (by decide +kernel) ?_
        refine n_iadd hx hb dL_law_227 ?_
        refine l_sld C w (by omega) dL_law_228 ?_
        refine lcall_m (As := [.int (xs (i + 1)), .int (xs (i + 2))]) (metK_change hI) C hK (cwV 2 C.2.2.2.2.1 (lw_V q202 q203 q204 q14 q205) rfl rfl rfl (by decide +kernel) ⟨Nat.le_of_ble_eq_true rfl, Nat.le_of_ble_eq_true rfl⟩) w rfl rfl (Nat.le_of_ble_eq_true rfl) hl.1 dL_law_229 ⟨Nat.le_of_ble_eq_true rfl, Nat.le_of_ble_eq_true rfl⟩ (fun r2 v1 H locs hq2 w => ?_)
        obtain ⟨e1, rfl, hI1⟩ := fin_op hq1 hq2 (sim_change hI (xs (i + 1)) (xs (i + 2)))
        refine lv_icmp_eq (tgt := 355) hx hb dL_law_232 (by decide) (fun ce => ?_) (fun ce => absurd e1 ce)
        refine lv_iinc (v := nI (i + 3)) (lv' := [(3, .int (nI (i + 3))), (0, .ref b), (1, .ref (a 0)), (2, .ref (a2 0))]) hx hb dL_law_355 hl (k := 3) rfl (l_inc3 i) (by decide) rfl (fun ls hl => ?_)
        refine lv_goto (tgt := 38) hx hb dL_law_358 (by decide) ?_
        exact ih (i + 3) u1 _ _ _ (by omega) (by omega) hI1 w (lv_sub hl [1, 2, 3, 0] rfl)
      · refine lv_tableIn (off := 185) (tgt := 237) hx hb dL_law_52 (by decide +kernel) (by decide +kernel) (by decide +kernel) (by decide) ?_
        refine lv_aload_n hx hb dL_law_237 rfl (lv_at hl 1 rfl) ?_
        refine lv_aload_n hx hb dL_law_238 rfl (lv_at hl 0 rfl) ?_
        refine lv_iload_n hx hb dL_law_239 rfl (lv_at hl 3 rfl) ?_
        refine lv_iconst (v := nI 1) hx hb dL_law_240 (by decide +kernel) ?_
        refine n_iadd hx hb dL_law_241 ?_
        refine l_sld C w (by omega) dL_law_242 ?_
        refine lcall_h (As := [.int (xs (i + 1))]) (metL_ranOf hI) C hK (cwV 1 C.2.2.2.2.1 (lw_V q108 q109 q110 q13 q111) rfl rfl rfl (by decide +kernel) ⟨Nat.le_of_ble_eq_true rfl, Nat.le_of_ble_eq_true rfl⟩) w rfl rfl (Nat.le_of_ble_eq_true rfl) hl.1 dL_law_243 ⟨Nat.le_of_ble_eq_true rfl, Nat.le_of_ble_eq_true rfl⟩ (fun r1 u1 H locs hq1 w => ?_)
        refine lv_aload_n hx hb dL_law_246 rfl (lv_at hl 2 rfl) ?_
        refine lv_aload_n hx hb dL_law_247 rfl (lv_at hl 0 rfl) ?_
        refine lv_iload_n hx hb dL_law_248 rfl (lv_at hl 3 rfl) ?_
        refine lv_iconst (v := nI 1) hx hb dL_law_249 (by decide +kernel) ?_
        refine n_iadd hx hb dL_law_250 ?_
        refine l_sld C w (by omega) dL_law_251 ?_
        refine lcall_m (As := [.int (xs (i + 1))]) (metK_ranOf hI) C hK (cwV 1 C.2.2.2.2.1 (lw_V q206 q207 q208 q14 q209) rfl rfl rfl (by decide +kernel) ⟨Nat.le_of_ble_eq_true rfl, Nat.le_of_ble_eq_true rfl⟩) w rfl rfl (Nat.le_of_ble_eq_true rfl) hl.1 dL_law_252 ⟨Nat.le_of_ble_eq_true rfl, Nat.le_of_ble_eq_true rfl⟩ (fun r2 v1 H locs hq2 w => ?_)
        obtain ⟨e1, rfl, hI1⟩ := fin_op hq1 hq2 (sim_ran hI (xs (i + 1)))
        refine lv_icmp_eq (tgt := 355) hx hb dL_law_255 (by decide) (fun ce => ?_) (fun ce => absurd e1 ce)
        refine lv_iinc (v := nI (i + 3)) (lv' := [(3, .int (nI (i + 3))), (0, .ref b), (1, .ref (a 0)), (2, .ref (a2 0))]) hx hb dL_law_355 hl (k := 3) rfl (l_inc3 i) (by decide) rfl (fun ls hl => ?_)
        refine lv_goto (tgt := 38) hx hb dL_law_358 (by decide) ?_
        exact ih (i + 3) u1 _ _ _ (by omega) (by omega) hI1 w (lv_sub hl [1, 2, 3, 0] rfl)
      · refine lv_tableIn (off := 208) (tgt := 260) hx hb dL_law_52 (by decide +kernel) (by decide +kernel) (by decide +kernel) (by decide) ?_
        refine lv_aload_n hx hb dL_law_260 rfl (lv_at hl 1 rfl) ?_
        refine lv_aload_n hx hb dL_law_261 rfl (lv_at hl 0 rfl) ?_
        refine lv_iload_n hx hb dL_law_262 rfl (lv_at hl 3 rfl) ?_
        refine lv_iconst (v := nI 1) hx hb dL_law_263 (by decide +kernel) ?_
        refine n_iadd hx hb dL_law_264 ?_
        refine l_sld C w (by omega) dL_law_265 ?_
        refine lcall_h (As := [.int (xs (i + 1))]) (metL_passOf hI) C hK (cwV 1 C.2.2.2.2.1 (lw_V q112 q113 q114 q13 q115) rfl rfl rfl (by decide +kernel) ⟨Nat.le_of_ble_eq_true rfl, Nat.le_of_ble_eq_true rfl⟩) w rfl rfl (Nat.le_of_ble_eq_true rfl) hl.1 dL_law_266 ⟨Nat.le_of_ble_eq_true rfl, Nat.le_of_ble_eq_true rfl⟩ (fun r1 u1 H locs hq1 w => ?_)
        refine lv_aload_n hx hb dL_law_269 rfl (lv_at hl 2 rfl) ?_
        refine lv_aload_n hx hb dL_law_270 rfl (lv_at hl 0 rfl) ?_
        refine lv_iload_n hx hb dL_law_271 rfl (lv_at hl 3 rfl) ?_
        refine lv_iconst (v := nI 1) hx hb dL_law_272 (by decide +kernel) ?_
        refine n_iadd hx hb dL_law_273 ?_
        refine l_sld C w (by omega) dL_law_274 ?_
        refine lcall_m (As := [.int (xs (i + 1))]) (metK_passOf hI) C hK (cwV 1 C.2.2.2.2.1 (lw_V q210 q211 q212 q14 q213) rfl rfl rfl (by decide +kernel) ⟨Nat.le_of_ble_eq_true rfl, Nat.le_of_ble_eq_true rfl⟩) w rfl rfl (Nat.le_of_ble_eq_true rfl) hl.1 dL_law_275 ⟨Nat.le_of_ble_eq_true rfl, Nat.le_of_ble_eq_true rfl⟩ (fun r2 v1 H locs hq2 w => ?_)
        obtain ⟨e1, rfl, hI1⟩ := fin_op hq1 hq2 (sim_pass hI (xs (i + 1)))
        refine lv_icmp_eq (tgt := 355) hx hb dL_law_278 (by decide) (fun ce => ?_) (fun ce => absurd e1 ce)
        refine lv_iinc (v := nI (i + 3)) (lv' := [(3, .int (nI (i + 3))), (0, .ref b), (1, .ref (a 0)), (2, .ref (a2 0))]) hx hb dL_law_355 hl (k := 3) rfl (l_inc3 i) (by decide) rfl (fun ls hl => ?_)
        refine lv_goto (tgt := 38) hx hb dL_law_358 (by decide) ?_
        exact ih (i + 3) u1 _ _ _ (by omega) (by omega) hI1 w (lv_sub hl [1, 2, 3, 0] rfl)
      · refine lv_tableIn (off := 231) (tgt := 283) hx hb dL_law_52 (by decide +kernel) (by decide +kernel) (by decide +kernel) (by decide) ?_
        refine lv_aload_n hx hb dL_law_283 rfl (lv_at hl 1 rfl) ?_
        refine lv_aload_n hx hb dL_law_284 rfl (lv_at hl 0 rfl) ?_
        refine lv_iload_n hx hb dL_law_285 rfl (lv_at hl 3 rfl) ?_
        refine lv_iconst (v := nI 1) hx hb dL_law_286 (by decide +kernel) ?_
        refine n_iadd hx hb dL_law_287 ?_
        refine l_sld C w (by omega) dL_law_288 ?_
        refine lcall_h (As := [.int (xs (i + 1))]) (metL_strideOf hI) C hK (cwV 1 C.2.2.2.2.1 (lw_V q116 q117 q118 q13 q119) rfl rfl rfl (by decide +kernel) ⟨Nat.le_of_ble_eq_true rfl, Nat.le_of_ble_eq_true rfl⟩) w rfl rfl (Nat.le_of_ble_eq_true rfl) hl.1 dL_law_289 ⟨Nat.le_of_ble_eq_true rfl, Nat.le_of_ble_eq_true rfl⟩ (fun r1 u1 H locs hq1 w => ?_)
        refine lv_aload_n hx hb dL_law_292 rfl (lv_at hl 2 rfl) ?_
        refine lv_aload_n hx hb dL_law_293 rfl (lv_at hl 0 rfl) ?_
        refine lv_iload_n hx hb dL_law_294 rfl (lv_at hl 3 rfl) ?_
        refine lv_iconst (v := nI 1) hx hb dL_law_295 (by decide +kernel) ?_
        refine n_iadd hx hb dL_law_296 ?_
        refine l_sld C w (by omega) dL_law_297 ?_
        refine lcall_m (As := [.int (xs (i + 1))]) (metK_strideOf hI) C hK (cwV 1 C.2.2.2.2.1 (lw_V q218 q219 q220 q14 q221) rfl rfl rfl (by decide +kernel) ⟨Nat.le_of_ble_eq_true rfl, Nat.le_of_ble_eq_true rfl⟩) w rfl rfl (Nat.le_of_ble_eq_true rfl) hl.1 dL_law_298 ⟨Nat.le_of_ble_eq_true rfl, Nat.le_of_ble_eq_true rfl⟩ (fun r2 v1 H locs hq2 w => ?_)
        obtain ⟨e1, rfl, hI1⟩ := fin_op hq1 hq2 (sim_stride hI (xs (i + 1)))
        refine lv_icmp_eq (tgt := 355) hx hb dL_law_301 (by decide) (fun ce => ?_) (fun ce => absurd e1 ce)
        refine lv_iinc (v := nI (i + 3)) (lv' := [(3, .int (nI (i + 3))), (0, .ref b), (1, .ref (a 0)), (2, .ref (a2 0))]) hx hb dL_law_355 hl (k := 3) rfl (l_inc3 i) (by decide) rfl (fun ls hl => ?_)
        refine lv_goto (tgt := 38) hx hb dL_law_358 (by decide) ?_
        exact ih (i + 3) u1 _ _ _ (by omega) (by omega) hI1 w (lv_sub hl [1, 2, 3, 0] rfl)
      · refine lv_tableIn (off := 254) (tgt := 306) hx hb dL_law_52 (by decide +kernel) (by decide +kernel) (by decide +kernel) (by decide) ?_
        refine lv_aload_n hx hb dL_law_306 rfl (lv_at hl 1 rfl) ?_
        refine lcall_h (As := []) (metL_clients hI) C hK (cwV 0 C.2.2.2.2.1 (lw_V q120 q121 q122 q13 q123) rfl rfl rfl (by decide +kernel) ⟨Nat.le_of_ble_eq_true rfl, Nat.le_of_ble_eq_true rfl⟩) w rfl rfl (Nat.le_of_ble_eq_true rfl) hl.1 dL_law_307 ⟨Nat.le_of_ble_eq_true rfl, Nat.le_of_ble_eq_true rfl⟩ (fun r1 u1 H locs hq1 w => ?_)
        refine lv_aload_n hx hb dL_law_310 rfl (lv_at hl 2 rfl) ?_
        refine lcall_m (As := []) (metK_clients hI) C hK (cwV 0 C.2.2.2.2.1 (lw_V q222 q223 q224 q14 q225) rfl rfl rfl (by decide +kernel) ⟨Nat.le_of_ble_eq_true rfl, Nat.le_of_ble_eq_true rfl⟩) w rfl rfl (Nat.le_of_ble_eq_true rfl) hl.1 dL_law_311 ⟨Nat.le_of_ble_eq_true rfl, Nat.le_of_ble_eq_true rfl⟩ (fun r2 v1 H locs hq2 w => ?_)
        obtain ⟨e1, rfl, hI1⟩ := fin_op hq1 hq2 (sim_clients hI)
        refine lv_icmp_eq (tgt := 355) hx hb dL_law_314 (by decide) (fun ce => ?_) (fun ce => absurd e1 ce)
        refine lv_iinc (v := nI (i + 3)) (lv' := [(3, .int (nI (i + 3))), (0, .ref b), (1, .ref (a 0)), (2, .ref (a2 0))]) hx hb dL_law_355 hl (k := 3) rfl (l_inc3 i) (by decide) rfl (fun ls hl => ?_)
        refine lv_goto (tgt := 38) hx hb dL_law_358 (by decide) ?_
        exact ih (i + 3) u1 _ _ _ (by omega) (by omega) hI1 w (lv_sub hl [1, 2, 3, 0] rfl)
      · refine lv_tableIn (off := 267) (tgt := 319) hx hb dL_law_52 (by decide +kernel) (by decide +kernel) (by decide +kernel) (by decide) ?_
        refine lv_aload_n hx hb dL_law_319 rfl (lv_at hl 1 rfl) ?_
        refine lcall_h (As := []) (metL_spread hI) C hK (cwV 0 C.2.2.2.2.1 (lw_V q124 q125 q126 q13 q127) rfl rfl rfl (by decide +kernel) ⟨Nat.le_of_ble_eq_true rfl, Nat.le_of_ble_eq_true rfl⟩) w rfl rfl (Nat.le_of_ble_eq_true rfl) hl.1 dL_law_320 ⟨Nat.le_of_ble_eq_true rfl, Nat.le_of_ble_eq_true rfl⟩ (fun r1 u1 H locs hq1 w => ?_)
        refine lv_aload_n hx hb dL_law_323 rfl (lv_at hl 2 rfl) ?_
        refine lcall_m (As := []) (metK_spread hI) C hK (cwV 0 C.2.2.2.2.1 (lw_V q226 q227 q228 q14 q229) rfl rfl rfl (by decide +kernel) ⟨Nat.le_of_ble_eq_true rfl, Nat.le_of_ble_eq_true rfl⟩) w rfl rfl (Nat.le_of_ble_eq_true rfl) hl.1 dL_law_324 ⟨Nat.le_of_ble_eq_true rfl, Nat.le_of_ble_eq_true rfl⟩ (fun r2 v1 H locs hq2 w => ?_)
        obtain ⟨e1, rfl, hI1⟩ := fin_op hq1 hq2 (sim_spread hI)
        refine lv_icmp_eq (tgt := 355) hx hb dL_law_327 (by decide) (fun ce => ?_) (fun ce => absurd e1 ce)
        refine lv_iinc (v := nI (i + 3)) (lv' := [(3, .int (nI (i + 3))), (0, .ref b), (1, .ref (a 0)), (2, .ref (a2 0))]) hx hb dL_law_355 hl (k := 3) rfl (l_inc3 i) (by decide) rfl (fun ls hl => ?_)
        refine lv_goto (tgt := 38) hx hb dL_law_358 (by decide) ?_
        exact ih (i + 3) u1 _ _ _ (by omega) (by omega) hI1 w (lv_sub hl [1, 2, 3, 0] rfl)
      · refine lv_tableIn (off := 280) (tgt := 332) hx hb dL_law_52 (by decide +kernel) (by decide +kernel) (by decide +kernel) (by decide) ?_
        refine lv_aload_n hx hb dL_law_332 rfl (lv_at hl 1 rfl) ?_
        refine lv_aload_n hx hb dL_law_333 rfl (lv_at hl 0 rfl) ?_
        refine lv_iload_n hx hb dL_law_334 rfl (lv_at hl 3 rfl) ?_
        refine lv_iconst (v := nI 1) hx hb dL_law_335 (by decide +kernel) ?_
        refine n_iadd hx hb dL_law_336 ?_
        refine l_sld C w (by omega) dL_law_337 ?_
        refine lcall_h (As := [.int (xs (i + 1))]) (metL_order hI) C hK (cwV 1 C.2.2.2.2.1 (lw_V q128 q129 q130 q13 q131) rfl rfl rfl (by decide +kernel) ⟨Nat.le_of_ble_eq_true rfl, Nat.le_of_ble_eq_true rfl⟩) w rfl rfl (Nat.le_of_ble_eq_true rfl) hl.1 dL_law_338 ⟨Nat.le_of_ble_eq_true rfl, Nat.le_of_ble_eq_true rfl⟩ (fun r1 u1 H locs hq1 w => ?_)
        refine lv_aload_n hx hb dL_law_341 rfl (lv_at hl 2 rfl) ?_
        refine lv_aload_n hx hb dL_law_342 rfl (lv_at hl 0 rfl) ?_
        refine lv_iload_n hx hb dL_law_343 rfl (lv_at hl 3 rfl) ?_
        refine lv_iconst (v := nI 1) hx hb dL_law_344 (by decide +kernel) ?_
        refine n_iadd hx hb dL_law_345 ?_
        refine l_sld C w (by omega) dL_law_346 ?_
        refine lcall_m (As := [.int (xs (i + 1))]) (metK_order hI) C hK (cwV 1 C.2.2.2.2.1 (lw_V q230 q231 q232 q14 q233) rfl rfl rfl (by decide +kernel) ⟨Nat.le_of_ble_eq_true rfl, Nat.le_of_ble_eq_true rfl⟩) w rfl rfl (Nat.le_of_ble_eq_true rfl) hl.1 dL_law_347 ⟨Nat.le_of_ble_eq_true rfl, Nat.le_of_ble_eq_true rfl⟩ (fun r2 v1 H locs hq2 w => ?_)
        obtain ⟨e1, rfl, hI1⟩ := fin_op hq1 hq2 (sim_order hI (xs (i + 1)))
        refine lv_icmp_eq (tgt := 355) hx hb dL_law_350 (by decide) (fun ce => ?_) (fun ce => absurd e1 ce)
        refine lv_iinc (v := nI (i + 3)) (lv' := [(3, .int (nI (i + 3))), (0, .ref b), (1, .ref (a 0)), (2, .ref (a2 0))]) hx hb dL_law_355 hl (k := 3) rfl (l_inc3 i) (by decide) rfl (fun ls hl => ?_)
        refine lv_goto (tgt := 38) hx hb dL_law_358 (by decide) ?_
        exact ih (i + 3) u1 _ _ _ (by omega) (by omega) hI1 w (lv_sub hl [1, 2, 3, 0] rfl)
      · refine lv_tableOut (tgt := 355) hx hb dL_law_52 (Or.inr (by rw [nI_toInt (by omega)]; omega)) (by decide) ?_
        refine lv_iinc (v := nI (i + 3)) (lv' := [(3, .int (nI (i + 3))), (0, .ref b), (1, .ref (a 0)), (2, .ref (a2 0))]) hx hb dL_law_355 hl (k := 3) rfl (l_inc3 i) (by decide) rfl (fun ls hl => ?_)
        refine lv_goto (tgt := 38) hx hb dL_law_358 (by decide) ?_
        exact ih (i + 3) u _ _ _ (by omega) (by omega) hI w (lv_sub hl [1, 2, 3, 0] rfl)
set_option maxHeartbeats 16000000 in
set_option maxRecDepth 100000 in
/-- the law from its entry -/
theorem whole_start {p : Program} {e : Env} {s : State} {m : MethodId} {below : List Frame} {meth : Method} {c : Code} (l : Launch) {b L : Nat} {xs : Nat → Int32} (hL : L ≤ 194) (C0 : lw_At p s m meth c b L xs) : W p l e room_1 s m #[Value.ref b] below meth c s.heap [] 0 0 (lw_Z below #[Value.ref b] s) (entryFrame m ([Value.ref b] : List Value).toArray 4) := by
  obtain ⟨hx, hb, hr, hml, hown, hts0, hX, hbl, hlocks, hgv⟩ := C0
  have hts : ∀ w ∈ lw_all, w.before #[Value.ref b] s = true := fun w h => hts0 w (lw_all_tbl h)
  have C : lX p s m c b L xs := ⟨hx, hb, hml, hown, hts, hX, hbl, hL⟩
  have hA : ∀ q : Nat, s.heap.size ≤ q → lA s q := fun _ h => h
  obtain ⟨c0, iS0, hKn0⟩ := u_known (C := RX1) (T := TX1) (N := 11) (n := 11) hts in_X1 (hts _ q16)
  obtain ⟨c1, iS1, hKn1⟩ := u_known (C := RX2) (T := TX2) (N := 8) (n := 8) hts in_X2 (hts _ q136)
  obtain ⟨D, hKc⟩ : ∃ D : va_G, ∀ (k : Nat) (q : vw_C), vwCl[k]? = some q → u_Kn s q.1 q.2.1 q.2.2 (D.1 k) (D.2 k) := by
    refine ⟨(fun k => if k = 0 then c0 else c1, fun k => if k = 0 then iS0 else iS1), ?_⟩
    intro k q hq
    match k, hq with
    | 0, hq => cases hq; exact hKn0
    | 1, hq => cases hq; exact hKn1
    | k + 2, hq => simp [vwCl] at hq
  have hS : va_S (lA s) s.heap s.heap [] := va_S.rf
  have hK : va_K D vwCl [] s := ⟨hKc, fun k q h => by simp at h⟩
  have hP : va_P D vwCl [] s.heap := fun k q h => by simp at h
  have hD : va_D (lA s) [] := ⟨fun i j p q h => by simp at h, fun k q h => by simp at h⟩
  have hl := lv_entry ([.ref b]) (n := 4) (Nat.le_of_ble_eq_true rfl)
  rw [lg_entry_eq]
  generalize (lg_sl ([.ref b]) ++ List.replicate (4 - (lg_sl ([.ref b])).length) Slot.unset).toArray = ls at hl ⊢
  have hl : lv_has ls 4 [(0, .ref b)] := hl
  refine va_new (ci := 0) (fs := [.null, .null, .null, .null, .null, .null, .null, .int 0, .int 0, .int 0, .int 0]) (C := RX1) (T := TX1) (N := 11) hx hb hts in_X1 tyX1 tyX1_ok hown (hts _ q15) (hts _ q16) (hts _ q13) hK hP hD hS hA rfl (fun j hj => by rcases (show j = 0 ∨ j = 1 ∨ j = 2 ∨ j = 3 ∨ j = 4 ∨ j = 5 ∨ j = 6 ∨ j = 7 ∨ j = 8 ∨ j = 9 ∨ j = 10 by omega) with rfl | rfl | rfl | rfl | rfl | rfl | rfl | rfl | rfl | rfl | rfl <;> rfl) (Nat.le_of_ble_eq_true rfl) (Nat.le_of_ble_eq_true rfl) dL_law_0 (fun o1 H hP hD hS => ?_)
  have hP : va_P D vwCl (met_init_w o1) H := hP
  have hD : va_D (lA s) (met_init_w o1) := hD
  refine W.widen (k := 1) (n := 11) (Nat.le_of_ble_eq_true rfl) (Nat.le_of_ble_eq_true rfl) ?_
  refine lv_dup hx hb dL_law_3 rfl ?_
  refine lv_aload_n hx hb dL_law_4 rfl (lv_at hl 0 rfl) ?_
  refine lv_iconst (v := nI 0) hx hb dL_law_5 (by decide +kernel) ?_
  refine lcall_c (by decide) C hP hS ⟨Nat.le_of_ble_eq_true rfl, Nat.le_of_ble_eq_true rfl⟩ (Nat.le_of_ble_eq_true rfl) hl.1 dL_law_6 ⟨Nat.le_of_ble_eq_true rfl, Nat.le_of_ble_eq_true rfl⟩ (fun H locs hP hS => ?_)
  refine lv_aload_n hx hb dL_law_9 rfl (lv_at hl 0 rfl) ?_
  refine lv_iconst (v := nI 1) hx hb dL_law_10 (by decide +kernel) ?_
  refine lcall_c (by decide) C hP hS ⟨Nat.le_of_ble_eq_true rfl, Nat.le_of_ble_eq_true rfl⟩ (Nat.le_of_ble_eq_true rfl) hl.1 dL_law_11 ⟨Nat.le_of_ble_eq_true rfl, Nat.le_of_ble_eq_true rfl⟩ (fun H locs hP hS => ?_)
  have hF := va_free (wc := met_init_w o1) hD hS hA [0] rfl
  refine va_callv (va_runI (As := [.int (sc xs L 0), .int (sc xs L 1)]) (rest := [.ref o1]) ⟨hx, hb, hml, hown, hts⟩ (met_init l D o1 H.size (sc xs L 0) (sc xs L 1)) (cwI 2 hts (lw_meth q19) rfl rfl rfl (hts _ q13) (hts _ q17) (hts _ q18) rfl (by decide +kernel) ⟨Nat.le_of_ble_eq_true rfl, Nat.le_of_ble_eq_true rfl⟩) ⟨fun a' U g mk q => by obtain ⟨q0, q1, qP, qK, qD⟩ := q; exact ⟨q0, q1, qP, va_K.moved (u := U) (U := U.calling g mk a') (Vm.Alike.refl U.vm) qK, qD⟩, fun U hU hW => ⟨rfl, by rw [hU], by rw [hU]; exact hP, va_K.moved hW.alike hK, hD.weaken (fun _ _ _ _ => trivial)⟩⟩ rfl rfl hl.1 rfl (lv_room (Nat.le_of_ble_eq_true rfl)) dL_law_14 ⟨Nat.le_of_ble_eq_true rfl, Nat.le_of_ble_eq_true rfl⟩) hS (fun q _ h => hF q h) hF (fun u t H1 locs ht hvm hq hB hz hk hS => ?_)
  obtain ⟨a, d, ea, hP1, hK1, hD1⟩ := hB
  subst hq
  subst ea
  rw [ht] at hP1
  have hK := va_K.moved hvm.symm hK1
  have hP : va_P D vwCl (wS a d (iniH (sc xs L 0) (sc xs L 1))) H1 := hP1
  have hD : va_D (lA s) (wS a d (iniH (sc xs L 0) (sc xs L 1))) := hD1.weaken (fun _ q _ h => hF q.1 h)
  generalize H1 = H at hP hS ⊢
  refine W.widen (k := 8) (n := 459) (Nat.le_of_ble_eq_true rfl) (Nat.le_of_ble_eq_true rfl) ?_
  refine lv_astore_n (lv' := [(1, .ref (a 0)), (0, .ref b)]) hx hb dL_law_17 rfl hl (by decide) rfl (fun ls hl => ?_)
  refine va_new (ci := 1) (fs := [.int 0, .int 0, .null, .null, .null, .null, .int 0, .long 0]) (C := RX2) (T := TX2) (N := 8) hx hb hts in_X2 tyX2 tyX2_ok hown (hts _ q135) (hts _ q136) (hts _ q14) hK hP hD hS hA rfl (fun j hj => by rcases (show j = 0 ∨ j = 1 ∨ j = 2 ∨ j = 3 ∨ j = 4 ∨ j = 5 ∨ j = 6 ∨ j = 7 by omega) with rfl | rfl | rfl | rfl | rfl | rfl | rfl | rfl <;> rfl) (Nat.le_of_ble_eq_true rfl) (Nat.le_of_ble_eq_true rfl) dL_law_18 (fun o2 H hP hD hS => ?_)
  have hP : va_P D vwCl (wS a d (iniH (sc xs L 0) (sc xs L 1)) ++ metM_init_w o2) H := hP
  have hD : va_D (lA s) (wS a d (iniH (sc xs L 0) (sc xs L 1)) ++ metM_init_w o2) := hD
  refine W.widen (k := 9) (n := 467) (Nat.le_of_ble_eq_true rfl) (Nat.le_of_ble_eq_true rfl) ?_
  refine lv_dup hx hb dL_law_21 rfl ?_
  refine lv_aload_n hx hb dL_law_22 rfl (lv_at hl 1 rfl) ?_
  refine lv_iconst (v := nI 0) hx hb dL_law_23 (by decide +kernel) ?_
  refine lcall_c (by decide) C hP hS ⟨Nat.le_of_ble_eq_true rfl, Nat.le_of_ble_eq_true rfl⟩ (Nat.le_of_ble_eq_true rfl) hl.1 dL_law_24 ⟨Nat.le_of_ble_eq_true rfl, Nat.le_of_ble_eq_true rfl⟩ (fun H locs hP hS => ?_)
  refine lv_aload_n hx hb dL_law_27 rfl (lv_at hl 1 rfl) ?_
  refine lv_iconst (v := nI 1) hx hb dL_law_28 (by decide +kernel) ?_
  refine lcall_c (by decide) C hP hS ⟨Nat.le_of_ble_eq_true rfl, Nat.le_of_ble_eq_true rfl⟩ (Nat.le_of_ble_eq_true rfl) hl.1 dL_law_29 ⟨Nat.le_of_ble_eq_true rfl, Nat.le_of_ble_eq_true rfl⟩ (fun H locs hP hS => ?_)
  have hPc := hP.sub (ws' := metM_init_w o2) [8] rfl
  have hDc := hD.sub (ws' := metM_init_w o2) [8] (by decide) rfl
  have hKc := hK.sub (tys' := []) [] rfl
  have hF := va_free (wc := metM_init_w o2) hD hS hA [8] rfl
  refine va_callv (va_runI (As := [.int (sc xs L 0), .int (sc xs L 1)]) (rest := [.ref o2]) ⟨hx, hb, hml, hown, hts⟩ (metM_init l D o2 H.size (sc xs L 0) (sc xs L 1)) (cwI 2 hts (lw_meth q139) rfl rfl rfl (hts _ q14) (hts _ q137) (hts _ q138) rfl (by decide +kernel) ⟨Nat.le_of_ble_eq_true rfl, Nat.le_of_ble_eq_true rfl⟩) ⟨fun a' U g mk q => by obtain ⟨q0, q1, qP, qK, qD⟩ := q; exact ⟨q0, q1, qP, va_K.moved (u := U) (U := U.calling g mk a') (Vm.Alike.refl U.vm) qK, qD⟩, fun U hU hW => ⟨rfl, by rw [hU], by rw [hU]; exact hPc, va_K.moved hW.alike hKc, hDc.weaken (fun _ _ _ _ => trivial)⟩⟩ rfl rfl hl.1 rfl (lv_room (Nat.le_of_ble_eq_true rfl)) dL_law_32 ⟨Nat.le_of_ble_eq_true rfl, Nat.le_of_ble_eq_true rfl⟩) hS (fun q _ h => hF q h) hF (fun v t H1 locs ht hvm hq hB hz hk hS => ?_)
  obtain ⟨a2, d2, dz, dl, ea2, hP1, hK1, hD1⟩ := hB
  subst hq
  subst ea2
  rw [ht] at hP1
  have hK1 := va_K.moved hvm.symm hK1
  have e1 : s.vm.findClass ("[" ++ FieldType.int.toString) = some d := (hK.2 0 _ rfl).2
  have e2 : s.vm.findClass ("[" ++ FieldType.int.toString) = some d2 := (hK1.2 0 _ rfl).2
  have e3 : d = d2 := Option.some.inj (e1.symm.trans e2)
  subst e3
  obtain ⟨hP, hD⟩ := va_join (wr := wS a d (iniH (sc xs L 0) (sc xs L 1))) (w1 := wT a2 d dz dl (iniM (sc xs L 0) (sc xs L 1))) hP hD [8] [0, 1, 2, 3, 4, 5, 6, 7] rfl rfl (by decide) (by decide) hk hF hP1 hD1
  generalize H1 = H at hP hS ⊢
  have w : lW D s a a2 d dz dl (iniH (sc xs L 0) (sc xs L 1)) (toM (iniH (sc xs L 0) (sc xs L 1))) H locs := by
    rw [ini_eq]
    exact ⟨hP, hD, hS⟩
  refine W.widen (k := 13) (n := 723) (Nat.le_of_ble_eq_true rfl) (Nat.le_of_ble_eq_true rfl) ?_
  refine lv_astore_n (lv' := [(2, .ref (a2 0)), (1, .ref (a 0)), (0, .ref b)]) hx hb dL_law_35 rfl hl (by decide) rfl (fun ls hl => ?_)
  refine lv_iconst (v := nI 2) hx hb dL_law_36 (by decide +kernel) ?_
  refine lv_istore_n (lv' := [(3, .int (nI 2)), (2, .ref (a2 0)), (1, .ref (a 0)), (0, .ref b)]) hx hb dL_law_37 rfl hl (by decide) rfl (fun ls hl => ?_)
  exact law_loop hr hlocks C hK1 (L + 1) 2 _ _ _ _ (by omega) (by decide) (ini_ok _ _) w (lv_sub hl [3, 2, 1, 0] rfl)
end
section
set_option maxHeartbeats 4000000 in
theorem lw_walk (l : Launch) (b : Addr) (xs : List Int32) : MetFree l x (headSpec (Jvm.Cond.code x code maxLocals ret :: tables_1) room_1) (lw_P b xs) (fun _ _ _ _ _ => True) lw_Q := by
  refine MetFree.of_bodyS (code := code) (maxLocals := maxLocals) (ret := ret) (by decide) ?_ ?_
  · intro args s m h hn
    obtain ⟨meth, c, h1, h2, h3, h4, h5, h6, -, -⟩ := Cond.code_spec hn (atoms_spec (ws := Jvm.Cond.code x code maxLocals ret :: tables_1) h _ List.mem_cons_self)
    exact ⟨meth, c, h1, h2, h3, h4, h5, h6⟩
  · intro p e s m args below meth c s₁ B hml0 hP _
    obtain ⟨rfl, hx, hbd, hgv⟩ := hP
    obtain ⟨scr, harrAt, hlist, hof, hsmall⟩ := hx
    obtain ⟨hcb, hkn, -, -⟩ := State.arrayAt?_spec harrAt
    have hown : s.vm.findClass R_law = some m.cls := findClass_of_methodNamed B.named
    have hts0 : ∀ c ∈ (Jvm.Cond.code x code maxLocals ret :: tables_1), c.before #[Value.ref b] s = true := atoms_spec (ws := Jvm.Cond.code x code maxLocals ret :: tables_1) B.pre
    have hts : ∀ w ∈ lw_tbl, w.before #[Value.ref b] s = true := k2_hts_sels lw_privs (fun w hw => hts0 w (List.mem_cons_of_mem _ hw)) lw_privs_ok
    have hml : c.maxLocals = 4 := B.maxLocals_eq (hts0 _ List.mem_cons_self)
    have X₀ : Stand p l e room_1 s m #[Value.ref b] below meth c s₁ [] 0 0 := Stand.of_body B
    have hh0 : s₁.heap = s.heap := by rw [B.state]; rfl
    have hsz : scr.slots.size = xs.length := by rw [← Array.length_toList, hlist, List.length_map]
    have hval : ∀ j : Nat, j < xs.length → scr.slots[j]? = some (.int (xs.getD j 0)) := fun j hj => by
      rw [← Array.getElem?_toList, hlist]
      simp [hj]
    have hbl : b < s.heap.size := (Array.getElem?_eq_some_iff.mp hcb).1
    have hX : va_X b xs.length (fun j => xs.getD j 0) s s.heap := ⟨scr, hcb, hof, hkn, hsz, hval⟩
    have K : W p l e room_1 s m #[Value.ref b] below meth c s₁.heap [] 0 0 (lw_Z below #[Value.ref b] s) (entryFrame m ([Value.ref b] : List Value).toArray 4) := by
      rw [hh0]
      exact whole_start l hbd ⟨B.exec, B.bytes, B.returns, hml, hown, hts, hX, hbl, B.notSynchronized, hgv⟩
    obtain ⟨t, a1, o, b1, b2, b3⟩ := K s₁ rfl X₀
    exact ⟨t, o, a1, b1, b2, b3⟩
theorem lw_pre_spec {args : Array Value} {s : State} (h : (Jvm.Cond.and given_1 narrow_1).before args s = true) (hr : rest_1_c.before args s = true) : ∃ (b : Addr) (xs : List Int32), lw_P b xs args s := by
  have hs := flat_of_before _ h
  have hq := flat_of_before _ hr
  have hc : (Cond.count 1).before args s = true := hs _ (by decide +kernel)
  have harr : (Cond.arrayOf (.arg 0) .int).before args s = true := hs _ (by decide +kernel)
  have hle : (Cond.le (.length (.arg 0)) (.int 194)).before args s = true := hs _ (by decide +kernel)
  have hlen : (Cond.isInt (.length (.arg 0))).before args s = true := hq _ (by decide +kernel)
  have hall : (Cond.all (.arg 0) (.isInt (.elem (.arg 0) (.index 0)))).before args s = true := hq _ (by decide +kernel)
  obtain ⟨b, xs, hb, hx⟩ := State.ints_of_pre rfl harr hlen hall
  have hsm : xs.length < 2 ^ 31 := hx.choose_spec.2.2.2
  have hev : (Term.length (.arg 0)).eval args s none [] s = some (.int xs.length.toInt32) := hx.length_eval hb
  have hv := Cond.le_ints hev (show (Term.int 194).eval args s none [] s = some (.int 194) from rfl)
  have hd : xs.length.toInt32 ≤ 194 := by
    simpa [Cond.before, Cond.holds, hv] using hle
  have hN : xs.length ≤ 194 := (Int32.ofNat_le_ofNat hsm (by decide)).mp (show Int32.ofNat xs.length ≤ Int32.ofNat 194 from hd)
  exact ⟨b, xs, Cond.one_arg hc (show args[0]? = some (.ref b) from hb), hx, hN, h⟩
theorem lw_comes (l : Launch) : Comes l x (Jvm.Cond.code x code maxLocals ret :: tables_1) room_1 (fun tb e args s => Calls_1 tb e args s ∧ rest_1 tb e args s ∧ Pre_1 tb e args s)
    (fun _ _ args s o t => lw_Q args s o t) := by
  intro p e ha hc hk s m args below hf hfit hheap happ hpre
  obtain ⟨b, xs, hP⟩ := lw_pre_spec hpre.2.2 hpre.2.1
  obtain ⟨k, o, h1, h2, h3, hQ⟩ := lw_walk l b xs p e ha hc hk s m args below hf ((Spec.applies_iff_loose hf).mp happ).1 hP trivial
  exact ⟨k, o, h1, h2, h3, hQ⟩
theorem lw_frame {s t : State} {o : Outcome} {args : Array Value} (h : Framed s o t [] 600000 7290000) :
    Framed s o t (fieldLocs frame_1_writes args s ++ arrayLocs frame_1_arrays args s ++ staticLocs frame_1_statics s) 600000 7290000 := h
theorem lw_limb (L : Cond) (hL : ∀ (args : Array Value) (s t : State), L.after args s (.returned (some (.int 1))) t = true) :
    ArmFor flags0 classFile x code maxLocals ret World_1 tables_1 room_1 Calls_1 rest_1 Pre_1
      (fun tb e a s o t => postC L tb e a s o t ∧ Framed s o t (fieldLocs frame_1_writes a s ++ arrayLocs frame_1_arrays a s ++ staticLocs frame_1_statics s) 600000 7290000) := by
  intro l _ _ _ p e ha hc hk s m args below hf hfit hheap happ hpre
  obtain ⟨k, o, h1, h2, h3, rfl, hF⟩ := lw_comes l p e ha hc hk s m args below hf hfit hheap happ hpre
  exact ⟨k, _, h1, h2, h3, hL args s _, lw_frame hF⟩
theorem i_vc : Claimed_1_1 ∧ Claimed_1_2 := ⟨lw_limb limb_1_1 (fun args s t => by simp [limb_1_1, Cond.after, Cond.holds, Cond.value]), lw_limb limb_1_2 (fun args s t => Cond.after_iff.mpr (by
  first | (rw [show limb_1_2 = Cond.eq .result (.int 1) from rfl, Cond.eq_ints (x := 1) (y := 1) rfl rfl]; simp; done) | (simp [limb_1_2, Cond.value, Term.eval]; done)))⟩
end
