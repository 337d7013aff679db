section
-- ===== PART A: goes FIRST, ahead of the names: the tables' words, and 'selects' of the private methods out of them =====
/-- a private method of a class that the tables say can be made, by its rows of tables_1 -/
def lw_okq (q : MethodName × Nat) : Prop := (q.1.cls ≠ "java/lang/invoke/MethodHandle" ∧ q.1.cls ≠ "java/lang/invoke/VarHandle") ∧ Cond.instantiable q.1.cls q.2 ∈ tables_1 ∧ Cond.privateMethod q.1 ∈ tables_1 ∧ Cond.instanceMethod q.1 ∈ tables_1
set_option maxRecDepth 100000
theorem lw_t1 {w : Cond} (h : w ∈ tables_1_1) : w ∈ tables_1 := List.mem_append_left _ h
theorem lw_t2 {w : Cond} (h : w ∈ tables_1_2) : w ∈ tables_1 := List.mem_append_right _ h
theorem lw_p0 : lw_okq (⟨"SpanJobs", "isClosed", "(I)Z"⟩, 9) := ⟨⟨by decide +kernel, by decide +kernel⟩, lw_t1 (List.mem_of_getElem? (i := 7) rfl), lw_t1 (List.mem_of_getElem? (i := 96) rfl), lw_t1 (List.mem_of_getElem? (i := 97) rfl)⟩
theorem lw_p1 : lw_okq (⟨"SpanJobs$Spans", "from", "(IJ)I"⟩, 4) := ⟨⟨by decide +kernel, by decide +kernel⟩, lw_t1 (List.mem_of_getElem? (i := 15) rfl), lw_t1 (List.mem_of_getElem? (i := 104) rfl), lw_t1 (List.mem_of_getElem? (i := 105) rfl)⟩
theorem lw_p2 : lw_okq (⟨"SpanJobs$Spans", "isBefore", "(IIJ)Z"⟩, 4) := ⟨⟨by decide +kernel, by decide +kernel⟩, lw_t1 (List.mem_of_getElem? (i := 15) rfl), lw_t1 (List.mem_of_getElem? (i := 108) rfl), lw_t1 (List.mem_of_getElem? (i := 109) rfl)⟩
theorem lw_p3 : lw_okq (⟨"SpanJobs", "added", "(JJ)J"⟩, 9) := ⟨⟨by decide +kernel, by decide +kernel⟩, lw_t1 (List.mem_of_getElem? (i := 7) rfl), lw_t1 (List.mem_of_getElem? (i := 116) rfl), lw_t1 (List.mem_of_getElem? (i := 117) rfl)⟩
theorem lw_p4 : lw_okq (⟨"SpanJobs$Spans", "grow", "()V"⟩, 4) := ⟨⟨by decide +kernel, by decide +kernel⟩, lw_t1 (List.mem_of_getElem? (i := 15) rfl), lw_t1 (List.mem_of_getElem? (i := 135) rfl), lw_t1 (List.mem_of_getElem? (i := 136) rfl)⟩
theorem lw_p5 : lw_okq (⟨"SpanJobs$Outputs", "grow", "()V"⟩, 4) := ⟨⟨by decide +kernel, by decide +kernel⟩, lw_t1 (List.mem_of_getElem? (i := 37) rfl), lw_t1 (List.mem_of_getElem? (i := 154) rfl), lw_t1 (List.mem_of_getElem? (i := 155) rfl)⟩
theorem lw_p6 : lw_okq (⟨"SpanJobsModel", "isClosed", "(I)Z"⟩, 16) := ⟨⟨by decide +kernel, by decide +kernel⟩, lw_t1 (List.mem_of_getElem? (i := 202) rfl), lw_t2 (List.mem_of_getElem? (i := 29) rfl), lw_t2 (List.mem_of_getElem? (i := 30) rfl)⟩
theorem lw_p7 : lw_okq (⟨"SpanJobsModel", "least", "()I"⟩, 16) := ⟨⟨by decide +kernel, by decide +kernel⟩, lw_t1 (List.mem_of_getElem? (i := 202) rfl), lw_t2 (List.mem_of_getElem? (i := 34) rfl), lw_t2 (List.mem_of_getElem? (i := 35) rfl)⟩
theorem lw_p8 : lw_okq (⟨"SpanJobsModel", "out", "(I)V"⟩, 16) := ⟨⟨by decide +kernel, by decide +kernel⟩, lw_t1 (List.mem_of_getElem? (i := 202) rfl), lw_t2 (List.mem_of_getElem? (i := 38) rfl), lw_t2 (List.mem_of_getElem? (i := 39) rfl)⟩
theorem lw_p9 : lw_okq (⟨"SpanJobsModel", "number", "(JI)J"⟩, 16) := ⟨⟨by decide +kernel, by decide +kernel⟩, lw_t1 (List.mem_of_getElem? (i := 202) rfl), lw_t2 (List.mem_of_getElem? (i := 42) rfl), lw_t2 (List.mem_of_getElem? (i := 43) rfl)⟩
def lw_privs_1 : List (MethodName × Nat) := [(⟨"SpanJobs", "isClosed", "(I)Z"⟩, 9), (⟨"SpanJobs$Spans", "from", "(IJ)I"⟩, 4), (⟨"SpanJobs$Spans", "isBefore", "(IIJ)Z"⟩, 4), (⟨"SpanJobs", "added", "(JJ)J"⟩, 9), (⟨"SpanJobs$Spans", "grow", "()V"⟩, 4), (⟨"SpanJobs$Outputs", "grow", "()V"⟩, 4), (⟨"SpanJobsModel", "isClosed", "(I)Z"⟩, 16), (⟨"SpanJobsModel", "least", "()I"⟩, 16), (⟨"SpanJobsModel", "out", "(I)V"⟩, 16), (⟨"SpanJobsModel", "number", "(JI)J"⟩, 16)]
theorem lw_r1 : ∀ q ∈ lw_privs_1, lw_okq q := List.forall_mem_cons.mpr ⟨lw_p0, List.forall_mem_cons.mpr ⟨lw_p1, List.forall_mem_cons.mpr ⟨lw_p2, List.forall_mem_cons.mpr ⟨lw_p3, List.forall_mem_cons.mpr ⟨lw_p4, List.forall_mem_cons.mpr ⟨lw_p5, List.forall_mem_cons.mpr ⟨lw_p6, List.forall_mem_cons.mpr ⟨lw_p7, List.forall_mem_cons.mpr ⟨lw_p8, List.forall_mem_cons.mpr ⟨lw_p9, fun _ h => absurd h List.not_mem_nil⟩⟩⟩⟩⟩⟩⟩⟩⟩⟩
def lw_privs : List (MethodName × Nat) := lw_privs_1
def lw_tbl : List Cond := k2_sels lw_privs ++ tables_1
theorem lw_privs_ok : ∀ q ∈ lw_privs, lw_okq q := lw_r1
-- ===== ONE list of words for every method: the tables' words that hold all through a run =====
def lw_all : List Cond := lw_tbl.filter goodWord
/-- a word of the tables by its place: claim/WORDS.tsv -/
theorem lw_w {w : Cond} (i : Nat) (h : lw_tbl[i]? = some w) (g : goodWord w = true) : w ∈ lw_all := List.mem_filter.mpr ⟨List.mem_of_getElem? h, g⟩
theorem lw_all_tbl {w : Cond} (h : w ∈ lw_all) : w ∈ lw_tbl := (List.mem_filter.mp h).1
theorem lw_self : GoodIn lw_all lw_all := fun w h => ⟨h, good_of_word (List.mem_filter.mp h).2⟩
/-- a class's field words, by their places -/
theorem lw_in (ws : List Cond) (ps : List Nat) (hp : ws = ps.filterMap (fun i => lw_tbl[i]?)) (hg : ws.all goodWord = true) : ∀ w ∈ ws, w ∈ lw_all := by
  intro w h
  have h1 := List.all_eq_true.mp hg w h
  rw [hp] at h
  obtain ⟨i, -, hi⟩ := List.mem_filterMap.mp h
  exact lw_w i hi h1
/-- the words of a contract for the method y with code b, L locals, answer r -/
abbrev ws_ (y : MethodName) (b : ByteArray) (L : Nat) (r : Option FieldType) : List Cond := Cond.code y b L r :: lw_all
theorem lw_meth {y : MethodName} {b : ByteArray} {L : Nat} {r : Option FieldType} (h : Cond.code y b L r ∈ lw_all) : GoodIn lw_all (ws_ y b L r) := by
  intro w hw
  rcases List.mem_cons.mp hw with e | e
  · rw [e]
    exact lw_self _ h
  · exact lw_self _ e
theorem lw_app {a c : List Cond} (ha : ∀ w ∈ a, w ∈ lw_all) (hc : GoodIn lw_all c) : GoodIn lw_all (a ++ c) := by
  intro w hw
  rcases List.mem_append.mp hw with e | e
  · exact lw_self w (ha w e)
  · exact hc w e
/-- what a call through an object asks: cwV n hts (lw_V ..) -/
theorem lw_V {own : String} {idx : Nat} {C : String} {y : MethodName} {b : ByteArray} {L : Nat} {r : Option FieldType} (h1 : Cond.methodLink own idx y ∈ lw_all) (h2 : Cond.instanceMethod y ∈ lw_all) (h3 : Cond.selects C y y ∈ lw_all) (h4 : Cond.initialized C ∈ lw_all) (h5 : Cond.code y b L r ∈ lw_all) : GoodIn lw_all (wsV own idx C y (ws_ y b L r)) := by
  refine lw_app ?_ (lw_meth h5)
  intro w hw
  simp only [List.mem_cons, List.not_mem_nil, or_false] at hw
  rcases hw with e | e | e | e
  · rw [e]; exact h1
  · rw [e]; exact h2
  · rw [e]; exact h3
  · rw [e]; exact h4
/-- what a static call asks: va_cwS n hts (lw_S ..) -/
theorem lw_S {own : String} {idx : Nat} {y : MethodName} {b : ByteArray} {L : Nat} {r : Option FieldType} (h1 : Cond.methodLink own idx y ∈ lw_all) (h2 : Cond.static y ∈ lw_all) (h3 : Cond.initialized y.cls ∈ lw_all) (h4 : Cond.code y b L r ∈ lw_all) : GoodIn lw_all (va_wsS own idx y (ws_ y b L r)) := by
  refine lw_app ?_ (lw_meth h4)
  intro w hw
  simp only [List.mem_cons, List.not_mem_nil, or_false] at hw
  rcases hw with e | e | e
  · rw [e]; exact h1
  · rw [e]; exact h2
  · rw [e]; exact h3
/-- the words of a contract for a method WITH HANDLERS (hh: its table) -/
abbrev wsW_ (y : MethodName) (b : ByteArray) (L : Nat) (r : Option FieldType) (hh : List (Nat × Nat × Nat × Nat)) : List Cond := Cond.codeWith y b L r hh :: lw_all
theorem lw_methW {y : MethodName} {b : ByteArray} {L : Nat} {r : Option FieldType} {hh : List (Nat × Nat × Nat × Nat)} (h : Cond.codeWith y b L r hh ∈ lw_all) : GoodIn lw_all (wsW_ y b L r hh) := by
  intro w hw
  rcases List.mem_cons.mp hw with e | e
  · rw [e]
    exact lw_self _ h
  · exact lw_self _ e
/-- any list of words by their places (lw_in), good -/
theorem lw_good {ws : List Cond} (h : ∀ w ∈ ws, w ∈ lw_all) : GoodIn lw_all ws := fun w hw => lw_self w (h w hw)
/-- what a call of a method with handlers asks: vx_cwVW n hts (lw_VW ..), vx_cwSW n hts (lw_SW ..) -/
theorem lw_VW {own : String} {idx : Nat} {C : String} {y : MethodName} {b : ByteArray} {L : Nat} {r : Option FieldType} {hh : List (Nat × Nat × Nat × Nat)} (h1 : Cond.methodLink own idx y ∈ lw_all) (h2 : Cond.instanceMethod y ∈ lw_all) (h3 : Cond.selects C y y ∈ lw_all) (h4 : Cond.initialized C ∈ lw_all) (h5 : Cond.codeWith y b L r hh ∈ lw_all) : GoodIn lw_all (wsV own idx C y (wsW_ y b L r hh)) := by
  refine lw_app ?_ (lw_methW h5)
  intro w hw
  simp only [List.mem_cons, List.not_mem_nil, or_false] at hw
  rcases hw with e | e | e | e
  · rw [e]; exact h1
  · rw [e]; exact h2
  · rw [e]; exact h3
  · rw [e]; exact h4
theorem lw_SW {own : String} {idx : Nat} {y : MethodName} {b : ByteArray} {L : Nat} {r : Option FieldType} {hh : List (Nat × Nat × Nat × Nat)} (h1 : Cond.methodLink own idx y ∈ lw_all) (h2 : Cond.static y ∈ lw_all) (h3 : Cond.initialized y.cls ∈ lw_all) (h4 : Cond.codeWith y b L r hh ∈ lw_all) : GoodIn lw_all (va_wsS own idx y (wsW_ y b L r hh)) := by
  refine lw_app ?_ (lw_methW h4)
  intro w hw
  simp only [List.mem_cons, List.not_mem_nil, or_false] at hw
  rcases hw with e | e | e
  · rw [e]; exact h1
  · rw [e]; exact h2
  · rw [e]; exact h3
/-- a word by its place in its run of the tables -/
theorem lw_at {r : List Cond} (hr : ∀ w ∈ r, w ∈ lw_tbl) {w : Cond} (i : Nat) (h : r[i]? = some w) : w ∈ lw_tbl := hr w (List.mem_of_getElem? h)
theorem lw_g {w : Cond} (h : w ∈ lw_tbl) (g : goodWord w = true) : w ∈ lw_all := List.mem_filter.mpr ⟨h, g⟩
theorem lw_ms : ∀ w ∈ k2_sels lw_privs, w ∈ lw_tbl := fun w h => show w ∈ k2_sels lw_privs ++ tables_1 from List.mem_append_left _ h
theorem lw_m1 : ∀ w ∈ tables_1_1, w ∈ lw_tbl := fun w h => show w ∈ k2_sels lw_privs ++ tables_1 from List.mem_append_right (k2_sels lw_privs) (show w ∈ tables_1 from List.mem_append_left _ h)
theorem lw_m2 : ∀ w ∈ tables_1_2, w ∈ lw_tbl := fun w h => show w ∈ k2_sels lw_privs ++ tables_1 from List.mem_append_right (k2_sels lw_privs) (show w ∈ tables_1 from List.mem_append_right _ h)
theorem qs0 : (Cond.selects "SpanJobs" ⟨"SpanJobs", "isClosed", "(I)Z"⟩ ⟨"SpanJobs", "isClosed", "(I)Z"⟩) ∈ lw_all := lw_g (lw_at lw_ms 0 rfl) rfl
theorem qs1 : (Cond.selects "SpanJobs$Spans" ⟨"SpanJobs$Spans", "from", "(IJ)I"⟩ ⟨"SpanJobs$Spans", "from", "(IJ)I"⟩) ∈ lw_all := lw_g (lw_at lw_ms 1 rfl) rfl
theorem qs2 : (Cond.selects "SpanJobs$Spans" ⟨"SpanJobs$Spans", "isBefore", "(IIJ)Z"⟩ ⟨"SpanJobs$Spans", "isBefore", "(IIJ)Z"⟩) ∈ lw_all := lw_g (lw_at lw_ms 2 rfl) rfl
theorem qs3 : (Cond.selects "SpanJobs" ⟨"SpanJobs", "added", "(JJ)J"⟩ ⟨"SpanJobs", "added", "(JJ)J"⟩) ∈ lw_all := lw_g (lw_at lw_ms 3 rfl) rfl
theorem qs4 : (Cond.selects "SpanJobs$Spans" ⟨"SpanJobs$Spans", "grow", "()V"⟩ ⟨"SpanJobs$Spans", "grow", "()V"⟩) ∈ lw_all := lw_g (lw_at lw_ms 4 rfl) rfl
theorem qs5 : (Cond.selects "SpanJobs$Outputs" ⟨"SpanJobs$Outputs", "grow", "()V"⟩ ⟨"SpanJobs$Outputs", "grow", "()V"⟩) ∈ lw_all := lw_g (lw_at lw_ms 5 rfl) rfl
theorem qs6 : (Cond.selects "SpanJobsModel" ⟨"SpanJobsModel", "isClosed", "(I)Z"⟩ ⟨"SpanJobsModel", "isClosed", "(I)Z"⟩) ∈ lw_all := lw_g (lw_at lw_ms 6 rfl) rfl
theorem qs7 : (Cond.selects "SpanJobsModel" ⟨"SpanJobsModel", "least", "()I"⟩ ⟨"SpanJobsModel", "least", "()I"⟩) ∈ lw_all := lw_g (lw_at lw_ms 7 rfl) rfl
theorem qs8 : (Cond.selects "SpanJobsModel" ⟨"SpanJobsModel", "out", "(I)V"⟩ ⟨"SpanJobsModel", "out", "(I)V"⟩) ∈ lw_all := lw_g (lw_at lw_ms 8 rfl) rfl
theorem qs9 : (Cond.selects "SpanJobsModel" ⟨"SpanJobsModel", "number", "(JI)J"⟩ ⟨"SpanJobsModel", "number", "(JI)J"⟩) ∈ lw_all := lw_g (lw_at lw_ms 9 rfl) rfl
end
section
/-! SpanJobs$Spans -/
set_option maxRecDepth 100000
def RX1 : String := "SpanJobs$Spans"
def TX1 : u_T := fun k => match k with
  | 0 => ("SpanJobs$Spans", "keys", "[J", false)
  | 1 => ("SpanJobs$Spans", "spans", "[I", false)
  | 2 => ("SpanJobs$Spans", "numbers", "[J", false)
  | _ => ("SpanJobs$Spans", "size", "I", false)
def tyX1 : Nat → FieldType := fun k => match k with
  | 0 => .array .long
  | 1 => .array .int
  | 2 => .array .long
  | _ => .int
abbrev wsX10 : List Cond := u_ws RX1 TX1 4
theorem nmX1 : ∀ a, a < 4 → ∀ b, b < 4 → a ≠ b → (TX1 a).2.1 ≠ (TX1 b).2.1 := by decide +kernel
theorem tyX1_ok : ∀ k, k < 4 → parseFieldDescriptor (TX1 k).2.2.1 = some (tyX1 k) := by decide +kernel
abbrev cX1_init : ByteArray := prog_3_method_1_code
def yX1_init : MethodName := ⟨RX1, "<init>", "()V"⟩
theorem dX1_init_0 : decode cX1_init 0 = .ok (.aload_n 0, 1) := by decide +kernel
theorem dX1_init_1 : decode cX1_init 1 = .ok (.invokespecial 1, 3) := by decide +kernel
theorem dX1_init_4 : decode cX1_init 4 = .ok (.aload_n 0, 1) := by decide +kernel
theorem dX1_init_5 : decode cX1_init 5 = .ok (.bipush 16, 2) := by decide +kernel
theorem dX1_init_7 : decode cX1_init 7 = .ok (.newarray .long, 2) := by decide +kernel
theorem dX1_init_9 : decode cX1_init 9 = .ok (.putfield 7, 3) := by decide +kernel
theorem dX1_init_12 : decode cX1_init 12 = .ok (.aload_n 0, 1) := by decide +kernel
theorem dX1_init_13 : decode cX1_init 13 = .ok (.bipush 16, 2) := by decide +kernel
theorem dX1_init_15 : decode cX1_init 15 = .ok (.newarray .int, 2) := by decide +kernel
theorem dX1_init_17 : decode cX1_init 17 = .ok (.putfield 13, 3) := by decide +kernel
theorem dX1_init_20 : decode cX1_init 20 = .ok (.aload_n 0, 1) := by decide +kernel
theorem dX1_init_21 : decode cX1_init 21 = .ok (.bipush 16, 2) := by decide +kernel
theorem dX1_init_23 : decode cX1_init 23 = .ok (.newarray .long, 2) := by decide +kernel
theorem dX1_init_25 : decode cX1_init 25 = .ok (.putfield 17, 3) := by decide +kernel
theorem dX1_init_28 : decode cX1_init 28 = .ok (.return_, 1) := by decide +kernel
abbrev cX1_find : ByteArray := prog_3_method_4_code
def yX1_find : MethodName := ⟨RX1, "find", "(IJ)I"⟩
theorem dX1_find_0 : decode cX1_find 0 = .ok (.aload_n 0, 1) := by decide +kernel
theorem dX1_find_1 : decode cX1_find 1 = .ok (.iload_n 1, 1) := by decide +kernel
theorem dX1_find_2 : decode cX1_find 2 = .ok (.lload_n 2, 1) := by decide +kernel
theorem dX1_find_3 : decode cX1_find 3 = .ok (.invokevirtual 28, 3) := by decide +kernel
theorem dX1_find_6 : decode cX1_find 6 = .ok (.istore 4, 2) := by decide +kernel
theorem dX1_find_8 : decode cX1_find 8 = .ok (.iload 4, 2) := by decide +kernel
theorem dX1_find_10 : decode cX1_find 10 = .ok (.aload_n 0, 1) := by decide +kernel
theorem dX1_find_11 : decode cX1_find 11 = .ok (.getfield 20, 3) := by decide +kernel
theorem dX1_find_14 : decode cX1_find 14 = .ok (.if_icmp .ge 31, 3) := by decide +kernel
theorem dX1_find_17 : decode cX1_find 17 = .ok (.aload_n 0, 1) := by decide +kernel
theorem dX1_find_18 : decode cX1_find 18 = .ok (.getfield 13, 3) := by decide +kernel
theorem dX1_find_21 : decode cX1_find 21 = .ok (.iload 4, 2) := by decide +kernel
theorem dX1_find_23 : decode cX1_find 23 = .ok (.iaload, 1) := by decide +kernel
theorem dX1_find_24 : decode cX1_find 24 = .ok (.iload_n 1, 1) := by decide +kernel
theorem dX1_find_25 : decode cX1_find 25 = .ok (.if_icmp .ne 20, 3) := by decide +kernel
theorem dX1_find_28 : decode cX1_find 28 = .ok (.aload_n 0, 1) := by decide +kernel
theorem dX1_find_29 : decode cX1_find 29 = .ok (.getfield 7, 3) := by decide +kernel
theorem dX1_find_32 : decode cX1_find 32 = .ok (.iload 4, 2) := by decide +kernel
theorem dX1_find_34 : decode cX1_find 34 = .ok (.laload, 1) := by decide +kernel
theorem dX1_find_35 : decode cX1_find 35 = .ok (.lload_n 2, 1) := by decide +kernel
theorem dX1_find_36 : decode cX1_find 36 = .ok (.lcmp, 1) := by decide +kernel
theorem dX1_find_37 : decode cX1_find 37 = .ok (.ifCond .ne 8, 3) := by decide +kernel
theorem dX1_find_40 : decode cX1_find 40 = .ok (.iload 4, 2) := by decide +kernel
theorem dX1_find_42 : decode cX1_find 42 = .ok (.goto 4, 3) := by decide +kernel
theorem dX1_find_45 : decode cX1_find 45 = .ok (.iconst (-1), 1) := by decide +kernel
theorem dX1_find_46 : decode cX1_find 46 = .ok (.ireturn, 1) := by decide +kernel
abbrev cX1_from : ByteArray := prog_3_method_3_code
def yX1_from : MethodName := ⟨RX1, "from", "(IJ)I"⟩
theorem dX1_from_0 : decode cX1_from 0 = .ok (.iconst 0, 1) := by decide +kernel
theorem dX1_from_1 : decode cX1_from 1 = .ok (.istore 4, 2) := by decide +kernel
theorem dX1_from_3 : decode cX1_from 3 = .ok (.aload_n 0, 1) := by decide +kernel
theorem dX1_from_4 : decode cX1_from 4 = .ok (.getfield 20, 3) := by decide +kernel
theorem dX1_from_7 : decode cX1_from 7 = .ok (.istore 5, 2) := by decide +kernel
theorem dX1_from_9 : decode cX1_from 9 = .ok (.iload 4, 2) := by decide +kernel
theorem dX1_from_11 : decode cX1_from 11 = .ok (.iload 5, 2) := by decide +kernel
theorem dX1_from_13 : decode cX1_from 13 = .ok (.if_icmp .ge 39, 3) := by decide +kernel
theorem dX1_from_16 : decode cX1_from 16 = .ok (.iload 4, 2) := by decide +kernel
theorem dX1_from_18 : decode cX1_from 18 = .ok (.iload 5, 2) := by decide +kernel
theorem dX1_from_20 : decode cX1_from 20 = .ok (.iadd, 1) := by decide +kernel
theorem dX1_from_21 : decode cX1_from 21 = .ok (.iconst 2, 1) := by decide +kernel
theorem dX1_from_22 : decode cX1_from 22 = .ok (.idiv, 1) := by decide +kernel
theorem dX1_from_23 : decode cX1_from 23 = .ok (.istore 6, 2) := by decide +kernel
theorem dX1_from_25 : decode cX1_from 25 = .ok (.aload_n 0, 1) := by decide +kernel
theorem dX1_from_26 : decode cX1_from 26 = .ok (.iload 6, 2) := by decide +kernel
theorem dX1_from_28 : decode cX1_from 28 = .ok (.iload_n 1, 1) := by decide +kernel
theorem dX1_from_29 : decode cX1_from 29 = .ok (.lload_n 2, 1) := by decide +kernel
theorem dX1_from_30 : decode cX1_from 30 = .ok (.invokevirtual 24, 3) := by decide +kernel
theorem dX1_from_33 : decode cX1_from 33 = .ok (.ifCond .eq 12, 3) := by decide +kernel
theorem dX1_from_36 : decode cX1_from 36 = .ok (.iload 6, 2) := by decide +kernel
theorem dX1_from_38 : decode cX1_from 38 = .ok (.iconst 1, 1) := by decide +kernel
theorem dX1_from_39 : decode cX1_from 39 = .ok (.iadd, 1) := by decide +kernel
theorem dX1_from_40 : decode cX1_from 40 = .ok (.istore 4, 2) := by decide +kernel
theorem dX1_from_42 : decode cX1_from 42 = .ok (.goto 7, 3) := by decide +kernel
theorem dX1_from_45 : decode cX1_from 45 = .ok (.iload 6, 2) := by decide +kernel
theorem dX1_from_47 : decode cX1_from 47 = .ok (.istore 5, 2) := by decide +kernel
theorem dX1_from_49 : decode cX1_from 49 = .ok (.goto (-40), 3) := by decide +kernel
theorem dX1_from_52 : decode cX1_from 52 = .ok (.iload 4, 2) := by decide +kernel
theorem dX1_from_54 : decode cX1_from 54 = .ok (.ireturn, 1) := by decide +kernel
abbrev cX1_isBefore : ByteArray := prog_3_method_2_code
def yX1_isBefore : MethodName := ⟨RX1, "isBefore", "(IIJ)Z"⟩
theorem dX1_isBefore_0 : decode cX1_isBefore 0 = .ok (.aload_n 0, 1) := by decide +kernel
theorem dX1_isBefore_1 : decode cX1_isBefore 1 = .ok (.getfield 13, 3) := by decide +kernel
theorem dX1_isBefore_4 : decode cX1_isBefore 4 = .ok (.iload_n 1, 1) := by decide +kernel
theorem dX1_isBefore_5 : decode cX1_isBefore 5 = .ok (.iaload, 1) := by decide +kernel
theorem dX1_isBefore_6 : decode cX1_isBefore 6 = .ok (.iload_n 2, 1) := by decide +kernel
theorem dX1_isBefore_7 : decode cX1_isBefore 7 = .ok (.if_icmp .lt 24, 3) := by decide +kernel
theorem dX1_isBefore_10 : decode cX1_isBefore 10 = .ok (.aload_n 0, 1) := by decide +kernel
theorem dX1_isBefore_11 : decode cX1_isBefore 11 = .ok (.getfield 13, 3) := by decide +kernel
theorem dX1_isBefore_14 : decode cX1_isBefore 14 = .ok (.iload_n 1, 1) := by decide +kernel
theorem dX1_isBefore_15 : decode cX1_isBefore 15 = .ok (.iaload, 1) := by decide +kernel
theorem dX1_isBefore_16 : decode cX1_isBefore 16 = .ok (.iload_n 2, 1) := by decide +kernel
theorem dX1_isBefore_17 : decode cX1_isBefore 17 = .ok (.if_icmp .ne 18, 3) := by decide +kernel
theorem dX1_isBefore_20 : decode cX1_isBefore 20 = .ok (.aload_n 0, 1) := by decide +kernel
theorem dX1_isBefore_21 : decode cX1_isBefore 21 = .ok (.getfield 7, 3) := by decide +kernel
theorem dX1_isBefore_24 : decode cX1_isBefore 24 = .ok (.iload_n 1, 1) := by decide +kernel
theorem dX1_isBefore_25 : decode cX1_isBefore 25 = .ok (.laload, 1) := by decide +kernel
theorem dX1_isBefore_26 : decode cX1_isBefore 26 = .ok (.lload_n 3, 1) := by decide +kernel
theorem dX1_isBefore_27 : decode cX1_isBefore 27 = .ok (.lcmp, 1) := by decide +kernel
theorem dX1_isBefore_28 : decode cX1_isBefore 28 = .ok (.ifCond .ge 7, 3) := by decide +kernel
theorem dX1_isBefore_31 : decode cX1_isBefore 31 = .ok (.iconst 1, 1) := by decide +kernel
theorem dX1_isBefore_32 : decode cX1_isBefore 32 = .ok (.goto 4, 3) := by decide +kernel
theorem dX1_isBefore_35 : decode cX1_isBefore 35 = .ok (.iconst 0, 1) := by decide +kernel
theorem dX1_isBefore_36 : decode cX1_isBefore 36 = .ok (.ireturn, 1) := by decide +kernel
abbrev cX1_number : ByteArray := prog_3_method_7_code
def yX1_number : MethodName := ⟨RX1, "number", "(I)J"⟩
theorem dX1_number_0 : decode cX1_number 0 = .ok (.aload_n 0, 1) := by decide +kernel
theorem dX1_number_1 : decode cX1_number 1 = .ok (.getfield 17, 3) := by decide +kernel
theorem dX1_number_4 : decode cX1_number 4 = .ok (.iload_n 1, 1) := by decide +kernel
theorem dX1_number_5 : decode cX1_number 5 = .ok (.laload, 1) := by decide +kernel
theorem dX1_number_6 : decode cX1_number 6 = .ok (.lreturn, 1) := by decide +kernel
abbrev cX1_set : ByteArray := prog_3_method_8_code
def yX1_set : MethodName := ⟨RX1, "set", "(IJ)V"⟩
theorem dX1_set_0 : decode cX1_set 0 = .ok (.aload_n 0, 1) := by decide +kernel
theorem dX1_set_1 : decode cX1_set 1 = .ok (.getfield 17, 3) := by decide +kernel
theorem dX1_set_4 : decode cX1_set 4 = .ok (.iload_n 1, 1) := by decide +kernel
theorem dX1_set_5 : decode cX1_set 5 = .ok (.lload_n 2, 1) := by decide +kernel
theorem dX1_set_6 : decode cX1_set 6 = .ok (.lastore, 1) := by decide +kernel
theorem dX1_set_7 : decode cX1_set 7 = .ok (.return_, 1) := by decide +kernel
abbrev cX1_insert : ByteArray := prog_3_method_10_code
def yX1_insert : MethodName := ⟨RX1, "insert", "(IJJ)V"⟩
theorem dX1_insert_0 : decode cX1_insert 0 = .ok (.aload_n 0, 1) := by decide +kernel
theorem dX1_insert_1 : decode cX1_insert 1 = .ok (.getfield 20, 3) := by decide +kernel
theorem dX1_insert_4 : decode cX1_insert 4 = .ok (.aload_n 0, 1) := by decide +kernel
theorem dX1_insert_5 : decode cX1_insert 5 = .ok (.getfield 7, 3) := by decide +kernel
theorem dX1_insert_8 : decode cX1_insert 8 = .ok (.arraylength, 1) := by decide +kernel
theorem dX1_insert_9 : decode cX1_insert 9 = .ok (.if_icmp .ne 7, 3) := by decide +kernel
theorem dX1_insert_12 : decode cX1_insert 12 = .ok (.aload_n 0, 1) := by decide +kernel
theorem dX1_insert_13 : decode cX1_insert 13 = .ok (.invokevirtual 32, 3) := by decide +kernel
theorem dX1_insert_16 : decode cX1_insert 16 = .ok (.aload_n 0, 1) := by decide +kernel
theorem dX1_insert_17 : decode cX1_insert 17 = .ok (.iload_n 1, 1) := by decide +kernel
theorem dX1_insert_18 : decode cX1_insert 18 = .ok (.lload_n 2, 1) := by decide +kernel
theorem dX1_insert_19 : decode cX1_insert 19 = .ok (.invokevirtual 28, 3) := by decide +kernel
theorem dX1_insert_22 : decode cX1_insert 22 = .ok (.istore 6, 2) := by decide +kernel
theorem dX1_insert_24 : decode cX1_insert 24 = .ok (.aload_n 0, 1) := by decide +kernel
theorem dX1_insert_25 : decode cX1_insert 25 = .ok (.getfield 20, 3) := by decide +kernel
theorem dX1_insert_28 : decode cX1_insert 28 = .ok (.istore 7, 2) := by decide +kernel
theorem dX1_insert_30 : decode cX1_insert 30 = .ok (.iload 7, 2) := by decide +kernel
theorem dX1_insert_32 : decode cX1_insert 32 = .ok (.iload 6, 2) := by decide +kernel
theorem dX1_insert_34 : decode cX1_insert 34 = .ok (.if_icmp .le 57, 3) := by decide +kernel
theorem dX1_insert_37 : decode cX1_insert 37 = .ok (.aload_n 0, 1) := by decide +kernel
theorem dX1_insert_38 : decode cX1_insert 38 = .ok (.getfield 7, 3) := by decide +kernel
theorem dX1_insert_41 : decode cX1_insert 41 = .ok (.iload 7, 2) := by decide +kernel
theorem dX1_insert_43 : decode cX1_insert 43 = .ok (.aload_n 0, 1) := by decide +kernel
theorem dX1_insert_44 : decode cX1_insert 44 = .ok (.getfield 7, 3) := by decide +kernel
theorem dX1_insert_47 : decode cX1_insert 47 = .ok (.iload 7, 2) := by decide +kernel
theorem dX1_insert_49 : decode cX1_insert 49 = .ok (.iconst 1, 1) := by decide +kernel
theorem dX1_insert_50 : decode cX1_insert 50 = .ok (.isub, 1) := by decide +kernel
theorem dX1_insert_51 : decode cX1_insert 51 = .ok (.laload, 1) := by decide +kernel
theorem dX1_insert_52 : decode cX1_insert 52 = .ok (.lastore, 1) := by decide +kernel
theorem dX1_insert_53 : decode cX1_insert 53 = .ok (.aload_n 0, 1) := by decide +kernel
theorem dX1_insert_54 : decode cX1_insert 54 = .ok (.getfield 13, 3) := by decide +kernel
theorem dX1_insert_57 : decode cX1_insert 57 = .ok (.iload 7, 2) := by decide +kernel
theorem dX1_insert_59 : decode cX1_insert 59 = .ok (.aload_n 0, 1) := by decide +kernel
theorem dX1_insert_60 : decode cX1_insert 60 = .ok (.getfield 13, 3) := by decide +kernel
theorem dX1_insert_63 : decode cX1_insert 63 = .ok (.iload 7, 2) := by decide +kernel
theorem dX1_insert_65 : decode cX1_insert 65 = .ok (.iconst 1, 1) := by decide +kernel
theorem dX1_insert_66 : decode cX1_insert 66 = .ok (.isub, 1) := by decide +kernel
theorem dX1_insert_67 : decode cX1_insert 67 = .ok (.iaload, 1) := by decide +kernel
theorem dX1_insert_68 : decode cX1_insert 68 = .ok (.iastore, 1) := by decide +kernel
theorem dX1_insert_69 : decode cX1_insert 69 = .ok (.aload_n 0, 1) := by decide +kernel
theorem dX1_insert_70 : decode cX1_insert 70 = .ok (.getfield 17, 3) := by decide +kernel
theorem dX1_insert_73 : decode cX1_insert 73 = .ok (.iload 7, 2) := by decide +kernel
theorem dX1_insert_75 : decode cX1_insert 75 = .ok (.aload_n 0, 1) := by decide +kernel
theorem dX1_insert_76 : decode cX1_insert 76 = .ok (.getfield 17, 3) := by decide +kernel
theorem dX1_insert_79 : decode cX1_insert 79 = .ok (.iload 7, 2) := by decide +kernel
theorem dX1_insert_81 : decode cX1_insert 81 = .ok (.iconst 1, 1) := by decide +kernel
theorem dX1_insert_82 : decode cX1_insert 82 = .ok (.isub, 1) := by decide +kernel
theorem dX1_insert_83 : decode cX1_insert 83 = .ok (.laload, 1) := by decide +kernel
theorem dX1_insert_84 : decode cX1_insert 84 = .ok (.lastore, 1) := by decide +kernel
theorem dX1_insert_85 : decode cX1_insert 85 = .ok (.iinc 7 (-1), 3) := by decide +kernel
theorem dX1_insert_88 : decode cX1_insert 88 = .ok (.goto (-58), 3) := by decide +kernel
theorem dX1_insert_91 : decode cX1_insert 91 = .ok (.aload_n 0, 1) := by decide +kernel
theorem dX1_insert_92 : decode cX1_insert 92 = .ok (.getfield 7, 3) := by decide +kernel
theorem dX1_insert_95 : decode cX1_insert 95 = .ok (.iload 6, 2) := by decide +kernel
theorem dX1_insert_97 : decode cX1_insert 97 = .ok (.lload_n 2, 1) := by decide +kernel
theorem dX1_insert_98 : decode cX1_insert 98 = .ok (.lastore, 1) := by decide +kernel
theorem dX1_insert_99 : decode cX1_insert 99 = .ok (.aload_n 0, 1) := by decide +kernel
theorem dX1_insert_100 : decode cX1_insert 100 = .ok (.getfield 13, 3) := by decide +kernel
theorem dX1_insert_103 : decode cX1_insert 103 = .ok (.iload 6, 2) := by decide +kernel
theorem dX1_insert_105 : decode cX1_insert 105 = .ok (.iload_n 1, 1) := by decide +kernel
theorem dX1_insert_106 : decode cX1_insert 106 = .ok (.iastore, 1) := by decide +kernel
theorem dX1_insert_107 : decode cX1_insert 107 = .ok (.aload_n 0, 1) := by decide +kernel
theorem dX1_insert_108 : decode cX1_insert 108 = .ok (.getfield 17, 3) := by decide +kernel
theorem dX1_insert_111 : decode cX1_insert 111 = .ok (.iload 6, 2) := by decide +kernel
theorem dX1_insert_113 : decode cX1_insert 113 = .ok (.lload 4, 2) := by decide +kernel
theorem dX1_insert_115 : decode cX1_insert 115 = .ok (.lastore, 1) := by decide +kernel
theorem dX1_insert_116 : decode cX1_insert 116 = .ok (.aload_n 0, 1) := by decide +kernel
theorem dX1_insert_117 : decode cX1_insert 117 = .ok (.dup, 1) := by decide +kernel
theorem dX1_insert_118 : decode cX1_insert 118 = .ok (.getfield 20, 3) := by decide +kernel
theorem dX1_insert_121 : decode cX1_insert 121 = .ok (.iconst 1, 1) := by decide +kernel
theorem dX1_insert_122 : decode cX1_insert 122 = .ok (.iadd, 1) := by decide +kernel
theorem dX1_insert_123 : decode cX1_insert 123 = .ok (.putfield 20, 3) := by decide +kernel
theorem dX1_insert_126 : decode cX1_insert 126 = .ok (.return_, 1) := by decide +kernel
abbrev cX1_grow : ByteArray := prog_3_method_9_code
def yX1_grow : MethodName := ⟨RX1, "grow", "()V"⟩
theorem dX1_grow_0 : decode cX1_grow 0 = .ok (.iconst 2, 1) := by decide +kernel
theorem dX1_grow_1 : decode cX1_grow 1 = .ok (.aload_n 0, 1) := by decide +kernel
theorem dX1_grow_2 : decode cX1_grow 2 = .ok (.getfield 20, 3) := by decide +kernel
theorem dX1_grow_5 : decode cX1_grow 5 = .ok (.imul, 1) := by decide +kernel
theorem dX1_grow_6 : decode cX1_grow 6 = .ok (.newarray .long, 2) := by decide +kernel
theorem dX1_grow_8 : decode cX1_grow 8 = .ok (.astore_n 1, 1) := by decide +kernel
theorem dX1_grow_9 : decode cX1_grow 9 = .ok (.iconst 2, 1) := by decide +kernel
theorem dX1_grow_10 : decode cX1_grow 10 = .ok (.aload_n 0, 1) := by decide +kernel
theorem dX1_grow_11 : decode cX1_grow 11 = .ok (.getfield 20, 3) := by decide +kernel
theorem dX1_grow_14 : decode cX1_grow 14 = .ok (.imul, 1) := by decide +kernel
theorem dX1_grow_15 : decode cX1_grow 15 = .ok (.newarray .int, 2) := by decide +kernel
theorem dX1_grow_17 : decode cX1_grow 17 = .ok (.astore_n 2, 1) := by decide +kernel
theorem dX1_grow_18 : decode cX1_grow 18 = .ok (.iconst 2, 1) := by decide +kernel
theorem dX1_grow_19 : decode cX1_grow 19 = .ok (.aload_n 0, 1) := by decide +kernel
theorem dX1_grow_20 : decode cX1_grow 20 = .ok (.getfield 20, 3) := by decide +kernel
theorem dX1_grow_23 : decode cX1_grow 23 = .ok (.imul, 1) := by decide +kernel
theorem dX1_grow_24 : decode cX1_grow 24 = .ok (.newarray .long, 2) := by decide +kernel
theorem dX1_grow_26 : decode cX1_grow 26 = .ok (.astore_n 3, 1) := by decide +kernel
theorem dX1_grow_27 : decode cX1_grow 27 = .ok (.iconst 0, 1) := by decide +kernel
theorem dX1_grow_28 : decode cX1_grow 28 = .ok (.istore 4, 2) := by decide +kernel
theorem dX1_grow_30 : decode cX1_grow 30 = .ok (.iload 4, 2) := by decide +kernel
theorem dX1_grow_32 : decode cX1_grow 32 = .ok (.aload_n 0, 1) := by decide +kernel
theorem dX1_grow_33 : decode cX1_grow 33 = .ok (.getfield 20, 3) := by decide +kernel
theorem dX1_grow_36 : decode cX1_grow 36 = .ok (.if_icmp .ge 42, 3) := by decide +kernel
theorem dX1_grow_39 : decode cX1_grow 39 = .ok (.aload_n 1, 1) := by decide +kernel
theorem dX1_grow_40 : decode cX1_grow 40 = .ok (.iload 4, 2) := by decide +kernel
theorem dX1_grow_42 : decode cX1_grow 42 = .ok (.aload_n 0, 1) := by decide +kernel
theorem dX1_grow_43 : decode cX1_grow 43 = .ok (.getfield 7, 3) := by decide +kernel
theorem dX1_grow_46 : decode cX1_grow 46 = .ok (.iload 4, 2) := by decide +kernel
theorem dX1_grow_48 : decode cX1_grow 48 = .ok (.laload, 1) := by decide +kernel
theorem dX1_grow_49 : decode cX1_grow 49 = .ok (.lastore, 1) := by decide +kernel
theorem dX1_grow_50 : decode cX1_grow 50 = .ok (.aload_n 2, 1) := by decide +kernel
theorem dX1_grow_51 : decode cX1_grow 51 = .ok (.iload 4, 2) := by decide +kernel
theorem dX1_grow_53 : decode cX1_grow 53 = .ok (.aload_n 0, 1) := by decide +kernel
theorem dX1_grow_54 : decode cX1_grow 54 = .ok (.getfield 13, 3) := by decide +kernel
theorem dX1_grow_57 : decode cX1_grow 57 = .ok (.iload 4, 2) := by decide +kernel
theorem dX1_grow_59 : decode cX1_grow 59 = .ok (.iaload, 1) := by decide +kernel
theorem dX1_grow_60 : decode cX1_grow 60 = .ok (.iastore, 1) := by decide +kernel
theorem dX1_grow_61 : decode cX1_grow 61 = .ok (.aload_n 3, 1) := by decide +kernel
theorem dX1_grow_62 : decode cX1_grow 62 = .ok (.iload 4, 2) := by decide +kernel
theorem dX1_grow_64 : decode cX1_grow 64 = .ok (.aload_n 0, 1) := by decide +kernel
theorem dX1_grow_65 : decode cX1_grow 65 = .ok (.getfield 17, 3) := by decide +kernel
theorem dX1_grow_68 : decode cX1_grow 68 = .ok (.iload 4, 2) := by decide +kernel
theorem dX1_grow_70 : decode cX1_grow 70 = .ok (.laload, 1) := by decide +kernel
theorem dX1_grow_71 : decode cX1_grow 71 = .ok (.lastore, 1) := by decide +kernel
theorem dX1_grow_72 : decode cX1_grow 72 = .ok (.iinc 4 1, 3) := by decide +kernel
theorem dX1_grow_75 : decode cX1_grow 75 = .ok (.goto (-45), 3) := by decide +kernel
theorem dX1_grow_78 : decode cX1_grow 78 = .ok (.aload_n 0, 1) := by decide +kernel
theorem dX1_grow_79 : decode cX1_grow 79 = .ok (.aload_n 1, 1) := by decide +kernel
theorem dX1_grow_80 : decode cX1_grow 80 = .ok (.putfield 7, 3) := by decide +kernel
theorem dX1_grow_83 : decode cX1_grow 83 = .ok (.aload_n 0, 1) := by decide +kernel
theorem dX1_grow_84 : decode cX1_grow 84 = .ok (.aload_n 2, 1) := by decide +kernel
theorem dX1_grow_85 : decode cX1_grow 85 = .ok (.putfield 13, 3) := by decide +kernel
theorem dX1_grow_88 : decode cX1_grow 88 = .ok (.aload_n 0, 1) := by decide +kernel
theorem dX1_grow_89 : decode cX1_grow 89 = .ok (.aload_n 3, 1) := by decide +kernel
theorem dX1_grow_90 : decode cX1_grow 90 = .ok (.putfield 17, 3) := by decide +kernel
theorem dX1_grow_93 : decode cX1_grow 93 = .ok (.return_, 1) := by decide +kernel
abbrev cX1_span : ByteArray := prog_3_method_6_code
def yX1_span : MethodName := ⟨RX1, "span", "(I)I"⟩
theorem dX1_span_0 : decode cX1_span 0 = .ok (.aload_n 0, 1) := by decide +kernel
theorem dX1_span_1 : decode cX1_span 1 = .ok (.getfield 13, 3) := by decide +kernel
theorem dX1_span_4 : decode cX1_span 4 = .ok (.iload_n 1, 1) := by decide +kernel
theorem dX1_span_5 : decode cX1_span 5 = .ok (.iaload, 1) := by decide +kernel
theorem dX1_span_6 : decode cX1_span 6 = .ok (.ireturn, 1) := by decide +kernel
abbrev cX1_key : ByteArray := prog_3_method_5_code
def yX1_key : MethodName := ⟨RX1, "key", "(I)J"⟩
theorem dX1_key_0 : decode cX1_key 0 = .ok (.aload_n 0, 1) := by decide +kernel
theorem dX1_key_1 : decode cX1_key 1 = .ok (.getfield 7, 3) := by decide +kernel
theorem dX1_key_4 : decode cX1_key 4 = .ok (.iload_n 1, 1) := by decide +kernel
theorem dX1_key_5 : decode cX1_key 5 = .ok (.laload, 1) := by decide +kernel
theorem dX1_key_6 : decode cX1_key 6 = .ok (.lreturn, 1) := by decide +kernel
abbrev cX1_shift : ByteArray := prog_3_method_11_code
def yX1_shift : MethodName := ⟨RX1, "shift", "()V"⟩
theorem dX1_shift_0 : decode cX1_shift 0 = .ok (.aload_n 0, 1) := by decide +kernel
theorem dX1_shift_1 : decode cX1_shift 1 = .ok (.dup, 1) := by decide +kernel
theorem dX1_shift_2 : decode cX1_shift 2 = .ok (.getfield 20, 3) := by decide +kernel
theorem dX1_shift_5 : decode cX1_shift 5 = .ok (.iconst 1, 1) := by decide +kernel
theorem dX1_shift_6 : decode cX1_shift 6 = .ok (.isub, 1) := by decide +kernel
theorem dX1_shift_7 : decode cX1_shift 7 = .ok (.putfield 20, 3) := by decide +kernel
theorem dX1_shift_10 : decode cX1_shift 10 = .ok (.iconst 0, 1) := by decide +kernel
theorem dX1_shift_11 : decode cX1_shift 11 = .ok (.istore_n 1, 1) := by decide +kernel
theorem dX1_shift_12 : decode cX1_shift 12 = .ok (.iload_n 1, 1) := by decide +kernel
theorem dX1_shift_13 : decode cX1_shift 13 = .ok (.aload_n 0, 1) := by decide +kernel
theorem dX1_shift_14 : decode cX1_shift 14 = .ok (.getfield 20, 3) := by decide +kernel
theorem dX1_shift_17 : decode cX1_shift 17 = .ok (.if_icmp .ge 51, 3) := by decide +kernel
theorem dX1_shift_20 : decode cX1_shift 20 = .ok (.aload_n 0, 1) := by decide +kernel
theorem dX1_shift_21 : decode cX1_shift 21 = .ok (.getfield 7, 3) := by decide +kernel
theorem dX1_shift_24 : decode cX1_shift 24 = .ok (.iload_n 1, 1) := by decide +kernel
theorem dX1_shift_25 : decode cX1_shift 25 = .ok (.aload_n 0, 1) := by decide +kernel
theorem dX1_shift_26 : decode cX1_shift 26 = .ok (.getfield 7, 3) := by decide +kernel
theorem dX1_shift_29 : decode cX1_shift 29 = .ok (.iload_n 1, 1) := by decide +kernel
theorem dX1_shift_30 : decode cX1_shift 30 = .ok (.iconst 1, 1) := by decide +kernel
theorem dX1_shift_31 : decode cX1_shift 31 = .ok (.iadd, 1) := by decide +kernel
theorem dX1_shift_32 : decode cX1_shift 32 = .ok (.laload, 1) := by decide +kernel
theorem dX1_shift_33 : decode cX1_shift 33 = .ok (.lastore, 1) := by decide +kernel
theorem dX1_shift_34 : decode cX1_shift 34 = .ok (.aload_n 0, 1) := by decide +kernel
theorem dX1_shift_35 : decode cX1_shift 35 = .ok (.getfield 13, 3) := by decide +kernel
theorem dX1_shift_38 : decode cX1_shift 38 = .ok (.iload_n 1, 1) := by decide +kernel
theorem dX1_shift_39 : decode cX1_shift 39 = .ok (.aload_n 0, 1) := by decide +kernel
theorem dX1_shift_40 : decode cX1_shift 40 = .ok (.getfield 13, 3) := by decide +kernel
theorem dX1_shift_43 : decode cX1_shift 43 = .ok (.iload_n 1, 1) := by decide +kernel
theorem dX1_shift_44 : decode cX1_shift 44 = .ok (.iconst 1, 1) := by decide +kernel
theorem dX1_shift_45 : decode cX1_shift 45 = .ok (.iadd, 1) := by decide +kernel
theorem dX1_shift_46 : decode cX1_shift 46 = .ok (.iaload, 1) := by decide +kernel
theorem dX1_shift_47 : decode cX1_shift 47 = .ok (.iastore, 1) := by decide +kernel
theorem dX1_shift_48 : decode cX1_shift 48 = .ok (.aload_n 0, 1) := by decide +kernel
theorem dX1_shift_49 : decode cX1_shift 49 = .ok (.getfield 17, 3) := by decide +kernel
theorem dX1_shift_52 : decode cX1_shift 52 = .ok (.iload_n 1, 1) := by decide +kernel
theorem dX1_shift_53 : decode cX1_shift 53 = .ok (.aload_n 0, 1) := by decide +kernel
theorem dX1_shift_54 : decode cX1_shift 54 = .ok (.getfield 17, 3) := by decide +kernel
theorem dX1_shift_57 : decode cX1_shift 57 = .ok (.iload_n 1, 1) := by decide +kernel
theorem dX1_shift_58 : decode cX1_shift 58 = .ok (.iconst 1, 1) := by decide +kernel
theorem dX1_shift_59 : decode cX1_shift 59 = .ok (.iadd, 1) := by decide +kernel
theorem dX1_shift_60 : decode cX1_shift 60 = .ok (.laload, 1) := by decide +kernel
theorem dX1_shift_61 : decode cX1_shift 61 = .ok (.lastore, 1) := by decide +kernel
theorem dX1_shift_62 : decode cX1_shift 62 = .ok (.iinc 1 1, 3) := by decide +kernel
theorem dX1_shift_65 : decode cX1_shift 65 = .ok (.goto (-53), 3) := by decide +kernel
theorem dX1_shift_68 : decode cX1_shift 68 = .ok (.return_, 1) := by decide +kernel
theorem q12 : (Jvm.Cond.initialized "SpanJobs$Spans") ∈ lw_all := lw_g (lw_at lw_m1 2 rfl) rfl
theorem q25 : (Jvm.Cond.instantiable "SpanJobs$Spans" (4 : Nat)) ∈ lw_all := lw_g (lw_at lw_m1 15 rfl) rfl
theorem q27 : (Jvm.Cond.instanceMethod ({ cls := "SpanJobs$Spans", name := "<init>", desc := "()V" } : Jvm.MethodName)) ∈ lw_all := lw_g (lw_at lw_m1 17 rfl) rfl
theorem q28 : (Jvm.Cond.code ({ cls := "SpanJobs$Spans", name := "<init>", desc := "()V" } : Jvm.MethodName) prog_3_method_1_code (1 : Nat) (Option.none : Option Jvm.ClassFile.FieldType)) ∈ lw_all := lw_g (lw_at lw_m1 18 rfl) rfl
theorem q29 : (Jvm.Cond.methodLink "SpanJobs$Spans" (1 : Nat) ({ cls := "java/lang/Object", name := "<init>", desc := "()V" } : Jvm.MethodName)) ∈ lw_all := lw_g (lw_at lw_m1 19 rfl) rfl
theorem q30 : (Jvm.Cond.fieldLink "SpanJobs$Spans" (7 : Nat) "SpanJobs$Spans" "keys" "[J") ∈ lw_all := lw_g (lw_at lw_m1 20 rfl) rfl
theorem q31 : (Jvm.Cond.fieldLink "SpanJobs$Spans" (13 : Nat) "SpanJobs$Spans" "spans" "[I") ∈ lw_all := lw_g (lw_at lw_m1 21 rfl) rfl
theorem q32 : (Jvm.Cond.fieldLink "SpanJobs$Spans" (17 : Nat) "SpanJobs$Spans" "numbers" "[J") ∈ lw_all := lw_g (lw_at lw_m1 22 rfl) rfl
theorem q34 : (Jvm.Cond.fieldLink "SpanJobs$Spans" (20 : Nat) "SpanJobs$Spans" "size" "I") ∈ lw_all := lw_g (lw_at lw_m1 24 rfl) rfl
theorem q35 : (Jvm.Cond.lays "SpanJobs$Spans" "SpanJobs$Spans" "keys" "[J") ∈ lw_all := lw_g (lw_at lw_m1 25 rfl) rfl
theorem q36 : (Jvm.Cond.soleField "SpanJobs$Spans" "keys") ∈ lw_all := lw_g (lw_at lw_m1 26 rfl) rfl
theorem q37 : (Jvm.Cond.lays "SpanJobs$Spans" "SpanJobs$Spans" "spans" "[I") ∈ lw_all := lw_g (lw_at lw_m1 27 rfl) rfl
theorem q38 : (Jvm.Cond.soleField "SpanJobs$Spans" "spans") ∈ lw_all := lw_g (lw_at lw_m1 28 rfl) rfl
theorem q39 : (Jvm.Cond.lays "SpanJobs$Spans" "SpanJobs$Spans" "numbers" "[J") ∈ lw_all := lw_g (lw_at lw_m1 29 rfl) rfl
theorem q40 : (Jvm.Cond.soleField "SpanJobs$Spans" "numbers") ∈ lw_all := lw_g (lw_at lw_m1 30 rfl) rfl
theorem q41 : (Jvm.Cond.lays "SpanJobs$Spans" "SpanJobs$Spans" "size" "I") ∈ lw_all := lw_g (lw_at lw_m1 31 rfl) rfl
theorem q42 : (Jvm.Cond.soleField "SpanJobs$Spans" "size") ∈ lw_all := lw_g (lw_at lw_m1 32 rfl) rfl
theorem q43 : (Jvm.Cond.superclass "SpanJobs$Spans" "java/lang/Object") ∈ lw_all := lw_g (lw_at lw_m1 33 rfl) rfl
theorem q110 : (Jvm.Cond.instanceMethod ({ cls := "SpanJobs$Spans", name := "find", desc := "(IJ)I" } : Jvm.MethodName)) ∈ lw_all := lw_g (lw_at lw_m1 100 rfl) rfl
theorem q111 : (Jvm.Cond.selects "SpanJobs$Spans" ({ cls := "SpanJobs$Spans", name := "find", desc := "(IJ)I" } : Jvm.MethodName) ({ cls := "SpanJobs$Spans", name := "find", desc := "(IJ)I" } : Jvm.MethodName)) ∈ lw_all := lw_g (lw_at lw_m1 101 rfl) rfl
theorem q112 : (Jvm.Cond.code ({ cls := "SpanJobs$Spans", name := "find", desc := "(IJ)I" } : Jvm.MethodName) prog_3_method_4_code (5 : Nat) (Option.some Jvm.ClassFile.FieldType.int)) ∈ lw_all := lw_g (lw_at lw_m1 102 rfl) rfl
theorem q113 : (Jvm.Cond.methodLink "SpanJobs$Spans" (28 : Nat) ({ cls := "SpanJobs$Spans", name := "from", desc := "(IJ)I" } : Jvm.MethodName)) ∈ lw_all := lw_g (lw_at lw_m1 103 rfl) rfl
theorem q114 : (Jvm.Cond.privateMethod ({ cls := "SpanJobs$Spans", name := "from", desc := "(IJ)I" } : Jvm.MethodName)) ∈ lw_tbl := lw_at lw_m1 104 rfl
theorem q115 : (Jvm.Cond.instanceMethod ({ cls := "SpanJobs$Spans", name := "from", desc := "(IJ)I" } : Jvm.MethodName)) ∈ lw_all := lw_g (lw_at lw_m1 105 rfl) rfl
theorem q116 : (Jvm.Cond.code ({ cls := "SpanJobs$Spans", name := "from", desc := "(IJ)I" } : Jvm.MethodName) prog_3_method_3_code (7 : Nat) (Option.some Jvm.ClassFile.FieldType.int)) ∈ lw_all := lw_g (lw_at lw_m1 106 rfl) rfl
theorem q117 : (Jvm.Cond.methodLink "SpanJobs$Spans" (24 : Nat) ({ cls := "SpanJobs$Spans", name := "isBefore", desc := "(IIJ)Z" } : Jvm.MethodName)) ∈ lw_all := lw_g (lw_at lw_m1 107 rfl) rfl
theorem q118 : (Jvm.Cond.privateMethod ({ cls := "SpanJobs$Spans", name := "isBefore", desc := "(IIJ)Z" } : Jvm.MethodName)) ∈ lw_tbl := lw_at lw_m1 108 rfl
theorem q119 : (Jvm.Cond.instanceMethod ({ cls := "SpanJobs$Spans", name := "isBefore", desc := "(IIJ)Z" } : Jvm.MethodName)) ∈ lw_all := lw_g (lw_at lw_m1 109 rfl) rfl
theorem q120 : (Jvm.Cond.code ({ cls := "SpanJobs$Spans", name := "isBefore", desc := "(IIJ)Z" } : Jvm.MethodName) prog_3_method_2_code (5 : Nat) (Option.some Jvm.ClassFile.FieldType.boolean)) ∈ lw_all := lw_g (lw_at lw_m1 110 rfl) rfl
theorem q122 : (Jvm.Cond.instanceMethod ({ cls := "SpanJobs$Spans", name := "number", desc := "(I)J" } : Jvm.MethodName)) ∈ lw_all := lw_g (lw_at lw_m1 112 rfl) rfl
theorem q123 : (Jvm.Cond.selects "SpanJobs$Spans" ({ cls := "SpanJobs$Spans", name := "number", desc := "(I)J" } : Jvm.MethodName) ({ cls := "SpanJobs$Spans", name := "number", desc := "(I)J" } : Jvm.MethodName)) ∈ lw_all := lw_g (lw_at lw_m1 113 rfl) rfl
theorem q124 : (Jvm.Cond.code ({ cls := "SpanJobs$Spans", name := "number", desc := "(I)J" } : Jvm.MethodName) prog_3_method_7_code (2 : Nat) (Option.some Jvm.ClassFile.FieldType.long)) ∈ lw_all := lw_g (lw_at lw_m1 114 rfl) rfl
theorem q137 : (Jvm.Cond.instanceMethod ({ cls := "SpanJobs$Spans", name := "set", desc := "(IJ)V" } : Jvm.MethodName)) ∈ lw_all := lw_g (lw_at lw_m1 127 rfl) rfl
theorem q138 : (Jvm.Cond.selects "SpanJobs$Spans" ({ cls := "SpanJobs$Spans", name := "set", desc := "(IJ)V" } : Jvm.MethodName) ({ cls := "SpanJobs$Spans", name := "set", desc := "(IJ)V" } : Jvm.MethodName)) ∈ lw_all := lw_g (lw_at lw_m1 128 rfl) rfl
theorem q139 : (Jvm.Cond.code ({ cls := "SpanJobs$Spans", name := "set", desc := "(IJ)V" } : Jvm.MethodName) prog_3_method_8_code (4 : Nat) (Option.none : Option Jvm.ClassFile.FieldType)) ∈ lw_all := lw_g (lw_at lw_m1 129 rfl) rfl
theorem q141 : (Jvm.Cond.instanceMethod ({ cls := "SpanJobs$Spans", name := "insert", desc := "(IJJ)V" } : Jvm.MethodName)) ∈ lw_all := lw_g (lw_at lw_m1 131 rfl) rfl
theorem q142 : (Jvm.Cond.selects "SpanJobs$Spans" ({ cls := "SpanJobs$Spans", name := "insert", desc := "(IJJ)V" } : Jvm.MethodName) ({ cls := "SpanJobs$Spans", name := "insert", desc := "(IJJ)V" } : Jvm.MethodName)) ∈ lw_all := lw_g (lw_at lw_m1 132 rfl) rfl
theorem q143 : (Jvm.Cond.code ({ cls := "SpanJobs$Spans", name := "insert", desc := "(IJJ)V" } : Jvm.MethodName) prog_3_method_10_code (8 : Nat) (Option.none : Option Jvm.ClassFile.FieldType)) ∈ lw_all := lw_g (lw_at lw_m1 133 rfl) rfl
theorem q144 : (Jvm.Cond.methodLink "SpanJobs$Spans" (32 : Nat) ({ cls := "SpanJobs$Spans", name := "grow", desc := "()V" } : Jvm.MethodName)) ∈ lw_all := lw_g (lw_at lw_m1 134 rfl) rfl
theorem q145 : (Jvm.Cond.privateMethod ({ cls := "SpanJobs$Spans", name := "grow", desc := "()V" } : Jvm.MethodName)) ∈ lw_tbl := lw_at lw_m1 135 rfl
theorem q146 : (Jvm.Cond.instanceMethod ({ cls := "SpanJobs$Spans", name := "grow", desc := "()V" } : Jvm.MethodName)) ∈ lw_all := lw_g (lw_at lw_m1 136 rfl) rfl
theorem q147 : (Jvm.Cond.code ({ cls := "SpanJobs$Spans", name := "grow", desc := "()V" } : Jvm.MethodName) prog_3_method_9_code (5 : Nat) (Option.none : Option Jvm.ClassFile.FieldType)) ∈ lw_all := lw_g (lw_at lw_m1 137 rfl) rfl
theorem q152 : (Jvm.Cond.instanceMethod ({ cls := "SpanJobs$Spans", name := "span", desc := "(I)I" } : Jvm.MethodName)) ∈ lw_all := lw_g (lw_at lw_m1 142 rfl) rfl
theorem q153 : (Jvm.Cond.selects "SpanJobs$Spans" ({ cls := "SpanJobs$Spans", name := "span", desc := "(I)I" } : Jvm.MethodName) ({ cls := "SpanJobs$Spans", name := "span", desc := "(I)I" } : Jvm.MethodName)) ∈ lw_all := lw_g (lw_at lw_m1 143 rfl) rfl
theorem q154 : (Jvm.Cond.code ({ cls := "SpanJobs$Spans", name := "span", desc := "(I)I" } : Jvm.MethodName) prog_3_method_6_code (2 : Nat) (Option.some Jvm.ClassFile.FieldType.int)) ∈ lw_all := lw_g (lw_at lw_m1 144 rfl) rfl
theorem q156 : (Jvm.Cond.instanceMethod ({ cls := "SpanJobs$Spans", name := "key", desc := "(I)J" } : Jvm.MethodName)) ∈ lw_all := lw_g (lw_at lw_m1 146 rfl) rfl
theorem q157 : (Jvm.Cond.selects "SpanJobs$Spans" ({ cls := "SpanJobs$Spans", name := "key", desc := "(I)J" } : Jvm.MethodName) ({ cls := "SpanJobs$Spans", name := "key", desc := "(I)J" } : Jvm.MethodName)) ∈ lw_all := lw_g (lw_at lw_m1 147 rfl) rfl
theorem q158 : (Jvm.Cond.code ({ cls := "SpanJobs$Spans", name := "key", desc := "(I)J" } : Jvm.MethodName) prog_3_method_5_code (2 : Nat) (Option.some Jvm.ClassFile.FieldType.long)) ∈ lw_all := lw_g (lw_at lw_m1 148 rfl) rfl
theorem q168 : (Jvm.Cond.instanceMethod ({ cls := "SpanJobs$Spans", name := "shift", desc := "()V" } : Jvm.MethodName)) ∈ lw_all := lw_g (lw_at lw_m1 158 rfl) rfl
theorem q169 : (Jvm.Cond.selects "SpanJobs$Spans" ({ cls := "SpanJobs$Spans", name := "shift", desc := "()V" } : Jvm.MethodName) ({ cls := "SpanJobs$Spans", name := "shift", desc := "()V" } : Jvm.MethodName)) ∈ lw_all := lw_g (lw_at lw_m1 159 rfl) rfl
theorem q170 : (Jvm.Cond.code ({ cls := "SpanJobs$Spans", name := "shift", desc := "()V" } : Jvm.MethodName) prog_3_method_11_code (2 : Nat) (Option.none : Option Jvm.ClassFile.FieldType)) ∈ lw_all := lw_g (lw_at lw_m1 160 rfl) rfl
theorem in_X1 : ∀ w ∈ wsX10, w ∈ lw_all := lw_in wsX10 [35, 37, 39, 41] (by decide +kernel) (by decide +kernel)
/-! java/lang/Object -/
set_option maxRecDepth 100000
def RJ1 : String := "java/lang/Object"
abbrev cJ1_init : ByteArray := object_method_1_code
def yJ1_init : MethodName := ⟨RJ1, "<init>", "()V"⟩
theorem dJ1_init_0 : decode cJ1_init 0 = .ok (.return_, 1) := by decide +kernel
theorem q22 : (Jvm.Cond.instanceMethod ({ cls := "java/lang/Object", name := "<init>", desc := "()V" } : Jvm.MethodName)) ∈ lw_all := lw_g (lw_at lw_m1 12 rfl) rfl
theorem q23 : (Jvm.Cond.code ({ cls := "java/lang/Object", name := "<init>", desc := "()V" } : Jvm.MethodName) object_method_1_code (1 : Nat) (Option.none : Option Jvm.ClassFile.FieldType)) ∈ lw_all := lw_g (lw_at lw_m1 13 rfl) rfl
theorem q44 : (Jvm.Cond.arrayClass Jvm.ClassFile.FieldType.long) ∈ lw_all := lw_g (lw_at lw_m1 34 rfl) rfl
set_option maxRecDepth 100000
theorem q45 : (Jvm.Cond.arrayClass Jvm.ClassFile.FieldType.int) ∈ lw_all := lw_g (lw_at lw_m1 35 rfl) rfl
theorem q266 : (Jvm.Cond.arrayClass Jvm.ClassFile.FieldType.boolean) ∈ lw_all := lw_g (lw_at lw_m2 16 rfl) rfl
end
section
/-! SpanJobs$Outputs -/
set_option maxRecDepth 100000
def RX2 : String := "SpanJobs$Outputs"
def TX2 : u_T := fun k => match k with
  | 0 => ("SpanJobs$Outputs", "keys", "[J", false)
  | 1 => ("SpanJobs$Outputs", "values", "[J", false)
  | 2 => ("SpanJobs$Outputs", "whens", "[J", false)
  | _ => ("SpanJobs$Outputs", "size", "I", false)
def tyX2 : Nat → FieldType := fun k => match k with
  | 0 => .array .long
  | 1 => .array .long
  | 2 => .array .long
  | _ => .int
abbrev wsX20 : List Cond := u_ws RX2 TX2 4
theorem nmX2 : ∀ a, a < 4 → ∀ b, b < 4 → a ≠ b → (TX2 a).2.1 ≠ (TX2 b).2.1 := by decide +kernel
theorem tyX2_ok : ∀ k, k < 4 → parseFieldDescriptor (TX2 k).2.2.1 = some (tyX2 k) := by decide +kernel
abbrev cX2_init : ByteArray := prog_2_method_1_code
def yX2_init : MethodName := ⟨RX2, "<init>", "()V"⟩
theorem dX2_init_0 : decode cX2_init 0 = .ok (.aload_n 0, 1) := by decide +kernel
theorem dX2_init_1 : decode cX2_init 1 = .ok (.invokespecial 1, 3) := by decide +kernel
theorem dX2_init_4 : decode cX2_init 4 = .ok (.aload_n 0, 1) := by decide +kernel
theorem dX2_init_5 : decode cX2_init 5 = .ok (.bipush 16, 2) := by decide +kernel
theorem dX2_init_7 : decode cX2_init 7 = .ok (.newarray .long, 2) := by decide +kernel
theorem dX2_init_9 : decode cX2_init 9 = .ok (.putfield 7, 3) := by decide +kernel
theorem dX2_init_12 : decode cX2_init 12 = .ok (.aload_n 0, 1) := by decide +kernel
theorem dX2_init_13 : decode cX2_init 13 = .ok (.bipush 16, 2) := by decide +kernel
theorem dX2_init_15 : decode cX2_init 15 = .ok (.newarray .long, 2) := by decide +kernel
theorem dX2_init_17 : decode cX2_init 17 = .ok (.putfield 13, 3) := by decide +kernel
theorem dX2_init_20 : decode cX2_init 20 = .ok (.aload_n 0, 1) := by decide +kernel
theorem dX2_init_21 : decode cX2_init 21 = .ok (.bipush 16, 2) := by decide +kernel
theorem dX2_init_23 : decode cX2_init 23 = .ok (.newarray .long, 2) := by decide +kernel
theorem dX2_init_25 : decode cX2_init 25 = .ok (.putfield 16, 3) := by decide +kernel
theorem dX2_init_28 : decode cX2_init 28 = .ok (.return_, 1) := by decide +kernel
abbrev cX2_add : ByteArray := prog_2_method_2_code
def yX2_add : MethodName := ⟨RX2, "add", "(JJJ)V"⟩
theorem dX2_add_0 : decode cX2_add 0 = .ok (.aload_n 0, 1) := by decide +kernel
theorem dX2_add_1 : decode cX2_add 1 = .ok (.getfield 19, 3) := by decide +kernel
theorem dX2_add_4 : decode cX2_add 4 = .ok (.aload_n 0, 1) := by decide +kernel
theorem dX2_add_5 : decode cX2_add 5 = .ok (.getfield 7, 3) := by decide +kernel
theorem dX2_add_8 : decode cX2_add 8 = .ok (.arraylength, 1) := by decide +kernel
theorem dX2_add_9 : decode cX2_add 9 = .ok (.if_icmp .ne 7, 3) := by decide +kernel
theorem dX2_add_12 : decode cX2_add 12 = .ok (.aload_n 0, 1) := by decide +kernel
theorem dX2_add_13 : decode cX2_add 13 = .ok (.invokevirtual 23, 3) := by decide +kernel
theorem dX2_add_16 : decode cX2_add 16 = .ok (.aload_n 0, 1) := by decide +kernel
theorem dX2_add_17 : decode cX2_add 17 = .ok (.getfield 7, 3) := by decide +kernel
theorem dX2_add_20 : decode cX2_add 20 = .ok (.aload_n 0, 1) := by decide +kernel
theorem dX2_add_21 : decode cX2_add 21 = .ok (.getfield 19, 3) := by decide +kernel
theorem dX2_add_24 : decode cX2_add 24 = .ok (.lload_n 1, 1) := by decide +kernel
theorem dX2_add_25 : decode cX2_add 25 = .ok (.lastore, 1) := by decide +kernel
theorem dX2_add_26 : decode cX2_add 26 = .ok (.aload_n 0, 1) := by decide +kernel
theorem dX2_add_27 : decode cX2_add 27 = .ok (.getfield 13, 3) := by decide +kernel
theorem dX2_add_30 : decode cX2_add 30 = .ok (.aload_n 0, 1) := by decide +kernel
theorem dX2_add_31 : decode cX2_add 31 = .ok (.getfield 19, 3) := by decide +kernel
theorem dX2_add_34 : decode cX2_add 34 = .ok (.lload_n 3, 1) := by decide +kernel
theorem dX2_add_35 : decode cX2_add 35 = .ok (.lastore, 1) := by decide +kernel
theorem dX2_add_36 : decode cX2_add 36 = .ok (.aload_n 0, 1) := by decide +kernel
theorem dX2_add_37 : decode cX2_add 37 = .ok (.getfield 16, 3) := by decide +kernel
theorem dX2_add_40 : decode cX2_add 40 = .ok (.aload_n 0, 1) := by decide +kernel
theorem dX2_add_41 : decode cX2_add 41 = .ok (.getfield 19, 3) := by decide +kernel
theorem dX2_add_44 : decode cX2_add 44 = .ok (.lload 5, 2) := by decide +kernel
theorem dX2_add_46 : decode cX2_add 46 = .ok (.lastore, 1) := by decide +kernel
theorem dX2_add_47 : decode cX2_add 47 = .ok (.aload_n 0, 1) := by decide +kernel
theorem dX2_add_48 : decode cX2_add 48 = .ok (.dup, 1) := by decide +kernel
theorem dX2_add_49 : decode cX2_add 49 = .ok (.getfield 19, 3) := by decide +kernel
theorem dX2_add_52 : decode cX2_add 52 = .ok (.iconst 1, 1) := by decide +kernel
theorem dX2_add_53 : decode cX2_add 53 = .ok (.iadd, 1) := by decide +kernel
theorem dX2_add_54 : decode cX2_add 54 = .ok (.putfield 19, 3) := by decide +kernel
theorem dX2_add_57 : decode cX2_add 57 = .ok (.return_, 1) := by decide +kernel
abbrev cX2_grow : ByteArray := prog_2_method_3_code
def yX2_grow : MethodName := ⟨RX2, "grow", "()V"⟩
theorem dX2_grow_0 : decode cX2_grow 0 = .ok (.iconst 2, 1) := by decide +kernel
theorem dX2_grow_1 : decode cX2_grow 1 = .ok (.aload_n 0, 1) := by decide +kernel
theorem dX2_grow_2 : decode cX2_grow 2 = .ok (.getfield 19, 3) := by decide +kernel
theorem dX2_grow_5 : decode cX2_grow 5 = .ok (.imul, 1) := by decide +kernel
theorem dX2_grow_6 : decode cX2_grow 6 = .ok (.newarray .long, 2) := by decide +kernel
theorem dX2_grow_8 : decode cX2_grow 8 = .ok (.astore_n 1, 1) := by decide +kernel
theorem dX2_grow_9 : decode cX2_grow 9 = .ok (.iconst 2, 1) := by decide +kernel
theorem dX2_grow_10 : decode cX2_grow 10 = .ok (.aload_n 0, 1) := by decide +kernel
theorem dX2_grow_11 : decode cX2_grow 11 = .ok (.getfield 19, 3) := by decide +kernel
theorem dX2_grow_14 : decode cX2_grow 14 = .ok (.imul, 1) := by decide +kernel
theorem dX2_grow_15 : decode cX2_grow 15 = .ok (.newarray .long, 2) := by decide +kernel
theorem dX2_grow_17 : decode cX2_grow 17 = .ok (.astore_n 2, 1) := by decide +kernel
theorem dX2_grow_18 : decode cX2_grow 18 = .ok (.iconst 2, 1) := by decide +kernel
theorem dX2_grow_19 : decode cX2_grow 19 = .ok (.aload_n 0, 1) := by decide +kernel
theorem dX2_grow_20 : decode cX2_grow 20 = .ok (.getfield 19, 3) := by decide +kernel
theorem dX2_grow_23 : decode cX2_grow 23 = .ok (.imul, 1) := by decide +kernel
theorem dX2_grow_24 : decode cX2_grow 24 = .ok (.newarray .long, 2) := by decide +kernel
theorem dX2_grow_26 : decode cX2_grow 26 = .ok (.astore_n 3, 1) := by decide +kernel
theorem dX2_grow_27 : decode cX2_grow 27 = .ok (.iconst 0, 1) := by decide +kernel
theorem dX2_grow_28 : decode cX2_grow 28 = .ok (.istore 4, 2) := by decide +kernel
theorem dX2_grow_30 : decode cX2_grow 30 = .ok (.iload 4, 2) := by decide +kernel
theorem dX2_grow_32 : decode cX2_grow 32 = .ok (.aload_n 0, 1) := by decide +kernel
theorem dX2_grow_33 : decode cX2_grow 33 = .ok (.getfield 19, 3) := by decide +kernel
theorem dX2_grow_36 : decode cX2_grow 36 = .ok (.if_icmp .ge 42, 3) := by decide +kernel
theorem dX2_grow_39 : decode cX2_grow 39 = .ok (.aload_n 1, 1) := by decide +kernel
theorem dX2_grow_40 : decode cX2_grow 40 = .ok (.iload 4, 2) := by decide +kernel
theorem dX2_grow_42 : decode cX2_grow 42 = .ok (.aload_n 0, 1) := by decide +kernel
theorem dX2_grow_43 : decode cX2_grow 43 = .ok (.getfield 7, 3) := by decide +kernel
theorem dX2_grow_46 : decode cX2_grow 46 = .ok (.iload 4, 2) := by decide +kernel
theorem dX2_grow_48 : decode cX2_grow 48 = .ok (.laload, 1) := by decide +kernel
theorem dX2_grow_49 : decode cX2_grow 49 = .ok (.lastore, 1) := by decide +kernel
theorem dX2_grow_50 : decode cX2_grow 50 = .ok (.aload_n 2, 1) := by decide +kernel
theorem dX2_grow_51 : decode cX2_grow 51 = .ok (.iload 4, 2) := by decide +kernel
theorem dX2_grow_53 : decode cX2_grow 53 = .ok (.aload_n 0, 1) := by decide +kernel
theorem dX2_grow_54 : decode cX2_grow 54 = .ok (.getfield 13, 3) := by decide +kernel
theorem dX2_grow_57 : decode cX2_grow 57 = .ok (.iload 4, 2) := by decide +kernel
theorem dX2_grow_59 : decode cX2_grow 59 = .ok (.laload, 1) := by decide +kernel
theorem dX2_grow_60 : decode cX2_grow 60 = .ok (.lastore, 1) := by decide +kernel
theorem dX2_grow_61 : decode cX2_grow 61 = .ok (.aload_n 3, 1) := by decide +kernel
theorem dX2_grow_62 : decode cX2_grow 62 = .ok (.iload 4, 2) := by decide +kernel
theorem dX2_grow_64 : decode cX2_grow 64 = .ok (.aload_n 0, 1) := by decide +kernel
theorem dX2_grow_65 : decode cX2_grow 65 = .ok (.getfield 16, 3) := by decide +kernel
theorem dX2_grow_68 : decode cX2_grow 68 = .ok (.iload 4, 2) := by decide +kernel
theorem dX2_grow_70 : decode cX2_grow 70 = .ok (.laload, 1) := by decide +kernel
theorem dX2_grow_71 : decode cX2_grow 71 = .ok (.lastore, 1) := by decide +kernel
theorem dX2_grow_72 : decode cX2_grow 72 = .ok (.iinc 4 1, 3) := by decide +kernel
theorem dX2_grow_75 : decode cX2_grow 75 = .ok (.goto (-45), 3) := by decide +kernel
theorem dX2_grow_78 : decode cX2_grow 78 = .ok (.aload_n 0, 1) := by decide +kernel
theorem dX2_grow_79 : decode cX2_grow 79 = .ok (.aload_n 1, 1) := by decide +kernel
theorem dX2_grow_80 : decode cX2_grow 80 = .ok (.putfield 7, 3) := by decide +kernel
theorem dX2_grow_83 : decode cX2_grow 83 = .ok (.aload_n 0, 1) := by decide +kernel
theorem dX2_grow_84 : decode cX2_grow 84 = .ok (.aload_n 2, 1) := by decide +kernel
theorem dX2_grow_85 : decode cX2_grow 85 = .ok (.putfield 13, 3) := by decide +kernel
theorem dX2_grow_88 : decode cX2_grow 88 = .ok (.aload_n 0, 1) := by decide +kernel
theorem dX2_grow_89 : decode cX2_grow 89 = .ok (.aload_n 3, 1) := by decide +kernel
theorem dX2_grow_90 : decode cX2_grow 90 = .ok (.putfield 16, 3) := by decide +kernel
theorem dX2_grow_93 : decode cX2_grow 93 = .ok (.return_, 1) := by decide +kernel
abbrev cX2_key : ByteArray := prog_2_method_4_code
def yX2_key : MethodName := ⟨RX2, "key", "(I)J"⟩
theorem dX2_key_0 : decode cX2_key 0 = .ok (.aload_n 0, 1) := by decide +kernel
theorem dX2_key_1 : decode cX2_key 1 = .ok (.getfield 7, 3) := by decide +kernel
theorem dX2_key_4 : decode cX2_key 4 = .ok (.iload_n 1, 1) := by decide +kernel
theorem dX2_key_5 : decode cX2_key 5 = .ok (.laload, 1) := by decide +kernel
theorem dX2_key_6 : decode cX2_key 6 = .ok (.lreturn, 1) := by decide +kernel
abbrev cX2_value : ByteArray := prog_2_method_5_code
def yX2_value : MethodName := ⟨RX2, "value", "(I)J"⟩
theorem dX2_value_0 : decode cX2_value 0 = .ok (.aload_n 0, 1) := by decide +kernel
theorem dX2_value_1 : decode cX2_value 1 = .ok (.getfield 13, 3) := by decide +kernel
theorem dX2_value_4 : decode cX2_value 4 = .ok (.iload_n 1, 1) := by decide +kernel
theorem dX2_value_5 : decode cX2_value 5 = .ok (.laload, 1) := by decide +kernel
theorem dX2_value_6 : decode cX2_value 6 = .ok (.lreturn, 1) := by decide +kernel
abbrev cX2_when : ByteArray := prog_2_method_6_code
def yX2_when : MethodName := ⟨RX2, "when", "(I)J"⟩
theorem dX2_when_0 : decode cX2_when 0 = .ok (.aload_n 0, 1) := by decide +kernel
theorem dX2_when_1 : decode cX2_when 1 = .ok (.getfield 16, 3) := by decide +kernel
theorem dX2_when_4 : decode cX2_when 4 = .ok (.iload_n 1, 1) := by decide +kernel
theorem dX2_when_5 : decode cX2_when 5 = .ok (.laload, 1) := by decide +kernel
theorem dX2_when_6 : decode cX2_when 6 = .ok (.lreturn, 1) := by decide +kernel
theorem q13 : (Jvm.Cond.initialized "SpanJobs$Outputs") ∈ lw_all := lw_g (lw_at lw_m1 3 rfl) rfl
theorem q47 : (Jvm.Cond.instantiable "SpanJobs$Outputs" (4 : Nat)) ∈ lw_all := lw_g (lw_at lw_m1 37 rfl) rfl
theorem q49 : (Jvm.Cond.instanceMethod ({ cls := "SpanJobs$Outputs", name := "<init>", desc := "()V" } : Jvm.MethodName)) ∈ lw_all := lw_g (lw_at lw_m1 39 rfl) rfl
theorem q50 : (Jvm.Cond.code ({ cls := "SpanJobs$Outputs", name := "<init>", desc := "()V" } : Jvm.MethodName) prog_2_method_1_code (1 : Nat) (Option.none : Option Jvm.ClassFile.FieldType)) ∈ lw_all := lw_g (lw_at lw_m1 40 rfl) rfl
theorem q51 : (Jvm.Cond.methodLink "SpanJobs$Outputs" (1 : Nat) ({ cls := "java/lang/Object", name := "<init>", desc := "()V" } : Jvm.MethodName)) ∈ lw_all := lw_g (lw_at lw_m1 41 rfl) rfl
theorem q52 : (Jvm.Cond.fieldLink "SpanJobs$Outputs" (7 : Nat) "SpanJobs$Outputs" "keys" "[J") ∈ lw_all := lw_g (lw_at lw_m1 42 rfl) rfl
theorem q53 : (Jvm.Cond.fieldLink "SpanJobs$Outputs" (13 : Nat) "SpanJobs$Outputs" "values" "[J") ∈ lw_all := lw_g (lw_at lw_m1 43 rfl) rfl
theorem q54 : (Jvm.Cond.fieldLink "SpanJobs$Outputs" (16 : Nat) "SpanJobs$Outputs" "whens" "[J") ∈ lw_all := lw_g (lw_at lw_m1 44 rfl) rfl
theorem q55 : (Jvm.Cond.fieldLink "SpanJobs$Outputs" (19 : Nat) "SpanJobs$Outputs" "size" "I") ∈ lw_all := lw_g (lw_at lw_m1 45 rfl) rfl
theorem q57 : (Jvm.Cond.lays "SpanJobs$Outputs" "SpanJobs$Outputs" "keys" "[J") ∈ lw_all := lw_g (lw_at lw_m1 47 rfl) rfl
theorem q58 : (Jvm.Cond.soleField "SpanJobs$Outputs" "keys") ∈ lw_all := lw_g (lw_at lw_m1 48 rfl) rfl
theorem q59 : (Jvm.Cond.lays "SpanJobs$Outputs" "SpanJobs$Outputs" "values" "[J") ∈ lw_all := lw_g (lw_at lw_m1 49 rfl) rfl
theorem q60 : (Jvm.Cond.soleField "SpanJobs$Outputs" "values") ∈ lw_all := lw_g (lw_at lw_m1 50 rfl) rfl
theorem q61 : (Jvm.Cond.lays "SpanJobs$Outputs" "SpanJobs$Outputs" "whens" "[J") ∈ lw_all := lw_g (lw_at lw_m1 51 rfl) rfl
theorem q62 : (Jvm.Cond.soleField "SpanJobs$Outputs" "whens") ∈ lw_all := lw_g (lw_at lw_m1 52 rfl) rfl
theorem q63 : (Jvm.Cond.lays "SpanJobs$Outputs" "SpanJobs$Outputs" "size" "I") ∈ lw_all := lw_g (lw_at lw_m1 53 rfl) rfl
theorem q64 : (Jvm.Cond.soleField "SpanJobs$Outputs" "size") ∈ lw_all := lw_g (lw_at lw_m1 54 rfl) rfl
theorem q65 : (Jvm.Cond.superclass "SpanJobs$Outputs" "java/lang/Object") ∈ lw_all := lw_g (lw_at lw_m1 55 rfl) rfl
theorem q160 : (Jvm.Cond.instanceMethod ({ cls := "SpanJobs$Outputs", name := "add", desc := "(JJJ)V" } : Jvm.MethodName)) ∈ lw_all := lw_g (lw_at lw_m1 150 rfl) rfl
theorem q161 : (Jvm.Cond.selects "SpanJobs$Outputs" ({ cls := "SpanJobs$Outputs", name := "add", desc := "(JJJ)V" } : Jvm.MethodName) ({ cls := "SpanJobs$Outputs", name := "add", desc := "(JJJ)V" } : Jvm.MethodName)) ∈ lw_all := lw_g (lw_at lw_m1 151 rfl) rfl
theorem q162 : (Jvm.Cond.code ({ cls := "SpanJobs$Outputs", name := "add", desc := "(JJJ)V" } : Jvm.MethodName) prog_2_method_2_code (7 : Nat) (Option.none : Option Jvm.ClassFile.FieldType)) ∈ lw_all := lw_g (lw_at lw_m1 152 rfl) rfl
theorem q163 : (Jvm.Cond.methodLink "SpanJobs$Outputs" (23 : Nat) ({ cls := "SpanJobs$Outputs", name := "grow", desc := "()V" } : Jvm.MethodName)) ∈ lw_all := lw_g (lw_at lw_m1 153 rfl) rfl
theorem q164 : (Jvm.Cond.privateMethod ({ cls := "SpanJobs$Outputs", name := "grow", desc := "()V" } : Jvm.MethodName)) ∈ lw_tbl := lw_at lw_m1 154 rfl
theorem q165 : (Jvm.Cond.instanceMethod ({ cls := "SpanJobs$Outputs", name := "grow", desc := "()V" } : Jvm.MethodName)) ∈ lw_all := lw_g (lw_at lw_m1 155 rfl) rfl
theorem q166 : (Jvm.Cond.code ({ cls := "SpanJobs$Outputs", name := "grow", desc := "()V" } : Jvm.MethodName) prog_2_method_3_code (5 : Nat) (Option.none : Option Jvm.ClassFile.FieldType)) ∈ lw_all := lw_g (lw_at lw_m1 156 rfl) rfl
theorem q176 : (Jvm.Cond.instanceMethod ({ cls := "SpanJobs$Outputs", name := "key", desc := "(I)J" } : Jvm.MethodName)) ∈ lw_all := lw_g (lw_at lw_m1 166 rfl) rfl
theorem q177 : (Jvm.Cond.selects "SpanJobs$Outputs" ({ cls := "SpanJobs$Outputs", name := "key", desc := "(I)J" } : Jvm.MethodName) ({ cls := "SpanJobs$Outputs", name := "key", desc := "(I)J" } : Jvm.MethodName)) ∈ lw_all := lw_g (lw_at lw_m1 167 rfl) rfl
theorem q178 : (Jvm.Cond.code ({ cls := "SpanJobs$Outputs", name := "key", desc := "(I)J" } : Jvm.MethodName) prog_2_method_4_code (2 : Nat) (Option.some Jvm.ClassFile.FieldType.long)) ∈ lw_all := lw_g (lw_at lw_m1 168 rfl) rfl
theorem q180 : (Jvm.Cond.instanceMethod ({ cls := "SpanJobs$Outputs", name := "value", desc := "(I)J" } : Jvm.MethodName)) ∈ lw_all := lw_g (lw_at lw_m1 170 rfl) rfl
theorem q181 : (Jvm.Cond.selects "SpanJobs$Outputs" ({ cls := "SpanJobs$Outputs", name := "value", desc := "(I)J" } : Jvm.MethodName) ({ cls := "SpanJobs$Outputs", name := "value", desc := "(I)J" } : Jvm.MethodName)) ∈ lw_all := lw_g (lw_at lw_m1 171 rfl) rfl
theorem q182 : (Jvm.Cond.code ({ cls := "SpanJobs$Outputs", name := "value", desc := "(I)J" } : Jvm.MethodName) prog_2_method_5_code (2 : Nat) (Option.some Jvm.ClassFile.FieldType.long)) ∈ lw_all := lw_g (lw_at lw_m1 172 rfl) rfl
theorem q184 : (Jvm.Cond.instanceMethod ({ cls := "SpanJobs$Outputs", name := "when", desc := "(I)J" } : Jvm.MethodName)) ∈ lw_all := lw_g (lw_at lw_m1 174 rfl) rfl
theorem q185 : (Jvm.Cond.selects "SpanJobs$Outputs" ({ cls := "SpanJobs$Outputs", name := "when", desc := "(I)J" } : Jvm.MethodName) ({ cls := "SpanJobs$Outputs", name := "when", desc := "(I)J" } : Jvm.MethodName)) ∈ lw_all := lw_g (lw_at lw_m1 175 rfl) rfl
theorem q186 : (Jvm.Cond.code ({ cls := "SpanJobs$Outputs", name := "when", desc := "(I)J" } : Jvm.MethodName) prog_2_method_6_code (2 : Nat) (Option.some Jvm.ClassFile.FieldType.long)) ∈ lw_all := lw_g (lw_at lw_m1 176 rfl) rfl
theorem in_X2 : ∀ w ∈ wsX20, w ∈ lw_all := lw_in wsX20 [57, 59, 61, 63] (by decide +kernel) (by decide +kernel)
end
section
/-! SpanJobs -/
set_option maxRecDepth 100000
def RX0 : String := "SpanJobs"
def TX0 : u_T := fun k => match k with
  | 0 => ("SpanJobs", "spans", "LSpanJobs$Spans;", true)
  | 1 => ("SpanJobs", "outputs", "LSpanJobs$Outputs;", true)
  | 2 => ("SpanJobs", "way", "I", false)
  | 3 => ("SpanJobs", "size", "I", false)
  | 4 => ("SpanJobs", "grace", "I", false)
  | 5 => ("SpanJobs", "all", "I", false)
  | 6 => ("SpanJobs", "takenCount", "I", false)
  | 7 => ("SpanJobs", "lateCount", "I", false)
  | _ => ("SpanJobs", "mark", "I", false)
def tyX0 : Nat → FieldType := fun k => match k with
  | 0 => .object "SpanJobs$Spans"
  | 1 => .object "SpanJobs$Outputs"
  | 2 => .int
  | 3 => .int
  | 4 => .int
  | 5 => .int
  | 6 => .int
  | 7 => .int
  | _ => .int
abbrev wsX00 : List Cond := u_ws RX0 TX0 9
theorem nmX0 : ∀ a, a < 9 → ∀ b, b < 9 → a ≠ b → (TX0 a).2.1 ≠ (TX0 b).2.1 := by decide +kernel
theorem tyX0_ok : ∀ k, k < 9 → parseFieldDescriptor (TX0 k).2.2.1 = some (tyX0 k) := by decide +kernel
abbrev cX0_init : ByteArray := prog_1_method_1_code
def yX0_init : MethodName := ⟨RX0, "<init>", "()V"⟩
theorem dX0_init_0 : decode cX0_init 0 = .ok (.aload_n 0, 1) := by decide +kernel
theorem dX0_init_1 : decode cX0_init 1 = .ok (.invokespecial 1, 3) := by decide +kernel
theorem dX0_init_4 : decode cX0_init 4 = .ok (.aload_n 0, 1) := by decide +kernel
theorem dX0_init_5 : decode cX0_init 5 = .ok (.new 7, 3) := by decide +kernel
theorem dX0_init_8 : decode cX0_init 8 = .ok (.dup, 1) := by decide +kernel
theorem dX0_init_9 : decode cX0_init 9 = .ok (.invokespecial 9, 3) := by decide +kernel
theorem dX0_init_12 : decode cX0_init 12 = .ok (.putfield 10, 3) := by decide +kernel
theorem dX0_init_15 : decode cX0_init 15 = .ok (.aload_n 0, 1) := by decide +kernel
theorem dX0_init_16 : decode cX0_init 16 = .ok (.new 16, 3) := by decide +kernel
theorem dX0_init_19 : decode cX0_init 19 = .ok (.dup, 1) := by decide +kernel
theorem dX0_init_20 : decode cX0_init 20 = .ok (.invokespecial 18, 3) := by decide +kernel
theorem dX0_init_23 : decode cX0_init 23 = .ok (.putfield 19, 3) := by decide +kernel
theorem dX0_init_26 : decode cX0_init 26 = .ok (.aload_n 0, 1) := by decide +kernel
theorem dX0_init_27 : decode cX0_init 27 = .ok (.iconst 1, 1) := by decide +kernel
theorem dX0_init_28 : decode cX0_init 28 = .ok (.putfield 23, 3) := by decide +kernel
theorem dX0_init_31 : decode cX0_init 31 = .ok (.aload_n 0, 1) := by decide +kernel
theorem dX0_init_32 : decode cX0_init 32 = .ok (.iconst (-1), 1) := by decide +kernel
theorem dX0_init_33 : decode cX0_init 33 = .ok (.putfield 27, 3) := by decide +kernel
theorem dX0_init_36 : decode cX0_init 36 = .ok (.aload_n 0, 1) := by decide +kernel
theorem dX0_init_37 : decode cX0_init 37 = .ok (.iconst 0, 1) := by decide +kernel
theorem dX0_init_38 : decode cX0_init 38 = .ok (.putfield 30, 3) := by decide +kernel
theorem dX0_init_41 : decode cX0_init 41 = .ok (.return_, 1) := by decide +kernel
abbrev cX0_begin : ByteArray := prog_1_method_2_code
def yX0_begin : MethodName := ⟨RX0, "begin", "(III)Z"⟩
theorem dX0_begin_0 : decode cX0_begin 0 = .ok (.iload_n 1, 1) := by decide +kernel
theorem dX0_begin_1 : decode cX0_begin 1 = .ok (.ifCond .lt 31, 3) := by decide +kernel
theorem dX0_begin_4 : decode cX0_begin 4 = .ok (.iload_n 1, 1) := by decide +kernel
theorem dX0_begin_5 : decode cX0_begin 5 = .ok (.iconst 2, 1) := by decide +kernel
theorem dX0_begin_6 : decode cX0_begin 6 = .ok (.if_icmp .gt 26, 3) := by decide +kernel
theorem dX0_begin_9 : decode cX0_begin 9 = .ok (.iload_n 2, 1) := by decide +kernel
theorem dX0_begin_10 : decode cX0_begin 10 = .ok (.iconst 1, 1) := by decide +kernel
theorem dX0_begin_11 : decode cX0_begin 11 = .ok (.if_icmp .lt 21, 3) := by decide +kernel
theorem dX0_begin_14 : decode cX0_begin 14 = .ok (.iload_n 2, 1) := by decide +kernel
theorem dX0_begin_15 : decode cX0_begin 15 = .ok (.sipush 1000, 3) := by decide +kernel
theorem dX0_begin_18 : decode cX0_begin 18 = .ok (.if_icmp .gt 14, 3) := by decide +kernel
theorem dX0_begin_21 : decode cX0_begin 21 = .ok (.iload_n 3, 1) := by decide +kernel
theorem dX0_begin_22 : decode cX0_begin 22 = .ok (.ifCond .lt 10, 3) := by decide +kernel
theorem dX0_begin_25 : decode cX0_begin 25 = .ok (.iload_n 3, 1) := by decide +kernel
theorem dX0_begin_26 : decode cX0_begin 26 = .ok (.sipush 1000, 3) := by decide +kernel
theorem dX0_begin_29 : decode cX0_begin 29 = .ok (.if_icmp .le 5, 3) := by decide +kernel
theorem dX0_begin_32 : decode cX0_begin 32 = .ok (.iconst 0, 1) := by decide +kernel
theorem dX0_begin_33 : decode cX0_begin 33 = .ok (.ireturn, 1) := by decide +kernel
theorem dX0_begin_34 : decode cX0_begin 34 = .ok (.aload_n 0, 1) := by decide +kernel
theorem dX0_begin_35 : decode cX0_begin 35 = .ok (.iload_n 1, 1) := by decide +kernel
theorem dX0_begin_36 : decode cX0_begin 36 = .ok (.putfield 30, 3) := by decide +kernel
theorem dX0_begin_39 : decode cX0_begin 39 = .ok (.aload_n 0, 1) := by decide +kernel
theorem dX0_begin_40 : decode cX0_begin 40 = .ok (.iload_n 2, 1) := by decide +kernel
theorem dX0_begin_41 : decode cX0_begin 41 = .ok (.putfield 23, 3) := by decide +kernel
theorem dX0_begin_44 : decode cX0_begin 44 = .ok (.aload_n 0, 1) := by decide +kernel
theorem dX0_begin_45 : decode cX0_begin 45 = .ok (.iload_n 3, 1) := by decide +kernel
theorem dX0_begin_46 : decode cX0_begin 46 = .ok (.putfield 33, 3) := by decide +kernel
theorem dX0_begin_49 : decode cX0_begin 49 = .ok (.aload_n 0, 1) := by decide +kernel
theorem dX0_begin_50 : decode cX0_begin 50 = .ok (.getfield 10, 3) := by decide +kernel
theorem dX0_begin_53 : decode cX0_begin 53 = .ok (.iconst 0, 1) := by decide +kernel
theorem dX0_begin_54 : decode cX0_begin 54 = .ok (.putfield 36, 3) := by decide +kernel
theorem dX0_begin_57 : decode cX0_begin 57 = .ok (.aload_n 0, 1) := by decide +kernel
theorem dX0_begin_58 : decode cX0_begin 58 = .ok (.getfield 19, 3) := by decide +kernel
theorem dX0_begin_61 : decode cX0_begin 61 = .ok (.iconst 0, 1) := by decide +kernel
theorem dX0_begin_62 : decode cX0_begin 62 = .ok (.putfield 37, 3) := by decide +kernel
theorem dX0_begin_65 : decode cX0_begin 65 = .ok (.aload_n 0, 1) := by decide +kernel
theorem dX0_begin_66 : decode cX0_begin 66 = .ok (.iconst 0, 1) := by decide +kernel
theorem dX0_begin_67 : decode cX0_begin 67 = .ok (.putfield 38, 3) := by decide +kernel
theorem dX0_begin_70 : decode cX0_begin 70 = .ok (.aload_n 0, 1) := by decide +kernel
theorem dX0_begin_71 : decode cX0_begin 71 = .ok (.iconst 0, 1) := by decide +kernel
theorem dX0_begin_72 : decode cX0_begin 72 = .ok (.putfield 41, 3) := by decide +kernel
theorem dX0_begin_75 : decode cX0_begin 75 = .ok (.aload_n 0, 1) := by decide +kernel
theorem dX0_begin_76 : decode cX0_begin 76 = .ok (.iconst (-1), 1) := by decide +kernel
theorem dX0_begin_77 : decode cX0_begin 77 = .ok (.putfield 27, 3) := by decide +kernel
theorem dX0_begin_80 : decode cX0_begin 80 = .ok (.iconst 1, 1) := by decide +kernel
theorem dX0_begin_81 : decode cX0_begin 81 = .ok (.ireturn, 1) := by decide +kernel
abbrev cX0_take : ByteArray := prog_1_method_5_code
def yX0_take : MethodName := ⟨RX0, "take", "(JJI)I"⟩
theorem dX0_take_0 : decode cX0_take 0 = .ok (.aload_n 0, 1) := by decide +kernel
theorem dX0_take_1 : decode cX0_take 1 = .ok (.getfield 55, 3) := by decide +kernel
theorem dX0_take_4 : decode cX0_take 4 = .ok (.sipush 3000, 3) := by decide +kernel
theorem dX0_take_7 : decode cX0_take 7 = .ok (.if_icmp .eq 39, 3) := by decide +kernel
theorem dX0_take_10 : decode cX0_take 10 = .ok (.lload_n 1, 1) := by decide +kernel
theorem dX0_take_11 : decode cX0_take 11 = .ok (.ldc2_w 58, 3) := by decide +kernel
theorem dX0_take_14 : decode cX0_take 14 = .ok (.lcmp, 1) := by decide +kernel
theorem dX0_take_15 : decode cX0_take 15 = .ok (.ifCond .lt 31, 3) := by decide +kernel
theorem dX0_take_18 : decode cX0_take 18 = .ok (.lload_n 3, 1) := by decide +kernel
theorem dX0_take_19 : decode cX0_take 19 = .ok (.ldc2_w 58, 3) := by decide +kernel
theorem dX0_take_22 : decode cX0_take 22 = .ok (.lcmp, 1) := by decide +kernel
theorem dX0_take_23 : decode cX0_take 23 = .ok (.ifCond .lt 23, 3) := by decide +kernel
theorem dX0_take_26 : decode cX0_take 26 = .ok (.lload_n 3, 1) := by decide +kernel
theorem dX0_take_27 : decode cX0_take 27 = .ok (.ldc2_w 60, 3) := by decide +kernel
theorem dX0_take_30 : decode cX0_take 30 = .ok (.lcmp, 1) := by decide +kernel
theorem dX0_take_31 : decode cX0_take 31 = .ok (.ifCond .gt 15, 3) := by decide +kernel
theorem dX0_take_34 : decode cX0_take 34 = .ok (.iload 5, 2) := by decide +kernel
theorem dX0_take_36 : decode cX0_take 36 = .ok (.ifCond .lt 10, 3) := by decide +kernel
theorem dX0_take_39 : decode cX0_take 39 = .ok (.iload 5, 2) := by decide +kernel
theorem dX0_take_41 : decode cX0_take 41 = .ok (.ldc 62, 2) := by decide +kernel
theorem dX0_take_43 : decode cX0_take 43 = .ok (.if_icmp .le 6, 3) := by decide +kernel
theorem dX0_take_46 : decode cX0_take 46 = .ok (.bipush (-3), 2) := by decide +kernel
theorem dX0_take_48 : decode cX0_take 48 = .ok (.ireturn, 1) := by decide +kernel
theorem dX0_take_49 : decode cX0_take 49 = .ok (.aload_n 0, 1) := by decide +kernel
theorem dX0_take_50 : decode cX0_take 50 = .ok (.dup, 1) := by decide +kernel
theorem dX0_take_51 : decode cX0_take 51 = .ok (.getfield 55, 3) := by decide +kernel
theorem dX0_take_54 : decode cX0_take 54 = .ok (.iconst 1, 1) := by decide +kernel
theorem dX0_take_55 : decode cX0_take 55 = .ok (.iadd, 1) := by decide +kernel
theorem dX0_take_56 : decode cX0_take 56 = .ok (.putfield 55, 3) := by decide +kernel
theorem dX0_take_59 : decode cX0_take 59 = .ok (.aload_n 0, 1) := by decide +kernel
theorem dX0_take_60 : decode cX0_take 60 = .ok (.dup, 1) := by decide +kernel
theorem dX0_take_61 : decode cX0_take 61 = .ok (.getfield 38, 3) := by decide +kernel
theorem dX0_take_64 : decode cX0_take 64 = .ok (.iconst 1, 1) := by decide +kernel
theorem dX0_take_65 : decode cX0_take 65 = .ok (.iadd, 1) := by decide +kernel
theorem dX0_take_66 : decode cX0_take 66 = .ok (.putfield 38, 3) := by decide +kernel
theorem dX0_take_69 : decode cX0_take 69 = .ok (.lload_n 1, 1) := by decide +kernel
theorem dX0_take_70 : decode cX0_take 70 = .ok (.lconst 0, 1) := by decide +kernel
theorem dX0_take_71 : decode cX0_take 71 = .ok (.lcmp, 1) := by decide +kernel
theorem dX0_take_72 : decode cX0_take 72 = .ok (.ifCond .lt 9, 3) := by decide +kernel
theorem dX0_take_75 : decode cX0_take 75 = .ok (.lload_n 3, 1) := by decide +kernel
theorem dX0_take_76 : decode cX0_take 76 = .ok (.lconst 0, 1) := by decide +kernel
theorem dX0_take_77 : decode cX0_take 77 = .ok (.lcmp, 1) := by decide +kernel
theorem dX0_take_78 : decode cX0_take 78 = .ok (.ifCond .ge 5, 3) := by decide +kernel
theorem dX0_take_81 : decode cX0_take 81 = .ok (.iconst (-1), 1) := by decide +kernel
theorem dX0_take_82 : decode cX0_take 82 = .ok (.ireturn, 1) := by decide +kernel
theorem dX0_take_83 : decode cX0_take 83 = .ok (.iload 5, 2) := by decide +kernel
theorem dX0_take_85 : decode cX0_take 85 = .ok (.aload_n 0, 1) := by decide +kernel
theorem dX0_take_86 : decode cX0_take 86 = .ok (.getfield 23, 3) := by decide +kernel
theorem dX0_take_89 : decode cX0_take 89 = .ok (.idiv, 1) := by decide +kernel
theorem dX0_take_90 : decode cX0_take 90 = .ok (.istore 6, 2) := by decide +kernel
theorem dX0_take_92 : decode cX0_take 92 = .ok (.aload_n 0, 1) := by decide +kernel
theorem dX0_take_93 : decode cX0_take 93 = .ok (.iload 6, 2) := by decide +kernel
theorem dX0_take_95 : decode cX0_take 95 = .ok (.invokevirtual 63, 3) := by decide +kernel
theorem dX0_take_98 : decode cX0_take 98 = .ok (.ifCond .eq 16, 3) := by decide +kernel
theorem dX0_take_101 : decode cX0_take 101 = .ok (.aload_n 0, 1) := by decide +kernel
theorem dX0_take_102 : decode cX0_take 102 = .ok (.dup, 1) := by decide +kernel
theorem dX0_take_103 : decode cX0_take 103 = .ok (.getfield 41, 3) := by decide +kernel
theorem dX0_take_106 : decode cX0_take 106 = .ok (.iconst 1, 1) := by decide +kernel
theorem dX0_take_107 : decode cX0_take 107 = .ok (.iadd, 1) := by decide +kernel
theorem dX0_take_108 : decode cX0_take 108 = .ok (.putfield 41, 3) := by decide +kernel
theorem dX0_take_111 : decode cX0_take 111 = .ok (.bipush (-2), 2) := by decide +kernel
theorem dX0_take_113 : decode cX0_take 113 = .ok (.ireturn, 1) := by decide +kernel
theorem dX0_take_114 : decode cX0_take 114 = .ok (.aload_n 0, 1) := by decide +kernel
theorem dX0_take_115 : decode cX0_take 115 = .ok (.getfield 10, 3) := by decide +kernel
theorem dX0_take_118 : decode cX0_take 118 = .ok (.iload 6, 2) := by decide +kernel
theorem dX0_take_120 : decode cX0_take 120 = .ok (.lload_n 1, 1) := by decide +kernel
theorem dX0_take_121 : decode cX0_take 121 = .ok (.invokevirtual 67, 3) := by decide +kernel
theorem dX0_take_124 : decode cX0_take 124 = .ok (.istore 7, 2) := by decide +kernel
theorem dX0_take_126 : decode cX0_take 126 = .ok (.iload 7, 2) := by decide +kernel
theorem dX0_take_128 : decode cX0_take 128 = .ok (.ifCond .lt 29, 3) := by decide +kernel
theorem dX0_take_131 : decode cX0_take 131 = .ok (.aload_n 0, 1) := by decide +kernel
theorem dX0_take_132 : decode cX0_take 132 = .ok (.getfield 10, 3) := by decide +kernel
theorem dX0_take_135 : decode cX0_take 135 = .ok (.iload 7, 2) := by decide +kernel
theorem dX0_take_137 : decode cX0_take 137 = .ok (.aload_n 0, 1) := by decide +kernel
theorem dX0_take_138 : decode cX0_take 138 = .ok (.aload_n 0, 1) := by decide +kernel
theorem dX0_take_139 : decode cX0_take 139 = .ok (.getfield 10, 3) := by decide +kernel
theorem dX0_take_142 : decode cX0_take 142 = .ok (.iload 7, 2) := by decide +kernel
theorem dX0_take_144 : decode cX0_take 144 = .ok (.invokevirtual 71, 3) := by decide +kernel
theorem dX0_take_147 : decode cX0_take 147 = .ok (.lload_n 3, 1) := by decide +kernel
theorem dX0_take_148 : decode cX0_take 148 = .ok (.invokevirtual 75, 3) := by decide +kernel
theorem dX0_take_151 : decode cX0_take 151 = .ok (.invokevirtual 78, 3) := by decide +kernel
theorem dX0_take_154 : decode cX0_take 154 = .ok (.goto 26, 3) := by decide +kernel
theorem dX0_take_157 : decode cX0_take 157 = .ok (.aload_n 0, 1) := by decide +kernel
theorem dX0_take_158 : decode cX0_take 158 = .ok (.getfield 10, 3) := by decide +kernel
theorem dX0_take_161 : decode cX0_take 161 = .ok (.iload 6, 2) := by decide +kernel
theorem dX0_take_163 : decode cX0_take 163 = .ok (.lload_n 1, 1) := by decide +kernel
theorem dX0_take_164 : decode cX0_take 164 = .ok (.aload_n 0, 1) := by decide +kernel
theorem dX0_take_165 : decode cX0_take 165 = .ok (.getfield 30, 3) := by decide +kernel
theorem dX0_take_168 : decode cX0_take 168 = .ok (.iconst 1, 1) := by decide +kernel
theorem dX0_take_169 : decode cX0_take 169 = .ok (.if_icmp .ne 7, 3) := by decide +kernel
theorem dX0_take_172 : decode cX0_take 172 = .ok (.lconst 1, 1) := by decide +kernel
theorem dX0_take_173 : decode cX0_take 173 = .ok (.goto 4, 3) := by decide +kernel
theorem dX0_take_176 : decode cX0_take 176 = .ok (.lload_n 3, 1) := by decide +kernel
theorem dX0_take_177 : decode cX0_take 177 = .ok (.invokevirtual 82, 3) := by decide +kernel
theorem dX0_take_180 : decode cX0_take 180 = .ok (.aload_n 0, 1) := by decide +kernel
theorem dX0_take_181 : decode cX0_take 181 = .ok (.aload_n 0, 1) := by decide +kernel
theorem dX0_take_182 : decode cX0_take 182 = .ok (.getfield 27, 3) := by decide +kernel
theorem dX0_take_185 : decode cX0_take 185 = .ok (.iload 5, 2) := by decide +kernel
theorem dX0_take_187 : decode cX0_take 187 = .ok (.invokestatic 86, 3) := by decide +kernel
theorem dX0_take_190 : decode cX0_take 190 = .ok (.putfield 27, 3) := by decide +kernel
theorem dX0_take_193 : decode cX0_take 193 = .ok (.iconst 0, 1) := by decide +kernel
theorem dX0_take_194 : decode cX0_take 194 = .ok (.istore 8, 2) := by decide +kernel
theorem dX0_take_196 : decode cX0_take 196 = .ok (.aload_n 0, 1) := by decide +kernel
theorem dX0_take_197 : decode cX0_take 197 = .ok (.getfield 10, 3) := by decide +kernel
theorem dX0_take_200 : decode cX0_take 200 = .ok (.getfield 36, 3) := by decide +kernel
theorem dX0_take_203 : decode cX0_take 203 = .ok (.ifCond .le 73, 3) := by decide +kernel
theorem dX0_take_206 : decode cX0_take 206 = .ok (.aload_n 0, 1) := by decide +kernel
theorem dX0_take_207 : decode cX0_take 207 = .ok (.aload_n 0, 1) := by decide +kernel
theorem dX0_take_208 : decode cX0_take 208 = .ok (.getfield 10, 3) := by decide +kernel
theorem dX0_take_211 : decode cX0_take 211 = .ok (.iconst 0, 1) := by decide +kernel
theorem dX0_take_212 : decode cX0_take 212 = .ok (.invokevirtual 89, 3) := by decide +kernel
theorem dX0_take_215 : decode cX0_take 215 = .ok (.invokevirtual 63, 3) := by decide +kernel
theorem dX0_take_218 : decode cX0_take 218 = .ok (.ifCond .eq 58, 3) := by decide +kernel
theorem dX0_take_221 : decode cX0_take 221 = .ok (.aload_n 0, 1) := by decide +kernel
theorem dX0_take_222 : decode cX0_take 222 = .ok (.getfield 19, 3) := by decide +kernel
theorem dX0_take_225 : decode cX0_take 225 = .ok (.aload_n 0, 1) := by decide +kernel
theorem dX0_take_226 : decode cX0_take 226 = .ok (.getfield 10, 3) := by decide +kernel
theorem dX0_take_229 : decode cX0_take 229 = .ok (.iconst 0, 1) := by decide +kernel
theorem dX0_take_230 : decode cX0_take 230 = .ok (.invokevirtual 93, 3) := by decide +kernel
theorem dX0_take_233 : decode cX0_take 233 = .ok (.aload_n 0, 1) := by decide +kernel
theorem dX0_take_234 : decode cX0_take 234 = .ok (.getfield 10, 3) := by decide +kernel
theorem dX0_take_237 : decode cX0_take 237 = .ok (.iconst 0, 1) := by decide +kernel
theorem dX0_take_238 : decode cX0_take 238 = .ok (.invokevirtual 71, 3) := by decide +kernel
theorem dX0_take_241 : decode cX0_take 241 = .ok (.aload_n 0, 1) := by decide +kernel
theorem dX0_take_242 : decode cX0_take 242 = .ok (.getfield 10, 3) := by decide +kernel
theorem dX0_take_245 : decode cX0_take 245 = .ok (.iconst 0, 1) := by decide +kernel
theorem dX0_take_246 : decode cX0_take 246 = .ok (.invokevirtual 89, 3) := by decide +kernel
theorem dX0_take_249 : decode cX0_take 249 = .ok (.i2l, 1) := by decide +kernel
theorem dX0_take_250 : decode cX0_take 250 = .ok (.lconst 1, 1) := by decide +kernel
theorem dX0_take_251 : decode cX0_take 251 = .ok (.ladd, 1) := by decide +kernel
theorem dX0_take_252 : decode cX0_take 252 = .ok (.aload_n 0, 1) := by decide +kernel
theorem dX0_take_253 : decode cX0_take 253 = .ok (.getfield 23, 3) := by decide +kernel
theorem dX0_take_256 : decode cX0_take 256 = .ok (.i2l, 1) := by decide +kernel
theorem dX0_take_257 : decode cX0_take 257 = .ok (.lmul, 1) := by decide +kernel
theorem dX0_take_258 : decode cX0_take 258 = .ok (.lconst 1, 1) := by decide +kernel
theorem dX0_take_259 : decode cX0_take 259 = .ok (.lsub, 1) := by decide +kernel
theorem dX0_take_260 : decode cX0_take 260 = .ok (.invokevirtual 96, 3) := by decide +kernel
theorem dX0_take_263 : decode cX0_take 263 = .ok (.aload_n 0, 1) := by decide +kernel
theorem dX0_take_264 : decode cX0_take 264 = .ok (.getfield 10, 3) := by decide +kernel
theorem dX0_take_267 : decode cX0_take 267 = .ok (.invokevirtual 100, 3) := by decide +kernel
theorem dX0_take_270 : decode cX0_take 270 = .ok (.iinc 8 1, 3) := by decide +kernel
theorem dX0_take_273 : decode cX0_take 273 = .ok (.goto (-77), 3) := by decide +kernel
theorem dX0_take_276 : decode cX0_take 276 = .ok (.iload 8, 2) := by decide +kernel
theorem dX0_take_278 : decode cX0_take 278 = .ok (.ireturn, 1) := by decide +kernel
abbrev cX0_isClosed : ByteArray := prog_1_method_3_code
def yX0_isClosed : MethodName := ⟨RX0, "isClosed", "(I)Z"⟩
theorem dX0_isClosed_0 : decode cX0_isClosed 0 = .ok (.iload_n 1, 1) := by decide +kernel
theorem dX0_isClosed_1 : decode cX0_isClosed 1 = .ok (.i2l, 1) := by decide +kernel
theorem dX0_isClosed_2 : decode cX0_isClosed 2 = .ok (.lconst 1, 1) := by decide +kernel
theorem dX0_isClosed_3 : decode cX0_isClosed 3 = .ok (.ladd, 1) := by decide +kernel
theorem dX0_isClosed_4 : decode cX0_isClosed 4 = .ok (.aload_n 0, 1) := by decide +kernel
theorem dX0_isClosed_5 : decode cX0_isClosed 5 = .ok (.getfield 23, 3) := by decide +kernel
theorem dX0_isClosed_8 : decode cX0_isClosed 8 = .ok (.i2l, 1) := by decide +kernel
theorem dX0_isClosed_9 : decode cX0_isClosed 9 = .ok (.lmul, 1) := by decide +kernel
theorem dX0_isClosed_10 : decode cX0_isClosed 10 = .ok (.aload_n 0, 1) := by decide +kernel
theorem dX0_isClosed_11 : decode cX0_isClosed 11 = .ok (.getfield 33, 3) := by decide +kernel
theorem dX0_isClosed_14 : decode cX0_isClosed 14 = .ok (.i2l, 1) := by decide +kernel
theorem dX0_isClosed_15 : decode cX0_isClosed 15 = .ok (.ladd, 1) := by decide +kernel
theorem dX0_isClosed_16 : decode cX0_isClosed 16 = .ok (.aload_n 0, 1) := by decide +kernel
theorem dX0_isClosed_17 : decode cX0_isClosed 17 = .ok (.getfield 27, 3) := by decide +kernel
theorem dX0_isClosed_20 : decode cX0_isClosed 20 = .ok (.i2l, 1) := by decide +kernel
theorem dX0_isClosed_21 : decode cX0_isClosed 21 = .ok (.lcmp, 1) := by decide +kernel
theorem dX0_isClosed_22 : decode cX0_isClosed 22 = .ok (.ifCond .gt 7, 3) := by decide +kernel
theorem dX0_isClosed_25 : decode cX0_isClosed 25 = .ok (.iconst 1, 1) := by decide +kernel
theorem dX0_isClosed_26 : decode cX0_isClosed 26 = .ok (.goto 4, 3) := by decide +kernel
theorem dX0_isClosed_29 : decode cX0_isClosed 29 = .ok (.iconst 0, 1) := by decide +kernel
theorem dX0_isClosed_30 : decode cX0_isClosed 30 = .ok (.ireturn, 1) := by decide +kernel
abbrev cX0_added : ByteArray := prog_1_method_4_code
def yX0_added : MethodName := ⟨RX0, "added", "(JJ)J"⟩
theorem dX0_added_0 : decode cX0_added 0 = .ok (.aload_n 0, 1) := by decide +kernel
theorem dX0_added_1 : decode cX0_added 1 = .ok (.getfield 30, 3) := by decide +kernel
theorem dX0_added_4 : decode cX0_added 4 = .ok (.ifCond .ne 15, 3) := by decide +kernel
theorem dX0_added_7 : decode cX0_added 7 = .ok (.lload_n 1, 1) := by decide +kernel
theorem dX0_added_8 : decode cX0_added 8 = .ok (.lload_n 3, 1) := by decide +kernel
theorem dX0_added_9 : decode cX0_added 9 = .ok (.ladd, 1) := by decide +kernel
theorem dX0_added_10 : decode cX0_added 10 = .ok (.ldc2_w 44, 3) := by decide +kernel
theorem dX0_added_13 : decode cX0_added 13 = .ok (.invokestatic 46, 3) := by decide +kernel
theorem dX0_added_16 : decode cX0_added 16 = .ok (.goto 22, 3) := by decide +kernel
theorem dX0_added_19 : decode cX0_added 19 = .ok (.aload_n 0, 1) := by decide +kernel
theorem dX0_added_20 : decode cX0_added 20 = .ok (.getfield 30, 3) := by decide +kernel
theorem dX0_added_23 : decode cX0_added 23 = .ok (.iconst 1, 1) := by decide +kernel
theorem dX0_added_24 : decode cX0_added 24 = .ok (.if_icmp .ne 9, 3) := by decide +kernel
theorem dX0_added_27 : decode cX0_added 27 = .ok (.lload_n 1, 1) := by decide +kernel
theorem dX0_added_28 : decode cX0_added 28 = .ok (.lconst 1, 1) := by decide +kernel
theorem dX0_added_29 : decode cX0_added 29 = .ok (.ladd, 1) := by decide +kernel
theorem dX0_added_30 : decode cX0_added 30 = .ok (.goto 8, 3) := by decide +kernel
theorem dX0_added_33 : decode cX0_added 33 = .ok (.lload_n 1, 1) := by decide +kernel
theorem dX0_added_34 : decode cX0_added 34 = .ok (.lload_n 3, 1) := by decide +kernel
theorem dX0_added_35 : decode cX0_added 35 = .ok (.invokestatic 52, 3) := by decide +kernel
theorem dX0_added_38 : decode cX0_added 38 = .ok (.lreturn, 1) := by decide +kernel
abbrev cX0_out : ByteArray := prog_1_method_6_code
def yX0_out : MethodName := ⟨RX0, "out", "(II)J"⟩
theorem dX0_out_0 : decode cX0_out 0 = .ok (.iload_n 1, 1) := by decide +kernel
theorem dX0_out_1 : decode cX0_out 1 = .ok (.ifCond .lt 23, 3) := by decide +kernel
theorem dX0_out_4 : decode cX0_out 4 = .ok (.iload_n 1, 1) := by decide +kernel
theorem dX0_out_5 : decode cX0_out 5 = .ok (.aload_n 0, 1) := by decide +kernel
theorem dX0_out_6 : decode cX0_out 6 = .ok (.getfield 19, 3) := by decide +kernel
theorem dX0_out_9 : decode cX0_out 9 = .ok (.getfield 37, 3) := by decide +kernel
theorem dX0_out_12 : decode cX0_out 12 = .ok (.if_icmp .ge 12, 3) := by decide +kernel
theorem dX0_out_15 : decode cX0_out 15 = .ok (.iload_n 2, 1) := by decide +kernel
theorem dX0_out_16 : decode cX0_out 16 = .ok (.ifCond .lt 8, 3) := by decide +kernel
theorem dX0_out_19 : decode cX0_out 19 = .ok (.iload_n 2, 1) := by decide +kernel
theorem dX0_out_20 : decode cX0_out 20 = .ok (.iconst 2, 1) := by decide +kernel
theorem dX0_out_21 : decode cX0_out 21 = .ok (.if_icmp .le 7, 3) := by decide +kernel
theorem dX0_out_24 : decode cX0_out 24 = .ok (.ldc2_w 58, 3) := by decide +kernel
theorem dX0_out_27 : decode cX0_out 27 = .ok (.lreturn, 1) := by decide +kernel
theorem dX0_out_28 : decode cX0_out 28 = .ok (.iload_n 2, 1) := by decide +kernel
theorem dX0_out_29 : decode cX0_out 29 = .ok (.ifCond .ne 14, 3) := by decide +kernel
theorem dX0_out_32 : decode cX0_out 32 = .ok (.aload_n 0, 1) := by decide +kernel
theorem dX0_out_33 : decode cX0_out 33 = .ok (.getfield 19, 3) := by decide +kernel
theorem dX0_out_36 : decode cX0_out 36 = .ok (.iload_n 1, 1) := by decide +kernel
theorem dX0_out_37 : decode cX0_out 37 = .ok (.invokevirtual 103, 3) := by decide +kernel
theorem dX0_out_40 : decode cX0_out 40 = .ok (.goto 27, 3) := by decide +kernel
theorem dX0_out_43 : decode cX0_out 43 = .ok (.iload_n 2, 1) := by decide +kernel
theorem dX0_out_44 : decode cX0_out 44 = .ok (.iconst 1, 1) := by decide +kernel
theorem dX0_out_45 : decode cX0_out 45 = .ok (.if_icmp .ne 14, 3) := by decide +kernel
theorem dX0_out_48 : decode cX0_out 48 = .ok (.aload_n 0, 1) := by decide +kernel
theorem dX0_out_49 : decode cX0_out 49 = .ok (.getfield 19, 3) := by decide +kernel
theorem dX0_out_52 : decode cX0_out 52 = .ok (.iload_n 1, 1) := by decide +kernel
theorem dX0_out_53 : decode cX0_out 53 = .ok (.invokevirtual 104, 3) := by decide +kernel
theorem dX0_out_56 : decode cX0_out 56 = .ok (.goto 11, 3) := by decide +kernel
theorem dX0_out_59 : decode cX0_out 59 = .ok (.aload_n 0, 1) := by decide +kernel
theorem dX0_out_60 : decode cX0_out 60 = .ok (.getfield 19, 3) := by decide +kernel
theorem dX0_out_63 : decode cX0_out 63 = .ok (.iload_n 1, 1) := by decide +kernel
theorem dX0_out_64 : decode cX0_out 64 = .ok (.invokevirtual 107, 3) := by decide +kernel
theorem dX0_out_67 : decode cX0_out 67 = .ok (.lreturn, 1) := by decide +kernel
abbrev cX0_outs : ByteArray := prog_1_method_7_code
def yX0_outs : MethodName := ⟨RX0, "outs", "()I"⟩
theorem dX0_outs_0 : decode cX0_outs 0 = .ok (.aload_n 0, 1) := by decide +kernel
theorem dX0_outs_1 : decode cX0_outs 1 = .ok (.getfield 19, 3) := by decide +kernel
theorem dX0_outs_4 : decode cX0_outs 4 = .ok (.getfield 37, 3) := by decide +kernel
theorem dX0_outs_7 : decode cX0_outs 7 = .ok (.ireturn, 1) := by decide +kernel
abbrev cX0_late : ByteArray := prog_1_method_8_code
def yX0_late : MethodName := ⟨RX0, "late", "()I"⟩
theorem dX0_late_0 : decode cX0_late 0 = .ok (.aload_n 0, 1) := by decide +kernel
theorem dX0_late_1 : decode cX0_late 1 = .ok (.getfield 41, 3) := by decide +kernel
theorem dX0_late_4 : decode cX0_late 4 = .ok (.ireturn, 1) := by decide +kernel
abbrev cX0_taken : ByteArray := prog_1_method_9_code
def yX0_taken : MethodName := ⟨RX0, "taken", "()I"⟩
theorem dX0_taken_0 : decode cX0_taken 0 = .ok (.aload_n 0, 1) := by decide +kernel
theorem dX0_taken_1 : decode cX0_taken 1 = .ok (.getfield 38, 3) := by decide +kernel
theorem dX0_taken_4 : decode cX0_taken 4 = .ok (.ireturn, 1) := by decide +kernel
abbrev cX0_watermark : ByteArray := prog_1_method_10_code
def yX0_watermark : MethodName := ⟨RX0, "watermark", "()I"⟩
theorem dX0_watermark_0 : decode cX0_watermark 0 = .ok (.aload_n 0, 1) := by decide +kernel
theorem dX0_watermark_1 : decode cX0_watermark 1 = .ok (.getfield 27, 3) := by decide +kernel
theorem dX0_watermark_4 : decode cX0_watermark 4 = .ok (.ireturn, 1) := by decide +kernel
abbrev cX0_kept : ByteArray := prog_1_method_11_code
def yX0_kept : MethodName := ⟨RX0, "kept", "(JI)J"⟩
theorem dX0_kept_0 : decode cX0_kept 0 = .ok (.aload_n 0, 1) := by decide +kernel
theorem dX0_kept_1 : decode cX0_kept 1 = .ok (.getfield 10, 3) := by decide +kernel
theorem dX0_kept_4 : decode cX0_kept 4 = .ok (.iload_n 3, 1) := by decide +kernel
theorem dX0_kept_5 : decode cX0_kept 5 = .ok (.lload_n 1, 1) := by decide +kernel
theorem dX0_kept_6 : decode cX0_kept 6 = .ok (.invokevirtual 67, 3) := by decide +kernel
theorem dX0_kept_9 : decode cX0_kept 9 = .ok (.istore 4, 2) := by decide +kernel
theorem dX0_kept_11 : decode cX0_kept 11 = .ok (.iload 4, 2) := by decide +kernel
theorem dX0_kept_13 : decode cX0_kept 13 = .ok (.ifCond .ge 9, 3) := by decide +kernel
theorem dX0_kept_16 : decode cX0_kept 16 = .ok (.ldc2_w 58, 3) := by decide +kernel
theorem dX0_kept_19 : decode cX0_kept 19 = .ok (.goto 12, 3) := by decide +kernel
theorem dX0_kept_22 : decode cX0_kept 22 = .ok (.aload_n 0, 1) := by decide +kernel
theorem dX0_kept_23 : decode cX0_kept 23 = .ok (.getfield 10, 3) := by decide +kernel
theorem dX0_kept_26 : decode cX0_kept 26 = .ok (.iload 4, 2) := by decide +kernel
theorem dX0_kept_28 : decode cX0_kept 28 = .ok (.invokevirtual 71, 3) := by decide +kernel
theorem dX0_kept_31 : decode cX0_kept 31 = .ok (.lreturn, 1) := by decide +kernel
abbrev cX0_keeps : ByteArray := prog_1_method_12_code
def yX0_keeps : MethodName := ⟨RX0, "keeps", "()I"⟩
theorem dX0_keeps_0 : decode cX0_keeps 0 = .ok (.aload_n 0, 1) := by decide +kernel
theorem dX0_keeps_1 : decode cX0_keeps 1 = .ok (.getfield 10, 3) := by decide +kernel
theorem dX0_keeps_4 : decode cX0_keeps 4 = .ok (.getfield 36, 3) := by decide +kernel
theorem dX0_keeps_7 : decode cX0_keeps 7 = .ok (.ireturn, 1) := by decide +kernel
theorem q11 : (Jvm.Cond.initialized "SpanJobs") ∈ lw_all := lw_g (lw_at lw_m1 1 rfl) rfl
theorem q17 : (Jvm.Cond.instantiable "SpanJobs" (9 : Nat)) ∈ lw_all := lw_g (lw_at lw_m1 7 rfl) rfl
theorem q19 : (Jvm.Cond.instanceMethod ({ cls := "SpanJobs", name := "<init>", desc := "()V" } : Jvm.MethodName)) ∈ lw_all := lw_g (lw_at lw_m1 9 rfl) rfl
theorem q20 : (Jvm.Cond.code ({ cls := "SpanJobs", name := "<init>", desc := "()V" } : Jvm.MethodName) prog_1_method_1_code (1 : Nat) (Option.none : Option Jvm.ClassFile.FieldType)) ∈ lw_all := lw_g (lw_at lw_m1 10 rfl) rfl
theorem q21 : (Jvm.Cond.methodLink "SpanJobs" (1 : Nat) ({ cls := "java/lang/Object", name := "<init>", desc := "()V" } : Jvm.MethodName)) ∈ lw_all := lw_g (lw_at lw_m1 11 rfl) rfl
theorem q24 : (Jvm.Cond.classLink "SpanJobs" (7 : Nat) "SpanJobs$Spans") ∈ lw_all := lw_g (lw_at lw_m1 14 rfl) rfl
theorem q26 : (Jvm.Cond.methodLinkNest "SpanJobs" (9 : Nat) ({ cls := "SpanJobs$Spans", name := "<init>", desc := "()V" } : Jvm.MethodName) "SpanJobs") ∈ lw_tbl := lw_at lw_m1 16 rfl
theorem q33 : (Jvm.Cond.fieldLink "SpanJobs" (36 : Nat) "SpanJobs$Spans" "size" "I") ∈ lw_all := lw_g (lw_at lw_m1 23 rfl) rfl
theorem q46 : (Jvm.Cond.classLink "SpanJobs" (16 : Nat) "SpanJobs$Outputs") ∈ lw_all := lw_g (lw_at lw_m1 36 rfl) rfl
theorem q48 : (Jvm.Cond.methodLinkNest "SpanJobs" (18 : Nat) ({ cls := "SpanJobs$Outputs", name := "<init>", desc := "()V" } : Jvm.MethodName) "SpanJobs") ∈ lw_tbl := lw_at lw_m1 38 rfl
theorem q56 : (Jvm.Cond.fieldLink "SpanJobs" (37 : Nat) "SpanJobs$Outputs" "size" "I") ∈ lw_all := lw_g (lw_at lw_m1 46 rfl) rfl
theorem q66 : (Jvm.Cond.fieldLink "SpanJobs" (10 : Nat) "SpanJobs" "spans" "LSpanJobs$Spans;") ∈ lw_all := lw_g (lw_at lw_m1 56 rfl) rfl
theorem q67 : (Jvm.Cond.fieldLink "SpanJobs" (19 : Nat) "SpanJobs" "outputs" "LSpanJobs$Outputs;") ∈ lw_all := lw_g (lw_at lw_m1 57 rfl) rfl
theorem q68 : (Jvm.Cond.fieldLink "SpanJobs" (30 : Nat) "SpanJobs" "way" "I") ∈ lw_all := lw_g (lw_at lw_m1 58 rfl) rfl
theorem q69 : (Jvm.Cond.fieldLink "SpanJobs" (23 : Nat) "SpanJobs" "size" "I") ∈ lw_all := lw_g (lw_at lw_m1 59 rfl) rfl
theorem q70 : (Jvm.Cond.fieldLink "SpanJobs" (33 : Nat) "SpanJobs" "grace" "I") ∈ lw_all := lw_g (lw_at lw_m1 60 rfl) rfl
theorem q71 : (Jvm.Cond.fieldLink "SpanJobs" (55 : Nat) "SpanJobs" "all" "I") ∈ lw_all := lw_g (lw_at lw_m1 61 rfl) rfl
theorem q72 : (Jvm.Cond.fieldLink "SpanJobs" (38 : Nat) "SpanJobs" "takenCount" "I") ∈ lw_all := lw_g (lw_at lw_m1 62 rfl) rfl
theorem q73 : (Jvm.Cond.fieldLink "SpanJobs" (41 : Nat) "SpanJobs" "lateCount" "I") ∈ lw_all := lw_g (lw_at lw_m1 63 rfl) rfl
theorem q74 : (Jvm.Cond.fieldLink "SpanJobs" (27 : Nat) "SpanJobs" "mark" "I") ∈ lw_all := lw_g (lw_at lw_m1 64 rfl) rfl
theorem q75 : (Jvm.Cond.laysFinal "SpanJobs" "SpanJobs" "spans" "LSpanJobs$Spans;") ∈ lw_all := lw_g (lw_at lw_m1 65 rfl) rfl
theorem q76 : (Jvm.Cond.soleField "SpanJobs" "spans") ∈ lw_all := lw_g (lw_at lw_m1 66 rfl) rfl
theorem q77 : (Jvm.Cond.laysFinal "SpanJobs" "SpanJobs" "outputs" "LSpanJobs$Outputs;") ∈ lw_all := lw_g (lw_at lw_m1 67 rfl) rfl
theorem q78 : (Jvm.Cond.soleField "SpanJobs" "outputs") ∈ lw_all := lw_g (lw_at lw_m1 68 rfl) rfl
theorem q79 : (Jvm.Cond.lays "SpanJobs" "SpanJobs" "way" "I") ∈ lw_all := lw_g (lw_at lw_m1 69 rfl) rfl
theorem q80 : (Jvm.Cond.soleField "SpanJobs" "way") ∈ lw_all := lw_g (lw_at lw_m1 70 rfl) rfl
theorem q81 : (Jvm.Cond.lays "SpanJobs" "SpanJobs" "size" "I") ∈ lw_all := lw_g (lw_at lw_m1 71 rfl) rfl
theorem q82 : (Jvm.Cond.soleField "SpanJobs" "size") ∈ lw_all := lw_g (lw_at lw_m1 72 rfl) rfl
theorem q83 : (Jvm.Cond.lays "SpanJobs" "SpanJobs" "grace" "I") ∈ lw_all := lw_g (lw_at lw_m1 73 rfl) rfl
theorem q84 : (Jvm.Cond.soleField "SpanJobs" "grace") ∈ lw_all := lw_g (lw_at lw_m1 74 rfl) rfl
theorem q85 : (Jvm.Cond.lays "SpanJobs" "SpanJobs" "all" "I") ∈ lw_all := lw_g (lw_at lw_m1 75 rfl) rfl
theorem q86 : (Jvm.Cond.soleField "SpanJobs" "all") ∈ lw_all := lw_g (lw_at lw_m1 76 rfl) rfl
theorem q87 : (Jvm.Cond.lays "SpanJobs" "SpanJobs" "takenCount" "I") ∈ lw_all := lw_g (lw_at lw_m1 77 rfl) rfl
theorem q88 : (Jvm.Cond.soleField "SpanJobs" "takenCount") ∈ lw_all := lw_g (lw_at lw_m1 78 rfl) rfl
theorem q89 : (Jvm.Cond.lays "SpanJobs" "SpanJobs" "lateCount" "I") ∈ lw_all := lw_g (lw_at lw_m1 79 rfl) rfl
theorem q90 : (Jvm.Cond.soleField "SpanJobs" "lateCount") ∈ lw_all := lw_g (lw_at lw_m1 80 rfl) rfl
theorem q91 : (Jvm.Cond.lays "SpanJobs" "SpanJobs" "mark" "I") ∈ lw_all := lw_g (lw_at lw_m1 81 rfl) rfl
theorem q92 : (Jvm.Cond.soleField "SpanJobs" "mark") ∈ lw_all := lw_g (lw_at lw_m1 82 rfl) rfl
theorem q93 : (Jvm.Cond.superclass "SpanJobs" "java/lang/Object") ∈ lw_all := lw_g (lw_at lw_m1 83 rfl) rfl
theorem q95 : (Jvm.Cond.instanceMethod ({ cls := "SpanJobs", name := "begin", desc := "(III)Z" } : Jvm.MethodName)) ∈ lw_all := lw_g (lw_at lw_m1 85 rfl) rfl
theorem q96 : (Jvm.Cond.selects "SpanJobs" ({ cls := "SpanJobs", name := "begin", desc := "(III)Z" } : Jvm.MethodName) ({ cls := "SpanJobs", name := "begin", desc := "(III)Z" } : Jvm.MethodName)) ∈ lw_all := lw_g (lw_at lw_m1 86 rfl) rfl
theorem q97 : (Jvm.Cond.code ({ cls := "SpanJobs", name := "begin", desc := "(III)Z" } : Jvm.MethodName) prog_1_method_2_code (4 : Nat) (Option.some Jvm.ClassFile.FieldType.boolean)) ∈ lw_all := lw_g (lw_at lw_m1 87 rfl) rfl
theorem q99 : (Jvm.Cond.instanceMethod ({ cls := "SpanJobs", name := "take", desc := "(JJI)I" } : Jvm.MethodName)) ∈ lw_all := lw_g (lw_at lw_m1 89 rfl) rfl
theorem q100 : (Jvm.Cond.selects "SpanJobs" ({ cls := "SpanJobs", name := "take", desc := "(JJI)I" } : Jvm.MethodName) ({ cls := "SpanJobs", name := "take", desc := "(JJI)I" } : Jvm.MethodName)) ∈ lw_all := lw_g (lw_at lw_m1 90 rfl) rfl
theorem q101 : (Jvm.Cond.code ({ cls := "SpanJobs", name := "take", desc := "(JJI)I" } : Jvm.MethodName) prog_1_method_5_code (9 : Nat) (Option.some Jvm.ClassFile.FieldType.int)) ∈ lw_all := lw_g (lw_at lw_m1 91 rfl) rfl
theorem q102 : (Jvm.Cond.constantLong "SpanJobs" (58 : Nat) (-1 : Int64)) ∈ lw_all := lw_g (lw_at lw_m1 92 rfl) rfl
theorem q103 : (Jvm.Cond.constantLong "SpanJobs" (60 : Nat) (1000000000000 : Int64)) ∈ lw_all := lw_g (lw_at lw_m1 93 rfl) rfl
theorem q104 : (Jvm.Cond.constant "SpanJobs" (62 : Nat) (1000000000 : Int32)) ∈ lw_all := lw_g (lw_at lw_m1 94 rfl) rfl
theorem q105 : (Jvm.Cond.methodLink "SpanJobs" (63 : Nat) ({ cls := "SpanJobs", name := "isClosed", desc := "(I)Z" } : Jvm.MethodName)) ∈ lw_all := lw_g (lw_at lw_m1 95 rfl) rfl
theorem q106 : (Jvm.Cond.privateMethod ({ cls := "SpanJobs", name := "isClosed", desc := "(I)Z" } : Jvm.MethodName)) ∈ lw_tbl := lw_at lw_m1 96 rfl
theorem q107 : (Jvm.Cond.instanceMethod ({ cls := "SpanJobs", name := "isClosed", desc := "(I)Z" } : Jvm.MethodName)) ∈ lw_all := lw_g (lw_at lw_m1 97 rfl) rfl
theorem q108 : (Jvm.Cond.code ({ cls := "SpanJobs", name := "isClosed", desc := "(I)Z" } : Jvm.MethodName) prog_1_method_3_code (2 : Nat) (Option.some Jvm.ClassFile.FieldType.boolean)) ∈ lw_all := lw_g (lw_at lw_m1 98 rfl) rfl
theorem q109 : (Jvm.Cond.methodLink "SpanJobs" (67 : Nat) ({ cls := "SpanJobs$Spans", name := "find", desc := "(IJ)I" } : Jvm.MethodName)) ∈ lw_all := lw_g (lw_at lw_m1 99 rfl) rfl
theorem q121 : (Jvm.Cond.methodLink "SpanJobs" (71 : Nat) ({ cls := "SpanJobs$Spans", name := "number", desc := "(I)J" } : Jvm.MethodName)) ∈ lw_all := lw_g (lw_at lw_m1 111 rfl) rfl
theorem q125 : (Jvm.Cond.methodLink "SpanJobs" (75 : Nat) ({ cls := "SpanJobs", name := "added", desc := "(JJ)J" } : Jvm.MethodName)) ∈ lw_all := lw_g (lw_at lw_m1 115 rfl) rfl
theorem q126 : (Jvm.Cond.privateMethod ({ cls := "SpanJobs", name := "added", desc := "(JJ)J" } : Jvm.MethodName)) ∈ lw_tbl := lw_at lw_m1 116 rfl
theorem q127 : (Jvm.Cond.instanceMethod ({ cls := "SpanJobs", name := "added", desc := "(JJ)J" } : Jvm.MethodName)) ∈ lw_all := lw_g (lw_at lw_m1 117 rfl) rfl
theorem q128 : (Jvm.Cond.code ({ cls := "SpanJobs", name := "added", desc := "(JJ)J" } : Jvm.MethodName) prog_1_method_4_code (5 : Nat) (Option.some Jvm.ClassFile.FieldType.long)) ∈ lw_all := lw_g (lw_at lw_m1 118 rfl) rfl
theorem q129 : (Jvm.Cond.constantLong "SpanJobs" (44 : Nat) (1000000000000000 : Int64)) ∈ lw_all := lw_g (lw_at lw_m1 119 rfl) rfl
theorem q130 : (Jvm.Cond.methodLink "SpanJobs" (46 : Nat) ({ cls := "java/lang/Math", name := "min", desc := "(JJ)J" } : Jvm.MethodName)) ∈ lw_all := lw_g (lw_at lw_m1 120 rfl) rfl
theorem q133 : (Jvm.Cond.methodLink "SpanJobs" (52 : Nat) ({ cls := "java/lang/Math", name := "max", desc := "(JJ)J" } : Jvm.MethodName)) ∈ lw_all := lw_g (lw_at lw_m1 123 rfl) rfl
theorem q136 : (Jvm.Cond.methodLink "SpanJobs" (78 : Nat) ({ cls := "SpanJobs$Spans", name := "set", desc := "(IJ)V" } : Jvm.MethodName)) ∈ lw_all := lw_g (lw_at lw_m1 126 rfl) rfl
theorem q140 : (Jvm.Cond.methodLink "SpanJobs" (82 : Nat) ({ cls := "SpanJobs$Spans", name := "insert", desc := "(IJJ)V" } : Jvm.MethodName)) ∈ lw_all := lw_g (lw_at lw_m1 130 rfl) rfl
theorem q148 : (Jvm.Cond.methodLink "SpanJobs" (86 : Nat) ({ cls := "java/lang/Math", name := "max", desc := "(II)I" } : Jvm.MethodName)) ∈ lw_all := lw_g (lw_at lw_m1 138 rfl) rfl
theorem q151 : (Jvm.Cond.methodLink "SpanJobs" (89 : Nat) ({ cls := "SpanJobs$Spans", name := "span", desc := "(I)I" } : Jvm.MethodName)) ∈ lw_all := lw_g (lw_at lw_m1 141 rfl) rfl
theorem q155 : (Jvm.Cond.methodLink "SpanJobs" (93 : Nat) ({ cls := "SpanJobs$Spans", name := "key", desc := "(I)J" } : Jvm.MethodName)) ∈ lw_all := lw_g (lw_at lw_m1 145 rfl) rfl
theorem q159 : (Jvm.Cond.methodLink "SpanJobs" (96 : Nat) ({ cls := "SpanJobs$Outputs", name := "add", desc := "(JJJ)V" } : Jvm.MethodName)) ∈ lw_all := lw_g (lw_at lw_m1 149 rfl) rfl
theorem q167 : (Jvm.Cond.methodLink "SpanJobs" (100 : Nat) ({ cls := "SpanJobs$Spans", name := "shift", desc := "()V" } : Jvm.MethodName)) ∈ lw_all := lw_g (lw_at lw_m1 157 rfl) rfl
theorem q172 : (Jvm.Cond.instanceMethod ({ cls := "SpanJobs", name := "out", desc := "(II)J" } : Jvm.MethodName)) ∈ lw_all := lw_g (lw_at lw_m1 162 rfl) rfl
theorem q173 : (Jvm.Cond.selects "SpanJobs" ({ cls := "SpanJobs", name := "out", desc := "(II)J" } : Jvm.MethodName) ({ cls := "SpanJobs", name := "out", desc := "(II)J" } : Jvm.MethodName)) ∈ lw_all := lw_g (lw_at lw_m1 163 rfl) rfl
theorem q174 : (Jvm.Cond.code ({ cls := "SpanJobs", name := "out", desc := "(II)J" } : Jvm.MethodName) prog_1_method_6_code (3 : Nat) (Option.some Jvm.ClassFile.FieldType.long)) ∈ lw_all := lw_g (lw_at lw_m1 164 rfl) rfl
theorem q175 : (Jvm.Cond.methodLink "SpanJobs" (103 : Nat) ({ cls := "SpanJobs$Outputs", name := "key", desc := "(I)J" } : Jvm.MethodName)) ∈ lw_all := lw_g (lw_at lw_m1 165 rfl) rfl
theorem q179 : (Jvm.Cond.methodLink "SpanJobs" (104 : Nat) ({ cls := "SpanJobs$Outputs", name := "value", desc := "(I)J" } : Jvm.MethodName)) ∈ lw_all := lw_g (lw_at lw_m1 169 rfl) rfl
theorem q183 : (Jvm.Cond.methodLink "SpanJobs" (107 : Nat) ({ cls := "SpanJobs$Outputs", name := "when", desc := "(I)J" } : Jvm.MethodName)) ∈ lw_all := lw_g (lw_at lw_m1 173 rfl) rfl
theorem q188 : (Jvm.Cond.instanceMethod ({ cls := "SpanJobs", name := "outs", desc := "()I" } : Jvm.MethodName)) ∈ lw_all := lw_g (lw_at lw_m1 178 rfl) rfl
theorem q189 : (Jvm.Cond.selects "SpanJobs" ({ cls := "SpanJobs", name := "outs", desc := "()I" } : Jvm.MethodName) ({ cls := "SpanJobs", name := "outs", desc := "()I" } : Jvm.MethodName)) ∈ lw_all := lw_g (lw_at lw_m1 179 rfl) rfl
theorem q190 : (Jvm.Cond.code ({ cls := "SpanJobs", name := "outs", desc := "()I" } : Jvm.MethodName) prog_1_method_7_code (1 : Nat) (Option.some Jvm.ClassFile.FieldType.int)) ∈ lw_all := lw_g (lw_at lw_m1 180 rfl) rfl
theorem q192 : (Jvm.Cond.instanceMethod ({ cls := "SpanJobs", name := "late", desc := "()I" } : Jvm.MethodName)) ∈ lw_all := lw_g (lw_at lw_m1 182 rfl) rfl
theorem q193 : (Jvm.Cond.selects "SpanJobs" ({ cls := "SpanJobs", name := "late", desc := "()I" } : Jvm.MethodName) ({ cls := "SpanJobs", name := "late", desc := "()I" } : Jvm.MethodName)) ∈ lw_all := lw_g (lw_at lw_m1 183 rfl) rfl
theorem q194 : (Jvm.Cond.code ({ cls := "SpanJobs", name := "late", desc := "()I" } : Jvm.MethodName) prog_1_method_8_code (1 : Nat) (Option.some Jvm.ClassFile.FieldType.int)) ∈ lw_all := lw_g (lw_at lw_m1 184 rfl) rfl
theorem q196 : (Jvm.Cond.instanceMethod ({ cls := "SpanJobs", name := "taken", desc := "()I" } : Jvm.MethodName)) ∈ lw_all := lw_g (lw_at lw_m1 186 rfl) rfl
theorem q197 : (Jvm.Cond.selects "SpanJobs" ({ cls := "SpanJobs", name := "taken", desc := "()I" } : Jvm.MethodName) ({ cls := "SpanJobs", name := "taken", desc := "()I" } : Jvm.MethodName)) ∈ lw_all := lw_g (lw_at lw_m1 187 rfl) rfl
theorem q198 : (Jvm.Cond.code ({ cls := "SpanJobs", name := "taken", desc := "()I" } : Jvm.MethodName) prog_1_method_9_code (1 : Nat) (Option.some Jvm.ClassFile.FieldType.int)) ∈ lw_all := lw_g (lw_at lw_m1 188 rfl) rfl
theorem q200 : (Jvm.Cond.instanceMethod ({ cls := "SpanJobs", name := "watermark", desc := "()I" } : Jvm.MethodName)) ∈ lw_all := lw_g (lw_at lw_m1 190 rfl) rfl
theorem q201 : (Jvm.Cond.selects "SpanJobs" ({ cls := "SpanJobs", name := "watermark", desc := "()I" } : Jvm.MethodName) ({ cls := "SpanJobs", name := "watermark", desc := "()I" } : Jvm.MethodName)) ∈ lw_all := lw_g (lw_at lw_m1 191 rfl) rfl
theorem q202 : (Jvm.Cond.code ({ cls := "SpanJobs", name := "watermark", desc := "()I" } : Jvm.MethodName) prog_1_method_10_code (1 : Nat) (Option.some Jvm.ClassFile.FieldType.int)) ∈ lw_all := lw_g (lw_at lw_m1 192 rfl) rfl
theorem q204 : (Jvm.Cond.instanceMethod ({ cls := "SpanJobs", name := "kept", desc := "(JI)J" } : Jvm.MethodName)) ∈ lw_all := lw_g (lw_at lw_m1 194 rfl) rfl
theorem q205 : (Jvm.Cond.selects "SpanJobs" ({ cls := "SpanJobs", name := "kept", desc := "(JI)J" } : Jvm.MethodName) ({ cls := "SpanJobs", name := "kept", desc := "(JI)J" } : Jvm.MethodName)) ∈ lw_all := lw_g (lw_at lw_m1 195 rfl) rfl
theorem q206 : (Jvm.Cond.code ({ cls := "SpanJobs", name := "kept", desc := "(JI)J" } : Jvm.MethodName) prog_1_method_11_code (5 : Nat) (Option.some Jvm.ClassFile.FieldType.long)) ∈ lw_all := lw_g (lw_at lw_m1 196 rfl) rfl
theorem q208 : (Jvm.Cond.instanceMethod ({ cls := "SpanJobs", name := "keeps", desc := "()I" } : Jvm.MethodName)) ∈ lw_all := lw_g (lw_at lw_m1 198 rfl) rfl
theorem q209 : (Jvm.Cond.selects "SpanJobs" ({ cls := "SpanJobs", name := "keeps", desc := "()I" } : Jvm.MethodName) ({ cls := "SpanJobs", name := "keeps", desc := "()I" } : Jvm.MethodName)) ∈ lw_all := lw_g (lw_at lw_m1 199 rfl) rfl
theorem q210 : (Jvm.Cond.code ({ cls := "SpanJobs", name := "keeps", desc := "()I" } : Jvm.MethodName) prog_1_method_12_code (1 : Nat) (Option.some Jvm.ClassFile.FieldType.int)) ∈ lw_all := lw_g (lw_at lw_m1 200 rfl) rfl
theorem in_X0 : ∀ w ∈ wsX00, w ∈ lw_all := lw_in wsX00 [75, 77, 79, 81, 83, 85, 87, 89, 91] (by decide +kernel) (by decide +kernel)
/-! java/lang/Math -/
set_option maxRecDepth 100000
def RJ0 : String := "java/lang/Math"
abbrev cJ0_min : ByteArray := prog_6_method_70_code
def yJ0_min : MethodName := ⟨RJ0, "min", "(JJ)J"⟩
theorem dJ0_min_0 : decode cJ0_min 0 = .ok (.lload_n 0, 1) := by decide +kernel
theorem dJ0_min_1 : decode cJ0_min 1 = .ok (.lload_n 2, 1) := by decide +kernel
theorem dJ0_min_2 : decode cJ0_min 2 = .ok (.lcmp, 1) := by decide +kernel
theorem dJ0_min_3 : decode cJ0_min 3 = .ok (.ifCond .gt 7, 3) := by decide +kernel
theorem dJ0_min_6 : decode cJ0_min 6 = .ok (.lload_n 0, 1) := by decide +kernel
theorem dJ0_min_7 : decode cJ0_min 7 = .ok (.goto 4, 3) := by decide +kernel
theorem dJ0_min_10 : decode cJ0_min 10 = .ok (.lload_n 2, 1) := by decide +kernel
theorem dJ0_min_11 : decode cJ0_min 11 = .ok (.lreturn, 1) := by decide +kernel
abbrev cJ0_max : ByteArray := prog_6_method_66_code
def yJ0_max : MethodName := ⟨RJ0, "max", "(JJ)J"⟩
theorem dJ0_max_0 : decode cJ0_max 0 = .ok (.lload_n 0, 1) := by decide +kernel
theorem dJ0_max_1 : decode cJ0_max 1 = .ok (.lload_n 2, 1) := by decide +kernel
theorem dJ0_max_2 : decode cJ0_max 2 = .ok (.lcmp, 1) := by decide +kernel
theorem dJ0_max_3 : decode cJ0_max 3 = .ok (.ifCond .lt 7, 3) := by decide +kernel
theorem dJ0_max_6 : decode cJ0_max 6 = .ok (.lload_n 0, 1) := by decide +kernel
theorem dJ0_max_7 : decode cJ0_max 7 = .ok (.goto 4, 3) := by decide +kernel
theorem dJ0_max_10 : decode cJ0_max 10 = .ok (.lload_n 2, 1) := by decide +kernel
theorem dJ0_max_11 : decode cJ0_max 11 = .ok (.lreturn, 1) := by decide +kernel
abbrev cJ0_max_2 : ByteArray := prog_6_method_65_code
def yJ0_max_2 : MethodName := ⟨RJ0, "max", "(II)I"⟩
theorem dJ0_max_2_0 : decode cJ0_max_2 0 = .ok (.iload_n 0, 1) := by decide +kernel
theorem dJ0_max_2_1 : decode cJ0_max_2 1 = .ok (.iload_n 1, 1) := by decide +kernel
theorem dJ0_max_2_2 : decode cJ0_max_2 2 = .ok (.if_icmp .lt 7, 3) := by decide +kernel
theorem dJ0_max_2_5 : decode cJ0_max_2 5 = .ok (.iload_n 0, 1) := by decide +kernel
theorem dJ0_max_2_6 : decode cJ0_max_2 6 = .ok (.goto 4, 3) := by decide +kernel
theorem dJ0_max_2_9 : decode cJ0_max_2 9 = .ok (.iload_n 1, 1) := by decide +kernel
theorem dJ0_max_2_10 : decode cJ0_max_2 10 = .ok (.ireturn, 1) := by decide +kernel
theorem q15 : (Jvm.Cond.initialized "java/lang/Math") ∈ lw_all := lw_g (lw_at lw_m1 5 rfl) rfl
theorem q131 : (Jvm.Cond.static ({ cls := "java/lang/Math", name := "min", desc := "(JJ)J" } : Jvm.MethodName)) ∈ lw_all := lw_g (lw_at lw_m1 121 rfl) rfl
theorem q132 : (Jvm.Cond.code ({ cls := "java/lang/Math", name := "min", desc := "(JJ)J" } : Jvm.MethodName) prog_6_method_70_code (4 : Nat) (Option.some Jvm.ClassFile.FieldType.long)) ∈ lw_all := lw_g (lw_at lw_m1 122 rfl) rfl
theorem q134 : (Jvm.Cond.static ({ cls := "java/lang/Math", name := "max", desc := "(JJ)J" } : Jvm.MethodName)) ∈ lw_all := lw_g (lw_at lw_m1 124 rfl) rfl
theorem q135 : (Jvm.Cond.code ({ cls := "java/lang/Math", name := "max", desc := "(JJ)J" } : Jvm.MethodName) prog_6_method_66_code (4 : Nat) (Option.some Jvm.ClassFile.FieldType.long)) ∈ lw_all := lw_g (lw_at lw_m1 125 rfl) rfl
theorem q149 : (Jvm.Cond.static ({ cls := "java/lang/Math", name := "max", desc := "(II)I" } : Jvm.MethodName)) ∈ lw_all := lw_g (lw_at lw_m1 139 rfl) rfl
theorem q150 : (Jvm.Cond.code ({ cls := "java/lang/Math", name := "max", desc := "(II)I" } : Jvm.MethodName) prog_6_method_65_code (2 : Nat) (Option.some Jvm.ClassFile.FieldType.int)) ∈ lw_all := lw_g (lw_at lw_m1 140 rfl) rfl
end
section
/-! SpanJobsModel -/
set_option maxRecDepth 100000
def RX3 : String := "SpanJobsModel"
def TX3 : u_T := fun k => match k with
  | 0 => ("SpanJobsModel", "way", "I", false)
  | 1 => ("SpanJobsModel", "size", "I", false)
  | 2 => ("SpanJobsModel", "grace", "I", false)
  | 3 => ("SpanJobsModel", "life", "I", false)
  | 4 => ("SpanJobsModel", "taken", "I", false)
  | 5 => ("SpanJobsModel", "late", "I", false)
  | 6 => ("SpanJobsModel", "mark", "I", false)
  | 7 => ("SpanJobsModel", "outs", "I", false)
  | 8 => ("SpanJobsModel", "key", "[J", true)
  | 9 => ("SpanJobsModel", "value", "[J", true)
  | 10 => ("SpanJobsModel", "span", "[I", true)
  | 11 => ("SpanJobsModel", "isOut", "[Z", true)
  | 12 => ("SpanJobsModel", "count", "I", false)
  | 13 => ("SpanJobsModel", "outKey", "[J", true)
  | 14 => ("SpanJobsModel", "outNumber", "[J", true)
  | _ => ("SpanJobsModel", "outWhen", "[I", true)
def tyX3 : Nat → FieldType := fun k => match k with
  | 0 => .int
  | 1 => .int
  | 2 => .int
  | 3 => .int
  | 4 => .int
  | 5 => .int
  | 6 => .int
  | 7 => .int
  | 8 => .array .long
  | 9 => .array .long
  | 10 => .array .int
  | 11 => .array .boolean
  | 12 => .int
  | 13 => .array .long
  | 14 => .array .long
  | _ => .array .int
abbrev wsX30 : List Cond := u_ws RX3 TX3 16
set_option maxRecDepth 100000 in
theorem nmX3 : ∀ a, a < 16 → ∀ b, b < 16 → a ≠ b → (TX3 a).2.1 ≠ (TX3 b).2.1 := by decide +kernel
set_option maxRecDepth 100000 in
theorem tyX3_ok : ∀ k, k < 16 → parseFieldDescriptor (TX3 k).2.2.1 = some (tyX3 k) := by decide +kernel
abbrev cX3_init : ByteArray := prog_5_method_1_code
def yX3_init : MethodName := ⟨RX3, "<init>", "()V"⟩
theorem dX3_init_0 : decode cX3_init 0 = .ok (.aload_n 0, 1) := by decide +kernel
theorem dX3_init_1 : decode cX3_init 1 = .ok (.invokespecial 1, 3) := by decide +kernel
theorem dX3_init_4 : decode cX3_init 4 = .ok (.aload_n 0, 1) := by decide +kernel
theorem dX3_init_5 : decode cX3_init 5 = .ok (.iconst 1, 1) := by decide +kernel
theorem dX3_init_6 : decode cX3_init 6 = .ok (.putfield 7, 3) := by decide +kernel
theorem dX3_init_9 : decode cX3_init 9 = .ok (.aload_n 0, 1) := by decide +kernel
theorem dX3_init_10 : decode cX3_init 10 = .ok (.iconst (-1), 1) := by decide +kernel
theorem dX3_init_11 : decode cX3_init 11 = .ok (.putfield 13, 3) := by decide +kernel
theorem dX3_init_14 : decode cX3_init 14 = .ok (.aload_n 0, 1) := by decide +kernel
theorem dX3_init_15 : decode cX3_init 15 = .ok (.sipush 3000, 3) := by decide +kernel
theorem dX3_init_18 : decode cX3_init 18 = .ok (.newarray .long, 2) := by decide +kernel
theorem dX3_init_20 : decode cX3_init 20 = .ok (.putfield 16, 3) := by decide +kernel
theorem dX3_init_23 : decode cX3_init 23 = .ok (.aload_n 0, 1) := by decide +kernel
theorem dX3_init_24 : decode cX3_init 24 = .ok (.sipush 3000, 3) := by decide +kernel
theorem dX3_init_27 : decode cX3_init 27 = .ok (.newarray .long, 2) := by decide +kernel
theorem dX3_init_29 : decode cX3_init 29 = .ok (.putfield 20, 3) := by decide +kernel
theorem dX3_init_32 : decode cX3_init 32 = .ok (.aload_n 0, 1) := by decide +kernel
theorem dX3_init_33 : decode cX3_init 33 = .ok (.sipush 3000, 3) := by decide +kernel
theorem dX3_init_36 : decode cX3_init 36 = .ok (.newarray .int, 2) := by decide +kernel
theorem dX3_init_38 : decode cX3_init 38 = .ok (.putfield 23, 3) := by decide +kernel
theorem dX3_init_41 : decode cX3_init 41 = .ok (.aload_n 0, 1) := by decide +kernel
theorem dX3_init_42 : decode cX3_init 42 = .ok (.sipush 3000, 3) := by decide +kernel
theorem dX3_init_45 : decode cX3_init 45 = .ok (.newarray .boolean, 2) := by decide +kernel
theorem dX3_init_47 : decode cX3_init 47 = .ok (.putfield 27, 3) := by decide +kernel
theorem dX3_init_50 : decode cX3_init 50 = .ok (.aload_n 0, 1) := by decide +kernel
theorem dX3_init_51 : decode cX3_init 51 = .ok (.sipush 3000, 3) := by decide +kernel
theorem dX3_init_54 : decode cX3_init 54 = .ok (.newarray .long, 2) := by decide +kernel
theorem dX3_init_56 : decode cX3_init 56 = .ok (.putfield 31, 3) := by decide +kernel
theorem dX3_init_59 : decode cX3_init 59 = .ok (.aload_n 0, 1) := by decide +kernel
theorem dX3_init_60 : decode cX3_init 60 = .ok (.sipush 3000, 3) := by decide +kernel
theorem dX3_init_63 : decode cX3_init 63 = .ok (.newarray .long, 2) := by decide +kernel
theorem dX3_init_65 : decode cX3_init 65 = .ok (.putfield 34, 3) := by decide +kernel
theorem dX3_init_68 : decode cX3_init 68 = .ok (.aload_n 0, 1) := by decide +kernel
theorem dX3_init_69 : decode cX3_init 69 = .ok (.sipush 3000, 3) := by decide +kernel
theorem dX3_init_72 : decode cX3_init 72 = .ok (.newarray .int, 2) := by decide +kernel
theorem dX3_init_74 : decode cX3_init 74 = .ok (.putfield 37, 3) := by decide +kernel
theorem dX3_init_77 : decode cX3_init 77 = .ok (.return_, 1) := by decide +kernel
abbrev cX3_begin : ByteArray := prog_5_method_3_code
def yX3_begin : MethodName := ⟨RX3, "begin", "(III)Z"⟩
theorem dX3_begin_0 : decode cX3_begin 0 = .ok (.iload_n 1, 1) := by decide +kernel
theorem dX3_begin_1 : decode cX3_begin 1 = .ok (.ifCond .lt 31, 3) := by decide +kernel
theorem dX3_begin_4 : decode cX3_begin 4 = .ok (.iload_n 1, 1) := by decide +kernel
theorem dX3_begin_5 : decode cX3_begin 5 = .ok (.iconst 2, 1) := by decide +kernel
theorem dX3_begin_6 : decode cX3_begin 6 = .ok (.if_icmp .gt 26, 3) := by decide +kernel
theorem dX3_begin_9 : decode cX3_begin 9 = .ok (.iload_n 2, 1) := by decide +kernel
theorem dX3_begin_10 : decode cX3_begin 10 = .ok (.iconst 1, 1) := by decide +kernel
theorem dX3_begin_11 : decode cX3_begin 11 = .ok (.if_icmp .lt 21, 3) := by decide +kernel
theorem dX3_begin_14 : decode cX3_begin 14 = .ok (.iload_n 2, 1) := by decide +kernel
theorem dX3_begin_15 : decode cX3_begin 15 = .ok (.sipush 1000, 3) := by decide +kernel
theorem dX3_begin_18 : decode cX3_begin 18 = .ok (.if_icmp .gt 14, 3) := by decide +kernel
theorem dX3_begin_21 : decode cX3_begin 21 = .ok (.iload_n 3, 1) := by decide +kernel
theorem dX3_begin_22 : decode cX3_begin 22 = .ok (.ifCond .lt 10, 3) := by decide +kernel
theorem dX3_begin_25 : decode cX3_begin 25 = .ok (.iload_n 3, 1) := by decide +kernel
theorem dX3_begin_26 : decode cX3_begin 26 = .ok (.sipush 1000, 3) := by decide +kernel
theorem dX3_begin_29 : decode cX3_begin 29 = .ok (.if_icmp .le 5, 3) := by decide +kernel
theorem dX3_begin_32 : decode cX3_begin 32 = .ok (.iconst 0, 1) := by decide +kernel
theorem dX3_begin_33 : decode cX3_begin 33 = .ok (.ireturn, 1) := by decide +kernel
theorem dX3_begin_34 : decode cX3_begin 34 = .ok (.aload_n 0, 1) := by decide +kernel
theorem dX3_begin_35 : decode cX3_begin 35 = .ok (.iload_n 1, 1) := by decide +kernel
theorem dX3_begin_36 : decode cX3_begin 36 = .ok (.putfield 40, 3) := by decide +kernel
theorem dX3_begin_39 : decode cX3_begin 39 = .ok (.aload_n 0, 1) := by decide +kernel
theorem dX3_begin_40 : decode cX3_begin 40 = .ok (.iload_n 2, 1) := by decide +kernel
theorem dX3_begin_41 : decode cX3_begin 41 = .ok (.putfield 7, 3) := by decide +kernel
theorem dX3_begin_44 : decode cX3_begin 44 = .ok (.aload_n 0, 1) := by decide +kernel
theorem dX3_begin_45 : decode cX3_begin 45 = .ok (.iload_n 3, 1) := by decide +kernel
theorem dX3_begin_46 : decode cX3_begin 46 = .ok (.putfield 43, 3) := by decide +kernel
theorem dX3_begin_49 : decode cX3_begin 49 = .ok (.aload_n 0, 1) := by decide +kernel
theorem dX3_begin_50 : decode cX3_begin 50 = .ok (.iconst 0, 1) := by decide +kernel
theorem dX3_begin_51 : decode cX3_begin 51 = .ok (.putfield 46, 3) := by decide +kernel
theorem dX3_begin_54 : decode cX3_begin 54 = .ok (.aload_n 0, 1) := by decide +kernel
theorem dX3_begin_55 : decode cX3_begin 55 = .ok (.iconst 0, 1) := by decide +kernel
theorem dX3_begin_56 : decode cX3_begin 56 = .ok (.putfield 49, 3) := by decide +kernel
theorem dX3_begin_59 : decode cX3_begin 59 = .ok (.aload_n 0, 1) := by decide +kernel
theorem dX3_begin_60 : decode cX3_begin 60 = .ok (.iconst (-1), 1) := by decide +kernel
theorem dX3_begin_61 : decode cX3_begin 61 = .ok (.putfield 13, 3) := by decide +kernel
theorem dX3_begin_64 : decode cX3_begin 64 = .ok (.aload_n 0, 1) := by decide +kernel
theorem dX3_begin_65 : decode cX3_begin 65 = .ok (.iconst 0, 1) := by decide +kernel
theorem dX3_begin_66 : decode cX3_begin 66 = .ok (.putfield 52, 3) := by decide +kernel
theorem dX3_begin_69 : decode cX3_begin 69 = .ok (.aload_n 0, 1) := by decide +kernel
theorem dX3_begin_70 : decode cX3_begin 70 = .ok (.iconst 0, 1) := by decide +kernel
theorem dX3_begin_71 : decode cX3_begin 71 = .ok (.putfield 55, 3) := by decide +kernel
theorem dX3_begin_74 : decode cX3_begin 74 = .ok (.iconst 1, 1) := by decide +kernel
theorem dX3_begin_75 : decode cX3_begin 75 = .ok (.ireturn, 1) := by decide +kernel
abbrev cX3_take : ByteArray := prog_5_method_5_code
def yX3_take : MethodName := ⟨RX3, "take", "(JJI)I"⟩
theorem dX3_take_0 : decode cX3_take 0 = .ok (.lload_n 1, 1) := by decide +kernel
theorem dX3_take_1 : decode cX3_take 1 = .ok (.ldc2_w 58, 3) := by decide +kernel
theorem dX3_take_4 : decode cX3_take 4 = .ok (.lcmp, 1) := by decide +kernel
theorem dX3_take_5 : decode cX3_take 5 = .ok (.ifCond .lt 41, 3) := by decide +kernel
theorem dX3_take_8 : decode cX3_take 8 = .ok (.lload_n 3, 1) := by decide +kernel
theorem dX3_take_9 : decode cX3_take 9 = .ok (.ldc2_w 58, 3) := by decide +kernel
theorem dX3_take_12 : decode cX3_take 12 = .ok (.lcmp, 1) := by decide +kernel
theorem dX3_take_13 : decode cX3_take 13 = .ok (.ifCond .lt 33, 3) := by decide +kernel
theorem dX3_take_16 : decode cX3_take 16 = .ok (.lload_n 3, 1) := by decide +kernel
theorem dX3_take_17 : decode cX3_take 17 = .ok (.ldc2_w 60, 3) := by decide +kernel
theorem dX3_take_20 : decode cX3_take 20 = .ok (.lcmp, 1) := by decide +kernel
theorem dX3_take_21 : decode cX3_take 21 = .ok (.ifCond .gt 25, 3) := by decide +kernel
theorem dX3_take_24 : decode cX3_take 24 = .ok (.iload 5, 2) := by decide +kernel
theorem dX3_take_26 : decode cX3_take 26 = .ok (.ifCond .lt 20, 3) := by decide +kernel
theorem dX3_take_29 : decode cX3_take 29 = .ok (.iload 5, 2) := by decide +kernel
theorem dX3_take_31 : decode cX3_take 31 = .ok (.ldc 62, 2) := by decide +kernel
theorem dX3_take_33 : decode cX3_take 33 = .ok (.if_icmp .gt 13, 3) := by decide +kernel
theorem dX3_take_36 : decode cX3_take 36 = .ok (.aload_n 0, 1) := by decide +kernel
theorem dX3_take_37 : decode cX3_take 37 = .ok (.getfield 63, 3) := by decide +kernel
theorem dX3_take_40 : decode cX3_take 40 = .ok (.sipush 3000, 3) := by decide +kernel
theorem dX3_take_43 : decode cX3_take 43 = .ok (.if_icmp .ne 6, 3) := by decide +kernel
theorem dX3_take_46 : decode cX3_take 46 = .ok (.bipush (-3), 2) := by decide +kernel
theorem dX3_take_48 : decode cX3_take 48 = .ok (.ireturn, 1) := by decide +kernel
theorem dX3_take_49 : decode cX3_take 49 = .ok (.aload_n 0, 1) := by decide +kernel
theorem dX3_take_50 : decode cX3_take 50 = .ok (.dup, 1) := by decide +kernel
theorem dX3_take_51 : decode cX3_take 51 = .ok (.getfield 63, 3) := by decide +kernel
theorem dX3_take_54 : decode cX3_take 54 = .ok (.iconst 1, 1) := by decide +kernel
theorem dX3_take_55 : decode cX3_take 55 = .ok (.iadd, 1) := by decide +kernel
theorem dX3_take_56 : decode cX3_take 56 = .ok (.putfield 63, 3) := by decide +kernel
theorem dX3_take_59 : decode cX3_take 59 = .ok (.aload_n 0, 1) := by decide +kernel
theorem dX3_take_60 : decode cX3_take 60 = .ok (.dup, 1) := by decide +kernel
theorem dX3_take_61 : decode cX3_take 61 = .ok (.getfield 46, 3) := by decide +kernel
theorem dX3_take_64 : decode cX3_take 64 = .ok (.iconst 1, 1) := by decide +kernel
theorem dX3_take_65 : decode cX3_take 65 = .ok (.iadd, 1) := by decide +kernel
theorem dX3_take_66 : decode cX3_take 66 = .ok (.putfield 46, 3) := by decide +kernel
theorem dX3_take_69 : decode cX3_take 69 = .ok (.lload_n 1, 1) := by decide +kernel
theorem dX3_take_70 : decode cX3_take 70 = .ok (.lconst 0, 1) := by decide +kernel
theorem dX3_take_71 : decode cX3_take 71 = .ok (.lcmp, 1) := by decide +kernel
theorem dX3_take_72 : decode cX3_take 72 = .ok (.ifCond .lt 9, 3) := by decide +kernel
theorem dX3_take_75 : decode cX3_take 75 = .ok (.lload_n 3, 1) := by decide +kernel
theorem dX3_take_76 : decode cX3_take 76 = .ok (.lconst 0, 1) := by decide +kernel
theorem dX3_take_77 : decode cX3_take 77 = .ok (.lcmp, 1) := by decide +kernel
theorem dX3_take_78 : decode cX3_take 78 = .ok (.ifCond .ge 5, 3) := by decide +kernel
theorem dX3_take_81 : decode cX3_take 81 = .ok (.iconst (-1), 1) := by decide +kernel
theorem dX3_take_82 : decode cX3_take 82 = .ok (.ireturn, 1) := by decide +kernel
theorem dX3_take_83 : decode cX3_take 83 = .ok (.iload 5, 2) := by decide +kernel
theorem dX3_take_85 : decode cX3_take 85 = .ok (.aload_n 0, 1) := by decide +kernel
theorem dX3_take_86 : decode cX3_take 86 = .ok (.getfield 7, 3) := by decide +kernel
theorem dX3_take_89 : decode cX3_take 89 = .ok (.idiv, 1) := by decide +kernel
theorem dX3_take_90 : decode cX3_take 90 = .ok (.istore 6, 2) := by decide +kernel
theorem dX3_take_92 : decode cX3_take 92 = .ok (.aload_n 0, 1) := by decide +kernel
theorem dX3_take_93 : decode cX3_take 93 = .ok (.iload 6, 2) := by decide +kernel
theorem dX3_take_95 : decode cX3_take 95 = .ok (.invokevirtual 66, 3) := by decide +kernel
theorem dX3_take_98 : decode cX3_take 98 = .ok (.ifCond .eq 16, 3) := by decide +kernel
theorem dX3_take_101 : decode cX3_take 101 = .ok (.aload_n 0, 1) := by decide +kernel
theorem dX3_take_102 : decode cX3_take 102 = .ok (.dup, 1) := by decide +kernel
theorem dX3_take_103 : decode cX3_take 103 = .ok (.getfield 49, 3) := by decide +kernel
theorem dX3_take_106 : decode cX3_take 106 = .ok (.iconst 1, 1) := by decide +kernel
theorem dX3_take_107 : decode cX3_take 107 = .ok (.iadd, 1) := by decide +kernel
theorem dX3_take_108 : decode cX3_take 108 = .ok (.putfield 49, 3) := by decide +kernel
theorem dX3_take_111 : decode cX3_take 111 = .ok (.bipush (-2), 2) := by decide +kernel
theorem dX3_take_113 : decode cX3_take 113 = .ok (.ireturn, 1) := by decide +kernel
theorem dX3_take_114 : decode cX3_take 114 = .ok (.aload_n 0, 1) := by decide +kernel
theorem dX3_take_115 : decode cX3_take 115 = .ok (.getfield 16, 3) := by decide +kernel
theorem dX3_take_118 : decode cX3_take 118 = .ok (.aload_n 0, 1) := by decide +kernel
theorem dX3_take_119 : decode cX3_take 119 = .ok (.getfield 55, 3) := by decide +kernel
theorem dX3_take_122 : decode cX3_take 122 = .ok (.lload_n 1, 1) := by decide +kernel
theorem dX3_take_123 : decode cX3_take 123 = .ok (.lastore, 1) := by decide +kernel
theorem dX3_take_124 : decode cX3_take 124 = .ok (.aload_n 0, 1) := by decide +kernel
theorem dX3_take_125 : decode cX3_take 125 = .ok (.getfield 20, 3) := by decide +kernel
theorem dX3_take_128 : decode cX3_take 128 = .ok (.aload_n 0, 1) := by decide +kernel
theorem dX3_take_129 : decode cX3_take 129 = .ok (.getfield 55, 3) := by decide +kernel
theorem dX3_take_132 : decode cX3_take 132 = .ok (.lload_n 3, 1) := by decide +kernel
theorem dX3_take_133 : decode cX3_take 133 = .ok (.lastore, 1) := by decide +kernel
theorem dX3_take_134 : decode cX3_take 134 = .ok (.aload_n 0, 1) := by decide +kernel
theorem dX3_take_135 : decode cX3_take 135 = .ok (.getfield 23, 3) := by decide +kernel
theorem dX3_take_138 : decode cX3_take 138 = .ok (.aload_n 0, 1) := by decide +kernel
theorem dX3_take_139 : decode cX3_take 139 = .ok (.getfield 55, 3) := by decide +kernel
theorem dX3_take_142 : decode cX3_take 142 = .ok (.iload 6, 2) := by decide +kernel
theorem dX3_take_144 : decode cX3_take 144 = .ok (.iastore, 1) := by decide +kernel
theorem dX3_take_145 : decode cX3_take 145 = .ok (.aload_n 0, 1) := by decide +kernel
theorem dX3_take_146 : decode cX3_take 146 = .ok (.getfield 27, 3) := by decide +kernel
theorem dX3_take_149 : decode cX3_take 149 = .ok (.aload_n 0, 1) := by decide +kernel
theorem dX3_take_150 : decode cX3_take 150 = .ok (.getfield 55, 3) := by decide +kernel
theorem dX3_take_153 : decode cX3_take 153 = .ok (.iconst 0, 1) := by decide +kernel
theorem dX3_take_154 : decode cX3_take 154 = .ok (.bastore, 1) := by decide +kernel
theorem dX3_take_155 : decode cX3_take 155 = .ok (.aload_n 0, 1) := by decide +kernel
theorem dX3_take_156 : decode cX3_take 156 = .ok (.dup, 1) := by decide +kernel
theorem dX3_take_157 : decode cX3_take 157 = .ok (.getfield 55, 3) := by decide +kernel
theorem dX3_take_160 : decode cX3_take 160 = .ok (.iconst 1, 1) := by decide +kernel
theorem dX3_take_161 : decode cX3_take 161 = .ok (.iadd, 1) := by decide +kernel
theorem dX3_take_162 : decode cX3_take 162 = .ok (.putfield 55, 3) := by decide +kernel
theorem dX3_take_165 : decode cX3_take 165 = .ok (.aload_n 0, 1) := by decide +kernel
theorem dX3_take_166 : decode cX3_take 166 = .ok (.aload_n 0, 1) := by decide +kernel
theorem dX3_take_167 : decode cX3_take 167 = .ok (.getfield 13, 3) := by decide +kernel
theorem dX3_take_170 : decode cX3_take 170 = .ok (.iload 5, 2) := by decide +kernel
theorem dX3_take_172 : decode cX3_take 172 = .ok (.invokestatic 70, 3) := by decide +kernel
theorem dX3_take_175 : decode cX3_take 175 = .ok (.putfield 13, 3) := by decide +kernel
theorem dX3_take_178 : decode cX3_take 178 = .ok (.iconst 0, 1) := by decide +kernel
theorem dX3_take_179 : decode cX3_take 179 = .ok (.istore 7, 2) := by decide +kernel
theorem dX3_take_181 : decode cX3_take 181 = .ok (.aload_n 0, 1) := by decide +kernel
theorem dX3_take_182 : decode cX3_take 182 = .ok (.invokevirtual 76, 3) := by decide +kernel
theorem dX3_take_185 : decode cX3_take 185 = .ok (.istore 8, 2) := by decide +kernel
theorem dX3_take_187 : decode cX3_take 187 = .ok (.iload 8, 2) := by decide +kernel
theorem dX3_take_189 : decode cX3_take 189 = .ok (.ifCond .lt 21, 3) := by decide +kernel
theorem dX3_take_192 : decode cX3_take 192 = .ok (.aload_n 0, 1) := by decide +kernel
theorem dX3_take_193 : decode cX3_take 193 = .ok (.iload 8, 2) := by decide +kernel
theorem dX3_take_195 : decode cX3_take 195 = .ok (.invokevirtual 80, 3) := by decide +kernel
theorem dX3_take_198 : decode cX3_take 198 = .ok (.iinc 7 1, 3) := by decide +kernel
theorem dX3_take_201 : decode cX3_take 201 = .ok (.aload_n 0, 1) := by decide +kernel
theorem dX3_take_202 : decode cX3_take 202 = .ok (.invokevirtual 76, 3) := by decide +kernel
theorem dX3_take_205 : decode cX3_take 205 = .ok (.istore 8, 2) := by decide +kernel
theorem dX3_take_207 : decode cX3_take 207 = .ok (.goto (-20), 3) := by decide +kernel
theorem dX3_take_210 : decode cX3_take 210 = .ok (.iload 7, 2) := by decide +kernel
theorem dX3_take_212 : decode cX3_take 212 = .ok (.ireturn, 1) := by decide +kernel
abbrev cX3_isClosed : ByteArray := prog_5_method_4_code
def yX3_isClosed : MethodName := ⟨RX3, "isClosed", "(I)Z"⟩
theorem dX3_isClosed_0 : decode cX3_isClosed 0 = .ok (.iload_n 1, 1) := by decide +kernel
theorem dX3_isClosed_1 : decode cX3_isClosed 1 = .ok (.iconst 1, 1) := by decide +kernel
theorem dX3_isClosed_2 : decode cX3_isClosed 2 = .ok (.iadd, 1) := by decide +kernel
theorem dX3_isClosed_3 : decode cX3_isClosed 3 = .ok (.i2l, 1) := by decide +kernel
theorem dX3_isClosed_4 : decode cX3_isClosed 4 = .ok (.aload_n 0, 1) := by decide +kernel
theorem dX3_isClosed_5 : decode cX3_isClosed 5 = .ok (.getfield 7, 3) := by decide +kernel
theorem dX3_isClosed_8 : decode cX3_isClosed 8 = .ok (.i2l, 1) := by decide +kernel
theorem dX3_isClosed_9 : decode cX3_isClosed 9 = .ok (.lmul, 1) := by decide +kernel
theorem dX3_isClosed_10 : decode cX3_isClosed 10 = .ok (.aload_n 0, 1) := by decide +kernel
theorem dX3_isClosed_11 : decode cX3_isClosed 11 = .ok (.getfield 43, 3) := by decide +kernel
theorem dX3_isClosed_14 : decode cX3_isClosed 14 = .ok (.i2l, 1) := by decide +kernel
theorem dX3_isClosed_15 : decode cX3_isClosed 15 = .ok (.ladd, 1) := by decide +kernel
theorem dX3_isClosed_16 : decode cX3_isClosed 16 = .ok (.aload_n 0, 1) := by decide +kernel
theorem dX3_isClosed_17 : decode cX3_isClosed 17 = .ok (.getfield 13, 3) := by decide +kernel
theorem dX3_isClosed_20 : decode cX3_isClosed 20 = .ok (.i2l, 1) := by decide +kernel
theorem dX3_isClosed_21 : decode cX3_isClosed 21 = .ok (.lcmp, 1) := by decide +kernel
theorem dX3_isClosed_22 : decode cX3_isClosed 22 = .ok (.ifCond .gt 7, 3) := by decide +kernel
theorem dX3_isClosed_25 : decode cX3_isClosed 25 = .ok (.iconst 1, 1) := by decide +kernel
theorem dX3_isClosed_26 : decode cX3_isClosed 26 = .ok (.goto 4, 3) := by decide +kernel
theorem dX3_isClosed_29 : decode cX3_isClosed 29 = .ok (.iconst 0, 1) := by decide +kernel
theorem dX3_isClosed_30 : decode cX3_isClosed 30 = .ok (.ireturn, 1) := by decide +kernel
abbrev cX3_least : ByteArray := prog_5_method_6_code
def yX3_least : MethodName := ⟨RX3, "least", "()I"⟩
theorem dX3_least_0 : decode cX3_least 0 = .ok (.iconst (-1), 1) := by decide +kernel
theorem dX3_least_1 : decode cX3_least 1 = .ok (.istore_n 1, 1) := by decide +kernel
theorem dX3_least_2 : decode cX3_least 2 = .ok (.iconst 0, 1) := by decide +kernel
theorem dX3_least_3 : decode cX3_least 3 = .ok (.istore_n 2, 1) := by decide +kernel
theorem dX3_least_4 : decode cX3_least 4 = .ok (.iload_n 2, 1) := by decide +kernel
theorem dX3_least_5 : decode cX3_least 5 = .ok (.aload_n 0, 1) := by decide +kernel
theorem dX3_least_6 : decode cX3_least 6 = .ok (.getfield 55, 3) := by decide +kernel
theorem dX3_least_9 : decode cX3_least 9 = .ok (.if_icmp .ge 86, 3) := by decide +kernel
theorem dX3_least_12 : decode cX3_least 12 = .ok (.aload_n 0, 1) := by decide +kernel
theorem dX3_least_13 : decode cX3_least 13 = .ok (.getfield 27, 3) := by decide +kernel
theorem dX3_least_16 : decode cX3_least 16 = .ok (.iload_n 2, 1) := by decide +kernel
theorem dX3_least_17 : decode cX3_least 17 = .ok (.baload, 1) := by decide +kernel
theorem dX3_least_18 : decode cX3_least 18 = .ok (.ifCond .ne 71, 3) := by decide +kernel
theorem dX3_least_21 : decode cX3_least 21 = .ok (.aload_n 0, 1) := by decide +kernel
theorem dX3_least_22 : decode cX3_least 22 = .ok (.aload_n 0, 1) := by decide +kernel
theorem dX3_least_23 : decode cX3_least 23 = .ok (.getfield 23, 3) := by decide +kernel
theorem dX3_least_26 : decode cX3_least 26 = .ok (.iload_n 2, 1) := by decide +kernel
theorem dX3_least_27 : decode cX3_least 27 = .ok (.iaload, 1) := by decide +kernel
theorem dX3_least_28 : decode cX3_least 28 = .ok (.invokevirtual 66, 3) := by decide +kernel
theorem dX3_least_31 : decode cX3_least 31 = .ok (.ifCond .ne 6, 3) := by decide +kernel
theorem dX3_least_34 : decode cX3_least 34 = .ok (.goto 55, 3) := by decide +kernel
theorem dX3_least_37 : decode cX3_least 37 = .ok (.iload_n 1, 1) := by decide +kernel
theorem dX3_least_38 : decode cX3_least 38 = .ok (.ifCond .lt 49, 3) := by decide +kernel
theorem dX3_least_41 : decode cX3_least 41 = .ok (.aload_n 0, 1) := by decide +kernel
theorem dX3_least_42 : decode cX3_least 42 = .ok (.getfield 23, 3) := by decide +kernel
theorem dX3_least_45 : decode cX3_least 45 = .ok (.iload_n 2, 1) := by decide +kernel
theorem dX3_least_46 : decode cX3_least 46 = .ok (.iaload, 1) := by decide +kernel
theorem dX3_least_47 : decode cX3_least 47 = .ok (.aload_n 0, 1) := by decide +kernel
theorem dX3_least_48 : decode cX3_least 48 = .ok (.getfield 23, 3) := by decide +kernel
theorem dX3_least_51 : decode cX3_least 51 = .ok (.iload_n 1, 1) := by decide +kernel
theorem dX3_least_52 : decode cX3_least 52 = .ok (.iaload, 1) := by decide +kernel
theorem dX3_least_53 : decode cX3_least 53 = .ok (.if_icmp .lt 34, 3) := by decide +kernel
theorem dX3_least_56 : decode cX3_least 56 = .ok (.aload_n 0, 1) := by decide +kernel
theorem dX3_least_57 : decode cX3_least 57 = .ok (.getfield 23, 3) := by decide +kernel
theorem dX3_least_60 : decode cX3_least 60 = .ok (.iload_n 2, 1) := by decide +kernel
theorem dX3_least_61 : decode cX3_least 61 = .ok (.iaload, 1) := by decide +kernel
theorem dX3_least_62 : decode cX3_least 62 = .ok (.aload_n 0, 1) := by decide +kernel
theorem dX3_least_63 : decode cX3_least 63 = .ok (.getfield 23, 3) := by decide +kernel
theorem dX3_least_66 : decode cX3_least 66 = .ok (.iload_n 1, 1) := by decide +kernel
theorem dX3_least_67 : decode cX3_least 67 = .ok (.iaload, 1) := by decide +kernel
theorem dX3_least_68 : decode cX3_least 68 = .ok (.if_icmp .ne 21, 3) := by decide +kernel
theorem dX3_least_71 : decode cX3_least 71 = .ok (.aload_n 0, 1) := by decide +kernel
theorem dX3_least_72 : decode cX3_least 72 = .ok (.getfield 16, 3) := by decide +kernel
theorem dX3_least_75 : decode cX3_least 75 = .ok (.iload_n 2, 1) := by decide +kernel
theorem dX3_least_76 : decode cX3_least 76 = .ok (.laload, 1) := by decide +kernel
theorem dX3_least_77 : decode cX3_least 77 = .ok (.aload_n 0, 1) := by decide +kernel
theorem dX3_least_78 : decode cX3_least 78 = .ok (.getfield 16, 3) := by decide +kernel
theorem dX3_least_81 : decode cX3_least 81 = .ok (.iload_n 1, 1) := by decide +kernel
theorem dX3_least_82 : decode cX3_least 82 = .ok (.laload, 1) := by decide +kernel
theorem dX3_least_83 : decode cX3_least 83 = .ok (.lcmp, 1) := by decide +kernel
theorem dX3_least_84 : decode cX3_least 84 = .ok (.ifCond .ge 5, 3) := by decide +kernel
theorem dX3_least_87 : decode cX3_least 87 = .ok (.iload_n 2, 1) := by decide +kernel
theorem dX3_least_88 : decode cX3_least 88 = .ok (.istore_n 1, 1) := by decide +kernel
theorem dX3_least_89 : decode cX3_least 89 = .ok (.iinc 2 1, 3) := by decide +kernel
theorem dX3_least_92 : decode cX3_least 92 = .ok (.goto (-88), 3) := by decide +kernel
theorem dX3_least_95 : decode cX3_least 95 = .ok (.iload_n 1, 1) := by decide +kernel
theorem dX3_least_96 : decode cX3_least 96 = .ok (.ireturn, 1) := by decide +kernel
abbrev cX3_out : ByteArray := prog_5_method_8_code
def yX3_out : MethodName := ⟨RX3, "out", "(I)V"⟩
theorem dX3_out_0 : decode cX3_out 0 = .ok (.aload_n 0, 1) := by decide +kernel
theorem dX3_out_1 : decode cX3_out 1 = .ok (.getfield 16, 3) := by decide +kernel
theorem dX3_out_4 : decode cX3_out 4 = .ok (.iload_n 1, 1) := by decide +kernel
theorem dX3_out_5 : decode cX3_out 5 = .ok (.laload, 1) := by decide +kernel
theorem dX3_out_6 : decode cX3_out 6 = .ok (.lstore_n 2, 1) := by decide +kernel
theorem dX3_out_7 : decode cX3_out 7 = .ok (.aload_n 0, 1) := by decide +kernel
theorem dX3_out_8 : decode cX3_out 8 = .ok (.getfield 23, 3) := by decide +kernel
theorem dX3_out_11 : decode cX3_out 11 = .ok (.iload_n 1, 1) := by decide +kernel
theorem dX3_out_12 : decode cX3_out 12 = .ok (.iaload, 1) := by decide +kernel
theorem dX3_out_13 : decode cX3_out 13 = .ok (.istore 4, 2) := by decide +kernel
theorem dX3_out_15 : decode cX3_out 15 = .ok (.aload_n 0, 1) := by decide +kernel
theorem dX3_out_16 : decode cX3_out 16 = .ok (.getfield 31, 3) := by decide +kernel
theorem dX3_out_19 : decode cX3_out 19 = .ok (.aload_n 0, 1) := by decide +kernel
theorem dX3_out_20 : decode cX3_out 20 = .ok (.getfield 52, 3) := by decide +kernel
theorem dX3_out_23 : decode cX3_out 23 = .ok (.lload_n 2, 1) := by decide +kernel
theorem dX3_out_24 : decode cX3_out 24 = .ok (.lastore, 1) := by decide +kernel
theorem dX3_out_25 : decode cX3_out 25 = .ok (.aload_n 0, 1) := by decide +kernel
theorem dX3_out_26 : decode cX3_out 26 = .ok (.getfield 34, 3) := by decide +kernel
theorem dX3_out_29 : decode cX3_out 29 = .ok (.aload_n 0, 1) := by decide +kernel
theorem dX3_out_30 : decode cX3_out 30 = .ok (.getfield 52, 3) := by decide +kernel
theorem dX3_out_33 : decode cX3_out 33 = .ok (.aload_n 0, 1) := by decide +kernel
theorem dX3_out_34 : decode cX3_out 34 = .ok (.lload_n 2, 1) := by decide +kernel
theorem dX3_out_35 : decode cX3_out 35 = .ok (.iload 4, 2) := by decide +kernel
theorem dX3_out_37 : decode cX3_out 37 = .ok (.invokevirtual 92, 3) := by decide +kernel
theorem dX3_out_40 : decode cX3_out 40 = .ok (.lastore, 1) := by decide +kernel
theorem dX3_out_41 : decode cX3_out 41 = .ok (.aload_n 0, 1) := by decide +kernel
theorem dX3_out_42 : decode cX3_out 42 = .ok (.getfield 37, 3) := by decide +kernel
theorem dX3_out_45 : decode cX3_out 45 = .ok (.aload_n 0, 1) := by decide +kernel
theorem dX3_out_46 : decode cX3_out 46 = .ok (.getfield 52, 3) := by decide +kernel
theorem dX3_out_49 : decode cX3_out 49 = .ok (.iload 4, 2) := by decide +kernel
theorem dX3_out_51 : decode cX3_out 51 = .ok (.iconst 1, 1) := by decide +kernel
theorem dX3_out_52 : decode cX3_out 52 = .ok (.iadd, 1) := by decide +kernel
theorem dX3_out_53 : decode cX3_out 53 = .ok (.aload_n 0, 1) := by decide +kernel
theorem dX3_out_54 : decode cX3_out 54 = .ok (.getfield 7, 3) := by decide +kernel
theorem dX3_out_57 : decode cX3_out 57 = .ok (.imul, 1) := by decide +kernel
theorem dX3_out_58 : decode cX3_out 58 = .ok (.iconst 1, 1) := by decide +kernel
theorem dX3_out_59 : decode cX3_out 59 = .ok (.isub, 1) := by decide +kernel
theorem dX3_out_60 : decode cX3_out 60 = .ok (.iastore, 1) := by decide +kernel
theorem dX3_out_61 : decode cX3_out 61 = .ok (.aload_n 0, 1) := by decide +kernel
theorem dX3_out_62 : decode cX3_out 62 = .ok (.dup, 1) := by decide +kernel
theorem dX3_out_63 : decode cX3_out 63 = .ok (.getfield 52, 3) := by decide +kernel
theorem dX3_out_66 : decode cX3_out 66 = .ok (.iconst 1, 1) := by decide +kernel
theorem dX3_out_67 : decode cX3_out 67 = .ok (.iadd, 1) := by decide +kernel
theorem dX3_out_68 : decode cX3_out 68 = .ok (.putfield 52, 3) := by decide +kernel
theorem dX3_out_71 : decode cX3_out 71 = .ok (.iconst 0, 1) := by decide +kernel
theorem dX3_out_72 : decode cX3_out 72 = .ok (.istore 5, 2) := by decide +kernel
theorem dX3_out_74 : decode cX3_out 74 = .ok (.iload 5, 2) := by decide +kernel
theorem dX3_out_76 : decode cX3_out 76 = .ok (.aload_n 0, 1) := by decide +kernel
theorem dX3_out_77 : decode cX3_out 77 = .ok (.getfield 55, 3) := by decide +kernel
theorem dX3_out_80 : decode cX3_out 80 = .ok (.if_icmp .ge 41, 3) := by decide +kernel
theorem dX3_out_83 : decode cX3_out 83 = .ok (.aload_n 0, 1) := by decide +kernel
theorem dX3_out_84 : decode cX3_out 84 = .ok (.getfield 16, 3) := by decide +kernel
theorem dX3_out_87 : decode cX3_out 87 = .ok (.iload 5, 2) := by decide +kernel
theorem dX3_out_89 : decode cX3_out 89 = .ok (.laload, 1) := by decide +kernel
theorem dX3_out_90 : decode cX3_out 90 = .ok (.lload_n 2, 1) := by decide +kernel
theorem dX3_out_91 : decode cX3_out 91 = .ok (.lcmp, 1) := by decide +kernel
theorem dX3_out_92 : decode cX3_out 92 = .ok (.ifCond .ne 23, 3) := by decide +kernel
theorem dX3_out_95 : decode cX3_out 95 = .ok (.aload_n 0, 1) := by decide +kernel
theorem dX3_out_96 : decode cX3_out 96 = .ok (.getfield 23, 3) := by decide +kernel
theorem dX3_out_99 : decode cX3_out 99 = .ok (.iload 5, 2) := by decide +kernel
theorem dX3_out_101 : decode cX3_out 101 = .ok (.iaload, 1) := by decide +kernel
theorem dX3_out_102 : decode cX3_out 102 = .ok (.iload 4, 2) := by decide +kernel
theorem dX3_out_104 : decode cX3_out 104 = .ok (.if_icmp .ne 11, 3) := by decide +kernel
theorem dX3_out_107 : decode cX3_out 107 = .ok (.aload_n 0, 1) := by decide +kernel
theorem dX3_out_108 : decode cX3_out 108 = .ok (.getfield 27, 3) := by decide +kernel
theorem dX3_out_111 : decode cX3_out 111 = .ok (.iload 5, 2) := by decide +kernel
theorem dX3_out_113 : decode cX3_out 113 = .ok (.iconst 1, 1) := by decide +kernel
theorem dX3_out_114 : decode cX3_out 114 = .ok (.bastore, 1) := by decide +kernel
theorem dX3_out_115 : decode cX3_out 115 = .ok (.iinc 5 1, 3) := by decide +kernel
theorem dX3_out_118 : decode cX3_out 118 = .ok (.goto (-44), 3) := by decide +kernel
theorem dX3_out_121 : decode cX3_out 121 = .ok (.return_, 1) := by decide +kernel
abbrev cX3_number : ByteArray := prog_5_method_7_code
def yX3_number : MethodName := ⟨RX3, "number", "(JI)J"⟩
theorem dX3_number_0 : decode cX3_number 0 = .ok (.ldc2_w 58, 3) := by decide +kernel
theorem dX3_number_3 : decode cX3_number 3 = .ok (.lstore 4, 2) := by decide +kernel
theorem dX3_number_5 : decode cX3_number 5 = .ok (.iconst 0, 1) := by decide +kernel
theorem dX3_number_6 : decode cX3_number 6 = .ok (.istore 6, 2) := by decide +kernel
theorem dX3_number_8 : decode cX3_number 8 = .ok (.iload 6, 2) := by decide +kernel
theorem dX3_number_10 : decode cX3_number 10 = .ok (.aload_n 0, 1) := by decide +kernel
theorem dX3_number_11 : decode cX3_number 11 = .ok (.getfield 55, 3) := by decide +kernel
theorem dX3_number_14 : decode cX3_number 14 = .ok (.if_icmp .ge 108, 3) := by decide +kernel
theorem dX3_number_17 : decode cX3_number 17 = .ok (.aload_n 0, 1) := by decide +kernel
theorem dX3_number_18 : decode cX3_number 18 = .ok (.getfield 27, 3) := by decide +kernel
theorem dX3_number_21 : decode cX3_number 21 = .ok (.iload 6, 2) := by decide +kernel
theorem dX3_number_23 : decode cX3_number 23 = .ok (.baload, 1) := by decide +kernel
theorem dX3_number_24 : decode cX3_number 24 = .ok (.ifCond .ne 92, 3) := by decide +kernel
theorem dX3_number_27 : decode cX3_number 27 = .ok (.aload_n 0, 1) := by decide +kernel
theorem dX3_number_28 : decode cX3_number 28 = .ok (.getfield 16, 3) := by decide +kernel
theorem dX3_number_31 : decode cX3_number 31 = .ok (.iload 6, 2) := by decide +kernel
theorem dX3_number_33 : decode cX3_number 33 = .ok (.laload, 1) := by decide +kernel
theorem dX3_number_34 : decode cX3_number 34 = .ok (.lload_n 1, 1) := by decide +kernel
theorem dX3_number_35 : decode cX3_number 35 = .ok (.lcmp, 1) := by decide +kernel
theorem dX3_number_36 : decode cX3_number 36 = .ok (.ifCond .ne 80, 3) := by decide +kernel
theorem dX3_number_39 : decode cX3_number 39 = .ok (.aload_n 0, 1) := by decide +kernel
theorem dX3_number_40 : decode cX3_number 40 = .ok (.getfield 23, 3) := by decide +kernel
theorem dX3_number_43 : decode cX3_number 43 = .ok (.iload 6, 2) := by decide +kernel
theorem dX3_number_45 : decode cX3_number 45 = .ok (.iaload, 1) := by decide +kernel
theorem dX3_number_46 : decode cX3_number 46 = .ok (.iload_n 3, 1) := by decide +kernel
theorem dX3_number_47 : decode cX3_number 47 = .ok (.if_icmp .eq 6, 3) := by decide +kernel
theorem dX3_number_50 : decode cX3_number 50 = .ok (.goto 66, 3) := by decide +kernel
theorem dX3_number_53 : decode cX3_number 53 = .ok (.lconst 0, 1) := by decide +kernel
theorem dX3_number_54 : decode cX3_number 54 = .ok (.lload 4, 2) := by decide +kernel
theorem dX3_number_56 : decode cX3_number 56 = .ok (.invokestatic 84, 3) := by decide +kernel
theorem dX3_number_59 : decode cX3_number 59 = .ok (.lstore 7, 2) := by decide +kernel
theorem dX3_number_61 : decode cX3_number 61 = .ok (.aload_n 0, 1) := by decide +kernel
theorem dX3_number_62 : decode cX3_number 62 = .ok (.getfield 40, 3) := by decide +kernel
theorem dX3_number_65 : decode cX3_number 65 = .ok (.ifCond .ne 22, 3) := by decide +kernel
theorem dX3_number_68 : decode cX3_number 68 = .ok (.ldc2_w 87, 3) := by decide +kernel
theorem dX3_number_71 : decode cX3_number 71 = .ok (.lload 7, 2) := by decide +kernel
theorem dX3_number_73 : decode cX3_number 73 = .ok (.aload_n 0, 1) := by decide +kernel
theorem dX3_number_74 : decode cX3_number 74 = .ok (.getfield 20, 3) := by decide +kernel
theorem dX3_number_77 : decode cX3_number 77 = .ok (.iload 6, 2) := by decide +kernel
theorem dX3_number_79 : decode cX3_number 79 = .ok (.laload, 1) := by decide +kernel
theorem dX3_number_80 : decode cX3_number 80 = .ok (.ladd, 1) := by decide +kernel
theorem dX3_number_81 : decode cX3_number 81 = .ok (.invokestatic 89, 3) := by decide +kernel
theorem dX3_number_84 : decode cX3_number 84 = .ok (.goto 30, 3) := by decide +kernel
theorem dX3_number_87 : decode cX3_number 87 = .ok (.aload_n 0, 1) := by decide +kernel
theorem dX3_number_88 : decode cX3_number 88 = .ok (.getfield 40, 3) := by decide +kernel
theorem dX3_number_91 : decode cX3_number 91 = .ok (.iconst 1, 1) := by decide +kernel
theorem dX3_number_92 : decode cX3_number 92 = .ok (.if_icmp .ne 10, 3) := by decide +kernel
theorem dX3_number_95 : decode cX3_number 95 = .ok (.lload 7, 2) := by decide +kernel
theorem dX3_number_97 : decode cX3_number 97 = .ok (.lconst 1, 1) := by decide +kernel
theorem dX3_number_98 : decode cX3_number 98 = .ok (.ladd, 1) := by decide +kernel
theorem dX3_number_99 : decode cX3_number 99 = .ok (.goto 15, 3) := by decide +kernel
theorem dX3_number_102 : decode cX3_number 102 = .ok (.lload 7, 2) := by decide +kernel
theorem dX3_number_104 : decode cX3_number 104 = .ok (.aload_n 0, 1) := by decide +kernel
theorem dX3_number_105 : decode cX3_number 105 = .ok (.getfield 20, 3) := by decide +kernel
theorem dX3_number_108 : decode cX3_number 108 = .ok (.iload 6, 2) := by decide +kernel
theorem dX3_number_110 : decode cX3_number 110 = .ok (.laload, 1) := by decide +kernel
theorem dX3_number_111 : decode cX3_number 111 = .ok (.invokestatic 84, 3) := by decide +kernel
theorem dX3_number_114 : decode cX3_number 114 = .ok (.lstore 4, 2) := by decide +kernel
theorem dX3_number_116 : decode cX3_number 116 = .ok (.iinc 6 1, 3) := by decide +kernel
theorem dX3_number_119 : decode cX3_number 119 = .ok (.goto (-111), 3) := by decide +kernel
theorem dX3_number_122 : decode cX3_number 122 = .ok (.lload 4, 2) := by decide +kernel
theorem dX3_number_124 : decode cX3_number 124 = .ok (.lreturn, 1) := by decide +kernel
abbrev cX3_out_2 : ByteArray := prog_5_method_9_code
def yX3_out_2 : MethodName := ⟨RX3, "out", "(II)J"⟩
theorem dX3_out_2_0 : decode cX3_out_2 0 = .ok (.iload_n 1, 1) := by decide +kernel
theorem dX3_out_2_1 : decode cX3_out_2 1 = .ok (.ifCond .lt 11, 3) := by decide +kernel
theorem dX3_out_2_4 : decode cX3_out_2 4 = .ok (.iload_n 1, 1) := by decide +kernel
theorem dX3_out_2_5 : decode cX3_out_2 5 = .ok (.aload_n 0, 1) := by decide +kernel
theorem dX3_out_2_6 : decode cX3_out_2 6 = .ok (.getfield 52, 3) := by decide +kernel
theorem dX3_out_2_9 : decode cX3_out_2 9 = .ok (.if_icmp .lt 7, 3) := by decide +kernel
theorem dX3_out_2_12 : decode cX3_out_2 12 = .ok (.ldc2_w 58, 3) := by decide +kernel
theorem dX3_out_2_15 : decode cX3_out_2 15 = .ok (.lreturn, 1) := by decide +kernel
theorem dX3_out_2_16 : decode cX3_out_2 16 = .ok (.iload_n 2, 1) := by decide +kernel
theorem dX3_out_2_17 : decode cX3_out_2 17 = .ok (.ifCond .ne 12, 3) := by decide +kernel
theorem dX3_out_2_20 : decode cX3_out_2 20 = .ok (.aload_n 0, 1) := by decide +kernel
theorem dX3_out_2_21 : decode cX3_out_2 21 = .ok (.getfield 31, 3) := by decide +kernel
theorem dX3_out_2_24 : decode cX3_out_2 24 = .ok (.iload_n 1, 1) := by decide +kernel
theorem dX3_out_2_25 : decode cX3_out_2 25 = .ok (.laload, 1) := by decide +kernel
theorem dX3_out_2_26 : decode cX3_out_2 26 = .ok (.goto 35, 3) := by decide +kernel
theorem dX3_out_2_29 : decode cX3_out_2 29 = .ok (.iload_n 2, 1) := by decide +kernel
theorem dX3_out_2_30 : decode cX3_out_2 30 = .ok (.iconst 1, 1) := by decide +kernel
theorem dX3_out_2_31 : decode cX3_out_2 31 = .ok (.if_icmp .ne 12, 3) := by decide +kernel
theorem dX3_out_2_34 : decode cX3_out_2 34 = .ok (.aload_n 0, 1) := by decide +kernel
theorem dX3_out_2_35 : decode cX3_out_2 35 = .ok (.getfield 34, 3) := by decide +kernel
theorem dX3_out_2_38 : decode cX3_out_2 38 = .ok (.iload_n 1, 1) := by decide +kernel
theorem dX3_out_2_39 : decode cX3_out_2 39 = .ok (.laload, 1) := by decide +kernel
theorem dX3_out_2_40 : decode cX3_out_2 40 = .ok (.goto 21, 3) := by decide +kernel
theorem dX3_out_2_43 : decode cX3_out_2 43 = .ok (.iload_n 2, 1) := by decide +kernel
theorem dX3_out_2_44 : decode cX3_out_2 44 = .ok (.iconst 2, 1) := by decide +kernel
theorem dX3_out_2_45 : decode cX3_out_2 45 = .ok (.if_icmp .ne 13, 3) := by decide +kernel
theorem dX3_out_2_48 : decode cX3_out_2 48 = .ok (.aload_n 0, 1) := by decide +kernel
theorem dX3_out_2_49 : decode cX3_out_2 49 = .ok (.getfield 37, 3) := by decide +kernel
theorem dX3_out_2_52 : decode cX3_out_2 52 = .ok (.iload_n 1, 1) := by decide +kernel
theorem dX3_out_2_53 : decode cX3_out_2 53 = .ok (.iaload, 1) := by decide +kernel
theorem dX3_out_2_54 : decode cX3_out_2 54 = .ok (.i2l, 1) := by decide +kernel
theorem dX3_out_2_55 : decode cX3_out_2 55 = .ok (.goto 6, 3) := by decide +kernel
theorem dX3_out_2_58 : decode cX3_out_2 58 = .ok (.ldc2_w 58, 3) := by decide +kernel
theorem dX3_out_2_61 : decode cX3_out_2 61 = .ok (.lreturn, 1) := by decide +kernel
abbrev cX3_outs : ByteArray := prog_5_method_10_code
def yX3_outs : MethodName := ⟨RX3, "outs", "()I"⟩
theorem dX3_outs_0 : decode cX3_outs 0 = .ok (.aload_n 0, 1) := by decide +kernel
theorem dX3_outs_1 : decode cX3_outs 1 = .ok (.getfield 52, 3) := by decide +kernel
theorem dX3_outs_4 : decode cX3_outs 4 = .ok (.ireturn, 1) := by decide +kernel
abbrev cX3_late : ByteArray := prog_5_method_11_code
def yX3_late : MethodName := ⟨RX3, "late", "()I"⟩
theorem dX3_late_0 : decode cX3_late 0 = .ok (.aload_n 0, 1) := by decide +kernel
theorem dX3_late_1 : decode cX3_late 1 = .ok (.getfield 49, 3) := by decide +kernel
theorem dX3_late_4 : decode cX3_late 4 = .ok (.ireturn, 1) := by decide +kernel
abbrev cX3_taken : ByteArray := prog_5_method_12_code
def yX3_taken : MethodName := ⟨RX3, "taken", "()I"⟩
theorem dX3_taken_0 : decode cX3_taken 0 = .ok (.aload_n 0, 1) := by decide +kernel
theorem dX3_taken_1 : decode cX3_taken 1 = .ok (.getfield 46, 3) := by decide +kernel
theorem dX3_taken_4 : decode cX3_taken 4 = .ok (.ireturn, 1) := by decide +kernel
abbrev cX3_watermark : ByteArray := prog_5_method_13_code
def yX3_watermark : MethodName := ⟨RX3, "watermark", "()I"⟩
theorem dX3_watermark_0 : decode cX3_watermark 0 = .ok (.aload_n 0, 1) := by decide +kernel
theorem dX3_watermark_1 : decode cX3_watermark 1 = .ok (.getfield 13, 3) := by decide +kernel
theorem dX3_watermark_4 : decode cX3_watermark 4 = .ok (.ireturn, 1) := by decide +kernel
abbrev cX3_kept : ByteArray := prog_5_method_14_code
def yX3_kept : MethodName := ⟨RX3, "kept", "(JI)J"⟩
theorem dX3_kept_0 : decode cX3_kept 0 = .ok (.aload_n 0, 1) := by decide +kernel
theorem dX3_kept_1 : decode cX3_kept 1 = .ok (.lload_n 1, 1) := by decide +kernel
theorem dX3_kept_2 : decode cX3_kept 2 = .ok (.iload_n 3, 1) := by decide +kernel
theorem dX3_kept_3 : decode cX3_kept 3 = .ok (.invokevirtual 92, 3) := by decide +kernel
theorem dX3_kept_6 : decode cX3_kept 6 = .ok (.lreturn, 1) := by decide +kernel
abbrev cX3_keeps : ByteArray := prog_5_method_15_code
def yX3_keeps : MethodName := ⟨RX3, "keeps", "()I"⟩
theorem dX3_keeps_0 : decode cX3_keeps 0 = .ok (.iconst 0, 1) := by decide +kernel
theorem dX3_keeps_1 : decode cX3_keeps 1 = .ok (.istore_n 1, 1) := by decide +kernel
theorem dX3_keeps_2 : decode cX3_keeps 2 = .ok (.iconst 0, 1) := by decide +kernel
theorem dX3_keeps_3 : decode cX3_keeps 3 = .ok (.istore_n 2, 1) := by decide +kernel
theorem dX3_keeps_4 : decode cX3_keeps 4 = .ok (.iload_n 2, 1) := by decide +kernel
theorem dX3_keeps_5 : decode cX3_keeps 5 = .ok (.aload_n 0, 1) := by decide +kernel
theorem dX3_keeps_6 : decode cX3_keeps 6 = .ok (.getfield 55, 3) := by decide +kernel
theorem dX3_keeps_9 : decode cX3_keeps 9 = .ok (.if_icmp .ge 99, 3) := by decide +kernel
theorem dX3_keeps_12 : decode cX3_keeps 12 = .ok (.aload_n 0, 1) := by decide +kernel
theorem dX3_keeps_13 : decode cX3_keeps 13 = .ok (.getfield 27, 3) := by decide +kernel
theorem dX3_keeps_16 : decode cX3_keeps 16 = .ok (.iload_n 2, 1) := by decide +kernel
theorem dX3_keeps_17 : decode cX3_keeps 17 = .ok (.baload, 1) := by decide +kernel
theorem dX3_keeps_18 : decode cX3_keeps 18 = .ok (.ifCond .ne 7, 3) := by decide +kernel
theorem dX3_keeps_21 : decode cX3_keeps 21 = .ok (.iconst 1, 1) := by decide +kernel
theorem dX3_keeps_22 : decode cX3_keeps 22 = .ok (.goto 4, 3) := by decide +kernel
theorem dX3_keeps_25 : decode cX3_keeps 25 = .ok (.iconst 0, 1) := by decide +kernel
theorem dX3_keeps_26 : decode cX3_keeps 26 = .ok (.istore_n 3, 1) := by decide +kernel
theorem dX3_keeps_27 : decode cX3_keeps 27 = .ok (.iconst 0, 1) := by decide +kernel
theorem dX3_keeps_28 : decode cX3_keeps 28 = .ok (.istore 4, 2) := by decide +kernel
theorem dX3_keeps_30 : decode cX3_keeps 30 = .ok (.iload 4, 2) := by decide +kernel
theorem dX3_keeps_32 : decode cX3_keeps 32 = .ok (.iload_n 2, 1) := by decide +kernel
theorem dX3_keeps_33 : decode cX3_keeps 33 = .ok (.if_icmp .ge 62, 3) := by decide +kernel
theorem dX3_keeps_36 : decode cX3_keeps 36 = .ok (.iload_n 3, 1) := by decide +kernel
theorem dX3_keeps_37 : decode cX3_keeps 37 = .ok (.ifCond .eq 58, 3) := by decide +kernel
theorem dX3_keeps_40 : decode cX3_keeps 40 = .ok (.aload_n 0, 1) := by decide +kernel
theorem dX3_keeps_41 : decode cX3_keeps 41 = .ok (.getfield 27, 3) := by decide +kernel
theorem dX3_keeps_44 : decode cX3_keeps 44 = .ok (.iload 4, 2) := by decide +kernel
theorem dX3_keeps_46 : decode cX3_keeps 46 = .ok (.baload, 1) := by decide +kernel
theorem dX3_keeps_47 : decode cX3_keeps 47 = .ok (.ifCond .ne 36, 3) := by decide +kernel
theorem dX3_keeps_50 : decode cX3_keeps 50 = .ok (.aload_n 0, 1) := by decide +kernel
theorem dX3_keeps_51 : decode cX3_keeps 51 = .ok (.getfield 16, 3) := by decide +kernel
theorem dX3_keeps_54 : decode cX3_keeps 54 = .ok (.iload 4, 2) := by decide +kernel
theorem dX3_keeps_56 : decode cX3_keeps 56 = .ok (.laload, 1) := by decide +kernel
theorem dX3_keeps_57 : decode cX3_keeps 57 = .ok (.aload_n 0, 1) := by decide +kernel
theorem dX3_keeps_58 : decode cX3_keeps 58 = .ok (.getfield 16, 3) := by decide +kernel
theorem dX3_keeps_61 : decode cX3_keeps 61 = .ok (.iload_n 2, 1) := by decide +kernel
theorem dX3_keeps_62 : decode cX3_keeps 62 = .ok (.laload, 1) := by decide +kernel
theorem dX3_keeps_63 : decode cX3_keeps 63 = .ok (.lcmp, 1) := by decide +kernel
theorem dX3_keeps_64 : decode cX3_keeps 64 = .ok (.ifCond .ne 19, 3) := by decide +kernel
theorem dX3_keeps_67 : decode cX3_keeps 67 = .ok (.aload_n 0, 1) := by decide +kernel
theorem dX3_keeps_68 : decode cX3_keeps 68 = .ok (.getfield 23, 3) := by decide +kernel
theorem dX3_keeps_71 : decode cX3_keeps 71 = .ok (.iload 4, 2) := by decide +kernel
theorem dX3_keeps_73 : decode cX3_keeps 73 = .ok (.iaload, 1) := by decide +kernel
theorem dX3_keeps_74 : decode cX3_keeps 74 = .ok (.aload_n 0, 1) := by decide +kernel
theorem dX3_keeps_75 : decode cX3_keeps 75 = .ok (.getfield 23, 3) := by decide +kernel
theorem dX3_keeps_78 : decode cX3_keeps 78 = .ok (.iload_n 2, 1) := by decide +kernel
theorem dX3_keeps_79 : decode cX3_keeps 79 = .ok (.iaload, 1) := by decide +kernel
theorem dX3_keeps_80 : decode cX3_keeps 80 = .ok (.if_icmp .eq 7, 3) := by decide +kernel
theorem dX3_keeps_83 : decode cX3_keeps 83 = .ok (.iconst 1, 1) := by decide +kernel
theorem dX3_keeps_84 : decode cX3_keeps 84 = .ok (.goto 4, 3) := by decide +kernel
theorem dX3_keeps_87 : decode cX3_keeps 87 = .ok (.iconst 0, 1) := by decide +kernel
theorem dX3_keeps_88 : decode cX3_keeps 88 = .ok (.istore_n 3, 1) := by decide +kernel
theorem dX3_keeps_89 : decode cX3_keeps 89 = .ok (.iinc 4 1, 3) := by decide +kernel
theorem dX3_keeps_92 : decode cX3_keeps 92 = .ok (.goto (-62), 3) := by decide +kernel
theorem dX3_keeps_95 : decode cX3_keeps 95 = .ok (.iload_n 3, 1) := by decide +kernel
theorem dX3_keeps_96 : decode cX3_keeps 96 = .ok (.ifCond .eq 6, 3) := by decide +kernel
theorem dX3_keeps_99 : decode cX3_keeps 99 = .ok (.iinc 1 1, 3) := by decide +kernel
theorem dX3_keeps_102 : decode cX3_keeps 102 = .ok (.iinc 2 1, 3) := by decide +kernel
theorem dX3_keeps_105 : decode cX3_keeps 105 = .ok (.goto (-101), 3) := by decide +kernel
theorem dX3_keeps_108 : decode cX3_keeps 108 = .ok (.iload_n 1, 1) := by decide +kernel
theorem dX3_keeps_109 : decode cX3_keeps 109 = .ok (.ireturn, 1) := by decide +kernel
theorem q14 : (Jvm.Cond.initialized "SpanJobsModel") ∈ lw_all := lw_g (lw_at lw_m1 4 rfl) rfl
theorem q212 : (Jvm.Cond.instantiable "SpanJobsModel" (16 : Nat)) ∈ lw_all := lw_g (lw_at lw_m1 202 rfl) rfl
theorem q214 : (Jvm.Cond.instanceMethod ({ cls := "SpanJobsModel", name := "<init>", desc := "()V" } : Jvm.MethodName)) ∈ lw_all := lw_g (lw_at lw_m1 204 rfl) rfl
theorem q215 : (Jvm.Cond.code ({ cls := "SpanJobsModel", name := "<init>", desc := "()V" } : Jvm.MethodName) prog_5_method_1_code (1 : Nat) (Option.none : Option Jvm.ClassFile.FieldType)) ∈ lw_all := lw_g (lw_at lw_m1 205 rfl) rfl
theorem q216 : (Jvm.Cond.methodLink "SpanJobsModel" (1 : Nat) ({ cls := "java/lang/Object", name := "<init>", desc := "()V" } : Jvm.MethodName)) ∈ lw_all := lw_g (lw_at lw_m1 206 rfl) rfl
theorem q217 : (Jvm.Cond.fieldLink "SpanJobsModel" (40 : Nat) "SpanJobsModel" "way" "I") ∈ lw_all := lw_g (lw_at lw_m1 207 rfl) rfl
theorem q218 : (Jvm.Cond.fieldLink "SpanJobsModel" (7 : Nat) "SpanJobsModel" "size" "I") ∈ lw_all := lw_g (lw_at lw_m1 208 rfl) rfl
theorem q219 : (Jvm.Cond.fieldLink "SpanJobsModel" (43 : Nat) "SpanJobsModel" "grace" "I") ∈ lw_all := lw_g (lw_at lw_m1 209 rfl) rfl
theorem q220 : (Jvm.Cond.fieldLink "SpanJobsModel" (63 : Nat) "SpanJobsModel" "life" "I") ∈ lw_all := lw_g (lw_at lw_m1 210 rfl) rfl
theorem q221 : (Jvm.Cond.fieldLink "SpanJobsModel" (46 : Nat) "SpanJobsModel" "taken" "I") ∈ lw_all := lw_g (lw_at lw_m1 211 rfl) rfl
theorem q222 : (Jvm.Cond.fieldLink "SpanJobsModel" (49 : Nat) "SpanJobsModel" "late" "I") ∈ lw_all := lw_g (lw_at lw_m1 212 rfl) rfl
theorem q223 : (Jvm.Cond.fieldLink "SpanJobsModel" (13 : Nat) "SpanJobsModel" "mark" "I") ∈ lw_all := lw_g (lw_at lw_m1 213 rfl) rfl
theorem q224 : (Jvm.Cond.fieldLink "SpanJobsModel" (52 : Nat) "SpanJobsModel" "outs" "I") ∈ lw_all := lw_g (lw_at lw_m1 214 rfl) rfl
theorem q225 : (Jvm.Cond.fieldLink "SpanJobsModel" (16 : Nat) "SpanJobsModel" "key" "[J") ∈ lw_all := lw_g (lw_at lw_m1 215 rfl) rfl
theorem q226 : (Jvm.Cond.fieldLink "SpanJobsModel" (20 : Nat) "SpanJobsModel" "value" "[J") ∈ lw_all := lw_g (lw_at lw_m1 216 rfl) rfl
theorem q227 : (Jvm.Cond.fieldLink "SpanJobsModel" (23 : Nat) "SpanJobsModel" "span" "[I") ∈ lw_all := lw_g (lw_at lw_m1 217 rfl) rfl
theorem q228 : (Jvm.Cond.fieldLink "SpanJobsModel" (27 : Nat) "SpanJobsModel" "isOut" "[Z") ∈ lw_all := lw_g (lw_at lw_m1 218 rfl) rfl
theorem q229 : (Jvm.Cond.fieldLink "SpanJobsModel" (55 : Nat) "SpanJobsModel" "count" "I") ∈ lw_all := lw_g (lw_at lw_m1 219 rfl) rfl
theorem q230 : (Jvm.Cond.fieldLink "SpanJobsModel" (31 : Nat) "SpanJobsModel" "outKey" "[J") ∈ lw_all := lw_g (lw_at lw_m1 220 rfl) rfl
theorem q231 : (Jvm.Cond.fieldLink "SpanJobsModel" (34 : Nat) "SpanJobsModel" "outNumber" "[J") ∈ lw_all := lw_g (lw_at lw_m1 221 rfl) rfl
theorem q232 : (Jvm.Cond.fieldLink "SpanJobsModel" (37 : Nat) "SpanJobsModel" "outWhen" "[I") ∈ lw_all := lw_g (lw_at lw_m1 222 rfl) rfl
theorem q233 : (Jvm.Cond.lays "SpanJobsModel" "SpanJobsModel" "way" "I") ∈ lw_all := lw_g (lw_at lw_m1 223 rfl) rfl
theorem q234 : (Jvm.Cond.soleField "SpanJobsModel" "way") ∈ lw_all := lw_g (lw_at lw_m1 224 rfl) rfl
theorem q235 : (Jvm.Cond.lays "SpanJobsModel" "SpanJobsModel" "size" "I") ∈ lw_all := lw_g (lw_at lw_m1 225 rfl) rfl
theorem q236 : (Jvm.Cond.soleField "SpanJobsModel" "size") ∈ lw_all := lw_g (lw_at lw_m1 226 rfl) rfl
theorem q237 : (Jvm.Cond.lays "SpanJobsModel" "SpanJobsModel" "grace" "I") ∈ lw_all := lw_g (lw_at lw_m1 227 rfl) rfl
theorem q238 : (Jvm.Cond.soleField "SpanJobsModel" "grace") ∈ lw_all := lw_g (lw_at lw_m1 228 rfl) rfl
theorem q239 : (Jvm.Cond.lays "SpanJobsModel" "SpanJobsModel" "life" "I") ∈ lw_all := lw_g (lw_at lw_m1 229 rfl) rfl
theorem q240 : (Jvm.Cond.soleField "SpanJobsModel" "life") ∈ lw_all := lw_g (lw_at lw_m1 230 rfl) rfl
theorem q241 : (Jvm.Cond.lays "SpanJobsModel" "SpanJobsModel" "taken" "I") ∈ lw_all := lw_g (lw_at lw_m1 231 rfl) rfl
theorem q242 : (Jvm.Cond.soleField "SpanJobsModel" "taken") ∈ lw_all := lw_g (lw_at lw_m1 232 rfl) rfl
theorem q243 : (Jvm.Cond.lays "SpanJobsModel" "SpanJobsModel" "late" "I") ∈ lw_all := lw_g (lw_at lw_m1 233 rfl) rfl
theorem q244 : (Jvm.Cond.soleField "SpanJobsModel" "late") ∈ lw_all := lw_g (lw_at lw_m1 234 rfl) rfl
theorem q245 : (Jvm.Cond.lays "SpanJobsModel" "SpanJobsModel" "mark" "I") ∈ lw_all := lw_g (lw_at lw_m1 235 rfl) rfl
theorem q246 : (Jvm.Cond.soleField "SpanJobsModel" "mark") ∈ lw_all := lw_g (lw_at lw_m1 236 rfl) rfl
theorem q247 : (Jvm.Cond.lays "SpanJobsModel" "SpanJobsModel" "outs" "I") ∈ lw_all := lw_g (lw_at lw_m1 237 rfl) rfl
theorem q248 : (Jvm.Cond.soleField "SpanJobsModel" "outs") ∈ lw_all := lw_g (lw_at lw_m1 238 rfl) rfl
theorem q249 : (Jvm.Cond.laysFinal "SpanJobsModel" "SpanJobsModel" "key" "[J") ∈ lw_all := lw_g (lw_at lw_m1 239 rfl) rfl
theorem q250 : (Jvm.Cond.soleField "SpanJobsModel" "key") ∈ lw_all := lw_g (lw_at lw_m2 0 rfl) rfl
theorem q251 : (Jvm.Cond.laysFinal "SpanJobsModel" "SpanJobsModel" "value" "[J") ∈ lw_all := lw_g (lw_at lw_m2 1 rfl) rfl
theorem q252 : (Jvm.Cond.soleField "SpanJobsModel" "value") ∈ lw_all := lw_g (lw_at lw_m2 2 rfl) rfl
theorem q253 : (Jvm.Cond.laysFinal "SpanJobsModel" "SpanJobsModel" "span" "[I") ∈ lw_all := lw_g (lw_at lw_m2 3 rfl) rfl
theorem q254 : (Jvm.Cond.soleField "SpanJobsModel" "span") ∈ lw_all := lw_g (lw_at lw_m2 4 rfl) rfl
theorem q255 : (Jvm.Cond.laysFinal "SpanJobsModel" "SpanJobsModel" "isOut" "[Z") ∈ lw_all := lw_g (lw_at lw_m2 5 rfl) rfl
theorem q256 : (Jvm.Cond.soleField "SpanJobsModel" "isOut") ∈ lw_all := lw_g (lw_at lw_m2 6 rfl) rfl
theorem q257 : (Jvm.Cond.lays "SpanJobsModel" "SpanJobsModel" "count" "I") ∈ lw_all := lw_g (lw_at lw_m2 7 rfl) rfl
theorem q258 : (Jvm.Cond.soleField "SpanJobsModel" "count") ∈ lw_all := lw_g (lw_at lw_m2 8 rfl) rfl
theorem q259 : (Jvm.Cond.laysFinal "SpanJobsModel" "SpanJobsModel" "outKey" "[J") ∈ lw_all := lw_g (lw_at lw_m2 9 rfl) rfl
theorem q260 : (Jvm.Cond.soleField "SpanJobsModel" "outKey") ∈ lw_all := lw_g (lw_at lw_m2 10 rfl) rfl
theorem q261 : (Jvm.Cond.laysFinal "SpanJobsModel" "SpanJobsModel" "outNumber" "[J") ∈ lw_all := lw_g (lw_at lw_m2 11 rfl) rfl
theorem q262 : (Jvm.Cond.soleField "SpanJobsModel" "outNumber") ∈ lw_all := lw_g (lw_at lw_m2 12 rfl) rfl
theorem q263 : (Jvm.Cond.laysFinal "SpanJobsModel" "SpanJobsModel" "outWhen" "[I") ∈ lw_all := lw_g (lw_at lw_m2 13 rfl) rfl
theorem q264 : (Jvm.Cond.soleField "SpanJobsModel" "outWhen") ∈ lw_all := lw_g (lw_at lw_m2 14 rfl) rfl
theorem q265 : (Jvm.Cond.superclass "SpanJobsModel" "java/lang/Object") ∈ lw_all := lw_g (lw_at lw_m2 15 rfl) rfl
theorem q268 : (Jvm.Cond.instanceMethod ({ cls := "SpanJobsModel", name := "begin", desc := "(III)Z" } : Jvm.MethodName)) ∈ lw_all := lw_g (lw_at lw_m2 18 rfl) rfl
theorem q269 : (Jvm.Cond.selects "SpanJobsModel" ({ cls := "SpanJobsModel", name := "begin", desc := "(III)Z" } : Jvm.MethodName) ({ cls := "SpanJobsModel", name := "begin", desc := "(III)Z" } : Jvm.MethodName)) ∈ lw_all := lw_g (lw_at lw_m2 19 rfl) rfl
theorem q270 : (Jvm.Cond.code ({ cls := "SpanJobsModel", name := "begin", desc := "(III)Z" } : Jvm.MethodName) prog_5_method_3_code (4 : Nat) (Option.some Jvm.ClassFile.FieldType.boolean)) ∈ lw_all := lw_g (lw_at lw_m2 20 rfl) rfl
theorem q272 : (Jvm.Cond.instanceMethod ({ cls := "SpanJobsModel", name := "take", desc := "(JJI)I" } : Jvm.MethodName)) ∈ lw_all := lw_g (lw_at lw_m2 22 rfl) rfl
theorem q273 : (Jvm.Cond.selects "SpanJobsModel" ({ cls := "SpanJobsModel", name := "take", desc := "(JJI)I" } : Jvm.MethodName) ({ cls := "SpanJobsModel", name := "take", desc := "(JJI)I" } : Jvm.MethodName)) ∈ lw_all := lw_g (lw_at lw_m2 23 rfl) rfl
theorem q274 : (Jvm.Cond.code ({ cls := "SpanJobsModel", name := "take", desc := "(JJI)I" } : Jvm.MethodName) prog_5_method_5_code (9 : Nat) (Option.some Jvm.ClassFile.FieldType.int)) ∈ lw_all := lw_g (lw_at lw_m2 24 rfl) rfl
theorem q275 : (Jvm.Cond.constantLong "SpanJobsModel" (58 : Nat) (-1 : Int64)) ∈ lw_all := lw_g (lw_at lw_m2 25 rfl) rfl
theorem q276 : (Jvm.Cond.constantLong "SpanJobsModel" (60 : Nat) (1000000000000 : Int64)) ∈ lw_all := lw_g (lw_at lw_m2 26 rfl) rfl
theorem q277 : (Jvm.Cond.constant "SpanJobsModel" (62 : Nat) (1000000000 : Int32)) ∈ lw_all := lw_g (lw_at lw_m2 27 rfl) rfl
theorem q278 : (Jvm.Cond.methodLink "SpanJobsModel" (66 : Nat) ({ cls := "SpanJobsModel", name := "isClosed", desc := "(I)Z" } : Jvm.MethodName)) ∈ lw_all := lw_g (lw_at lw_m2 28 rfl) rfl
theorem q279 : (Jvm.Cond.privateMethod ({ cls := "SpanJobsModel", name := "isClosed", desc := "(I)Z" } : Jvm.MethodName)) ∈ lw_tbl := lw_at lw_m2 29 rfl
theorem q280 : (Jvm.Cond.instanceMethod ({ cls := "SpanJobsModel", name := "isClosed", desc := "(I)Z" } : Jvm.MethodName)) ∈ lw_all := lw_g (lw_at lw_m2 30 rfl) rfl
theorem q281 : (Jvm.Cond.code ({ cls := "SpanJobsModel", name := "isClosed", desc := "(I)Z" } : Jvm.MethodName) prog_5_method_4_code (2 : Nat) (Option.some Jvm.ClassFile.FieldType.boolean)) ∈ lw_all := lw_g (lw_at lw_m2 31 rfl) rfl
theorem q282 : (Jvm.Cond.methodLink "SpanJobsModel" (70 : Nat) ({ cls := "java/lang/Math", name := "max", desc := "(II)I" } : Jvm.MethodName)) ∈ lw_all := lw_g (lw_at lw_m2 32 rfl) rfl
theorem q283 : (Jvm.Cond.methodLink "SpanJobsModel" (76 : Nat) ({ cls := "SpanJobsModel", name := "least", desc := "()I" } : Jvm.MethodName)) ∈ lw_all := lw_g (lw_at lw_m2 33 rfl) rfl
theorem q284 : (Jvm.Cond.privateMethod ({ cls := "SpanJobsModel", name := "least", desc := "()I" } : Jvm.MethodName)) ∈ lw_tbl := lw_at lw_m2 34 rfl
theorem q285 : (Jvm.Cond.instanceMethod ({ cls := "SpanJobsModel", name := "least", desc := "()I" } : Jvm.MethodName)) ∈ lw_all := lw_g (lw_at lw_m2 35 rfl) rfl
theorem q286 : (Jvm.Cond.code ({ cls := "SpanJobsModel", name := "least", desc := "()I" } : Jvm.MethodName) prog_5_method_6_code (3 : Nat) (Option.some Jvm.ClassFile.FieldType.int)) ∈ lw_all := lw_g (lw_at lw_m2 36 rfl) rfl
theorem q287 : (Jvm.Cond.methodLink "SpanJobsModel" (80 : Nat) ({ cls := "SpanJobsModel", name := "out", desc := "(I)V" } : Jvm.MethodName)) ∈ lw_all := lw_g (lw_at lw_m2 37 rfl) rfl
theorem q288 : (Jvm.Cond.privateMethod ({ cls := "SpanJobsModel", name := "out", desc := "(I)V" } : Jvm.MethodName)) ∈ lw_tbl := lw_at lw_m2 38 rfl
theorem q289 : (Jvm.Cond.instanceMethod ({ cls := "SpanJobsModel", name := "out", desc := "(I)V" } : Jvm.MethodName)) ∈ lw_all := lw_g (lw_at lw_m2 39 rfl) rfl
theorem q290 : (Jvm.Cond.code ({ cls := "SpanJobsModel", name := "out", desc := "(I)V" } : Jvm.MethodName) prog_5_method_8_code (6 : Nat) (Option.none : Option Jvm.ClassFile.FieldType)) ∈ lw_all := lw_g (lw_at lw_m2 40 rfl) rfl
theorem q291 : (Jvm.Cond.methodLink "SpanJobsModel" (92 : Nat) ({ cls := "SpanJobsModel", name := "number", desc := "(JI)J" } : Jvm.MethodName)) ∈ lw_all := lw_g (lw_at lw_m2 41 rfl) rfl
theorem q292 : (Jvm.Cond.privateMethod ({ cls := "SpanJobsModel", name := "number", desc := "(JI)J" } : Jvm.MethodName)) ∈ lw_tbl := lw_at lw_m2 42 rfl
theorem q293 : (Jvm.Cond.instanceMethod ({ cls := "SpanJobsModel", name := "number", desc := "(JI)J" } : Jvm.MethodName)) ∈ lw_all := lw_g (lw_at lw_m2 43 rfl) rfl
theorem q294 : (Jvm.Cond.code ({ cls := "SpanJobsModel", name := "number", desc := "(JI)J" } : Jvm.MethodName) prog_5_method_7_code (9 : Nat) (Option.some Jvm.ClassFile.FieldType.long)) ∈ lw_all := lw_g (lw_at lw_m2 44 rfl) rfl
theorem q295 : (Jvm.Cond.methodLink "SpanJobsModel" (84 : Nat) ({ cls := "java/lang/Math", name := "max", desc := "(JJ)J" } : Jvm.MethodName)) ∈ lw_all := lw_g (lw_at lw_m2 45 rfl) rfl
theorem q296 : (Jvm.Cond.constantLong "SpanJobsModel" (87 : Nat) (1000000000000000 : Int64)) ∈ lw_all := lw_g (lw_at lw_m2 46 rfl) rfl
theorem q297 : (Jvm.Cond.methodLink "SpanJobsModel" (89 : Nat) ({ cls := "java/lang/Math", name := "min", desc := "(JJ)J" } : Jvm.MethodName)) ∈ lw_all := lw_g (lw_at lw_m2 47 rfl) rfl
theorem q299 : (Jvm.Cond.instanceMethod ({ cls := "SpanJobsModel", name := "out", desc := "(II)J" } : Jvm.MethodName)) ∈ lw_all := lw_g (lw_at lw_m2 49 rfl) rfl
theorem q300 : (Jvm.Cond.selects "SpanJobsModel" ({ cls := "SpanJobsModel", name := "out", desc := "(II)J" } : Jvm.MethodName) ({ cls := "SpanJobsModel", name := "out", desc := "(II)J" } : Jvm.MethodName)) ∈ lw_all := lw_g (lw_at lw_m2 50 rfl) rfl
theorem q301 : (Jvm.Cond.code ({ cls := "SpanJobsModel", name := "out", desc := "(II)J" } : Jvm.MethodName) prog_5_method_9_code (3 : Nat) (Option.some Jvm.ClassFile.FieldType.long)) ∈ lw_all := lw_g (lw_at lw_m2 51 rfl) rfl
theorem q303 : (Jvm.Cond.instanceMethod ({ cls := "SpanJobsModel", name := "outs", desc := "()I" } : Jvm.MethodName)) ∈ lw_all := lw_g (lw_at lw_m2 53 rfl) rfl
theorem q304 : (Jvm.Cond.selects "SpanJobsModel" ({ cls := "SpanJobsModel", name := "outs", desc := "()I" } : Jvm.MethodName) ({ cls := "SpanJobsModel", name := "outs", desc := "()I" } : Jvm.MethodName)) ∈ lw_all := lw_g (lw_at lw_m2 54 rfl) rfl
theorem q305 : (Jvm.Cond.code ({ cls := "SpanJobsModel", name := "outs", desc := "()I" } : Jvm.MethodName) prog_5_method_10_code (1 : Nat) (Option.some Jvm.ClassFile.FieldType.int)) ∈ lw_all := lw_g (lw_at lw_m2 55 rfl) rfl
theorem q307 : (Jvm.Cond.instanceMethod ({ cls := "SpanJobsModel", name := "late", desc := "()I" } : Jvm.MethodName)) ∈ lw_all := lw_g (lw_at lw_m2 57 rfl) rfl
theorem q308 : (Jvm.Cond.selects "SpanJobsModel" ({ cls := "SpanJobsModel", name := "late", desc := "()I" } : Jvm.MethodName) ({ cls := "SpanJobsModel", name := "late", desc := "()I" } : Jvm.MethodName)) ∈ lw_all := lw_g (lw_at lw_m2 58 rfl) rfl
theorem q309 : (Jvm.Cond.code ({ cls := "SpanJobsModel", name := "late", desc := "()I" } : Jvm.MethodName) prog_5_method_11_code (1 : Nat) (Option.some Jvm.ClassFile.FieldType.int)) ∈ lw_all := lw_g (lw_at lw_m2 59 rfl) rfl
theorem q311 : (Jvm.Cond.instanceMethod ({ cls := "SpanJobsModel", name := "taken", desc := "()I" } : Jvm.MethodName)) ∈ lw_all := lw_g (lw_at lw_m2 61 rfl) rfl
theorem q312 : (Jvm.Cond.selects "SpanJobsModel" ({ cls := "SpanJobsModel", name := "taken", desc := "()I" } : Jvm.MethodName) ({ cls := "SpanJobsModel", name := "taken", desc := "()I" } : Jvm.MethodName)) ∈ lw_all := lw_g (lw_at lw_m2 62 rfl) rfl
theorem q313 : (Jvm.Cond.code ({ cls := "SpanJobsModel", name := "taken", desc := "()I" } : Jvm.MethodName) prog_5_method_12_code (1 : Nat) (Option.some Jvm.ClassFile.FieldType.int)) ∈ lw_all := lw_g (lw_at lw_m2 63 rfl) rfl
theorem q315 : (Jvm.Cond.instanceMethod ({ cls := "SpanJobsModel", name := "watermark", desc := "()I" } : Jvm.MethodName)) ∈ lw_all := lw_g (lw_at lw_m2 65 rfl) rfl
theorem q316 : (Jvm.Cond.selects "SpanJobsModel" ({ cls := "SpanJobsModel", name := "watermark", desc := "()I" } : Jvm.MethodName) ({ cls := "SpanJobsModel", name := "watermark", desc := "()I" } : Jvm.MethodName)) ∈ lw_all := lw_g (lw_at lw_m2 66 rfl) rfl
theorem q317 : (Jvm.Cond.code ({ cls := "SpanJobsModel", name := "watermark", desc := "()I" } : Jvm.MethodName) prog_5_method_13_code (1 : Nat) (Option.some Jvm.ClassFile.FieldType.int)) ∈ lw_all := lw_g (lw_at lw_m2 67 rfl) rfl
theorem q319 : (Jvm.Cond.instanceMethod ({ cls := "SpanJobsModel", name := "kept", desc := "(JI)J" } : Jvm.MethodName)) ∈ lw_all := lw_g (lw_at lw_m2 69 rfl) rfl
theorem q320 : (Jvm.Cond.selects "SpanJobsModel" ({ cls := "SpanJobsModel", name := "kept", desc := "(JI)J" } : Jvm.MethodName) ({ cls := "SpanJobsModel", name := "kept", desc := "(JI)J" } : Jvm.MethodName)) ∈ lw_all := lw_g (lw_at lw_m2 70 rfl) rfl
theorem q321 : (Jvm.Cond.code ({ cls := "SpanJobsModel", name := "kept", desc := "(JI)J" } : Jvm.MethodName) prog_5_method_14_code (4 : Nat) (Option.some Jvm.ClassFile.FieldType.long)) ∈ lw_all := lw_g (lw_at lw_m2 71 rfl) rfl
theorem q323 : (Jvm.Cond.instanceMethod ({ cls := "SpanJobsModel", name := "keeps", desc := "()I" } : Jvm.MethodName)) ∈ lw_all := lw_g (lw_at lw_m2 73 rfl) rfl
theorem q324 : (Jvm.Cond.selects "SpanJobsModel" ({ cls := "SpanJobsModel", name := "keeps", desc := "()I" } : Jvm.MethodName) ({ cls := "SpanJobsModel", name := "keeps", desc := "()I" } : Jvm.MethodName)) ∈ lw_all := lw_g (lw_at lw_m2 74 rfl) rfl
theorem q325 : (Jvm.Cond.code ({ cls := "SpanJobsModel", name := "keeps", desc := "()I" } : Jvm.MethodName) prog_5_method_15_code (5 : Nat) (Option.some Jvm.ClassFile.FieldType.int)) ∈ lw_all := lw_g (lw_at lw_m2 75 rfl) rfl
theorem in_X3 : ∀ w ∈ wsX30, w ∈ lw_all := lw_in wsX30 [233, 235, 237, 239, 241, 243, 245, 247, 249, 251, 253, 255, 257, 259, 261, 263] (by decide +kernel) (by decide +kernel)
end
section
/-! the law's own entry -/
set_option maxRecDepth 100000
abbrev cL_law : ByteArray := code
theorem dL_law_0 : decode cL_law 0 = .ok (.new 7, 3) := by decide +kernel
theorem dL_law_3 : decode cL_law 3 = .ok (.dup, 1) := by decide +kernel
theorem dL_law_4 : decode cL_law 4 = .ok (.invokespecial 9, 3) := by decide +kernel
theorem dL_law_7 : decode cL_law 7 = .ok (.astore_n 1, 1) := by decide +kernel
theorem dL_law_8 : decode cL_law 8 = .ok (.new 10, 3) := by decide +kernel
theorem dL_law_11 : decode cL_law 11 = .ok (.dup, 1) := by decide +kernel
theorem dL_law_12 : decode cL_law 12 = .ok (.invokespecial 12, 3) := by decide +kernel
theorem dL_law_15 : decode cL_law 15 = .ok (.astore_n 2, 1) := by decide +kernel
theorem dL_law_16 : decode cL_law 16 = .ok (.iconst 0, 1) := by decide +kernel
theorem dL_law_17 : decode cL_law 17 = .ok (.istore_n 3, 1) := by decide +kernel
theorem dL_law_18 : decode cL_law 18 = .ok (.iload_n 3, 1) := by decide +kernel
theorem dL_law_19 : decode cL_law 19 = .ok (.aload_n 0, 1) := by decide +kernel
theorem dL_law_20 : decode cL_law 20 = .ok (.arraylength, 1) := by decide +kernel
theorem dL_law_21 : decode cL_law 21 = .ok (.bipush 6, 2) := by decide +kernel
theorem dL_law_23 : decode cL_law 23 = .ok (.isub, 1) := by decide +kernel
theorem dL_law_24 : decode cL_law 24 = .ok (.if_icmp .gt 375, 3) := by decide +kernel
theorem dL_law_27 : decode cL_law 27 = .ok (.aload_n 0, 1) := by decide +kernel
theorem dL_law_28 : decode cL_law 28 = .ok (.iload_n 3, 1) := by decide +kernel
theorem dL_law_29 : decode cL_law 29 = .ok (.iaload, 1) := by decide +kernel
theorem dL_law_30 : decode cL_law 30 = .ok (.bipush 15, 2) := by decide +kernel
theorem dL_law_32 : decode cL_law 32 = .ok (.iand, 1) := by decide +kernel
theorem dL_law_33 : decode cL_law 33 = .ok (.tableswitch 360 0 8 #[51, 94, 197, 231, 244, 257, 270, 283, 347], 51) := by decide +kernel
theorem dL_law_84 : decode cL_law 84 = .ok (.aload_n 1, 1) := by decide +kernel
theorem dL_law_85 : decode cL_law 85 = .ok (.aload_n 0, 1) := by decide +kernel
theorem dL_law_86 : decode cL_law 86 = .ok (.iload_n 3, 1) := by decide +kernel
theorem dL_law_87 : decode cL_law 87 = .ok (.iconst 1, 1) := by decide +kernel
theorem dL_law_88 : decode cL_law 88 = .ok (.iadd, 1) := by decide +kernel
theorem dL_law_89 : decode cL_law 89 = .ok (.iaload, 1) := by decide +kernel
theorem dL_law_90 : decode cL_law 90 = .ok (.aload_n 0, 1) := by decide +kernel
theorem dL_law_91 : decode cL_law 91 = .ok (.iload_n 3, 1) := by decide +kernel
theorem dL_law_92 : decode cL_law 92 = .ok (.iconst 2, 1) := by decide +kernel
theorem dL_law_93 : decode cL_law 93 = .ok (.iadd, 1) := by decide +kernel
theorem dL_law_94 : decode cL_law 94 = .ok (.iaload, 1) := by decide +kernel
theorem dL_law_95 : decode cL_law 95 = .ok (.aload_n 0, 1) := by decide +kernel
theorem dL_law_96 : decode cL_law 96 = .ok (.iload_n 3, 1) := by decide +kernel
theorem dL_law_97 : decode cL_law 97 = .ok (.iconst 3, 1) := by decide +kernel
theorem dL_law_98 : decode cL_law 98 = .ok (.iadd, 1) := by decide +kernel
theorem dL_law_99 : decode cL_law 99 = .ok (.iaload, 1) := by decide +kernel
theorem dL_law_100 : decode cL_law 100 = .ok (.invokevirtual 13, 3) := by decide +kernel
theorem dL_law_103 : decode cL_law 103 = .ok (.aload_n 2, 1) := by decide +kernel
theorem dL_law_104 : decode cL_law 104 = .ok (.aload_n 0, 1) := by decide +kernel
theorem dL_law_105 : decode cL_law 105 = .ok (.iload_n 3, 1) := by decide +kernel
theorem dL_law_106 : decode cL_law 106 = .ok (.iconst 1, 1) := by decide +kernel
theorem dL_law_107 : decode cL_law 107 = .ok (.iadd, 1) := by decide +kernel
theorem dL_law_108 : decode cL_law 108 = .ok (.iaload, 1) := by decide +kernel
theorem dL_law_109 : decode cL_law 109 = .ok (.aload_n 0, 1) := by decide +kernel
theorem dL_law_110 : decode cL_law 110 = .ok (.iload_n 3, 1) := by decide +kernel
theorem dL_law_111 : decode cL_law 111 = .ok (.iconst 2, 1) := by decide +kernel
theorem dL_law_112 : decode cL_law 112 = .ok (.iadd, 1) := by decide +kernel
theorem dL_law_113 : decode cL_law 113 = .ok (.iaload, 1) := by decide +kernel
theorem dL_law_114 : decode cL_law 114 = .ok (.aload_n 0, 1) := by decide +kernel
theorem dL_law_115 : decode cL_law 115 = .ok (.iload_n 3, 1) := by decide +kernel
theorem dL_law_116 : decode cL_law 116 = .ok (.iconst 3, 1) := by decide +kernel
theorem dL_law_117 : decode cL_law 117 = .ok (.iadd, 1) := by decide +kernel
theorem dL_law_118 : decode cL_law 118 = .ok (.iaload, 1) := by decide +kernel
theorem dL_law_119 : decode cL_law 119 = .ok (.invokevirtual 17, 3) := by decide +kernel
theorem dL_law_122 : decode cL_law 122 = .ok (.if_icmp .eq 271, 3) := by decide +kernel
theorem dL_law_125 : decode cL_law 125 = .ok (.iconst 0, 1) := by decide +kernel
theorem dL_law_126 : decode cL_law 126 = .ok (.ireturn, 1) := by decide +kernel
theorem dL_law_127 : decode cL_law 127 = .ok (.aload_n 1, 1) := by decide +kernel
theorem dL_law_128 : decode cL_law 128 = .ok (.aload_n 0, 1) := by decide +kernel
theorem dL_law_129 : decode cL_law 129 = .ok (.iload_n 3, 1) := by decide +kernel
theorem dL_law_130 : decode cL_law 130 = .ok (.iconst 1, 1) := by decide +kernel
theorem dL_law_131 : decode cL_law 131 = .ok (.iadd, 1) := by decide +kernel
theorem dL_law_132 : decode cL_law 132 = .ok (.iaload, 1) := by decide +kernel
theorem dL_law_133 : decode cL_law 133 = .ok (.i2l, 1) := by decide +kernel
theorem dL_law_134 : decode cL_law 134 = .ok (.bipush 32, 2) := by decide +kernel
theorem dL_law_136 : decode cL_law 136 = .ok (.lshl, 1) := by decide +kernel
theorem dL_law_137 : decode cL_law 137 = .ok (.aload_n 0, 1) := by decide +kernel
theorem dL_law_138 : decode cL_law 138 = .ok (.iload_n 3, 1) := by decide +kernel
theorem dL_law_139 : decode cL_law 139 = .ok (.iconst 2, 1) := by decide +kernel
theorem dL_law_140 : decode cL_law 140 = .ok (.iadd, 1) := by decide +kernel
theorem dL_law_141 : decode cL_law 141 = .ok (.iaload, 1) := by decide +kernel
theorem dL_law_142 : decode cL_law 142 = .ok (.i2l, 1) := by decide +kernel
theorem dL_law_143 : decode cL_law 143 = .ok (.ldc2_w 18, 3) := by decide +kernel
theorem dL_law_146 : decode cL_law 146 = .ok (.land, 1) := by decide +kernel
theorem dL_law_147 : decode cL_law 147 = .ok (.lor, 1) := by decide +kernel
theorem dL_law_148 : decode cL_law 148 = .ok (.aload_n 0, 1) := by decide +kernel
theorem dL_law_149 : decode cL_law 149 = .ok (.iload_n 3, 1) := by decide +kernel
theorem dL_law_150 : decode cL_law 150 = .ok (.iconst 3, 1) := by decide +kernel
theorem dL_law_151 : decode cL_law 151 = .ok (.iadd, 1) := by decide +kernel
theorem dL_law_152 : decode cL_law 152 = .ok (.iaload, 1) := by decide +kernel
theorem dL_law_153 : decode cL_law 153 = .ok (.i2l, 1) := by decide +kernel
theorem dL_law_154 : decode cL_law 154 = .ok (.bipush 32, 2) := by decide +kernel
theorem dL_law_156 : decode cL_law 156 = .ok (.lshl, 1) := by decide +kernel
theorem dL_law_157 : decode cL_law 157 = .ok (.aload_n 0, 1) := by decide +kernel
theorem dL_law_158 : decode cL_law 158 = .ok (.iload_n 3, 1) := by decide +kernel
theorem dL_law_159 : decode cL_law 159 = .ok (.iconst 4, 1) := by decide +kernel
theorem dL_law_160 : decode cL_law 160 = .ok (.iadd, 1) := by decide +kernel
theorem dL_law_161 : decode cL_law 161 = .ok (.iaload, 1) := by decide +kernel
theorem dL_law_162 : decode cL_law 162 = .ok (.i2l, 1) := by decide +kernel
theorem dL_law_163 : decode cL_law 163 = .ok (.ldc2_w 18, 3) := by decide +kernel
theorem dL_law_166 : decode cL_law 166 = .ok (.land, 1) := by decide +kernel
theorem dL_law_167 : decode cL_law 167 = .ok (.lor, 1) := by decide +kernel
theorem dL_law_168 : decode cL_law 168 = .ok (.aload_n 0, 1) := by decide +kernel
theorem dL_law_169 : decode cL_law 169 = .ok (.iload_n 3, 1) := by decide +kernel
theorem dL_law_170 : decode cL_law 170 = .ok (.iconst 5, 1) := by decide +kernel
theorem dL_law_171 : decode cL_law 171 = .ok (.iadd, 1) := by decide +kernel
theorem dL_law_172 : decode cL_law 172 = .ok (.iaload, 1) := by decide +kernel
theorem dL_law_173 : decode cL_law 173 = .ok (.invokevirtual 20, 3) := by decide +kernel
theorem dL_law_176 : decode cL_law 176 = .ok (.aload_n 2, 1) := by decide +kernel
theorem dL_law_177 : decode cL_law 177 = .ok (.aload_n 0, 1) := by decide +kernel
theorem dL_law_178 : decode cL_law 178 = .ok (.iload_n 3, 1) := by decide +kernel
theorem dL_law_179 : decode cL_law 179 = .ok (.iconst 1, 1) := by decide +kernel
theorem dL_law_180 : decode cL_law 180 = .ok (.iadd, 1) := by decide +kernel
theorem dL_law_181 : decode cL_law 181 = .ok (.iaload, 1) := by decide +kernel
theorem dL_law_182 : decode cL_law 182 = .ok (.i2l, 1) := by decide +kernel
theorem dL_law_183 : decode cL_law 183 = .ok (.bipush 32, 2) := by decide +kernel
theorem dL_law_185 : decode cL_law 185 = .ok (.lshl, 1) := by decide +kernel
theorem dL_law_186 : decode cL_law 186 = .ok (.aload_n 0, 1) := by decide +kernel
theorem dL_law_187 : decode cL_law 187 = .ok (.iload_n 3, 1) := by decide +kernel
theorem dL_law_188 : decode cL_law 188 = .ok (.iconst 2, 1) := by decide +kernel
theorem dL_law_189 : decode cL_law 189 = .ok (.iadd, 1) := by decide +kernel
theorem dL_law_190 : decode cL_law 190 = .ok (.iaload, 1) := by decide +kernel
theorem dL_law_191 : decode cL_law 191 = .ok (.i2l, 1) := by decide +kernel
theorem dL_law_192 : decode cL_law 192 = .ok (.ldc2_w 18, 3) := by decide +kernel
theorem dL_law_195 : decode cL_law 195 = .ok (.land, 1) := by decide +kernel
theorem dL_law_196 : decode cL_law 196 = .ok (.lor, 1) := by decide +kernel
theorem dL_law_197 : decode cL_law 197 = .ok (.aload_n 0, 1) := by decide +kernel
theorem dL_law_198 : decode cL_law 198 = .ok (.iload_n 3, 1) := by decide +kernel
theorem dL_law_199 : decode cL_law 199 = .ok (.iconst 3, 1) := by decide +kernel
theorem dL_law_200 : decode cL_law 200 = .ok (.iadd, 1) := by decide +kernel
theorem dL_law_201 : decode cL_law 201 = .ok (.iaload, 1) := by decide +kernel
theorem dL_law_202 : decode cL_law 202 = .ok (.i2l, 1) := by decide +kernel
theorem dL_law_203 : decode cL_law 203 = .ok (.bipush 32, 2) := by decide +kernel
theorem dL_law_205 : decode cL_law 205 = .ok (.lshl, 1) := by decide +kernel
theorem dL_law_206 : decode cL_law 206 = .ok (.aload_n 0, 1) := by decide +kernel
theorem dL_law_207 : decode cL_law 207 = .ok (.iload_n 3, 1) := by decide +kernel
theorem dL_law_208 : decode cL_law 208 = .ok (.iconst 4, 1) := by decide +kernel
theorem dL_law_209 : decode cL_law 209 = .ok (.iadd, 1) := by decide +kernel
theorem dL_law_210 : decode cL_law 210 = .ok (.iaload, 1) := by decide +kernel
theorem dL_law_211 : decode cL_law 211 = .ok (.i2l, 1) := by decide +kernel
theorem dL_law_212 : decode cL_law 212 = .ok (.ldc2_w 18, 3) := by decide +kernel
theorem dL_law_215 : decode cL_law 215 = .ok (.land, 1) := by decide +kernel
theorem dL_law_216 : decode cL_law 216 = .ok (.lor, 1) := by decide +kernel
theorem dL_law_217 : decode cL_law 217 = .ok (.aload_n 0, 1) := by decide +kernel
theorem dL_law_218 : decode cL_law 218 = .ok (.iload_n 3, 1) := by decide +kernel
theorem dL_law_219 : decode cL_law 219 = .ok (.iconst 5, 1) := by decide +kernel
theorem dL_law_220 : decode cL_law 220 = .ok (.iadd, 1) := by decide +kernel
theorem dL_law_221 : decode cL_law 221 = .ok (.iaload, 1) := by decide +kernel
theorem dL_law_222 : decode cL_law 222 = .ok (.invokevirtual 24, 3) := by decide +kernel
theorem dL_law_225 : decode cL_law 225 = .ok (.if_icmp .eq 168, 3) := by decide +kernel
theorem dL_law_228 : decode cL_law 228 = .ok (.iconst 0, 1) := by decide +kernel
theorem dL_law_229 : decode cL_law 229 = .ok (.ireturn, 1) := by decide +kernel
theorem dL_law_230 : decode cL_law 230 = .ok (.aload_n 1, 1) := by decide +kernel
theorem dL_law_231 : decode cL_law 231 = .ok (.aload_n 0, 1) := by decide +kernel
theorem dL_law_232 : decode cL_law 232 = .ok (.iload_n 3, 1) := by decide +kernel
theorem dL_law_233 : decode cL_law 233 = .ok (.iconst 1, 1) := by decide +kernel
theorem dL_law_234 : decode cL_law 234 = .ok (.iadd, 1) := by decide +kernel
theorem dL_law_235 : decode cL_law 235 = .ok (.iaload, 1) := by decide +kernel
theorem dL_law_236 : decode cL_law 236 = .ok (.aload_n 0, 1) := by decide +kernel
theorem dL_law_237 : decode cL_law 237 = .ok (.iload_n 3, 1) := by decide +kernel
theorem dL_law_238 : decode cL_law 238 = .ok (.iconst 2, 1) := by decide +kernel
theorem dL_law_239 : decode cL_law 239 = .ok (.iadd, 1) := by decide +kernel
theorem dL_law_240 : decode cL_law 240 = .ok (.iaload, 1) := by decide +kernel
theorem dL_law_241 : decode cL_law 241 = .ok (.invokevirtual 25, 3) := by decide +kernel
theorem dL_law_244 : decode cL_law 244 = .ok (.aload_n 2, 1) := by decide +kernel
theorem dL_law_245 : decode cL_law 245 = .ok (.aload_n 0, 1) := by decide +kernel
theorem dL_law_246 : decode cL_law 246 = .ok (.iload_n 3, 1) := by decide +kernel
theorem dL_law_247 : decode cL_law 247 = .ok (.iconst 1, 1) := by decide +kernel
theorem dL_law_248 : decode cL_law 248 = .ok (.iadd, 1) := by decide +kernel
theorem dL_law_249 : decode cL_law 249 = .ok (.iaload, 1) := by decide +kernel
theorem dL_law_250 : decode cL_law 250 = .ok (.aload_n 0, 1) := by decide +kernel
theorem dL_law_251 : decode cL_law 251 = .ok (.iload_n 3, 1) := by decide +kernel
theorem dL_law_252 : decode cL_law 252 = .ok (.iconst 2, 1) := by decide +kernel
theorem dL_law_253 : decode cL_law 253 = .ok (.iadd, 1) := by decide +kernel
theorem dL_law_254 : decode cL_law 254 = .ok (.iaload, 1) := by decide +kernel
theorem dL_law_255 : decode cL_law 255 = .ok (.invokevirtual 29, 3) := by decide +kernel
theorem dL_law_258 : decode cL_law 258 = .ok (.lcmp, 1) := by decide +kernel
theorem dL_law_259 : decode cL_law 259 = .ok (.ifCond .eq 134, 3) := by decide +kernel
theorem dL_law_262 : decode cL_law 262 = .ok (.iconst 0, 1) := by decide +kernel
theorem dL_law_263 : decode cL_law 263 = .ok (.ireturn, 1) := by decide +kernel
theorem dL_law_264 : decode cL_law 264 = .ok (.aload_n 1, 1) := by decide +kernel
theorem dL_law_265 : decode cL_law 265 = .ok (.invokevirtual 30, 3) := by decide +kernel
theorem dL_law_268 : decode cL_law 268 = .ok (.aload_n 2, 1) := by decide +kernel
theorem dL_law_269 : decode cL_law 269 = .ok (.invokevirtual 34, 3) := by decide +kernel
theorem dL_law_272 : decode cL_law 272 = .ok (.if_icmp .eq 121, 3) := by decide +kernel
theorem dL_law_275 : decode cL_law 275 = .ok (.iconst 0, 1) := by decide +kernel
theorem dL_law_276 : decode cL_law 276 = .ok (.ireturn, 1) := by decide +kernel
theorem dL_law_277 : decode cL_law 277 = .ok (.aload_n 1, 1) := by decide +kernel
theorem dL_law_278 : decode cL_law 278 = .ok (.invokevirtual 35, 3) := by decide +kernel
theorem dL_law_281 : decode cL_law 281 = .ok (.aload_n 2, 1) := by decide +kernel
theorem dL_law_282 : decode cL_law 282 = .ok (.invokevirtual 38, 3) := by decide +kernel
theorem dL_law_285 : decode cL_law 285 = .ok (.if_icmp .eq 108, 3) := by decide +kernel
theorem dL_law_288 : decode cL_law 288 = .ok (.iconst 0, 1) := by decide +kernel
theorem dL_law_289 : decode cL_law 289 = .ok (.ireturn, 1) := by decide +kernel
theorem dL_law_290 : decode cL_law 290 = .ok (.aload_n 1, 1) := by decide +kernel
theorem dL_law_291 : decode cL_law 291 = .ok (.invokevirtual 39, 3) := by decide +kernel
theorem dL_law_294 : decode cL_law 294 = .ok (.aload_n 2, 1) := by decide +kernel
theorem dL_law_295 : decode cL_law 295 = .ok (.invokevirtual 42, 3) := by decide +kernel
theorem dL_law_298 : decode cL_law 298 = .ok (.if_icmp .eq 95, 3) := by decide +kernel
theorem dL_law_301 : decode cL_law 301 = .ok (.iconst 0, 1) := by decide +kernel
theorem dL_law_302 : decode cL_law 302 = .ok (.ireturn, 1) := by decide +kernel
theorem dL_law_303 : decode cL_law 303 = .ok (.aload_n 1, 1) := by decide +kernel
theorem dL_law_304 : decode cL_law 304 = .ok (.invokevirtual 43, 3) := by decide +kernel
theorem dL_law_307 : decode cL_law 307 = .ok (.aload_n 2, 1) := by decide +kernel
theorem dL_law_308 : decode cL_law 308 = .ok (.invokevirtual 46, 3) := by decide +kernel
theorem dL_law_311 : decode cL_law 311 = .ok (.if_icmp .eq 82, 3) := by decide +kernel
theorem dL_law_314 : decode cL_law 314 = .ok (.iconst 0, 1) := by decide +kernel
theorem dL_law_315 : decode cL_law 315 = .ok (.ireturn, 1) := by decide +kernel
theorem dL_law_316 : decode cL_law 316 = .ok (.aload_n 1, 1) := by decide +kernel
theorem dL_law_317 : decode cL_law 317 = .ok (.aload_n 0, 1) := by decide +kernel
theorem dL_law_318 : decode cL_law 318 = .ok (.iload_n 3, 1) := by decide +kernel
theorem dL_law_319 : decode cL_law 319 = .ok (.iconst 1, 1) := by decide +kernel
theorem dL_law_320 : decode cL_law 320 = .ok (.iadd, 1) := by decide +kernel
theorem dL_law_321 : decode cL_law 321 = .ok (.iaload, 1) := by decide +kernel
theorem dL_law_322 : decode cL_law 322 = .ok (.i2l, 1) := by decide +kernel
theorem dL_law_323 : decode cL_law 323 = .ok (.bipush 32, 2) := by decide +kernel
theorem dL_law_325 : decode cL_law 325 = .ok (.lshl, 1) := by decide +kernel
theorem dL_law_326 : decode cL_law 326 = .ok (.aload_n 0, 1) := by decide +kernel
theorem dL_law_327 : decode cL_law 327 = .ok (.iload_n 3, 1) := by decide +kernel
theorem dL_law_328 : decode cL_law 328 = .ok (.iconst 2, 1) := by decide +kernel
theorem dL_law_329 : decode cL_law 329 = .ok (.iadd, 1) := by decide +kernel
theorem dL_law_330 : decode cL_law 330 = .ok (.iaload, 1) := by decide +kernel
theorem dL_law_331 : decode cL_law 331 = .ok (.i2l, 1) := by decide +kernel
theorem dL_law_332 : decode cL_law 332 = .ok (.ldc2_w 18, 3) := by decide +kernel
theorem dL_law_335 : decode cL_law 335 = .ok (.land, 1) := by decide +kernel
theorem dL_law_336 : decode cL_law 336 = .ok (.lor, 1) := by decide +kernel
theorem dL_law_337 : decode cL_law 337 = .ok (.aload_n 0, 1) := by decide +kernel
theorem dL_law_338 : decode cL_law 338 = .ok (.iload_n 3, 1) := by decide +kernel
theorem dL_law_339 : decode cL_law 339 = .ok (.iconst 3, 1) := by decide +kernel
theorem dL_law_340 : decode cL_law 340 = .ok (.iadd, 1) := by decide +kernel
theorem dL_law_341 : decode cL_law 341 = .ok (.iaload, 1) := by decide +kernel
theorem dL_law_342 : decode cL_law 342 = .ok (.invokevirtual 47, 3) := by decide +kernel
theorem dL_law_345 : decode cL_law 345 = .ok (.aload_n 2, 1) := by decide +kernel
theorem dL_law_346 : decode cL_law 346 = .ok (.aload_n 0, 1) := by decide +kernel
theorem dL_law_347 : decode cL_law 347 = .ok (.iload_n 3, 1) := by decide +kernel
theorem dL_law_348 : decode cL_law 348 = .ok (.iconst 1, 1) := by decide +kernel
theorem dL_law_349 : decode cL_law 349 = .ok (.iadd, 1) := by decide +kernel
theorem dL_law_350 : decode cL_law 350 = .ok (.iaload, 1) := by decide +kernel
theorem dL_law_351 : decode cL_law 351 = .ok (.i2l, 1) := by decide +kernel
theorem dL_law_352 : decode cL_law 352 = .ok (.bipush 32, 2) := by decide +kernel
theorem dL_law_354 : decode cL_law 354 = .ok (.lshl, 1) := by decide +kernel
theorem dL_law_355 : decode cL_law 355 = .ok (.aload_n 0, 1) := by decide +kernel
theorem dL_law_356 : decode cL_law 356 = .ok (.iload_n 3, 1) := by decide +kernel
theorem dL_law_357 : decode cL_law 357 = .ok (.iconst 2, 1) := by decide +kernel
theorem dL_law_358 : decode cL_law 358 = .ok (.iadd, 1) := by decide +kernel
theorem dL_law_359 : decode cL_law 359 = .ok (.iaload, 1) := by decide +kernel
theorem dL_law_360 : decode cL_law 360 = .ok (.i2l, 1) := by decide +kernel
theorem dL_law_361 : decode cL_law 361 = .ok (.ldc2_w 18, 3) := by decide +kernel
theorem dL_law_364 : decode cL_law 364 = .ok (.land, 1) := by decide +kernel
theorem dL_law_365 : decode cL_law 365 = .ok (.lor, 1) := by decide +kernel
theorem dL_law_366 : decode cL_law 366 = .ok (.aload_n 0, 1) := by decide +kernel
theorem dL_law_367 : decode cL_law 367 = .ok (.iload_n 3, 1) := by decide +kernel
theorem dL_law_368 : decode cL_law 368 = .ok (.iconst 3, 1) := by decide +kernel
theorem dL_law_369 : decode cL_law 369 = .ok (.iadd, 1) := by decide +kernel
theorem dL_law_370 : decode cL_law 370 = .ok (.iaload, 1) := by decide +kernel
theorem dL_law_371 : decode cL_law 371 = .ok (.invokevirtual 51, 3) := by decide +kernel
theorem dL_law_374 : decode cL_law 374 = .ok (.lcmp, 1) := by decide +kernel
theorem dL_law_375 : decode cL_law 375 = .ok (.ifCond .eq 18, 3) := by decide +kernel
theorem dL_law_378 : decode cL_law 378 = .ok (.iconst 0, 1) := by decide +kernel
theorem dL_law_379 : decode cL_law 379 = .ok (.ireturn, 1) := by decide +kernel
theorem dL_law_380 : decode cL_law 380 = .ok (.aload_n 1, 1) := by decide +kernel
theorem dL_law_381 : decode cL_law 381 = .ok (.invokevirtual 52, 3) := by decide +kernel
theorem dL_law_384 : decode cL_law 384 = .ok (.aload_n 2, 1) := by decide +kernel
theorem dL_law_385 : decode cL_law 385 = .ok (.invokevirtual 55, 3) := by decide +kernel
theorem dL_law_388 : decode cL_law 388 = .ok (.if_icmp .eq 5, 3) := by decide +kernel
theorem dL_law_391 : decode cL_law 391 = .ok (.iconst 0, 1) := by decide +kernel
theorem dL_law_392 : decode cL_law 392 = .ok (.ireturn, 1) := by decide +kernel
theorem dL_law_393 : decode cL_law 393 = .ok (.iinc 3 6, 3) := by decide +kernel
theorem dL_law_396 : decode cL_law 396 = .ok (.goto (-378), 3) := by decide +kernel
theorem dL_law_399 : decode cL_law 399 = .ok (.iconst 1, 1) := by decide +kernel
theorem dL_law_400 : decode cL_law 400 = .ok (.ireturn, 1) := by decide +kernel
theorem q10 : (Jvm.Cond.initialized "SpanJobsLaw") ∈ lw_all := lw_g (lw_at lw_m1 0 rfl) rfl
set_option maxRecDepth 100000
theorem q16 : (Jvm.Cond.classLink "SpanJobsLaw" (7 : Nat) "SpanJobs") ∈ lw_all := lw_g (lw_at lw_m1 6 rfl) rfl
theorem q18 : (Jvm.Cond.methodLink "SpanJobsLaw" (9 : Nat) ({ cls := "SpanJobs", name := "<init>", desc := "()V" } : Jvm.MethodName)) ∈ lw_all := lw_g (lw_at lw_m1 8 rfl) rfl
theorem q94 : (Jvm.Cond.methodLink "SpanJobsLaw" (13 : Nat) ({ cls := "SpanJobs", name := "begin", desc := "(III)Z" } : Jvm.MethodName)) ∈ lw_all := lw_g (lw_at lw_m1 84 rfl) rfl
theorem q98 : (Jvm.Cond.methodLink "SpanJobsLaw" (20 : Nat) ({ cls := "SpanJobs", name := "take", desc := "(JJI)I" } : Jvm.MethodName)) ∈ lw_all := lw_g (lw_at lw_m1 88 rfl) rfl
theorem q171 : (Jvm.Cond.methodLink "SpanJobsLaw" (25 : Nat) ({ cls := "SpanJobs", name := "out", desc := "(II)J" } : Jvm.MethodName)) ∈ lw_all := lw_g (lw_at lw_m1 161 rfl) rfl
theorem q187 : (Jvm.Cond.methodLink "SpanJobsLaw" (30 : Nat) ({ cls := "SpanJobs", name := "outs", desc := "()I" } : Jvm.MethodName)) ∈ lw_all := lw_g (lw_at lw_m1 177 rfl) rfl
theorem q191 : (Jvm.Cond.methodLink "SpanJobsLaw" (35 : Nat) ({ cls := "SpanJobs", name := "late", desc := "()I" } : Jvm.MethodName)) ∈ lw_all := lw_g (lw_at lw_m1 181 rfl) rfl
theorem q195 : (Jvm.Cond.methodLink "SpanJobsLaw" (39 : Nat) ({ cls := "SpanJobs", name := "taken", desc := "()I" } : Jvm.MethodName)) ∈ lw_all := lw_g (lw_at lw_m1 185 rfl) rfl
theorem q199 : (Jvm.Cond.methodLink "SpanJobsLaw" (43 : Nat) ({ cls := "SpanJobs", name := "watermark", desc := "()I" } : Jvm.MethodName)) ∈ lw_all := lw_g (lw_at lw_m1 189 rfl) rfl
theorem q203 : (Jvm.Cond.methodLink "SpanJobsLaw" (47 : Nat) ({ cls := "SpanJobs", name := "kept", desc := "(JI)J" } : Jvm.MethodName)) ∈ lw_all := lw_g (lw_at lw_m1 193 rfl) rfl
theorem q207 : (Jvm.Cond.methodLink "SpanJobsLaw" (52 : Nat) ({ cls := "SpanJobs", name := "keeps", desc := "()I" } : Jvm.MethodName)) ∈ lw_all := lw_g (lw_at lw_m1 197 rfl) rfl
theorem q211 : (Jvm.Cond.classLink "SpanJobsLaw" (10 : Nat) "SpanJobsModel") ∈ lw_all := lw_g (lw_at lw_m1 201 rfl) rfl
theorem q213 : (Jvm.Cond.methodLink "SpanJobsLaw" (12 : Nat) ({ cls := "SpanJobsModel", name := "<init>", desc := "()V" } : Jvm.MethodName)) ∈ lw_all := lw_g (lw_at lw_m1 203 rfl) rfl
theorem q267 : (Jvm.Cond.methodLink "SpanJobsLaw" (17 : Nat) ({ cls := "SpanJobsModel", name := "begin", desc := "(III)Z" } : Jvm.MethodName)) ∈ lw_all := lw_g (lw_at lw_m2 17 rfl) rfl
theorem q271 : (Jvm.Cond.methodLink "SpanJobsLaw" (24 : Nat) ({ cls := "SpanJobsModel", name := "take", desc := "(JJI)I" } : Jvm.MethodName)) ∈ lw_all := lw_g (lw_at lw_m2 21 rfl) rfl
theorem q298 : (Jvm.Cond.methodLink "SpanJobsLaw" (29 : Nat) ({ cls := "SpanJobsModel", name := "out", desc := "(II)J" } : Jvm.MethodName)) ∈ lw_all := lw_g (lw_at lw_m2 48 rfl) rfl
theorem q302 : (Jvm.Cond.methodLink "SpanJobsLaw" (34 : Nat) ({ cls := "SpanJobsModel", name := "outs", desc := "()I" } : Jvm.MethodName)) ∈ lw_all := lw_g (lw_at lw_m2 52 rfl) rfl
theorem q306 : (Jvm.Cond.methodLink "SpanJobsLaw" (38 : Nat) ({ cls := "SpanJobsModel", name := "late", desc := "()I" } : Jvm.MethodName)) ∈ lw_all := lw_g (lw_at lw_m2 56 rfl) rfl
theorem q310 : (Jvm.Cond.methodLink "SpanJobsLaw" (42 : Nat) ({ cls := "SpanJobsModel", name := "taken", desc := "()I" } : Jvm.MethodName)) ∈ lw_all := lw_g (lw_at lw_m2 60 rfl) rfl
theorem q314 : (Jvm.Cond.methodLink "SpanJobsLaw" (46 : Nat) ({ cls := "SpanJobsModel", name := "watermark", desc := "()I" } : Jvm.MethodName)) ∈ lw_all := lw_g (lw_at lw_m2 64 rfl) rfl
theorem q318 : (Jvm.Cond.methodLink "SpanJobsLaw" (51 : Nat) ({ cls := "SpanJobsModel", name := "kept", desc := "(JI)J" } : Jvm.MethodName)) ∈ lw_all := lw_g (lw_at lw_m2 68 rfl) rfl
theorem q322 : (Jvm.Cond.methodLink "SpanJobsLaw" (55 : Nat) ({ cls := "SpanJobsModel", name := "keeps", desc := "()I" } : Jvm.MethodName)) ∈ lw_all := lw_g (lw_at lw_m2 72 rfl) rfl
theorem q326 : (Jvm.Cond.constantLong "SpanJobsLaw" (18 : Nat) (4294967295 : Int64)) ∈ lw_all := lw_g (lw_at lw_m2 76 rfl) rfl
def R_law : String := "SpanJobsLaw"
end
section
/-! BASE: the claim's four classes, and rows of my own over the kit's -/
set_option maxRecDepth 100000
abbrev vwCl : List vw_C := [(RX0, TX0, 9), (RX1, TX1, 4), (RX2, TX2, 4), (RX3, TX3, 16)]
abbrev sj_t (dJ dN dZ : ClassId) : List (ClassId × FieldType) := [(dJ, .long), (dN, .int), (dZ, .boolean)]
/-- a read-only contract's start: the cells wc -/
abbrev sj_Pr (D : va_G) (wc : va_W) (tys : List (ClassId × FieldType)) (av : List Value) : Array Value → State → Prop := va_Pc av (fun U => va_P D vwCl wc U.heap ∧ va_K D vwCl tys U)
theorem sj_fbR {D : va_G} {wc : va_W} {tys : List (ClassId × FieldType)} {av : List Value} : FrameBlind (sj_Pr D wc tys av) := fun a U g mk q => ⟨q.1, q.2.1, va_K.moved (u := U) (U := U.calling g mk a) (Vm.Alike.refl U.vm) q.2.2⟩
/-- a writing contract's start -/
abbrev sj_Pw (D : va_G) (wc : va_W) (tys : List (ClassId × FieldType)) (sz : Nat) (av : List Value) : Array Value → State → Prop := va_Pc av (fun U => U.heap.size = sz ∧ va_P D vwCl wc U.heap ∧ va_K D vwCl tys U ∧ va_D (fun _ => True) wc)
theorem sj_fbW {D : va_G} {wc : va_W} {tys : List (ClassId × FieldType)} {sz : Nat} {av : List Value} : FrameBlind (sj_Pw D wc tys sz av) := fun a U g mk q => ⟨q.1, q.2.1, q.2.2.1, va_K.moved (u := U) (U := U.calling g mk a) (Vm.Alike.refl U.vm) q.2.2.2.1, q.2.2.2.2⟩
/-- a writing contract's end: the cells w1 u -/
abbrev sj_B {S : Type} (D : va_G) (A : Nat → Prop) (w1 : S → va_W) : S → State → Prop := fun u t => va_P D vwCl (w1 u) t.heap ∧ va_D A (w1 u)
abbrev sj_Qv {S : Type} (post : S → Prop) (w1 : S → va_W) (D : va_G) (wc : va_W) (sz : Nat) : Array Value → State → Outcome → State → Prop := va_Qv post (sj_B D (va_A wc sz) w1) (va_A wc sz)
abbrev sj_Qi {S : Type} (post : Int32 → S → Prop) (w1 : S → va_W) (D : va_G) (wc : va_W) (sz : Nat) : Array Value → State → Outcome → State → Prop := va_Qi post (sj_B D (va_A wc sz) w1) (va_A wc sz)
theorem sj_i0 {P : Prop} [Decidable P] {r : Int32} (h : r = if P then 1 else 0) (h0 : r = 0) : ¬ P := by
  intro hp
  rw [if_pos hp] at h
  rw [h] at h0
  exact absurd h0 (by decide)
theorem sj_i1 {P : Prop} [Decidable P] {r : Int32} (h : r = if P then 1 else 0) (h0 : ¬ r = 0) : P := by
  by_cases hp : P
  · exact hp
  · rw [if_neg hp] at h
    exact absurd h h0
theorem sj_ci {r : Int32} {a : Int32} {b : Int32} (h : r = a) (e : a = b) : r = b := h.trans e
section SJ
variable {p : Program} {l : Launch} {e : Env} {R : Room} {s : State} {m : MethodId} {args : Array Value} {below : List Frame} {meth : Method} {c : Code} {H : Heap} {locs : List Loc} {cells slots : Nat} {Q : State → Prop}
variable {cc : ByteArray} {pc : Nat} {ls : Array Slot} {rest : List Value} {D : va_G} {cl : List vw_C} {A : Nat → Prop} {a : Nat} {tys : List (ClassId × FieldType)} {ws : va_W} {H0 : Heap}
theorem sj_cvi {x y : Int32} (h : x = y) (k : W p l e R s m args below meth c H locs cells slots Q (F0 m pc ls (.int y :: rest))) : W p l e R s m args below meth c H locs cells slots Q (F0 m pc ls (.int x :: rest)) := by
  subst h
  exact k
theorem sj_cvl {x y : Int64} (h : x = y) (k : W p l e R s m args below meth c H locs cells slots Q (F0 m pc ls (.long y :: rest))) : W p l e R s m args below meth c H locs cells slots Q (F0 m pc ls (.long x :: rest)) := by
  subst h
  exact k
theorem sj_iald (hexec : p.tables.exec = Jvm.exec) (hb : c.code = cc) (hK : va_K D cl tys s) (hP : va_P D cl ws H) (q0 t0 : Nat) {cA : ClassId} {n : Nat} {f : Nat → Int32} (ha : ws[q0]? = some (a, .inl (cA, n, .inl f))) (ht : tys[t0]? = some (cA, .int)) {i : Int32} (k : Nat) (hi : i = nI k) (hk : k < n) (hn : n < 2 ^ 31) (hdg : decode cc pc = .ok (.iaload, 1))
    (kk : W p l e R s m args below meth c H locs cells slots Q (F0 m (pc + 1) ls (.int (f k) :: rest))) : W p l e R s m args below meth c H locs cells slots Q (F0 m pc ls (.int i :: .ref a :: rest)) := by
  subst hi
  refine va_iald hexec hb hK hP q0 t0 ha ht (vp_in_nI hk hn) hdg ?_
  rw [nI_clamp (by omega)]
  exact kk
theorem sj_zald (hexec : p.tables.exec = Jvm.exec) (hb : c.code = cc) (hK : va_K D cl tys s) (hP : va_P D cl ws H) (q0 t0 : Nat) {cA : ClassId} {n : Nat} {f : Nat → Int32} (ha : ws[q0]? = some (a, .inl (cA, n, .inl f))) (ht : tys[t0]? = some (cA, .boolean)) {i : Int32} (k : Nat) (hi : i = nI k) (hk : k < n) (hn : n < 2 ^ 31) (hdg : decode cc pc = .ok (.baload, 1))
    (kk : W p l e R s m args below meth c H locs cells slots Q (F0 m (pc + 1) ls (.int (f k) :: rest))) : W p l e R s m args below meth c H locs cells slots Q (F0 m pc ls (.int i :: .ref a :: rest)) := by
  subst hi
  refine va_zald hexec hb hK hP q0 t0 ha ht (vp_in_nI hk hn) hdg ?_
  rw [nI_clamp (by omega)]
  exact kk
theorem sj_lald (hexec : p.tables.exec = Jvm.exec) (hb : c.code = cc) (hK : va_K D cl tys s) (hP : va_P D cl ws H) (q0 t0 : Nat) {cA : ClassId} {n : Nat} {f : Nat → Int64} (ha : ws[q0]? = some (a, .inl (cA, n, .inr (.inl f)))) (ht : tys[t0]? = some (cA, .long)) {i : Int32} (k : Nat) (hi : i = nI k) (hk : k < n) (hn : n < 2 ^ 31) (hdg : decode cc pc = .ok (.laload, 1))
    (kk : W p l e R s m args below meth c H locs cells slots Q (F0 m (pc + 1) ls (.long (f k) :: rest))) : W p l e R s m args below meth c H locs cells slots Q (F0 m pc ls (.int i :: .ref a :: rest)) := by
  subst hi
  refine va_lald hexec hb hK hP q0 t0 ha ht (vp_in_nI hk hn) hdg ?_
  rw [nI_clamp (by omega)]
  exact kk
theorem sj_last (hexec : p.tables.exec = Jvm.exec) (hb : c.code = cc) (hK : va_K D cl tys s) (hP : va_P D cl ws H) (hD : va_D A ws) (hS : va_S A H0 H locs) (q0 t0 : Nat) {cA : ClassId} {n : Nat} {f : Nat → Int64} (ha : ws[q0]? = some (a, .inl (cA, n, .inr (.inl f)))) (ht : tys[t0]? = some (cA, .long)) {i : Int32} {x : Int64} (k : Nat) (hi : i = nI k) (hk : k < n) (hn : n < 2 ^ 31) (hdg : decode cc pc = .ok (.lastore, 1))
    (kk : ∀ (H1 : Heap) (locs1 : List Loc), va_P D cl (ws.set q0 (a, .inl (cA, n, .inr (.inl (vp_updL f k x))))) H1 → va_D A (ws.set q0 (a, .inl (cA, n, .inr (.inl (vp_updL f k x))))) → va_S A H0 H1 locs1 → W p l e R s m args below meth c H1 locs1 cells slots Q (F0 m (pc + 1) ls rest)) : W p l e R s m args below meth c H locs cells slots Q (F0 m pc ls (.long x :: .int i :: .ref a :: rest)) := by
  subst hi
  refine va_last hexec hb hK hP hD hS q0 t0 ha ht (vp_in_nI hk hn) hdg ?_
  rw [nI_clamp (by omega)]
  exact kk
theorem sj_iast (hexec : p.tables.exec = Jvm.exec) (hb : c.code = cc) (hK : va_K D cl tys s) (hP : va_P D cl ws H) (hD : va_D A ws) (hS : va_S A H0 H locs) (q0 t0 : Nat) {cA : ClassId} {n : Nat} {f : Nat → Int32} (ha : ws[q0]? = some (a, .inl (cA, n, .inl f))) (ht : tys[t0]? = some (cA, .int)) {i : Int32} {x : Int32} (k : Nat) (hi : i = nI k) (hk : k < n) (hn : n < 2 ^ 31) (hdg : decode cc pc = .ok (.iastore, 1))
    (kk : ∀ (H1 : Heap) (locs1 : List Loc), va_P D cl (ws.set q0 (a, .inl (cA, n, .inl (upd f k x)))) H1 → va_D A (ws.set q0 (a, .inl (cA, n, .inl (upd f k x)))) → va_S A H0 H1 locs1 → W p l e R s m args below meth c H1 locs1 cells slots Q (F0 m (pc + 1) ls rest)) : W p l e R s m args below meth c H locs cells slots Q (F0 m pc ls (.int x :: .int i :: .ref a :: rest)) := by
  subst hi
  refine va_iast hexec hb hK hP hD hS q0 t0 ha ht (vp_in_nI hk hn) hdg ?_
  rw [nI_clamp (by omega)]
  exact kk
theorem sj_zast (hexec : p.tables.exec = Jvm.exec) (hb : c.code = cc) (hK : va_K D cl tys s) (hP : va_P D cl ws H) (hD : va_D A ws) (hS : va_S A H0 H locs) (q0 t0 : Nat) {cA : ClassId} {n : Nat} {f : Nat → Int32} (ha : ws[q0]? = some (a, .inl (cA, n, .inl f))) (ht : tys[t0]? = some (cA, .boolean)) {i : Int32} {x : Int32} (k : Nat) (hi : i = nI k) (hk : k < n) (hn : n < 2 ^ 31) (hx : vp_nar .boolean x = x) (hdg : decode cc pc = .ok (.bastore, 1))
    (kk : ∀ (H1 : Heap) (locs1 : List Loc), va_P D cl (ws.set q0 (a, .inl (cA, n, .inl (upd f k x)))) H1 → va_D A (ws.set q0 (a, .inl (cA, n, .inl (upd f k x)))) → va_S A H0 H1 locs1 → W p l e R s m args below meth c H1 locs1 cells slots Q (F0 m (pc + 1) ls rest)) : W p l e R s m args below meth c H locs cells slots Q (F0 m pc ls (.int x :: .int i :: .ref a :: rest)) := by
  subst hi
  refine va_zast hexec hb hK hP hD hS q0 t0 ha ht (vp_in_nI hk hn) hdg ?_
  rw [nI_clamp (by omega), hx]
  exact kk
theorem sj_lc_lt (hexec : p.tables.exec = Jvm.exec) (hb : c.code = cc) {x y : Int64} {off : Int} {tgt : Nat} (hd1 : decode cc pc = .ok (.lcmp, 1)) (hd2 : decode cc (pc + 1) = .ok (.ifCond .lt off, 3)) (ht : ((pc + 1 : Nat) : Int) + off = (tgt : Int))
    (kt : x < y → W p l e R s m args below meth c H locs cells slots Q (F0 m tgt ls rest)) (kf : ¬ x < y → W p l e R s m args below meth c H locs cells slots Q (F0 m (pc + 1 + 3) ls rest)) : W p l e R s m args below meth c H locs cells slots Q (F0 m pc ls (.long y :: .long x :: rest)) :=
  W.lcmp hexec hb hd1 (lv_if_lt hexec hb hd2 ht (fun h => kt ((lg_cmp_lt x y).mp h)) (fun h => kf (fun h2 => h ((lg_cmp_lt x y).mpr h2))))
theorem sj_lc_ge (hexec : p.tables.exec = Jvm.exec) (hb : c.code = cc) {x y : Int64} {off : Int} {tgt : Nat} (hd1 : decode cc pc = .ok (.lcmp, 1)) (hd2 : decode cc (pc + 1) = .ok (.ifCond .ge off, 3)) (ht : ((pc + 1 : Nat) : Int) + off = (tgt : Int))
    (kt : y ≤ x → W p l e R s m args below meth c H locs cells slots Q (F0 m tgt ls rest)) (kf : ¬ y ≤ x → W p l e R s m args below meth c H locs cells slots Q (F0 m (pc + 1 + 3) ls rest)) : W p l e R s m args below meth c H locs cells slots Q (F0 m pc ls (.long y :: .long x :: rest)) :=
  W.lcmp hexec hb hd1 (lv_if_ge hexec hb hd2 ht (fun h => kt ((lg_cmp_ge x y).mp h)) (fun h => kf (fun h2 => h ((lg_cmp_ge x y).mpr h2))))
theorem sj_lc_gt (hexec : p.tables.exec = Jvm.exec) (hb : c.code = cc) {x y : Int64} {off : Int} {tgt : Nat} (hd1 : decode cc pc = .ok (.lcmp, 1)) (hd2 : decode cc (pc + 1) = .ok (.ifCond .gt off, 3)) (ht : ((pc + 1 : Nat) : Int) + off = (tgt : Int))
    (kt : y < x → W p l e R s m args below meth c H locs cells slots Q (F0 m tgt ls rest)) (kf : ¬ y < x → W p l e R s m args below meth c H locs cells slots Q (F0 m (pc + 1 + 3) ls rest)) : W p l e R s m args below meth c H locs cells slots Q (F0 m pc ls (.long y :: .long x :: rest)) :=
  W.lcmp hexec hb hd1 (lv_if_gt hexec hb hd2 ht (fun h => kt ((lg_cmp_gt x y).mp h)) (fun h => kf (fun h2 => h ((lg_cmp_gt x y).mpr h2))))
theorem sj_lc_le (hexec : p.tables.exec = Jvm.exec) (hb : c.code = cc) {x y : Int64} {off : Int} {tgt : Nat} (hd1 : decode cc pc = .ok (.lcmp, 1)) (hd2 : decode cc (pc + 1) = .ok (.ifCond .le off, 3)) (ht : ((pc + 1 : Nat) : Int) + off = (tgt : Int))
    (kt : x ≤ y → W p l e R s m args below meth c H locs cells slots Q (F0 m tgt ls rest)) (kf : ¬ x ≤ y → W p l e R s m args below meth c H locs cells slots Q (F0 m (pc + 1 + 3) ls rest)) : W p l e R s m args below meth c H locs cells slots Q (F0 m pc ls (.long y :: .long x :: rest)) :=
  W.lcmp hexec hb hd1 (lv_if_le hexec hb hd2 ht (fun h => kt ((lg_cmp_le x y).mp h)) (fun h => kf (fun h2 => h ((lg_cmp_le x y).mpr h2))))
theorem sj_lc_eq (hexec : p.tables.exec = Jvm.exec) (hb : c.code = cc) {x y : Int64} {off : Int} {tgt : Nat} (hd1 : decode cc pc = .ok (.lcmp, 1)) (hd2 : decode cc (pc + 1) = .ok (.ifCond .eq off, 3)) (ht : ((pc + 1 : Nat) : Int) + off = (tgt : Int))
    (kt : x = y → W p l e R s m args below meth c H locs cells slots Q (F0 m tgt ls rest)) (kf : ¬ x = y → W p l e R s m args below meth c H locs cells slots Q (F0 m (pc + 1 + 3) ls rest)) : W p l e R s m args below meth c H locs cells slots Q (F0 m pc ls (.long y :: .long x :: rest)) :=
  W.lcmp hexec hb hd1 (lv_if_eq hexec hb hd2 ht (fun h => kt ((lg_cmp_eq x y).mp h)) (fun h => kf (fun h2 => h ((lg_cmp_eq x y).mpr h2))))
theorem sj_lc_ne (hexec : p.tables.exec = Jvm.exec) (hb : c.code = cc) {x y : Int64} {off : Int} {tgt : Nat} (hd1 : decode cc pc = .ok (.lcmp, 1)) (hd2 : decode cc (pc + 1) = .ok (.ifCond .ne off, 3)) (ht : ((pc + 1 : Nat) : Int) + off = (tgt : Int))
    (kt : ¬ x = y → W p l e R s m args below meth c H locs cells slots Q (F0 m tgt ls rest)) (kf : x = y → W p l e R s m args below meth c H locs cells slots Q (F0 m (pc + 1 + 3) ls rest)) : W p l e R s m args below meth c H locs cells slots Q (F0 m pc ls (.long y :: .long x :: rest)) :=
  W.lcmp hexec hb hd1 (lv_if_ne hexec hb hd2 ht (fun h => kt (fun h2 => h ((lg_cmp_eq x y).mpr h2))) (fun h => kf ((lg_cmp_eq x y).mp h)))
theorem sj_nge {a b : Nat} (hexec : p.tables.exec = Jvm.exec) (hb : c.code = cc) {off : Int} {tgt : Nat} (hdg : decode cc pc = .ok (.if_icmp .ge off, 3)) (ht : (pc : Int) + off = (tgt : Int)) (h1 : a < 2 ^ 31) (h2 : b < 2 ^ 31)
    (kt : b ≤ a → W p l e R s m args below meth c H locs cells slots Q (F0 m tgt ls rest)) (kf : a < b → W p l e R s m args below meth c H locs cells slots Q (F0 m (pc + 3) ls rest)) : W p l e R s m args below meth c H locs cells slots Q (F0 m pc ls (.int (nI b) :: .int (nI a) :: rest)) :=
  lv_icmp_ge hexec hb hdg ht (fun h => kt ((nI_leI h2 h1).mp h)) (fun h => kf (Nat.lt_of_not_le (fun h3 => h ((nI_leI h2 h1).mpr h3))))
theorem sj_nle {a b : Nat} (hexec : p.tables.exec = Jvm.exec) (hb : c.code = cc) {off : Int} {tgt : Nat} (hdg : decode cc pc = .ok (.if_icmp .le off, 3)) (ht : (pc : Int) + off = (tgt : Int)) (h1 : a < 2 ^ 31) (h2 : b < 2 ^ 31)
    (kt : a ≤ b → W p l e R s m args below meth c H locs cells slots Q (F0 m tgt ls rest)) (kf : b < a → W p l e R s m args below meth c H locs cells slots Q (F0 m (pc + 3) ls rest)) : W p l e R s m args below meth c H locs cells slots Q (F0 m pc ls (.int (nI b) :: .int (nI a) :: rest)) :=
  lv_icmp_le hexec hb hdg ht (fun h => kt ((nI_leI h1 h2).mp h)) (fun h => kf (Nat.lt_of_not_le (fun h3 => h ((nI_leI h1 h2).mpr h3))))
theorem sj_nlt {a b : Nat} (hexec : p.tables.exec = Jvm.exec) (hb : c.code = cc) {off : Int} {tgt : Nat} (hdg : decode cc pc = .ok (.if_icmp .lt off, 3)) (ht : (pc : Int) + off = (tgt : Int)) (h1 : a < 2 ^ 31) (h2 : b < 2 ^ 31)
    (kt : a < b → W p l e R s m args below meth c H locs cells slots Q (F0 m tgt ls rest)) (kf : b ≤ a → W p l e R s m args below meth c H locs cells slots Q (F0 m (pc + 3) ls rest)) : W p l e R s m args below meth c H locs cells slots Q (F0 m pc ls (.int (nI b) :: .int (nI a) :: rest)) :=
  lv_icmp_lt hexec hb hdg ht (fun h => kt ((nI_ltI h1 h2).mp h)) (fun h => kf (Nat.le_of_not_lt (fun h3 => h ((nI_ltI h1 h2).mpr h3))))
theorem sj_nne {a b : Nat} (hexec : p.tables.exec = Jvm.exec) (hb : c.code = cc) {off : Int} {tgt : Nat} (hdg : decode cc pc = .ok (.if_icmp .ne off, 3)) (ht : (pc : Int) + off = (tgt : Int)) (h1 : a < 2 ^ 31) (h2 : b < 2 ^ 31)
    (kt : a ≠ b → W p l e R s m args below meth c H locs cells slots Q (F0 m tgt ls rest)) (kf : a = b → W p l e R s m args below meth c H locs cells slots Q (F0 m (pc + 3) ls rest)) : W p l e R s m args below meth c H locs cells slots Q (F0 m pc ls (.int (nI b) :: .int (nI a) :: rest)) :=
  lv_icmp_ne hexec hb hdg ht (fun h => kt (fun h3 => h ((nI_eq h1 h2).mpr h3))) (fun h => kf ((nI_eq h1 h2).mp h))
theorem sj_newa (hexec : p.tables.exec = Jvm.exec) (hb : c.code = cc) {atype : ArrayType} (harr : (Cond.arrayClass (newarray.typeOf atype)).before args s = true) {ty : FieldType} (hty : newarray.typeOf atype = ty) (hK : va_K D cl tys s) (hP : va_P D cl ws H) (hD : va_D A ws) (hS : va_S A H0 H locs) (hA : ∀ q, H0.size ≤ q → A q)
    (t0 : Nat) {cT : ClassId} (ht : tys[t0]? = some (cT, ty)) (hra : ∀ (U : State) (cx : ClassId), va_RA U cx ty = (U.vm.findClass ("[" ++ ty.toString) = some cx)) {n : Int32} {N' : Nat} {a0 : vp_A} (ha : ∀ cA : ClassId, vp_cell cA a0 = arrV cA N' (fun _ => defaultValue ty)) (hn : ¬ n < 0) (hN : n.toNatClampNeg = N') (hbytes : N' * componentBytes ty ≤ 536870912) (hcells : cells + 1 ≤ R.cells) (hslots : slots + N' ≤ R.slots) (hdg : decode cc pc = .ok (.newarray atype, 2))
    (kk : ∀ (q : Nat) (H1 : Heap), va_P D cl (ws ++ [(q, .inl (cT, a0))]) H1 → va_D A (ws ++ [(q, .inl (cT, a0))]) → va_S A H0 H1 locs →
      W p l e R s m args below meth c H1 locs (cells + 1) (slots + N') Q (F0 m (pc + 2) ls (.ref q :: rest))) : W p l e R s m args below meth c H locs cells slots Q (F0 m pc ls (.int n :: rest)) := by
  refine va_newa hexec hb harr hty hK hP hD hS hA ha hn hN hbytes hcells hslots hdg (fun q cA H1 hK1 hP1 hD1 hS1 => ?_)
  have h1 : va_RA s cT ty := (hK.2 t0 _ ht).2
  have h2 : va_RA s cA ty := (hK1.2 tys.length (cA, ty) (by simp)).2
  rw [hra] at h1 h2
  have h3 : cA = cT := Option.some.inj (h2.symm.trans h1)
  subst h3
  exact kk q H1 hP1 hD1 hS1
theorem sj_callRi {y : MethodName} {bytes : ByteArray} {maxL nL n index : Nat} {ret : Option FieldType} {wy : List Cond} {rm : Room} {Ts : List Cond} {own C : String} {b : Nat} {As st : List Value} {wc : va_W} {post : Int32 → Prop}
    (S : CallFix p m c cc nL s args Ts own) (hM : Met l y wy rm (sj_Pr D wc tys (.ref b :: As)) (vp_Si post) 0 0 (fun _ => False)) (cw : CallW R s args own C index y bytes maxL ret wy rm 0 0 n) (hK : va_K D vwCl tys s) (hP : va_P D vwCl ws H) (is : List Nat) (hs : is.filterMap (fun i => ws[i]?) = wc) (ci : Nat) {q : vw_C} {fs : List Value} (hc : vwCl[ci]? = some q) (hq : q.1 = C) (he : wc[0]? = some (b, .inr (ci, fs))) (hn : As.length = n) (hsize : ls.size = nL) (hst : st = As.reverse ++ .ref b :: rest) (hW : (rest.map fun v => v.category).sum ≤ 8) (hdg : decode cc pc = .ok (.invokevirtual index, 3)) (hf : cells + 0 ≤ R.cells ∧ slots + 0 ≤ R.slots)
    (kk : ∀ r : Int32, post r → W p l e R s m args below meth c H locs cells slots Q (F0 m (pc + 3) ls (.int r :: rest))) : W p l e R s m args below meth c H locs cells slots Q (F0 m pc ls st) := by
  have hPc := hP.sub is hs
  subst hq
  exact vp_callSi (va_Run.run (va_runV S hM cw ⟨sj_fbR, va_recv hK hPc hc he, fun U hU hWm => ⟨rfl, by rw [hU]; exact hPc, va_K.moved hWm.alike hK⟩⟩ rfl hn hsize hst (lv_room hW) hdg hf)) kk
theorem sj_callRl {y : MethodName} {bytes : ByteArray} {maxL nL n index : Nat} {ret : Option FieldType} {wy : List Cond} {rm : Room} {Ts : List Cond} {own C : String} {b : Nat} {As st : List Value} {wc : va_W} {post : Int64 → Prop}
    (S : CallFix p m c cc nL s args Ts own) (hM : Met l y wy rm (sj_Pr D wc tys (.ref b :: As)) (vp_Sl post) 0 0 (fun _ => False)) (cw : CallW R s args own C index y bytes maxL ret wy rm 0 0 n) (hK : va_K D vwCl tys s) (hP : va_P D vwCl ws H) (is : List Nat) (hs : is.filterMap (fun i => ws[i]?) = wc) (ci : Nat) {q : vw_C} {fs : List Value} (hc : vwCl[ci]? = some q) (hq : q.1 = C) (he : wc[0]? = some (b, .inr (ci, fs))) (hn : As.length = n) (hsize : ls.size = nL) (hst : st = As.reverse ++ .ref b :: rest) (hW : (rest.map fun v => v.category).sum ≤ 8) (hdg : decode cc pc = .ok (.invokevirtual index, 3)) (hf : cells + 0 ≤ R.cells ∧ slots + 0 ≤ R.slots)
    (kk : ∀ r : Int64, post r → W p l e R s m args below meth c H locs cells slots Q (F0 m (pc + 3) ls (.long r :: rest))) : W p l e R s m args below meth c H locs cells slots Q (F0 m pc ls st) := by
  have hPc := hP.sub is hs
  subst hq
  exact vp_callSl (va_Run.run (va_runV S hM cw ⟨sj_fbR, va_recv hK hPc hc he, fun U hU hWm => ⟨rfl, by rw [hU]; exact hPc, va_K.moved hWm.alike hK⟩⟩ rfl hn hsize hst (lv_room hW) hdg hf)) kk
theorem sj_callWv {S' : Type} {post : S' → Prop} {w1 : S' → va_W} {y : MethodName} {bytes : ByteArray} {maxL nL n index mc ms : Nat} {ret : Option FieldType} {wy : List Cond} {rm : Room} {Ts : List Cond} {own C : String} {b : Nat} {As st : List Value} {wc wr : va_W}
    (S : CallFix p m c cc nL s args Ts own) (hM : Met l y wy rm (sj_Pw D wc tys H.size (.ref b :: As)) (sj_Qv post w1 D wc H.size) mc ms (va_A wc H.size)) (cw : CallW R s args own C index y bytes maxL ret wy rm mc ms n) (hK : va_K D vwCl tys s) (hP : va_P D vwCl ws H) (hD : va_D A ws) (hS : va_S A H0 H locs) (hA : ∀ q, H0.size ≤ q → A q) (isC isR : List Nat) (hsC : isC.filterMap (fun i => ws[i]?) = wc) (hC : isC.map (fun i => ws[i]?) = wc.map some) (hR : isR.map (fun i => ws[i]?) = wr.map some) (hnC : va_nd isC = true) (hnR : va_nd isR = true) (hdis : ∀ i ∈ isR, i ∉ isC) (ci : Nat) {q : vw_C} {fs : List Value} (hc : vwCl[ci]? = some q) (hq : q.1 = C) (he : wc[0]? = some (b, .inr (ci, fs))) (hn : As.length = n) (hsize : ls.size = nL) (hst : st = As.reverse ++ .ref b :: rest) (hW : (rest.map fun v => v.category).sum ≤ 8) (hdg : decode cc pc = .ok (.invokevirtual index, 3)) (hf : cells + mc ≤ R.cells ∧ slots + ms ≤ R.slots)
    (kk : ∀ (u : S') (H1 : Heap) (locs1 : List Loc), post u → va_P D vwCl (wr ++ w1 u) H1 → va_D A (wr ++ w1 u) → va_S A H0 H1 locs1 → W p l e R s m args below meth c H1 locs1 (cells + mc) (slots + ms) Q (F0 m (pc + 3) ls rest)) : W p l e R s m args below meth c H locs cells slots Q (F0 m pc ls st) := by
  have hPc := hP.sub isC hsC
  have hDc := hD.sub isC hnC hC
  have hFc := va_free hD hS hA isC hC
  subst hq
  refine va_callv (va_runV S hM cw ⟨sj_fbW, va_recv hK hPc hc he, fun U hU hWm => ⟨rfl, by rw [hU], by rw [hU]; exact hPc, va_K.moved hWm.alike hK, hDc.weaken (fun _ _ _ _ => trivial)⟩⟩ rfl hn hsize hst (lv_room hW) hdg hf) hS (fun q _ h => hFc q h) hFc (fun u t H1 locs1 ht hvm hw hB hz1 hk1 hS1 => ?_)
  obtain ⟨hP1, hD1⟩ := hB
  rw [ht] at hP1
  obtain ⟨hP2, hD2⟩ := va_join hP hD isC isR hC hR hnR hdis hk1 hFc hP1 hD1
  exact kk u H1 locs1 hw hP2 hD2 hS1
theorem sj_callWi {S' : Type} {post : Int32 → S' → Prop} {w1 : S' → va_W} {y : MethodName} {bytes : ByteArray} {maxL nL n index mc ms : Nat} {ret : Option FieldType} {wy : List Cond} {rm : Room} {Ts : List Cond} {own C : String} {b : Nat} {As st : List Value} {wc wr : va_W}
    (S : CallFix p m c cc nL s args Ts own) (hM : Met l y wy rm (sj_Pw D wc tys H.size (.ref b :: As)) (sj_Qi post w1 D wc H.size) mc ms (va_A wc H.size)) (cw : CallW R s args own C index y bytes maxL ret wy rm mc ms n) (hK : va_K D vwCl tys s) (hP : va_P D vwCl ws H) (hD : va_D A ws) (hS : va_S A H0 H locs) (hA : ∀ q, H0.size ≤ q → A q) (isC isR : List Nat) (hsC : isC.filterMap (fun i => ws[i]?) = wc) (hC : isC.map (fun i => ws[i]?) = wc.map some) (hR : isR.map (fun i => ws[i]?) = wr.map some) (hnC : va_nd isC = true) (hnR : va_nd isR = true) (hdis : ∀ i ∈ isR, i ∉ isC) (ci : Nat) {q : vw_C} {fs : List Value} (hc : vwCl[ci]? = some q) (hq : q.1 = C) (he : wc[0]? = some (b, .inr (ci, fs))) (hn : As.length = n) (hsize : ls.size = nL) (hst : st = As.reverse ++ .ref b :: rest) (hW : (rest.map fun v => v.category).sum ≤ 8) (hdg : decode cc pc = .ok (.invokevirtual index, 3)) (hf : cells + mc ≤ R.cells ∧ slots + ms ≤ R.slots)
    (kk : ∀ (r : Int32) (u : S') (H1 : Heap) (locs1 : List Loc), post r u → va_P D vwCl (wr ++ w1 u) H1 → va_D A (wr ++ w1 u) → va_S A H0 H1 locs1 → W p l e R s m args below meth c H1 locs1 (cells + mc) (slots + ms) Q (F0 m (pc + 3) ls (.int r :: rest))) : W p l e R s m args below meth c H locs cells slots Q (F0 m pc ls st) := by
  have hPc := hP.sub isC hsC
  have hDc := hD.sub isC hnC hC
  have hFc := va_free hD hS hA isC hC
  subst hq
  refine va_calli (va_runV S hM cw ⟨sj_fbW, va_recv hK hPc hc he, fun U hU hWm => ⟨rfl, by rw [hU], by rw [hU]; exact hPc, va_K.moved hWm.alike hK, hDc.weaken (fun _ _ _ _ => trivial)⟩⟩ rfl hn hsize hst (lv_room hW) hdg hf) hS (fun q _ h => hFc q h) hFc (fun r u t H1 locs1 ht hvm hw hB hz1 hk1 hS1 => ?_)
  obtain ⟨hP1, hD1⟩ := hB
  rw [ht] at hP1
  obtain ⟨hP2, hD2⟩ := va_join hP hD isC isR hC hR hnR hdis hk1 hFc hP1 hD1
  exact kk r u H1 locs1 hw hP2 hD2 hS1
end SJ
end
section
/-! SPANS: pure words, contracts of SpanJobs$Spans -/
set_option maxRecDepth 100000
abbrev sj_bef (s1 : Int32) (k1 : Int64) (s2 : Int32) (k2 : Int64) : Prop := s1 < s2 ∨ s1 = s2 ∧ k1 < k2
def sj_ins {α : Type} (f : Nat → α) (r : Nat) (x : α) : Nat → α := fun j => if j < r then f j else if j = r then x else f (j - 1)
theorem sj_cpy {α : Type} {f g u : Nat → α} {i : Nat} {x : α} (hu : ∀ j, u j = if j = i then x else f j) (h : ∀ j, j < i → f j = g j) (hx : x = g i) : ∀ j, j < i + 1 → u j = g j := by
  intro j hj
  rw [hu]
  by_cases h1 : j = i
  · rw [if_pos h1, hx, h1]
  · rw [if_neg h1]
    exact h j (by omega)
theorem sj_insLo {α : Type} {f g u : Nat → α} {i : Nat} {x : α} (hu : ∀ j, u j = if j = i + 1 then x else f j) (h : ∀ j, j < i + 1 → f j = g j) : ∀ j, j < i → u j = g j := by
  intro j hj
  rw [hu, if_neg (by omega)]
  exact h j (by omega)
theorem sj_insHi {α : Type} {f g u : Nat → α} {i n : Nat} {x : α} (hu : ∀ j, u j = if j = i + 1 then x else f j) (h : ∀ j, i + 1 < j → j ≤ n → f j = g (j - 1)) (hx : x = g i) : ∀ j, i < j → j ≤ n → u j = g (j - 1) := by
  intro j hj hn
  rw [hu]
  by_cases h1 : j = i + 1
  · rw [if_pos h1, hx, h1]
    rfl
  · rw [if_neg h1]
    exact h j (by omega) hn
theorem sj_insEnd {α : Type} {f g u : Nat → α} {r n : Nat} {x : α} (hu : ∀ j, u j = if j = r then x else f j) (h1 : ∀ j, j < r → f j = g j) (h2 : ∀ j, r < j → j ≤ n → f j = g (j - 1)) : ∀ j, j ≤ n → u j = sj_ins g r x j := by
  intro j hn
  rw [hu]
  unfold sj_ins
  by_cases h : j = r
  · rw [if_pos h, if_neg (by omega), if_pos h]
  · rw [if_neg h]
    by_cases h3 : j < r
    · rw [if_pos h3]
      exact h1 j h3
    · rw [if_neg h3, if_neg h]
      exact h2 j (by omega) hn
theorem sj_shLo {α : Type} {f g u : Nat → α} {i : Nat} {x : α} (hu : ∀ j, u j = if j = i then x else f j) (h : ∀ j, j < i → f j = g (j + 1)) (hx : x = g (i + 1)) : ∀ j, j < i + 1 → u j = g (j + 1) := by
  intro j hj
  rw [hu]
  by_cases h1 : j = i
  · rw [if_pos h1, hx, h1]
  · rw [if_neg h1]
    exact h j (by omega)
theorem sj_shHi {α : Type} {f g u : Nat → α} {i : Nat} {x : α} (hu : ∀ j, u j = if j = i then x else f j) (h : ∀ j, i ≤ j → f j = g j) : ∀ j, i + 1 ≤ j → u j = g j := by
  intro j hj
  rw [hu, if_neg (by omega)]
  exact h j (by omega)
set_option maxHeartbeats 4000000 in
set_option maxRecDepth 100000 in
/-- isBefore(i, span, key) -/
theorem metX1_isBefore (l : Launch) (dC : Nat → ClassId) (dI : Nat → Nat → Nat) (dJ dN dZ : ClassId) (h ka sa na cap n : Nat) (fk : Nat → Int64) (fs : Nat → Int32) (fn : Nat → Int64) (hcap : cap ≤ 1000) (i : Nat) (hi : i < cap) (sp : Int32) (ky : Int64) : Met l yX1_isBefore (ws_ yX1_isBefore cX1_isBefore 5 (some .boolean)) ({ frames := 0, cells := 0, slots := 0, locals := 0 }) (sj_Pr (dC, dI) [(h, .inr (1, [.ref ka, .ref sa, .ref na, .int (nI n)])), (ka, .inl (dJ, cap, .inr (.inl fk))), (sa, .inl (dN, cap, .inl fs)), (na, .inl (dJ, cap, .inr (.inl fn)))] (sj_t dJ dN dZ) [.ref h, .int (nI i), .int sp, .long ky]) (vp_Si (fun r => r = if sj_bef (fs i) (fk i) sp ky then 1 else 0)) 0 0 (fun _ => False) := by
  refine Met.ofW (cc := cX1_isBefore) (maxL := 5) (ret := (some .boolean)) (by decide) rfl ?_
  intro p e s m args below meth c s₁ B hml hv
  obtain ⟨rfl, hP, hK⟩ := hv
  have hx := B.exec
  have hb := B.bytes
  have hr := B.returns
  have hlocks := B.notSynchronized
  have hts := atoms_spec (ws := (ws_ yX1_isBefore cX1_isBefore 5 (some .boolean))) B.pre
  have hts : ∀ w ∈ lw_all, w.before _ s = true := fun w h => hts w (List.mem_cons_of_mem _ h)
  have hown : s.vm.findClass RX1 = some m.cls := findClass_of_methodNamed B.named
  have hP : va_P (dC, dI) vwCl [(h, .inr (1, [.ref ka, .ref sa, .ref na, .int (nI n)])), (ka, .inl (dJ, cap, .inr (.inl fk))), (sa, .inl (dN, cap, .inl fs)), (na, .inl (dJ, cap, .inr (.inl fn)))] s.heap := hP
  have hl := lv_entry ([.ref h, .int (nI i), .int sp, .long ky]) (n := 5) (Nat.le_of_ble_eq_true rfl)
  rw [lg_entry_eq]
  generalize (lg_sl ([.ref h, .int (nI i), .int sp, .long ky]) ++ List.replicate (5 - (lg_sl ([.ref h, .int (nI i), .int sp, .long ky])).length) Slot.unset).toArray = ls at hl ⊢
  have hl : lv_has ls 5 [(0, .ref h), (1, .int (nI i)), (2, .int sp), (3, .long ky)] := hl
  refine lv_aload_n hx hb dX1_isBefore_0 rfl (lv_at hl 0 rfl) ?_
  refine va_get (D := (dC, dI)) (ci := 1) (v := .ref sa) (C := RX1) (T := TX1) (N := 4) hx hb hts in_X1 hown hK hP 0 rfl rfl 1 (by decide) (hts _ q31) (fun _ h9 => h9) rfl dX1_isBefore_1 ?_
  refine lv_iload_n hx hb dX1_isBefore_4 rfl (lv_at hl 1 rfl) ?_
  refine sj_iald hx hb hK hP 2 1 rfl rfl i rfl (by omega) (by omega) dX1_isBefore_5 ?_
  refine lv_iload_n hx hb dX1_isBefore_6 rfl (lv_at hl 2 rfl) ?_
  refine lv_icmp_lt (tgt := 31) hx hb dX1_isBefore_7 (by decide) (fun c7 => ?_) (fun c7 => ?_)
  · skip
    refine lv_iconst (v := 1) hx hb dX1_isBefore_31 (by decide) ?_
    refine lv_goto (tgt := 36) hx hb dX1_isBefore_32 (by decide) ?_
    exact W.zret (v := 1) hx hb hr rfl (fun t ht hW => ⟨1, rfl, (if_pos (Or.inl c7)).symm, ht⟩) t_nil dX1_isBefore_36
  · skip
    refine lv_aload_n hx hb dX1_isBefore_10 rfl (lv_at hl 0 rfl) ?_
    refine va_get (D := (dC, dI)) (ci := 1) (v := .ref sa) (C := RX1) (T := TX1) (N := 4) hx hb hts in_X1 hown hK hP 0 rfl rfl 1 (by decide) (hts _ q31) (fun _ h9 => h9) rfl dX1_isBefore_11 ?_
    refine lv_iload_n hx hb dX1_isBefore_14 rfl (lv_at hl 1 rfl) ?_
    refine sj_iald hx hb hK hP 2 1 rfl rfl i rfl (by omega) (by omega) dX1_isBefore_15 ?_
    refine lv_iload_n hx hb dX1_isBefore_16 rfl (lv_at hl 2 rfl) ?_
    refine lv_icmp_ne (tgt := 35) hx hb dX1_isBefore_17 (by decide) (fun c17 => ?_) (fun c17 => ?_)
    · skip
      refine lv_iconst (v := 0) hx hb dX1_isBefore_35 (by decide) ?_
      exact W.zret (v := 0) hx hb hr rfl (fun t ht hW => ⟨0, rfl, (if_neg (fun h => h.elim c7 (fun h => c17 h.1))).symm, ht⟩) t_nil dX1_isBefore_36
    · skip
      refine lv_aload_n hx hb dX1_isBefore_20 rfl (lv_at hl 0 rfl) ?_
      refine va_get (D := (dC, dI)) (ci := 1) (v := .ref ka) (C := RX1) (T := TX1) (N := 4) hx hb hts in_X1 hown hK hP 0 rfl rfl 0 (by decide) (hts _ q30) (fun _ h9 => h9) rfl dX1_isBefore_21 ?_
      refine lv_iload_n hx hb dX1_isBefore_24 rfl (lv_at hl 1 rfl) ?_
      refine sj_lald hx hb hK hP 1 0 rfl rfl i rfl (by omega) (by omega) dX1_isBefore_25 ?_
      refine lv_lload_n hx hb dX1_isBefore_26 rfl (lv_at hl 3 rfl) ?_
      refine sj_lc_ge (tgt := 35) hx hb dX1_isBefore_27 dX1_isBefore_28 (by decide) (fun c27 => ?_) (fun c27 => ?_)
      · skip
        refine lv_iconst (v := 0) hx hb dX1_isBefore_35 (by decide) ?_
        exact W.zret (v := 0) hx hb hr rfl (fun t ht hW => ⟨0, rfl, (if_neg (fun h => h.elim c7 (fun h => absurd h.2 (Int64.not_lt.mpr c27)))).symm, ht⟩) t_nil dX1_isBefore_36
      · skip
        refine lv_iconst (v := 1) hx hb dX1_isBefore_31 (by decide) ?_
        refine lv_goto (tgt := 36) hx hb dX1_isBefore_32 (by decide) ?_
        exact W.zret (v := 1) hx hb hr rfl (fun t ht hW => ⟨1, rfl, (if_pos (Or.inr ⟨c17, Int64.not_le.mp c27⟩)).symm, ht⟩) t_nil dX1_isBefore_36
set_option maxHeartbeats 4000000 in
set_option maxRecDepth 100000 in
/-- from(span, key): the first that is not before -/
theorem metX1_from (l : Launch) (dC : Nat → ClassId) (dI : Nat → Nat → Nat) (dJ dN dZ : ClassId) (h ka sa na cap n : Nat) (fk : Nat → Int64) (fs : Nat → Int32) (fn : Nat → Int64) (hcap : cap ≤ 1000) (hn : n ≤ cap) (sp : Int32) (ky : Int64) (r0 : Nat) (hr0 : r0 ≤ n) (hb1 : ∀ j, j < r0 → sj_bef (fs j) (fk j) sp ky) (hb2 : ∀ j, r0 ≤ j → j < n → ¬ sj_bef (fs j) (fk j) sp ky) : Met l yX1_from (ws_ yX1_from cX1_from 7 (some .int)) ({ frames := 1, cells := 0, slots := 0, locals := 24 }) (sj_Pr (dC, dI) [(h, .inr (1, [.ref ka, .ref sa, .ref na, .int (nI n)])), (ka, .inl (dJ, cap, .inr (.inl fk))), (sa, .inl (dN, cap, .inl fs)), (na, .inl (dJ, cap, .inr (.inl fn)))] (sj_t dJ dN dZ) [.ref h, .int sp, .long ky]) (vp_Si (fun r => r = nI r0)) 0 0 (fun _ => False) := by
  refine Met.ofW (cc := cX1_from) (maxL := 7) (ret := (some .int)) (by decide) rfl ?_
  intro p e s m args below meth c s₁ B hml hv
  obtain ⟨rfl, hP, hK⟩ := hv
  have hx := B.exec
  have hb := B.bytes
  have hr := B.returns
  have hlocks := B.notSynchronized
  have hts := atoms_spec (ws := (ws_ yX1_from cX1_from 7 (some .int))) B.pre
  have hts : ∀ w ∈ lw_all, w.before _ s = true := fun w h => hts w (List.mem_cons_of_mem _ h)
  have hown : s.vm.findClass RX1 = some m.cls := findClass_of_methodNamed B.named
  have hP : va_P (dC, dI) vwCl [(h, .inr (1, [.ref ka, .ref sa, .ref na, .int (nI n)])), (ka, .inl (dJ, cap, .inr (.inl fk))), (sa, .inl (dN, cap, .inl fs)), (na, .inl (dJ, cap, .inr (.inl fn)))] s.heap := hP
  have hl := lv_entry ([.ref h, .int sp, .long ky]) (n := 7) (Nat.le_of_ble_eq_true rfl)
  rw [lg_entry_eq]
  generalize (lg_sl ([.ref h, .int sp, .long ky]) ++ List.replicate (7 - (lg_sl ([.ref h, .int sp, .long ky])).length) Slot.unset).toArray = ls at hl ⊢
  have hl : lv_has ls 7 [(0, .ref h), (1, .int sp), (2, .long ky)] := hl
  have loop : ∀ (fu : Nat) (a b : Nat) (ls : Array Slot), (b - a < fu) → (a ≤ r0) → (r0 ≤ b) → (b ≤ n) → lv_has ls 7 [(0, .ref h), (1, .int sp), (2, .long ky), (4, .int (nI a)), (5, .int (nI b))] → W p l e (headSpec (ws_ yX1_from cX1_from 7 (some .int)) ({ frames := 1, cells := 0, slots := 0, locals := 24 })).room s m ([.ref h, .int sp, .long ky] : List Value).toArray below meth c s.heap [] 0 0 (MQ below (vp_Si (fun r => r = nI r0)) ([.ref h, .int sp, .long ky] : List Value).toArray s 0 0 (fun _ => False)) (F0 m 9 ls []) := by
    intro fu
    induction fu with
    | zero => intro a b ls h1; exact absurd h1 (by omega)
    | succ fu ih =>
      intro a b ls h1 h2 h3 h4 hl
      refine lv_iload hx hb dX1_from_9 (lv_at hl 3 rfl) ?_
      refine lv_iload hx hb dX1_from_11 (lv_at hl 4 rfl) ?_
      refine sj_nge (a := a) (b := b) (tgt := 52) hx hb dX1_from_13 (by decide) (by omega) (by omega) (fun c13 => ?_) (fun c13 => ?_)
      · skip
        refine lv_iload hx hb dX1_from_52 (lv_at hl 3 rfl) ?_
        exact W.iret (v := nI a) hx hb hr (fun t ht hW => ⟨nI a, rfl, (by rw [show a = r0 by omega]), ht⟩) t_nil dX1_from_54
      · skip
        refine lv_iload hx hb dX1_from_16 (lv_at hl 3 rfl) ?_
        refine lv_iload hx hb dX1_from_18 (lv_at hl 4 rfl) ?_
        refine lv_iadd hx hb dX1_from_20 ?_
        refine sj_cvi (y := nI (a + b)) (nI_add _ _) ?_
        refine lv_iconst (v := nI 2) hx hb dX1_from_21 (by decide) ?_
        refine lv_idiv hx hb dX1_from_22 (by decide) ?_
        refine sj_cvi (y := nI ((a + b) / 2)) (pk_div (by omega) (by decide) (by decide)) ?_
        obtain ⟨q, hq⟩ : ∃ q, q = (a + b) / 2 := ⟨_, rfl⟩
        rw [← hq]
        have hq1 : a ≤ q := by omega
        have hq2 : q < b := by omega
        refine lv_istore (lv' := [(6, .int (nI q)), (0, .ref h), (1, .int sp), (2, .long ky), (4, .int (nI a)), (5, .int (nI b))]) hx hb dX1_from_23 hl (by decide) rfl (fun ls hl => ?_)
        refine lv_aload_n hx hb dX1_from_25 rfl (lv_at hl 1 rfl) ?_
        refine lv_iload hx hb dX1_from_26 (lv_at hl 0 rfl) ?_
        refine lv_iload_n hx hb dX1_from_28 rfl (lv_at hl 2 rfl) ?_
        refine lv_lload_n hx hb dX1_from_29 rfl (lv_at hl 3 rfl) ?_
        refine sj_callRi (As := [.int (nI q), .int sp, .long ky]) (rest := []) ⟨hx, hb, hml, hown, hts⟩ (metX1_isBefore l dC dI dJ dN dZ h ka sa na cap n fk fs fn hcap q (by omega) sp ky) (cwV 3 hts (lw_V q117 q119 qs2 q12 q120) rfl rfl rfl (by decide +kernel) ⟨Nat.le_of_ble_eq_true rfl, Nat.le_of_ble_eq_true rfl⟩) hK hP [0, 1, 2, 3] rfl 1 rfl rfl rfl rfl hl.1 rfl (Nat.le_of_ble_eq_true rfl) dX1_from_30 ⟨Nat.zero_le _, Nat.zero_le _⟩ (fun v hv => ?_)
        refine lv_if_eq (tgt := 45) hx hb dX1_from_33 (by decide) (fun c33 => ?_) (fun c33 => ?_)
        · skip
          have c33 := sj_i0 hv c33
          refine lv_iload hx hb dX1_from_45 (lv_at hl 0 rfl) ?_
          refine lv_istore (lv' := [(5, .int (nI q)), (6, .int (nI q)), (0, .ref h), (1, .int sp), (2, .long ky), (4, .int (nI a))]) hx hb dX1_from_47 hl (by decide) rfl (fun ls hl => ?_)
          refine lv_goto (tgt := 9) hx hb dX1_from_49 (by decide) ?_
          exact ih a q ls (by omega) h2 (Nat.le_of_not_lt (fun h9 => c33 (hb1 q h9))) (by omega) (lv_sub hl [2, 3, 4, 5, 0] rfl)
        · skip
          have c33 := sj_i1 hv c33
          refine lv_iload hx hb dX1_from_36 (lv_at hl 0 rfl) ?_
          refine lv_iconst (v := 1) hx hb dX1_from_38 (by decide) ?_
          refine lv_iadd hx hb dX1_from_39 ?_
          refine sj_cvi (y := nI (q + 1)) (nI_1 q) ?_
          refine lv_istore (lv' := [(4, .int (nI (q + 1))), (6, .int (nI q)), (0, .ref h), (1, .int sp), (2, .long ky), (5, .int (nI b))]) hx hb dX1_from_40 hl (by decide) rfl (fun ls hl => ?_)
          refine lv_goto (tgt := 49) hx hb dX1_from_42 (by decide) ?_
          refine lv_goto (tgt := 9) hx hb dX1_from_49 (by decide) ?_
          exact ih (q + 1) b ls (by omega) (Nat.lt_of_not_le (fun h9 => hb2 q h9 (by omega) c33)) h3 h4 (lv_sub hl [2, 3, 4, 0, 5] rfl)
  refine lv_iconst (v := nI 0) hx hb dX1_from_0 (by decide) ?_
  refine lv_istore (lv' := [(4, .int (nI 0)), (0, .ref h), (1, .int sp), (2, .long ky)]) hx hb dX1_from_1 hl (by decide) rfl (fun ls hl => ?_)
  refine lv_aload_n hx hb dX1_from_3 rfl (lv_at hl 1 rfl) ?_
  refine va_get (D := (dC, dI)) (ci := 1) (v := .int (nI n)) (C := RX1) (T := TX1) (N := 4) hx hb hts in_X1 hown hK hP 0 rfl rfl 3 (by decide) (hts _ q34) (fun _ h9 => h9) rfl dX1_from_4 ?_
  refine lv_istore (lv' := [(5, .int (nI n)), (4, .int (nI 0)), (0, .ref h), (1, .int sp), (2, .long ky)]) hx hb dX1_from_7 hl (by decide) rfl (fun ls hl => ?_)
  exact loop (n + 1) 0 n ls (by omega) (Nat.zero_le _) hr0 (Nat.le_refl _) (lv_sub hl [2, 3, 4, 1, 0] rfl)
set_option maxHeartbeats 4000000 in
set_option maxRecDepth 100000 in
/-- find(span, key) -/
theorem metX1_find (l : Launch) (dC : Nat → ClassId) (dI : Nat → Nat → Nat) (dJ dN dZ : ClassId) (h ka sa na cap n : Nat) (fk : Nat → Int64) (fs : Nat → Int32) (fn : Nat → Int64) (hcap : cap ≤ 1000) (hn : n ≤ cap) (sp : Int32) (ky : Int64) (r0 : Nat) (hr0 : r0 ≤ n) (hb1 : ∀ j, j < r0 → sj_bef (fs j) (fk j) sp ky) (hb2 : ∀ j, r0 ≤ j → j < n → ¬ sj_bef (fs j) (fk j) sp ky) : Met l yX1_find (ws_ yX1_find cX1_find 5 (some .int)) ({ frames := 2, cells := 0, slots := 0, locals := 50 }) (sj_Pr (dC, dI) [(h, .inr (1, [.ref ka, .ref sa, .ref na, .int (nI n)])), (ka, .inl (dJ, cap, .inr (.inl fk))), (sa, .inl (dN, cap, .inl fs)), (na, .inl (dJ, cap, .inr (.inl fn)))] (sj_t dJ dN dZ) [.ref h, .int sp, .long ky]) (vp_Si (fun r => r = if r0 < n ∧ fs r0 = sp ∧ fk r0 = ky then nI r0 else (-1))) 0 0 (fun _ => False) := by
  refine Met.ofW (cc := cX1_find) (maxL := 5) (ret := (some .int)) (by decide) rfl ?_
  intro p e s m args below meth c s₁ B hml hv
  obtain ⟨rfl, hP, hK⟩ := hv
  have hx := B.exec
  have hb := B.bytes
  have hr := B.returns
  have hlocks := B.notSynchronized
  have hts := atoms_spec (ws := (ws_ yX1_find cX1_find 5 (some .int))) B.pre
  have hts : ∀ w ∈ lw_all, w.before _ s = true := fun w h => hts w (List.mem_cons_of_mem _ h)
  have hown : s.vm.findClass RX1 = some m.cls := findClass_of_methodNamed B.named
  have hP : va_P (dC, dI) vwCl [(h, .inr (1, [.ref ka, .ref sa, .ref na, .int (nI n)])), (ka, .inl (dJ, cap, .inr (.inl fk))), (sa, .inl (dN, cap, .inl fs)), (na, .inl (dJ, cap, .inr (.inl fn)))] s.heap := hP
  have hl := lv_entry ([.ref h, .int sp, .long ky]) (n := 5) (Nat.le_of_ble_eq_true rfl)
  rw [lg_entry_eq]
  generalize (lg_sl ([.ref h, .int sp, .long ky]) ++ List.replicate (5 - (lg_sl ([.ref h, .int sp, .long ky])).length) Slot.unset).toArray = ls at hl ⊢
  have hl : lv_has ls 5 [(0, .ref h), (1, .int sp), (2, .long ky)] := hl
  refine lv_aload_n hx hb dX1_find_0 rfl (lv_at hl 0 rfl) ?_
  refine lv_iload_n hx hb dX1_find_1 rfl (lv_at hl 1 rfl) ?_
  refine lv_lload_n hx hb dX1_find_2 rfl (lv_at hl 2 rfl) ?_
  refine sj_callRi (As := [.int sp, .long ky]) (rest := []) ⟨hx, hb, hml, hown, hts⟩ (metX1_from l dC dI dJ dN dZ h ka sa na cap n fk fs fn hcap hn sp ky r0 hr0 hb1 hb2) (cwV 2 hts (lw_V q113 q115 qs1 q12 q116) rfl rfl rfl (by decide +kernel) ⟨Nat.le_of_ble_eq_true rfl, Nat.le_of_ble_eq_true rfl⟩) hK hP [0, 1, 2, 3] rfl 1 rfl rfl rfl rfl hl.1 rfl (Nat.le_of_ble_eq_true rfl) dX1_find_3 ⟨Nat.zero_le _, Nat.zero_le _⟩ (fun v hv => ?_)
  subst hv
  refine lv_istore (lv' := [(4, .int (nI r0)), (0, .ref h), (1, .int sp), (2, .long ky)]) hx hb dX1_find_6 hl (by decide) rfl (fun ls hl => ?_)
  refine lv_iload hx hb dX1_find_8 (lv_at hl 0 rfl) ?_
  refine lv_aload_n hx hb dX1_find_10 rfl (lv_at hl 1 rfl) ?_
  refine va_get (D := (dC, dI)) (ci := 1) (v := .int (nI n)) (C := RX1) (T := TX1) (N := 4) hx hb hts in_X1 hown hK hP 0 rfl rfl 3 (by decide) (hts _ q34) (fun _ h9 => h9) rfl dX1_find_11 ?_
  refine sj_nge (a := r0) (b := n) (tgt := 45) hx hb dX1_find_14 (by decide) (by omega) (by omega) (fun c14 => ?_) (fun c14 => ?_)
  · skip
    refine lv_iconst (v := (-1)) hx hb dX1_find_45 (by decide) ?_
    exact W.iret (v := (-1)) hx hb hr (fun t ht hW => ⟨(-1), rfl, (if_neg (fun h => absurd h.1 (by omega))).symm, ht⟩) t_nil dX1_find_46
  · skip
    refine lv_aload_n hx hb dX1_find_17 rfl (lv_at hl 1 rfl) ?_
    refine va_get (D := (dC, dI)) (ci := 1) (v := .ref sa) (C := RX1) (T := TX1) (N := 4) hx hb hts in_X1 hown hK hP 0 rfl rfl 1 (by decide) (hts _ q31) (fun _ h9 => h9) rfl dX1_find_18 ?_
    refine lv_iload hx hb dX1_find_21 (lv_at hl 0 rfl) ?_
    refine sj_iald hx hb hK hP 2 1 rfl rfl r0 rfl (by omega) (by omega) dX1_find_23 ?_
    refine lv_iload_n hx hb dX1_find_24 rfl (lv_at hl 2 rfl) ?_
    refine lv_icmp_ne (tgt := 45) hx hb dX1_find_25 (by decide) (fun c25 => ?_) (fun c25 => ?_)
    · skip
      refine lv_iconst (v := (-1)) hx hb dX1_find_45 (by decide) ?_
      exact W.iret (v := (-1)) hx hb hr (fun t ht hW => ⟨(-1), rfl, (if_neg (fun h => c25 h.2.1)).symm, ht⟩) t_nil dX1_find_46
    · skip
      refine lv_aload_n hx hb dX1_find_28 rfl (lv_at hl 1 rfl) ?_
      refine va_get (D := (dC, dI)) (ci := 1) (v := .ref ka) (C := RX1) (T := TX1) (N := 4) hx hb hts in_X1 hown hK hP 0 rfl rfl 0 (by decide) (hts _ q30) (fun _ h9 => h9) rfl dX1_find_29 ?_
      refine lv_iload hx hb dX1_find_32 (lv_at hl 0 rfl) ?_
      refine sj_lald hx hb hK hP 1 0 rfl rfl r0 rfl (by omega) (by omega) dX1_find_34 ?_
      refine lv_lload_n hx hb dX1_find_35 rfl (lv_at hl 3 rfl) ?_
      refine sj_lc_ne (tgt := 45) hx hb dX1_find_36 dX1_find_37 (by decide) (fun c36 => ?_) (fun c36 => ?_)
      · skip
        refine lv_iconst (v := (-1)) hx hb dX1_find_45 (by decide) ?_
        exact W.iret (v := (-1)) hx hb hr (fun t ht hW => ⟨(-1), rfl, (if_neg (fun h => c36 h.2.2)).symm, ht⟩) t_nil dX1_find_46
      · skip
        refine lv_iload hx hb dX1_find_40 (lv_at hl 0 rfl) ?_
        refine lv_goto (tgt := 46) hx hb dX1_find_42 (by decide) ?_
        exact W.iret (v := nI r0) hx hb hr (fun t ht hW => ⟨nI r0, rfl, (if_pos ⟨c14, c25, c36⟩).symm, ht⟩) t_nil dX1_find_46
set_option maxHeartbeats 4000000 in
set_option maxRecDepth 100000 in
/-- key(i) -/
theorem metX1_key (l : Launch) (dC : Nat → ClassId) (dI : Nat → Nat → Nat) (dJ dN dZ : ClassId) (h ka sa na cap n : Nat) (fk : Nat → Int64) (fs : Nat → Int32) (fn : Nat → Int64) (hcap : cap ≤ 1000) (i : Nat) (hi : i < cap) : Met l yX1_key (ws_ yX1_key cX1_key 2 (some .long)) ({ frames := 0, cells := 0, slots := 0, locals := 0 }) (sj_Pr (dC, dI) [(h, .inr (1, [.ref ka, .ref sa, .ref na, .int (nI n)])), (ka, .inl (dJ, cap, .inr (.inl fk))), (sa, .inl (dN, cap, .inl fs)), (na, .inl (dJ, cap, .inr (.inl fn)))] (sj_t dJ dN dZ) [.ref h, .int (nI i)]) (vp_Sl (fun r => r = fk i)) 0 0 (fun _ => False) := by
  refine Met.ofW (cc := cX1_key) (maxL := 2) (ret := (some .long)) (by decide) rfl ?_
  intro p e s m args below meth c s₁ B hml hv
  obtain ⟨rfl, hP, hK⟩ := hv
  have hx := B.exec
  have hb := B.bytes
  have hr := B.returns
  have hlocks := B.notSynchronized
  have hts := atoms_spec (ws := (ws_ yX1_key cX1_key 2 (some .long))) B.pre
  have hts : ∀ w ∈ lw_all, w.before _ s = true := fun w h => hts w (List.mem_cons_of_mem _ h)
  have hown : s.vm.findClass RX1 = some m.cls := findClass_of_methodNamed B.named
  have hP : va_P (dC, dI) vwCl [(h, .inr (1, [.ref ka, .ref sa, .ref na, .int (nI n)])), (ka, .inl (dJ, cap, .inr (.inl fk))), (sa, .inl (dN, cap, .inl fs)), (na, .inl (dJ, cap, .inr (.inl fn)))] s.heap := hP
  have hl := lv_entry ([.ref h, .int (nI i)]) (n := 2) (Nat.le_of_ble_eq_true rfl)
  rw [lg_entry_eq]
  generalize (lg_sl ([.ref h, .int (nI i)]) ++ List.replicate (2 - (lg_sl ([.ref h, .int (nI i)])).length) Slot.unset).toArray = ls at hl ⊢
  have hl : lv_has ls 2 [(0, .ref h), (1, .int (nI i))] := hl
  refine lv_aload_n hx hb dX1_key_0 rfl (lv_at hl 0 rfl) ?_
  refine va_get (D := (dC, dI)) (ci := 1) (v := .ref ka) (C := RX1) (T := TX1) (N := 4) hx hb hts in_X1 hown hK hP 0 rfl rfl 0 (by decide) (hts _ q30) (fun _ h9 => h9) rfl dX1_key_1 ?_
  refine lv_iload_n hx hb dX1_key_4 rfl (lv_at hl 1 rfl) ?_
  refine sj_lald hx hb hK hP 1 0 rfl rfl i rfl (by omega) (by omega) dX1_key_5 ?_
  exact W.lret (v := fk i) hx hb hr (fun t ht hW => ⟨fk i, rfl, rfl, ht⟩) t_nil dX1_key_6
set_option maxHeartbeats 4000000 in
set_option maxRecDepth 100000 in
/-- span(i) -/
theorem metX1_span (l : Launch) (dC : Nat → ClassId) (dI : Nat → Nat → Nat) (dJ dN dZ : ClassId) (h ka sa na cap n : Nat) (fk : Nat → Int64) (fs : Nat → Int32) (fn : Nat → Int64) (hcap : cap ≤ 1000) (i : Nat) (hi : i < cap) : Met l yX1_span (ws_ yX1_span cX1_span 2 (some .int)) ({ frames := 0, cells := 0, slots := 0, locals := 0 }) (sj_Pr (dC, dI) [(h, .inr (1, [.ref ka, .ref sa, .ref na, .int (nI n)])), (ka, .inl (dJ, cap, .inr (.inl fk))), (sa, .inl (dN, cap, .inl fs)), (na, .inl (dJ, cap, .inr (.inl fn)))] (sj_t dJ dN dZ) [.ref h, .int (nI i)]) (vp_Si (fun r => r = fs i)) 0 0 (fun _ => False) := by
  refine Met.ofW (cc := cX1_span) (maxL := 2) (ret := (some .int)) (by decide) rfl ?_
  intro p e s m args below meth c s₁ B hml hv
  obtain ⟨rfl, hP, hK⟩ := hv
  have hx := B.exec
  have hb := B.bytes
  have hr := B.returns
  have hlocks := B.notSynchronized
  have hts := atoms_spec (ws := (ws_ yX1_span cX1_span 2 (some .int))) B.pre
  have hts : ∀ w ∈ lw_all, w.before _ s = true := fun w h => hts w (List.mem_cons_of_mem _ h)
  have hown : s.vm.findClass RX1 = some m.cls := findClass_of_methodNamed B.named
  have hP : va_P (dC, dI) vwCl [(h, .inr (1, [.ref ka, .ref sa, .ref na, .int (nI n)])), (ka, .inl (dJ, cap, .inr (.inl fk))), (sa, .inl (dN, cap, .inl fs)), (na, .inl (dJ, cap, .inr (.inl fn)))] s.heap := hP
  have hl := lv_entry ([.ref h, .int (nI i)]) (n := 2) (Nat.le_of_ble_eq_true rfl)
  rw [lg_entry_eq]
  generalize (lg_sl ([.ref h, .int (nI i)]) ++ List.replicate (2 - (lg_sl ([.ref h, .int (nI i)])).length) Slot.unset).toArray = ls at hl ⊢
  have hl : lv_has ls 2 [(0, .ref h), (1, .int (nI i))] := hl
  refine lv_aload_n hx hb dX1_span_0 rfl (lv_at hl 0 rfl) ?_
  refine va_get (D := (dC, dI)) (ci := 1) (v := .ref sa) (C := RX1) (T := TX1) (N := 4) hx hb hts in_X1 hown hK hP 0 rfl rfl 1 (by decide) (hts _ q31) (fun _ h9 => h9) rfl dX1_span_1 ?_
  refine lv_iload_n hx hb dX1_span_4 rfl (lv_at hl 1 rfl) ?_
  refine sj_iald hx hb hK hP 2 1 rfl rfl i rfl (by omega) (by omega) dX1_span_5 ?_
  exact W.iret (v := fs i) hx hb hr (fun t ht hW => ⟨fs i, rfl, rfl, ht⟩) t_nil dX1_span_6
set_option maxHeartbeats 4000000 in
set_option maxRecDepth 100000 in
/-- number(i) -/
theorem metX1_number (l : Launch) (dC : Nat → ClassId) (dI : Nat → Nat → Nat) (dJ dN dZ : ClassId) (h ka sa na cap n : Nat) (fk : Nat → Int64) (fs : Nat → Int32) (fn : Nat → Int64) (hcap : cap ≤ 1000) (i : Nat) (hi : i < cap) : Met l yX1_number (ws_ yX1_number cX1_number 2 (some .long)) ({ frames := 0, cells := 0, slots := 0, locals := 0 }) (sj_Pr (dC, dI) [(h, .inr (1, [.ref ka, .ref sa, .ref na, .int (nI n)])), (ka, .inl (dJ, cap, .inr (.inl fk))), (sa, .inl (dN, cap, .inl fs)), (na, .inl (dJ, cap, .inr (.inl fn)))] (sj_t dJ dN dZ) [.ref h, .int (nI i)]) (vp_Sl (fun r => r = fn i)) 0 0 (fun _ => False) := by
  refine Met.ofW (cc := cX1_number) (maxL := 2) (ret := (some .long)) (by decide) rfl ?_
  intro p e s m args below meth c s₁ B hml hv
  obtain ⟨rfl, hP, hK⟩ := hv
  have hx := B.exec
  have hb := B.bytes
  have hr := B.returns
  have hlocks := B.notSynchronized
  have hts := atoms_spec (ws := (ws_ yX1_number cX1_number 2 (some .long))) B.pre
  have hts : ∀ w ∈ lw_all, w.before _ s = true := fun w h => hts w (List.mem_cons_of_mem _ h)
  have hown : s.vm.findClass RX1 = some m.cls := findClass_of_methodNamed B.named
  have hP : va_P (dC, dI) vwCl [(h, .inr (1, [.ref ka, .ref sa, .ref na, .int (nI n)])), (ka, .inl (dJ, cap, .inr (.inl fk))), (sa, .inl (dN, cap, .inl fs)), (na, .inl (dJ, cap, .inr (.inl fn)))] s.heap := hP
  have hl := lv_entry ([.ref h, .int (nI i)]) (n := 2) (Nat.le_of_ble_eq_true rfl)
  rw [lg_entry_eq]
  generalize (lg_sl ([.ref h, .int (nI i)]) ++ List.replicate (2 - (lg_sl ([.ref h, .int (nI i)])).length) Slot.unset).toArray = ls at hl ⊢
  have hl : lv_has ls 2 [(0, .ref h), (1, .int (nI i))] := hl
  refine lv_aload_n hx hb dX1_number_0 rfl (lv_at hl 0 rfl) ?_
  refine va_get (D := (dC, dI)) (ci := 1) (v := .ref na) (C := RX1) (T := TX1) (N := 4) hx hb hts in_X1 hown hK hP 0 rfl rfl 2 (by decide) (hts _ q32) (fun _ h9 => h9) rfl dX1_number_1 ?_
  refine lv_iload_n hx hb dX1_number_4 rfl (lv_at hl 1 rfl) ?_
  refine sj_lald hx hb hK hP 3 0 rfl rfl i rfl (by omega) (by omega) dX1_number_5 ?_
  exact W.lret (v := fn i) hx hb hr (fun t ht hW => ⟨fn i, rfl, rfl, ht⟩) t_nil dX1_number_6
set_option maxHeartbeats 4000000 in
set_option maxRecDepth 100000 in
/-- set(i, x) -/
theorem metX1_set (l : Launch) (dC : Nat → ClassId) (dI : Nat → Nat → Nat) (dJ dN dZ : ClassId) (sz : Nat) (h ka sa na cap n : Nat) (fk : Nat → Int64) (fs : Nat → Int32) (fn : Nat → Int64) (hcap : cap ≤ 1000) (i : Nat) (hi : i < cap) (x : Int64) : Met l yX1_set (ws_ yX1_set cX1_set 4 none) ({ frames := 0, cells := 0, slots := 0, locals := 0 }) (sj_Pw (dC, dI) [(h, .inr (1, [.ref ka, .ref sa, .ref na, .int (nI n)])), (ka, .inl (dJ, cap, .inr (.inl fk))), (sa, .inl (dN, cap, .inl fs)), (na, .inl (dJ, cap, .inr (.inl fn)))] (sj_t dJ dN dZ) sz [.ref h, .int (nI i), .long x]) (va_Qv (fun u : Unit => True) (sj_B (dC, dI) (va_A [(h, .inr (1, [.ref ka, .ref sa, .ref na, .int (nI n)])), (ka, .inl (dJ, cap, .inr (.inl fk))), (sa, .inl (dN, cap, .inl fs)), (na, .inl (dJ, cap, .inr (.inl fn)))] sz) (fun u : Unit => [(h, .inr (1, [.ref ka, .ref sa, .ref na, .int (nI n)])), (ka, .inl (dJ, cap, .inr (.inl fk))), (sa, .inl (dN, cap, .inl fs)), (na, .inl (dJ, cap, .inr (.inl (vp_updL fn i x))))])) (va_A [(h, .inr (1, [.ref ka, .ref sa, .ref na, .int (nI n)])), (ka, .inl (dJ, cap, .inr (.inl fk))), (sa, .inl (dN, cap, .inl fs)), (na, .inl (dJ, cap, .inr (.inl fn)))] sz)) 0 0 (va_A [(h, .inr (1, [.ref ka, .ref sa, .ref na, .int (nI n)])), (ka, .inl (dJ, cap, .inr (.inl fk))), (sa, .inl (dN, cap, .inl fs)), (na, .inl (dJ, cap, .inr (.inl fn)))] sz) := by
  refine Met.ofW (cc := cX1_set) (maxL := 4) (ret := none) (by decide) rfl ?_
  intro p e s m args below meth c s₁ B hml hv
  obtain ⟨rfl, hsz, hP, hK, hD0⟩ := hv
  have hx := B.exec
  have hb := B.bytes
  have hr := B.returns
  have hlocks := B.notSynchronized
  have hts := atoms_spec (ws := (ws_ yX1_set cX1_set 4 none)) B.pre
  have hts : ∀ w ∈ lw_all, w.before _ s = true := fun w h => hts w (List.mem_cons_of_mem _ h)
  have hown : s.vm.findClass RX1 = some m.cls := findClass_of_methodNamed B.named
  subst hsz
  have hD := hD0.self (sz := s.heap.size)
  generalize hAe : va_A [(h, .inr (1, [.ref ka, .ref sa, .ref na, .int (nI n)])), (ka, .inl (dJ, cap, .inr (.inl fk))), (sa, .inl (dN, cap, .inl fs)), (na, .inl (dJ, cap, .inr (.inl fn)))] s.heap.size = A at hD ⊢
  have hA : ∀ q : Nat, s.heap.size ≤ q → A q := fun q h => by rw [← hAe]; exact Or.inr h
  have hS : va_S A s.heap s.heap [] := va_S.rf
  have hP : va_P (dC, dI) vwCl [(h, .inr (1, [.ref ka, .ref sa, .ref na, .int (nI n)])), (ka, .inl (dJ, cap, .inr (.inl fk))), (sa, .inl (dN, cap, .inl fs)), (na, .inl (dJ, cap, .inr (.inl fn)))] s.heap := hP
  have hl := lv_entry ([.ref h, .int (nI i), .long x]) (n := 4) (Nat.le_of_ble_eq_true rfl)
  rw [lg_entry_eq]
  generalize (lg_sl ([.ref h, .int (nI i), .long x]) ++ List.replicate (4 - (lg_sl ([.ref h, .int (nI i), .long x])).length) Slot.unset).toArray = ls at hl ⊢
  have hl : lv_has ls 4 [(0, .ref h), (1, .int (nI i)), (2, .long x)] := hl
  refine lv_aload_n hx hb dX1_set_0 rfl (lv_at hl 0 rfl) ?_
  refine va_get (D := (dC, dI)) (ci := 1) (v := .ref na) (C := RX1) (T := TX1) (N := 4) hx hb hts in_X1 hown hK hP 0 rfl rfl 2 (by decide) (hts _ q32) (fun _ h9 => h9) rfl dX1_set_1 ?_
  refine lv_iload_n hx hb dX1_set_4 rfl (lv_at hl 1 rfl) ?_
  refine lv_lload_n hx hb dX1_set_5 rfl (lv_at hl 2 rfl) ?_
  refine sj_last hx hb hK hP hD hS 3 0 rfl rfl i rfl (by omega) (by omega) dX1_set_6 (fun H locs hP hD hS => ?_)
  have hP : va_P (dC, dI) vwCl [(h, .inr (1, [.ref ka, .ref sa, .ref na, .int (nI n)])), (ka, .inl (dJ, cap, .inr (.inl fk))), (sa, .inl (dN, cap, .inl fs)), (na, .inl (dJ, cap, .inr (.inl (vp_updL fn i x))))] H := hP
  have hD : va_D A [(h, .inr (1, [.ref ka, .ref sa, .ref na, .int (nI n)])), (ka, .inl (dJ, cap, .inr (.inl fk))), (sa, .inl (dN, cap, .inl fs)), (na, .inl (dJ, cap, .inr (.inl (vp_updL fn i x))))] := hD
  exact W.vret hx hb hr (fun t ht hW => ⟨⟨(), rfl, trivial, by rw [ht]; exact hP, hD⟩, hS.F ht⟩) hS.2.2 dX1_set_7
end
section
/-! SPANS, init, grow -/
set_option maxRecDepth 100000
set_option maxHeartbeats 4000000 in
set_option maxRecDepth 100000 in
/-- Spans(): three new arrays of 16 -/
theorem metX1_init (l : Launch) (dC : Nat → ClassId) (dI : Nat → Nat → Nat) (dJ dN dZ : ClassId) (sz : Nat) (h : Nat) : Met l yX1_init (ws_ yX1_init cX1_init 1 none) ({ frames := 1, cells := 3, slots := 48, locals := 12 }) (sj_Pw (dC, dI) [(h, .inr (1, [.null, .null, .null, .int 0]))] (sj_t dJ dN dZ) sz [.ref h]) (va_Qv (fun u : Nat × Nat × Nat => True) (sj_B (dC, dI) (va_A [(h, .inr (1, [.null, .null, .null, .int 0]))] sz) (fun u : Nat × Nat × Nat => [(h, .inr (1, [.ref u.1, .ref u.2.1, .ref u.2.2, .int (nI 0)])), (u.1, .inl (dJ, 16, .inr (.inl (fun _ => 0)))), (u.2.1, .inl (dN, 16, .inl (fun _ => 0))), (u.2.2, .inl (dJ, 16, .inr (.inl (fun _ => 0))))])) (va_A [(h, .inr (1, [.null, .null, .null, .int 0]))] sz)) 3 48 (va_A [(h, .inr (1, [.null, .null, .null, .int 0]))] sz) := by
  refine Met.ofW (cc := cX1_init) (maxL := 1) (ret := none) (by decide) rfl ?_
  intro p e s m args below meth c s₁ B hml hv
  obtain ⟨rfl, hsz, hP, hK, hD0⟩ := hv
  have hx := B.exec
  have hb := B.bytes
  have hr := B.returns
  have hlocks := B.notSynchronized
  have hts := atoms_spec (ws := (ws_ yX1_init cX1_init 1 none)) B.pre
  have hts : ∀ w ∈ lw_all, w.before _ s = true := fun w h => hts w (List.mem_cons_of_mem _ h)
  have hown : s.vm.findClass RX1 = some m.cls := findClass_of_methodNamed B.named
  have hin : meth.name = "<init>" := (name_of_methodNamed B.named B.method).1
  subst hsz
  have hD := hD0.self (sz := s.heap.size)
  generalize hAe : va_A [(h, .inr (1, [.null, .null, .null, .int 0]))] s.heap.size = A at hD ⊢
  have hA : ∀ q : Nat, s.heap.size ≤ q → A q := fun q h => by rw [← hAe]; exact Or.inr h
  have hS : va_S A s.heap s.heap [] := va_S.rf
  have hP : va_P (dC, dI) vwCl [(h, .inr (1, [.null, .null, .null, .int 0]))] s.heap := hP
  have hl := lv_entry ([.ref h]) (n := 1) (Nat.le_of_ble_eq_true rfl)
  rw [lg_entry_eq]
  generalize (lg_sl ([.ref h]) ++ List.replicate (1 - (lg_sl ([.ref h])).length) Slot.unset).toArray = ls at hl ⊢
  have hl : lv_has ls 1 [(0, .ref h)] := hl
  refine lv_aload_n hx hb dX1_init_0 rfl (lv_at hl 0 rfl) ?_
  refine W.objInit hx hb hown (hts _ q29) (hts _ q22) (hts _ q23) rfl (by rw [hml]; exact hl.1) rfl dX1_init_1 (Nat.le_of_ble_eq_true rfl) (Nat.le_of_ble_eq_true rfl) ?_
  refine W.eq (g2 := F0 m 4 ls []) rfl ?_
  refine lv_aload_n hx hb dX1_init_4 rfl (lv_at hl 0 rfl) ?_
  refine lv_bipush (v := 16) hx hb dX1_init_5 (by decide) ?_
  refine sj_newa (atype := .long) hx hb (hts _ q44) rfl hK hP hD hS hA 0 rfl (fun _ _ => rfl) (a0 := (16, .inr (.inl (fun _ => 0)))) (fun _ => rfl) (by decide) (by decide) (by decide) (Nat.le_of_ble_eq_true rfl) (Nat.le_of_ble_eq_true rfl) dX1_init_7 (fun q1 H hP hD hS => ?_)
  have hP : va_P (dC, dI) vwCl [(h, .inr (1, [.null, .null, .null, .int 0])), (q1, .inl (dJ, 16, .inr (.inl (fun _ => 0))))] H := hP
  have hD : va_D A [(h, .inr (1, [.null, .null, .null, .int 0])), (q1, .inl (dJ, 16, .inr (.inl (fun _ => 0))))] := hD
  refine W.widen (k := 1) (n := 16) (Nat.le_of_ble_eq_true rfl) (Nat.le_of_ble_eq_true rfl) ?_
  refine va_put (D := (dC, dI)) (ci := 1) (v := .ref q1) (ty := .array .long) (C := RX1) (T := TX1) (N := 4) hx hb hts in_X1 tyX1 tyX1_ok nmX1 hown hK hP hD hS 0 rfl rfl 0 (by decide) (hts _ q30) (fun _ h9 => h9) rfl (by decide +kernel) rfl rfl (Nat.le_of_ble_eq_true rfl) dX1_init_9 (fun H locs hP hD hS => ?_)
  have hP : va_P (dC, dI) vwCl [(h, .inr (1, [.ref q1, .null, .null, .int 0])), (q1, .inl (dJ, 16, .inr (.inl (fun _ => 0))))] H := hP
  have hD : va_D A [(h, .inr (1, [.ref q1, .null, .null, .int 0])), (q1, .inl (dJ, 16, .inr (.inl (fun _ => 0))))] := hD
  refine lv_aload_n hx hb dX1_init_12 rfl (lv_at hl 0 rfl) ?_
  refine lv_bipush (v := 16) hx hb dX1_init_13 (by decide) ?_
  refine sj_newa (atype := .int) hx hb (hts _ q45) rfl hK hP hD hS hA 1 rfl (fun _ _ => rfl) (a0 := (16, .inl (fun _ => 0))) (fun _ => rfl) (by decide) (by decide) (by decide) (Nat.le_of_ble_eq_true rfl) (Nat.le_of_ble_eq_true rfl) dX1_init_15 (fun q2 H hP hD hS => ?_)
  have hP : va_P (dC, dI) vwCl [(h, .inr (1, [.ref q1, .null, .null, .int 0])), (q1, .inl (dJ, 16, .inr (.inl (fun _ => 0)))), (q2, .inl (dN, 16, .inl (fun _ => 0)))] H := hP
  have hD : va_D A [(h, .inr (1, [.ref q1, .null, .null, .int 0])), (q1, .inl (dJ, 16, .inr (.inl (fun _ => 0)))), (q2, .inl (dN, 16, .inl (fun _ => 0)))] := hD
  refine W.widen (k := 2) (n := 32) (Nat.le_of_ble_eq_true rfl) (Nat.le_of_ble_eq_true rfl) ?_
  refine va_put (D := (dC, dI)) (ci := 1) (v := .ref q2) (ty := .array .int) (C := RX1) (T := TX1) (N := 4) hx hb hts in_X1 tyX1 tyX1_ok nmX1 hown hK hP hD hS 0 rfl rfl 1 (by decide) (hts _ q31) (fun _ h9 => h9) rfl (by decide +kernel) rfl rfl (Nat.le_of_ble_eq_true rfl) dX1_init_17 (fun H locs hP hD hS => ?_)
  have hP : va_P (dC, dI) vwCl [(h, .inr (1, [.ref q1, .ref q2, .null, .int 0])), (q1, .inl (dJ, 16, .inr (.inl (fun _ => 0)))), (q2, .inl (dN, 16, .inl (fun _ => 0)))] H := hP
  have hD : va_D A [(h, .inr (1, [.ref q1, .ref q2, .null, .int 0])), (q1, .inl (dJ, 16, .inr (.inl (fun _ => 0)))), (q2, .inl (dN, 16, .inl (fun _ => 0)))] := hD
  refine lv_aload_n hx hb dX1_init_20 rfl (lv_at hl 0 rfl) ?_
  refine lv_bipush (v := 16) hx hb dX1_init_21 (by decide) ?_
  refine sj_newa (atype := .long) hx hb (hts _ q44) rfl hK hP hD hS hA 0 rfl (fun _ _ => rfl) (a0 := (16, .inr (.inl (fun _ => 0)))) (fun _ => rfl) (by decide) (by decide) (by decide) (Nat.le_of_ble_eq_true rfl) (Nat.le_of_ble_eq_true rfl) dX1_init_23 (fun q3 H hP hD hS => ?_)
  have hP : va_P (dC, dI) vwCl [(h, .inr (1, [.ref q1, .ref q2, .null, .int 0])), (q1, .inl (dJ, 16, .inr (.inl (fun _ => 0)))), (q2, .inl (dN, 16, .inl (fun _ => 0))), (q3, .inl (dJ, 16, .inr (.inl (fun _ => 0))))] H := hP
  have hD : va_D A [(h, .inr (1, [.ref q1, .ref q2, .null, .int 0])), (q1, .inl (dJ, 16, .inr (.inl (fun _ => 0)))), (q2, .inl (dN, 16, .inl (fun _ => 0))), (q3, .inl (dJ, 16, .inr (.inl (fun _ => 0))))] := hD
  refine W.widen (k := 3) (n := 48) (Nat.le_of_ble_eq_true rfl) (Nat.le_of_ble_eq_true rfl) ?_
  refine va_put (D := (dC, dI)) (ci := 1) (v := .ref q3) (ty := .array .long) (C := RX1) (T := TX1) (N := 4) hx hb hts in_X1 tyX1 tyX1_ok nmX1 hown hK hP hD hS 0 rfl rfl 2 (by decide) (hts _ q32) (fun _ h9 => h9) rfl (by decide +kernel) rfl rfl (Nat.le_of_ble_eq_true rfl) dX1_init_25 (fun H locs hP hD hS => ?_)
  have hP : va_P (dC, dI) vwCl [(h, .inr (1, [.ref q1, .ref q2, .ref q3, .int 0])), (q1, .inl (dJ, 16, .inr (.inl (fun _ => 0)))), (q2, .inl (dN, 16, .inl (fun _ => 0))), (q3, .inl (dJ, 16, .inr (.inl (fun _ => 0))))] H := hP
  have hD : va_D A [(h, .inr (1, [.ref q1, .ref q2, .ref q3, .int 0])), (q1, .inl (dJ, 16, .inr (.inl (fun _ => 0)))), (q2, .inl (dN, 16, .inl (fun _ => 0))), (q3, .inl (dJ, 16, .inr (.inl (fun _ => 0))))] := hD
  have hP : va_P (dC, dI) vwCl [(h, .inr (1, [.ref q1, .ref q2, .ref q3, .int 0])), (q1, .inl (dJ, 16, .inr (.inl (fun _ => 0)))), (q2, .inl (dN, 16, .inl (fun _ => 0))), (q3, .inl (dJ, 16, .inr (.inl (fun _ => 0))))] H := hP.sub [0, 1, 2, 3] rfl
  have hD : va_D A [(h, .inr (1, [.ref q1, .ref q2, .ref q3, .int 0])), (q1, .inl (dJ, 16, .inr (.inl (fun _ => 0)))), (q2, .inl (dN, 16, .inl (fun _ => 0))), (q3, .inl (dJ, 16, .inr (.inl (fun _ => 0))))] := hD.sub [0, 1, 2, 3] (by decide) rfl
  exact W.vret hx hb hr (fun t ht hW => ⟨⟨(q1, q2, q3), rfl, trivial, by rw [ht]; exact hP, hD⟩, hS.F ht⟩) hS.2.2 dX1_init_28
set_option maxHeartbeats 4000000 in
set_option maxRecDepth 100000 in
/-- grow(): arrays of twice the size -/
theorem metX1_grow (l : Launch) (dC : Nat → ClassId) (dI : Nat → Nat → Nat) (dJ dN dZ : ClassId) (sz : Nat) (h ka sa na cap n : Nat) (fk : Nat → Int64) (fs : Nat → Int32) (fn : Nat → Int64) (hcap : cap ≤ 1000) (hn : n ≤ cap) (hn64 : n ≤ 64) : Met l yX1_grow (ws_ yX1_grow cX1_grow 5 none) ({ frames := 0, cells := 3, slots := 384, locals := 0 }) (sj_Pw (dC, dI) [(h, .inr (1, [.ref ka, .ref sa, .ref na, .int (nI n)])), (ka, .inl (dJ, cap, .inr (.inl fk))), (sa, .inl (dN, cap, .inl fs)), (na, .inl (dJ, cap, .inr (.inl fn)))] (sj_t dJ dN dZ) sz [.ref h]) (va_Qv (fun u : Nat × Nat × Nat × (Nat → Int64) × (Nat → Int32) × (Nat → Int64) => (∀ j, j < n → u.2.2.2.1 j = fk j) ∧ (∀ j, j < n → u.2.2.2.2.1 j = fs j) ∧ (∀ j, j < n → u.2.2.2.2.2 j = fn j)) (sj_B (dC, dI) (va_A [(h, .inr (1, [.ref ka, .ref sa, .ref na, .int (nI n)])), (ka, .inl (dJ, cap, .inr (.inl fk))), (sa, .inl (dN, cap, .inl fs)), (na, .inl (dJ, cap, .inr (.inl fn)))] sz) (fun u : Nat × Nat × Nat × (Nat → Int64) × (Nat → Int32) × (Nat → Int64) => [(h, .inr (1, [.ref u.1, .ref u.2.1, .ref u.2.2.1, .int (nI n)])), (u.1, .inl (dJ, (2 * n), .inr (.inl u.2.2.2.1))), (u.2.1, .inl (dN, (2 * n), .inl u.2.2.2.2.1)), (u.2.2.1, .inl (dJ, (2 * n), .inr (.inl u.2.2.2.2.2)))])) (va_A [(h, .inr (1, [.ref ka, .ref sa, .ref na, .int (nI n)])), (ka, .inl (dJ, cap, .inr (.inl fk))), (sa, .inl (dN, cap, .inl fs)), (na, .inl (dJ, cap, .inr (.inl fn)))] sz)) 3 384 (va_A [(h, .inr (1, [.ref ka, .ref sa, .ref na, .int (nI n)])), (ka, .inl (dJ, cap, .inr (.inl fk))), (sa, .inl (dN, cap, .inl fs)), (na, .inl (dJ, cap, .inr (.inl fn)))] sz) := by
  refine Met.ofW (cc := cX1_grow) (maxL := 5) (ret := none) (by decide) rfl ?_
  intro p e s m args below meth c s₁ B hml hv
  obtain ⟨rfl, hsz, hP, hK, hD0⟩ := hv
  have hx := B.exec
  have hb := B.bytes
  have hr := B.returns
  have hlocks := B.notSynchronized
  have hts := atoms_spec (ws := (ws_ yX1_grow cX1_grow 5 none)) B.pre
  have hts : ∀ w ∈ lw_all, w.before _ s = true := fun w h => hts w (List.mem_cons_of_mem _ h)
  have hown : s.vm.findClass RX1 = some m.cls := findClass_of_methodNamed B.named
  subst hsz
  have hD := hD0.self (sz := s.heap.size)
  generalize hAe : va_A [(h, .inr (1, [.ref ka, .ref sa, .ref na, .int (nI n)])), (ka, .inl (dJ, cap, .inr (.inl fk))), (sa, .inl (dN, cap, .inl fs)), (na, .inl (dJ, cap, .inr (.inl fn)))] s.heap.size = A at hD ⊢
  have hA : ∀ q : Nat, s.heap.size ≤ q → A q := fun q h => by rw [← hAe]; exact Or.inr h
  have hS : va_S A s.heap s.heap [] := va_S.rf
  have hP : va_P (dC, dI) vwCl [(h, .inr (1, [.ref ka, .ref sa, .ref na, .int (nI n)])), (ka, .inl (dJ, cap, .inr (.inl fk))), (sa, .inl (dN, cap, .inl fs)), (na, .inl (dJ, cap, .inr (.inl fn)))] s.heap := hP
  have hl := lv_entry ([.ref h]) (n := 5) (Nat.le_of_ble_eq_true rfl)
  rw [lg_entry_eq]
  generalize (lg_sl ([.ref h]) ++ List.replicate (5 - (lg_sl ([.ref h])).length) Slot.unset).toArray = ls at hl ⊢
  have hl : lv_has ls 5 [(0, .ref h)] := hl
  refine lv_iconst (v := nI 2) hx hb dX1_grow_0 (by decide) ?_
  refine lv_aload_n hx hb dX1_grow_1 rfl (lv_at hl 0 rfl) ?_
  refine va_get (D := (dC, dI)) (ci := 1) (v := .int (nI n)) (C := RX1) (T := TX1) (N := 4) hx hb hts in_X1 hown hK hP 0 rfl rfl 3 (by decide) (hts _ q34) (fun _ h9 => h9) rfl dX1_grow_2 ?_
  refine lv_imul hx hb dX1_grow_5 ?_
  refine sj_cvi (y := nI (2 * n)) (pk_mul 2 n) ?_
  refine sj_newa (atype := .long) hx hb (hts _ q44) rfl hK hP hD hS hA 0 rfl (fun _ _ => rfl) (a0 := ((2 * n), .inr (.inl (fun _ => 0)))) (fun _ => rfl) (nI_pos (by omega)) (nI_clamp (by omega)) (show 2 * n * 8 ≤ 536870912 by omega) (Nat.le_of_ble_eq_true rfl) (show 0 + 2 * n ≤ 384 by omega) dX1_grow_6 (fun q1 H hP hD hS => ?_)
  have hP : va_P (dC, dI) vwCl [(h, .inr (1, [.ref ka, .ref sa, .ref na, .int (nI n)])), (ka, .inl (dJ, cap, .inr (.inl fk))), (sa, .inl (dN, cap, .inl fs)), (na, .inl (dJ, cap, .inr (.inl fn))), (q1, .inl (dJ, (2 * n), .inr (.inl (fun _ => 0))))] H := hP
  have hD : va_D A [(h, .inr (1, [.ref ka, .ref sa, .ref na, .int (nI n)])), (ka, .inl (dJ, cap, .inr (.inl fk))), (sa, .inl (dN, cap, .inl fs)), (na, .inl (dJ, cap, .inr (.inl fn))), (q1, .inl (dJ, (2 * n), .inr (.inl (fun _ => 0))))] := hD
  refine W.widen (k := 1) (n := 128) (Nat.le_of_ble_eq_true rfl) (by omega) ?_
  refine lv_astore_n (lv' := [(1, .ref q1), (0, .ref h)]) hx hb dX1_grow_8 rfl hl (by decide) rfl (fun ls hl => ?_)
  refine lv_iconst (v := nI 2) hx hb dX1_grow_9 (by decide) ?_
  refine lv_aload_n hx hb dX1_grow_10 rfl (lv_at hl 1 rfl) ?_
  refine va_get (D := (dC, dI)) (ci := 1) (v := .int (nI n)) (C := RX1) (T := TX1) (N := 4) hx hb hts in_X1 hown hK hP 0 rfl rfl 3 (by decide) (hts _ q34) (fun _ h9 => h9) rfl dX1_grow_11 ?_
  refine lv_imul hx hb dX1_grow_14 ?_
  refine sj_cvi (y := nI (2 * n)) (pk_mul 2 n) ?_
  refine sj_newa (atype := .int) hx hb (hts _ q45) rfl hK hP hD hS hA 1 rfl (fun _ _ => rfl) (a0 := ((2 * n), .inl (fun _ => 0))) (fun _ => rfl) (nI_pos (by omega)) (nI_clamp (by omega)) (show 2 * n * 4 ≤ 536870912 by omega) (Nat.le_of_ble_eq_true rfl) (show 128 + 2 * n ≤ 384 by omega) dX1_grow_15 (fun q2 H hP hD hS => ?_)
  have hP : va_P (dC, dI) vwCl [(h, .inr (1, [.ref ka, .ref sa, .ref na, .int (nI n)])), (ka, .inl (dJ, cap, .inr (.inl fk))), (sa, .inl (dN, cap, .inl fs)), (na, .inl (dJ, cap, .inr (.inl fn))), (q1, .inl (dJ, (2 * n), .inr (.inl (fun _ => 0)))), (q2, .inl (dN, (2 * n), .inl (fun _ => 0)))] H := hP
  have hD : va_D A [(h, .inr (1, [.ref ka, .ref sa, .ref na, .int (nI n)])), (ka, .inl (dJ, cap, .inr (.inl fk))), (sa, .inl (dN, cap, .inl fs)), (na, .inl (dJ, cap, .inr (.inl fn))), (q1, .inl (dJ, (2 * n), .inr (.inl (fun _ => 0)))), (q2, .inl (dN, (2 * n), .inl (fun _ => 0)))] := hD
  refine W.widen (k := 2) (n := 256) (Nat.le_of_ble_eq_true rfl) (by omega) ?_
  refine lv_astore_n (lv' := [(2, .ref q2), (1, .ref q1), (0, .ref h)]) hx hb dX1_grow_17 rfl hl (by decide) rfl (fun ls hl => ?_)
  refine lv_iconst (v := nI 2) hx hb dX1_grow_18 (by decide) ?_
  refine lv_aload_n hx hb dX1_grow_19 rfl (lv_at hl 2 rfl) ?_
  refine va_get (D := (dC, dI)) (ci := 1) (v := .int (nI n)) (C := RX1) (T := TX1) (N := 4) hx hb hts in_X1 hown hK hP 0 rfl rfl 3 (by decide) (hts _ q34) (fun _ h9 => h9) rfl dX1_grow_20 ?_
  refine lv_imul hx hb dX1_grow_23 ?_
  refine sj_cvi (y := nI (2 * n)) (pk_mul 2 n) ?_
  refine sj_newa (atype := .long) hx hb (hts _ q44) rfl hK hP hD hS hA 0 rfl (fun _ _ => rfl) (a0 := ((2 * n), .inr (.inl (fun _ => 0)))) (fun _ => rfl) (nI_pos (by omega)) (nI_clamp (by omega)) (show 2 * n * 8 ≤ 536870912 by omega) (Nat.le_of_ble_eq_true rfl) (show 256 + 2 * n ≤ 384 by omega) dX1_grow_24 (fun q3 H hP hD hS => ?_)
  have hP : va_P (dC, dI) vwCl [(h, .inr (1, [.ref ka, .ref sa, .ref na, .int (nI n)])), (ka, .inl (dJ, cap, .inr (.inl fk))), (sa, .inl (dN, cap, .inl fs)), (na, .inl (dJ, cap, .inr (.inl fn))), (q1, .inl (dJ, (2 * n), .inr (.inl (fun _ => 0)))), (q2, .inl (dN, (2 * n), .inl (fun _ => 0))), (q3, .inl (dJ, (2 * n), .inr (.inl (fun _ => 0))))] H := hP
  have hD : va_D A [(h, .inr (1, [.ref ka, .ref sa, .ref na, .int (nI n)])), (ka, .inl (dJ, cap, .inr (.inl fk))), (sa, .inl (dN, cap, .inl fs)), (na, .inl (dJ, cap, .inr (.inl fn))), (q1, .inl (dJ, (2 * n), .inr (.inl (fun _ => 0)))), (q2, .inl (dN, (2 * n), .inl (fun _ => 0))), (q3, .inl (dJ, (2 * n), .inr (.inl (fun _ => 0))))] := hD
  refine W.widen (k := 3) (n := 384) (Nat.le_of_ble_eq_true rfl) (by omega) ?_
  refine lv_astore_n (lv' := [(3, .ref q3), (2, .ref q2), (1, .ref q1), (0, .ref h)]) hx hb dX1_grow_26 rfl hl (by decide) rfl (fun ls hl => ?_)
  have loop : ∀ (fu : Nat) (i : Nat) (f1 : Nat → Int64) (f2 : Nat → Int32) (f3 : Nat → Int64) (H : Heap) (locs : List Loc) (ls : Array Slot), (n - i < fu) → (i ≤ n) → (∀ j, j < i → f1 j = fk j) → (∀ j, j < i → f2 j = fs j) → (∀ j, j < i → f3 j = fn j) → va_P (dC, dI) vwCl [(h, .inr (1, [.ref ka, .ref sa, .ref na, .int (nI n)])), (ka, .inl (dJ, cap, .inr (.inl fk))), (sa, .inl (dN, cap, .inl fs)), (na, .inl (dJ, cap, .inr (.inl fn))), (q1, .inl (dJ, (2 * n), .inr (.inl f1))), (q2, .inl (dN, (2 * n), .inl f2)), (q3, .inl (dJ, (2 * n), .inr (.inl f3)))] H → va_D A [(h, .inr (1, [.ref ka, .ref sa, .ref na, .int (nI n)])), (ka, .inl (dJ, cap, .inr (.inl fk))), (sa, .inl (dN, cap, .inl fs)), (na, .inl (dJ, cap, .inr (.inl fn))), (q1, .inl (dJ, (2 * n), .inr (.inl f1))), (q2, .inl (dN, (2 * n), .inl f2)), (q3, .inl (dJ, (2 * n), .inr (.inl f3)))] → va_S A s.heap H locs → lv_has ls 5 [(0, .ref h), (1, .ref q1), (2, .ref q2), (3, .ref q3), (4, .int (nI i))] → W p l e (headSpec (ws_ yX1_grow cX1_grow 5 none) ({ frames := 0, cells := 3, slots := 384, locals := 0 })).room s m ([.ref h] : List Value).toArray below meth c H locs 3 384 (MQ below (va_Qv (fun u : Nat × Nat × Nat × (Nat → Int64) × (Nat → Int32) × (Nat → Int64) => (∀ j, j < n → u.2.2.2.1 j = fk j) ∧ (∀ j, j < n → u.2.2.2.2.1 j = fs j) ∧ (∀ j, j < n → u.2.2.2.2.2 j = fn j)) (sj_B (dC, dI) A (fun u : Nat × Nat × Nat × (Nat → Int64) × (Nat → Int32) × (Nat → Int64) => [(h, .inr (1, [.ref u.1, .ref u.2.1, .ref u.2.2.1, .int (nI n)])), (u.1, .inl (dJ, (2 * n), .inr (.inl u.2.2.2.1))), (u.2.1, .inl (dN, (2 * n), .inl u.2.2.2.2.1)), (u.2.2.1, .inl (dJ, (2 * n), .inr (.inl u.2.2.2.2.2)))])) A) ([.ref h] : List Value).toArray s 3 384 A) (F0 m 30 ls []) := by
    intro fu
    induction fu with
    | zero => intro i f1 f2 f3 H locs ls h1; exact absurd h1 (by omega)
    | succ fu ih =>
      intro i f1 f2 f3 H locs ls h1 h2 i1 i2 i3 hP hD hS hl
      refine lv_iload hx hb dX1_grow_30 (lv_at hl 4 rfl) ?_
      refine lv_aload_n hx hb dX1_grow_32 rfl (lv_at hl 0 rfl) ?_
      refine va_get (D := (dC, dI)) (ci := 1) (v := .int (nI n)) (C := RX1) (T := TX1) (N := 4) hx hb hts in_X1 hown hK hP 0 rfl rfl 3 (by decide) (hts _ q34) (fun _ h9 => h9) rfl dX1_grow_33 ?_
      refine sj_nge (a := i) (b := n) (tgt := 78) hx hb dX1_grow_36 (by decide) (by omega) (by omega) (fun c36 => ?_) (fun c36 => ?_)
      · skip
        refine lv_aload_n hx hb dX1_grow_78 rfl (lv_at hl 0 rfl) ?_
        refine lv_aload_n hx hb dX1_grow_79 rfl (lv_at hl 1 rfl) ?_
        refine va_put (D := (dC, dI)) (ci := 1) (v := .ref q1) (ty := .array .long) (C := RX1) (T := TX1) (N := 4) hx hb hts in_X1 tyX1 tyX1_ok nmX1 hown hK hP hD hS 0 rfl rfl 0 (by decide) (hts _ q30) (fun _ h9 => h9) rfl (by decide +kernel) rfl rfl (Nat.le_of_ble_eq_true rfl) dX1_grow_80 (fun H locs hP hD hS => ?_)
        have hP : va_P (dC, dI) vwCl [(h, .inr (1, [.ref q1, .ref sa, .ref na, .int (nI n)])), (ka, .inl (dJ, cap, .inr (.inl fk))), (sa, .inl (dN, cap, .inl fs)), (na, .inl (dJ, cap, .inr (.inl fn))), (q1, .inl (dJ, (2 * n), .inr (.inl f1))), (q2, .inl (dN, (2 * n), .inl f2)), (q3, .inl (dJ, (2 * n), .inr (.inl f3)))] H := hP
        have hD : va_D A [(h, .inr (1, [.ref q1, .ref sa, .ref na, .int (nI n)])), (ka, .inl (dJ, cap, .inr (.inl fk))), (sa, .inl (dN, cap, .inl fs)), (na, .inl (dJ, cap, .inr (.inl fn))), (q1, .inl (dJ, (2 * n), .inr (.inl f1))), (q2, .inl (dN, (2 * n), .inl f2)), (q3, .inl (dJ, (2 * n), .inr (.inl f3)))] := hD
        refine lv_aload_n hx hb dX1_grow_83 rfl (lv_at hl 0 rfl) ?_
        refine lv_aload_n hx hb dX1_grow_84 rfl (lv_at hl 2 rfl) ?_
        refine va_put (D := (dC, dI)) (ci := 1) (v := .ref q2) (ty := .array .int) (C := RX1) (T := TX1) (N := 4) hx hb hts in_X1 tyX1 tyX1_ok nmX1 hown hK hP hD hS 0 rfl rfl 1 (by decide) (hts _ q31) (fun _ h9 => h9) rfl (by decide +kernel) rfl rfl (Nat.le_of_ble_eq_true rfl) dX1_grow_85 (fun H locs hP hD hS => ?_)
        have hP : va_P (dC, dI) vwCl [(h, .inr (1, [.ref q1, .ref q2, .ref na, .int (nI n)])), (ka, .inl (dJ, cap, .inr (.inl fk))), (sa, .inl (dN, cap, .inl fs)), (na, .inl (dJ, cap, .inr (.inl fn))), (q1, .inl (dJ, (2 * n), .inr (.inl f1))), (q2, .inl (dN, (2 * n), .inl f2)), (q3, .inl (dJ, (2 * n), .inr (.inl f3)))] H := hP
        have hD : va_D A [(h, .inr (1, [.ref q1, .ref q2, .ref na, .int (nI n)])), (ka, .inl (dJ, cap, .inr (.inl fk))), (sa, .inl (dN, cap, .inl fs)), (na, .inl (dJ, cap, .inr (.inl fn))), (q1, .inl (dJ, (2 * n), .inr (.inl f1))), (q2, .inl (dN, (2 * n), .inl f2)), (q3, .inl (dJ, (2 * n), .inr (.inl f3)))] := hD
        refine lv_aload_n hx hb dX1_grow_88 rfl (lv_at hl 0 rfl) ?_
        refine lv_aload_n hx hb dX1_grow_89 rfl (lv_at hl 3 rfl) ?_
        refine va_put (D := (dC, dI)) (ci := 1) (v := .ref q3) (ty := .array .long) (C := RX1) (T := TX1) (N := 4) hx hb hts in_X1 tyX1 tyX1_ok nmX1 hown hK hP hD hS 0 rfl rfl 2 (by decide) (hts _ q32) (fun _ h9 => h9) rfl (by decide +kernel) rfl rfl (Nat.le_of_ble_eq_true rfl) dX1_grow_90 (fun H locs hP hD hS => ?_)
        have hP : va_P (dC, dI) vwCl [(h, .inr (1, [.ref q1, .ref q2, .ref q3, .int (nI n)])), (ka, .inl (dJ, cap, .inr (.inl fk))), (sa, .inl (dN, cap, .inl fs)), (na, .inl (dJ, cap, .inr (.inl fn))), (q1, .inl (dJ, (2 * n), .inr (.inl f1))), (q2, .inl (dN, (2 * n), .inl f2)), (q3, .inl (dJ, (2 * n), .inr (.inl f3)))] H := hP
        have hD : va_D A [(h, .inr (1, [.ref q1, .ref q2, .ref q3, .int (nI n)])), (ka, .inl (dJ, cap, .inr (.inl fk))), (sa, .inl (dN, cap, .inl fs)), (na, .inl (dJ, cap, .inr (.inl fn))), (q1, .inl (dJ, (2 * n), .inr (.inl f1))), (q2, .inl (dN, (2 * n), .inl f2)), (q3, .inl (dJ, (2 * n), .inr (.inl f3)))] := hD
        have hP : va_P (dC, dI) vwCl [(h, .inr (1, [.ref q1, .ref q2, .ref q3, .int (nI n)])), (q1, .inl (dJ, (2 * n), .inr (.inl f1))), (q2, .inl (dN, (2 * n), .inl f2)), (q3, .inl (dJ, (2 * n), .inr (.inl f3)))] H := hP.sub [0, 4, 5, 6] rfl
        have hD : va_D A [(h, .inr (1, [.ref q1, .ref q2, .ref q3, .int (nI n)])), (q1, .inl (dJ, (2 * n), .inr (.inl f1))), (q2, .inl (dN, (2 * n), .inl f2)), (q3, .inl (dJ, (2 * n), .inr (.inl f3)))] := hD.sub [0, 4, 5, 6] (by decide) rfl
        exact W.vret hx hb hr (fun t ht hW => ⟨⟨(q1, q2, q3, f1, f2, f3), rfl, ⟨fun j hj => i1 j (by omega), fun j hj => i2 j (by omega), fun j hj => i3 j (by omega)⟩, by rw [ht]; exact hP, hD⟩, hS.F ht⟩) hS.2.2 dX1_grow_93
      · skip
        refine lv_aload_n hx hb dX1_grow_39 rfl (lv_at hl 1 rfl) ?_
        refine lv_iload hx hb dX1_grow_40 (lv_at hl 4 rfl) ?_
        refine lv_aload_n hx hb dX1_grow_42 rfl (lv_at hl 0 rfl) ?_
        refine va_get (D := (dC, dI)) (ci := 1) (v := .ref ka) (C := RX1) (T := TX1) (N := 4) hx hb hts in_X1 hown hK hP 0 rfl rfl 0 (by decide) (hts _ q30) (fun _ h9 => h9) rfl dX1_grow_43 ?_
        refine lv_iload hx hb dX1_grow_46 (lv_at hl 4 rfl) ?_
        refine sj_lald hx hb hK hP 1 0 rfl rfl i rfl (by omega) (by omega) dX1_grow_48 ?_
        refine sj_last hx hb hK hP hD hS 4 0 rfl rfl i rfl (by omega) (by omega) dX1_grow_49 (fun H locs hP hD hS => ?_)
        have hP : va_P (dC, dI) vwCl [(h, .inr (1, [.ref ka, .ref sa, .ref na, .int (nI n)])), (ka, .inl (dJ, cap, .inr (.inl fk))), (sa, .inl (dN, cap, .inl fs)), (na, .inl (dJ, cap, .inr (.inl fn))), (q1, .inl (dJ, (2 * n), .inr (.inl (vp_updL f1 i (fk i))))), (q2, .inl (dN, (2 * n), .inl f2)), (q3, .inl (dJ, (2 * n), .inr (.inl f3)))] H := hP
        have hD : va_D A [(h, .inr (1, [.ref ka, .ref sa, .ref na, .int (nI n)])), (ka, .inl (dJ, cap, .inr (.inl fk))), (sa, .inl (dN, cap, .inl fs)), (na, .inl (dJ, cap, .inr (.inl fn))), (q1, .inl (dJ, (2 * n), .inr (.inl (vp_updL f1 i (fk i))))), (q2, .inl (dN, (2 * n), .inl f2)), (q3, .inl (dJ, (2 * n), .inr (.inl f3)))] := hD
        refine lv_aload_n hx hb dX1_grow_50 rfl (lv_at hl 2 rfl) ?_
        refine lv_iload hx hb dX1_grow_51 (lv_at hl 4 rfl) ?_
        refine lv_aload_n hx hb dX1_grow_53 rfl (lv_at hl 0 rfl) ?_
        refine va_get (D := (dC, dI)) (ci := 1) (v := .ref sa) (C := RX1) (T := TX1) (N := 4) hx hb hts in_X1 hown hK hP 0 rfl rfl 1 (by decide) (hts _ q31) (fun _ h9 => h9) rfl dX1_grow_54 ?_
        refine lv_iload hx hb dX1_grow_57 (lv_at hl 4 rfl) ?_
        refine sj_iald hx hb hK hP 2 1 rfl rfl i rfl (by omega) (by omega) dX1_grow_59 ?_
        refine sj_iast hx hb hK hP hD hS 5 1 rfl rfl i rfl (by omega) (by omega) dX1_grow_60 (fun H locs hP hD hS => ?_)
        have hP : va_P (dC, dI) vwCl [(h, .inr (1, [.ref ka, .ref sa, .ref na, .int (nI n)])), (ka, .inl (dJ, cap, .inr (.inl fk))), (sa, .inl (dN, cap, .inl fs)), (na, .inl (dJ, cap, .inr (.inl fn))), (q1, .inl (dJ, (2 * n), .inr (.inl (vp_updL f1 i (fk i))))), (q2, .inl (dN, (2 * n), .inl (upd f2 i (fs i)))), (q3, .inl (dJ, (2 * n), .inr (.inl f3)))] H := hP
        have hD : va_D A [(h, .inr (1, [.ref ka, .ref sa, .ref na, .int (nI n)])), (ka, .inl (dJ, cap, .inr (.inl fk))), (sa, .inl (dN, cap, .inl fs)), (na, .inl (dJ, cap, .inr (.inl fn))), (q1, .inl (dJ, (2 * n), .inr (.inl (vp_updL f1 i (fk i))))), (q2, .inl (dN, (2 * n), .inl (upd f2 i (fs i)))), (q3, .inl (dJ, (2 * n), .inr (.inl f3)))] := hD
        refine lv_aload_n hx hb dX1_grow_61 rfl (lv_at hl 3 rfl) ?_
        refine lv_iload hx hb dX1_grow_62 (lv_at hl 4 rfl) ?_
        refine lv_aload_n hx hb dX1_grow_64 rfl (lv_at hl 0 rfl) ?_
        refine va_get (D := (dC, dI)) (ci := 1) (v := .ref na) (C := RX1) (T := TX1) (N := 4) hx hb hts in_X1 hown hK hP 0 rfl rfl 2 (by decide) (hts _ q32) (fun _ h9 => h9) rfl dX1_grow_65 ?_
        refine lv_iload hx hb dX1_grow_68 (lv_at hl 4 rfl) ?_
        refine sj_lald hx hb hK hP 3 0 rfl rfl i rfl (by omega) (by omega) dX1_grow_70 ?_
        refine sj_last hx hb hK hP hD hS 6 0 rfl rfl i rfl (by omega) (by omega) dX1_grow_71 (fun H locs hP hD hS => ?_)
        have hP : va_P (dC, dI) vwCl [(h, .inr (1, [.ref ka, .ref sa, .ref na, .int (nI n)])), (ka, .inl (dJ, cap, .inr (.inl fk))), (sa, .inl (dN, cap, .inl fs)), (na, .inl (dJ, cap, .inr (.inl fn))), (q1, .inl (dJ, (2 * n), .inr (.inl (vp_updL f1 i (fk i))))), (q2, .inl (dN, (2 * n), .inl (upd f2 i (fs i)))), (q3, .inl (dJ, (2 * n), .inr (.inl (vp_updL f3 i (fn i)))))] H := hP
        have hD : va_D A [(h, .inr (1, [.ref ka, .ref sa, .ref na, .int (nI n)])), (ka, .inl (dJ, cap, .inr (.inl fk))), (sa, .inl (dN, cap, .inl fs)), (na, .inl (dJ, cap, .inr (.inl fn))), (q1, .inl (dJ, (2 * n), .inr (.inl (vp_updL f1 i (fk i))))), (q2, .inl (dN, (2 * n), .inl (upd f2 i (fs i)))), (q3, .inl (dJ, (2 * n), .inr (.inl (vp_updL f3 i (fn i)))))] := hD
        refine lv_iinc (v := nI (i + 1)) (lv' := [(4, .int (nI (i + 1))), (0, .ref h), (1, .ref q1), (2, .ref q2), (3, .ref q3)]) hx hb dX1_grow_72 hl (k := 4) rfl (nI_1 _) (by decide) rfl (fun ls hl => ?_)
        refine lv_goto (tgt := 30) hx hb dX1_grow_75 (by decide) ?_
        exact ih (i + 1) _ _ _ H locs ls (by omega) (by omega) (sj_cpy (fun _ => rfl) i1 rfl) (sj_cpy (fun _ => rfl) i2 rfl) (sj_cpy (fun _ => rfl) i3 rfl) hP hD hS (lv_sub hl [1, 2, 3, 4, 0] rfl)
  refine lv_iconst (v := nI 0) hx hb dX1_grow_27 (by decide) ?_
  refine lv_istore (lv' := [(4, .int (nI 0)), (3, .ref q3), (2, .ref q2), (1, .ref q1), (0, .ref h)]) hx hb dX1_grow_28 hl (by decide) rfl (fun ls hl => ?_)
  exact loop (n + 1) 0 _ _ _ H _ ls (by omega) (Nat.zero_le _) lt_0 lt_0 lt_0 hP hD hS (lv_sub hl [4, 3, 2, 1, 0] rfl)
end
section
/-! SPANS, insert -/
set_option maxRecDepth 100000
set_option maxHeartbeats 4000000 in
set_option maxRecDepth 100000 in
/-- insert(span, key, x) at its rank -/
theorem metX1_insert (l : Launch) (dC : Nat → ClassId) (dI : Nat → Nat → Nat) (dJ dN dZ : ClassId) (sz : Nat) (h ka sa na cap n : Nat) (fk : Nat → Int64) (fs : Nat → Int32) (fn : Nat → Int64) (hc16 : 16 ≤ cap) (hcap : cap ≤ 128) (hn : n ≤ cap) (hn64 : n ≤ 63) (sp : Int32) (ky : Int64) (r0 : Nat) (hr0 : r0 ≤ n) (hb1 : ∀ j, j < r0 → sj_bef (fs j) (fk j) sp ky) (hb2 : ∀ j, r0 ≤ j → j < n → ¬ sj_bef (fs j) (fk j) sp ky) (x : Int64) : Met l yX1_insert (ws_ yX1_insert cX1_insert 8 none) ({ frames := 2, cells := 3, slots := 384, locals := 50 }) (sj_Pw (dC, dI) [(h, .inr (1, [.ref ka, .ref sa, .ref na, .int (nI n)])), (ka, .inl (dJ, cap, .inr (.inl fk))), (sa, .inl (dN, cap, .inl fs)), (na, .inl (dJ, cap, .inr (.inl fn)))] (sj_t dJ dN dZ) sz [.ref h, .int sp, .long ky, .long x]) (va_Qv (fun u : Nat × Nat × Nat × Nat × (Nat → Int64) × (Nat → Int32) × (Nat → Int64) => u.2.2.2.1 ≤ 128 ∧ 16 ≤ u.2.2.2.1 ∧ n + 1 ≤ u.2.2.2.1 ∧ (∀ j, j ≤ n → u.2.2.2.2.1 j = sj_ins fk r0 ky j) ∧ (∀ j, j ≤ n → u.2.2.2.2.2.1 j = sj_ins fs r0 sp j) ∧ (∀ j, j ≤ n → u.2.2.2.2.2.2 j = sj_ins fn r0 x j)) (sj_B (dC, dI) (va_A [(h, .inr (1, [.ref ka, .ref sa, .ref na, .int (nI n)])), (ka, .inl (dJ, cap, .inr (.inl fk))), (sa, .inl (dN, cap, .inl fs)), (na, .inl (dJ, cap, .inr (.inl fn)))] sz) (fun u : Nat × Nat × Nat × Nat × (Nat → Int64) × (Nat → Int32) × (Nat → Int64) => [(h, .inr (1, [.ref u.1, .ref u.2.1, .ref u.2.2.1, .int (nI (n + 1))])), (u.1, .inl (dJ, u.2.2.2.1, .inr (.inl u.2.2.2.2.1))), (u.2.1, .inl (dN, u.2.2.2.1, .inl u.2.2.2.2.2.1)), (u.2.2.1, .inl (dJ, u.2.2.2.1, .inr (.inl u.2.2.2.2.2.2)))])) (va_A [(h, .inr (1, [.ref ka, .ref sa, .ref na, .int (nI n)])), (ka, .inl (dJ, cap, .inr (.inl fk))), (sa, .inl (dN, cap, .inl fs)), (na, .inl (dJ, cap, .inr (.inl fn)))] sz)) 3 384 (va_A [(h, .inr (1, [.ref ka, .ref sa, .ref na, .int (nI n)])), (ka, .inl (dJ, cap, .inr (.inl fk))), (sa, .inl (dN, cap, .inl fs)), (na, .inl (dJ, cap, .inr (.inl fn)))] sz) := by
  refine Met.ofW (cc := cX1_insert) (maxL := 8) (ret := none) (by decide) rfl ?_
  intro p e s m args below meth c s₁ B hml hv
  obtain ⟨rfl, hsz, hP, hK, hD0⟩ := hv
  have hx := B.exec
  have hb := B.bytes
  have hr := B.returns
  have hlocks := B.notSynchronized
  have hts := atoms_spec (ws := (ws_ yX1_insert cX1_insert 8 none)) B.pre
  have hts : ∀ w ∈ lw_all, w.before _ s = true := fun w h => hts w (List.mem_cons_of_mem _ h)
  have hown : s.vm.findClass RX1 = some m.cls := findClass_of_methodNamed B.named
  subst hsz
  have hD := hD0.self (sz := s.heap.size)
  generalize hAe : va_A [(h, .inr (1, [.ref ka, .ref sa, .ref na, .int (nI n)])), (ka, .inl (dJ, cap, .inr (.inl fk))), (sa, .inl (dN, cap, .inl fs)), (na, .inl (dJ, cap, .inr (.inl fn)))] s.heap.size = A at hD ⊢
  have hA : ∀ q : Nat, s.heap.size ≤ q → A q := fun q h => by rw [← hAe]; exact Or.inr h
  have hS : va_S A s.heap s.heap [] := va_S.rf
  have hP : va_P (dC, dI) vwCl [(h, .inr (1, [.ref ka, .ref sa, .ref na, .int (nI n)])), (ka, .inl (dJ, cap, .inr (.inl fk))), (sa, .inl (dN, cap, .inl fs)), (na, .inl (dJ, cap, .inr (.inl fn)))] s.heap := hP
  have hl := lv_entry ([.ref h, .int sp, .long ky, .long x]) (n := 8) (Nat.le_of_ble_eq_true rfl)
  rw [lg_entry_eq]
  generalize (lg_sl ([.ref h, .int sp, .long ky, .long x]) ++ List.replicate (8 - (lg_sl ([.ref h, .int sp, .long ky, .long x])).length) Slot.unset).toArray = ls at hl ⊢
  have hl : lv_has ls 8 [(0, .ref h), (1, .int sp), (2, .long ky), (4, .long x)] := hl
  have tail : ∀ (ka1 sa1 na1 cap1 : Nat) (g1 : Nat → Int64) (g2 : Nat → Int32) (g3 : Nat → Int64) (H : Heap) (locs : List Loc) (ls : Array Slot), cap1 ≤ 128 → 16 ≤ cap1 → n + 1 ≤ cap1 → (∀ j, j < n → g1 j = fk j) → (∀ j, j < n → g2 j = fs j) → (∀ j, j < n → g3 j = fn j) → va_P (dC, dI) vwCl [(h, .inr (1, [.ref ka1, .ref sa1, .ref na1, .int (nI n)])), (ka1, .inl (dJ, cap1, .inr (.inl g1))), (sa1, .inl (dN, cap1, .inl g2)), (na1, .inl (dJ, cap1, .inr (.inl g3)))] H → va_D A [(h, .inr (1, [.ref ka1, .ref sa1, .ref na1, .int (nI n)])), (ka1, .inl (dJ, cap1, .inr (.inl g1))), (sa1, .inl (dN, cap1, .inl g2)), (na1, .inl (dJ, cap1, .inr (.inl g3)))] → va_S A s.heap H locs → lv_has ls 8 [(0, .ref h), (1, .int sp), (2, .long ky), (4, .long x)] → W p l e (headSpec (ws_ yX1_insert cX1_insert 8 none) ({ frames := 2, cells := 3, slots := 384, locals := 50 })).room s m ([.ref h, .int sp, .long ky, .long x] : List Value).toArray below meth c H locs 3 384 (MQ below (va_Qv (fun u : Nat × Nat × Nat × Nat × (Nat → Int64) × (Nat → Int32) × (Nat → Int64) => u.2.2.2.1 ≤ 128 ∧ 16 ≤ u.2.2.2.1 ∧ n + 1 ≤ u.2.2.2.1 ∧ (∀ j, j ≤ n → u.2.2.2.2.1 j = sj_ins fk r0 ky j) ∧ (∀ j, j ≤ n → u.2.2.2.2.2.1 j = sj_ins fs r0 sp j) ∧ (∀ j, j ≤ n → u.2.2.2.2.2.2 j = sj_ins fn r0 x j)) (sj_B (dC, dI) A (fun u : Nat × Nat × Nat × Nat × (Nat → Int64) × (Nat → Int32) × (Nat → Int64) => [(h, .inr (1, [.ref u.1, .ref u.2.1, .ref u.2.2.1, .int (nI (n + 1))])), (u.1, .inl (dJ, u.2.2.2.1, .inr (.inl u.2.2.2.2.1))), (u.2.1, .inl (dN, u.2.2.2.1, .inl u.2.2.2.2.2.1)), (u.2.2.1, .inl (dJ, u.2.2.2.1, .inr (.inl u.2.2.2.2.2.2)))])) A) ([.ref h, .int sp, .long ky, .long x] : List Value).toArray s 3 384 A) (F0 m 16 ls []) := by
    intro ka1 sa1 na1 cap1 g1 g2 g3 H locs ls hk1 hk2 hk3 e1 e2 e3 hP hD hS hl
    refine lv_aload_n hx hb dX1_insert_16 rfl (lv_at hl 0 rfl) ?_
    refine lv_iload_n hx hb dX1_insert_17 rfl (lv_at hl 1 rfl) ?_
    refine lv_lload_n hx hb dX1_insert_18 rfl (lv_at hl 2 rfl) ?_
    refine sj_callRi (As := [.int sp, .long ky]) (rest := []) ⟨hx, hb, hml, hown, hts⟩ (metX1_from l dC dI dJ dN dZ h ka1 sa1 na1 cap1 n g1 g2 g3 (by omega) (by omega) sp ky r0 hr0 (fun j hj => by rw [e1 j (by omega), e2 j (by omega)]; exact hb1 j hj) (fun j hj1 hj2 => by rw [e1 j hj2, e2 j hj2]; exact hb2 j hj1 hj2)) (cwV 2 hts (lw_V q113 q115 qs1 q12 q116) rfl rfl rfl (by decide +kernel) ⟨Nat.le_of_ble_eq_true rfl, Nat.le_of_ble_eq_true rfl⟩) hK hP [0, 1, 2, 3] rfl 1 rfl rfl rfl rfl hl.1 rfl (Nat.le_of_ble_eq_true rfl) dX1_insert_19 ⟨(Nat.le_of_ble_eq_true rfl), (Nat.le_of_ble_eq_true rfl)⟩ (fun v hv => ?_)
    subst hv
    have loop : ∀ (fu : Nat) (i : Nat) (f1 : Nat → Int64) (f2 : Nat → Int32) (f3 : Nat → Int64) (H : Heap) (locs : List Loc) (ls : Array Slot), (i < fu) → (r0 ≤ i) → (i ≤ n) → (∀ j, j < i → f1 j = fk j) → (∀ j, j < i → f2 j = fs j) → (∀ j, j < i → f3 j = fn j) → (∀ j, i < j → j ≤ n → f1 j = fk (j - 1)) → (∀ j, i < j → j ≤ n → f2 j = fs (j - 1)) → (∀ j, i < j → j ≤ n → f3 j = fn (j - 1)) → va_P (dC, dI) vwCl [(h, .inr (1, [.ref ka1, .ref sa1, .ref na1, .int (nI n)])), (ka1, .inl (dJ, cap1, .inr (.inl f1))), (sa1, .inl (dN, cap1, .inl f2)), (na1, .inl (dJ, cap1, .inr (.inl f3)))] H → va_D A [(h, .inr (1, [.ref ka1, .ref sa1, .ref na1, .int (nI n)])), (ka1, .inl (dJ, cap1, .inr (.inl f1))), (sa1, .inl (dN, cap1, .inl f2)), (na1, .inl (dJ, cap1, .inr (.inl f3)))] → va_S A s.heap H locs → lv_has ls 8 [(0, .ref h), (1, .int sp), (2, .long ky), (4, .long x), (6, .int (nI r0)), (7, .int (nI i))] → W p l e (headSpec (ws_ yX1_insert cX1_insert 8 none) ({ frames := 2, cells := 3, slots := 384, locals := 50 })).room s m ([.ref h, .int sp, .long ky, .long x] : List Value).toArray below meth c H locs 3 384 (MQ below (va_Qv (fun u : Nat × Nat × Nat × Nat × (Nat → Int64) × (Nat → Int32) × (Nat → Int64) => u.2.2.2.1 ≤ 128 ∧ 16 ≤ u.2.2.2.1 ∧ n + 1 ≤ u.2.2.2.1 ∧ (∀ j, j ≤ n → u.2.2.2.2.1 j = sj_ins fk r0 ky j) ∧ (∀ j, j ≤ n → u.2.2.2.2.2.1 j = sj_ins fs r0 sp j) ∧ (∀ j, j ≤ n → u.2.2.2.2.2.2 j = sj_ins fn r0 x j)) (sj_B (dC, dI) A (fun u : Nat × Nat × Nat × Nat × (Nat → Int64) × (Nat → Int32) × (Nat → Int64) => [(h, .inr (1, [.ref u.1, .ref u.2.1, .ref u.2.2.1, .int (nI (n + 1))])), (u.1, .inl (dJ, u.2.2.2.1, .inr (.inl u.2.2.2.2.1))), (u.2.1, .inl (dN, u.2.2.2.1, .inl u.2.2.2.2.2.1)), (u.2.2.1, .inl (dJ, u.2.2.2.1, .inr (.inl u.2.2.2.2.2.2)))])) A) ([.ref h, .int sp, .long ky, .long x] : List Value).toArray s 3 384 A) (F0 m 30 ls []) := by
      intro fu
      induction fu with
      | zero => intro i f1 f2 f3 H locs ls h1; exact absurd h1 (by omega)
      | succ fu ih =>
        intro i f1 f2 f3 H locs ls h1 h2 h3 i1 i2 i3 k1 k2 k3 hP hD hS hl
        refine lv_iload hx hb dX1_insert_30 (lv_at hl 5 rfl) ?_
        refine lv_iload hx hb dX1_insert_32 (lv_at hl 4 rfl) ?_
        refine sj_nle (a := i) (b := r0) (tgt := 91) hx hb dX1_insert_34 (by decide) (by omega) (by omega) (fun c34 => ?_) (fun c34 => ?_)
        · skip
          refine lv_aload_n hx hb dX1_insert_91 rfl (lv_at hl 0 rfl) ?_
          refine va_get (D := (dC, dI)) (ci := 1) (v := .ref ka1) (C := RX1) (T := TX1) (N := 4) hx hb hts in_X1 hown hK hP 0 rfl rfl 0 (by decide) (hts _ q30) (fun _ h9 => h9) rfl dX1_insert_92 ?_
          refine lv_iload hx hb dX1_insert_95 (lv_at hl 4 rfl) ?_
          refine lv_lload_n hx hb dX1_insert_97 rfl (lv_at hl 2 rfl) ?_
          refine sj_last hx hb hK hP hD hS 1 0 rfl rfl r0 rfl (by omega) (by omega) dX1_insert_98 (fun H locs hP hD hS => ?_)
          have hP : va_P (dC, dI) vwCl [(h, .inr (1, [.ref ka1, .ref sa1, .ref na1, .int (nI n)])), (ka1, .inl (dJ, cap1, .inr (.inl (vp_updL f1 r0 ky)))), (sa1, .inl (dN, cap1, .inl f2)), (na1, .inl (dJ, cap1, .inr (.inl f3)))] H := hP
          have hD : va_D A [(h, .inr (1, [.ref ka1, .ref sa1, .ref na1, .int (nI n)])), (ka1, .inl (dJ, cap1, .inr (.inl (vp_updL f1 r0 ky)))), (sa1, .inl (dN, cap1, .inl f2)), (na1, .inl (dJ, cap1, .inr (.inl f3)))] := hD
          refine lv_aload_n hx hb dX1_insert_99 rfl (lv_at hl 0 rfl) ?_
          refine va_get (D := (dC, dI)) (ci := 1) (v := .ref sa1) (C := RX1) (T := TX1) (N := 4) hx hb hts in_X1 hown hK hP 0 rfl rfl 1 (by decide) (hts _ q31) (fun _ h9 => h9) rfl dX1_insert_100 ?_
          refine lv_iload hx hb dX1_insert_103 (lv_at hl 4 rfl) ?_
          refine lv_iload_n hx hb dX1_insert_105 rfl (lv_at hl 1 rfl) ?_
          refine sj_iast hx hb hK hP hD hS 2 1 rfl rfl r0 rfl (by omega) (by omega) dX1_insert_106 (fun H locs hP hD hS => ?_)
          have hP : va_P (dC, dI) vwCl [(h, .inr (1, [.ref ka1, .ref sa1, .ref na1, .int (nI n)])), (ka1, .inl (dJ, cap1, .inr (.inl (vp_updL f1 r0 ky)))), (sa1, .inl (dN, cap1, .inl (upd f2 r0 sp))), (na1, .inl (dJ, cap1, .inr (.inl f3)))] H := hP
          have hD : va_D A [(h, .inr (1, [.ref ka1, .ref sa1, .ref na1, .int (nI n)])), (ka1, .inl (dJ, cap1, .inr (.inl (vp_updL f1 r0 ky)))), (sa1, .inl (dN, cap1, .inl (upd f2 r0 sp))), (na1, .inl (dJ, cap1, .inr (.inl f3)))] := hD
          refine lv_aload_n hx hb dX1_insert_107 rfl (lv_at hl 0 rfl) ?_
          refine va_get (D := (dC, dI)) (ci := 1) (v := .ref na1) (C := RX1) (T := TX1) (N := 4) hx hb hts in_X1 hown hK hP 0 rfl rfl 2 (by decide) (hts _ q32) (fun _ h9 => h9) rfl dX1_insert_108 ?_
          refine lv_iload hx hb dX1_insert_111 (lv_at hl 4 rfl) ?_
          refine lv_lload hx hb dX1_insert_113 (lv_at hl 3 rfl) ?_
          refine sj_last hx hb hK hP hD hS 3 0 rfl rfl r0 rfl (by omega) (by omega) dX1_insert_115 (fun H locs hP hD hS => ?_)
          have hP : va_P (dC, dI) vwCl [(h, .inr (1, [.ref ka1, .ref sa1, .ref na1, .int (nI n)])), (ka1, .inl (dJ, cap1, .inr (.inl (vp_updL f1 r0 ky)))), (sa1, .inl (dN, cap1, .inl (upd f2 r0 sp))), (na1, .inl (dJ, cap1, .inr (.inl (vp_updL f3 r0 x))))] H := hP
          have hD : va_D A [(h, .inr (1, [.ref ka1, .ref sa1, .ref na1, .int (nI n)])), (ka1, .inl (dJ, cap1, .inr (.inl (vp_updL f1 r0 ky)))), (sa1, .inl (dN, cap1, .inl (upd f2 r0 sp))), (na1, .inl (dJ, cap1, .inr (.inl (vp_updL f3 r0 x))))] := hD
          refine lv_aload_n hx hb dX1_insert_116 rfl (lv_at hl 0 rfl) ?_
          refine lv_dup hx hb dX1_insert_117 rfl ?_
          refine va_get (D := (dC, dI)) (ci := 1) (v := .int (nI n)) (C := RX1) (T := TX1) (N := 4) hx hb hts in_X1 hown hK hP 0 rfl rfl 3 (by decide) (hts _ q34) (fun _ h9 => h9) rfl dX1_insert_118 ?_
          refine lv_iconst (v := 1) hx hb dX1_insert_121 (by decide) ?_
          refine lv_iadd hx hb dX1_insert_122 ?_
          refine sj_cvi (y := nI (n + 1)) (nI_1 n) ?_
          refine va_put (D := (dC, dI)) (ci := 1) (v := .int (nI (n + 1))) (ty := .int) (C := RX1) (T := TX1) (N := 4) hx hb hts in_X1 tyX1 tyX1_ok nmX1 hown hK hP hD hS 0 rfl rfl 3 (by decide) (hts _ q34) (fun _ h9 => h9) rfl (by decide +kernel) rfl rfl (Nat.le_of_ble_eq_true rfl) dX1_insert_123 (fun H locs hP hD hS => ?_)
          have hP : va_P (dC, dI) vwCl [(h, .inr (1, [.ref ka1, .ref sa1, .ref na1, .int (nI (n + 1))])), (ka1, .inl (dJ, cap1, .inr (.inl (vp_updL f1 r0 ky)))), (sa1, .inl (dN, cap1, .inl (upd f2 r0 sp))), (na1, .inl (dJ, cap1, .inr (.inl (vp_updL f3 r0 x))))] H := hP
          have hD : va_D A [(h, .inr (1, [.ref ka1, .ref sa1, .ref na1, .int (nI (n + 1))])), (ka1, .inl (dJ, cap1, .inr (.inl (vp_updL f1 r0 ky)))), (sa1, .inl (dN, cap1, .inl (upd f2 r0 sp))), (na1, .inl (dJ, cap1, .inr (.inl (vp_updL f3 r0 x))))] := hD
          exact W.vret hx hb hr (fun t ht hW => ⟨⟨(ka1, sa1, na1, cap1, vp_updL f1 r0 ky, upd f2 r0 sp, vp_updL f3 r0 x), rfl, ⟨hk1, hk2, hk3, sj_insEnd (fun _ => rfl) (fun j hj => i1 j (by omega)) (fun j ha => k1 j (by omega)), sj_insEnd (fun _ => rfl) (fun j hj => i2 j (by omega)) (fun j ha => k2 j (by omega)), sj_insEnd (fun _ => rfl) (fun j hj => i3 j (by omega)) (fun j ha => k3 j (by omega))⟩, by rw [ht]; exact hP, hD⟩, hS.F ht⟩) hS.2.2 dX1_insert_126
        · skip
          obtain ⟨y, rfl⟩ : ∃ y, i = y + 1 := ⟨i - 1, by omega⟩
          refine lv_aload_n hx hb dX1_insert_37 rfl (lv_at hl 0 rfl) ?_
          refine va_get (D := (dC, dI)) (ci := 1) (v := .ref ka1) (C := RX1) (T := TX1) (N := 4) hx hb hts in_X1 hown hK hP 0 rfl rfl 0 (by decide) (hts _ q30) (fun _ h9 => h9) rfl dX1_insert_38 ?_
          refine lv_iload hx hb dX1_insert_41 (lv_at hl 5 rfl) ?_
          refine lv_aload_n hx hb dX1_insert_43 rfl (lv_at hl 0 rfl) ?_
          refine va_get (D := (dC, dI)) (ci := 1) (v := .ref ka1) (C := RX1) (T := TX1) (N := 4) hx hb hts in_X1 hown hK hP 0 rfl rfl 0 (by decide) (hts _ q30) (fun _ h9 => h9) rfl dX1_insert_44 ?_
          refine lv_iload hx hb dX1_insert_47 (lv_at hl 5 rfl) ?_
          refine lv_iconst (v := 1) hx hb dX1_insert_49 (by decide) ?_
          refine lv_isub hx hb dX1_insert_50 ?_
          refine sj_cvi (y := nI y) (nI_pred y) ?_
          refine sj_lald hx hb hK hP 1 0 rfl rfl y rfl (by omega) (by omega) dX1_insert_51 ?_
          refine sj_last hx hb hK hP hD hS 1 0 rfl rfl (y + 1) rfl (by omega) (by omega) dX1_insert_52 (fun H locs hP hD hS => ?_)
          have hP : va_P (dC, dI) vwCl [(h, .inr (1, [.ref ka1, .ref sa1, .ref na1, .int (nI n)])), (ka1, .inl (dJ, cap1, .inr (.inl (vp_updL f1 (y + 1) (f1 y))))), (sa1, .inl (dN, cap1, .inl f2)), (na1, .inl (dJ, cap1, .inr (.inl f3)))] H := hP
          have hD : va_D A [(h, .inr (1, [.ref ka1, .ref sa1, .ref na1, .int (nI n)])), (ka1, .inl (dJ, cap1, .inr (.inl (vp_updL f1 (y + 1) (f1 y))))), (sa1, .inl (dN, cap1, .inl f2)), (na1, .inl (dJ, cap1, .inr (.inl f3)))] := hD
          refine lv_aload_n hx hb dX1_insert_53 rfl (lv_at hl 0 rfl) ?_
          refine va_get (D := (dC, dI)) (ci := 1) (v := .ref sa1) (C := RX1) (T := TX1) (N := 4) hx hb hts in_X1 hown hK hP 0 rfl rfl 1 (by decide) (hts _ q31) (fun _ h9 => h9) rfl dX1_insert_54 ?_
          refine lv_iload hx hb dX1_insert_57 (lv_at hl 5 rfl) ?_
          refine lv_aload_n hx hb dX1_insert_59 rfl (lv_at hl 0 rfl) ?_
          refine va_get (D := (dC, dI)) (ci := 1) (v := .ref sa1) (C := RX1) (T := TX1) (N := 4) hx hb hts in_X1 hown hK hP 0 rfl rfl 1 (by decide) (hts _ q31) (fun _ h9 => h9) rfl dX1_insert_60 ?_
          refine lv_iload hx hb dX1_insert_63 (lv_at hl 5 rfl) ?_
          refine lv_iconst (v := 1) hx hb dX1_insert_65 (by decide) ?_
          refine lv_isub hx hb dX1_insert_66 ?_
          refine sj_cvi (y := nI y) (nI_pred y) ?_
          refine sj_iald hx hb hK hP 2 1 rfl rfl y rfl (by omega) (by omega) dX1_insert_67 ?_
          refine sj_iast hx hb hK hP hD hS 2 1 rfl rfl (y + 1) rfl (by omega) (by omega) dX1_insert_68 (fun H locs hP hD hS => ?_)
          have hP : va_P (dC, dI) vwCl [(h, .inr (1, [.ref ka1, .ref sa1, .ref na1, .int (nI n)])), (ka1, .inl (dJ, cap1, .inr (.inl (vp_updL f1 (y + 1) (f1 y))))), (sa1, .inl (dN, cap1, .inl (upd f2 (y + 1) (f2 y)))), (na1, .inl (dJ, cap1, .inr (.inl f3)))] H := hP
          have hD : va_D A [(h, .inr (1, [.ref ka1, .ref sa1, .ref na1, .int (nI n)])), (ka1, .inl (dJ, cap1, .inr (.inl (vp_updL f1 (y + 1) (f1 y))))), (sa1, .inl (dN, cap1, .inl (upd f2 (y + 1) (f2 y)))), (na1, .inl (dJ, cap1, .inr (.inl f3)))] := hD
          refine lv_aload_n hx hb dX1_insert_69 rfl (lv_at hl 0 rfl) ?_
          refine va_get (D := (dC, dI)) (ci := 1) (v := .ref na1) (C := RX1) (T := TX1) (N := 4) hx hb hts in_X1 hown hK hP 0 rfl rfl 2 (by decide) (hts _ q32) (fun _ h9 => h9) rfl dX1_insert_70 ?_
          refine lv_iload hx hb dX1_insert_73 (lv_at hl 5 rfl) ?_
          refine lv_aload_n hx hb dX1_insert_75 rfl (lv_at hl 0 rfl) ?_
          refine va_get (D := (dC, dI)) (ci := 1) (v := .ref na1) (C := RX1) (T := TX1) (N := 4) hx hb hts in_X1 hown hK hP 0 rfl rfl 2 (by decide) (hts _ q32) (fun _ h9 => h9) rfl dX1_insert_76 ?_
          refine lv_iload hx hb dX1_insert_79 (lv_at hl 5 rfl) ?_
          refine lv_iconst (v := 1) hx hb dX1_insert_81 (by decide) ?_
          refine lv_isub hx hb dX1_insert_82 ?_
          refine sj_cvi (y := nI y) (nI_pred y) ?_
          refine sj_lald hx hb hK hP 3 0 rfl rfl y rfl (by omega) (by omega) dX1_insert_83 ?_
          refine sj_last hx hb hK hP hD hS 3 0 rfl rfl (y + 1) rfl (by omega) (by omega) dX1_insert_84 (fun H locs hP hD hS => ?_)
          have hP : va_P (dC, dI) vwCl [(h, .inr (1, [.ref ka1, .ref sa1, .ref na1, .int (nI n)])), (ka1, .inl (dJ, cap1, .inr (.inl (vp_updL f1 (y + 1) (f1 y))))), (sa1, .inl (dN, cap1, .inl (upd f2 (y + 1) (f2 y)))), (na1, .inl (dJ, cap1, .inr (.inl (vp_updL f3 (y + 1) (f3 y)))))] H := hP
          have hD : va_D A [(h, .inr (1, [.ref ka1, .ref sa1, .ref na1, .int (nI n)])), (ka1, .inl (dJ, cap1, .inr (.inl (vp_updL f1 (y + 1) (f1 y))))), (sa1, .inl (dN, cap1, .inl (upd f2 (y + 1) (f2 y)))), (na1, .inl (dJ, cap1, .inr (.inl (vp_updL f3 (y + 1) (f3 y)))))] := hD
          refine lv_iinc (v := nI y) (lv' := [(7, .int (nI y)), (0, .ref h), (1, .int sp), (2, .long ky), (4, .long x), (6, .int (nI r0))]) hx hb dX1_insert_85 hl (k := 5) rfl (by first | exact pk_m1 y | (rw [show (Int32.ofInt (-1) : Int32) = -1 from by decide]; exact pk_m1 y)) (by decide) rfl (fun ls hl => ?_)
          refine lv_goto (tgt := 30) hx hb dX1_insert_88 (by decide) ?_
          exact ih y _ _ _ H locs ls (by omega) (by omega) (by omega) (sj_insLo (fun _ => rfl) i1) (sj_insLo (fun _ => rfl) i2) (sj_insLo (fun _ => rfl) i3) (sj_insHi (fun _ => rfl) k1 (i1 y (by omega))) (sj_insHi (fun _ => rfl) k2 (i2 y (by omega))) (sj_insHi (fun _ => rfl) k3 (i3 y (by omega))) hP hD hS (lv_sub hl [1, 2, 3, 4, 5, 0] rfl)
    refine lv_istore (lv' := [(6, .int (nI r0)), (0, .ref h), (1, .int sp), (2, .long ky), (4, .long x)]) hx hb dX1_insert_22 hl (by decide) rfl (fun ls hl => ?_)
    refine lv_aload_n hx hb dX1_insert_24 rfl (lv_at hl 1 rfl) ?_
    refine va_get (D := (dC, dI)) (ci := 1) (v := .int (nI n)) (C := RX1) (T := TX1) (N := 4) hx hb hts in_X1 hown hK hP 0 rfl rfl 3 (by decide) (hts _ q34) (fun _ h9 => h9) rfl dX1_insert_25 ?_
    refine lv_istore (lv' := [(7, .int (nI n)), (6, .int (nI r0)), (0, .ref h), (1, .int sp), (2, .long ky), (4, .long x)]) hx hb dX1_insert_28 hl (by decide) rfl (fun ls hl => ?_)
    exact loop (n + 1) n _ _ _ H locs ls (by omega) hr0 (Nat.le_refl _) e1 e2 e3 (fun j h1 h2 => absurd h1 (by omega)) (fun j h1 h2 => absurd h1 (by omega)) (fun j h1 h2 => absurd h1 (by omega)) hP hD hS (lv_sub hl [2, 3, 4, 5, 1, 0] rfl)
  refine lv_aload_n hx hb dX1_insert_0 rfl (lv_at hl 0 rfl) ?_
  refine va_get (D := (dC, dI)) (ci := 1) (v := .int (nI n)) (C := RX1) (T := TX1) (N := 4) hx hb hts in_X1 hown hK hP 0 rfl rfl 3 (by decide) (hts _ q34) (fun _ h9 => h9) rfl dX1_insert_1 ?_
  refine lv_aload_n hx hb dX1_insert_4 rfl (lv_at hl 0 rfl) ?_
  refine va_get (D := (dC, dI)) (ci := 1) (v := .ref ka) (C := RX1) (T := TX1) (N := 4) hx hb hts in_X1 hown hK hP 0 rfl rfl 0 (by decide) (hts _ q30) (fun _ h9 => h9) rfl dX1_insert_5 ?_
  refine va_alen (v := nI cap) hx hb hK hP 1 0 rfl rfl rfl dX1_insert_8 ?_
  refine sj_nne (a := n) (b := cap) (tgt := 16) hx hb dX1_insert_9 (by decide) (by omega) (by omega) (fun c9 => ?_) (fun c9 => ?_)
  · skip
    refine W.widen (k := 3) (n := 384) (Nat.le_of_ble_eq_true rfl) (Nat.le_of_ble_eq_true rfl) ?_
    exact tail ka sa na cap fk fs fn s.heap [] ls hcap hc16 (by omega) (fun _ _ => rfl) (fun _ _ => rfl) (fun _ _ => rfl) hP hD hS (lv_sub hl [0, 1, 2, 3] rfl)
  · skip
    refine lv_aload_n hx hb dX1_insert_12 rfl (lv_at hl 0 rfl) ?_
    refine sj_callWv (As := []) (rest := []) (wr := []) ⟨hx, hb, hml, hown, hts⟩ (metX1_grow l dC dI dJ dN dZ _ h ka sa na cap n fk fs fn (by omega) hn (by omega)) (cwV 0 hts (lw_V q144 q146 qs4 q12 q147) rfl rfl rfl (by decide +kernel) ⟨Nat.le_of_ble_eq_true rfl, Nat.le_of_ble_eq_true rfl⟩) hK hP hD hS hA [0, 1, 2, 3] [] rfl rfl rfl (by decide) (by decide) (by decide) 1 rfl rfl rfl rfl hl.1 rfl (Nat.le_of_ble_eq_true rfl) dX1_insert_13 ⟨(Nat.le_of_ble_eq_true rfl), (Nat.le_of_ble_eq_true rfl)⟩ (fun u H locs hw hP hD hS => ?_)
    have hP : va_P (dC, dI) vwCl [(h, .inr (1, [.ref u.1, .ref u.2.1, .ref u.2.2.1, .int (nI n)])), (u.1, .inl (dJ, (2 * n), .inr (.inl u.2.2.2.1))), (u.2.1, .inl (dN, (2 * n), .inl u.2.2.2.2.1)), (u.2.2.1, .inl (dJ, (2 * n), .inr (.inl u.2.2.2.2.2)))] H := hP
    have hD : va_D A [(h, .inr (1, [.ref u.1, .ref u.2.1, .ref u.2.2.1, .int (nI n)])), (u.1, .inl (dJ, (2 * n), .inr (.inl u.2.2.2.1))), (u.2.1, .inl (dN, (2 * n), .inl u.2.2.2.2.1)), (u.2.2.1, .inl (dJ, (2 * n), .inr (.inl u.2.2.2.2.2)))] := hD
    obtain ⟨e1, e2, e3⟩ := hw
    exact tail _ _ _ (2 * n) _ _ _ H locs ls (by omega) (by omega) (by omega) e1 e2 e3 hP hD hS (lv_sub hl [0, 1, 2, 3] rfl)
end
section
/-! SPANS, shift -/
set_option maxRecDepth 100000
set_option maxHeartbeats 4000000 in
set_option maxRecDepth 100000 in
/-- shift(): the first goes -/
theorem metX1_shift (l : Launch) (dC : Nat → ClassId) (dI : Nat → Nat → Nat) (dJ dN dZ : ClassId) (sz : Nat) (h ka sa na cap n : Nat) (fk : Nat → Int64) (fs : Nat → Int32) (fn : Nat → Int64) (hcap : cap ≤ 1000) (hn : n + 1 ≤ cap) : Met l yX1_shift (ws_ yX1_shift cX1_shift 2 none) ({ frames := 0, cells := 0, slots := 0, locals := 0 }) (sj_Pw (dC, dI) [(h, .inr (1, [.ref ka, .ref sa, .ref na, .int (nI (n + 1))])), (ka, .inl (dJ, cap, .inr (.inl fk))), (sa, .inl (dN, cap, .inl fs)), (na, .inl (dJ, cap, .inr (.inl fn)))] (sj_t dJ dN dZ) sz [.ref h]) (va_Qv (fun u : (Nat → Int64) × (Nat → Int32) × (Nat → Int64) => (∀ j, j < n → u.1 j = fk (j + 1)) ∧ (∀ j, j < n → u.2.1 j = fs (j + 1)) ∧ (∀ j, j < n → u.2.2 j = fn (j + 1))) (sj_B (dC, dI) (va_A [(h, .inr (1, [.ref ka, .ref sa, .ref na, .int (nI (n + 1))])), (ka, .inl (dJ, cap, .inr (.inl fk))), (sa, .inl (dN, cap, .inl fs)), (na, .inl (dJ, cap, .inr (.inl fn)))] sz) (fun u : (Nat → Int64) × (Nat → Int32) × (Nat → Int64) => [(h, .inr (1, [.ref ka, .ref sa, .ref na, .int (nI n)])), (ka, .inl (dJ, cap, .inr (.inl u.1))), (sa, .inl (dN, cap, .inl u.2.1)), (na, .inl (dJ, cap, .inr (.inl u.2.2)))])) (va_A [(h, .inr (1, [.ref ka, .ref sa, .ref na, .int (nI (n + 1))])), (ka, .inl (dJ, cap, .inr (.inl fk))), (sa, .inl (dN, cap, .inl fs)), (na, .inl (dJ, cap, .inr (.inl fn)))] sz)) 0 0 (va_A [(h, .inr (1, [.ref ka, .ref sa, .ref na, .int (nI (n + 1))])), (ka, .inl (dJ, cap, .inr (.inl fk))), (sa, .inl (dN, cap, .inl fs)), (na, .inl (dJ, cap, .inr (.inl fn)))] sz) := by
  refine Met.ofW (cc := cX1_shift) (maxL := 2) (ret := none) (by decide) rfl ?_
  intro p e s m args below meth c s₁ B hml hv
  obtain ⟨rfl, hsz, hP, hK, hD0⟩ := hv
  have hx := B.exec
  have hb := B.bytes
  have hr := B.returns
  have hlocks := B.notSynchronized
  have hts := atoms_spec (ws := (ws_ yX1_shift cX1_shift 2 none)) B.pre
  have hts : ∀ w ∈ lw_all, w.before _ s = true := fun w h => hts w (List.mem_cons_of_mem _ h)
  have hown : s.vm.findClass RX1 = some m.cls := findClass_of_methodNamed B.named
  subst hsz
  have hD := hD0.self (sz := s.heap.size)
  generalize hAe : va_A [(h, .inr (1, [.ref ka, .ref sa, .ref na, .int (nI (n + 1))])), (ka, .inl (dJ, cap, .inr (.inl fk))), (sa, .inl (dN, cap, .inl fs)), (na, .inl (dJ, cap, .inr (.inl fn)))] s.heap.size = A at hD ⊢
  have hA : ∀ q : Nat, s.heap.size ≤ q → A q := fun q h => by rw [← hAe]; exact Or.inr h
  have hS : va_S A s.heap s.heap [] := va_S.rf
  have hP : va_P (dC, dI) vwCl [(h, .inr (1, [.ref ka, .ref sa, .ref na, .int (nI (n + 1))])), (ka, .inl (dJ, cap, .inr (.inl fk))), (sa, .inl (dN, cap, .inl fs)), (na, .inl (dJ, cap, .inr (.inl fn)))] s.heap := hP
  have hl := lv_entry ([.ref h]) (n := 2) (Nat.le_of_ble_eq_true rfl)
  rw [lg_entry_eq]
  generalize (lg_sl ([.ref h]) ++ List.replicate (2 - (lg_sl ([.ref h])).length) Slot.unset).toArray = ls at hl ⊢
  have hl : lv_has ls 2 [(0, .ref h)] := hl
  refine lv_aload_n hx hb dX1_shift_0 rfl (lv_at hl 0 rfl) ?_
  refine lv_dup hx hb dX1_shift_1 rfl ?_
  refine va_get (D := (dC, dI)) (ci := 1) (v := .int (nI (n + 1))) (C := RX1) (T := TX1) (N := 4) hx hb hts in_X1 hown hK hP 0 rfl rfl 3 (by decide) (hts _ q34) (fun _ h9 => h9) rfl dX1_shift_2 ?_
  refine lv_iconst (v := 1) hx hb dX1_shift_5 (by decide) ?_
  refine lv_isub hx hb dX1_shift_6 ?_
  refine sj_cvi (y := nI n) (nI_pred n) ?_
  refine va_put (D := (dC, dI)) (ci := 1) (v := .int (nI n)) (ty := .int) (C := RX1) (T := TX1) (N := 4) hx hb hts in_X1 tyX1 tyX1_ok nmX1 hown hK hP hD hS 0 rfl rfl 3 (by decide) (hts _ q34) (fun _ h9 => h9) rfl (by decide +kernel) rfl rfl (Nat.le_of_ble_eq_true rfl) dX1_shift_7 (fun H locs hP hD hS => ?_)
  have hP : va_P (dC, dI) vwCl [(h, .inr (1, [.ref ka, .ref sa, .ref na, .int (nI n)])), (ka, .inl (dJ, cap, .inr (.inl fk))), (sa, .inl (dN, cap, .inl fs)), (na, .inl (dJ, cap, .inr (.inl fn)))] H := hP
  have hD : va_D A [(h, .inr (1, [.ref ka, .ref sa, .ref na, .int (nI n)])), (ka, .inl (dJ, cap, .inr (.inl fk))), (sa, .inl (dN, cap, .inl fs)), (na, .inl (dJ, cap, .inr (.inl fn)))] := hD
  refine lv_iconst (v := nI 0) hx hb dX1_shift_10 (by decide) ?_
  refine lv_istore_n (lv' := [(1, .int (nI 0)), (0, .ref h)]) hx hb dX1_shift_11 rfl hl (by decide) rfl (fun ls hl => ?_)
  have loop : ∀ (fu : Nat) (i : Nat) (f1 : Nat → Int64) (f2 : Nat → Int32) (f3 : Nat → Int64) (H : Heap) (locs : List Loc) (ls : Array Slot), (n - i < fu) → (i ≤ n) → (∀ j, j < i → f1 j = fk (j + 1)) → (∀ j, j < i → f2 j = fs (j + 1)) → (∀ j, j < i → f3 j = fn (j + 1)) → (∀ j, i ≤ j → f1 j = fk j) → (∀ j, i ≤ j → f2 j = fs j) → (∀ j, i ≤ j → f3 j = fn j) → va_P (dC, dI) vwCl [(h, .inr (1, [.ref ka, .ref sa, .ref na, .int (nI n)])), (ka, .inl (dJ, cap, .inr (.inl f1))), (sa, .inl (dN, cap, .inl f2)), (na, .inl (dJ, cap, .inr (.inl f3)))] H → va_D A [(h, .inr (1, [.ref ka, .ref sa, .ref na, .int (nI n)])), (ka, .inl (dJ, cap, .inr (.inl f1))), (sa, .inl (dN, cap, .inl f2)), (na, .inl (dJ, cap, .inr (.inl f3)))] → va_S A s.heap H locs → lv_has ls 2 [(0, .ref h), (1, .int (nI i))] → W p l e (headSpec (ws_ yX1_shift cX1_shift 2 none) ({ frames := 0, cells := 0, slots := 0, locals := 0 })).room s m ([.ref h] : List Value).toArray below meth c H locs 0 0 (MQ below (va_Qv (fun u : (Nat → Int64) × (Nat → Int32) × (Nat → Int64) => (∀ j, j < n → u.1 j = fk (j + 1)) ∧ (∀ j, j < n → u.2.1 j = fs (j + 1)) ∧ (∀ j, j < n → u.2.2 j = fn (j + 1))) (sj_B (dC, dI) A (fun u : (Nat → Int64) × (Nat → Int32) × (Nat → Int64) => [(h, .inr (1, [.ref ka, .ref sa, .ref na, .int (nI n)])), (ka, .inl (dJ, cap, .inr (.inl u.1))), (sa, .inl (dN, cap, .inl u.2.1)), (na, .inl (dJ, cap, .inr (.inl u.2.2)))])) A) ([.ref h] : List Value).toArray s 0 0 A) (F0 m 12 ls []) := by
    intro fu
    induction fu with
    | zero => intro i f1 f2 f3 H locs ls h1; exact absurd h1 (by omega)
    | succ fu ih =>
      intro i f1 f2 f3 H locs ls h1 h2 i1 i2 i3 k1 k2 k3 hP hD hS hl
      refine lv_iload_n hx hb dX1_shift_12 rfl (lv_at hl 1 rfl) ?_
      refine lv_aload_n hx hb dX1_shift_13 rfl (lv_at hl 0 rfl) ?_
      refine va_get (D := (dC, dI)) (ci := 1) (v := .int (nI n)) (C := RX1) (T := TX1) (N := 4) hx hb hts in_X1 hown hK hP 0 rfl rfl 3 (by decide) (hts _ q34) (fun _ h9 => h9) rfl dX1_shift_14 ?_
      refine sj_nge (a := i) (b := n) (tgt := 68) hx hb dX1_shift_17 (by decide) (by omega) (by omega) (fun c17 => ?_) (fun c17 => ?_)
      · skip
        exact W.vret hx hb hr (fun t ht hW => ⟨⟨(f1, f2, f3), rfl, ⟨fun j hj => i1 j (by omega), fun j hj => i2 j (by omega), fun j hj => i3 j (by omega)⟩, by rw [ht]; exact hP, hD⟩, hS.F ht⟩) hS.2.2 dX1_shift_68
      · skip
        refine lv_aload_n hx hb dX1_shift_20 rfl (lv_at hl 0 rfl) ?_
        refine va_get (D := (dC, dI)) (ci := 1) (v := .ref ka) (C := RX1) (T := TX1) (N := 4) hx hb hts in_X1 hown hK hP 0 rfl rfl 0 (by decide) (hts _ q30) (fun _ h9 => h9) rfl dX1_shift_21 ?_
        refine lv_iload_n hx hb dX1_shift_24 rfl (lv_at hl 1 rfl) ?_
        refine lv_aload_n hx hb dX1_shift_25 rfl (lv_at hl 0 rfl) ?_
        refine va_get (D := (dC, dI)) (ci := 1) (v := .ref ka) (C := RX1) (T := TX1) (N := 4) hx hb hts in_X1 hown hK hP 0 rfl rfl 0 (by decide) (hts _ q30) (fun _ h9 => h9) rfl dX1_shift_26 ?_
        refine lv_iload_n hx hb dX1_shift_29 rfl (lv_at hl 1 rfl) ?_
        refine lv_iconst (v := 1) hx hb dX1_shift_30 (by decide) ?_
        refine lv_iadd hx hb dX1_shift_31 ?_
        refine sj_cvi (y := nI (i + 1)) (nI_1 i) ?_
        refine sj_lald hx hb hK hP 1 0 rfl rfl (i + 1) rfl (by omega) (by omega) dX1_shift_32 ?_
        refine sj_last hx hb hK hP hD hS 1 0 rfl rfl i rfl (by omega) (by omega) dX1_shift_33 (fun H locs hP hD hS => ?_)
        have hP : va_P (dC, dI) vwCl [(h, .inr (1, [.ref ka, .ref sa, .ref na, .int (nI n)])), (ka, .inl (dJ, cap, .inr (.inl (vp_updL f1 i (f1 (i + 1)))))), (sa, .inl (dN, cap, .inl f2)), (na, .inl (dJ, cap, .inr (.inl f3)))] H := hP
        have hD : va_D A [(h, .inr (1, [.ref ka, .ref sa, .ref na, .int (nI n)])), (ka, .inl (dJ, cap, .inr (.inl (vp_updL f1 i (f1 (i + 1)))))), (sa, .inl (dN, cap, .inl f2)), (na, .inl (dJ, cap, .inr (.inl f3)))] := hD
        refine lv_aload_n hx hb dX1_shift_34 rfl (lv_at hl 0 rfl) ?_
        refine va_get (D := (dC, dI)) (ci := 1) (v := .ref sa) (C := RX1) (T := TX1) (N := 4) hx hb hts in_X1 hown hK hP 0 rfl rfl 1 (by decide) (hts _ q31) (fun _ h9 => h9) rfl dX1_shift_35 ?_
        refine lv_iload_n hx hb dX1_shift_38 rfl (lv_at hl 1 rfl) ?_
        refine lv_aload_n hx hb dX1_shift_39 rfl (lv_at hl 0 rfl) ?_
        refine va_get (D := (dC, dI)) (ci := 1) (v := .ref sa) (C := RX1) (T := TX1) (N := 4) hx hb hts in_X1 hown hK hP 0 rfl rfl 1 (by decide) (hts _ q31) (fun _ h9 => h9) rfl dX1_shift_40 ?_
        refine lv_iload_n hx hb dX1_shift_43 rfl (lv_at hl 1 rfl) ?_
        refine lv_iconst (v := 1) hx hb dX1_shift_44 (by decide) ?_
        refine lv_iadd hx hb dX1_shift_45 ?_
        refine sj_cvi (y := nI (i + 1)) (nI_1 i) ?_
        refine sj_iald hx hb hK hP 2 1 rfl rfl (i + 1) rfl (by omega) (by omega) dX1_shift_46 ?_
        refine sj_iast hx hb hK hP hD hS 2 1 rfl rfl i rfl (by omega) (by omega) dX1_shift_47 (fun H locs hP hD hS => ?_)
        have hP : va_P (dC, dI) vwCl [(h, .inr (1, [.ref ka, .ref sa, .ref na, .int (nI n)])), (ka, .inl (dJ, cap, .inr (.inl (vp_updL f1 i (f1 (i + 1)))))), (sa, .inl (dN, cap, .inl (upd f2 i (f2 (i + 1))))), (na, .inl (dJ, cap, .inr (.inl f3)))] H := hP
        have hD : va_D A [(h, .inr (1, [.ref ka, .ref sa, .ref na, .int (nI n)])), (ka, .inl (dJ, cap, .inr (.inl (vp_updL f1 i (f1 (i + 1)))))), (sa, .inl (dN, cap, .inl (upd f2 i (f2 (i + 1))))), (na, .inl (dJ, cap, .inr (.inl f3)))] := hD
        refine lv_aload_n hx hb dX1_shift_48 rfl (lv_at hl 0 rfl) ?_
        refine va_get (D := (dC, dI)) (ci := 1) (v := .ref na) (C := RX1) (T := TX1) (N := 4) hx hb hts in_X1 hown hK hP 0 rfl rfl 2 (by decide) (hts _ q32) (fun _ h9 => h9) rfl dX1_shift_49 ?_
        refine lv_iload_n hx hb dX1_shift_52 rfl (lv_at hl 1 rfl) ?_
        refine lv_aload_n hx hb dX1_shift_53 rfl (lv_at hl 0 rfl) ?_
        refine va_get (D := (dC, dI)) (ci := 1) (v := .ref na) (C := RX1) (T := TX1) (N := 4) hx hb hts in_X1 hown hK hP 0 rfl rfl 2 (by decide) (hts _ q32) (fun _ h9 => h9) rfl dX1_shift_54 ?_
        refine lv_iload_n hx hb dX1_shift_57 rfl (lv_at hl 1 rfl) ?_
        refine lv_iconst (v := 1) hx hb dX1_shift_58 (by decide) ?_
        refine lv_iadd hx hb dX1_shift_59 ?_
        refine sj_cvi (y := nI (i + 1)) (nI_1 i) ?_
        refine sj_lald hx hb hK hP 3 0 rfl rfl (i + 1) rfl (by omega) (by omega) dX1_shift_60 ?_
        refine sj_last hx hb hK hP hD hS 3 0 rfl rfl i rfl (by omega) (by omega) dX1_shift_61 (fun H locs hP hD hS => ?_)
        have hP : va_P (dC, dI) vwCl [(h, .inr (1, [.ref ka, .ref sa, .ref na, .int (nI n)])), (ka, .inl (dJ, cap, .inr (.inl (vp_updL f1 i (f1 (i + 1)))))), (sa, .inl (dN, cap, .inl (upd f2 i (f2 (i + 1))))), (na, .inl (dJ, cap, .inr (.inl (vp_updL f3 i (f3 (i + 1))))))] H := hP
        have hD : va_D A [(h, .inr (1, [.ref ka, .ref sa, .ref na, .int (nI n)])), (ka, .inl (dJ, cap, .inr (.inl (vp_updL f1 i (f1 (i + 1)))))), (sa, .inl (dN, cap, .inl (upd f2 i (f2 (i + 1))))), (na, .inl (dJ, cap, .inr (.inl (vp_updL f3 i (f3 (i + 1))))))] := hD
        refine lv_iinc (v := nI (i + 1)) (lv' := [(1, .int (nI (i + 1))), (0, .ref h)]) hx hb dX1_shift_62 hl (k := 1) rfl (nI_1 _) (by decide) rfl (fun ls hl => ?_)
        refine lv_goto (tgt := 12) hx hb dX1_shift_65 (by decide) ?_
        exact ih (i + 1) _ _ _ H locs ls (by omega) (by omega) (sj_shLo (fun _ => rfl) i1 (k1 _ (by omega))) (sj_shLo (fun _ => rfl) i2 (k2 _ (by omega))) (sj_shLo (fun _ => rfl) i3 (k3 _ (by omega))) (sj_shHi (fun _ => rfl) k1) (sj_shHi (fun _ => rfl) k2) (sj_shHi (fun _ => rfl) k3) hP hD hS (lv_sub hl [1, 0] rfl)
  exact loop (n + 1) 0 _ _ _ H _ ls (by omega) (Nat.zero_le _) lt_0 lt_0 lt_0 (fun _ _ => rfl) (fun _ _ => rfl) (fun _ _ => rfl) hP hD hS (lv_sub hl [1, 0] rfl)
end
section
/-! OUTPUTS: contracts of SpanJobs$Outputs -/
set_option maxRecDepth 100000
set_option maxHeartbeats 4000000 in
set_option maxRecDepth 100000 in
/-- key(i) -/
theorem metX2_key (l : Launch) (dC : Nat → ClassId) (dI : Nat → Nat → Nat) (dJ dN dZ : ClassId) (h ka va wa cap n : Nat) (fk fv fw : Nat → Int64) (hcap : cap ≤ 1000) (i : Nat) (hi : i < cap) : Met l yX2_key (ws_ yX2_key cX2_key 2 (some .long)) ({ frames := 0, cells := 0, slots := 0, locals := 0 }) (sj_Pr (dC, dI) [(h, .inr (2, [.ref ka, .ref va, .ref wa, .int (nI n)])), (ka, .inl (dJ, cap, .inr (.inl fk))), (va, .inl (dJ, cap, .inr (.inl fv))), (wa, .inl (dJ, cap, .inr (.inl fw)))] (sj_t dJ dN dZ) [.ref h, .int (nI i)]) (vp_Sl (fun r => r = fk i)) 0 0 (fun _ => False) := by
  refine Met.ofW (cc := cX2_key) (maxL := 2) (ret := (some .long)) (by decide) rfl ?_
  intro p e s m args below meth c s₁ B hml hv
  obtain ⟨rfl, hP, hK⟩ := hv
  have hx := B.exec
  have hb := B.bytes
  have hr := B.returns
  have hlocks := B.notSynchronized
  have hts := atoms_spec (ws := (ws_ yX2_key cX2_key 2 (some .long))) B.pre
  have hts : ∀ w ∈ lw_all, w.before _ s = true := fun w h => hts w (List.mem_cons_of_mem _ h)
  have hown : s.vm.findClass RX2 = some m.cls := findClass_of_methodNamed B.named
  have hP : va_P (dC, dI) vwCl [(h, .inr (2, [.ref ka, .ref va, .ref wa, .int (nI n)])), (ka, .inl (dJ, cap, .inr (.inl fk))), (va, .inl (dJ, cap, .inr (.inl fv))), (wa, .inl (dJ, cap, .inr (.inl fw)))] s.heap := hP
  have hl := lv_entry ([.ref h, .int (nI i)]) (n := 2) (Nat.le_of_ble_eq_true rfl)
  rw [lg_entry_eq]
  generalize (lg_sl ([.ref h, .int (nI i)]) ++ List.replicate (2 - (lg_sl ([.ref h, .int (nI i)])).length) Slot.unset).toArray = ls at hl ⊢
  have hl : lv_has ls 2 [(0, .ref h), (1, .int (nI i))] := hl
  refine lv_aload_n hx hb dX2_key_0 rfl (lv_at hl 0 rfl) ?_
  refine va_get (D := (dC, dI)) (ci := 2) (v := .ref ka) (C := RX2) (T := TX2) (N := 4) hx hb hts in_X2 hown hK hP 0 rfl rfl 0 (by decide) (hts _ q52) (fun _ h9 => h9) rfl dX2_key_1 ?_
  refine lv_iload_n hx hb dX2_key_4 rfl (lv_at hl 1 rfl) ?_
  refine sj_lald hx hb hK hP 1 0 rfl rfl i rfl (by omega) (by omega) dX2_key_5 ?_
  exact W.lret (v := fk i) hx hb hr (fun t ht hW => ⟨fk i, rfl, rfl, ht⟩) t_nil dX2_key_6
set_option maxHeartbeats 4000000 in
set_option maxRecDepth 100000 in
/-- value(i) -/
theorem metX2_value (l : Launch) (dC : Nat → ClassId) (dI : Nat → Nat → Nat) (dJ dN dZ : ClassId) (h ka va wa cap n : Nat) (fk fv fw : Nat → Int64) (hcap : cap ≤ 1000) (i : Nat) (hi : i < cap) : Met l yX2_value (ws_ yX2_value cX2_value 2 (some .long)) ({ frames := 0, cells := 0, slots := 0, locals := 0 }) (sj_Pr (dC, dI) [(h, .inr (2, [.ref ka, .ref va, .ref wa, .int (nI n)])), (ka, .inl (dJ, cap, .inr (.inl fk))), (va, .inl (dJ, cap, .inr (.inl fv))), (wa, .inl (dJ, cap, .inr (.inl fw)))] (sj_t dJ dN dZ) [.ref h, .int (nI i)]) (vp_Sl (fun r => r = fv i)) 0 0 (fun _ => False) := by
  refine Met.ofW (cc := cX2_value) (maxL := 2) (ret := (some .long)) (by decide) rfl ?_
  intro p e s m args below meth c s₁ B hml hv
  obtain ⟨rfl, hP, hK⟩ := hv
  have hx := B.exec
  have hb := B.bytes
  have hr := B.returns
  have hlocks := B.notSynchronized
  have hts := atoms_spec (ws := (ws_ yX2_value cX2_value 2 (some .long))) B.pre
  have hts : ∀ w ∈ lw_all, w.before _ s = true := fun w h => hts w (List.mem_cons_of_mem _ h)
  have hown : s.vm.findClass RX2 = some m.cls := findClass_of_methodNamed B.named
  have hP : va_P (dC, dI) vwCl [(h, .inr (2, [.ref ka, .ref va, .ref wa, .int (nI n)])), (ka, .inl (dJ, cap, .inr (.inl fk))), (va, .inl (dJ, cap, .inr (.inl fv))), (wa, .inl (dJ, cap, .inr (.inl fw)))] s.heap := hP
  have hl := lv_entry ([.ref h, .int (nI i)]) (n := 2) (Nat.le_of_ble_eq_true rfl)
  rw [lg_entry_eq]
  generalize (lg_sl ([.ref h, .int (nI i)]) ++ List.replicate (2 - (lg_sl ([.ref h, .int (nI i)])).length) Slot.unset).toArray = ls at hl ⊢
  have hl : lv_has ls 2 [(0, .ref h), (1, .int (nI i))] := hl
  refine lv_aload_n hx hb dX2_value_0 rfl (lv_at hl 0 rfl) ?_
  refine va_get (D := (dC, dI)) (ci := 2) (v := .ref va) (C := RX2) (T := TX2) (N := 4) hx hb hts in_X2 hown hK hP 0 rfl rfl 1 (by decide) (hts _ q53) (fun _ h9 => h9) rfl dX2_value_1 ?_
  refine lv_iload_n hx hb dX2_value_4 rfl (lv_at hl 1 rfl) ?_
  refine sj_lald hx hb hK hP 2 0 rfl rfl i rfl (by omega) (by omega) dX2_value_5 ?_
  exact W.lret (v := fv i) hx hb hr (fun t ht hW => ⟨fv i, rfl, rfl, ht⟩) t_nil dX2_value_6
set_option maxHeartbeats 4000000 in
set_option maxRecDepth 100000 in
/-- when(i) -/
theorem metX2_when (l : Launch) (dC : Nat → ClassId) (dI : Nat → Nat → Nat) (dJ dN dZ : ClassId) (h ka va wa cap n : Nat) (fk fv fw : Nat → Int64) (hcap : cap ≤ 1000) (i : Nat) (hi : i < cap) : Met l yX2_when (ws_ yX2_when cX2_when 2 (some .long)) ({ frames := 0, cells := 0, slots := 0, locals := 0 }) (sj_Pr (dC, dI) [(h, .inr (2, [.ref ka, .ref va, .ref wa, .int (nI n)])), (ka, .inl (dJ, cap, .inr (.inl fk))), (va, .inl (dJ, cap, .inr (.inl fv))), (wa, .inl (dJ, cap, .inr (.inl fw)))] (sj_t dJ dN dZ) [.ref h, .int (nI i)]) (vp_Sl (fun r => r = fw i)) 0 0 (fun _ => False) := by
  refine Met.ofW (cc := cX2_when) (maxL := 2) (ret := (some .long)) (by decide) rfl ?_
  intro p e s m args below meth c s₁ B hml hv
  obtain ⟨rfl, hP, hK⟩ := hv
  have hx := B.exec
  have hb := B.bytes
  have hr := B.returns
  have hlocks := B.notSynchronized
  have hts := atoms_spec (ws := (ws_ yX2_when cX2_when 2 (some .long))) B.pre
  have hts : ∀ w ∈ lw_all, w.before _ s = true := fun w h => hts w (List.mem_cons_of_mem _ h)
  have hown : s.vm.findClass RX2 = some m.cls := findClass_of_methodNamed B.named
  have hP : va_P (dC, dI) vwCl [(h, .inr (2, [.ref ka, .ref va, .ref wa, .int (nI n)])), (ka, .inl (dJ, cap, .inr (.inl fk))), (va, .inl (dJ, cap, .inr (.inl fv))), (wa, .inl (dJ, cap, .inr (.inl fw)))] s.heap := hP
  have hl := lv_entry ([.ref h, .int (nI i)]) (n := 2) (Nat.le_of_ble_eq_true rfl)
  rw [lg_entry_eq]
  generalize (lg_sl ([.ref h, .int (nI i)]) ++ List.replicate (2 - (lg_sl ([.ref h, .int (nI i)])).length) Slot.unset).toArray = ls at hl ⊢
  have hl : lv_has ls 2 [(0, .ref h), (1, .int (nI i))] := hl
  refine lv_aload_n hx hb dX2_when_0 rfl (lv_at hl 0 rfl) ?_
  refine va_get (D := (dC, dI)) (ci := 2) (v := .ref wa) (C := RX2) (T := TX2) (N := 4) hx hb hts in_X2 hown hK hP 0 rfl rfl 2 (by decide) (hts _ q54) (fun _ h9 => h9) rfl dX2_when_1 ?_
  refine lv_iload_n hx hb dX2_when_4 rfl (lv_at hl 1 rfl) ?_
  refine sj_lald hx hb hK hP 3 0 rfl rfl i rfl (by omega) (by omega) dX2_when_5 ?_
  exact W.lret (v := fw i) hx hb hr (fun t ht hW => ⟨fw i, rfl, rfl, ht⟩) t_nil dX2_when_6
set_option maxHeartbeats 4000000 in
set_option maxRecDepth 100000 in
/-- Outputs(): three new arrays of 16 -/
theorem metX2_init (l : Launch) (dC : Nat → ClassId) (dI : Nat → Nat → Nat) (dJ dN dZ : ClassId) (sz : Nat) (h : Nat) : Met l yX2_init (ws_ yX2_init cX2_init 1 none) ({ frames := 1, cells := 3, slots := 48, locals := 12 }) (sj_Pw (dC, dI) [(h, .inr (2, [.null, .null, .null, .int 0]))] (sj_t dJ dN dZ) sz [.ref h]) (va_Qv (fun u : Nat × Nat × Nat => True) (sj_B (dC, dI) (va_A [(h, .inr (2, [.null, .null, .null, .int 0]))] sz) (fun u : Nat × Nat × Nat => [(h, .inr (2, [.ref u.1, .ref u.2.1, .ref u.2.2, .int (nI 0)])), (u.1, .inl (dJ, 16, .inr (.inl (fun _ => 0)))), (u.2.1, .inl (dJ, 16, .inr (.inl (fun _ => 0)))), (u.2.2, .inl (dJ, 16, .inr (.inl (fun _ => 0))))])) (va_A [(h, .inr (2, [.null, .null, .null, .int 0]))] sz)) 3 48 (va_A [(h, .inr (2, [.null, .null, .null, .int 0]))] sz) := by
  refine Met.ofW (cc := cX2_init) (maxL := 1) (ret := none) (by decide) rfl ?_
  intro p e s m args below meth c s₁ B hml hv
  obtain ⟨rfl, hsz, hP, hK, hD0⟩ := hv
  have hx := B.exec
  have hb := B.bytes
  have hr := B.returns
  have hlocks := B.notSynchronized
  have hts := atoms_spec (ws := (ws_ yX2_init cX2_init 1 none)) B.pre
  have hts : ∀ w ∈ lw_all, w.before _ s = true := fun w h => hts w (List.mem_cons_of_mem _ h)
  have hown : s.vm.findClass RX2 = some m.cls := findClass_of_methodNamed B.named
  have hin : meth.name = "<init>" := (name_of_methodNamed B.named B.method).1
  subst hsz
  have hD := hD0.self (sz := s.heap.size)
  generalize hAe : va_A [(h, .inr (2, [.null, .null, .null, .int 0]))] s.heap.size = A at hD ⊢
  have hA : ∀ q : Nat, s.heap.size ≤ q → A q := fun q h => by rw [← hAe]; exact Or.inr h
  have hS : va_S A s.heap s.heap [] := va_S.rf
  have hP : va_P (dC, dI) vwCl [(h, .inr (2, [.null, .null, .null, .int 0]))] s.heap := hP
  have hl := lv_entry ([.ref h]) (n := 1) (Nat.le_of_ble_eq_true rfl)
  rw [lg_entry_eq]
  generalize (lg_sl ([.ref h]) ++ List.replicate (1 - (lg_sl ([.ref h])).length) Slot.unset).toArray = ls at hl ⊢
  have hl : lv_has ls 1 [(0, .ref h)] := hl
  refine lv_aload_n hx hb dX2_init_0 rfl (lv_at hl 0 rfl) ?_
  refine W.objInit hx hb hown (hts _ q51) (hts _ q22) (hts _ q23) rfl (by rw [hml]; exact hl.1) rfl dX2_init_1 (Nat.le_of_ble_eq_true rfl) (Nat.le_of_ble_eq_true rfl) ?_
  refine W.eq (g2 := F0 m 4 ls []) rfl ?_
  refine lv_aload_n hx hb dX2_init_4 rfl (lv_at hl 0 rfl) ?_
  refine lv_bipush (v := 16) hx hb dX2_init_5 (by decide) ?_
  refine sj_newa (atype := .long) hx hb (hts _ q44) rfl hK hP hD hS hA 0 rfl (fun _ _ => rfl) (a0 := (16, .inr (.inl (fun _ => 0)))) (fun _ => rfl) (by decide) (by decide) (by decide) (Nat.le_of_ble_eq_true rfl) (Nat.le_of_ble_eq_true rfl) dX2_init_7 (fun q1 H hP hD hS => ?_)
  have hP : va_P (dC, dI) vwCl [(h, .inr (2, [.null, .null, .null, .int 0])), (q1, .inl (dJ, 16, .inr (.inl (fun _ => 0))))] H := hP
  have hD : va_D A [(h, .inr (2, [.null, .null, .null, .int 0])), (q1, .inl (dJ, 16, .inr (.inl (fun _ => 0))))] := hD
  refine W.widen (k := 1) (n := 16) (Nat.le_of_ble_eq_true rfl) (Nat.le_of_ble_eq_true rfl) ?_
  refine va_put (D := (dC, dI)) (ci := 2) (v := .ref q1) (ty := .array .long) (C := RX2) (T := TX2) (N := 4) hx hb hts in_X2 tyX2 tyX2_ok nmX2 hown hK hP hD hS 0 rfl rfl 0 (by decide) (hts _ q52) (fun _ h9 => h9) rfl (by decide +kernel) rfl rfl (Nat.le_of_ble_eq_true rfl) dX2_init_9 (fun H locs hP hD hS => ?_)
  have hP : va_P (dC, dI) vwCl [(h, .inr (2, [.ref q1, .null, .null, .int 0])), (q1, .inl (dJ, 16, .inr (.inl (fun _ => 0))))] H := hP
  have hD : va_D A [(h, .inr (2, [.ref q1, .null, .null, .int 0])), (q1, .inl (dJ, 16, .inr (.inl (fun _ => 0))))] := hD
  refine lv_aload_n hx hb dX2_init_12 rfl (lv_at hl 0 rfl) ?_
  refine lv_bipush (v := 16) hx hb dX2_init_13 (by decide) ?_
  refine sj_newa (atype := .long) hx hb (hts _ q44) rfl hK hP hD hS hA 0 rfl (fun _ _ => rfl) (a0 := (16, .inr (.inl (fun _ => 0)))) (fun _ => rfl) (by decide) (by decide) (by decide) (Nat.le_of_ble_eq_true rfl) (Nat.le_of_ble_eq_true rfl) dX2_init_15 (fun q2 H hP hD hS => ?_)
  have hP : va_P (dC, dI) vwCl [(h, .inr (2, [.ref q1, .null, .null, .int 0])), (q1, .inl (dJ, 16, .inr (.inl (fun _ => 0)))), (q2, .inl (dJ, 16, .inr (.inl (fun _ => 0))))] H := hP
  have hD : va_D A [(h, .inr (2, [.ref q1, .null, .null, .int 0])), (q1, .inl (dJ, 16, .inr (.inl (fun _ => 0)))), (q2, .inl (dJ, 16, .inr (.inl (fun _ => 0))))] := hD
  refine W.widen (k := 2) (n := 32) (Nat.le_of_ble_eq_true rfl) (Nat.le_of_ble_eq_true rfl) ?_
  refine va_put (D := (dC, dI)) (ci := 2) (v := .ref q2) (ty := .array .long) (C := RX2) (T := TX2) (N := 4) hx hb hts in_X2 tyX2 tyX2_ok nmX2 hown hK hP hD hS 0 rfl rfl 1 (by decide) (hts _ q53) (fun _ h9 => h9) rfl (by decide +kernel) rfl rfl (Nat.le_of_ble_eq_true rfl) dX2_init_17 (fun H locs hP hD hS => ?_)
  have hP : va_P (dC, dI) vwCl [(h, .inr (2, [.ref q1, .ref q2, .null, .int 0])), (q1, .inl (dJ, 16, .inr (.inl (fun _ => 0)))), (q2, .inl (dJ, 16, .inr (.inl (fun _ => 0))))] H := hP
  have hD : va_D A [(h, .inr (2, [.ref q1, .ref q2, .null, .int 0])), (q1, .inl (dJ, 16, .inr (.inl (fun _ => 0)))), (q2, .inl (dJ, 16, .inr (.inl (fun _ => 0))))] := hD
  refine lv_aload_n hx hb dX2_init_20 rfl (lv_at hl 0 rfl) ?_
  refine lv_bipush (v := 16) hx hb dX2_init_21 (by decide) ?_
  refine sj_newa (atype := .long) hx hb (hts _ q44) rfl hK hP hD hS hA 0 rfl (fun _ _ => rfl) (a0 := (16, .inr (.inl (fun _ => 0)))) (fun _ => rfl) (by decide) (by decide) (by decide) (Nat.le_of_ble_eq_true rfl) (Nat.le_of_ble_eq_true rfl) dX2_init_23 (fun q3 H hP hD hS => ?_)
  have hP : va_P (dC, dI) vwCl [(h, .inr (2, [.ref q1, .ref q2, .null, .int 0])), (q1, .inl (dJ, 16, .inr (.inl (fun _ => 0)))), (q2, .inl (dJ, 16, .inr (.inl (fun _ => 0)))), (q3, .inl (dJ, 16, .inr (.inl (fun _ => 0))))] H := hP
  have hD : va_D A [(h, .inr (2, [.ref q1, .ref q2, .null, .int 0])), (q1, .inl (dJ, 16, .inr (.inl (fun _ => 0)))), (q2, .inl (dJ, 16, .inr (.inl (fun _ => 0)))), (q3, .inl (dJ, 16, .inr (.inl (fun _ => 0))))] := hD
  refine W.widen (k := 3) (n := 48) (Nat.le_of_ble_eq_true rfl) (Nat.le_of_ble_eq_true rfl) ?_
  refine va_put (D := (dC, dI)) (ci := 2) (v := .ref q3) (ty := .array .long) (C := RX2) (T := TX2) (N := 4) hx hb hts in_X2 tyX2 tyX2_ok nmX2 hown hK hP hD hS 0 rfl rfl 2 (by decide) (hts _ q54) (fun _ h9 => h9) rfl (by decide +kernel) rfl rfl (Nat.le_of_ble_eq_true rfl) dX2_init_25 (fun H locs hP hD hS => ?_)
  have hP : va_P (dC, dI) vwCl [(h, .inr (2, [.ref q1, .ref q2, .ref q3, .int 0])), (q1, .inl (dJ, 16, .inr (.inl (fun _ => 0)))), (q2, .inl (dJ, 16, .inr (.inl (fun _ => 0)))), (q3, .inl (dJ, 16, .inr (.inl (fun _ => 0))))] H := hP
  have hD : va_D A [(h, .inr (2, [.ref q1, .ref q2, .ref q3, .int 0])), (q1, .inl (dJ, 16, .inr (.inl (fun _ => 0)))), (q2, .inl (dJ, 16, .inr (.inl (fun _ => 0)))), (q3, .inl (dJ, 16, .inr (.inl (fun _ => 0))))] := hD
  have hP : va_P (dC, dI) vwCl [(h, .inr (2, [.ref q1, .ref q2, .ref q3, .int 0])), (q1, .inl (dJ, 16, .inr (.inl (fun _ => 0)))), (q2, .inl (dJ, 16, .inr (.inl (fun _ => 0)))), (q3, .inl (dJ, 16, .inr (.inl (fun _ => 0))))] H := hP.sub [0, 1, 2, 3] rfl
  have hD : va_D A [(h, .inr (2, [.ref q1, .ref q2, .ref q3, .int 0])), (q1, .inl (dJ, 16, .inr (.inl (fun _ => 0)))), (q2, .inl (dJ, 16, .inr (.inl (fun _ => 0)))), (q3, .inl (dJ, 16, .inr (.inl (fun _ => 0))))] := hD.sub [0, 1, 2, 3] (by decide) rfl
  exact W.vret hx hb hr (fun t ht hW => ⟨⟨(q1, q2, q3), rfl, trivial, by rw [ht]; exact hP, hD⟩, hS.F ht⟩) hS.2.2 dX2_init_28
set_option maxHeartbeats 4000000 in
set_option maxRecDepth 100000 in
/-- grow(): arrays of twice the size -/
theorem metX2_grow (l : Launch) (dC : Nat → ClassId) (dI : Nat → Nat → Nat) (dJ dN dZ : ClassId) (sz : Nat) (h ka va wa cap n : Nat) (fk fv fw : Nat → Int64) (hcap : cap ≤ 1000) (hn : n ≤ cap) (hn64 : n ≤ 64) : Met l yX2_grow (ws_ yX2_grow cX2_grow 5 none) ({ frames := 0, cells := 3, slots := 384, locals := 0 }) (sj_Pw (dC, dI) [(h, .inr (2, [.ref ka, .ref va, .ref wa, .int (nI n)])), (ka, .inl (dJ, cap, .inr (.inl fk))), (va, .inl (dJ, cap, .inr (.inl fv))), (wa, .inl (dJ, cap, .inr (.inl fw)))] (sj_t dJ dN dZ) sz [.ref h]) (va_Qv (fun u : Nat × Nat × Nat × (Nat → Int64) × (Nat → Int64) × (Nat → Int64) => (∀ j, j < n → u.2.2.2.1 j = fk j) ∧ (∀ j, j < n → u.2.2.2.2.1 j = fv j) ∧ (∀ j, j < n → u.2.2.2.2.2 j = fw j)) (sj_B (dC, dI) (va_A [(h, .inr (2, [.ref ka, .ref va, .ref wa, .int (nI n)])), (ka, .inl (dJ, cap, .inr (.inl fk))), (va, .inl (dJ, cap, .inr (.inl fv))), (wa, .inl (dJ, cap, .inr (.inl fw)))] sz) (fun u : Nat × Nat × Nat × (Nat → Int64) × (Nat → Int64) × (Nat → Int64) => [(h, .inr (2, [.ref u.1, .ref u.2.1, .ref u.2.2.1, .int (nI n)])), (u.1, .inl (dJ, (2 * n), .inr (.inl u.2.2.2.1))), (u.2.1, .inl (dJ, (2 * n), .inr (.inl u.2.2.2.2.1))), (u.2.2.1, .inl (dJ, (2 * n), .inr (.inl u.2.2.2.2.2)))])) (va_A [(h, .inr (2, [.ref ka, .ref va, .ref wa, .int (nI n)])), (ka, .inl (dJ, cap, .inr (.inl fk))), (va, .inl (dJ, cap, .inr (.inl fv))), (wa, .inl (dJ, cap, .inr (.inl fw)))] sz)) 3 384 (va_A [(h, .inr (2, [.ref ka, .ref va, .ref wa, .int (nI n)])), (ka, .inl (dJ, cap, .inr (.inl fk))), (va, .inl (dJ, cap, .inr (.inl fv))), (wa, .inl (dJ, cap, .inr (.inl fw)))] sz) := by
  refine Met.ofW (cc := cX2_grow) (maxL := 5) (ret := none) (by decide) rfl ?_
  intro p e s m args below meth c s₁ B hml hv
  obtain ⟨rfl, hsz, hP, hK, hD0⟩ := hv
  have hx := B.exec
  have hb := B.bytes
  have hr := B.returns
  have hlocks := B.notSynchronized
  have hts := atoms_spec (ws := (ws_ yX2_grow cX2_grow 5 none)) B.pre
  have hts : ∀ w ∈ lw_all, w.before _ s = true := fun w h => hts w (List.mem_cons_of_mem _ h)
  have hown : s.vm.findClass RX2 = some m.cls := findClass_of_methodNamed B.named
  subst hsz
  have hD := hD0.self (sz := s.heap.size)
  generalize hAe : va_A [(h, .inr (2, [.ref ka, .ref va, .ref wa, .int (nI n)])), (ka, .inl (dJ, cap, .inr (.inl fk))), (va, .inl (dJ, cap, .inr (.inl fv))), (wa, .inl (dJ, cap, .inr (.inl fw)))] s.heap.size = A at hD ⊢
  have hA : ∀ q : Nat, s.heap.size ≤ q → A q := fun q h => by rw [← hAe]; exact Or.inr h
  have hS : va_S A s.heap s.heap [] := va_S.rf
  have hP : va_P (dC, dI) vwCl [(h, .inr (2, [.ref ka, .ref va, .ref wa, .int (nI n)])), (ka, .inl (dJ, cap, .inr (.inl fk))), (va, .inl (dJ, cap, .inr (.inl fv))), (wa, .inl (dJ, cap, .inr (.inl fw)))] s.heap := hP
  have hl := lv_entry ([.ref h]) (n := 5) (Nat.le_of_ble_eq_true rfl)
  rw [lg_entry_eq]
  generalize (lg_sl ([.ref h]) ++ List.replicate (5 - (lg_sl ([.ref h])).length) Slot.unset).toArray = ls at hl ⊢
  have hl : lv_has ls 5 [(0, .ref h)] := hl
  refine lv_iconst (v := nI 2) hx hb dX2_grow_0 (by decide) ?_
  refine lv_aload_n hx hb dX2_grow_1 rfl (lv_at hl 0 rfl) ?_
  refine va_get (D := (dC, dI)) (ci := 2) (v := .int (nI n)) (C := RX2) (T := TX2) (N := 4) hx hb hts in_X2 hown hK hP 0 rfl rfl 3 (by decide) (hts _ q55) (fun _ h9 => h9) rfl dX2_grow_2 ?_
  refine lv_imul hx hb dX2_grow_5 ?_
  refine sj_cvi (y := nI (2 * n)) (pk_mul 2 n) ?_
  refine sj_newa (atype := .long) hx hb (hts _ q44) rfl hK hP hD hS hA 0 rfl (fun _ _ => rfl) (a0 := ((2 * n), .inr (.inl (fun _ => 0)))) (fun _ => rfl) (nI_pos (by omega)) (nI_clamp (by omega)) (show 2 * n * 8 ≤ 536870912 by omega) (Nat.le_of_ble_eq_true rfl) (show 0 + 2 * n ≤ 384 by omega) dX2_grow_6 (fun q1 H hP hD hS => ?_)
  have hP : va_P (dC, dI) vwCl [(h, .inr (2, [.ref ka, .ref va, .ref wa, .int (nI n)])), (ka, .inl (dJ, cap, .inr (.inl fk))), (va, .inl (dJ, cap, .inr (.inl fv))), (wa, .inl (dJ, cap, .inr (.inl fw))), (q1, .inl (dJ, (2 * n), .inr (.inl (fun _ => 0))))] H := hP
  have hD : va_D A [(h, .inr (2, [.ref ka, .ref va, .ref wa, .int (nI n)])), (ka, .inl (dJ, cap, .inr (.inl fk))), (va, .inl (dJ, cap, .inr (.inl fv))), (wa, .inl (dJ, cap, .inr (.inl fw))), (q1, .inl (dJ, (2 * n), .inr (.inl (fun _ => 0))))] := hD
  refine W.widen (k := 1) (n := 128) (Nat.le_of_ble_eq_true rfl) (by omega) ?_
  refine lv_astore_n (lv' := [(1, .ref q1), (0, .ref h)]) hx hb dX2_grow_8 rfl hl (by decide) rfl (fun ls hl => ?_)
  refine lv_iconst (v := nI 2) hx hb dX2_grow_9 (by decide) ?_
  refine lv_aload_n hx hb dX2_grow_10 rfl (lv_at hl 1 rfl) ?_
  refine va_get (D := (dC, dI)) (ci := 2) (v := .int (nI n)) (C := RX2) (T := TX2) (N := 4) hx hb hts in_X2 hown hK hP 0 rfl rfl 3 (by decide) (hts _ q55) (fun _ h9 => h9) rfl dX2_grow_11 ?_
  refine lv_imul hx hb dX2_grow_14 ?_
  refine sj_cvi (y := nI (2 * n)) (pk_mul 2 n) ?_
  refine sj_newa (atype := .long) hx hb (hts _ q44) rfl hK hP hD hS hA 0 rfl (fun _ _ => rfl) (a0 := ((2 * n), .inr (.inl (fun _ => 0)))) (fun _ => rfl) (nI_pos (by omega)) (nI_clamp (by omega)) (show 2 * n * 8 ≤ 536870912 by omega) (Nat.le_of_ble_eq_true rfl) (show 128 + 2 * n ≤ 384 by omega) dX2_grow_15 (fun q2 H hP hD hS => ?_)
  have hP : va_P (dC, dI) vwCl [(h, .inr (2, [.ref ka, .ref va, .ref wa, .int (nI n)])), (ka, .inl (dJ, cap, .inr (.inl fk))), (va, .inl (dJ, cap, .inr (.inl fv))), (wa, .inl (dJ, cap, .inr (.inl fw))), (q1, .inl (dJ, (2 * n), .inr (.inl (fun _ => 0)))), (q2, .inl (dJ, (2 * n), .inr (.inl (fun _ => 0))))] H := hP
  have hD : va_D A [(h, .inr (2, [.ref ka, .ref va, .ref wa, .int (nI n)])), (ka, .inl (dJ, cap, .inr (.inl fk))), (va, .inl (dJ, cap, .inr (.inl fv))), (wa, .inl (dJ, cap, .inr (.inl fw))), (q1, .inl (dJ, (2 * n), .inr (.inl (fun _ => 0)))), (q2, .inl (dJ, (2 * n), .inr (.inl (fun _ => 0))))] := hD
  refine W.widen (k := 2) (n := 256) (Nat.le_of_ble_eq_true rfl) (by omega) ?_
  refine lv_astore_n (lv' := [(2, .ref q2), (1, .ref q1), (0, .ref h)]) hx hb dX2_grow_17 rfl hl (by decide) rfl (fun ls hl => ?_)
  refine lv_iconst (v := nI 2) hx hb dX2_grow_18 (by decide) ?_
  refine lv_aload_n hx hb dX2_grow_19 rfl (lv_at hl 2 rfl) ?_
  refine va_get (D := (dC, dI)) (ci := 2) (v := .int (nI n)) (C := RX2) (T := TX2) (N := 4) hx hb hts in_X2 hown hK hP 0 rfl rfl 3 (by decide) (hts _ q55) (fun _ h9 => h9) rfl dX2_grow_20 ?_
  refine lv_imul hx hb dX2_grow_23 ?_
  refine sj_cvi (y := nI (2 * n)) (pk_mul 2 n) ?_
  refine sj_newa (atype := .long) hx hb (hts _ q44) rfl hK hP hD hS hA 0 rfl (fun _ _ => rfl) (a0 := ((2 * n), .inr (.inl (fun _ => 0)))) (fun _ => rfl) (nI_pos (by omega)) (nI_clamp (by omega)) (show 2 * n * 8 ≤ 536870912 by omega) (Nat.le_of_ble_eq_true rfl) (show 256 + 2 * n ≤ 384 by omega) dX2_grow_24 (fun q3 H hP hD hS => ?_)
  have hP : va_P (dC, dI) vwCl [(h, .inr (2, [.ref ka, .ref va, .ref wa, .int (nI n)])), (ka, .inl (dJ, cap, .inr (.inl fk))), (va, .inl (dJ, cap, .inr (.inl fv))), (wa, .inl (dJ, cap, .inr (.inl fw))), (q1, .inl (dJ, (2 * n), .inr (.inl (fun _ => 0)))), (q2, .inl (dJ, (2 * n), .inr (.inl (fun _ => 0)))), (q3, .inl (dJ, (2 * n), .inr (.inl (fun _ => 0))))] H := hP
  have hD : va_D A [(h, .inr (2, [.ref ka, .ref va, .ref wa, .int (nI n)])), (ka, .inl (dJ, cap, .inr (.inl fk))), (va, .inl (dJ, cap, .inr (.inl fv))), (wa, .inl (dJ, cap, .inr (.inl fw))), (q1, .inl (dJ, (2 * n), .inr (.inl (fun _ => 0)))), (q2, .inl (dJ, (2 * n), .inr (.inl (fun _ => 0)))), (q3, .inl (dJ, (2 * n), .inr (.inl (fun _ => 0))))] := hD
  refine W.widen (k := 3) (n := 384) (Nat.le_of_ble_eq_true rfl) (by omega) ?_
  refine lv_astore_n (lv' := [(3, .ref q3), (2, .ref q2), (1, .ref q1), (0, .ref h)]) hx hb dX2_grow_26 rfl hl (by decide) rfl (fun ls hl => ?_)
  have loop : ∀ (fu : Nat) (i : Nat) (f1 f2 f3 : Nat → Int64) (H : Heap) (locs : List Loc) (ls : Array Slot), (n - i < fu) → (i ≤ n) → (∀ j, j < i → f1 j = fk j) → (∀ j, j < i → f2 j = fv j) → (∀ j, j < i → f3 j = fw j) → va_P (dC, dI) vwCl [(h, .inr (2, [.ref ka, .ref va, .ref wa, .int (nI n)])), (ka, .inl (dJ, cap, .inr (.inl fk))), (va, .inl (dJ, cap, .inr (.inl fv))), (wa, .inl (dJ, cap, .inr (.inl fw))), (q1, .inl (dJ, (2 * n), .inr (.inl f1))), (q2, .inl (dJ, (2 * n), .inr (.inl f2))), (q3, .inl (dJ, (2 * n), .inr (.inl f3)))] H → va_D A [(h, .inr (2, [.ref ka, .ref va, .ref wa, .int (nI n)])), (ka, .inl (dJ, cap, .inr (.inl fk))), (va, .inl (dJ, cap, .inr (.inl fv))), (wa, .inl (dJ, cap, .inr (.inl fw))), (q1, .inl (dJ, (2 * n), .inr (.inl f1))), (q2, .inl (dJ, (2 * n), .inr (.inl f2))), (q3, .inl (dJ, (2 * n), .inr (.inl f3)))] → va_S A s.heap H locs → lv_has ls 5 [(0, .ref h), (1, .ref q1), (2, .ref q2), (3, .ref q3), (4, .int (nI i))] → W p l e (headSpec (ws_ yX2_grow cX2_grow 5 none) ({ frames := 0, cells := 3, slots := 384, locals := 0 })).room s m ([.ref h] : List Value).toArray below meth c H locs 3 384 (MQ below (va_Qv (fun u : Nat × Nat × Nat × (Nat → Int64) × (Nat → Int64) × (Nat → Int64) => (∀ j, j < n → u.2.2.2.1 j = fk j) ∧ (∀ j, j < n → u.2.2.2.2.1 j = fv j) ∧ (∀ j, j < n → u.2.2.2.2.2 j = fw j)) (sj_B (dC, dI) A (fun u : Nat × Nat × Nat × (Nat → Int64) × (Nat → Int64) × (Nat → Int64) => [(h, .inr (2, [.ref u.1, .ref u.2.1, .ref u.2.2.1, .int (nI n)])), (u.1, .inl (dJ, (2 * n), .inr (.inl u.2.2.2.1))), (u.2.1, .inl (dJ, (2 * n), .inr (.inl u.2.2.2.2.1))), (u.2.2.1, .inl (dJ, (2 * n), .inr (.inl u.2.2.2.2.2)))])) A) ([.ref h] : List Value).toArray s 3 384 A) (F0 m 30 ls []) := by
    intro fu
    induction fu with
    | zero => intro i f1 f2 f3 H locs ls h1; exact absurd h1 (by omega)
    | succ fu ih =>
      intro i f1 f2 f3 H locs ls h1 h2 i1 i2 i3 hP hD hS hl
      refine lv_iload hx hb dX2_grow_30 (lv_at hl 4 rfl) ?_
      refine lv_aload_n hx hb dX2_grow_32 rfl (lv_at hl 0 rfl) ?_
      refine va_get (D := (dC, dI)) (ci := 2) (v := .int (nI n)) (C := RX2) (T := TX2) (N := 4) hx hb hts in_X2 hown hK hP 0 rfl rfl 3 (by decide) (hts _ q55) (fun _ h9 => h9) rfl dX2_grow_33 ?_
      refine sj_nge (a := i) (b := n) (tgt := 78) hx hb dX2_grow_36 (by decide) (by omega) (by omega) (fun c36 => ?_) (fun c36 => ?_)
      · skip
        refine lv_aload_n hx hb dX2_grow_78 rfl (lv_at hl 0 rfl) ?_
        refine lv_aload_n hx hb dX2_grow_79 rfl (lv_at hl 1 rfl) ?_
        refine va_put (D := (dC, dI)) (ci := 2) (v := .ref q1) (ty := .array .long) (C := RX2) (T := TX2) (N := 4) hx hb hts in_X2 tyX2 tyX2_ok nmX2 hown hK hP hD hS 0 rfl rfl 0 (by decide) (hts _ q52) (fun _ h9 => h9) rfl (by decide +kernel) rfl rfl (Nat.le_of_ble_eq_true rfl) dX2_grow_80 (fun H locs hP hD hS => ?_)
        have hP : va_P (dC, dI) vwCl [(h, .inr (2, [.ref q1, .ref va, .ref wa, .int (nI n)])), (ka, .inl (dJ, cap, .inr (.inl fk))), (va, .inl (dJ, cap, .inr (.inl fv))), (wa, .inl (dJ, cap, .inr (.inl fw))), (q1, .inl (dJ, (2 * n), .inr (.inl f1))), (q2, .inl (dJ, (2 * n), .inr (.inl f2))), (q3, .inl (dJ, (2 * n), .inr (.inl f3)))] H := hP
        have hD : va_D A [(h, .inr (2, [.ref q1, .ref va, .ref wa, .int (nI n)])), (ka, .inl (dJ, cap, .inr (.inl fk))), (va, .inl (dJ, cap, .inr (.inl fv))), (wa, .inl (dJ, cap, .inr (.inl fw))), (q1, .inl (dJ, (2 * n), .inr (.inl f1))), (q2, .inl (dJ, (2 * n), .inr (.inl f2))), (q3, .inl (dJ, (2 * n), .inr (.inl f3)))] := hD
        refine lv_aload_n hx hb dX2_grow_83 rfl (lv_at hl 0 rfl) ?_
        refine lv_aload_n hx hb dX2_grow_84 rfl (lv_at hl 2 rfl) ?_
        refine va_put (D := (dC, dI)) (ci := 2) (v := .ref q2) (ty := .array .long) (C := RX2) (T := TX2) (N := 4) hx hb hts in_X2 tyX2 tyX2_ok nmX2 hown hK hP hD hS 0 rfl rfl 1 (by decide) (hts _ q53) (fun _ h9 => h9) rfl (by decide +kernel) rfl rfl (Nat.le_of_ble_eq_true rfl) dX2_grow_85 (fun H locs hP hD hS => ?_)
        have hP : va_P (dC, dI) vwCl [(h, .inr (2, [.ref q1, .ref q2, .ref wa, .int (nI n)])), (ka, .inl (dJ, cap, .inr (.inl fk))), (va, .inl (dJ, cap, .inr (.inl fv))), (wa, .inl (dJ, cap, .inr (.inl fw))), (q1, .inl (dJ, (2 * n), .inr (.inl f1))), (q2, .inl (dJ, (2 * n), .inr (.inl f2))), (q3, .inl (dJ, (2 * n), .inr (.inl f3)))] H := hP
        have hD : va_D A [(h, .inr (2, [.ref q1, .ref q2, .ref wa, .int (nI n)])), (ka, .inl (dJ, cap, .inr (.inl fk))), (va, .inl (dJ, cap, .inr (.inl fv))), (wa, .inl (dJ, cap, .inr (.inl fw))), (q1, .inl (dJ, (2 * n), .inr (.inl f1))), (q2, .inl (dJ, (2 * n), .inr (.inl f2))), (q3, .inl (dJ, (2 * n), .inr (.inl f3)))] := hD
        refine lv_aload_n hx hb dX2_grow_88 rfl (lv_at hl 0 rfl) ?_
        refine lv_aload_n hx hb dX2_grow_89 rfl (lv_at hl 3 rfl) ?_
        refine va_put (D := (dC, dI)) (ci := 2) (v := .ref q3) (ty := .array .long) (C := RX2) (T := TX2) (N := 4) hx hb hts in_X2 tyX2 tyX2_ok nmX2 hown hK hP hD hS 0 rfl rfl 2 (by decide) (hts _ q54) (fun _ h9 => h9) rfl (by decide +kernel) rfl rfl (Nat.le_of_ble_eq_true rfl) dX2_grow_90 (fun H locs hP hD hS => ?_)
        have hP : va_P (dC, dI) vwCl [(h, .inr (2, [.ref q1, .ref q2, .ref q3, .int (nI n)])), (ka, .inl (dJ, cap, .inr (.inl fk))), (va, .inl (dJ, cap, .inr (.inl fv))), (wa, .inl (dJ, cap, .inr (.inl fw))), (q1, .inl (dJ, (2 * n), .inr (.inl f1))), (q2, .inl (dJ, (2 * n), .inr (.inl f2))), (q3, .inl (dJ, (2 * n), .inr (.inl f3)))] H := hP
        have hD : va_D A [(h, .inr (2, [.ref q1, .ref q2, .ref q3, .int (nI n)])), (ka, .inl (dJ, cap, .inr (.inl fk))), (va, .inl (dJ, cap, .inr (.inl fv))), (wa, .inl (dJ, cap, .inr (.inl fw))), (q1, .inl (dJ, (2 * n), .inr (.inl f1))), (q2, .inl (dJ, (2 * n), .inr (.inl f2))), (q3, .inl (dJ, (2 * n), .inr (.inl f3)))] := hD
        have hP : va_P (dC, dI) vwCl [(h, .inr (2, [.ref q1, .ref q2, .ref q3, .int (nI n)])), (q1, .inl (dJ, (2 * n), .inr (.inl f1))), (q2, .inl (dJ, (2 * n), .inr (.inl f2))), (q3, .inl (dJ, (2 * n), .inr (.inl f3)))] H := hP.sub [0, 4, 5, 6] rfl
        have hD : va_D A [(h, .inr (2, [.ref q1, .ref q2, .ref q3, .int (nI n)])), (q1, .inl (dJ, (2 * n), .inr (.inl f1))), (q2, .inl (dJ, (2 * n), .inr (.inl f2))), (q3, .inl (dJ, (2 * n), .inr (.inl f3)))] := hD.sub [0, 4, 5, 6] (by decide) rfl
        exact W.vret hx hb hr (fun t ht hW => ⟨⟨(q1, q2, q3, f1, f2, f3), rfl, ⟨fun j hj => i1 j (by omega), fun j hj => i2 j (by omega), fun j hj => i3 j (by omega)⟩, by rw [ht]; exact hP, hD⟩, hS.F ht⟩) hS.2.2 dX2_grow_93
      · skip
        refine lv_aload_n hx hb dX2_grow_39 rfl (lv_at hl 1 rfl) ?_
        refine lv_iload hx hb dX2_grow_40 (lv_at hl 4 rfl) ?_
        refine lv_aload_n hx hb dX2_grow_42 rfl (lv_at hl 0 rfl) ?_
        refine va_get (D := (dC, dI)) (ci := 2) (v := .ref ka) (C := RX2) (T := TX2) (N := 4) hx hb hts in_X2 hown hK hP 0 rfl rfl 0 (by decide) (hts _ q52) (fun _ h9 => h9) rfl dX2_grow_43 ?_
        refine lv_iload hx hb dX2_grow_46 (lv_at hl 4 rfl) ?_
        refine sj_lald hx hb hK hP 1 0 rfl rfl i rfl (by omega) (by omega) dX2_grow_48 ?_
        refine sj_last hx hb hK hP hD hS 4 0 rfl rfl i rfl (by omega) (by omega) dX2_grow_49 (fun H locs hP hD hS => ?_)
        have hP : va_P (dC, dI) vwCl [(h, .inr (2, [.ref ka, .ref va, .ref wa, .int (nI n)])), (ka, .inl (dJ, cap, .inr (.inl fk))), (va, .inl (dJ, cap, .inr (.inl fv))), (wa, .inl (dJ, cap, .inr (.inl fw))), (q1, .inl (dJ, (2 * n), .inr (.inl (vp_updL f1 i (fk i))))), (q2, .inl (dJ, (2 * n), .inr (.inl f2))), (q3, .inl (dJ, (2 * n), .inr (.inl f3)))] H := hP
        have hD : va_D A [(h, .inr (2, [.ref ka, .ref va, .ref wa, .int (nI n)])), (ka, .inl (dJ, cap, .inr (.inl fk))), (va, .inl (dJ, cap, .inr (.inl fv))), (wa, .inl (dJ, cap, .inr (.inl fw))), (q1, .inl (dJ, (2 * n), .inr (.inl (vp_updL f1 i (fk i))))), (q2, .inl (dJ, (2 * n), .inr (.inl f2))), (q3, .inl (dJ, (2 * n), .inr (.inl f3)))] := hD
        refine lv_aload_n hx hb dX2_grow_50 rfl (lv_at hl 2 rfl) ?_
        refine lv_iload hx hb dX2_grow_51 (lv_at hl 4 rfl) ?_
        refine lv_aload_n hx hb dX2_grow_53 rfl (lv_at hl 0 rfl) ?_
        refine va_get (D := (dC, dI)) (ci := 2) (v := .ref va) (C := RX2) (T := TX2) (N := 4) hx hb hts in_X2 hown hK hP 0 rfl rfl 1 (by decide) (hts _ q53) (fun _ h9 => h9) rfl dX2_grow_54 ?_
        refine lv_iload hx hb dX2_grow_57 (lv_at hl 4 rfl) ?_
        refine sj_lald hx hb hK hP 2 0 rfl rfl i rfl (by omega) (by omega) dX2_grow_59 ?_
        refine sj_last hx hb hK hP hD hS 5 0 rfl rfl i rfl (by omega) (by omega) dX2_grow_60 (fun H locs hP hD hS => ?_)
        have hP : va_P (dC, dI) vwCl [(h, .inr (2, [.ref ka, .ref va, .ref wa, .int (nI n)])), (ka, .inl (dJ, cap, .inr (.inl fk))), (va, .inl (dJ, cap, .inr (.inl fv))), (wa, .inl (dJ, cap, .inr (.inl fw))), (q1, .inl (dJ, (2 * n), .inr (.inl (vp_updL f1 i (fk i))))), (q2, .inl (dJ, (2 * n), .inr (.inl (vp_updL f2 i (fv i))))), (q3, .inl (dJ, (2 * n), .inr (.inl f3)))] H := hP
        have hD : va_D A [(h, .inr (2, [.ref ka, .ref va, .ref wa, .int (nI n)])), (ka, .inl (dJ, cap, .inr (.inl fk))), (va, .inl (dJ, cap, .inr (.inl fv))), (wa, .inl (dJ, cap, .inr (.inl fw))), (q1, .inl (dJ, (2 * n), .inr (.inl (vp_updL f1 i (fk i))))), (q2, .inl (dJ, (2 * n), .inr (.inl (vp_updL f2 i (fv i))))), (q3, .inl (dJ, (2 * n), .inr (.inl f3)))] := hD
        refine lv_aload_n hx hb dX2_grow_61 rfl (lv_at hl 3 rfl) ?_
        refine lv_iload hx hb dX2_grow_62 (lv_at hl 4 rfl) ?_
        refine lv_aload_n hx hb dX2_grow_64 rfl (lv_at hl 0 rfl) ?_
        refine va_get (D := (dC, dI)) (ci := 2) (v := .ref wa) (C := RX2) (T := TX2) (N := 4) hx hb hts in_X2 hown hK hP 0 rfl rfl 2 (by decide) (hts _ q54) (fun _ h9 => h9) rfl dX2_grow_65 ?_
        refine lv_iload hx hb dX2_grow_68 (lv_at hl 4 rfl) ?_
        refine sj_lald hx hb hK hP 3 0 rfl rfl i rfl (by omega) (by omega) dX2_grow_70 ?_
        refine sj_last hx hb hK hP hD hS 6 0 rfl rfl i rfl (by omega) (by omega) dX2_grow_71 (fun H locs hP hD hS => ?_)
        have hP : va_P (dC, dI) vwCl [(h, .inr (2, [.ref ka, .ref va, .ref wa, .int (nI n)])), (ka, .inl (dJ, cap, .inr (.inl fk))), (va, .inl (dJ, cap, .inr (.inl fv))), (wa, .inl (dJ, cap, .inr (.inl fw))), (q1, .inl (dJ, (2 * n), .inr (.inl (vp_updL f1 i (fk i))))), (q2, .inl (dJ, (2 * n), .inr (.inl (vp_updL f2 i (fv i))))), (q3, .inl (dJ, (2 * n), .inr (.inl (vp_updL f3 i (fw i)))))] H := hP
        have hD : va_D A [(h, .inr (2, [.ref ka, .ref va, .ref wa, .int (nI n)])), (ka, .inl (dJ, cap, .inr (.inl fk))), (va, .inl (dJ, cap, .inr (.inl fv))), (wa, .inl (dJ, cap, .inr (.inl fw))), (q1, .inl (dJ, (2 * n), .inr (.inl (vp_updL f1 i (fk i))))), (q2, .inl (dJ, (2 * n), .inr (.inl (vp_updL f2 i (fv i))))), (q3, .inl (dJ, (2 * n), .inr (.inl (vp_updL f3 i (fw i)))))] := hD
        refine lv_iinc (v := nI (i + 1)) (lv' := [(4, .int (nI (i + 1))), (0, .ref h), (1, .ref q1), (2, .ref q2), (3, .ref q3)]) hx hb dX2_grow_72 hl (k := 4) rfl (nI_1 _) (by decide) rfl (fun ls hl => ?_)
        refine lv_goto (tgt := 30) hx hb dX2_grow_75 (by decide) ?_
        exact ih (i + 1) _ _ _ H locs ls (by omega) (by omega) (sj_cpy (fun _ => rfl) i1 rfl) (sj_cpy (fun _ => rfl) i2 rfl) (sj_cpy (fun _ => rfl) i3 rfl) hP hD hS (lv_sub hl [1, 2, 3, 4, 0] rfl)
  refine lv_iconst (v := nI 0) hx hb dX2_grow_27 (by decide) ?_
  refine lv_istore (lv' := [(4, .int (nI 0)), (3, .ref q3), (2, .ref q2), (1, .ref q1), (0, .ref h)]) hx hb dX2_grow_28 hl (by decide) rfl (fun ls hl => ?_)
  exact loop (n + 1) 0 _ _ _ H _ ls (by omega) (Nat.zero_le _) lt_0 lt_0 lt_0 hP hD hS (lv_sub hl [4, 3, 2, 1, 0] rfl)
set_option maxHeartbeats 4000000 in
set_option maxRecDepth 100000 in
/-- add(key, value, when): one more -/
theorem metX2_add (l : Launch) (dC : Nat → ClassId) (dI : Nat → Nat → Nat) (dJ dN dZ : ClassId) (sz : Nat) (h ka va wa cap n : Nat) (fk fv fw : Nat → Int64) (hc16 : 16 ≤ cap) (hcap : cap ≤ 128) (hn : n ≤ cap) (hn64 : n ≤ 63) (xk xv xw : Int64) : Met l yX2_add (ws_ yX2_add cX2_add 7 none) ({ frames := 1, cells := 3, slots := 384, locals := 24 }) (sj_Pw (dC, dI) [(h, .inr (2, [.ref ka, .ref va, .ref wa, .int (nI n)])), (ka, .inl (dJ, cap, .inr (.inl fk))), (va, .inl (dJ, cap, .inr (.inl fv))), (wa, .inl (dJ, cap, .inr (.inl fw)))] (sj_t dJ dN dZ) sz [.ref h, .long xk, .long xv, .long xw]) (va_Qv (fun u : Nat × Nat × Nat × Nat × (Nat → Int64) × (Nat → Int64) × (Nat → Int64) => u.2.2.2.1 ≤ 128 ∧ 16 ≤ u.2.2.2.1 ∧ n + 1 ≤ u.2.2.2.1 ∧ (∀ j, j ≤ n → u.2.2.2.2.1 j = sj_ins fk n xk j) ∧ (∀ j, j ≤ n → u.2.2.2.2.2.1 j = sj_ins fv n xv j) ∧ (∀ j, j ≤ n → u.2.2.2.2.2.2 j = sj_ins fw n xw j)) (sj_B (dC, dI) (va_A [(h, .inr (2, [.ref ka, .ref va, .ref wa, .int (nI n)])), (ka, .inl (dJ, cap, .inr (.inl fk))), (va, .inl (dJ, cap, .inr (.inl fv))), (wa, .inl (dJ, cap, .inr (.inl fw)))] sz) (fun u : Nat × Nat × Nat × Nat × (Nat → Int64) × (Nat → Int64) × (Nat → Int64) => [(h, .inr (2, [.ref u.1, .ref u.2.1, .ref u.2.2.1, .int (nI (n + 1))])), (u.1, .inl (dJ, u.2.2.2.1, .inr (.inl u.2.2.2.2.1))), (u.2.1, .inl (dJ, u.2.2.2.1, .inr (.inl u.2.2.2.2.2.1))), (u.2.2.1, .inl (dJ, u.2.2.2.1, .inr (.inl u.2.2.2.2.2.2)))])) (va_A [(h, .inr (2, [.ref ka, .ref va, .ref wa, .int (nI n)])), (ka, .inl (dJ, cap, .inr (.inl fk))), (va, .inl (dJ, cap, .inr (.inl fv))), (wa, .inl (dJ, cap, .inr (.inl fw)))] sz)) 3 384 (va_A [(h, .inr (2, [.ref ka, .ref va, .ref wa, .int (nI n)])), (ka, .inl (dJ, cap, .inr (.inl fk))), (va, .inl (dJ, cap, .inr (.inl fv))), (wa, .inl (dJ, cap, .inr (.inl fw)))] sz) := by
  refine Met.ofW (cc := cX2_add) (maxL := 7) (ret := none) (by decide) rfl ?_
  intro p e s m args below meth c s₁ B hml hv
  obtain ⟨rfl, hsz, hP, hK, hD0⟩ := hv
  have hx := B.exec
  have hb := B.bytes
  have hr := B.returns
  have hlocks := B.notSynchronized
  have hts := atoms_spec (ws := (ws_ yX2_add cX2_add 7 none)) B.pre
  have hts : ∀ w ∈ lw_all, w.before _ s = true := fun w h => hts w (List.mem_cons_of_mem _ h)
  have hown : s.vm.findClass RX2 = some m.cls := findClass_of_methodNamed B.named
  subst hsz
  have hD := hD0.self (sz := s.heap.size)
  generalize hAe : va_A [(h, .inr (2, [.ref ka, .ref va, .ref wa, .int (nI n)])), (ka, .inl (dJ, cap, .inr (.inl fk))), (va, .inl (dJ, cap, .inr (.inl fv))), (wa, .inl (dJ, cap, .inr (.inl fw)))] s.heap.size = A at hD ⊢
  have hA : ∀ q : Nat, s.heap.size ≤ q → A q := fun q h => by rw [← hAe]; exact Or.inr h
  have hS : va_S A s.heap s.heap [] := va_S.rf
  have hP : va_P (dC, dI) vwCl [(h, .inr (2, [.ref ka, .ref va, .ref wa, .int (nI n)])), (ka, .inl (dJ, cap, .inr (.inl fk))), (va, .inl (dJ, cap, .inr (.inl fv))), (wa, .inl (dJ, cap, .inr (.inl fw)))] s.heap := hP
  have hl := lv_entry ([.ref h, .long xk, .long xv, .long xw]) (n := 7) (Nat.le_of_ble_eq_true rfl)
  rw [lg_entry_eq]
  generalize (lg_sl ([.ref h, .long xk, .long xv, .long xw]) ++ List.replicate (7 - (lg_sl ([.ref h, .long xk, .long xv, .long xw])).length) Slot.unset).toArray = ls at hl ⊢
  have hl : lv_has ls 7 [(0, .ref h), (1, .long xk), (3, .long xv), (5, .long xw)] := hl
  have tail : ∀ (ka1 va1 wa1 cap1 : Nat) (g1 g2 g3 : Nat → Int64) (H : Heap) (locs : List Loc) (ls : Array Slot), cap1 ≤ 128 → 16 ≤ cap1 → n + 1 ≤ cap1 → (∀ j, j < n → g1 j = fk j) → (∀ j, j < n → g2 j = fv j) → (∀ j, j < n → g3 j = fw j) → va_P (dC, dI) vwCl [(h, .inr (2, [.ref ka1, .ref va1, .ref wa1, .int (nI n)])), (ka1, .inl (dJ, cap1, .inr (.inl g1))), (va1, .inl (dJ, cap1, .inr (.inl g2))), (wa1, .inl (dJ, cap1, .inr (.inl g3)))] H → va_D A [(h, .inr (2, [.ref ka1, .ref va1, .ref wa1, .int (nI n)])), (ka1, .inl (dJ, cap1, .inr (.inl g1))), (va1, .inl (dJ, cap1, .inr (.inl g2))), (wa1, .inl (dJ, cap1, .inr (.inl g3)))] → va_S A s.heap H locs → lv_has ls 7 [(0, .ref h), (1, .long xk), (3, .long xv), (5, .long xw)] → W p l e (headSpec (ws_ yX2_add cX2_add 7 none) ({ frames := 1, cells := 3, slots := 384, locals := 24 })).room s m ([.ref h, .long xk, .long xv, .long xw] : List Value).toArray below meth c H locs 3 384 (MQ below (va_Qv (fun u : Nat × Nat × Nat × Nat × (Nat → Int64) × (Nat → Int64) × (Nat → Int64) => u.2.2.2.1 ≤ 128 ∧ 16 ≤ u.2.2.2.1 ∧ n + 1 ≤ u.2.2.2.1 ∧ (∀ j, j ≤ n → u.2.2.2.2.1 j = sj_ins fk n xk j) ∧ (∀ j, j ≤ n → u.2.2.2.2.2.1 j = sj_ins fv n xv j) ∧ (∀ j, j ≤ n → u.2.2.2.2.2.2 j = sj_ins fw n xw j)) (sj_B (dC, dI) A (fun u : Nat × Nat × Nat × Nat × (Nat → Int64) × (Nat → Int64) × (Nat → Int64) => [(h, .inr (2, [.ref u.1, .ref u.2.1, .ref u.2.2.1, .int (nI (n + 1))])), (u.1, .inl (dJ, u.2.2.2.1, .inr (.inl u.2.2.2.2.1))), (u.2.1, .inl (dJ, u.2.2.2.1, .inr (.inl u.2.2.2.2.2.1))), (u.2.2.1, .inl (dJ, u.2.2.2.1, .inr (.inl u.2.2.2.2.2.2)))])) A) ([.ref h, .long xk, .long xv, .long xw] : List Value).toArray s 3 384 A) (F0 m 16 ls []) := by
    intro ka1 va1 wa1 cap1 g1 g2 g3 H locs ls hk1 hk2 hk3 e1 e2 e3 hP hD hS hl
    refine lv_aload_n hx hb dX2_add_16 rfl (lv_at hl 0 rfl) ?_
    refine va_get (D := (dC, dI)) (ci := 2) (v := .ref ka1) (C := RX2) (T := TX2) (N := 4) hx hb hts in_X2 hown hK hP 0 rfl rfl 0 (by decide) (hts _ q52) (fun _ h9 => h9) rfl dX2_add_17 ?_
    refine lv_aload_n hx hb dX2_add_20 rfl (lv_at hl 0 rfl) ?_
    refine va_get (D := (dC, dI)) (ci := 2) (v := .int (nI n)) (C := RX2) (T := TX2) (N := 4) hx hb hts in_X2 hown hK hP 0 rfl rfl 3 (by decide) (hts _ q55) (fun _ h9 => h9) rfl dX2_add_21 ?_
    refine lv_lload_n hx hb dX2_add_24 rfl (lv_at hl 1 rfl) ?_
    refine sj_last hx hb hK hP hD hS 1 0 rfl rfl n rfl (by omega) (by omega) dX2_add_25 (fun H locs hP hD hS => ?_)
    have hP : va_P (dC, dI) vwCl [(h, .inr (2, [.ref ka1, .ref va1, .ref wa1, .int (nI n)])), (ka1, .inl (dJ, cap1, .inr (.inl (vp_updL g1 n xk)))), (va1, .inl (dJ, cap1, .inr (.inl g2))), (wa1, .inl (dJ, cap1, .inr (.inl g3)))] H := hP
    have hD : va_D A [(h, .inr (2, [.ref ka1, .ref va1, .ref wa1, .int (nI n)])), (ka1, .inl (dJ, cap1, .inr (.inl (vp_updL g1 n xk)))), (va1, .inl (dJ, cap1, .inr (.inl g2))), (wa1, .inl (dJ, cap1, .inr (.inl g3)))] := hD
    refine lv_aload_n hx hb dX2_add_26 rfl (lv_at hl 0 rfl) ?_
    refine va_get (D := (dC, dI)) (ci := 2) (v := .ref va1) (C := RX2) (T := TX2) (N := 4) hx hb hts in_X2 hown hK hP 0 rfl rfl 1 (by decide) (hts _ q53) (fun _ h9 => h9) rfl dX2_add_27 ?_
    refine lv_aload_n hx hb dX2_add_30 rfl (lv_at hl 0 rfl) ?_
    refine va_get (D := (dC, dI)) (ci := 2) (v := .int (nI n)) (C := RX2) (T := TX2) (N := 4) hx hb hts in_X2 hown hK hP 0 rfl rfl 3 (by decide) (hts _ q55) (fun _ h9 => h9) rfl dX2_add_31 ?_
    refine lv_lload_n hx hb dX2_add_34 rfl (lv_at hl 2 rfl) ?_
    refine sj_last hx hb hK hP hD hS 2 0 rfl rfl n rfl (by omega) (by omega) dX2_add_35 (fun H locs hP hD hS => ?_)
    have hP : va_P (dC, dI) vwCl [(h, .inr (2, [.ref ka1, .ref va1, .ref wa1, .int (nI n)])), (ka1, .inl (dJ, cap1, .inr (.inl (vp_updL g1 n xk)))), (va1, .inl (dJ, cap1, .inr (.inl (vp_updL g2 n xv)))), (wa1, .inl (dJ, cap1, .inr (.inl g3)))] H := hP
    have hD : va_D A [(h, .inr (2, [.ref ka1, .ref va1, .ref wa1, .int (nI n)])), (ka1, .inl (dJ, cap1, .inr (.inl (vp_updL g1 n xk)))), (va1, .inl (dJ, cap1, .inr (.inl (vp_updL g2 n xv)))), (wa1, .inl (dJ, cap1, .inr (.inl g3)))] := hD
    refine lv_aload_n hx hb dX2_add_36 rfl (lv_at hl 0 rfl) ?_
    refine va_get (D := (dC, dI)) (ci := 2) (v := .ref wa1) (C := RX2) (T := TX2) (N := 4) hx hb hts in_X2 hown hK hP 0 rfl rfl 2 (by decide) (hts _ q54) (fun _ h9 => h9) rfl dX2_add_37 ?_
    refine lv_aload_n hx hb dX2_add_40 rfl (lv_at hl 0 rfl) ?_
    refine va_get (D := (dC, dI)) (ci := 2) (v := .int (nI n)) (C := RX2) (T := TX2) (N := 4) hx hb hts in_X2 hown hK hP 0 rfl rfl 3 (by decide) (hts _ q55) (fun _ h9 => h9) rfl dX2_add_41 ?_
    refine lv_lload hx hb dX2_add_44 (lv_at hl 3 rfl) ?_
    refine sj_last hx hb hK hP hD hS 3 0 rfl rfl n rfl (by omega) (by omega) dX2_add_46 (fun H locs hP hD hS => ?_)
    have hP : va_P (dC, dI) vwCl [(h, .inr (2, [.ref ka1, .ref va1, .ref wa1, .int (nI n)])), (ka1, .inl (dJ, cap1, .inr (.inl (vp_updL g1 n xk)))), (va1, .inl (dJ, cap1, .inr (.inl (vp_updL g2 n xv)))), (wa1, .inl (dJ, cap1, .inr (.inl (vp_updL g3 n xw))))] H := hP
    have hD : va_D A [(h, .inr (2, [.ref ka1, .ref va1, .ref wa1, .int (nI n)])), (ka1, .inl (dJ, cap1, .inr (.inl (vp_updL g1 n xk)))), (va1, .inl (dJ, cap1, .inr (.inl (vp_updL g2 n xv)))), (wa1, .inl (dJ, cap1, .inr (.inl (vp_updL g3 n xw))))] := hD
    refine lv_aload_n hx hb dX2_add_47 rfl (lv_at hl 0 rfl) ?_
    refine lv_dup hx hb dX2_add_48 rfl ?_
    refine va_get (D := (dC, dI)) (ci := 2) (v := .int (nI n)) (C := RX2) (T := TX2) (N := 4) hx hb hts in_X2 hown hK hP 0 rfl rfl 3 (by decide) (hts _ q55) (fun _ h9 => h9) rfl dX2_add_49 ?_
    refine lv_iconst (v := 1) hx hb dX2_add_52 (by decide) ?_
    refine lv_iadd hx hb dX2_add_53 ?_
    refine sj_cvi (y := nI (n + 1)) (nI_1 n) ?_
    refine va_put (D := (dC, dI)) (ci := 2) (v := .int (nI (n + 1))) (ty := .int) (C := RX2) (T := TX2) (N := 4) hx hb hts in_X2 tyX2 tyX2_ok nmX2 hown hK hP hD hS 0 rfl rfl 3 (by decide) (hts _ q55) (fun _ h9 => h9) rfl (by decide +kernel) rfl rfl (Nat.le_of_ble_eq_true rfl) dX2_add_54 (fun H locs hP hD hS => ?_)
    have hP : va_P (dC, dI) vwCl [(h, .inr (2, [.ref ka1, .ref va1, .ref wa1, .int (nI (n + 1))])), (ka1, .inl (dJ, cap1, .inr (.inl (vp_updL g1 n xk)))), (va1, .inl (dJ, cap1, .inr (.inl (vp_updL g2 n xv)))), (wa1, .inl (dJ, cap1, .inr (.inl (vp_updL g3 n xw))))] H := hP
    have hD : va_D A [(h, .inr (2, [.ref ka1, .ref va1, .ref wa1, .int (nI (n + 1))])), (ka1, .inl (dJ, cap1, .inr (.inl (vp_updL g1 n xk)))), (va1, .inl (dJ, cap1, .inr (.inl (vp_updL g2 n xv)))), (wa1, .inl (dJ, cap1, .inr (.inl (vp_updL g3 n xw))))] := hD
    exact W.vret hx hb hr (fun t ht hW => ⟨⟨(ka1, va1, wa1, cap1, vp_updL g1 n xk, vp_updL g2 n xv, vp_updL g3 n xw), rfl, ⟨hk1, hk2, hk3, sj_insEnd (fun _ => rfl) e1 (fun j ha hb9 => absurd ha (by omega)), sj_insEnd (fun _ => rfl) e2 (fun j ha hb9 => absurd ha (by omega)), sj_insEnd (fun _ => rfl) e3 (fun j ha hb9 => absurd ha (by omega))⟩, by rw [ht]; exact hP, hD⟩, hS.F ht⟩) hS.2.2 dX2_add_57
  refine lv_aload_n hx hb dX2_add_0 rfl (lv_at hl 0 rfl) ?_
  refine va_get (D := (dC, dI)) (ci := 2) (v := .int (nI n)) (C := RX2) (T := TX2) (N := 4) hx hb hts in_X2 hown hK hP 0 rfl rfl 3 (by decide) (hts _ q55) (fun _ h9 => h9) rfl dX2_add_1 ?_
  refine lv_aload_n hx hb dX2_add_4 rfl (lv_at hl 0 rfl) ?_
  refine va_get (D := (dC, dI)) (ci := 2) (v := .ref ka) (C := RX2) (T := TX2) (N := 4) hx hb hts in_X2 hown hK hP 0 rfl rfl 0 (by decide) (hts _ q52) (fun _ h9 => h9) rfl dX2_add_5 ?_
  refine va_alen (v := nI cap) hx hb hK hP 1 0 rfl rfl rfl dX2_add_8 ?_
  refine sj_nne (a := n) (b := cap) (tgt := 16) hx hb dX2_add_9 (by decide) (by omega) (by omega) (fun c9 => ?_) (fun c9 => ?_)
  · skip
    refine W.widen (k := 3) (n := 384) (Nat.le_of_ble_eq_true rfl) (Nat.le_of_ble_eq_true rfl) ?_
    exact tail ka va wa cap fk fv fw s.heap [] ls hcap hc16 (by omega) (fun _ _ => rfl) (fun _ _ => rfl) (fun _ _ => rfl) hP hD hS (lv_sub hl [0, 1, 2, 3] rfl)
  · skip
    refine lv_aload_n hx hb dX2_add_12 rfl (lv_at hl 0 rfl) ?_
    refine sj_callWv (As := []) (rest := []) (wr := []) ⟨hx, hb, hml, hown, hts⟩ (metX2_grow l dC dI dJ dN dZ _ h ka va wa cap n fk fv fw (by omega) hn (by omega)) (cwV 0 hts (lw_V q163 q165 qs5 q13 q166) rfl rfl rfl (by decide +kernel) ⟨Nat.le_of_ble_eq_true rfl, Nat.le_of_ble_eq_true rfl⟩) hK hP hD hS hA [0, 1, 2, 3] [] rfl rfl rfl (by decide) (by decide) (by decide) 2 rfl rfl rfl rfl hl.1 rfl (Nat.le_of_ble_eq_true rfl) dX2_add_13 ⟨(Nat.le_of_ble_eq_true rfl), (Nat.le_of_ble_eq_true rfl)⟩ (fun u H locs hw hP hD hS => ?_)
    have hP : va_P (dC, dI) vwCl [(h, .inr (2, [.ref u.1, .ref u.2.1, .ref u.2.2.1, .int (nI n)])), (u.1, .inl (dJ, (2 * n), .inr (.inl u.2.2.2.1))), (u.2.1, .inl (dJ, (2 * n), .inr (.inl u.2.2.2.2.1))), (u.2.2.1, .inl (dJ, (2 * n), .inr (.inl u.2.2.2.2.2)))] H := hP
    have hD : va_D A [(h, .inr (2, [.ref u.1, .ref u.2.1, .ref u.2.2.1, .int (nI n)])), (u.1, .inl (dJ, (2 * n), .inr (.inl u.2.2.2.1))), (u.2.1, .inl (dJ, (2 * n), .inr (.inl u.2.2.2.2.1))), (u.2.2.1, .inl (dJ, (2 * n), .inr (.inl u.2.2.2.2.2)))] := hD
    obtain ⟨e1, e2, e3⟩ := hw
    exact tail _ _ _ (2 * n) _ _ _ H locs ls (by omega) (by omega) (by omega) e1 e2 e3 hP hD hS (lv_sub hl [0, 1, 2, 3] rfl)
end
section
/-! BASE 2: constructor calls -/
set_option maxRecDepth 100000
section SJ2
variable {p : Program} {l : Launch} {e : Env} {R : Room} {s : State} {m : MethodId} {args : Array Value} {below : List Frame} {meth : Method} {c : Code} {H : Heap} {locs : List Loc} {cells slots : Nat} {Q : State → Prop}
variable {cc : ByteArray} {pc : Nat} {ls : Array Slot} {rest : List Value} {D : va_G} {A : Nat → Prop} {tys : List (ClassId × FieldType)} {ws : va_W} {H0 : Heap}
theorem sj_callIN {S' : Type} {post : S' → Prop} {w1 : S' → va_W} {y : MethodName} {bytes : ByteArray} {maxL nL n index mc ms : Nat} {wy : List Cond} {rm : Room} {Ts : List Cond} {own host : String} {b : Nat} {As st : List Value} {wc wr : va_W}
    (S : CallFix p m c cc nL s args Ts own) (hM : Met l y wy rm (sj_Pw D wc tys H.size (.ref b :: As)) (sj_Qv post w1 D wc H.size) mc ms (va_A wc H.size)) (cw : va_CN R s args own index y host bytes maxL none wy rm mc ms n ∧ y.name = "<init>" ∧ (Cond.instanceMethod y).before args s = true) (hK : va_K D vwCl tys s) (hP : va_P D vwCl ws H) (hD : va_D A ws) (hS : va_S A H0 H locs) (hA : ∀ q, H0.size ≤ q → A q) (isC isR : List Nat) (hsC : isC.filterMap (fun i => ws[i]?) = wc) (hC : isC.map (fun i => ws[i]?) = wc.map some) (hR : isR.map (fun i => ws[i]?) = wr.map some) (hnC : va_nd isC = true) (hnR : va_nd isR = true) (hdis : ∀ i ∈ isR, i ∉ isC) (hn : As.length = n) (hsize : ls.size = nL) (hst : st = As.reverse ++ .ref b :: rest) (hW : (rest.map fun v => v.category).sum ≤ 8) (hdg : decode cc pc = .ok (.invokespecial index, 3)) (hf : cells + mc ≤ R.cells ∧ slots + ms ≤ R.slots)
    (kk : ∀ (u : S') (H1 : Heap) (locs1 : List Loc), post u → va_P D vwCl (wr ++ w1 u) H1 → va_D A (wr ++ w1 u) → va_S A H0 H1 locs1 → W p l e R s m args below meth c H1 locs1 (cells + mc) (slots + ms) Q (F0 m (pc + 3) ls rest)) : W p l e R s m args below meth c H locs cells slots Q (F0 m pc ls st) := by
  have hPc := hP.sub isC hsC
  have hDc := hD.sub isC hnC hC
  have hFc := va_free hD hS hA isC hC
  refine va_callv (va_runIN S hM cw ⟨sj_fbW, fun U hU hWm => ⟨rfl, by rw [hU], by rw [hU]; exact hPc, va_K.moved hWm.alike hK, hDc.weaken (fun _ _ _ _ => trivial)⟩⟩ rfl hn hsize hst (lv_room hW) hdg hf) hS (fun q _ h => hFc q h) hFc (fun u t H1 locs1 ht hvm hw hB hz1 hk1 hS1 => ?_)
  obtain ⟨hP1, hD1⟩ := hB
  rw [ht] at hP1
  obtain ⟨hP2, hD2⟩ := va_join hP hD isC isR hC hR hnR hdis hk1 hFc hP1 hD1
  exact kk u H1 locs1 hw hP2 hD2 hS1
/-- a constructor's call; E: what else the contract's start says -/
theorem sj_callI {S' : Type} {post : S' → Prop} {w1 : S' → va_W} {y : MethodName} {bytes : ByteArray} {maxL nL n index mc ms : Nat} {wy : List Cond} {rm : Room} {Ts : List Cond} {own : String} {b : Nat} {As st : List Value} {wc wr : va_W} {E : State → Prop}
    (S : CallFix p m c cc nL s args Ts own) (hM : Met l y wy rm (va_Pc (.ref b :: As) (fun U => U.heap.size = H.size ∧ va_P D vwCl wc U.heap ∧ va_K D vwCl tys U ∧ va_D (fun _ => True) wc ∧ E U)) (sj_Qv post w1 D wc H.size) mc ms (va_A wc H.size)) (cw : CallB R s args own index y bytes maxL none wy rm mc ms n ∧ y.name = "<init>" ∧ (Cond.instanceMethod y).before args s = true) (hE1 : ∀ u U : State, u.vm = U.vm → E u → E U) (hE2 : ∀ U : State, s.WarmedH U.vm → E U) (hK : va_K D vwCl tys s) (hP : va_P D vwCl ws H) (hD : va_D A ws) (hS : va_S A H0 H locs) (hA : ∀ q, H0.size ≤ q → A q) (isC isR : List Nat) (hsC : isC.filterMap (fun i => ws[i]?) = wc) (hC : isC.map (fun i => ws[i]?) = wc.map some) (hR : isR.map (fun i => ws[i]?) = wr.map some) (hnC : va_nd isC = true) (hnR : va_nd isR = true) (hdis : ∀ i ∈ isR, i ∉ isC) (hn : As.length = n) (hsize : ls.size = nL) (hst : st = As.reverse ++ .ref b :: rest) (hW : (rest.map fun v => v.category).sum ≤ 8) (hdg : decode cc pc = .ok (.invokespecial index, 3)) (hf : cells + mc ≤ R.cells ∧ slots + ms ≤ R.slots)
    (kk : ∀ (u : S') (H1 : Heap) (locs1 : List Loc), post u → va_P D vwCl (wr ++ w1 u) H1 → va_D A (wr ++ w1 u) → va_S A H0 H1 locs1 → W p l e R s m args below meth c H1 locs1 (cells + mc) (slots + ms) Q (F0 m (pc + 3) ls rest)) : W p l e R s m args below meth c H locs cells slots Q (F0 m pc ls st) := by
  have hPc := hP.sub isC hsC
  have hDc := hD.sub isC hnC hC
  have hFc := va_free hD hS hA isC hC
  refine va_callv (va_runI S hM cw ⟨fun a U g mk q => ⟨q.1, q.2.1, q.2.2.1, va_K.moved (u := U) (U := U.calling g mk a) (Vm.Alike.refl U.vm) q.2.2.2.1, q.2.2.2.2.1, hE1 U (U.calling g mk a) rfl q.2.2.2.2.2⟩, fun U hU hWm => ⟨rfl, by rw [hU], by rw [hU]; exact hPc, va_K.moved hWm.alike hK, hDc.weaken (fun _ _ _ _ => trivial), hE2 U hWm⟩⟩ rfl hn hsize hst (lv_room hW) hdg hf) hS (fun q _ h => hFc q h) hFc (fun u t H1 locs1 ht hvm hw hB hz1 hk1 hS1 => ?_)
  obtain ⟨hP1, hD1⟩ := hB
  rw [ht] at hP1
  obtain ⟨hP2, hD2⟩ := va_join hP hD isC isR hC hR hnR hdis hk1 hFc hP1 hD1
  exact kk u H1 locs1 hw hP2 hD2 hS1
end SJ2
end
section
/-! PURE: the picture of both sides: a sorted list L of (span, key, number), a list O of (key, number, when) -/
set_option maxRecDepth 100000
abbrev sj_E : Type := Int32 × Int64 × Int64
abbrev sj_O : Type := Int64 × Int64 × Int64
abbrev sj_cl (size grace mark sp : Int32) : Prop := (sp.toInt64 + 1) * size.toInt64 + grace.toInt64 ≤ mark.toInt64
def sj_add (way : Int32) (so v : Int64) : Int64 := if way = 0 then (if 1000000000000000 < so + v then 1000000000000000 else so + v) else if way = 1 then so + 1 else (if v < so then so else v)
def sj_v0 (way : Int32) (v : Int64) : Int64 := if way = 1 then 1 else v
def sj_rk (L : List sj_E) (sp : Int32) (ky : Int64) : Nat := match L with
  | [] => 0
  | x :: T => if sj_bef x.1 x.2.1 sp ky then sj_rk T sp ky + 1 else 0
def sj_up (way : Int32) (L : List sj_E) (sp : Int32) (ky v : Int64) : List sj_E := match L with
  | [] => [(sp, ky, sj_v0 way v)]
  | x :: T => if sj_bef x.1 x.2.1 sp ky then x :: sj_up way T sp ky v else if x.1 = sp ∧ x.2.1 = ky then (sp, ky, sj_add way x.2.2 v) :: T else (sp, ky, sj_v0 way v) :: x :: T
def sj_lk (L : List sj_E) (sp : Int32) (ky : Int64) : Int64 := match L with
  | [] => -1
  | x :: T => if x.1 = sp ∧ x.2.1 = ky then x.2.2 else sj_lk T sp ky
def sj_so (L : List sj_E) : Prop := L.Pairwise (fun x y => sj_bef x.1 x.2.1 y.1 y.2.1)
def sp_rep (L : List sj_E) (fk : Nat → Int64) (fs : Nat → Int32) (fn : Nat → Int64) : Prop := ∀ (j : Nat) (x : sj_E), L[j]? = some x → fs j = x.1 ∧ fk j = x.2.1 ∧ fn j = x.2.2
def op_rep (O : List sj_O) (fk fv fw : Nat → Int64) : Prop := ∀ (j : Nat) (x : sj_O), O[j]? = some x → fk j = x.1 ∧ fv j = x.2.1 ∧ fw j = x.2.2
def sj_out (size : Int32) (x : sj_E) : sj_O := (x.2.1, x.2.2, (x.1.toInt64 + 1) * size.toInt64 - 1)
def sj_clb (size grace mark : Int32) (x : sj_E) : Bool := decide (sj_cl size grace mark x.1)
abbrev sj_rej (all : Int32) (key value : Int64) (wh : Int32) : Prop := all = 3000 ∨ key < -1 ∨ value < -1 ∨ 1000000000000 < value ∨ wh < 0 ∨ 1000000000 < wh
abbrev sj_TR : Type := Int32 × (Int32 × Int32 × Int32 × Int32) × List sj_E × List sj_O
/-- what is left of a take once the list is L1 and the mark is mk: the closed go out -/
def sj_fin (j : Nat) (size grace mk all taken late : Int32) (L1 : List sj_E) (O : List sj_O) : sj_TR :=
  (nI (j + (L1.takeWhile (sj_clb size grace mk)).length), (all, taken, late, mk), L1.dropWhile (sj_clb size grace mk), O ++ (L1.takeWhile (sj_clb size grace mk)).map (sj_out size))
/-- take: the answer, (all, taken, late, mark), L, O -/
def sj_take (way size grace all taken late mark : Int32) (L : List sj_E) (O : List sj_O) (key value : Int64) (wh : Int32) : sj_TR :=
  if sj_rej all key value wh then (-3, (all, taken, late, mark), L, O)
  else if key < 0 ∨ value < 0 then (-1, (all + 1, taken + 1, late, mark), L, O)
  else if sj_cl size grace mark (wh / size) then (-2, (all + 1, taken + 1, late + 1, mark), L, O)
  else sj_fin 0 size grace (if mark < wh then wh else mark) (all + 1) (taken + 1) late (sj_up way L (wh / size) key value) O
def sj_oun (O : List sj_O) (i wt : Int32) : Int64 :=
  if i < 0 ∨ nI O.length ≤ i ∨ wt < 0 ∨ 2 < wt then -1 else if wt = 0 then (O.getD i.toNatClampNeg (0, 0, 0)).1 else if wt = 1 then (O.getD i.toNatClampNeg (0, 0, 0)).2.1 else (O.getD i.toNatClampNeg (0, 0, 0)).2.2
abbrev sj_bad (a b c : Int32) : Prop := a < 0 ∨ 2 < a ∨ b < 1 ∨ 1000 < b ∨ c < 0 ∨ 1000 < c
theorem sj_befI (s1 : Int32) (k1 : Int64) (s2 : Int32) (k2 : Int64) : sj_bef s1 k1 s2 k2 ↔ s1.toInt < s2.toInt ∨ s1.toInt = s2.toInt ∧ k1.toInt < k2.toInt := by
  rw [sj_bef, Int32.lt_iff_toInt_lt, Int64.lt_iff_toInt_lt, ← Int32.toInt_inj]
theorem sj_eqI (s1 s2 : Int32) (k1 k2 : Int64) : (s1 = s2 ∧ k1 = k2) ↔ s1.toInt = s2.toInt ∧ k1.toInt = k2.toInt := by
  rw [← Int32.toInt_inj, ← Int64.toInt_inj]
theorem sj_bef_tr {s1 s2 s3 : Int32} {k1 k2 k3 : Int64} (h1 : sj_bef s1 k1 s2 k2) (h2 : sj_bef s2 k2 s3 k3) : sj_bef s1 k1 s3 k3 := by
  rw [sj_befI] at *
  omega
theorem sj_bef_ne {s1 s2 : Int32} {k1 k2 : Int64} (h1 : sj_bef s1 k1 s2 k2) : ¬ (s1 = s2 ∧ k1 = k2) := by
  rw [sj_befI] at h1
  rw [sj_eqI]
  omega
theorem sj_bef_tot {s1 s2 : Int32} {k1 k2 : Int64} (h1 : ¬ sj_bef s1 k1 s2 k2) (h2 : ¬ (s1 = s2 ∧ k1 = k2)) : sj_bef s2 k2 s1 k1 := by
  rw [sj_befI] at *
  rw [sj_eqI] at h2
  omega
theorem sj_rk_le (L : List sj_E) (sp : Int32) (ky : Int64) : sj_rk L sp ky ≤ L.length := by
  induction L with
  | nil => exact Nat.le_refl _
  | cons x T ih =>
    unfold sj_rk
    split
    · exact Nat.succ_le_succ ih
    · exact Nat.zero_le _
theorem sj_rk_lt (L : List sj_E) (sp : Int32) (ky : Int64) : ∀ (j : Nat) (x : sj_E), j < sj_rk L sp ky → L[j]? = some x → sj_bef x.1 x.2.1 sp ky := by
  induction L with
  | nil => intro j x h1 h2; simp at h2
  | cons y T ih =>
    intro j x h1 h2
    unfold sj_rk at h1
    split at h1
    · rename_i hb
      cases j with
      | zero => simp at h2; subst h2; exact hb
      | succ j => exact ih j x (by omega) (by simpa using h2)
    · exact absurd h1 (by omega)
theorem sj_rk_ge (L : List sj_E) (hs : sj_so L) (sp : Int32) (ky : Int64) : ∀ (j : Nat) (x : sj_E), sj_rk L sp ky ≤ j → L[j]? = some x → ¬ sj_bef x.1 x.2.1 sp ky := by
  induction L with
  | nil => intro j x h1 h2; simp at h2
  | cons y T ih =>
    intro j x h1 h2
    obtain ⟨hy, hT⟩ := List.pairwise_cons.mp hs
    unfold sj_rk at h1
    split at h1
    · cases j with
      | zero => exact absurd h1 (by omega)
      | succ j => exact ih hT j x (by omega) (by simpa using h2)
    · rename_i hb
      cases j with
      | zero => simp at h2; subst h2; exact hb
      | succ j => exact fun h3 => hb (sj_bef_tr (hy x (List.mem_of_getElem? (i := j) (by simpa using h2))) h3)
theorem sj_at {α : Type} (L : List α) {j : Nat} (h : j < L.length) : ∃ x, L[j]? = some x := ⟨L[j], List.getElem?_eq_getElem h⟩
theorem sj_b1 {L : List sj_E} {fk : Nat → Int64} {fs : Nat → Int32} {fn : Nat → Int64} (hr : sp_rep L fk fs fn) (sp : Int32) (ky : Int64) : ∀ j, j < sj_rk L sp ky → sj_bef (fs j) (fk j) sp ky := by
  intro j hj
  obtain ⟨x, hx⟩ := sj_at L (Nat.lt_of_lt_of_le hj (sj_rk_le L sp ky))
  obtain ⟨h1, h2, -⟩ := hr j x hx
  rw [h1, h2]
  exact sj_rk_lt L sp ky j x hj hx
theorem sj_b2 {L : List sj_E} {fk : Nat → Int64} {fs : Nat → Int32} {fn : Nat → Int64} (hr : sp_rep L fk fs fn) (hs : sj_so L) (sp : Int32) (ky : Int64) : ∀ j, sj_rk L sp ky ≤ j → j < L.length → ¬ sj_bef (fs j) (fk j) sp ky := by
  intro j hj hl
  obtain ⟨x, hx⟩ := sj_at L hl
  obtain ⟨h1, h2, -⟩ := hr j x hx
  rw [h1, h2]
  exact sj_rk_ge L hs sp ky j x hj hx
theorem sj_up_hit (way : Int32) (L : List sj_E) (sp : Int32) (ky v : Int64) (x : sj_E) (hx : L[sj_rk L sp ky]? = some x) (he : x.1 = sp ∧ x.2.1 = ky) : ∀ j : Nat, (sj_up way L sp ky v)[j]? = if j = sj_rk L sp ky then some (sp, ky, sj_add way x.2.2 v) else L[j]? := by
  induction L with
  | nil => simp at hx
  | cons y T ih =>
    intro j
    unfold sj_rk at hx ⊢
    unfold sj_up
    by_cases hb : sj_bef y.1 y.2.1 sp ky
    · rw [if_pos hb] at hx ⊢
      rw [if_pos hb]
      cases j with
      | zero => simp
      | succ j =>
        have := ih (by simpa using hx) j
        simpa using this
    · rw [if_neg hb] at hx ⊢
      rw [if_neg hb]
      simp at hx
      subst hx
      rw [if_pos he]
      cases j with
      | zero => simp
      | succ j => simp
theorem sj_up_miss (way : Int32) (L : List sj_E) (sp : Int32) (ky v : Int64) (hx : ∀ x, L[sj_rk L sp ky]? = some x → ¬ (x.1 = sp ∧ x.2.1 = ky)) : ∀ j : Nat, (sj_up way L sp ky v)[j]? = if j < sj_rk L sp ky then L[j]? else if j = sj_rk L sp ky then some (sp, ky, sj_v0 way v) else L[j - 1]? := by
  induction L with
  | nil =>
    intro j
    unfold sj_rk sj_up
    cases j with
    | zero => simp
    | succ j => simp
  | cons y T ih =>
    intro j
    unfold sj_rk at hx ⊢
    unfold sj_up
    by_cases hb : sj_bef y.1 y.2.1 sp ky
    · rw [if_pos hb] at hx ⊢
      rw [if_pos hb]
      cases j with
      | zero => simp
      | succ j =>
        have h2 := ih (fun x h => hx x (by simpa using h)) j
        rw [List.getElem?_cons_succ, h2]
        by_cases h3 : j < sj_rk T sp ky
        · rw [if_pos h3, if_pos (show j + 1 < sj_rk T sp ky + 1 by omega), List.getElem?_cons_succ]
        · rw [if_neg h3, if_neg (show ¬ (j + 1 < sj_rk T sp ky + 1) by omega)]
          by_cases h4 : j = sj_rk T sp ky
          · rw [if_pos h4, if_pos (show j + 1 = sj_rk T sp ky + 1 by omega)]
          · rw [if_neg h4, if_neg (show ¬ (j + 1 = sj_rk T sp ky + 1) by omega)]
            cases j with
            | zero => exact absurd h3 (by omega)
            | succ j => simp
    · rw [if_neg hb] at hx ⊢
      rw [if_neg hb, if_neg (hx y (by simp))]
      cases j with
      | zero => simp
      | succ j => simp
theorem sj_up_len_hit (way : Int32) (L : List sj_E) (sp : Int32) (ky v : Int64) (x : sj_E) (hx : L[sj_rk L sp ky]? = some x) (he : x.1 = sp ∧ x.2.1 = ky) : (sj_up way L sp ky v).length = L.length := by
  induction L with
  | nil => simp at hx
  | cons y T ih =>
    unfold sj_rk at hx
    unfold sj_up
    by_cases hb : sj_bef y.1 y.2.1 sp ky
    · rw [if_pos hb] at hx ⊢
      have := ih (by simpa using hx)
      simp [this]
    · rw [if_neg hb] at hx ⊢
      simp at hx
      subst hx
      rw [if_pos he]
      simp
theorem sj_up_len_miss (way : Int32) (L : List sj_E) (sp : Int32) (ky v : Int64) (hx : ∀ x, L[sj_rk L sp ky]? = some x → ¬ (x.1 = sp ∧ x.2.1 = ky)) : (sj_up way L sp ky v).length = L.length + 1 := by
  induction L with
  | nil => rfl
  | cons y T ih =>
    unfold sj_rk at hx
    unfold sj_up
    by_cases hb : sj_bef y.1 y.2.1 sp ky
    · rw [if_pos hb] at hx ⊢
      have := ih (fun x h => hx x (by simpa using h))
      simp [this]
    · rw [if_neg hb] at hx ⊢
      rw [if_neg (hx y (by simp))]
      simp
theorem sj_rep_hit {way : Int32} {L : List sj_E} {fk : Nat → Int64} {fs : Nat → Int32} {fn fn' : Nat → Int64} (hr : sp_rep L fk fs fn) {sp : Int32} {ky v : Int64} (h1 : sj_rk L sp ky < L.length) (h2 : fs (sj_rk L sp ky) = sp) (h3 : fk (sj_rk L sp ky) = ky) (hf : ∀ j, fn' j = if j = sj_rk L sp ky then sj_add way (fn (sj_rk L sp ky)) v else fn j) : sp_rep (sj_up way L sp ky v) fk fs fn' ∧ (sj_up way L sp ky v).length = L.length := by
  obtain ⟨x, hx⟩ := sj_at L h1
  obtain ⟨e1, e2, e3⟩ := hr _ x hx
  have he : x.1 = sp ∧ x.2.1 = ky := ⟨e1 ▸ h2, e2 ▸ h3⟩
  refine ⟨fun j y hy => ?_, sj_up_len_hit way L sp ky v x hx he⟩
  rw [sj_up_hit way L sp ky v x hx he] at hy
  rw [hf]
  by_cases hj : j = sj_rk L sp ky
  · rw [if_pos hj] at hy ⊢
    cases hy
    rw [e3, hj]
    exact ⟨h2, h3, rfl⟩
  · rw [if_neg hj] at hy ⊢
    exact hr j y hy
theorem sj_rep_miss {way : Int32} {L : List sj_E} {fk fk' : Nat → Int64} {fs fs' : Nat → Int32} {fn fn' : Nat → Int64} (hr : sp_rep L fk fs fn) {sp : Int32} {ky v : Int64} (h0 : ¬ (sj_rk L sp ky < L.length ∧ fs (sj_rk L sp ky) = sp ∧ fk (sj_rk L sp ky) = ky)) (e1 : ∀ j, j ≤ L.length → fk' j = sj_ins fk (sj_rk L sp ky) ky j) (e2 : ∀ j, j ≤ L.length → fs' j = sj_ins fs (sj_rk L sp ky) sp j) (e3 : ∀ j, j ≤ L.length → fn' j = sj_ins fn (sj_rk L sp ky) (sj_v0 way v) j) : sp_rep (sj_up way L sp ky v) fk' fs' fn' ∧ (sj_up way L sp ky v).length = L.length + 1 := by
  have hx : ∀ x, L[sj_rk L sp ky]? = some x → ¬ (x.1 = sp ∧ x.2.1 = ky) := by
    intro x hx he
    obtain ⟨q1, q2, -⟩ := hr _ x hx
    exact h0 ⟨(List.getElem?_eq_some_iff.mp hx).1, q1.trans he.1, q2.trans he.2⟩
  have hlen := sj_up_len_miss way L sp ky v hx
  refine ⟨fun j y hy => ?_, hlen⟩
  have hj : j < L.length + 1 := by rw [← hlen]; exact (List.getElem?_eq_some_iff.mp hy).1
  rw [sj_up_miss way L sp ky v hx] at hy
  rw [e1 j (by omega), e2 j (by omega), e3 j (by omega)]
  unfold sj_ins
  by_cases h1 : j < sj_rk L sp ky
  · rw [if_pos h1] at hy
    rw [if_pos h1, if_pos h1, if_pos h1]
    exact hr j y hy
  · rw [if_neg h1] at hy
    rw [if_neg h1, if_neg h1, if_neg h1]
    by_cases h2 : j = sj_rk L sp ky
    · rw [if_pos h2] at hy
      rw [if_pos h2, if_pos h2, if_pos h2]
      cases hy
      exact ⟨rfl, rfl, rfl⟩
    · rw [if_neg h2] at hy
      rw [if_neg h2, if_neg h2, if_neg h2]
      exact hr (j - 1) y hy
theorem sj_lk_none (L : List sj_E) (sp : Int32) (ky : Int64) (h : ∀ x ∈ L, ¬ (x.1 = sp ∧ x.2.1 = ky)) : sj_lk L sp ky = -1 := by
  induction L with
  | nil => rfl
  | cons y T ih =>
    unfold sj_lk
    rw [if_neg (h y List.mem_cons_self)]
    exact ih (fun x hx => h x (List.mem_cons_of_mem _ hx))
theorem sj_lk_hit (L : List sj_E) (sp : Int32) (ky : Int64) (x : sj_E) (hx : L[sj_rk L sp ky]? = some x) (he : x.1 = sp ∧ x.2.1 = ky) : sj_lk L sp ky = x.2.2 := by
  induction L with
  | nil => simp at hx
  | cons y T ih =>
    unfold sj_rk at hx
    unfold sj_lk
    by_cases hb : sj_bef y.1 y.2.1 sp ky
    · rw [if_pos hb] at hx
      rw [if_neg (sj_bef_ne hb)]
      exact ih (by simpa using hx)
    · rw [if_neg hb] at hx
      simp at hx
      subst hx
      rw [if_pos he]
theorem sj_lk_miss (L : List sj_E) (hs : sj_so L) (sp : Int32) (ky : Int64) (hx : ∀ x, L[sj_rk L sp ky]? = some x → ¬ (x.1 = sp ∧ x.2.1 = ky)) : sj_lk L sp ky = -1 := by
  induction L with
  | nil => rfl
  | cons y T ih =>
    obtain ⟨hy, hT⟩ := List.pairwise_cons.mp hs
    unfold sj_rk at hx
    unfold sj_lk
    by_cases hb : sj_bef y.1 y.2.1 sp ky
    · rw [if_pos hb] at hx
      rw [if_neg (sj_bef_ne hb)]
      exact ih hT (fun x h => hx x (by simpa using h))
    · rw [if_neg hb] at hx
      rw [if_neg (hx y (by simp))]
      refine sj_lk_none T sp ky (fun x hm he => ?_)
      have h1 := hy x hm
      rw [he.1, he.2] at h1
      exact hb h1
theorem sj_rep_0 (fk : Nat → Int64) (fs : Nat → Int32) (fn : Nat → Int64) : sp_rep [] fk fs fn := fun j x h => by simp at h
theorem op_rep_0 (fk fv fw : Nat → Int64) : op_rep [] fk fv fw := fun j x h => by simp at h
theorem op_rep_add {O : List sj_O} {fk fv fw fk' fv' fw' : Nat → Int64} (hr : op_rep O fk fv fw) {x : sj_O} (e1 : ∀ j, j ≤ O.length → fk' j = sj_ins fk O.length x.1 j) (e2 : ∀ j, j ≤ O.length → fv' j = sj_ins fv O.length x.2.1 j) (e3 : ∀ j, j ≤ O.length → fw' j = sj_ins fw O.length x.2.2 j) : op_rep (O ++ [x]) fk' fv' fw' := by
  intro j y hy
  have hj : j < O.length + 1 := by have := (List.getElem?_eq_some_iff.mp hy).1; simpa using this
  rw [e1 j (by omega), e2 j (by omega), e3 j (by omega)]
  unfold sj_ins
  by_cases h1 : j < O.length
  · rw [if_pos h1, if_pos h1, if_pos h1]
    rw [List.getElem?_append_left h1] at hy
    exact hr j y hy
  · have h2 : j = O.length := by omega
    rw [if_neg h1, if_neg h1, if_neg h1, if_pos h2, if_pos h2, if_pos h2]
    subst h2
    simp at hy
    subst hy
    exact ⟨rfl, rfl, rfl⟩
theorem sp_rep_tl {x : sj_E} {T : List sj_E} {fk fk' : Nat → Int64} {fs fs' : Nat → Int32} {fn fn' : Nat → Int64} (hr : sp_rep (x :: T) fk fs fn) (e1 : ∀ j, j < T.length → fk' j = fk (j + 1)) (e2 : ∀ j, j < T.length → fs' j = fs (j + 1)) (e3 : ∀ j, j < T.length → fn' j = fn (j + 1)) : sp_rep T fk' fs' fn' := by
  intro j y hy
  have hj : j < T.length := (List.getElem?_eq_some_iff.mp hy).1
  rw [e1 j hj, e2 j hj, e3 j hj]
  exact hr (j + 1) y (by simpa using hy)
theorem sj_fin_stop {j : Nat} {size grace mk all taken late : Int32} {L1 : List sj_E} {O : List sj_O} (h : ∀ x T, L1 = x :: T → ¬ sj_cl size grace mk x.1) : sj_fin j size grace mk all taken late L1 O = (nI j, (all, taken, late, mk), L1, O) := by
  cases L1 with
  | nil => simp [sj_fin]
  | cons x T =>
    have := h x T rfl
    simp [sj_fin, sj_clb, this, List.takeWhile_cons, List.dropWhile_cons]
theorem sj_fin_go {j : Nat} {size grace mk all taken late : Int32} {x : sj_E} {T : List sj_E} {O : List sj_O} (h : sj_cl size grace mk x.1) : sj_fin j size grace mk all taken late (x :: T) O = sj_fin (j + 1) size grace mk all taken late T (O ++ [sj_out size x]) := by
  simp [sj_fin, sj_clb, h, List.takeWhile_cons, List.dropWhile_cons]
  congr 1
  omega
end
section
/-! SPANJOBS: small contracts -/
set_option maxRecDepth 100000
set_option maxHeartbeats 4000000 in
set_option maxRecDepth 100000 in
/-- late() -/
theorem metX0_late (l : Launch) (dC : Nat → ClassId) (dI : Nat → Nat → Nat) (dJ dN dZ : ClassId) (h hs ho : Nat) (way size grace all taken late mark : Int32) : Met l yX0_late (ws_ yX0_late cX0_late 1 (some .int)) ({ frames := 0, cells := 0, slots := 0, locals := 0 }) (sj_Pr (dC, dI) [(h, .inr (0, [.ref hs, .ref ho, .int way, .int size, .int grace, .int all, .int taken, .int late, .int mark]))] (sj_t dJ dN dZ) [.ref h]) (vp_Si (fun r => r = late)) 0 0 (fun _ => False) := by
  refine Met.ofW (cc := cX0_late) (maxL := 1) (ret := (some .int)) (by decide) rfl ?_
  intro p e s m args below meth c s₁ B hml hv
  obtain ⟨rfl, hP, hK⟩ := hv
  have hx := B.exec
  have hb := B.bytes
  have hr := B.returns
  have hlocks := B.notSynchronized
  have hts := atoms_spec (ws := (ws_ yX0_late cX0_late 1 (some .int))) B.pre
  have hts : ∀ w ∈ lw_all, w.before _ s = true := fun w h => hts w (List.mem_cons_of_mem _ h)
  have hown : s.vm.findClass RX0 = some m.cls := findClass_of_methodNamed B.named
  have hP : va_P (dC, dI) vwCl [(h, .inr (0, [.ref hs, .ref ho, .int way, .int size, .int grace, .int all, .int taken, .int late, .int mark]))] s.heap := hP
  have hl := lv_entry ([.ref h]) (n := 1) (Nat.le_of_ble_eq_true rfl)
  rw [lg_entry_eq]
  generalize (lg_sl ([.ref h]) ++ List.replicate (1 - (lg_sl ([.ref h])).length) Slot.unset).toArray = ls at hl ⊢
  have hl : lv_has ls 1 [(0, .ref h)] := hl
  refine lv_aload_n hx hb dX0_late_0 rfl (lv_at hl 0 rfl) ?_
  refine va_get (D := (dC, dI)) (ci := 0) (v := .int late) (C := RX0) (T := TX0) (N := 9) hx hb hts in_X0 hown hK hP 0 rfl rfl 7 (by decide) (hts _ q73) (fun _ h9 => h9) rfl dX0_late_1 ?_
  exact W.iret (v := late) hx hb hr (fun t ht hW => ⟨late, rfl, rfl, ht⟩) t_nil dX0_late_4
set_option maxHeartbeats 4000000 in
set_option maxRecDepth 100000 in
/-- taken() -/
theorem metX0_taken (l : Launch) (dC : Nat → ClassId) (dI : Nat → Nat → Nat) (dJ dN dZ : ClassId) (h hs ho : Nat) (way size grace all taken late mark : Int32) : Met l yX0_taken (ws_ yX0_taken cX0_taken 1 (some .int)) ({ frames := 0, cells := 0, slots := 0, locals := 0 }) (sj_Pr (dC, dI) [(h, .inr (0, [.ref hs, .ref ho, .int way, .int size, .int grace, .int all, .int taken, .int late, .int mark]))] (sj_t dJ dN dZ) [.ref h]) (vp_Si (fun r => r = taken)) 0 0 (fun _ => False) := by
  refine Met.ofW (cc := cX0_taken) (maxL := 1) (ret := (some .int)) (by decide) rfl ?_
  intro p e s m args below meth c s₁ B hml hv
  obtain ⟨rfl, hP, hK⟩ := hv
  have hx := B.exec
  have hb := B.bytes
  have hr := B.returns
  have hlocks := B.notSynchronized
  have hts := atoms_spec (ws := (ws_ yX0_taken cX0_taken 1 (some .int))) B.pre
  have hts : ∀ w ∈ lw_all, w.before _ s = true := fun w h => hts w (List.mem_cons_of_mem _ h)
  have hown : s.vm.findClass RX0 = some m.cls := findClass_of_methodNamed B.named
  have hP : va_P (dC, dI) vwCl [(h, .inr (0, [.ref hs, .ref ho, .int way, .int size, .int grace, .int all, .int taken, .int late, .int mark]))] s.heap := hP
  have hl := lv_entry ([.ref h]) (n := 1) (Nat.le_of_ble_eq_true rfl)
  rw [lg_entry_eq]
  generalize (lg_sl ([.ref h]) ++ List.replicate (1 - (lg_sl ([.ref h])).length) Slot.unset).toArray = ls at hl ⊢
  have hl : lv_has ls 1 [(0, .ref h)] := hl
  refine lv_aload_n hx hb dX0_taken_0 rfl (lv_at hl 0 rfl) ?_
  refine va_get (D := (dC, dI)) (ci := 0) (v := .int taken) (C := RX0) (T := TX0) (N := 9) hx hb hts in_X0 hown hK hP 0 rfl rfl 6 (by decide) (hts _ q72) (fun _ h9 => h9) rfl dX0_taken_1 ?_
  exact W.iret (v := taken) hx hb hr (fun t ht hW => ⟨taken, rfl, rfl, ht⟩) t_nil dX0_taken_4
set_option maxHeartbeats 4000000 in
set_option maxRecDepth 100000 in
/-- watermark() -/
theorem metX0_watermark (l : Launch) (dC : Nat → ClassId) (dI : Nat → Nat → Nat) (dJ dN dZ : ClassId) (h hs ho : Nat) (way size grace all taken late mark : Int32) : Met l yX0_watermark (ws_ yX0_watermark cX0_watermark 1 (some .int)) ({ frames := 0, cells := 0, slots := 0, locals := 0 }) (sj_Pr (dC, dI) [(h, .inr (0, [.ref hs, .ref ho, .int way, .int size, .int grace, .int all, .int taken, .int late, .int mark]))] (sj_t dJ dN dZ) [.ref h]) (vp_Si (fun r => r = mark)) 0 0 (fun _ => False) := by
  refine Met.ofW (cc := cX0_watermark) (maxL := 1) (ret := (some .int)) (by decide) rfl ?_
  intro p e s m args below meth c s₁ B hml hv
  obtain ⟨rfl, hP, hK⟩ := hv
  have hx := B.exec
  have hb := B.bytes
  have hr := B.returns
  have hlocks := B.notSynchronized
  have hts := atoms_spec (ws := (ws_ yX0_watermark cX0_watermark 1 (some .int))) B.pre
  have hts : ∀ w ∈ lw_all, w.before _ s = true := fun w h => hts w (List.mem_cons_of_mem _ h)
  have hown : s.vm.findClass RX0 = some m.cls := findClass_of_methodNamed B.named
  have hP : va_P (dC, dI) vwCl [(h, .inr (0, [.ref hs, .ref ho, .int way, .int size, .int grace, .int all, .int taken, .int late, .int mark]))] s.heap := hP
  have hl := lv_entry ([.ref h]) (n := 1) (Nat.le_of_ble_eq_true rfl)
  rw [lg_entry_eq]
  generalize (lg_sl ([.ref h]) ++ List.replicate (1 - (lg_sl ([.ref h])).length) Slot.unset).toArray = ls at hl ⊢
  have hl : lv_has ls 1 [(0, .ref h)] := hl
  refine lv_aload_n hx hb dX0_watermark_0 rfl (lv_at hl 0 rfl) ?_
  refine va_get (D := (dC, dI)) (ci := 0) (v := .int mark) (C := RX0) (T := TX0) (N := 9) hx hb hts in_X0 hown hK hP 0 rfl rfl 8 (by decide) (hts _ q74) (fun _ h9 => h9) rfl dX0_watermark_1 ?_
  exact W.iret (v := mark) hx hb hr (fun t ht hW => ⟨mark, rfl, rfl, ht⟩) t_nil dX0_watermark_4
set_option maxHeartbeats 4000000 in
set_option maxRecDepth 100000 in
/-- outs() -/
theorem metX0_outs (l : Launch) (dC : Nat → ClassId) (dI : Nat → Nat → Nat) (dJ dN dZ : ClassId) (h hs ho : Nat) (way size grace all taken late mark : Int32) (ka va wa n : Nat) : Met l yX0_outs (ws_ yX0_outs cX0_outs 1 (some .int)) ({ frames := 0, cells := 0, slots := 0, locals := 0 }) (sj_Pr (dC, dI) [(h, .inr (0, [.ref hs, .ref ho, .int way, .int size, .int grace, .int all, .int taken, .int late, .int mark])), (ho, .inr (2, [.ref ka, .ref va, .ref wa, .int (nI n)]))] (sj_t dJ dN dZ) [.ref h]) (vp_Si (fun r => r = nI n)) 0 0 (fun _ => False) := by
  refine Met.ofW (cc := cX0_outs) (maxL := 1) (ret := (some .int)) (by decide) rfl ?_
  intro p e s m args below meth c s₁ B hml hv
  obtain ⟨rfl, hP, hK⟩ := hv
  have hx := B.exec
  have hb := B.bytes
  have hr := B.returns
  have hlocks := B.notSynchronized
  have hts := atoms_spec (ws := (ws_ yX0_outs cX0_outs 1 (some .int))) B.pre
  have hts : ∀ w ∈ lw_all, w.before _ s = true := fun w h => hts w (List.mem_cons_of_mem _ h)
  have hown : s.vm.findClass RX0 = some m.cls := findClass_of_methodNamed B.named
  have hP : va_P (dC, dI) vwCl [(h, .inr (0, [.ref hs, .ref ho, .int way, .int size, .int grace, .int all, .int taken, .int late, .int mark])), (ho, .inr (2, [.ref ka, .ref va, .ref wa, .int (nI n)]))] s.heap := hP
  have hl := lv_entry ([.ref h]) (n := 1) (Nat.le_of_ble_eq_true rfl)
  rw [lg_entry_eq]
  generalize (lg_sl ([.ref h]) ++ List.replicate (1 - (lg_sl ([.ref h])).length) Slot.unset).toArray = ls at hl ⊢
  have hl : lv_has ls 1 [(0, .ref h)] := hl
  refine lv_aload_n hx hb dX0_outs_0 rfl (lv_at hl 0 rfl) ?_
  refine va_get (D := (dC, dI)) (ci := 0) (v := .ref ho) (C := RX0) (T := TX0) (N := 9) hx hb hts in_X0 hown hK hP 0 rfl rfl 1 (by decide) (hts _ q67) (fun _ h9 => h9) rfl dX0_outs_1 ?_
  refine va_get (D := (dC, dI)) (ci := 2) (v := .int (nI n)) (C := RX2) (T := TX2) (N := 4) hx hb hts in_X2 hown hK hP 1 rfl rfl 3 (by decide) (hts _ q56) (fun _ h9 => h9) rfl dX0_outs_4 ?_
  exact W.iret (v := nI n) hx hb hr (fun t ht hW => ⟨nI n, rfl, rfl, ht⟩) t_nil dX0_outs_7
set_option maxHeartbeats 4000000 in
set_option maxRecDepth 100000 in
/-- keeps() -/
theorem metX0_keeps (l : Launch) (dC : Nat → ClassId) (dI : Nat → Nat → Nat) (dJ dN dZ : ClassId) (h hs ho : Nat) (way size grace all taken late mark : Int32) (ka sa na n : Nat) : Met l yX0_keeps (ws_ yX0_keeps cX0_keeps 1 (some .int)) ({ frames := 0, cells := 0, slots := 0, locals := 0 }) (sj_Pr (dC, dI) [(h, .inr (0, [.ref hs, .ref ho, .int way, .int size, .int grace, .int all, .int taken, .int late, .int mark])), (hs, .inr (1, [.ref ka, .ref sa, .ref na, .int (nI n)]))] (sj_t dJ dN dZ) [.ref h]) (vp_Si (fun r => r = nI n)) 0 0 (fun _ => False) := by
  refine Met.ofW (cc := cX0_keeps) (maxL := 1) (ret := (some .int)) (by decide) rfl ?_
  intro p e s m args below meth c s₁ B hml hv
  obtain ⟨rfl, hP, hK⟩ := hv
  have hx := B.exec
  have hb := B.bytes
  have hr := B.returns
  have hlocks := B.notSynchronized
  have hts := atoms_spec (ws := (ws_ yX0_keeps cX0_keeps 1 (some .int))) B.pre
  have hts : ∀ w ∈ lw_all, w.before _ s = true := fun w h => hts w (List.mem_cons_of_mem _ h)
  have hown : s.vm.findClass RX0 = some m.cls := findClass_of_methodNamed B.named
  have hP : va_P (dC, dI) vwCl [(h, .inr (0, [.ref hs, .ref ho, .int way, .int size, .int grace, .int all, .int taken, .int late, .int mark])), (hs, .inr (1, [.ref ka, .ref sa, .ref na, .int (nI n)]))] s.heap := hP
  have hl := lv_entry ([.ref h]) (n := 1) (Nat.le_of_ble_eq_true rfl)
  rw [lg_entry_eq]
  generalize (lg_sl ([.ref h]) ++ List.replicate (1 - (lg_sl ([.ref h])).length) Slot.unset).toArray = ls at hl ⊢
  have hl : lv_has ls 1 [(0, .ref h)] := hl
  refine lv_aload_n hx hb dX0_keeps_0 rfl (lv_at hl 0 rfl) ?_
  refine va_get (D := (dC, dI)) (ci := 0) (v := .ref hs) (C := RX0) (T := TX0) (N := 9) hx hb hts in_X0 hown hK hP 0 rfl rfl 0 (by decide) (hts _ q66) (fun _ h9 => h9) rfl dX0_keeps_1 ?_
  refine va_get (D := (dC, dI)) (ci := 1) (v := .int (nI n)) (C := RX1) (T := TX1) (N := 4) hx hb hts in_X1 hown hK hP 1 rfl rfl 3 (by decide) (hts _ q33) (fun _ h9 => h9) rfl dX0_keeps_4 ?_
  exact W.iret (v := nI n) hx hb hr (fun t ht hW => ⟨nI n, rfl, rfl, ht⟩) t_nil dX0_keeps_7
set_option maxHeartbeats 4000000 in
set_option maxRecDepth 100000 in
/-- isClosed(span) -/
theorem metX0_isClosed (l : Launch) (dC : Nat → ClassId) (dI : Nat → Nat → Nat) (dJ dN dZ : ClassId) (h hs ho : Nat) (way size grace all taken late mark : Int32) (sp : Int32) : Met l yX0_isClosed (ws_ yX0_isClosed cX0_isClosed 2 (some .boolean)) ({ frames := 0, cells := 0, slots := 0, locals := 0 }) (sj_Pr (dC, dI) [(h, .inr (0, [.ref hs, .ref ho, .int way, .int size, .int grace, .int all, .int taken, .int late, .int mark]))] (sj_t dJ dN dZ) [.ref h, .int sp]) (vp_Si (fun r => r = if sj_cl size grace mark sp then 1 else 0)) 0 0 (fun _ => False) := by
  refine Met.ofW (cc := cX0_isClosed) (maxL := 2) (ret := (some .boolean)) (by decide) rfl ?_
  intro p e s m args below meth c s₁ B hml hv
  obtain ⟨rfl, hP, hK⟩ := hv
  have hx := B.exec
  have hb := B.bytes
  have hr := B.returns
  have hlocks := B.notSynchronized
  have hts := atoms_spec (ws := (ws_ yX0_isClosed cX0_isClosed 2 (some .boolean))) B.pre
  have hts : ∀ w ∈ lw_all, w.before _ s = true := fun w h => hts w (List.mem_cons_of_mem _ h)
  have hown : s.vm.findClass RX0 = some m.cls := findClass_of_methodNamed B.named
  have hP : va_P (dC, dI) vwCl [(h, .inr (0, [.ref hs, .ref ho, .int way, .int size, .int grace, .int all, .int taken, .int late, .int mark]))] s.heap := hP
  have hl := lv_entry ([.ref h, .int sp]) (n := 2) (Nat.le_of_ble_eq_true rfl)
  rw [lg_entry_eq]
  generalize (lg_sl ([.ref h, .int sp]) ++ List.replicate (2 - (lg_sl ([.ref h, .int sp])).length) Slot.unset).toArray = ls at hl ⊢
  have hl : lv_has ls 2 [(0, .ref h), (1, .int sp)] := hl
  refine lv_iload_n hx hb dX0_isClosed_0 rfl (lv_at hl 1 rfl) ?_
  refine lv_i2l (v := sp.toInt64) hx hb dX0_isClosed_1 rfl ?_
  refine lv_lconst (v := 1) hx hb dX0_isClosed_2 (by decide) ?_
  refine lv_ladd hx hb dX0_isClosed_3 ?_
  refine lv_aload_n hx hb dX0_isClosed_4 rfl (lv_at hl 0 rfl) ?_
  refine va_get (D := (dC, dI)) (ci := 0) (v := .int size) (C := RX0) (T := TX0) (N := 9) hx hb hts in_X0 hown hK hP 0 rfl rfl 3 (by decide) (hts _ q69) (fun _ h9 => h9) rfl dX0_isClosed_5 ?_
  refine lv_i2l (v := size.toInt64) hx hb dX0_isClosed_8 rfl ?_
  refine lv_lmul hx hb dX0_isClosed_9 ?_
  refine lv_aload_n hx hb dX0_isClosed_10 rfl (lv_at hl 0 rfl) ?_
  refine va_get (D := (dC, dI)) (ci := 0) (v := .int grace) (C := RX0) (T := TX0) (N := 9) hx hb hts in_X0 hown hK hP 0 rfl rfl 4 (by decide) (hts _ q70) (fun _ h9 => h9) rfl dX0_isClosed_11 ?_
  refine lv_i2l (v := grace.toInt64) hx hb dX0_isClosed_14 rfl ?_
  refine lv_ladd hx hb dX0_isClosed_15 ?_
  refine lv_aload_n hx hb dX0_isClosed_16 rfl (lv_at hl 0 rfl) ?_
  refine va_get (D := (dC, dI)) (ci := 0) (v := .int mark) (C := RX0) (T := TX0) (N := 9) hx hb hts in_X0 hown hK hP 0 rfl rfl 8 (by decide) (hts _ q74) (fun _ h9 => h9) rfl dX0_isClosed_17 ?_
  refine lv_i2l (v := mark.toInt64) hx hb dX0_isClosed_20 rfl ?_
  refine sj_lc_gt (tgt := 29) hx hb dX0_isClosed_21 dX0_isClosed_22 (by decide) (fun c21 => ?_) (fun c21 => ?_)
  · skip
    refine lv_iconst (v := 0) hx hb dX0_isClosed_29 (by decide) ?_
    exact W.zret (v := 0) hx hb hr rfl (fun t ht hW => ⟨0, rfl, (if_neg (Int64.not_le.mpr c21)).symm, ht⟩) t_nil dX0_isClosed_30
  · skip
    refine lv_iconst (v := 1) hx hb dX0_isClosed_25 (by decide) ?_
    refine lv_goto (tgt := 30) hx hb dX0_isClosed_26 (by decide) ?_
    exact W.zret (v := 1) hx hb hr rfl (fun t ht hW => ⟨1, rfl, (if_pos (Int64.not_lt.mp c21)).symm, ht⟩) t_nil dX0_isClosed_30
set_option maxHeartbeats 4000000 in
set_option maxRecDepth 100000 in
/-- added(so, v) -/
theorem metX0_added (l : Launch) (dC : Nat → ClassId) (dI : Nat → Nat → Nat) (dJ dN dZ : ClassId) (h hs ho : Nat) (way size grace all taken late mark : Int32) (so v : Int64) : Met l yX0_added (ws_ yX0_added cX0_added 5 (some .long)) ({ frames := 1, cells := 0, slots := 0, locals := 15 }) (sj_Pr (dC, dI) [(h, .inr (0, [.ref hs, .ref ho, .int way, .int size, .int grace, .int all, .int taken, .int late, .int mark]))] (sj_t dJ dN dZ) [.ref h, .long so, .long v]) (vp_Sl (fun r => r = sj_add way so v)) 0 0 (fun _ => False) := by
  refine Met.ofW (cc := cX0_added) (maxL := 5) (ret := (some .long)) (by decide) rfl ?_
  intro p e s m args below meth c s₁ B hml hv
  obtain ⟨rfl, hP, hK⟩ := hv
  have hx := B.exec
  have hb := B.bytes
  have hr := B.returns
  have hlocks := B.notSynchronized
  have hts := atoms_spec (ws := (ws_ yX0_added cX0_added 5 (some .long))) B.pre
  have hts : ∀ w ∈ lw_all, w.before _ s = true := fun w h => hts w (List.mem_cons_of_mem _ h)
  have hown : s.vm.findClass RX0 = some m.cls := findClass_of_methodNamed B.named
  have hP : va_P (dC, dI) vwCl [(h, .inr (0, [.ref hs, .ref ho, .int way, .int size, .int grace, .int all, .int taken, .int late, .int mark]))] s.heap := hP
  have hl := lv_entry ([.ref h, .long so, .long v]) (n := 5) (Nat.le_of_ble_eq_true rfl)
  rw [lg_entry_eq]
  generalize (lg_sl ([.ref h, .long so, .long v]) ++ List.replicate (5 - (lg_sl ([.ref h, .long so, .long v])).length) Slot.unset).toArray = ls at hl ⊢
  have hl : lv_has ls 5 [(0, .ref h), (1, .long so), (3, .long v)] := hl
  refine lv_aload_n hx hb dX0_added_0 rfl (lv_at hl 0 rfl) ?_
  refine va_get (D := (dC, dI)) (ci := 0) (v := .int way) (C := RX0) (T := TX0) (N := 9) hx hb hts in_X0 hown hK hP 0 rfl rfl 2 (by decide) (hts _ q68) (fun _ h9 => h9) rfl dX0_added_1 ?_
  refine lv_if_ne (tgt := 19) hx hb dX0_added_4 (by decide) (fun c4 => ?_) (fun c4 => ?_)
  · skip
    refine lv_aload_n hx hb dX0_added_19 rfl (lv_at hl 0 rfl) ?_
    refine va_get (D := (dC, dI)) (ci := 0) (v := .int way) (C := RX0) (T := TX0) (N := 9) hx hb hts in_X0 hown hK hP 0 rfl rfl 2 (by decide) (hts _ q68) (fun _ h9 => h9) rfl dX0_added_20 ?_
    refine lv_iconst (v := 1) hx hb dX0_added_23 (by decide) ?_
    refine lv_icmp_ne (tgt := 33) hx hb dX0_added_24 (by decide) (fun c24 => ?_) (fun c24 => ?_)
    · skip
      refine lv_lload_n hx hb dX0_added_33 rfl (lv_at hl 1 rfl) ?_
      refine lv_lload_n hx hb dX0_added_34 rfl (lv_at hl 2 rfl) ?_
      refine va_mmax_long (x := so) (y := v) hx hb (hml.trans hl.1.symm) hown (hts _ q133) (hts _ q134) (hts _ q15) (hts _ q135) (Nat.le_of_ble_eq_true rfl) (Nat.le_of_ble_eq_true rfl) (Nat.le_of_ble_eq_true rfl) (Nat.le_of_ble_eq_true rfl) dX0_added_35 ?_
      exact W.lret (v := if v < so then so else v) hx hb hr (fun t ht hW => ⟨if v < so then so else v, rfl, (by rw [sj_add, if_neg c4, if_neg c24]), ht⟩) t_nil dX0_added_38
    · skip
      refine lv_lload_n hx hb dX0_added_27 rfl (lv_at hl 1 rfl) ?_
      refine lv_lconst (v := 1) hx hb dX0_added_28 (by decide) ?_
      refine lv_ladd hx hb dX0_added_29 ?_
      refine lv_goto (tgt := 38) hx hb dX0_added_30 (by decide) ?_
      exact W.lret (v := so + 1) hx hb hr (fun t ht hW => ⟨so + 1, rfl, (by rw [sj_add, if_neg c4, if_pos c24]), ht⟩) t_nil dX0_added_38
  · skip
    refine lv_lload_n hx hb dX0_added_7 rfl (lv_at hl 1 rfl) ?_
    refine lv_lload_n hx hb dX0_added_8 rfl (lv_at hl 2 rfl) ?_
    refine lv_ladd hx hb dX0_added_9 ?_
    refine lv_ldc2 (v := 1000000000000000) hx hb hown (hts _ q129) dX0_added_10 ?_
    refine va_mmin_long (x := so + v) (y := 1000000000000000) hx hb (hml.trans hl.1.symm) hown (hts _ q130) (hts _ q131) (hts _ q15) (hts _ q132) (Nat.le_of_ble_eq_true rfl) (Nat.le_of_ble_eq_true rfl) (Nat.le_of_ble_eq_true rfl) (Nat.le_of_ble_eq_true rfl) dX0_added_13 ?_
    refine lv_goto (tgt := 38) hx hb dX0_added_16 (by decide) ?_
    exact W.lret (v := if 1000000000000000 < so + v then 1000000000000000 else so + v) hx hb hr (fun t ht hW => ⟨if 1000000000000000 < so + v then 1000000000000000 else so + v, rfl, (by rw [sj_add, if_pos c4]), ht⟩) t_nil dX0_added_38
set_option maxHeartbeats 4000000 in
set_option maxRecDepth 100000 in
/-- out(i, what) -/
theorem metX0_out (l : Launch) (dC : Nat → ClassId) (dI : Nat → Nat → Nat) (dJ dN dZ : ClassId) (h hs ho : Nat) (way size grace all taken late mark : Int32) (kb vb wb cb : Nat) (gk gv gw : Nat → Int64) (hcap : cb ≤ 1000) (O : List sj_O) (hO : O.length ≤ cb) (hro : op_rep O gk gv gw) (i wt : Int32) : Met l yX0_out (ws_ yX0_out cX0_out 3 (some .long)) ({ frames := 1, cells := 0, slots := 0, locals := 21 }) (sj_Pr (dC, dI) [(h, .inr (0, [.ref hs, .ref ho, .int way, .int size, .int grace, .int all, .int taken, .int late, .int mark])), (ho, .inr (2, [.ref kb, .ref vb, .ref wb, .int (nI O.length)])), (kb, .inl (dJ, cb, .inr (.inl gk))), (vb, .inl (dJ, cb, .inr (.inl gv))), (wb, .inl (dJ, cb, .inr (.inl gw)))] (sj_t dJ dN dZ) [.ref h, .int i, .int wt]) (vp_Sl (fun r => r = sj_oun O i wt)) 0 0 (fun _ => False) := by
  refine Met.ofW (cc := cX0_out) (maxL := 3) (ret := (some .long)) (by decide) rfl ?_
  intro p e s m args below meth c s₁ B hml hv
  obtain ⟨rfl, hP, hK⟩ := hv
  have hx := B.exec
  have hb := B.bytes
  have hr := B.returns
  have hlocks := B.notSynchronized
  have hts := atoms_spec (ws := (ws_ yX0_out cX0_out 3 (some .long))) B.pre
  have hts : ∀ w ∈ lw_all, w.before _ s = true := fun w h => hts w (List.mem_cons_of_mem _ h)
  have hown : s.vm.findClass RX0 = some m.cls := findClass_of_methodNamed B.named
  have hP : va_P (dC, dI) vwCl [(h, .inr (0, [.ref hs, .ref ho, .int way, .int size, .int grace, .int all, .int taken, .int late, .int mark])), (ho, .inr (2, [.ref kb, .ref vb, .ref wb, .int (nI O.length)])), (kb, .inl (dJ, cb, .inr (.inl gk))), (vb, .inl (dJ, cb, .inr (.inl gv))), (wb, .inl (dJ, cb, .inr (.inl gw)))] s.heap := hP
  have hl := lv_entry ([.ref h, .int i, .int wt]) (n := 3) (Nat.le_of_ble_eq_true rfl)
  rw [lg_entry_eq]
  generalize (lg_sl ([.ref h, .int i, .int wt]) ++ List.replicate (3 - (lg_sl ([.ref h, .int i, .int wt])).length) Slot.unset).toArray = ls at hl ⊢
  have hl : lv_has ls 3 [(0, .ref h), (1, .int i), (2, .int wt)] := hl
  refine lv_iload_n hx hb dX0_out_0 rfl (lv_at hl 1 rfl) ?_
  refine lv_if_lt (tgt := 24) hx hb dX0_out_1 (by decide) (fun c1 => ?_) (fun c1 => ?_)
  · skip
    refine lv_ldc2 (v := (-1)) hx hb hown (hts _ q102) dX0_out_24 ?_
    exact W.lret (v := (-1)) hx hb hr (fun t ht hW => ⟨(-1), rfl, (by rw [sj_oun, if_pos (Or.inl c1)]), ht⟩) t_nil dX0_out_27
  · skip
    refine lv_iload_n hx hb dX0_out_4 rfl (lv_at hl 1 rfl) ?_
    refine lv_aload_n hx hb dX0_out_5 rfl (lv_at hl 0 rfl) ?_
    refine va_get (D := (dC, dI)) (ci := 0) (v := .ref ho) (C := RX0) (T := TX0) (N := 9) hx hb hts in_X0 hown hK hP 0 rfl rfl 1 (by decide) (hts _ q67) (fun _ h9 => h9) rfl dX0_out_6 ?_
    refine va_get (D := (dC, dI)) (ci := 2) (v := .int (nI O.length)) (C := RX2) (T := TX2) (N := 4) hx hb hts in_X2 hown hK hP 1 rfl rfl 3 (by decide) (hts _ q56) (fun _ h9 => h9) rfl dX0_out_9 ?_
    refine lv_icmp_ge (tgt := 24) hx hb dX0_out_12 (by decide) (fun c12 => ?_) (fun c12 => ?_)
    · skip
      refine lv_ldc2 (v := (-1)) hx hb hown (hts _ q102) dX0_out_24 ?_
      exact W.lret (v := (-1)) hx hb hr (fun t ht hW => ⟨(-1), rfl, (by rw [sj_oun, if_pos (Or.inr (Or.inl c12))]), ht⟩) t_nil dX0_out_27
    · skip
      refine lv_iload_n hx hb dX0_out_15 rfl (lv_at hl 2 rfl) ?_
      refine lv_if_lt (tgt := 24) hx hb dX0_out_16 (by decide) (fun c16 => ?_) (fun c16 => ?_)
      · skip
        refine lv_ldc2 (v := (-1)) hx hb hown (hts _ q102) dX0_out_24 ?_
        exact W.lret (v := (-1)) hx hb hr (fun t ht hW => ⟨(-1), rfl, (by rw [sj_oun, if_pos (Or.inr (Or.inr (Or.inl c16)))]), ht⟩) t_nil dX0_out_27
      · skip
        refine lv_iload_n hx hb dX0_out_19 rfl (lv_at hl 2 rfl) ?_
        refine lv_iconst (v := 2) hx hb dX0_out_20 (by decide) ?_
        refine lv_icmp_le (tgt := 28) hx hb dX0_out_21 (by decide) (fun c21 => ?_) (fun c21 => ?_)
        · skip
          have hneg : ¬ (i < 0 ∨ nI O.length ≤ i ∨ wt < 0 ∨ 2 < wt) := fun h => h.elim c1 (fun h => h.elim c12 (fun h => h.elim c16 (fun h => absurd c21 (Int32.not_le.mpr h))))
          obtain ⟨j, hj, rfl⟩ : ∃ j : Nat, j < O.length ∧ i = nI j := by
            rcases pk_ix i (n := O.length) (by omega) with h | h | h
            · exact absurd h c1
            · exact absurd h c12
            · exact h
          obtain ⟨x, hx9⟩ := sj_at O hj
          obtain ⟨e1, e2, e3⟩ := hro j x hx9
          have hg : O.getD (nI j).toNatClampNeg (0, 0, 0) = x := by rw [nI_clamp (by omega), List.getD_eq_getElem?_getD, hx9]; rfl
          refine lv_iload_n hx hb dX0_out_28 rfl (lv_at hl 2 rfl) ?_
          refine lv_if_ne (tgt := 43) hx hb dX0_out_29 (by decide) (fun c29 => ?_) (fun c29 => ?_)
          · skip
            refine lv_iload_n hx hb dX0_out_43 rfl (lv_at hl 2 rfl) ?_
            refine lv_iconst (v := 1) hx hb dX0_out_44 (by decide) ?_
            refine lv_icmp_ne (tgt := 59) hx hb dX0_out_45 (by decide) (fun c45 => ?_) (fun c45 => ?_)
            · skip
              refine lv_aload_n hx hb dX0_out_59 rfl (lv_at hl 0 rfl) ?_
              refine va_get (D := (dC, dI)) (ci := 0) (v := .ref ho) (C := RX0) (T := TX0) (N := 9) hx hb hts in_X0 hown hK hP 0 rfl rfl 1 (by decide) (hts _ q67) (fun _ h9 => h9) rfl dX0_out_60 ?_
              refine lv_iload_n hx hb dX0_out_63 rfl (lv_at hl 1 rfl) ?_
              refine sj_callRl (As := [.int (nI j)]) (rest := []) ⟨hx, hb, hml, hown, hts⟩ (metX2_when l dC dI dJ dN dZ ho kb vb wb cb O.length gk gv gw hcap j (by omega)) (cwV 1 hts (lw_V q183 q184 q185 q13 q186) rfl rfl rfl (by decide +kernel) ⟨Nat.le_of_ble_eq_true rfl, Nat.le_of_ble_eq_true rfl⟩) hK hP [1, 2, 3, 4] rfl 2 rfl rfl rfl rfl hl.1 rfl (Nat.le_of_ble_eq_true rfl) dX0_out_64 ⟨Nat.zero_le _, Nat.zero_le _⟩ (fun v hv => ?_)
              exact W.lret (v := v) hx hb hr (fun t ht hW => ⟨v, rfl, (by rw [hv, e3, sj_oun, if_neg hneg, if_neg c29, if_neg c45, hg]), ht⟩) t_nil dX0_out_67
            · skip
              refine lv_aload_n hx hb dX0_out_48 rfl (lv_at hl 0 rfl) ?_
              refine va_get (D := (dC, dI)) (ci := 0) (v := .ref ho) (C := RX0) (T := TX0) (N := 9) hx hb hts in_X0 hown hK hP 0 rfl rfl 1 (by decide) (hts _ q67) (fun _ h9 => h9) rfl dX0_out_49 ?_
              refine lv_iload_n hx hb dX0_out_52 rfl (lv_at hl 1 rfl) ?_
              refine sj_callRl (As := [.int (nI j)]) (rest := []) ⟨hx, hb, hml, hown, hts⟩ (metX2_value l dC dI dJ dN dZ ho kb vb wb cb O.length gk gv gw hcap j (by omega)) (cwV 1 hts (lw_V q179 q180 q181 q13 q182) rfl rfl rfl (by decide +kernel) ⟨Nat.le_of_ble_eq_true rfl, Nat.le_of_ble_eq_true rfl⟩) hK hP [1, 2, 3, 4] rfl 2 rfl rfl rfl rfl hl.1 rfl (Nat.le_of_ble_eq_true rfl) dX0_out_53 ⟨Nat.zero_le _, Nat.zero_le _⟩ (fun v hv => ?_)
              refine lv_goto (tgt := 67) hx hb dX0_out_56 (by decide) ?_
              exact W.lret (v := v) hx hb hr (fun t ht hW => ⟨v, rfl, (by rw [hv, e2, sj_oun, if_neg hneg, if_neg c29, if_pos c45, hg]), ht⟩) t_nil dX0_out_67
          · skip
            refine lv_aload_n hx hb dX0_out_32 rfl (lv_at hl 0 rfl) ?_
            refine va_get (D := (dC, dI)) (ci := 0) (v := .ref ho) (C := RX0) (T := TX0) (N := 9) hx hb hts in_X0 hown hK hP 0 rfl rfl 1 (by decide) (hts _ q67) (fun _ h9 => h9) rfl dX0_out_33 ?_
            refine lv_iload_n hx hb dX0_out_36 rfl (lv_at hl 1 rfl) ?_
            refine sj_callRl (As := [.int (nI j)]) (rest := []) ⟨hx, hb, hml, hown, hts⟩ (metX2_key l dC dI dJ dN dZ ho kb vb wb cb O.length gk gv gw hcap j (by omega)) (cwV 1 hts (lw_V q175 q176 q177 q13 q178) rfl rfl rfl (by decide +kernel) ⟨Nat.le_of_ble_eq_true rfl, Nat.le_of_ble_eq_true rfl⟩) hK hP [1, 2, 3, 4] rfl 2 rfl rfl rfl rfl hl.1 rfl (Nat.le_of_ble_eq_true rfl) dX0_out_37 ⟨Nat.zero_le _, Nat.zero_le _⟩ (fun v hv => ?_)
            refine lv_goto (tgt := 67) hx hb dX0_out_40 (by decide) ?_
            exact W.lret (v := v) hx hb hr (fun t ht hW => ⟨v, rfl, (by rw [hv, e1, sj_oun, if_neg hneg, if_pos c29, hg]), ht⟩) t_nil dX0_out_67
        · skip
          refine lv_ldc2 (v := (-1)) hx hb hown (hts _ q102) dX0_out_24 ?_
          exact W.lret (v := (-1)) hx hb hr (fun t ht hW => ⟨(-1), rfl, (by rw [sj_oun, if_pos (Or.inr (Or.inr (Or.inr (Int32.not_le.mp c21))))]), ht⟩) t_nil dX0_out_27
set_option maxHeartbeats 4000000 in
set_option maxRecDepth 100000 in
/-- kept(key, span) -/
theorem metX0_kept (l : Launch) (dC : Nat → ClassId) (dI : Nat → Nat → Nat) (dJ dN dZ : ClassId) (h hs ho : Nat) (way size grace all taken late mark : Int32) (ka sa na cap : Nat) (fk : Nat → Int64) (fs : Nat → Int32) (fn : Nat → Int64) (hcap : cap ≤ 1000) (L : List sj_E) (hL : L.length ≤ cap) (hrl : sp_rep L fk fs fn) (hso : sj_so L) (ky : Int64) (sp : Int32) : Met l yX0_kept (ws_ yX0_kept cX0_kept 5 (some .long)) ({ frames := 3, cells := 0, slots := 0, locals := 74 }) (sj_Pr (dC, dI) [(h, .inr (0, [.ref hs, .ref ho, .int way, .int size, .int grace, .int all, .int taken, .int late, .int mark])), (hs, .inr (1, [.ref ka, .ref sa, .ref na, .int (nI L.length)])), (ka, .inl (dJ, cap, .inr (.inl fk))), (sa, .inl (dN, cap, .inl fs)), (na, .inl (dJ, cap, .inr (.inl fn)))] (sj_t dJ dN dZ) [.ref h, .long ky, .int sp]) (vp_Sl (fun r => r = sj_lk L sp ky)) 0 0 (fun _ => False) := by
  refine Met.ofW (cc := cX0_kept) (maxL := 5) (ret := (some .long)) (by decide) rfl ?_
  intro p e s m args below meth c s₁ B hml hv
  obtain ⟨rfl, hP, hK⟩ := hv
  have hx := B.exec
  have hb := B.bytes
  have hr := B.returns
  have hlocks := B.notSynchronized
  have hts := atoms_spec (ws := (ws_ yX0_kept cX0_kept 5 (some .long))) B.pre
  have hts : ∀ w ∈ lw_all, w.before _ s = true := fun w h => hts w (List.mem_cons_of_mem _ h)
  have hown : s.vm.findClass RX0 = some m.cls := findClass_of_methodNamed B.named
  have hP : va_P (dC, dI) vwCl [(h, .inr (0, [.ref hs, .ref ho, .int way, .int size, .int grace, .int all, .int taken, .int late, .int mark])), (hs, .inr (1, [.ref ka, .ref sa, .ref na, .int (nI L.length)])), (ka, .inl (dJ, cap, .inr (.inl fk))), (sa, .inl (dN, cap, .inl fs)), (na, .inl (dJ, cap, .inr (.inl fn)))] s.heap := hP
  have hl := lv_entry ([.ref h, .long ky, .int sp]) (n := 5) (Nat.le_of_ble_eq_true rfl)
  rw [lg_entry_eq]
  generalize (lg_sl ([.ref h, .long ky, .int sp]) ++ List.replicate (5 - (lg_sl ([.ref h, .long ky, .int sp])).length) Slot.unset).toArray = ls at hl ⊢
  have hl : lv_has ls 5 [(0, .ref h), (1, .long ky), (3, .int sp)] := hl
  refine lv_aload_n hx hb dX0_kept_0 rfl (lv_at hl 0 rfl) ?_
  refine va_get (D := (dC, dI)) (ci := 0) (v := .ref hs) (C := RX0) (T := TX0) (N := 9) hx hb hts in_X0 hown hK hP 0 rfl rfl 0 (by decide) (hts _ q66) (fun _ h9 => h9) rfl dX0_kept_1 ?_
  refine lv_iload_n hx hb dX0_kept_4 rfl (lv_at hl 2 rfl) ?_
  refine lv_lload_n hx hb dX0_kept_5 rfl (lv_at hl 1 rfl) ?_
  refine sj_callRi (As := [.int sp, .long ky]) (rest := []) ⟨hx, hb, hml, hown, hts⟩ (metX1_find l dC dI dJ dN dZ hs ka sa na cap L.length fk fs fn hcap hL sp ky (sj_rk L sp ky) (sj_rk_le L sp ky) (sj_b1 hrl sp ky) (sj_b2 hrl hso sp ky)) (cwV 2 hts (lw_V q109 q110 q111 q12 q112) rfl rfl rfl (by decide +kernel) ⟨Nat.le_of_ble_eq_true rfl, Nat.le_of_ble_eq_true rfl⟩) hK hP [1, 2, 3, 4] rfl 1 rfl rfl rfl rfl hl.1 rfl (Nat.le_of_ble_eq_true rfl) dX0_kept_6 ⟨Nat.zero_le _, Nat.zero_le _⟩ (fun v hv => ?_)
  by_cases hh : sj_rk L sp ky < L.length ∧ fs (sj_rk L sp ky) = sp ∧ fk (sj_rk L sp ky) = ky
  · skip
    rw [if_pos hh] at hv
    subst hv
    obtain ⟨x, hx9⟩ := sj_at L hh.1
    obtain ⟨e1, e2, e3⟩ := hrl _ x hx9
    refine lv_istore (lv' := [(4, .int (nI (sj_rk L sp ky))), (0, .ref h), (1, .long ky), (3, .int sp)]) hx hb dX0_kept_9 hl (by decide) rfl (fun ls hl => ?_)
    refine lv_iload hx hb dX0_kept_11 (lv_at hl 0 rfl) ?_
    refine lv_if_ge (tgt := 22) hx hb dX0_kept_13 (by decide) (fun c13 => ?_) (fun c13 => absurd (nI_pos' (by omega)) c13)
    refine lv_aload_n hx hb dX0_kept_22 rfl (lv_at hl 1 rfl) ?_
    refine va_get (D := (dC, dI)) (ci := 0) (v := .ref hs) (C := RX0) (T := TX0) (N := 9) hx hb hts in_X0 hown hK hP 0 rfl rfl 0 (by decide) (hts _ q66) (fun _ h9 => h9) rfl dX0_kept_23 ?_
    refine lv_iload hx hb dX0_kept_26 (lv_at hl 0 rfl) ?_
    refine sj_callRl (As := [.int (nI (sj_rk L sp ky))]) (rest := []) ⟨hx, hb, hml, hown, hts⟩ (metX1_number l dC dI dJ dN dZ hs ka sa na cap L.length fk fs fn hcap (sj_rk L sp ky) (by omega)) (cwV 1 hts (lw_V q121 q122 q123 q12 q124) rfl rfl rfl (by decide +kernel) ⟨Nat.le_of_ble_eq_true rfl, Nat.le_of_ble_eq_true rfl⟩) hK hP [1, 2, 3, 4] rfl 1 rfl rfl rfl rfl hl.1 rfl (Nat.le_of_ble_eq_true rfl) dX0_kept_28 ⟨Nat.zero_le _, Nat.zero_le _⟩ (fun v2 hv2 => ?_)
    exact W.lret (v := v2) hx hb hr (fun t ht hW => ⟨v2, rfl, (by rw [hv2, e3, sj_lk_hit L sp ky x hx9 ⟨e1.symm.trans hh.2.1, e2.symm.trans hh.2.2⟩]), ht⟩) t_nil dX0_kept_31
  · skip
    rw [if_neg hh] at hv
    subst hv
    refine lv_istore (lv' := [(4, .int (-1)), (0, .ref h), (1, .long ky), (3, .int sp)]) hx hb dX0_kept_9 hl (by decide) rfl (fun ls hl => ?_)
    refine lv_iload hx hb dX0_kept_11 (lv_at hl 0 rfl) ?_
    refine lv_if_ge (tgt := 22) hx hb dX0_kept_13 (by decide) (fun c13 => absurd c13 (by decide)) (fun c13 => ?_)
    refine lv_ldc2 (v := (-1)) hx hb hown (hts _ q102) dX0_kept_16 ?_
    refine lv_goto (tgt := 31) hx hb dX0_kept_19 (by decide) ?_
    exact W.lret (v := (-1)) hx hb hr (fun t ht hW => ⟨(-1), rfl, (sj_lk_miss L hso sp ky (fun x hx9 he => hh ⟨(List.getElem?_eq_some_iff.mp hx9).1, (hrl _ x hx9).1.trans he.1, (hrl _ x hx9).2.1.trans he.2⟩)).symm, ht⟩) t_nil dX0_kept_31
set_option maxHeartbeats 4000000 in
set_option maxRecDepth 100000 in
/-- begin(way, size, grace) -/
theorem metX0_begin (l : Launch) (dC : Nat → ClassId) (dI : Nat → Nat → Nat) (dJ dN dZ : ClassId) (sz : Nat) (h hs ho : Nat) (way size grace all taken late mark : Int32) (ka sa na n kb vb wb n2 : Nat) (xa xb xc : Int32) : Met l yX0_begin (ws_ yX0_begin cX0_begin 4 (some .boolean)) ({ frames := 0, cells := 0, slots := 0, locals := 0 }) (sj_Pw (dC, dI) [(h, .inr (0, [.ref hs, .ref ho, .int way, .int size, .int grace, .int all, .int taken, .int late, .int mark])), (hs, .inr (1, [.ref ka, .ref sa, .ref na, .int (nI n)])), (ho, .inr (2, [.ref kb, .ref vb, .ref wb, .int (nI n2)]))] (sj_t dJ dN dZ) sz [.ref h, .int xa, .int xb, .int xc]) (va_Qi (fun (r : Int32) (u : (Int32 × Int32 × Int32 × Int32 × Int32 × Int32) × Nat × Nat) => (sj_bad xa xb xc ∧ r = 0 ∧ u = ((way, size, grace, taken, late, mark), n, n2)) ∨ (¬ sj_bad xa xb xc ∧ r = 1 ∧ u = ((xa, xb, xc, 0, 0, -1), 0, 0))) (sj_B (dC, dI) (va_A [(h, .inr (0, [.ref hs, .ref ho, .int way, .int size, .int grace, .int all, .int taken, .int late, .int mark])), (hs, .inr (1, [.ref ka, .ref sa, .ref na, .int (nI n)])), (ho, .inr (2, [.ref kb, .ref vb, .ref wb, .int (nI n2)]))] sz) (fun u : (Int32 × Int32 × Int32 × Int32 × Int32 × Int32) × Nat × Nat => [(h, .inr (0, [.ref hs, .ref ho, .int u.1.1, .int u.1.2.1, .int u.1.2.2.1, .int all, .int u.1.2.2.2.1, .int u.1.2.2.2.2.1, .int u.1.2.2.2.2.2])), (hs, .inr (1, [.ref ka, .ref sa, .ref na, .int (nI u.2.1)])), (ho, .inr (2, [.ref kb, .ref vb, .ref wb, .int (nI u.2.2)]))])) (va_A [(h, .inr (0, [.ref hs, .ref ho, .int way, .int size, .int grace, .int all, .int taken, .int late, .int mark])), (hs, .inr (1, [.ref ka, .ref sa, .ref na, .int (nI n)])), (ho, .inr (2, [.ref kb, .ref vb, .ref wb, .int (nI n2)]))] sz)) 0 0 (va_A [(h, .inr (0, [.ref hs, .ref ho, .int way, .int size, .int grace, .int all, .int taken, .int late, .int mark])), (hs, .inr (1, [.ref ka, .ref sa, .ref na, .int (nI n)])), (ho, .inr (2, [.ref kb, .ref vb, .ref wb, .int (nI n2)]))] sz) := by
  refine Met.ofW (cc := cX0_begin) (maxL := 4) (ret := (some .boolean)) (by decide) rfl ?_
  intro p e s m args below meth c s₁ B hml hv
  obtain ⟨rfl, hsz, hP, hK, hD0⟩ := hv
  have hx := B.exec
  have hb := B.bytes
  have hr := B.returns
  have hlocks := B.notSynchronized
  have hts := atoms_spec (ws := (ws_ yX0_begin cX0_begin 4 (some .boolean))) B.pre
  have hts : ∀ w ∈ lw_all, w.before _ s = true := fun w h => hts w (List.mem_cons_of_mem _ h)
  have hown : s.vm.findClass RX0 = some m.cls := findClass_of_methodNamed B.named
  subst hsz
  have hD := hD0.self (sz := s.heap.size)
  generalize hAe : va_A [(h, .inr (0, [.ref hs, .ref ho, .int way, .int size, .int grace, .int all, .int taken, .int late, .int mark])), (hs, .inr (1, [.ref ka, .ref sa, .ref na, .int (nI n)])), (ho, .inr (2, [.ref kb, .ref vb, .ref wb, .int (nI n2)]))] s.heap.size = A at hD ⊢
  have hA : ∀ q : Nat, s.heap.size ≤ q → A q := fun q h => by rw [← hAe]; exact Or.inr h
  have hS : va_S A s.heap s.heap [] := va_S.rf
  have hP : va_P (dC, dI) vwCl [(h, .inr (0, [.ref hs, .ref ho, .int way, .int size, .int grace, .int all, .int taken, .int late, .int mark])), (hs, .inr (1, [.ref ka, .ref sa, .ref na, .int (nI n)])), (ho, .inr (2, [.ref kb, .ref vb, .ref wb, .int (nI n2)]))] s.heap := hP
  have hl := lv_entry ([.ref h, .int xa, .int xb, .int xc]) (n := 4) (Nat.le_of_ble_eq_true rfl)
  rw [lg_entry_eq]
  generalize (lg_sl ([.ref h, .int xa, .int xb, .int xc]) ++ List.replicate (4 - (lg_sl ([.ref h, .int xa, .int xb, .int xc])).length) Slot.unset).toArray = ls at hl ⊢
  have hl : lv_has ls 4 [(0, .ref h), (1, .int xa), (2, .int xb), (3, .int xc)] := hl
  refine lv_iload_n hx hb dX0_begin_0 rfl (lv_at hl 1 rfl) ?_
  refine lv_if_lt (tgt := 32) hx hb dX0_begin_1 (by decide) (fun c1 => ?_) (fun c1 => ?_)
  · skip
    refine lv_iconst (v := 0) hx hb dX0_begin_32 (by decide) ?_
    exact W.zret (v := 0) hx hb hr rfl (fun t ht hW => ⟨⟨0, ((way, size, grace, taken, late, mark), n, n2), rfl, Or.inl ⟨Or.inl c1, rfl, rfl⟩, by rw [ht]; exact hP, hD⟩, hS.F ht⟩) hS.2.2 dX0_begin_33
  · skip
    refine lv_iload_n hx hb dX0_begin_4 rfl (lv_at hl 1 rfl) ?_
    refine lv_iconst (v := 2) hx hb dX0_begin_5 (by decide) ?_
    refine lv_icmp_gt (tgt := 32) hx hb dX0_begin_6 (by decide) (fun c6 => ?_) (fun c6 => ?_)
    · skip
      refine lv_iconst (v := 0) hx hb dX0_begin_32 (by decide) ?_
      exact W.zret (v := 0) hx hb hr rfl (fun t ht hW => ⟨⟨0, ((way, size, grace, taken, late, mark), n, n2), rfl, Or.inl ⟨Or.inr (Or.inl c6), rfl, rfl⟩, by rw [ht]; exact hP, hD⟩, hS.F ht⟩) hS.2.2 dX0_begin_33
    · skip
      refine lv_iload_n hx hb dX0_begin_9 rfl (lv_at hl 2 rfl) ?_
      refine lv_iconst (v := 1) hx hb dX0_begin_10 (by decide) ?_
      refine lv_icmp_lt (tgt := 32) hx hb dX0_begin_11 (by decide) (fun c11 => ?_) (fun c11 => ?_)
      · skip
        refine lv_iconst (v := 0) hx hb dX0_begin_32 (by decide) ?_
        exact W.zret (v := 0) hx hb hr rfl (fun t ht hW => ⟨⟨0, ((way, size, grace, taken, late, mark), n, n2), rfl, Or.inl ⟨Or.inr (Or.inr (Or.inl c11)), rfl, rfl⟩, by rw [ht]; exact hP, hD⟩, hS.F ht⟩) hS.2.2 dX0_begin_33
      · skip
        refine lv_iload_n hx hb dX0_begin_14 rfl (lv_at hl 2 rfl) ?_
        refine lv_sipush (v := 1000) hx hb dX0_begin_15 (by decide) ?_
        refine lv_icmp_gt (tgt := 32) hx hb dX0_begin_18 (by decide) (fun c18 => ?_) (fun c18 => ?_)
        · skip
          refine lv_iconst (v := 0) hx hb dX0_begin_32 (by decide) ?_
          exact W.zret (v := 0) hx hb hr rfl (fun t ht hW => ⟨⟨0, ((way, size, grace, taken, late, mark), n, n2), rfl, Or.inl ⟨Or.inr (Or.inr (Or.inr (Or.inl c18))), rfl, rfl⟩, by rw [ht]; exact hP, hD⟩, hS.F ht⟩) hS.2.2 dX0_begin_33
        · skip
          refine lv_iload_n hx hb dX0_begin_21 rfl (lv_at hl 3 rfl) ?_
          refine lv_if_lt (tgt := 32) hx hb dX0_begin_22 (by decide) (fun c22 => ?_) (fun c22 => ?_)
          · skip
            refine lv_iconst (v := 0) hx hb dX0_begin_32 (by decide) ?_
            exact W.zret (v := 0) hx hb hr rfl (fun t ht hW => ⟨⟨0, ((way, size, grace, taken, late, mark), n, n2), rfl, Or.inl ⟨Or.inr (Or.inr (Or.inr (Or.inr (Or.inl c22)))), rfl, rfl⟩, by rw [ht]; exact hP, hD⟩, hS.F ht⟩) hS.2.2 dX0_begin_33
          · skip
            refine lv_iload_n hx hb dX0_begin_25 rfl (lv_at hl 3 rfl) ?_
            refine lv_sipush (v := 1000) hx hb dX0_begin_26 (by decide) ?_
            refine lv_icmp_le (tgt := 34) hx hb dX0_begin_29 (by decide) (fun c29 => ?_) (fun c29 => ?_)
            · skip
              refine lv_aload_n hx hb dX0_begin_34 rfl (lv_at hl 0 rfl) ?_
              refine lv_iload_n hx hb dX0_begin_35 rfl (lv_at hl 1 rfl) ?_
              refine va_put (D := (dC, dI)) (ci := 0) (v := .int xa) (ty := .int) (C := RX0) (T := TX0) (N := 9) hx hb hts in_X0 tyX0 tyX0_ok nmX0 hown hK hP hD hS 0 rfl rfl 2 (by decide) (hts _ q68) (fun _ h9 => h9) rfl (by decide +kernel) rfl rfl (Nat.le_of_ble_eq_true rfl) dX0_begin_36 (fun H locs hP hD hS => ?_)
              have hP : va_P (dC, dI) vwCl [(h, .inr (0, [.ref hs, .ref ho, .int xa, .int size, .int grace, .int all, .int taken, .int late, .int mark])), (hs, .inr (1, [.ref ka, .ref sa, .ref na, .int (nI n)])), (ho, .inr (2, [.ref kb, .ref vb, .ref wb, .int (nI n2)]))] H := hP
              have hD : va_D A [(h, .inr (0, [.ref hs, .ref ho, .int xa, .int size, .int grace, .int all, .int taken, .int late, .int mark])), (hs, .inr (1, [.ref ka, .ref sa, .ref na, .int (nI n)])), (ho, .inr (2, [.ref kb, .ref vb, .ref wb, .int (nI n2)]))] := hD
              refine lv_aload_n hx hb dX0_begin_39 rfl (lv_at hl 0 rfl) ?_
              refine lv_iload_n hx hb dX0_begin_40 rfl (lv_at hl 2 rfl) ?_
              refine va_put (D := (dC, dI)) (ci := 0) (v := .int xb) (ty := .int) (C := RX0) (T := TX0) (N := 9) hx hb hts in_X0 tyX0 tyX0_ok nmX0 hown hK hP hD hS 0 rfl rfl 3 (by decide) (hts _ q69) (fun _ h9 => h9) rfl (by decide +kernel) rfl rfl (Nat.le_of_ble_eq_true rfl) dX0_begin_41 (fun H locs hP hD hS => ?_)
              have hP : va_P (dC, dI) vwCl [(h, .inr (0, [.ref hs, .ref ho, .int xa, .int xb, .int grace, .int all, .int taken, .int late, .int mark])), (hs, .inr (1, [.ref ka, .ref sa, .ref na, .int (nI n)])), (ho, .inr (2, [.ref kb, .ref vb, .ref wb, .int (nI n2)]))] H := hP
              have hD : va_D A [(h, .inr (0, [.ref hs, .ref ho, .int xa, .int xb, .int grace, .int all, .int taken, .int late, .int mark])), (hs, .inr (1, [.ref ka, .ref sa, .ref na, .int (nI n)])), (ho, .inr (2, [.ref kb, .ref vb, .ref wb, .int (nI n2)]))] := hD
              refine lv_aload_n hx hb dX0_begin_44 rfl (lv_at hl 0 rfl) ?_
              refine lv_iload_n hx hb dX0_begin_45 rfl (lv_at hl 3 rfl) ?_
              refine va_put (D := (dC, dI)) (ci := 0) (v := .int xc) (ty := .int) (C := RX0) (T := TX0) (N := 9) hx hb hts in_X0 tyX0 tyX0_ok nmX0 hown hK hP hD hS 0 rfl rfl 4 (by decide) (hts _ q70) (fun _ h9 => h9) rfl (by decide +kernel) rfl rfl (Nat.le_of_ble_eq_true rfl) dX0_begin_46 (fun H locs hP hD hS => ?_)
              have hP : va_P (dC, dI) vwCl [(h, .inr (0, [.ref hs, .ref ho, .int xa, .int xb, .int xc, .int all, .int taken, .int late, .int mark])), (hs, .inr (1, [.ref ka, .ref sa, .ref na, .int (nI n)])), (ho, .inr (2, [.ref kb, .ref vb, .ref wb, .int (nI n2)]))] H := hP
              have hD : va_D A [(h, .inr (0, [.ref hs, .ref ho, .int xa, .int xb, .int xc, .int all, .int taken, .int late, .int mark])), (hs, .inr (1, [.ref ka, .ref sa, .ref na, .int (nI n)])), (ho, .inr (2, [.ref kb, .ref vb, .ref wb, .int (nI n2)]))] := hD
              refine lv_aload_n hx hb dX0_begin_49 rfl (lv_at hl 0 rfl) ?_
              refine va_get (D := (dC, dI)) (ci := 0) (v := .ref hs) (C := RX0) (T := TX0) (N := 9) hx hb hts in_X0 hown hK hP 0 rfl rfl 0 (by decide) (hts _ q66) (fun _ h9 => h9) rfl dX0_begin_50 ?_
              refine lv_iconst (v := nI 0) hx hb dX0_begin_53 (by decide) ?_
              refine va_put (D := (dC, dI)) (ci := 1) (v := .int (nI 0)) (ty := .int) (C := RX1) (T := TX1) (N := 4) hx hb hts in_X1 tyX1 tyX1_ok nmX1 hown hK hP hD hS 1 rfl rfl 3 (by decide) (hts _ q33) (fun _ h9 => h9) rfl (by decide +kernel) rfl rfl (Nat.le_of_ble_eq_true rfl) dX0_begin_54 (fun H locs hP hD hS => ?_)
              have hP : va_P (dC, dI) vwCl [(h, .inr (0, [.ref hs, .ref ho, .int xa, .int xb, .int xc, .int all, .int taken, .int late, .int mark])), (hs, .inr (1, [.ref ka, .ref sa, .ref na, .int (nI 0)])), (ho, .inr (2, [.ref kb, .ref vb, .ref wb, .int (nI n2)]))] H := hP
              have hD : va_D A [(h, .inr (0, [.ref hs, .ref ho, .int xa, .int xb, .int xc, .int all, .int taken, .int late, .int mark])), (hs, .inr (1, [.ref ka, .ref sa, .ref na, .int (nI 0)])), (ho, .inr (2, [.ref kb, .ref vb, .ref wb, .int (nI n2)]))] := hD
              refine lv_aload_n hx hb dX0_begin_57 rfl (lv_at hl 0 rfl) ?_
              refine va_get (D := (dC, dI)) (ci := 0) (v := .ref ho) (C := RX0) (T := TX0) (N := 9) hx hb hts in_X0 hown hK hP 0 rfl rfl 1 (by decide) (hts _ q67) (fun _ h9 => h9) rfl dX0_begin_58 ?_
              refine lv_iconst (v := nI 0) hx hb dX0_begin_61 (by decide) ?_
              refine va_put (D := (dC, dI)) (ci := 2) (v := .int (nI 0)) (ty := .int) (C := RX2) (T := TX2) (N := 4) hx hb hts in_X2 tyX2 tyX2_ok nmX2 hown hK hP hD hS 2 rfl rfl 3 (by decide) (hts _ q56) (fun _ h9 => h9) rfl (by decide +kernel) rfl rfl (Nat.le_of_ble_eq_true rfl) dX0_begin_62 (fun H locs hP hD hS => ?_)
              have hP : va_P (dC, dI) vwCl [(h, .inr (0, [.ref hs, .ref ho, .int xa, .int xb, .int xc, .int all, .int taken, .int late, .int mark])), (hs, .inr (1, [.ref ka, .ref sa, .ref na, .int (nI 0)])), (ho, .inr (2, [.ref kb, .ref vb, .ref wb, .int (nI 0)]))] H := hP
              have hD : va_D A [(h, .inr (0, [.ref hs, .ref ho, .int xa, .int xb, .int xc, .int all, .int taken, .int late, .int mark])), (hs, .inr (1, [.ref ka, .ref sa, .ref na, .int (nI 0)])), (ho, .inr (2, [.ref kb, .ref vb, .ref wb, .int (nI 0)]))] := hD
              refine lv_aload_n hx hb dX0_begin_65 rfl (lv_at hl 0 rfl) ?_
              refine lv_iconst (v := 0) hx hb dX0_begin_66 (by decide) ?_
              refine va_put (D := (dC, dI)) (ci := 0) (v := .int 0) (ty := .int) (C := RX0) (T := TX0) (N := 9) hx hb hts in_X0 tyX0 tyX0_ok nmX0 hown hK hP hD hS 0 rfl rfl 6 (by decide) (hts _ q72) (fun _ h9 => h9) rfl (by decide +kernel) rfl rfl (Nat.le_of_ble_eq_true rfl) dX0_begin_67 (fun H locs hP hD hS => ?_)
              have hP : va_P (dC, dI) vwCl [(h, .inr (0, [.ref hs, .ref ho, .int xa, .int xb, .int xc, .int all, .int 0, .int late, .int mark])), (hs, .inr (1, [.ref ka, .ref sa, .ref na, .int (nI 0)])), (ho, .inr (2, [.ref kb, .ref vb, .ref wb, .int (nI 0)]))] H := hP
              have hD : va_D A [(h, .inr (0, [.ref hs, .ref ho, .int xa, .int xb, .int xc, .int all, .int 0, .int late, .int mark])), (hs, .inr (1, [.ref ka, .ref sa, .ref na, .int (nI 0)])), (ho, .inr (2, [.ref kb, .ref vb, .ref wb, .int (nI 0)]))] := hD
              refine lv_aload_n hx hb dX0_begin_70 rfl (lv_at hl 0 rfl) ?_
              refine lv_iconst (v := 0) hx hb dX0_begin_71 (by decide) ?_
              refine va_put (D := (dC, dI)) (ci := 0) (v := .int 0) (ty := .int) (C := RX0) (T := TX0) (N := 9) hx hb hts in_X0 tyX0 tyX0_ok nmX0 hown hK hP hD hS 0 rfl rfl 7 (by decide) (hts _ q73) (fun _ h9 => h9) rfl (by decide +kernel) rfl rfl (Nat.le_of_ble_eq_true rfl) dX0_begin_72 (fun H locs hP hD hS => ?_)
              have hP : va_P (dC, dI) vwCl [(h, .inr (0, [.ref hs, .ref ho, .int xa, .int xb, .int xc, .int all, .int 0, .int 0, .int mark])), (hs, .inr (1, [.ref ka, .ref sa, .ref na, .int (nI 0)])), (ho, .inr (2, [.ref kb, .ref vb, .ref wb, .int (nI 0)]))] H := hP
              have hD : va_D A [(h, .inr (0, [.ref hs, .ref ho, .int xa, .int xb, .int xc, .int all, .int 0, .int 0, .int mark])), (hs, .inr (1, [.ref ka, .ref sa, .ref na, .int (nI 0)])), (ho, .inr (2, [.ref kb, .ref vb, .ref wb, .int (nI 0)]))] := hD
              refine lv_aload_n hx hb dX0_begin_75 rfl (lv_at hl 0 rfl) ?_
              refine lv_iconst (v := (-1)) hx hb dX0_begin_76 (by decide) ?_
              refine va_put (D := (dC, dI)) (ci := 0) (v := .int (-1)) (ty := .int) (C := RX0) (T := TX0) (N := 9) hx hb hts in_X0 tyX0 tyX0_ok nmX0 hown hK hP hD hS 0 rfl rfl 8 (by decide) (hts _ q74) (fun _ h9 => h9) rfl (by decide +kernel) rfl rfl (Nat.le_of_ble_eq_true rfl) dX0_begin_77 (fun H locs hP hD hS => ?_)
              have hP : va_P (dC, dI) vwCl [(h, .inr (0, [.ref hs, .ref ho, .int xa, .int xb, .int xc, .int all, .int 0, .int 0, .int (-1)])), (hs, .inr (1, [.ref ka, .ref sa, .ref na, .int (nI 0)])), (ho, .inr (2, [.ref kb, .ref vb, .ref wb, .int (nI 0)]))] H := hP
              have hD : va_D A [(h, .inr (0, [.ref hs, .ref ho, .int xa, .int xb, .int xc, .int all, .int 0, .int 0, .int (-1)])), (hs, .inr (1, [.ref ka, .ref sa, .ref na, .int (nI 0)])), (ho, .inr (2, [.ref kb, .ref vb, .ref wb, .int (nI 0)]))] := hD
              refine lv_iconst (v := 1) hx hb dX0_begin_80 (by decide) ?_
              exact W.zret (v := 1) hx hb hr rfl (fun t ht hW => ⟨⟨1, ((xa, xb, xc, 0, 0, -1), 0, 0), rfl, Or.inr ⟨fun h => h.elim c1 (fun h => h.elim c6 (fun h => h.elim c11 (fun h => h.elim c18 (fun h => h.elim c22 (fun h => absurd c29 (Int32.not_le.mpr h)))))), rfl, rfl⟩, by rw [ht]; exact hP, hD⟩, hS.F ht⟩) hS.2.2 dX0_begin_81
            · skip
              refine lv_iconst (v := 0) hx hb dX0_begin_32 (by decide) ?_
              exact W.zret (v := 0) hx hb hr rfl (fun t ht hW => ⟨⟨0, ((way, size, grace, taken, late, mark), n, n2), rfl, Or.inl ⟨Or.inr (Or.inr (Or.inr (Or.inr (Or.inr (Int32.not_le.mp c29))))), rfl, rfl⟩, by rw [ht]; exact hP, hD⟩, hS.F ht⟩) hS.2.2 dX0_begin_33
end
section
/-! SPANJOBS: its constructor -/
set_option maxRecDepth 100000
set_option maxHeartbeats 4000000 in
set_option maxRecDepth 100000 in
/-- SpanJobs(): its two parts -/
theorem metX0_init (l : Launch) (dC : Nat → ClassId) (dI : Nat → Nat → Nat) (dJ dN dZ : ClassId) (sz : Nat) (h : Nat) : Met l yX0_init (ws_ yX0_init cX0_init 1 none) ({ frames := 2, cells := 8, slots := 104, locals := 32 }) (va_Pc [.ref h] (fun U => U.heap.size = sz ∧ va_P (dC, dI) vwCl [(h, .inr (0, [.null, .null, .int 0, .int 0, .int 0, .int 0, .int 0, .int 0, .int 0]))] U.heap ∧ va_K (dC, dI) vwCl (sj_t dJ dN dZ) U ∧ va_D (fun _ => True) [(h, .inr (0, [.null, .null, .int 0, .int 0, .int 0, .int 0, .int 0, .int 0, .int 0]))] ∧ va_Nw (.methodLinkNest "SpanJobs" 9 yX1_init "SpanJobs") U ∧ va_Nw (.methodLinkNest "SpanJobs" 18 yX2_init "SpanJobs") U)) (va_Qv (fun u : (Nat × Nat × Nat × Nat) × Nat × Nat × Nat × Nat => True) (sj_B (dC, dI) (va_A [(h, .inr (0, [.null, .null, .int 0, .int 0, .int 0, .int 0, .int 0, .int 0, .int 0]))] sz) (fun u : (Nat × Nat × Nat × Nat) × Nat × Nat × Nat × Nat => [(h, .inr (0, [.ref u.1.1, .ref u.2.1, .int 0, .int 1, .int 0, .int 0, .int 0, .int 0, .int (-1)])), (u.1.1, .inr (1, [.ref u.1.2.1, .ref u.1.2.2.1, .ref u.1.2.2.2, .int (nI 0)])), (u.1.2.1, .inl (dJ, 16, .inr (.inl (fun _ => 0)))), (u.1.2.2.1, .inl (dN, 16, .inl (fun _ => 0))), (u.1.2.2.2, .inl (dJ, 16, .inr (.inl (fun _ => 0)))), (u.2.1, .inr (2, [.ref u.2.2.1, .ref u.2.2.2.1, .ref u.2.2.2.2, .int (nI 0)])), (u.2.2.1, .inl (dJ, 16, .inr (.inl (fun _ => 0)))), (u.2.2.2.1, .inl (dJ, 16, .inr (.inl (fun _ => 0)))), (u.2.2.2.2, .inl (dJ, 16, .inr (.inl (fun _ => 0))))])) (va_A [(h, .inr (0, [.null, .null, .int 0, .int 0, .int 0, .int 0, .int 0, .int 0, .int 0]))] sz)) 8 104 (va_A [(h, .inr (0, [.null, .null, .int 0, .int 0, .int 0, .int 0, .int 0, .int 0, .int 0]))] sz) := by
  refine Met.ofW (cc := cX0_init) (maxL := 1) (ret := none) (by decide) rfl ?_
  intro p e s m args below meth c s₁ B hml hv
  obtain ⟨rfl, hsz, hP, hK, hD0, hN0, hN1⟩ := hv
  have hx := B.exec
  have hb := B.bytes
  have hr := B.returns
  have hlocks := B.notSynchronized
  have hts := atoms_spec (ws := (ws_ yX0_init cX0_init 1 none)) B.pre
  have hts : ∀ w ∈ lw_all, w.before _ s = true := fun w h => hts w (List.mem_cons_of_mem _ h)
  have hown : s.vm.findClass RX0 = some m.cls := findClass_of_methodNamed B.named
  have hin : meth.name = "<init>" := (name_of_methodNamed B.named B.method).1
  subst hsz
  have hD := hD0.self (sz := s.heap.size)
  generalize hAe : va_A [(h, .inr (0, [.null, .null, .int 0, .int 0, .int 0, .int 0, .int 0, .int 0, .int 0]))] s.heap.size = A at hD ⊢
  have hA : ∀ q : Nat, s.heap.size ≤ q → A q := fun q h => by rw [← hAe]; exact Or.inr h
  have hS : va_S A s.heap s.heap [] := va_S.rf
  have hP : va_P (dC, dI) vwCl [(h, .inr (0, [.null, .null, .int 0, .int 0, .int 0, .int 0, .int 0, .int 0, .int 0]))] s.heap := hP
  have hl := lv_entry ([.ref h]) (n := 1) (Nat.le_of_ble_eq_true rfl)
  rw [lg_entry_eq]
  generalize (lg_sl ([.ref h]) ++ List.replicate (1 - (lg_sl ([.ref h])).length) Slot.unset).toArray = ls at hl ⊢
  have hl : lv_has ls 1 [(0, .ref h)] := hl
  refine lv_aload_n hx hb dX0_init_0 rfl (lv_at hl 0 rfl) ?_
  refine W.objInit hx hb hown (hts _ q21) (hts _ q22) (hts _ q23) rfl (by rw [hml]; exact hl.1) rfl dX0_init_1 (Nat.le_of_ble_eq_true rfl) (Nat.le_of_ble_eq_true rfl) ?_
  refine W.eq (g2 := F0 m 4 ls []) rfl ?_
  refine lv_aload_n hx hb dX0_init_4 rfl (lv_at hl 0 rfl) ?_
  refine va_new (ci := 1) (fs := [.null, .null, .null, .int 0]) (C := RX1) (T := TX1) (N := 4) hx hb hts in_X1 tyX1 tyX1_ok hown (hts _ q24) (hts _ q25) (hts _ q12) hK hP hD hS hA rfl (fun j hj => by rcases (show j = 0 ∨ j = 1 ∨ j = 2 ∨ j = 3 by omega) with rfl | rfl | rfl | rfl <;> rfl) (Nat.le_of_ble_eq_true rfl) (Nat.le_of_ble_eq_true rfl) dX0_init_5 (fun qs H hP hD hS => ?_)
  have hP : va_P (dC, dI) vwCl [(h, .inr (0, [.null, .null, .int 0, .int 0, .int 0, .int 0, .int 0, .int 0, .int 0])), (qs, .inr (1, [.null, .null, .null, .int 0]))] H := hP
  have hD : va_D A [(h, .inr (0, [.null, .null, .int 0, .int 0, .int 0, .int 0, .int 0, .int 0, .int 0])), (qs, .inr (1, [.null, .null, .null, .int 0]))] := hD
  refine W.widen (k := 1) (n := 4) (Nat.le_of_ble_eq_true rfl) (Nat.le_of_ble_eq_true rfl) ?_
  refine lv_dup hx hb dX0_init_8 rfl ?_
  refine sj_callIN (As := []) (rest := [.ref qs, .ref h]) (wr := [(h, .inr (0, [.null, .null, .int 0, .int 0, .int 0, .int 0, .int 0, .int 0, .int 0]))]) ⟨hx, hb, hml, hown, hts⟩ (metX1_init l dC dI dJ dN dZ _ qs) ⟨va_cnB 0 hts (lw_meth q28) rfl rfl rfl hN0 (hts _ q12) (by decide +kernel) ⟨(Nat.le_of_ble_eq_true rfl), (Nat.le_of_ble_eq_true rfl)⟩, rfl, hts _ q27⟩ hK hP hD hS hA [1] [0] rfl rfl rfl (by decide) (by decide) (by decide) rfl hl.1 rfl (Nat.le_of_ble_eq_true rfl) dX0_init_9 ⟨(Nat.le_of_ble_eq_true rfl), (Nat.le_of_ble_eq_true rfl)⟩ (fun u H locs hw hP hD hS => ?_)
  obtain ⟨a1, a2, a3⟩ := u
  have hP : va_P (dC, dI) vwCl [(h, .inr (0, [.null, .null, .int 0, .int 0, .int 0, .int 0, .int 0, .int 0, .int 0])), (qs, .inr (1, [.ref a1, .ref a2, .ref a3, .int (nI 0)])), (a1, .inl (dJ, 16, .inr (.inl (fun _ => 0)))), (a2, .inl (dN, 16, .inl (fun _ => 0))), (a3, .inl (dJ, 16, .inr (.inl (fun _ => 0))))] H := hP
  have hD : va_D A [(h, .inr (0, [.null, .null, .int 0, .int 0, .int 0, .int 0, .int 0, .int 0, .int 0])), (qs, .inr (1, [.ref a1, .ref a2, .ref a3, .int (nI 0)])), (a1, .inl (dJ, 16, .inr (.inl (fun _ => 0)))), (a2, .inl (dN, 16, .inl (fun _ => 0))), (a3, .inl (dJ, 16, .inr (.inl (fun _ => 0))))] := hD
  refine va_putF (D := (dC, dI)) (ci := 0) (v := .ref qs) (ty := .object "SpanJobs$Spans") (C := RX0) (T := TX0) (N := 9) hx hb hts in_X0 tyX0 tyX0_ok nmX0 hown hK hP hD hS 0 rfl rfl 0 (by decide) (hts _ q66) (fun _ h9 => h9) rfl hin rfl (by decide +kernel) rfl rfl (Nat.le_of_ble_eq_true rfl) dX0_init_12 (fun H locs hP hD hS => ?_)
  have hP : va_P (dC, dI) vwCl [(h, .inr (0, [.ref qs, .null, .int 0, .int 0, .int 0, .int 0, .int 0, .int 0, .int 0])), (qs, .inr (1, [.ref a1, .ref a2, .ref a3, .int (nI 0)])), (a1, .inl (dJ, 16, .inr (.inl (fun _ => 0)))), (a2, .inl (dN, 16, .inl (fun _ => 0))), (a3, .inl (dJ, 16, .inr (.inl (fun _ => 0))))] H := hP
  have hD : va_D A [(h, .inr (0, [.ref qs, .null, .int 0, .int 0, .int 0, .int 0, .int 0, .int 0, .int 0])), (qs, .inr (1, [.ref a1, .ref a2, .ref a3, .int (nI 0)])), (a1, .inl (dJ, 16, .inr (.inl (fun _ => 0)))), (a2, .inl (dN, 16, .inl (fun _ => 0))), (a3, .inl (dJ, 16, .inr (.inl (fun _ => 0))))] := hD
  refine lv_aload_n hx hb dX0_init_15 rfl (lv_at hl 0 rfl) ?_
  refine va_new (ci := 2) (fs := [.null, .null, .null, .int 0]) (C := RX2) (T := TX2) (N := 4) hx hb hts in_X2 tyX2 tyX2_ok hown (hts _ q46) (hts _ q47) (hts _ q13) hK hP hD hS hA rfl (fun j hj => by rcases (show j = 0 ∨ j = 1 ∨ j = 2 ∨ j = 3 by omega) with rfl | rfl | rfl | rfl <;> rfl) (Nat.le_of_ble_eq_true rfl) (Nat.le_of_ble_eq_true rfl) dX0_init_16 (fun qo H hP hD hS => ?_)
  have hP : va_P (dC, dI) vwCl [(h, .inr (0, [.ref qs, .null, .int 0, .int 0, .int 0, .int 0, .int 0, .int 0, .int 0])), (qs, .inr (1, [.ref a1, .ref a2, .ref a3, .int (nI 0)])), (a1, .inl (dJ, 16, .inr (.inl (fun _ => 0)))), (a2, .inl (dN, 16, .inl (fun _ => 0))), (a3, .inl (dJ, 16, .inr (.inl (fun _ => 0)))), (qo, .inr (2, [.null, .null, .null, .int 0]))] H := hP
  have hD : va_D A [(h, .inr (0, [.ref qs, .null, .int 0, .int 0, .int 0, .int 0, .int 0, .int 0, .int 0])), (qs, .inr (1, [.ref a1, .ref a2, .ref a3, .int (nI 0)])), (a1, .inl (dJ, 16, .inr (.inl (fun _ => 0)))), (a2, .inl (dN, 16, .inl (fun _ => 0))), (a3, .inl (dJ, 16, .inr (.inl (fun _ => 0)))), (qo, .inr (2, [.null, .null, .null, .int 0]))] := hD
  refine W.widen (k := 5) (n := 56) (Nat.le_of_ble_eq_true rfl) (Nat.le_of_ble_eq_true rfl) ?_
  refine lv_dup hx hb dX0_init_19 rfl ?_
  refine sj_callIN (As := []) (rest := [.ref qo, .ref h]) (wr := [(h, .inr (0, [.ref qs, .null, .int 0, .int 0, .int 0, .int 0, .int 0, .int 0, .int 0])), (qs, .inr (1, [.ref a1, .ref a2, .ref a3, .int (nI 0)])), (a1, .inl (dJ, 16, .inr (.inl (fun _ => 0)))), (a2, .inl (dN, 16, .inl (fun _ => 0))), (a3, .inl (dJ, 16, .inr (.inl (fun _ => 0))))]) ⟨hx, hb, hml, hown, hts⟩ (metX2_init l dC dI dJ dN dZ _ qo) ⟨va_cnB 0 hts (lw_meth q50) rfl rfl rfl hN1 (hts _ q13) (by decide +kernel) ⟨(Nat.le_of_ble_eq_true rfl), (Nat.le_of_ble_eq_true rfl)⟩, rfl, hts _ q49⟩ hK hP hD hS hA [5] [0, 1, 2, 3, 4] rfl rfl rfl (by decide) (by decide) (by decide) rfl hl.1 rfl (Nat.le_of_ble_eq_true rfl) dX0_init_20 ⟨(Nat.le_of_ble_eq_true rfl), (Nat.le_of_ble_eq_true rfl)⟩ (fun u H locs hw hP hD hS => ?_)
  obtain ⟨b1, b2, b3⟩ := u
  have hP : va_P (dC, dI) vwCl [(h, .inr (0, [.ref qs, .null, .int 0, .int 0, .int 0, .int 0, .int 0, .int 0, .int 0])), (qs, .inr (1, [.ref a1, .ref a2, .ref a3, .int (nI 0)])), (a1, .inl (dJ, 16, .inr (.inl (fun _ => 0)))), (a2, .inl (dN, 16, .inl (fun _ => 0))), (a3, .inl (dJ, 16, .inr (.inl (fun _ => 0)))), (qo, .inr (2, [.ref b1, .ref b2, .ref b3, .int (nI 0)])), (b1, .inl (dJ, 16, .inr (.inl (fun _ => 0)))), (b2, .inl (dJ, 16, .inr (.inl (fun _ => 0)))), (b3, .inl (dJ, 16, .inr (.inl (fun _ => 0))))] H := hP
  have hD : va_D A [(h, .inr (0, [.ref qs, .null, .int 0, .int 0, .int 0, .int 0, .int 0, .int 0, .int 0])), (qs, .inr (1, [.ref a1, .ref a2, .ref a3, .int (nI 0)])), (a1, .inl (dJ, 16, .inr (.inl (fun _ => 0)))), (a2, .inl (dN, 16, .inl (fun _ => 0))), (a3, .inl (dJ, 16, .inr (.inl (fun _ => 0)))), (qo, .inr (2, [.ref b1, .ref b2, .ref b3, .int (nI 0)])), (b1, .inl (dJ, 16, .inr (.inl (fun _ => 0)))), (b2, .inl (dJ, 16, .inr (.inl (fun _ => 0)))), (b3, .inl (dJ, 16, .inr (.inl (fun _ => 0))))] := hD
  refine va_putF (D := (dC, dI)) (ci := 0) (v := .ref qo) (ty := .object "SpanJobs$Outputs") (C := RX0) (T := TX0) (N := 9) hx hb hts in_X0 tyX0 tyX0_ok nmX0 hown hK hP hD hS 0 rfl rfl 1 (by decide) (hts _ q67) (fun _ h9 => h9) rfl hin rfl (by decide +kernel) rfl rfl (Nat.le_of_ble_eq_true rfl) dX0_init_23 (fun H locs hP hD hS => ?_)
  have hP : va_P (dC, dI) vwCl [(h, .inr (0, [.ref qs, .ref qo, .int 0, .int 0, .int 0, .int 0, .int 0, .int 0, .int 0])), (qs, .inr (1, [.ref a1, .ref a2, .ref a3, .int (nI 0)])), (a1, .inl (dJ, 16, .inr (.inl (fun _ => 0)))), (a2, .inl (dN, 16, .inl (fun _ => 0))), (a3, .inl (dJ, 16, .inr (.inl (fun _ => 0)))), (qo, .inr (2, [.ref b1, .ref b2, .ref b3, .int (nI 0)])), (b1, .inl (dJ, 16, .inr (.inl (fun _ => 0)))), (b2, .inl (dJ, 16, .inr (.inl (fun _ => 0)))), (b3, .inl (dJ, 16, .inr (.inl (fun _ => 0))))] H := hP
  have hD : va_D A [(h, .inr (0, [.ref qs, .ref qo, .int 0, .int 0, .int 0, .int 0, .int 0, .int 0, .int 0])), (qs, .inr (1, [.ref a1, .ref a2, .ref a3, .int (nI 0)])), (a1, .inl (dJ, 16, .inr (.inl (fun _ => 0)))), (a2, .inl (dN, 16, .inl (fun _ => 0))), (a3, .inl (dJ, 16, .inr (.inl (fun _ => 0)))), (qo, .inr (2, [.ref b1, .ref b2, .ref b3, .int (nI 0)])), (b1, .inl (dJ, 16, .inr (.inl (fun _ => 0)))), (b2, .inl (dJ, 16, .inr (.inl (fun _ => 0)))), (b3, .inl (dJ, 16, .inr (.inl (fun _ => 0))))] := hD
  refine lv_aload_n hx hb dX0_init_26 rfl (lv_at hl 0 rfl) ?_
  refine lv_iconst (v := 1) hx hb dX0_init_27 (by decide) ?_
  refine va_put (D := (dC, dI)) (ci := 0) (v := .int 1) (ty := .int) (C := RX0) (T := TX0) (N := 9) hx hb hts in_X0 tyX0 tyX0_ok nmX0 hown hK hP hD hS 0 rfl rfl 3 (by decide) (hts _ q69) (fun _ h9 => h9) rfl (by decide +kernel) rfl rfl (Nat.le_of_ble_eq_true rfl) dX0_init_28 (fun H locs hP hD hS => ?_)
  have hP : va_P (dC, dI) vwCl [(h, .inr (0, [.ref qs, .ref qo, .int 0, .int 1, .int 0, .int 0, .int 0, .int 0, .int 0])), (qs, .inr (1, [.ref a1, .ref a2, .ref a3, .int (nI 0)])), (a1, .inl (dJ, 16, .inr (.inl (fun _ => 0)))), (a2, .inl (dN, 16, .inl (fun _ => 0))), (a3, .inl (dJ, 16, .inr (.inl (fun _ => 0)))), (qo, .inr (2, [.ref b1, .ref b2, .ref b3, .int (nI 0)])), (b1, .inl (dJ, 16, .inr (.inl (fun _ => 0)))), (b2, .inl (dJ, 16, .inr (.inl (fun _ => 0)))), (b3, .inl (dJ, 16, .inr (.inl (fun _ => 0))))] H := hP
  have hD : va_D A [(h, .inr (0, [.ref qs, .ref qo, .int 0, .int 1, .int 0, .int 0, .int 0, .int 0, .int 0])), (qs, .inr (1, [.ref a1, .ref a2, .ref a3, .int (nI 0)])), (a1, .inl (dJ, 16, .inr (.inl (fun _ => 0)))), (a2, .inl (dN, 16, .inl (fun _ => 0))), (a3, .inl (dJ, 16, .inr (.inl (fun _ => 0)))), (qo, .inr (2, [.ref b1, .ref b2, .ref b3, .int (nI 0)])), (b1, .inl (dJ, 16, .inr (.inl (fun _ => 0)))), (b2, .inl (dJ, 16, .inr (.inl (fun _ => 0)))), (b3, .inl (dJ, 16, .inr (.inl (fun _ => 0))))] := hD
  refine lv_aload_n hx hb dX0_init_31 rfl (lv_at hl 0 rfl) ?_
  refine lv_iconst (v := (-1)) hx hb dX0_init_32 (by decide) ?_
  refine va_put (D := (dC, dI)) (ci := 0) (v := .int (-1)) (ty := .int) (C := RX0) (T := TX0) (N := 9) hx hb hts in_X0 tyX0 tyX0_ok nmX0 hown hK hP hD hS 0 rfl rfl 8 (by decide) (hts _ q74) (fun _ h9 => h9) rfl (by decide +kernel) rfl rfl (Nat.le_of_ble_eq_true rfl) dX0_init_33 (fun H locs hP hD hS => ?_)
  have hP : va_P (dC, dI) vwCl [(h, .inr (0, [.ref qs, .ref qo, .int 0, .int 1, .int 0, .int 0, .int 0, .int 0, .int (-1)])), (qs, .inr (1, [.ref a1, .ref a2, .ref a3, .int (nI 0)])), (a1, .inl (dJ, 16, .inr (.inl (fun _ => 0)))), (a2, .inl (dN, 16, .inl (fun _ => 0))), (a3, .inl (dJ, 16, .inr (.inl (fun _ => 0)))), (qo, .inr (2, [.ref b1, .ref b2, .ref b3, .int (nI 0)])), (b1, .inl (dJ, 16, .inr (.inl (fun _ => 0)))), (b2, .inl (dJ, 16, .inr (.inl (fun _ => 0)))), (b3, .inl (dJ, 16, .inr (.inl (fun _ => 0))))] H := hP
  have hD : va_D A [(h, .inr (0, [.ref qs, .ref qo, .int 0, .int 1, .int 0, .int 0, .int 0, .int 0, .int (-1)])), (qs, .inr (1, [.ref a1, .ref a2, .ref a3, .int (nI 0)])), (a1, .inl (dJ, 16, .inr (.inl (fun _ => 0)))), (a2, .inl (dN, 16, .inl (fun _ => 0))), (a3, .inl (dJ, 16, .inr (.inl (fun _ => 0)))), (qo, .inr (2, [.ref b1, .ref b2, .ref b3, .int (nI 0)])), (b1, .inl (dJ, 16, .inr (.inl (fun _ => 0)))), (b2, .inl (dJ, 16, .inr (.inl (fun _ => 0)))), (b3, .inl (dJ, 16, .inr (.inl (fun _ => 0))))] := hD
  refine lv_aload_n hx hb dX0_init_36 rfl (lv_at hl 0 rfl) ?_
  refine lv_iconst (v := 0) hx hb dX0_init_37 (by decide) ?_
  refine va_put (D := (dC, dI)) (ci := 0) (v := .int 0) (ty := .int) (C := RX0) (T := TX0) (N := 9) hx hb hts in_X0 tyX0 tyX0_ok nmX0 hown hK hP hD hS 0 rfl rfl 2 (by decide) (hts _ q68) (fun _ h9 => h9) rfl (by decide +kernel) rfl rfl (Nat.le_of_ble_eq_true rfl) dX0_init_38 (fun H locs hP hD hS => ?_)
  have hP : va_P (dC, dI) vwCl [(h, .inr (0, [.ref qs, .ref qo, .int 0, .int 1, .int 0, .int 0, .int 0, .int 0, .int (-1)])), (qs, .inr (1, [.ref a1, .ref a2, .ref a3, .int (nI 0)])), (a1, .inl (dJ, 16, .inr (.inl (fun _ => 0)))), (a2, .inl (dN, 16, .inl (fun _ => 0))), (a3, .inl (dJ, 16, .inr (.inl (fun _ => 0)))), (qo, .inr (2, [.ref b1, .ref b2, .ref b3, .int (nI 0)])), (b1, .inl (dJ, 16, .inr (.inl (fun _ => 0)))), (b2, .inl (dJ, 16, .inr (.inl (fun _ => 0)))), (b3, .inl (dJ, 16, .inr (.inl (fun _ => 0))))] H := hP
  have hD : va_D A [(h, .inr (0, [.ref qs, .ref qo, .int 0, .int 1, .int 0, .int 0, .int 0, .int 0, .int (-1)])), (qs, .inr (1, [.ref a1, .ref a2, .ref a3, .int (nI 0)])), (a1, .inl (dJ, 16, .inr (.inl (fun _ => 0)))), (a2, .inl (dN, 16, .inl (fun _ => 0))), (a3, .inl (dJ, 16, .inr (.inl (fun _ => 0)))), (qo, .inr (2, [.ref b1, .ref b2, .ref b3, .int (nI 0)])), (b1, .inl (dJ, 16, .inr (.inl (fun _ => 0)))), (b2, .inl (dJ, 16, .inr (.inl (fun _ => 0)))), (b3, .inl (dJ, 16, .inr (.inl (fun _ => 0))))] := hD
  have hP : va_P (dC, dI) vwCl [(h, .inr (0, [.ref qs, .ref qo, .int 0, .int 1, .int 0, .int 0, .int 0, .int 0, .int (-1)])), (qs, .inr (1, [.ref a1, .ref a2, .ref a3, .int (nI 0)])), (a1, .inl (dJ, 16, .inr (.inl (fun _ => 0)))), (a2, .inl (dN, 16, .inl (fun _ => 0))), (a3, .inl (dJ, 16, .inr (.inl (fun _ => 0)))), (qo, .inr (2, [.ref b1, .ref b2, .ref b3, .int (nI 0)])), (b1, .inl (dJ, 16, .inr (.inl (fun _ => 0)))), (b2, .inl (dJ, 16, .inr (.inl (fun _ => 0)))), (b3, .inl (dJ, 16, .inr (.inl (fun _ => 0))))] H := hP.sub [0, 1, 2, 3, 4, 5, 6, 7, 8] rfl
  have hD : va_D A [(h, .inr (0, [.ref qs, .ref qo, .int 0, .int 1, .int 0, .int 0, .int 0, .int 0, .int (-1)])), (qs, .inr (1, [.ref a1, .ref a2, .ref a3, .int (nI 0)])), (a1, .inl (dJ, 16, .inr (.inl (fun _ => 0)))), (a2, .inl (dN, 16, .inl (fun _ => 0))), (a3, .inl (dJ, 16, .inr (.inl (fun _ => 0)))), (qo, .inr (2, [.ref b1, .ref b2, .ref b3, .int (nI 0)])), (b1, .inl (dJ, 16, .inr (.inl (fun _ => 0)))), (b2, .inl (dJ, 16, .inr (.inl (fun _ => 0)))), (b3, .inl (dJ, 16, .inr (.inl (fun _ => 0))))] := hD.sub [0, 1, 2, 3, 4, 5, 6, 7, 8] (by decide) rfl
  exact W.vret hx hb hr (fun t ht hW => ⟨⟨((qs, a1, a2, a3), qo, b1, b2, b3), rfl, trivial, by rw [ht]; exact hP, hD⟩, hS.F ht⟩) hS.2.2 dX0_init_41
end
section
/-! SPANJOBS: take -/
set_option maxRecDepth 100000
set_option maxHeartbeats 4000000 in
set_option maxRecDepth 100000 in
/-- take(key, value, when) -/
theorem metX0_take (l : Launch) (dC : Nat → ClassId) (dI : Nat → Nat → Nat) (dJ dN dZ : ClassId) (sz : Nat) (h hs ho : Nat) (way size grace all taken late mark : Int32) (ka sa na cap : Nat) (fk : Nat → Int64) (fs : Nat → Int32) (fn : Nat → Int64) (kb vb wb cb : Nat) (gk gv gw : Nat → Int64) (hc1 : 16 ≤ cap) (hc2 : cap ≤ 128) (hd1 : 16 ≤ cb) (hd2 : cb ≤ 128) (L : List sj_E) (O : List sj_O) (hL : L.length ≤ cap) (hO : O.length ≤ cb) (hLO : L.length + O.length ≤ 63) (hrl : sp_rep L fk fs fn) (hro : op_rep O gk gv gw) (hso : sj_so L) (hsz0 : ¬ size = 0) (key value : Int64) (wh : Int32) : Met l yX0_take (ws_ yX0_take cX0_take 9 (some .int)) ({ frames := 3, cells := 195, slots := 24960, locals := 77 }) (sj_Pw (dC, dI) [(h, .inr (0, [.ref hs, .ref ho, .int way, .int size, .int grace, .int all, .int taken, .int late, .int mark])), (hs, .inr (1, [.ref ka, .ref sa, .ref na, .int (nI L.length)])), (ka, .inl (dJ, cap, .inr (.inl fk))), (sa, .inl (dN, cap, .inl fs)), (na, .inl (dJ, cap, .inr (.inl fn))), (ho, .inr (2, [.ref kb, .ref vb, .ref wb, .int (nI O.length)])), (kb, .inl (dJ, cb, .inr (.inl gk))), (vb, .inl (dJ, cb, .inr (.inl gv))), (wb, .inl (dJ, cb, .inr (.inl gw)))] (sj_t dJ dN dZ) sz [.ref h, .long key, .long value, .int wh]) (va_Qi (fun (r : Int32) (u : (Int32 × Int32 × Int32 × Int32) × List sj_E × List sj_O × (Nat × Nat × Nat × Nat × (Nat → Int64) × (Nat → Int32) × (Nat → Int64)) × (Nat × Nat × Nat × Nat × (Nat → Int64) × (Nat → Int64) × (Nat → Int64))) => (r, u.1, u.2.1, u.2.2.1) = sj_take way size grace all taken late mark L O key value wh ∧ sp_rep u.2.1 u.2.2.2.1.2.2.2.2.1 u.2.2.2.1.2.2.2.2.2.1 u.2.2.2.1.2.2.2.2.2.2 ∧ op_rep u.2.2.1 u.2.2.2.2.2.2.2.2.1 u.2.2.2.2.2.2.2.2.2.1 u.2.2.2.2.2.2.2.2.2.2 ∧ 16 ≤ u.2.2.2.1.2.2.2.1 ∧ u.2.2.2.1.2.2.2.1 ≤ 128 ∧ u.2.1.length ≤ u.2.2.2.1.2.2.2.1 ∧ 16 ≤ u.2.2.2.2.2.2.2.1 ∧ u.2.2.2.2.2.2.2.1 ≤ 128 ∧ u.2.2.1.length ≤ u.2.2.2.2.2.2.2.1) (sj_B (dC, dI) (va_A [(h, .inr (0, [.ref hs, .ref ho, .int way, .int size, .int grace, .int all, .int taken, .int late, .int mark])), (hs, .inr (1, [.ref ka, .ref sa, .ref na, .int (nI L.length)])), (ka, .inl (dJ, cap, .inr (.inl fk))), (sa, .inl (dN, cap, .inl fs)), (na, .inl (dJ, cap, .inr (.inl fn))), (ho, .inr (2, [.ref kb, .ref vb, .ref wb, .int (nI O.length)])), (kb, .inl (dJ, cb, .inr (.inl gk))), (vb, .inl (dJ, cb, .inr (.inl gv))), (wb, .inl (dJ, cb, .inr (.inl gw)))] sz) (fun u : (Int32 × Int32 × Int32 × Int32) × List sj_E × List sj_O × (Nat × Nat × Nat × Nat × (Nat → Int64) × (Nat → Int32) × (Nat → Int64)) × (Nat × Nat × Nat × Nat × (Nat → Int64) × (Nat → Int64) × (Nat → Int64)) => [(h, .inr (0, [.ref hs, .ref ho, .int way, .int size, .int grace, .int u.1.1, .int u.1.2.1, .int u.1.2.2.1, .int u.1.2.2.2])), (hs, .inr (1, [.ref u.2.2.2.1.1, .ref u.2.2.2.1.2.1, .ref u.2.2.2.1.2.2.1, .int (nI u.2.1.length)])), (u.2.2.2.1.1, .inl (dJ, u.2.2.2.1.2.2.2.1, .inr (.inl u.2.2.2.1.2.2.2.2.1))), (u.2.2.2.1.2.1, .inl (dN, u.2.2.2.1.2.2.2.1, .inl u.2.2.2.1.2.2.2.2.2.1)), (u.2.2.2.1.2.2.1, .inl (dJ, u.2.2.2.1.2.2.2.1, .inr (.inl u.2.2.2.1.2.2.2.2.2.2))), (ho, .inr (2, [.ref u.2.2.2.2.1, .ref u.2.2.2.2.2.1, .ref u.2.2.2.2.2.2.1, .int (nI u.2.2.1.length)])), (u.2.2.2.2.1, .inl (dJ, u.2.2.2.2.2.2.2.1, .inr (.inl u.2.2.2.2.2.2.2.2.1))), (u.2.2.2.2.2.1, .inl (dJ, u.2.2.2.2.2.2.2.1, .inr (.inl u.2.2.2.2.2.2.2.2.2.1))), (u.2.2.2.2.2.2.1, .inl (dJ, u.2.2.2.2.2.2.2.1, .inr (.inl u.2.2.2.2.2.2.2.2.2.2)))])) (va_A [(h, .inr (0, [.ref hs, .ref ho, .int way, .int size, .int grace, .int all, .int taken, .int late, .int mark])), (hs, .inr (1, [.ref ka, .ref sa, .ref na, .int (nI L.length)])), (ka, .inl (dJ, cap, .inr (.inl fk))), (sa, .inl (dN, cap, .inl fs)), (na, .inl (dJ, cap, .inr (.inl fn))), (ho, .inr (2, [.ref kb, .ref vb, .ref wb, .int (nI O.length)])), (kb, .inl (dJ, cb, .inr (.inl gk))), (vb, .inl (dJ, cb, .inr (.inl gv))), (wb, .inl (dJ, cb, .inr (.inl gw)))] sz)) 195 24960 (va_A [(h, .inr (0, [.ref hs, .ref ho, .int way, .int size, .int grace, .int all, .int taken, .int late, .int mark])), (hs, .inr (1, [.ref ka, .ref sa, .ref na, .int (nI L.length)])), (ka, .inl (dJ, cap, .inr (.inl fk))), (sa, .inl (dN, cap, .inl fs)), (na, .inl (dJ, cap, .inr (.inl fn))), (ho, .inr (2, [.ref kb, .ref vb, .ref wb, .int (nI O.length)])), (kb, .inl (dJ, cb, .inr (.inl gk))), (vb, .inl (dJ, cb, .inr (.inl gv))), (wb, .inl (dJ, cb, .inr (.inl gw)))] sz) := by
  refine Met.ofW (cc := cX0_take) (maxL := 9) (ret := (some .int)) (by decide) rfl ?_
  intro p e s m args below meth c s₁ B hml hv
  obtain ⟨rfl, hsz, hP, hK, hD0⟩ := hv
  have hx := B.exec
  have hb := B.bytes
  have hr := B.returns
  have hlocks := B.notSynchronized
  have hts := atoms_spec (ws := (ws_ yX0_take cX0_take 9 (some .int))) B.pre
  have hts : ∀ w ∈ lw_all, w.before _ s = true := fun w h => hts w (List.mem_cons_of_mem _ h)
  have hown : s.vm.findClass RX0 = some m.cls := findClass_of_methodNamed B.named
  subst hsz
  have hD := hD0.self (sz := s.heap.size)
  generalize hAe : va_A [(h, .inr (0, [.ref hs, .ref ho, .int way, .int size, .int grace, .int all, .int taken, .int late, .int mark])), (hs, .inr (1, [.ref ka, .ref sa, .ref na, .int (nI L.length)])), (ka, .inl (dJ, cap, .inr (.inl fk))), (sa, .inl (dN, cap, .inl fs)), (na, .inl (dJ, cap, .inr (.inl fn))), (ho, .inr (2, [.ref kb, .ref vb, .ref wb, .int (nI O.length)])), (kb, .inl (dJ, cb, .inr (.inl gk))), (vb, .inl (dJ, cb, .inr (.inl gv))), (wb, .inl (dJ, cb, .inr (.inl gw)))] s.heap.size = A at hD ⊢
  have hA : ∀ q : Nat, s.heap.size ≤ q → A q := fun q h => by rw [← hAe]; exact Or.inr h
  have hS : va_S A s.heap s.heap [] := va_S.rf
  have hP : va_P (dC, dI) vwCl [(h, .inr (0, [.ref hs, .ref ho, .int way, .int size, .int grace, .int all, .int taken, .int late, .int mark])), (hs, .inr (1, [.ref ka, .ref sa, .ref na, .int (nI L.length)])), (ka, .inl (dJ, cap, .inr (.inl fk))), (sa, .inl (dN, cap, .inl fs)), (na, .inl (dJ, cap, .inr (.inl fn))), (ho, .inr (2, [.ref kb, .ref vb, .ref wb, .int (nI O.length)])), (kb, .inl (dJ, cb, .inr (.inl gk))), (vb, .inl (dJ, cb, .inr (.inl gv))), (wb, .inl (dJ, cb, .inr (.inl gw)))] s.heap := hP
  have hl := lv_entry ([.ref h, .long key, .long value, .int wh]) (n := 9) (Nat.le_of_ble_eq_true rfl)
  rw [lg_entry_eq]
  generalize (lg_sl ([.ref h, .long key, .long value, .int wh]) ++ List.replicate (9 - (lg_sl ([.ref h, .long key, .long value, .int wh])).length) Slot.unset).toArray = ls at hl ⊢
  have hl : lv_has ls 9 [(0, .ref h), (1, .long key), (3, .long value), (5, .int wh)] := hl
  obtain ⟨mk, hmk⟩ : ∃ mk : Int32, mk = if mark < wh then wh else mark := ⟨_, rfl⟩
  have loop : ∀ (Lc : List sj_E) (j : Nat) (Oc : List sj_O) (ka1 sa1 na1 cap1 : Nat) (f1 : Nat → Int64) (f2 : Nat → Int32) (f3 : Nat → Int64) (kb1 vb1 wb1 cb1 : Nat) (g1 g2 g3 : Nat → Int64) (H : Heap) (locs : List Loc) (ls : Array Slot), j + Lc.length ≤ 64 → Lc.length + Oc.length ≤ 64 → 16 ≤ cap1 → cap1 ≤ 128 → Lc.length ≤ cap1 → 16 ≤ cb1 → cb1 ≤ 128 → Oc.length ≤ cb1 → sp_rep Lc f1 f2 f3 → op_rep Oc g1 g2 g3 → sj_take way size grace all taken late mark L O key value wh = sj_fin j size grace mk (all + 1) (taken + 1) late Lc Oc → va_P (dC, dI) vwCl [(h, .inr (0, [.ref hs, .ref ho, .int way, .int size, .int grace, .int (all + 1), .int (taken + 1), .int late, .int mk])), (hs, .inr (1, [.ref ka1, .ref sa1, .ref na1, .int (nI Lc.length)])), (ka1, .inl (dJ, cap1, .inr (.inl f1))), (sa1, .inl (dN, cap1, .inl f2)), (na1, .inl (dJ, cap1, .inr (.inl f3))), (ho, .inr (2, [.ref kb1, .ref vb1, .ref wb1, .int (nI Oc.length)])), (kb1, .inl (dJ, cb1, .inr (.inl g1))), (vb1, .inl (dJ, cb1, .inr (.inl g2))), (wb1, .inl (dJ, cb1, .inr (.inl g3)))] H → va_D A [(h, .inr (0, [.ref hs, .ref ho, .int way, .int size, .int grace, .int (all + 1), .int (taken + 1), .int late, .int mk])), (hs, .inr (1, [.ref ka1, .ref sa1, .ref na1, .int (nI Lc.length)])), (ka1, .inl (dJ, cap1, .inr (.inl f1))), (sa1, .inl (dN, cap1, .inl f2)), (na1, .inl (dJ, cap1, .inr (.inl f3))), (ho, .inr (2, [.ref kb1, .ref vb1, .ref wb1, .int (nI Oc.length)])), (kb1, .inl (dJ, cb1, .inr (.inl g1))), (vb1, .inl (dJ, cb1, .inr (.inl g2))), (wb1, .inl (dJ, cb1, .inr (.inl g3)))] → va_S A s.heap H locs → lv_has ls 9 [(0, .ref h), (1, .long key), (3, .long value), (5, .int wh), (6, .int (wh / size)), (8, .int (nI j))] → W p l e (headSpec (ws_ yX0_take cX0_take 9 (some .int)) ({ frames := 3, cells := 195, slots := 24960, locals := 77 })).room s m ([.ref h, .long key, .long value, .int wh] : List Value).toArray below meth c H locs (3 + 3 * j) (384 + 384 * j) (MQ below (va_Qi (fun (r : Int32) (u : (Int32 × Int32 × Int32 × Int32) × List sj_E × List sj_O × (Nat × Nat × Nat × Nat × (Nat → Int64) × (Nat → Int32) × (Nat → Int64)) × (Nat × Nat × Nat × Nat × (Nat → Int64) × (Nat → Int64) × (Nat → Int64))) => (r, u.1, u.2.1, u.2.2.1) = sj_take way size grace all taken late mark L O key value wh ∧ sp_rep u.2.1 u.2.2.2.1.2.2.2.2.1 u.2.2.2.1.2.2.2.2.2.1 u.2.2.2.1.2.2.2.2.2.2 ∧ op_rep u.2.2.1 u.2.2.2.2.2.2.2.2.1 u.2.2.2.2.2.2.2.2.2.1 u.2.2.2.2.2.2.2.2.2.2 ∧ 16 ≤ u.2.2.2.1.2.2.2.1 ∧ u.2.2.2.1.2.2.2.1 ≤ 128 ∧ u.2.1.length ≤ u.2.2.2.1.2.2.2.1 ∧ 16 ≤ u.2.2.2.2.2.2.2.1 ∧ u.2.2.2.2.2.2.2.1 ≤ 128 ∧ u.2.2.1.length ≤ u.2.2.2.2.2.2.2.1) (sj_B (dC, dI) A (fun u : (Int32 × Int32 × Int32 × Int32) × List sj_E × List sj_O × (Nat × Nat × Nat × Nat × (Nat → Int64) × (Nat → Int32) × (Nat → Int64)) × (Nat × Nat × Nat × Nat × (Nat → Int64) × (Nat → Int64) × (Nat → Int64)) => [(h, .inr (0, [.ref hs, .ref ho, .int way, .int size, .int grace, .int u.1.1, .int u.1.2.1, .int u.1.2.2.1, .int u.1.2.2.2])), (hs, .inr (1, [.ref u.2.2.2.1.1, .ref u.2.2.2.1.2.1, .ref u.2.2.2.1.2.2.1, .int (nI u.2.1.length)])), (u.2.2.2.1.1, .inl (dJ, u.2.2.2.1.2.2.2.1, .inr (.inl u.2.2.2.1.2.2.2.2.1))), (u.2.2.2.1.2.1, .inl (dN, u.2.2.2.1.2.2.2.1, .inl u.2.2.2.1.2.2.2.2.2.1)), (u.2.2.2.1.2.2.1, .inl (dJ, u.2.2.2.1.2.2.2.1, .inr (.inl u.2.2.2.1.2.2.2.2.2.2))), (ho, .inr (2, [.ref u.2.2.2.2.1, .ref u.2.2.2.2.2.1, .ref u.2.2.2.2.2.2.1, .int (nI u.2.2.1.length)])), (u.2.2.2.2.1, .inl (dJ, u.2.2.2.2.2.2.2.1, .inr (.inl u.2.2.2.2.2.2.2.2.1))), (u.2.2.2.2.2.1, .inl (dJ, u.2.2.2.2.2.2.2.1, .inr (.inl u.2.2.2.2.2.2.2.2.2.1))), (u.2.2.2.2.2.2.1, .inl (dJ, u.2.2.2.2.2.2.2.1, .inr (.inl u.2.2.2.2.2.2.2.2.2.2)))])) A) ([.ref h, .long key, .long value, .int wh] : List Value).toArray s 195 24960 A) (F0 m 196 ls []) := by
    intro Lc
    induction Lc with
    | nil =>
      intro j Oc ka1 sa1 na1 cap1 f1 f2 f3 kb1 vb1 wb1 cb1 g1 g2 g3 H locs ls h1 h2 a1 a2 a3 b1 b2 b3 r1 r2 hinv hP hD hS hl
      have h1 : j + 0 ≤ 64 := h1
      refine lv_aload_n hx hb dX0_take_196 rfl (lv_at hl 0 rfl) ?_
      refine va_get (D := (dC, dI)) (ci := 0) (v := .ref hs) (C := RX0) (T := TX0) (N := 9) hx hb hts in_X0 hown hK hP 0 rfl rfl 0 (by decide) (hts _ q66) (fun _ h9 => h9) rfl dX0_take_197 ?_
      refine va_get (D := (dC, dI)) (ci := 1) (v := .int (nI (([] : List sj_E).length))) (C := RX1) (T := TX1) (N := 4) hx hb hts in_X1 hown hK hP 1 rfl rfl 3 (by decide) (hts _ q33) (fun _ h9 => h9) rfl dX0_take_200 ?_
      refine lv_if_le (tgt := 276) hx hb dX0_take_203 (by decide) (fun c203 => ?_) (fun c203 => absurd (show nI 0 ≤ 0 by decide) c203)
      refine lv_iload hx hb dX0_take_276 (lv_at hl 5 rfl) ?_
      refine W.widen (k := 195) (n := 24960) (show 3 + 3 * j ≤ 195 by omega) (show 384 + 384 * j ≤ 24960 by omega) ?_
      exact W.iret (v := nI j) hx hb hr (fun t ht hW => ⟨⟨nI j, ((all + 1, taken + 1, late, mk), [], Oc, (ka1, sa1, na1, cap1, f1, f2, f3), (kb1, vb1, wb1, cb1, g1, g2, g3)), rfl, ⟨(hinv.trans (sj_fin_stop (fun x T h => by cases h))).symm, r1, r2, a1, a2, a3, b1, b2, b3⟩, by rw [ht]; exact hP, hD⟩, hS.F ht⟩) hS.2.2 dX0_take_278
    | cons x T ih =>
      intro j Oc ka1 sa1 na1 cap1 f1 f2 f3 kb1 vb1 wb1 cb1 g1 g2 g3 H locs ls h1 h2 a1 a2 a3 b1 b2 b3 r1 r2 hinv hP hD hS hl
      have h1 : j + (T.length + 1) ≤ 64 := h1
      have h2 : T.length + 1 + Oc.length ≤ 64 := h2
      have a3 : T.length + 1 ≤ cap1 := a3
      have hP : va_P (dC, dI) vwCl [(h, .inr (0, [.ref hs, .ref ho, .int way, .int size, .int grace, .int (all + 1), .int (taken + 1), .int late, .int mk])), (hs, .inr (1, [.ref ka1, .ref sa1, .ref na1, .int (nI (T.length + 1))])), (ka1, .inl (dJ, cap1, .inr (.inl f1))), (sa1, .inl (dN, cap1, .inl f2)), (na1, .inl (dJ, cap1, .inr (.inl f3))), (ho, .inr (2, [.ref kb1, .ref vb1, .ref wb1, .int (nI Oc.length)])), (kb1, .inl (dJ, cb1, .inr (.inl g1))), (vb1, .inl (dJ, cb1, .inr (.inl g2))), (wb1, .inl (dJ, cb1, .inr (.inl g3)))] H := hP
      have hD : va_D A [(h, .inr (0, [.ref hs, .ref ho, .int way, .int size, .int grace, .int (all + 1), .int (taken + 1), .int late, .int mk])), (hs, .inr (1, [.ref ka1, .ref sa1, .ref na1, .int (nI (T.length + 1))])), (ka1, .inl (dJ, cap1, .inr (.inl f1))), (sa1, .inl (dN, cap1, .inl f2)), (na1, .inl (dJ, cap1, .inr (.inl f3))), (ho, .inr (2, [.ref kb1, .ref vb1, .ref wb1, .int (nI Oc.length)])), (kb1, .inl (dJ, cb1, .inr (.inl g1))), (vb1, .inl (dJ, cb1, .inr (.inl g2))), (wb1, .inl (dJ, cb1, .inr (.inl g3)))] := hD
      obtain ⟨e1, e2, e3⟩ := r1 0 x rfl
      refine lv_aload_n hx hb dX0_take_196 rfl (lv_at hl 0 rfl) ?_
      refine va_get (D := (dC, dI)) (ci := 0) (v := .ref hs) (C := RX0) (T := TX0) (N := 9) hx hb hts in_X0 hown hK hP 0 rfl rfl 0 (by decide) (hts _ q66) (fun _ h9 => h9) rfl dX0_take_197 ?_
      refine va_get (D := (dC, dI)) (ci := 1) (v := .int (nI (T.length + 1))) (C := RX1) (T := TX1) (N := 4) hx hb hts in_X1 hown hK hP 1 rfl rfl 3 (by decide) (hts _ q33) (fun _ h9 => h9) rfl dX0_take_200 ?_
      refine lv_if_le (tgt := 276) hx hb dX0_take_203 (by decide) (fun c203 => absurd c203 (nI_nle (Nat.succ_pos _) (by omega))) (fun c203 => ?_)
      refine lv_aload_n hx hb dX0_take_206 rfl (lv_at hl 0 rfl) ?_
      refine lv_aload_n hx hb dX0_take_207 rfl (lv_at hl 0 rfl) ?_
      refine va_get (D := (dC, dI)) (ci := 0) (v := .ref hs) (C := RX0) (T := TX0) (N := 9) hx hb hts in_X0 hown hK hP 0 rfl rfl 0 (by decide) (hts _ q66) (fun _ h9 => h9) rfl dX0_take_208 ?_
      refine lv_iconst (v := nI 0) hx hb dX0_take_211 (by decide) ?_
      refine sj_callRi (As := [.int (nI 0)]) (rest := [.ref h]) ⟨hx, hb, hml, hown, hts⟩ (metX1_span l dC dI dJ dN dZ hs ka1 sa1 na1 cap1 (T.length + 1) f1 f2 f3 (by omega) 0 (by omega)) (cwV 1 hts (lw_V q151 q152 q153 q12 q154) rfl rfl rfl (by decide +kernel) ⟨Nat.le_of_ble_eq_true rfl, Nat.le_of_ble_eq_true rfl⟩) hK hP [1, 2, 3, 4] rfl 1 rfl rfl rfl rfl hl.1 rfl (Nat.le_of_ble_eq_true rfl) dX0_take_212 ⟨show 3 + 3 * j + 0 ≤ 195 by omega, show 384 + 384 * j + 0 ≤ 24960 by omega⟩ (fun v1 hv1 => ?_)
      have hv1 := hv1.trans e1
      subst hv1
      refine sj_callRi (As := [.int x.1]) (rest := []) ⟨hx, hb, hml, hown, hts⟩ (metX0_isClosed l dC dI dJ dN dZ h hs ho way size grace (all + 1) (taken + 1) late mk x.1) (cwV 1 hts (lw_V q105 q107 qs0 q11 q108) rfl rfl rfl (by decide +kernel) ⟨Nat.le_of_ble_eq_true rfl, Nat.le_of_ble_eq_true rfl⟩) hK hP [0] rfl 0 rfl rfl rfl rfl hl.1 rfl (Nat.le_of_ble_eq_true rfl) dX0_take_215 ⟨show 3 + 3 * j + 0 ≤ 195 by omega, show 384 + 384 * j + 0 ≤ 24960 by omega⟩ (fun v2 hv2 => ?_)
      refine lv_if_eq (tgt := 276) hx hb dX0_take_218 (by decide) (fun c218 => ?_) (fun c218 => ?_)
      · skip
        have c218 := sj_i0 hv2 c218
        refine lv_iload hx hb dX0_take_276 (lv_at hl 5 rfl) ?_
        refine W.widen (k := 195) (n := 24960) (show 3 + 3 * j ≤ 195 by omega) (show 384 + 384 * j ≤ 24960 by omega) ?_
        exact W.iret (v := nI j) hx hb hr (fun t ht hW => ⟨⟨nI j, ((all + 1, taken + 1, late, mk), x :: T, Oc, (ka1, sa1, na1, cap1, f1, f2, f3), (kb1, vb1, wb1, cb1, g1, g2, g3)), rfl, ⟨(hinv.trans (sj_fin_stop (fun x' T' h => by cases h; exact c218))).symm, r1, r2, a1, a2, a3, b1, b2, b3⟩, by rw [ht]; exact hP, hD⟩, hS.F ht⟩) hS.2.2 dX0_take_278
      · skip
        have c218 := sj_i1 hv2 c218
        refine lv_aload_n hx hb dX0_take_221 rfl (lv_at hl 0 rfl) ?_
        refine va_get (D := (dC, dI)) (ci := 0) (v := .ref ho) (C := RX0) (T := TX0) (N := 9) hx hb hts in_X0 hown hK hP 0 rfl rfl 1 (by decide) (hts _ q67) (fun _ h9 => h9) rfl dX0_take_222 ?_
        refine lv_aload_n hx hb dX0_take_225 rfl (lv_at hl 0 rfl) ?_
        refine va_get (D := (dC, dI)) (ci := 0) (v := .ref hs) (C := RX0) (T := TX0) (N := 9) hx hb hts in_X0 hown hK hP 0 rfl rfl 0 (by decide) (hts _ q66) (fun _ h9 => h9) rfl dX0_take_226 ?_
        refine lv_iconst (v := nI 0) hx hb dX0_take_229 (by decide) ?_
        refine sj_callRl (As := [.int (nI 0)]) (rest := [.ref ho]) ⟨hx, hb, hml, hown, hts⟩ (metX1_key l dC dI dJ dN dZ hs ka1 sa1 na1 cap1 (T.length + 1) f1 f2 f3 (by omega) 0 (by omega)) (cwV 1 hts (lw_V q155 q156 q157 q12 q158) rfl rfl rfl (by decide +kernel) ⟨Nat.le_of_ble_eq_true rfl, Nat.le_of_ble_eq_true rfl⟩) hK hP [1, 2, 3, 4] rfl 1 rfl rfl rfl rfl hl.1 rfl (Nat.le_of_ble_eq_true rfl) dX0_take_230 ⟨show 3 + 3 * j + 0 ≤ 195 by omega, show 384 + 384 * j + 0 ≤ 24960 by omega⟩ (fun v3 hv3 => ?_)
        have hv3 := hv3.trans e2
        subst hv3
        refine lv_aload_n hx hb dX0_take_233 rfl (lv_at hl 0 rfl) ?_
        refine va_get (D := (dC, dI)) (ci := 0) (v := .ref hs) (C := RX0) (T := TX0) (N := 9) hx hb hts in_X0 hown hK hP 0 rfl rfl 0 (by decide) (hts _ q66) (fun _ h9 => h9) rfl dX0_take_234 ?_
        refine lv_iconst (v := nI 0) hx hb dX0_take_237 (by decide) ?_
        refine sj_callRl (As := [.int (nI 0)]) (rest := [.long x.2.1, .ref ho]) ⟨hx, hb, hml, hown, hts⟩ (metX1_number l dC dI dJ dN dZ hs ka1 sa1 na1 cap1 (T.length + 1) f1 f2 f3 (by omega) 0 (by omega)) (cwV 1 hts (lw_V q121 q122 q123 q12 q124) rfl rfl rfl (by decide +kernel) ⟨Nat.le_of_ble_eq_true rfl, Nat.le_of_ble_eq_true rfl⟩) hK hP [1, 2, 3, 4] rfl 1 rfl rfl rfl rfl hl.1 rfl (Nat.le_of_ble_eq_true rfl) dX0_take_238 ⟨show 3 + 3 * j + 0 ≤ 195 by omega, show 384 + 384 * j + 0 ≤ 24960 by omega⟩ (fun v4 hv4 => ?_)
        have hv4 := hv4.trans e3
        subst hv4
        refine lv_aload_n hx hb dX0_take_241 rfl (lv_at hl 0 rfl) ?_
        refine va_get (D := (dC, dI)) (ci := 0) (v := .ref hs) (C := RX0) (T := TX0) (N := 9) hx hb hts in_X0 hown hK hP 0 rfl rfl 0 (by decide) (hts _ q66) (fun _ h9 => h9) rfl dX0_take_242 ?_
        refine lv_iconst (v := nI 0) hx hb dX0_take_245 (by decide) ?_
        refine sj_callRi (As := [.int (nI 0)]) (rest := [.long x.2.2, .long x.2.1, .ref ho]) ⟨hx, hb, hml, hown, hts⟩ (metX1_span l dC dI dJ dN dZ hs ka1 sa1 na1 cap1 (T.length + 1) f1 f2 f3 (by omega) 0 (by omega)) (cwV 1 hts (lw_V q151 q152 q153 q12 q154) rfl rfl rfl (by decide +kernel) ⟨Nat.le_of_ble_eq_true rfl, Nat.le_of_ble_eq_true rfl⟩) hK hP [1, 2, 3, 4] rfl 1 rfl rfl rfl rfl hl.1 rfl (Nat.le_of_ble_eq_true rfl) dX0_take_246 ⟨show 3 + 3 * j + 0 ≤ 195 by omega, show 384 + 384 * j + 0 ≤ 24960 by omega⟩ (fun v5 hv5 => ?_)
        have hv5 := hv5.trans e1
        subst hv5
        refine lv_i2l (v := x.1.toInt64) hx hb dX0_take_249 rfl ?_
        refine lv_lconst (v := 1) hx hb dX0_take_250 (by decide) ?_
        refine lv_ladd hx hb dX0_take_251 ?_
        refine lv_aload_n hx hb dX0_take_252 rfl (lv_at hl 0 rfl) ?_
        refine va_get (D := (dC, dI)) (ci := 0) (v := .int size) (C := RX0) (T := TX0) (N := 9) hx hb hts in_X0 hown hK hP 0 rfl rfl 3 (by decide) (hts _ q69) (fun _ h9 => h9) rfl dX0_take_253 ?_
        refine lv_i2l (v := size.toInt64) hx hb dX0_take_256 rfl ?_
        refine lv_lmul hx hb dX0_take_257 ?_
        refine lv_lconst (v := 1) hx hb dX0_take_258 (by decide) ?_
        refine lv_lsub hx hb dX0_take_259 ?_
        refine sj_callWv (As := [.long x.2.1, .long x.2.2, .long (((x.1.toInt64 + 1) * size.toInt64) - 1)]) (rest := []) (wr := [(h, .inr (0, [.ref hs, .ref ho, .int way, .int size, .int grace, .int (all + 1), .int (taken + 1), .int late, .int mk])), (hs, .inr (1, [.ref ka1, .ref sa1, .ref na1, .int (nI (T.length + 1))])), (ka1, .inl (dJ, cap1, .inr (.inl f1))), (sa1, .inl (dN, cap1, .inl f2)), (na1, .inl (dJ, cap1, .inr (.inl f3)))]) ⟨hx, hb, hml, hown, hts⟩ (metX2_add l dC dI dJ dN dZ _ ho kb1 vb1 wb1 cb1 Oc.length g1 g2 g3 b1 b2 b3 (by omega) x.2.1 x.2.2 ((x.1.toInt64 + 1) * size.toInt64 - 1)) (cwV 3 hts (lw_V q159 q160 q161 q13 q162) rfl rfl rfl (by decide +kernel) ⟨Nat.le_of_ble_eq_true rfl, Nat.le_of_ble_eq_true rfl⟩) hK hP hD hS hA [5, 6, 7, 8] [0, 1, 2, 3, 4] rfl rfl rfl (by decide) (by decide) (by decide) 2 rfl rfl rfl rfl hl.1 rfl (Nat.le_of_ble_eq_true rfl) dX0_take_260 ⟨show 3 + 3 * j + 3 ≤ 195 by omega, show 384 + 384 * j + 384 ≤ 24960 by omega⟩ (fun u H locs hw hP hD hS => ?_)
        have hP : va_P (dC, dI) vwCl [(h, .inr (0, [.ref hs, .ref ho, .int way, .int size, .int grace, .int (all + 1), .int (taken + 1), .int late, .int mk])), (hs, .inr (1, [.ref ka1, .ref sa1, .ref na1, .int (nI (T.length + 1))])), (ka1, .inl (dJ, cap1, .inr (.inl f1))), (sa1, .inl (dN, cap1, .inl f2)), (na1, .inl (dJ, cap1, .inr (.inl f3))), (ho, .inr (2, [.ref u.1, .ref u.2.1, .ref u.2.2.1, .int (nI (Oc.length + 1))])), (u.1, .inl (dJ, u.2.2.2.1, .inr (.inl u.2.2.2.2.1))), (u.2.1, .inl (dJ, u.2.2.2.1, .inr (.inl u.2.2.2.2.2.1))), (u.2.2.1, .inl (dJ, u.2.2.2.1, .inr (.inl u.2.2.2.2.2.2)))] H := hP
        have hD : va_D A [(h, .inr (0, [.ref hs, .ref ho, .int way, .int size, .int grace, .int (all + 1), .int (taken + 1), .int late, .int mk])), (hs, .inr (1, [.ref ka1, .ref sa1, .ref na1, .int (nI (T.length + 1))])), (ka1, .inl (dJ, cap1, .inr (.inl f1))), (sa1, .inl (dN, cap1, .inl f2)), (na1, .inl (dJ, cap1, .inr (.inl f3))), (ho, .inr (2, [.ref u.1, .ref u.2.1, .ref u.2.2.1, .int (nI (Oc.length + 1))])), (u.1, .inl (dJ, u.2.2.2.1, .inr (.inl u.2.2.2.2.1))), (u.2.1, .inl (dJ, u.2.2.2.1, .inr (.inl u.2.2.2.2.2.1))), (u.2.2.1, .inl (dJ, u.2.2.2.1, .inr (.inl u.2.2.2.2.2.2)))] := hD
        obtain ⟨kb2, vb2, wb2, cb2, g4, g5, g6⟩ := u
        obtain ⟨d1, d2, d3, d4, d5, d6⟩ := hw
        dsimp only at d1 d2 d3 d4 d5 d6
        have hP : va_P (dC, dI) vwCl [(h, .inr (0, [.ref hs, .ref ho, .int way, .int size, .int grace, .int (all + 1), .int (taken + 1), .int late, .int mk])), (hs, .inr (1, [.ref ka1, .ref sa1, .ref na1, .int (nI (T.length + 1))])), (ka1, .inl (dJ, cap1, .inr (.inl f1))), (sa1, .inl (dN, cap1, .inl f2)), (na1, .inl (dJ, cap1, .inr (.inl f3))), (ho, .inr (2, [.ref kb2, .ref vb2, .ref wb2, .int (nI (Oc.length + 1))])), (kb2, .inl (dJ, cb2, .inr (.inl g4))), (vb2, .inl (dJ, cb2, .inr (.inl g5))), (wb2, .inl (dJ, cb2, .inr (.inl g6)))] H := hP
        have hD : va_D A [(h, .inr (0, [.ref hs, .ref ho, .int way, .int size, .int grace, .int (all + 1), .int (taken + 1), .int late, .int mk])), (hs, .inr (1, [.ref ka1, .ref sa1, .ref na1, .int (nI (T.length + 1))])), (ka1, .inl (dJ, cap1, .inr (.inl f1))), (sa1, .inl (dN, cap1, .inl f2)), (na1, .inl (dJ, cap1, .inr (.inl f3))), (ho, .inr (2, [.ref kb2, .ref vb2, .ref wb2, .int (nI (Oc.length + 1))])), (kb2, .inl (dJ, cb2, .inr (.inl g4))), (vb2, .inl (dJ, cb2, .inr (.inl g5))), (wb2, .inl (dJ, cb2, .inr (.inl g6)))] := hD
        refine lv_aload_n hx hb dX0_take_263 rfl (lv_at hl 0 rfl) ?_
        refine va_get (D := (dC, dI)) (ci := 0) (v := .ref hs) (C := RX0) (T := TX0) (N := 9) hx hb hts in_X0 hown hK hP 0 rfl rfl 0 (by decide) (hts _ q66) (fun _ h9 => h9) rfl dX0_take_264 ?_
        refine sj_callWv (As := []) (rest := []) (wr := [(h, .inr (0, [.ref hs, .ref ho, .int way, .int size, .int grace, .int (all + 1), .int (taken + 1), .int late, .int mk])), (ho, .inr (2, [.ref kb2, .ref vb2, .ref wb2, .int (nI (Oc.length + 1))])), (kb2, .inl (dJ, cb2, .inr (.inl g4))), (vb2, .inl (dJ, cb2, .inr (.inl g5))), (wb2, .inl (dJ, cb2, .inr (.inl g6)))]) ⟨hx, hb, hml, hown, hts⟩ (metX1_shift l dC dI dJ dN dZ _ hs ka1 sa1 na1 cap1 T.length f1 f2 f3 (by omega) a3) (cwV 0 hts (lw_V q167 q168 q169 q12 q170) rfl rfl rfl (by decide +kernel) ⟨Nat.le_of_ble_eq_true rfl, Nat.le_of_ble_eq_true rfl⟩) hK hP hD hS hA [1, 2, 3, 4] [0, 5, 6, 7, 8] rfl rfl rfl (by decide) (by decide) (by decide) 1 rfl rfl rfl rfl hl.1 rfl (Nat.le_of_ble_eq_true rfl) dX0_take_267 ⟨show 3 + 3 * j + 3 + 0 ≤ 195 by omega, show 384 + 384 * j + 384 + 0 ≤ 24960 by omega⟩ (fun u H locs hw hP hD hS => ?_)
        have hP : va_P (dC, dI) vwCl [(h, .inr (0, [.ref hs, .ref ho, .int way, .int size, .int grace, .int (all + 1), .int (taken + 1), .int late, .int mk])), (ho, .inr (2, [.ref kb2, .ref vb2, .ref wb2, .int (nI (Oc.length + 1))])), (kb2, .inl (dJ, cb2, .inr (.inl g4))), (vb2, .inl (dJ, cb2, .inr (.inl g5))), (wb2, .inl (dJ, cb2, .inr (.inl g6))), (hs, .inr (1, [.ref ka1, .ref sa1, .ref na1, .int (nI T.length)])), (ka1, .inl (dJ, cap1, .inr (.inl u.1))), (sa1, .inl (dN, cap1, .inl u.2.1)), (na1, .inl (dJ, cap1, .inr (.inl u.2.2)))] H := hP
        have hD : va_D A [(h, .inr (0, [.ref hs, .ref ho, .int way, .int size, .int grace, .int (all + 1), .int (taken + 1), .int late, .int mk])), (ho, .inr (2, [.ref kb2, .ref vb2, .ref wb2, .int (nI (Oc.length + 1))])), (kb2, .inl (dJ, cb2, .inr (.inl g4))), (vb2, .inl (dJ, cb2, .inr (.inl g5))), (wb2, .inl (dJ, cb2, .inr (.inl g6))), (hs, .inr (1, [.ref ka1, .ref sa1, .ref na1, .int (nI T.length)])), (ka1, .inl (dJ, cap1, .inr (.inl u.1))), (sa1, .inl (dN, cap1, .inl u.2.1)), (na1, .inl (dJ, cap1, .inr (.inl u.2.2)))] := hD
        have hP : va_P (dC, dI) vwCl [(h, .inr (0, [.ref hs, .ref ho, .int way, .int size, .int grace, .int (all + 1), .int (taken + 1), .int late, .int mk])), (hs, .inr (1, [.ref ka1, .ref sa1, .ref na1, .int (nI T.length)])), (ka1, .inl (dJ, cap1, .inr (.inl u.1))), (sa1, .inl (dN, cap1, .inl u.2.1)), (na1, .inl (dJ, cap1, .inr (.inl u.2.2))), (ho, .inr (2, [.ref kb2, .ref vb2, .ref wb2, .int (nI (Oc.length + 1))])), (kb2, .inl (dJ, cb2, .inr (.inl g4))), (vb2, .inl (dJ, cb2, .inr (.inl g5))), (wb2, .inl (dJ, cb2, .inr (.inl g6)))] H := hP.sub [0, 5, 6, 7, 8, 1, 2, 3, 4] rfl
        have hD : va_D A [(h, .inr (0, [.ref hs, .ref ho, .int way, .int size, .int grace, .int (all + 1), .int (taken + 1), .int late, .int mk])), (hs, .inr (1, [.ref ka1, .ref sa1, .ref na1, .int (nI T.length)])), (ka1, .inl (dJ, cap1, .inr (.inl u.1))), (sa1, .inl (dN, cap1, .inl u.2.1)), (na1, .inl (dJ, cap1, .inr (.inl u.2.2))), (ho, .inr (2, [.ref kb2, .ref vb2, .ref wb2, .int (nI (Oc.length + 1))])), (kb2, .inl (dJ, cb2, .inr (.inl g4))), (vb2, .inl (dJ, cb2, .inr (.inl g5))), (wb2, .inl (dJ, cb2, .inr (.inl g6)))] := hD.sub [0, 5, 6, 7, 8, 1, 2, 3, 4] (by decide) rfl
        obtain ⟨k1, k2, k3⟩ := hw
        refine lv_iinc (v := nI (j + 1)) (lv' := [(8, .int (nI (j + 1))), (0, .ref h), (1, .long key), (3, .long value), (5, .int wh), (6, .int (wh / size))]) hx hb dX0_take_270 hl (k := 5) rfl (nI_1 _) (by decide) rfl (fun ls hl => ?_)
        refine lv_goto (tgt := 196) hx hb dX0_take_273 (by decide) ?_
        have hlen : (Oc ++ [sj_out size x]).length = Oc.length + 1 := by simp
        rw [← hlen] at hP hD
        refine W.widen (k := 3 + 3 * (j + 1)) (n := 384 + 384 * (j + 1)) (by omega) (by omega) ?_
        exact ih (j + 1) (Oc ++ [sj_out size x]) ka1 sa1 na1 cap1 _ _ _ kb2 vb2 wb2 cb2 g4 g5 g6 H locs ls (by omega) (by rw [hlen]; omega) a1 a2 (by omega) d2 d1 (by rw [hlen]; exact d3) (sp_rep_tl r1 k1 k2 k3) (op_rep_add r2 d4 d5 d6) (hinv.trans (sj_fin_go c218)) hP hD hS (lv_sub hl [1, 2, 3, 4, 5, 0] rfl)
  have tail : ∀ (L1 : List sj_E) (ka1 sa1 na1 cap1 : Nat) (f1 : Nat → Int64) (f2 : Nat → Int32) (f3 : Nat → Int64) (H : Heap) (locs : List Loc) (ls : Array Slot), L1.length ≤ L.length + 1 → 16 ≤ cap1 → cap1 ≤ 128 → L1.length ≤ cap1 → sp_rep L1 f1 f2 f3 → sj_take way size grace all taken late mark L O key value wh = sj_fin 0 size grace mk (all + 1) (taken + 1) late L1 O → va_P (dC, dI) vwCl [(h, .inr (0, [.ref hs, .ref ho, .int way, .int size, .int grace, .int (all + 1), .int (taken + 1), .int late, .int mark])), (hs, .inr (1, [.ref ka1, .ref sa1, .ref na1, .int (nI L1.length)])), (ka1, .inl (dJ, cap1, .inr (.inl f1))), (sa1, .inl (dN, cap1, .inl f2)), (na1, .inl (dJ, cap1, .inr (.inl f3))), (ho, .inr (2, [.ref kb, .ref vb, .ref wb, .int (nI O.length)])), (kb, .inl (dJ, cb, .inr (.inl gk))), (vb, .inl (dJ, cb, .inr (.inl gv))), (wb, .inl (dJ, cb, .inr (.inl gw)))] H → va_D A [(h, .inr (0, [.ref hs, .ref ho, .int way, .int size, .int grace, .int (all + 1), .int (taken + 1), .int late, .int mark])), (hs, .inr (1, [.ref ka1, .ref sa1, .ref na1, .int (nI L1.length)])), (ka1, .inl (dJ, cap1, .inr (.inl f1))), (sa1, .inl (dN, cap1, .inl f2)), (na1, .inl (dJ, cap1, .inr (.inl f3))), (ho, .inr (2, [.ref kb, .ref vb, .ref wb, .int (nI O.length)])), (kb, .inl (dJ, cb, .inr (.inl gk))), (vb, .inl (dJ, cb, .inr (.inl gv))), (wb, .inl (dJ, cb, .inr (.inl gw)))] → va_S A s.heap H locs → lv_has ls 9 [(0, .ref h), (1, .long key), (3, .long value), (5, .int wh), (6, .int (wh / size))] → W p l e (headSpec (ws_ yX0_take cX0_take 9 (some .int)) ({ frames := 3, cells := 195, slots := 24960, locals := 77 })).room s m ([.ref h, .long key, .long value, .int wh] : List Value).toArray below meth c H locs 3 384 (MQ below (va_Qi (fun (r : Int32) (u : (Int32 × Int32 × Int32 × Int32) × List sj_E × List sj_O × (Nat × Nat × Nat × Nat × (Nat → Int64) × (Nat → Int32) × (Nat → Int64)) × (Nat × Nat × Nat × Nat × (Nat → Int64) × (Nat → Int64) × (Nat → Int64))) => (r, u.1, u.2.1, u.2.2.1) = sj_take way size grace all taken late mark L O key value wh ∧ sp_rep u.2.1 u.2.2.2.1.2.2.2.2.1 u.2.2.2.1.2.2.2.2.2.1 u.2.2.2.1.2.2.2.2.2.2 ∧ op_rep u.2.2.1 u.2.2.2.2.2.2.2.2.1 u.2.2.2.2.2.2.2.2.2.1 u.2.2.2.2.2.2.2.2.2.2 ∧ 16 ≤ u.2.2.2.1.2.2.2.1 ∧ u.2.2.2.1.2.2.2.1 ≤ 128 ∧ u.2.1.length ≤ u.2.2.2.1.2.2.2.1 ∧ 16 ≤ u.2.2.2.2.2.2.2.1 ∧ u.2.2.2.2.2.2.2.1 ≤ 128 ∧ u.2.2.1.length ≤ u.2.2.2.2.2.2.2.1) (sj_B (dC, dI) A (fun u : (Int32 × Int32 × Int32 × Int32) × List sj_E × List sj_O × (Nat × Nat × Nat × Nat × (Nat → Int64) × (Nat → Int32) × (Nat → Int64)) × (Nat × Nat × Nat × Nat × (Nat → Int64) × (Nat → Int64) × (Nat → Int64)) => [(h, .inr (0, [.ref hs, .ref ho, .int way, .int size, .int grace, .int u.1.1, .int u.1.2.1, .int u.1.2.2.1, .int u.1.2.2.2])), (hs, .inr (1, [.ref u.2.2.2.1.1, .ref u.2.2.2.1.2.1, .ref u.2.2.2.1.2.2.1, .int (nI u.2.1.length)])), (u.2.2.2.1.1, .inl (dJ, u.2.2.2.1.2.2.2.1, .inr (.inl u.2.2.2.1.2.2.2.2.1))), (u.2.2.2.1.2.1, .inl (dN, u.2.2.2.1.2.2.2.1, .inl u.2.2.2.1.2.2.2.2.2.1)), (u.2.2.2.1.2.2.1, .inl (dJ, u.2.2.2.1.2.2.2.1, .inr (.inl u.2.2.2.1.2.2.2.2.2.2))), (ho, .inr (2, [.ref u.2.2.2.2.1, .ref u.2.2.2.2.2.1, .ref u.2.2.2.2.2.2.1, .int (nI u.2.2.1.length)])), (u.2.2.2.2.1, .inl (dJ, u.2.2.2.2.2.2.2.1, .inr (.inl u.2.2.2.2.2.2.2.2.1))), (u.2.2.2.2.2.1, .inl (dJ, u.2.2.2.2.2.2.2.1, .inr (.inl u.2.2.2.2.2.2.2.2.2.1))), (u.2.2.2.2.2.2.1, .inl (dJ, u.2.2.2.2.2.2.2.1, .inr (.inl u.2.2.2.2.2.2.2.2.2.2)))])) A) ([.ref h, .long key, .long value, .int wh] : List Value).toArray s 195 24960 A) (F0 m 180 ls []) := by
    intro L1 ka1 sa1 na1 cap1 f1 f2 f3 H locs ls h1 a1 a2 a3 r1 hinv hP hD hS hl
    refine lv_aload_n hx hb dX0_take_180 rfl (lv_at hl 0 rfl) ?_
    refine lv_aload_n hx hb dX0_take_181 rfl (lv_at hl 0 rfl) ?_
    refine va_get (D := (dC, dI)) (ci := 0) (v := .int mark) (C := RX0) (T := TX0) (N := 9) hx hb hts in_X0 hown hK hP 0 rfl rfl 8 (by decide) (hts _ q74) (fun _ h9 => h9) rfl dX0_take_182 ?_
    refine lv_iload hx hb dX0_take_185 (lv_at hl 3 rfl) ?_
    refine va_mmax (x := mark) (y := wh) hx hb (hml.trans hl.1.symm) hown (hts _ q148) (hts _ q149) (hts _ q15) (hts _ q150) (Nat.le_of_ble_eq_true rfl) (Nat.le_of_ble_eq_true rfl) (Nat.le_of_ble_eq_true rfl) (Nat.le_of_ble_eq_true rfl) dX0_take_187 ?_
    refine sj_cvi (y := mk) hmk.symm ?_
    refine va_put (D := (dC, dI)) (ci := 0) (v := .int mk) (ty := .int) (C := RX0) (T := TX0) (N := 9) hx hb hts in_X0 tyX0 tyX0_ok nmX0 hown hK hP hD hS 0 rfl rfl 8 (by decide) (hts _ q74) (fun _ h9 => h9) rfl (by decide +kernel) rfl rfl (Nat.le_of_ble_eq_true rfl) dX0_take_190 (fun H locs hP hD hS => ?_)
    have hP : va_P (dC, dI) vwCl [(h, .inr (0, [.ref hs, .ref ho, .int way, .int size, .int grace, .int (all + 1), .int (taken + 1), .int late, .int mk])), (hs, .inr (1, [.ref ka1, .ref sa1, .ref na1, .int (nI L1.length)])), (ka1, .inl (dJ, cap1, .inr (.inl f1))), (sa1, .inl (dN, cap1, .inl f2)), (na1, .inl (dJ, cap1, .inr (.inl f3))), (ho, .inr (2, [.ref kb, .ref vb, .ref wb, .int (nI O.length)])), (kb, .inl (dJ, cb, .inr (.inl gk))), (vb, .inl (dJ, cb, .inr (.inl gv))), (wb, .inl (dJ, cb, .inr (.inl gw)))] H := hP
    have hD : va_D A [(h, .inr (0, [.ref hs, .ref ho, .int way, .int size, .int grace, .int (all + 1), .int (taken + 1), .int late, .int mk])), (hs, .inr (1, [.ref ka1, .ref sa1, .ref na1, .int (nI L1.length)])), (ka1, .inl (dJ, cap1, .inr (.inl f1))), (sa1, .inl (dN, cap1, .inl f2)), (na1, .inl (dJ, cap1, .inr (.inl f3))), (ho, .inr (2, [.ref kb, .ref vb, .ref wb, .int (nI O.length)])), (kb, .inl (dJ, cb, .inr (.inl gk))), (vb, .inl (dJ, cb, .inr (.inl gv))), (wb, .inl (dJ, cb, .inr (.inl gw)))] := hD
    refine lv_iconst (v := nI 0) hx hb dX0_take_193 (by decide) ?_
    refine lv_istore (lv' := [(8, .int (nI 0)), (0, .ref h), (1, .long key), (3, .long value), (5, .int wh), (6, .int (wh / size))]) hx hb dX0_take_194 hl (by decide) rfl (fun ls hl => ?_)
    exact loop L1 0 O ka1 sa1 na1 cap1 f1 f2 f3 kb vb wb cb gk gv gw H locs ls (by omega) (by omega) a1 a2 a3 hd1 hd2 hO r1 hro hinv hP hD hS (lv_sub hl [1, 2, 3, 4, 5, 0] rfl)
  refine lv_aload_n hx hb dX0_take_0 rfl (lv_at hl 0 rfl) ?_
  refine va_get (D := (dC, dI)) (ci := 0) (v := .int all) (C := RX0) (T := TX0) (N := 9) hx hb hts in_X0 hown hK hP 0 rfl rfl 5 (by decide) (hts _ q71) (fun _ h9 => h9) rfl dX0_take_1 ?_
  refine lv_sipush (v := 3000) hx hb dX0_take_4 (by decide) ?_
  refine lv_icmp_eq (tgt := 46) hx hb dX0_take_7 (by decide) (fun c7 => ?_) (fun c7 => ?_)
  · skip
    refine lv_bipush (v := (-3)) hx hb dX0_take_46 (by decide) ?_
    refine W.widen (k := 195) (n := 24960) (Nat.le_of_ble_eq_true rfl) (Nat.le_of_ble_eq_true rfl) ?_
    exact W.iret (v := (-3)) hx hb hr (fun t ht hW => ⟨⟨(-3), ((all, taken, late, mark), L, O, (ka, sa, na, cap, fk, fs, fn), (kb, vb, wb, cb, gk, gv, gw)), rfl, ⟨by rw [sj_take, if_pos (Or.inl c7)], hrl, hro, hc1, hc2, hL, hd1, hd2, hO⟩, by rw [ht]; exact hP, hD⟩, hS.F ht⟩) hS.2.2 dX0_take_48
  · skip
    refine lv_lload_n hx hb dX0_take_10 rfl (lv_at hl 1 rfl) ?_
    refine lv_ldc2 (v := (-1)) hx hb hown (hts _ q102) dX0_take_11 ?_
    refine sj_lc_lt (tgt := 46) hx hb dX0_take_14 dX0_take_15 (by decide) (fun c14 => ?_) (fun c14 => ?_)
    · skip
      refine lv_bipush (v := (-3)) hx hb dX0_take_46 (by decide) ?_
      refine W.widen (k := 195) (n := 24960) (Nat.le_of_ble_eq_true rfl) (Nat.le_of_ble_eq_true rfl) ?_
      exact W.iret (v := (-3)) hx hb hr (fun t ht hW => ⟨⟨(-3), ((all, taken, late, mark), L, O, (ka, sa, na, cap, fk, fs, fn), (kb, vb, wb, cb, gk, gv, gw)), rfl, ⟨by rw [sj_take, if_pos (Or.inr (Or.inl c14))], hrl, hro, hc1, hc2, hL, hd1, hd2, hO⟩, by rw [ht]; exact hP, hD⟩, hS.F ht⟩) hS.2.2 dX0_take_48
    · skip
      refine lv_lload_n hx hb dX0_take_18 rfl (lv_at hl 2 rfl) ?_
      refine lv_ldc2 (v := (-1)) hx hb hown (hts _ q102) dX0_take_19 ?_
      refine sj_lc_lt (tgt := 46) hx hb dX0_take_22 dX0_take_23 (by decide) (fun c22 => ?_) (fun c22 => ?_)
      · skip
        refine lv_bipush (v := (-3)) hx hb dX0_take_46 (by decide) ?_
        refine W.widen (k := 195) (n := 24960) (Nat.le_of_ble_eq_true rfl) (Nat.le_of_ble_eq_true rfl) ?_
        exact W.iret (v := (-3)) hx hb hr (fun t ht hW => ⟨⟨(-3), ((all, taken, late, mark), L, O, (ka, sa, na, cap, fk, fs, fn), (kb, vb, wb, cb, gk, gv, gw)), rfl, ⟨by rw [sj_take, if_pos (Or.inr (Or.inr (Or.inl c22)))], hrl, hro, hc1, hc2, hL, hd1, hd2, hO⟩, by rw [ht]; exact hP, hD⟩, hS.F ht⟩) hS.2.2 dX0_take_48
      · skip
        refine lv_lload_n hx hb dX0_take_26 rfl (lv_at hl 2 rfl) ?_
        refine lv_ldc2 (v := 1000000000000) hx hb hown (hts _ q103) dX0_take_27 ?_
        refine sj_lc_gt (tgt := 46) hx hb dX0_take_30 dX0_take_31 (by decide) (fun c30 => ?_) (fun c30 => ?_)
        · skip
          refine lv_bipush (v := (-3)) hx hb dX0_take_46 (by decide) ?_
          refine W.widen (k := 195) (n := 24960) (Nat.le_of_ble_eq_true rfl) (Nat.le_of_ble_eq_true rfl) ?_
          exact W.iret (v := (-3)) hx hb hr (fun t ht hW => ⟨⟨(-3), ((all, taken, late, mark), L, O, (ka, sa, na, cap, fk, fs, fn), (kb, vb, wb, cb, gk, gv, gw)), rfl, ⟨by rw [sj_take, if_pos (Or.inr (Or.inr (Or.inr (Or.inl c30))))], hrl, hro, hc1, hc2, hL, hd1, hd2, hO⟩, by rw [ht]; exact hP, hD⟩, hS.F ht⟩) hS.2.2 dX0_take_48
        · skip
          refine lv_iload hx hb dX0_take_34 (lv_at hl 3 rfl) ?_
          refine lv_if_lt (tgt := 46) hx hb dX0_take_36 (by decide) (fun c36 => ?_) (fun c36 => ?_)
          · skip
            refine lv_bipush (v := (-3)) hx hb dX0_take_46 (by decide) ?_
            refine W.widen (k := 195) (n := 24960) (Nat.le_of_ble_eq_true rfl) (Nat.le_of_ble_eq_true rfl) ?_
            exact W.iret (v := (-3)) hx hb hr (fun t ht hW => ⟨⟨(-3), ((all, taken, late, mark), L, O, (ka, sa, na, cap, fk, fs, fn), (kb, vb, wb, cb, gk, gv, gw)), rfl, ⟨by rw [sj_take, if_pos (Or.inr (Or.inr (Or.inr (Or.inr (Or.inl c36)))))], hrl, hro, hc1, hc2, hL, hd1, hd2, hO⟩, by rw [ht]; exact hP, hD⟩, hS.F ht⟩) hS.2.2 dX0_take_48
          · skip
            refine lv_iload hx hb dX0_take_39 (lv_at hl 3 rfl) ?_
            refine lv_ldc (v := 1000000000) hx hb hown (hts _ q104) dX0_take_41 ?_
            refine lv_icmp_le (tgt := 49) hx hb dX0_take_43 (by decide) (fun c43 => ?_) (fun c43 => ?_)
            · skip
              have hrej : ¬ sj_rej all key value wh := fun h => h.elim c7 (fun h => h.elim c14 (fun h => h.elim c22 (fun h => h.elim c30 (fun h => h.elim c36 (fun h => absurd c43 (Int32.not_le.mpr h))))))
              refine lv_aload_n hx hb dX0_take_49 rfl (lv_at hl 0 rfl) ?_
              refine lv_dup hx hb dX0_take_50 rfl ?_
              refine va_get (D := (dC, dI)) (ci := 0) (v := .int all) (C := RX0) (T := TX0) (N := 9) hx hb hts in_X0 hown hK hP 0 rfl rfl 5 (by decide) (hts _ q71) (fun _ h9 => h9) rfl dX0_take_51 ?_
              refine lv_iconst (v := 1) hx hb dX0_take_54 (by decide) ?_
              refine lv_iadd hx hb dX0_take_55 ?_
              refine va_put (D := (dC, dI)) (ci := 0) (v := .int (all + 1)) (ty := .int) (C := RX0) (T := TX0) (N := 9) hx hb hts in_X0 tyX0 tyX0_ok nmX0 hown hK hP hD hS 0 rfl rfl 5 (by decide) (hts _ q71) (fun _ h9 => h9) rfl (by decide +kernel) rfl rfl (Nat.le_of_ble_eq_true rfl) dX0_take_56 (fun H locs hP hD hS => ?_)
              have hP : va_P (dC, dI) vwCl [(h, .inr (0, [.ref hs, .ref ho, .int way, .int size, .int grace, .int (all + 1), .int taken, .int late, .int mark])), (hs, .inr (1, [.ref ka, .ref sa, .ref na, .int (nI L.length)])), (ka, .inl (dJ, cap, .inr (.inl fk))), (sa, .inl (dN, cap, .inl fs)), (na, .inl (dJ, cap, .inr (.inl fn))), (ho, .inr (2, [.ref kb, .ref vb, .ref wb, .int (nI O.length)])), (kb, .inl (dJ, cb, .inr (.inl gk))), (vb, .inl (dJ, cb, .inr (.inl gv))), (wb, .inl (dJ, cb, .inr (.inl gw)))] H := hP
              have hD : va_D A [(h, .inr (0, [.ref hs, .ref ho, .int way, .int size, .int grace, .int (all + 1), .int taken, .int late, .int mark])), (hs, .inr (1, [.ref ka, .ref sa, .ref na, .int (nI L.length)])), (ka, .inl (dJ, cap, .inr (.inl fk))), (sa, .inl (dN, cap, .inl fs)), (na, .inl (dJ, cap, .inr (.inl fn))), (ho, .inr (2, [.ref kb, .ref vb, .ref wb, .int (nI O.length)])), (kb, .inl (dJ, cb, .inr (.inl gk))), (vb, .inl (dJ, cb, .inr (.inl gv))), (wb, .inl (dJ, cb, .inr (.inl gw)))] := hD
              refine lv_aload_n hx hb dX0_take_59 rfl (lv_at hl 0 rfl) ?_
              refine lv_dup hx hb dX0_take_60 rfl ?_
              refine va_get (D := (dC, dI)) (ci := 0) (v := .int taken) (C := RX0) (T := TX0) (N := 9) hx hb hts in_X0 hown hK hP 0 rfl rfl 6 (by decide) (hts _ q72) (fun _ h9 => h9) rfl dX0_take_61 ?_
              refine lv_iconst (v := 1) hx hb dX0_take_64 (by decide) ?_
              refine lv_iadd hx hb dX0_take_65 ?_
              refine va_put (D := (dC, dI)) (ci := 0) (v := .int (taken + 1)) (ty := .int) (C := RX0) (T := TX0) (N := 9) hx hb hts in_X0 tyX0 tyX0_ok nmX0 hown hK hP hD hS 0 rfl rfl 6 (by decide) (hts _ q72) (fun _ h9 => h9) rfl (by decide +kernel) rfl rfl (Nat.le_of_ble_eq_true rfl) dX0_take_66 (fun H locs hP hD hS => ?_)
              have hP : va_P (dC, dI) vwCl [(h, .inr (0, [.ref hs, .ref ho, .int way, .int size, .int grace, .int (all + 1), .int (taken + 1), .int late, .int mark])), (hs, .inr (1, [.ref ka, .ref sa, .ref na, .int (nI L.length)])), (ka, .inl (dJ, cap, .inr (.inl fk))), (sa, .inl (dN, cap, .inl fs)), (na, .inl (dJ, cap, .inr (.inl fn))), (ho, .inr (2, [.ref kb, .ref vb, .ref wb, .int (nI O.length)])), (kb, .inl (dJ, cb, .inr (.inl gk))), (vb, .inl (dJ, cb, .inr (.inl gv))), (wb, .inl (dJ, cb, .inr (.inl gw)))] H := hP
              have hD : va_D A [(h, .inr (0, [.ref hs, .ref ho, .int way, .int size, .int grace, .int (all + 1), .int (taken + 1), .int late, .int mark])), (hs, .inr (1, [.ref ka, .ref sa, .ref na, .int (nI L.length)])), (ka, .inl (dJ, cap, .inr (.inl fk))), (sa, .inl (dN, cap, .inl fs)), (na, .inl (dJ, cap, .inr (.inl fn))), (ho, .inr (2, [.ref kb, .ref vb, .ref wb, .int (nI O.length)])), (kb, .inl (dJ, cb, .inr (.inl gk))), (vb, .inl (dJ, cb, .inr (.inl gv))), (wb, .inl (dJ, cb, .inr (.inl gw)))] := hD
              refine lv_lload_n hx hb dX0_take_69 rfl (lv_at hl 1 rfl) ?_
              refine lv_lconst (v := 0) hx hb dX0_take_70 (by decide) ?_
              refine sj_lc_lt (tgt := 81) hx hb dX0_take_71 dX0_take_72 (by decide) (fun c71 => ?_) (fun c71 => ?_)
              · skip
                refine lv_iconst (v := (-1)) hx hb dX0_take_81 (by decide) ?_
                refine W.widen (k := 195) (n := 24960) (Nat.le_of_ble_eq_true rfl) (Nat.le_of_ble_eq_true rfl) ?_
                exact W.iret (v := (-1)) hx hb hr (fun t ht hW => ⟨⟨(-1), ((all + 1, taken + 1, late, mark), L, O, (ka, sa, na, cap, fk, fs, fn), (kb, vb, wb, cb, gk, gv, gw)), rfl, ⟨by rw [sj_take, if_neg hrej, if_pos (Or.inl c71)], hrl, hro, hc1, hc2, hL, hd1, hd2, hO⟩, by rw [ht]; exact hP, hD⟩, hS.F ht⟩) hS.2.2 dX0_take_82
              · skip
                refine lv_lload_n hx hb dX0_take_75 rfl (lv_at hl 2 rfl) ?_
                refine lv_lconst (v := 0) hx hb dX0_take_76 (by decide) ?_
                refine sj_lc_ge (tgt := 83) hx hb dX0_take_77 dX0_take_78 (by decide) (fun c77 => ?_) (fun c77 => ?_)
                · skip
                  have hneg : ¬ (key < 0 ∨ value < 0) := fun h => h.elim c71 (fun h => absurd c77 (Int64.not_le.mpr h))
                  refine lv_iload hx hb dX0_take_83 (lv_at hl 3 rfl) ?_
                  refine lv_aload_n hx hb dX0_take_85 rfl (lv_at hl 0 rfl) ?_
                  refine va_get (D := (dC, dI)) (ci := 0) (v := .int size) (C := RX0) (T := TX0) (N := 9) hx hb hts in_X0 hown hK hP 0 rfl rfl 3 (by decide) (hts _ q69) (fun _ h9 => h9) rfl dX0_take_86 ?_
                  refine lv_idiv hx hb dX0_take_89 hsz0 ?_
                  refine lv_istore (lv' := [(6, .int (wh / size)), (0, .ref h), (1, .long key), (3, .long value), (5, .int wh)]) hx hb dX0_take_90 hl (by decide) rfl (fun ls hl => ?_)
                  refine lv_aload_n hx hb dX0_take_92 rfl (lv_at hl 1 rfl) ?_
                  refine lv_iload hx hb dX0_take_93 (lv_at hl 0 rfl) ?_
                  refine sj_callRi (As := [.int (wh / size)]) (rest := []) ⟨hx, hb, hml, hown, hts⟩ (metX0_isClosed l dC dI dJ dN dZ h hs ho way size grace (all + 1) (taken + 1) late mark (wh / size)) (cwV 1 hts (lw_V q105 q107 qs0 q11 q108) rfl rfl rfl (by decide +kernel) ⟨Nat.le_of_ble_eq_true rfl, Nat.le_of_ble_eq_true rfl⟩) hK hP [0] rfl 0 rfl rfl rfl rfl hl.1 rfl (Nat.le_of_ble_eq_true rfl) dX0_take_95 ⟨Nat.zero_le _, Nat.zero_le _⟩ (fun v hv => ?_)
                  refine lv_if_eq (tgt := 114) hx hb dX0_take_98 (by decide) (fun c98 => ?_) (fun c98 => ?_)
                  · skip
                    have c98 := sj_i0 hv c98
                    have hall : sj_take way size grace all taken late mark L O key value wh = sj_fin 0 size grace mk (all + 1) (taken + 1) late (sj_up way L (wh / size) key value) O := by rw [sj_take, if_neg hrej, if_neg hneg, if_neg c98, hmk]
                    obtain ⟨sq, hsq⟩ : ∃ sq, sq = wh / size := ⟨_, rfl⟩
                    refine lv_aload_n hx hb dX0_take_114 rfl (lv_at hl 1 rfl) ?_
                    refine va_get (D := (dC, dI)) (ci := 0) (v := .ref hs) (C := RX0) (T := TX0) (N := 9) hx hb hts in_X0 hown hK hP 0 rfl rfl 0 (by decide) (hts _ q66) (fun _ h9 => h9) rfl dX0_take_115 ?_
                    refine lv_iload hx hb dX0_take_118 (lv_at hl 0 rfl) ?_
                    refine lv_lload_n hx hb dX0_take_120 rfl (lv_at hl 2 rfl) ?_
                    refine sj_callRi (As := [.int (wh / size), .long key]) (rest := []) ⟨hx, hb, hml, hown, hts⟩ (metX1_find l dC dI dJ dN dZ hs ka sa na cap L.length fk fs fn (by omega) hL (wh / size) key (sj_rk L (wh / size) key) (sj_rk_le L _ key) (sj_b1 hrl _ key) (sj_b2 hrl hso _ key)) (cwV 2 hts (lw_V q109 q110 q111 q12 q112) rfl rfl rfl (by decide +kernel) ⟨Nat.le_of_ble_eq_true rfl, Nat.le_of_ble_eq_true rfl⟩) hK hP [1, 2, 3, 4] rfl 1 rfl rfl rfl rfl hl.1 rfl (Nat.le_of_ble_eq_true rfl) dX0_take_121 ⟨Nat.zero_le _, Nat.zero_le _⟩ (fun v7 hv7 => ?_)
                    have hrk := sj_rk_le L (wh / size) key
                    by_cases hh : sj_rk L (wh / size) key < L.length ∧ fs (sj_rk L (wh / size) key) = wh / size ∧ fk (sj_rk L (wh / size) key) = key
                    · skip
                      rw [if_pos hh] at hv7
                      subst hv7
                      refine lv_istore (lv' := [(7, .int (nI (sj_rk L (wh / size) key))), (6, .int (wh / size)), (0, .ref h), (1, .long key), (3, .long value), (5, .int wh)]) hx hb dX0_take_124 hl (by decide) rfl (fun ls hl => ?_)
                      refine lv_iload hx hb dX0_take_126 (lv_at hl 0 rfl) ?_
                      refine lv_if_lt (tgt := 157) hx hb dX0_take_128 (by decide) (fun c128 => absurd c128 (nI_pos (by omega))) (fun c128 => ?_)
                      refine lv_aload_n hx hb dX0_take_131 rfl (lv_at hl 2 rfl) ?_
                      refine va_get (D := (dC, dI)) (ci := 0) (v := .ref hs) (C := RX0) (T := TX0) (N := 9) hx hb hts in_X0 hown hK hP 0 rfl rfl 0 (by decide) (hts _ q66) (fun _ h9 => h9) rfl dX0_take_132 ?_
                      refine lv_iload hx hb dX0_take_135 (lv_at hl 0 rfl) ?_
                      refine lv_aload_n hx hb dX0_take_137 rfl (lv_at hl 2 rfl) ?_
                      refine lv_aload_n hx hb dX0_take_138 rfl (lv_at hl 2 rfl) ?_
                      refine va_get (D := (dC, dI)) (ci := 0) (v := .ref hs) (C := RX0) (T := TX0) (N := 9) hx hb hts in_X0 hown hK hP 0 rfl rfl 0 (by decide) (hts _ q66) (fun _ h9 => h9) rfl dX0_take_139 ?_
                      refine lv_iload hx hb dX0_take_142 (lv_at hl 0 rfl) ?_
                      refine sj_callRl (As := [.int (nI (sj_rk L (wh / size) key))]) (rest := [.ref h, .int (nI (sj_rk L (wh / size) key)), .ref hs]) ⟨hx, hb, hml, hown, hts⟩ (metX1_number l dC dI dJ dN dZ hs ka sa na cap L.length fk fs fn (by omega) (sj_rk L (wh / size) key) (by omega)) (cwV 1 hts (lw_V q121 q122 q123 q12 q124) rfl rfl rfl (by decide +kernel) ⟨Nat.le_of_ble_eq_true rfl, Nat.le_of_ble_eq_true rfl⟩) hK hP [1, 2, 3, 4] rfl 1 rfl rfl rfl rfl hl.1 rfl (Nat.le_of_ble_eq_true rfl) dX0_take_144 ⟨Nat.zero_le _, Nat.zero_le _⟩ (fun v8 hv8 => ?_)
                      subst hv8
                      refine lv_lload_n hx hb dX0_take_147 rfl (lv_at hl 4 rfl) ?_
                      refine sj_callRl (As := [.long (fn (sj_rk L (wh / size) key)), .long value]) (rest := [.int (nI (sj_rk L (wh / size) key)), .ref hs]) ⟨hx, hb, hml, hown, hts⟩ (metX0_added l dC dI dJ dN dZ h hs ho way size grace (all + 1) (taken + 1) late mark (fn (sj_rk L (wh / size) key)) value) (cwV 2 hts (lw_V q125 q127 qs3 q11 q128) rfl rfl rfl (by decide +kernel) ⟨Nat.le_of_ble_eq_true rfl, Nat.le_of_ble_eq_true rfl⟩) hK hP [0] rfl 0 rfl rfl rfl rfl hl.1 rfl (Nat.le_of_ble_eq_true rfl) dX0_take_148 ⟨Nat.zero_le _, Nat.zero_le _⟩ (fun v9 hv9 => ?_)
                      subst hv9
                      refine sj_callWv (As := [.int (nI (sj_rk L (wh / size) key)), .long (sj_add way (fn (sj_rk L (wh / size) key)) value)]) (rest := []) (wr := [(h, .inr (0, [.ref hs, .ref ho, .int way, .int size, .int grace, .int (all + 1), .int (taken + 1), .int late, .int mark])), (ho, .inr (2, [.ref kb, .ref vb, .ref wb, .int (nI O.length)])), (kb, .inl (dJ, cb, .inr (.inl gk))), (vb, .inl (dJ, cb, .inr (.inl gv))), (wb, .inl (dJ, cb, .inr (.inl gw)))]) ⟨hx, hb, hml, hown, hts⟩ (metX1_set l dC dI dJ dN dZ _ hs ka sa na cap L.length fk fs fn (by omega) (sj_rk L (wh / size) key) (by omega) (sj_add way (fn (sj_rk L (wh / size) key)) value)) (cwV 2 hts (lw_V q136 q137 q138 q12 q139) rfl rfl rfl (by decide +kernel) ⟨Nat.le_of_ble_eq_true rfl, Nat.le_of_ble_eq_true rfl⟩) hK hP hD hS hA [1, 2, 3, 4] [0, 5, 6, 7, 8] rfl rfl rfl (by decide) (by decide) (by decide) 1 rfl rfl rfl rfl hl.1 rfl (Nat.le_of_ble_eq_true rfl) dX0_take_151 ⟨(Nat.le_of_ble_eq_true rfl), (Nat.le_of_ble_eq_true rfl)⟩ (fun u H locs hw hP hD hS => ?_)
                      have hP : va_P (dC, dI) vwCl [(h, .inr (0, [.ref hs, .ref ho, .int way, .int size, .int grace, .int (all + 1), .int (taken + 1), .int late, .int mark])), (ho, .inr (2, [.ref kb, .ref vb, .ref wb, .int (nI O.length)])), (kb, .inl (dJ, cb, .inr (.inl gk))), (vb, .inl (dJ, cb, .inr (.inl gv))), (wb, .inl (dJ, cb, .inr (.inl gw))), (hs, .inr (1, [.ref ka, .ref sa, .ref na, .int (nI L.length)])), (ka, .inl (dJ, cap, .inr (.inl fk))), (sa, .inl (dN, cap, .inl fs)), (na, .inl (dJ, cap, .inr (.inl (vp_updL fn (sj_rk L (wh / size) key) (sj_add way (fn (sj_rk L (wh / size) key)) value)))))] H := hP
                      have hD : va_D A [(h, .inr (0, [.ref hs, .ref ho, .int way, .int size, .int grace, .int (all + 1), .int (taken + 1), .int late, .int mark])), (ho, .inr (2, [.ref kb, .ref vb, .ref wb, .int (nI O.length)])), (kb, .inl (dJ, cb, .inr (.inl gk))), (vb, .inl (dJ, cb, .inr (.inl gv))), (wb, .inl (dJ, cb, .inr (.inl gw))), (hs, .inr (1, [.ref ka, .ref sa, .ref na, .int (nI L.length)])), (ka, .inl (dJ, cap, .inr (.inl fk))), (sa, .inl (dN, cap, .inl fs)), (na, .inl (dJ, cap, .inr (.inl (vp_updL fn (sj_rk L (wh / size) key) (sj_add way (fn (sj_rk L (wh / size) key)) value)))))] := hD
                      have hP : va_P (dC, dI) vwCl [(h, .inr (0, [.ref hs, .ref ho, .int way, .int size, .int grace, .int (all + 1), .int (taken + 1), .int late, .int mark])), (hs, .inr (1, [.ref ka, .ref sa, .ref na, .int (nI L.length)])), (ka, .inl (dJ, cap, .inr (.inl fk))), (sa, .inl (dN, cap, .inl fs)), (na, .inl (dJ, cap, .inr (.inl (vp_updL fn (sj_rk L (wh / size) key) (sj_add way (fn (sj_rk L (wh / size) key)) value))))), (ho, .inr (2, [.ref kb, .ref vb, .ref wb, .int (nI O.length)])), (kb, .inl (dJ, cb, .inr (.inl gk))), (vb, .inl (dJ, cb, .inr (.inl gv))), (wb, .inl (dJ, cb, .inr (.inl gw)))] H := hP.sub [0, 5, 6, 7, 8, 1, 2, 3, 4] rfl
                      have hD : va_D A [(h, .inr (0, [.ref hs, .ref ho, .int way, .int size, .int grace, .int (all + 1), .int (taken + 1), .int late, .int mark])), (hs, .inr (1, [.ref ka, .ref sa, .ref na, .int (nI L.length)])), (ka, .inl (dJ, cap, .inr (.inl fk))), (sa, .inl (dN, cap, .inl fs)), (na, .inl (dJ, cap, .inr (.inl (vp_updL fn (sj_rk L (wh / size) key) (sj_add way (fn (sj_rk L (wh / size) key)) value))))), (ho, .inr (2, [.ref kb, .ref vb, .ref wb, .int (nI O.length)])), (kb, .inl (dJ, cb, .inr (.inl gk))), (vb, .inl (dJ, cb, .inr (.inl gv))), (wb, .inl (dJ, cb, .inr (.inl gw)))] := hD.sub [0, 5, 6, 7, 8, 1, 2, 3, 4] (by decide) rfl
                      obtain ⟨z1, z2⟩ := sj_rep_hit (way := way) (v := value) hrl hh.1 hh.2.1 hh.2.2 (fn' := vp_updL fn (sj_rk L (wh / size) key) (sj_add way (fn (sj_rk L (wh / size) key)) value)) (fun _ => rfl)
                      rw [← z2] at hP hD
                      refine lv_goto (tgt := 180) hx hb dX0_take_154 (by decide) ?_
                      refine W.widen (k := 3) (n := 384) (Nat.le_of_ble_eq_true rfl) (Nat.le_of_ble_eq_true rfl) ?_
                      exact tail _ ka sa na cap _ _ _ H locs ls (by omega) hc1 hc2 (by omega) z1 hall hP hD hS (lv_sub hl [2, 3, 4, 5, 1] rfl)
                    · skip
                      rw [if_neg hh] at hv7
                      subst hv7
                      refine lv_istore (lv' := [(7, .int (-1)), (6, .int (wh / size)), (0, .ref h), (1, .long key), (3, .long value), (5, .int wh)]) hx hb dX0_take_124 hl (by decide) rfl (fun ls hl => ?_)
                      refine lv_iload hx hb dX0_take_126 (lv_at hl 0 rfl) ?_
                      refine lv_if_lt (tgt := 157) hx hb dX0_take_128 (by decide) (fun c128 => ?_) (fun c128 => absurd (by decide) c128)
                      refine lv_aload_n hx hb dX0_take_157 rfl (lv_at hl 2 rfl) ?_
                      refine va_get (D := (dC, dI)) (ci := 0) (v := .ref hs) (C := RX0) (T := TX0) (N := 9) hx hb hts in_X0 hown hK hP 0 rfl rfl 0 (by decide) (hts _ q66) (fun _ h9 => h9) rfl dX0_take_158 ?_
                      refine lv_iload hx hb dX0_take_161 (lv_at hl 1 rfl) ?_
                      refine lv_lload_n hx hb dX0_take_163 rfl (lv_at hl 3 rfl) ?_
                      refine lv_aload_n hx hb dX0_take_164 rfl (lv_at hl 2 rfl) ?_
                      refine va_get (D := (dC, dI)) (ci := 0) (v := .int way) (C := RX0) (T := TX0) (N := 9) hx hb hts in_X0 hown hK hP 0 rfl rfl 2 (by decide) (hts _ q68) (fun _ h9 => h9) rfl dX0_take_165 ?_
                      refine lv_iconst (v := 1) hx hb dX0_take_168 (by decide) ?_
                      refine lv_icmp_ne (tgt := 176) hx hb dX0_take_169 (by decide) (fun c169 => ?_) (fun c169 => ?_)
                      · skip
                        refine lv_lload_n hx hb dX0_take_176 rfl (lv_at hl 4 rfl) ?_
                        refine sj_cvl (y := sj_v0 way value) ((if_neg c169).symm) ?_
                        refine sj_callWv (As := [.int (wh / size), .long key, .long (sj_v0 way value)]) (rest := []) (wr := [(h, .inr (0, [.ref hs, .ref ho, .int way, .int size, .int grace, .int (all + 1), .int (taken + 1), .int late, .int mark])), (ho, .inr (2, [.ref kb, .ref vb, .ref wb, .int (nI O.length)])), (kb, .inl (dJ, cb, .inr (.inl gk))), (vb, .inl (dJ, cb, .inr (.inl gv))), (wb, .inl (dJ, cb, .inr (.inl gw)))]) ⟨hx, hb, hml, hown, hts⟩ (metX1_insert l dC dI dJ dN dZ _ hs ka sa na cap L.length fk fs fn hc1 hc2 hL (by omega) (wh / size) key (sj_rk L (wh / size) key) (sj_rk_le L _ key) (sj_b1 hrl _ key) (sj_b2 hrl hso _ key) (sj_v0 way value)) (cwV 3 hts (lw_V q140 q141 q142 q12 q143) rfl rfl rfl (by decide +kernel) ⟨Nat.le_of_ble_eq_true rfl, Nat.le_of_ble_eq_true rfl⟩) hK hP hD hS hA [1, 2, 3, 4] [0, 5, 6, 7, 8] rfl rfl rfl (by decide) (by decide) (by decide) 1 rfl rfl rfl rfl hl.1 rfl (Nat.le_of_ble_eq_true rfl) dX0_take_177 ⟨(Nat.le_of_ble_eq_true rfl), (Nat.le_of_ble_eq_true rfl)⟩ (fun u H locs hw hP hD hS => ?_)
                        have hP : va_P (dC, dI) vwCl [(h, .inr (0, [.ref hs, .ref ho, .int way, .int size, .int grace, .int (all + 1), .int (taken + 1), .int late, .int mark])), (ho, .inr (2, [.ref kb, .ref vb, .ref wb, .int (nI O.length)])), (kb, .inl (dJ, cb, .inr (.inl gk))), (vb, .inl (dJ, cb, .inr (.inl gv))), (wb, .inl (dJ, cb, .inr (.inl gw))), (hs, .inr (1, [.ref u.1, .ref u.2.1, .ref u.2.2.1, .int (nI (L.length + 1))])), (u.1, .inl (dJ, u.2.2.2.1, .inr (.inl u.2.2.2.2.1))), (u.2.1, .inl (dN, u.2.2.2.1, .inl u.2.2.2.2.2.1)), (u.2.2.1, .inl (dJ, u.2.2.2.1, .inr (.inl u.2.2.2.2.2.2)))] H := hP
                        have hD : va_D A [(h, .inr (0, [.ref hs, .ref ho, .int way, .int size, .int grace, .int (all + 1), .int (taken + 1), .int late, .int mark])), (ho, .inr (2, [.ref kb, .ref vb, .ref wb, .int (nI O.length)])), (kb, .inl (dJ, cb, .inr (.inl gk))), (vb, .inl (dJ, cb, .inr (.inl gv))), (wb, .inl (dJ, cb, .inr (.inl gw))), (hs, .inr (1, [.ref u.1, .ref u.2.1, .ref u.2.2.1, .int (nI (L.length + 1))])), (u.1, .inl (dJ, u.2.2.2.1, .inr (.inl u.2.2.2.2.1))), (u.2.1, .inl (dN, u.2.2.2.1, .inl u.2.2.2.2.2.1)), (u.2.2.1, .inl (dJ, u.2.2.2.1, .inr (.inl u.2.2.2.2.2.2)))] := hD
                        have hP : va_P (dC, dI) vwCl [(h, .inr (0, [.ref hs, .ref ho, .int way, .int size, .int grace, .int (all + 1), .int (taken + 1), .int late, .int mark])), (hs, .inr (1, [.ref u.1, .ref u.2.1, .ref u.2.2.1, .int (nI (L.length + 1))])), (u.1, .inl (dJ, u.2.2.2.1, .inr (.inl u.2.2.2.2.1))), (u.2.1, .inl (dN, u.2.2.2.1, .inl u.2.2.2.2.2.1)), (u.2.2.1, .inl (dJ, u.2.2.2.1, .inr (.inl u.2.2.2.2.2.2))), (ho, .inr (2, [.ref kb, .ref vb, .ref wb, .int (nI O.length)])), (kb, .inl (dJ, cb, .inr (.inl gk))), (vb, .inl (dJ, cb, .inr (.inl gv))), (wb, .inl (dJ, cb, .inr (.inl gw)))] H := hP.sub [0, 5, 6, 7, 8, 1, 2, 3, 4] rfl
                        have hD : va_D A [(h, .inr (0, [.ref hs, .ref ho, .int way, .int size, .int grace, .int (all + 1), .int (taken + 1), .int late, .int mark])), (hs, .inr (1, [.ref u.1, .ref u.2.1, .ref u.2.2.1, .int (nI (L.length + 1))])), (u.1, .inl (dJ, u.2.2.2.1, .inr (.inl u.2.2.2.2.1))), (u.2.1, .inl (dN, u.2.2.2.1, .inl u.2.2.2.2.2.1)), (u.2.2.1, .inl (dJ, u.2.2.2.1, .inr (.inl u.2.2.2.2.2.2))), (ho, .inr (2, [.ref kb, .ref vb, .ref wb, .int (nI O.length)])), (kb, .inl (dJ, cb, .inr (.inl gk))), (vb, .inl (dJ, cb, .inr (.inl gv))), (wb, .inl (dJ, cb, .inr (.inl gw)))] := hD.sub [0, 5, 6, 7, 8, 1, 2, 3, 4] (by decide) rfl
                        obtain ⟨d1, d2, d3, d4, d5, d6⟩ := hw
                        obtain ⟨z1, z2⟩ := sj_rep_miss (way := way) (v := value) hrl hh d4 d5 d6
                        rw [← z2] at hP hD
                        exact tail _ _ _ _ _ _ _ _ H locs ls (by omega) d2 d1 (by rw [z2]; exact d3) z1 hall hP hD hS (lv_sub hl [2, 3, 4, 5, 1] rfl)
                      · skip
                        refine lv_lconst (v := 1) hx hb dX0_take_172 (by decide) ?_
                        refine sj_cvl (y := sj_v0 way value) ((if_pos c169).symm) ?_
                        refine lv_goto (tgt := 177) hx hb dX0_take_173 (by decide) ?_
                        refine sj_callWv (As := [.int (wh / size), .long key, .long (sj_v0 way value)]) (rest := []) (wr := [(h, .inr (0, [.ref hs, .ref ho, .int way, .int size, .int grace, .int (all + 1), .int (taken + 1), .int late, .int mark])), (ho, .inr (2, [.ref kb, .ref vb, .ref wb, .int (nI O.length)])), (kb, .inl (dJ, cb, .inr (.inl gk))), (vb, .inl (dJ, cb, .inr (.inl gv))), (wb, .inl (dJ, cb, .inr (.inl gw)))]) ⟨hx, hb, hml, hown, hts⟩ (metX1_insert l dC dI dJ dN dZ _ hs ka sa na cap L.length fk fs fn hc1 hc2 hL (by omega) (wh / size) key (sj_rk L (wh / size) key) (sj_rk_le L _ key) (sj_b1 hrl _ key) (sj_b2 hrl hso _ key) (sj_v0 way value)) (cwV 3 hts (lw_V q140 q141 q142 q12 q143) rfl rfl rfl (by decide +kernel) ⟨Nat.le_of_ble_eq_true rfl, Nat.le_of_ble_eq_true rfl⟩) hK hP hD hS hA [1, 2, 3, 4] [0, 5, 6, 7, 8] rfl rfl rfl (by decide) (by decide) (by decide) 1 rfl rfl rfl rfl hl.1 rfl (Nat.le_of_ble_eq_true rfl) dX0_take_177 ⟨(Nat.le_of_ble_eq_true rfl), (Nat.le_of_ble_eq_true rfl)⟩ (fun u H locs hw hP hD hS => ?_)
                        have hP : va_P (dC, dI) vwCl [(h, .inr (0, [.ref hs, .ref ho, .int way, .int size, .int grace, .int (all + 1), .int (taken + 1), .int late, .int mark])), (ho, .inr (2, [.ref kb, .ref vb, .ref wb, .int (nI O.length)])), (kb, .inl (dJ, cb, .inr (.inl gk))), (vb, .inl (dJ, cb, .inr (.inl gv))), (wb, .inl (dJ, cb, .inr (.inl gw))), (hs, .inr (1, [.ref u.1, .ref u.2.1, .ref u.2.2.1, .int (nI (L.length + 1))])), (u.1, .inl (dJ, u.2.2.2.1, .inr (.inl u.2.2.2.2.1))), (u.2.1, .inl (dN, u.2.2.2.1, .inl u.2.2.2.2.2.1)), (u.2.2.1, .inl (dJ, u.2.2.2.1, .inr (.inl u.2.2.2.2.2.2)))] H := hP
                        have hD : va_D A [(h, .inr (0, [.ref hs, .ref ho, .int way, .int size, .int grace, .int (all + 1), .int (taken + 1), .int late, .int mark])), (ho, .inr (2, [.ref kb, .ref vb, .ref wb, .int (nI O.length)])), (kb, .inl (dJ, cb, .inr (.inl gk))), (vb, .inl (dJ, cb, .inr (.inl gv))), (wb, .inl (dJ, cb, .inr (.inl gw))), (hs, .inr (1, [.ref u.1, .ref u.2.1, .ref u.2.2.1, .int (nI (L.length + 1))])), (u.1, .inl (dJ, u.2.2.2.1, .inr (.inl u.2.2.2.2.1))), (u.2.1, .inl (dN, u.2.2.2.1, .inl u.2.2.2.2.2.1)), (u.2.2.1, .inl (dJ, u.2.2.2.1, .inr (.inl u.2.2.2.2.2.2)))] := hD
                        have hP : va_P (dC, dI) vwCl [(h, .inr (0, [.ref hs, .ref ho, .int way, .int size, .int grace, .int (all + 1), .int (taken + 1), .int late, .int mark])), (hs, .inr (1, [.ref u.1, .ref u.2.1, .ref u.2.2.1, .int (nI (L.length + 1))])), (u.1, .inl (dJ, u.2.2.2.1, .inr (.inl u.2.2.2.2.1))), (u.2.1, .inl (dN, u.2.2.2.1, .inl u.2.2.2.2.2.1)), (u.2.2.1, .inl (dJ, u.2.2.2.1, .inr (.inl u.2.2.2.2.2.2))), (ho, .inr (2, [.ref kb, .ref vb, .ref wb, .int (nI O.length)])), (kb, .inl (dJ, cb, .inr (.inl gk))), (vb, .inl (dJ, cb, .inr (.inl gv))), (wb, .inl (dJ, cb, .inr (.inl gw)))] H := hP.sub [0, 5, 6, 7, 8, 1, 2, 3, 4] rfl
                        have hD : va_D A [(h, .inr (0, [.ref hs, .ref ho, .int way, .int size, .int grace, .int (all + 1), .int (taken + 1), .int late, .int mark])), (hs, .inr (1, [.ref u.1, .ref u.2.1, .ref u.2.2.1, .int (nI (L.length + 1))])), (u.1, .inl (dJ, u.2.2.2.1, .inr (.inl u.2.2.2.2.1))), (u.2.1, .inl (dN, u.2.2.2.1, .inl u.2.2.2.2.2.1)), (u.2.2.1, .inl (dJ, u.2.2.2.1, .inr (.inl u.2.2.2.2.2.2))), (ho, .inr (2, [.ref kb, .ref vb, .ref wb, .int (nI O.length)])), (kb, .inl (dJ, cb, .inr (.inl gk))), (vb, .inl (dJ, cb, .inr (.inl gv))), (wb, .inl (dJ, cb, .inr (.inl gw)))] := hD.sub [0, 5, 6, 7, 8, 1, 2, 3, 4] (by decide) rfl
                        obtain ⟨d1, d2, d3, d4, d5, d6⟩ := hw
                        obtain ⟨z1, z2⟩ := sj_rep_miss (way := way) (v := value) hrl hh d4 d5 d6
                        rw [← z2] at hP hD
                        exact tail _ _ _ _ _ _ _ _ H locs ls (by omega) d2 d1 (by rw [z2]; exact d3) z1 hall hP hD hS (lv_sub hl [2, 3, 4, 5, 1] rfl)
                  · skip
                    have c98 := sj_i1 hv c98
                    refine lv_aload_n hx hb dX0_take_101 rfl (lv_at hl 1 rfl) ?_
                    refine lv_dup hx hb dX0_take_102 rfl ?_
                    refine va_get (D := (dC, dI)) (ci := 0) (v := .int late) (C := RX0) (T := TX0) (N := 9) hx hb hts in_X0 hown hK hP 0 rfl rfl 7 (by decide) (hts _ q73) (fun _ h9 => h9) rfl dX0_take_103 ?_
                    refine lv_iconst (v := 1) hx hb dX0_take_106 (by decide) ?_
                    refine lv_iadd hx hb dX0_take_107 ?_
                    refine va_put (D := (dC, dI)) (ci := 0) (v := .int (late + 1)) (ty := .int) (C := RX0) (T := TX0) (N := 9) hx hb hts in_X0 tyX0 tyX0_ok nmX0 hown hK hP hD hS 0 rfl rfl 7 (by decide) (hts _ q73) (fun _ h9 => h9) rfl (by decide +kernel) rfl rfl (Nat.le_of_ble_eq_true rfl) dX0_take_108 (fun H locs hP hD hS => ?_)
                    have hP : va_P (dC, dI) vwCl [(h, .inr (0, [.ref hs, .ref ho, .int way, .int size, .int grace, .int (all + 1), .int (taken + 1), .int (late + 1), .int mark])), (hs, .inr (1, [.ref ka, .ref sa, .ref na, .int (nI L.length)])), (ka, .inl (dJ, cap, .inr (.inl fk))), (sa, .inl (dN, cap, .inl fs)), (na, .inl (dJ, cap, .inr (.inl fn))), (ho, .inr (2, [.ref kb, .ref vb, .ref wb, .int (nI O.length)])), (kb, .inl (dJ, cb, .inr (.inl gk))), (vb, .inl (dJ, cb, .inr (.inl gv))), (wb, .inl (dJ, cb, .inr (.inl gw)))] H := hP
                    have hD : va_D A [(h, .inr (0, [.ref hs, .ref ho, .int way, .int size, .int grace, .int (all + 1), .int (taken + 1), .int (late + 1), .int mark])), (hs, .inr (1, [.ref ka, .ref sa, .ref na, .int (nI L.length)])), (ka, .inl (dJ, cap, .inr (.inl fk))), (sa, .inl (dN, cap, .inl fs)), (na, .inl (dJ, cap, .inr (.inl fn))), (ho, .inr (2, [.ref kb, .ref vb, .ref wb, .int (nI O.length)])), (kb, .inl (dJ, cb, .inr (.inl gk))), (vb, .inl (dJ, cb, .inr (.inl gv))), (wb, .inl (dJ, cb, .inr (.inl gw)))] := hD
                    refine lv_bipush (v := (-2)) hx hb dX0_take_111 (by decide) ?_
                    refine W.widen (k := 195) (n := 24960) (Nat.le_of_ble_eq_true rfl) (Nat.le_of_ble_eq_true rfl) ?_
                    exact W.iret (v := (-2)) hx hb hr (fun t ht hW => ⟨⟨(-2), ((all + 1, taken + 1, late + 1, mark), L, O, (ka, sa, na, cap, fk, fs, fn), (kb, vb, wb, cb, gk, gv, gw)), rfl, ⟨by rw [sj_take, if_neg hrej, if_neg hneg, if_pos c98], hrl, hro, hc1, hc2, hL, hd1, hd2, hO⟩, by rw [ht]; exact hP, hD⟩, hS.F ht⟩) hS.2.2 dX0_take_113
                · skip
                  refine lv_iconst (v := (-1)) hx hb dX0_take_81 (by decide) ?_
                  refine W.widen (k := 195) (n := 24960) (Nat.le_of_ble_eq_true rfl) (Nat.le_of_ble_eq_true rfl) ?_
                  exact W.iret (v := (-1)) hx hb hr (fun t ht hW => ⟨⟨(-1), ((all + 1, taken + 1, late, mark), L, O, (ka, sa, na, cap, fk, fs, fn), (kb, vb, wb, cb, gk, gv, gw)), rfl, ⟨by rw [sj_take, if_neg hrej, if_pos (Or.inr (Int64.not_le.mp c77))], hrl, hro, hc1, hc2, hL, hd1, hd2, hO⟩, by rw [ht]; exact hP, hD⟩, hS.F ht⟩) hS.2.2 dX0_take_82
            · skip
              refine lv_bipush (v := (-3)) hx hb dX0_take_46 (by decide) ?_
              refine W.widen (k := 195) (n := 24960) (Nat.le_of_ble_eq_true rfl) (Nat.le_of_ble_eq_true rfl) ?_
              exact W.iret (v := (-3)) hx hb hr (fun t ht hW => ⟨⟨(-3), ((all, taken, late, mark), L, O, (ka, sa, na, cap, fk, fs, fn), (kb, vb, wb, cb, gk, gv, gw)), rfl, ⟨by rw [sj_take, if_pos (Or.inr (Or.inr (Or.inr (Or.inr (Or.inr (Int32.not_le.mp c43))))))], hrl, hro, hc1, hc2, hL, hd1, hd2, hO⟩, by rw [ht]; exact hP, hD⟩, hS.F ht⟩) hS.2.2 dX0_take_48
end
section
/-! PURE: the model's records, and how they tell the same picture -/
set_option maxRecDepth 100000
abbrev md_cl (size grace mark sp : Int32) : Prop := (sp + 1).toInt64 * size.toInt64 + grace.toInt64 ≤ mark.toInt64
def md_st (way : Int32) (n v : Int64) : Int64 := if way = 0 then (if (if n < 0 then 0 else n) + v < 1000000000000000 then (if n < 0 then 0 else n) + v else 1000000000000000) else if way = 1 then (if n < 0 then 0 else n) + 1 else (if v < (if n < 0 then 0 else n) then (if n < 0 then 0 else n) else v)
def md_num (way : Int32) (gk gv : Nat → Int64) (gs go : Nat → Int32) (ky : Int64) (sp : Int32) : Nat → Int64
  | 0 => -1
  | i + 1 => if go i = 0 ∧ gk i = ky ∧ gs i = sp then md_st way (md_num way gk gv gs go ky sp i) (gv i) else md_num way gk gv gs go ky sp i
def md_pick (gk : Nat → Int64) (gs : Nat → Int32) (i : Nat) (o : Option Nat) : Option Nat := match o with
  | none => some i
  | some b => if sj_bef (gs i) (gk i) (gs b) (gk b) then some i else some b
def md_lst (size grace mark : Int32) (gk : Nat → Int64) (gs go : Nat → Int32) : Nat → Option Nat
  | 0 => none
  | i + 1 => if go i = 0 ∧ md_cl size grace mark (gs i) then md_pick gk gs i (md_lst size grace mark gk gs go i) else md_lst size grace mark gk gs go i
def md_io (o : Option Nat) : Int32 := match o with
  | none => -1
  | some b => nI b
abbrev md_fp (gk : Nat → Int64) (gs go : Nat → Int32) (i j : Nat) : Prop := go i = 0 ∧ ∀ q, q < j → ¬ (go q = 0 ∧ gk q = gk i ∧ gs q = gs i)
def md_ps (gk : Nat → Int64) (gs go : Nat → Int32) : Nat → List (Int32 × Int64)
  | 0 => []
  | i + 1 => if md_fp gk gs go i i then md_ps gk gs go i ++ [(gs i, gk i)] else md_ps gk gs go i
def mo_rep (O : List sj_O) (jk jn : Nat → Int64) (jw : Nat → Int32) : Prop := ∀ (j : Nat) (x : sj_O), O[j]? = some x → jk j = x.1 ∧ jn j = x.2.1 ∧ (jw j).toInt64 = x.2.2
def md_rel (way size : Int32) (L : List sj_E) (cnt : Nat) (gk gv : Nat → Int64) (gs go : Nat → Int32) : Prop :=
  (∀ j, j < cnt → 0 ≤ (gs j).toInt ∧ (gs j).toInt * size.toInt ≤ 1000000000) ∧
  (∀ j, j < cnt → 0 ≤ (gv j).toInt ∧ (gv j).toInt ≤ 1000000000000) ∧
  (∀ (sp : Int32) (ky : Int64), md_num way gk gv gs go ky sp cnt = sj_lk L sp ky) ∧
  sj_so L ∧ (∀ x ∈ L, 0 ≤ x.2.2.toInt ∧ x.2.2.toInt ≤ 1000000000000000 + cnt)
-- numbers
theorem sj_a64 {a b : Int64} (h1 : -9223372036854775808 ≤ a.toInt + b.toInt) (h2 : a.toInt + b.toInt < 9223372036854775808) : (a + b).toInt = a.toInt + b.toInt := by
  rw [Int64.toInt_add]
  exact Int.bmod_eq_of_le (by omega) (by omega)
theorem sj_m64 {a b : Int64} (h1 : -9223372036854775808 ≤ a.toInt * b.toInt) (h2 : a.toInt * b.toInt < 9223372036854775808) : (a * b).toInt = a.toInt * b.toInt := by
  rw [Int64.toInt_mul]
  exact Int.bmod_eq_of_le (by omega) (by omega)
theorem sj_s64 {a b : Int64} (h1 : -9223372036854775808 ≤ a.toInt - b.toInt) (h2 : a.toInt - b.toInt < 9223372036854775808) : (a - b).toInt = a.toInt - b.toInt := by
  rw [Int64.toInt_sub]
  exact Int.bmod_eq_of_le (by omega) (by omega)
theorem sj_a32 {a b : Int32} (h1 : -2147483648 ≤ a.toInt + b.toInt) (h2 : a.toInt + b.toInt < 2147483648) : (a + b).toInt = a.toInt + b.toInt := by
  rw [Int32.toInt_add]
  exact Int.bmod_eq_of_le (by omega) (by omega)
theorem sj_m32 {a b : Int32} (h1 : -2147483648 ≤ a.toInt * b.toInt) (h2 : a.toInt * b.toInt < 2147483648) : (a * b).toInt = a.toInt * b.toInt := by
  rw [Int32.toInt_mul]
  exact Int.bmod_eq_of_le (by omega) (by omega)
theorem sj_s32 {a b : Int32} (h1 : -2147483648 ≤ a.toInt - b.toInt) (h2 : a.toInt - b.toInt < 2147483648) : (a - b).toInt = a.toInt - b.toInt := by
  rw [Int32.toInt_sub]
  exact Int.bmod_eq_of_le (by omega) (by omega)
theorem sj_1L : (1 : Int64).toInt = 1 := by decide
theorem sj_1I : (1 : Int32).toInt = 1 := by decide
theorem sj_0L : (0 : Int64).toInt = 0 := by decide
theorem sj_ML : (1000000000000000 : Int64).toInt = 1000000000000000 := by decide
theorem sj_sp1 {sp size : Int32} (h0 : 0 ≤ sp.toInt) (h1 : sp.toInt * size.toInt ≤ 1000000000) (h2 : 1 ≤ size.toInt) : sp.toInt ≤ 1000000000 := by
  have h3 : sp.toInt * 1 ≤ sp.toInt * size.toInt := Int.mul_le_mul_of_nonneg_left h2 h0
  omega
theorem sj_spm {sp size : Int32} (h0 : 0 ≤ sp.toInt) (h1 : sp.toInt * size.toInt ≤ 1000000000) (h2 : 1 ≤ size.toInt) (h3 : size.toInt ≤ 1000) : (sp.toInt + 1) * size.toInt = sp.toInt * size.toInt + size.toInt ∧ 0 ≤ sp.toInt * size.toInt := by
  refine ⟨by rw [Int.add_mul, Int.one_mul], Int.mul_nonneg h0 (by omega)⟩
theorem sj_p1 {sp : Int32} (h0 : 0 ≤ sp.toInt) (h1 : sp.toInt ≤ 1000000000) : (sp + 1).toInt64 = sp.toInt64 + 1 := by
  apply Int64.toInt_inj.mp
  rw [Int32.toInt_toInt64, sj_a32 (by rw [sj_1I]; omega) (by rw [sj_1I]; omega), sj_a64 (by rw [Int32.toInt_toInt64, sj_1L]; omega) (by rw [Int32.toInt_toInt64, sj_1L]; omega), Int32.toInt_toInt64, sj_1I, sj_1L]
theorem sj_prod {sp size : Int32} (h0 : 0 ≤ sp.toInt) (h1 : sp.toInt * size.toInt ≤ 1000000000) (h2 : 1 ≤ size.toInt) (h3 : size.toInt ≤ 1000) : ((sp.toInt64 + 1) * size.toInt64).toInt = sp.toInt * size.toInt + size.toInt := by
  have h4 := sj_sp1 h0 h1 h2
  obtain ⟨h5, h6⟩ := sj_spm h0 h1 h2 h3
  have h7 : (sp.toInt64 + 1).toInt = sp.toInt + 1 := by
    rw [sj_a64 (by rw [Int32.toInt_toInt64, sj_1L]; omega) (by rw [Int32.toInt_toInt64, sj_1L]; omega), Int32.toInt_toInt64, sj_1L]
  rw [sj_m64 (by rw [h7, Int32.toInt_toInt64, h5]; omega) (by rw [h7, Int32.toInt_toInt64, h5]; omega), h7, Int32.toInt_toInt64, h5]
theorem sj_when {sp size : Int32} (h0 : 0 ≤ sp.toInt) (h1 : sp.toInt * size.toInt ≤ 1000000000) (h2 : 1 ≤ size.toInt) (h3 : size.toInt ≤ 1000) : ((sp + 1) * size - 1).toInt64 = (sp.toInt64 + 1) * size.toInt64 - 1 := by
  have h4 := sj_sp1 h0 h1 h2
  obtain ⟨h5, h6⟩ := sj_spm h0 h1 h2 h3
  have h7 : (sp + 1).toInt = sp.toInt + 1 := by
    rw [sj_a32 (by rw [sj_1I]; omega) (by rw [sj_1I]; omega), sj_1I]
  have h8 : ((sp + 1) * size).toInt = sp.toInt * size.toInt + size.toInt := by
    rw [sj_m32 (by rw [h7, h5]; omega) (by rw [h7, h5]; omega), h7, h5]
  have h9 := sj_prod h0 h1 h2 h3
  apply Int64.toInt_inj.mp
  rw [Int32.toInt_toInt64, sj_s32 (by rw [h8, sj_1I]; omega) (by rw [h8, sj_1I]; omega), h8, sj_s64 (by rw [h9, sj_1L]; omega) (by rw [h9, sj_1L]; omega), h9, sj_1I, sj_1L]
theorem sj_clI {size grace mark sp : Int32} (h0 : 0 ≤ sp.toInt) (h1 : sp.toInt * size.toInt ≤ 1000000000) (h2 : 1 ≤ size.toInt) (h3 : size.toInt ≤ 1000) (h4 : 0 ≤ grace.toInt) (h5 : grace.toInt ≤ 1000) : sj_cl size grace mark sp ↔ sp.toInt * size.toInt + size.toInt + grace.toInt ≤ mark.toInt := by
  have h9 := sj_prod h0 h1 h2 h3
  obtain ⟨-, h6⟩ := sj_spm h0 h1 h2 h3
  rw [sj_cl, Int64.le_iff_toInt_le, sj_a64 (by rw [h9, Int32.toInt_toInt64]; omega) (by rw [h9, Int32.toInt_toInt64]; omega), h9, Int32.toInt_toInt64, Int32.toInt_toInt64]
theorem md_cl_iff {size grace mark sp : Int32} (h0 : 0 ≤ sp.toInt) (h1 : sp.toInt ≤ 1000000000) : md_cl size grace mark sp ↔ sj_cl size grace mark sp := by
  rw [md_cl, sj_cl, sj_p1 h0 h1]
-- the step
theorem md_old {n : Int64} : 0 ≤ (if n < 0 then 0 else n : Int64).toInt ∧ (0 ≤ n.toInt → (if n < 0 then 0 else n : Int64) = n) ∧ (n = -1 → (if n < 0 then 0 else n : Int64) = 0) := by
  refine ⟨?_, ?_, ?_⟩
  · split
    · decide
    · rename_i h
      rw [Int64.lt_iff_toInt_lt, sj_0L] at h
      omega
  · intro h
    rw [if_neg (by rw [Int64.lt_iff_toInt_lt, sj_0L]; omega)]
  · intro h
    rw [h]
    rfl
theorem md_st_new {way : Int32} {v : Int64} (h1 : 0 ≤ v.toInt) (h2 : v.toInt ≤ 1000000000000) : md_st way (-1) v = sj_v0 way v := by
  have h3 : (0 : Int64) + v = v := by simp
  have h4 : (if (-1 : Int64) < 0 then 0 else (-1 : Int64)) = 0 := by decide
  unfold md_st sj_v0
  rw [h4, h3]
  by_cases hw : way = 0
  · rw [if_pos hw, if_pos (by rw [Int64.lt_iff_toInt_lt, sj_ML]; omega), if_neg (by rw [hw]; decide)]
  · rw [if_neg hw]
    by_cases hv : way = 1
    · rw [if_pos hv, if_pos hv]
      decide
    · rw [if_neg hv, if_neg hv, if_neg (by rw [Int64.lt_iff_toInt_lt, sj_0L]; omega)]
theorem md_st_old {way : Int32} {n v : Int64} (h0 : 0 ≤ n.toInt) : md_st way n v = sj_add way n v := by
  have h4 : (if n < 0 then 0 else n) = n := md_old.2.1 h0
  unfold md_st sj_add
  rw [h4]
  by_cases hw : way = 0
  · rw [if_pos hw, if_pos hw]
    by_cases h5 : n + v < 1000000000000000
    · rw [if_pos h5, if_neg (fun h => Int64.lt_irrefl (Int64.lt_trans h5 h))]
    · rw [if_neg h5]
      by_cases h6 : 1000000000000000 < n + v
      · rw [if_pos h6]
      · rw [if_neg h6]
        apply Int64.toInt_inj.mp
        rw [Int64.lt_iff_toInt_lt] at h5 h6
        omega
  · rw [if_neg hw, if_neg hw]
theorem md_st_b {way : Int32} {n v : Int64} {i : Nat} (hi : i ≤ 1000000) (hn : n = -1 ∨ 0 ≤ n.toInt ∧ n.toInt ≤ 1000000000000000 + i) (h1 : 0 ≤ v.toInt) (h2 : v.toInt ≤ 1000000000000) : 0 ≤ (md_st way n v).toInt ∧ (md_st way n v).toInt ≤ 1000000000000000 + ((i + 1 : Nat) : Int) := by
  obtain ⟨o, ho⟩ : ∃ o, o = (if n < 0 then 0 else n : Int64) := ⟨_, rfl⟩
  have h3 : 0 ≤ o.toInt ∧ o.toInt ≤ 1000000000000000 + (i : Int) := by
    rcases hn with h | h
    · rw [ho, md_old.2.2 h, sj_0L]
      omega
    · rw [ho, md_old.2.1 h.1]
      exact h
  unfold md_st
  rw [← ho]
  have h4 : (o + v).toInt = o.toInt + v.toInt := sj_a64 (by omega) (by omega)
  by_cases hw : way = 0
  · rw [if_pos hw]
    by_cases h5 : o + v < 1000000000000000
    · rw [if_pos h5]
      rw [Int64.lt_iff_toInt_lt, sj_ML] at h5
      omega
    · rw [if_neg h5, sj_ML]
      omega
  · rw [if_neg hw]
    by_cases hv : way = 1
    · rw [if_pos hv, sj_a64 (by rw [sj_1L]; omega) (by rw [sj_1L]; omega), sj_1L]
      omega
    · rw [if_neg hv]
      split <;> omega
-- the number
section MD
variable {way size grace mark : Int32} {gk gv : Nat → Int64} {gs go : Nat → Int32} {L : List sj_E} {cnt : Nat}
theorem md_num_none {ky : Int64} {sp : Int32} : ∀ i, (∀ j, j < i → ¬ (go j = 0 ∧ gk j = ky ∧ gs j = sp)) → md_num way gk gv gs go ky sp i = -1 := by
  intro i
  induction i with
  | zero => intro _; rfl
  | succ i ih =>
    intro h
    unfold md_num
    rw [if_neg (h i (by omega))]
    exact ih (fun j hj => h j (by omega))
theorem md_num_b {ky : Int64} {sp : Int32} : ∀ i, i ≤ 1000000 → (∀ j, j < i → 0 ≤ (gv j).toInt ∧ (gv j).toInt ≤ 1000000000000) → md_num way gk gv gs go ky sp i = -1 ∨ 0 ≤ (md_num way gk gv gs go ky sp i).toInt ∧ (md_num way gk gv gs go ky sp i).toInt ≤ 1000000000000000 + i := by
  intro i
  induction i with
  | zero => intro _ _; exact Or.inl rfl
  | succ i ih =>
    intro hi h
    have h1 := ih (by omega) (fun j hj => h j (by omega))
    unfold md_num
    split
    · exact Or.inr (md_st_b (by omega) h1 (h i (by omega)).1 (h i (by omega)).2)
    · rcases h1 with h1 | h1
      · exact Or.inl h1
      · exact Or.inr ⟨h1.1, by omega⟩
theorem md_num_some {ky : Int64} {sp : Int32} : ∀ i, i ≤ 1000000 → (∀ j, j < i → 0 ≤ (gv j).toInt ∧ (gv j).toInt ≤ 1000000000000) → (∃ j, j < i ∧ go j = 0 ∧ gk j = ky ∧ gs j = sp) → md_num way gk gv gs go ky sp i ≠ -1 := by
  intro i
  induction i with
  | zero => intro _ _ h; obtain ⟨j, hj, -⟩ := h; exact absurd hj (by omega)
  | succ i ih =>
    intro hi h hx
    have hb := md_num_b (way := way) (gk := gk) (gv := gv) (gs := gs) (go := go) (ky := ky) (sp := sp) i (by omega) (fun j hj => h j (by omega))
    unfold md_num
    split
    · intro h2
      have h3 := (md_st_b (way := way) (by omega) hb (h i (by omega)).1 (h i (by omega)).2).1
      rw [h2] at h3
      exact absurd h3 (by decide)
    · rename_i hc
      obtain ⟨j, hj, hq⟩ := hx
      refine ih (by omega) (fun j hj => h j (by omega)) ⟨j, ?_, hq⟩
      by_cases he : j = i
      · subst he
        exact absurd hq hc
      · omega
theorem md_num_congr {gk' gv' : Nat → Int64} {gs' go' : Nat → Int32} {ky : Int64} {sp : Int32} : ∀ i, (∀ j, j < i → gk' j = gk j ∧ gv' j = gv j ∧ gs' j = gs j) → (∀ j, j < i → gk j = ky → gs j = sp → go' j = go j) → md_num way gk' gv' gs' go' ky sp i = md_num way gk gv gs go ky sp i := by
  intro i
  induction i with
  | zero => intro _ _; rfl
  | succ i ih =>
    intro h1 h2
    unfold md_num
    obtain ⟨e1, e2, e3⟩ := h1 i (by omega)
    rw [ih (fun j hj => h1 j (by omega)) (fun j hj => h2 j (by omega)), e1, e2, e3]
    by_cases h3 : gk i = ky ∧ gs i = sp
    · rw [h2 i (by omega) h3.1 h3.2]
    · rw [if_neg (fun h => h3 h.2), if_neg (fun h => h3 h.2)]
theorem sj_lk_mem (L : List sj_E) (hs : sj_so L) : ∀ x ∈ L, sj_lk L x.1 x.2.1 = x.2.2 := by
  induction L with
  | nil => intro x h; cases h
  | cons y T ih =>
    intro x hx
    obtain ⟨hy, hT⟩ := List.pairwise_cons.mp hs
    unfold sj_lk
    rcases List.mem_cons.mp hx with h | h
    · subst h
      rw [if_pos ⟨rfl, rfl⟩]
    · rw [if_neg (sj_bef_ne (hy x h))]
      exact ih hT x h
theorem md_in (hr : md_rel way size L cnt gk gv gs go) (hc : cnt ≤ 1000000) {j : Nat} (hj : j < cnt) (hl : go j = 0) : ∃ x ∈ L, x.1 = gs j ∧ x.2.1 = gk j := by
  obtain ⟨h1, h2, h3, h4, h5⟩ := hr
  apply Classical.byContradiction
  intro hn
  have h6 : sj_lk L (gs j) (gk j) = -1 := sj_lk_none L _ _ (fun x hx he => hn ⟨x, hx, he⟩)
  rw [← h3] at h6
  exact md_num_some cnt hc h2 ⟨j, hj, hl, rfl, rfl⟩ h6
theorem md_of (hr : md_rel way size L cnt gk gv gs go) {x : sj_E} (hx : x ∈ L) : ∃ j, j < cnt ∧ go j = 0 ∧ gs j = x.1 ∧ gk j = x.2.1 := by
  obtain ⟨h1, h2, h3, h4, h5⟩ := hr
  apply Classical.byContradiction
  intro hn
  have h6 : md_num way gk gv gs go x.2.1 x.1 cnt = -1 := md_num_none cnt (fun j hj he => hn ⟨j, hj, he.1, he.2.2, he.2.1⟩)
  rw [h3, sj_lk_mem L h4 x hx] at h6
  have h7 := (h5 x hx).1
  rw [h6] at h7
  exact absurd h7 (by decide)
theorem md_lst_none : ∀ i, md_lst size grace mark gk gs go i = none → ∀ j, j < i → go j = 0 → ¬ md_cl size grace mark (gs j) := by
  intro i
  induction i with
  | zero => intro _ j hj; exact absurd hj (by omega)
  | succ i ih =>
    intro h j hj hl hc
    unfold md_lst at h
    by_cases h1 : go i = 0 ∧ md_cl size grace mark (gs i)
    · rw [if_pos h1] at h
      unfold md_pick at h
      split at h
      · cases h
      · split at h <;> cases h
    · rw [if_neg h1] at h
      by_cases he : j = i
      · subst he
        exact h1 ⟨hl, hc⟩
      · exact ih h j (by omega) hl hc
theorem md_lst_some : ∀ i b, md_lst size grace mark gk gs go i = some b → b < i ∧ go b = 0 ∧ md_cl size grace mark (gs b) ∧ ∀ j, j < i → go j = 0 → md_cl size grace mark (gs j) → ¬ sj_bef (gs j) (gk j) (gs b) (gk b) := by
  intro i
  induction i with
  | zero => intro b h; cases h
  | succ i ih =>
    intro b h
    unfold md_lst at h
    by_cases h1 : go i = 0 ∧ md_cl size grace mark (gs i)
    · rw [if_pos h1] at h
      cases ho : md_lst size grace mark gk gs go i with
      | none =>
        rw [ho] at h
        cases h
        refine ⟨by omega, h1.1, h1.2, fun j hj hl hc => ?_⟩
        by_cases he : j = i
        · subst he
          exact fun hb => sj_bef_ne hb ⟨rfl, rfl⟩
        · exact absurd hc (md_lst_none i ho j (by omega) hl)
      | some a =>
        rw [ho] at h
        obtain ⟨q1, q2, q3, q4⟩ := ih a ho
        unfold md_pick at h
        dsimp only at h
        by_cases hb : sj_bef (gs i) (gk i) (gs a) (gk a)
        · rw [if_pos hb] at h
          cases h
          refine ⟨by omega, h1.1, h1.2, fun j hj hl hc hb2 => ?_⟩
          by_cases he : j = i
          · subst he
            exact sj_bef_ne hb2 ⟨rfl, rfl⟩
          · exact q4 j (by omega) hl hc (sj_bef_tr hb2 hb)
        · rw [if_neg hb] at h
          cases h
          refine ⟨by omega, q2, q3, fun j hj hl hc => ?_⟩
          by_cases he : j = i
          · subst he
            exact hb
          · exact q4 j (by omega) hl hc
    · rw [if_neg h1] at h
      obtain ⟨q1, q2, q3, q4⟩ := ih b h
      refine ⟨by omega, q2, q3, fun j hj hl hc => ?_⟩
      by_cases he : j = i
      · subst he
        exact absurd ⟨hl, hc⟩ h1
      · exact q4 j (by omega) hl hc
theorem md_stop (hr : md_rel way size L cnt gk gv gs go) (hc : cnt ≤ 1000000) (h2 : 1 ≤ size.toInt) (h3 : size.toInt ≤ 1000) (h4 : 0 ≤ grace.toInt) (h5 : grace.toInt ≤ 1000) (hn : ∀ x T, L = x :: T → ¬ sj_cl size grace mark x.1) : md_lst size grace mark gk gs go cnt = none := by
  cases ho : md_lst size grace mark gk gs go cnt with
  | none => rfl
  | some b =>
    exfalso
    obtain ⟨q1, q2, q3, -⟩ := md_lst_some cnt b ho
    obtain ⟨y, hy, e1, e2⟩ := md_in hr hc q1 q2
    have hb := hr.1 b q1
    rw [md_cl_iff hb.1 (sj_sp1 hb.1 hb.2 h2), sj_clI hb.1 hb.2 h2 h3 h4 h5] at q3
    cases L with
    | nil => cases hy
    | cons x T =>
      obtain ⟨j, hj, hl, f1, f2⟩ := md_of hr (List.mem_cons_self (a := x) (l := T))
      have hj2 := hr.1 j hj
      refine hn x T rfl ?_
      rw [← f1, sj_clI hj2.1 hj2.2 h2 h3 h4 h5]
      have hle : (gs j).toInt ≤ (gs b).toInt := by
        rw [f1, ← e1]
        rcases List.mem_cons.mp hy with h | h
        · rw [h]
          exact Int.le_refl _
        · have := (List.pairwise_cons.mp hr.2.2.2.1).1 y h
          rw [sj_befI] at this
          omega
      have := Int.mul_le_mul_of_nonneg_right hle (show 0 ≤ size.toInt by omega)
      omega
theorem md_go {x : sj_E} {T : List sj_E} (hr : md_rel way size (x :: T) cnt gk gv gs go) (hc : cnt ≤ 1000000) (h2 : 1 ≤ size.toInt) (hn : sj_cl size grace mark x.1) : ∃ b, md_lst size grace mark gk gs go cnt = some b ∧ b < cnt ∧ gs b = x.1 ∧ gk b = x.2.1 := by
  obtain ⟨j, hj, hl, f1, f2⟩ := md_of hr (List.mem_cons_self (a := x) (l := T))
  have hj2 := hr.1 j hj
  have hcl : md_cl size grace mark (gs j) := by
    rw [md_cl_iff hj2.1 (sj_sp1 hj2.1 hj2.2 h2), f1]
    exact hn
  cases ho : md_lst size grace mark gk gs go cnt with
  | none => exact absurd hcl (md_lst_none cnt ho j hj hl)
  | some b =>
    obtain ⟨q1, q2, q3, q4⟩ := md_lst_some cnt b ho
    obtain ⟨y, hy, e1, e2⟩ := md_in hr hc q1 q2
    refine ⟨b, rfl, q1, ?_⟩
    rcases List.mem_cons.mp hy with h | h
    · rw [← e1, ← e2, h]
      exact ⟨rfl, rfl⟩
    · have h6 := (List.pairwise_cons.mp hr.2.2.2.1).1 y h
      have h7 := q4 j hj hl hcl
      rw [f1, f2, ← e1, ← e2] at h7
      exact absurd h6 h7
theorem md_after {x : sj_E} {T : List sj_E} {go' : Nat → Int32} (hr : md_rel way size (x :: T) cnt gk gv gs go) (hg : ∀ j, j < cnt → go' j = if gk j = x.2.1 ∧ gs j = x.1 then 1 else go j) : md_rel way size T cnt gk gv gs go' := by
  obtain ⟨h1, h2, h3, h4, h5⟩ := hr
  obtain ⟨hy, hT⟩ := List.pairwise_cons.mp h4
  refine ⟨h1, h2, fun sp ky => ?_, hT, fun z hz => h5 z (List.mem_cons_of_mem _ hz)⟩
  by_cases he : x.1 = sp ∧ x.2.1 = ky
  · rw [md_num_none cnt (fun j hj hq => ?_), sj_lk_none T sp ky (fun z hz hq => ?_)]
    · have h6 := hy z hz
      rw [hq.1, hq.2, he.1, he.2] at h6
      exact sj_bef_ne h6 ⟨rfl, rfl⟩
    · have h6 := hg j hj
      rw [if_pos ⟨hq.2.1.trans he.2.symm, hq.2.2.trans he.1.symm⟩, hq.1] at h6
      exact absurd h6 (by decide)
  · rw [md_num_congr (gk := gk) (gv := gv) (gs := gs) (go := go) cnt (fun _ _ => ⟨rfl, rfl, rfl⟩) (fun j hj e1 e2 => ?_), h3, sj_lk, if_neg he]
    rw [hg j hj, if_neg (fun h => he ⟨h.2.symm.trans e2, h.1.symm.trans e1⟩)]
end MD
end
section
/-! PURE: a new record; how many are kept; outputs -/
set_option maxRecDepth 100000
theorem sj_up_mem (way : Int32) (L : List sj_E) (sp : Int32) (ky v : Int64) : ∀ y ∈ sj_up way L sp ky v, (y.1 = sp ∧ y.2.1 = ky) ∨ y ∈ L := by
  induction L with
  | nil =>
    intro y hy
    unfold sj_up at hy
    rw [List.mem_singleton] at hy
    subst hy
    exact Or.inl ⟨rfl, rfl⟩
  | cons x T ih =>
    intro y hy
    unfold sj_up at hy
    split at hy
    · rcases List.mem_cons.mp hy with h | h
      · exact Or.inr (h ▸ List.mem_cons_self)
      · rcases ih y h with h2 | h2
        · exact Or.inl h2
        · exact Or.inr (List.mem_cons_of_mem _ h2)
    · split at hy
      · rcases List.mem_cons.mp hy with h | h
        · subst h
          exact Or.inl ⟨rfl, rfl⟩
        · exact Or.inr (List.mem_cons_of_mem _ h)
      · rcases List.mem_cons.mp hy with h | h
        · subst h
          exact Or.inl ⟨rfl, rfl⟩
        · exact Or.inr h
theorem sj_up_so (way : Int32) (L : List sj_E) (hs : sj_so L) (sp : Int32) (ky v : Int64) : sj_so (sj_up way L sp ky v) := by
  induction L with
  | nil => exact List.pairwise_singleton _ _
  | cons x T ih =>
    obtain ⟨hy, hT⟩ := List.pairwise_cons.mp hs
    unfold sj_up
    split
    · rename_i hb
      refine List.pairwise_cons.mpr ⟨fun y hm => ?_, ih hT⟩
      rcases sj_up_mem way T sp ky v y hm with h | h
      · rw [h.1, h.2]
        exact hb
      · exact hy y h
    · rename_i hb
      split
      · rename_i he
        refine List.pairwise_cons.mpr ⟨fun y hm => ?_, hT⟩
        have := hy y hm
        rw [he.1, he.2] at this
        exact this
      · rename_i he
        have h1 := sj_bef_tot hb he
        refine List.pairwise_cons.mpr ⟨fun y hm => ?_, hs⟩
        rcases List.mem_cons.mp hm with h | h
        · rw [h]
          exact h1
        · exact sj_bef_tr h1 (hy y h)
theorem sj_lk_ne (L : List sj_E) (sp : Int32) (ky : Int64) (h : ∀ x ∈ L, sj_bef sp ky x.1 x.2.1) : sj_lk L sp ky = -1 :=
  sj_lk_none L sp ky (fun x hx he => sj_bef_ne (h x hx) ⟨he.1.symm, he.2.symm⟩)
theorem sj_lk_up (way : Int32) (L : List sj_E) (hs : sj_so L) (hv : ∀ x ∈ L, x.2.2 ≠ -1) (sp : Int32) (ky v : Int64) (sp' : Int32) (ky' : Int64) : sj_lk (sj_up way L sp ky v) sp' ky' = if sp = sp' ∧ ky = ky' then (if sj_lk L sp ky = -1 then sj_v0 way v else sj_add way (sj_lk L sp ky) v) else sj_lk L sp' ky' := by
  induction L with
  | nil =>
    unfold sj_up
    simp only [sj_lk]
    rfl
  | cons x T ih =>
    obtain ⟨hy, hT⟩ := List.pairwise_cons.mp hs
    have ih := ih hT (fun z hz => hv z (List.mem_cons_of_mem _ hz))
    unfold sj_up
    by_cases hb : sj_bef x.1 x.2.1 sp ky
    · rw [if_pos hb]
      have e1 : sj_lk (x :: T) sp ky = sj_lk T sp ky := by rw [sj_lk, if_neg (sj_bef_ne hb)]
      rw [e1]
      by_cases h1 : x.1 = sp' ∧ x.2.1 = ky'
      · have h2 : ¬ (sp = sp' ∧ ky = ky') := fun h => sj_bef_ne hb ⟨h1.1.trans h.1.symm, h1.2.trans h.2.symm⟩
        rw [sj_lk, if_pos h1, if_neg h2, sj_lk, if_pos h1]
      · rw [sj_lk, if_neg h1, ih, sj_lk, if_neg h1]
    · rw [if_neg hb]
      by_cases he : x.1 = sp ∧ x.2.1 = ky
      · rw [if_pos he]
        have e1 : sj_lk (x :: T) sp ky = x.2.2 := by rw [sj_lk, if_pos he]
        rw [e1, if_neg (hv x List.mem_cons_self)]
        by_cases h1 : sp = sp' ∧ ky = ky'
        · rw [if_pos h1, sj_lk, if_pos h1]
        · rw [if_neg h1, sj_lk, if_neg h1, sj_lk, if_neg (fun h => h1 ⟨he.1.symm.trans h.1, he.2.symm.trans h.2⟩)]
      · rw [if_neg he]
        have h1 := sj_bef_tot hb he
        have e1 : sj_lk (x :: T) sp ky = -1 := sj_lk_ne _ _ _ (fun z hz => by
          rcases List.mem_cons.mp hz with h | h
          · rw [h]; exact h1
          · exact sj_bef_tr h1 (hy z h))
        rw [e1, if_pos rfl]
        by_cases h2 : sp = sp' ∧ ky = ky'
        · rw [if_pos h2, sj_lk, if_pos h2]
        · rw [if_neg h2, sj_lk, if_neg h2]
theorem sj_up_b (way : Int32) (L : List sj_E) (hs : sj_so L) (sp : Int32) (ky v : Int64) (P : Int64 → Prop) (h1 : ∀ x ∈ L, P x.2.2) (h2 : P (sj_lk (sj_up way L sp ky v) sp ky)) : ∀ x ∈ sj_up way L sp ky v, P x.2.2 := by
  intro x hx
  have h3 := sj_lk_mem _ (sj_up_so way L hs sp ky v) x hx
  rcases sj_up_mem way L sp ky v x hx with h | h
  · rw [h.1, h.2] at h3
    rw [← h3]
    exact h2
  · exact h1 x h
section MD2
variable {way size grace mark : Int32} {gk gv : Nat → Int64} {gs go : Nat → Int32} {L : List sj_E} {cnt : Nat}
theorem md_add {sp : Int32} {ky v : Int64} {gk' gv' : Nat → Int64} {gs' go' : Nat → Int32} (hr : md_rel way size L cnt gk gv gs go) (hc : cnt ≤ 100000) (h0 : 0 ≤ sp.toInt) (h1 : sp.toInt * size.toInt ≤ 1000000000) (h2 : 0 ≤ v.toInt) (h3 : v.toInt ≤ 1000000000000)
    (e1 : ∀ j, gk' j = if j = cnt then ky else gk j) (e2 : ∀ j, gv' j = if j = cnt then v else gv j) (e3 : ∀ j, gs' j = if j = cnt then sp else gs j) (e4 : ∀ j, go' j = if j = cnt then 0 else go j) : md_rel way size (sj_up way L sp ky v) (cnt + 1) gk' gv' gs' go' := by
  obtain ⟨r1, r2, r3, r4, r5⟩ := hr
  have hlt : ∀ j, j < cnt → gk' j = gk j ∧ gv' j = gv j ∧ gs' j = gs j := fun j hj => by
    rw [e1, e2, e3, if_neg (by omega), if_neg (by omega), if_neg (by omega)]
    exact ⟨rfl, rfl, rfl⟩
  have hgo : ∀ j, j < cnt → go' j = go j := fun j hj => by rw [e4, if_neg (by omega)]
  have hv : ∀ x ∈ L, x.2.2 ≠ -1 := fun x hx h => by
    have := (r5 x hx).1
    rw [h] at this
    exact absurd this (by decide)
  have hk : gk' cnt = ky := by rw [e1, if_pos rfl]
  have hs : gs' cnt = sp := by rw [e3, if_pos rfl]
  have hw : gv' cnt = v := by rw [e2, if_pos rfl]
  have ho : go' cnt = 0 := by rw [e4, if_pos rfl]
  have hnum : ∀ (sp' : Int32) (ky' : Int64), md_num way gk' gv' gs' go' ky' sp' (cnt + 1) = if sp = sp' ∧ ky = ky' then md_st way (sj_lk L sp ky) v else sj_lk L sp' ky' := by
    intro sp' ky'
    have h5 : md_num way gk' gv' gs' go' ky' sp' cnt = md_num way gk gv gs go ky' sp' cnt := md_num_congr cnt hlt (fun j hj _ _ => hgo j hj)
    rw [md_num, h5, r3, hk, hs, hw, ho]
    by_cases h6 : sp = sp' ∧ ky = ky'
    · rw [if_pos h6, if_pos ⟨rfl, h6.2, h6.1⟩, h6.1, h6.2]
    · rw [if_neg h6, if_neg (fun h => h6 ⟨h.2.2, h.2.1⟩)]
  have hst : md_st way (sj_lk L sp ky) v = if sj_lk L sp ky = -1 then sj_v0 way v else sj_add way (sj_lk L sp ky) v := by
    have hb := md_num_b (way := way) (gk := gk) (gv := gv) (gs := gs) (go := go) (ky := ky) (sp := sp) cnt (by omega) r2
    rw [r3] at hb
    rcases hb with hb | hb
    · rw [if_pos hb, hb]
      exact md_st_new h2 h3
    · rw [if_neg (fun h => by rw [h] at hb; exact absurd hb.1 (by decide))]
      exact md_st_old hb.1
  have hlk : ∀ (sp' : Int32) (ky' : Int64), md_num way gk' gv' gs' go' ky' sp' (cnt + 1) = sj_lk (sj_up way L sp ky v) sp' ky' := by
    intro sp' ky'
    rw [hnum, sj_lk_up way L r4 hv, hst]
  have hval : ∀ j, j < cnt + 1 → 0 ≤ (gv' j).toInt ∧ (gv' j).toInt ≤ 1000000000000 := by
    intro j hj
    by_cases he : j = cnt
    · rw [he, hw]
      exact ⟨h2, h3⟩
    · rw [(hlt j (by omega)).2.1]
      exact r2 j (by omega)
  refine ⟨fun j hj => ?_, hval, hlk, sj_up_so way L r4 sp ky v, ?_⟩
  · by_cases he : j = cnt
    · rw [he, hs]
      exact ⟨h0, h1⟩
    · rw [(hlt j (by omega)).2.2]
      exact r1 j (by omega)
  · refine sj_up_b way L r4 sp ky v (fun z => 0 ≤ z.toInt ∧ z.toInt ≤ 1000000000000000 + ((cnt + 1 : Nat) : Int)) (fun x hx => ⟨(r5 x hx).1, by have := (r5 x hx).2; omega⟩) ?_
    rw [← hlk sp ky, hnum, if_pos ⟨rfl, rfl⟩]
    have hb := md_num_b (way := way) (gk := gk) (gv := gv) (gs := gs) (go := go) (ky := ky) (sp := sp) cnt (by omega) r2
    rw [r3] at hb
    exact md_st_b (by omega) hb h2 h3
theorem md_ps_mem : ∀ i (q : Int32 × Int64), q ∈ md_ps gk gs go i ↔ ∃ j, j < i ∧ go j = 0 ∧ q = (gs j, gk j) := by
  intro i
  induction i with
  | zero =>
    intro q
    constructor
    · intro h; cases h
    · intro h; obtain ⟨j, hj, -⟩ := h; exact absurd hj (by omega)
  | succ i ih =>
    intro q
    unfold md_ps
    by_cases hf : md_fp gk gs go i i
    · rw [if_pos hf, List.mem_append, List.mem_singleton, ih]
      constructor
      · rintro (⟨j, hj, h⟩ | h)
        · exact ⟨j, by omega, h⟩
        · exact ⟨i, by omega, hf.1, h⟩
      · rintro ⟨j, hj, h⟩
        by_cases he : j = i
        · subst he
          exact Or.inr h.2
        · exact Or.inl ⟨j, by omega, h⟩
    · rw [if_neg hf, ih]
      constructor
      · rintro ⟨j, hj, h⟩
        exact ⟨j, by omega, h⟩
      · rintro ⟨j, hj, h⟩
        by_cases he : j = i
        · subst he
          apply Classical.byContradiction
          intro hn
          exact hf ⟨h.1, fun r hr hq => hn ⟨r, hr, hq.1, by rw [h.2, hq.2.1, hq.2.2]⟩⟩
        · exact ⟨j, by omega, h⟩
theorem md_ps_nd : ∀ i, (md_ps gk gs go i).Nodup := by
  intro i
  induction i with
  | zero => exact List.nodup_nil
  | succ i ih =>
    unfold md_ps
    by_cases hf : md_fp gk gs go i i
    · rw [if_pos hf]
      refine List.nodup_append.mpr ⟨ih, by simp, fun a ha b hb => ?_⟩
      rw [List.mem_singleton] at hb
      rw [md_ps_mem] at ha
      obtain ⟨j, hj, h1, h2⟩ := ha
      intro he
      rw [h2, hb] at he
      have h3 := Prod.mk.inj he
      exact hf.2 j hj ⟨h1, h3.2, h3.1⟩
    · rw [if_neg hf]
      exact ih
theorem md_keeps (hr : md_rel way size L cnt gk gv gs go) (hc : cnt ≤ 1000000) : (md_ps gk gs go cnt).length = L.length := by
  have hnd : (L.map (fun x => (x.1, x.2.1))).Nodup := by
    refine List.pairwise_map.mpr (List.Pairwise.imp (fun {a b} h he => ?_) hr.2.2.2.1)
    have := Prod.mk.inj he
    exact sj_bef_ne h this
  have hp : (md_ps gk gs go cnt).Perm (L.map (fun x => (x.1, x.2.1))) := by
    refine (List.perm_ext_iff_of_nodup (md_ps_nd cnt) hnd).mpr (fun q => ?_)
    rw [md_ps_mem, List.mem_map]
    constructor
    · rintro ⟨j, hj, h1, h2⟩
      obtain ⟨x, hx, e1, e2⟩ := md_in hr hc hj h1
      exact ⟨x, hx, by rw [h2, e1, e2]⟩
    · rintro ⟨x, hx, h1⟩
      obtain ⟨j, hj, hl, e1, e2⟩ := md_of hr hx
      exact ⟨j, hj, hl, by rw [← h1, e1, e2]⟩
  rw [hp.length_eq, List.length_map]
theorem md_rel_0 (way size : Int32) (gk gv : Nat → Int64) (gs go : Nat → Int32) : md_rel way size [] 0 gk gv gs go :=
  ⟨fun j hj => absurd hj (by omega), fun j hj => absurd hj (by omega), fun _ _ => rfl, List.Pairwise.nil, fun x hx => by cases hx⟩
theorem mo_rep_0 (jk jn : Nat → Int64) (jw : Nat → Int32) : mo_rep [] jk jn jw := fun j x h => by simp at h
theorem mo_rep_add {O : List sj_O} {jk jn jk' jn' : Nat → Int64} {jw jw' : Nat → Int32} (hr : mo_rep O jk jn jw) {x : sj_O} {y : Int32} (hy : y.toInt64 = x.2.2) (e1 : ∀ j, jk' j = if j = O.length then x.1 else jk j) (e2 : ∀ j, jn' j = if j = O.length then x.2.1 else jn j) (e3 : ∀ j, jw' j = if j = O.length then y else jw j) : mo_rep (O ++ [x]) jk' jn' jw' := by
  intro j z hz
  have hj : j < O.length + 1 := by have := (List.getElem?_eq_some_iff.mp hz).1; simpa using this
  rw [e1, e2, e3]
  by_cases h1 : j = O.length
  · rw [if_pos h1, if_pos h1, if_pos h1]
    subst h1
    simp at hz
    subst hz
    exact ⟨rfl, rfl, hy⟩
  · rw [if_neg h1, if_neg h1, if_neg h1]
    rw [List.getElem?_append_left (by omega)] at hz
    exact hr j z hz
end MD2
end
section
/-! MODEL: small contracts -/
set_option maxRecDepth 100000
set_option maxHeartbeats 4000000 in
set_option maxRecDepth 100000 in
/-- model: late() -/
theorem metX3_late (l : Launch) (dC : Nat → ClassId) (dI : Nat → Nat → Nat) (dJ dN dZ : ClassId) (h xk xv xs xo yk yn yw n2 cnt : Nat) (way size grace life taken late mark : Int32) : Met l yX3_late (ws_ yX3_late cX3_late 1 (some .int)) ({ frames := 0, cells := 0, slots := 0, locals := 0 }) (sj_Pr (dC, dI) [(h, .inr (3, [.int way, .int size, .int grace, .int life, .int taken, .int late, .int mark, .int (nI n2), .ref xk, .ref xv, .ref xs, .ref xo, .int (nI cnt), .ref yk, .ref yn, .ref yw]))] (sj_t dJ dN dZ) [.ref h]) (vp_Si (fun r => r = late)) 0 0 (fun _ => False) := by
  refine Met.ofW (cc := cX3_late) (maxL := 1) (ret := (some .int)) (by decide) rfl ?_
  intro p e s m args below meth c s₁ B hml hv
  obtain ⟨rfl, hP, hK⟩ := hv
  have hx := B.exec
  have hb := B.bytes
  have hr := B.returns
  have hlocks := B.notSynchronized
  have hts := atoms_spec (ws := (ws_ yX3_late cX3_late 1 (some .int))) B.pre
  have hts : ∀ w ∈ lw_all, w.before _ s = true := fun w h => hts w (List.mem_cons_of_mem _ h)
  have hown : s.vm.findClass RX3 = some m.cls := findClass_of_methodNamed B.named
  have hP : va_P (dC, dI) vwCl [(h, .inr (3, [.int way, .int size, .int grace, .int life, .int taken, .int late, .int mark, .int (nI n2), .ref xk, .ref xv, .ref xs, .ref xo, .int (nI cnt), .ref yk, .ref yn, .ref yw]))] s.heap := hP
  have hl := lv_entry ([.ref h]) (n := 1) (Nat.le_of_ble_eq_true rfl)
  rw [lg_entry_eq]
  generalize (lg_sl ([.ref h]) ++ List.replicate (1 - (lg_sl ([.ref h])).length) Slot.unset).toArray = ls at hl ⊢
  have hl : lv_has ls 1 [(0, .ref h)] := hl
  refine lv_aload_n hx hb dX3_late_0 rfl (lv_at hl 0 rfl) ?_
  refine va_get (D := (dC, dI)) (ci := 3) (v := .int late) (C := RX3) (T := TX3) (N := 16) hx hb hts in_X3 hown hK hP 0 rfl rfl 5 (by decide) (hts _ q222) (fun _ h9 => h9) rfl dX3_late_1 ?_
  exact W.iret (v := late) hx hb hr (fun t ht hW => ⟨late, rfl, rfl, ht⟩) t_nil dX3_late_4
set_option maxHeartbeats 4000000 in
set_option maxRecDepth 100000 in
/-- model: taken() -/
theorem metX3_taken (l : Launch) (dC : Nat → ClassId) (dI : Nat → Nat → Nat) (dJ dN dZ : ClassId) (h xk xv xs xo yk yn yw n2 cnt : Nat) (way size grace life taken late mark : Int32) : Met l yX3_taken (ws_ yX3_taken cX3_taken 1 (some .int)) ({ frames := 0, cells := 0, slots := 0, locals := 0 }) (sj_Pr (dC, dI) [(h, .inr (3, [.int way, .int size, .int grace, .int life, .int taken, .int late, .int mark, .int (nI n2), .ref xk, .ref xv, .ref xs, .ref xo, .int (nI cnt), .ref yk, .ref yn, .ref yw]))] (sj_t dJ dN dZ) [.ref h]) (vp_Si (fun r => r = taken)) 0 0 (fun _ => False) := by
  refine Met.ofW (cc := cX3_taken) (maxL := 1) (ret := (some .int)) (by decide) rfl ?_
  intro p e s m args below meth c s₁ B hml hv
  obtain ⟨rfl, hP, hK⟩ := hv
  have hx := B.exec
  have hb := B.bytes
  have hr := B.returns
  have hlocks := B.notSynchronized
  have hts := atoms_spec (ws := (ws_ yX3_taken cX3_taken 1 (some .int))) B.pre
  have hts : ∀ w ∈ lw_all, w.before _ s = true := fun w h => hts w (List.mem_cons_of_mem _ h)
  have hown : s.vm.findClass RX3 = some m.cls := findClass_of_methodNamed B.named
  have hP : va_P (dC, dI) vwCl [(h, .inr (3, [.int way, .int size, .int grace, .int life, .int taken, .int late, .int mark, .int (nI n2), .ref xk, .ref xv, .ref xs, .ref xo, .int (nI cnt), .ref yk, .ref yn, .ref yw]))] s.heap := hP
  have hl := lv_entry ([.ref h]) (n := 1) (Nat.le_of_ble_eq_true rfl)
  rw [lg_entry_eq]
  generalize (lg_sl ([.ref h]) ++ List.replicate (1 - (lg_sl ([.ref h])).length) Slot.unset).toArray = ls at hl ⊢
  have hl : lv_has ls 1 [(0, .ref h)] := hl
  refine lv_aload_n hx hb dX3_taken_0 rfl (lv_at hl 0 rfl) ?_
  refine va_get (D := (dC, dI)) (ci := 3) (v := .int taken) (C := RX3) (T := TX3) (N := 16) hx hb hts in_X3 hown hK hP 0 rfl rfl 4 (by decide) (hts _ q221) (fun _ h9 => h9) rfl dX3_taken_1 ?_
  exact W.iret (v := taken) hx hb hr (fun t ht hW => ⟨taken, rfl, rfl, ht⟩) t_nil dX3_taken_4
set_option maxHeartbeats 4000000 in
set_option maxRecDepth 100000 in
/-- model: watermark() -/
theorem metX3_watermark (l : Launch) (dC : Nat → ClassId) (dI : Nat → Nat → Nat) (dJ dN dZ : ClassId) (h xk xv xs xo yk yn yw n2 cnt : Nat) (way size grace life taken late mark : Int32) : Met l yX3_watermark (ws_ yX3_watermark cX3_watermark 1 (some .int)) ({ frames := 0, cells := 0, slots := 0, locals := 0 }) (sj_Pr (dC, dI) [(h, .inr (3, [.int way, .int size, .int grace, .int life, .int taken, .int late, .int mark, .int (nI n2), .ref xk, .ref xv, .ref xs, .ref xo, .int (nI cnt), .ref yk, .ref yn, .ref yw]))] (sj_t dJ dN dZ) [.ref h]) (vp_Si (fun r => r = mark)) 0 0 (fun _ => False) := by
  refine Met.ofW (cc := cX3_watermark) (maxL := 1) (ret := (some .int)) (by decide) rfl ?_
  intro p e s m args below meth c s₁ B hml hv
  obtain ⟨rfl, hP, hK⟩ := hv
  have hx := B.exec
  have hb := B.bytes
  have hr := B.returns
  have hlocks := B.notSynchronized
  have hts := atoms_spec (ws := (ws_ yX3_watermark cX3_watermark 1 (some .int))) B.pre
  have hts : ∀ w ∈ lw_all, w.before _ s = true := fun w h => hts w (List.mem_cons_of_mem _ h)
  have hown : s.vm.findClass RX3 = some m.cls := findClass_of_methodNamed B.named
  have hP : va_P (dC, dI) vwCl [(h, .inr (3, [.int way, .int size, .int grace, .int life, .int taken, .int late, .int mark, .int (nI n2), .ref xk, .ref xv, .ref xs, .ref xo, .int (nI cnt), .ref yk, .ref yn, .ref yw]))] s.heap := hP
  have hl := lv_entry ([.ref h]) (n := 1) (Nat.le_of_ble_eq_true rfl)
  rw [lg_entry_eq]
  generalize (lg_sl ([.ref h]) ++ List.replicate (1 - (lg_sl ([.ref h])).length) Slot.unset).toArray = ls at hl ⊢
  have hl : lv_has ls 1 [(0, .ref h)] := hl
  refine lv_aload_n hx hb dX3_watermark_0 rfl (lv_at hl 0 rfl) ?_
  refine va_get (D := (dC, dI)) (ci := 3) (v := .int mark) (C := RX3) (T := TX3) (N := 16) hx hb hts in_X3 hown hK hP 0 rfl rfl 6 (by decide) (hts _ q223) (fun _ h9 => h9) rfl dX3_watermark_1 ?_
  exact W.iret (v := mark) hx hb hr (fun t ht hW => ⟨mark, rfl, rfl, ht⟩) t_nil dX3_watermark_4
set_option maxHeartbeats 4000000 in
set_option maxRecDepth 100000 in
/-- model: outs() -/
theorem metX3_outs (l : Launch) (dC : Nat → ClassId) (dI : Nat → Nat → Nat) (dJ dN dZ : ClassId) (h xk xv xs xo yk yn yw n2 cnt : Nat) (way size grace life taken late mark : Int32) : Met l yX3_outs (ws_ yX3_outs cX3_outs 1 (some .int)) ({ frames := 0, cells := 0, slots := 0, locals := 0 }) (sj_Pr (dC, dI) [(h, .inr (3, [.int way, .int size, .int grace, .int life, .int taken, .int late, .int mark, .int (nI n2), .ref xk, .ref xv, .ref xs, .ref xo, .int (nI cnt), .ref yk, .ref yn, .ref yw]))] (sj_t dJ dN dZ) [.ref h]) (vp_Si (fun r => r = nI n2)) 0 0 (fun _ => False) := by
  refine Met.ofW (cc := cX3_outs) (maxL := 1) (ret := (some .int)) (by decide) rfl ?_
  intro p e s m args below meth c s₁ B hml hv
  obtain ⟨rfl, hP, hK⟩ := hv
  have hx := B.exec
  have hb := B.bytes
  have hr := B.returns
  have hlocks := B.notSynchronized
  have hts := atoms_spec (ws := (ws_ yX3_outs cX3_outs 1 (some .int))) B.pre
  have hts : ∀ w ∈ lw_all, w.before _ s = true := fun w h => hts w (List.mem_cons_of_mem _ h)
  have hown : s.vm.findClass RX3 = some m.cls := findClass_of_methodNamed B.named
  have hP : va_P (dC, dI) vwCl [(h, .inr (3, [.int way, .int size, .int grace, .int life, .int taken, .int late, .int mark, .int (nI n2), .ref xk, .ref xv, .ref xs, .ref xo, .int (nI cnt), .ref yk, .ref yn, .ref yw]))] s.heap := hP
  have hl := lv_entry ([.ref h]) (n := 1) (Nat.le_of_ble_eq_true rfl)
  rw [lg_entry_eq]
  generalize (lg_sl ([.ref h]) ++ List.replicate (1 - (lg_sl ([.ref h])).length) Slot.unset).toArray = ls at hl ⊢
  have hl : lv_has ls 1 [(0, .ref h)] := hl
  refine lv_aload_n hx hb dX3_outs_0 rfl (lv_at hl 0 rfl) ?_
  refine va_get (D := (dC, dI)) (ci := 3) (v := .int (nI n2)) (C := RX3) (T := TX3) (N := 16) hx hb hts in_X3 hown hK hP 0 rfl rfl 7 (by decide) (hts _ q224) (fun _ h9 => h9) rfl dX3_outs_1 ?_
  exact W.iret (v := nI n2) hx hb hr (fun t ht hW => ⟨nI n2, rfl, rfl, ht⟩) t_nil dX3_outs_4
set_option maxHeartbeats 4000000 in
set_option maxRecDepth 100000 in
/-- model: isClosed(span) -/
theorem metX3_isClosed (l : Launch) (dC : Nat → ClassId) (dI : Nat → Nat → Nat) (dJ dN dZ : ClassId) (h xk xv xs xo yk yn yw n2 cnt : Nat) (way size grace life taken late mark : Int32) (sp : Int32) : Met l yX3_isClosed (ws_ yX3_isClosed cX3_isClosed 2 (some .boolean)) ({ frames := 0, cells := 0, slots := 0, locals := 0 }) (sj_Pr (dC, dI) [(h, .inr (3, [.int way, .int size, .int grace, .int life, .int taken, .int late, .int mark, .int (nI n2), .ref xk, .ref xv, .ref xs, .ref xo, .int (nI cnt), .ref yk, .ref yn, .ref yw]))] (sj_t dJ dN dZ) [.ref h, .int sp]) (vp_Si (fun r => r = if md_cl size grace mark sp then 1 else 0)) 0 0 (fun _ => False) := by
  refine Met.ofW (cc := cX3_isClosed) (maxL := 2) (ret := (some .boolean)) (by decide) rfl ?_
  intro p e s m args below meth c s₁ B hml hv
  obtain ⟨rfl, hP, hK⟩ := hv
  have hx := B.exec
  have hb := B.bytes
  have hr := B.returns
  have hlocks := B.notSynchronized
  have hts := atoms_spec (ws := (ws_ yX3_isClosed cX3_isClosed 2 (some .boolean))) B.pre
  have hts : ∀ w ∈ lw_all, w.before _ s = true := fun w h => hts w (List.mem_cons_of_mem _ h)
  have hown : s.vm.findClass RX3 = some m.cls := findClass_of_methodNamed B.named
  have hP : va_P (dC, dI) vwCl [(h, .inr (3, [.int way, .int size, .int grace, .int life, .int taken, .int late, .int mark, .int (nI n2), .ref xk, .ref xv, .ref xs, .ref xo, .int (nI cnt), .ref yk, .ref yn, .ref yw]))] s.heap := hP
  have hl := lv_entry ([.ref h, .int sp]) (n := 2) (Nat.le_of_ble_eq_true rfl)
  rw [lg_entry_eq]
  generalize (lg_sl ([.ref h, .int sp]) ++ List.replicate (2 - (lg_sl ([.ref h, .int sp])).length) Slot.unset).toArray = ls at hl ⊢
  have hl : lv_has ls 2 [(0, .ref h), (1, .int sp)] := hl
  refine lv_iload_n hx hb dX3_isClosed_0 rfl (lv_at hl 1 rfl) ?_
  refine lv_iconst (v := 1) hx hb dX3_isClosed_1 (by decide) ?_
  refine lv_iadd hx hb dX3_isClosed_2 ?_
  refine lv_i2l (v := (sp + 1).toInt64) hx hb dX3_isClosed_3 rfl ?_
  refine lv_aload_n hx hb dX3_isClosed_4 rfl (lv_at hl 0 rfl) ?_
  refine va_get (D := (dC, dI)) (ci := 3) (v := .int size) (C := RX3) (T := TX3) (N := 16) hx hb hts in_X3 hown hK hP 0 rfl rfl 1 (by decide) (hts _ q218) (fun _ h9 => h9) rfl dX3_isClosed_5 ?_
  refine lv_i2l (v := size.toInt64) hx hb dX3_isClosed_8 rfl ?_
  refine lv_lmul hx hb dX3_isClosed_9 ?_
  refine lv_aload_n hx hb dX3_isClosed_10 rfl (lv_at hl 0 rfl) ?_
  refine va_get (D := (dC, dI)) (ci := 3) (v := .int grace) (C := RX3) (T := TX3) (N := 16) hx hb hts in_X3 hown hK hP 0 rfl rfl 2 (by decide) (hts _ q219) (fun _ h9 => h9) rfl dX3_isClosed_11 ?_
  refine lv_i2l (v := grace.toInt64) hx hb dX3_isClosed_14 rfl ?_
  refine lv_ladd hx hb dX3_isClosed_15 ?_
  refine lv_aload_n hx hb dX3_isClosed_16 rfl (lv_at hl 0 rfl) ?_
  refine va_get (D := (dC, dI)) (ci := 3) (v := .int mark) (C := RX3) (T := TX3) (N := 16) hx hb hts in_X3 hown hK hP 0 rfl rfl 6 (by decide) (hts _ q223) (fun _ h9 => h9) rfl dX3_isClosed_17 ?_
  refine lv_i2l (v := mark.toInt64) hx hb dX3_isClosed_20 rfl ?_
  refine sj_lc_gt (tgt := 29) hx hb dX3_isClosed_21 dX3_isClosed_22 (by decide) (fun c21 => ?_) (fun c21 => ?_)
  · skip
    refine lv_iconst (v := 0) hx hb dX3_isClosed_29 (by decide) ?_
    exact W.zret (v := 0) hx hb hr rfl (fun t ht hW => ⟨0, rfl, (if_neg (Int64.not_le.mpr c21)).symm, ht⟩) t_nil dX3_isClosed_30
  · skip
    refine lv_iconst (v := 1) hx hb dX3_isClosed_25 (by decide) ?_
    refine lv_goto (tgt := 30) hx hb dX3_isClosed_26 (by decide) ?_
    exact W.zret (v := 1) hx hb hr rfl (fun t ht hW => ⟨1, rfl, (if_pos (Int64.not_lt.mp c21)).symm, ht⟩) t_nil dX3_isClosed_30
set_option maxHeartbeats 4000000 in
set_option maxRecDepth 100000 in
/-- model: begin(way, size, grace) -/
theorem metX3_begin (l : Launch) (dC : Nat → ClassId) (dI : Nat → Nat → Nat) (dJ dN dZ : ClassId) (sz : Nat) (h xk xv xs xo yk yn yw n2 cnt : Nat) (way size grace life taken late mark : Int32) (xa xb xc : Int32) : Met l yX3_begin (ws_ yX3_begin cX3_begin 4 (some .boolean)) ({ frames := 0, cells := 0, slots := 0, locals := 0 }) (sj_Pw (dC, dI) [(h, .inr (3, [.int way, .int size, .int grace, .int life, .int taken, .int late, .int mark, .int (nI n2), .ref xk, .ref xv, .ref xs, .ref xo, .int (nI cnt), .ref yk, .ref yn, .ref yw]))] (sj_t dJ dN dZ) sz [.ref h, .int xa, .int xb, .int xc]) (va_Qi (fun (r : Int32) (u : (Int32 × Int32 × Int32 × Int32 × Int32 × Int32) × Nat × Nat) => (sj_bad xa xb xc ∧ r = 0 ∧ u = ((way, size, grace, taken, late, mark), cnt, n2)) ∨ (¬ sj_bad xa xb xc ∧ r = 1 ∧ u = ((xa, xb, xc, 0, 0, -1), 0, 0))) (sj_B (dC, dI) (va_A [(h, .inr (3, [.int way, .int size, .int grace, .int life, .int taken, .int late, .int mark, .int (nI n2), .ref xk, .ref xv, .ref xs, .ref xo, .int (nI cnt), .ref yk, .ref yn, .ref yw]))] sz) (fun u : (Int32 × Int32 × Int32 × Int32 × Int32 × Int32) × Nat × Nat => [(h, .inr (3, [.int u.1.1, .int u.1.2.1, .int u.1.2.2.1, .int life, .int u.1.2.2.2.1, .int u.1.2.2.2.2.1, .int u.1.2.2.2.2.2, .int (nI u.2.2), .ref xk, .ref xv, .ref xs, .ref xo, .int (nI u.2.1), .ref yk, .ref yn, .ref yw]))])) (va_A [(h, .inr (3, [.int way, .int size, .int grace, .int life, .int taken, .int late, .int mark, .int (nI n2), .ref xk, .ref xv, .ref xs, .ref xo, .int (nI cnt), .ref yk, .ref yn, .ref yw]))] sz)) 0 0 (va_A [(h, .inr (3, [.int way, .int size, .int grace, .int life, .int taken, .int late, .int mark, .int (nI n2), .ref xk, .ref xv, .ref xs, .ref xo, .int (nI cnt), .ref yk, .ref yn, .ref yw]))] sz) := by
  refine Met.ofW (cc := cX3_begin) (maxL := 4) (ret := (some .boolean)) (by decide) rfl ?_
  intro p e s m args below meth c s₁ B hml hv
  obtain ⟨rfl, hsz, hP, hK, hD0⟩ := hv
  have hx := B.exec
  have hb := B.bytes
  have hr := B.returns
  have hlocks := B.notSynchronized
  have hts := atoms_spec (ws := (ws_ yX3_begin cX3_begin 4 (some .boolean))) B.pre
  have hts : ∀ w ∈ lw_all, w.before _ s = true := fun w h => hts w (List.mem_cons_of_mem _ h)
  have hown : s.vm.findClass RX3 = some m.cls := findClass_of_methodNamed B.named
  subst hsz
  have hD := hD0.self (sz := s.heap.size)
  generalize hAe : va_A [(h, .inr (3, [.int way, .int size, .int grace, .int life, .int taken, .int late, .int mark, .int (nI n2), .ref xk, .ref xv, .ref xs, .ref xo, .int (nI cnt), .ref yk, .ref yn, .ref yw]))] s.heap.size = A at hD ⊢
  have hA : ∀ q : Nat, s.heap.size ≤ q → A q := fun q h => by rw [← hAe]; exact Or.inr h
  have hS : va_S A s.heap s.heap [] := va_S.rf
  have hP : va_P (dC, dI) vwCl [(h, .inr (3, [.int way, .int size, .int grace, .int life, .int taken, .int late, .int mark, .int (nI n2), .ref xk, .ref xv, .ref xs, .ref xo, .int (nI cnt), .ref yk, .ref yn, .ref yw]))] s.heap := hP
  have hl := lv_entry ([.ref h, .int xa, .int xb, .int xc]) (n := 4) (Nat.le_of_ble_eq_true rfl)
  rw [lg_entry_eq]
  generalize (lg_sl ([.ref h, .int xa, .int xb, .int xc]) ++ List.replicate (4 - (lg_sl ([.ref h, .int xa, .int xb, .int xc])).length) Slot.unset).toArray = ls at hl ⊢
  have hl : lv_has ls 4 [(0, .ref h), (1, .int xa), (2, .int xb), (3, .int xc)] := hl
  refine lv_iload_n hx hb dX3_begin_0 rfl (lv_at hl 1 rfl) ?_
  refine lv_if_lt (tgt := 32) hx hb dX3_begin_1 (by decide) (fun c1 => ?_) (fun c1 => ?_)
  · skip
    refine lv_iconst (v := 0) hx hb dX3_begin_32 (by decide) ?_
    exact W.zret (v := 0) hx hb hr rfl (fun t ht hW => ⟨⟨0, ((way, size, grace, taken, late, mark), cnt, n2), rfl, Or.inl ⟨Or.inl c1, rfl, rfl⟩, by rw [ht]; exact hP, hD⟩, hS.F ht⟩) hS.2.2 dX3_begin_33
  · skip
    refine lv_iload_n hx hb dX3_begin_4 rfl (lv_at hl 1 rfl) ?_
    refine lv_iconst (v := 2) hx hb dX3_begin_5 (by decide) ?_
    refine lv_icmp_gt (tgt := 32) hx hb dX3_begin_6 (by decide) (fun c6 => ?_) (fun c6 => ?_)
    · skip
      refine lv_iconst (v := 0) hx hb dX3_begin_32 (by decide) ?_
      exact W.zret (v := 0) hx hb hr rfl (fun t ht hW => ⟨⟨0, ((way, size, grace, taken, late, mark), cnt, n2), rfl, Or.inl ⟨Or.inr (Or.inl c6), rfl, rfl⟩, by rw [ht]; exact hP, hD⟩, hS.F ht⟩) hS.2.2 dX3_begin_33
    · skip
      refine lv_iload_n hx hb dX3_begin_9 rfl (lv_at hl 2 rfl) ?_
      refine lv_iconst (v := 1) hx hb dX3_begin_10 (by decide) ?_
      refine lv_icmp_lt (tgt := 32) hx hb dX3_begin_11 (by decide) (fun c11 => ?_) (fun c11 => ?_)
      · skip
        refine lv_iconst (v := 0) hx hb dX3_begin_32 (by decide) ?_
        exact W.zret (v := 0) hx hb hr rfl (fun t ht hW => ⟨⟨0, ((way, size, grace, taken, late, mark), cnt, n2), rfl, Or.inl ⟨Or.inr (Or.inr (Or.inl c11)), rfl, rfl⟩, by rw [ht]; exact hP, hD⟩, hS.F ht⟩) hS.2.2 dX3_begin_33
      · skip
        refine lv_iload_n hx hb dX3_begin_14 rfl (lv_at hl 2 rfl) ?_
        refine lv_sipush (v := 1000) hx hb dX3_begin_15 (by decide) ?_
        refine lv_icmp_gt (tgt := 32) hx hb dX3_begin_18 (by decide) (fun c18 => ?_) (fun c18 => ?_)
        · skip
          refine lv_iconst (v := 0) hx hb dX3_begin_32 (by decide) ?_
          exact W.zret (v := 0) hx hb hr rfl (fun t ht hW => ⟨⟨0, ((way, size, grace, taken, late, mark), cnt, n2), rfl, Or.inl ⟨Or.inr (Or.inr (Or.inr (Or.inl c18))), rfl, rfl⟩, by rw [ht]; exact hP, hD⟩, hS.F ht⟩) hS.2.2 dX3_begin_33
        · skip
          refine lv_iload_n hx hb dX3_begin_21 rfl (lv_at hl 3 rfl) ?_
          refine lv_if_lt (tgt := 32) hx hb dX3_begin_22 (by decide) (fun c22 => ?_) (fun c22 => ?_)
          · skip
            refine lv_iconst (v := 0) hx hb dX3_begin_32 (by decide) ?_
            exact W.zret (v := 0) hx hb hr rfl (fun t ht hW => ⟨⟨0, ((way, size, grace, taken, late, mark), cnt, n2), rfl, Or.inl ⟨Or.inr (Or.inr (Or.inr (Or.inr (Or.inl c22)))), rfl, rfl⟩, by rw [ht]; exact hP, hD⟩, hS.F ht⟩) hS.2.2 dX3_begin_33
          · skip
            refine lv_iload_n hx hb dX3_begin_25 rfl (lv_at hl 3 rfl) ?_
            refine lv_sipush (v := 1000) hx hb dX3_begin_26 (by decide) ?_
            refine lv_icmp_le (tgt := 34) hx hb dX3_begin_29 (by decide) (fun c29 => ?_) (fun c29 => ?_)
            · skip
              refine lv_aload_n hx hb dX3_begin_34 rfl (lv_at hl 0 rfl) ?_
              refine lv_iload_n hx hb dX3_begin_35 rfl (lv_at hl 1 rfl) ?_
              refine va_put (D := (dC, dI)) (ci := 3) (v := .int xa) (ty := .int) (C := RX3) (T := TX3) (N := 16) hx hb hts in_X3 tyX3 tyX3_ok nmX3 hown hK hP hD hS 0 rfl rfl 0 (by decide) (hts _ q217) (fun _ h9 => h9) rfl (by decide +kernel) rfl rfl (Nat.le_of_ble_eq_true rfl) dX3_begin_36 (fun H locs hP hD hS => ?_)
              have hP : va_P (dC, dI) vwCl [(h, .inr (3, [.int xa, .int size, .int grace, .int life, .int taken, .int late, .int mark, .int (nI n2), .ref xk, .ref xv, .ref xs, .ref xo, .int (nI cnt), .ref yk, .ref yn, .ref yw]))] H := hP
              have hD : va_D A [(h, .inr (3, [.int xa, .int size, .int grace, .int life, .int taken, .int late, .int mark, .int (nI n2), .ref xk, .ref xv, .ref xs, .ref xo, .int (nI cnt), .ref yk, .ref yn, .ref yw]))] := hD
              refine lv_aload_n hx hb dX3_begin_39 rfl (lv_at hl 0 rfl) ?_
              refine lv_iload_n hx hb dX3_begin_40 rfl (lv_at hl 2 rfl) ?_
              refine va_put (D := (dC, dI)) (ci := 3) (v := .int xb) (ty := .int) (C := RX3) (T := TX3) (N := 16) hx hb hts in_X3 tyX3 tyX3_ok nmX3 hown hK hP hD hS 0 rfl rfl 1 (by decide) (hts _ q218) (fun _ h9 => h9) rfl (by decide +kernel) rfl rfl (Nat.le_of_ble_eq_true rfl) dX3_begin_41 (fun H locs hP hD hS => ?_)
              have hP : va_P (dC, dI) vwCl [(h, .inr (3, [.int xa, .int xb, .int grace, .int life, .int taken, .int late, .int mark, .int (nI n2), .ref xk, .ref xv, .ref xs, .ref xo, .int (nI cnt), .ref yk, .ref yn, .ref yw]))] H := hP
              have hD : va_D A [(h, .inr (3, [.int xa, .int xb, .int grace, .int life, .int taken, .int late, .int mark, .int (nI n2), .ref xk, .ref xv, .ref xs, .ref xo, .int (nI cnt), .ref yk, .ref yn, .ref yw]))] := hD
              refine lv_aload_n hx hb dX3_begin_44 rfl (lv_at hl 0 rfl) ?_
              refine lv_iload_n hx hb dX3_begin_45 rfl (lv_at hl 3 rfl) ?_
              refine va_put (D := (dC, dI)) (ci := 3) (v := .int xc) (ty := .int) (C := RX3) (T := TX3) (N := 16) hx hb hts in_X3 tyX3 tyX3_ok nmX3 hown hK hP hD hS 0 rfl rfl 2 (by decide) (hts _ q219) (fun _ h9 => h9) rfl (by decide +kernel) rfl rfl (Nat.le_of_ble_eq_true rfl) dX3_begin_46 (fun H locs hP hD hS => ?_)
              have hP : va_P (dC, dI) vwCl [(h, .inr (3, [.int xa, .int xb, .int xc, .int life, .int taken, .int late, .int mark, .int (nI n2), .ref xk, .ref xv, .ref xs, .ref xo, .int (nI cnt), .ref yk, .ref yn, .ref yw]))] H := hP
              have hD : va_D A [(h, .inr (3, [.int xa, .int xb, .int xc, .int life, .int taken, .int late, .int mark, .int (nI n2), .ref xk, .ref xv, .ref xs, .ref xo, .int (nI cnt), .ref yk, .ref yn, .ref yw]))] := hD
              refine lv_aload_n hx hb dX3_begin_49 rfl (lv_at hl 0 rfl) ?_
              refine lv_iconst (v := 0) hx hb dX3_begin_50 (by decide) ?_
              refine va_put (D := (dC, dI)) (ci := 3) (v := .int 0) (ty := .int) (C := RX3) (T := TX3) (N := 16) hx hb hts in_X3 tyX3 tyX3_ok nmX3 hown hK hP hD hS 0 rfl rfl 4 (by decide) (hts _ q221) (fun _ h9 => h9) rfl (by decide +kernel) rfl rfl (Nat.le_of_ble_eq_true rfl) dX3_begin_51 (fun H locs hP hD hS => ?_)
              have hP : va_P (dC, dI) vwCl [(h, .inr (3, [.int xa, .int xb, .int xc, .int life, .int 0, .int late, .int mark, .int (nI n2), .ref xk, .ref xv, .ref xs, .ref xo, .int (nI cnt), .ref yk, .ref yn, .ref yw]))] H := hP
              have hD : va_D A [(h, .inr (3, [.int xa, .int xb, .int xc, .int life, .int 0, .int late, .int mark, .int (nI n2), .ref xk, .ref xv, .ref xs, .ref xo, .int (nI cnt), .ref yk, .ref yn, .ref yw]))] := hD
              refine lv_aload_n hx hb dX3_begin_54 rfl (lv_at hl 0 rfl) ?_
              refine lv_iconst (v := 0) hx hb dX3_begin_55 (by decide) ?_
              refine va_put (D := (dC, dI)) (ci := 3) (v := .int 0) (ty := .int) (C := RX3) (T := TX3) (N := 16) hx hb hts in_X3 tyX3 tyX3_ok nmX3 hown hK hP hD hS 0 rfl rfl 5 (by decide) (hts _ q222) (fun _ h9 => h9) rfl (by decide +kernel) rfl rfl (Nat.le_of_ble_eq_true rfl) dX3_begin_56 (fun H locs hP hD hS => ?_)
              have hP : va_P (dC, dI) vwCl [(h, .inr (3, [.int xa, .int xb, .int xc, .int life, .int 0, .int 0, .int mark, .int (nI n2), .ref xk, .ref xv, .ref xs, .ref xo, .int (nI cnt), .ref yk, .ref yn, .ref yw]))] H := hP
              have hD : va_D A [(h, .inr (3, [.int xa, .int xb, .int xc, .int life, .int 0, .int 0, .int mark, .int (nI n2), .ref xk, .ref xv, .ref xs, .ref xo, .int (nI cnt), .ref yk, .ref yn, .ref yw]))] := hD
              refine lv_aload_n hx hb dX3_begin_59 rfl (lv_at hl 0 rfl) ?_
              refine lv_iconst (v := (-1)) hx hb dX3_begin_60 (by decide) ?_
              refine va_put (D := (dC, dI)) (ci := 3) (v := .int (-1)) (ty := .int) (C := RX3) (T := TX3) (N := 16) hx hb hts in_X3 tyX3 tyX3_ok nmX3 hown hK hP hD hS 0 rfl rfl 6 (by decide) (hts _ q223) (fun _ h9 => h9) rfl (by decide +kernel) rfl rfl (Nat.le_of_ble_eq_true rfl) dX3_begin_61 (fun H locs hP hD hS => ?_)
              have hP : va_P (dC, dI) vwCl [(h, .inr (3, [.int xa, .int xb, .int xc, .int life, .int 0, .int 0, .int (-1), .int (nI n2), .ref xk, .ref xv, .ref xs, .ref xo, .int (nI cnt), .ref yk, .ref yn, .ref yw]))] H := hP
              have hD : va_D A [(h, .inr (3, [.int xa, .int xb, .int xc, .int life, .int 0, .int 0, .int (-1), .int (nI n2), .ref xk, .ref xv, .ref xs, .ref xo, .int (nI cnt), .ref yk, .ref yn, .ref yw]))] := hD
              refine lv_aload_n hx hb dX3_begin_64 rfl (lv_at hl 0 rfl) ?_
              refine lv_iconst (v := nI 0) hx hb dX3_begin_65 (by decide) ?_
              refine va_put (D := (dC, dI)) (ci := 3) (v := .int (nI 0)) (ty := .int) (C := RX3) (T := TX3) (N := 16) hx hb hts in_X3 tyX3 tyX3_ok nmX3 hown hK hP hD hS 0 rfl rfl 7 (by decide) (hts _ q224) (fun _ h9 => h9) rfl (by decide +kernel) rfl rfl (Nat.le_of_ble_eq_true rfl) dX3_begin_66 (fun H locs hP hD hS => ?_)
              have hP : va_P (dC, dI) vwCl [(h, .inr (3, [.int xa, .int xb, .int xc, .int life, .int 0, .int 0, .int (-1), .int (nI 0), .ref xk, .ref xv, .ref xs, .ref xo, .int (nI cnt), .ref yk, .ref yn, .ref yw]))] H := hP
              have hD : va_D A [(h, .inr (3, [.int xa, .int xb, .int xc, .int life, .int 0, .int 0, .int (-1), .int (nI 0), .ref xk, .ref xv, .ref xs, .ref xo, .int (nI cnt), .ref yk, .ref yn, .ref yw]))] := hD
              refine lv_aload_n hx hb dX3_begin_69 rfl (lv_at hl 0 rfl) ?_
              refine lv_iconst (v := nI 0) hx hb dX3_begin_70 (by decide) ?_
              refine va_put (D := (dC, dI)) (ci := 3) (v := .int (nI 0)) (ty := .int) (C := RX3) (T := TX3) (N := 16) hx hb hts in_X3 tyX3 tyX3_ok nmX3 hown hK hP hD hS 0 rfl rfl 12 (by decide) (hts _ q229) (fun _ h9 => h9) rfl (by decide +kernel) rfl rfl (Nat.le_of_ble_eq_true rfl) dX3_begin_71 (fun H locs hP hD hS => ?_)
              have hP : va_P (dC, dI) vwCl [(h, .inr (3, [.int xa, .int xb, .int xc, .int life, .int 0, .int 0, .int (-1), .int (nI 0), .ref xk, .ref xv, .ref xs, .ref xo, .int (nI 0), .ref yk, .ref yn, .ref yw]))] H := hP
              have hD : va_D A [(h, .inr (3, [.int xa, .int xb, .int xc, .int life, .int 0, .int 0, .int (-1), .int (nI 0), .ref xk, .ref xv, .ref xs, .ref xo, .int (nI 0), .ref yk, .ref yn, .ref yw]))] := hD
              refine lv_iconst (v := 1) hx hb dX3_begin_74 (by decide) ?_
              exact W.zret (v := 1) hx hb hr rfl (fun t ht hW => ⟨⟨1, ((xa, xb, xc, 0, 0, -1), 0, 0), rfl, Or.inr ⟨fun h => h.elim c1 (fun h => h.elim c6 (fun h => h.elim c11 (fun h => h.elim c18 (fun h => h.elim c22 (fun h => absurd c29 (Int32.not_le.mpr h)))))), rfl, rfl⟩, by rw [ht]; exact hP, hD⟩, hS.F ht⟩) hS.2.2 dX3_begin_75
            · skip
              refine lv_iconst (v := 0) hx hb dX3_begin_32 (by decide) ?_
              exact W.zret (v := 0) hx hb hr rfl (fun t ht hW => ⟨⟨0, ((way, size, grace, taken, late, mark), cnt, n2), rfl, Or.inl ⟨Or.inr (Or.inr (Or.inr (Or.inr (Or.inr (Int32.not_le.mp c29))))), rfl, rfl⟩, by rw [ht]; exact hP, hD⟩, hS.F ht⟩) hS.2.2 dX3_begin_33
set_option maxHeartbeats 4000000 in
set_option maxRecDepth 100000 in
/-- model: least() -/
theorem metX3_least (l : Launch) (dC : Nat → ClassId) (dI : Nat → Nat → Nat) (dJ dN dZ : ClassId) (h xk xv xs xo yk yn yw n2 cnt : Nat) (way size grace life taken late mark : Int32) (gk : Nat → Int64) (gs go : Nat → Int32) (hcnt : cnt ≤ 3000) : Met l yX3_least (ws_ yX3_least cX3_least 3 (some .int)) ({ frames := 1, cells := 0, slots := 0, locals := 21 }) (sj_Pr (dC, dI) [(h, .inr (3, [.int way, .int size, .int grace, .int life, .int taken, .int late, .int mark, .int (nI n2), .ref xk, .ref xv, .ref xs, .ref xo, .int (nI cnt), .ref yk, .ref yn, .ref yw])), (xk, .inl (dJ, 3000, .inr (.inl gk))), (xs, .inl (dN, 3000, .inl gs)), (xo, .inl (dZ, 3000, .inl go))] (sj_t dJ dN dZ) [.ref h]) (vp_Si (fun r => r = md_io (md_lst size grace mark gk gs go cnt))) 0 0 (fun _ => False) := by
  refine Met.ofW (cc := cX3_least) (maxL := 3) (ret := (some .int)) (by decide) rfl ?_
  intro p e s m args below meth c s₁ B hml hv
  obtain ⟨rfl, hP, hK⟩ := hv
  have hx := B.exec
  have hb := B.bytes
  have hr := B.returns
  have hlocks := B.notSynchronized
  have hts := atoms_spec (ws := (ws_ yX3_least cX3_least 3 (some .int))) B.pre
  have hts : ∀ w ∈ lw_all, w.before _ s = true := fun w h => hts w (List.mem_cons_of_mem _ h)
  have hown : s.vm.findClass RX3 = some m.cls := findClass_of_methodNamed B.named
  have hP : va_P (dC, dI) vwCl [(h, .inr (3, [.int way, .int size, .int grace, .int life, .int taken, .int late, .int mark, .int (nI n2), .ref xk, .ref xv, .ref xs, .ref xo, .int (nI cnt), .ref yk, .ref yn, .ref yw])), (xk, .inl (dJ, 3000, .inr (.inl gk))), (xs, .inl (dN, 3000, .inl gs)), (xo, .inl (dZ, 3000, .inl go))] s.heap := hP
  have hl := lv_entry ([.ref h]) (n := 3) (Nat.le_of_ble_eq_true rfl)
  rw [lg_entry_eq]
  generalize (lg_sl ([.ref h]) ++ List.replicate (3 - (lg_sl ([.ref h])).length) Slot.unset).toArray = ls at hl ⊢
  have hl : lv_has ls 3 [(0, .ref h)] := hl
  have loop : ∀ (fu : Nat) (i : Nat) (o : Option Nat) (ls : Array Slot), (cnt - i < fu) → (i ≤ cnt) → (o = md_lst size grace mark gk gs go i) → (∀ b, o = some b → b < i) → lv_has ls 3 [(0, .ref h), (1, .int (md_io o)), (2, .int (nI i))] → W p l e (headSpec (ws_ yX3_least cX3_least 3 (some .int)) ({ frames := 1, cells := 0, slots := 0, locals := 21 })).room s m ([.ref h] : List Value).toArray below meth c s.heap [] 0 0 (MQ below (vp_Si (fun r => r = md_io (md_lst size grace mark gk gs go cnt))) ([.ref h] : List Value).toArray s 0 0 (fun _ => False)) (F0 m 4 ls []) := by
    intro fu
    induction fu with
    | zero => intro i o ls h1; exact absurd h1 (by omega)
    | succ fu ih =>
      intro i o ls h1 h2 ho hlt hl
      refine lv_iload_n hx hb dX3_least_4 rfl (lv_at hl 2 rfl) ?_
      refine lv_aload_n hx hb dX3_least_5 rfl (lv_at hl 0 rfl) ?_
      refine va_get (D := (dC, dI)) (ci := 3) (v := .int (nI cnt)) (C := RX3) (T := TX3) (N := 16) hx hb hts in_X3 hown hK hP 0 rfl rfl 12 (by decide) (hts _ q229) (fun _ h9 => h9) rfl dX3_least_6 ?_
      refine sj_nge (a := i) (b := cnt) (tgt := 95) hx hb dX3_least_9 (by decide) (by omega) (by omega) (fun c9 => ?_) (fun c9 => ?_)
      · skip
        refine lv_iload_n hx hb dX3_least_95 rfl (lv_at hl 1 rfl) ?_
        exact W.iret (v := md_io o) hx hb hr (fun t ht hW => ⟨md_io o, rfl, (by rw [ho, show i = cnt by omega]), ht⟩) t_nil dX3_least_96
      · skip
        refine lv_aload_n hx hb dX3_least_12 rfl (lv_at hl 0 rfl) ?_
        refine va_get (D := (dC, dI)) (ci := 3) (v := .ref xo) (C := RX3) (T := TX3) (N := 16) hx hb hts in_X3 hown hK hP 0 rfl rfl 11 (by decide) (hts _ q228) (fun _ h9 => h9) rfl dX3_least_13 ?_
        refine lv_iload_n hx hb dX3_least_16 rfl (lv_at hl 2 rfl) ?_
        refine sj_zald hx hb hK hP 3 2 rfl rfl i rfl (by omega) (by omega) dX3_least_17 ?_
        refine lv_if_ne (tgt := 89) hx hb dX3_least_18 (by decide) (fun c18 => ?_) (fun c18 => ?_)
        · skip
          refine lv_iinc (v := nI (i + 1)) (lv' := [(2, .int (nI (i + 1))), (0, .ref h), (1, .int (md_io o))]) hx hb dX3_least_89 hl (k := 2) rfl (nI_1 _) (by decide) rfl (fun ls hl => ?_)
          refine lv_goto (tgt := 4) hx hb dX3_least_92 (by decide) ?_
          exact ih (i + 1) o ls (by omega) (by omega) (by rw [md_lst, if_neg (fun h => c18 h.1)]; exact ho) (fun b hb => by have := hlt b hb; omega) (lv_sub hl [1, 2, 0] rfl)
        · skip
          refine lv_aload_n hx hb dX3_least_21 rfl (lv_at hl 0 rfl) ?_
          refine lv_aload_n hx hb dX3_least_22 rfl (lv_at hl 0 rfl) ?_
          refine va_get (D := (dC, dI)) (ci := 3) (v := .ref xs) (C := RX3) (T := TX3) (N := 16) hx hb hts in_X3 hown hK hP 0 rfl rfl 10 (by decide) (hts _ q227) (fun _ h9 => h9) rfl dX3_least_23 ?_
          refine lv_iload_n hx hb dX3_least_26 rfl (lv_at hl 2 rfl) ?_
          refine sj_iald hx hb hK hP 2 1 rfl rfl i rfl (by omega) (by omega) dX3_least_27 ?_
          refine sj_callRi (As := [.int (gs i)]) (rest := []) ⟨hx, hb, hml, hown, hts⟩ (metX3_isClosed l dC dI dJ dN dZ h xk xv xs xo yk yn yw n2 cnt way size grace life taken late mark (gs i)) (cwV 1 hts (lw_V q278 q280 qs6 q14 q281) rfl rfl rfl (by decide +kernel) ⟨Nat.le_of_ble_eq_true rfl, Nat.le_of_ble_eq_true rfl⟩) hK hP [0] rfl 3 rfl rfl rfl rfl hl.1 rfl (Nat.le_of_ble_eq_true rfl) dX3_least_28 ⟨Nat.zero_le _, Nat.zero_le _⟩ (fun v hv => ?_)
          refine lv_if_ne (tgt := 37) hx hb dX3_least_31 (by decide) (fun c31 => ?_) (fun c31 => ?_)
          · skip
            have c31 := sj_i1 hv c31
            cases o with
            | none =>
              refine lv_iload_n hx hb dX3_least_37 rfl (lv_at hl 1 rfl) ?_
              refine lv_if_lt (tgt := 87) hx hb dX3_least_38 (by decide) (fun c38 => ?_) (fun c38 => absurd (show md_io none < 0 by decide) c38)
              refine lv_iload_n hx hb dX3_least_87 rfl (lv_at hl 2 rfl) ?_
              refine sj_cvi (y := md_io (some i)) rfl ?_
              refine lv_istore_n (lv' := [(1, .int (md_io (some i))), (0, .ref h), (2, .int (nI i))]) hx hb dX3_least_88 rfl hl (by decide) rfl (fun ls hl => ?_)
              refine lv_iinc (v := nI (i + 1)) (lv' := [(2, .int (nI (i + 1))), (1, .int (md_io (some i))), (0, .ref h)]) hx hb dX3_least_89 hl (k := 2) rfl (nI_1 _) (by decide) rfl (fun ls hl => ?_)
              refine lv_goto (tgt := 4) hx hb dX3_least_92 (by decide) ?_
              exact ih (i + 1) (some i) ls (by omega) (by omega) (by rw [md_lst, if_pos ⟨c18, c31⟩, ← ho]; rfl) (fun b hb => by cases hb; omega) (lv_sub hl [2, 1, 0] rfl)
            | some b =>
              have hb9 := hlt b rfl
              refine lv_iload_n hx hb dX3_least_37 rfl (lv_at hl 1 rfl) ?_
              refine lv_if_lt (tgt := 87) hx hb dX3_least_38 (by decide) (fun c38 => absurd c38 (nI_pos (n := b) (by omega))) (fun c38 => ?_)
              refine lv_aload_n hx hb dX3_least_41 rfl (lv_at hl 0 rfl) ?_
              refine va_get (D := (dC, dI)) (ci := 3) (v := .ref xs) (C := RX3) (T := TX3) (N := 16) hx hb hts in_X3 hown hK hP 0 rfl rfl 10 (by decide) (hts _ q227) (fun _ h9 => h9) rfl dX3_least_42 ?_
              refine lv_iload_n hx hb dX3_least_45 rfl (lv_at hl 2 rfl) ?_
              refine sj_iald hx hb hK hP 2 1 rfl rfl i rfl (by omega) (by omega) dX3_least_46 ?_
              refine lv_aload_n hx hb dX3_least_47 rfl (lv_at hl 0 rfl) ?_
              refine va_get (D := (dC, dI)) (ci := 3) (v := .ref xs) (C := RX3) (T := TX3) (N := 16) hx hb hts in_X3 hown hK hP 0 rfl rfl 10 (by decide) (hts _ q227) (fun _ h9 => h9) rfl dX3_least_48 ?_
              refine lv_iload_n hx hb dX3_least_51 rfl (lv_at hl 1 rfl) ?_
              refine sj_iald hx hb hK hP 2 1 rfl rfl b rfl (by omega) (by omega) dX3_least_52 ?_
              refine lv_icmp_lt (tgt := 87) hx hb dX3_least_53 (by decide) (fun c53 => ?_) (fun c53 => ?_)
              · skip
                refine lv_iload_n hx hb dX3_least_87 rfl (lv_at hl 2 rfl) ?_
                refine sj_cvi (y := md_io (some i)) rfl ?_
                refine lv_istore_n (lv' := [(1, .int (md_io (some i))), (0, .ref h), (2, .int (nI i))]) hx hb dX3_least_88 rfl hl (by decide) rfl (fun ls hl => ?_)
                refine lv_iinc (v := nI (i + 1)) (lv' := [(2, .int (nI (i + 1))), (1, .int (md_io (some i))), (0, .ref h)]) hx hb dX3_least_89 hl (k := 2) rfl (nI_1 _) (by decide) rfl (fun ls hl => ?_)
                refine lv_goto (tgt := 4) hx hb dX3_least_92 (by decide) ?_
                exact ih (i + 1) (some i) ls (by omega) (by omega) (by rw [md_lst, if_pos ⟨c18, c31⟩, ← ho]; exact (if_pos (Or.inl c53)).symm) (fun b hb => by cases hb; omega) (lv_sub hl [2, 1, 0] rfl)
              · skip
                refine lv_aload_n hx hb dX3_least_56 rfl (lv_at hl 0 rfl) ?_
                refine va_get (D := (dC, dI)) (ci := 3) (v := .ref xs) (C := RX3) (T := TX3) (N := 16) hx hb hts in_X3 hown hK hP 0 rfl rfl 10 (by decide) (hts _ q227) (fun _ h9 => h9) rfl dX3_least_57 ?_
                refine lv_iload_n hx hb dX3_least_60 rfl (lv_at hl 2 rfl) ?_
                refine sj_iald hx hb hK hP 2 1 rfl rfl i rfl (by omega) (by omega) dX3_least_61 ?_
                refine lv_aload_n hx hb dX3_least_62 rfl (lv_at hl 0 rfl) ?_
                refine va_get (D := (dC, dI)) (ci := 3) (v := .ref xs) (C := RX3) (T := TX3) (N := 16) hx hb hts in_X3 hown hK hP 0 rfl rfl 10 (by decide) (hts _ q227) (fun _ h9 => h9) rfl dX3_least_63 ?_
                refine lv_iload_n hx hb dX3_least_66 rfl (lv_at hl 1 rfl) ?_
                refine sj_iald hx hb hK hP 2 1 rfl rfl b rfl (by omega) (by omega) dX3_least_67 ?_
                refine lv_icmp_ne (tgt := 89) hx hb dX3_least_68 (by decide) (fun c68 => ?_) (fun c68 => ?_)
                · skip
                  refine lv_iinc (v := nI (i + 1)) (lv' := [(2, .int (nI (i + 1))), (0, .ref h), (1, .int (md_io (some b)))]) hx hb dX3_least_89 hl (k := 2) rfl (nI_1 _) (by decide) rfl (fun ls hl => ?_)
                  refine lv_goto (tgt := 4) hx hb dX3_least_92 (by decide) ?_
                  exact ih (i + 1) (some b) ls (by omega) (by omega) (by rw [md_lst, if_pos ⟨c18, c31⟩, ← ho]; exact (if_neg (fun h => h.elim c53 (fun h => c68 h.1))).symm) (fun b hb => by have := hlt b hb; omega) (lv_sub hl [1, 2, 0] rfl)
                · skip
                  refine lv_aload_n hx hb dX3_least_71 rfl (lv_at hl 0 rfl) ?_
                  refine va_get (D := (dC, dI)) (ci := 3) (v := .ref xk) (C := RX3) (T := TX3) (N := 16) hx hb hts in_X3 hown hK hP 0 rfl rfl 8 (by decide) (hts _ q225) (fun _ h9 => h9) rfl dX3_least_72 ?_
                  refine lv_iload_n hx hb dX3_least_75 rfl (lv_at hl 2 rfl) ?_
                  refine sj_lald hx hb hK hP 1 0 rfl rfl i rfl (by omega) (by omega) dX3_least_76 ?_
                  refine lv_aload_n hx hb dX3_least_77 rfl (lv_at hl 0 rfl) ?_
                  refine va_get (D := (dC, dI)) (ci := 3) (v := .ref xk) (C := RX3) (T := TX3) (N := 16) hx hb hts in_X3 hown hK hP 0 rfl rfl 8 (by decide) (hts _ q225) (fun _ h9 => h9) rfl dX3_least_78 ?_
                  refine lv_iload_n hx hb dX3_least_81 rfl (lv_at hl 1 rfl) ?_
                  refine sj_lald hx hb hK hP 1 0 rfl rfl b rfl (by omega) (by omega) dX3_least_82 ?_
                  refine sj_lc_ge (tgt := 89) hx hb dX3_least_83 dX3_least_84 (by decide) (fun c83 => ?_) (fun c83 => ?_)
                  · skip
                    refine lv_iinc (v := nI (i + 1)) (lv' := [(2, .int (nI (i + 1))), (0, .ref h), (1, .int (md_io (some b)))]) hx hb dX3_least_89 hl (k := 2) rfl (nI_1 _) (by decide) rfl (fun ls hl => ?_)
                    refine lv_goto (tgt := 4) hx hb dX3_least_92 (by decide) ?_
                    exact ih (i + 1) (some b) ls (by omega) (by omega) (by rw [md_lst, if_pos ⟨c18, c31⟩, ← ho]; exact (if_neg (fun h => h.elim c53 (fun h => absurd h.2 (Int64.not_lt.mpr c83)))).symm) (fun b hb => by have := hlt b hb; omega) (lv_sub hl [1, 2, 0] rfl)
                  · skip
                    refine lv_iload_n hx hb dX3_least_87 rfl (lv_at hl 2 rfl) ?_
                    refine sj_cvi (y := md_io (some i)) rfl ?_
                    refine lv_istore_n (lv' := [(1, .int (md_io (some i))), (0, .ref h), (2, .int (nI i))]) hx hb dX3_least_88 rfl hl (by decide) rfl (fun ls hl => ?_)
                    refine lv_iinc (v := nI (i + 1)) (lv' := [(2, .int (nI (i + 1))), (1, .int (md_io (some i))), (0, .ref h)]) hx hb dX3_least_89 hl (k := 2) rfl (nI_1 _) (by decide) rfl (fun ls hl => ?_)
                    refine lv_goto (tgt := 4) hx hb dX3_least_92 (by decide) ?_
                    exact ih (i + 1) (some i) ls (by omega) (by omega) (by rw [md_lst, if_pos ⟨c18, c31⟩, ← ho]; exact (if_pos (Or.inr ⟨c68, Int64.not_le.mp c83⟩)).symm) (fun b hb => by cases hb; omega) (lv_sub hl [2, 1, 0] rfl)
          · skip
            have c31 := sj_i0 hv c31
            refine lv_goto (tgt := 89) hx hb dX3_least_34 (by decide) ?_
            refine lv_iinc (v := nI (i + 1)) (lv' := [(2, .int (nI (i + 1))), (0, .ref h), (1, .int (md_io o))]) hx hb dX3_least_89 hl (k := 2) rfl (nI_1 _) (by decide) rfl (fun ls hl => ?_)
            refine lv_goto (tgt := 4) hx hb dX3_least_92 (by decide) ?_
            exact ih (i + 1) o ls (by omega) (by omega) (by rw [md_lst, if_neg (fun h => c31 h.2)]; exact ho) (fun b hb => by have := hlt b hb; omega) (lv_sub hl [1, 2, 0] rfl)
  refine lv_iconst (v := (-1)) hx hb dX3_least_0 (by decide) ?_
  refine sj_cvi (y := md_io none) rfl ?_
  refine lv_istore_n (lv' := [(1, .int (md_io none)), (0, .ref h)]) hx hb dX3_least_1 rfl hl (by decide) rfl (fun ls hl => ?_)
  refine lv_iconst (v := nI 0) hx hb dX3_least_2 (by decide) ?_
  refine lv_istore_n (lv' := [(2, .int (nI 0)), (1, .int (md_io none)), (0, .ref h)]) hx hb dX3_least_3 rfl hl (by decide) rfl (fun ls hl => ?_)
  exact loop (cnt + 1) 0 none ls (by omega) (Nat.zero_le _) rfl (fun b hb => by cases hb) (lv_sub hl [2, 1, 0] rfl)
end
section
/-! MODEL: number, kept, out, keeps -/
set_option maxRecDepth 100000
set_option maxHeartbeats 4000000 in
set_option maxRecDepth 100000 in
/-- model: number(key, span) -/
theorem metX3_number (l : Launch) (dC : Nat → ClassId) (dI : Nat → Nat → Nat) (dJ dN dZ : ClassId) (h xk xv xs xo yk yn yw n2 cnt : Nat) (way size grace life taken late mark : Int32) (gk gv : Nat → Int64) (gs go : Nat → Int32) (hcnt : cnt ≤ 3000) (ky : Int64) (sp : Int32) : Met l yX3_number (ws_ yX3_number cX3_number 9 (some .long)) ({ frames := 1, cells := 0, slots := 0, locals := 15 }) (sj_Pr (dC, dI) [(h, .inr (3, [.int way, .int size, .int grace, .int life, .int taken, .int late, .int mark, .int (nI n2), .ref xk, .ref xv, .ref xs, .ref xo, .int (nI cnt), .ref yk, .ref yn, .ref yw])), (xk, .inl (dJ, 3000, .inr (.inl gk))), (xv, .inl (dJ, 3000, .inr (.inl gv))), (xs, .inl (dN, 3000, .inl gs)), (xo, .inl (dZ, 3000, .inl go))] (sj_t dJ dN dZ) [.ref h, .long ky, .int sp]) (vp_Sl (fun r => r = md_num way gk gv gs go ky sp cnt)) 0 0 (fun _ => False) := by
  refine Met.ofW (cc := cX3_number) (maxL := 9) (ret := (some .long)) (by decide) rfl ?_
  intro p e s m args below meth c s₁ B hml hv
  obtain ⟨rfl, hP, hK⟩ := hv
  have hx := B.exec
  have hb := B.bytes
  have hr := B.returns
  have hlocks := B.notSynchronized
  have hts := atoms_spec (ws := (ws_ yX3_number cX3_number 9 (some .long))) B.pre
  have hts : ∀ w ∈ lw_all, w.before _ s = true := fun w h => hts w (List.mem_cons_of_mem _ h)
  have hown : s.vm.findClass RX3 = some m.cls := findClass_of_methodNamed B.named
  have hP : va_P (dC, dI) vwCl [(h, .inr (3, [.int way, .int size, .int grace, .int life, .int taken, .int late, .int mark, .int (nI n2), .ref xk, .ref xv, .ref xs, .ref xo, .int (nI cnt), .ref yk, .ref yn, .ref yw])), (xk, .inl (dJ, 3000, .inr (.inl gk))), (xv, .inl (dJ, 3000, .inr (.inl gv))), (xs, .inl (dN, 3000, .inl gs)), (xo, .inl (dZ, 3000, .inl go))] s.heap := hP
  have hl := lv_entry ([.ref h, .long ky, .int sp]) (n := 9) (Nat.le_of_ble_eq_true rfl)
  rw [lg_entry_eq]
  generalize (lg_sl ([.ref h, .long ky, .int sp]) ++ List.replicate (9 - (lg_sl ([.ref h, .long ky, .int sp])).length) Slot.unset).toArray = ls at hl ⊢
  have hl : lv_has ls 9 [(0, .ref h), (1, .long ky), (3, .int sp)] := hl
  have loop : ∀ (fu : Nat) (i : Nat) (nv : Int64) (ls : Array Slot), (cnt - i < fu) → (i ≤ cnt) → (nv = md_num way gk gv gs go ky sp i) → lv_has ls 9 [(0, .ref h), (1, .long ky), (3, .int sp), (4, .long nv), (6, .int (nI i))] → W p l e (headSpec (ws_ yX3_number cX3_number 9 (some .long)) ({ frames := 1, cells := 0, slots := 0, locals := 15 })).room s m ([.ref h, .long ky, .int sp] : List Value).toArray below meth c s.heap [] 0 0 (MQ below (vp_Sl (fun r => r = md_num way gk gv gs go ky sp cnt)) ([.ref h, .long ky, .int sp] : List Value).toArray s 0 0 (fun _ => False)) (F0 m 8 ls []) := by
    intro fu
    induction fu with
    | zero => intro i nv ls h1; exact absurd h1 (by omega)
    | succ fu ih =>
      intro i nv ls h1 h2 hnv hl
      refine lv_iload hx hb dX3_number_8 (lv_at hl 4 rfl) ?_
      refine lv_aload_n hx hb dX3_number_10 rfl (lv_at hl 0 rfl) ?_
      refine va_get (D := (dC, dI)) (ci := 3) (v := .int (nI cnt)) (C := RX3) (T := TX3) (N := 16) hx hb hts in_X3 hown hK hP 0 rfl rfl 12 (by decide) (hts _ q229) (fun _ h9 => h9) rfl dX3_number_11 ?_
      refine sj_nge (a := i) (b := cnt) (tgt := 122) hx hb dX3_number_14 (by decide) (by omega) (by omega) (fun c14 => ?_) (fun c14 => ?_)
      · skip
        refine lv_lload hx hb dX3_number_122 (lv_at hl 3 rfl) ?_
        exact W.lret (v := nv) hx hb hr (fun t ht hW => ⟨nv, rfl, (by rw [hnv, show i = cnt by omega]), ht⟩) t_nil dX3_number_124
      · skip
        refine lv_aload_n hx hb dX3_number_17 rfl (lv_at hl 0 rfl) ?_
        refine va_get (D := (dC, dI)) (ci := 3) (v := .ref xo) (C := RX3) (T := TX3) (N := 16) hx hb hts in_X3 hown hK hP 0 rfl rfl 11 (by decide) (hts _ q228) (fun _ h9 => h9) rfl dX3_number_18 ?_
        refine lv_iload hx hb dX3_number_21 (lv_at hl 4 rfl) ?_
        refine sj_zald hx hb hK hP 4 2 rfl rfl i rfl (by omega) (by omega) dX3_number_23 ?_
        refine lv_if_ne (tgt := 116) hx hb dX3_number_24 (by decide) (fun c24 => ?_) (fun c24 => ?_)
        · skip
          refine lv_iinc (v := nI (i + 1)) (lv' := [(6, .int (nI (i + 1))), (0, .ref h), (1, .long ky), (3, .int sp), (4, .long nv)]) hx hb dX3_number_116 hl (k := 4) rfl (nI_1 _) (by decide) rfl (fun ls hl => ?_)
          refine lv_goto (tgt := 8) hx hb dX3_number_119 (by decide) ?_
          exact ih (i + 1) nv ls (by omega) (by omega) (by rw [md_num, if_neg (fun h => c24 h.1), hnv]) (lv_sub hl [1, 2, 3, 4, 0] rfl)
        · skip
          refine lv_aload_n hx hb dX3_number_27 rfl (lv_at hl 0 rfl) ?_
          refine va_get (D := (dC, dI)) (ci := 3) (v := .ref xk) (C := RX3) (T := TX3) (N := 16) hx hb hts in_X3 hown hK hP 0 rfl rfl 8 (by decide) (hts _ q225) (fun _ h9 => h9) rfl dX3_number_28 ?_
          refine lv_iload hx hb dX3_number_31 (lv_at hl 4 rfl) ?_
          refine sj_lald hx hb hK hP 1 0 rfl rfl i rfl (by omega) (by omega) dX3_number_33 ?_
          refine lv_lload_n hx hb dX3_number_34 rfl (lv_at hl 1 rfl) ?_
          refine sj_lc_ne (tgt := 116) hx hb dX3_number_35 dX3_number_36 (by decide) (fun c35 => ?_) (fun c35 => ?_)
          · skip
            refine lv_iinc (v := nI (i + 1)) (lv' := [(6, .int (nI (i + 1))), (0, .ref h), (1, .long ky), (3, .int sp), (4, .long nv)]) hx hb dX3_number_116 hl (k := 4) rfl (nI_1 _) (by decide) rfl (fun ls hl => ?_)
            refine lv_goto (tgt := 8) hx hb dX3_number_119 (by decide) ?_
            exact ih (i + 1) nv ls (by omega) (by omega) (by rw [md_num, if_neg (fun h => c35 h.2.1), hnv]) (lv_sub hl [1, 2, 3, 4, 0] rfl)
          · skip
            refine lv_aload_n hx hb dX3_number_39 rfl (lv_at hl 0 rfl) ?_
            refine va_get (D := (dC, dI)) (ci := 3) (v := .ref xs) (C := RX3) (T := TX3) (N := 16) hx hb hts in_X3 hown hK hP 0 rfl rfl 10 (by decide) (hts _ q227) (fun _ h9 => h9) rfl dX3_number_40 ?_
            refine lv_iload hx hb dX3_number_43 (lv_at hl 4 rfl) ?_
            refine sj_iald hx hb hK hP 3 1 rfl rfl i rfl (by omega) (by omega) dX3_number_45 ?_
            refine lv_iload_n hx hb dX3_number_46 rfl (lv_at hl 2 rfl) ?_
            refine lv_icmp_eq (tgt := 53) hx hb dX3_number_47 (by decide) (fun c47 => ?_) (fun c47 => ?_)
            · skip
              refine lv_lconst (v := 0) hx hb dX3_number_53 (by decide) ?_
              refine lv_lload hx hb dX3_number_54 (lv_at hl 3 rfl) ?_
              refine va_mmax_long (x := 0) (y := nv) hx hb (hml.trans hl.1.symm) hown (hts _ q295) (hts _ q134) (hts _ q15) (hts _ q135) (Nat.le_of_ble_eq_true rfl) (Nat.le_of_ble_eq_true rfl) (Nat.le_of_ble_eq_true rfl) (Nat.le_of_ble_eq_true rfl) dX3_number_56 ?_
              refine lv_topl (fun od eod => ?_)
              refine lv_lstore (lv' := [(7, .long od), (0, .ref h), (1, .long ky), (3, .int sp), (4, .long nv), (6, .int (nI i))]) hx hb dX3_number_59 hl (by decide) rfl (fun ls hl => ?_)
              refine lv_aload_n hx hb dX3_number_61 rfl (lv_at hl 1 rfl) ?_
              refine va_get (D := (dC, dI)) (ci := 3) (v := .int way) (C := RX3) (T := TX3) (N := 16) hx hb hts in_X3 hown hK hP 0 rfl rfl 0 (by decide) (hts _ q217) (fun _ h9 => h9) rfl dX3_number_62 ?_
              refine lv_if_ne (tgt := 87) hx hb dX3_number_65 (by decide) (fun c65 => ?_) (fun c65 => ?_)
              · skip
                refine lv_aload_n hx hb dX3_number_87 rfl (lv_at hl 1 rfl) ?_
                refine va_get (D := (dC, dI)) (ci := 3) (v := .int way) (C := RX3) (T := TX3) (N := 16) hx hb hts in_X3 hown hK hP 0 rfl rfl 0 (by decide) (hts _ q217) (fun _ h9 => h9) rfl dX3_number_88 ?_
                refine lv_iconst (v := 1) hx hb dX3_number_91 (by decide) ?_
                refine lv_icmp_ne (tgt := 102) hx hb dX3_number_92 (by decide) (fun c92 => ?_) (fun c92 => ?_)
                · skip
                  refine lv_lload hx hb dX3_number_102 (lv_at hl 0 rfl) ?_
                  refine lv_aload_n hx hb dX3_number_104 rfl (lv_at hl 1 rfl) ?_
                  refine va_get (D := (dC, dI)) (ci := 3) (v := .ref xv) (C := RX3) (T := TX3) (N := 16) hx hb hts in_X3 hown hK hP 0 rfl rfl 9 (by decide) (hts _ q226) (fun _ h9 => h9) rfl dX3_number_105 ?_
                  refine lv_iload hx hb dX3_number_108 (lv_at hl 5 rfl) ?_
                  refine sj_lald hx hb hK hP 2 0 rfl rfl i rfl (by omega) (by omega) dX3_number_110 ?_
                  refine va_mmax_long (x := od) (y := gv i) hx hb (hml.trans hl.1.symm) hown (hts _ q295) (hts _ q134) (hts _ q15) (hts _ q135) (Nat.le_of_ble_eq_true rfl) (Nat.le_of_ble_eq_true rfl) (Nat.le_of_ble_eq_true rfl) (Nat.le_of_ble_eq_true rfl) dX3_number_111 ?_
                  refine lv_lstore (lv' := [(4, .long (if gv i < od then od else gv i)), (7, .long od), (0, .ref h), (1, .long ky), (3, .int sp), (6, .int (nI i))]) hx hb dX3_number_114 hl (by decide) rfl (fun ls hl => ?_)
                  refine lv_iinc (v := nI (i + 1)) (lv' := [(6, .int (nI (i + 1))), (4, .long (if gv i < od then od else gv i)), (7, .long od), (0, .ref h), (1, .long ky), (3, .int sp)]) hx hb dX3_number_116 hl (k := 5) rfl (nI_1 _) (by decide) rfl (fun ls hl => ?_)
                  refine lv_goto (tgt := 8) hx hb dX3_number_119 (by decide) ?_
                  exact ih (i + 1) _ ls (by omega) (by omega) (by rw [md_num, if_pos (show go i = 0 ∧ gk i = ky ∧ gs i = sp from ⟨c24, c35, c47⟩), ← hnv, md_st, ← eod, if_neg c65, if_neg c92]) (lv_sub hl [3, 4, 5, 1, 0] rfl)
                · skip
                  refine lv_lload hx hb dX3_number_95 (lv_at hl 0 rfl) ?_
                  refine lv_lconst (v := 1) hx hb dX3_number_97 (by decide) ?_
                  refine lv_ladd hx hb dX3_number_98 ?_
                  refine lv_goto (tgt := 114) hx hb dX3_number_99 (by decide) ?_
                  refine lv_lstore (lv' := [(4, .long (od + 1)), (7, .long od), (0, .ref h), (1, .long ky), (3, .int sp), (6, .int (nI i))]) hx hb dX3_number_114 hl (by decide) rfl (fun ls hl => ?_)
                  refine lv_iinc (v := nI (i + 1)) (lv' := [(6, .int (nI (i + 1))), (4, .long (od + 1)), (7, .long od), (0, .ref h), (1, .long ky), (3, .int sp)]) hx hb dX3_number_116 hl (k := 5) rfl (nI_1 _) (by decide) rfl (fun ls hl => ?_)
                  refine lv_goto (tgt := 8) hx hb dX3_number_119 (by decide) ?_
                  exact ih (i + 1) _ ls (by omega) (by omega) (by rw [md_num, if_pos (show go i = 0 ∧ gk i = ky ∧ gs i = sp from ⟨c24, c35, c47⟩), ← hnv, md_st, ← eod, if_neg c65, if_pos c92]) (lv_sub hl [3, 4, 5, 1, 0] rfl)
              · skip
                refine lv_ldc2 (v := 1000000000000000) hx hb hown (hts _ q296) dX3_number_68 ?_
                refine lv_lload hx hb dX3_number_71 (lv_at hl 0 rfl) ?_
                refine lv_aload_n hx hb dX3_number_73 rfl (lv_at hl 1 rfl) ?_
                refine va_get (D := (dC, dI)) (ci := 3) (v := .ref xv) (C := RX3) (T := TX3) (N := 16) hx hb hts in_X3 hown hK hP 0 rfl rfl 9 (by decide) (hts _ q226) (fun _ h9 => h9) rfl dX3_number_74 ?_
                refine lv_iload hx hb dX3_number_77 (lv_at hl 5 rfl) ?_
                refine sj_lald hx hb hK hP 2 0 rfl rfl i rfl (by omega) (by omega) dX3_number_79 ?_
                refine lv_ladd hx hb dX3_number_80 ?_
                refine va_mmin_long (x := 1000000000000000) (y := od + (gv i)) hx hb (hml.trans hl.1.symm) hown (hts _ q297) (hts _ q131) (hts _ q15) (hts _ q132) (Nat.le_of_ble_eq_true rfl) (Nat.le_of_ble_eq_true rfl) (Nat.le_of_ble_eq_true rfl) (Nat.le_of_ble_eq_true rfl) dX3_number_81 ?_
                refine lv_goto (tgt := 114) hx hb dX3_number_84 (by decide) ?_
                refine lv_lstore (lv' := [(4, .long (if od + (gv i) < 1000000000000000 then od + (gv i) else 1000000000000000)), (7, .long od), (0, .ref h), (1, .long ky), (3, .int sp), (6, .int (nI i))]) hx hb dX3_number_114 hl (by decide) rfl (fun ls hl => ?_)
                refine lv_iinc (v := nI (i + 1)) (lv' := [(6, .int (nI (i + 1))), (4, .long (if od + (gv i) < 1000000000000000 then od + (gv i) else 1000000000000000)), (7, .long od), (0, .ref h), (1, .long ky), (3, .int sp)]) hx hb dX3_number_116 hl (k := 5) rfl (nI_1 _) (by decide) rfl (fun ls hl => ?_)
                refine lv_goto (tgt := 8) hx hb dX3_number_119 (by decide) ?_
                exact ih (i + 1) _ ls (by omega) (by omega) (by rw [md_num, if_pos (show go i = 0 ∧ gk i = ky ∧ gs i = sp from ⟨c24, c35, c47⟩), ← hnv, md_st, ← eod, if_pos c65]) (lv_sub hl [3, 4, 5, 1, 0] rfl)
            · skip
              refine lv_goto (tgt := 116) hx hb dX3_number_50 (by decide) ?_
              refine lv_iinc (v := nI (i + 1)) (lv' := [(6, .int (nI (i + 1))), (0, .ref h), (1, .long ky), (3, .int sp), (4, .long nv)]) hx hb dX3_number_116 hl (k := 4) rfl (nI_1 _) (by decide) rfl (fun ls hl => ?_)
              refine lv_goto (tgt := 8) hx hb dX3_number_119 (by decide) ?_
              exact ih (i + 1) nv ls (by omega) (by omega) (by rw [md_num, if_neg (fun h => c47 h.2.2), hnv]) (lv_sub hl [1, 2, 3, 4, 0] rfl)
  refine lv_ldc2 (v := (-1)) hx hb hown (hts _ q275) dX3_number_0 ?_
  refine lv_lstore (lv' := [(4, .long (-1)), (0, .ref h), (1, .long ky), (3, .int sp)]) hx hb dX3_number_3 hl (by decide) rfl (fun ls hl => ?_)
  refine lv_iconst (v := nI 0) hx hb dX3_number_5 (by decide) ?_
  refine lv_istore (lv' := [(6, .int (nI 0)), (4, .long (-1)), (0, .ref h), (1, .long ky), (3, .int sp)]) hx hb dX3_number_6 hl (by decide) rfl (fun ls hl => ?_)
  exact loop (cnt + 1) 0 (-1) ls (by omega) (Nat.zero_le _) rfl (lv_sub hl [2, 3, 4, 1, 0] rfl)
set_option maxHeartbeats 4000000 in
set_option maxRecDepth 100000 in
/-- model: kept(key, span) -/
theorem metX3_kept (l : Launch) (dC : Nat → ClassId) (dI : Nat → Nat → Nat) (dJ dN dZ : ClassId) (h xk xv xs xo yk yn yw n2 cnt : Nat) (way size grace life taken late mark : Int32) (gk gv : Nat → Int64) (gs go : Nat → Int32) (hcnt : cnt ≤ 3000) (ky : Int64) (sp : Int32) : Met l yX3_kept (ws_ yX3_kept cX3_kept 4 (some .long)) ({ frames := 2, cells := 0, slots := 0, locals := 43 }) (sj_Pr (dC, dI) [(h, .inr (3, [.int way, .int size, .int grace, .int life, .int taken, .int late, .int mark, .int (nI n2), .ref xk, .ref xv, .ref xs, .ref xo, .int (nI cnt), .ref yk, .ref yn, .ref yw])), (xk, .inl (dJ, 3000, .inr (.inl gk))), (xv, .inl (dJ, 3000, .inr (.inl gv))), (xs, .inl (dN, 3000, .inl gs)), (xo, .inl (dZ, 3000, .inl go))] (sj_t dJ dN dZ) [.ref h, .long ky, .int sp]) (vp_Sl (fun r => r = md_num way gk gv gs go ky sp cnt)) 0 0 (fun _ => False) := by
  refine Met.ofW (cc := cX3_kept) (maxL := 4) (ret := (some .long)) (by decide) rfl ?_
  intro p e s m args below meth c s₁ B hml hv
  obtain ⟨rfl, hP, hK⟩ := hv
  have hx := B.exec
  have hb := B.bytes
  have hr := B.returns
  have hlocks := B.notSynchronized
  have hts := atoms_spec (ws := (ws_ yX3_kept cX3_kept 4 (some .long))) B.pre
  have hts : ∀ w ∈ lw_all, w.before _ s = true := fun w h => hts w (List.mem_cons_of_mem _ h)
  have hown : s.vm.findClass RX3 = some m.cls := findClass_of_methodNamed B.named
  have hP : va_P (dC, dI) vwCl [(h, .inr (3, [.int way, .int size, .int grace, .int life, .int taken, .int late, .int mark, .int (nI n2), .ref xk, .ref xv, .ref xs, .ref xo, .int (nI cnt), .ref yk, .ref yn, .ref yw])), (xk, .inl (dJ, 3000, .inr (.inl gk))), (xv, .inl (dJ, 3000, .inr (.inl gv))), (xs, .inl (dN, 3000, .inl gs)), (xo, .inl (dZ, 3000, .inl go))] s.heap := hP
  have hl := lv_entry ([.ref h, .long ky, .int sp]) (n := 4) (Nat.le_of_ble_eq_true rfl)
  rw [lg_entry_eq]
  generalize (lg_sl ([.ref h, .long ky, .int sp]) ++ List.replicate (4 - (lg_sl ([.ref h, .long ky, .int sp])).length) Slot.unset).toArray = ls at hl ⊢
  have hl : lv_has ls 4 [(0, .ref h), (1, .long ky), (3, .int sp)] := hl
  refine lv_aload_n hx hb dX3_kept_0 rfl (lv_at hl 0 rfl) ?_
  refine lv_lload_n hx hb dX3_kept_1 rfl (lv_at hl 1 rfl) ?_
  refine lv_iload_n hx hb dX3_kept_2 rfl (lv_at hl 2 rfl) ?_
  refine sj_callRl (As := [.long ky, .int sp]) (rest := []) ⟨hx, hb, hml, hown, hts⟩ (metX3_number l dC dI dJ dN dZ h xk xv xs xo yk yn yw n2 cnt way size grace life taken late mark gk gv gs go hcnt ky sp) (cwV 2 hts (lw_V q291 q293 qs9 q14 q294) rfl rfl rfl (by decide +kernel) ⟨Nat.le_of_ble_eq_true rfl, Nat.le_of_ble_eq_true rfl⟩) hK hP [0, 1, 2, 3, 4] rfl 3 rfl rfl rfl rfl hl.1 rfl (Nat.le_of_ble_eq_true rfl) dX3_kept_3 ⟨Nat.zero_le _, Nat.zero_le _⟩ (fun v hv => ?_)
  exact W.lret (v := v) hx hb hr (fun t ht hW => ⟨v, rfl, hv, ht⟩) t_nil dX3_kept_6
theorem sj_w012 {x : Int32} (h0 : ¬ x = 0) (h1 : ¬ x = 1) (h2 : ¬ x = 2) : x < 0 ∨ 2 < x := by
  rw [← Int32.toInt_inj] at h0 h1 h2
  rw [Int32.lt_iff_toInt_lt, Int32.lt_iff_toInt_lt]
  have e0 : (0 : Int32).toInt = 0 := by decide
  have e1 : (1 : Int32).toInt = 1 := by decide
  have e2 : (2 : Int32).toInt = 2 := by decide
  omega
set_option maxHeartbeats 4000000 in
set_option maxRecDepth 100000 in
/-- model: out(i, what) -/
theorem metX3_out_2 (l : Launch) (dC : Nat → ClassId) (dI : Nat → Nat → Nat) (dJ dN dZ : ClassId) (h xk xv xs xo yk yn yw cnt : Nat) (way size grace life taken late mark : Int32) (jk jn : Nat → Int64) (jw : Nat → Int32) (O : List sj_O) (hO : O.length ≤ 3000) (hro : mo_rep O jk jn jw) (i wt : Int32) : Met l yX3_out_2 (ws_ yX3_out_2 cX3_out_2 3 (some .long)) ({ frames := 0, cells := 0, slots := 0, locals := 0 }) (sj_Pr (dC, dI) [(h, .inr (3, [.int way, .int size, .int grace, .int life, .int taken, .int late, .int mark, .int (nI O.length), .ref xk, .ref xv, .ref xs, .ref xo, .int (nI cnt), .ref yk, .ref yn, .ref yw])), (yk, .inl (dJ, 3000, .inr (.inl jk))), (yn, .inl (dJ, 3000, .inr (.inl jn))), (yw, .inl (dN, 3000, .inl jw))] (sj_t dJ dN dZ) [.ref h, .int i, .int wt]) (vp_Sl (fun r => r = sj_oun O i wt)) 0 0 (fun _ => False) := by
  refine Met.ofW (cc := cX3_out_2) (maxL := 3) (ret := (some .long)) (by decide) rfl ?_
  intro p e s m args below meth c s₁ B hml hv
  obtain ⟨rfl, hP, hK⟩ := hv
  have hx := B.exec
  have hb := B.bytes
  have hr := B.returns
  have hlocks := B.notSynchronized
  have hts := atoms_spec (ws := (ws_ yX3_out_2 cX3_out_2 3 (some .long))) B.pre
  have hts : ∀ w ∈ lw_all, w.before _ s = true := fun w h => hts w (List.mem_cons_of_mem _ h)
  have hown : s.vm.findClass RX3 = some m.cls := findClass_of_methodNamed B.named
  have hP : va_P (dC, dI) vwCl [(h, .inr (3, [.int way, .int size, .int grace, .int life, .int taken, .int late, .int mark, .int (nI O.length), .ref xk, .ref xv, .ref xs, .ref xo, .int (nI cnt), .ref yk, .ref yn, .ref yw])), (yk, .inl (dJ, 3000, .inr (.inl jk))), (yn, .inl (dJ, 3000, .inr (.inl jn))), (yw, .inl (dN, 3000, .inl jw))] s.heap := hP
  have hl := lv_entry ([.ref h, .int i, .int wt]) (n := 3) (Nat.le_of_ble_eq_true rfl)
  rw [lg_entry_eq]
  generalize (lg_sl ([.ref h, .int i, .int wt]) ++ List.replicate (3 - (lg_sl ([.ref h, .int i, .int wt])).length) Slot.unset).toArray = ls at hl ⊢
  have hl : lv_has ls 3 [(0, .ref h), (1, .int i), (2, .int wt)] := hl
  refine lv_iload_n hx hb dX3_out_2_0 rfl (lv_at hl 1 rfl) ?_
  refine lv_if_lt (tgt := 12) hx hb dX3_out_2_1 (by decide) (fun c1 => ?_) (fun c1 => ?_)
  · skip
    refine lv_ldc2 (v := (-1)) hx hb hown (hts _ q275) dX3_out_2_12 ?_
    exact W.lret (v := (-1)) hx hb hr (fun t ht hW => ⟨(-1), rfl, (by rw [sj_oun, if_pos (Or.inl c1)]), ht⟩) t_nil dX3_out_2_15
  · skip
    refine lv_iload_n hx hb dX3_out_2_4 rfl (lv_at hl 1 rfl) ?_
    refine lv_aload_n hx hb dX3_out_2_5 rfl (lv_at hl 0 rfl) ?_
    refine va_get (D := (dC, dI)) (ci := 3) (v := .int (nI O.length)) (C := RX3) (T := TX3) (N := 16) hx hb hts in_X3 hown hK hP 0 rfl rfl 7 (by decide) (hts _ q224) (fun _ h9 => h9) rfl dX3_out_2_6 ?_
    refine lv_icmp_lt (tgt := 16) hx hb dX3_out_2_9 (by decide) (fun c9 => ?_) (fun c9 => ?_)
    · skip
      obtain ⟨j, hj, rfl⟩ : ∃ j : Nat, j < O.length ∧ i = nI j := by
        rcases pk_ix i (n := O.length) (by omega) with h | h | h
        · exact absurd h c1
        · exact absurd h (Int32.not_le.mpr c9)
        · exact h
      obtain ⟨x, hx9⟩ := sj_at O hj
      obtain ⟨e1, e2, e3⟩ := hro j x hx9
      have hg : O.getD (nI j).toNatClampNeg (0, 0, 0) = x := by rw [nI_clamp (by omega), List.getD_eq_getElem?_getD, hx9]; rfl
      have hneg : ¬ (wt < 0 ∨ 2 < wt) → ¬ (nI j < 0 ∨ nI O.length ≤ nI j ∨ wt < 0 ∨ 2 < wt) := fun h0 h => h.elim c1 (fun h => h.elim (fun h => absurd h (Int32.not_le.mpr c9)) h0)
      refine lv_iload_n hx hb dX3_out_2_16 rfl (lv_at hl 2 rfl) ?_
      refine lv_if_ne (tgt := 29) hx hb dX3_out_2_17 (by decide) (fun c17 => ?_) (fun c17 => ?_)
      · skip
        refine lv_iload_n hx hb dX3_out_2_29 rfl (lv_at hl 2 rfl) ?_
        refine lv_iconst (v := 1) hx hb dX3_out_2_30 (by decide) ?_
        refine lv_icmp_ne (tgt := 43) hx hb dX3_out_2_31 (by decide) (fun c31 => ?_) (fun c31 => ?_)
        · skip
          refine lv_iload_n hx hb dX3_out_2_43 rfl (lv_at hl 2 rfl) ?_
          refine lv_iconst (v := 2) hx hb dX3_out_2_44 (by decide) ?_
          refine lv_icmp_ne (tgt := 58) hx hb dX3_out_2_45 (by decide) (fun c45 => ?_) (fun c45 => ?_)
          · skip
            refine lv_ldc2 (v := (-1)) hx hb hown (hts _ q275) dX3_out_2_58 ?_
            exact W.lret (v := (-1)) hx hb hr (fun t ht hW => ⟨(-1), rfl, (by rw [sj_oun, if_pos (Or.inr (Or.inr (sj_w012 c17 c31 c45)))]), ht⟩) t_nil dX3_out_2_61
          · skip
            refine lv_aload_n hx hb dX3_out_2_48 rfl (lv_at hl 0 rfl) ?_
            refine va_get (D := (dC, dI)) (ci := 3) (v := .ref yw) (C := RX3) (T := TX3) (N := 16) hx hb hts in_X3 hown hK hP 0 rfl rfl 15 (by decide) (hts _ q232) (fun _ h9 => h9) rfl dX3_out_2_49 ?_
            refine lv_iload_n hx hb dX3_out_2_52 rfl (lv_at hl 1 rfl) ?_
            refine sj_iald hx hb hK hP 3 1 rfl rfl j rfl (by omega) (by omega) dX3_out_2_53 ?_
            refine lv_i2l (v := (jw j).toInt64) hx hb dX3_out_2_54 rfl ?_
            refine lv_goto (tgt := 61) hx hb dX3_out_2_55 (by decide) ?_
            exact W.lret (v := (jw j).toInt64) hx hb hr (fun t ht hW => ⟨(jw j).toInt64, rfl, (by rw [sj_oun, if_neg (hneg (by rw [c45]; decide)), if_neg c17, if_neg c31, hg, e3]), ht⟩) t_nil dX3_out_2_61
        · skip
          refine lv_aload_n hx hb dX3_out_2_34 rfl (lv_at hl 0 rfl) ?_
          refine va_get (D := (dC, dI)) (ci := 3) (v := .ref yn) (C := RX3) (T := TX3) (N := 16) hx hb hts in_X3 hown hK hP 0 rfl rfl 14 (by decide) (hts _ q231) (fun _ h9 => h9) rfl dX3_out_2_35 ?_
          refine lv_iload_n hx hb dX3_out_2_38 rfl (lv_at hl 1 rfl) ?_
          refine sj_lald hx hb hK hP 2 0 rfl rfl j rfl (by omega) (by omega) dX3_out_2_39 ?_
          refine lv_goto (tgt := 61) hx hb dX3_out_2_40 (by decide) ?_
          exact W.lret (v := jn j) hx hb hr (fun t ht hW => ⟨jn j, rfl, (by rw [sj_oun, if_neg (hneg (by rw [c31]; decide)), if_neg c17, if_pos c31, hg, e2]), ht⟩) t_nil dX3_out_2_61
      · skip
        refine lv_aload_n hx hb dX3_out_2_20 rfl (lv_at hl 0 rfl) ?_
        refine va_get (D := (dC, dI)) (ci := 3) (v := .ref yk) (C := RX3) (T := TX3) (N := 16) hx hb hts in_X3 hown hK hP 0 rfl rfl 13 (by decide) (hts _ q230) (fun _ h9 => h9) rfl dX3_out_2_21 ?_
        refine lv_iload_n hx hb dX3_out_2_24 rfl (lv_at hl 1 rfl) ?_
        refine sj_lald hx hb hK hP 1 0 rfl rfl j rfl (by omega) (by omega) dX3_out_2_25 ?_
        refine lv_goto (tgt := 61) hx hb dX3_out_2_26 (by decide) ?_
        exact W.lret (v := jk j) hx hb hr (fun t ht hW => ⟨jk j, rfl, (by rw [sj_oun, if_neg (hneg (by rw [c17]; decide)), if_pos c17, hg, e1]), ht⟩) t_nil dX3_out_2_61
    · skip
      refine lv_ldc2 (v := (-1)) hx hb hown (hts _ q275) dX3_out_2_12 ?_
      exact W.lret (v := (-1)) hx hb hr (fun t ht hW => ⟨(-1), rfl, (by rw [sj_oun, if_pos (Or.inr (Or.inl (Int32.not_lt.mp c9)))]), ht⟩) t_nil dX3_out_2_15
theorem sj_ball {P : Nat → Prop} {q : Nat} (h : ∀ r, r < q → P r) (hq : P q) : ∀ r, r < q + 1 → P r := by
  intro r hr
  by_cases he : r = q
  · rw [he]
    exact hq
  · exact h r (by omega)
set_option maxHeartbeats 4000000 in
set_option maxRecDepth 100000 in
/-- model: keeps() -/
theorem metX3_keeps (l : Launch) (dC : Nat → ClassId) (dI : Nat → Nat → Nat) (dJ dN dZ : ClassId) (h xk xv xs xo yk yn yw n2 cnt : Nat) (way size grace life taken late mark : Int32) (gk : Nat → Int64) (gs go : Nat → Int32) (hcnt : cnt ≤ 3000) : Met l yX3_keeps (ws_ yX3_keeps cX3_keeps 5 (some .int)) ({ frames := 0, cells := 0, slots := 0, locals := 0 }) (sj_Pr (dC, dI) [(h, .inr (3, [.int way, .int size, .int grace, .int life, .int taken, .int late, .int mark, .int (nI n2), .ref xk, .ref xv, .ref xs, .ref xo, .int (nI cnt), .ref yk, .ref yn, .ref yw])), (xk, .inl (dJ, 3000, .inr (.inl gk))), (xs, .inl (dN, 3000, .inl gs)), (xo, .inl (dZ, 3000, .inl go))] (sj_t dJ dN dZ) [.ref h]) (vp_Si (fun r => r = nI (md_ps gk gs go cnt).length)) 0 0 (fun _ => False) := by
  refine Met.ofW (cc := cX3_keeps) (maxL := 5) (ret := (some .int)) (by decide) rfl ?_
  intro p e s m args below meth c s₁ B hml hv
  obtain ⟨rfl, hP, hK⟩ := hv
  have hx := B.exec
  have hb := B.bytes
  have hr := B.returns
  have hlocks := B.notSynchronized
  have hts := atoms_spec (ws := (ws_ yX3_keeps cX3_keeps 5 (some .int))) B.pre
  have hts : ∀ w ∈ lw_all, w.before _ s = true := fun w h => hts w (List.mem_cons_of_mem _ h)
  have hown : s.vm.findClass RX3 = some m.cls := findClass_of_methodNamed B.named
  have hP : va_P (dC, dI) vwCl [(h, .inr (3, [.int way, .int size, .int grace, .int life, .int taken, .int late, .int mark, .int (nI n2), .ref xk, .ref xv, .ref xs, .ref xo, .int (nI cnt), .ref yk, .ref yn, .ref yw])), (xk, .inl (dJ, 3000, .inr (.inl gk))), (xs, .inl (dN, 3000, .inl gs)), (xo, .inl (dZ, 3000, .inl go))] s.heap := hP
  have hl := lv_entry ([.ref h]) (n := 5) (Nat.le_of_ble_eq_true rfl)
  rw [lg_entry_eq]
  generalize (lg_sl ([.ref h]) ++ List.replicate (5 - (lg_sl ([.ref h])).length) Slot.unset).toArray = ls at hl ⊢
  have hl : lv_has ls 5 [(0, .ref h)] := hl
  have loop : ∀ (fu : Nat) (i k : Nat) (ls : Array Slot), (cnt - i < fu) → (i ≤ cnt) → (k = (md_ps gk gs go i).length) → lv_has ls 5 [(0, .ref h), (1, .int (nI k)), (2, .int (nI i))] → W p l e (headSpec (ws_ yX3_keeps cX3_keeps 5 (some .int)) ({ frames := 0, cells := 0, slots := 0, locals := 0 })).room s m ([.ref h] : List Value).toArray below meth c s.heap [] 0 0 (MQ below (vp_Si (fun r => r = nI (md_ps gk gs go cnt).length)) ([.ref h] : List Value).toArray s 0 0 (fun _ => False)) (F0 m 4 ls []) := by
    intro fu
    induction fu with
    | zero => intro i k ls h1; exact absurd h1 (by omega)
    | succ fu ih =>
      intro i k ls h1 h2 hk hl
      refine lv_iload_n hx hb dX3_keeps_4 rfl (lv_at hl 2 rfl) ?_
      refine lv_aload_n hx hb dX3_keeps_5 rfl (lv_at hl 0 rfl) ?_
      refine va_get (D := (dC, dI)) (ci := 3) (v := .int (nI cnt)) (C := RX3) (T := TX3) (N := 16) hx hb hts in_X3 hown hK hP 0 rfl rfl 12 (by decide) (hts _ q229) (fun _ h9 => h9) rfl dX3_keeps_6 ?_
      refine sj_nge (a := i) (b := cnt) (tgt := 108) hx hb dX3_keeps_9 (by decide) (by omega) (by omega) (fun c9 => ?_) (fun c9 => ?_)
      · skip
        refine lv_iload_n hx hb dX3_keeps_108 rfl (lv_at hl 1 rfl) ?_
        exact W.iret (v := nI k) hx hb hr (fun t ht hW => ⟨nI k, rfl, (by rw [hk, show i = cnt by omega]), ht⟩) t_nil dX3_keeps_109
      · skip
        have fin : ∀ (x3 : Int32) (ls : Array Slot), x3 = (if md_fp gk gs go i i then 1 else 0) → lv_has ls 5 [(0, .ref h), (1, .int (nI k)), (2, .int (nI i)), (3, .int x3)] → W p l e (headSpec (ws_ yX3_keeps cX3_keeps 5 (some .int)) ({ frames := 0, cells := 0, slots := 0, locals := 0 })).room s m ([.ref h] : List Value).toArray below meth c s.heap [] 0 0 (MQ below (vp_Si (fun r => r = nI (md_ps gk gs go cnt).length)) ([.ref h] : List Value).toArray s 0 0 (fun _ => False)) (F0 m 95 ls []) := by
          intro x3 ls hx3 hl
          refine lv_iload_n hx hb dX3_keeps_95 rfl (lv_at hl 3 rfl) ?_
          refine lv_if_eq (tgt := 102) hx hb dX3_keeps_96 (by decide) (fun c96 => ?_) (fun c96 => ?_)
          · skip
            have c96 := sj_i0 hx3 c96
            refine lv_iinc (v := nI (i + 1)) (lv' := [(2, .int (nI (i + 1))), (0, .ref h), (1, .int (nI k)), (3, .int x3)]) hx hb dX3_keeps_102 hl (k := 2) rfl (nI_1 _) (by decide) rfl (fun ls hl => ?_)
            refine lv_goto (tgt := 4) hx hb dX3_keeps_105 (by decide) ?_
            exact ih (i + 1) k ls (by omega) (by omega) (by rw [md_ps, if_neg c96]; exact hk) (lv_sub hl [1, 2, 0] rfl)
          · skip
            have c96 := sj_i1 hx3 c96
            refine lv_iinc (v := nI (k + 1)) (lv' := [(1, .int (nI (k + 1))), (0, .ref h), (2, .int (nI i)), (3, .int x3)]) hx hb dX3_keeps_99 hl (k := 1) rfl (nI_1 _) (by decide) rfl (fun ls hl => ?_)
            refine lv_iinc (v := nI (i + 1)) (lv' := [(2, .int (nI (i + 1))), (1, .int (nI (k + 1))), (0, .ref h), (3, .int x3)]) hx hb dX3_keeps_102 hl (k := 2) rfl (nI_1 _) (by decide) rfl (fun ls hl => ?_)
            refine lv_goto (tgt := 4) hx hb dX3_keeps_105 (by decide) ?_
            exact ih (i + 1) (k + 1) ls (by omega) (by omega) (by rw [md_ps, if_pos c96, hk]; simp) (lv_sub hl [2, 1, 0] rfl)
        have inner : ∀ (fv q : Nat) (x3 : Int32) (ls : Array Slot), i - q < fv → q ≤ i → x3 = (if md_fp gk gs go i q then 1 else 0) → lv_has ls 5 [(0, .ref h), (1, .int (nI k)), (2, .int (nI i)), (3, .int x3), (4, .int (nI q))] → W p l e (headSpec (ws_ yX3_keeps cX3_keeps 5 (some .int)) ({ frames := 0, cells := 0, slots := 0, locals := 0 })).room s m ([.ref h] : List Value).toArray below meth c s.heap [] 0 0 (MQ below (vp_Si (fun r => r = nI (md_ps gk gs go cnt).length)) ([.ref h] : List Value).toArray s 0 0 (fun _ => False)) (F0 m 30 ls []) := by
          intro fv
          induction fv with
          | zero => intro q x3 ls h1; exact absurd h1 (by omega)
          | succ fv jh =>
            intro q x3 ls g1 g2 hx3 hl
            refine lv_iload hx hb dX3_keeps_30 (lv_at hl 4 rfl) ?_
            refine lv_iload_n hx hb dX3_keeps_32 rfl (lv_at hl 2 rfl) ?_
            refine sj_nge (a := q) (b := i) (tgt := 95) hx hb dX3_keeps_33 (by decide) (by omega) (by omega) (fun c33 => ?_) (fun c33 => ?_)
            · skip
              exact fin x3 ls (by rw [hx3, show q = i by omega]) (lv_sub hl [0, 1, 2, 3] rfl)
            · skip
              refine lv_iload_n hx hb dX3_keeps_36 rfl (lv_at hl 3 rfl) ?_
              refine lv_if_eq (tgt := 95) hx hb dX3_keeps_37 (by decide) (fun c37 => ?_) (fun c37 => ?_)
              · skip
                have c37q := sj_i0 hx3 c37
                exact fin x3 ls (by rw [c37, if_neg (fun h => c37q ⟨h.1, fun r hr => h.2 r (by omega)⟩)]) (lv_sub hl [0, 1, 2, 3] rfl)
              · skip
                have c37 := sj_i1 hx3 c37
                refine lv_aload_n hx hb dX3_keeps_40 rfl (lv_at hl 0 rfl) ?_
                refine va_get (D := (dC, dI)) (ci := 3) (v := .ref xo) (C := RX3) (T := TX3) (N := 16) hx hb hts in_X3 hown hK hP 0 rfl rfl 11 (by decide) (hts _ q228) (fun _ h9 => h9) rfl dX3_keeps_41 ?_
                refine lv_iload hx hb dX3_keeps_44 (lv_at hl 4 rfl) ?_
                refine sj_zald hx hb hK hP 3 2 rfl rfl q rfl (by omega) (by omega) dX3_keeps_46 ?_
                refine lv_if_ne (tgt := 83) hx hb dX3_keeps_47 (by decide) (fun c47 => ?_) (fun c47 => ?_)
                · skip
                  refine lv_iconst (v := 1) hx hb dX3_keeps_83 (by decide) ?_
                  refine lv_goto (tgt := 88) hx hb dX3_keeps_84 (by decide) ?_
                  refine lv_istore_n (lv' := [(3, .int 1), (0, .ref h), (1, .int (nI k)), (2, .int (nI i)), (4, .int (nI q))]) hx hb dX3_keeps_88 rfl hl (by decide) rfl (fun ls hl => ?_)
                  refine lv_iinc (v := nI (q + 1)) (lv' := [(4, .int (nI (q + 1))), (3, .int 1), (0, .ref h), (1, .int (nI k)), (2, .int (nI i))]) hx hb dX3_keeps_89 hl (k := 4) rfl (nI_1 _) (by decide) rfl (fun ls hl => ?_)
                  refine lv_goto (tgt := 30) hx hb dX3_keeps_92 (by decide) ?_
                  exact jh (q + 1) 1 ls (by omega) (by omega) ((if_pos ⟨c37.1, sj_ball c37.2 (fun h => c47 h.1)⟩).symm) (lv_sub hl [2, 3, 4, 1, 0] rfl)
                · skip
                  refine lv_aload_n hx hb dX3_keeps_50 rfl (lv_at hl 0 rfl) ?_
                  refine va_get (D := (dC, dI)) (ci := 3) (v := .ref xk) (C := RX3) (T := TX3) (N := 16) hx hb hts in_X3 hown hK hP 0 rfl rfl 8 (by decide) (hts _ q225) (fun _ h9 => h9) rfl dX3_keeps_51 ?_
                  refine lv_iload hx hb dX3_keeps_54 (lv_at hl 4 rfl) ?_
                  refine sj_lald hx hb hK hP 1 0 rfl rfl q rfl (by omega) (by omega) dX3_keeps_56 ?_
                  refine lv_aload_n hx hb dX3_keeps_57 rfl (lv_at hl 0 rfl) ?_
                  refine va_get (D := (dC, dI)) (ci := 3) (v := .ref xk) (C := RX3) (T := TX3) (N := 16) hx hb hts in_X3 hown hK hP 0 rfl rfl 8 (by decide) (hts _ q225) (fun _ h9 => h9) rfl dX3_keeps_58 ?_
                  refine lv_iload_n hx hb dX3_keeps_61 rfl (lv_at hl 2 rfl) ?_
                  refine sj_lald hx hb hK hP 1 0 rfl rfl i rfl (by omega) (by omega) dX3_keeps_62 ?_
                  refine sj_lc_ne (tgt := 83) hx hb dX3_keeps_63 dX3_keeps_64 (by decide) (fun c63 => ?_) (fun c63 => ?_)
                  · skip
                    refine lv_iconst (v := 1) hx hb dX3_keeps_83 (by decide) ?_
                    refine lv_goto (tgt := 88) hx hb dX3_keeps_84 (by decide) ?_
                    refine lv_istore_n (lv' := [(3, .int 1), (0, .ref h), (1, .int (nI k)), (2, .int (nI i)), (4, .int (nI q))]) hx hb dX3_keeps_88 rfl hl (by decide) rfl (fun ls hl => ?_)
                    refine lv_iinc (v := nI (q + 1)) (lv' := [(4, .int (nI (q + 1))), (3, .int 1), (0, .ref h), (1, .int (nI k)), (2, .int (nI i))]) hx hb dX3_keeps_89 hl (k := 4) rfl (nI_1 _) (by decide) rfl (fun ls hl => ?_)
                    refine lv_goto (tgt := 30) hx hb dX3_keeps_92 (by decide) ?_
                    exact jh (q + 1) 1 ls (by omega) (by omega) ((if_pos ⟨c37.1, sj_ball c37.2 (fun h => c63 h.2.1)⟩).symm) (lv_sub hl [2, 3, 4, 1, 0] rfl)
                  · skip
                    refine lv_aload_n hx hb dX3_keeps_67 rfl (lv_at hl 0 rfl) ?_
                    refine va_get (D := (dC, dI)) (ci := 3) (v := .ref xs) (C := RX3) (T := TX3) (N := 16) hx hb hts in_X3 hown hK hP 0 rfl rfl 10 (by decide) (hts _ q227) (fun _ h9 => h9) rfl dX3_keeps_68 ?_
                    refine lv_iload hx hb dX3_keeps_71 (lv_at hl 4 rfl) ?_
                    refine sj_iald hx hb hK hP 2 1 rfl rfl q rfl (by omega) (by omega) dX3_keeps_73 ?_
                    refine lv_aload_n hx hb dX3_keeps_74 rfl (lv_at hl 0 rfl) ?_
                    refine va_get (D := (dC, dI)) (ci := 3) (v := .ref xs) (C := RX3) (T := TX3) (N := 16) hx hb hts in_X3 hown hK hP 0 rfl rfl 10 (by decide) (hts _ q227) (fun _ h9 => h9) rfl dX3_keeps_75 ?_
                    refine lv_iload_n hx hb dX3_keeps_78 rfl (lv_at hl 2 rfl) ?_
                    refine sj_iald hx hb hK hP 2 1 rfl rfl i rfl (by omega) (by omega) dX3_keeps_79 ?_
                    refine lv_icmp_eq (tgt := 87) hx hb dX3_keeps_80 (by decide) (fun c80 => ?_) (fun c80 => ?_)
                    · skip
                      refine lv_iconst (v := 0) hx hb dX3_keeps_87 (by decide) ?_
                      refine lv_istore_n (lv' := [(3, .int 0), (0, .ref h), (1, .int (nI k)), (2, .int (nI i)), (4, .int (nI q))]) hx hb dX3_keeps_88 rfl hl (by decide) rfl (fun ls hl => ?_)
                      refine lv_iinc (v := nI (q + 1)) (lv' := [(4, .int (nI (q + 1))), (3, .int 0), (0, .ref h), (1, .int (nI k)), (2, .int (nI i))]) hx hb dX3_keeps_89 hl (k := 4) rfl (nI_1 _) (by decide) rfl (fun ls hl => ?_)
                      refine lv_goto (tgt := 30) hx hb dX3_keeps_92 (by decide) ?_
                      exact jh (q + 1) 0 ls (by omega) (by omega) ((if_neg (fun h => h.2 q (by omega) ⟨c47, c63, c80⟩)).symm) (lv_sub hl [2, 3, 4, 1, 0] rfl)
                    · skip
                      refine lv_iconst (v := 1) hx hb dX3_keeps_83 (by decide) ?_
                      refine lv_goto (tgt := 88) hx hb dX3_keeps_84 (by decide) ?_
                      refine lv_istore_n (lv' := [(3, .int 1), (0, .ref h), (1, .int (nI k)), (2, .int (nI i)), (4, .int (nI q))]) hx hb dX3_keeps_88 rfl hl (by decide) rfl (fun ls hl => ?_)
                      refine lv_iinc (v := nI (q + 1)) (lv' := [(4, .int (nI (q + 1))), (3, .int 1), (0, .ref h), (1, .int (nI k)), (2, .int (nI i))]) hx hb dX3_keeps_89 hl (k := 4) rfl (nI_1 _) (by decide) rfl (fun ls hl => ?_)
                      refine lv_goto (tgt := 30) hx hb dX3_keeps_92 (by decide) ?_
                      exact jh (q + 1) 1 ls (by omega) (by omega) ((if_pos ⟨c37.1, sj_ball c37.2 (fun h => c80 h.2.2)⟩).symm) (lv_sub hl [2, 3, 4, 1, 0] rfl)
        refine lv_aload_n hx hb dX3_keeps_12 rfl (lv_at hl 0 rfl) ?_
        refine va_get (D := (dC, dI)) (ci := 3) (v := .ref xo) (C := RX3) (T := TX3) (N := 16) hx hb hts in_X3 hown hK hP 0 rfl rfl 11 (by decide) (hts _ q228) (fun _ h9 => h9) rfl dX3_keeps_13 ?_
        refine lv_iload_n hx hb dX3_keeps_16 rfl (lv_at hl 2 rfl) ?_
        refine sj_zald hx hb hK hP 3 2 rfl rfl i rfl (by omega) (by omega) dX3_keeps_17 ?_
        refine lv_if_ne (tgt := 25) hx hb dX3_keeps_18 (by decide) (fun c18 => ?_) (fun c18 => ?_)
        · skip
          refine lv_iconst (v := 0) hx hb dX3_keeps_25 (by decide) ?_
          refine lv_istore_n (lv' := [(3, .int 0), (0, .ref h), (1, .int (nI k)), (2, .int (nI i))]) hx hb dX3_keeps_26 rfl hl (by decide) rfl (fun ls hl => ?_)
          refine lv_iconst (v := nI 0) hx hb dX3_keeps_27 (by decide) ?_
          refine lv_istore (lv' := [(4, .int (nI 0)), (3, .int 0), (0, .ref h), (1, .int (nI k)), (2, .int (nI i))]) hx hb dX3_keeps_28 hl (by decide) rfl (fun ls hl => ?_)
          exact inner (i + 1) 0 0 ls (by omega) (Nat.zero_le _) (if_neg (fun h => c18 h.1)).symm (lv_sub hl [2, 3, 4, 1, 0] rfl)
        · skip
          refine lv_iconst (v := 1) hx hb dX3_keeps_21 (by decide) ?_
          refine lv_goto (tgt := 26) hx hb dX3_keeps_22 (by decide) ?_
          refine lv_istore_n (lv' := [(3, .int 1), (0, .ref h), (1, .int (nI k)), (2, .int (nI i))]) hx hb dX3_keeps_26 rfl hl (by decide) rfl (fun ls hl => ?_)
          refine lv_iconst (v := nI 0) hx hb dX3_keeps_27 (by decide) ?_
          refine lv_istore (lv' := [(4, .int (nI 0)), (3, .int 1), (0, .ref h), (1, .int (nI k)), (2, .int (nI i))]) hx hb dX3_keeps_28 hl (by decide) rfl (fun ls hl => ?_)
          exact inner (i + 1) 0 1 ls (by omega) (Nat.zero_le _) (if_pos ⟨c18, lt_0⟩).symm (lv_sub hl [2, 3, 4, 1, 0] rfl)
  refine lv_iconst (v := nI 0) hx hb dX3_keeps_0 (by decide) ?_
  refine lv_istore_n (lv' := [(1, .int (nI 0)), (0, .ref h)]) hx hb dX3_keeps_1 rfl hl (by decide) rfl (fun ls hl => ?_)
  refine lv_iconst (v := nI 0) hx hb dX3_keeps_2 (by decide) ?_
  refine lv_istore_n (lv' := [(2, .int (nI 0)), (1, .int (nI 0)), (0, .ref h)]) hx hb dX3_keeps_3 rfl hl (by decide) rfl (fun ls hl => ?_)
  exact loop (cnt + 1) 0 0 ls (by omega) (Nat.zero_le _) rfl (lv_sub hl [2, 1, 0] rfl)
end
section
/-! MODEL: constructor, out(first) -/
set_option maxRecDepth 100000
set_option maxHeartbeats 4000000 in
set_option maxRecDepth 100000 in
/-- SpanJobsModel(): seven arrays of 3000 -/
theorem metX3_init (l : Launch) (dC : Nat → ClassId) (dI : Nat → Nat → Nat) (dJ dN dZ : ClassId) (sz : Nat) (h : Nat) : Met l yX3_init (ws_ yX3_init cX3_init 1 none) ({ frames := 1, cells := 7, slots := 21000, locals := 12 }) (sj_Pw (dC, dI) [(h, .inr (3, [.int 0, .int 0, .int 0, .int 0, .int 0, .int 0, .int 0, .int 0, .null, .null, .null, .null, .int 0, .null, .null, .null]))] (sj_t dJ dN dZ) sz [.ref h]) (va_Qv (fun u : Nat × Nat × Nat × Nat × Nat × Nat × Nat => True) (sj_B (dC, dI) (va_A [(h, .inr (3, [.int 0, .int 0, .int 0, .int 0, .int 0, .int 0, .int 0, .int 0, .null, .null, .null, .null, .int 0, .null, .null, .null]))] sz) (fun u : Nat × Nat × Nat × Nat × Nat × Nat × Nat => [(h, .inr (3, [.int 0, .int 1, .int 0, .int 0, .int 0, .int 0, .int (-1), .int (nI 0), .ref u.1, .ref u.2.1, .ref u.2.2.1, .ref u.2.2.2.1, .int (nI 0), .ref u.2.2.2.2.1, .ref u.2.2.2.2.2.1, .ref u.2.2.2.2.2.2])), (u.1, .inl (dJ, 3000, .inr (.inl (fun _ => 0)))), (u.2.1, .inl (dJ, 3000, .inr (.inl (fun _ => 0)))), (u.2.2.1, .inl (dN, 3000, .inl (fun _ => 0))), (u.2.2.2.1, .inl (dZ, 3000, .inl (fun _ => 0))), (u.2.2.2.2.1, .inl (dJ, 3000, .inr (.inl (fun _ => 0)))), (u.2.2.2.2.2.1, .inl (dJ, 3000, .inr (.inl (fun _ => 0)))), (u.2.2.2.2.2.2, .inl (dN, 3000, .inl (fun _ => 0)))])) (va_A [(h, .inr (3, [.int 0, .int 0, .int 0, .int 0, .int 0, .int 0, .int 0, .int 0, .null, .null, .null, .null, .int 0, .null, .null, .null]))] sz)) 7 21000 (va_A [(h, .inr (3, [.int 0, .int 0, .int 0, .int 0, .int 0, .int 0, .int 0, .int 0, .null, .null, .null, .null, .int 0, .null, .null, .null]))] sz) := by
  refine Met.ofW (cc := cX3_init) (maxL := 1) (ret := none) (by decide) rfl ?_
  intro p e s m args below meth c s₁ B hml hv
  obtain ⟨rfl, hsz, hP, hK, hD0⟩ := hv
  have hx := B.exec
  have hb := B.bytes
  have hr := B.returns
  have hlocks := B.notSynchronized
  have hts := atoms_spec (ws := (ws_ yX3_init cX3_init 1 none)) B.pre
  have hts : ∀ w ∈ lw_all, w.before _ s = true := fun w h => hts w (List.mem_cons_of_mem _ h)
  have hown : s.vm.findClass RX3 = some m.cls := findClass_of_methodNamed B.named
  have hin : meth.name = "<init>" := (name_of_methodNamed B.named B.method).1
  subst hsz
  have hD := hD0.self (sz := s.heap.size)
  generalize hAe : va_A [(h, .inr (3, [.int 0, .int 0, .int 0, .int 0, .int 0, .int 0, .int 0, .int 0, .null, .null, .null, .null, .int 0, .null, .null, .null]))] s.heap.size = A at hD ⊢
  have hA : ∀ q : Nat, s.heap.size ≤ q → A q := fun q h => by rw [← hAe]; exact Or.inr h
  have hS : va_S A s.heap s.heap [] := va_S.rf
  have hP : va_P (dC, dI) vwCl [(h, .inr (3, [.int 0, .int 0, .int 0, .int 0, .int 0, .int 0, .int 0, .int 0, .null, .null, .null, .null, .int 0, .null, .null, .null]))] s.heap := hP
  have hl := lv_entry ([.ref h]) (n := 1) (Nat.le_of_ble_eq_true rfl)
  rw [lg_entry_eq]
  generalize (lg_sl ([.ref h]) ++ List.replicate (1 - (lg_sl ([.ref h])).length) Slot.unset).toArray = ls at hl ⊢
  have hl : lv_has ls 1 [(0, .ref h)] := hl
  refine lv_aload_n hx hb dX3_init_0 rfl (lv_at hl 0 rfl) ?_
  refine W.objInit hx hb hown (hts _ q216) (hts _ q22) (hts _ q23) rfl (by rw [hml]; exact hl.1) rfl dX3_init_1 (Nat.le_of_ble_eq_true rfl) (Nat.le_of_ble_eq_true rfl) ?_
  refine W.eq (g2 := F0 m 4 ls []) rfl ?_
  refine lv_aload_n hx hb dX3_init_4 rfl (lv_at hl 0 rfl) ?_
  refine lv_iconst (v := 1) hx hb dX3_init_5 (by decide) ?_
  refine va_put (D := (dC, dI)) (ci := 3) (v := .int 1) (ty := .int) (C := RX3) (T := TX3) (N := 16) hx hb hts in_X3 tyX3 tyX3_ok nmX3 hown hK hP hD hS 0 rfl rfl 1 (by decide) (hts _ q218) (fun _ h9 => h9) rfl (by decide +kernel) rfl rfl (Nat.le_of_ble_eq_true rfl) dX3_init_6 (fun H locs hP hD hS => ?_)
  have hP : va_P (dC, dI) vwCl [(h, .inr (3, [.int 0, .int 1, .int 0, .int 0, .int 0, .int 0, .int 0, .int 0, .null, .null, .null, .null, .int 0, .null, .null, .null]))] H := hP
  have hD : va_D A [(h, .inr (3, [.int 0, .int 1, .int 0, .int 0, .int 0, .int 0, .int 0, .int 0, .null, .null, .null, .null, .int 0, .null, .null, .null]))] := hD
  refine lv_aload_n hx hb dX3_init_9 rfl (lv_at hl 0 rfl) ?_
  refine lv_iconst (v := (-1)) hx hb dX3_init_10 (by decide) ?_
  refine va_put (D := (dC, dI)) (ci := 3) (v := .int (-1)) (ty := .int) (C := RX3) (T := TX3) (N := 16) hx hb hts in_X3 tyX3 tyX3_ok nmX3 hown hK hP hD hS 0 rfl rfl 6 (by decide) (hts _ q223) (fun _ h9 => h9) rfl (by decide +kernel) rfl rfl (Nat.le_of_ble_eq_true rfl) dX3_init_11 (fun H locs hP hD hS => ?_)
  have hP : va_P (dC, dI) vwCl [(h, .inr (3, [.int 0, .int 1, .int 0, .int 0, .int 0, .int 0, .int (-1), .int 0, .null, .null, .null, .null, .int 0, .null, .null, .null]))] H := hP
  have hD : va_D A [(h, .inr (3, [.int 0, .int 1, .int 0, .int 0, .int 0, .int 0, .int (-1), .int 0, .null, .null, .null, .null, .int 0, .null, .null, .null]))] := hD
  refine lv_aload_n hx hb dX3_init_14 rfl (lv_at hl 0 rfl) ?_
  refine lv_sipush (v := 3000) hx hb dX3_init_15 (by decide) ?_
  refine sj_newa (atype := .long) hx hb (hts _ q44) rfl hK hP hD hS hA 0 rfl (fun _ _ => rfl) (a0 := (3000, .inr (.inl (fun _ => 0)))) (fun _ => rfl) (by decide) (by decide) (by decide) (Nat.le_of_ble_eq_true rfl) (Nat.le_of_ble_eq_true rfl) dX3_init_18 (fun a1 H hP hD hS => ?_)
  have hP : va_P (dC, dI) vwCl [(h, .inr (3, [.int 0, .int 1, .int 0, .int 0, .int 0, .int 0, .int (-1), .int 0, .null, .null, .null, .null, .int 0, .null, .null, .null])), (a1, .inl (dJ, 3000, .inr (.inl (fun _ => 0))))] H := hP
  have hD : va_D A [(h, .inr (3, [.int 0, .int 1, .int 0, .int 0, .int 0, .int 0, .int (-1), .int 0, .null, .null, .null, .null, .int 0, .null, .null, .null])), (a1, .inl (dJ, 3000, .inr (.inl (fun _ => 0))))] := hD
  refine W.widen (k := 1) (n := 3000) (Nat.le_of_ble_eq_true rfl) (Nat.le_of_ble_eq_true rfl) ?_
  refine va_putF (D := (dC, dI)) (ci := 3) (v := .ref a1) (ty := .array .long) (C := RX3) (T := TX3) (N := 16) hx hb hts in_X3 tyX3 tyX3_ok nmX3 hown hK hP hD hS 0 rfl rfl 8 (by decide) (hts _ q225) (fun _ h9 => h9) rfl hin rfl (by decide +kernel) rfl rfl (Nat.le_of_ble_eq_true rfl) dX3_init_20 (fun H locs hP hD hS => ?_)
  have hP : va_P (dC, dI) vwCl [(h, .inr (3, [.int 0, .int 1, .int 0, .int 0, .int 0, .int 0, .int (-1), .int 0, .ref a1, .null, .null, .null, .int 0, .null, .null, .null])), (a1, .inl (dJ, 3000, .inr (.inl (fun _ => 0))))] H := hP
  have hD : va_D A [(h, .inr (3, [.int 0, .int 1, .int 0, .int 0, .int 0, .int 0, .int (-1), .int 0, .ref a1, .null, .null, .null, .int 0, .null, .null, .null])), (a1, .inl (dJ, 3000, .inr (.inl (fun _ => 0))))] := hD
  refine lv_aload_n hx hb dX3_init_23 rfl (lv_at hl 0 rfl) ?_
  refine lv_sipush (v := 3000) hx hb dX3_init_24 (by decide) ?_
  refine sj_newa (atype := .long) hx hb (hts _ q44) rfl hK hP hD hS hA 0 rfl (fun _ _ => rfl) (a0 := (3000, .inr (.inl (fun _ => 0)))) (fun _ => rfl) (by decide) (by decide) (by decide) (Nat.le_of_ble_eq_true rfl) (Nat.le_of_ble_eq_true rfl) dX3_init_27 (fun a2 H hP hD hS => ?_)
  have hP : va_P (dC, dI) vwCl [(h, .inr (3, [.int 0, .int 1, .int 0, .int 0, .int 0, .int 0, .int (-1), .int 0, .ref a1, .null, .null, .null, .int 0, .null, .null, .null])), (a1, .inl (dJ, 3000, .inr (.inl (fun _ => 0)))), (a2, .inl (dJ, 3000, .inr (.inl (fun _ => 0))))] H := hP
  have hD : va_D A [(h, .inr (3, [.int 0, .int 1, .int 0, .int 0, .int 0, .int 0, .int (-1), .int 0, .ref a1, .null, .null, .null, .int 0, .null, .null, .null])), (a1, .inl (dJ, 3000, .inr (.inl (fun _ => 0)))), (a2, .inl (dJ, 3000, .inr (.inl (fun _ => 0))))] := hD
  refine W.widen (k := 2) (n := 6000) (Nat.le_of_ble_eq_true rfl) (Nat.le_of_ble_eq_true rfl) ?_
  refine va_putF (D := (dC, dI)) (ci := 3) (v := .ref a2) (ty := .array .long) (C := RX3) (T := TX3) (N := 16) hx hb hts in_X3 tyX3 tyX3_ok nmX3 hown hK hP hD hS 0 rfl rfl 9 (by decide) (hts _ q226) (fun _ h9 => h9) rfl hin rfl (by decide +kernel) rfl rfl (Nat.le_of_ble_eq_true rfl) dX3_init_29 (fun H locs hP hD hS => ?_)
  have hP : va_P (dC, dI) vwCl [(h, .inr (3, [.int 0, .int 1, .int 0, .int 0, .int 0, .int 0, .int (-1), .int 0, .ref a1, .ref a2, .null, .null, .int 0, .null, .null, .null])), (a1, .inl (dJ, 3000, .inr (.inl (fun _ => 0)))), (a2, .inl (dJ, 3000, .inr (.inl (fun _ => 0))))] H := hP
  have hD : va_D A [(h, .inr (3, [.int 0, .int 1, .int 0, .int 0, .int 0, .int 0, .int (-1), .int 0, .ref a1, .ref a2, .null, .null, .int 0, .null, .null, .null])), (a1, .inl (dJ, 3000, .inr (.inl (fun _ => 0)))), (a2, .inl (dJ, 3000, .inr (.inl (fun _ => 0))))] := hD
  refine lv_aload_n hx hb dX3_init_32 rfl (lv_at hl 0 rfl) ?_
  refine lv_sipush (v := 3000) hx hb dX3_init_33 (by decide) ?_
  refine sj_newa (atype := .int) hx hb (hts _ q45) rfl hK hP hD hS hA 1 rfl (fun _ _ => rfl) (a0 := (3000, .inl (fun _ => 0))) (fun _ => rfl) (by decide) (by decide) (by decide) (Nat.le_of_ble_eq_true rfl) (Nat.le_of_ble_eq_true rfl) dX3_init_36 (fun a3 H hP hD hS => ?_)
  have hP : va_P (dC, dI) vwCl [(h, .inr (3, [.int 0, .int 1, .int 0, .int 0, .int 0, .int 0, .int (-1), .int 0, .ref a1, .ref a2, .null, .null, .int 0, .null, .null, .null])), (a1, .inl (dJ, 3000, .inr (.inl (fun _ => 0)))), (a2, .inl (dJ, 3000, .inr (.inl (fun _ => 0)))), (a3, .inl (dN, 3000, .inl (fun _ => 0)))] H := hP
  have hD : va_D A [(h, .inr (3, [.int 0, .int 1, .int 0, .int 0, .int 0, .int 0, .int (-1), .int 0, .ref a1, .ref a2, .null, .null, .int 0, .null, .null, .null])), (a1, .inl (dJ, 3000, .inr (.inl (fun _ => 0)))), (a2, .inl (dJ, 3000, .inr (.inl (fun _ => 0)))), (a3, .inl (dN, 3000, .inl (fun _ => 0)))] := hD
  refine W.widen (k := 3) (n := 9000) (Nat.le_of_ble_eq_true rfl) (Nat.le_of_ble_eq_true rfl) ?_
  refine va_putF (D := (dC, dI)) (ci := 3) (v := .ref a3) (ty := .array .int) (C := RX3) (T := TX3) (N := 16) hx hb hts in_X3 tyX3 tyX3_ok nmX3 hown hK hP hD hS 0 rfl rfl 10 (by decide) (hts _ q227) (fun _ h9 => h9) rfl hin rfl (by decide +kernel) rfl rfl (Nat.le_of_ble_eq_true rfl) dX3_init_38 (fun H locs hP hD hS => ?_)
  have hP : va_P (dC, dI) vwCl [(h, .inr (3, [.int 0, .int 1, .int 0, .int 0, .int 0, .int 0, .int (-1), .int 0, .ref a1, .ref a2, .ref a3, .null, .int 0, .null, .null, .null])), (a1, .inl (dJ, 3000, .inr (.inl (fun _ => 0)))), (a2, .inl (dJ, 3000, .inr (.inl (fun _ => 0)))), (a3, .inl (dN, 3000, .inl (fun _ => 0)))] H := hP
  have hD : va_D A [(h, .inr (3, [.int 0, .int 1, .int 0, .int 0, .int 0, .int 0, .int (-1), .int 0, .ref a1, .ref a2, .ref a3, .null, .int 0, .null, .null, .null])), (a1, .inl (dJ, 3000, .inr (.inl (fun _ => 0)))), (a2, .inl (dJ, 3000, .inr (.inl (fun _ => 0)))), (a3, .inl (dN, 3000, .inl (fun _ => 0)))] := hD
  refine lv_aload_n hx hb dX3_init_41 rfl (lv_at hl 0 rfl) ?_
  refine lv_sipush (v := 3000) hx hb dX3_init_42 (by decide) ?_
  refine sj_newa (atype := .boolean) hx hb (hts _ q266) rfl hK hP hD hS hA 2 rfl (fun _ _ => rfl) (a0 := (3000, .inl (fun _ => 0))) (fun _ => rfl) (by decide) (by decide) (by decide) (Nat.le_of_ble_eq_true rfl) (Nat.le_of_ble_eq_true rfl) dX3_init_45 (fun a4 H hP hD hS => ?_)
  have hP : va_P (dC, dI) vwCl [(h, .inr (3, [.int 0, .int 1, .int 0, .int 0, .int 0, .int 0, .int (-1), .int 0, .ref a1, .ref a2, .ref a3, .null, .int 0, .null, .null, .null])), (a1, .inl (dJ, 3000, .inr (.inl (fun _ => 0)))), (a2, .inl (dJ, 3000, .inr (.inl (fun _ => 0)))), (a3, .inl (dN, 3000, .inl (fun _ => 0))), (a4, .inl (dZ, 3000, .inl (fun _ => 0)))] H := hP
  have hD : va_D A [(h, .inr (3, [.int 0, .int 1, .int 0, .int 0, .int 0, .int 0, .int (-1), .int 0, .ref a1, .ref a2, .ref a3, .null, .int 0, .null, .null, .null])), (a1, .inl (dJ, 3000, .inr (.inl (fun _ => 0)))), (a2, .inl (dJ, 3000, .inr (.inl (fun _ => 0)))), (a3, .inl (dN, 3000, .inl (fun _ => 0))), (a4, .inl (dZ, 3000, .inl (fun _ => 0)))] := hD
  refine W.widen (k := 4) (n := 12000) (Nat.le_of_ble_eq_true rfl) (Nat.le_of_ble_eq_true rfl) ?_
  refine va_putF (D := (dC, dI)) (ci := 3) (v := .ref a4) (ty := .array .boolean) (C := RX3) (T := TX3) (N := 16) hx hb hts in_X3 tyX3 tyX3_ok nmX3 hown hK hP hD hS 0 rfl rfl 11 (by decide) (hts _ q228) (fun _ h9 => h9) rfl hin rfl (by decide +kernel) rfl rfl (Nat.le_of_ble_eq_true rfl) dX3_init_47 (fun H locs hP hD hS => ?_)
  have hP : va_P (dC, dI) vwCl [(h, .inr (3, [.int 0, .int 1, .int 0, .int 0, .int 0, .int 0, .int (-1), .int 0, .ref a1, .ref a2, .ref a3, .ref a4, .int 0, .null, .null, .null])), (a1, .inl (dJ, 3000, .inr (.inl (fun _ => 0)))), (a2, .inl (dJ, 3000, .inr (.inl (fun _ => 0)))), (a3, .inl (dN, 3000, .inl (fun _ => 0))), (a4, .inl (dZ, 3000, .inl (fun _ => 0)))] H := hP
  have hD : va_D A [(h, .inr (3, [.int 0, .int 1, .int 0, .int 0, .int 0, .int 0, .int (-1), .int 0, .ref a1, .ref a2, .ref a3, .ref a4, .int 0, .null, .null, .null])), (a1, .inl (dJ, 3000, .inr (.inl (fun _ => 0)))), (a2, .inl (dJ, 3000, .inr (.inl (fun _ => 0)))), (a3, .inl (dN, 3000, .inl (fun _ => 0))), (a4, .inl (dZ, 3000, .inl (fun _ => 0)))] := hD
  refine lv_aload_n hx hb dX3_init_50 rfl (lv_at hl 0 rfl) ?_
  refine lv_sipush (v := 3000) hx hb dX3_init_51 (by decide) ?_
  refine sj_newa (atype := .long) hx hb (hts _ q44) rfl hK hP hD hS hA 0 rfl (fun _ _ => rfl) (a0 := (3000, .inr (.inl (fun _ => 0)))) (fun _ => rfl) (by decide) (by decide) (by decide) (Nat.le_of_ble_eq_true rfl) (Nat.le_of_ble_eq_true rfl) dX3_init_54 (fun a5 H hP hD hS => ?_)
  have hP : va_P (dC, dI) vwCl [(h, .inr (3, [.int 0, .int 1, .int 0, .int 0, .int 0, .int 0, .int (-1), .int 0, .ref a1, .ref a2, .ref a3, .ref a4, .int 0, .null, .null, .null])), (a1, .inl (dJ, 3000, .inr (.inl (fun _ => 0)))), (a2, .inl (dJ, 3000, .inr (.inl (fun _ => 0)))), (a3, .inl (dN, 3000, .inl (fun _ => 0))), (a4, .inl (dZ, 3000, .inl (fun _ => 0))), (a5, .inl (dJ, 3000, .inr (.inl (fun _ => 0))))] H := hP
  have hD : va_D A [(h, .inr (3, [.int 0, .int 1, .int 0, .int 0, .int 0, .int 0, .int (-1), .int 0, .ref a1, .ref a2, .ref a3, .ref a4, .int 0, .null, .null, .null])), (a1, .inl (dJ, 3000, .inr (.inl (fun _ => 0)))), (a2, .inl (dJ, 3000, .inr (.inl (fun _ => 0)))), (a3, .inl (dN, 3000, .inl (fun _ => 0))), (a4, .inl (dZ, 3000, .inl (fun _ => 0))), (a5, .inl (dJ, 3000, .inr (.inl (fun _ => 0))))] := hD
  refine W.widen (k := 5) (n := 15000) (Nat.le_of_ble_eq_true rfl) (Nat.le_of_ble_eq_true rfl) ?_
  refine va_putF (D := (dC, dI)) (ci := 3) (v := .ref a5) (ty := .array .long) (C := RX3) (T := TX3) (N := 16) hx hb hts in_X3 tyX3 tyX3_ok nmX3 hown hK hP hD hS 0 rfl rfl 13 (by decide) (hts _ q230) (fun _ h9 => h9) rfl hin rfl (by decide +kernel) rfl rfl (Nat.le_of_ble_eq_true rfl) dX3_init_56 (fun H locs hP hD hS => ?_)
  have hP : va_P (dC, dI) vwCl [(h, .inr (3, [.int 0, .int 1, .int 0, .int 0, .int 0, .int 0, .int (-1), .int 0, .ref a1, .ref a2, .ref a3, .ref a4, .int 0, .ref a5, .null, .null])), (a1, .inl (dJ, 3000, .inr (.inl (fun _ => 0)))), (a2, .inl (dJ, 3000, .inr (.inl (fun _ => 0)))), (a3, .inl (dN, 3000, .inl (fun _ => 0))), (a4, .inl (dZ, 3000, .inl (fun _ => 0))), (a5, .inl (dJ, 3000, .inr (.inl (fun _ => 0))))] H := hP
  have hD : va_D A [(h, .inr (3, [.int 0, .int 1, .int 0, .int 0, .int 0, .int 0, .int (-1), .int 0, .ref a1, .ref a2, .ref a3, .ref a4, .int 0, .ref a5, .null, .null])), (a1, .inl (dJ, 3000, .inr (.inl (fun _ => 0)))), (a2, .inl (dJ, 3000, .inr (.inl (fun _ => 0)))), (a3, .inl (dN, 3000, .inl (fun _ => 0))), (a4, .inl (dZ, 3000, .inl (fun _ => 0))), (a5, .inl (dJ, 3000, .inr (.inl (fun _ => 0))))] := hD
  refine lv_aload_n hx hb dX3_init_59 rfl (lv_at hl 0 rfl) ?_
  refine lv_sipush (v := 3000) hx hb dX3_init_60 (by decide) ?_
  refine sj_newa (atype := .long) hx hb (hts _ q44) rfl hK hP hD hS hA 0 rfl (fun _ _ => rfl) (a0 := (3000, .inr (.inl (fun _ => 0)))) (fun _ => rfl) (by decide) (by decide) (by decide) (Nat.le_of_ble_eq_true rfl) (Nat.le_of_ble_eq_true rfl) dX3_init_63 (fun a6 H hP hD hS => ?_)
  have hP : va_P (dC, dI) vwCl [(h, .inr (3, [.int 0, .int 1, .int 0, .int 0, .int 0, .int 0, .int (-1), .int 0, .ref a1, .ref a2, .ref a3, .ref a4, .int 0, .ref a5, .null, .null])), (a1, .inl (dJ, 3000, .inr (.inl (fun _ => 0)))), (a2, .inl (dJ, 3000, .inr (.inl (fun _ => 0)))), (a3, .inl (dN, 3000, .inl (fun _ => 0))), (a4, .inl (dZ, 3000, .inl (fun _ => 0))), (a5, .inl (dJ, 3000, .inr (.inl (fun _ => 0)))), (a6, .inl (dJ, 3000, .inr (.inl (fun _ => 0))))] H := hP
  have hD : va_D A [(h, .inr (3, [.int 0, .int 1, .int 0, .int 0, .int 0, .int 0, .int (-1), .int 0, .ref a1, .ref a2, .ref a3, .ref a4, .int 0, .ref a5, .null, .null])), (a1, .inl (dJ, 3000, .inr (.inl (fun _ => 0)))), (a2, .inl (dJ, 3000, .inr (.inl (fun _ => 0)))), (a3, .inl (dN, 3000, .inl (fun _ => 0))), (a4, .inl (dZ, 3000, .inl (fun _ => 0))), (a5, .inl (dJ, 3000, .inr (.inl (fun _ => 0)))), (a6, .inl (dJ, 3000, .inr (.inl (fun _ => 0))))] := hD
  refine W.widen (k := 6) (n := 18000) (Nat.le_of_ble_eq_true rfl) (Nat.le_of_ble_eq_true rfl) ?_
  refine va_putF (D := (dC, dI)) (ci := 3) (v := .ref a6) (ty := .array .long) (C := RX3) (T := TX3) (N := 16) hx hb hts in_X3 tyX3 tyX3_ok nmX3 hown hK hP hD hS 0 rfl rfl 14 (by decide) (hts _ q231) (fun _ h9 => h9) rfl hin rfl (by decide +kernel) rfl rfl (Nat.le_of_ble_eq_true rfl) dX3_init_65 (fun H locs hP hD hS => ?_)
  have hP : va_P (dC, dI) vwCl [(h, .inr (3, [.int 0, .int 1, .int 0, .int 0, .int 0, .int 0, .int (-1), .int 0, .ref a1, .ref a2, .ref a3, .ref a4, .int 0, .ref a5, .ref a6, .null])), (a1, .inl (dJ, 3000, .inr (.inl (fun _ => 0)))), (a2, .inl (dJ, 3000, .inr (.inl (fun _ => 0)))), (a3, .inl (dN, 3000, .inl (fun _ => 0))), (a4, .inl (dZ, 3000, .inl (fun _ => 0))), (a5, .inl (dJ, 3000, .inr (.inl (fun _ => 0)))), (a6, .inl (dJ, 3000, .inr (.inl (fun _ => 0))))] H := hP
  have hD : va_D A [(h, .inr (3, [.int 0, .int 1, .int 0, .int 0, .int 0, .int 0, .int (-1), .int 0, .ref a1, .ref a2, .ref a3, .ref a4, .int 0, .ref a5, .ref a6, .null])), (a1, .inl (dJ, 3000, .inr (.inl (fun _ => 0)))), (a2, .inl (dJ, 3000, .inr (.inl (fun _ => 0)))), (a3, .inl (dN, 3000, .inl (fun _ => 0))), (a4, .inl (dZ, 3000, .inl (fun _ => 0))), (a5, .inl (dJ, 3000, .inr (.inl (fun _ => 0)))), (a6, .inl (dJ, 3000, .inr (.inl (fun _ => 0))))] := hD
  refine lv_aload_n hx hb dX3_init_68 rfl (lv_at hl 0 rfl) ?_
  refine lv_sipush (v := 3000) hx hb dX3_init_69 (by decide) ?_
  refine sj_newa (atype := .int) hx hb (hts _ q45) rfl hK hP hD hS hA 1 rfl (fun _ _ => rfl) (a0 := (3000, .inl (fun _ => 0))) (fun _ => rfl) (by decide) (by decide) (by decide) (Nat.le_of_ble_eq_true rfl) (Nat.le_of_ble_eq_true rfl) dX3_init_72 (fun a7 H hP hD hS => ?_)
  have hP : va_P (dC, dI) vwCl [(h, .inr (3, [.int 0, .int 1, .int 0, .int 0, .int 0, .int 0, .int (-1), .int 0, .ref a1, .ref a2, .ref a3, .ref a4, .int 0, .ref a5, .ref a6, .null])), (a1, .inl (dJ, 3000, .inr (.inl (fun _ => 0)))), (a2, .inl (dJ, 3000, .inr (.inl (fun _ => 0)))), (a3, .inl (dN, 3000, .inl (fun _ => 0))), (a4, .inl (dZ, 3000, .inl (fun _ => 0))), (a5, .inl (dJ, 3000, .inr (.inl (fun _ => 0)))), (a6, .inl (dJ, 3000, .inr (.inl (fun _ => 0)))), (a7, .inl (dN, 3000, .inl (fun _ => 0)))] H := hP
  have hD : va_D A [(h, .inr (3, [.int 0, .int 1, .int 0, .int 0, .int 0, .int 0, .int (-1), .int 0, .ref a1, .ref a2, .ref a3, .ref a4, .int 0, .ref a5, .ref a6, .null])), (a1, .inl (dJ, 3000, .inr (.inl (fun _ => 0)))), (a2, .inl (dJ, 3000, .inr (.inl (fun _ => 0)))), (a3, .inl (dN, 3000, .inl (fun _ => 0))), (a4, .inl (dZ, 3000, .inl (fun _ => 0))), (a5, .inl (dJ, 3000, .inr (.inl (fun _ => 0)))), (a6, .inl (dJ, 3000, .inr (.inl (fun _ => 0)))), (a7, .inl (dN, 3000, .inl (fun _ => 0)))] := hD
  refine W.widen (k := 7) (n := 21000) (Nat.le_of_ble_eq_true rfl) (Nat.le_of_ble_eq_true rfl) ?_
  refine va_putF (D := (dC, dI)) (ci := 3) (v := .ref a7) (ty := .array .int) (C := RX3) (T := TX3) (N := 16) hx hb hts in_X3 tyX3 tyX3_ok nmX3 hown hK hP hD hS 0 rfl rfl 15 (by decide) (hts _ q232) (fun _ h9 => h9) rfl hin rfl (by decide +kernel) rfl rfl (Nat.le_of_ble_eq_true rfl) dX3_init_74 (fun H locs hP hD hS => ?_)
  have hP : va_P (dC, dI) vwCl [(h, .inr (3, [.int 0, .int 1, .int 0, .int 0, .int 0, .int 0, .int (-1), .int 0, .ref a1, .ref a2, .ref a3, .ref a4, .int 0, .ref a5, .ref a6, .ref a7])), (a1, .inl (dJ, 3000, .inr (.inl (fun _ => 0)))), (a2, .inl (dJ, 3000, .inr (.inl (fun _ => 0)))), (a3, .inl (dN, 3000, .inl (fun _ => 0))), (a4, .inl (dZ, 3000, .inl (fun _ => 0))), (a5, .inl (dJ, 3000, .inr (.inl (fun _ => 0)))), (a6, .inl (dJ, 3000, .inr (.inl (fun _ => 0)))), (a7, .inl (dN, 3000, .inl (fun _ => 0)))] H := hP
  have hD : va_D A [(h, .inr (3, [.int 0, .int 1, .int 0, .int 0, .int 0, .int 0, .int (-1), .int 0, .ref a1, .ref a2, .ref a3, .ref a4, .int 0, .ref a5, .ref a6, .ref a7])), (a1, .inl (dJ, 3000, .inr (.inl (fun _ => 0)))), (a2, .inl (dJ, 3000, .inr (.inl (fun _ => 0)))), (a3, .inl (dN, 3000, .inl (fun _ => 0))), (a4, .inl (dZ, 3000, .inl (fun _ => 0))), (a5, .inl (dJ, 3000, .inr (.inl (fun _ => 0)))), (a6, .inl (dJ, 3000, .inr (.inl (fun _ => 0)))), (a7, .inl (dN, 3000, .inl (fun _ => 0)))] := hD
  have hP : va_P (dC, dI) vwCl [(h, .inr (3, [.int 0, .int 1, .int 0, .int 0, .int 0, .int 0, .int (-1), .int 0, .ref a1, .ref a2, .ref a3, .ref a4, .int 0, .ref a5, .ref a6, .ref a7])), (a1, .inl (dJ, 3000, .inr (.inl (fun _ => 0)))), (a2, .inl (dJ, 3000, .inr (.inl (fun _ => 0)))), (a3, .inl (dN, 3000, .inl (fun _ => 0))), (a4, .inl (dZ, 3000, .inl (fun _ => 0))), (a5, .inl (dJ, 3000, .inr (.inl (fun _ => 0)))), (a6, .inl (dJ, 3000, .inr (.inl (fun _ => 0)))), (a7, .inl (dN, 3000, .inl (fun _ => 0)))] H := hP.sub [0, 1, 2, 3, 4, 5, 6, 7] rfl
  have hD : va_D A [(h, .inr (3, [.int 0, .int 1, .int 0, .int 0, .int 0, .int 0, .int (-1), .int 0, .ref a1, .ref a2, .ref a3, .ref a4, .int 0, .ref a5, .ref a6, .ref a7])), (a1, .inl (dJ, 3000, .inr (.inl (fun _ => 0)))), (a2, .inl (dJ, 3000, .inr (.inl (fun _ => 0)))), (a3, .inl (dN, 3000, .inl (fun _ => 0))), (a4, .inl (dZ, 3000, .inl (fun _ => 0))), (a5, .inl (dJ, 3000, .inr (.inl (fun _ => 0)))), (a6, .inl (dJ, 3000, .inr (.inl (fun _ => 0)))), (a7, .inl (dN, 3000, .inl (fun _ => 0)))] := hD.sub [0, 1, 2, 3, 4, 5, 6, 7] (by decide) rfl
  exact W.vret hx hb hr (fun t ht hW => ⟨⟨(a1, a2, a3, a4, a5, a6, a7), rfl, trivial, by rw [ht]; exact hP, hD⟩, hS.F ht⟩) hS.2.2 dX3_init_77
set_option maxHeartbeats 4000000 in
set_option maxRecDepth 100000 in
/-- model: out(first) -/
theorem metX3_out (l : Launch) (dC : Nat → ClassId) (dI : Nat → Nat → Nat) (dJ dN dZ : ClassId) (sz : Nat) (h xk xv xs xo yk yn yw n2 cnt : Nat) (way size grace life taken late mark : Int32) (gk gv : Nat → Int64) (gs go : Nat → Int32) (jk jn : Nat → Int64) (jw : Nat → Int32) (hcnt : cnt ≤ 3000) (hn2 : n2 < 3000) (fi : Nat) (hfi : fi < cnt) : Met l yX3_out (ws_ yX3_out cX3_out 6 none) ({ frames := 2, cells := 0, slots := 0, locals := 43 }) (sj_Pw (dC, dI) [(h, .inr (3, [.int way, .int size, .int grace, .int life, .int taken, .int late, .int mark, .int (nI n2), .ref xk, .ref xv, .ref xs, .ref xo, .int (nI cnt), .ref yk, .ref yn, .ref yw])), (xk, .inl (dJ, 3000, .inr (.inl gk))), (xv, .inl (dJ, 3000, .inr (.inl gv))), (xs, .inl (dN, 3000, .inl gs)), (xo, .inl (dZ, 3000, .inl go)), (yk, .inl (dJ, 3000, .inr (.inl jk))), (yn, .inl (dJ, 3000, .inr (.inl jn))), (yw, .inl (dN, 3000, .inl jw))] (sj_t dJ dN dZ) sz [.ref h, .int (nI fi)]) (va_Qv (fun u : Nat → Int32 => ∀ j, j < cnt → u j = if gk j = gk fi ∧ gs j = gs fi then 1 else go j) (sj_B (dC, dI) (va_A [(h, .inr (3, [.int way, .int size, .int grace, .int life, .int taken, .int late, .int mark, .int (nI n2), .ref xk, .ref xv, .ref xs, .ref xo, .int (nI cnt), .ref yk, .ref yn, .ref yw])), (xk, .inl (dJ, 3000, .inr (.inl gk))), (xv, .inl (dJ, 3000, .inr (.inl gv))), (xs, .inl (dN, 3000, .inl gs)), (xo, .inl (dZ, 3000, .inl go)), (yk, .inl (dJ, 3000, .inr (.inl jk))), (yn, .inl (dJ, 3000, .inr (.inl jn))), (yw, .inl (dN, 3000, .inl jw))] sz) (fun u : Nat → Int32 => [(h, .inr (3, [.int way, .int size, .int grace, .int life, .int taken, .int late, .int mark, .int (nI (n2 + 1)), .ref xk, .ref xv, .ref xs, .ref xo, .int (nI cnt), .ref yk, .ref yn, .ref yw])), (xk, .inl (dJ, 3000, .inr (.inl gk))), (xv, .inl (dJ, 3000, .inr (.inl gv))), (xs, .inl (dN, 3000, .inl gs)), (xo, .inl (dZ, 3000, .inl u)), (yk, .inl (dJ, 3000, .inr (.inl (vp_updL jk n2 (gk fi))))), (yn, .inl (dJ, 3000, .inr (.inl (vp_updL jn n2 (md_num way gk gv gs go (gk fi) (gs fi) cnt))))), (yw, .inl (dN, 3000, .inl (upd jw n2 ((gs fi + 1) * size - 1))))])) (va_A [(h, .inr (3, [.int way, .int size, .int grace, .int life, .int taken, .int late, .int mark, .int (nI n2), .ref xk, .ref xv, .ref xs, .ref xo, .int (nI cnt), .ref yk, .ref yn, .ref yw])), (xk, .inl (dJ, 3000, .inr (.inl gk))), (xv, .inl (dJ, 3000, .inr (.inl gv))), (xs, .inl (dN, 3000, .inl gs)), (xo, .inl (dZ, 3000, .inl go)), (yk, .inl (dJ, 3000, .inr (.inl jk))), (yn, .inl (dJ, 3000, .inr (.inl jn))), (yw, .inl (dN, 3000, .inl jw))] sz)) 0 0 (va_A [(h, .inr (3, [.int way, .int size, .int grace, .int life, .int taken, .int late, .int mark, .int (nI n2), .ref xk, .ref xv, .ref xs, .ref xo, .int (nI cnt), .ref yk, .ref yn, .ref yw])), (xk, .inl (dJ, 3000, .inr (.inl gk))), (xv, .inl (dJ, 3000, .inr (.inl gv))), (xs, .inl (dN, 3000, .inl gs)), (xo, .inl (dZ, 3000, .inl go)), (yk, .inl (dJ, 3000, .inr (.inl jk))), (yn, .inl (dJ, 3000, .inr (.inl jn))), (yw, .inl (dN, 3000, .inl jw))] sz) := by
  refine Met.ofW (cc := cX3_out) (maxL := 6) (ret := none) (by decide) rfl ?_
  intro p e s m args below meth c s₁ B hml hv
  obtain ⟨rfl, hsz, hP, hK, hD0⟩ := hv
  have hx := B.exec
  have hb := B.bytes
  have hr := B.returns
  have hlocks := B.notSynchronized
  have hts := atoms_spec (ws := (ws_ yX3_out cX3_out 6 none)) B.pre
  have hts : ∀ w ∈ lw_all, w.before _ s = true := fun w h => hts w (List.mem_cons_of_mem _ h)
  have hown : s.vm.findClass RX3 = some m.cls := findClass_of_methodNamed B.named
  subst hsz
  have hD := hD0.self (sz := s.heap.size)
  generalize hAe : va_A [(h, .inr (3, [.int way, .int size, .int grace, .int life, .int taken, .int late, .int mark, .int (nI n2), .ref xk, .ref xv, .ref xs, .ref xo, .int (nI cnt), .ref yk, .ref yn, .ref yw])), (xk, .inl (dJ, 3000, .inr (.inl gk))), (xv, .inl (dJ, 3000, .inr (.inl gv))), (xs, .inl (dN, 3000, .inl gs)), (xo, .inl (dZ, 3000, .inl go)), (yk, .inl (dJ, 3000, .inr (.inl jk))), (yn, .inl (dJ, 3000, .inr (.inl jn))), (yw, .inl (dN, 3000, .inl jw))] s.heap.size = A at hD ⊢
  have hA : ∀ q : Nat, s.heap.size ≤ q → A q := fun q h => by rw [← hAe]; exact Or.inr h
  have hS : va_S A s.heap s.heap [] := va_S.rf
  have hP : va_P (dC, dI) vwCl [(h, .inr (3, [.int way, .int size, .int grace, .int life, .int taken, .int late, .int mark, .int (nI n2), .ref xk, .ref xv, .ref xs, .ref xo, .int (nI cnt), .ref yk, .ref yn, .ref yw])), (xk, .inl (dJ, 3000, .inr (.inl gk))), (xv, .inl (dJ, 3000, .inr (.inl gv))), (xs, .inl (dN, 3000, .inl gs)), (xo, .inl (dZ, 3000, .inl go)), (yk, .inl (dJ, 3000, .inr (.inl jk))), (yn, .inl (dJ, 3000, .inr (.inl jn))), (yw, .inl (dN, 3000, .inl jw))] s.heap := hP
  have hl := lv_entry ([.ref h, .int (nI fi)]) (n := 6) (Nat.le_of_ble_eq_true rfl)
  rw [lg_entry_eq]
  generalize (lg_sl ([.ref h, .int (nI fi)]) ++ List.replicate (6 - (lg_sl ([.ref h, .int (nI fi)])).length) Slot.unset).toArray = ls at hl ⊢
  have hl : lv_has ls 6 [(0, .ref h), (1, .int (nI fi))] := hl
  refine lv_aload_n hx hb dX3_out_0 rfl (lv_at hl 0 rfl) ?_
  refine va_get (D := (dC, dI)) (ci := 3) (v := .ref xk) (C := RX3) (T := TX3) (N := 16) hx hb hts in_X3 hown hK hP 0 rfl rfl 8 (by decide) (hts _ q225) (fun _ h9 => h9) rfl dX3_out_1 ?_
  refine lv_iload_n hx hb dX3_out_4 rfl (lv_at hl 1 rfl) ?_
  refine sj_lald hx hb hK hP 1 0 rfl rfl fi rfl (by omega) (by omega) dX3_out_5 ?_
  refine lv_lstore_n (lv' := [(2, .long (gk fi)), (0, .ref h), (1, .int (nI fi))]) hx hb dX3_out_6 rfl hl (by decide) rfl (fun ls hl => ?_)
  refine lv_aload_n hx hb dX3_out_7 rfl (lv_at hl 1 rfl) ?_
  refine va_get (D := (dC, dI)) (ci := 3) (v := .ref xs) (C := RX3) (T := TX3) (N := 16) hx hb hts in_X3 hown hK hP 0 rfl rfl 10 (by decide) (hts _ q227) (fun _ h9 => h9) rfl dX3_out_8 ?_
  refine lv_iload_n hx hb dX3_out_11 rfl (lv_at hl 2 rfl) ?_
  refine sj_iald hx hb hK hP 3 1 rfl rfl fi rfl (by omega) (by omega) dX3_out_12 ?_
  refine lv_istore (lv' := [(4, .int (gs fi)), (2, .long (gk fi)), (0, .ref h), (1, .int (nI fi))]) hx hb dX3_out_13 hl (by decide) rfl (fun ls hl => ?_)
  refine lv_aload_n hx hb dX3_out_15 rfl (lv_at hl 2 rfl) ?_
  refine va_get (D := (dC, dI)) (ci := 3) (v := .ref yk) (C := RX3) (T := TX3) (N := 16) hx hb hts in_X3 hown hK hP 0 rfl rfl 13 (by decide) (hts _ q230) (fun _ h9 => h9) rfl dX3_out_16 ?_
  refine lv_aload_n hx hb dX3_out_19 rfl (lv_at hl 2 rfl) ?_
  refine va_get (D := (dC, dI)) (ci := 3) (v := .int (nI n2)) (C := RX3) (T := TX3) (N := 16) hx hb hts in_X3 hown hK hP 0 rfl rfl 7 (by decide) (hts _ q224) (fun _ h9 => h9) rfl dX3_out_20 ?_
  refine lv_lload_n hx hb dX3_out_23 rfl (lv_at hl 1 rfl) ?_
  refine sj_last hx hb hK hP hD hS 5 0 rfl rfl n2 rfl (by omega) (by omega) dX3_out_24 (fun H locs hP hD hS => ?_)
  have hP : va_P (dC, dI) vwCl [(h, .inr (3, [.int way, .int size, .int grace, .int life, .int taken, .int late, .int mark, .int (nI n2), .ref xk, .ref xv, .ref xs, .ref xo, .int (nI cnt), .ref yk, .ref yn, .ref yw])), (xk, .inl (dJ, 3000, .inr (.inl gk))), (xv, .inl (dJ, 3000, .inr (.inl gv))), (xs, .inl (dN, 3000, .inl gs)), (xo, .inl (dZ, 3000, .inl go)), (yk, .inl (dJ, 3000, .inr (.inl (vp_updL jk n2 (gk fi))))), (yn, .inl (dJ, 3000, .inr (.inl jn))), (yw, .inl (dN, 3000, .inl jw))] H := hP
  have hD : va_D A [(h, .inr (3, [.int way, .int size, .int grace, .int life, .int taken, .int late, .int mark, .int (nI n2), .ref xk, .ref xv, .ref xs, .ref xo, .int (nI cnt), .ref yk, .ref yn, .ref yw])), (xk, .inl (dJ, 3000, .inr (.inl gk))), (xv, .inl (dJ, 3000, .inr (.inl gv))), (xs, .inl (dN, 3000, .inl gs)), (xo, .inl (dZ, 3000, .inl go)), (yk, .inl (dJ, 3000, .inr (.inl (vp_updL jk n2 (gk fi))))), (yn, .inl (dJ, 3000, .inr (.inl jn))), (yw, .inl (dN, 3000, .inl jw))] := hD
  refine lv_aload_n hx hb dX3_out_25 rfl (lv_at hl 2 rfl) ?_
  refine va_get (D := (dC, dI)) (ci := 3) (v := .ref yn) (C := RX3) (T := TX3) (N := 16) hx hb hts in_X3 hown hK hP 0 rfl rfl 14 (by decide) (hts _ q231) (fun _ h9 => h9) rfl dX3_out_26 ?_
  refine lv_aload_n hx hb dX3_out_29 rfl (lv_at hl 2 rfl) ?_
  refine va_get (D := (dC, dI)) (ci := 3) (v := .int (nI n2)) (C := RX3) (T := TX3) (N := 16) hx hb hts in_X3 hown hK hP 0 rfl rfl 7 (by decide) (hts _ q224) (fun _ h9 => h9) rfl dX3_out_30 ?_
  refine lv_aload_n hx hb dX3_out_33 rfl (lv_at hl 2 rfl) ?_
  refine lv_lload_n hx hb dX3_out_34 rfl (lv_at hl 1 rfl) ?_
  refine lv_iload hx hb dX3_out_35 (lv_at hl 0 rfl) ?_
  refine sj_callRl (As := [.long (gk fi), .int (gs fi)]) (rest := [.int (nI n2), .ref yn]) ⟨hx, hb, hml, hown, hts⟩ (metX3_number l dC dI dJ dN dZ h xk xv xs xo yk yn yw n2 cnt way size grace life taken late mark gk gv gs go hcnt (gk fi) (gs fi)) (cwV 2 hts (lw_V q291 q293 qs9 q14 q294) rfl rfl rfl (by decide +kernel) ⟨Nat.le_of_ble_eq_true rfl, Nat.le_of_ble_eq_true rfl⟩) hK hP [0, 1, 2, 3, 4] rfl 3 rfl rfl rfl rfl hl.1 rfl (Nat.le_of_ble_eq_true rfl) dX3_out_37 ⟨Nat.zero_le _, Nat.zero_le _⟩ (fun v hv => ?_)
  subst hv
  refine sj_last hx hb hK hP hD hS 6 0 rfl rfl n2 rfl (by omega) (by omega) dX3_out_40 (fun H locs hP hD hS => ?_)
  have hP : va_P (dC, dI) vwCl [(h, .inr (3, [.int way, .int size, .int grace, .int life, .int taken, .int late, .int mark, .int (nI n2), .ref xk, .ref xv, .ref xs, .ref xo, .int (nI cnt), .ref yk, .ref yn, .ref yw])), (xk, .inl (dJ, 3000, .inr (.inl gk))), (xv, .inl (dJ, 3000, .inr (.inl gv))), (xs, .inl (dN, 3000, .inl gs)), (xo, .inl (dZ, 3000, .inl go)), (yk, .inl (dJ, 3000, .inr (.inl (vp_updL jk n2 (gk fi))))), (yn, .inl (dJ, 3000, .inr (.inl (vp_updL jn n2 (md_num way gk gv gs go (gk fi) (gs fi) cnt))))), (yw, .inl (dN, 3000, .inl jw))] H := hP
  have hD : va_D A [(h, .inr (3, [.int way, .int size, .int grace, .int life, .int taken, .int late, .int mark, .int (nI n2), .ref xk, .ref xv, .ref xs, .ref xo, .int (nI cnt), .ref yk, .ref yn, .ref yw])), (xk, .inl (dJ, 3000, .inr (.inl gk))), (xv, .inl (dJ, 3000, .inr (.inl gv))), (xs, .inl (dN, 3000, .inl gs)), (xo, .inl (dZ, 3000, .inl go)), (yk, .inl (dJ, 3000, .inr (.inl (vp_updL jk n2 (gk fi))))), (yn, .inl (dJ, 3000, .inr (.inl (vp_updL jn n2 (md_num way gk gv gs go (gk fi) (gs fi) cnt))))), (yw, .inl (dN, 3000, .inl jw))] := hD
  refine lv_aload_n hx hb dX3_out_41 rfl (lv_at hl 2 rfl) ?_
  refine va_get (D := (dC, dI)) (ci := 3) (v := .ref yw) (C := RX3) (T := TX3) (N := 16) hx hb hts in_X3 hown hK hP 0 rfl rfl 15 (by decide) (hts _ q232) (fun _ h9 => h9) rfl dX3_out_42 ?_
  refine lv_aload_n hx hb dX3_out_45 rfl (lv_at hl 2 rfl) ?_
  refine va_get (D := (dC, dI)) (ci := 3) (v := .int (nI n2)) (C := RX3) (T := TX3) (N := 16) hx hb hts in_X3 hown hK hP 0 rfl rfl 7 (by decide) (hts _ q224) (fun _ h9 => h9) rfl dX3_out_46 ?_
  refine lv_iload hx hb dX3_out_49 (lv_at hl 0 rfl) ?_
  refine lv_iconst (v := 1) hx hb dX3_out_51 (by decide) ?_
  refine lv_iadd hx hb dX3_out_52 ?_
  refine lv_aload_n hx hb dX3_out_53 rfl (lv_at hl 2 rfl) ?_
  refine va_get (D := (dC, dI)) (ci := 3) (v := .int size) (C := RX3) (T := TX3) (N := 16) hx hb hts in_X3 hown hK hP 0 rfl rfl 1 (by decide) (hts _ q218) (fun _ h9 => h9) rfl dX3_out_54 ?_
  refine lv_imul hx hb dX3_out_57 ?_
  refine lv_iconst (v := 1) hx hb dX3_out_58 (by decide) ?_
  refine lv_isub hx hb dX3_out_59 ?_
  refine sj_iast hx hb hK hP hD hS 7 1 rfl rfl n2 rfl (by omega) (by omega) dX3_out_60 (fun H locs hP hD hS => ?_)
  have hP : va_P (dC, dI) vwCl [(h, .inr (3, [.int way, .int size, .int grace, .int life, .int taken, .int late, .int mark, .int (nI n2), .ref xk, .ref xv, .ref xs, .ref xo, .int (nI cnt), .ref yk, .ref yn, .ref yw])), (xk, .inl (dJ, 3000, .inr (.inl gk))), (xv, .inl (dJ, 3000, .inr (.inl gv))), (xs, .inl (dN, 3000, .inl gs)), (xo, .inl (dZ, 3000, .inl go)), (yk, .inl (dJ, 3000, .inr (.inl (vp_updL jk n2 (gk fi))))), (yn, .inl (dJ, 3000, .inr (.inl (vp_updL jn n2 (md_num way gk gv gs go (gk fi) (gs fi) cnt))))), (yw, .inl (dN, 3000, .inl (upd jw n2 ((((gs fi) + 1) * size) - 1))))] H := hP
  have hD : va_D A [(h, .inr (3, [.int way, .int size, .int grace, .int life, .int taken, .int late, .int mark, .int (nI n2), .ref xk, .ref xv, .ref xs, .ref xo, .int (nI cnt), .ref yk, .ref yn, .ref yw])), (xk, .inl (dJ, 3000, .inr (.inl gk))), (xv, .inl (dJ, 3000, .inr (.inl gv))), (xs, .inl (dN, 3000, .inl gs)), (xo, .inl (dZ, 3000, .inl go)), (yk, .inl (dJ, 3000, .inr (.inl (vp_updL jk n2 (gk fi))))), (yn, .inl (dJ, 3000, .inr (.inl (vp_updL jn n2 (md_num way gk gv gs go (gk fi) (gs fi) cnt))))), (yw, .inl (dN, 3000, .inl (upd jw n2 ((((gs fi) + 1) * size) - 1))))] := hD
  refine lv_aload_n hx hb dX3_out_61 rfl (lv_at hl 2 rfl) ?_
  refine lv_dup hx hb dX3_out_62 rfl ?_
  refine va_get (D := (dC, dI)) (ci := 3) (v := .int (nI n2)) (C := RX3) (T := TX3) (N := 16) hx hb hts in_X3 hown hK hP 0 rfl rfl 7 (by decide) (hts _ q224) (fun _ h9 => h9) rfl dX3_out_63 ?_
  refine lv_iconst (v := 1) hx hb dX3_out_66 (by decide) ?_
  refine lv_iadd hx hb dX3_out_67 ?_
  refine sj_cvi (y := nI (n2 + 1)) (nI_1 n2) ?_
  refine va_put (D := (dC, dI)) (ci := 3) (v := .int (nI (n2 + 1))) (ty := .int) (C := RX3) (T := TX3) (N := 16) hx hb hts in_X3 tyX3 tyX3_ok nmX3 hown hK hP hD hS 0 rfl rfl 7 (by decide) (hts _ q224) (fun _ h9 => h9) rfl (by decide +kernel) rfl rfl (Nat.le_of_ble_eq_true rfl) dX3_out_68 (fun H locs hP hD hS => ?_)
  have hP : va_P (dC, dI) vwCl [(h, .inr (3, [.int way, .int size, .int grace, .int life, .int taken, .int late, .int mark, .int (nI (n2 + 1)), .ref xk, .ref xv, .ref xs, .ref xo, .int (nI cnt), .ref yk, .ref yn, .ref yw])), (xk, .inl (dJ, 3000, .inr (.inl gk))), (xv, .inl (dJ, 3000, .inr (.inl gv))), (xs, .inl (dN, 3000, .inl gs)), (xo, .inl (dZ, 3000, .inl go)), (yk, .inl (dJ, 3000, .inr (.inl (vp_updL jk n2 (gk fi))))), (yn, .inl (dJ, 3000, .inr (.inl (vp_updL jn n2 (md_num way gk gv gs go (gk fi) (gs fi) cnt))))), (yw, .inl (dN, 3000, .inl (upd jw n2 ((((gs fi) + 1) * size) - 1))))] H := hP
  have hD : va_D A [(h, .inr (3, [.int way, .int size, .int grace, .int life, .int taken, .int late, .int mark, .int (nI (n2 + 1)), .ref xk, .ref xv, .ref xs, .ref xo, .int (nI cnt), .ref yk, .ref yn, .ref yw])), (xk, .inl (dJ, 3000, .inr (.inl gk))), (xv, .inl (dJ, 3000, .inr (.inl gv))), (xs, .inl (dN, 3000, .inl gs)), (xo, .inl (dZ, 3000, .inl go)), (yk, .inl (dJ, 3000, .inr (.inl (vp_updL jk n2 (gk fi))))), (yn, .inl (dJ, 3000, .inr (.inl (vp_updL jn n2 (md_num way gk gv gs go (gk fi) (gs fi) cnt))))), (yw, .inl (dN, 3000, .inl (upd jw n2 ((((gs fi) + 1) * size) - 1))))] := hD
  refine lv_iconst (v := nI 0) hx hb dX3_out_71 (by decide) ?_
  refine lv_istore (lv' := [(5, .int (nI 0)), (4, .int (gs fi)), (2, .long (gk fi)), (0, .ref h), (1, .int (nI fi))]) hx hb dX3_out_72 hl (by decide) rfl (fun ls hl => ?_)
  have loop : ∀ (fu : Nat) (i : Nat) (g1 : Nat → Int32) (H : Heap) (locs : List Loc) (ls : Array Slot), (cnt - i < fu) → (i ≤ cnt) → (∀ j, j < i → g1 j = if gk j = gk fi ∧ gs j = gs fi then 1 else go j) → (∀ j, i ≤ j → g1 j = go j) → va_P (dC, dI) vwCl [(h, .inr (3, [.int way, .int size, .int grace, .int life, .int taken, .int late, .int mark, .int (nI (n2 + 1)), .ref xk, .ref xv, .ref xs, .ref xo, .int (nI cnt), .ref yk, .ref yn, .ref yw])), (xk, .inl (dJ, 3000, .inr (.inl gk))), (xv, .inl (dJ, 3000, .inr (.inl gv))), (xs, .inl (dN, 3000, .inl gs)), (xo, .inl (dZ, 3000, .inl g1)), (yk, .inl (dJ, 3000, .inr (.inl (vp_updL jk n2 (gk fi))))), (yn, .inl (dJ, 3000, .inr (.inl (vp_updL jn n2 (md_num way gk gv gs go (gk fi) (gs fi) cnt))))), (yw, .inl (dN, 3000, .inl (upd jw n2 ((gs fi + 1) * size - 1))))] H → va_D A [(h, .inr (3, [.int way, .int size, .int grace, .int life, .int taken, .int late, .int mark, .int (nI (n2 + 1)), .ref xk, .ref xv, .ref xs, .ref xo, .int (nI cnt), .ref yk, .ref yn, .ref yw])), (xk, .inl (dJ, 3000, .inr (.inl gk))), (xv, .inl (dJ, 3000, .inr (.inl gv))), (xs, .inl (dN, 3000, .inl gs)), (xo, .inl (dZ, 3000, .inl g1)), (yk, .inl (dJ, 3000, .inr (.inl (vp_updL jk n2 (gk fi))))), (yn, .inl (dJ, 3000, .inr (.inl (vp_updL jn n2 (md_num way gk gv gs go (gk fi) (gs fi) cnt))))), (yw, .inl (dN, 3000, .inl (upd jw n2 ((gs fi + 1) * size - 1))))] → va_S A s.heap H locs → lv_has ls 6 [(0, .ref h), (2, .long (gk fi)), (4, .int (gs fi)), (5, .int (nI i))] → W p l e (headSpec (ws_ yX3_out cX3_out 6 none) ({ frames := 2, cells := 0, slots := 0, locals := 43 })).room s m ([.ref h, .int (nI fi)] : List Value).toArray below meth c H locs 0 0 (MQ below (va_Qv (fun u : Nat → Int32 => ∀ j, j < cnt → u j = if gk j = gk fi ∧ gs j = gs fi then 1 else go j) (sj_B (dC, dI) A (fun u : Nat → Int32 => [(h, .inr (3, [.int way, .int size, .int grace, .int life, .int taken, .int late, .int mark, .int (nI (n2 + 1)), .ref xk, .ref xv, .ref xs, .ref xo, .int (nI cnt), .ref yk, .ref yn, .ref yw])), (xk, .inl (dJ, 3000, .inr (.inl gk))), (xv, .inl (dJ, 3000, .inr (.inl gv))), (xs, .inl (dN, 3000, .inl gs)), (xo, .inl (dZ, 3000, .inl u)), (yk, .inl (dJ, 3000, .inr (.inl (vp_updL jk n2 (gk fi))))), (yn, .inl (dJ, 3000, .inr (.inl (vp_updL jn n2 (md_num way gk gv gs go (gk fi) (gs fi) cnt))))), (yw, .inl (dN, 3000, .inl (upd jw n2 ((gs fi + 1) * size - 1))))])) A) ([.ref h, .int (nI fi)] : List Value).toArray s 0 0 A) (F0 m 74 ls []) := by
    intro fu
    induction fu with
    | zero => intro i g1 H locs ls h1; exact absurd h1 (by omega)
    | succ fu ih =>
      intro i g1 H locs ls h1 h2 i1 i2 hP hD hS hl
      refine lv_iload hx hb dX3_out_74 (lv_at hl 3 rfl) ?_
      refine lv_aload_n hx hb dX3_out_76 rfl (lv_at hl 0 rfl) ?_
      refine va_get (D := (dC, dI)) (ci := 3) (v := .int (nI cnt)) (C := RX3) (T := TX3) (N := 16) hx hb hts in_X3 hown hK hP 0 rfl rfl 12 (by decide) (hts _ q229) (fun _ h9 => h9) rfl dX3_out_77 ?_
      refine sj_nge (a := i) (b := cnt) (tgt := 121) hx hb dX3_out_80 (by decide) (by omega) (by omega) (fun c80 => ?_) (fun c80 => ?_)
      · skip
        exact W.vret hx hb hr (fun t ht hW => ⟨⟨g1, rfl, fun j hj => i1 j (by omega), by rw [ht]; exact hP, hD⟩, hS.F ht⟩) hS.2.2 dX3_out_121
      · skip
        refine lv_aload_n hx hb dX3_out_83 rfl (lv_at hl 0 rfl) ?_
        refine va_get (D := (dC, dI)) (ci := 3) (v := .ref xk) (C := RX3) (T := TX3) (N := 16) hx hb hts in_X3 hown hK hP 0 rfl rfl 8 (by decide) (hts _ q225) (fun _ h9 => h9) rfl dX3_out_84 ?_
        refine lv_iload hx hb dX3_out_87 (lv_at hl 3 rfl) ?_
        refine sj_lald hx hb hK hP 1 0 rfl rfl i rfl (by omega) (by omega) dX3_out_89 ?_
        refine lv_lload_n hx hb dX3_out_90 rfl (lv_at hl 1 rfl) ?_
        refine sj_lc_ne (tgt := 115) hx hb dX3_out_91 dX3_out_92 (by decide) (fun c91 => ?_) (fun c91 => ?_)
        · skip
          refine lv_iinc (v := nI (i + 1)) (lv' := [(5, .int (nI (i + 1))), (0, .ref h), (2, .long (gk fi)), (4, .int (gs fi))]) hx hb dX3_out_115 hl (k := 3) rfl (nI_1 _) (by decide) rfl (fun ls hl => ?_)
          refine lv_goto (tgt := 74) hx hb dX3_out_118 (by decide) ?_
          exact ih (i + 1) g1 H locs ls (by omega) (by omega) (sj_ball i1 (by rw [i2 i (Nat.le_refl _), if_neg (fun h => c91 h.1)])) (fun j hj => i2 j (by omega)) hP hD hS (lv_sub hl [1, 2, 3, 0] rfl)
        · skip
          refine lv_aload_n hx hb dX3_out_95 rfl (lv_at hl 0 rfl) ?_
          refine va_get (D := (dC, dI)) (ci := 3) (v := .ref xs) (C := RX3) (T := TX3) (N := 16) hx hb hts in_X3 hown hK hP 0 rfl rfl 10 (by decide) (hts _ q227) (fun _ h9 => h9) rfl dX3_out_96 ?_
          refine lv_iload hx hb dX3_out_99 (lv_at hl 3 rfl) ?_
          refine sj_iald hx hb hK hP 3 1 rfl rfl i rfl (by omega) (by omega) dX3_out_101 ?_
          refine lv_iload hx hb dX3_out_102 (lv_at hl 2 rfl) ?_
          refine lv_icmp_ne (tgt := 115) hx hb dX3_out_104 (by decide) (fun c104 => ?_) (fun c104 => ?_)
          · skip
            refine lv_iinc (v := nI (i + 1)) (lv' := [(5, .int (nI (i + 1))), (0, .ref h), (2, .long (gk fi)), (4, .int (gs fi))]) hx hb dX3_out_115 hl (k := 3) rfl (nI_1 _) (by decide) rfl (fun ls hl => ?_)
            refine lv_goto (tgt := 74) hx hb dX3_out_118 (by decide) ?_
            exact ih (i + 1) g1 H locs ls (by omega) (by omega) (sj_ball i1 (by rw [i2 i (Nat.le_refl _), if_neg (fun h => c104 h.2)])) (fun j hj => i2 j (by omega)) hP hD hS (lv_sub hl [1, 2, 3, 0] rfl)
          · skip
            refine lv_aload_n hx hb dX3_out_107 rfl (lv_at hl 0 rfl) ?_
            refine va_get (D := (dC, dI)) (ci := 3) (v := .ref xo) (C := RX3) (T := TX3) (N := 16) hx hb hts in_X3 hown hK hP 0 rfl rfl 11 (by decide) (hts _ q228) (fun _ h9 => h9) rfl dX3_out_108 ?_
            refine lv_iload hx hb dX3_out_111 (lv_at hl 3 rfl) ?_
            refine lv_iconst (v := 1) hx hb dX3_out_113 (by decide) ?_
            refine sj_zast hx hb hK hP hD hS 4 2 rfl rfl i rfl (by omega) (by omega) rfl dX3_out_114 (fun H locs hP hD hS => ?_)
            have hP : va_P (dC, dI) vwCl [(h, .inr (3, [.int way, .int size, .int grace, .int life, .int taken, .int late, .int mark, .int (nI (n2 + 1)), .ref xk, .ref xv, .ref xs, .ref xo, .int (nI cnt), .ref yk, .ref yn, .ref yw])), (xk, .inl (dJ, 3000, .inr (.inl gk))), (xv, .inl (dJ, 3000, .inr (.inl gv))), (xs, .inl (dN, 3000, .inl gs)), (xo, .inl (dZ, 3000, .inl (upd g1 i 1))), (yk, .inl (dJ, 3000, .inr (.inl (vp_updL jk n2 (gk fi))))), (yn, .inl (dJ, 3000, .inr (.inl (vp_updL jn n2 (md_num way gk gv gs go (gk fi) (gs fi) cnt))))), (yw, .inl (dN, 3000, .inl (upd jw n2 ((gs fi + 1) * size - 1))))] H := hP
            have hD : va_D A [(h, .inr (3, [.int way, .int size, .int grace, .int life, .int taken, .int late, .int mark, .int (nI (n2 + 1)), .ref xk, .ref xv, .ref xs, .ref xo, .int (nI cnt), .ref yk, .ref yn, .ref yw])), (xk, .inl (dJ, 3000, .inr (.inl gk))), (xv, .inl (dJ, 3000, .inr (.inl gv))), (xs, .inl (dN, 3000, .inl gs)), (xo, .inl (dZ, 3000, .inl (upd g1 i 1))), (yk, .inl (dJ, 3000, .inr (.inl (vp_updL jk n2 (gk fi))))), (yn, .inl (dJ, 3000, .inr (.inl (vp_updL jn n2 (md_num way gk gv gs go (gk fi) (gs fi) cnt))))), (yw, .inl (dN, 3000, .inl (upd jw n2 ((gs fi + 1) * size - 1))))] := hD
            refine lv_iinc (v := nI (i + 1)) (lv' := [(5, .int (nI (i + 1))), (0, .ref h), (2, .long (gk fi)), (4, .int (gs fi))]) hx hb dX3_out_115 hl (k := 3) rfl (nI_1 _) (by decide) rfl (fun ls hl => ?_)
            refine lv_goto (tgt := 74) hx hb dX3_out_118 (by decide) ?_
            exact ih (i + 1) _ H locs ls (by omega) (by omega) (sj_ball (fun j hj => by rw [pk_un (by omega)]; exact i1 j hj) (by rw [pk_us, if_pos ⟨c91, c104⟩])) (fun j hj => by rw [pk_un (by omega)]; exact i2 j (by omega)) hP hD hS (lv_sub hl [1, 2, 3, 0] rfl)
  exact loop (cnt + 1) 0 _ H _ ls (by omega) (Nat.zero_le _) lt_0 (fun _ _ => rfl) hP hD hS (lv_sub hl [3, 2, 1, 0] rfl)
end
section
/-! MODEL: take -/
set_option maxRecDepth 100000
theorem sj_div {wh size : Int32} (h0 : ¬ wh < 0) (h1 : ¬ 1000000000 < wh) (h2 : 1 ≤ size.toInt) : 0 ≤ (wh / size).toInt ∧ (wh / size).toInt * size.toInt ≤ 1000000000 := by
  rw [Int32.lt_iff_toInt_lt] at h0 h1
  have e0 : (0 : Int32).toInt = 0 := by decide
  have e1 : (1000000000 : Int32).toInt = 1000000000 := by decide
  have hne : size ≠ -1 := by
    intro h
    rw [h] at h2
    exact absurd h2 (by decide)
  rw [Int32.toInt_div_of_ne_right wh size hne, Int.tdiv_eq_ediv_of_nonneg (by omega)]
  refine ⟨Int.ediv_nonneg (by omega) (by omega), ?_⟩
  have := Int.ediv_mul_le wh.toInt (show size.toInt ≠ 0 by omega)
  omega
theorem sj_v01 {v : Int64} (h : ¬ v < 0) (h2 : ¬ 1000000000000 < v) : 0 ≤ v.toInt ∧ v.toInt ≤ 1000000000000 := by
  rw [Int64.lt_iff_toInt_lt] at h h2
  have e0 : (0 : Int64).toInt = 0 := by decide
  have e1 : (1000000000000 : Int64).toInt = 1000000000000 := by decide
  omega
theorem md_io_none : md_io none < 0 := by decide
theorem sj_up_le (way : Int32) (L : List sj_E) (sp : Int32) (ky v : Int64) : (sj_up way L sp ky v).length ≤ L.length + 1 := by
  induction L with
  | nil => exact Nat.le_refl _
  | cons x T ih =>
    unfold sj_up
    split
    · simp only [List.length_cons]
      omega
    · split <;> simp
set_option maxHeartbeats 4000000 in
set_option maxRecDepth 100000 in
/-- model: take(key, value, when) -/
theorem metX3_take (l : Launch) (dC : Nat → ClassId) (dI : Nat → Nat → Nat) (dJ dN dZ : ClassId) (sz : Nat) (h xk xv xs xo yk yn yw cnt : Nat) (way size grace life taken late mark : Int32) (gk gv : Nat → Int64) (gs go : Nat → Int32) (jk jn : Nat → Int64) (jw : Nat → Int32) (L : List sj_E) (O : List sj_O) (hcnt : cnt ≤ 2000) (hLO : L.length + O.length ≤ 2000) (hrel : md_rel way size L cnt gk gv gs go) (hmo : mo_rep O jk jn jw) (z2 : 1 ≤ size.toInt) (z3 : size.toInt ≤ 1000) (z4 : 0 ≤ grace.toInt) (z5 : grace.toInt ≤ 1000) (key value : Int64) (wh : Int32) : Met l yX3_take (ws_ yX3_take cX3_take 9 (some .int)) ({ frames := 3, cells := 0, slots := 0, locals := 68 }) (sj_Pw (dC, dI) [(h, .inr (3, [.int way, .int size, .int grace, .int life, .int taken, .int late, .int mark, .int (nI O.length), .ref xk, .ref xv, .ref xs, .ref xo, .int (nI cnt), .ref yk, .ref yn, .ref yw])), (xk, .inl (dJ, 3000, .inr (.inl gk))), (xv, .inl (dJ, 3000, .inr (.inl gv))), (xs, .inl (dN, 3000, .inl gs)), (xo, .inl (dZ, 3000, .inl go)), (yk, .inl (dJ, 3000, .inr (.inl jk))), (yn, .inl (dJ, 3000, .inr (.inl jn))), (yw, .inl (dN, 3000, .inl jw))] (sj_t dJ dN dZ) sz [.ref h, .long key, .long value, .int wh]) (va_Qi (fun (r : Int32) (u : (Int32 × Int32 × Int32 × Int32) × List sj_E × List sj_O × (Nat × (Nat → Int64) × (Nat → Int64) × (Nat → Int32) × (Nat → Int32)) × (Nat → Int64) × (Nat → Int64) × (Nat → Int32)) => (r, u.1, u.2.1, u.2.2.1) = sj_take way size grace life taken late mark L O key value wh ∧ md_rel way size u.2.1 u.2.2.2.1.1 u.2.2.2.1.2.1 u.2.2.2.1.2.2.1 u.2.2.2.1.2.2.2.1 u.2.2.2.1.2.2.2.2 ∧ mo_rep u.2.2.1 u.2.2.2.2.1 u.2.2.2.2.2.1 u.2.2.2.2.2.2 ∧ u.2.2.2.1.1 ≤ cnt + 1) (sj_B (dC, dI) (va_A [(h, .inr (3, [.int way, .int size, .int grace, .int life, .int taken, .int late, .int mark, .int (nI O.length), .ref xk, .ref xv, .ref xs, .ref xo, .int (nI cnt), .ref yk, .ref yn, .ref yw])), (xk, .inl (dJ, 3000, .inr (.inl gk))), (xv, .inl (dJ, 3000, .inr (.inl gv))), (xs, .inl (dN, 3000, .inl gs)), (xo, .inl (dZ, 3000, .inl go)), (yk, .inl (dJ, 3000, .inr (.inl jk))), (yn, .inl (dJ, 3000, .inr (.inl jn))), (yw, .inl (dN, 3000, .inl jw))] sz) (fun u : (Int32 × Int32 × Int32 × Int32) × List sj_E × List sj_O × (Nat × (Nat → Int64) × (Nat → Int64) × (Nat → Int32) × (Nat → Int32)) × (Nat → Int64) × (Nat → Int64) × (Nat → Int32) => [(h, .inr (3, [.int way, .int size, .int grace, .int u.1.1, .int u.1.2.1, .int u.1.2.2.1, .int u.1.2.2.2, .int (nI u.2.2.1.length), .ref xk, .ref xv, .ref xs, .ref xo, .int (nI u.2.2.2.1.1), .ref yk, .ref yn, .ref yw])), (xk, .inl (dJ, 3000, .inr (.inl u.2.2.2.1.2.1))), (xv, .inl (dJ, 3000, .inr (.inl u.2.2.2.1.2.2.1))), (xs, .inl (dN, 3000, .inl u.2.2.2.1.2.2.2.1)), (xo, .inl (dZ, 3000, .inl u.2.2.2.1.2.2.2.2)), (yk, .inl (dJ, 3000, .inr (.inl u.2.2.2.2.1))), (yn, .inl (dJ, 3000, .inr (.inl u.2.2.2.2.2.1))), (yw, .inl (dN, 3000, .inl u.2.2.2.2.2.2))])) (va_A [(h, .inr (3, [.int way, .int size, .int grace, .int life, .int taken, .int late, .int mark, .int (nI O.length), .ref xk, .ref xv, .ref xs, .ref xo, .int (nI cnt), .ref yk, .ref yn, .ref yw])), (xk, .inl (dJ, 3000, .inr (.inl gk))), (xv, .inl (dJ, 3000, .inr (.inl gv))), (xs, .inl (dN, 3000, .inl gs)), (xo, .inl (dZ, 3000, .inl go)), (yk, .inl (dJ, 3000, .inr (.inl jk))), (yn, .inl (dJ, 3000, .inr (.inl jn))), (yw, .inl (dN, 3000, .inl jw))] sz)) 0 0 (va_A [(h, .inr (3, [.int way, .int size, .int grace, .int life, .int taken, .int late, .int mark, .int (nI O.length), .ref xk, .ref xv, .ref xs, .ref xo, .int (nI cnt), .ref yk, .ref yn, .ref yw])), (xk, .inl (dJ, 3000, .inr (.inl gk))), (xv, .inl (dJ, 3000, .inr (.inl gv))), (xs, .inl (dN, 3000, .inl gs)), (xo, .inl (dZ, 3000, .inl go)), (yk, .inl (dJ, 3000, .inr (.inl jk))), (yn, .inl (dJ, 3000, .inr (.inl jn))), (yw, .inl (dN, 3000, .inl jw))] sz) := by
  refine Met.ofW (cc := cX3_take) (maxL := 9) (ret := (some .int)) (by decide) rfl ?_
  intro p e s m args below meth c s₁ B hml hv
  obtain ⟨rfl, hsz, hP, hK, hD0⟩ := hv
  have hx := B.exec
  have hb := B.bytes
  have hr := B.returns
  have hlocks := B.notSynchronized
  have hts := atoms_spec (ws := (ws_ yX3_take cX3_take 9 (some .int))) B.pre
  have hts : ∀ w ∈ lw_all, w.before _ s = true := fun w h => hts w (List.mem_cons_of_mem _ h)
  have hown : s.vm.findClass RX3 = some m.cls := findClass_of_methodNamed B.named
  subst hsz
  have hD := hD0.self (sz := s.heap.size)
  generalize hAe : va_A [(h, .inr (3, [.int way, .int size, .int grace, .int life, .int taken, .int late, .int mark, .int (nI O.length), .ref xk, .ref xv, .ref xs, .ref xo, .int (nI cnt), .ref yk, .ref yn, .ref yw])), (xk, .inl (dJ, 3000, .inr (.inl gk))), (xv, .inl (dJ, 3000, .inr (.inl gv))), (xs, .inl (dN, 3000, .inl gs)), (xo, .inl (dZ, 3000, .inl go)), (yk, .inl (dJ, 3000, .inr (.inl jk))), (yn, .inl (dJ, 3000, .inr (.inl jn))), (yw, .inl (dN, 3000, .inl jw))] s.heap.size = A at hD ⊢
  have hA : ∀ q : Nat, s.heap.size ≤ q → A q := fun q h => by rw [← hAe]; exact Or.inr h
  have hS : va_S A s.heap s.heap [] := va_S.rf
  have hP : va_P (dC, dI) vwCl [(h, .inr (3, [.int way, .int size, .int grace, .int life, .int taken, .int late, .int mark, .int (nI O.length), .ref xk, .ref xv, .ref xs, .ref xo, .int (nI cnt), .ref yk, .ref yn, .ref yw])), (xk, .inl (dJ, 3000, .inr (.inl gk))), (xv, .inl (dJ, 3000, .inr (.inl gv))), (xs, .inl (dN, 3000, .inl gs)), (xo, .inl (dZ, 3000, .inl go)), (yk, .inl (dJ, 3000, .inr (.inl jk))), (yn, .inl (dJ, 3000, .inr (.inl jn))), (yw, .inl (dN, 3000, .inl jw))] s.heap := hP
  have hl := lv_entry ([.ref h, .long key, .long value, .int wh]) (n := 9) (Nat.le_of_ble_eq_true rfl)
  rw [lg_entry_eq]
  generalize (lg_sl ([.ref h, .long key, .long value, .int wh]) ++ List.replicate (9 - (lg_sl ([.ref h, .long key, .long value, .int wh])).length) Slot.unset).toArray = ls at hl ⊢
  have hl : lv_has ls 9 [(0, .ref h), (1, .long key), (3, .long value), (5, .int wh)] := hl
  obtain ⟨mk, hmk⟩ : ∃ mk : Int32, mk = if mark < wh then wh else mark := ⟨_, rfl⟩
  have hsz0 : ¬ size = 0 := by intro h; rw [h] at z2; exact absurd z2 (by decide)
  have loop : ∀ (Lc : List sj_E) (j : Nat) (Oc : List sj_O) (K1 V1 : Nat → Int64) (S1 g1 : Nat → Int32) (j1 j2 : Nat → Int64) (j3 : Nat → Int32) (H : Heap) (locs : List Loc) (ls : Array Slot), Lc.length + Oc.length ≤ 2001 → md_rel way size Lc (cnt + 1) K1 V1 S1 g1 → mo_rep Oc j1 j2 j3 → sj_take way size grace life taken late mark L O key value wh = sj_fin j size grace mk (life + 1) (taken + 1) late Lc Oc → va_P (dC, dI) vwCl [(h, .inr (3, [.int way, .int size, .int grace, .int (life + 1), .int (taken + 1), .int late, .int mk, .int (nI Oc.length), .ref xk, .ref xv, .ref xs, .ref xo, .int (nI (cnt + 1)), .ref yk, .ref yn, .ref yw])), (xk, .inl (dJ, 3000, .inr (.inl K1))), (xv, .inl (dJ, 3000, .inr (.inl V1))), (xs, .inl (dN, 3000, .inl S1)), (xo, .inl (dZ, 3000, .inl g1)), (yk, .inl (dJ, 3000, .inr (.inl j1))), (yn, .inl (dJ, 3000, .inr (.inl j2))), (yw, .inl (dN, 3000, .inl j3))] H → va_D A [(h, .inr (3, [.int way, .int size, .int grace, .int (life + 1), .int (taken + 1), .int late, .int mk, .int (nI Oc.length), .ref xk, .ref xv, .ref xs, .ref xo, .int (nI (cnt + 1)), .ref yk, .ref yn, .ref yw])), (xk, .inl (dJ, 3000, .inr (.inl K1))), (xv, .inl (dJ, 3000, .inr (.inl V1))), (xs, .inl (dN, 3000, .inl S1)), (xo, .inl (dZ, 3000, .inl g1)), (yk, .inl (dJ, 3000, .inr (.inl j1))), (yn, .inl (dJ, 3000, .inr (.inl j2))), (yw, .inl (dN, 3000, .inl j3))] → va_S A s.heap H locs → lv_has ls 9 [(0, .ref h), (7, .int (nI j)), (8, .int (md_io (md_lst size grace mk K1 S1 g1 (cnt + 1))))] → W p l e (headSpec (ws_ yX3_take cX3_take 9 (some .int)) ({ frames := 3, cells := 0, slots := 0, locals := 68 })).room s m ([.ref h, .long key, .long value, .int wh] : List Value).toArray below meth c H locs 0 0 (MQ below (va_Qi (fun (r : Int32) (u : (Int32 × Int32 × Int32 × Int32) × List sj_E × List sj_O × (Nat × (Nat → Int64) × (Nat → Int64) × (Nat → Int32) × (Nat → Int32)) × (Nat → Int64) × (Nat → Int64) × (Nat → Int32)) => (r, u.1, u.2.1, u.2.2.1) = sj_take way size grace life taken late mark L O key value wh ∧ md_rel way size u.2.1 u.2.2.2.1.1 u.2.2.2.1.2.1 u.2.2.2.1.2.2.1 u.2.2.2.1.2.2.2.1 u.2.2.2.1.2.2.2.2 ∧ mo_rep u.2.2.1 u.2.2.2.2.1 u.2.2.2.2.2.1 u.2.2.2.2.2.2 ∧ u.2.2.2.1.1 ≤ cnt + 1) (sj_B (dC, dI) A (fun u : (Int32 × Int32 × Int32 × Int32) × List sj_E × List sj_O × (Nat × (Nat → Int64) × (Nat → Int64) × (Nat → Int32) × (Nat → Int32)) × (Nat → Int64) × (Nat → Int64) × (Nat → Int32) => [(h, .inr (3, [.int way, .int size, .int grace, .int u.1.1, .int u.1.2.1, .int u.1.2.2.1, .int u.1.2.2.2, .int (nI u.2.2.1.length), .ref xk, .ref xv, .ref xs, .ref xo, .int (nI u.2.2.2.1.1), .ref yk, .ref yn, .ref yw])), (xk, .inl (dJ, 3000, .inr (.inl u.2.2.2.1.2.1))), (xv, .inl (dJ, 3000, .inr (.inl u.2.2.2.1.2.2.1))), (xs, .inl (dN, 3000, .inl u.2.2.2.1.2.2.2.1)), (xo, .inl (dZ, 3000, .inl u.2.2.2.1.2.2.2.2)), (yk, .inl (dJ, 3000, .inr (.inl u.2.2.2.2.1))), (yn, .inl (dJ, 3000, .inr (.inl u.2.2.2.2.2.1))), (yw, .inl (dN, 3000, .inl u.2.2.2.2.2.2))])) A) ([.ref h, .long key, .long value, .int wh] : List Value).toArray s 0 0 A) (F0 m 187 ls []) := by
    intro Lc
    induction Lc with
    | nil =>
      intro j Oc K1 V1 S1 g1 j1 j2 j3 H locs ls h1 hr1 hm1 hinv hP hD hS hl
      have hst := md_stop (grace := grace) (mark := mk) hr1 (by omega) z2 z3 z4 z5 (fun x T h => by cases h)
      rw [hst] at hl
      refine lv_iload hx hb dX3_take_187 (lv_at hl 2 rfl) ?_
      refine lv_if_lt (tgt := 210) hx hb dX3_take_189 (by decide) (fun c189 => ?_) (fun c189 => absurd md_io_none c189)
      refine lv_iload hx hb dX3_take_210 (lv_at hl 1 rfl) ?_
      exact W.iret (v := nI j) hx hb hr (fun t ht hW => ⟨⟨nI j, ((life + 1, taken + 1, late, mk), [], Oc, (cnt + 1, K1, V1, S1, g1), (j1, j2, j3)), rfl, ⟨(hinv.trans (sj_fin_stop (fun x T h => by cases h))).symm, hr1, hm1, Nat.le_refl _⟩, by rw [ht]; exact hP, hD⟩, hS.F ht⟩) hS.2.2 dX3_take_212
    | cons x T ih =>
      intro j Oc K1 V1 S1 g1 j1 j2 j3 H locs ls h1 hr1 hm1 hinv hP hD hS hl
      have h1 : T.length + 1 + Oc.length ≤ 2001 := h1
      by_cases hcl : sj_cl size grace mk x.1
      · skip
        obtain ⟨b, hlst, hbc, f1, f2⟩ := md_go (grace := grace) (mark := mk) hr1 (by omega) z2 hcl
        rw [hlst] at hl
        refine lv_iload hx hb dX3_take_187 (lv_at hl 2 rfl) ?_
        refine lv_if_lt (tgt := 210) hx hb dX3_take_189 (by decide) (fun c189 => absurd c189 (nI_pos (n := b) (by omega))) (fun c189 => ?_)
        refine lv_aload_n hx hb dX3_take_192 rfl (lv_at hl 0 rfl) ?_
        refine lv_iload hx hb dX3_take_193 (lv_at hl 2 rfl) ?_
        refine sj_cvi (y := nI b) rfl ?_
        refine sj_callWv (As := [.int (nI b)]) (rest := []) (wr := []) ⟨hx, hb, hml, hown, hts⟩ (metX3_out l dC dI dJ dN dZ _ h xk xv xs xo yk yn yw Oc.length (cnt + 1) way size grace (life + 1) (taken + 1) late mk K1 V1 S1 g1 j1 j2 j3 (by omega) (by omega) b hbc) (cwV 1 hts (lw_V q287 q289 qs8 q14 q290) rfl rfl rfl (by decide +kernel) ⟨Nat.le_of_ble_eq_true rfl, Nat.le_of_ble_eq_true rfl⟩) hK hP hD hS hA [0, 1, 2, 3, 4, 5, 6, 7] [] rfl rfl rfl (by decide) (by decide) (by decide) 3 rfl rfl rfl rfl hl.1 rfl (Nat.le_of_ble_eq_true rfl) dX3_take_195 ⟨(Nat.le_of_ble_eq_true rfl), (Nat.le_of_ble_eq_true rfl)⟩ (fun u H locs hw hP hD hS => ?_)
        have hP : va_P (dC, dI) vwCl [(h, .inr (3, [.int way, .int size, .int grace, .int (life + 1), .int (taken + 1), .int late, .int mk, .int (nI (Oc.length + 1)), .ref xk, .ref xv, .ref xs, .ref xo, .int (nI (cnt + 1)), .ref yk, .ref yn, .ref yw])), (xk, .inl (dJ, 3000, .inr (.inl K1))), (xv, .inl (dJ, 3000, .inr (.inl V1))), (xs, .inl (dN, 3000, .inl S1)), (xo, .inl (dZ, 3000, .inl u)), (yk, .inl (dJ, 3000, .inr (.inl (vp_updL j1 Oc.length (K1 b))))), (yn, .inl (dJ, 3000, .inr (.inl (vp_updL j2 Oc.length (md_num way K1 V1 S1 g1 (K1 b) (S1 b) (cnt + 1)))))), (yw, .inl (dN, 3000, .inl (upd j3 Oc.length ((S1 b + 1) * size - 1))))] H := hP
        have hD : va_D A [(h, .inr (3, [.int way, .int size, .int grace, .int (life + 1), .int (taken + 1), .int late, .int mk, .int (nI (Oc.length + 1)), .ref xk, .ref xv, .ref xs, .ref xo, .int (nI (cnt + 1)), .ref yk, .ref yn, .ref yw])), (xk, .inl (dJ, 3000, .inr (.inl K1))), (xv, .inl (dJ, 3000, .inr (.inl V1))), (xs, .inl (dN, 3000, .inl S1)), (xo, .inl (dZ, 3000, .inl u)), (yk, .inl (dJ, 3000, .inr (.inl (vp_updL j1 Oc.length (K1 b))))), (yn, .inl (dJ, 3000, .inr (.inl (vp_updL j2 Oc.length (md_num way K1 V1 S1 g1 (K1 b) (S1 b) (cnt + 1)))))), (yw, .inl (dN, 3000, .inl (upd j3 Oc.length ((S1 b + 1) * size - 1))))] := hD
        refine lv_iinc (v := nI (j + 1)) (lv' := [(7, .int (nI (j + 1))), (0, .ref h), (8, .int (md_io (some b)))]) hx hb dX3_take_198 hl (k := 1) rfl (nI_1 _) (by decide) rfl (fun ls hl => ?_)
        refine lv_aload_n hx hb dX3_take_201 rfl (lv_at hl 1 rfl) ?_
        refine sj_callRi (As := []) (rest := []) ⟨hx, hb, hml, hown, hts⟩ (metX3_least l dC dI dJ dN dZ h xk xv xs xo yk yn yw (Oc.length + 1) (cnt + 1) way size grace (life + 1) (taken + 1) late mk K1 S1 u (by omega)) (cwV 0 hts (lw_V q283 q285 qs7 q14 q286) rfl rfl rfl (by decide +kernel) ⟨Nat.le_of_ble_eq_true rfl, Nat.le_of_ble_eq_true rfl⟩) hK hP [0, 1, 3, 4] rfl 3 rfl rfl rfl rfl hl.1 rfl (Nat.le_of_ble_eq_true rfl) dX3_take_202 ⟨(Nat.le_of_ble_eq_true rfl), (Nat.le_of_ble_eq_true rfl)⟩ (fun v hv => ?_)
        subst hv
        refine lv_istore (lv' := [(8, .int (md_io (md_lst size grace mk K1 S1 u (cnt + 1)))), (7, .int (nI (j + 1))), (0, .ref h)]) hx hb dX3_take_205 hl (by decide) rfl (fun ls hl => ?_)
        refine lv_goto (tgt := 187) hx hb dX3_take_207 (by decide) ?_
        have hlen : (Oc ++ [sj_out size x]).length = Oc.length + 1 := by simp
        rw [← hlen] at hP hD
        have hbr := hr1.1 b hbc
        have hnum : md_num way K1 V1 S1 g1 (K1 b) (S1 b) (cnt + 1) = x.2.2 := by rw [f1, f2, hr1.2.2.1, sj_lk, if_pos ⟨rfl, rfl⟩]
        exact ih (j + 1) (Oc ++ [sj_out size x]) K1 V1 S1 u _ _ _ H locs ls (by rw [hlen]; omega) (md_after hr1 (fun q hq => by rw [hw q hq, f1, f2])) (mo_rep_add hm1 (y := (S1 b + 1) * size - 1) (by rw [sj_when hbr.1 hbr.2 z2 z3, f1]; rfl) (fun q => by rw [f2]; rfl) (fun q => by rw [hnum]; rfl) (fun _ => rfl)) (hinv.trans (sj_fin_go hcl)) hP hD hS (lv_sub hl [2, 1, 0] rfl)
      · skip
        have hst := md_stop (grace := grace) (mark := mk) hr1 (by omega) z2 z3 z4 z5 (fun x' T' h => by cases h; exact hcl)
        rw [hst] at hl
        refine lv_iload hx hb dX3_take_187 (lv_at hl 2 rfl) ?_
        refine lv_if_lt (tgt := 210) hx hb dX3_take_189 (by decide) (fun c189 => ?_) (fun c189 => absurd md_io_none c189)
        refine lv_iload hx hb dX3_take_210 (lv_at hl 1 rfl) ?_
        exact W.iret (v := nI j) hx hb hr (fun t ht hW => ⟨⟨nI j, ((life + 1, taken + 1, late, mk), x :: T, Oc, (cnt + 1, K1, V1, S1, g1), (j1, j2, j3)), rfl, ⟨(hinv.trans (sj_fin_stop (fun x' T' h => by cases h; exact hcl))).symm, hr1, hm1, Nat.le_refl _⟩, by rw [ht]; exact hP, hD⟩, hS.F ht⟩) hS.2.2 dX3_take_212
  refine lv_lload_n hx hb dX3_take_0 rfl (lv_at hl 1 rfl) ?_
  refine lv_ldc2 (v := (-1)) hx hb hown (hts _ q275) dX3_take_1 ?_
  refine sj_lc_lt (tgt := 46) hx hb dX3_take_4 dX3_take_5 (by decide) (fun c4 => ?_) (fun c4 => ?_)
  · skip
    refine lv_bipush (v := (-3)) hx hb dX3_take_46 (by decide) ?_
    exact W.iret (v := (-3)) hx hb hr (fun t ht hW => ⟨⟨(-3), ((life, taken, late, mark), L, O, (cnt, gk, gv, gs, go), (jk, jn, jw)), rfl, ⟨by rw [sj_take, if_pos (Or.inr (Or.inl c4))], hrel, hmo, Nat.le_succ _⟩, by rw [ht]; exact hP, hD⟩, hS.F ht⟩) hS.2.2 dX3_take_48
  · skip
    refine lv_lload_n hx hb dX3_take_8 rfl (lv_at hl 2 rfl) ?_
    refine lv_ldc2 (v := (-1)) hx hb hown (hts _ q275) dX3_take_9 ?_
    refine sj_lc_lt (tgt := 46) hx hb dX3_take_12 dX3_take_13 (by decide) (fun c12 => ?_) (fun c12 => ?_)
    · skip
      refine lv_bipush (v := (-3)) hx hb dX3_take_46 (by decide) ?_
      exact W.iret (v := (-3)) hx hb hr (fun t ht hW => ⟨⟨(-3), ((life, taken, late, mark), L, O, (cnt, gk, gv, gs, go), (jk, jn, jw)), rfl, ⟨by rw [sj_take, if_pos (Or.inr (Or.inr (Or.inl c12)))], hrel, hmo, Nat.le_succ _⟩, by rw [ht]; exact hP, hD⟩, hS.F ht⟩) hS.2.2 dX3_take_48
    · skip
      refine lv_lload_n hx hb dX3_take_16 rfl (lv_at hl 2 rfl) ?_
      refine lv_ldc2 (v := 1000000000000) hx hb hown (hts _ q276) dX3_take_17 ?_
      refine sj_lc_gt (tgt := 46) hx hb dX3_take_20 dX3_take_21 (by decide) (fun c20 => ?_) (fun c20 => ?_)
      · skip
        refine lv_bipush (v := (-3)) hx hb dX3_take_46 (by decide) ?_
        exact W.iret (v := (-3)) hx hb hr (fun t ht hW => ⟨⟨(-3), ((life, taken, late, mark), L, O, (cnt, gk, gv, gs, go), (jk, jn, jw)), rfl, ⟨by rw [sj_take, if_pos (Or.inr (Or.inr (Or.inr (Or.inl c20))))], hrel, hmo, Nat.le_succ _⟩, by rw [ht]; exact hP, hD⟩, hS.F ht⟩) hS.2.2 dX3_take_48
      · skip
        refine lv_iload hx hb dX3_take_24 (lv_at hl 3 rfl) ?_
        refine lv_if_lt (tgt := 46) hx hb dX3_take_26 (by decide) (fun c26 => ?_) (fun c26 => ?_)
        · skip
          refine lv_bipush (v := (-3)) hx hb dX3_take_46 (by decide) ?_
          exact W.iret (v := (-3)) hx hb hr (fun t ht hW => ⟨⟨(-3), ((life, taken, late, mark), L, O, (cnt, gk, gv, gs, go), (jk, jn, jw)), rfl, ⟨by rw [sj_take, if_pos (Or.inr (Or.inr (Or.inr (Or.inr (Or.inl c26)))))], hrel, hmo, Nat.le_succ _⟩, by rw [ht]; exact hP, hD⟩, hS.F ht⟩) hS.2.2 dX3_take_48
        · skip
          refine lv_iload hx hb dX3_take_29 (lv_at hl 3 rfl) ?_
          refine lv_ldc (v := 1000000000) hx hb hown (hts _ q277) dX3_take_31 ?_
          refine lv_icmp_gt (tgt := 46) hx hb dX3_take_33 (by decide) (fun c33 => ?_) (fun c33 => ?_)
          · skip
            refine lv_bipush (v := (-3)) hx hb dX3_take_46 (by decide) ?_
            exact W.iret (v := (-3)) hx hb hr (fun t ht hW => ⟨⟨(-3), ((life, taken, late, mark), L, O, (cnt, gk, gv, gs, go), (jk, jn, jw)), rfl, ⟨by rw [sj_take, if_pos (Or.inr (Or.inr (Or.inr (Or.inr (Or.inr (c33))))))], hrel, hmo, Nat.le_succ _⟩, by rw [ht]; exact hP, hD⟩, hS.F ht⟩) hS.2.2 dX3_take_48
          · skip
            refine lv_aload_n hx hb dX3_take_36 rfl (lv_at hl 0 rfl) ?_
            refine va_get (D := (dC, dI)) (ci := 3) (v := .int life) (C := RX3) (T := TX3) (N := 16) hx hb hts in_X3 hown hK hP 0 rfl rfl 3 (by decide) (hts _ q220) (fun _ h9 => h9) rfl dX3_take_37 ?_
            refine lv_sipush (v := 3000) hx hb dX3_take_40 (by decide) ?_
            refine lv_icmp_ne (tgt := 49) hx hb dX3_take_43 (by decide) (fun c43 => ?_) (fun c43 => ?_)
            · skip
              have hrej : ¬ sj_rej life key value wh := fun h => h.elim c43 (fun h => h.elim c4 (fun h => h.elim c12 (fun h => h.elim c20 (fun h => h.elim c26 c33))))
              refine lv_aload_n hx hb dX3_take_49 rfl (lv_at hl 0 rfl) ?_
              refine lv_dup hx hb dX3_take_50 rfl ?_
              refine va_get (D := (dC, dI)) (ci := 3) (v := .int life) (C := RX3) (T := TX3) (N := 16) hx hb hts in_X3 hown hK hP 0 rfl rfl 3 (by decide) (hts _ q220) (fun _ h9 => h9) rfl dX3_take_51 ?_
              refine lv_iconst (v := 1) hx hb dX3_take_54 (by decide) ?_
              refine lv_iadd hx hb dX3_take_55 ?_
              refine va_put (D := (dC, dI)) (ci := 3) (v := .int (life + 1)) (ty := .int) (C := RX3) (T := TX3) (N := 16) hx hb hts in_X3 tyX3 tyX3_ok nmX3 hown hK hP hD hS 0 rfl rfl 3 (by decide) (hts _ q220) (fun _ h9 => h9) rfl (by decide +kernel) rfl rfl (Nat.le_of_ble_eq_true rfl) dX3_take_56 (fun H locs hP hD hS => ?_)
              have hP : va_P (dC, dI) vwCl [(h, .inr (3, [.int way, .int size, .int grace, .int (life + 1), .int taken, .int late, .int mark, .int (nI O.length), .ref xk, .ref xv, .ref xs, .ref xo, .int (nI cnt), .ref yk, .ref yn, .ref yw])), (xk, .inl (dJ, 3000, .inr (.inl gk))), (xv, .inl (dJ, 3000, .inr (.inl gv))), (xs, .inl (dN, 3000, .inl gs)), (xo, .inl (dZ, 3000, .inl go)), (yk, .inl (dJ, 3000, .inr (.inl jk))), (yn, .inl (dJ, 3000, .inr (.inl jn))), (yw, .inl (dN, 3000, .inl jw))] H := hP
              have hD : va_D A [(h, .inr (3, [.int way, .int size, .int grace, .int (life + 1), .int taken, .int late, .int mark, .int (nI O.length), .ref xk, .ref xv, .ref xs, .ref xo, .int (nI cnt), .ref yk, .ref yn, .ref yw])), (xk, .inl (dJ, 3000, .inr (.inl gk))), (xv, .inl (dJ, 3000, .inr (.inl gv))), (xs, .inl (dN, 3000, .inl gs)), (xo, .inl (dZ, 3000, .inl go)), (yk, .inl (dJ, 3000, .inr (.inl jk))), (yn, .inl (dJ, 3000, .inr (.inl jn))), (yw, .inl (dN, 3000, .inl jw))] := hD
              refine lv_aload_n hx hb dX3_take_59 rfl (lv_at hl 0 rfl) ?_
              refine lv_dup hx hb dX3_take_60 rfl ?_
              refine va_get (D := (dC, dI)) (ci := 3) (v := .int taken) (C := RX3) (T := TX3) (N := 16) hx hb hts in_X3 hown hK hP 0 rfl rfl 4 (by decide) (hts _ q221) (fun _ h9 => h9) rfl dX3_take_61 ?_
              refine lv_iconst (v := 1) hx hb dX3_take_64 (by decide) ?_
              refine lv_iadd hx hb dX3_take_65 ?_
              refine va_put (D := (dC, dI)) (ci := 3) (v := .int (taken + 1)) (ty := .int) (C := RX3) (T := TX3) (N := 16) hx hb hts in_X3 tyX3 tyX3_ok nmX3 hown hK hP hD hS 0 rfl rfl 4 (by decide) (hts _ q221) (fun _ h9 => h9) rfl (by decide +kernel) rfl rfl (Nat.le_of_ble_eq_true rfl) dX3_take_66 (fun H locs hP hD hS => ?_)
              have hP : va_P (dC, dI) vwCl [(h, .inr (3, [.int way, .int size, .int grace, .int (life + 1), .int (taken + 1), .int late, .int mark, .int (nI O.length), .ref xk, .ref xv, .ref xs, .ref xo, .int (nI cnt), .ref yk, .ref yn, .ref yw])), (xk, .inl (dJ, 3000, .inr (.inl gk))), (xv, .inl (dJ, 3000, .inr (.inl gv))), (xs, .inl (dN, 3000, .inl gs)), (xo, .inl (dZ, 3000, .inl go)), (yk, .inl (dJ, 3000, .inr (.inl jk))), (yn, .inl (dJ, 3000, .inr (.inl jn))), (yw, .inl (dN, 3000, .inl jw))] H := hP
              have hD : va_D A [(h, .inr (3, [.int way, .int size, .int grace, .int (life + 1), .int (taken + 1), .int late, .int mark, .int (nI O.length), .ref xk, .ref xv, .ref xs, .ref xo, .int (nI cnt), .ref yk, .ref yn, .ref yw])), (xk, .inl (dJ, 3000, .inr (.inl gk))), (xv, .inl (dJ, 3000, .inr (.inl gv))), (xs, .inl (dN, 3000, .inl gs)), (xo, .inl (dZ, 3000, .inl go)), (yk, .inl (dJ, 3000, .inr (.inl jk))), (yn, .inl (dJ, 3000, .inr (.inl jn))), (yw, .inl (dN, 3000, .inl jw))] := hD
              refine lv_lload_n hx hb dX3_take_69 rfl (lv_at hl 1 rfl) ?_
              refine lv_lconst (v := 0) hx hb dX3_take_70 (by decide) ?_
              refine sj_lc_lt (tgt := 81) hx hb dX3_take_71 dX3_take_72 (by decide) (fun c71 => ?_) (fun c71 => ?_)
              · skip
                refine lv_iconst (v := (-1)) hx hb dX3_take_81 (by decide) ?_
                exact W.iret (v := (-1)) hx hb hr (fun t ht hW => ⟨⟨(-1), ((life + 1, taken + 1, late, mark), L, O, (cnt, gk, gv, gs, go), (jk, jn, jw)), rfl, ⟨by rw [sj_take, if_neg hrej, if_pos (Or.inl c71)], hrel, hmo, Nat.le_succ _⟩, by rw [ht]; exact hP, hD⟩, hS.F ht⟩) hS.2.2 dX3_take_82
              · skip
                refine lv_lload_n hx hb dX3_take_75 rfl (lv_at hl 2 rfl) ?_
                refine lv_lconst (v := 0) hx hb dX3_take_76 (by decide) ?_
                refine sj_lc_ge (tgt := 83) hx hb dX3_take_77 dX3_take_78 (by decide) (fun c77 => ?_) (fun c77 => ?_)
                · skip
                  have c77n : ¬ value < 0 := fun h => absurd c77 (Int64.not_le.mpr h)
                  have hneg : ¬ (key < 0 ∨ value < 0) := fun h => h.elim c71 c77n
                  have hdv := sj_div c26 c33 z2
                  have hvv := sj_v01 c77n c20
                  have hciff : md_cl size grace mark (wh / size) ↔ sj_cl size grace mark (wh / size) := md_cl_iff hdv.1 (sj_sp1 hdv.1 hdv.2 z2)
                  refine lv_iload hx hb dX3_take_83 (lv_at hl 3 rfl) ?_
                  refine lv_aload_n hx hb dX3_take_85 rfl (lv_at hl 0 rfl) ?_
                  refine va_get (D := (dC, dI)) (ci := 3) (v := .int size) (C := RX3) (T := TX3) (N := 16) hx hb hts in_X3 hown hK hP 0 rfl rfl 1 (by decide) (hts _ q218) (fun _ h9 => h9) rfl dX3_take_86 ?_
                  refine lv_idiv hx hb dX3_take_89 hsz0 ?_
                  refine lv_istore (lv' := [(6, .int (wh / size)), (0, .ref h), (1, .long key), (3, .long value), (5, .int wh)]) hx hb dX3_take_90 hl (by decide) rfl (fun ls hl => ?_)
                  refine lv_aload_n hx hb dX3_take_92 rfl (lv_at hl 1 rfl) ?_
                  refine lv_iload hx hb dX3_take_93 (lv_at hl 0 rfl) ?_
                  refine sj_callRi (As := [.int (wh / size)]) (rest := []) ⟨hx, hb, hml, hown, hts⟩ (metX3_isClosed l dC dI dJ dN dZ h xk xv xs xo yk yn yw O.length cnt way size grace (life + 1) (taken + 1) late mark (wh / size)) (cwV 1 hts (lw_V q278 q280 qs6 q14 q281) rfl rfl rfl (by decide +kernel) ⟨Nat.le_of_ble_eq_true rfl, Nat.le_of_ble_eq_true rfl⟩) hK hP [0] rfl 3 rfl rfl rfl rfl hl.1 rfl (Nat.le_of_ble_eq_true rfl) dX3_take_95 ⟨Nat.zero_le _, Nat.zero_le _⟩ (fun v hv => ?_)
                  refine lv_if_eq (tgt := 114) hx hb dX3_take_98 (by decide) (fun c98 => ?_) (fun c98 => ?_)
                  · skip
                    have c98 := fun h => sj_i0 hv c98 (hciff.mpr h)
                    have hall : sj_take way size grace life taken late mark L O key value wh = sj_fin 0 size grace mk (life + 1) (taken + 1) late (sj_up way L (wh / size) key value) O := by rw [sj_take, if_neg hrej, if_neg hneg, if_neg c98, hmk]
                    refine lv_aload_n hx hb dX3_take_114 rfl (lv_at hl 1 rfl) ?_
                    refine va_get (D := (dC, dI)) (ci := 3) (v := .ref xk) (C := RX3) (T := TX3) (N := 16) hx hb hts in_X3 hown hK hP 0 rfl rfl 8 (by decide) (hts _ q225) (fun _ h9 => h9) rfl dX3_take_115 ?_
                    refine lv_aload_n hx hb dX3_take_118 rfl (lv_at hl 1 rfl) ?_
                    refine va_get (D := (dC, dI)) (ci := 3) (v := .int (nI cnt)) (C := RX3) (T := TX3) (N := 16) hx hb hts in_X3 hown hK hP 0 rfl rfl 12 (by decide) (hts _ q229) (fun _ h9 => h9) rfl dX3_take_119 ?_
                    refine lv_lload_n hx hb dX3_take_122 rfl (lv_at hl 2 rfl) ?_
                    refine sj_last hx hb hK hP hD hS 1 0 rfl rfl cnt rfl (by omega) (by omega) dX3_take_123 (fun H locs hP hD hS => ?_)
                    have hP : va_P (dC, dI) vwCl [(h, .inr (3, [.int way, .int size, .int grace, .int (life + 1), .int (taken + 1), .int late, .int mark, .int (nI O.length), .ref xk, .ref xv, .ref xs, .ref xo, .int (nI cnt), .ref yk, .ref yn, .ref yw])), (xk, .inl (dJ, 3000, .inr (.inl (vp_updL gk cnt key)))), (xv, .inl (dJ, 3000, .inr (.inl gv))), (xs, .inl (dN, 3000, .inl gs)), (xo, .inl (dZ, 3000, .inl go)), (yk, .inl (dJ, 3000, .inr (.inl jk))), (yn, .inl (dJ, 3000, .inr (.inl jn))), (yw, .inl (dN, 3000, .inl jw))] H := hP
                    have hD : va_D A [(h, .inr (3, [.int way, .int size, .int grace, .int (life + 1), .int (taken + 1), .int late, .int mark, .int (nI O.length), .ref xk, .ref xv, .ref xs, .ref xo, .int (nI cnt), .ref yk, .ref yn, .ref yw])), (xk, .inl (dJ, 3000, .inr (.inl (vp_updL gk cnt key)))), (xv, .inl (dJ, 3000, .inr (.inl gv))), (xs, .inl (dN, 3000, .inl gs)), (xo, .inl (dZ, 3000, .inl go)), (yk, .inl (dJ, 3000, .inr (.inl jk))), (yn, .inl (dJ, 3000, .inr (.inl jn))), (yw, .inl (dN, 3000, .inl jw))] := hD
                    refine lv_aload_n hx hb dX3_take_124 rfl (lv_at hl 1 rfl) ?_
                    refine va_get (D := (dC, dI)) (ci := 3) (v := .ref xv) (C := RX3) (T := TX3) (N := 16) hx hb hts in_X3 hown hK hP 0 rfl rfl 9 (by decide) (hts _ q226) (fun _ h9 => h9) rfl dX3_take_125 ?_
                    refine lv_aload_n hx hb dX3_take_128 rfl (lv_at hl 1 rfl) ?_
                    refine va_get (D := (dC, dI)) (ci := 3) (v := .int (nI cnt)) (C := RX3) (T := TX3) (N := 16) hx hb hts in_X3 hown hK hP 0 rfl rfl 12 (by decide) (hts _ q229) (fun _ h9 => h9) rfl dX3_take_129 ?_
                    refine lv_lload_n hx hb dX3_take_132 rfl (lv_at hl 3 rfl) ?_
                    refine sj_last hx hb hK hP hD hS 2 0 rfl rfl cnt rfl (by omega) (by omega) dX3_take_133 (fun H locs hP hD hS => ?_)
                    have hP : va_P (dC, dI) vwCl [(h, .inr (3, [.int way, .int size, .int grace, .int (life + 1), .int (taken + 1), .int late, .int mark, .int (nI O.length), .ref xk, .ref xv, .ref xs, .ref xo, .int (nI cnt), .ref yk, .ref yn, .ref yw])), (xk, .inl (dJ, 3000, .inr (.inl (vp_updL gk cnt key)))), (xv, .inl (dJ, 3000, .inr (.inl (vp_updL gv cnt value)))), (xs, .inl (dN, 3000, .inl gs)), (xo, .inl (dZ, 3000, .inl go)), (yk, .inl (dJ, 3000, .inr (.inl jk))), (yn, .inl (dJ, 3000, .inr (.inl jn))), (yw, .inl (dN, 3000, .inl jw))] H := hP
                    have hD : va_D A [(h, .inr (3, [.int way, .int size, .int grace, .int (life + 1), .int (taken + 1), .int late, .int mark, .int (nI O.length), .ref xk, .ref xv, .ref xs, .ref xo, .int (nI cnt), .ref yk, .ref yn, .ref yw])), (xk, .inl (dJ, 3000, .inr (.inl (vp_updL gk cnt key)))), (xv, .inl (dJ, 3000, .inr (.inl (vp_updL gv cnt value)))), (xs, .inl (dN, 3000, .inl gs)), (xo, .inl (dZ, 3000, .inl go)), (yk, .inl (dJ, 3000, .inr (.inl jk))), (yn, .inl (dJ, 3000, .inr (.inl jn))), (yw, .inl (dN, 3000, .inl jw))] := hD
                    refine lv_aload_n hx hb dX3_take_134 rfl (lv_at hl 1 rfl) ?_
                    refine va_get (D := (dC, dI)) (ci := 3) (v := .ref xs) (C := RX3) (T := TX3) (N := 16) hx hb hts in_X3 hown hK hP 0 rfl rfl 10 (by decide) (hts _ q227) (fun _ h9 => h9) rfl dX3_take_135 ?_
                    refine lv_aload_n hx hb dX3_take_138 rfl (lv_at hl 1 rfl) ?_
                    refine va_get (D := (dC, dI)) (ci := 3) (v := .int (nI cnt)) (C := RX3) (T := TX3) (N := 16) hx hb hts in_X3 hown hK hP 0 rfl rfl 12 (by decide) (hts _ q229) (fun _ h9 => h9) rfl dX3_take_139 ?_
                    refine lv_iload hx hb dX3_take_142 (lv_at hl 0 rfl) ?_
                    refine sj_iast hx hb hK hP hD hS 3 1 rfl rfl cnt rfl (by omega) (by omega) dX3_take_144 (fun H locs hP hD hS => ?_)
                    have hP : va_P (dC, dI) vwCl [(h, .inr (3, [.int way, .int size, .int grace, .int (life + 1), .int (taken + 1), .int late, .int mark, .int (nI O.length), .ref xk, .ref xv, .ref xs, .ref xo, .int (nI cnt), .ref yk, .ref yn, .ref yw])), (xk, .inl (dJ, 3000, .inr (.inl (vp_updL gk cnt key)))), (xv, .inl (dJ, 3000, .inr (.inl (vp_updL gv cnt value)))), (xs, .inl (dN, 3000, .inl (upd gs cnt (wh / size)))), (xo, .inl (dZ, 3000, .inl go)), (yk, .inl (dJ, 3000, .inr (.inl jk))), (yn, .inl (dJ, 3000, .inr (.inl jn))), (yw, .inl (dN, 3000, .inl jw))] H := hP
                    have hD : va_D A [(h, .inr (3, [.int way, .int size, .int grace, .int (life + 1), .int (taken + 1), .int late, .int mark, .int (nI O.length), .ref xk, .ref xv, .ref xs, .ref xo, .int (nI cnt), .ref yk, .ref yn, .ref yw])), (xk, .inl (dJ, 3000, .inr (.inl (vp_updL gk cnt key)))), (xv, .inl (dJ, 3000, .inr (.inl (vp_updL gv cnt value)))), (xs, .inl (dN, 3000, .inl (upd gs cnt (wh / size)))), (xo, .inl (dZ, 3000, .inl go)), (yk, .inl (dJ, 3000, .inr (.inl jk))), (yn, .inl (dJ, 3000, .inr (.inl jn))), (yw, .inl (dN, 3000, .inl jw))] := hD
                    refine lv_aload_n hx hb dX3_take_145 rfl (lv_at hl 1 rfl) ?_
                    refine va_get (D := (dC, dI)) (ci := 3) (v := .ref xo) (C := RX3) (T := TX3) (N := 16) hx hb hts in_X3 hown hK hP 0 rfl rfl 11 (by decide) (hts _ q228) (fun _ h9 => h9) rfl dX3_take_146 ?_
                    refine lv_aload_n hx hb dX3_take_149 rfl (lv_at hl 1 rfl) ?_
                    refine va_get (D := (dC, dI)) (ci := 3) (v := .int (nI cnt)) (C := RX3) (T := TX3) (N := 16) hx hb hts in_X3 hown hK hP 0 rfl rfl 12 (by decide) (hts _ q229) (fun _ h9 => h9) rfl dX3_take_150 ?_
                    refine lv_iconst (v := 0) hx hb dX3_take_153 (by decide) ?_
                    refine sj_zast hx hb hK hP hD hS 4 2 rfl rfl cnt rfl (by omega) (by omega) rfl dX3_take_154 (fun H locs hP hD hS => ?_)
                    have hP : va_P (dC, dI) vwCl [(h, .inr (3, [.int way, .int size, .int grace, .int (life + 1), .int (taken + 1), .int late, .int mark, .int (nI O.length), .ref xk, .ref xv, .ref xs, .ref xo, .int (nI cnt), .ref yk, .ref yn, .ref yw])), (xk, .inl (dJ, 3000, .inr (.inl (vp_updL gk cnt key)))), (xv, .inl (dJ, 3000, .inr (.inl (vp_updL gv cnt value)))), (xs, .inl (dN, 3000, .inl (upd gs cnt (wh / size)))), (xo, .inl (dZ, 3000, .inl (upd go cnt 0))), (yk, .inl (dJ, 3000, .inr (.inl jk))), (yn, .inl (dJ, 3000, .inr (.inl jn))), (yw, .inl (dN, 3000, .inl jw))] H := hP
                    have hD : va_D A [(h, .inr (3, [.int way, .int size, .int grace, .int (life + 1), .int (taken + 1), .int late, .int mark, .int (nI O.length), .ref xk, .ref xv, .ref xs, .ref xo, .int (nI cnt), .ref yk, .ref yn, .ref yw])), (xk, .inl (dJ, 3000, .inr (.inl (vp_updL gk cnt key)))), (xv, .inl (dJ, 3000, .inr (.inl (vp_updL gv cnt value)))), (xs, .inl (dN, 3000, .inl (upd gs cnt (wh / size)))), (xo, .inl (dZ, 3000, .inl (upd go cnt 0))), (yk, .inl (dJ, 3000, .inr (.inl jk))), (yn, .inl (dJ, 3000, .inr (.inl jn))), (yw, .inl (dN, 3000, .inl jw))] := hD
                    refine lv_aload_n hx hb dX3_take_155 rfl (lv_at hl 1 rfl) ?_
                    refine lv_dup hx hb dX3_take_156 rfl ?_
                    refine va_get (D := (dC, dI)) (ci := 3) (v := .int (nI cnt)) (C := RX3) (T := TX3) (N := 16) hx hb hts in_X3 hown hK hP 0 rfl rfl 12 (by decide) (hts _ q229) (fun _ h9 => h9) rfl dX3_take_157 ?_
                    refine lv_iconst (v := 1) hx hb dX3_take_160 (by decide) ?_
                    refine lv_iadd hx hb dX3_take_161 ?_
                    refine sj_cvi (y := nI (cnt + 1)) (nI_1 cnt) ?_
                    refine va_put (D := (dC, dI)) (ci := 3) (v := .int (nI (cnt + 1))) (ty := .int) (C := RX3) (T := TX3) (N := 16) hx hb hts in_X3 tyX3 tyX3_ok nmX3 hown hK hP hD hS 0 rfl rfl 12 (by decide) (hts _ q229) (fun _ h9 => h9) rfl (by decide +kernel) rfl rfl (Nat.le_of_ble_eq_true rfl) dX3_take_162 (fun H locs hP hD hS => ?_)
                    have hP : va_P (dC, dI) vwCl [(h, .inr (3, [.int way, .int size, .int grace, .int (life + 1), .int (taken + 1), .int late, .int mark, .int (nI O.length), .ref xk, .ref xv, .ref xs, .ref xo, .int (nI (cnt + 1)), .ref yk, .ref yn, .ref yw])), (xk, .inl (dJ, 3000, .inr (.inl (vp_updL gk cnt key)))), (xv, .inl (dJ, 3000, .inr (.inl (vp_updL gv cnt value)))), (xs, .inl (dN, 3000, .inl (upd gs cnt (wh / size)))), (xo, .inl (dZ, 3000, .inl (upd go cnt 0))), (yk, .inl (dJ, 3000, .inr (.inl jk))), (yn, .inl (dJ, 3000, .inr (.inl jn))), (yw, .inl (dN, 3000, .inl jw))] H := hP
                    have hD : va_D A [(h, .inr (3, [.int way, .int size, .int grace, .int (life + 1), .int (taken + 1), .int late, .int mark, .int (nI O.length), .ref xk, .ref xv, .ref xs, .ref xo, .int (nI (cnt + 1)), .ref yk, .ref yn, .ref yw])), (xk, .inl (dJ, 3000, .inr (.inl (vp_updL gk cnt key)))), (xv, .inl (dJ, 3000, .inr (.inl (vp_updL gv cnt value)))), (xs, .inl (dN, 3000, .inl (upd gs cnt (wh / size)))), (xo, .inl (dZ, 3000, .inl (upd go cnt 0))), (yk, .inl (dJ, 3000, .inr (.inl jk))), (yn, .inl (dJ, 3000, .inr (.inl jn))), (yw, .inl (dN, 3000, .inl jw))] := hD
                    refine lv_aload_n hx hb dX3_take_165 rfl (lv_at hl 1 rfl) ?_
                    refine lv_aload_n hx hb dX3_take_166 rfl (lv_at hl 1 rfl) ?_
                    refine va_get (D := (dC, dI)) (ci := 3) (v := .int mark) (C := RX3) (T := TX3) (N := 16) hx hb hts in_X3 hown hK hP 0 rfl rfl 6 (by decide) (hts _ q223) (fun _ h9 => h9) rfl dX3_take_167 ?_
                    refine lv_iload hx hb dX3_take_170 (lv_at hl 4 rfl) ?_
                    refine va_mmax (x := mark) (y := wh) hx hb (hml.trans hl.1.symm) hown (hts _ q282) (hts _ q149) (hts _ q15) (hts _ q150) (Nat.le_of_ble_eq_true rfl) (Nat.le_of_ble_eq_true rfl) (Nat.le_of_ble_eq_true rfl) (Nat.le_of_ble_eq_true rfl) dX3_take_172 ?_
                    refine sj_cvi (y := mk) hmk.symm ?_
                    refine va_put (D := (dC, dI)) (ci := 3) (v := .int mk) (ty := .int) (C := RX3) (T := TX3) (N := 16) hx hb hts in_X3 tyX3 tyX3_ok nmX3 hown hK hP hD hS 0 rfl rfl 6 (by decide) (hts _ q223) (fun _ h9 => h9) rfl (by decide +kernel) rfl rfl (Nat.le_of_ble_eq_true rfl) dX3_take_175 (fun H locs hP hD hS => ?_)
                    have hP : va_P (dC, dI) vwCl [(h, .inr (3, [.int way, .int size, .int grace, .int (life + 1), .int (taken + 1), .int late, .int mk, .int (nI O.length), .ref xk, .ref xv, .ref xs, .ref xo, .int (nI (cnt + 1)), .ref yk, .ref yn, .ref yw])), (xk, .inl (dJ, 3000, .inr (.inl (vp_updL gk cnt key)))), (xv, .inl (dJ, 3000, .inr (.inl (vp_updL gv cnt value)))), (xs, .inl (dN, 3000, .inl (upd gs cnt (wh / size)))), (xo, .inl (dZ, 3000, .inl (upd go cnt 0))), (yk, .inl (dJ, 3000, .inr (.inl jk))), (yn, .inl (dJ, 3000, .inr (.inl jn))), (yw, .inl (dN, 3000, .inl jw))] H := hP
                    have hD : va_D A [(h, .inr (3, [.int way, .int size, .int grace, .int (life + 1), .int (taken + 1), .int late, .int mk, .int (nI O.length), .ref xk, .ref xv, .ref xs, .ref xo, .int (nI (cnt + 1)), .ref yk, .ref yn, .ref yw])), (xk, .inl (dJ, 3000, .inr (.inl (vp_updL gk cnt key)))), (xv, .inl (dJ, 3000, .inr (.inl (vp_updL gv cnt value)))), (xs, .inl (dN, 3000, .inl (upd gs cnt (wh / size)))), (xo, .inl (dZ, 3000, .inl (upd go cnt 0))), (yk, .inl (dJ, 3000, .inr (.inl jk))), (yn, .inl (dJ, 3000, .inr (.inl jn))), (yw, .inl (dN, 3000, .inl jw))] := hD
                    refine lv_iconst (v := nI 0) hx hb dX3_take_178 (by decide) ?_
                    refine lv_istore (lv' := [(7, .int (nI 0)), (6, .int (wh / size)), (0, .ref h), (1, .long key), (3, .long value), (5, .int wh)]) hx hb dX3_take_179 hl (by decide) rfl (fun ls hl => ?_)
                    refine lv_aload_n hx hb dX3_take_181 rfl (lv_at hl 2 rfl) ?_
                    refine sj_callRi (As := []) (rest := []) ⟨hx, hb, hml, hown, hts⟩ (metX3_least l dC dI dJ dN dZ h xk xv xs xo yk yn yw O.length (cnt + 1) way size grace (life + 1) (taken + 1) late mk _ _ _ (by omega)) (cwV 0 hts (lw_V q283 q285 qs7 q14 q286) rfl rfl rfl (by decide +kernel) ⟨Nat.le_of_ble_eq_true rfl, Nat.le_of_ble_eq_true rfl⟩) hK hP [0, 1, 3, 4] rfl 3 rfl rfl rfl rfl hl.1 rfl (Nat.le_of_ble_eq_true rfl) dX3_take_182 ⟨(Nat.le_of_ble_eq_true rfl), (Nat.le_of_ble_eq_true rfl)⟩ (fun v2 hv2 => ?_)
                    subst hv2
                    refine lv_istore (lv' := [(8, .int (md_io (md_lst size grace mk (vp_updL gk cnt key) (upd gs cnt (wh / size)) (upd go cnt 0) (cnt + 1)))), (7, .int (nI 0)), (6, .int (wh / size)), (0, .ref h), (1, .long key), (3, .long value), (5, .int wh)]) hx hb dX3_take_185 hl (by decide) rfl (fun ls hl => ?_)
                    exact loop (sj_up way L (wh / size) key value) 0 O _ _ _ _ _ _ _ H locs ls (by have := sj_up_le way L (wh / size) key value; omega) (md_add hrel (by omega) hdv.1 hdv.2 hvv.1 hvv.2 (fun _ => rfl) (fun _ => rfl) (fun _ => rfl) (fun _ => rfl)) hmo hall hP hD hS (lv_sub hl [3, 1, 0] rfl)
                  · skip
                    have c98 := hciff.mp (sj_i1 hv c98)
                    refine lv_aload_n hx hb dX3_take_101 rfl (lv_at hl 1 rfl) ?_
                    refine lv_dup hx hb dX3_take_102 rfl ?_
                    refine va_get (D := (dC, dI)) (ci := 3) (v := .int late) (C := RX3) (T := TX3) (N := 16) hx hb hts in_X3 hown hK hP 0 rfl rfl 5 (by decide) (hts _ q222) (fun _ h9 => h9) rfl dX3_take_103 ?_
                    refine lv_iconst (v := 1) hx hb dX3_take_106 (by decide) ?_
                    refine lv_iadd hx hb dX3_take_107 ?_
                    refine va_put (D := (dC, dI)) (ci := 3) (v := .int (late + 1)) (ty := .int) (C := RX3) (T := TX3) (N := 16) hx hb hts in_X3 tyX3 tyX3_ok nmX3 hown hK hP hD hS 0 rfl rfl 5 (by decide) (hts _ q222) (fun _ h9 => h9) rfl (by decide +kernel) rfl rfl (Nat.le_of_ble_eq_true rfl) dX3_take_108 (fun H locs hP hD hS => ?_)
                    have hP : va_P (dC, dI) vwCl [(h, .inr (3, [.int way, .int size, .int grace, .int (life + 1), .int (taken + 1), .int (late + 1), .int mark, .int (nI O.length), .ref xk, .ref xv, .ref xs, .ref xo, .int (nI cnt), .ref yk, .ref yn, .ref yw])), (xk, .inl (dJ, 3000, .inr (.inl gk))), (xv, .inl (dJ, 3000, .inr (.inl gv))), (xs, .inl (dN, 3000, .inl gs)), (xo, .inl (dZ, 3000, .inl go)), (yk, .inl (dJ, 3000, .inr (.inl jk))), (yn, .inl (dJ, 3000, .inr (.inl jn))), (yw, .inl (dN, 3000, .inl jw))] H := hP
                    have hD : va_D A [(h, .inr (3, [.int way, .int size, .int grace, .int (life + 1), .int (taken + 1), .int (late + 1), .int mark, .int (nI O.length), .ref xk, .ref xv, .ref xs, .ref xo, .int (nI cnt), .ref yk, .ref yn, .ref yw])), (xk, .inl (dJ, 3000, .inr (.inl gk))), (xv, .inl (dJ, 3000, .inr (.inl gv))), (xs, .inl (dN, 3000, .inl gs)), (xo, .inl (dZ, 3000, .inl go)), (yk, .inl (dJ, 3000, .inr (.inl jk))), (yn, .inl (dJ, 3000, .inr (.inl jn))), (yw, .inl (dN, 3000, .inl jw))] := hD
                    refine lv_bipush (v := (-2)) hx hb dX3_take_111 (by decide) ?_
                    exact W.iret (v := (-2)) hx hb hr (fun t ht hW => ⟨⟨(-2), ((life + 1, taken + 1, late + 1, mark), L, O, (cnt, gk, gv, gs, go), (jk, jn, jw)), rfl, ⟨by rw [sj_take, if_neg hrej, if_neg hneg, if_pos c98], hrel, hmo, Nat.le_succ _⟩, by rw [ht]; exact hP, hD⟩, hS.F ht⟩) hS.2.2 dX3_take_113
                · skip
                  refine lv_iconst (v := (-1)) hx hb dX3_take_81 (by decide) ?_
                  exact W.iret (v := (-1)) hx hb hr (fun t ht hW => ⟨⟨(-1), ((life + 1, taken + 1, late, mark), L, O, (cnt, gk, gv, gs, go), (jk, jn, jw)), rfl, ⟨by rw [sj_take, if_neg hrej, if_pos (Or.inr (Int64.not_le.mp c77))], hrel, hmo, Nat.le_succ _⟩, by rw [ht]; exact hP, hD⟩, hS.F ht⟩) hS.2.2 dX3_take_82
            · skip
              refine lv_bipush (v := (-3)) hx hb dX3_take_46 (by decide) ?_
              exact W.iret (v := (-3)) hx hb hr (fun t ht hW => ⟨⟨(-3), ((life, taken, late, mark), L, O, (cnt, gk, gv, gs, go), (jk, jn, jw)), rfl, ⟨by rw [sj_take, if_pos (Or.inl c43)], hrel, hmo, Nat.le_succ _⟩, by rw [ht]; exact hP, hD⟩, hS.F ht⟩) hS.2.2 dX3_take_48
end
section
/-! THE LAW: rows for its walk -/
set_option maxRecDepth 100000
section SJ4
variable {p : Program} {l : Launch} {e : Env} {R : Room} {s : State} {m : MethodId} {args : Array Value} {below : List Frame} {meth : Method} {c : Code} {H : Heap} {locs : List Loc} {cells slots : Nat} {Q : State → Prop}
variable {cc : ByteArray} {pc : Nat} {ls : Array Slot} {rest : List Value} {D : va_G} {A : Nat → Prop} {tys : List (ClassId × FieldType)} {ws : va_W} {H0 : Heap}
theorem sj_sld (hexec : p.tables.exec = Jvm.exec) (hb : c.code = cc) {b L : Nat} {sc : Nat → Int32} (hX : va_X b L sc s H0) (hbl : b < H0.size) (hbA : ¬ A b) (hS : va_S A H0 H locs) {i : Int32} (k : Nat) (hi : i = nI k) (hk : k < L) (hn : L < 2 ^ 31) (hdg : decode cc pc = .ok (.iaload, 1))
    (kk : W p l e R s m args below meth c H locs cells slots Q (F0 m (pc + 1) ls (.int (sc k) :: rest))) : W p l e R s m args below meth c H locs cells slots Q (F0 m pc ls (.int i :: .ref b :: rest)) := by
  subst hi
  refine va_sld hexec hb hX hbl hbA hS (vp_in_nI hk hn) hdg ?_
  rw [nI_clamp (by omega)]
  exact kk
theorem sj_callI0 {S' : Type} {post : S' → Prop} {w1 : S' → va_W} {y : MethodName} {bytes : ByteArray} {maxL nL n index mc ms : Nat} {wy : List Cond} {rm : Room} {Ts : List Cond} {own : String} {b : Nat} {As st : List Value} {wc wr : va_W}
    (S : CallFix p m c cc nL s args Ts own) (hM : Met l y wy rm (sj_Pw D wc tys H.size (.ref b :: As)) (sj_Qv post w1 D wc H.size) mc ms (va_A wc H.size)) (cw : CallB R s args own index y bytes maxL none wy rm mc ms n ∧ y.name = "<init>" ∧ (Cond.instanceMethod y).before args s = true) (hK : va_K D vwCl tys s) (hP : va_P D vwCl ws H) (hD : va_D A ws) (hS : va_S A H0 H locs) (hA : ∀ q, H0.size ≤ q → A q) (isC isR : List Nat) (hsC : isC.filterMap (fun i => ws[i]?) = wc) (hC : isC.map (fun i => ws[i]?) = wc.map some) (hR : isR.map (fun i => ws[i]?) = wr.map some) (hnC : va_nd isC = true) (hnR : va_nd isR = true) (hdis : ∀ i ∈ isR, i ∉ isC) (hn : As.length = n) (hsize : ls.size = nL) (hst : st = As.reverse ++ .ref b :: rest) (hW : (rest.map fun v => v.category).sum ≤ 8) (hdg : decode cc pc = .ok (.invokespecial index, 3)) (hf : cells + mc ≤ R.cells ∧ slots + ms ≤ R.slots)
    (kk : ∀ (u : S') (H1 : Heap) (locs1 : List Loc), post u → va_P D vwCl (wr ++ w1 u) H1 → va_D A (wr ++ w1 u) → va_S A H0 H1 locs1 → W p l e R s m args below meth c H1 locs1 (cells + mc) (slots + ms) Q (F0 m (pc + 3) ls rest)) : W p l e R s m args below meth c H locs cells slots Q (F0 m pc ls st) := by
  have hPc := hP.sub isC hsC
  have hDc := hD.sub isC hnC hC
  have hFc := va_free hD hS hA isC hC
  refine va_callv (va_runI S hM cw ⟨sj_fbW, fun U hU hWm => ⟨rfl, by rw [hU], by rw [hU]; exact hPc, va_K.moved hWm.alike hK, hDc.weaken (fun _ _ _ _ => trivial)⟩⟩ rfl hn hsize hst (lv_room hW) hdg hf) hS (fun q _ h => hFc q h) hFc (fun u t H1 locs1 ht hvm hw hB hz1 hk1 hS1 => ?_)
  obtain ⟨hP1, hD1⟩ := hB
  rw [ht] at hP1
  obtain ⟨hP2, hD2⟩ := va_join hP hD isC isR hC hR hnR hdis hk1 hFc hP1 hD1
  exact kk u H1 locs1 hw hP2 hD2 hS1
end SJ4
theorem sj_arr {args : Array Value} {s : State} {ty : FieldType} (h : (Cond.arrayClass ty).before args s = true) : ∃ cA : ClassId, ArrOfT s cA ty ∧ s.vm.findClass ("[" ++ ty.toString) = some cA := by
  obtain ⟨cA, kA, comp, h1, h2, h3⟩ := Cond.arrayClass_spec h
  exact ⟨cA, fun n z => ⟨fun k h => (by cases h), kA, h2, comp, h3⟩, h1⟩
theorem sj_known {s : State} {args : Array Value} (hts : ∀ w ∈ lw_all, w.before args s = true) : ∃ (dC : Nat → ClassId) (dI : Nat → Nat → Nat) (dJ dN dZ : ClassId), va_K (dC, dI) vwCl (sj_t dJ dN dZ) s := by
  obtain ⟨c0, i0, k0⟩ := u_known (C := RX0) (T := TX0) (N := 9) (n := 9) hts in_X0 (hts _ q17)
  obtain ⟨c1, i1, k1⟩ := u_known (C := RX1) (T := TX1) (N := 4) (n := 4) hts in_X1 (hts _ q25)
  obtain ⟨c2, i2, k2⟩ := u_known (C := RX2) (T := TX2) (N := 4) (n := 4) hts in_X2 (hts _ q47)
  obtain ⟨c3, i3, k3⟩ := u_known (C := RX3) (T := TX3) (N := 16) (n := 16) hts in_X3 (hts _ q212)
  obtain ⟨dJ, j1, j2⟩ := sj_arr (hts _ q44)
  obtain ⟨dN, n1, n2⟩ := sj_arr (hts _ q45)
  obtain ⟨dZ, z1, z2⟩ := sj_arr (hts _ q266)
  refine ⟨fun k => if k = 0 then c0 else if k = 1 then c1 else if k = 2 then c2 else c3, fun k => if k = 0 then i0 else if k = 1 then i1 else if k = 2 then i2 else i3, dJ, dN, dZ, ?_, ?_⟩
  · intro k q hq
    match k, hq with
    | 0, hq => cases hq; exact k0
    | 1, hq => cases hq; exact k1
    | 2, hq => cases hq; exact k2
    | 3, hq => cases hq; exact k3
    | k + 4, hq => simp [vwCl] at hq
  · intro k q hq
    match k, hq with
    | 0, hq => cases hq; exact ⟨j1, j2⟩
    | 1, hq => cases hq; exact ⟨n1, n2⟩
    | 2, hq => cases hq; exact ⟨z1, z2⟩
    | k + 3, hq => simp [sj_t] at hq
theorem sj_lim {k L : Nat} (hL : L ≤ 384) (hk : k ≤ 64) (h : ¬ nI L - nI 6 < nI (6 * k)) : 6 * k + 6 ≤ L := by
  rw [Int32.lt_iff_toInt_lt, pk_sub_toInt (by omega) (by omega), nI_toInt (by omega)] at h
  omega
theorem sj_good {a b c : Int32} (h : ¬ sj_bad a b c) : 1 ≤ b.toInt ∧ b.toInt ≤ 1000 ∧ 0 ≤ c.toInt ∧ c.toInt ≤ 1000 := by
  have e0 : (0 : Int32).toInt = 0 := by decide
  have e1 : (1 : Int32).toInt = 1 := by decide
  have e2 : (1000 : Int32).toInt = 1000 := by decide
  simp only [sj_bad, not_or, Int32.lt_iff_toInt_lt] at h
  omega
theorem sj_fin_len {j : Nat} {size grace mk all taken late : Int32} {L1 : List sj_E} {O : List sj_O} : (sj_fin j size grace mk all taken late L1 O).2.2.1.length + (sj_fin j size grace mk all taken late L1 O).2.2.2.length = L1.length + O.length := by
  unfold sj_fin
  have h := congrArg List.length (List.takeWhile_append_dropWhile (p := sj_clb size grace mk) (l := L1))
  rw [List.length_append] at h
  simp only [List.length_append, List.length_map]
  omega
theorem sj_take_len {way size grace all taken late mark : Int32} {L L2 : List sj_E} {O O2 : List sj_O} {key value : Int64} {wh r : Int32} {q : Int32 × Int32 × Int32 × Int32} (h : (r, q, L2, O2) = sj_take way size grace all taken late mark L O key value wh) : L2.length + O2.length ≤ L.length + O.length + 1 := by
  have e1 : L2 = (sj_take way size grace all taken late mark L O key value wh).2.2.1 := by rw [← h]
  have e2 : O2 = (sj_take way size grace all taken late mark L O key value wh).2.2.2 := by rw [← h]
  rw [e1, e2]
  unfold sj_take
  split
  · exact Nat.le_succ _
  · split
    · exact Nat.le_succ _
    · split
      · exact Nat.le_succ _
      · rw [sj_fin_len]
        have := sj_up_le way L (wh / size) key value
        omega
theorem sj_6 (k : Nat) : nI (6 * k) + Int32.ofInt 6 = nI (6 * (k + 1)) := by
  rw [show (Int32.ofInt 6 : Int32) = nI 6 from by decide, nI_add]
  rfl
/-! THE CLAIM OUT OF ONE WALK OF THE LAW'S BODY. Your part is whole_start (and what it stands on); all else here is the same for every law, but numbers. -/
def lw_P (b : Addr) (xs : List Int32) (args : Array Value) (s : State) : Prop := args = #[.ref b] ∧ s.IntsAt b xs ∧ xs.length ≤ 384 ∧ (Jvm.Cond.and given_1 narrow_1).before args s = true
def lw_Q (_ : Array Value) (s : State) (o : Outcome) (t : State) : Prop := o = .returned (some (.int 1)) ∧ Framed s o t [] 600000 7302250
def lw_Z (below : List Frame) (a : Array Value) (s : State) : State → Prop := fun t => ∃ o, t.status = .running ∧ Ended t below o ∧ lw_Q a s o t
/-- the law's own end, with 1 on the stack, nothing written that was there before, its room as the claim has it -/
theorem lw_ret {p : Program} {l : Launch} {e : Env} {s : State} {m : MethodId} {below : List Frame} {meth : Method} {c : Code} {b : Nat} (hx : p.tables.exec = Jvm.exec) (hb : c.code = code) (hr : meth.sig.returnType = ret) (hlocks : meth.locks = false) {pc : Nat} {H : Heap} {ls : Array Slot} (hdg : decode code pc = .ok (.ireturn, 1)) : W p l e room_1 s m #[Value.ref b] below meth c H [] 600000 7302250 (lw_Z below #[Value.ref b] s) (F0 m pc ls [.int 1]) := by
  intro T hT X
  obtain ⟨fs, hret, hrun, hended, hW, hframe⟩ := X.leave (v := some (.int 1)) (hlocks := hlocks) (fun h => by rw [hr] at h; cases h)
  have hmeth' : T.vm.method? m = some meth := X.method'
  refine ⟨T.setFrames fs, ?_, .returned (some (.int 1)), hrun, hended, rfl, ⟨_, rfl⟩, hW, hframe⟩
  jvm_step X.here [X.here.top, hx, hb, hdg, hmeth', hr, ret, narrow_b1]
  (try refine ⟨rfl, ?_⟩); (try refine ⟨rfl, ?_⟩)
  first | (intro acts; rw [hret _ acts rfl rfl rfl]) | rw [hret _ _ rfl rfl rfl]
  exact Steps.refl _
/-- what holds at the law's entry: the machine, the code, the tables' words (any of lw_tbl by 'hts w (by decide +kernel)'), the script of L ints xs at the cell b, what the Statement gives of the start (any of its parts by flat_of_before) -/
def lw_At (p : Program) (s : State) (m : MethodId) (meth : Method) (c : Code) (b L : Nat) (xs : Nat → Int32) : Prop :=
  p.tables.exec = Jvm.exec ∧ c.code = code ∧ meth.sig.returnType = ret ∧ c.maxLocals = 4 ∧ s.vm.findClass R_law = some m.cls ∧ (∀ w ∈ lw_tbl, w.before #[Value.ref b] s = true) ∧ va_X b L xs s s.heap ∧ b < s.heap.size ∧ meth.locks = false ∧ (Jvm.Cond.and given_1 narrow_1).before #[Value.ref b] s = true
end
section
/-! THE LAW: its loop -/
set_option maxRecDepth 100000
set_option maxHeartbeats 8000000 in
set_option maxRecDepth 100000 in
/-- the law's loop at its head: k calls done, both sides tell the picture (Lc, Oc) -/
theorem law_loop {p : Program} {l : Launch} {e : Env} {s : State} {m : MethodId} {below : List Frame} {meth : Method} {c : Code} {dC : Nat → ClassId} {dI : Nat → Nat → Nat} {dJ dN dZ : ClassId} {A : Nat → Prop} {b L : Nat} {sc : Nat → Int32} (hL : L ≤ 384) (hx : p.tables.exec = Jvm.exec) (hb : c.code = cL_law) (hr : meth.sig.returnType = ret) (hlocks : meth.locks = false) (hml : c.maxLocals = 4) (hown : s.vm.findClass R_law = some m.cls) (hts : ∀ w ∈ lw_all, w.before #[Value.ref b] s = true) (hX : va_X b L sc s s.heap) (hbl : b < s.heap.size) (hK : va_K (dC, dI) vwCl (sj_t dJ dN dZ) s) (hA : ∀ q, s.heap.size ≤ q → A q) (hA2 : ∀ q, A q → s.heap.size ≤ q) (h hs ho hm xk xv xs xo yk yn yw : Nat) : ∀ (fu k : Nat) (way size grace all taken late mark : Int32) (Lc : List sj_E) (Oc : List sj_O) (ka sa na cap : Nat) (fk : Nat → Int64) (fs : Nat → Int32) (fn : Nat → Int64) (kb vb wb cb : Nat) (pk pv pw : Nat → Int64) (cnt : Nat) (gk gv : Nat → Int64) (gs go : Nat → Int32) (jk jn : Nat → Int64) (jw : Nat → Int32) (H : Heap) (locs : List Loc) (ls : Array Slot), (64 - k < fu) → (k ≤ 64) → (16 ≤ cap) → (cap ≤ 128) → (Lc.length ≤ cap) → (16 ≤ cb) → (cb ≤ 128) → (Oc.length ≤ cb) → (Lc.length + Oc.length ≤ k) → (cnt ≤ k) → (sp_rep Lc fk fs fn) → (op_rep Oc pk pv pw) → (md_rel way size Lc cnt gk gv gs go) → (mo_rep Oc jk jn jw) → (1 ≤ size.toInt) → (size.toInt ≤ 1000) → (0 ≤ grace.toInt) → (grace.toInt ≤ 1000) → va_P (dC, dI) vwCl [(h, .inr (0, [.ref hs, .ref ho, .int way, .int size, .int grace, .int all, .int taken, .int late, .int mark])), (hs, .inr (1, [.ref ka, .ref sa, .ref na, .int (nI Lc.length)])), (ka, .inl (dJ, cap, .inr (.inl fk))), (sa, .inl (dN, cap, .inl fs)), (na, .inl (dJ, cap, .inr (.inl fn))), (ho, .inr (2, [.ref kb, .ref vb, .ref wb, .int (nI Oc.length)])), (kb, .inl (dJ, cb, .inr (.inl pk))), (vb, .inl (dJ, cb, .inr (.inl pv))), (wb, .inl (dJ, cb, .inr (.inl pw))), (hm, .inr (3, [.int way, .int size, .int grace, .int all, .int taken, .int late, .int mark, .int (nI Oc.length), .ref xk, .ref xv, .ref xs, .ref xo, .int (nI cnt), .ref yk, .ref yn, .ref yw])), (xk, .inl (dJ, 3000, .inr (.inl gk))), (xv, .inl (dJ, 3000, .inr (.inl gv))), (xs, .inl (dN, 3000, .inl gs)), (xo, .inl (dZ, 3000, .inl go)), (yk, .inl (dJ, 3000, .inr (.inl jk))), (yn, .inl (dJ, 3000, .inr (.inl jn))), (yw, .inl (dN, 3000, .inl jw))] H → va_D A [(h, .inr (0, [.ref hs, .ref ho, .int way, .int size, .int grace, .int all, .int taken, .int late, .int mark])), (hs, .inr (1, [.ref ka, .ref sa, .ref na, .int (nI Lc.length)])), (ka, .inl (dJ, cap, .inr (.inl fk))), (sa, .inl (dN, cap, .inl fs)), (na, .inl (dJ, cap, .inr (.inl fn))), (ho, .inr (2, [.ref kb, .ref vb, .ref wb, .int (nI Oc.length)])), (kb, .inl (dJ, cb, .inr (.inl pk))), (vb, .inl (dJ, cb, .inr (.inl pv))), (wb, .inl (dJ, cb, .inr (.inl pw))), (hm, .inr (3, [.int way, .int size, .int grace, .int all, .int taken, .int late, .int mark, .int (nI Oc.length), .ref xk, .ref xv, .ref xs, .ref xo, .int (nI cnt), .ref yk, .ref yn, .ref yw])), (xk, .inl (dJ, 3000, .inr (.inl gk))), (xv, .inl (dJ, 3000, .inr (.inl gv))), (xs, .inl (dN, 3000, .inl gs)), (xo, .inl (dZ, 3000, .inl go)), (yk, .inl (dJ, 3000, .inr (.inl jk))), (yn, .inl (dJ, 3000, .inr (.inl jn))), (yw, .inl (dN, 3000, .inl jw))] → va_S A s.heap H locs → lv_has ls 4 [(0, .ref b), (1, .ref h), (2, .ref hm), (3, .int (nI (6 * k)))] → W p l e room_1 s m #[Value.ref b] below meth c H locs (17 + 195 * k) (21129 + 24960 * k) (lw_Z below #[Value.ref b] s) (F0 m 18 ls []) := by
  have hbA : ¬ A b := fun h => absurd (hA2 b h) (Nat.not_le.mpr hbl)
  intro fu
  induction fu with
  | zero => intro k way size grace all taken late mark Lc Oc ka sa na cap fk fs fn kb vb wb cb pk pv pw cnt gk gv gs go jk jn jw H locs ls h1; exact absurd h1 (by omega)
  | succ fu ih =>
    intro k way size grace all taken late mark Lc Oc ka sa na cap fk fs fn kb vb wb cb pk pv pw cnt gk gv gs go jk jn jw H locs ls h1 h2 a1 a2 a3 b1 b2 b3 hLO hcn r1 r2 hrel hmo z2 z3 z4 z5 hP hD hS hl
    refine lv_iload_n hx hb dL_law_18 rfl (lv_at hl 3 rfl) ?_
    refine lv_aload_n hx hb dL_law_19 rfl (lv_at hl 0 rfl) ?_
    refine va_slen hx hb hX hbl hbA hS dL_law_20 ?_
    refine sj_cvi (y := nI L) rfl ?_
    refine lv_bipush (v := nI 6) hx hb dL_law_21 (by decide) ?_
    refine lv_isub hx hb dL_law_23 ?_
    refine lv_icmp_gt (tgt := 399) hx hb dL_law_24 (by decide) (fun c24 => ?_) (fun c24 => ?_)
    · skip
      refine lv_iconst (v := 1) hx hb dL_law_399 (by decide) ?_
      refine va_forget (fun q hq => hA2 _ (hS.2.2 q hq)) ?_
      refine W.widen (k := 600000) (n := 7302250) (by omega) (by omega) ?_
      exact lw_ret hx hb hr hlocks dL_law_400
    · skip
      have hlim := sj_lim hL h2 c24
      refine lv_aload_n hx hb dL_law_27 rfl (lv_at hl 0 rfl) ?_
      refine lv_iload_n hx hb dL_law_28 rfl (lv_at hl 3 rfl) ?_
      refine sj_sld hx hb hX hbl hbA hS (6 * k) rfl (by omega) (by omega) dL_law_29 ?_
      refine lv_bipush (v := 15) hx hb dL_law_30 (by decide) ?_
      refine lv_iand hx hb dL_law_32 ?_
      obtain ⟨jj, hjj, ejj⟩ := pk_andE (sc (6 * k)) (m := 15) 4 (by decide)
      refine sj_cvi (y := nI jj) ejj ?_
      have hso := hrel.2.2.2.1
      rcases (show jj = 0 ∨ jj = 1 ∨ jj = 2 ∨ jj = 3 ∨ jj = 4 ∨ jj = 5 ∨ jj = 6 ∨ jj = 7 ∨ jj = 8 ∨ 8 < jj by omega) with rfl | rfl | rfl | rfl | rfl | rfl | rfl | rfl | rfl | hj9
      · skip
        refine lv_tableIn (off := 51) (tgt := 84) hx hb dL_law_33 (by decide) (by decide) (by decide) (by decide) ?_
        refine lv_aload_n hx hb dL_law_84 rfl (lv_at hl 1 rfl) ?_
        refine lv_aload_n hx hb dL_law_85 rfl (lv_at hl 0 rfl) ?_
        refine lv_iload_n hx hb dL_law_86 rfl (lv_at hl 3 rfl) ?_
        refine lv_iconst (v := nI 1) hx hb dL_law_87 (by decide) ?_
        refine lv_iadd hx hb dL_law_88 ?_
        refine sj_cvi (y := nI (6 * k + 1)) (nI_add _ _) ?_
        refine sj_sld hx hb hX hbl hbA hS (6 * k + 1) rfl (by omega) (by omega) dL_law_89 ?_
        refine lv_aload_n hx hb dL_law_90 rfl (lv_at hl 0 rfl) ?_
        refine lv_iload_n hx hb dL_law_91 rfl (lv_at hl 3 rfl) ?_
        refine lv_iconst (v := nI 2) hx hb dL_law_92 (by decide) ?_
        refine lv_iadd hx hb dL_law_93 ?_
        refine sj_cvi (y := nI (6 * k + 2)) (nI_add _ _) ?_
        refine sj_sld hx hb hX hbl hbA hS (6 * k + 2) rfl (by omega) (by omega) dL_law_94 ?_
        refine lv_aload_n hx hb dL_law_95 rfl (lv_at hl 0 rfl) ?_
        refine lv_iload_n hx hb dL_law_96 rfl (lv_at hl 3 rfl) ?_
        refine lv_iconst (v := nI 3) hx hb dL_law_97 (by decide) ?_
        refine lv_iadd hx hb dL_law_98 ?_
        refine sj_cvi (y := nI (6 * k + 3)) (nI_add _ _) ?_
        refine sj_sld hx hb hX hbl hbA hS (6 * k + 3) rfl (by omega) (by omega) dL_law_99 ?_
        refine sj_callWi (As := [.int (sc (6 * k + 1)), .int (sc (6 * k + 2)), .int (sc (6 * k + 3))]) (rest := []) (wr := [(ka, .inl (dJ, cap, .inr (.inl fk))), (sa, .inl (dN, cap, .inl fs)), (na, .inl (dJ, cap, .inr (.inl fn))), (kb, .inl (dJ, cb, .inr (.inl pk))), (vb, .inl (dJ, cb, .inr (.inl pv))), (wb, .inl (dJ, cb, .inr (.inl pw))), (hm, .inr (3, [.int way, .int size, .int grace, .int all, .int taken, .int late, .int mark, .int (nI Oc.length), .ref xk, .ref xv, .ref xs, .ref xo, .int (nI cnt), .ref yk, .ref yn, .ref yw])), (xk, .inl (dJ, 3000, .inr (.inl gk))), (xv, .inl (dJ, 3000, .inr (.inl gv))), (xs, .inl (dN, 3000, .inl gs)), (xo, .inl (dZ, 3000, .inl go)), (yk, .inl (dJ, 3000, .inr (.inl jk))), (yn, .inl (dJ, 3000, .inr (.inl jn))), (yw, .inl (dN, 3000, .inl jw))]) ⟨hx, hb, hml, hown, hts⟩ (metX0_begin l dC dI dJ dN dZ _ h hs ho way size grace all taken late mark ka sa na Lc.length kb vb wb Oc.length (sc (6 * k + 1)) (sc (6 * k + 2)) (sc (6 * k + 3))) (cwV 3 hts (lw_V q94 q95 q96 q11 q97) rfl rfl rfl (by decide +kernel) ⟨Nat.le_of_ble_eq_true rfl, Nat.le_of_ble_eq_true rfl⟩) hK hP hD hS hA [0, 1, 5] [2, 3, 4, 6, 7, 8, 9, 10, 11, 12, 13, 14, 15, 16] rfl rfl rfl (by decide) (by decide) (by decide) 0 rfl rfl rfl rfl hl.1 rfl (Nat.le_of_ble_eq_true rfl) dL_law_100 ⟨show 17 + 195 * k + 0 ≤ 600000 by omega, show 21129 + 24960 * k + 0 ≤ 7302250 by omega⟩ (fun v u H locs hw hP hD hS => ?_)
        have hP : va_P (dC, dI) vwCl [(ka, .inl (dJ, cap, .inr (.inl fk))), (sa, .inl (dN, cap, .inl fs)), (na, .inl (dJ, cap, .inr (.inl fn))), (kb, .inl (dJ, cb, .inr (.inl pk))), (vb, .inl (dJ, cb, .inr (.inl pv))), (wb, .inl (dJ, cb, .inr (.inl pw))), (hm, .inr (3, [.int way, .int size, .int grace, .int all, .int taken, .int late, .int mark, .int (nI Oc.length), .ref xk, .ref xv, .ref xs, .ref xo, .int (nI cnt), .ref yk, .ref yn, .ref yw])), (xk, .inl (dJ, 3000, .inr (.inl gk))), (xv, .inl (dJ, 3000, .inr (.inl gv))), (xs, .inl (dN, 3000, .inl gs)), (xo, .inl (dZ, 3000, .inl go)), (yk, .inl (dJ, 3000, .inr (.inl jk))), (yn, .inl (dJ, 3000, .inr (.inl jn))), (yw, .inl (dN, 3000, .inl jw)), (h, .inr (0, [.ref hs, .ref ho, .int u.1.1, .int u.1.2.1, .int u.1.2.2.1, .int all, .int u.1.2.2.2.1, .int u.1.2.2.2.2.1, .int u.1.2.2.2.2.2])), (hs, .inr (1, [.ref ka, .ref sa, .ref na, .int (nI u.2.1)])), (ho, .inr (2, [.ref kb, .ref vb, .ref wb, .int (nI u.2.2)]))] H := hP
        have hD : va_D A [(ka, .inl (dJ, cap, .inr (.inl fk))), (sa, .inl (dN, cap, .inl fs)), (na, .inl (dJ, cap, .inr (.inl fn))), (kb, .inl (dJ, cb, .inr (.inl pk))), (vb, .inl (dJ, cb, .inr (.inl pv))), (wb, .inl (dJ, cb, .inr (.inl pw))), (hm, .inr (3, [.int way, .int size, .int grace, .int all, .int taken, .int late, .int mark, .int (nI Oc.length), .ref xk, .ref xv, .ref xs, .ref xo, .int (nI cnt), .ref yk, .ref yn, .ref yw])), (xk, .inl (dJ, 3000, .inr (.inl gk))), (xv, .inl (dJ, 3000, .inr (.inl gv))), (xs, .inl (dN, 3000, .inl gs)), (xo, .inl (dZ, 3000, .inl go)), (yk, .inl (dJ, 3000, .inr (.inl jk))), (yn, .inl (dJ, 3000, .inr (.inl jn))), (yw, .inl (dN, 3000, .inl jw)), (h, .inr (0, [.ref hs, .ref ho, .int u.1.1, .int u.1.2.1, .int u.1.2.2.1, .int all, .int u.1.2.2.2.1, .int u.1.2.2.2.2.1, .int u.1.2.2.2.2.2])), (hs, .inr (1, [.ref ka, .ref sa, .ref na, .int (nI u.2.1)])), (ho, .inr (2, [.ref kb, .ref vb, .ref wb, .int (nI u.2.2)]))] := hD
        have hP : va_P (dC, dI) vwCl [(h, .inr (0, [.ref hs, .ref ho, .int u.1.1, .int u.1.2.1, .int u.1.2.2.1, .int all, .int u.1.2.2.2.1, .int u.1.2.2.2.2.1, .int u.1.2.2.2.2.2])), (hs, .inr (1, [.ref ka, .ref sa, .ref na, .int (nI u.2.1)])), (ka, .inl (dJ, cap, .inr (.inl fk))), (sa, .inl (dN, cap, .inl fs)), (na, .inl (dJ, cap, .inr (.inl fn))), (ho, .inr (2, [.ref kb, .ref vb, .ref wb, .int (nI u.2.2)])), (kb, .inl (dJ, cb, .inr (.inl pk))), (vb, .inl (dJ, cb, .inr (.inl pv))), (wb, .inl (dJ, cb, .inr (.inl pw))), (hm, .inr (3, [.int way, .int size, .int grace, .int all, .int taken, .int late, .int mark, .int (nI Oc.length), .ref xk, .ref xv, .ref xs, .ref xo, .int (nI cnt), .ref yk, .ref yn, .ref yw])), (xk, .inl (dJ, 3000, .inr (.inl gk))), (xv, .inl (dJ, 3000, .inr (.inl gv))), (xs, .inl (dN, 3000, .inl gs)), (xo, .inl (dZ, 3000, .inl go)), (yk, .inl (dJ, 3000, .inr (.inl jk))), (yn, .inl (dJ, 3000, .inr (.inl jn))), (yw, .inl (dN, 3000, .inl jw))] H := hP.sub [14, 15, 0, 1, 2, 16, 3, 4, 5, 6, 7, 8, 9, 10, 11, 12, 13] rfl
        have hD : va_D A [(h, .inr (0, [.ref hs, .ref ho, .int u.1.1, .int u.1.2.1, .int u.1.2.2.1, .int all, .int u.1.2.2.2.1, .int u.1.2.2.2.2.1, .int u.1.2.2.2.2.2])), (hs, .inr (1, [.ref ka, .ref sa, .ref na, .int (nI u.2.1)])), (ka, .inl (dJ, cap, .inr (.inl fk))), (sa, .inl (dN, cap, .inl fs)), (na, .inl (dJ, cap, .inr (.inl fn))), (ho, .inr (2, [.ref kb, .ref vb, .ref wb, .int (nI u.2.2)])), (kb, .inl (dJ, cb, .inr (.inl pk))), (vb, .inl (dJ, cb, .inr (.inl pv))), (wb, .inl (dJ, cb, .inr (.inl pw))), (hm, .inr (3, [.int way, .int size, .int grace, .int all, .int taken, .int late, .int mark, .int (nI Oc.length), .ref xk, .ref xv, .ref xs, .ref xo, .int (nI cnt), .ref yk, .ref yn, .ref yw])), (xk, .inl (dJ, 3000, .inr (.inl gk))), (xv, .inl (dJ, 3000, .inr (.inl gv))), (xs, .inl (dN, 3000, .inl gs)), (xo, .inl (dZ, 3000, .inl go)), (yk, .inl (dJ, 3000, .inr (.inl jk))), (yn, .inl (dJ, 3000, .inr (.inl jn))), (yw, .inl (dN, 3000, .inl jw))] := hD.sub [14, 15, 0, 1, 2, 16, 3, 4, 5, 6, 7, 8, 9, 10, 11, 12, 13] (by decide) rfl
        rcases hw with ⟨hbad, rfl, rfl⟩ | ⟨hbad, rfl, rfl⟩
        · skip
          have hP : va_P (dC, dI) vwCl [(h, .inr (0, [.ref hs, .ref ho, .int way, .int size, .int grace, .int all, .int taken, .int late, .int mark])), (hs, .inr (1, [.ref ka, .ref sa, .ref na, .int (nI Lc.length)])), (ka, .inl (dJ, cap, .inr (.inl fk))), (sa, .inl (dN, cap, .inl fs)), (na, .inl (dJ, cap, .inr (.inl fn))), (ho, .inr (2, [.ref kb, .ref vb, .ref wb, .int (nI Oc.length)])), (kb, .inl (dJ, cb, .inr (.inl pk))), (vb, .inl (dJ, cb, .inr (.inl pv))), (wb, .inl (dJ, cb, .inr (.inl pw))), (hm, .inr (3, [.int way, .int size, .int grace, .int all, .int taken, .int late, .int mark, .int (nI Oc.length), .ref xk, .ref xv, .ref xs, .ref xo, .int (nI cnt), .ref yk, .ref yn, .ref yw])), (xk, .inl (dJ, 3000, .inr (.inl gk))), (xv, .inl (dJ, 3000, .inr (.inl gv))), (xs, .inl (dN, 3000, .inl gs)), (xo, .inl (dZ, 3000, .inl go)), (yk, .inl (dJ, 3000, .inr (.inl jk))), (yn, .inl (dJ, 3000, .inr (.inl jn))), (yw, .inl (dN, 3000, .inl jw))] H := hP
          have hD : va_D A [(h, .inr (0, [.ref hs, .ref ho, .int way, .int size, .int grace, .int all, .int taken, .int late, .int mark])), (hs, .inr (1, [.ref ka, .ref sa, .ref na, .int (nI Lc.length)])), (ka, .inl (dJ, cap, .inr (.inl fk))), (sa, .inl (dN, cap, .inl fs)), (na, .inl (dJ, cap, .inr (.inl fn))), (ho, .inr (2, [.ref kb, .ref vb, .ref wb, .int (nI Oc.length)])), (kb, .inl (dJ, cb, .inr (.inl pk))), (vb, .inl (dJ, cb, .inr (.inl pv))), (wb, .inl (dJ, cb, .inr (.inl pw))), (hm, .inr (3, [.int way, .int size, .int grace, .int all, .int taken, .int late, .int mark, .int (nI Oc.length), .ref xk, .ref xv, .ref xs, .ref xo, .int (nI cnt), .ref yk, .ref yn, .ref yw])), (xk, .inl (dJ, 3000, .inr (.inl gk))), (xv, .inl (dJ, 3000, .inr (.inl gv))), (xs, .inl (dN, 3000, .inl gs)), (xo, .inl (dZ, 3000, .inl go)), (yk, .inl (dJ, 3000, .inr (.inl jk))), (yn, .inl (dJ, 3000, .inr (.inl jn))), (yw, .inl (dN, 3000, .inl jw))] := hD
          refine lv_aload_n hx hb dL_law_103 rfl (lv_at hl 2 rfl) ?_
          refine lv_aload_n hx hb dL_law_104 rfl (lv_at hl 0 rfl) ?_
          refine lv_iload_n hx hb dL_law_105 rfl (lv_at hl 3 rfl) ?_
          refine lv_iconst (v := nI 1) hx hb dL_law_106 (by decide) ?_
          refine lv_iadd hx hb dL_law_107 ?_
          refine sj_cvi (y := nI (6 * k + 1)) (nI_add _ _) ?_
          refine sj_sld hx hb hX hbl hbA hS (6 * k + 1) rfl (by omega) (by omega) dL_law_108 ?_
          refine lv_aload_n hx hb dL_law_109 rfl (lv_at hl 0 rfl) ?_
          refine lv_iload_n hx hb dL_law_110 rfl (lv_at hl 3 rfl) ?_
          refine lv_iconst (v := nI 2) hx hb dL_law_111 (by decide) ?_
          refine lv_iadd hx hb dL_law_112 ?_
          refine sj_cvi (y := nI (6 * k + 2)) (nI_add _ _) ?_
          refine sj_sld hx hb hX hbl hbA hS (6 * k + 2) rfl (by omega) (by omega) dL_law_113 ?_
          refine lv_aload_n hx hb dL_law_114 rfl (lv_at hl 0 rfl) ?_
          refine lv_iload_n hx hb dL_law_115 rfl (lv_at hl 3 rfl) ?_
          refine lv_iconst (v := nI 3) hx hb dL_law_116 (by decide) ?_
          refine lv_iadd hx hb dL_law_117 ?_
          refine sj_cvi (y := nI (6 * k + 3)) (nI_add _ _) ?_
          refine sj_sld hx hb hX hbl hbA hS (6 * k + 3) rfl (by omega) (by omega) dL_law_118 ?_
          refine sj_callWi (As := [.int (sc (6 * k + 1)), .int (sc (6 * k + 2)), .int (sc (6 * k + 3))]) (rest := [.int 0]) (wr := [(h, .inr (0, [.ref hs, .ref ho, .int way, .int size, .int grace, .int all, .int taken, .int late, .int mark])), (hs, .inr (1, [.ref ka, .ref sa, .ref na, .int (nI Lc.length)])), (ka, .inl (dJ, cap, .inr (.inl fk))), (sa, .inl (dN, cap, .inl fs)), (na, .inl (dJ, cap, .inr (.inl fn))), (ho, .inr (2, [.ref kb, .ref vb, .ref wb, .int (nI Oc.length)])), (kb, .inl (dJ, cb, .inr (.inl pk))), (vb, .inl (dJ, cb, .inr (.inl pv))), (wb, .inl (dJ, cb, .inr (.inl pw))), (xk, .inl (dJ, 3000, .inr (.inl gk))), (xv, .inl (dJ, 3000, .inr (.inl gv))), (xs, .inl (dN, 3000, .inl gs)), (xo, .inl (dZ, 3000, .inl go)), (yk, .inl (dJ, 3000, .inr (.inl jk))), (yn, .inl (dJ, 3000, .inr (.inl jn))), (yw, .inl (dN, 3000, .inl jw))]) ⟨hx, hb, hml, hown, hts⟩ (metX3_begin l dC dI dJ dN dZ _ hm xk xv xs xo yk yn yw Oc.length cnt way size grace all taken late mark (sc (6 * k + 1)) (sc (6 * k + 2)) (sc (6 * k + 3))) (cwV 3 hts (lw_V q267 q268 q269 q14 q270) rfl rfl rfl (by decide +kernel) ⟨Nat.le_of_ble_eq_true rfl, Nat.le_of_ble_eq_true rfl⟩) hK hP hD hS hA [9] [0, 1, 2, 3, 4, 5, 6, 7, 8, 10, 11, 12, 13, 14, 15, 16] rfl rfl rfl (by decide) (by decide) (by decide) 3 rfl rfl rfl rfl hl.1 rfl (Nat.le_of_ble_eq_true rfl) dL_law_119 ⟨show 17 + 195 * k + 0 + 0 ≤ 600000 by omega, show 21129 + 24960 * k + 0 + 0 ≤ 7302250 by omega⟩ (fun v u H locs hw hP hD hS => ?_)
          have hP : va_P (dC, dI) vwCl [(h, .inr (0, [.ref hs, .ref ho, .int way, .int size, .int grace, .int all, .int taken, .int late, .int mark])), (hs, .inr (1, [.ref ka, .ref sa, .ref na, .int (nI Lc.length)])), (ka, .inl (dJ, cap, .inr (.inl fk))), (sa, .inl (dN, cap, .inl fs)), (na, .inl (dJ, cap, .inr (.inl fn))), (ho, .inr (2, [.ref kb, .ref vb, .ref wb, .int (nI Oc.length)])), (kb, .inl (dJ, cb, .inr (.inl pk))), (vb, .inl (dJ, cb, .inr (.inl pv))), (wb, .inl (dJ, cb, .inr (.inl pw))), (xk, .inl (dJ, 3000, .inr (.inl gk))), (xv, .inl (dJ, 3000, .inr (.inl gv))), (xs, .inl (dN, 3000, .inl gs)), (xo, .inl (dZ, 3000, .inl go)), (yk, .inl (dJ, 3000, .inr (.inl jk))), (yn, .inl (dJ, 3000, .inr (.inl jn))), (yw, .inl (dN, 3000, .inl jw)), (hm, .inr (3, [.int u.1.1, .int u.1.2.1, .int u.1.2.2.1, .int all, .int u.1.2.2.2.1, .int u.1.2.2.2.2.1, .int u.1.2.2.2.2.2, .int (nI u.2.2), .ref xk, .ref xv, .ref xs, .ref xo, .int (nI u.2.1), .ref yk, .ref yn, .ref yw]))] H := hP
          have hD : va_D A [(h, .inr (0, [.ref hs, .ref ho, .int way, .int size, .int grace, .int all, .int taken, .int late, .int mark])), (hs, .inr (1, [.ref ka, .ref sa, .ref na, .int (nI Lc.length)])), (ka, .inl (dJ, cap, .inr (.inl fk))), (sa, .inl (dN, cap, .inl fs)), (na, .inl (dJ, cap, .inr (.inl fn))), (ho, .inr (2, [.ref kb, .ref vb, .ref wb, .int (nI Oc.length)])), (kb, .inl (dJ, cb, .inr (.inl pk))), (vb, .inl (dJ, cb, .inr (.inl pv))), (wb, .inl (dJ, cb, .inr (.inl pw))), (xk, .inl (dJ, 3000, .inr (.inl gk))), (xv, .inl (dJ, 3000, .inr (.inl gv))), (xs, .inl (dN, 3000, .inl gs)), (xo, .inl (dZ, 3000, .inl go)), (yk, .inl (dJ, 3000, .inr (.inl jk))), (yn, .inl (dJ, 3000, .inr (.inl jn))), (yw, .inl (dN, 3000, .inl jw)), (hm, .inr (3, [.int u.1.1, .int u.1.2.1, .int u.1.2.2.1, .int all, .int u.1.2.2.2.1, .int u.1.2.2.2.2.1, .int u.1.2.2.2.2.2, .int (nI u.2.2), .ref xk, .ref xv, .ref xs, .ref xo, .int (nI u.2.1), .ref yk, .ref yn, .ref yw]))] := hD
          have hP : va_P (dC, dI) vwCl [(h, .inr (0, [.ref hs, .ref ho, .int way, .int size, .int grace, .int all, .int taken, .int late, .int mark])), (hs, .inr (1, [.ref ka, .ref sa, .ref na, .int (nI Lc.length)])), (ka, .inl (dJ, cap, .inr (.inl fk))), (sa, .inl (dN, cap, .inl fs)), (na, .inl (dJ, cap, .inr (.inl fn))), (ho, .inr (2, [.ref kb, .ref vb, .ref wb, .int (nI Oc.length)])), (kb, .inl (dJ, cb, .inr (.inl pk))), (vb, .inl (dJ, cb, .inr (.inl pv))), (wb, .inl (dJ, cb, .inr (.inl pw))), (hm, .inr (3, [.int u.1.1, .int u.1.2.1, .int u.1.2.2.1, .int all, .int u.1.2.2.2.1, .int u.1.2.2.2.2.1, .int u.1.2.2.2.2.2, .int (nI u.2.2), .ref xk, .ref xv, .ref xs, .ref xo, .int (nI u.2.1), .ref yk, .ref yn, .ref yw])), (xk, .inl (dJ, 3000, .inr (.inl gk))), (xv, .inl (dJ, 3000, .inr (.inl gv))), (xs, .inl (dN, 3000, .inl gs)), (xo, .inl (dZ, 3000, .inl go)), (yk, .inl (dJ, 3000, .inr (.inl jk))), (yn, .inl (dJ, 3000, .inr (.inl jn))), (yw, .inl (dN, 3000, .inl jw))] H := hP.sub [0, 1, 2, 3, 4, 5, 6, 7, 8, 16, 9, 10, 11, 12, 13, 14, 15] rfl
          have hD : va_D A [(h, .inr (0, [.ref hs, .ref ho, .int way, .int size, .int grace, .int all, .int taken, .int late, .int mark])), (hs, .inr (1, [.ref ka, .ref sa, .ref na, .int (nI Lc.length)])), (ka, .inl (dJ, cap, .inr (.inl fk))), (sa, .inl (dN, cap, .inl fs)), (na, .inl (dJ, cap, .inr (.inl fn))), (ho, .inr (2, [.ref kb, .ref vb, .ref wb, .int (nI Oc.length)])), (kb, .inl (dJ, cb, .inr (.inl pk))), (vb, .inl (dJ, cb, .inr (.inl pv))), (wb, .inl (dJ, cb, .inr (.inl pw))), (hm, .inr (3, [.int u.1.1, .int u.1.2.1, .int u.1.2.2.1, .int all, .int u.1.2.2.2.1, .int u.1.2.2.2.2.1, .int u.1.2.2.2.2.2, .int (nI u.2.2), .ref xk, .ref xv, .ref xs, .ref xo, .int (nI u.2.1), .ref yk, .ref yn, .ref yw])), (xk, .inl (dJ, 3000, .inr (.inl gk))), (xv, .inl (dJ, 3000, .inr (.inl gv))), (xs, .inl (dN, 3000, .inl gs)), (xo, .inl (dZ, 3000, .inl go)), (yk, .inl (dJ, 3000, .inr (.inl jk))), (yn, .inl (dJ, 3000, .inr (.inl jn))), (yw, .inl (dN, 3000, .inl jw))] := hD.sub [0, 1, 2, 3, 4, 5, 6, 7, 8, 16, 9, 10, 11, 12, 13, 14, 15] (by decide) rfl
          rcases hw with ⟨hbad2, rfl, rfl⟩ | ⟨hbad2, rfl, rfl⟩
          · skip
            have hP : va_P (dC, dI) vwCl [(h, .inr (0, [.ref hs, .ref ho, .int way, .int size, .int grace, .int all, .int taken, .int late, .int mark])), (hs, .inr (1, [.ref ka, .ref sa, .ref na, .int (nI Lc.length)])), (ka, .inl (dJ, cap, .inr (.inl fk))), (sa, .inl (dN, cap, .inl fs)), (na, .inl (dJ, cap, .inr (.inl fn))), (ho, .inr (2, [.ref kb, .ref vb, .ref wb, .int (nI Oc.length)])), (kb, .inl (dJ, cb, .inr (.inl pk))), (vb, .inl (dJ, cb, .inr (.inl pv))), (wb, .inl (dJ, cb, .inr (.inl pw))), (hm, .inr (3, [.int way, .int size, .int grace, .int all, .int taken, .int late, .int mark, .int (nI Oc.length), .ref xk, .ref xv, .ref xs, .ref xo, .int (nI cnt), .ref yk, .ref yn, .ref yw])), (xk, .inl (dJ, 3000, .inr (.inl gk))), (xv, .inl (dJ, 3000, .inr (.inl gv))), (xs, .inl (dN, 3000, .inl gs)), (xo, .inl (dZ, 3000, .inl go)), (yk, .inl (dJ, 3000, .inr (.inl jk))), (yn, .inl (dJ, 3000, .inr (.inl jn))), (yw, .inl (dN, 3000, .inl jw))] H := hP
            have hD : va_D A [(h, .inr (0, [.ref hs, .ref ho, .int way, .int size, .int grace, .int all, .int taken, .int late, .int mark])), (hs, .inr (1, [.ref ka, .ref sa, .ref na, .int (nI Lc.length)])), (ka, .inl (dJ, cap, .inr (.inl fk))), (sa, .inl (dN, cap, .inl fs)), (na, .inl (dJ, cap, .inr (.inl fn))), (ho, .inr (2, [.ref kb, .ref vb, .ref wb, .int (nI Oc.length)])), (kb, .inl (dJ, cb, .inr (.inl pk))), (vb, .inl (dJ, cb, .inr (.inl pv))), (wb, .inl (dJ, cb, .inr (.inl pw))), (hm, .inr (3, [.int way, .int size, .int grace, .int all, .int taken, .int late, .int mark, .int (nI Oc.length), .ref xk, .ref xv, .ref xs, .ref xo, .int (nI cnt), .ref yk, .ref yn, .ref yw])), (xk, .inl (dJ, 3000, .inr (.inl gk))), (xv, .inl (dJ, 3000, .inr (.inl gv))), (xs, .inl (dN, 3000, .inl gs)), (xo, .inl (dZ, 3000, .inl go)), (yk, .inl (dJ, 3000, .inr (.inl jk))), (yn, .inl (dJ, 3000, .inr (.inl jn))), (yw, .inl (dN, 3000, .inl jw))] := hD
            refine lv_icmp_eq (tgt := 393) hx hb dL_law_122 (by decide) (fun c122 => ?_) (fun c122 => absurd rfl c122)
            refine lv_iinc (v := nI (6 * (k + 1))) (lv' := [(3, .int (nI (6 * (k + 1)))), (0, .ref b), (1, .ref h), (2, .ref hm)]) hx hb dL_law_393 hl (k := 3) rfl (sj_6 k) (by decide) rfl (fun ls hl => ?_)
            refine lv_goto (tgt := 18) hx hb dL_law_396 (by decide) ?_
            refine W.widen (k := 17 + 195 * (k + 1)) (n := 21129 + 24960 * (k + 1)) (by omega) (by omega) ?_
            exact ih (k + 1) way size grace all taken late mark Lc Oc ka sa na cap fk fs fn kb vb wb cb pk pv pw cnt gk gv gs go jk jn jw H locs ls (by omega) (by omega) a1 a2 a3 b1 b2 b3 (by omega) (by omega) r1 r2 hrel hmo z2 z3 z4 z5 hP hD hS (lv_sub hl [1, 2, 3, 0] rfl)
          · skip
            exact absurd hbad hbad2
        · skip
          have hP : va_P (dC, dI) vwCl [(h, .inr (0, [.ref hs, .ref ho, .int (sc (6 * k + 1)), .int (sc (6 * k + 2)), .int (sc (6 * k + 3)), .int all, .int 0, .int 0, .int (-1)])), (hs, .inr (1, [.ref ka, .ref sa, .ref na, .int (nI 0)])), (ka, .inl (dJ, cap, .inr (.inl fk))), (sa, .inl (dN, cap, .inl fs)), (na, .inl (dJ, cap, .inr (.inl fn))), (ho, .inr (2, [.ref kb, .ref vb, .ref wb, .int (nI 0)])), (kb, .inl (dJ, cb, .inr (.inl pk))), (vb, .inl (dJ, cb, .inr (.inl pv))), (wb, .inl (dJ, cb, .inr (.inl pw))), (hm, .inr (3, [.int way, .int size, .int grace, .int all, .int taken, .int late, .int mark, .int (nI Oc.length), .ref xk, .ref xv, .ref xs, .ref xo, .int (nI cnt), .ref yk, .ref yn, .ref yw])), (xk, .inl (dJ, 3000, .inr (.inl gk))), (xv, .inl (dJ, 3000, .inr (.inl gv))), (xs, .inl (dN, 3000, .inl gs)), (xo, .inl (dZ, 3000, .inl go)), (yk, .inl (dJ, 3000, .inr (.inl jk))), (yn, .inl (dJ, 3000, .inr (.inl jn))), (yw, .inl (dN, 3000, .inl jw))] H := hP
          have hD : va_D A [(h, .inr (0, [.ref hs, .ref ho, .int (sc (6 * k + 1)), .int (sc (6 * k + 2)), .int (sc (6 * k + 3)), .int all, .int 0, .int 0, .int (-1)])), (hs, .inr (1, [.ref ka, .ref sa, .ref na, .int (nI 0)])), (ka, .inl (dJ, cap, .inr (.inl fk))), (sa, .inl (dN, cap, .inl fs)), (na, .inl (dJ, cap, .inr (.inl fn))), (ho, .inr (2, [.ref kb, .ref vb, .ref wb, .int (nI 0)])), (kb, .inl (dJ, cb, .inr (.inl pk))), (vb, .inl (dJ, cb, .inr (.inl pv))), (wb, .inl (dJ, cb, .inr (.inl pw))), (hm, .inr (3, [.int way, .int size, .int grace, .int all, .int taken, .int late, .int mark, .int (nI Oc.length), .ref xk, .ref xv, .ref xs, .ref xo, .int (nI cnt), .ref yk, .ref yn, .ref yw])), (xk, .inl (dJ, 3000, .inr (.inl gk))), (xv, .inl (dJ, 3000, .inr (.inl gv))), (xs, .inl (dN, 3000, .inl gs)), (xo, .inl (dZ, 3000, .inl go)), (yk, .inl (dJ, 3000, .inr (.inl jk))), (yn, .inl (dJ, 3000, .inr (.inl jn))), (yw, .inl (dN, 3000, .inl jw))] := hD
          refine lv_aload_n hx hb dL_law_103 rfl (lv_at hl 2 rfl) ?_
          refine lv_aload_n hx hb dL_law_104 rfl (lv_at hl 0 rfl) ?_
          refine lv_iload_n hx hb dL_law_105 rfl (lv_at hl 3 rfl) ?_
          refine lv_iconst (v := nI 1) hx hb dL_law_106 (by decide) ?_
          refine lv_iadd hx hb dL_law_107 ?_
          refine sj_cvi (y := nI (6 * k + 1)) (nI_add _ _) ?_
          refine sj_sld hx hb hX hbl hbA hS (6 * k + 1) rfl (by omega) (by omega) dL_law_108 ?_
          refine lv_aload_n hx hb dL_law_109 rfl (lv_at hl 0 rfl) ?_
          refine lv_iload_n hx hb dL_law_110 rfl (lv_at hl 3 rfl) ?_
          refine lv_iconst (v := nI 2) hx hb dL_law_111 (by decide) ?_
          refine lv_iadd hx hb dL_law_112 ?_
          refine sj_cvi (y := nI (6 * k + 2)) (nI_add _ _) ?_
          refine sj_sld hx hb hX hbl hbA hS (6 * k + 2) rfl (by omega) (by omega) dL_law_113 ?_
          refine lv_aload_n hx hb dL_law_114 rfl (lv_at hl 0 rfl) ?_
          refine lv_iload_n hx hb dL_law_115 rfl (lv_at hl 3 rfl) ?_
          refine lv_iconst (v := nI 3) hx hb dL_law_116 (by decide) ?_
          refine lv_iadd hx hb dL_law_117 ?_
          refine sj_cvi (y := nI (6 * k + 3)) (nI_add _ _) ?_
          refine sj_sld hx hb hX hbl hbA hS (6 * k + 3) rfl (by omega) (by omega) dL_law_118 ?_
          refine sj_callWi (As := [.int (sc (6 * k + 1)), .int (sc (6 * k + 2)), .int (sc (6 * k + 3))]) (rest := [.int 1]) (wr := [(h, .inr (0, [.ref hs, .ref ho, .int (sc (6 * k + 1)), .int (sc (6 * k + 2)), .int (sc (6 * k + 3)), .int all, .int 0, .int 0, .int (-1)])), (hs, .inr (1, [.ref ka, .ref sa, .ref na, .int (nI 0)])), (ka, .inl (dJ, cap, .inr (.inl fk))), (sa, .inl (dN, cap, .inl fs)), (na, .inl (dJ, cap, .inr (.inl fn))), (ho, .inr (2, [.ref kb, .ref vb, .ref wb, .int (nI 0)])), (kb, .inl (dJ, cb, .inr (.inl pk))), (vb, .inl (dJ, cb, .inr (.inl pv))), (wb, .inl (dJ, cb, .inr (.inl pw))), (xk, .inl (dJ, 3000, .inr (.inl gk))), (xv, .inl (dJ, 3000, .inr (.inl gv))), (xs, .inl (dN, 3000, .inl gs)), (xo, .inl (dZ, 3000, .inl go)), (yk, .inl (dJ, 3000, .inr (.inl jk))), (yn, .inl (dJ, 3000, .inr (.inl jn))), (yw, .inl (dN, 3000, .inl jw))]) ⟨hx, hb, hml, hown, hts⟩ (metX3_begin l dC dI dJ dN dZ _ hm xk xv xs xo yk yn yw Oc.length cnt way size grace all taken late mark (sc (6 * k + 1)) (sc (6 * k + 2)) (sc (6 * k + 3))) (cwV 3 hts (lw_V q267 q268 q269 q14 q270) rfl rfl rfl (by decide +kernel) ⟨Nat.le_of_ble_eq_true rfl, Nat.le_of_ble_eq_true rfl⟩) hK hP hD hS hA [9] [0, 1, 2, 3, 4, 5, 6, 7, 8, 10, 11, 12, 13, 14, 15, 16] rfl rfl rfl (by decide) (by decide) (by decide) 3 rfl rfl rfl rfl hl.1 rfl (Nat.le_of_ble_eq_true rfl) dL_law_119 ⟨show 17 + 195 * k + 0 + 0 ≤ 600000 by omega, show 21129 + 24960 * k + 0 + 0 ≤ 7302250 by omega⟩ (fun v u H locs hw hP hD hS => ?_)
          have hP : va_P (dC, dI) vwCl [(h, .inr (0, [.ref hs, .ref ho, .int (sc (6 * k + 1)), .int (sc (6 * k + 2)), .int (sc (6 * k + 3)), .int all, .int 0, .int 0, .int (-1)])), (hs, .inr (1, [.ref ka, .ref sa, .ref na, .int (nI 0)])), (ka, .inl (dJ, cap, .inr (.inl fk))), (sa, .inl (dN, cap, .inl fs)), (na, .inl (dJ, cap, .inr (.inl fn))), (ho, .inr (2, [.ref kb, .ref vb, .ref wb, .int (nI 0)])), (kb, .inl (dJ, cb, .inr (.inl pk))), (vb, .inl (dJ, cb, .inr (.inl pv))), (wb, .inl (dJ, cb, .inr (.inl pw))), (xk, .inl (dJ, 3000, .inr (.inl gk))), (xv, .inl (dJ, 3000, .inr (.inl gv))), (xs, .inl (dN, 3000, .inl gs)), (xo, .inl (dZ, 3000, .inl go)), (yk, .inl (dJ, 3000, .inr (.inl jk))), (yn, .inl (dJ, 3000, .inr (.inl jn))), (yw, .inl (dN, 3000, .inl jw)), (hm, .inr (3, [.int u.1.1, .int u.1.2.1, .int u.1.2.2.1, .int all, .int u.1.2.2.2.1, .int u.1.2.2.2.2.1, .int u.1.2.2.2.2.2, .int (nI u.2.2), .ref xk, .ref xv, .ref xs, .ref xo, .int (nI u.2.1), .ref yk, .ref yn, .ref yw]))] H := hP
          have hD : va_D A [(h, .inr (0, [.ref hs, .ref ho, .int (sc (6 * k + 1)), .int (sc (6 * k + 2)), .int (sc (6 * k + 3)), .int all, .int 0, .int 0, .int (-1)])), (hs, .inr (1, [.ref ka, .ref sa, .ref na, .int (nI 0)])), (ka, .inl (dJ, cap, .inr (.inl fk))), (sa, .inl (dN, cap, .inl fs)), (na, .inl (dJ, cap, .inr (.inl fn))), (ho, .inr (2, [.ref kb, .ref vb, .ref wb, .int (nI 0)])), (kb, .inl (dJ, cb, .inr (.inl pk))), (vb, .inl (dJ, cb, .inr (.inl pv))), (wb, .inl (dJ, cb, .inr (.inl pw))), (xk, .inl (dJ, 3000, .inr (.inl gk))), (xv, .inl (dJ, 3000, .inr (.inl gv))), (xs, .inl (dN, 3000, .inl gs)), (xo, .inl (dZ, 3000, .inl go)), (yk, .inl (dJ, 3000, .inr (.inl jk))), (yn, .inl (dJ, 3000, .inr (.inl jn))), (yw, .inl (dN, 3000, .inl jw)), (hm, .inr (3, [.int u.1.1, .int u.1.2.1, .int u.1.2.2.1, .int all, .int u.1.2.2.2.1, .int u.1.2.2.2.2.1, .int u.1.2.2.2.2.2, .int (nI u.2.2), .ref xk, .ref xv, .ref xs, .ref xo, .int (nI u.2.1), .ref yk, .ref yn, .ref yw]))] := hD
          have hP : va_P (dC, dI) vwCl [(h, .inr (0, [.ref hs, .ref ho, .int (sc (6 * k + 1)), .int (sc (6 * k + 2)), .int (sc (6 * k + 3)), .int all, .int 0, .int 0, .int (-1)])), (hs, .inr (1, [.ref ka, .ref sa, .ref na, .int (nI 0)])), (ka, .inl (dJ, cap, .inr (.inl fk))), (sa, .inl (dN, cap, .inl fs)), (na, .inl (dJ, cap, .inr (.inl fn))), (ho, .inr (2, [.ref kb, .ref vb, .ref wb, .int (nI 0)])), (kb, .inl (dJ, cb, .inr (.inl pk))), (vb, .inl (dJ, cb, .inr (.inl pv))), (wb, .inl (dJ, cb, .inr (.inl pw))), (hm, .inr (3, [.int u.1.1, .int u.1.2.1, .int u.1.2.2.1, .int all, .int u.1.2.2.2.1, .int u.1.2.2.2.2.1, .int u.1.2.2.2.2.2, .int (nI u.2.2), .ref xk, .ref xv, .ref xs, .ref xo, .int (nI u.2.1), .ref yk, .ref yn, .ref yw])), (xk, .inl (dJ, 3000, .inr (.inl gk))), (xv, .inl (dJ, 3000, .inr (.inl gv))), (xs, .inl (dN, 3000, .inl gs)), (xo, .inl (dZ, 3000, .inl go)), (yk, .inl (dJ, 3000, .inr (.inl jk))), (yn, .inl (dJ, 3000, .inr (.inl jn))), (yw, .inl (dN, 3000, .inl jw))] H := hP.sub [0, 1, 2, 3, 4, 5, 6, 7, 8, 16, 9, 10, 11, 12, 13, 14, 15] rfl
          have hD : va_D A [(h, .inr (0, [.ref hs, .ref ho, .int (sc (6 * k + 1)), .int (sc (6 * k + 2)), .int (sc (6 * k + 3)), .int all, .int 0, .int 0, .int (-1)])), (hs, .inr (1, [.ref ka, .ref sa, .ref na, .int (nI 0)])), (ka, .inl (dJ, cap, .inr (.inl fk))), (sa, .inl (dN, cap, .inl fs)), (na, .inl (dJ, cap, .inr (.inl fn))), (ho, .inr (2, [.ref kb, .ref vb, .ref wb, .int (nI 0)])), (kb, .inl (dJ, cb, .inr (.inl pk))), (vb, .inl (dJ, cb, .inr (.inl pv))), (wb, .inl (dJ, cb, .inr (.inl pw))), (hm, .inr (3, [.int u.1.1, .int u.1.2.1, .int u.1.2.2.1, .int all, .int u.1.2.2.2.1, .int u.1.2.2.2.2.1, .int u.1.2.2.2.2.2, .int (nI u.2.2), .ref xk, .ref xv, .ref xs, .ref xo, .int (nI u.2.1), .ref yk, .ref yn, .ref yw])), (xk, .inl (dJ, 3000, .inr (.inl gk))), (xv, .inl (dJ, 3000, .inr (.inl gv))), (xs, .inl (dN, 3000, .inl gs)), (xo, .inl (dZ, 3000, .inl go)), (yk, .inl (dJ, 3000, .inr (.inl jk))), (yn, .inl (dJ, 3000, .inr (.inl jn))), (yw, .inl (dN, 3000, .inl jw))] := hD.sub [0, 1, 2, 3, 4, 5, 6, 7, 8, 16, 9, 10, 11, 12, 13, 14, 15] (by decide) rfl
          rcases hw with ⟨hbad2, rfl, rfl⟩ | ⟨hbad2, rfl, rfl⟩
          · skip
            exact absurd hbad2 hbad
          · skip
            have hP : va_P (dC, dI) vwCl [(h, .inr (0, [.ref hs, .ref ho, .int (sc (6 * k + 1)), .int (sc (6 * k + 2)), .int (sc (6 * k + 3)), .int all, .int 0, .int 0, .int (-1)])), (hs, .inr (1, [.ref ka, .ref sa, .ref na, .int (nI 0)])), (ka, .inl (dJ, cap, .inr (.inl fk))), (sa, .inl (dN, cap, .inl fs)), (na, .inl (dJ, cap, .inr (.inl fn))), (ho, .inr (2, [.ref kb, .ref vb, .ref wb, .int (nI 0)])), (kb, .inl (dJ, cb, .inr (.inl pk))), (vb, .inl (dJ, cb, .inr (.inl pv))), (wb, .inl (dJ, cb, .inr (.inl pw))), (hm, .inr (3, [.int (sc (6 * k + 1)), .int (sc (6 * k + 2)), .int (sc (6 * k + 3)), .int all, .int 0, .int 0, .int (-1), .int (nI 0), .ref xk, .ref xv, .ref xs, .ref xo, .int (nI 0), .ref yk, .ref yn, .ref yw])), (xk, .inl (dJ, 3000, .inr (.inl gk))), (xv, .inl (dJ, 3000, .inr (.inl gv))), (xs, .inl (dN, 3000, .inl gs)), (xo, .inl (dZ, 3000, .inl go)), (yk, .inl (dJ, 3000, .inr (.inl jk))), (yn, .inl (dJ, 3000, .inr (.inl jn))), (yw, .inl (dN, 3000, .inl jw))] H := hP
            have hD : va_D A [(h, .inr (0, [.ref hs, .ref ho, .int (sc (6 * k + 1)), .int (sc (6 * k + 2)), .int (sc (6 * k + 3)), .int all, .int 0, .int 0, .int (-1)])), (hs, .inr (1, [.ref ka, .ref sa, .ref na, .int (nI 0)])), (ka, .inl (dJ, cap, .inr (.inl fk))), (sa, .inl (dN, cap, .inl fs)), (na, .inl (dJ, cap, .inr (.inl fn))), (ho, .inr (2, [.ref kb, .ref vb, .ref wb, .int (nI 0)])), (kb, .inl (dJ, cb, .inr (.inl pk))), (vb, .inl (dJ, cb, .inr (.inl pv))), (wb, .inl (dJ, cb, .inr (.inl pw))), (hm, .inr (3, [.int (sc (6 * k + 1)), .int (sc (6 * k + 2)), .int (sc (6 * k + 3)), .int all, .int 0, .int 0, .int (-1), .int (nI 0), .ref xk, .ref xv, .ref xs, .ref xo, .int (nI 0), .ref yk, .ref yn, .ref yw])), (xk, .inl (dJ, 3000, .inr (.inl gk))), (xv, .inl (dJ, 3000, .inr (.inl gv))), (xs, .inl (dN, 3000, .inl gs)), (xo, .inl (dZ, 3000, .inl go)), (yk, .inl (dJ, 3000, .inr (.inl jk))), (yn, .inl (dJ, 3000, .inr (.inl jn))), (yw, .inl (dN, 3000, .inl jw))] := hD
            refine lv_icmp_eq (tgt := 393) hx hb dL_law_122 (by decide) (fun c122 => ?_) (fun c122 => absurd rfl c122)
            have hgd := sj_good hbad
            refine lv_iinc (v := nI (6 * (k + 1))) (lv' := [(3, .int (nI (6 * (k + 1)))), (0, .ref b), (1, .ref h), (2, .ref hm)]) hx hb dL_law_393 hl (k := 3) rfl (sj_6 k) (by decide) rfl (fun ls hl => ?_)
            refine lv_goto (tgt := 18) hx hb dL_law_396 (by decide) ?_
            refine W.widen (k := 17 + 195 * (k + 1)) (n := 21129 + 24960 * (k + 1)) (by omega) (by omega) ?_
            exact ih (k + 1) _ _ _ all 0 0 (-1) [] [] ka sa na cap fk fs fn kb vb wb cb pk pv pw 0 gk gv gs go jk jn jw H locs ls (by omega) (by omega) a1 a2 (Nat.zero_le _) b1 b2 (Nat.zero_le _) (Nat.zero_le _) (Nat.zero_le _) (sj_rep_0 _ _ _) (op_rep_0 _ _ _) (md_rel_0 _ _ _ _ _ _) (mo_rep_0 _ _ _) hgd.1 hgd.2.1 hgd.2.2.1 hgd.2.2.2 hP hD hS (lv_sub hl [1, 2, 3, 0] rfl)
      · skip
        refine lv_tableIn (off := 94) (tgt := 127) hx hb dL_law_33 (by decide) (by decide) (by decide) (by decide) ?_
        refine lv_aload_n hx hb dL_law_127 rfl (lv_at hl 1 rfl) ?_
        refine lv_aload_n hx hb dL_law_128 rfl (lv_at hl 0 rfl) ?_
        refine lv_iload_n hx hb dL_law_129 rfl (lv_at hl 3 rfl) ?_
        refine lv_iconst (v := nI 1) hx hb dL_law_130 (by decide) ?_
        refine lv_iadd hx hb dL_law_131 ?_
        refine sj_cvi (y := nI (6 * k + 1)) (nI_add _ _) ?_
        refine sj_sld hx hb hX hbl hbA hS (6 * k + 1) rfl (by omega) (by omega) dL_law_132 ?_
        refine lv_i2l (v := (sc (6 * k + 1)).toInt64) hx hb dL_law_133 rfl ?_
        refine lv_bipush (v := 32) hx hb dL_law_134 (by decide) ?_
        refine lv_lshl (v := ((sc (6 * k + 1)).toInt64) <<< ((32 : Int32).toInt64 &&& 63)) hx hb dL_law_136 rfl ?_
        refine lv_aload_n hx hb dL_law_137 rfl (lv_at hl 0 rfl) ?_
        refine lv_iload_n hx hb dL_law_138 rfl (lv_at hl 3 rfl) ?_
        refine lv_iconst (v := nI 2) hx hb dL_law_139 (by decide) ?_
        refine lv_iadd hx hb dL_law_140 ?_
        refine sj_cvi (y := nI (6 * k + 2)) (nI_add _ _) ?_
        refine sj_sld hx hb hX hbl hbA hS (6 * k + 2) rfl (by omega) (by omega) dL_law_141 ?_
        refine lv_i2l (v := (sc (6 * k + 2)).toInt64) hx hb dL_law_142 rfl ?_
        refine lv_ldc2 (v := 4294967295) hx hb hown (hts _ q326) dL_law_143 ?_
        refine lv_land hx hb dL_law_146 ?_
        refine lv_lor hx hb dL_law_147 ?_
        refine lv_aload_n hx hb dL_law_148 rfl (lv_at hl 0 rfl) ?_
        refine lv_iload_n hx hb dL_law_149 rfl (lv_at hl 3 rfl) ?_
        refine lv_iconst (v := nI 3) hx hb dL_law_150 (by decide) ?_
        refine lv_iadd hx hb dL_law_151 ?_
        refine sj_cvi (y := nI (6 * k + 3)) (nI_add _ _) ?_
        refine sj_sld hx hb hX hbl hbA hS (6 * k + 3) rfl (by omega) (by omega) dL_law_152 ?_
        refine lv_i2l (v := (sc (6 * k + 3)).toInt64) hx hb dL_law_153 rfl ?_
        refine lv_bipush (v := 32) hx hb dL_law_154 (by decide) ?_
        refine lv_lshl (v := ((sc (6 * k + 3)).toInt64) <<< ((32 : Int32).toInt64 &&& 63)) hx hb dL_law_156 rfl ?_
        refine lv_aload_n hx hb dL_law_157 rfl (lv_at hl 0 rfl) ?_
        refine lv_iload_n hx hb dL_law_158 rfl (lv_at hl 3 rfl) ?_
        refine lv_iconst (v := nI 4) hx hb dL_law_159 (by decide) ?_
        refine lv_iadd hx hb dL_law_160 ?_
        refine sj_cvi (y := nI (6 * k + 4)) (nI_add _ _) ?_
        refine sj_sld hx hb hX hbl hbA hS (6 * k + 4) rfl (by omega) (by omega) dL_law_161 ?_
        refine lv_i2l (v := (sc (6 * k + 4)).toInt64) hx hb dL_law_162 rfl ?_
        refine lv_ldc2 (v := 4294967295) hx hb hown (hts _ q326) dL_law_163 ?_
        refine lv_land hx hb dL_law_166 ?_
        refine lv_lor hx hb dL_law_167 ?_
        refine lv_aload_n hx hb dL_law_168 rfl (lv_at hl 0 rfl) ?_
        refine lv_iload_n hx hb dL_law_169 rfl (lv_at hl 3 rfl) ?_
        refine lv_iconst (v := nI 5) hx hb dL_law_170 (by decide) ?_
        refine lv_iadd hx hb dL_law_171 ?_
        refine sj_cvi (y := nI (6 * k + 5)) (nI_add _ _) ?_
        refine sj_sld hx hb hX hbl hbA hS (6 * k + 5) rfl (by omega) (by omega) dL_law_172 ?_
        refine sj_callWi (As := [.long ((((sc (6 * k + 1)).toInt64) <<< ((32 : Int32).toInt64 &&& 63)) ||| (((sc (6 * k + 2)).toInt64) &&& 4294967295)), .long ((((sc (6 * k + 3)).toInt64) <<< ((32 : Int32).toInt64 &&& 63)) ||| (((sc (6 * k + 4)).toInt64) &&& 4294967295)), .int (sc (6 * k + 5))]) (rest := []) (wr := [(hm, .inr (3, [.int way, .int size, .int grace, .int all, .int taken, .int late, .int mark, .int (nI Oc.length), .ref xk, .ref xv, .ref xs, .ref xo, .int (nI cnt), .ref yk, .ref yn, .ref yw])), (xk, .inl (dJ, 3000, .inr (.inl gk))), (xv, .inl (dJ, 3000, .inr (.inl gv))), (xs, .inl (dN, 3000, .inl gs)), (xo, .inl (dZ, 3000, .inl go)), (yk, .inl (dJ, 3000, .inr (.inl jk))), (yn, .inl (dJ, 3000, .inr (.inl jn))), (yw, .inl (dN, 3000, .inl jw))]) ⟨hx, hb, hml, hown, hts⟩ (metX0_take l dC dI dJ dN dZ _ h hs ho way size grace all taken late mark ka sa na cap fk fs fn kb vb wb cb pk pv pw a1 a2 b1 b2 Lc Oc a3 b3 (by omega) r1 r2 hso (by intro h9; rw [h9] at z2; exact absurd z2 (by decide)) ((((sc (6 * k + 1)).toInt64) <<< ((32 : Int32).toInt64 &&& 63)) ||| (((sc (6 * k + 2)).toInt64) &&& 4294967295)) ((((sc (6 * k + 3)).toInt64) <<< ((32 : Int32).toInt64 &&& 63)) ||| (((sc (6 * k + 4)).toInt64) &&& 4294967295)) (sc (6 * k + 5))) (cwV 3 hts (lw_V q98 q99 q100 q11 q101) rfl rfl rfl (by decide +kernel) ⟨Nat.le_of_ble_eq_true rfl, Nat.le_of_ble_eq_true rfl⟩) hK hP hD hS hA [0, 1, 2, 3, 4, 5, 6, 7, 8] [9, 10, 11, 12, 13, 14, 15, 16] rfl rfl rfl (by decide) (by decide) (by decide) 0 rfl rfl rfl rfl hl.1 rfl (Nat.le_of_ble_eq_true rfl) dL_law_173 ⟨show 17 + 195 * k + 195 ≤ 600000 by omega, show 21129 + 24960 * k + 24960 ≤ 7302250 by omega⟩ (fun v u H locs hw hP hD hS => ?_)
        have hP : va_P (dC, dI) vwCl [(hm, .inr (3, [.int way, .int size, .int grace, .int all, .int taken, .int late, .int mark, .int (nI Oc.length), .ref xk, .ref xv, .ref xs, .ref xo, .int (nI cnt), .ref yk, .ref yn, .ref yw])), (xk, .inl (dJ, 3000, .inr (.inl gk))), (xv, .inl (dJ, 3000, .inr (.inl gv))), (xs, .inl (dN, 3000, .inl gs)), (xo, .inl (dZ, 3000, .inl go)), (yk, .inl (dJ, 3000, .inr (.inl jk))), (yn, .inl (dJ, 3000, .inr (.inl jn))), (yw, .inl (dN, 3000, .inl jw)), (h, .inr (0, [.ref hs, .ref ho, .int way, .int size, .int grace, .int u.1.1, .int u.1.2.1, .int u.1.2.2.1, .int u.1.2.2.2])), (hs, .inr (1, [.ref u.2.2.2.1.1, .ref u.2.2.2.1.2.1, .ref u.2.2.2.1.2.2.1, .int (nI u.2.1.length)])), (u.2.2.2.1.1, .inl (dJ, u.2.2.2.1.2.2.2.1, .inr (.inl u.2.2.2.1.2.2.2.2.1))), (u.2.2.2.1.2.1, .inl (dN, u.2.2.2.1.2.2.2.1, .inl u.2.2.2.1.2.2.2.2.2.1)), (u.2.2.2.1.2.2.1, .inl (dJ, u.2.2.2.1.2.2.2.1, .inr (.inl u.2.2.2.1.2.2.2.2.2.2))), (ho, .inr (2, [.ref u.2.2.2.2.1, .ref u.2.2.2.2.2.1, .ref u.2.2.2.2.2.2.1, .int (nI u.2.2.1.length)])), (u.2.2.2.2.1, .inl (dJ, u.2.2.2.2.2.2.2.1, .inr (.inl u.2.2.2.2.2.2.2.2.1))), (u.2.2.2.2.2.1, .inl (dJ, u.2.2.2.2.2.2.2.1, .inr (.inl u.2.2.2.2.2.2.2.2.2.1))), (u.2.2.2.2.2.2.1, .inl (dJ, u.2.2.2.2.2.2.2.1, .inr (.inl u.2.2.2.2.2.2.2.2.2.2)))] H := hP
        have hD : va_D A [(hm, .inr (3, [.int way, .int size, .int grace, .int all, .int taken, .int late, .int mark, .int (nI Oc.length), .ref xk, .ref xv, .ref xs, .ref xo, .int (nI cnt), .ref yk, .ref yn, .ref yw])), (xk, .inl (dJ, 3000, .inr (.inl gk))), (xv, .inl (dJ, 3000, .inr (.inl gv))), (xs, .inl (dN, 3000, .inl gs)), (xo, .inl (dZ, 3000, .inl go)), (yk, .inl (dJ, 3000, .inr (.inl jk))), (yn, .inl (dJ, 3000, .inr (.inl jn))), (yw, .inl (dN, 3000, .inl jw)), (h, .inr (0, [.ref hs, .ref ho, .int way, .int size, .int grace, .int u.1.1, .int u.1.2.1, .int u.1.2.2.1, .int u.1.2.2.2])), (hs, .inr (1, [.ref u.2.2.2.1.1, .ref u.2.2.2.1.2.1, .ref u.2.2.2.1.2.2.1, .int (nI u.2.1.length)])), (u.2.2.2.1.1, .inl (dJ, u.2.2.2.1.2.2.2.1, .inr (.inl u.2.2.2.1.2.2.2.2.1))), (u.2.2.2.1.2.1, .inl (dN, u.2.2.2.1.2.2.2.1, .inl u.2.2.2.1.2.2.2.2.2.1)), (u.2.2.2.1.2.2.1, .inl (dJ, u.2.2.2.1.2.2.2.1, .inr (.inl u.2.2.2.1.2.2.2.2.2.2))), (ho, .inr (2, [.ref u.2.2.2.2.1, .ref u.2.2.2.2.2.1, .ref u.2.2.2.2.2.2.1, .int (nI u.2.2.1.length)])), (u.2.2.2.2.1, .inl (dJ, u.2.2.2.2.2.2.2.1, .inr (.inl u.2.2.2.2.2.2.2.2.1))), (u.2.2.2.2.2.1, .inl (dJ, u.2.2.2.2.2.2.2.1, .inr (.inl u.2.2.2.2.2.2.2.2.2.1))), (u.2.2.2.2.2.2.1, .inl (dJ, u.2.2.2.2.2.2.2.1, .inr (.inl u.2.2.2.2.2.2.2.2.2.2)))] := hD
        have hP : va_P (dC, dI) vwCl [(h, .inr (0, [.ref hs, .ref ho, .int way, .int size, .int grace, .int u.1.1, .int u.1.2.1, .int u.1.2.2.1, .int u.1.2.2.2])), (hs, .inr (1, [.ref u.2.2.2.1.1, .ref u.2.2.2.1.2.1, .ref u.2.2.2.1.2.2.1, .int (nI u.2.1.length)])), (u.2.2.2.1.1, .inl (dJ, u.2.2.2.1.2.2.2.1, .inr (.inl u.2.2.2.1.2.2.2.2.1))), (u.2.2.2.1.2.1, .inl (dN, u.2.2.2.1.2.2.2.1, .inl u.2.2.2.1.2.2.2.2.2.1)), (u.2.2.2.1.2.2.1, .inl (dJ, u.2.2.2.1.2.2.2.1, .inr (.inl u.2.2.2.1.2.2.2.2.2.2))), (ho, .inr (2, [.ref u.2.2.2.2.1, .ref u.2.2.2.2.2.1, .ref u.2.2.2.2.2.2.1, .int (nI u.2.2.1.length)])), (u.2.2.2.2.1, .inl (dJ, u.2.2.2.2.2.2.2.1, .inr (.inl u.2.2.2.2.2.2.2.2.1))), (u.2.2.2.2.2.1, .inl (dJ, u.2.2.2.2.2.2.2.1, .inr (.inl u.2.2.2.2.2.2.2.2.2.1))), (u.2.2.2.2.2.2.1, .inl (dJ, u.2.2.2.2.2.2.2.1, .inr (.inl u.2.2.2.2.2.2.2.2.2.2))), (hm, .inr (3, [.int way, .int size, .int grace, .int all, .int taken, .int late, .int mark, .int (nI Oc.length), .ref xk, .ref xv, .ref xs, .ref xo, .int (nI cnt), .ref yk, .ref yn, .ref yw])), (xk, .inl (dJ, 3000, .inr (.inl gk))), (xv, .inl (dJ, 3000, .inr (.inl gv))), (xs, .inl (dN, 3000, .inl gs)), (xo, .inl (dZ, 3000, .inl go)), (yk, .inl (dJ, 3000, .inr (.inl jk))), (yn, .inl (dJ, 3000, .inr (.inl jn))), (yw, .inl (dN, 3000, .inl jw))] H := hP.sub [8, 9, 10, 11, 12, 13, 14, 15, 16, 0, 1, 2, 3, 4, 5, 6, 7] rfl
        have hD : va_D A [(h, .inr (0, [.ref hs, .ref ho, .int way, .int size, .int grace, .int u.1.1, .int u.1.2.1, .int u.1.2.2.1, .int u.1.2.2.2])), (hs, .inr (1, [.ref u.2.2.2.1.1, .ref u.2.2.2.1.2.1, .ref u.2.2.2.1.2.2.1, .int (nI u.2.1.length)])), (u.2.2.2.1.1, .inl (dJ, u.2.2.2.1.2.2.2.1, .inr (.inl u.2.2.2.1.2.2.2.2.1))), (u.2.2.2.1.2.1, .inl (dN, u.2.2.2.1.2.2.2.1, .inl u.2.2.2.1.2.2.2.2.2.1)), (u.2.2.2.1.2.2.1, .inl (dJ, u.2.2.2.1.2.2.2.1, .inr (.inl u.2.2.2.1.2.2.2.2.2.2))), (ho, .inr (2, [.ref u.2.2.2.2.1, .ref u.2.2.2.2.2.1, .ref u.2.2.2.2.2.2.1, .int (nI u.2.2.1.length)])), (u.2.2.2.2.1, .inl (dJ, u.2.2.2.2.2.2.2.1, .inr (.inl u.2.2.2.2.2.2.2.2.1))), (u.2.2.2.2.2.1, .inl (dJ, u.2.2.2.2.2.2.2.1, .inr (.inl u.2.2.2.2.2.2.2.2.2.1))), (u.2.2.2.2.2.2.1, .inl (dJ, u.2.2.2.2.2.2.2.1, .inr (.inl u.2.2.2.2.2.2.2.2.2.2))), (hm, .inr (3, [.int way, .int size, .int grace, .int all, .int taken, .int late, .int mark, .int (nI Oc.length), .ref xk, .ref xv, .ref xs, .ref xo, .int (nI cnt), .ref yk, .ref yn, .ref yw])), (xk, .inl (dJ, 3000, .inr (.inl gk))), (xv, .inl (dJ, 3000, .inr (.inl gv))), (xs, .inl (dN, 3000, .inl gs)), (xo, .inl (dZ, 3000, .inl go)), (yk, .inl (dJ, 3000, .inr (.inl jk))), (yn, .inl (dJ, 3000, .inr (.inl jn))), (yw, .inl (dN, 3000, .inl jw))] := hD.sub [8, 9, 10, 11, 12, 13, 14, 15, 16, 0, 1, 2, 3, 4, 5, 6, 7] (by decide) rfl
        obtain ⟨⟨all2, taken2, late2, mark2⟩, L2, O2, ⟨ka2, sa2, na2, cap2, fk2, fs2, fn2⟩, ⟨kb2, vb2, wb2, cb2, pk2, pv2, pw2⟩⟩ := u
        obtain ⟨e1, d1, d2, d3, d4, d5, d6, d7, d8⟩ := hw
        dsimp only at e1 d1 d2 d3 d4 d5 d6 d7 d8
        have hP : va_P (dC, dI) vwCl [(h, .inr (0, [.ref hs, .ref ho, .int way, .int size, .int grace, .int all2, .int taken2, .int late2, .int mark2])), (hs, .inr (1, [.ref ka2, .ref sa2, .ref na2, .int (nI L2.length)])), (ka2, .inl (dJ, cap2, .inr (.inl fk2))), (sa2, .inl (dN, cap2, .inl fs2)), (na2, .inl (dJ, cap2, .inr (.inl fn2))), (ho, .inr (2, [.ref kb2, .ref vb2, .ref wb2, .int (nI O2.length)])), (kb2, .inl (dJ, cb2, .inr (.inl pk2))), (vb2, .inl (dJ, cb2, .inr (.inl pv2))), (wb2, .inl (dJ, cb2, .inr (.inl pw2))), (hm, .inr (3, [.int way, .int size, .int grace, .int all, .int taken, .int late, .int mark, .int (nI Oc.length), .ref xk, .ref xv, .ref xs, .ref xo, .int (nI cnt), .ref yk, .ref yn, .ref yw])), (xk, .inl (dJ, 3000, .inr (.inl gk))), (xv, .inl (dJ, 3000, .inr (.inl gv))), (xs, .inl (dN, 3000, .inl gs)), (xo, .inl (dZ, 3000, .inl go)), (yk, .inl (dJ, 3000, .inr (.inl jk))), (yn, .inl (dJ, 3000, .inr (.inl jn))), (yw, .inl (dN, 3000, .inl jw))] H := hP
        have hD : va_D A [(h, .inr (0, [.ref hs, .ref ho, .int way, .int size, .int grace, .int all2, .int taken2, .int late2, .int mark2])), (hs, .inr (1, [.ref ka2, .ref sa2, .ref na2, .int (nI L2.length)])), (ka2, .inl (dJ, cap2, .inr (.inl fk2))), (sa2, .inl (dN, cap2, .inl fs2)), (na2, .inl (dJ, cap2, .inr (.inl fn2))), (ho, .inr (2, [.ref kb2, .ref vb2, .ref wb2, .int (nI O2.length)])), (kb2, .inl (dJ, cb2, .inr (.inl pk2))), (vb2, .inl (dJ, cb2, .inr (.inl pv2))), (wb2, .inl (dJ, cb2, .inr (.inl pw2))), (hm, .inr (3, [.int way, .int size, .int grace, .int all, .int taken, .int late, .int mark, .int (nI Oc.length), .ref xk, .ref xv, .ref xs, .ref xo, .int (nI cnt), .ref yk, .ref yn, .ref yw])), (xk, .inl (dJ, 3000, .inr (.inl gk))), (xv, .inl (dJ, 3000, .inr (.inl gv))), (xs, .inl (dN, 3000, .inl gs)), (xo, .inl (dZ, 3000, .inl go)), (yk, .inl (dJ, 3000, .inr (.inl jk))), (yn, .inl (dJ, 3000, .inr (.inl jn))), (yw, .inl (dN, 3000, .inl jw))] := hD
        refine lv_aload_n hx hb dL_law_176 rfl (lv_at hl 2 rfl) ?_
        refine lv_aload_n hx hb dL_law_177 rfl (lv_at hl 0 rfl) ?_
        refine lv_iload_n hx hb dL_law_178 rfl (lv_at hl 3 rfl) ?_
        refine lv_iconst (v := nI 1) hx hb dL_law_179 (by decide) ?_
        refine lv_iadd hx hb dL_law_180 ?_
        refine sj_cvi (y := nI (6 * k + 1)) (nI_add _ _) ?_
        refine sj_sld hx hb hX hbl hbA hS (6 * k + 1) rfl (by omega) (by omega) dL_law_181 ?_
        refine lv_i2l (v := (sc (6 * k + 1)).toInt64) hx hb dL_law_182 rfl ?_
        refine lv_bipush (v := 32) hx hb dL_law_183 (by decide) ?_
        refine lv_lshl (v := ((sc (6 * k + 1)).toInt64) <<< ((32 : Int32).toInt64 &&& 63)) hx hb dL_law_185 rfl ?_
        refine lv_aload_n hx hb dL_law_186 rfl (lv_at hl 0 rfl) ?_
        refine lv_iload_n hx hb dL_law_187 rfl (lv_at hl 3 rfl) ?_
        refine lv_iconst (v := nI 2) hx hb dL_law_188 (by decide) ?_
        refine lv_iadd hx hb dL_law_189 ?_
        refine sj_cvi (y := nI (6 * k + 2)) (nI_add _ _) ?_
        refine sj_sld hx hb hX hbl hbA hS (6 * k + 2) rfl (by omega) (by omega) dL_law_190 ?_
        refine lv_i2l (v := (sc (6 * k + 2)).toInt64) hx hb dL_law_191 rfl ?_
        refine lv_ldc2 (v := 4294967295) hx hb hown (hts _ q326) dL_law_192 ?_
        refine lv_land hx hb dL_law_195 ?_
        refine lv_lor hx hb dL_law_196 ?_
        refine lv_aload_n hx hb dL_law_197 rfl (lv_at hl 0 rfl) ?_
        refine lv_iload_n hx hb dL_law_198 rfl (lv_at hl 3 rfl) ?_
        refine lv_iconst (v := nI 3) hx hb dL_law_199 (by decide) ?_
        refine lv_iadd hx hb dL_law_200 ?_
        refine sj_cvi (y := nI (6 * k + 3)) (nI_add _ _) ?_
        refine sj_sld hx hb hX hbl hbA hS (6 * k + 3) rfl (by omega) (by omega) dL_law_201 ?_
        refine lv_i2l (v := (sc (6 * k + 3)).toInt64) hx hb dL_law_202 rfl ?_
        refine lv_bipush (v := 32) hx hb dL_law_203 (by decide) ?_
        refine lv_lshl (v := ((sc (6 * k + 3)).toInt64) <<< ((32 : Int32).toInt64 &&& 63)) hx hb dL_law_205 rfl ?_
        refine lv_aload_n hx hb dL_law_206 rfl (lv_at hl 0 rfl) ?_
        refine lv_iload_n hx hb dL_law_207 rfl (lv_at hl 3 rfl) ?_
        refine lv_iconst (v := nI 4) hx hb dL_law_208 (by decide) ?_
        refine lv_iadd hx hb dL_law_209 ?_
        refine sj_cvi (y := nI (6 * k + 4)) (nI_add _ _) ?_
        refine sj_sld hx hb hX hbl hbA hS (6 * k + 4) rfl (by omega) (by omega) dL_law_210 ?_
        refine lv_i2l (v := (sc (6 * k + 4)).toInt64) hx hb dL_law_211 rfl ?_
        refine lv_ldc2 (v := 4294967295) hx hb hown (hts _ q326) dL_law_212 ?_
        refine lv_land hx hb dL_law_215 ?_
        refine lv_lor hx hb dL_law_216 ?_
        refine lv_aload_n hx hb dL_law_217 rfl (lv_at hl 0 rfl) ?_
        refine lv_iload_n hx hb dL_law_218 rfl (lv_at hl 3 rfl) ?_
        refine lv_iconst (v := nI 5) hx hb dL_law_219 (by decide) ?_
        refine lv_iadd hx hb dL_law_220 ?_
        refine sj_cvi (y := nI (6 * k + 5)) (nI_add _ _) ?_
        refine sj_sld hx hb hX hbl hbA hS (6 * k + 5) rfl (by omega) (by omega) dL_law_221 ?_
        refine sj_callWi (As := [.long ((((sc (6 * k + 1)).toInt64) <<< ((32 : Int32).toInt64 &&& 63)) ||| (((sc (6 * k + 2)).toInt64) &&& 4294967295)), .long ((((sc (6 * k + 3)).toInt64) <<< ((32 : Int32).toInt64 &&& 63)) ||| (((sc (6 * k + 4)).toInt64) &&& 4294967295)), .int (sc (6 * k + 5))]) (rest := [.int v]) (wr := [(h, .inr (0, [.ref hs, .ref ho, .int way, .int size, .int grace, .int all2, .int taken2, .int late2, .int mark2])), (hs, .inr (1, [.ref ka2, .ref sa2, .ref na2, .int (nI L2.length)])), (ka2, .inl (dJ, cap2, .inr (.inl fk2))), (sa2, .inl (dN, cap2, .inl fs2)), (na2, .inl (dJ, cap2, .inr (.inl fn2))), (ho, .inr (2, [.ref kb2, .ref vb2, .ref wb2, .int (nI O2.length)])), (kb2, .inl (dJ, cb2, .inr (.inl pk2))), (vb2, .inl (dJ, cb2, .inr (.inl pv2))), (wb2, .inl (dJ, cb2, .inr (.inl pw2)))]) ⟨hx, hb, hml, hown, hts⟩ (metX3_take l dC dI dJ dN dZ _ hm xk xv xs xo yk yn yw cnt way size grace all taken late mark gk gv gs go jk jn jw Lc Oc (by omega) (by omega) hrel hmo z2 z3 z4 z5 ((((sc (6 * k + 1)).toInt64) <<< ((32 : Int32).toInt64 &&& 63)) ||| (((sc (6 * k + 2)).toInt64) &&& 4294967295)) ((((sc (6 * k + 3)).toInt64) <<< ((32 : Int32).toInt64 &&& 63)) ||| (((sc (6 * k + 4)).toInt64) &&& 4294967295)) (sc (6 * k + 5))) (cwV 3 hts (lw_V q271 q272 q273 q14 q274) rfl rfl rfl (by decide +kernel) ⟨Nat.le_of_ble_eq_true rfl, Nat.le_of_ble_eq_true rfl⟩) hK hP hD hS hA [9, 10, 11, 12, 13, 14, 15, 16] [0, 1, 2, 3, 4, 5, 6, 7, 8] rfl rfl rfl (by decide) (by decide) (by decide) 3 rfl rfl rfl rfl hl.1 rfl (Nat.le_of_ble_eq_true rfl) dL_law_222 ⟨show 17 + 195 * k + 195 + 0 ≤ 600000 by omega, show 21129 + 24960 * k + 24960 + 0 ≤ 7302250 by omega⟩ (fun v2 u H locs hw hP hD hS => ?_)
        have hP : va_P (dC, dI) vwCl [(h, .inr (0, [.ref hs, .ref ho, .int way, .int size, .int grace, .int all2, .int taken2, .int late2, .int mark2])), (hs, .inr (1, [.ref ka2, .ref sa2, .ref na2, .int (nI L2.length)])), (ka2, .inl (dJ, cap2, .inr (.inl fk2))), (sa2, .inl (dN, cap2, .inl fs2)), (na2, .inl (dJ, cap2, .inr (.inl fn2))), (ho, .inr (2, [.ref kb2, .ref vb2, .ref wb2, .int (nI O2.length)])), (kb2, .inl (dJ, cb2, .inr (.inl pk2))), (vb2, .inl (dJ, cb2, .inr (.inl pv2))), (wb2, .inl (dJ, cb2, .inr (.inl pw2))), (hm, .inr (3, [.int way, .int size, .int grace, .int u.1.1, .int u.1.2.1, .int u.1.2.2.1, .int u.1.2.2.2, .int (nI u.2.2.1.length), .ref xk, .ref xv, .ref xs, .ref xo, .int (nI u.2.2.2.1.1), .ref yk, .ref yn, .ref yw])), (xk, .inl (dJ, 3000, .inr (.inl u.2.2.2.1.2.1))), (xv, .inl (dJ, 3000, .inr (.inl u.2.2.2.1.2.2.1))), (xs, .inl (dN, 3000, .inl u.2.2.2.1.2.2.2.1)), (xo, .inl (dZ, 3000, .inl u.2.2.2.1.2.2.2.2)), (yk, .inl (dJ, 3000, .inr (.inl u.2.2.2.2.1))), (yn, .inl (dJ, 3000, .inr (.inl u.2.2.2.2.2.1))), (yw, .inl (dN, 3000, .inl u.2.2.2.2.2.2))] H := hP
        have hD : va_D A [(h, .inr (0, [.ref hs, .ref ho, .int way, .int size, .int grace, .int all2, .int taken2, .int late2, .int mark2])), (hs, .inr (1, [.ref ka2, .ref sa2, .ref na2, .int (nI L2.length)])), (ka2, .inl (dJ, cap2, .inr (.inl fk2))), (sa2, .inl (dN, cap2, .inl fs2)), (na2, .inl (dJ, cap2, .inr (.inl fn2))), (ho, .inr (2, [.ref kb2, .ref vb2, .ref wb2, .int (nI O2.length)])), (kb2, .inl (dJ, cb2, .inr (.inl pk2))), (vb2, .inl (dJ, cb2, .inr (.inl pv2))), (wb2, .inl (dJ, cb2, .inr (.inl pw2))), (hm, .inr (3, [.int way, .int size, .int grace, .int u.1.1, .int u.1.2.1, .int u.1.2.2.1, .int u.1.2.2.2, .int (nI u.2.2.1.length), .ref xk, .ref xv, .ref xs, .ref xo, .int (nI u.2.2.2.1.1), .ref yk, .ref yn, .ref yw])), (xk, .inl (dJ, 3000, .inr (.inl u.2.2.2.1.2.1))), (xv, .inl (dJ, 3000, .inr (.inl u.2.2.2.1.2.2.1))), (xs, .inl (dN, 3000, .inl u.2.2.2.1.2.2.2.1)), (xo, .inl (dZ, 3000, .inl u.2.2.2.1.2.2.2.2)), (yk, .inl (dJ, 3000, .inr (.inl u.2.2.2.2.1))), (yn, .inl (dJ, 3000, .inr (.inl u.2.2.2.2.2.1))), (yw, .inl (dN, 3000, .inl u.2.2.2.2.2.2))] := hD
        obtain ⟨⟨all3, taken3, late3, mark3⟩, L3, O3, ⟨cnt3, gk3, gv3, gs3, go3⟩, ⟨jk3, jn3, jw3⟩⟩ := u
        obtain ⟨e2, q1, q2, q3⟩ := hw
        dsimp only at e2 q1 q2 q3
        have hP : va_P (dC, dI) vwCl [(h, .inr (0, [.ref hs, .ref ho, .int way, .int size, .int grace, .int all2, .int taken2, .int late2, .int mark2])), (hs, .inr (1, [.ref ka2, .ref sa2, .ref na2, .int (nI L2.length)])), (ka2, .inl (dJ, cap2, .inr (.inl fk2))), (sa2, .inl (dN, cap2, .inl fs2)), (na2, .inl (dJ, cap2, .inr (.inl fn2))), (ho, .inr (2, [.ref kb2, .ref vb2, .ref wb2, .int (nI O2.length)])), (kb2, .inl (dJ, cb2, .inr (.inl pk2))), (vb2, .inl (dJ, cb2, .inr (.inl pv2))), (wb2, .inl (dJ, cb2, .inr (.inl pw2))), (hm, .inr (3, [.int way, .int size, .int grace, .int all3, .int taken3, .int late3, .int mark3, .int (nI O3.length), .ref xk, .ref xv, .ref xs, .ref xo, .int (nI cnt3), .ref yk, .ref yn, .ref yw])), (xk, .inl (dJ, 3000, .inr (.inl gk3))), (xv, .inl (dJ, 3000, .inr (.inl gv3))), (xs, .inl (dN, 3000, .inl gs3)), (xo, .inl (dZ, 3000, .inl go3)), (yk, .inl (dJ, 3000, .inr (.inl jk3))), (yn, .inl (dJ, 3000, .inr (.inl jn3))), (yw, .inl (dN, 3000, .inl jw3))] H := hP
        have hD : va_D A [(h, .inr (0, [.ref hs, .ref ho, .int way, .int size, .int grace, .int all2, .int taken2, .int late2, .int mark2])), (hs, .inr (1, [.ref ka2, .ref sa2, .ref na2, .int (nI L2.length)])), (ka2, .inl (dJ, cap2, .inr (.inl fk2))), (sa2, .inl (dN, cap2, .inl fs2)), (na2, .inl (dJ, cap2, .inr (.inl fn2))), (ho, .inr (2, [.ref kb2, .ref vb2, .ref wb2, .int (nI O2.length)])), (kb2, .inl (dJ, cb2, .inr (.inl pk2))), (vb2, .inl (dJ, cb2, .inr (.inl pv2))), (wb2, .inl (dJ, cb2, .inr (.inl pw2))), (hm, .inr (3, [.int way, .int size, .int grace, .int all3, .int taken3, .int late3, .int mark3, .int (nI O3.length), .ref xk, .ref xv, .ref xs, .ref xo, .int (nI cnt3), .ref yk, .ref yn, .ref yw])), (xk, .inl (dJ, 3000, .inr (.inl gk3))), (xv, .inl (dJ, 3000, .inr (.inl gv3))), (xs, .inl (dN, 3000, .inl gs3)), (xo, .inl (dZ, 3000, .inl go3)), (yk, .inl (dJ, 3000, .inr (.inl jk3))), (yn, .inl (dJ, 3000, .inr (.inl jn3))), (yw, .inl (dN, 3000, .inl jw3))] := hD
        have he := e1.trans e2.symm
        simp only [Prod.mk.injEq] at he
        obtain ⟨he1, ⟨he2, he3, he4, he5⟩, he6, he7⟩ := he
        subst he1
        subst he2
        subst he3
        subst he4
        subst he5
        subst he6
        subst he7
        have hln := sj_take_len e1
        refine lv_icmp_eq (tgt := 393) hx hb dL_law_225 (by decide) (fun c225 => ?_) (fun c225 => absurd rfl c225)
        refine lv_iinc (v := nI (6 * (k + 1))) (lv' := [(3, .int (nI (6 * (k + 1)))), (0, .ref b), (1, .ref h), (2, .ref hm)]) hx hb dL_law_393 hl (k := 3) rfl (sj_6 k) (by decide) rfl (fun ls hl => ?_)
        refine lv_goto (tgt := 18) hx hb dL_law_396 (by decide) ?_
        refine W.widen (k := 17 + 195 * (k + 1)) (n := 21129 + 24960 * (k + 1)) (by omega) (by omega) ?_
        exact ih (k + 1) way size grace _ _ _ _ _ _ ka2 sa2 na2 cap2 fk2 fs2 fn2 kb2 vb2 wb2 cb2 pk2 pv2 pw2 cnt3 gk3 gv3 gs3 go3 jk3 jn3 jw3 H locs ls (by omega) (by omega) d3 d4 d5 d6 d7 d8 (by omega) (by omega) d1 d2 q1 q2 z2 z3 z4 z5 hP hD hS (lv_sub hl [1, 2, 3, 0] rfl)
      · skip
        refine lv_tableIn (off := 197) (tgt := 230) hx hb dL_law_33 (by decide) (by decide) (by decide) (by decide) ?_
        refine lv_aload_n hx hb dL_law_230 rfl (lv_at hl 1 rfl) ?_
        refine lv_aload_n hx hb dL_law_231 rfl (lv_at hl 0 rfl) ?_
        refine lv_iload_n hx hb dL_law_232 rfl (lv_at hl 3 rfl) ?_
        refine lv_iconst (v := nI 1) hx hb dL_law_233 (by decide) ?_
        refine lv_iadd hx hb dL_law_234 ?_
        refine sj_cvi (y := nI (6 * k + 1)) (nI_add _ _) ?_
        refine sj_sld hx hb hX hbl hbA hS (6 * k + 1) rfl (by omega) (by omega) dL_law_235 ?_
        refine lv_aload_n hx hb dL_law_236 rfl (lv_at hl 0 rfl) ?_
        refine lv_iload_n hx hb dL_law_237 rfl (lv_at hl 3 rfl) ?_
        refine lv_iconst (v := nI 2) hx hb dL_law_238 (by decide) ?_
        refine lv_iadd hx hb dL_law_239 ?_
        refine sj_cvi (y := nI (6 * k + 2)) (nI_add _ _) ?_
        refine sj_sld hx hb hX hbl hbA hS (6 * k + 2) rfl (by omega) (by omega) dL_law_240 ?_
        refine sj_callRl (As := [.int (sc (6 * k + 1)), .int (sc (6 * k + 2))]) (rest := []) ⟨hx, hb, hml, hown, hts⟩ (metX0_out l dC dI dJ dN dZ h hs ho way size grace all taken late mark kb vb wb cb pk pv pw (by omega) Oc b3 r2 (sc (6 * k + 1)) (sc (6 * k + 2))) (cwV 2 hts (lw_V q171 q172 q173 q11 q174) rfl rfl rfl (by decide +kernel) ⟨Nat.le_of_ble_eq_true rfl, Nat.le_of_ble_eq_true rfl⟩) hK hP [0, 5, 6, 7, 8] rfl 0 rfl rfl rfl rfl hl.1 rfl (Nat.le_of_ble_eq_true rfl) dL_law_241 ⟨show 17 + 195 * k + 0 ≤ 600000 by omega, show 21129 + 24960 * k + 0 ≤ 7302250 by omega⟩ (fun v hv => ?_)
        subst hv
        refine lv_aload_n hx hb dL_law_244 rfl (lv_at hl 2 rfl) ?_
        refine lv_aload_n hx hb dL_law_245 rfl (lv_at hl 0 rfl) ?_
        refine lv_iload_n hx hb dL_law_246 rfl (lv_at hl 3 rfl) ?_
        refine lv_iconst (v := nI 1) hx hb dL_law_247 (by decide) ?_
        refine lv_iadd hx hb dL_law_248 ?_
        refine sj_cvi (y := nI (6 * k + 1)) (nI_add _ _) ?_
        refine sj_sld hx hb hX hbl hbA hS (6 * k + 1) rfl (by omega) (by omega) dL_law_249 ?_
        refine lv_aload_n hx hb dL_law_250 rfl (lv_at hl 0 rfl) ?_
        refine lv_iload_n hx hb dL_law_251 rfl (lv_at hl 3 rfl) ?_
        refine lv_iconst (v := nI 2) hx hb dL_law_252 (by decide) ?_
        refine lv_iadd hx hb dL_law_253 ?_
        refine sj_cvi (y := nI (6 * k + 2)) (nI_add _ _) ?_
        refine sj_sld hx hb hX hbl hbA hS (6 * k + 2) rfl (by omega) (by omega) dL_law_254 ?_
        refine sj_callRl (As := [.int (sc (6 * k + 1)), .int (sc (6 * k + 2))]) (rest := [.long (sj_oun Oc (sc (6 * k + 1)) (sc (6 * k + 2)))]) ⟨hx, hb, hml, hown, hts⟩ (metX3_out_2 l dC dI dJ dN dZ hm xk xv xs xo yk yn yw cnt way size grace all taken late mark jk jn jw Oc (by omega) hmo (sc (6 * k + 1)) (sc (6 * k + 2))) (cwV 2 hts (lw_V q298 q299 q300 q14 q301) rfl rfl rfl (by decide +kernel) ⟨Nat.le_of_ble_eq_true rfl, Nat.le_of_ble_eq_true rfl⟩) hK hP [9, 14, 15, 16] rfl 3 rfl rfl rfl rfl hl.1 rfl (Nat.le_of_ble_eq_true rfl) dL_law_255 ⟨show 17 + 195 * k + 0 ≤ 600000 by omega, show 21129 + 24960 * k + 0 ≤ 7302250 by omega⟩ (fun v hv => ?_)
        subst hv
        refine sj_lc_eq (tgt := 393) hx hb dL_law_258 dL_law_259 (by decide) (fun c258 => ?_) (fun c258 => absurd rfl c258)
        refine lv_iinc (v := nI (6 * (k + 1))) (lv' := [(3, .int (nI (6 * (k + 1)))), (0, .ref b), (1, .ref h), (2, .ref hm)]) hx hb dL_law_393 hl (k := 3) rfl (sj_6 k) (by decide) rfl (fun ls hl => ?_)
        refine lv_goto (tgt := 18) hx hb dL_law_396 (by decide) ?_
        refine W.widen (k := 17 + 195 * (k + 1)) (n := 21129 + 24960 * (k + 1)) (by omega) (by omega) ?_
        exact ih (k + 1) way size grace all taken late mark Lc Oc ka sa na cap fk fs fn kb vb wb cb pk pv pw cnt gk gv gs go jk jn jw H locs ls (by omega) (by omega) a1 a2 a3 b1 b2 b3 (by omega) (by omega) r1 r2 hrel hmo z2 z3 z4 z5 hP hD hS (lv_sub hl [1, 2, 3, 0] rfl)
      · skip
        refine lv_tableIn (off := 231) (tgt := 264) hx hb dL_law_33 (by decide) (by decide) (by decide) (by decide) ?_
        refine lv_aload_n hx hb dL_law_264 rfl (lv_at hl 1 rfl) ?_
        refine sj_callRi (As := []) (rest := []) ⟨hx, hb, hml, hown, hts⟩ (metX0_outs l dC dI dJ dN dZ h hs ho way size grace all taken late mark kb vb wb Oc.length) (cwV 0 hts (lw_V q187 q188 q189 q11 q190) rfl rfl rfl (by decide +kernel) ⟨Nat.le_of_ble_eq_true rfl, Nat.le_of_ble_eq_true rfl⟩) hK hP [0, 5] rfl 0 rfl rfl rfl rfl hl.1 rfl (Nat.le_of_ble_eq_true rfl) dL_law_265 ⟨show 17 + 195 * k + 0 ≤ 600000 by omega, show 21129 + 24960 * k + 0 ≤ 7302250 by omega⟩ (fun v hv => ?_)
        subst hv
        refine lv_aload_n hx hb dL_law_268 rfl (lv_at hl 2 rfl) ?_
        refine sj_callRi (As := []) (rest := [.int (nI Oc.length)]) ⟨hx, hb, hml, hown, hts⟩ (metX3_outs l dC dI dJ dN dZ hm xk xv xs xo yk yn yw Oc.length cnt way size grace all taken late mark) (cwV 0 hts (lw_V q302 q303 q304 q14 q305) rfl rfl rfl (by decide +kernel) ⟨Nat.le_of_ble_eq_true rfl, Nat.le_of_ble_eq_true rfl⟩) hK hP [9] rfl 3 rfl rfl rfl rfl hl.1 rfl (Nat.le_of_ble_eq_true rfl) dL_law_269 ⟨show 17 + 195 * k + 0 ≤ 600000 by omega, show 21129 + 24960 * k + 0 ≤ 7302250 by omega⟩ (fun v hv => ?_)
        subst hv
        refine lv_icmp_eq (tgt := 393) hx hb dL_law_272 (by decide) (fun c272 => ?_) (fun c272 => absurd rfl c272)
        refine lv_iinc (v := nI (6 * (k + 1))) (lv' := [(3, .int (nI (6 * (k + 1)))), (0, .ref b), (1, .ref h), (2, .ref hm)]) hx hb dL_law_393 hl (k := 3) rfl (sj_6 k) (by decide) rfl (fun ls hl => ?_)
        refine lv_goto (tgt := 18) hx hb dL_law_396 (by decide) ?_
        refine W.widen (k := 17 + 195 * (k + 1)) (n := 21129 + 24960 * (k + 1)) (by omega) (by omega) ?_
        exact ih (k + 1) way size grace all taken late mark Lc Oc ka sa na cap fk fs fn kb vb wb cb pk pv pw cnt gk gv gs go jk jn jw H locs ls (by omega) (by omega) a1 a2 a3 b1 b2 b3 (by omega) (by omega) r1 r2 hrel hmo z2 z3 z4 z5 hP hD hS (lv_sub hl [1, 2, 3, 0] rfl)
      · skip
        refine lv_tableIn (off := 244) (tgt := 277) hx hb dL_law_33 (by decide) (by decide) (by decide) (by decide) ?_
        refine lv_aload_n hx hb dL_law_277 rfl (lv_at hl 1 rfl) ?_
        refine sj_callRi (As := []) (rest := []) ⟨hx, hb, hml, hown, hts⟩ (metX0_late l dC dI dJ dN dZ h hs ho way size grace all taken late mark) (cwV 0 hts (lw_V q191 q192 q193 q11 q194) rfl rfl rfl (by decide +kernel) ⟨Nat.le_of_ble_eq_true rfl, Nat.le_of_ble_eq_true rfl⟩) hK hP [0] rfl 0 rfl rfl rfl rfl hl.1 rfl (Nat.le_of_ble_eq_true rfl) dL_law_278 ⟨show 17 + 195 * k + 0 ≤ 600000 by omega, show 21129 + 24960 * k + 0 ≤ 7302250 by omega⟩ (fun v hv => ?_)
        refine lv_aload_n hx hb dL_law_281 rfl (lv_at hl 2 rfl) ?_
        refine sj_callRi (As := []) (rest := [.int v]) ⟨hx, hb, hml, hown, hts⟩ (metX3_late l dC dI dJ dN dZ hm xk xv xs xo yk yn yw Oc.length cnt way size grace all taken late mark) (cwV 0 hts (lw_V q306 q307 q308 q14 q309) rfl rfl rfl (by decide +kernel) ⟨Nat.le_of_ble_eq_true rfl, Nat.le_of_ble_eq_true rfl⟩) hK hP [9] rfl 3 rfl rfl rfl rfl hl.1 rfl (Nat.le_of_ble_eq_true rfl) dL_law_282 ⟨show 17 + 195 * k + 0 ≤ 600000 by omega, show 21129 + 24960 * k + 0 ≤ 7302250 by omega⟩ (fun v2 hv2 => ?_)
        refine lv_icmp_eq (tgt := 393) hx hb dL_law_285 (by decide) (fun c9 => ?_) (fun c9 => absurd (hv.trans hv2.symm) c9)
        refine lv_iinc (v := nI (6 * (k + 1))) (lv' := [(3, .int (nI (6 * (k + 1)))), (0, .ref b), (1, .ref h), (2, .ref hm)]) hx hb dL_law_393 hl (k := 3) rfl (sj_6 k) (by decide) rfl (fun ls hl => ?_)
        refine lv_goto (tgt := 18) hx hb dL_law_396 (by decide) ?_
        refine W.widen (k := 17 + 195 * (k + 1)) (n := 21129 + 24960 * (k + 1)) (by omega) (by omega) ?_
        exact ih (k + 1) way size grace all taken late mark Lc Oc ka sa na cap fk fs fn kb vb wb cb pk pv pw cnt gk gv gs go jk jn jw H locs ls (by omega) (by omega) a1 a2 a3 b1 b2 b3 (by omega) (by omega) r1 r2 hrel hmo z2 z3 z4 z5 hP hD hS (lv_sub hl [1, 2, 3, 0] rfl)
      · skip
        refine lv_tableIn (off := 257) (tgt := 290) hx hb dL_law_33 (by decide) (by decide) (by decide) (by decide) ?_
        refine lv_aload_n hx hb dL_law_290 rfl (lv_at hl 1 rfl) ?_
        refine sj_callRi (As := []) (rest := []) ⟨hx, hb, hml, hown, hts⟩ (metX0_taken l dC dI dJ dN dZ h hs ho way size grace all taken late mark) (cwV 0 hts (lw_V q195 q196 q197 q11 q198) rfl rfl rfl (by decide +kernel) ⟨Nat.le_of_ble_eq_true rfl, Nat.le_of_ble_eq_true rfl⟩) hK hP [0] rfl 0 rfl rfl rfl rfl hl.1 rfl (Nat.le_of_ble_eq_true rfl) dL_law_291 ⟨show 17 + 195 * k + 0 ≤ 600000 by omega, show 21129 + 24960 * k + 0 ≤ 7302250 by omega⟩ (fun v hv => ?_)
        refine lv_aload_n hx hb dL_law_294 rfl (lv_at hl 2 rfl) ?_
        refine sj_callRi (As := []) (rest := [.int v]) ⟨hx, hb, hml, hown, hts⟩ (metX3_taken l dC dI dJ dN dZ hm xk xv xs xo yk yn yw Oc.length cnt way size grace all taken late mark) (cwV 0 hts (lw_V q310 q311 q312 q14 q313) rfl rfl rfl (by decide +kernel) ⟨Nat.le_of_ble_eq_true rfl, Nat.le_of_ble_eq_true rfl⟩) hK hP [9] rfl 3 rfl rfl rfl rfl hl.1 rfl (Nat.le_of_ble_eq_true rfl) dL_law_295 ⟨show 17 + 195 * k + 0 ≤ 600000 by omega, show 21129 + 24960 * k + 0 ≤ 7302250 by omega⟩ (fun v2 hv2 => ?_)
        refine lv_icmp_eq (tgt := 393) hx hb dL_law_298 (by decide) (fun c9 => ?_) (fun c9 => absurd (hv.trans hv2.symm) c9)
        refine lv_iinc (v := nI (6 * (k + 1))) (lv' := [(3, .int (nI (6 * (k + 1)))), (0, .ref b), (1, .ref h), (2, .ref hm)]) hx hb dL_law_393 hl (k := 3) rfl (sj_6 k) (by decide) rfl (fun ls hl => ?_)
        refine lv_goto (tgt := 18) hx hb dL_law_396 (by decide) ?_
        refine W.widen (k := 17 + 195 * (k + 1)) (n := 21129 + 24960 * (k + 1)) (by omega) (by omega) ?_
        exact ih (k + 1) way size grace all taken late mark Lc Oc ka sa na cap fk fs fn kb vb wb cb pk pv pw cnt gk gv gs go jk jn jw H locs ls (by omega) (by omega) a1 a2 a3 b1 b2 b3 (by omega) (by omega) r1 r2 hrel hmo z2 z3 z4 z5 hP hD hS (lv_sub hl [1, 2, 3, 0] rfl)
      · skip
        refine lv_tableIn (off := 270) (tgt := 303) hx hb dL_law_33 (by decide) (by decide) (by decide) (by decide) ?_
        refine lv_aload_n hx hb dL_law_303 rfl (lv_at hl 1 rfl) ?_
        refine sj_callRi (As := []) (rest := []) ⟨hx, hb, hml, hown, hts⟩ (metX0_watermark l dC dI dJ dN dZ h hs ho way size grace all taken late mark) (cwV 0 hts (lw_V q199 q200 q201 q11 q202) rfl rfl rfl (by decide +kernel) ⟨Nat.le_of_ble_eq_true rfl, Nat.le_of_ble_eq_true rfl⟩) hK hP [0] rfl 0 rfl rfl rfl rfl hl.1 rfl (Nat.le_of_ble_eq_true rfl) dL_law_304 ⟨show 17 + 195 * k + 0 ≤ 600000 by omega, show 21129 + 24960 * k + 0 ≤ 7302250 by omega⟩ (fun v hv => ?_)
        refine lv_aload_n hx hb dL_law_307 rfl (lv_at hl 2 rfl) ?_
        refine sj_callRi (As := []) (rest := [.int v]) ⟨hx, hb, hml, hown, hts⟩ (metX3_watermark l dC dI dJ dN dZ hm xk xv xs xo yk yn yw Oc.length cnt way size grace all taken late mark) (cwV 0 hts (lw_V q314 q315 q316 q14 q317) rfl rfl rfl (by decide +kernel) ⟨Nat.le_of_ble_eq_true rfl, Nat.le_of_ble_eq_true rfl⟩) hK hP [9] rfl 3 rfl rfl rfl rfl hl.1 rfl (Nat.le_of_ble_eq_true rfl) dL_law_308 ⟨show 17 + 195 * k + 0 ≤ 600000 by omega, show 21129 + 24960 * k + 0 ≤ 7302250 by omega⟩ (fun v2 hv2 => ?_)
        refine lv_icmp_eq (tgt := 393) hx hb dL_law_311 (by decide) (fun c9 => ?_) (fun c9 => absurd (hv.trans hv2.symm) c9)
        refine lv_iinc (v := nI (6 * (k + 1))) (lv' := [(3, .int (nI (6 * (k + 1)))), (0, .ref b), (1, .ref h), (2, .ref hm)]) hx hb dL_law_393 hl (k := 3) rfl (sj_6 k) (by decide) rfl (fun ls hl => ?_)
        refine lv_goto (tgt := 18) hx hb dL_law_396 (by decide) ?_
        refine W.widen (k := 17 + 195 * (k + 1)) (n := 21129 + 24960 * (k + 1)) (by omega) (by omega) ?_
        exact ih (k + 1) way size grace all taken late mark Lc Oc ka sa na cap fk fs fn kb vb wb cb pk pv pw cnt gk gv gs go jk jn jw H locs ls (by omega) (by omega) a1 a2 a3 b1 b2 b3 (by omega) (by omega) r1 r2 hrel hmo z2 z3 z4 z5 hP hD hS (lv_sub hl [1, 2, 3, 0] rfl)
      · skip
        refine lv_tableIn (off := 283) (tgt := 316) hx hb dL_law_33 (by decide) (by decide) (by decide) (by decide) ?_
        refine lv_aload_n hx hb dL_law_316 rfl (lv_at hl 1 rfl) ?_
        refine lv_aload_n hx hb dL_law_317 rfl (lv_at hl 0 rfl) ?_
        refine lv_iload_n hx hb dL_law_318 rfl (lv_at hl 3 rfl) ?_
        refine lv_iconst (v := nI 1) hx hb dL_law_319 (by decide) ?_
        refine lv_iadd hx hb dL_law_320 ?_
        refine sj_cvi (y := nI (6 * k + 1)) (nI_add _ _) ?_
        refine sj_sld hx hb hX hbl hbA hS (6 * k + 1) rfl (by omega) (by omega) dL_law_321 ?_
        refine lv_i2l (v := (sc (6 * k + 1)).toInt64) hx hb dL_law_322 rfl ?_
        refine lv_bipush (v := 32) hx hb dL_law_323 (by decide) ?_
        refine lv_lshl (v := ((sc (6 * k + 1)).toInt64) <<< ((32 : Int32).toInt64 &&& 63)) hx hb dL_law_325 rfl ?_
        refine lv_aload_n hx hb dL_law_326 rfl (lv_at hl 0 rfl) ?_
        refine lv_iload_n hx hb dL_law_327 rfl (lv_at hl 3 rfl) ?_
        refine lv_iconst (v := nI 2) hx hb dL_law_328 (by decide) ?_
        refine lv_iadd hx hb dL_law_329 ?_
        refine sj_cvi (y := nI (6 * k + 2)) (nI_add _ _) ?_
        refine sj_sld hx hb hX hbl hbA hS (6 * k + 2) rfl (by omega) (by omega) dL_law_330 ?_
        refine lv_i2l (v := (sc (6 * k + 2)).toInt64) hx hb dL_law_331 rfl ?_
        refine lv_ldc2 (v := 4294967295) hx hb hown (hts _ q326) dL_law_332 ?_
        refine lv_land hx hb dL_law_335 ?_
        refine lv_lor hx hb dL_law_336 ?_
        refine lv_aload_n hx hb dL_law_337 rfl (lv_at hl 0 rfl) ?_
        refine lv_iload_n hx hb dL_law_338 rfl (lv_at hl 3 rfl) ?_
        refine lv_iconst (v := nI 3) hx hb dL_law_339 (by decide) ?_
        refine lv_iadd hx hb dL_law_340 ?_
        refine sj_cvi (y := nI (6 * k + 3)) (nI_add _ _) ?_
        refine sj_sld hx hb hX hbl hbA hS (6 * k + 3) rfl (by omega) (by omega) dL_law_341 ?_
        refine sj_callRl (As := [.long ((((sc (6 * k + 1)).toInt64) <<< ((32 : Int32).toInt64 &&& 63)) ||| (((sc (6 * k + 2)).toInt64) &&& 4294967295)), .int (sc (6 * k + 3))]) (rest := []) ⟨hx, hb, hml, hown, hts⟩ (metX0_kept l dC dI dJ dN dZ h hs ho way size grace all taken late mark ka sa na cap fk fs fn (by omega) Lc a3 r1 hso ((((sc (6 * k + 1)).toInt64) <<< ((32 : Int32).toInt64 &&& 63)) ||| (((sc (6 * k + 2)).toInt64) &&& 4294967295)) (sc (6 * k + 3))) (cwV 2 hts (lw_V q203 q204 q205 q11 q206) rfl rfl rfl (by decide +kernel) ⟨Nat.le_of_ble_eq_true rfl, Nat.le_of_ble_eq_true rfl⟩) hK hP [0, 1, 2, 3, 4] rfl 0 rfl rfl rfl rfl hl.1 rfl (Nat.le_of_ble_eq_true rfl) dL_law_342 ⟨show 17 + 195 * k + 0 ≤ 600000 by omega, show 21129 + 24960 * k + 0 ≤ 7302250 by omega⟩ (fun v hv => ?_)
        refine lv_aload_n hx hb dL_law_345 rfl (lv_at hl 2 rfl) ?_
        refine lv_aload_n hx hb dL_law_346 rfl (lv_at hl 0 rfl) ?_
        refine lv_iload_n hx hb dL_law_347 rfl (lv_at hl 3 rfl) ?_
        refine lv_iconst (v := nI 1) hx hb dL_law_348 (by decide) ?_
        refine lv_iadd hx hb dL_law_349 ?_
        refine sj_cvi (y := nI (6 * k + 1)) (nI_add _ _) ?_
        refine sj_sld hx hb hX hbl hbA hS (6 * k + 1) rfl (by omega) (by omega) dL_law_350 ?_
        refine lv_i2l (v := (sc (6 * k + 1)).toInt64) hx hb dL_law_351 rfl ?_
        refine lv_bipush (v := 32) hx hb dL_law_352 (by decide) ?_
        refine lv_lshl (v := ((sc (6 * k + 1)).toInt64) <<< ((32 : Int32).toInt64 &&& 63)) hx hb dL_law_354 rfl ?_
        refine lv_aload_n hx hb dL_law_355 rfl (lv_at hl 0 rfl) ?_
        refine lv_iload_n hx hb dL_law_356 rfl (lv_at hl 3 rfl) ?_
        refine lv_iconst (v := nI 2) hx hb dL_law_357 (by decide) ?_
        refine lv_iadd hx hb dL_law_358 ?_
        refine sj_cvi (y := nI (6 * k + 2)) (nI_add _ _) ?_
        refine sj_sld hx hb hX hbl hbA hS (6 * k + 2) rfl (by omega) (by omega) dL_law_359 ?_
        refine lv_i2l (v := (sc (6 * k + 2)).toInt64) hx hb dL_law_360 rfl ?_
        refine lv_ldc2 (v := 4294967295) hx hb hown (hts _ q326) dL_law_361 ?_
        refine lv_land hx hb dL_law_364 ?_
        refine lv_lor hx hb dL_law_365 ?_
        refine lv_aload_n hx hb dL_law_366 rfl (lv_at hl 0 rfl) ?_
        refine lv_iload_n hx hb dL_law_367 rfl (lv_at hl 3 rfl) ?_
        refine lv_iconst (v := nI 3) hx hb dL_law_368 (by decide) ?_
        refine lv_iadd hx hb dL_law_369 ?_
        refine sj_cvi (y := nI (6 * k + 3)) (nI_add _ _) ?_
        refine sj_sld hx hb hX hbl hbA hS (6 * k + 3) rfl (by omega) (by omega) dL_law_370 ?_
        refine sj_callRl (As := [.long ((((sc (6 * k + 1)).toInt64) <<< ((32 : Int32).toInt64 &&& 63)) ||| (((sc (6 * k + 2)).toInt64) &&& 4294967295)), .int (sc (6 * k + 3))]) (rest := [.long v]) ⟨hx, hb, hml, hown, hts⟩ (metX3_kept l dC dI dJ dN dZ hm xk xv xs xo yk yn yw Oc.length cnt way size grace all taken late mark gk gv gs go (by omega) ((((sc (6 * k + 1)).toInt64) <<< ((32 : Int32).toInt64 &&& 63)) ||| (((sc (6 * k + 2)).toInt64) &&& 4294967295)) (sc (6 * k + 3))) (cwV 2 hts (lw_V q318 q319 q320 q14 q321) rfl rfl rfl (by decide +kernel) ⟨Nat.le_of_ble_eq_true rfl, Nat.le_of_ble_eq_true rfl⟩) hK hP [9, 10, 11, 12, 13] rfl 3 rfl rfl rfl rfl hl.1 rfl (Nat.le_of_ble_eq_true rfl) dL_law_371 ⟨show 17 + 195 * k + 0 ≤ 600000 by omega, show 21129 + 24960 * k + 0 ≤ 7302250 by omega⟩ (fun v2 hv2 => ?_)
        have hvv : v = v2 := by rw [hv, hv2, hrel.2.2.1]
        refine sj_lc_eq (tgt := 393) hx hb dL_law_374 dL_law_375 (by decide) (fun c374 => ?_) (fun c374 => absurd hvv c374)
        refine lv_iinc (v := nI (6 * (k + 1))) (lv' := [(3, .int (nI (6 * (k + 1)))), (0, .ref b), (1, .ref h), (2, .ref hm)]) hx hb dL_law_393 hl (k := 3) rfl (sj_6 k) (by decide) rfl (fun ls hl => ?_)
        refine lv_goto (tgt := 18) hx hb dL_law_396 (by decide) ?_
        refine W.widen (k := 17 + 195 * (k + 1)) (n := 21129 + 24960 * (k + 1)) (by omega) (by omega) ?_
        exact ih (k + 1) way size grace all taken late mark Lc Oc ka sa na cap fk fs fn kb vb wb cb pk pv pw cnt gk gv gs go jk jn jw H locs ls (by omega) (by omega) a1 a2 a3 b1 b2 b3 (by omega) (by omega) r1 r2 hrel hmo z2 z3 z4 z5 hP hD hS (lv_sub hl [1, 2, 3, 0] rfl)
      · skip
        refine lv_tableIn (off := 347) (tgt := 380) hx hb dL_law_33 (by decide) (by decide) (by decide) (by decide) ?_
        refine lv_aload_n hx hb dL_law_380 rfl (lv_at hl 1 rfl) ?_
        refine sj_callRi (As := []) (rest := []) ⟨hx, hb, hml, hown, hts⟩ (metX0_keeps l dC dI dJ dN dZ h hs ho way size grace all taken late mark ka sa na Lc.length) (cwV 0 hts (lw_V q207 q208 q209 q11 q210) rfl rfl rfl (by decide +kernel) ⟨Nat.le_of_ble_eq_true rfl, Nat.le_of_ble_eq_true rfl⟩) hK hP [0, 1] rfl 0 rfl rfl rfl rfl hl.1 rfl (Nat.le_of_ble_eq_true rfl) dL_law_381 ⟨show 17 + 195 * k + 0 ≤ 600000 by omega, show 21129 + 24960 * k + 0 ≤ 7302250 by omega⟩ (fun v hv => ?_)
        refine lv_aload_n hx hb dL_law_384 rfl (lv_at hl 2 rfl) ?_
        refine sj_callRi (As := []) (rest := [.int v]) ⟨hx, hb, hml, hown, hts⟩ (metX3_keeps l dC dI dJ dN dZ hm xk xv xs xo yk yn yw Oc.length cnt way size grace all taken late mark gk gs go (by omega)) (cwV 0 hts (lw_V q322 q323 q324 q14 q325) rfl rfl rfl (by decide +kernel) ⟨Nat.le_of_ble_eq_true rfl, Nat.le_of_ble_eq_true rfl⟩) hK hP [9, 10, 12, 13] rfl 3 rfl rfl rfl rfl hl.1 rfl (Nat.le_of_ble_eq_true rfl) dL_law_385 ⟨show 17 + 195 * k + 0 ≤ 600000 by omega, show 21129 + 24960 * k + 0 ≤ 7302250 by omega⟩ (fun v2 hv2 => ?_)
        have hvv : v = v2 := by rw [hv, hv2, md_keeps hrel (by omega)]
        refine lv_icmp_eq (tgt := 393) hx hb dL_law_388 (by decide) (fun c388 => ?_) (fun c388 => absurd hvv c388)
        refine lv_iinc (v := nI (6 * (k + 1))) (lv' := [(3, .int (nI (6 * (k + 1)))), (0, .ref b), (1, .ref h), (2, .ref hm)]) hx hb dL_law_393 hl (k := 3) rfl (sj_6 k) (by decide) rfl (fun ls hl => ?_)
        refine lv_goto (tgt := 18) hx hb dL_law_396 (by decide) ?_
        refine W.widen (k := 17 + 195 * (k + 1)) (n := 21129 + 24960 * (k + 1)) (by omega) (by omega) ?_
        exact ih (k + 1) way size grace all taken late mark Lc Oc ka sa na cap fk fs fn kb vb wb cb pk pv pw cnt gk gv gs go jk jn jw H locs ls (by omega) (by omega) a1 a2 a3 b1 b2 b3 (by omega) (by omega) r1 r2 hrel hmo z2 z3 z4 z5 hP hD hS (lv_sub hl [1, 2, 3, 0] rfl)
      · skip
        refine lv_tableOut (tgt := 393) hx hb dL_law_33 (Or.inr (by rw [nI_toInt (by omega)]; omega)) (by decide) ?_
        refine lv_iinc (v := nI (6 * (k + 1))) (lv' := [(3, .int (nI (6 * (k + 1)))), (0, .ref b), (1, .ref h), (2, .ref hm)]) hx hb dL_law_393 hl (k := 3) rfl (sj_6 k) (by decide) rfl (fun ls hl => ?_)
        refine lv_goto (tgt := 18) hx hb dL_law_396 (by decide) ?_
        refine W.widen (k := 17 + 195 * (k + 1)) (n := 21129 + 24960 * (k + 1)) (by omega) (by omega) ?_
        exact ih (k + 1) way size grace all taken late mark Lc Oc ka sa na cap fk fs fn kb vb wb cb pk pv pw cnt gk gv gs go jk jn jw H locs ls (by omega) (by omega) a1 a2 a3 b1 b2 b3 (by omega) (by omega) r1 r2 hrel hmo z2 z3 z4 z5 hP hD hS (lv_sub hl [1, 2, 3, 0] rfl)
end
section
/-! THE LAW: its start -/
set_option maxRecDepth 100000
set_option maxHeartbeats 4000000 in
set_option maxRecDepth 100000 in
/-- from the entry, for every script of at most 384 ints, the law comes to its end with true -/
theorem whole_start {p : Program} {e : Env} {s : State} {m : MethodId} {below : List Frame} {meth : Method} {c : Code} (l : Launch) {b L : Nat} {xs : Nat → Int32} (hL : L ≤ 384) (C0 : lw_At p s m meth c b L xs) : W p l e room_1 s m #[Value.ref b] below meth c s.heap [] 0 0 (lw_Z below #[Value.ref b] s) (entryFrame m ([Value.ref b] : List Value).toArray 4) := by
  obtain ⟨hx, hb, hr, hml, hown, hts0, hX, hbl, hlocks, hgv⟩ := C0
  have hts : ∀ w ∈ lw_all, w.before #[Value.ref b] s = true := fun w h => hts0 w (lw_all_tbl h)
  obtain ⟨dC, dI, dJ, dN, dZ, hK⟩ := sj_known hts
  obtain ⟨A, hA, hA2⟩ : ∃ A : Nat → Prop, (∀ q, s.heap.size ≤ q → A q) ∧ (∀ q, A q → s.heap.size ≤ q) := ⟨fun q => s.heap.size ≤ q, fun _ h => h, fun _ h => h⟩
  have hS : va_S A s.heap s.heap [] := va_S.rf
  have hP : va_P (dC, dI) vwCl [] s.heap := fun k q h => by simp at h
  have hD : va_D A [] := ⟨fun i j p q h => by simp at h, fun k q h => by simp at h⟩
  have hl := lv_entry ([.ref b]) (n := 4) (Nat.le_of_ble_eq_true rfl)
  rw [lg_entry_eq]
  generalize (lg_sl ([.ref b]) ++ List.replicate (4 - (lg_sl ([.ref b])).length) Slot.unset).toArray = ls at hl ⊢
  have hl : lv_has ls 4 [(0, .ref b)] := hl
  refine va_new (ci := 0) (fs := [.null, .null, .int 0, .int 0, .int 0, .int 0, .int 0, .int 0, .int 0]) (C := RX0) (T := TX0) (N := 9) hx hb hts in_X0 tyX0 tyX0_ok hown (hts _ q16) (hts _ q17) (hts _ q11) hK hP hD hS hA rfl (fun j hj => by rcases (show j = 0 ∨ j = 1 ∨ j = 2 ∨ j = 3 ∨ j = 4 ∨ j = 5 ∨ j = 6 ∨ j = 7 ∨ j = 8 by omega) with rfl | rfl | rfl | rfl | rfl | rfl | rfl | rfl | rfl <;> rfl) (Nat.le_of_ble_eq_true rfl) (Nat.le_of_ble_eq_true rfl) dL_law_0 (fun h H hP hD hS => ?_)
  have hP : va_P (dC, dI) vwCl [(h, .inr (0, [.null, .null, .int 0, .int 0, .int 0, .int 0, .int 0, .int 0, .int 0]))] H := hP
  have hD : va_D A [(h, .inr (0, [.null, .null, .int 0, .int 0, .int 0, .int 0, .int 0, .int 0, .int 0]))] := hD
  refine W.widen (k := 1) (n := 9) (Nat.le_of_ble_eq_true rfl) (Nat.le_of_ble_eq_true rfl) ?_
  refine lv_dup hx hb dL_law_3 rfl ?_
  refine sj_callI (As := []) (rest := [.ref h]) (wr := []) ⟨hx, hb, hml, hown, hts⟩ (metX0_init l dC dI dJ dN dZ _ h) (cwI 0 hts (lw_meth q20) rfl rfl rfl (hts _ q11) (hts _ q18) (hts _ q19) rfl (by decide +kernel) ⟨(Nat.le_of_ble_eq_true rfl), (Nat.le_of_ble_eq_true rfl)⟩) (fun u U hvm hE => ⟨va_Nw.same rfl hvm hE.1, va_Nw.same rfl hvm hE.2⟩) (fun U hW => ⟨va_Nw.warmM hW (va_Nw.of rfl (hts0 _ q26)), va_Nw.warmM hW (va_Nw.of rfl (hts0 _ q48))⟩) hK hP hD hS hA [0] [] rfl rfl rfl (by decide) (by decide) (by decide) rfl hl.1 rfl (Nat.le_of_ble_eq_true rfl) dL_law_4 ⟨(Nat.le_of_ble_eq_true rfl), (Nat.le_of_ble_eq_true rfl)⟩ (fun u H locs hw hP hD hS => ?_)
  obtain ⟨⟨hs, ka, sa, na⟩, ho, kb, vb, wb⟩ := u
  have hP : va_P (dC, dI) vwCl [(h, .inr (0, [.ref hs, .ref ho, .int 0, .int 1, .int 0, .int 0, .int 0, .int 0, .int (-1)])), (hs, .inr (1, [.ref ka, .ref sa, .ref na, .int (nI 0)])), (ka, .inl (dJ, 16, .inr (.inl (fun _ => 0)))), (sa, .inl (dN, 16, .inl (fun _ => 0))), (na, .inl (dJ, 16, .inr (.inl (fun _ => 0)))), (ho, .inr (2, [.ref kb, .ref vb, .ref wb, .int (nI 0)])), (kb, .inl (dJ, 16, .inr (.inl (fun _ => 0)))), (vb, .inl (dJ, 16, .inr (.inl (fun _ => 0)))), (wb, .inl (dJ, 16, .inr (.inl (fun _ => 0))))] H := hP
  have hD : va_D A [(h, .inr (0, [.ref hs, .ref ho, .int 0, .int 1, .int 0, .int 0, .int 0, .int 0, .int (-1)])), (hs, .inr (1, [.ref ka, .ref sa, .ref na, .int (nI 0)])), (ka, .inl (dJ, 16, .inr (.inl (fun _ => 0)))), (sa, .inl (dN, 16, .inl (fun _ => 0))), (na, .inl (dJ, 16, .inr (.inl (fun _ => 0)))), (ho, .inr (2, [.ref kb, .ref vb, .ref wb, .int (nI 0)])), (kb, .inl (dJ, 16, .inr (.inl (fun _ => 0)))), (vb, .inl (dJ, 16, .inr (.inl (fun _ => 0)))), (wb, .inl (dJ, 16, .inr (.inl (fun _ => 0))))] := hD
  refine lv_astore_n (lv' := [(1, .ref h), (0, .ref b)]) hx hb dL_law_7 rfl hl (by decide) rfl (fun ls hl => ?_)
  refine va_new (ci := 3) (fs := [.int 0, .int 0, .int 0, .int 0, .int 0, .int 0, .int 0, .int 0, .null, .null, .null, .null, .int 0, .null, .null, .null]) (C := RX3) (T := TX3) (N := 16) hx hb hts in_X3 tyX3 tyX3_ok hown (hts _ q211) (hts _ q212) (hts _ q14) hK hP hD hS hA rfl (fun j hj => by rcases (show j = 0 ∨ j = 1 ∨ j = 2 ∨ j = 3 ∨ j = 4 ∨ j = 5 ∨ j = 6 ∨ j = 7 ∨ j = 8 ∨ j = 9 ∨ j = 10 ∨ j = 11 ∨ j = 12 ∨ j = 13 ∨ j = 14 ∨ j = 15 by omega) with rfl | rfl | rfl | rfl | rfl | rfl | rfl | rfl | rfl | rfl | rfl | rfl | rfl | rfl | rfl | rfl <;> rfl) (Nat.le_of_ble_eq_true rfl) (Nat.le_of_ble_eq_true rfl) dL_law_8 (fun hm H hP hD hS => ?_)
  have hP : va_P (dC, dI) vwCl [(h, .inr (0, [.ref hs, .ref ho, .int 0, .int 1, .int 0, .int 0, .int 0, .int 0, .int (-1)])), (hs, .inr (1, [.ref ka, .ref sa, .ref na, .int (nI 0)])), (ka, .inl (dJ, 16, .inr (.inl (fun _ => 0)))), (sa, .inl (dN, 16, .inl (fun _ => 0))), (na, .inl (dJ, 16, .inr (.inl (fun _ => 0)))), (ho, .inr (2, [.ref kb, .ref vb, .ref wb, .int (nI 0)])), (kb, .inl (dJ, 16, .inr (.inl (fun _ => 0)))), (vb, .inl (dJ, 16, .inr (.inl (fun _ => 0)))), (wb, .inl (dJ, 16, .inr (.inl (fun _ => 0)))), (hm, .inr (3, [.int 0, .int 0, .int 0, .int 0, .int 0, .int 0, .int 0, .int 0, .null, .null, .null, .null, .int 0, .null, .null, .null]))] H := hP
  have hD : va_D A [(h, .inr (0, [.ref hs, .ref ho, .int 0, .int 1, .int 0, .int 0, .int 0, .int 0, .int (-1)])), (hs, .inr (1, [.ref ka, .ref sa, .ref na, .int (nI 0)])), (ka, .inl (dJ, 16, .inr (.inl (fun _ => 0)))), (sa, .inl (dN, 16, .inl (fun _ => 0))), (na, .inl (dJ, 16, .inr (.inl (fun _ => 0)))), (ho, .inr (2, [.ref kb, .ref vb, .ref wb, .int (nI 0)])), (kb, .inl (dJ, 16, .inr (.inl (fun _ => 0)))), (vb, .inl (dJ, 16, .inr (.inl (fun _ => 0)))), (wb, .inl (dJ, 16, .inr (.inl (fun _ => 0)))), (hm, .inr (3, [.int 0, .int 0, .int 0, .int 0, .int 0, .int 0, .int 0, .int 0, .null, .null, .null, .null, .int 0, .null, .null, .null]))] := hD
  refine W.widen (k := 10) (n := 129) (Nat.le_of_ble_eq_true rfl) (Nat.le_of_ble_eq_true rfl) ?_
  refine lv_dup hx hb dL_law_11 rfl ?_
  refine sj_callI0 (As := []) (rest := [.ref hm]) (wr := [(h, .inr (0, [.ref hs, .ref ho, .int 0, .int 1, .int 0, .int 0, .int 0, .int 0, .int (-1)])), (hs, .inr (1, [.ref ka, .ref sa, .ref na, .int (nI 0)])), (ka, .inl (dJ, 16, .inr (.inl (fun _ => 0)))), (sa, .inl (dN, 16, .inl (fun _ => 0))), (na, .inl (dJ, 16, .inr (.inl (fun _ => 0)))), (ho, .inr (2, [.ref kb, .ref vb, .ref wb, .int (nI 0)])), (kb, .inl (dJ, 16, .inr (.inl (fun _ => 0)))), (vb, .inl (dJ, 16, .inr (.inl (fun _ => 0)))), (wb, .inl (dJ, 16, .inr (.inl (fun _ => 0))))]) ⟨hx, hb, hml, hown, hts⟩ (metX3_init l dC dI dJ dN dZ _ hm) (cwI 0 hts (lw_meth q215) rfl rfl rfl (hts _ q14) (hts _ q213) (hts _ q214) rfl (by decide +kernel) ⟨(Nat.le_of_ble_eq_true rfl), (Nat.le_of_ble_eq_true rfl)⟩) hK hP hD hS hA [9] [0, 1, 2, 3, 4, 5, 6, 7, 8] rfl rfl rfl (by decide) (by decide) (by decide) rfl hl.1 rfl (Nat.le_of_ble_eq_true rfl) dL_law_12 ⟨(Nat.le_of_ble_eq_true rfl), (Nat.le_of_ble_eq_true rfl)⟩ (fun u H locs hw hP hD hS => ?_)
  obtain ⟨xk, xv, xs, xo, yk, yn, yw⟩ := u
  have hP : va_P (dC, dI) vwCl [(h, .inr (0, [.ref hs, .ref ho, .int 0, .int 1, .int 0, .int 0, .int 0, .int 0, .int (-1)])), (hs, .inr (1, [.ref ka, .ref sa, .ref na, .int (nI 0)])), (ka, .inl (dJ, 16, .inr (.inl (fun _ => 0)))), (sa, .inl (dN, 16, .inl (fun _ => 0))), (na, .inl (dJ, 16, .inr (.inl (fun _ => 0)))), (ho, .inr (2, [.ref kb, .ref vb, .ref wb, .int (nI 0)])), (kb, .inl (dJ, 16, .inr (.inl (fun _ => 0)))), (vb, .inl (dJ, 16, .inr (.inl (fun _ => 0)))), (wb, .inl (dJ, 16, .inr (.inl (fun _ => 0)))), (hm, .inr (3, [.int 0, .int 1, .int 0, .int 0, .int 0, .int 0, .int (-1), .int (nI 0), .ref xk, .ref xv, .ref xs, .ref xo, .int (nI 0), .ref yk, .ref yn, .ref yw])), (xk, .inl (dJ, 3000, .inr (.inl (fun _ => 0)))), (xv, .inl (dJ, 3000, .inr (.inl (fun _ => 0)))), (xs, .inl (dN, 3000, .inl (fun _ => 0))), (xo, .inl (dZ, 3000, .inl (fun _ => 0))), (yk, .inl (dJ, 3000, .inr (.inl (fun _ => 0)))), (yn, .inl (dJ, 3000, .inr (.inl (fun _ => 0)))), (yw, .inl (dN, 3000, .inl (fun _ => 0)))] H := hP
  have hD : va_D A [(h, .inr (0, [.ref hs, .ref ho, .int 0, .int 1, .int 0, .int 0, .int 0, .int 0, .int (-1)])), (hs, .inr (1, [.ref ka, .ref sa, .ref na, .int (nI 0)])), (ka, .inl (dJ, 16, .inr (.inl (fun _ => 0)))), (sa, .inl (dN, 16, .inl (fun _ => 0))), (na, .inl (dJ, 16, .inr (.inl (fun _ => 0)))), (ho, .inr (2, [.ref kb, .ref vb, .ref wb, .int (nI 0)])), (kb, .inl (dJ, 16, .inr (.inl (fun _ => 0)))), (vb, .inl (dJ, 16, .inr (.inl (fun _ => 0)))), (wb, .inl (dJ, 16, .inr (.inl (fun _ => 0)))), (hm, .inr (3, [.int 0, .int 1, .int 0, .int 0, .int 0, .int 0, .int (-1), .int (nI 0), .ref xk, .ref xv, .ref xs, .ref xo, .int (nI 0), .ref yk, .ref yn, .ref yw])), (xk, .inl (dJ, 3000, .inr (.inl (fun _ => 0)))), (xv, .inl (dJ, 3000, .inr (.inl (fun _ => 0)))), (xs, .inl (dN, 3000, .inl (fun _ => 0))), (xo, .inl (dZ, 3000, .inl (fun _ => 0))), (yk, .inl (dJ, 3000, .inr (.inl (fun _ => 0)))), (yn, .inl (dJ, 3000, .inr (.inl (fun _ => 0)))), (yw, .inl (dN, 3000, .inl (fun _ => 0)))] := hD
  refine lv_astore_n (lv' := [(2, .ref hm), (1, .ref h), (0, .ref b)]) hx hb dL_law_15 rfl hl (by decide) rfl (fun ls hl => ?_)
  refine lv_iconst (v := 0) hx hb dL_law_16 (by decide) ?_
  refine sj_cvi (y := nI (6 * 0)) rfl ?_
  refine lv_istore_n (lv' := [(3, .int (nI (6 * 0))), (2, .ref hm), (1, .ref h), (0, .ref b)]) hx hb dL_law_17 rfl hl (by decide) rfl (fun ls hl => ?_)
  exact law_loop hL hx hb hr hlocks hml hown hts hX hbl hK hA hA2 h hs ho hm xk xv xs xo yk yn yw 65 0 0 1 0 0 0 0 (-1) [] [] ka sa na 16 (fun _ => 0) (fun _ => 0) (fun _ => 0) kb vb wb 16 (fun _ => 0) (fun _ => 0) (fun _ => 0) 0 (fun _ => 0) (fun _ => 0) (fun _ => 0) (fun _ => 0) (fun _ => 0) (fun _ => 0) (fun _ => 0) H locs ls (by decide) (by decide) (by decide) (by decide) (Nat.zero_le _) (by decide) (by decide) (Nat.zero_le _) (Nat.zero_le _) (Nat.zero_le _) (sj_rep_0 _ _ _) (op_rep_0 _ _ _) (md_rel_0 _ _ _ _ _ _) (mo_rep_0 _ _ _) (by decide) (by decide) (by decide) (by decide) hP hD hS (lv_sub hl [3, 2, 1, 0] rfl)
end
section
/-! THE END: the claim out of whole_start -/
set_option maxRecDepth 100000
set_option maxHeartbeats 4000000 in
theorem lw_walk (l : Launch) (b : Addr) (xs : List Int32) : MetFree l x (headSpec (Jvm.Cond.code x code maxLocals ret :: tables_1) room_1) (lw_P b xs) (fun _ _ _ _ _ => True) lw_Q := by
  refine MetFree.of_bodyS (code := code) (maxLocals := maxLocals) (ret := ret) (by decide) ?_ ?_
  · intro args s m h hn
    obtain ⟨meth, c, h1, h2, h3, h4, h5, h6, -, -⟩ := Cond.code_spec hn (atoms_spec (ws := Jvm.Cond.code x code maxLocals ret :: tables_1) h _ List.mem_cons_self)
    exact ⟨meth, c, h1, h2, h3, h4, h5, h6⟩
  · intro p e s m args below meth c s₁ B hml0 hP _
    obtain ⟨rfl, hx, hbd, hgv⟩ := hP
    obtain ⟨scr, harrAt, hlist, hof, hsmall⟩ := hx
    obtain ⟨hcb, hkn, -, -⟩ := State.arrayAt?_spec harrAt
    have hown : s.vm.findClass R_law = some m.cls := findClass_of_methodNamed B.named
    have hts0 : ∀ c ∈ (Jvm.Cond.code x code maxLocals ret :: tables_1), c.before #[Value.ref b] s = true := atoms_spec (ws := Jvm.Cond.code x code maxLocals ret :: tables_1) B.pre
    have hts : ∀ w ∈ lw_tbl, w.before #[Value.ref b] s = true := k2_hts_sels lw_privs (fun w hw => hts0 w (List.mem_cons_of_mem _ hw)) lw_privs_ok
    have hml : c.maxLocals = 4 := B.maxLocals_eq (hts0 _ List.mem_cons_self)
    have X₀ : Stand p l e room_1 s m #[Value.ref b] below meth c s₁ [] 0 0 := Stand.of_body B
    have hh0 : s₁.heap = s.heap := by rw [B.state]; rfl
    have hsz : scr.slots.size = xs.length := by rw [← Array.length_toList, hlist, List.length_map]
    have hval : ∀ j : Nat, j < xs.length → scr.slots[j]? = some (.int (xs.getD j 0)) := fun j hj => by
      rw [← Array.getElem?_toList, hlist]
      simp [hj]
    have hbl : b < s.heap.size := (Array.getElem?_eq_some_iff.mp hcb).1
    have hX : va_X b xs.length (fun j => xs.getD j 0) s s.heap := ⟨scr, hcb, hof, hkn, hsz, hval⟩
    have K : W p l e room_1 s m #[Value.ref b] below meth c s₁.heap [] 0 0 (lw_Z below #[Value.ref b] s) (entryFrame m ([Value.ref b] : List Value).toArray 4) := by
      rw [hh0]
      exact whole_start l hbd ⟨B.exec, B.bytes, B.returns, hml, hown, hts, hX, hbl, B.notSynchronized, hgv⟩
    obtain ⟨t, a1, o, b1, b2, b3⟩ := K s₁ rfl X₀
    exact ⟨t, o, a1, b1, b2, b3⟩
theorem lw_pre_spec {args : Array Value} {s : State} (h : (Jvm.Cond.and given_1 narrow_1).before args s = true) (hr : rest_1_c.before args s = true) : ∃ (b : Addr) (xs : List Int32), lw_P b xs args s := by
  have hs := flat_of_before _ h
  have hq := flat_of_before _ hr
  have hc : (Cond.count 1).before args s = true := hs _ (by decide +kernel)
  have harr : (Cond.arrayOf (.arg 0) .int).before args s = true := hs _ (by decide +kernel)
  have hle : (Cond.le (.length (.arg 0)) (.int 384)).before args s = true := hs _ (by decide +kernel)
  have hlen : (Cond.isInt (.length (.arg 0))).before args s = true := hq _ (by decide +kernel)
  have hall : (Cond.all (.arg 0) (.isInt (.elem (.arg 0) (.index 0)))).before args s = true := hq _ (by decide +kernel)
  obtain ⟨b, xs, hb, hx⟩ := State.ints_of_pre rfl harr hlen hall
  have hsm : xs.length < 2 ^ 31 := hx.choose_spec.2.2.2
  have hev : (Term.length (.arg 0)).eval args s none [] s = some (.int xs.length.toInt32) := hx.length_eval hb
  have hv := Cond.le_ints hev (show (Term.int 384).eval args s none [] s = some (.int 384) from rfl)
  have hd : xs.length.toInt32 ≤ 384 := by
    simpa [Cond.before, Cond.holds, hv] using hle
  have hN : xs.length ≤ 384 := (Int32.ofNat_le_ofNat hsm (by decide)).mp (show Int32.ofNat xs.length ≤ Int32.ofNat 384 from hd)
  exact ⟨b, xs, Cond.one_arg hc (show args[0]? = some (.ref b) from hb), hx, hN, h⟩
theorem lw_comes (l : Launch) : Comes l x (Jvm.Cond.code x code maxLocals ret :: tables_1) room_1 (fun tb e args s => Calls_1 tb e args s ∧ rest_1 tb e args s ∧ Pre_1 tb e args s)
    (fun _ _ args s o t => lw_Q args s o t) := by
  intro p e ha hc hk s m args below hf hfit hheap happ hpre
  obtain ⟨b, xs, hP⟩ := lw_pre_spec hpre.2.2 hpre.2.1
  obtain ⟨k, o, h1, h2, h3, hQ⟩ := lw_walk l b xs p e ha hc hk s m args below hf ((Spec.applies_iff_loose hf).mp happ).1 hP trivial
  exact ⟨k, o, h1, h2, h3, hQ⟩
theorem lw_frame {s t : State} {o : Outcome} {args : Array Value} (h : Framed s o t [] 600000 7302250) :
    Framed s o t (fieldLocs frame_1_writes args s ++ arrayLocs frame_1_arrays args s ++ staticLocs frame_1_statics s) 600000 7302250 := h
theorem lw_limb (L : Cond) (hL : ∀ (args : Array Value) (s t : State), L.after args s (.returned (some (.int 1))) t = true) :
    ArmFor flags0 classFile x code maxLocals ret World_1 tables_1 room_1 Calls_1 rest_1 Pre_1
      (fun tb e a s o t => postC L tb e a s o t ∧ Framed s o t (fieldLocs frame_1_writes a s ++ arrayLocs frame_1_arrays a s ++ staticLocs frame_1_statics s) 600000 7302250) := by
  intro l _ _ _ p e ha hc hk s m args below hf hfit hheap happ hpre
  obtain ⟨k, o, h1, h2, h3, rfl, hF⟩ := lw_comes l p e ha hc hk s m args below hf hfit hheap happ hpre
  exact ⟨k, _, h1, h2, h3, hL args s _, lw_frame hF⟩
theorem i_vc : Claimed_1_1 ∧ Claimed_1_2 := ⟨lw_limb limb_1_1 (fun args s t => by simp [limb_1_1, Cond.after, Cond.holds, Cond.value]), lw_limb limb_1_2 (fun args s t => Cond.after_iff.mpr (by
  first | (rw [show limb_1_2 = Cond.eq .result (.int 1) from rfl, Cond.eq_ints (x := 1) (y := 1) rfl rfl]; simp; done) | (simp [limb_1_2, Cond.value, Term.eval]; done)))⟩
end
